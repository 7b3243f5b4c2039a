/-! ===== the twin: pour ===== -/
set_option maxHeartbeats 4000000 in
set_option maxRecDepth 100000 in
/-- a loop of pour -/
theorem t_pour_up {pre post : List ACell} {τ0 : Tw} (hp : pre.length = 56) {t u a b m : Nat} (ht : t < 4) (hu : u < 4) (ha : a + m ≤ 60) (hb : b + m ≤ 60) (hab : b ≤ a) {Q : Qfun} : ∀ (fuel : Nat) (k : Nat) (w : Nat → Int64), k ≤ m → m < k + fuel → w = rngL (τ0.2.2.2 4) (60 * u + b) k (fun n => τ0.2.2.2 4 (60 * t + a + n)) → Q (some (.int 1)) (TW pre (tB τ0 4 (rngL (τ0.2.2.2 4) (60 * u + b) m (fun n => τ0.2.2.2 4 (60 * t + a + n)))) post) →
    E cX4_pour (RX4, (some .boolean), 9, 1, (0, 0), false, []) Q noX 0 0 158 [some (.ref 56), some (.int (nI t)), some (.int (nI a)), some (.int (nI u)), some (.int (nI b)), some (.int (nI m)), some (.int 0), some (.int (nI k)), none] [] (TW pre (tB τ0 4 w) post) := by
  intro fuel
  induction fuel with
  | zero => intro k w hk hf hw hQ; exact absurd hf (by omega)
  | succ fuel ih =>
    intro k w hk hf hw hQ
    refine e_iload dX4_pour_158 rfl ?_
    refine e_iload dX4_pour_160 rfl ?_
    refine e_icmp_geN k m 219 (by omega) (by omega) dX4_pour_162 (by decide) (fun h162 => ?_) (fun h162 => ?_)
    · refine e_iconst 1 dX4_pour_219 rfl ?_
      refine e_ireturn dX4_pour_220 rfl rfl (Nat.zero_le _) (Nat.zero_le _) ?_
      have e1 : k = m := by omega
      subst e1
      rw [hw]; exact hQ
    · refine e_iload dX4_pour_165 rfl ?_
      refine e_if_eq_t 180 (by decide) dX4_pour_167 (by decide) ?_
      refine e_iload dX4_pour_180 rfl ?_
      refine e_istore dX4_pour_182 (ls_s (ls_s (ls_s (ls_s (ls_s (ls_s (ls_s (ls_1 rfl)))))))) (Nat.le_of_ble_eq_true rfl) ?_
      refine e_aload_n dX4_pour_184 0 rfl rfl rfl ?_
      refine e_getf (v := .ref 59) dX4_pour_185 rfl fX4_16 (tw_o hp) rfl ?_
      refine e_bipush 60 dX4_pour_188 rfl ?_
      refine e_iload_n dX4_pour_190 3 rfl rfl ?_
      refine e_imulN 60 u dX4_pour_191 ?_
      refine e_iload dX4_pour_192 rfl ?_
      refine e_iaddN (60 * u) b dX4_pour_194 ?_
      refine e_iload dX4_pour_195 rfl ?_
      refine e_iaddN ((60 * u) + b) k dX4_pour_197 ?_
      refine e_aload_n dX4_pour_198 0 rfl rfl rfl ?_
      refine e_getf (v := .ref 59) dX4_pour_199 rfl fX4_16 (tw_o hp) rfl ?_
      refine e_bipush 60 dX4_pour_202 rfl ?_
      refine e_iload_n dX4_pour_204 1 rfl rfl ?_
      refine e_imulN 60 t dX4_pour_205 ?_
      refine e_iload_n dX4_pour_206 2 rfl rfl ?_
      refine e_iaddN (60 * t) a dX4_pour_207 ?_
      refine e_iload dX4_pour_208 rfl ?_
      refine e_iaddN ((60 * t) + a) k dX4_pour_210 ?_
      refine e_lald (f := w) (j := ((60 * t) + a) + k) dX4_pour_211 (tw_a4 hp) rfl (by omega) (by decide) ?_
      refine e_last (f := w) (j := ((60 * u) + b) + k) dX4_pour_212 (tw_a4 hp) rfl (by omega) (by decide) ?_
      rw [tw_s4 hp]
      refine e_incN k (k + 1) (inc1 _) dX4_pour_213 rfl (ls_s (ls_s (ls_s (ls_s (ls_s (ls_s (ls_1 rfl))))))) (Nat.le_of_ble_eq_true rfl) ?_
      refine e_goto 158 dX4_pour_216 (by decide) ?_
      refine e_forget (i := 8) (ln_s (ln_s (ln_s (ln_s (ln_s (ln_s (ln_s (ln_s ln_0)))))))) ?_
      rw [tB_tB]
      refine ih (k + 1) _ (by omega) (by omega) ?_ hQ
      have e1 : w (60 * t + a + k) = τ0.2.2.2 4 (60 * t + a + k) := by
        rw [hw]; exact rngL_out (by omega)
      rw [e1, hw]
      exact rngL_s (τ0.2.2.2 4) (60 * u + b) k (fun n => τ0.2.2.2 4 (60 * t + a + n))

set_option maxHeartbeats 4000000 in
set_option maxRecDepth 100000 in
/-- a loop of pour -/
theorem t_pour_dn {pre post : List ACell} {τ0 : Tw} (hp : pre.length = 56) {t u a b m : Nat} (ht : t < 4) (hu : u < 4) (ha : a + m ≤ 60) (hb : b + m ≤ 60) (hab : a < b) {Q : Qfun} : ∀ (fuel : Nat) (k : Nat) (w : Nat → Int64), k ≤ m → m < k + fuel → w = rngL (τ0.2.2.2 4) (60 * u + b + (m - k)) k (fun n => τ0.2.2.2 4 (60 * t + a + (m - k) + n)) → Q (some (.int 1)) (TW pre (tB τ0 4 (rngL (τ0.2.2.2 4) (60 * u + b) m (fun n => τ0.2.2.2 4 (60 * t + a + n)))) post) →
    E cX4_pour (RX4, (some .boolean), 9, 1, (0, 0), false, []) Q noX 0 0 158 [some (.ref 56), some (.int (nI t)), some (.int (nI a)), some (.int (nI u)), some (.int (nI b)), some (.int (nI m)), some (.int 1), some (.int (nI k)), none] [] (TW pre (tB τ0 4 w) post) := by
  intro fuel
  induction fuel with
  | zero => intro k w hk hf hw hQ; exact absurd hf (by omega)
  | succ fuel ih =>
    intro k w hk hf hw hQ
    refine e_iload dX4_pour_158 rfl ?_
    refine e_iload dX4_pour_160 rfl ?_
    refine e_icmp_geN k m 219 (by omega) (by omega) dX4_pour_162 (by decide) (fun h162 => ?_) (fun h162 => ?_)
    · refine e_iconst 1 dX4_pour_219 rfl ?_
      refine e_ireturn dX4_pour_220 rfl rfl (Nat.zero_le _) (Nat.zero_le _) ?_
      have e1 : k = m := by omega
      subst e1
      rw [Nat.sub_self] at hw
      rw [hw]; exact hQ
    · refine e_iload dX4_pour_165 rfl ?_
      refine e_if_eq_f (by decide) 180 dX4_pour_167 (by decide) ?_
      refine e_iload dX4_pour_170 rfl ?_
      refine e_iconst 1 dX4_pour_172 rfl ?_
      refine e_isubN m 1 (by omega) dX4_pour_173 ?_
      refine e_iload dX4_pour_174 rfl ?_
      refine e_isubN (m - 1) k (by omega) dX4_pour_176 ?_
      refine e_goto 182 dX4_pour_177 (by decide) ?_
      refine e_istore dX4_pour_182 (ls_s (ls_s (ls_s (ls_s (ls_s (ls_s (ls_s (ls_1 rfl)))))))) (Nat.le_of_ble_eq_true rfl) ?_
      refine e_aload_n dX4_pour_184 0 rfl rfl rfl ?_
      refine e_getf (v := .ref 59) dX4_pour_185 rfl fX4_16 (tw_o hp) rfl ?_
      refine e_bipush 60 dX4_pour_188 rfl ?_
      refine e_iload_n dX4_pour_190 3 rfl rfl ?_
      refine e_imulN 60 u dX4_pour_191 ?_
      refine e_iload dX4_pour_192 rfl ?_
      refine e_iaddN (60 * u) b dX4_pour_194 ?_
      refine e_iload dX4_pour_195 rfl ?_
      refine e_iaddN ((60 * u) + b) ((m - 1) - k) dX4_pour_197 ?_
      refine e_aload_n dX4_pour_198 0 rfl rfl rfl ?_
      refine e_getf (v := .ref 59) dX4_pour_199 rfl fX4_16 (tw_o hp) rfl ?_
      refine e_bipush 60 dX4_pour_202 rfl ?_
      refine e_iload_n dX4_pour_204 1 rfl rfl ?_
      refine e_imulN 60 t dX4_pour_205 ?_
      refine e_iload_n dX4_pour_206 2 rfl rfl ?_
      refine e_iaddN (60 * t) a dX4_pour_207 ?_
      refine e_iload dX4_pour_208 rfl ?_
      refine e_iaddN ((60 * t) + a) ((m - 1) - k) dX4_pour_210 ?_
      refine e_lald (f := w) (j := ((60 * t) + a) + ((m - 1) - k)) dX4_pour_211 (tw_a4 hp) rfl (by omega) (by decide) ?_
      refine e_last (f := w) (j := ((60 * u) + b) + ((m - 1) - k)) dX4_pour_212 (tw_a4 hp) rfl (by omega) (by decide) ?_
      rw [tw_s4 hp]
      refine e_incN k (k + 1) (inc1 _) dX4_pour_213 rfl (ls_s (ls_s (ls_s (ls_s (ls_s (ls_s (ls_1 rfl))))))) (Nat.le_of_ble_eq_true rfl) ?_
      refine e_goto 158 dX4_pour_216 (by decide) ?_
      refine e_forget (i := 8) (ln_s (ln_s (ln_s (ln_s (ln_s (ln_s (ln_s (ln_s ln_0)))))))) ?_
      rw [tB_tB]
      refine ih (k + 1) _ (by omega) (by omega) ?_ hQ
      have e1 : w (60 * t + a + (m - 1 - k)) = τ0.2.2.2 4 (60 * t + a + (m - 1 - k)) := by
        rw [hw]; exact rngL_out (by omega)
      rw [e1, hw, show m - (k + 1) = m - 1 - k by omega, show m - k = m - 1 - k + 1 by omega]
      refine Eq.trans ?_ (rngL_d (τ0.2.2.2 4) (60 * u + b + (m - 1 - k)) k (fun n => τ0.2.2.2 4 (60 * t + a + (m - 1 - k) + n)))
      refine congrArg (fun z => vp_updL (rngL (τ0.2.2.2 4) _ k z) _ _) ?_
      funext n
      exact congrArg (τ0.2.2.2 4) (by omega)

set_option maxHeartbeats 4000000 in
set_option maxRecDepth 100000 in
/-- WheelTablesModel.pour -/
theorem t_pour {pre post : List ACell} {τ : Tw} (hp : pre.length = 56) (hT : InvT τ) (t i u j m : Int32) : Ct yX4_pour (ws_ yX4_pour cX4_pour 9 (some .boolean)) 1 0 0 [.ref 56, .int t, .int i, .int u, .int j, .int m] (TW pre τ post) (TQi pre post (sp_pour t i u j m τ)) noX := by
  refine Ct.of (ini := false) (ls := [some (.ref 56), some (.int t), some (.int i), some (.int u), some (.int j), some (.int m), none, none, none]) (by decide) (Nat.le_of_ble_eq_true rfl) (fun h => by cases h) rfl ?_
  refine e_aload_n dX4_pour_0 0 rfl rfl rfl ?_
  refine e_iconst 0 dX4_pour_1 rfl ?_
  refine e_tputI dX4_pour_2 rfl pX4_212 rfl hp (Nat.le_of_ble_eq_true rfl) (tw_f1 _) ?_
  refine e_aload_n dX4_pour_5 0 rfl rfl rfl ?_
  refine e_iconst 0 dX4_pour_6 rfl ?_
  refine e_tputI dX4_pour_7 rfl pX4_215 rfl hp (Nat.le_of_ble_eq_true rfl) (tw_f0 _) ?_
  refine e_iload_n dX4_pour_10 1 rfl rfl ?_
  refine e_if_lt 28 dX4_pour_11 (by decide) (fun h11 => ?_) (fun h11 => ?_)
  · refine e_aload_n dX4_pour_28 0 rfl rfl rfl ?_
    refine e_iconst 1 dX4_pour_29 rfl ?_
    refine e_callV1 (As := [.int 1]) (rest := []) dX4_pour_30 rfl mvX4_218 (tw_o hp) rfl (t_no hp 1) (Nat.le_of_ble_eq_true rfl) rfl rfl (Nat.le_of_ble_eq_true rfl) (Nat.zero_le _) (Nat.zero_le _) ?_
    refine e_ireturn dX4_pour_33 rfl rfl (Nat.zero_le _) (Nat.zero_le _) ?_
    refine TQi.of ?_
    rw [sp_pour, if_pos (Or.inl (Or.inl h11))]
    rfl
  · refine e_iload_n dX4_pour_14 1 rfl rfl ?_
    refine e_iconst 4 dX4_pour_15 rfl ?_
    refine e_icmp_ge 28 dX4_pour_16 (by decide) (fun h16 => ?_) (fun h16 => ?_)
    · refine e_aload_n dX4_pour_28 0 rfl rfl rfl ?_
      refine e_iconst 1 dX4_pour_29 rfl ?_
      refine e_callV1 (As := [.int 1]) (rest := []) dX4_pour_30 rfl mvX4_218 (tw_o hp) rfl (t_no hp 1) (Nat.le_of_ble_eq_true rfl) rfl rfl (Nat.le_of_ble_eq_true rfl) (Nat.zero_le _) (Nat.zero_le _) ?_
      refine e_ireturn dX4_pour_33 rfl rfl (Nat.zero_le _) (Nat.zero_le _) ?_
      refine TQi.of ?_
      rw [sp_pour, if_pos (Or.inl (Or.inr h16))]
      rfl
    · refine e_iload_n dX4_pour_19 3 rfl rfl ?_
      refine e_if_lt 28 dX4_pour_20 (by decide) (fun h20 => ?_) (fun h20 => ?_)
      · refine e_aload_n dX4_pour_28 0 rfl rfl rfl ?_
        refine e_iconst 1 dX4_pour_29 rfl ?_
        refine e_callV1 (As := [.int 1]) (rest := []) dX4_pour_30 rfl mvX4_218 (tw_o hp) rfl (t_no hp 1) (Nat.le_of_ble_eq_true rfl) rfl rfl (Nat.le_of_ble_eq_true rfl) (Nat.zero_le _) (Nat.zero_le _) ?_
        refine e_ireturn dX4_pour_33 rfl rfl (Nat.zero_le _) (Nat.zero_le _) ?_
        refine TQi.of ?_
        rw [sp_pour, if_pos (Or.inr (Or.inl h20))]
        rfl
      · refine e_iload_n dX4_pour_23 3 rfl rfl ?_
        refine e_iconst 4 dX4_pour_24 rfl ?_
        refine e_icmp_lt 34 dX4_pour_25 (by decide) (fun h25 => ?_) (fun h25 => ?_)
        · have g1 : ¬ ((t < 0 ∨ 4 ≤ t) ∨ (u < 0 ∨ 4 ≤ u)) := fun z => z.elim (fun z => z.elim h11 h16) (fun z => z.elim h20 (fun z => absurd h25 (Int32.not_lt.mpr z)))
          obtain ⟨y, hy, rfl⟩ := in_ge (x := t) 4 (by decide) h11 h16
          obtain ⟨x, hx, rfl⟩ := in_lt (x := u) 4 (by decide) h20 h25
          refine e_aload_n dX4_pour_34 0 rfl rfl rfl ?_
          refine e_getf (v := .ref 58) dX4_pour_35 rfl fX4_13 (tw_o hp) rfl ?_
          refine e_iload_n dX4_pour_38 1 rfl rfl ?_
          refine e_iald (f := τ.2.2.1 3) (j := y) dX4_pour_39 (tw_a3 hp) rfl (by omega) (by decide) ?_
          refine e_if_lt 52 dX4_pour_40 (by decide) (fun h40 => ?_) (fun h40 => ?_)
          · refine e_aload_n dX4_pour_52 0 rfl rfl rfl ?_
            refine e_iconst 3 dX4_pour_53 rfl ?_
            refine e_callV1 (As := [.int 3]) (rest := []) dX4_pour_54 rfl mvX4_218 (tw_o hp) rfl (t_no hp 3) (Nat.le_of_ble_eq_true rfl) rfl rfl (Nat.le_of_ble_eq_true rfl) (Nat.zero_le _) (Nat.zero_le _) ?_
            refine e_ireturn dX4_pour_57 rfl rfl (Nat.zero_le _) (Nat.zero_le _) ?_
            refine TQi.of ?_
            rw [sp_pour, if_neg g1, ix_nI (show y < 2147483648 by omega), ix_nI (show x < 2147483648 by omega), if_pos (Or.inl h40)]
            rfl
          · refine e_aload_n dX4_pour_43 0 rfl rfl rfl ?_
            refine e_getf (v := .ref 58) dX4_pour_44 rfl fX4_13 (tw_o hp) rfl ?_
            refine e_iload_n dX4_pour_47 3 rfl rfl ?_
            refine e_iald (f := τ.2.2.1 3) (j := x) dX4_pour_48 (tw_a3 hp) rfl (by omega) (by decide) ?_
            refine e_if_ge 58 dX4_pour_49 (by decide) (fun h49 => ?_) (fun h49 => ?_)
            · refine e_aload_n dX4_pour_58 0 rfl rfl rfl ?_
              refine e_getf (v := .ref 57) dX4_pour_59 rfl fX4_7 (tw_o hp) rfl ?_
              refine e_iload_n dX4_pour_62 1 rfl rfl ?_
              refine e_iald (f := τ.2.2.1 2) (j := y) dX4_pour_63 (tw_a2 hp) rfl (by omega) (by decide) ?_
              refine e_aload_n dX4_pour_64 0 rfl rfl rfl ?_
              refine e_getf (v := .ref 57) dX4_pour_65 rfl fX4_7 (tw_o hp) rfl ?_
              refine e_iload_n dX4_pour_68 3 rfl rfl ?_
              refine e_iald (f := τ.2.2.1 2) (j := x) dX4_pour_69 (tw_a2 hp) rfl (by omega) (by decide) ?_
              refine e_icmp_eq 80 dX4_pour_70 (by decide) (fun h70 => ?_) (fun h70 => ?_)
              · refine e_iload dX4_pour_80 rfl ?_
                refine e_if_ge 92 dX4_pour_82 (by decide) (fun h82 => ?_) (fun h82 => ?_)
                · refine e_iload_n dX4_pour_92 2 rfl rfl ?_
                  refine e_if_lt 136 dX4_pour_93 (by decide) (fun h93 => ?_) (fun h93 => ?_)
                  · refine e_aload_n dX4_pour_136 0 rfl rfl rfl ?_
                    refine e_iconst 4 dX4_pour_137 rfl ?_
                    refine e_callV1 (As := [.int 4]) (rest := []) dX4_pour_138 rfl mvX4_218 (tw_o hp) rfl (t_no hp 4) (Nat.le_of_ble_eq_true rfl) rfl rfl (Nat.le_of_ble_eq_true rfl) (Nat.zero_le _) (Nat.zero_le _) ?_
                    refine e_ireturn dX4_pour_141 rfl rfl (Nat.zero_le _) (Nat.zero_le _) ?_
                    refine TQi.of ?_
                    rw [sp_pour, if_neg g1, ix_nI (show y < 2147483648 by omega), ix_nI (show x < 2147483648 by omega), if_neg (fun z => z.elim h40 (Int32.not_lt.mpr h49)), if_neg (fun z => z h70), if_neg (Int32.not_lt.mpr h82), if_pos (Or.inl (Or.inl h93))]
                    rfl
                  · refine e_iload dX4_pour_96 rfl ?_
                    refine e_if_lt 136 dX4_pour_98 (by decide) (fun h98 => ?_) (fun h98 => ?_)
                    · refine e_aload_n dX4_pour_136 0 rfl rfl rfl ?_
                      refine e_iconst 4 dX4_pour_137 rfl ?_
                      refine e_callV1 (As := [.int 4]) (rest := []) dX4_pour_138 rfl mvX4_218 (tw_o hp) rfl (t_no hp 4) (Nat.le_of_ble_eq_true rfl) rfl rfl (Nat.le_of_ble_eq_true rfl) (Nat.zero_le _) (Nat.zero_le _) ?_
                      refine e_ireturn dX4_pour_141 rfl rfl (Nat.zero_le _) (Nat.zero_le _) ?_
                      refine TQi.of ?_
                      rw [sp_pour, if_neg g1, ix_nI (show y < 2147483648 by omega), ix_nI (show x < 2147483648 by omega), if_neg (fun z => z.elim h40 (Int32.not_lt.mpr h49)), if_neg (fun z => z h70), if_neg (Int32.not_lt.mpr h82), if_pos (Or.inl (Or.inr h98))]
                      rfl
                    · refine e_iload_n dX4_pour_101 2 rfl rfl ?_
                      refine e_i2l dX4_pour_102 ?_
                      refine e_iload dX4_pour_103 rfl ?_
                      refine e_i2l dX4_pour_105 ?_
                      refine e_ladd dX4_pour_106 ?_
                      refine e_aload_n dX4_pour_107 0 rfl rfl rfl ?_
                      refine e_getf (v := .ref 58) dX4_pour_108 rfl fX4_13 (tw_o hp) rfl ?_
                      refine e_iload_n dX4_pour_111 1 rfl rfl ?_
                      refine e_iald (f := τ.2.2.1 3) (j := y) dX4_pour_112 (tw_a3 hp) rfl (by omega) (by decide) ?_
                      refine e_i2l dX4_pour_113 ?_
                      refine e_lcmp_gt 136 dX4_pour_114 dX4_pour_115 (by decide) (fun h114 => ?_) (fun h114 => ?_)
                      · refine e_aload_n dX4_pour_136 0 rfl rfl rfl ?_
                        refine e_iconst 4 dX4_pour_137 rfl ?_
                        refine e_callV1 (As := [.int 4]) (rest := []) dX4_pour_138 rfl mvX4_218 (tw_o hp) rfl (t_no hp 4) (Nat.le_of_ble_eq_true rfl) rfl rfl (Nat.le_of_ble_eq_true rfl) (Nat.zero_le _) (Nat.zero_le _) ?_
                        refine e_ireturn dX4_pour_141 rfl rfl (Nat.zero_le _) (Nat.zero_le _) ?_
                        refine TQi.of ?_
                        rw [sp_pour, if_neg g1, ix_nI (show y < 2147483648 by omega), ix_nI (show x < 2147483648 by omega), if_neg (fun z => z.elim h40 (Int32.not_lt.mpr h49)), if_neg (fun z => z h70), if_neg (Int32.not_lt.mpr h82), if_pos (Or.inr (Or.inl h114))]
                        rfl
                      · refine e_iload dX4_pour_118 rfl ?_
                        refine e_i2l dX4_pour_120 ?_
                        refine e_iload dX4_pour_121 rfl ?_
                        refine e_i2l dX4_pour_123 ?_
                        refine e_ladd dX4_pour_124 ?_
                        refine e_aload_n dX4_pour_125 0 rfl rfl rfl ?_
                        refine e_getf (v := .ref 58) dX4_pour_126 rfl fX4_13 (tw_o hp) rfl ?_
                        refine e_iload_n dX4_pour_129 3 rfl rfl ?_
                        refine e_iald (f := τ.2.2.1 3) (j := x) dX4_pour_130 (tw_a3 hp) rfl (by omega) (by decide) ?_
                        refine e_i2l dX4_pour_131 ?_
                        refine e_lcmp_le 142 dX4_pour_132 dX4_pour_133 (by decide) (fun h132 => ?_) (fun h132 => ?_)
                        · obtain ⟨n1, hn1, en1⟩ : ∃ q, q ≤ 60 ∧ τ.2.2.1 3 y = nI q := (hT y hy).1.elim (fun z => absurd (by rw [z]; decide) h40) id
                          obtain ⟨n2, hn2, en2⟩ : ∃ q, q ≤ 60 ∧ τ.2.2.1 3 x = nI q := (hT x hx).1.elim (fun z => absurd h49 (by rw [z]; decide)) id
                          have g2 : ¬ ((i < 0 ∨ j < 0) ∨ ((τ.2.2.1 3 y).toInt64 < i.toInt64 + m.toInt64 ∨ (τ.2.2.1 3 x).toInt64 < j.toInt64 + m.toInt64)) := fun z => z.elim (fun z => z.elim h93 h98) (fun z => z.elim h114 (Int64.not_lt.mpr h132))
                          have g3 : ¬ m < 0 := Int32.not_lt.mpr h82
                          obtain ⟨a, c, rfl, rfl, hac⟩ := sum_le hn1 h93 g3 (by rw [← en1]; exact h114)
                          obtain ⟨b, c2, rfl, ec, hbc⟩ := sum_le hn2 h98 g3 (by rw [← en2]; exact Int64.not_lt.mpr h132)
                          have ecc : c2 = c := by
                            have e5 : ix (nI c) = ix (nI c2) := by rw [ec]
                            rw [ix_nI (show c < 2147483648 by omega), ix_nI (show c2 < 2147483648 by omega)] at e5
                            exact e5.symm
                          rw [ecc] at hbc
                          refine e_iload_n dX4_pour_142 2 rfl rfl ?_
                          refine e_iload dX4_pour_143 rfl ?_
                          refine e_icmp_geN a b 152 (by omega) (by omega) dX4_pour_145 (by decide) (fun h145 => ?_) (fun h145 => ?_)
                          · refine e_iconst 0 dX4_pour_152 rfl ?_
                            refine e_istore dX4_pour_153 (ls_s (ls_s (ls_s (ls_s (ls_s (ls_1 rfl)))))) (Nat.le_of_ble_eq_true rfl) ?_
                            refine e_iconst 0 dX4_pour_155 rfl ?_
                            refine e_istore dX4_pour_156 (ls_s (ls_s (ls_s (ls_s (ls_s (ls_s (ls_1 rfl))))))) (Nat.le_of_ble_eq_true rfl) ?_
                            rw [← tB_self (tI (tI τ 1 0) 0 0) 4]
                            refine t_pour_up (τ0 := tI (tI τ 1 0) 0 0) hp hy hx (show a + c ≤ 60 by omega) (show b + c ≤ 60 by omega) (by omega) (c + 1) 0 _ (by omega) (by omega) (by rw [rngL_0]) ?_
                            have eS : sp_pour (nI y) (nI a) (nI x) (nI b) (nI c) τ = (1, tB (b0 τ) 4 (rngL (τ.2.2.2 4) (60 * x + b) c (fun n => τ.2.2.2 4 (60 * y + a + n)))) := by
                              rw [sp_pour, if_neg g1, ix_nI (show y < 2147483648 by omega), ix_nI (show x < 2147483648 by omega), if_neg (fun z => z.elim h40 (Int32.not_lt.mpr h49)), if_neg (fun z => z h70), if_neg g3, if_neg g2, ix_nI (show a < 2147483648 by omega), ix_nI (show b < 2147483648 by omega), ix_nI (show c < 2147483648 by omega)]
                            exact TQi.of eS
                          · refine e_iconst 1 dX4_pour_148 rfl ?_
                            refine e_goto 153 dX4_pour_149 (by decide) ?_
                            refine e_istore dX4_pour_153 (ls_s (ls_s (ls_s (ls_s (ls_s (ls_1 rfl)))))) (Nat.le_of_ble_eq_true rfl) ?_
                            refine e_iconst 0 dX4_pour_155 rfl ?_
                            refine e_istore dX4_pour_156 (ls_s (ls_s (ls_s (ls_s (ls_s (ls_s (ls_1 rfl))))))) (Nat.le_of_ble_eq_true rfl) ?_
                            rw [← tB_self (tI (tI τ 1 0) 0 0) 4]
                            refine t_pour_dn (τ0 := tI (tI τ 1 0) 0 0) hp hy hx (show a + c ≤ 60 by omega) (show b + c ≤ 60 by omega) (by omega) (c + 1) 0 _ (by omega) (by omega) (by rw [rngL_0]) ?_
                            have eS : sp_pour (nI y) (nI a) (nI x) (nI b) (nI c) τ = (1, tB (b0 τ) 4 (rngL (τ.2.2.2 4) (60 * x + b) c (fun n => τ.2.2.2 4 (60 * y + a + n)))) := by
                              rw [sp_pour, if_neg g1, ix_nI (show y < 2147483648 by omega), ix_nI (show x < 2147483648 by omega), if_neg (fun z => z.elim h40 (Int32.not_lt.mpr h49)), if_neg (fun z => z h70), if_neg g3, if_neg g2, ix_nI (show a < 2147483648 by omega), ix_nI (show b < 2147483648 by omega), ix_nI (show c < 2147483648 by omega)]
                            exact TQi.of eS
                        · refine e_aload_n dX4_pour_136 0 rfl rfl rfl ?_
                          refine e_iconst 4 dX4_pour_137 rfl ?_
                          refine e_callV1 (As := [.int 4]) (rest := []) dX4_pour_138 rfl mvX4_218 (tw_o hp) rfl (t_no hp 4) (Nat.le_of_ble_eq_true rfl) rfl rfl (Nat.le_of_ble_eq_true rfl) (Nat.zero_le _) (Nat.zero_le _) ?_
                          refine e_ireturn dX4_pour_141 rfl rfl (Nat.zero_le _) (Nat.zero_le _) ?_
                          refine TQi.of ?_
                          rw [sp_pour, if_neg g1, ix_nI (show y < 2147483648 by omega), ix_nI (show x < 2147483648 by omega), if_neg (fun z => z.elim h40 (Int32.not_lt.mpr h49)), if_neg (fun z => z h70), if_neg (Int32.not_lt.mpr h82), if_pos (Or.inr (Or.inr (Int64.not_le.mp h132)))]
                          rfl
                · refine e_aload_n dX4_pour_85 0 rfl rfl rfl ?_
                  refine e_bipush 6 dX4_pour_86 rfl ?_
                  refine e_callV1 (As := [.int 6]) (rest := []) dX4_pour_88 rfl mvX4_218 (tw_o hp) rfl (t_no hp 6) (Nat.le_of_ble_eq_true rfl) rfl rfl (Nat.le_of_ble_eq_true rfl) (Nat.zero_le _) (Nat.zero_le _) ?_
                  refine e_ireturn dX4_pour_91 rfl rfl (Nat.zero_le _) (Nat.zero_le _) ?_
                  refine TQi.of ?_
                  rw [sp_pour, if_neg g1, ix_nI (show y < 2147483648 by omega), ix_nI (show x < 2147483648 by omega), if_neg (fun z => z.elim h40 (Int32.not_lt.mpr h49)), if_neg (fun z => z h70), if_pos (Int32.not_le.mp h82)]
                  rfl
              · refine e_aload_n dX4_pour_73 0 rfl rfl rfl ?_
                refine e_bipush 11 dX4_pour_74 rfl ?_
                refine e_callV1 (As := [.int 11]) (rest := []) dX4_pour_76 rfl mvX4_218 (tw_o hp) rfl (t_no hp 11) (Nat.le_of_ble_eq_true rfl) rfl rfl (Nat.le_of_ble_eq_true rfl) (Nat.zero_le _) (Nat.zero_le _) ?_
                refine e_ireturn dX4_pour_79 rfl rfl (Nat.zero_le _) (Nat.zero_le _) ?_
                refine TQi.of ?_
                rw [sp_pour, if_neg g1, ix_nI (show y < 2147483648 by omega), ix_nI (show x < 2147483648 by omega), if_neg (fun z => z.elim h40 (Int32.not_lt.mpr h49)), if_pos h70]
                rfl
            · refine e_aload_n dX4_pour_52 0 rfl rfl rfl ?_
              refine e_iconst 3 dX4_pour_53 rfl ?_
              refine e_callV1 (As := [.int 3]) (rest := []) dX4_pour_54 rfl mvX4_218 (tw_o hp) rfl (t_no hp 3) (Nat.le_of_ble_eq_true rfl) rfl rfl (Nat.le_of_ble_eq_true rfl) (Nat.zero_le _) (Nat.zero_le _) ?_
              refine e_ireturn dX4_pour_57 rfl rfl (Nat.zero_le _) (Nat.zero_le _) ?_
              refine TQi.of ?_
              rw [sp_pour, if_neg g1, ix_nI (show y < 2147483648 by omega), ix_nI (show x < 2147483648 by omega), if_pos (Or.inr (Int32.not_le.mp h49))]
              rfl
        · refine e_aload_n dX4_pour_28 0 rfl rfl rfl ?_
          refine e_iconst 1 dX4_pour_29 rfl ?_
          refine e_callV1 (As := [.int 1]) (rest := []) dX4_pour_30 rfl mvX4_218 (tw_o hp) rfl (t_no hp 1) (Nat.le_of_ble_eq_true rfl) rfl rfl (Nat.le_of_ble_eq_true rfl) (Nat.zero_le _) (Nat.zero_le _) ?_
          refine e_ireturn dX4_pour_33 rfl rfl (Nat.zero_le _) (Nat.zero_le _) ?_
          refine TQi.of ?_
          rw [sp_pour, if_pos (Or.inr (Or.inr (Int32.not_lt.mp h25)))]
          rfl

