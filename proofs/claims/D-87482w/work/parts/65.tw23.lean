/-! ===== the twin: errata, one value and two put right ===== -/
theorem bI_f {b : Bool} (h : bI b = 0) : b = false := by
  cases b with
  | false => rfl
  | true => exact absurd h (by decide)
theorem bI_t {b : Bool} (h : ¬ bI b = 0) : b = true := by
  cases b with
  | true => rfl
  | false => exact absurd rfl h
theorem rgV_i (xs : Nat → Nat) (i x : Nat) : (rgV xs i x).toInt32 = (corL (xs i)).2 x := Int32.toInt32_toInt64 _
set_option maxHeartbeats 4000000 in
set_option maxRecDepth 100000 in
/-- a loop of corrected -/
theorem t_cor1 {pre post : List ACell} {τ0 : Tw} (hp : pre.length = 56) {T0 : Nat → Int64} {xs : Nat → Nat} {n k : Nat} {b : Int32} (hn : n ≤ 20) (hk1 : 1 ≤ k) (hkn : k < n) (hV : ∀ q, q < n → VO q (corL (xs q)) (τ0.2.2.2 72) (τ0.2.2.1 73)) {i : Nat} (hi : i < n) {Q : Qfun} : ∀ (fuel : Nat) (x : Nat) (a : Int64) (w : Nat → Int64), x ≤ rgM xs i → rgM xs i < x + fuel → (∀ y, y < x → onP n k b T0 xs i y = false) → ((∀ y, y < rgM xs i → onP n k b T0 xs i y = false) → ∀ w, Q (some (.int 0)) (TW pre (tB (tB τ0 70 T0) 71 w) post)) → (∀ x w T, x < rgM xs i → onP n k b T0 xs i x = true → (∀ y, y < x → onP n k b T0 xs i y = false) → Q (some (.int 1)) (TW pre (rgS (tB (tB τ0 70 T) 71 w) i ((corL (xs i)).2 x) i ((corL (xs i)).2 x)) post)) →
    E cX4_corrected (RX4, (some .boolean), 12, 3, (0, 0), false, []) Q noX 0 0 37 [some (.ref 56), some (.int (nI n)), some (.int (nI k)), some (.int b), some (.int (nI i)), some (.int (nI i)), some (.long (T0 i)), none, some (.long (T0 i)), none, some (.int (nI x)), none] [] (TW pre (tB (tB τ0 70 (vp_updL T0 i a)) 71 w) post) := by
  intro fuel
  induction fuel with
  | zero => intro x a w hx hf hz hQ hS; exact absurd hf (by omega)
  | succ fuel ih =>
    intro x a w hx hf hz hQ hS
    have hm79 := rgM_le xs i
    refine e_iload dX4_corrected_37 rfl ?_
    refine e_aload_n dX4_corrected_39 0 rfl rfl rfl ?_
    refine e_getf (v := .ref 98) dX4_corrected_40 rfl fX4_155 (tw_o hp) rfl ?_
    refine e_iload dX4_corrected_43 rfl ?_
    refine e_iald (f := τ0.2.2.1 73) (j := i) dX4_corrected_45 (tw_a73 hp) rfl (by omega) (by decide) ?_
    refine e_top (congrArg Value.int (hV i hi).1) ?_
    refine e_icmp_geN x (rgM xs i) 219 (by omega) (by omega) dX4_corrected_46 (by decide) (fun h46 => ?_) (fun h46 => ?_)
    · refine e_aload_n dX4_corrected_219 0 rfl rfl rfl ?_
      refine e_getf (v := .ref 95) dX4_corrected_220 rfl fX4_146 (tw_o hp) rfl ?_
      refine e_iload dX4_corrected_223 rfl ?_
      refine e_lload dX4_corrected_225 rfl ?_
      refine e_last (f := (vp_updL T0 i a)) (j := i) dX4_corrected_227 (tw_a70 hp) rfl (by omega) (by decide) ?_
      rw [tw_s70 hp]
      refine e_iconst 0 dX4_corrected_228 rfl ?_
      refine e_ireturn dX4_corrected_229 rfl rfl (Nat.zero_le _) (Nat.zero_le _) ?_
      rw [tT70, updL_updL, updL_id]
      exact hQ (fun y hy => hz y (by omega)) w
    · refine e_aload_n dX4_corrected_49 0 rfl rfl rfl ?_
      refine e_getf (v := .ref 95) dX4_corrected_50 rfl fX4_146 (tw_o hp) rfl ?_
      refine e_iload dX4_corrected_53 rfl ?_
      refine e_aload_n dX4_corrected_55 0 rfl rfl rfl ?_
      refine e_getf (v := .ref 97) dX4_corrected_56 rfl fX4_152 (tw_o hp) rfl ?_
      refine e_bipush 80 dX4_corrected_59 rfl ?_
      refine e_iload dX4_corrected_61 rfl ?_
      refine e_imulN 80 i dX4_corrected_63 ?_
      refine e_iload dX4_corrected_64 rfl ?_
      refine e_iaddN (80 * i) x dX4_corrected_66 ?_
      refine e_lald (f := τ0.2.2.2 72) (j := (80 * i) + x) dX4_corrected_67 (tw_a72 hp) rfl (by omega) (by decide) ?_
      refine e_top (congrArg Value.long (show _ = rgV xs i x from (hV i hi).2 x (show x < rgM xs i by omega))) ?_
      refine e_last (f := (vp_updL T0 i a)) (j := i) dX4_corrected_68 (tw_a70 hp) rfl (by omega) (by decide) ?_
      rw [tw_s70 hp]
      rw [tT70, updL_updL]
      refine e_iconst 0 dX4_corrected_69 rfl ?_
      refine e_istore dX4_corrected_70 (ls_s (ls_s (ls_s (ls_s (ls_s (ls_s (ls_s (ls_s (ls_s (ls_s (ls_1 rfl))))))))))) (Nat.le_of_ble_eq_true rfl) ?_
      refine e_iload dX4_corrected_72 rfl ?_
      refine e_iload dX4_corrected_74 rfl ?_
      refine e_iload dX4_corrected_76 rfl ?_
      refine e_icmp_neN i i 85 (by omega) (by omega) dX4_corrected_78 (by decide) (fun h78 => ?_) (fun h78 => ?_)
      · exact absurd rfl h78
      · refine e_iconst 1 dX4_corrected_81 rfl ?_
        refine e_goto 92 dX4_corrected_82 (by decide) ?_
        refine e_icmp_ge 187 dX4_corrected_92 (by decide) (fun h => absurd h (by decide)) (fun _ => ?_)
        refine e_iload dX4_corrected_95 rfl ?_
        refine e_iload dX4_corrected_97 rfl ?_
        refine e_icmp_eqN i i 122 (by omega) (by omega) dX4_corrected_99 (by decide) (fun h99 => ?_) (fun h99 => ?_)
        · refine e_aload_n dX4_corrected_122 0 rfl rfl rfl ?_
          refine e_iload_n dX4_corrected_123 1 rfl rfl ?_
          refine e_iload_n dX4_corrected_124 2 rfl rfl ?_
          refine e_iload_n dX4_corrected_125 3 rfl rfl ?_
          refine e_callVQ (As := [.int (nI n), .int (nI k), .int b]) (rest := []) dX4_corrected_126 rfl mvX4_506 (tw_o hp) rfl (t_smooth (T := vp_updL T0 i (rgV xs i x)) hp hn hk1 hkn w) (Nat.le_of_ble_eq_true rfl) rfl rfl (Nat.le_of_ble_eq_true rfl) (Nat.zero_le _) (Nat.zero_le _) (fun v0 M0 h0 _ => ?_)
          obtain ⟨w2, rfl, rfl⟩ := h0
          refine e_if_ne 135 dX4_corrected_129 (by decide) (fun h129 => ?_) (fun h129 => ?_)
          · refine e_aload_n dX4_corrected_135 0 rfl rfl rfl ?_
            refine e_getf (v := .ref 99) dX4_corrected_136 rfl fX4_158 (tw_o hp) rfl ?_
            refine e_iconst 0 dX4_corrected_139 rfl ?_
            refine e_iload dX4_corrected_140 rfl ?_
            refine e_iast (f := τ0.2.2.1 75) (j := 0) dX4_corrected_142 (tw_a75 hp) rfl (by omega) (by decide) ?_
            rw [tw_s75 hp]
            refine e_aload_n dX4_corrected_143 0 rfl rfl rfl ?_
            refine e_getf (v := .ref 100) dX4_corrected_144 rfl fX4_161 (tw_o hp) rfl ?_
            refine e_iconst 0 dX4_corrected_147 rfl ?_
            refine e_aload_n dX4_corrected_148 0 rfl rfl rfl ?_
            refine e_getf (v := .ref 95) dX4_corrected_149 rfl fX4_146 (tw_o hp) rfl ?_
            refine e_iload dX4_corrected_152 rfl ?_
            refine e_lald (f := (vp_updL T0 i (rgV xs i x))) (j := i) dX4_corrected_154 (tw_a70 hp) rfl (by omega) (by decide) ?_
            refine e_l2i dX4_corrected_155 ?_
            refine e_iast (f := τ0.2.2.1 76) (j := 0) dX4_corrected_156 (tw_a76 hp) rfl (by omega) (by decide) ?_
            rw [tw_s76 hp]
            refine e_aload_n dX4_corrected_157 0 rfl rfl rfl ?_
            refine e_getf (v := .ref 99) dX4_corrected_158 rfl fX4_158 (tw_o hp) rfl ?_
            refine e_iconst 1 dX4_corrected_161 rfl ?_
            refine e_iload dX4_corrected_162 rfl ?_
            refine e_iast (f := (upd (τ0.2.2.1 75) 0 (nI i))) (j := 1) dX4_corrected_164 (tw_a75 hp) rfl (by omega) (by decide) ?_
            rw [tw_s75 hp]
            refine e_aload_n dX4_corrected_165 0 rfl rfl rfl ?_
            refine e_getf (v := .ref 100) dX4_corrected_166 rfl fX4_161 (tw_o hp) rfl ?_
            refine e_iconst 1 dX4_corrected_169 rfl ?_
            refine e_aload_n dX4_corrected_170 0 rfl rfl rfl ?_
            refine e_getf (v := .ref 95) dX4_corrected_171 rfl fX4_146 (tw_o hp) rfl ?_
            refine e_iload dX4_corrected_174 rfl ?_
            refine e_lald (f := (vp_updL T0 i (rgV xs i x))) (j := i) dX4_corrected_176 (tw_a70 hp) rfl (by omega) (by decide) ?_
            refine e_l2i dX4_corrected_177 ?_
            refine e_iast (f := (upd (τ0.2.2.1 76) 0 (((vp_updL T0 i (rgV xs i x)) i).toInt32))) (j := 1) dX4_corrected_178 (tw_a76 hp) rfl (by omega) (by decide) ?_
            rw [tw_s76 hp]
            refine e_iconst 1 dX4_corrected_179 rfl ?_
            refine e_ireturn dX4_corrected_180 rfl rfl (Nat.zero_le _) (Nat.zero_le _) ?_
            rw [updL_at, rgV_i]
            have h9 := hS x w2 (vp_updL T0 i (rgV xs i x)) (by omega) (bI_t h129) hz
            rw [← rgS_eq] at h9
            exact h9
          · refine e_goto 181 dX4_corrected_132 (by decide) ?_
            refine e_iinc 1 dX4_corrected_181 rfl (by decide) (ls_s (ls_s (ls_s (ls_s (ls_s (ls_s (ls_s (ls_s (ls_s (ls_s (ls_1 rfl))))))))))) (Nat.le_of_ble_eq_true rfl) ?_
            refine e_goto 72 dX4_corrected_184 (by decide) ?_
            refine e_iload dX4_corrected_72 rfl ?_
            refine e_iload dX4_corrected_74 rfl ?_
            refine e_iload dX4_corrected_76 rfl ?_
            refine e_icmp_neN i i 85 (by omega) (by omega) dX4_corrected_78 (by decide) (fun h78 => ?_) (fun h78 => ?_)
            · exact absurd rfl h78
            · refine e_iconst 1 dX4_corrected_81 rfl ?_
              refine e_goto 92 dX4_corrected_82 (by decide) ?_
              refine e_icmp_ge 187 dX4_corrected_92 (by decide) (fun _ => ?_) (fun h => absurd h (by decide))
              refine e_aload_n dX4_corrected_187 0 rfl rfl rfl ?_
              refine e_getf (v := .ref 95) dX4_corrected_188 rfl fX4_146 (tw_o hp) rfl ?_
              refine e_iload dX4_corrected_191 rfl ?_
              refine e_iload dX4_corrected_193 rfl ?_
              refine e_iload dX4_corrected_195 rfl ?_
              refine e_icmp_neN i i 210 (by omega) (by omega) dX4_corrected_197 (by decide) (fun h197 => ?_) (fun h197 => ?_)
              · exact absurd rfl h197
              · refine e_aload_n dX4_corrected_200 0 rfl rfl rfl ?_
                refine e_getf (v := .ref 95) dX4_corrected_201 rfl fX4_146 (tw_o hp) rfl ?_
                refine e_iload dX4_corrected_204 rfl ?_
                refine e_lald (f := (vp_updL T0 i (rgV xs i x))) (j := i) dX4_corrected_206 (tw_a70 hp) rfl (by omega) (by decide) ?_
                refine e_goto 212 dX4_corrected_207 (by decide) ?_
                refine e_last (f := (vp_updL T0 i (rgV xs i x))) (j := i) dX4_corrected_212 (tw_a70 hp) rfl (by omega) (by decide) ?_
                rw [tw_s70 hp]
                rw [tT70, updL_id]
                refine e_incN x (x + 1) (inc1 _) dX4_corrected_213 rfl (ls_s (ls_s (ls_s (ls_s (ls_s (ls_s (ls_s (ls_s (ls_s (ls_1 rfl)))))))))) (Nat.le_of_ble_eq_true rfl) ?_
                refine e_goto 37 dX4_corrected_216 (by decide) ?_
                refine e_forget (i := 11) (ln_s (ln_s (ln_s (ln_s (ln_s (ln_s (ln_s (ln_s (ln_s (ln_s (ln_s ln_0))))))))))) ?_
                have e5 : onP n k b T0 xs i x = false := bI_f h129
                refine ih (x + 1) _ w2 (by omega) (by omega) (fun y hy => ?_) hQ hS
                by_cases ey : y = x
                · rw [ey]; exact e5
                · exact hz y (by omega)
        · exact absurd rfl h99

set_option maxHeartbeats 4000000 in
set_option maxRecDepth 100000 in
/-- a loop of corrected -/
theorem t_cor2in {pre post : List ACell} {τ0 : Tw} (hp : pre.length = 56) {T0 : Nat → Int64} {xs : Nat → Nat} {n k : Nat} {b : Int32} (hn : n ≤ 20) (hk1 : 1 ≤ k) (hkn : k < n) (hV : ∀ q, q < n → VO q (corL (xs q)) (τ0.2.2.2 72) (τ0.2.2.1 73)) {i j : Nat} (hi : i < n) (hj : j < n) (hij : i ≠ j) {x : Nat} (hx : x < rgM xs i) {Q : Qfun} : ∀ (fuel : Nat) (y : Nat) (a : Int64) (w : Nat → Int64), y ≤ rgM xs j → rgM xs j < y + fuel → (∀ m, m < x * rgM xs j + y → twP n k b T0 xs i j m = false) → (∀ a w, (∀ m, m < x * rgM xs j + rgM xs j → twP n k b T0 xs i j m = false) → E cX4_corrected (RX4, (some .boolean), 12, 3, (0, 0), false, []) Q noX 0 0 187 [some (.ref 56), some (.int (nI n)), some (.int (nI k)), some (.int b), some (.int (nI i)), some (.int (nI j)), some (.long (T0 i)), none, some (.long (T0 j)), none, some (.int (nI x)), none] [] (TW pre (tB (tB τ0 70 (vp_updL (vp_updL T0 i (rgV xs i x)) j (a))) 71 w) post)) → (∀ x y w T, x < rgM xs i → y < rgM xs j → twP n k b T0 xs i j (x * rgM xs j + y) = true → (∀ m, m < x * rgM xs j + y → twP n k b T0 xs i j m = false) → Q (some (.int 1)) (TW pre (rgS (tB (tB τ0 70 T) 71 w) i ((corL (xs i)).2 x) j ((corL (xs j)).2 y)) post)) →
    E cX4_corrected (RX4, (some .boolean), 12, 3, (0, 0), false, []) Q noX 0 0 72 [some (.ref 56), some (.int (nI n)), some (.int (nI k)), some (.int b), some (.int (nI i)), some (.int (nI j)), some (.long (T0 i)), none, some (.long (T0 j)), none, some (.int (nI x)), some (.int (nI y))] [] (TW pre (tB (tB τ0 70 (vp_updL (vp_updL T0 i (rgV xs i x)) j (a))) 71 w) post) := by
  intro fuel
  induction fuel with
  | zero => intro y a w hy hf hz hE hS; exact absurd hf (by omega)
  | succ fuel ih =>
    intro y a w hy hf hz hE hS
    have hm79 := rgM_le xs j
    have hm78 := rgM_le xs i
    refine e_iload dX4_corrected_72 rfl ?_
    refine e_iload dX4_corrected_74 rfl ?_
    refine e_iload dX4_corrected_76 rfl ?_
    refine e_icmp_neN i j 85 (by omega) (by omega) dX4_corrected_78 (by decide) (fun h78 => ?_) (fun h78 => ?_)
    · refine e_aload_n dX4_corrected_85 0 rfl rfl rfl ?_
      refine e_getf (v := .ref 98) dX4_corrected_86 rfl fX4_155 (tw_o hp) rfl ?_
      refine e_iload dX4_corrected_89 rfl ?_
      refine e_iald (f := τ0.2.2.1 73) (j := j) dX4_corrected_91 (tw_a73 hp) rfl (by omega) (by decide) ?_
      refine e_top (congrArg Value.int (hV j hj).1) ?_
      refine e_icmp_geN y (rgM xs j) 187 (by omega) (by omega) dX4_corrected_92 (by decide) (fun h92 => ?_) (fun h92 => ?_)
      · refine e_forget (i := 11) (ln_s (ln_s (ln_s (ln_s (ln_s (ln_s (ln_s (ln_s (ln_s (ln_s (ln_s ln_0))))))))))) ?_
        have e1 : y = rgM xs j := by omega
        subst e1
        exact hE a w hz
      · refine e_iload dX4_corrected_95 rfl ?_
        refine e_iload dX4_corrected_97 rfl ?_
        refine e_icmp_eqN i j 122 (by omega) (by omega) dX4_corrected_99 (by decide) (fun h99 => ?_) (fun h99 => ?_)
        · exact absurd h99 hij
        · refine e_aload_n dX4_corrected_102 0 rfl rfl rfl ?_
          refine e_getf (v := .ref 95) dX4_corrected_103 rfl fX4_146 (tw_o hp) rfl ?_
          refine e_iload dX4_corrected_106 rfl ?_
          refine e_aload_n dX4_corrected_108 0 rfl rfl rfl ?_
          refine e_getf (v := .ref 97) dX4_corrected_109 rfl fX4_152 (tw_o hp) rfl ?_
          refine e_bipush 80 dX4_corrected_112 rfl ?_
          refine e_iload dX4_corrected_114 rfl ?_
          refine e_imulN 80 j dX4_corrected_116 ?_
          refine e_iload dX4_corrected_117 rfl ?_
          refine e_iaddN (80 * j) y dX4_corrected_119 ?_
          refine e_lald (f := τ0.2.2.2 72) (j := (80 * j) + y) dX4_corrected_120 (tw_a72 hp) rfl (by omega) (by decide) ?_
          refine e_top (congrArg Value.long (show _ = rgV xs j y from (hV j hj).2 y (show y < rgM xs j by omega))) ?_
          refine e_last (f := (vp_updL (vp_updL T0 i (rgV xs i x)) j (a))) (j := j) dX4_corrected_121 (tw_a70 hp) rfl (by omega) (by decide) ?_
          rw [tw_s70 hp]
          rw [tT70, updL_updL]
          refine e_aload_n dX4_corrected_122 0 rfl rfl rfl ?_
          refine e_iload_n dX4_corrected_123 1 rfl rfl ?_
          refine e_iload_n dX4_corrected_124 2 rfl rfl ?_
          refine e_iload_n dX4_corrected_125 3 rfl rfl ?_
          refine e_callVQ (As := [.int (nI n), .int (nI k), .int b]) (rest := []) dX4_corrected_126 rfl mvX4_506 (tw_o hp) rfl (t_smooth (T := vp_updL (vp_updL T0 i (rgV xs i x)) j (rgV xs j y)) hp hn hk1 hkn w) (Nat.le_of_ble_eq_true rfl) rfl rfl (Nat.le_of_ble_eq_true rfl) (Nat.zero_le _) (Nat.zero_le _) (fun v0 M0 h0 _ => ?_)
          obtain ⟨w2, rfl, rfl⟩ := h0
          refine e_if_ne 135 dX4_corrected_129 (by decide) (fun h129 => ?_) (fun h129 => ?_)
          · refine e_aload_n dX4_corrected_135 0 rfl rfl rfl ?_
            refine e_getf (v := .ref 99) dX4_corrected_136 rfl fX4_158 (tw_o hp) rfl ?_
            refine e_iconst 0 dX4_corrected_139 rfl ?_
            refine e_iload dX4_corrected_140 rfl ?_
            refine e_iast (f := τ0.2.2.1 75) (j := 0) dX4_corrected_142 (tw_a75 hp) rfl (by omega) (by decide) ?_
            rw [tw_s75 hp]
            refine e_aload_n dX4_corrected_143 0 rfl rfl rfl ?_
            refine e_getf (v := .ref 100) dX4_corrected_144 rfl fX4_161 (tw_o hp) rfl ?_
            refine e_iconst 0 dX4_corrected_147 rfl ?_
            refine e_aload_n dX4_corrected_148 0 rfl rfl rfl ?_
            refine e_getf (v := .ref 95) dX4_corrected_149 rfl fX4_146 (tw_o hp) rfl ?_
            refine e_iload dX4_corrected_152 rfl ?_
            refine e_lald (f := (vp_updL (vp_updL T0 i (rgV xs i x)) j (rgV xs j y))) (j := i) dX4_corrected_154 (tw_a70 hp) rfl (by omega) (by decide) ?_
            refine e_l2i dX4_corrected_155 ?_
            refine e_iast (f := τ0.2.2.1 76) (j := 0) dX4_corrected_156 (tw_a76 hp) rfl (by omega) (by decide) ?_
            rw [tw_s76 hp]
            refine e_aload_n dX4_corrected_157 0 rfl rfl rfl ?_
            refine e_getf (v := .ref 99) dX4_corrected_158 rfl fX4_158 (tw_o hp) rfl ?_
            refine e_iconst 1 dX4_corrected_161 rfl ?_
            refine e_iload dX4_corrected_162 rfl ?_
            refine e_iast (f := (upd (τ0.2.2.1 75) 0 (nI i))) (j := 1) dX4_corrected_164 (tw_a75 hp) rfl (by omega) (by decide) ?_
            rw [tw_s75 hp]
            refine e_aload_n dX4_corrected_165 0 rfl rfl rfl ?_
            refine e_getf (v := .ref 100) dX4_corrected_166 rfl fX4_161 (tw_o hp) rfl ?_
            refine e_iconst 1 dX4_corrected_169 rfl ?_
            refine e_aload_n dX4_corrected_170 0 rfl rfl rfl ?_
            refine e_getf (v := .ref 95) dX4_corrected_171 rfl fX4_146 (tw_o hp) rfl ?_
            refine e_iload dX4_corrected_174 rfl ?_
            refine e_lald (f := (vp_updL (vp_updL T0 i (rgV xs i x)) j (rgV xs j y))) (j := j) dX4_corrected_176 (tw_a70 hp) rfl (by omega) (by decide) ?_
            refine e_l2i dX4_corrected_177 ?_
            refine e_iast (f := (upd (τ0.2.2.1 76) 0 (((vp_updL (vp_updL T0 i (rgV xs i x)) j (rgV xs j y)) i).toInt32))) (j := 1) dX4_corrected_178 (tw_a76 hp) rfl (by omega) (by decide) ?_
            rw [tw_s76 hp]
            refine e_iconst 1 dX4_corrected_179 rfl ?_
            refine e_ireturn dX4_corrected_180 rfl rfl (Nat.zero_le _) (Nat.zero_le _) ?_
            rw [updL_at, updL_ne _ _ hij, updL_at, rgV_i, rgV_i]
            have h9 := hS x y w2 (vp_updL (vp_updL T0 i (rgV xs i x)) j (rgV xs j y)) hx (by omega) (by have hd := dvm (t := x) (show y < rgM xs j by omega); unfold twP; rw [hd.1, hd.2]; exact bI_t h129) hz
            rw [← rgS_eq] at h9
            exact h9
          · refine e_goto 181 dX4_corrected_132 (by decide) ?_
            refine e_incN y (y + 1) (inc1 _) dX4_corrected_181 rfl (ls_s (ls_s (ls_s (ls_s (ls_s (ls_s (ls_s (ls_s (ls_s (ls_s (ls_1 rfl))))))))))) (Nat.le_of_ble_eq_true rfl) ?_
            refine e_goto 72 dX4_corrected_184 (by decide) ?_
            have e5 : twP n k b T0 xs i j (x * rgM xs j + y) = false := by
              have hd := dvm (t := x) (show y < rgM xs j by omega)
              unfold twP
              rw [hd.1, hd.2]
              exact bI_f h129
            refine ih (y + 1) _ w2 (by omega) (by omega) (fun m hm => ?_) hE hS
            by_cases ey : m = x * rgM xs j + y
            · rw [ey]; exact e5
            · exact hz m (by omega)
    · exact absurd h78 hij

set_option maxHeartbeats 4000000 in
set_option maxRecDepth 100000 in
/-- a loop of corrected -/
theorem t_cor2 {pre post : List ACell} {τ0 : Tw} (hp : pre.length = 56) {T0 : Nat → Int64} {xs : Nat → Nat} {n k : Nat} {b : Int32} (hn : n ≤ 20) (hk1 : 1 ≤ k) (hkn : k < n) (hV : ∀ q, q < n → VO q (corL (xs q)) (τ0.2.2.2 72) (τ0.2.2.1 73)) {i j : Nat} (hi : i < n) (hj : j < n) (hij : i ≠ j) {Q : Qfun} : ∀ (fuel : Nat) (x : Nat) (a : Int64) (w : Nat → Int64), x ≤ rgM xs i → rgM xs i < x + fuel → (∀ m, m < x * rgM xs j → twP n k b T0 xs i j m = false) → ((∀ m, m < rgM xs i * rgM xs j → twP n k b T0 xs i j m = false) → ∀ w, Q (some (.int 0)) (TW pre (tB (tB τ0 70 T0) 71 w) post)) → (∀ x y w T, x < rgM xs i → y < rgM xs j → twP n k b T0 xs i j (x * rgM xs j + y) = true → (∀ m, m < x * rgM xs j + y → twP n k b T0 xs i j m = false) → Q (some (.int 1)) (TW pre (rgS (tB (tB τ0 70 T) 71 w) i ((corL (xs i)).2 x) j ((corL (xs j)).2 y)) post)) →
    E cX4_corrected (RX4, (some .boolean), 12, 3, (0, 0), false, []) Q noX 0 0 37 [some (.ref 56), some (.int (nI n)), some (.int (nI k)), some (.int b), some (.int (nI i)), some (.int (nI j)), some (.long (T0 i)), none, some (.long (T0 j)), none, some (.int (nI x)), none] [] (TW pre (tB (tB τ0 70 (vp_updL T0 i a)) 71 w) post) := by
  intro fuel
  induction fuel with
  | zero => intro x a w hx hf hz hQ hS; exact absurd hf (by omega)
  | succ fuel ih =>
    intro x a w hx hf hz hQ hS
    have hm79 := rgM_le xs i
    refine e_iload dX4_corrected_37 rfl ?_
    refine e_aload_n dX4_corrected_39 0 rfl rfl rfl ?_
    refine e_getf (v := .ref 98) dX4_corrected_40 rfl fX4_155 (tw_o hp) rfl ?_
    refine e_iload dX4_corrected_43 rfl ?_
    refine e_iald (f := τ0.2.2.1 73) (j := i) dX4_corrected_45 (tw_a73 hp) rfl (by omega) (by decide) ?_
    refine e_top (congrArg Value.int (hV i hi).1) ?_
    refine e_icmp_geN x (rgM xs i) 219 (by omega) (by omega) dX4_corrected_46 (by decide) (fun h46 => ?_) (fun h46 => ?_)
    · refine e_aload_n dX4_corrected_219 0 rfl rfl rfl ?_
      refine e_getf (v := .ref 95) dX4_corrected_220 rfl fX4_146 (tw_o hp) rfl ?_
      refine e_iload dX4_corrected_223 rfl ?_
      refine e_lload dX4_corrected_225 rfl ?_
      refine e_last (f := (vp_updL T0 i a)) (j := i) dX4_corrected_227 (tw_a70 hp) rfl (by omega) (by decide) ?_
      rw [tw_s70 hp]
      refine e_iconst 0 dX4_corrected_228 rfl ?_
      refine e_ireturn dX4_corrected_229 rfl rfl (Nat.zero_le _) (Nat.zero_le _) ?_
      have e1 : x = rgM xs i := by omega
      subst e1
      rw [tT70, updL_updL, updL_id]
      exact hQ hz w
    · refine e_aload_n dX4_corrected_49 0 rfl rfl rfl ?_
      refine e_getf (v := .ref 95) dX4_corrected_50 rfl fX4_146 (tw_o hp) rfl ?_
      refine e_iload dX4_corrected_53 rfl ?_
      refine e_aload_n dX4_corrected_55 0 rfl rfl rfl ?_
      refine e_getf (v := .ref 97) dX4_corrected_56 rfl fX4_152 (tw_o hp) rfl ?_
      refine e_bipush 80 dX4_corrected_59 rfl ?_
      refine e_iload dX4_corrected_61 rfl ?_
      refine e_imulN 80 i dX4_corrected_63 ?_
      refine e_iload dX4_corrected_64 rfl ?_
      refine e_iaddN (80 * i) x dX4_corrected_66 ?_
      refine e_lald (f := τ0.2.2.2 72) (j := (80 * i) + x) dX4_corrected_67 (tw_a72 hp) rfl (by omega) (by decide) ?_
      refine e_top (congrArg Value.long (show _ = rgV xs i x from (hV i hi).2 x (show x < rgM xs i by omega))) ?_
      refine e_last (f := (vp_updL T0 i a)) (j := i) dX4_corrected_68 (tw_a70 hp) rfl (by omega) (by decide) ?_
      rw [tw_s70 hp]
      rw [tT70, updL_updL]
      refine e_iconst 0 dX4_corrected_69 rfl ?_
      refine e_istore dX4_corrected_70 (ls_s (ls_s (ls_s (ls_s (ls_s (ls_s (ls_s (ls_s (ls_s (ls_s (ls_1 rfl))))))))))) (Nat.le_of_ble_eq_true rfl) ?_
      have eT : vp_updL T0 i (rgV xs i x) = vp_updL (vp_updL T0 i (rgV xs i x)) j (T0 j) := by
        have e9 := updL_id (vp_updL T0 i (rgV xs i x)) j
        rw [updL_ne _ _ (Ne.symm hij)] at e9
        exact e9.symm
      rw [eT]
      refine t_cor2in hp hn hk1 hkn hV hi hj hij (x := x) (by omega) (rgM xs j + 1) 0 (T0 j) w (by omega) (by omega) hz (fun a1 w1 hz1 => ?_) hS
      refine e_aload_n dX4_corrected_187 0 rfl rfl rfl ?_
      refine e_getf (v := .ref 95) dX4_corrected_188 rfl fX4_146 (tw_o hp) rfl ?_
      refine e_iload dX4_corrected_191 rfl ?_
      refine e_iload dX4_corrected_193 rfl ?_
      refine e_iload dX4_corrected_195 rfl ?_
      refine e_icmp_neN i j 210 (by omega) (by omega) dX4_corrected_197 (by decide) (fun h197 => ?_) (fun h197 => ?_)
      · refine e_lload dX4_corrected_210 rfl ?_
        refine e_last (f := (vp_updL (vp_updL T0 i (rgV xs i x)) j (a1))) (j := j) dX4_corrected_212 (tw_a70 hp) rfl (by omega) (by decide) ?_
        rw [tw_s70 hp]
        rw [tT70, updL_updL]
        have eT2 : vp_updL (vp_updL T0 i (rgV xs i x)) j (T0 j) = vp_updL T0 i (rgV xs i x) := by
          have e9 := updL_id (vp_updL T0 i (rgV xs i x)) j
          rw [updL_ne _ _ (Ne.symm hij)] at e9
          exact e9
        rw [eT2]
        refine e_incN x (x + 1) (inc1 _) dX4_corrected_213 rfl (ls_s (ls_s (ls_s (ls_s (ls_s (ls_s (ls_s (ls_s (ls_s (ls_1 rfl)))))))))) (Nat.le_of_ble_eq_true rfl) ?_
        refine e_goto 37 dX4_corrected_216 (by decide) ?_
        exact ih (x + 1) _ w1 (by omega) (by omega) (by rw [Nat.succ_mul]; exact hz1) hQ hS
      · exact absurd h197 hij

