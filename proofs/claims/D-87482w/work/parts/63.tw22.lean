/-! ===== the twin: errata, corrections (2) ===== -/
set_option maxHeartbeats 4000000 in
set_option maxRecDepth 100000 in
/-- a loop of corrects -/
theorem t_corr_in {pre post : List ACell} {τ0 : Tw} (hp : pre.length = 56) {i x : Nat} (hi : i < 20) (hx : x ≤ 99999999) {V0 : Nat → Int64} {C0 : Nat → Int32} {k : Nat} (hk : k < 8) {Q : Qfun} : ∀ (fuel : Nat) (g : Nat) (V : Nat → Int64) (C : Nat → Int32), g ≤ 10 → 10 < g + fuel → VO i (corF x (pw k) (x / pw k % 10) g (corN x k)) V C → VX i V0 V C0 C → (∀ V C, VO i (corF x (pw k) (x / pw k % 10) 10 (corN x k)) V C → VX i V0 V C0 C → E cX4_corrects (RX4, none, 7, 1, (0, 0), false, []) Q noX 0 0 72 [some (.ref 56), some (.int (nI i)), some (.int (nI x)), some (.int (nI (pw k))), some (.int (nI k)), some (.int (nI (x / pw k % 10))), none] [] (TW pre (tA (tB τ0 72 V) 73 C) post)) →
    E cX4_corrects (RX4, none, 7, 1, (0, 0), false, []) Q noX 0 0 38 [some (.ref 56), some (.int (nI i)), some (.int (nI x)), some (.int (nI (pw k))), some (.int (nI k)), some (.int (nI (x / pw k % 10))), some (.int (nI g))] [] (TW pre (tA (tB τ0 72 V) 73 C) post) := by
  intro fuel
  induction fuel with
  | zero => intro g V C hg hf hO hX hE; exact absurd hf (by omega)
  | succ fuel ih =>
    intro g V C hg hf hO hX hE
    have hp1 := pw_le7 k
    have hp0 := pw_pos7 k
    have hxp : x / pw k ≤ x := Nat.div_le_self _ _
    have hl := corN_len x k (by omega)
    have hd : x / pw k % 10 < 10 := Nat.mod_lt _ (by decide)
    have hlf := corF_len x (pw k) hd (corN x k) g hg
    have hlg : (corF x (pw k) (x / pw k % 10) g (corN x k)).1 ≤ 79 := by
      split at hlf <;> omega
    refine e_iload dX4_corrects_38 rfl ?_
    refine e_bipush 10 dX4_corrects_40 rfl ?_
    refine e_icmp_geN g 10 72 (by omega) (by omega) dX4_corrects_42 (by decide) (fun h42 => ?_) (fun h42 => ?_)
    · refine e_forget (i := 6) (ln_s (ln_s (ln_s (ln_s (ln_s (ln_s ln_0)))))) ?_
      have e1 : g = 10 := by omega
      subst e1
      exact hE V C hO hX
    · refine e_iload dX4_corrects_45 rfl ?_
      refine e_iload dX4_corrects_47 rfl ?_
      refine e_icmp_eqN g (x / pw k % 10) 66 (by omega) (by omega) dX4_corrects_49 (by decide) (fun h49 => ?_) (fun h49 => ?_)
      · refine e_incN g (g + 1) (inc1 _) dX4_corrects_66 rfl (ls_s (ls_s (ls_s (ls_s (ls_s (ls_1 rfl)))))) (Nat.le_of_ble_eq_true rfl) ?_
        refine e_goto 38 dX4_corrects_69 (by decide) ?_
        have eF : corF x (pw k) (x / pw k % 10) (g + 1) (corN x k) = corF x (pw k) (x / pw k % 10) g (corN x k) := by rw [corF, if_pos h49]
        exact ih (g + 1) V C (by omega) (by omega) (by rw [eF]; exact hO) hX hE
      · refine e_aload_n dX4_corrects_52 0 rfl rfl rfl ?_
        refine e_iload_n dX4_corrects_53 1 rfl rfl ?_
        refine e_iload_n dX4_corrects_54 2 rfl rfl ?_
        refine e_iload dX4_corrects_55 rfl ?_
        refine e_iload dX4_corrects_57 rfl ?_
        refine e_isub dX4_corrects_59 ?_
        refine e_iload_n dX4_corrects_60 3 rfl rfl ?_
        refine e_imul dX4_corrects_61 ?_
        refine e_iadd dX4_corrects_62 ?_
        refine e_callVQ (As := [.int (nI i), .int ((nI x) + (((nI g) - (nI (x / pw k % 10))) * (nI (pw k))))]) (rest := []) dX4_corrects_63 rfl mvX4_499 (tw_o hp) rfl (t_varies (m := (corF x (pw k) (x / pw k % 10) g (corN x k)).1) (f := (corF x (pw k) (x / pw k % 10) g (corN x k)).2) hp hi (by omega) (by exact hO)) (Nat.le_of_ble_eq_true rfl) rfl rfl (Nat.le_of_ble_eq_true rfl) (Nat.zero_le _) (Nat.zero_le _) (fun v0 M0 h0 _ => ?_)
        obtain ⟨V2, C2, rfl, rfl, hO2, hX2⟩ := h0
        replace hO2 : VO i (insV ((nI x) + (((nI g) - (nI (x / pw k % 10))) * (nI (pw k)))) (corF x (pw k) (x / pw k % 10) g (corN x k))) V2 C2 := hO2
        refine e_incN g (g + 1) (inc1 _) dX4_corrects_66 rfl (ls_s (ls_s (ls_s (ls_s (ls_s (ls_1 rfl)))))) (Nat.le_of_ble_eq_true rfl) ?_
        refine e_goto 38 dX4_corrects_69 (by decide) ?_
        have eF : corF x (pw k) (x / pw k % 10) (g + 1) (corN x k) = insV (nI x + (nI g - nI (x / pw k % 10)) * nI (pw k)) (corF x (pw k) (x / pw k % 10) g (corN x k)) := by rw [corF, if_neg h49]
        exact ih (g + 1) V2 C2 (by omega) (by omega) (by rw [eF]; exact hO2) (hX.trans hX2) hE

set_option maxHeartbeats 4000000 in
set_option maxRecDepth 100000 in
/-- a loop of corrects -/
theorem t_corr_out {pre post : List ACell} {τ0 : Tw} (hp : pre.length = 56) {i x : Nat} (hi : i < 20) (hx : x ≤ 99999999) {V0 : Nat → Int64} {C0 : Nat → Int32} {Q : Qfun} : ∀ (fuel : Nat) (k : Nat) (V : Nat → Int64) (C : Nat → Int32), k ≤ 8 → 8 < k + fuel → VO i (corN x k) V C → VX i V0 V C0 C → (∀ V C, VO i (corL x) V C → VX i V0 V C0 C → Q none (TW pre (tA (tB τ0 72 V) 73 C) post)) →
    E cX4_corrects (RX4, none, 7, 1, (0, 0), false, []) Q noX 0 0 20 [some (.ref 56), some (.int (nI i)), some (.int (nI x)), some (.int (nI (pw k))), some (.int (nI k)), none, none] [] (TW pre (tA (tB τ0 72 V) 73 C) post) := by
  intro fuel
  induction fuel with
  | zero => intro k V C hk hf hO hX hQ; exact absurd hf (by omega)
  | succ fuel ih =>
    intro k V C hk hf hO hX hQ
    have hp1 := pw_le7 k
    have hp0 := pw_pos7 k
    have hxp : x / pw k ≤ x := Nat.div_le_self _ _
    have hl := corN_len x k (by omega)
    have hd : x / pw k % 10 < 10 := Nat.mod_lt _ (by decide)
    have hlf := corF_len x (pw k) hd (corN x k) 10 (Nat.le_refl _)
    rw [if_pos hd] at hlf
    have hxq : x / pw k / 10 ≤ x / pw k := Nat.div_le_self _ _
    refine e_iload dX4_corrects_20 rfl ?_
    refine e_bipush 8 dX4_corrects_22 rfl ?_
    refine e_icmp_geN k 8 149 (by omega) (by omega) dX4_corrects_24 (by decide) (fun h24 => ?_) (fun h24 => ?_)
    · refine e_return dX4_corrects_149 rfl (Nat.zero_le _) (Nat.zero_le _) ?_
      have e1 : k = 8 := by omega
      subst e1
      exact hQ V C hO hX
    · refine e_iload_n dX4_corrects_27 2 rfl rfl ?_
      refine e_iload_n dX4_corrects_28 3 rfl rfl ?_
      refine e_idivN x (pw k) (by omega) (by omega) (by omega) dX4_corrects_29 ?_
      refine e_bipush 10 dX4_corrects_30 rfl ?_
      refine e_iremN (x / (pw k)) 10 (by omega) (by omega) (by omega) dX4_corrects_32 ?_
      refine e_istore dX4_corrects_33 (ls_s (ls_s (ls_s (ls_s (ls_1 rfl))))) (Nat.le_of_ble_eq_true rfl) ?_
      refine e_iconst 0 dX4_corrects_35 rfl ?_
      refine e_istore dX4_corrects_36 (ls_s (ls_s (ls_s (ls_s (ls_s (ls_1 rfl)))))) (Nat.le_of_ble_eq_true rfl) ?_
      refine t_corr_in hp hi hx (by omega) 11 0 V C (by omega) (by omega) hO hX (fun V1 C1 hO1 hX1 => ?_)
      refine e_iload dX4_corrects_72 rfl ?_
      refine e_bipush 7 dX4_corrects_74 rfl ?_
      refine e_icmp_geN k 7 91 (by omega) (by omega) dX4_corrects_76 (by decide) (fun h76 => ?_) (fun h76 => ?_)
      · refine e_iload dX4_corrects_91 rfl ?_
        refine e_istore dX4_corrects_93 (ls_s (ls_s (ls_s (ls_s (ls_s (ls_1 rfl)))))) (Nat.le_of_ble_eq_true rfl) ?_
        refine e_iload dX4_corrects_95 rfl ?_
        refine e_iload dX4_corrects_97 rfl ?_
        refine e_icmp_eqN ((x / (pw k)) % 10) ((x / (pw k)) % 10) 127 (by omega) (by omega) dX4_corrects_99 (by decide) (fun h99 => ?_) (fun h99 => ?_)
        · refine e_iload_n dX4_corrects_127 3 rfl rfl ?_
          refine e_iload dX4_corrects_128 rfl ?_
          refine e_bipush 7 dX4_corrects_130 rfl ?_
          refine e_icmp_geN k 7 140 (by omega) (by omega) dX4_corrects_132 (by decide) (fun h132 => ?_) (fun h132 => ?_)
          · refine e_iconst 1 dX4_corrects_140 rfl ?_
            refine e_imulN (pw k) 1 dX4_corrects_141 ?_
            refine e_istore_n dX4_corrects_142 3 rfl (ls_s (ls_s (ls_1 rfl))) (Nat.le_of_ble_eq_true rfl) ?_
            refine e_incN k (k + 1) (inc1 _) dX4_corrects_143 rfl (ls_s (ls_s (ls_s (ls_1 rfl)))) (Nat.le_of_ble_eq_true rfl) ?_
            refine e_goto 20 dX4_corrects_146 (by decide) ?_
            have e7 : (if k < 7 then x / pw k / 10 % 10 else x / pw k % 10) = x / pw k % 10 := if_neg (by omega)
            have eN : corN x (k + 1) = corF x (pw k) (x / pw k % 10) 10 (corN x k) := by rw [corN, e7, corH, if_pos h99]
            rw [Nat.mul_one, ← pw_7 (by omega)]
            refine e_forget (i := 5) (ln_s (ln_s (ln_s (ln_s (ln_s ln_0))))) ?_
            refine e_forget (i := 6) (ln_s (ln_s (ln_s (ln_s (ln_s (ln_s ln_0)))))) ?_
            exact ih (k + 1) V1 C1 (by omega) (by omega) (by rw [eN]; exact hO1) hX1 hQ
          · refine e_bipush 10 dX4_corrects_135 rfl ?_
            refine e_goto 141 dX4_corrects_137 (by decide) ?_
            refine e_imulN (pw k) 10 dX4_corrects_141 ?_
            refine e_istore_n dX4_corrects_142 3 rfl (ls_s (ls_s (ls_1 rfl))) (Nat.le_of_ble_eq_true rfl) ?_
            refine e_incN k (k + 1) (inc1 _) dX4_corrects_143 rfl (ls_s (ls_s (ls_s (ls_1 rfl)))) (Nat.le_of_ble_eq_true rfl) ?_
            refine e_goto 20 dX4_corrects_146 (by decide) ?_
            have e7 : (if k < 7 then x / pw k / 10 % 10 else x / pw k % 10) = x / pw k % 10 := if_neg (by omega)
            have eN : corN x (k + 1) = corF x (pw k) (x / pw k % 10) 10 (corN x k) := by rw [corN, e7, corH, if_pos h99]
            rw [← pw_s (by omega)]
            refine e_forget (i := 5) (ln_s (ln_s (ln_s (ln_s (ln_s ln_0))))) ?_
            refine e_forget (i := 6) (ln_s (ln_s (ln_s (ln_s (ln_s (ln_s ln_0)))))) ?_
            exact ih (k + 1) V1 C1 (by omega) (by omega) (by rw [eN]; exact hO1) hX1 hQ
        · refine e_aload_n dX4_corrects_102 0 rfl rfl rfl ?_
          refine e_iload_n dX4_corrects_103 1 rfl rfl ?_
          refine e_iload_n dX4_corrects_104 2 rfl rfl ?_
          refine e_iload dX4_corrects_105 rfl ?_
          refine e_iload dX4_corrects_107 rfl ?_
          refine e_isub dX4_corrects_109 ?_
          refine e_iload_n dX4_corrects_110 3 rfl rfl ?_
          refine e_imul dX4_corrects_111 ?_
          refine e_iadd dX4_corrects_112 ?_
          refine e_iload dX4_corrects_113 rfl ?_
          refine e_iload dX4_corrects_115 rfl ?_
          refine e_isub dX4_corrects_117 ?_
          refine e_iload_n dX4_corrects_118 3 rfl rfl ?_
          refine e_imul dX4_corrects_119 ?_
          refine e_bipush 10 dX4_corrects_120 rfl ?_
          refine e_imul dX4_corrects_122 ?_
          refine e_iadd dX4_corrects_123 ?_
          refine e_callVQ (As := [.int (nI i), .int (((nI x) + (((nI ((x / (pw k)) % 10)) - (nI ((x / (pw k)) % 10))) * (nI (pw k)))) + ((((nI ((x / (pw k)) % 10)) - (nI ((x / (pw k)) % 10))) * (nI (pw k))) * 10))]) (rest := []) dX4_corrects_124 rfl mvX4_499 (tw_o hp) rfl (t_varies (m := (corF x (pw k) (x / pw k % 10) 10 (corN x k)).1) (f := (corF x (pw k) (x / pw k % 10) 10 (corN x k)).2) hp hi (by omega) (by exact hO1)) (Nat.le_of_ble_eq_true rfl) rfl rfl (Nat.le_of_ble_eq_true rfl) (Nat.zero_le _) (Nat.zero_le _) (fun v0 M0 h0 _ => ?_)
          obtain ⟨V2, C2, rfl, rfl, hO2, hX2⟩ := h0
          replace hO2 : VO i (insV (((nI x) + (((nI ((x / (pw k)) % 10)) - (nI ((x / (pw k)) % 10))) * (nI (pw k)))) + ((((nI ((x / (pw k)) % 10)) - (nI ((x / (pw k)) % 10))) * (nI (pw k))) * 10)) (corF x (pw k) (x / pw k % 10) 10 (corN x k))) V2 C2 := hO2
          refine e_iload_n dX4_corrects_127 3 rfl rfl ?_
          refine e_iload dX4_corrects_128 rfl ?_
          refine e_bipush 7 dX4_corrects_130 rfl ?_
          refine e_icmp_geN k 7 140 (by omega) (by omega) dX4_corrects_132 (by decide) (fun h132 => ?_) (fun h132 => ?_)
          · refine e_iconst 1 dX4_corrects_140 rfl ?_
            refine e_imulN (pw k) 1 dX4_corrects_141 ?_
            refine e_istore_n dX4_corrects_142 3 rfl (ls_s (ls_s (ls_1 rfl))) (Nat.le_of_ble_eq_true rfl) ?_
            refine e_incN k (k + 1) (inc1 _) dX4_corrects_143 rfl (ls_s (ls_s (ls_s (ls_1 rfl)))) (Nat.le_of_ble_eq_true rfl) ?_
            refine e_goto 20 dX4_corrects_146 (by decide) ?_
            have e7 : (if k < 7 then x / pw k / 10 % 10 else x / pw k % 10) = x / pw k % 10 := if_neg (by omega)
            have eN : corN x (k + 1) = insV (nI x + (nI (x / pw k % 10) - nI (x / pw k % 10)) * nI (pw k) + (nI (x / pw k % 10) - nI (x / pw k % 10)) * nI (pw k) * 10) (corF x (pw k) (x / pw k % 10) 10 (corN x k)) := by rw [corN, e7, corH, if_neg h99]
            rw [Nat.mul_one, ← pw_7 (by omega)]
            refine e_forget (i := 5) (ln_s (ln_s (ln_s (ln_s (ln_s ln_0))))) ?_
            refine e_forget (i := 6) (ln_s (ln_s (ln_s (ln_s (ln_s (ln_s ln_0)))))) ?_
            exact ih (k + 1) V2 C2 (by omega) (by omega) (by rw [eN]; exact hO2) (hX1.trans hX2) hQ
          · refine e_bipush 10 dX4_corrects_135 rfl ?_
            refine e_goto 141 dX4_corrects_137 (by decide) ?_
            refine e_imulN (pw k) 10 dX4_corrects_141 ?_
            refine e_istore_n dX4_corrects_142 3 rfl (ls_s (ls_s (ls_1 rfl))) (Nat.le_of_ble_eq_true rfl) ?_
            refine e_incN k (k + 1) (inc1 _) dX4_corrects_143 rfl (ls_s (ls_s (ls_s (ls_1 rfl)))) (Nat.le_of_ble_eq_true rfl) ?_
            refine e_goto 20 dX4_corrects_146 (by decide) ?_
            have e7 : (if k < 7 then x / pw k / 10 % 10 else x / pw k % 10) = x / pw k % 10 := if_neg (by omega)
            have eN : corN x (k + 1) = insV (nI x + (nI (x / pw k % 10) - nI (x / pw k % 10)) * nI (pw k) + (nI (x / pw k % 10) - nI (x / pw k % 10)) * nI (pw k) * 10) (corF x (pw k) (x / pw k % 10) 10 (corN x k)) := by rw [corN, e7, corH, if_neg h99]
            rw [← pw_s (by omega)]
            refine e_forget (i := 5) (ln_s (ln_s (ln_s (ln_s (ln_s ln_0))))) ?_
            refine e_forget (i := 6) (ln_s (ln_s (ln_s (ln_s (ln_s (ln_s ln_0)))))) ?_
            exact ih (k + 1) V2 C2 (by omega) (by omega) (by rw [eN]; exact hO2) (hX1.trans hX2) hQ
      · refine e_iload_n dX4_corrects_79 2 rfl rfl ?_
        refine e_iload_n dX4_corrects_80 3 rfl rfl ?_
        refine e_idivN x (pw k) (by omega) (by omega) (by omega) dX4_corrects_81 ?_
        refine e_bipush 10 dX4_corrects_82 rfl ?_
        refine e_idivN (x / (pw k)) 10 (by omega) (by omega) (by omega) dX4_corrects_84 ?_
        refine e_bipush 10 dX4_corrects_85 rfl ?_
        refine e_iremN ((x / (pw k)) / 10) 10 (by omega) (by omega) (by omega) dX4_corrects_87 ?_
        refine e_goto 93 dX4_corrects_88 (by decide) ?_
        refine e_istore dX4_corrects_93 (ls_s (ls_s (ls_s (ls_s (ls_s (ls_1 rfl)))))) (Nat.le_of_ble_eq_true rfl) ?_
        refine e_iload dX4_corrects_95 rfl ?_
        refine e_iload dX4_corrects_97 rfl ?_
        refine e_icmp_eqN (((x / (pw k)) / 10) % 10) ((x / (pw k)) % 10) 127 (by omega) (by omega) dX4_corrects_99 (by decide) (fun h99 => ?_) (fun h99 => ?_)
        · refine e_iload_n dX4_corrects_127 3 rfl rfl ?_
          refine e_iload dX4_corrects_128 rfl ?_
          refine e_bipush 7 dX4_corrects_130 rfl ?_
          refine e_icmp_geN k 7 140 (by omega) (by omega) dX4_corrects_132 (by decide) (fun h132 => ?_) (fun h132 => ?_)
          · refine e_iconst 1 dX4_corrects_140 rfl ?_
            refine e_imulN (pw k) 1 dX4_corrects_141 ?_
            refine e_istore_n dX4_corrects_142 3 rfl (ls_s (ls_s (ls_1 rfl))) (Nat.le_of_ble_eq_true rfl) ?_
            refine e_incN k (k + 1) (inc1 _) dX4_corrects_143 rfl (ls_s (ls_s (ls_s (ls_1 rfl)))) (Nat.le_of_ble_eq_true rfl) ?_
            refine e_goto 20 dX4_corrects_146 (by decide) ?_
            have e7 : (if k < 7 then x / pw k / 10 % 10 else x / pw k % 10) = x / pw k / 10 % 10 := if_pos (by omega)
            have eN : corN x (k + 1) = corF x (pw k) (x / pw k % 10) 10 (corN x k) := by rw [corN, e7, corH, if_pos h99]
            rw [Nat.mul_one, ← pw_7 (by omega)]
            refine e_forget (i := 5) (ln_s (ln_s (ln_s (ln_s (ln_s ln_0))))) ?_
            refine e_forget (i := 6) (ln_s (ln_s (ln_s (ln_s (ln_s (ln_s ln_0)))))) ?_
            exact ih (k + 1) V1 C1 (by omega) (by omega) (by rw [eN]; exact hO1) hX1 hQ
          · refine e_bipush 10 dX4_corrects_135 rfl ?_
            refine e_goto 141 dX4_corrects_137 (by decide) ?_
            refine e_imulN (pw k) 10 dX4_corrects_141 ?_
            refine e_istore_n dX4_corrects_142 3 rfl (ls_s (ls_s (ls_1 rfl))) (Nat.le_of_ble_eq_true rfl) ?_
            refine e_incN k (k + 1) (inc1 _) dX4_corrects_143 rfl (ls_s (ls_s (ls_s (ls_1 rfl)))) (Nat.le_of_ble_eq_true rfl) ?_
            refine e_goto 20 dX4_corrects_146 (by decide) ?_
            have e7 : (if k < 7 then x / pw k / 10 % 10 else x / pw k % 10) = x / pw k / 10 % 10 := if_pos (by omega)
            have eN : corN x (k + 1) = corF x (pw k) (x / pw k % 10) 10 (corN x k) := by rw [corN, e7, corH, if_pos h99]
            rw [← pw_s (by omega)]
            refine e_forget (i := 5) (ln_s (ln_s (ln_s (ln_s (ln_s ln_0))))) ?_
            refine e_forget (i := 6) (ln_s (ln_s (ln_s (ln_s (ln_s (ln_s ln_0)))))) ?_
            exact ih (k + 1) V1 C1 (by omega) (by omega) (by rw [eN]; exact hO1) hX1 hQ
        · refine e_aload_n dX4_corrects_102 0 rfl rfl rfl ?_
          refine e_iload_n dX4_corrects_103 1 rfl rfl ?_
          refine e_iload_n dX4_corrects_104 2 rfl rfl ?_
          refine e_iload dX4_corrects_105 rfl ?_
          refine e_iload dX4_corrects_107 rfl ?_
          refine e_isub dX4_corrects_109 ?_
          refine e_iload_n dX4_corrects_110 3 rfl rfl ?_
          refine e_imul dX4_corrects_111 ?_
          refine e_iadd dX4_corrects_112 ?_
          refine e_iload dX4_corrects_113 rfl ?_
          refine e_iload dX4_corrects_115 rfl ?_
          refine e_isub dX4_corrects_117 ?_
          refine e_iload_n dX4_corrects_118 3 rfl rfl ?_
          refine e_imul dX4_corrects_119 ?_
          refine e_bipush 10 dX4_corrects_120 rfl ?_
          refine e_imul dX4_corrects_122 ?_
          refine e_iadd dX4_corrects_123 ?_
          refine e_callVQ (As := [.int (nI i), .int (((nI x) + (((nI (((x / (pw k)) / 10) % 10)) - (nI ((x / (pw k)) % 10))) * (nI (pw k)))) + ((((nI ((x / (pw k)) % 10)) - (nI (((x / (pw k)) / 10) % 10))) * (nI (pw k))) * 10))]) (rest := []) dX4_corrects_124 rfl mvX4_499 (tw_o hp) rfl (t_varies (m := (corF x (pw k) (x / pw k % 10) 10 (corN x k)).1) (f := (corF x (pw k) (x / pw k % 10) 10 (corN x k)).2) hp hi (by omega) (by exact hO1)) (Nat.le_of_ble_eq_true rfl) rfl rfl (Nat.le_of_ble_eq_true rfl) (Nat.zero_le _) (Nat.zero_le _) (fun v0 M0 h0 _ => ?_)
          obtain ⟨V2, C2, rfl, rfl, hO2, hX2⟩ := h0
          replace hO2 : VO i (insV (((nI x) + (((nI (((x / (pw k)) / 10) % 10)) - (nI ((x / (pw k)) % 10))) * (nI (pw k)))) + ((((nI ((x / (pw k)) % 10)) - (nI (((x / (pw k)) / 10) % 10))) * (nI (pw k))) * 10)) (corF x (pw k) (x / pw k % 10) 10 (corN x k))) V2 C2 := hO2
          refine e_iload_n dX4_corrects_127 3 rfl rfl ?_
          refine e_iload dX4_corrects_128 rfl ?_
          refine e_bipush 7 dX4_corrects_130 rfl ?_
          refine e_icmp_geN k 7 140 (by omega) (by omega) dX4_corrects_132 (by decide) (fun h132 => ?_) (fun h132 => ?_)
          · refine e_iconst 1 dX4_corrects_140 rfl ?_
            refine e_imulN (pw k) 1 dX4_corrects_141 ?_
            refine e_istore_n dX4_corrects_142 3 rfl (ls_s (ls_s (ls_1 rfl))) (Nat.le_of_ble_eq_true rfl) ?_
            refine e_incN k (k + 1) (inc1 _) dX4_corrects_143 rfl (ls_s (ls_s (ls_s (ls_1 rfl)))) (Nat.le_of_ble_eq_true rfl) ?_
            refine e_goto 20 dX4_corrects_146 (by decide) ?_
            have e7 : (if k < 7 then x / pw k / 10 % 10 else x / pw k % 10) = x / pw k / 10 % 10 := if_pos (by omega)
            have eN : corN x (k + 1) = insV (nI x + (nI (x / pw k / 10 % 10) - nI (x / pw k % 10)) * nI (pw k) + (nI (x / pw k % 10) - nI (x / pw k / 10 % 10)) * nI (pw k) * 10) (corF x (pw k) (x / pw k % 10) 10 (corN x k)) := by rw [corN, e7, corH, if_neg h99]
            rw [Nat.mul_one, ← pw_7 (by omega)]
            refine e_forget (i := 5) (ln_s (ln_s (ln_s (ln_s (ln_s ln_0))))) ?_
            refine e_forget (i := 6) (ln_s (ln_s (ln_s (ln_s (ln_s (ln_s ln_0)))))) ?_
            exact ih (k + 1) V2 C2 (by omega) (by omega) (by rw [eN]; exact hO2) (hX1.trans hX2) hQ
          · refine e_bipush 10 dX4_corrects_135 rfl ?_
            refine e_goto 141 dX4_corrects_137 (by decide) ?_
            refine e_imulN (pw k) 10 dX4_corrects_141 ?_
            refine e_istore_n dX4_corrects_142 3 rfl (ls_s (ls_s (ls_1 rfl))) (Nat.le_of_ble_eq_true rfl) ?_
            refine e_incN k (k + 1) (inc1 _) dX4_corrects_143 rfl (ls_s (ls_s (ls_s (ls_1 rfl)))) (Nat.le_of_ble_eq_true rfl) ?_
            refine e_goto 20 dX4_corrects_146 (by decide) ?_
            have e7 : (if k < 7 then x / pw k / 10 % 10 else x / pw k % 10) = x / pw k / 10 % 10 := if_pos (by omega)
            have eN : corN x (k + 1) = insV (nI x + (nI (x / pw k / 10 % 10) - nI (x / pw k % 10)) * nI (pw k) + (nI (x / pw k % 10) - nI (x / pw k / 10 % 10)) * nI (pw k) * 10) (corF x (pw k) (x / pw k % 10) 10 (corN x k)) := by rw [corN, e7, corH, if_neg h99]
            rw [← pw_s (by omega)]
            refine e_forget (i := 5) (ln_s (ln_s (ln_s (ln_s (ln_s ln_0))))) ?_
            refine e_forget (i := 6) (ln_s (ln_s (ln_s (ln_s (ln_s (ln_s ln_0)))))) ?_
            exact ih (k + 1) V2 C2 (by omega) (by omega) (by rw [eN]; exact hO2) (hX1.trans hX2) hQ

set_option maxHeartbeats 4000000 in
set_option maxRecDepth 100000 in
/-- WheelTablesModel.corrects -/
theorem t_corrects {pre post : List ACell} {τ0 : Tw} (hp : pre.length = 56) {i x : Nat} (hi : i < 20) (hx : x ≤ 99999999) {V : Nat → Int64} {C : Nat → Int32} (hT : (τ0.2.2.2 70 i).toInt32 = nI x) : Ct yX4_corrects (ws_ yX4_corrects cX4_corrects 7 none) 1 0 0 [.ref 56, .int (nI i)] (TW pre (tA (tB τ0 72 V) 73 C) post) (fun v0 N => ∃ V2 C2, N = TW pre (tA (tB τ0 72 V2) 73 C2) post ∧ v0 = none ∧ VO i (corL x) V2 C2 ∧ VX i V V2 C C2) noX := by
  refine Ct.of (ini := false) (ls := [some (.ref 56), some (.int (nI i)), none, none, none, none, none]) (by decide) (Nat.le_of_ble_eq_true rfl) (fun h => by cases h) rfl ?_
  refine e_aload_n dX4_corrects_0 0 rfl rfl rfl ?_
  refine e_getf (v := .ref 95) dX4_corrects_1 rfl fX4_146 (tw_o hp) rfl ?_
  refine e_iload_n dX4_corrects_4 1 rfl rfl ?_
  refine e_lald (f := τ0.2.2.2 70) (j := i) dX4_corrects_5 (tw_a70 hp) rfl (by omega) (by decide) ?_
  refine e_l2i dX4_corrects_6 ?_
  refine e_top (congrArg Value.int hT) ?_
  refine e_istore_n dX4_corrects_7 2 rfl (ls_s (ls_1 rfl)) (Nat.le_of_ble_eq_true rfl) ?_
  refine e_aload_n dX4_corrects_8 0 rfl rfl rfl ?_
  refine e_getf (v := .ref 98) dX4_corrects_9 rfl fX4_155 (tw_o hp) rfl ?_
  refine e_iload_n dX4_corrects_12 1 rfl rfl ?_
  refine e_iconst 0 dX4_corrects_13 rfl ?_
  refine e_iast (f := C) (j := i) dX4_corrects_14 (tw_a73 hp) rfl (by omega) (by decide) ?_
  rw [tw_s73 hp]
  refine e_iconst 1 dX4_corrects_15 rfl ?_
  refine e_istore_n dX4_corrects_16 3 rfl (ls_s (ls_s (ls_1 rfl))) (Nat.le_of_ble_eq_true rfl) ?_
  refine e_iconst 0 dX4_corrects_17 rfl ?_
  refine e_istore dX4_corrects_18 (ls_s (ls_s (ls_s (ls_1 rfl)))) (Nat.le_of_ble_eq_true rfl) ?_
  rw [tAB_A]
  exact t_corr_out (V0 := V) (C0 := upd C i 0) hp hi hx 9 0 V (upd C i 0) (by omega) (by omega) ⟨pk_us .., fun q hq => absurd hq (Nat.not_lt_zero q)⟩ VX.rf (fun V2 C2 h1 h2 => ⟨V2, C2, rfl, rfl, h1, h2.1, fun z hz => (h2.2 z hz).trans (pk_un hz)⟩)

