/-! ===== the twin: errata (4) ===== -/
set_option maxHeartbeats 4000000 in
set_option maxRecDepth 100000 in
/-- a loop of errata -/
theorem t_errA {pre post : List ACell} {τ : Tw} (hp : pre.length = 56) {y n k : Nat} {b : Int32} (hy : y < 4) (hn : n ≤ 20) {Q : Qfun} : ∀ (fuel : Nat) (q : Nat), q ≤ n → n < q + fuel → allB (fun q => decide (0 ≤ τ.2.2.2 4 (60 * y + q) ∧ τ.2.2.2 4 (60 * y + q) ≤ 99999999)) q = true → (¬ spEight y n τ = true → Q (some (.int (-1))) (TW pre (tI τ 0 5) post)) → (spEight y n τ = true → E cX4_errata (RX4, (some .int), 8, 4, (0, 0), false, []) Q noX 0 0 127 [some (.ref 56), some (.int (nI y)), some (.int (nI n)), some (.int (nI k)), some (.int b), none, none, none] [] (TW pre τ post)) →
    E cX4_errata (RX4, (some .int), 8, 4, (0, 0), false, []) Q noX 0 0 92 [some (.ref 56), some (.int (nI y)), some (.int (nI n)), some (.int (nI k)), some (.int b), some (.int (nI q)), none, none] [] (TW pre τ post) := by
  intro fuel
  induction fuel with
  | zero => intro q hq hf hb hR hE; exact absurd hf (by omega)
  | succ fuel ih =>
    intro q hq hf hb hR hE
    refine e_iload dX4_errata_92 rfl ?_
    refine e_iload_n dX4_errata_94 2 rfl rfl ?_
    refine e_icmp_geN q n 127 (by omega) (by omega) dX4_errata_95 (by decide) (fun h95 => ?_) (fun h95 => ?_)
    · refine e_forget (i := 5) (ln_s (ln_s (ln_s (ln_s (ln_s ln_0))))) ?_
      have e1 : q = n := by omega
      subst e1
      exact hE hb
    · refine e_aload_n dX4_errata_98 0 rfl rfl rfl ?_
      refine e_iload_n dX4_errata_99 1 rfl rfl ?_
      refine e_iload dX4_errata_100 rfl ?_
      refine e_callV1 (As := [.int (nI y), .int (nI q)]) (rest := []) dX4_errata_102 rfl mvX4_255 (tw_o hp) rfl (t_numberOf hp y q (by omega) (by omega)) (Nat.le_of_ble_eq_true rfl) rfl rfl (Nat.le_of_ble_eq_true rfl) (Nat.zero_le _) (Nat.zero_le _) ?_
      refine e_lconst 0 dX4_errata_105 rfl ?_
      refine e_ldc2 rfl q1720 dX4_errata_106 ?_
      refine e_callSB (As := [.long (τ.2.2.2 4 (60 * y + q)), .long 0, .long 99999999]) (rest := []) dX4_errata_109 rfl msX4_239 (t_isIn (τ.2.2.2 4 (60 * y + q)) 0 99999999) (Nat.le_of_ble_eq_true rfl) rfl rfl (Nat.le_of_ble_eq_true rfl) (Nat.zero_le _) (Nat.zero_le _) (fun h109 => ?_) (fun h109 => ?_)
      · have h109 : (0 ≤ (τ.2.2.2 4 (60 * y + q)) ∧ (τ.2.2.2 4 (60 * y + q)) ≤ 99999999) := h109
        refine e_if_ne_t 121 (by decide) dX4_errata_112 (by decide) ?_
        refine e_incN q (q + 1) (inc1 _) dX4_errata_121 rfl (ls_s (ls_s (ls_s (ls_s (ls_1 rfl))))) (Nat.le_of_ble_eq_true rfl) ?_
        refine e_goto 92 dX4_errata_124 (by decide) ?_
        exact ih (q + 1) (by omega) (by omega) (by rw [allB, hb, Bool.true_and]; exact decide_eq_true h109) hR hE
      · have h109 : ¬ (0 ≤ (τ.2.2.2 4 (60 * y + q)) ∧ (τ.2.2.2 4 (60 * y + q)) ≤ 99999999) := h109
        refine e_if_ne_f (by decide) 121 dX4_errata_112 (by decide) ?_
        refine e_aload_n dX4_errata_115 0 rfl rfl rfl ?_
        refine e_iconst 5 dX4_errata_116 rfl ?_
        refine e_callV1 (As := [.int 5]) (rest := []) dX4_errata_117 rfl mvX4_252 (tw_o hp) rfl (t_refuse hp 5) (Nat.le_of_ble_eq_true rfl) rfl rfl (Nat.le_of_ble_eq_true rfl) (Nat.zero_le _) (Nat.zero_le _) ?_
        refine e_ireturn dX4_errata_120 rfl rfl (Nat.zero_le _) (Nat.zero_le _) ?_
        refine hR (fun z => ?_)
        have := (allB_iff.mp z) q (by omega)
        exact h109 (of_decide_eq_true this)

set_option maxHeartbeats 4000000 in
set_option maxRecDepth 100000 in
/-- a loop of errata -/
theorem t_errB {pre post : List ACell} {τ0 : Tw} (hp : pre.length = 56) {y n k : Nat} {b : Int32} (hy : y < 4) (hn : n ≤ 20) {Q : Qfun} : ∀ (fuel : Nat) (q : Nat) (w : Nat → Int64), q ≤ n → n < q + fuel → w = (rngL (τ0.2.2.2 70) 0 q (fun q => τ0.2.2.2 4 (60 * y + q))) → E cX4_errata (RX4, (some .int), 8, 4, (0, 0), false, []) Q noX 0 0 156 [some (.ref 56), some (.int (nI y)), some (.int (nI n)), some (.int (nI k)), some (.int b), none, none, none] [] (TW pre (tB τ0 70 (rngL (τ0.2.2.2 70) 0 n (fun q => τ0.2.2.2 4 (60 * y + q)))) post) →
    E cX4_errata (RX4, (some .int), 8, 4, (0, 0), false, []) Q noX 0 0 130 [some (.ref 56), some (.int (nI y)), some (.int (nI n)), some (.int (nI k)), some (.int b), some (.int (nI q)), none, none] [] (TW pre (tB τ0 70 w) post) := by
  intro fuel
  induction fuel with
  | zero => intro q w hq hf hw hE; exact absurd hf (by omega)
  | succ fuel ih =>
    intro q w hq hf hw hE
    refine e_iload dX4_errata_130 rfl ?_
    refine e_iload_n dX4_errata_132 2 rfl rfl ?_
    refine e_icmp_geN q n 156 (by omega) (by omega) dX4_errata_133 (by decide) (fun h133 => ?_) (fun h133 => ?_)
    · refine e_forget (i := 5) (ln_s (ln_s (ln_s (ln_s (ln_s ln_0))))) ?_
      have e1 : q = n := by omega
      subst e1
      rw [← hw] at hE
      exact hE
    · refine e_aload_n dX4_errata_136 0 rfl rfl rfl ?_
      refine e_getf (v := .ref 95) dX4_errata_137 rfl fX4_146 (tw_o hp) rfl ?_
      refine e_iload dX4_errata_140 rfl ?_
      refine e_aload_n dX4_errata_142 0 rfl rfl rfl ?_
      refine e_iload_n dX4_errata_143 1 rfl rfl ?_
      refine e_iload dX4_errata_144 rfl ?_
      refine e_callV1 (As := [.int (nI y), .int (nI q)]) (rest := [.int (nI q), .ref 95]) dX4_errata_146 rfl mvX4_255 (tw_o hp) rfl (t_numberOf hp y q (by omega) (by omega)) (Nat.le_of_ble_eq_true rfl) rfl rfl (Nat.le_of_ble_eq_true rfl) (Nat.zero_le _) (Nat.zero_le _) ?_
      refine e_last (f := w) (j := q) dX4_errata_149 (tw_a70 hp) rfl (by omega) (by decide) ?_
      rw [tw_s70 hp]
      refine e_incN q (q + 1) (inc1 _) dX4_errata_150 rfl (ls_s (ls_s (ls_s (ls_s (ls_1 rfl))))) (Nat.le_of_ble_eq_true rfl) ?_
      refine e_goto 130 dX4_errata_153 (by decide) ?_
      rw [tB_tB]
      refine ih (q + 1) _ (by omega) (by omega) ?_ hE
      rw [hw, ← rngL_s, Nat.zero_add]
      rfl

set_option maxHeartbeats 4000000 in
set_option maxRecDepth 100000 in
/-- a loop of errata -/
theorem t_errC {pre post : List ACell} {τ0 : Tw} (hp : pre.length = 56) {y n k : Nat} {b : Int32} (hy : y < 4) (hn : n ≤ 20) {xs : Nat → Nat} (hxs : ∀ q, q < n → xs q ≤ 99999999 ∧ (τ0.2.2.2 70 q).toInt32 = nI (xs q)) {Q : Qfun} : ∀ (fuel : Nat) (q : Nat) (V : Nat → Int64) (C : Nat → Int32), q ≤ n → n < q + fuel → (∀ z, z < q → VO z (corL (xs z)) V C) → (∀ V C, (∀ z, z < n → VO z (corL (xs z)) V C) → E cX4_errata (RX4, (some .int), 8, 4, (0, 0), false, []) Q noX 0 0 177 [some (.ref 56), some (.int (nI y)), some (.int (nI n)), some (.int (nI k)), some (.int b), none, none, none] [] (TW pre (tA (tB τ0 72 V) 73 C) post)) →
    E cX4_errata (RX4, (some .int), 8, 4, (0, 0), false, []) Q noX 0 0 159 [some (.ref 56), some (.int (nI y)), some (.int (nI n)), some (.int (nI k)), some (.int b), some (.int (nI q)), none, none] [] (TW pre (tA (tB τ0 72 V) 73 C) post) := by
  intro fuel
  induction fuel with
  | zero => intro q V C hq hf hV hE; exact absurd hf (by omega)
  | succ fuel ih =>
    intro q V C hq hf hV hE
    refine e_iload dX4_errata_159 rfl ?_
    refine e_iload_n dX4_errata_161 2 rfl rfl ?_
    refine e_icmp_geN q n 177 (by omega) (by omega) dX4_errata_162 (by decide) (fun h162 => ?_) (fun h162 => ?_)
    · refine e_forget (i := 5) (ln_s (ln_s (ln_s (ln_s (ln_s ln_0))))) ?_
      have e1 : q = n := by omega
      subst e1
      exact hE V C hV
    · refine e_aload_n dX4_errata_165 0 rfl rfl rfl ?_
      refine e_iload dX4_errata_166 rfl ?_
      refine e_callVQ (As := [.int (nI q)]) (rest := []) dX4_errata_168 rfl mvX4_511 (tw_o hp) rfl (t_corrects (τ0 := τ0) hp (show q < 20 by omega) (hxs q (by omega)).1 (hxs q (by omega)).2) (Nat.le_of_ble_eq_true rfl) rfl rfl (Nat.le_of_ble_eq_true rfl) (Nat.zero_le _) (Nat.zero_le _) (fun v0 M0 h0 _ => ?_)
      obtain ⟨V2, C2, rfl, rfl, hO2, hX2⟩ := h0
      refine e_incN q (q + 1) (inc1 _) dX4_errata_171 rfl (ls_s (ls_s (ls_s (ls_s (ls_1 rfl))))) (Nat.le_of_ble_eq_true rfl) ?_
      refine e_goto 159 dX4_errata_174 (by decide) ?_
      refine ih (q + 1) V2 C2 (by omega) (by omega) (fun z hz => ?_) hE
      by_cases ez : z = q
      · rw [ez]; exact hO2
      · have hO := hV z (by omega)
        have hlm := rgM_le xs z
        unfold rgM at hlm
        exact ⟨(hX2.2 z ez).trans hO.1, fun r hr => (hX2.1 _ (by omega)).trans (hO.2 r hr)⟩

theorem xs_ok {v : Int64} (h0 : 0 ≤ v) (h1 : v ≤ 99999999) : ix v.toInt32 ≤ 99999999 ∧ v.toInt32 = nI (ix v.toInt32) := by
  rw [Int64.le_iff_toInt_le] at h0 h1
  have e0 : (0 : Int64).toInt = 0 := rfl
  have e1 : (99999999 : Int64).toInt = 99999999 := rfl
  rw [e0] at h0
  rw [e1] at h1
  have e2 : v.toInt32.toInt = v.toInt := by
    rw [Int64.toInt_toInt32]
    exact Int.bmod_eq_of_le (by omega) (by omega)
  obtain ⟨n, hn, e3⟩ := nI_of (x := v.toInt32) (by rw [Int32.lt_iff_toInt_lt, e2]; show ¬ v.toInt < 0; omega)
  rw [e3, ix_nI hn]
  rw [e3, nI_toInt hn] at e2
  exact ⟨by omega, rfl⟩
