/-! ===== the twin: turns of an engine ===== -/
theorem EnF.sx {a b c d : List Nat} {τ' τ : Tw} {e A W M : Nat} {rd : Nat → Nat} (h : EnF τ e A W M rd) (hS : Sx a b c d τ' τ) (h6 : 6 ∉ c) (h7 : 7 ∉ c) (h12 : 12 ∉ c) (h9 : 9 ∉ c) : EnF τ' e A W M rd := by
  unfold EnF at h ⊢
  rw [hS.2.2.1 6 h6, hS.2.2.1 7 h7, hS.2.2.1 12 h12, hS.2.2.1 9 h9]
  exact h
theorem mhN_sx {c : List Nat} {τ' τ : Tw} (hS : Sx [] [] c [] τ' τ) (h12 : 12 ∉ c) (h13 : 13 ∉ c) (h14 : 14 ∉ c) (h15 : 15 ∉ c) (h16 : 16 ∉ c) (e : Nat) (t : Int32) (tr : Bool) : mhN τ' e t tr = mhN τ e t tr :=
  mhN_cg (hS.2.2.1 12 h12) (hS.2.2.1 13 h13) (hS.2.2.1 14 h14) (hS.2.2.1 15 h15) (hS.2.2.1 16 h16) (hS.1 18 (by simp)) (hS.1 19 (by simp)) (hS.1 20 (by simp)) (hS.1 21 (by simp)) e t tr
/-- the slips, axes below a and wheels below k of the axis a done -/
def slP (A W : Nat) (rd : Nat → Nat) (cnt : Nat → Nat → Nat → Nat) (G : Mx) (a k : Nat) : Mx := fun b w => if ((b < a ∧ b + 1 < A) ∨ (b = a ∧ w < k)) ∧ w < W then decN (rd w) (G b w) (cnt b w 0) else G b w
theorem slP_s {A W : Nat} {rd : Nat → Nat} {cnt : Nat → Nat → Nat → Nat} {G : Mx} {a k : Nat} (hk : k < W) : slP A W rd cnt G a (k + 1) = upM (slP A W rd cnt G a k) a k (decN (rd k) (slP A W rd cnt G a k a k) (cnt a k 0)) := by
  funext b w
  have e1 : slP A W rd cnt G a k a k = G a k := by unfold slP; rw [if_neg (by omega)]
  rw [e1]
  unfold upM slP
  by_cases h : b = a ∧ w = k
  · obtain ⟨rfl, rfl⟩ := h
    rw [if_pos ⟨Or.inr ⟨rfl, by omega⟩, hk⟩, if_pos ⟨rfl, rfl⟩]
  · rw [if_neg h]
    by_cases h2 : ((b < a ∧ b + 1 < A) ∨ (b = a ∧ w < k)) ∧ w < W
    · rw [if_pos h2, if_pos ⟨by omega, h2.2⟩]
    · rw [if_neg h2, if_neg (fun z => h2 ⟨by omega, z.2⟩)]
theorem slP_r {A W : Nat} {rd : Nat → Nat} {cnt : Nat → Nat → Nat → Nat} {G : Mx} {a : Nat} (ha : a + 1 < A) : slP A W rd cnt G (a + 1) 0 = slP A W rd cnt G a W := by
  funext b w
  unfold slP
  by_cases h2 : ((b < a ∧ b + 1 < A) ∨ (b = a ∧ w < W)) ∧ w < W
  · rw [if_pos h2, if_pos ⟨by omega, h2.2⟩]
  · rw [if_neg h2, if_neg (fun z => h2 ⟨by omega, z.2⟩)]
theorem slP_0 {A W : Nat} {rd : Nat → Nat} {cnt : Nat → Nat → Nat → Nat} {G : Mx} : slP A W rd cnt G 0 0 = G := by
  funext b w; unfold slP; rw [if_neg (by omega)]
theorem slP_e {A W : Nat} {rd : Nat → Nat} {cnt : Nat → Nat → Nat → Nat} {G : Mx} (hA : 1 ≤ A) : slP A W rd cnt G (A - 1) 0 = slF A W rd cnt G := by
  funext b w
  unfold slP slF
  by_cases h2 : b + 1 < A ∧ w < W
  · rw [if_pos h2, if_pos ⟨by omega, h2.2⟩]
  · rw [if_neg h2, if_neg (fun z => h2 ⟨by omega, z.2⟩)]
theorem slP_ok {A W : Nat} {rd : Nat → Nat} {cnt : Nat → Nat → Nat → Nat} {G : Mx} (hr : Rds W rd) (h : Bnd A W rd G) (a k : Nat) : Bnd A W rd (slP A W rd cnt G a k) := by
  intro b hb i hi
  unfold slP
  split
  · exact decN_ok (by have := hr i hi; omega) (h b hb i hi) _
  · exact h b hb i hi
set_option maxHeartbeats 4000000 in
set_option maxRecDepth 100000 in
/-- WheelTablesModel.adds -/
theorem t_adds {pre post : List ACell} {τ : Tw} (hp : pre.length = 56) {a0 : Nat → Int32} {e A W M : Nat} {rd : Nat → Nat} {cnt : Nat → Nat → Nat → Nat} {t : Int32} {tr : Bool} {F : Mx} {x : Nat} (hx1 : 1 ≤ x) (hx : x < A) (hB : Bnd A W rd F) (hN : EnF τ e A W M rd) (hcn : mhN τ e t tr = cnt) (hfig : τ.2.2.1 10 = fgUp a0 e A W F) : Ct yX4_adds (ws_ yX4_adds cX4_adds 9 none) 2 0 0 [.ref 56, .int (nI e), .int (nI x), .int t, .int (bI tr)] (TW pre τ post) (fun v0 N0 => ∃ τ1, N0 = TW pre τ1 post ∧ v0 = none ∧ Sx [] [] [10, 17] [] τ1 τ ∧ τ1.2.2.1 10 = fgUp a0 e A W (addX W rd cnt x F)) noX := by
  obtain ⟨he, hA, hA2, hW1, hW, eA, eW, hM, eM, hrd, hr⟩ := id hN
  refine Ct.of (ini := false) (ls := [some (.ref 56), some (.int (nI e)), some (.int (nI x)), some (.int t), some (.int (bI tr)), none, none, none, none]) (by decide) (Nat.le_of_ble_eq_true rfl) (fun h => by cases h) rfl ?_
  refine e_iconst 0 dX4_adds_0 rfl ?_
  refine e_istore dX4_adds_1 (ls_s (ls_s (ls_s (ls_s (ls_1 rfl))))) (Nat.le_of_ble_eq_true rfl) ?_
  refine t_adds1 (τ0 := τ) hp hx1 hx hB (W + 1) 0 τ (by omega) (by omega) Sx.rf hN hcn hfig (fun i hi => absurd hi (by omega)) (fun τ1 hS1 hN1 hc1 hf1 hw1 => ?_)
  refine e_iconst 0 dX4_adds_127 rfl ?_
  refine e_istore dX4_adds_128 (ls_s (ls_s (ls_s (ls_s (ls_1 rfl))))) (Nat.le_of_ble_eq_true rfl) ?_
  exact t_adds2 (τ0 := τ) hp hx1 hx hB (W + 1) 0 τ1 (by omega) (by omega) hS1 hN1 hc1 hf1 hw1 (fun τ2 hS2 hf2 => ⟨τ2, rfl, rfl, hS2, hf2⟩)

set_option maxHeartbeats 4000000 in
set_option maxRecDepth 100000 in
/-- a loop of turnOne -/
theorem t_to1 {pre post : List ACell} {τ0 : Tw} (hp : pre.length = 56) {a0 : Nat → Int32} {e A W M : Nat} {rd : Nat → Nat} {cnt : Nat → Nat → Nat → Nat} {t : Int32} {tr : Bool} {F : Mx} (hB : Bnd A W rd F) {Q : Qfun} : ∀ (fuel : Nat) (j : Nat) (τ : Tw), 2 * j ≤ A → A < 2 * j + 2 * fuel → Sx [] [] [10, 17] [] τ τ0 → EnF τ e A W M rd → mhN τ e t tr = cnt → τ.2.2.1 10 = fgUp a0 e A W (adL W rd cnt 1 F j) → (∀ τ : Tw, Sx [] [] [10, 17] [] τ τ0 → EnF τ e A W M rd → mhN τ e t tr = cnt → τ.2.2.1 10 = fgUp a0 e A W (adL W rd cnt 1 F (A / 2)) → E cX4_turnOne (RX4, none, 9, 3, (0, 0), false, []) Q noX 0 0 29 [some (.ref 56), some (.int (nI e)), some (.int t), some (.int (bI tr)), none, none, none, none, none] [] (TW pre τ post)) →
    E cX4_turnOne (RX4, none, 9, 3, (0, 0), false, []) Q noX 0 0 3 [some (.ref 56), some (.int (nI e)), some (.int t), some (.int (bI tr)), some (.int (nI (1 + 2 * j))), none, none, none, none] [] (TW pre τ post) := by
  intro fuel
  induction fuel with
  | zero => intro j τ hj hf hS hN hcn hfig hE; exact absurd hf (by omega)
  | succ fuel ih =>
    intro j τ hj hf hS hN hcn hfig hE
    obtain ⟨he, hA, hA2, hW1, hW, eA, eW, hM, eM, hrd, hr⟩ := id hN
    refine e_iload dX4_turnOne_3 rfl ?_
    refine e_aload_n dX4_turnOne_5 0 rfl rfl rfl ?_
    refine e_getf (v := .ref 60) dX4_turnOne_6 rfl fX4_20 (tw_o hp) rfl ?_
    refine e_iload_n dX4_turnOne_9 1 rfl rfl ?_
    refine e_iald (f := τ.2.2.1 6) (j := e) dX4_turnOne_10 (tw_a6 hp) rfl (by omega) (by decide) ?_
    refine e_top (congrArg Value.int eA) ?_
    refine e_icmp_geN (1 + 2 * j) A 29 (by omega) (by omega) dX4_turnOne_11 (by decide) (fun h11 => ?_) (fun h11 => ?_)
    · refine e_forget (i := 4) (ln_s (ln_s (ln_s (ln_s ln_0)))) ?_
      have ej : A / 2 = j := by omega
      rw [← ej] at hfig
      exact hE τ hS hN hcn hfig
    · refine e_aload_n dX4_turnOne_14 0 rfl rfl rfl ?_
      refine e_iload_n dX4_turnOne_15 1 rfl rfl ?_
      refine e_iload dX4_turnOne_16 rfl ?_
      refine e_iload_n dX4_turnOne_18 2 rfl rfl ?_
      refine e_iload_n dX4_turnOne_19 3 rfl rfl ?_
      refine e_callVQ (As := [.int (nI e), .int (nI (1 + 2 * j)), .int t, .int (bI tr)]) (rest := []) dX4_turnOne_20 rfl mvX4_303 (tw_o hp) rfl (t_adds hp (by omega) (by omega) (adL_ok hW1 hrd hB j) hN hcn hfig) (Nat.le_of_ble_eq_true rfl) rfl rfl (Nat.le_of_ble_eq_true rfl) (Nat.zero_le _) (Nat.zero_le _) (fun v0 M0 h0 _ => ?_)
      obtain ⟨τ1, rfl, rfl, hS1, hf1⟩ := h0
      refine e_incN (1 + 2 * j) (1 + 2 * j + 2) (nI_add _ 2) dX4_turnOne_23 rfl (ls_s (ls_s (ls_s (ls_1 rfl)))) (Nat.le_of_ble_eq_true rfl) ?_
      refine e_goto 3 dX4_turnOne_26 (by decide) ?_
      rw [show 1 + 2 * j + 2 = 1 + 2 * (j + 1) by omega]
      exact ih (j + 1) τ1 (by omega) (by omega) (hS1.trans hS) (EnF.sx hN hS1 (by decide) (by decide) (by decide) (by decide)) ((mhN_sx hS1 (by decide) (by decide) (by decide) (by decide) (by decide) e t tr).trans hcn) hf1 hE

set_option maxHeartbeats 4000000 in
set_option maxRecDepth 100000 in
/-- a loop of turnOne -/
theorem t_to2 {pre post : List ACell} {τ0 : Tw} (hp : pre.length = 56) {a0 : Nat → Int32} {e A W M : Nat} {rd : Nat → Nat} {cnt : Nat → Nat → Nat → Nat} {t : Int32} {tr : Bool} {F : Mx} (hB : Bnd A W rd F) {Q : Qfun} : ∀ (fuel : Nat) (j : Nat) (τ : Tw), 1 + 2 * j ≤ A → A < 2 * j + 2 * fuel → Sx [] [] [10, 17] [] τ τ0 → EnF τ e A W M rd → mhN τ e t tr = cnt → τ.2.2.1 10 = fgUp a0 e A W (adL W rd cnt 2 F j) → (∀ τ : Tw, Sx [] [] [10, 17] [] τ τ0 → EnF τ e A W M rd → mhN τ e t tr = cnt → τ.2.2.1 10 = fgUp a0 e A W (adL W rd cnt 2 F ((A - 1) / 2)) → E cX4_turnOne (RX4, none, 9, 3, (0, 0), false, []) Q noX 0 0 58 [some (.ref 56), some (.int (nI e)), some (.int t), some (.int (bI tr)), none, none, none, none, none] [] (TW pre τ post)) →
    E cX4_turnOne (RX4, none, 9, 3, (0, 0), false, []) Q noX 0 0 32 [some (.ref 56), some (.int (nI e)), some (.int t), some (.int (bI tr)), some (.int (nI (2 + 2 * j))), none, none, none, none] [] (TW pre τ post) := by
  intro fuel
  induction fuel with
  | zero => intro j τ hj hf hS hN hcn hfig hE; exact absurd hf (by omega)
  | succ fuel ih =>
    intro j τ hj hf hS hN hcn hfig hE
    obtain ⟨he, hA, hA2, hW1, hW, eA, eW, hM, eM, hrd, hr⟩ := id hN
    refine e_iload dX4_turnOne_32 rfl ?_
    refine e_aload_n dX4_turnOne_34 0 rfl rfl rfl ?_
    refine e_getf (v := .ref 60) dX4_turnOne_35 rfl fX4_20 (tw_o hp) rfl ?_
    refine e_iload_n dX4_turnOne_38 1 rfl rfl ?_
    refine e_iald (f := τ.2.2.1 6) (j := e) dX4_turnOne_39 (tw_a6 hp) rfl (by omega) (by decide) ?_
    refine e_top (congrArg Value.int eA) ?_
    refine e_icmp_geN (2 + 2 * j) A 58 (by omega) (by omega) dX4_turnOne_40 (by decide) (fun h40 => ?_) (fun h40 => ?_)
    · refine e_forget (i := 4) (ln_s (ln_s (ln_s (ln_s ln_0)))) ?_
      have ej : (A - 1) / 2 = j := by omega
      rw [← ej] at hfig
      exact hE τ hS hN hcn hfig
    · refine e_aload_n dX4_turnOne_43 0 rfl rfl rfl ?_
      refine e_iload_n dX4_turnOne_44 1 rfl rfl ?_
      refine e_iload dX4_turnOne_45 rfl ?_
      refine e_iload_n dX4_turnOne_47 2 rfl rfl ?_
      refine e_iload_n dX4_turnOne_48 3 rfl rfl ?_
      refine e_callVQ (As := [.int (nI e), .int (nI (2 + 2 * j)), .int t, .int (bI tr)]) (rest := []) dX4_turnOne_49 rfl mvX4_303 (tw_o hp) rfl (t_adds hp (by omega) (by omega) (adL_ok hW1 hrd hB j) hN hcn hfig) (Nat.le_of_ble_eq_true rfl) rfl rfl (Nat.le_of_ble_eq_true rfl) (Nat.zero_le _) (Nat.zero_le _) (fun v0 M0 h0 _ => ?_)
      obtain ⟨τ1, rfl, rfl, hS1, hf1⟩ := h0
      refine e_incN (2 + 2 * j) (2 + 2 * j + 2) (nI_add _ 2) dX4_turnOne_52 rfl (ls_s (ls_s (ls_s (ls_1 rfl)))) (Nat.le_of_ble_eq_true rfl) ?_
      refine e_goto 32 dX4_turnOne_55 (by decide) ?_
      rw [show 2 + 2 * j + 2 = 2 + 2 * (j + 1) by omega]
      exact ih (j + 1) τ1 (by omega) (by omega) (hS1.trans hS) (EnF.sx hN hS1 (by decide) (by decide) (by decide) (by decide)) ((mhN_sx hS1 (by decide) (by decide) (by decide) (by decide) (by decide) e t tr).trans hcn) hf1 hE

set_option maxHeartbeats 4000000 in
set_option maxRecDepth 100000 in
/-- a loop of turnOne -/
theorem t_to5 {pre post : List ACell} {τ0 : Tw} (hp : pre.length = 56) {a0 : Nat → Int32} {e A W M : Nat} {rd : Nat → Nat} {cnt : Nat → Nat → Nat → Nat} {t : Int32} {tr : Bool} {P : Mx} {a k c : Nat} (hB : Bnd A W rd P) (ha : a + 1 < A) (hk : k < W) (hc : c ≤ 20) {Q : Qfun} : ∀ (fuel : Nat) (n : Nat) (τ : Tw), n ≤ c → n < fuel → Sx [] [] [10, 17] [] τ τ0 → EnF τ e A W M rd → mhN τ e t tr = cnt → τ.2.2.1 10 = fgUp a0 e A W (upM P a k (decN (rd k) (P a k) (c - n))) → (∀ τ : Tw, Sx [] [] [10, 17] [] τ τ0 → EnF τ e A W M rd → mhN τ e t tr = cnt → τ.2.2.1 10 = fgUp a0 e A W (upM P a k (decN (rd k) (P a k) c)) → E cX4_turnOne (RX4, none, 9, 3, (0, 0), false, []) Q noX 0 0 159 [some (.ref 56), some (.int (nI e)), some (.int t), some (.int (bI tr)), some (.int (nI a)), some (.int (nI k)), none, none, none] [] (TW pre τ post)) →
    E cX4_turnOne (RX4, none, 9, 3, (0, 0), false, []) Q noX 0 0 126 [some (.ref 56), some (.int (nI e)), some (.int t), some (.int (bI tr)), some (.int (nI a)), some (.int (nI k)), some (.int (nI (rd k))), some (.int (nI (12 * (7 * e + a) + k))), some (.int (nI n))] [] (TW pre τ post) := by
  intro fuel
  induction fuel with
  | zero => intro n τ hn hf hS hN hcn hfig hE; exact absurd hf (by omega)
  | succ fuel ih =>
    intro n τ hn hf hS hN hcn hfig hE
    obtain ⟨he, hA, hA2, hW1, hW, eA, eW, hM, eM, hrd, hr⟩ := id hN
    have hrk := hrd k hk
    have hdn := decN_ok (r := rd k) (f := P a k) (by omega) (hB a (by omega) k hk) (c - n)
    refine e_iload dX4_turnOne_126 rfl ?_
    refine e_if_leN n 159 (by omega) dX4_turnOne_128 (by decide) (fun h128 => ?_) (fun h128 => ?_)
    · refine e_forget (i := 6) (ln_s (ln_s (ln_s (ln_s (ln_s (ln_s ln_0)))))) ?_
      refine e_forget (i := 7) (ln_s (ln_s (ln_s (ln_s (ln_s (ln_s (ln_s ln_0))))))) ?_
      refine e_forget (i := 8) (ln_s (ln_s (ln_s (ln_s (ln_s (ln_s (ln_s (ln_s ln_0)))))))) ?_
      have e1 : n = 0 := by omega
      subst e1
      exact hE τ hS hN hcn hfig
    · refine e_aload_n dX4_turnOne_131 0 rfl rfl rfl ?_
      refine e_getf (v := .ref 64) dX4_turnOne_132 rfl fX4_32 (tw_o hp) rfl ?_
      refine e_iload dX4_turnOne_135 rfl ?_
      refine e_aload_n dX4_turnOne_137 0 rfl rfl rfl ?_
      refine e_getf (v := .ref 64) dX4_turnOne_138 rfl fX4_32 (tw_o hp) rfl ?_
      refine e_iload dX4_turnOne_141 rfl ?_
      refine e_iald (f := τ.2.2.1 10) (j := 12 * (7 * e + a) + k) dX4_turnOne_143 (tw_a10 hp) rfl (by omega) (by decide) ?_
      refine e_top (congrArg Value.int ((congrFun hfig _).trans ((fgUp_at hA hW (by omega) hk).trans (congrArg nI (upM_s _ _ _ _))))) ?_
      refine e_iload dX4_turnOne_144 rfl ?_
      refine e_iaddN (decN (rd k) (P a k) (c - n)) (rd k) dX4_turnOne_146 ?_
      refine e_iconst 1 dX4_turnOne_147 rfl ?_
      refine e_isubN ((decN (rd k) (P a k) (c - n)) + (rd k)) 1 (by omega) dX4_turnOne_148 ?_
      refine e_iload dX4_turnOne_149 rfl ?_
      refine e_iremN (((decN (rd k) (P a k) (c - n)) + (rd k)) - 1) (rd k) (by omega) (by omega) (by omega) dX4_turnOne_151 ?_
      refine e_iast (f := τ.2.2.1 10) (j := 12 * (7 * e + a) + k) dX4_turnOne_152 (tw_a10 hp) rfl (by omega) (by decide) ?_
      rw [tw_s10 hp]
      obtain ⟨q, rfl⟩ : ∃ q, n = q + 1 := ⟨n - 1, by omega⟩
      refine e_incN (q + 1) q (decS _) dX4_turnOne_153 rfl (ls_s (ls_s (ls_s (ls_s (ls_s (ls_s (ls_s (ls_1 rfl)))))))) (Nat.le_of_ble_eq_true rfl) ?_
      refine e_goto 126 dX4_turnOne_156 (by decide) ?_
      refine ih q _ (by omega) (by omega) (hS.A _ (by decide)) (by exact hN) (by first | exact hcn | (simp only [mhN_A10, mhN_A17]; exact hcn)) ?_ hE
      show upd (τ.2.2.1 10) _ _ = _
      rw [hfig, fgUp_up hA hW (by omega) hk, upM_upM, show c - q = (c - (q + 1)) + 1 by omega, decN]

set_option maxHeartbeats 4000000 in
set_option maxRecDepth 100000 in
/-- a loop of turnOne -/
theorem t_to4 {pre post : List ACell} {τ0 : Tw} (hp : pre.length = 56) {a0 : Nat → Int32} {e A W M : Nat} {rd : Nat → Nat} {cnt : Nat → Nat → Nat → Nat} {t : Int32} {tr : Bool} {G : Mx} {a : Nat} (hB : Bnd A W rd G) (ha : a + 1 < A) {Q : Qfun} : ∀ (fuel : Nat) (k : Nat) (τ : Tw), k ≤ W → W < k + fuel → Sx [] [] [10, 17] [] τ τ0 → EnF τ e A W M rd → mhN τ e t tr = cnt → τ.2.2.1 10 = fgUp a0 e A W (slP A W rd cnt G a k) → (∀ τ : Tw, Sx [] [] [10, 17] [] τ τ0 → EnF τ e A W M rd → mhN τ e t tr = cnt → τ.2.2.1 10 = fgUp a0 e A W (slP A W rd cnt G a W) → E cX4_turnOne (RX4, none, 9, 3, (0, 0), false, []) Q noX 0 0 165 [some (.ref 56), some (.int (nI e)), some (.int t), some (.int (bI tr)), some (.int (nI a)), none, none, none, none] [] (TW pre τ post)) →
    E cX4_turnOne (RX4, none, 9, 3, (0, 0), false, []) Q noX 0 0 77 [some (.ref 56), some (.int (nI e)), some (.int t), some (.int (bI tr)), some (.int (nI a)), some (.int (nI k)), none, none, none] [] (TW pre τ post) := by
  intro fuel
  induction fuel with
  | zero => intro k τ hk hf hS hN hcn hfig hE; exact absurd hf (by omega)
  | succ fuel ih =>
    intro k τ hk hf hS hN hcn hfig hE
    obtain ⟨he, hA, hA2, hW1, hW, eA, eW, hM, eM, hrd, hr⟩ := id hN
    have hcb : ∀ a b c, cnt a b c ≤ 20 := fun a b c => by rw [← hcn]; exact mhN_le (by rw [gM, eM, ix_nI (by omega)]; exact hM) t tr a b c
    refine e_iload dX4_turnOne_77 rfl ?_
    refine e_aload_n dX4_turnOne_79 0 rfl rfl rfl ?_
    refine e_getf (v := .ref 61) dX4_turnOne_80 rfl fX4_23 (tw_o hp) rfl ?_
    refine e_iload_n dX4_turnOne_83 1 rfl rfl ?_
    refine e_iald (f := τ.2.2.1 7) (j := e) dX4_turnOne_84 (tw_a7 hp) rfl (by omega) (by decide) ?_
    refine e_top (congrArg Value.int eW) ?_
    refine e_icmp_geN k W 165 (by omega) (by omega) dX4_turnOne_85 (by decide) (fun h85 => ?_) (fun h85 => ?_)
    · refine e_forget (i := 5) (ln_s (ln_s (ln_s (ln_s (ln_s ln_0))))) ?_
      have e1 : k = W := by omega
      subst e1
      exact hE τ hS hN hcn hfig
    · refine e_aload_n dX4_turnOne_88 0 rfl rfl rfl ?_
      refine e_getf (v := .ref 63) dX4_turnOne_89 rfl fX4_29 (tw_o hp) rfl ?_
      refine e_bipush 12 dX4_turnOne_92 rfl ?_
      refine e_iload_n dX4_turnOne_94 1 rfl rfl ?_
      refine e_imulN 12 e dX4_turnOne_95 ?_
      refine e_iload dX4_turnOne_96 rfl ?_
      refine e_iaddN (12 * e) k dX4_turnOne_98 ?_
      refine e_iald (f := τ.2.2.1 9) (j := (12 * e) + k) dX4_turnOne_99 (tw_a9 hp) rfl (by omega) (by decide) ?_
      refine e_top (congrArg Value.int (hr k (by omega))) ?_
      refine e_istore dX4_turnOne_100 (ls_s (ls_s (ls_s (ls_s (ls_s (ls_1 rfl)))))) (Nat.le_of_ble_eq_true rfl) ?_
      refine e_iload_n dX4_turnOne_102 1 rfl rfl ?_
      refine e_iload dX4_turnOne_103 rfl ?_
      refine e_iload dX4_turnOne_105 rfl ?_
      refine e_callS1 (As := [.int (nI e), .int (nI a), .int (nI k)]) (rest := []) dX4_turnOne_107 rfl msX4_263 (t_cell e a k) (Nat.le_of_ble_eq_true rfl) rfl rfl (Nat.le_of_ble_eq_true rfl) (Nat.zero_le _) (Nat.zero_le _) ?_
      refine e_istore dX4_turnOne_110 (ls_s (ls_s (ls_s (ls_s (ls_s (ls_s (ls_1 rfl))))))) (Nat.le_of_ble_eq_true rfl) ?_
      refine e_aload_n dX4_turnOne_112 0 rfl rfl rfl ?_
      refine e_iload_n dX4_turnOne_113 1 rfl rfl ?_
      refine e_iload_n dX4_turnOne_114 2 rfl rfl ?_
      refine e_iload dX4_turnOne_115 rfl ?_
      refine e_iload dX4_turnOne_117 rfl ?_
      refine e_iconst 0 dX4_turnOne_119 rfl ?_
      refine e_iload_n dX4_turnOne_120 3 rfl rfl ?_
      refine e_callV1 (As := [.int (nI e), .int t, .int (nI a), .int (nI k), .int 0, .int (bI tr)]) (rest := []) dX4_turnOne_121 rfl mvX4_299 (tw_o hp) rfl (t_mish hp t tr hN hcn) (Nat.le_of_ble_eq_true rfl) rfl rfl (Nat.le_of_ble_eq_true rfl) (Nat.zero_le _) (Nat.zero_le _) ?_
      refine e_istore dX4_turnOne_124 (ls_s (ls_s (ls_s (ls_s (ls_s (ls_s (ls_s (ls_1 rfl)))))))) (Nat.le_of_ble_eq_true rfl) ?_
      refine t_to5 (a0 := a0) (e := e) (A := A) (W := W) (M := M) (rd := rd) (cnt := cnt) (t := t) (tr := tr) (τ0 := τ0) (P := slP A W rd cnt G a k) (a := a) (k := k) (c := cnt a k 0) hp (slP_ok hrd hB a k) ha (by omega) (hcb a k 0) (cnt a k 0 + 1) (cnt a k 0) τ (by omega) (by omega) hS hN hcn ?_ (fun τ1 hS1 hN1 hc1 hf1 => ?_)
      · rw [Nat.sub_self, hfig]
        refine fgUp_cg (fun b hb i hi => ?_)
        unfold upM
        split
        · rename_i h; obtain ⟨rfl, rfl⟩ := h; rfl
        · rfl
      refine e_incN k (k + 1) (inc1 _) dX4_turnOne_159 rfl (ls_s (ls_s (ls_s (ls_s (ls_1 rfl))))) (Nat.le_of_ble_eq_true rfl) ?_
      refine e_goto 77 dX4_turnOne_162 (by decide) ?_
      exact ih (k + 1) τ1 (by omega) (by omega) hS1 hN1 hc1 (by rw [slP_s (by omega)]; exact hf1) hE

set_option maxHeartbeats 4000000 in
set_option maxRecDepth 100000 in
/-- a loop of turnOne -/
theorem t_to3 {pre post : List ACell} {τ0 : Tw} (hp : pre.length = 56) {a0 : Nat → Int32} {e A W M : Nat} {rd : Nat → Nat} {cnt : Nat → Nat → Nat → Nat} {t : Int32} {tr : Bool} {G : Mx} (hB : Bnd A W rd G) {Q : Qfun} : ∀ (fuel : Nat) (a : Nat) (τ : Tw), a + 1 ≤ A → A < a + 1 + fuel → Sx [] [] [10, 17] [] τ τ0 → EnF τ e A W M rd → mhN τ e t tr = cnt → τ.2.2.1 10 = fgUp a0 e A W (slP A W rd cnt G a 0) → (∀ τ : Tw, Sx [] [] [10, 17] [] τ τ0 → τ.2.2.1 10 = fgUp a0 e A W (slF A W rd cnt G) → Q none (TW pre τ post)) →
    E cX4_turnOne (RX4, none, 9, 3, (0, 0), false, []) Q noX 0 0 61 [some (.ref 56), some (.int (nI e)), some (.int t), some (.int (bI tr)), some (.int (nI a)), none, none, none, none] [] (TW pre τ post) := by
  intro fuel
  induction fuel with
  | zero => intro a τ ha hf hS hN hcn hfig hQ; exact absurd hf (by omega)
  | succ fuel ih =>
    intro a τ ha hf hS hN hcn hfig hQ
    obtain ⟨he, hA, hA2, hW1, hW, eA, eW, hM, eM, hrd, hr⟩ := id hN
    refine e_iload dX4_turnOne_61 rfl ?_
    refine e_aload_n dX4_turnOne_63 0 rfl rfl rfl ?_
    refine e_getf (v := .ref 60) dX4_turnOne_64 rfl fX4_20 (tw_o hp) rfl ?_
    refine e_iload_n dX4_turnOne_67 1 rfl rfl ?_
    refine e_iald (f := τ.2.2.1 6) (j := e) dX4_turnOne_68 (tw_a6 hp) rfl (by omega) (by decide) ?_
    refine e_top (congrArg Value.int eA) ?_
    refine e_iconst 1 dX4_turnOne_69 rfl ?_
    refine e_isubN A 1 (by omega) dX4_turnOne_70 ?_
    refine e_icmp_geN a (A - 1) 171 (by omega) (by omega) dX4_turnOne_71 (by decide) (fun h71 => ?_) (fun h71 => ?_)
    · refine e_return dX4_turnOne_171 rfl (Nat.zero_le _) (Nat.zero_le _) ?_
      have e1 : a = A - 1 := by omega
      subst e1
      rw [slP_e (by omega)] at hfig
      exact hQ τ hS hfig
    · refine e_iconst 0 dX4_turnOne_74 rfl ?_
      refine e_istore dX4_turnOne_75 (ls_s (ls_s (ls_s (ls_s (ls_1 rfl))))) (Nat.le_of_ble_eq_true rfl) ?_
      refine t_to4 (a0 := a0) (e := e) (A := A) (W := W) (M := M) (rd := rd) (cnt := cnt) (t := t) (tr := tr) (τ0 := τ0) (G := G) (a := a) hp hB (by omega) (W + 1) 0 τ (by omega) (by omega) hS hN hcn hfig (fun τ1 hS1 hN1 hc1 hf1 => ?_)
      refine e_incN a (a + 1) (inc1 _) dX4_turnOne_165 rfl (ls_s (ls_s (ls_s (ls_1 rfl)))) (Nat.le_of_ble_eq_true rfl) ?_
      refine e_goto 61 dX4_turnOne_168 (by decide) ?_
      exact ih (a + 1) τ1 (by omega) (by omega) hS1 hN1 hc1 (by rw [slP_r (by omega)]; exact hf1) hQ

set_option maxHeartbeats 4000000 in
set_option maxRecDepth 100000 in
/-- WheelTablesModel.turnOne -/
theorem t_turnOne {pre post : List ACell} {τ : Tw} (hp : pre.length = 56) {a0 : Nat → Int32} {e A W M : Nat} {rd : Nat → Nat} {cnt : Nat → Nat → Nat → Nat} {t : Int32} {tr : Bool} {F : Mx} (hB : Bnd A W rd F) (hN : EnF τ e A W M rd) (hcn : mhN τ e t tr = cnt) (hfig : τ.2.2.1 10 = fgUp a0 e A W F) : Ct yX4_turnOne (ws_ yX4_turnOne cX4_turnOne 9 none) 3 0 0 [.ref 56, .int (nI e), .int t, .int (bI tr)] (TW pre τ post) (fun v0 N0 => ∃ τ1, N0 = TW pre τ1 post ∧ v0 = none ∧ Sx [] [] [10, 17] [] τ1 τ ∧ τ1.2.2.1 10 = fgUp a0 e A W (turnN A W rd cnt F)) noX := by
  obtain ⟨he, hA, hA2, hW1, hW, eA, eW, hM, eM, hrd, hr⟩ := id hN
  refine Ct.of (ini := false) (ls := [some (.ref 56), some (.int (nI e)), some (.int t), some (.int (bI tr)), none, none, none, none, none]) (by decide) (Nat.le_of_ble_eq_true rfl) (fun h => by cases h) rfl ?_
  refine e_iconst 1 dX4_turnOne_0 rfl ?_
  refine e_istore dX4_turnOne_1 (ls_s (ls_s (ls_s (ls_1 rfl)))) (Nat.le_of_ble_eq_true rfl) ?_
  refine t_to1 (τ0 := τ) hp hB (A + 1) 0 τ (by omega) (by omega) Sx.rf hN hcn hfig (fun τ1 hS1 hN1 hc1 hf1 => ?_)
  refine e_iconst 2 dX4_turnOne_29 rfl ?_
  refine e_istore dX4_turnOne_30 (ls_s (ls_s (ls_s (ls_1 rfl)))) (Nat.le_of_ble_eq_true rfl) ?_
  refine t_to2 (τ0 := τ) hp (adL_ok hW1 hrd hB _) (A + 1) 0 τ1 (by omega) (by omega) hS1 hN1 hc1 hf1 (fun τ2 hS2 hN2 hc2 hf2 => ?_)
  refine e_iconst 0 dX4_turnOne_58 rfl ?_
  refine e_istore dX4_turnOne_59 (ls_s (ls_s (ls_s (ls_1 rfl)))) (Nat.le_of_ble_eq_true rfl) ?_
  exact t_to3 (τ0 := τ) hp (adL_ok hW1 hrd (adL_ok hW1 hrd hB _) _) (A + 1) 0 τ2 (by omega) (by omega) hS2 hN2 hc2 (by rw [slP_0]; exact hf2) (fun τ3 hS3 hf3 => ⟨τ3, rfl, rfl, hS3, hf3⟩)

