/-! ===== the component: an axis shows a number ===== -/
set_option maxHeartbeats 4000000 in
set_option maxRecDepth 100000 in
/-- a loop of shows -/
theorem x_eshows_loop {pre post : List ACell} {η0 : En} {A W m : Nat} {rd : Nat → Nat} {x : Nat} {v : Int64} (hJ0 : EnJ η0 A W m rd) (hx : x < A) (hr : Rds W rd) (hb : ∀ k, k < W → -4611686018427387904 ≤ (dgV rd v k).toInt) {Q : Qfun} : ∀ (fuel : Nat) (k : Nat) (u : Int64) (η : En), k ≤ W → W < k + fuel → u = dgV rd v k → Sme η η0 → (∀ i, i < k → η.2.2.2.2.2.2.2 x i = dgF rd v i) → (∀ a, ¬ a = x → η.2.2.2.2.2.2.2 a = η0.2.2.2.2.2.2.2 a) → (∀ η, Sme η η0 → (∀ i, i < W → η.2.2.2.2.2.2.2 x i = dgF rd v i) → (∀ a, ¬ a = x → η.2.2.2.2.2.2.2 a = η0.2.2.2.2.2.2.2 a) → Q none (EM pre η post)) →
    E cX5_shows (RX5, none, 7, 1, (0, 0), false, []) Q noX 0 0 6 [some (.ref pre.length), some (.int (nI x)), some (.long v), none, some (.long u), none, some (.int (nI k))] [] (EM pre η post) := by
  intro fuel
  induction fuel with
  | zero => intro k u η hk hf hu hS hF hN hE; exact absurd hf (by omega)
  | succ fuel ih =>
    intro k u η hk hf hu hS hF hN hE
    have hJ : EnJ η A W m rd := hS.J hJ0
    obtain ⟨hA, hW, hA7, hW12, hm20, eM, hR⟩ := id hJ
    refine e_iload dX5_shows_6 rfl ?_
    refine e_aload_n dX5_shows_8 0 rfl rfl rfl ?_
    refine e_getf (v := (.int (nI η.2.1))) dX5_shows_9 rfl fX5_32 em_o rfl ?_
    refine e_top (congrArg (fun z => Value.int (nI z)) hW) ?_
    refine e_icmp_geN k W 62 (by omega) (by omega) dX5_shows_12 (by decide) (fun h12 => ?_) (fun h12 => ?_)
    · refine e_return dX5_shows_62 rfl (Nat.zero_le _) (Nat.zero_le _) ?_
      obtain rfl : k = W := by omega
      exact hE η hS hF hN
    · have hrk := hr k (by omega)
      have hrl := rL_ne (r := rd k) (by omega) (by omega)
      refine e_aload_n dX5_shows_15 0 rfl rfl rfl ?_
      refine e_getf (v := (.ref (pre.length + 7))) dX5_shows_16 rfl fX5_46 em_o rfl ?_
      refine e_iload_n dX5_shows_19 1 rfl rfl ?_
      refine e_aald (f := enA pre.length A) (j := x) dX5_shows_20 (em_xA (η := η) hA) (fun _ => rfl) rfl (by omega) (by omega) ?_
      refine e_top (congrArg rfO (enA_at (by omega))) ?_
      refine e_getf (v := (.ref (pre.length + 9 + 2 * x))) dX5_shows_21 rfl fX5_53 (em_a (η := η) hA (by omega)) rfl ?_
      refine e_iload dX5_shows_24 rfl ?_
      refine e_lload dX5_shows_26 rfl ?_
      refine e_aload_n dX5_shows_28 0 rfl rfl rfl ?_
      refine e_getf (v := (.ref (pre.length + 6))) dX5_shows_29 rfl fX5_35 em_o rfl ?_
      refine e_iload dX5_shows_32 rfl ?_
      refine e_iald (f := η.2.2.2.2.2.2.1) (j := k) dX5_shows_34 (em_rW (η := η) hW) rfl (by omega) (by omega) ?_
      refine e_top (congrArg Value.int (hR k (by omega))) ?_
      refine e_i2l dX5_shows_35 ?_
      refine e_callS1 (As := [.long u, .long ((nI (rd k)).toInt64)]) (rest := [.int (nI k), .ref (pre.length + 9 + 2 * x)]) dX5_shows_36 rfl msX5_70 (m_fmL u ((nI (rd k)).toInt64) hrl) (Nat.le_of_ble_eq_true rfl) rfl rfl (Nat.le_of_ble_eq_true rfl) (Nat.zero_le _) (Nat.zero_le _) ?_
      refine e_l2i dX5_shows_39 ?_
      refine e_iast (f := η.2.2.2.2.2.2.2 x) (j := k) dX5_shows_40 (em_f (η := η) hA hW (by omega)) rfl (by omega) (by omega) ?_
      rw [em_fs (η := η) hA hW (by omega)]
      refine e_lload dX5_shows_41 rfl ?_
      refine e_aload_n dX5_shows_43 0 rfl rfl rfl ?_
      refine e_getf (v := (.ref (pre.length + 6))) dX5_shows_44 rfl fX5_35 em_o rfl ?_
      refine e_iload dX5_shows_47 rfl ?_
      refine e_iald (f := η.2.2.2.2.2.2.1) (j := k) dX5_shows_49 (em_rW (η := (nF η x (upd (η.2.2.2.2.2.2.2 x) k ((fmL u ((nI (rd k)).toInt64)).toInt32)))) hW) rfl (by omega) (by omega) ?_
      refine e_top (congrArg Value.int (hR k (by omega))) ?_
      refine e_i2l dX5_shows_50 ?_
      refine e_callS1 (As := [.long u, .long ((nI (rd k)).toInt64)]) (rest := []) dX5_shows_51 rfl msX5_76 (m_fdL u ((nI (rd k)).toInt64) hrl) (Nat.le_of_ble_eq_true rfl) rfl rfl (Nat.le_of_ble_eq_true rfl) (Nat.zero_le _) (Nat.zero_le _) ?_
      refine e_lstore dX5_shows_54 (ls_s (ls_s (ls_s (ls_1 rfl)))) (ln_s (ln_s (ln_s (ln_s (ln_s ln_0))))) (Nat.le_of_ble_eq_true rfl) ?_
      refine e_incN k (k + 1) (inc1 _) dX5_shows_56 rfl (ls_s (ls_s (ls_s (ls_s (ls_s (ls_1 rfl)))))) (Nat.le_of_ble_eq_true rfl) ?_
      refine e_goto 6 dX5_shows_59 (by decide) ?_
      refine ih (k + 1) _ _ (by omega) (by omega) ?_ (by exact hS) (fun i hi => ?_) (fun a ha => (nF_n ha).trans (hN a ha)) hE
      · rw [fd_eq hrk.1 hrk.2 (by rw [hu]; exact hb k (by omega)), hu]
        rfl
      · by_cases e : i = k
        · subst e
          rw [nF_s, pk_us, hu]
          rfl
        · rw [nF_s, pk_un e]
          exact hF i (by omega)

set_option maxHeartbeats 4000000 in
set_option maxRecDepth 100000 in
/-- WheelTables$Engine.shows -/
theorem x_eshows {pre post : List ACell} {η : En} {A W m : Nat} {rd : Nat → Nat} {x : Nat} {v : Int64} (hJ0 : EnJ η A W m rd) (hx : x < A) (hr : Rds W rd) (hb : ∀ k, k < W → -4611686018427387904 ≤ (dgV rd v k).toInt) : Ct yX5_shows (ws_ yX5_shows cX5_shows 7 none) 1 0 0 [.ref pre.length, .int (nI x), .long v] (EM pre η post) (fun u M' => u = none ∧ ∃ η', M' = EM pre η' post ∧ Sme η' η ∧ (∀ i, i < W → η'.2.2.2.2.2.2.2 x i = dgF rd v i) ∧ ∀ a, ¬ a = x → η'.2.2.2.2.2.2.2 a = η.2.2.2.2.2.2.2 a) noX := by
  refine Ct.of (ini := false) (ls := [some (.ref pre.length), some (.int (nI x)), some (.long v), none, none, none, none]) (by decide) (Nat.le_of_ble_eq_true rfl) (fun h => by cases h) rfl ?_
  refine e_lload_n dX5_shows_0 2 rfl rfl ?_
  refine e_lstore dX5_shows_1 (ls_s (ls_s (ls_s (ls_1 rfl)))) (ln_s (ln_s (ln_s (ln_s (ln_s ln_0))))) (Nat.le_of_ble_eq_true rfl) ?_
  refine e_iconst 0 dX5_shows_3 rfl ?_
  refine e_istore dX5_shows_4 (ls_s (ls_s (ls_s (ls_s (ls_s (ls_1 rfl)))))) (Nat.le_of_ble_eq_true rfl) ?_
  exact x_eshows_loop hJ0 hx hr hb (W + 1) 0 v η (by omega) (by omega) rfl (Sme.rf _) (fun i hi => absurd hi (by omega)) (fun _ _ => rfl) (fun η1 hS1 hF1 hN1 => ⟨rfl, η1, rfl, hS1, hF1, hN1⟩)

