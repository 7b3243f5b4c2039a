/-! ===== the component: the tape, turns ===== -/
set_option maxHeartbeats 4000000 in
set_option maxRecDepth 100000 in
/-- WheelTables.feed -/
theorem x_feed {ξ : Xs} {mid dyn : List ACell} {τ : Tw} {own : Nat → Nat} (hm : mid.length = 61) (hRel : Rel own ξ dyn τ) (a b c d e : Int32) : Ct yX0_feed (ws_ yX0_feed cX0_feed 6 (some .int)) 1 0 0 [.ref 0, .int a, .int b, .int c, .int d, .int e] (XM ξ mid dyn) (XQi mid (sp_feed a b c d e τ)) noX := by
  obtain ⟨hI, hA, hB, hW, hP, hR, hT, hE, hC, hV⟩ := id hRel
  obtain ⟨hVT, hVJ, hVR, hVF, hVN, hV0⟩ := id hV
  obtain ⟨t, ht5, eF⟩ := id hVF
  have e101 : ξ.1 101 = nI t := (hI.at 101 29 (by decide)).trans eF
  refine Ct.of (ini := false) (ls := [some (.ref 0), some (.int a), some (.int b), some (.int c), some (.int d), some (.int e)]) (by decide) (Nat.le_of_ble_eq_true rfl) (fun h => by cases h) rfl ?_
  refine e_aload_n dX0_feed_0 0 rfl rfl rfl ?_
  refine e_getf (v := (.ref 4)) dX0_feed_1 rfl fX0_33 (xm_o0) rfl ?_
  refine e_getf (v := (.int (ξ.1 101))) dX0_feed_4 rfl fX0_317 (xm_o4) rfl ?_
  refine e_top (congrArg Value.int e101) ?_
  refine e_bipush 20 dX0_feed_7 rfl ?_
  refine e_iaddN t 20 dX0_feed_9 ?_
  refine e_sipush 500 dX0_feed_10 rfl ?_
  refine e_icmp_leN (t + 20) 500 18 (by omega) (by omega) dX0_feed_13 (by decide) (fun h13 => ?_) (fun h13 => ?_)
  · refine e_aload_n dX0_feed_18 0 rfl rfl rfl ?_
    refine e_iload_n dX0_feed_19 1 rfl rfl ?_
    refine e_callVQ (As := [.int a]) (rest := []) dX0_feed_20 rfl mvX0_320 (xm_o0) rfl (x_four (t := t) (by omega) e101 a) (Nat.le_of_ble_eq_true rfl) rfl rfl (Nat.le_of_ble_eq_true rfl) (Nat.zero_le _) (Nat.zero_le _) (fun v0 M0 h0 _ => ?_)
    obtain ⟨rfl, ξ1, rfl, e_1, a_1, f_1, g_1, l_1, r_1⟩ := h0
    replace e_1 : ξ1.1 101 = nI (t + 4) := e_1
    refine e_aload_n dX0_feed_23 0 rfl rfl rfl ?_
    refine e_iload_n dX0_feed_24 2 rfl rfl ?_
    refine e_callVQ (As := [.int b]) (rest := []) dX0_feed_25 rfl mvX0_320 (xm_o0) rfl (x_four (t := t + 4) (by omega) e_1 b) (Nat.le_of_ble_eq_true rfl) rfl rfl (Nat.le_of_ble_eq_true rfl) (Nat.zero_le _) (Nat.zero_le _) (fun v0 M0 h0 _ => ?_)
    obtain ⟨rfl, ξ2, rfl, e_2, a_2, f_2, g_2, l_2, r_2⟩ := h0
    replace e_2 : ξ2.1 101 = nI (t + 8) := e_2
    refine e_aload_n dX0_feed_28 0 rfl rfl rfl ?_
    refine e_iload_n dX0_feed_29 3 rfl rfl ?_
    refine e_callVQ (As := [.int c]) (rest := []) dX0_feed_30 rfl mvX0_320 (xm_o0) rfl (x_four (t := t + 8) (by omega) e_2 c) (Nat.le_of_ble_eq_true rfl) rfl rfl (Nat.le_of_ble_eq_true rfl) (Nat.zero_le _) (Nat.zero_le _) (fun v0 M0 h0 _ => ?_)
    obtain ⟨rfl, ξ3, rfl, e_3, a_3, f_3, g_3, l_3, r_3⟩ := h0
    replace e_3 : ξ3.1 101 = nI (t + 12) := e_3
    refine e_aload_n dX0_feed_33 0 rfl rfl rfl ?_
    refine e_iload dX0_feed_34 rfl ?_
    refine e_callVQ (As := [.int d]) (rest := []) dX0_feed_36 rfl mvX0_320 (xm_o0) rfl (x_four (t := t + 12) (by omega) e_3 d) (Nat.le_of_ble_eq_true rfl) rfl rfl (Nat.le_of_ble_eq_true rfl) (Nat.zero_le _) (Nat.zero_le _) (fun v0 M0 h0 _ => ?_)
    obtain ⟨rfl, ξ4, rfl, e_4, a_4, f_4, g_4, l_4, r_4⟩ := h0
    replace e_4 : ξ4.1 101 = nI (t + 16) := e_4
    refine e_aload_n dX0_feed_39 0 rfl rfl rfl ?_
    refine e_iload dX0_feed_40 rfl ?_
    refine e_callVQ (As := [.int e]) (rest := []) dX0_feed_42 rfl mvX0_320 (xm_o0) rfl (x_four (t := t + 16) (by omega) e_4 e) (Nat.le_of_ble_eq_true rfl) rfl rfl (Nat.le_of_ble_eq_true rfl) (Nat.zero_le _) (Nat.zero_le _) (fun v0 M0 h0 _ => ?_)
    obtain ⟨rfl, ξ5, rfl, e_5, a_5, f_5, g_5, l_5, r_5⟩ := h0
    replace e_5 : ξ5.1 101 = nI (t + 20) := e_5
    refine e_aload_n dX0_feed_45 0 rfl rfl rfl ?_
    refine e_getf (v := (.ref 4)) dX0_feed_46 rfl fX0_33 (xm_o0) rfl ?_
    refine e_getf (v := (.int (ξ5.1 101))) dX0_feed_49 rfl fX0_317 (xm_o4) rfl ?_
    refine e_top (congrArg Value.int e_5) ?_
    refine e_ireturn dX0_feed_52 rfl rfl (Nat.zero_le _) (Nat.zero_le _) ?_
    have eS : sp_feed a b c d e τ = (nI (t + 20), tI (tA (b1 τ) 28 (layN (layN (layN (layN (layN (τ.2.2.1 28) t a) (t + 4) b) (t + 8) c) (t + 12) d) (t + 16) e)) 29 (nI (t + 20))) := by rw [sp_feed, if_neg (by rw [eF, show nI t + 20 = nI (t + 20) from nI_add t 20]; exact fun z => absurd ((nI_ltN (a := 500) (by omega) (by omega)).mp z) (by omega)), eF, ix_nI (by omega), show nI t + 20 = nI (t + 20) from nI_add t 20]
    have hF5 : ∀ k, ¬ k = 101 → ξ5.1 k = ξ.1 k := fun k hk => (f_5 k hk).trans ((f_4 k hk).trans ((f_3 k hk).trans ((f_2 k hk).trans (f_1 k hk))))
    have hG5 : ∀ k, ¬ k = 100 → ξ5.2.2.1 k = ξ.2.2.1 k := fun k hk => (g_5 k hk).trans ((g_4 k hk).trans ((g_3 k hk).trans ((g_2 k hk).trans (g_1 k hk))))
    have hA5 : ξ5.2.2.1 100 = layN (layN (layN (layN (layN (τ.2.2.1 28) t a) (t + 4) b) (t + 8) c) (t + 12) d) (t + 16) e := by rw [a_5, a_4, a_3, a_2, a_1, hA.at 100 28 (by decide)]
    have hL5 : ξ5.2.1 = ξ.2.1 := l_5.trans (l_4.trans (l_3.trans (l_2.trans l_1)))
    have hR5 : ξ5.2.2.2 = ξ.2.2.2 := r_5.trans (r_4.trans (r_3.trans (r_2.trans r_1)))
    refine ⟨_, _, own, rfl, ?_, ?_⟩
    · rw [eS]
    · rw [eS]
      clear a_1 a_2 a_3 a_4 a_5 f_1 f_2 f_3 f_4 f_5 g_1 g_2 g_3 g_4 g_5 l_1 l_2 l_3 l_4 l_5 r_1 r_2 r_3 r_4 r_5 e_1 e_2 e_3 e_4
      obtain ⟨i5, l5, a5, z5⟩ := ξ5
      obtain rfl : l5 = ξ.2.1 := hL5
      obtain rfl : z5 = ξ.2.2.2 := hR5
      replace e_5 : i5 101 = nI (t + 20) := e_5
      refine ⟨?_, ?_, hB, ?_, ?_, ?_, hT, hE, hC, hVT, hVJ, hVR, ⟨t + 20, by omega, rfl⟩, hVN, hV0⟩
      · intro q hq
        by_cases e : q.1 = 101
        · have : q = (101, 29) := by
            have hd : ∀ q ∈ rlI, q.1 = 101 → q = (101, 29) := by decide
            exact hd q hq e
          subst this; exact e_5
        · have hd : ∀ q ∈ rlI, ¬ q.1 = 101 → ¬ q.2 = 29 ∧ ¬ q.2 = 1 := by decide
          refine (hF5 q.1 e).trans ((hI q hq).trans ?_)
          show τ.1 q.2 = upd (upd τ.1 1 0) 29 _ q.2
          rw [pk_un (hd q hq e).1, pk_un (hd q hq e).2]
      · intro q hq
        by_cases e : q.1 = 100
        · have : q = (100, 28) := by
            have hd : ∀ q ∈ rlA, q.1 = 100 → q = (100, 28) := by decide
            exact hd q hq e
          subst this; exact hA5
        · have hd : ∀ q ∈ rlA, ¬ q.1 = 100 → ¬ q.2 = 28 := by decide
          refine (hG5 q.1 e).trans ((hA q hq).trans ?_)
          show τ.2.2.1 q.2 = va_up τ.2.2.1 28 _ q.2
          rw [va_up_ne _ _ (hd q hq e)]
      · unfold RW RW0; rw [hF5 13 (by decide), hF5 23 (by decide), hG5 12 (by decide)]; exact hW
      · unfold RP; rw [hG5 41 (by decide)]; exact hP
      · unfold RR; rw [hG5 33 (by decide), hG5 34 (by decide)]; exact hR
  · refine e_iconst (-1) dX0_feed_16 rfl ?_
    refine e_ireturn dX0_feed_17 rfl rfl (Nat.zero_le _) (Nat.zero_le _) ?_
    have eS : sp_feed a b c d e τ = (-1, b1 τ) := by rw [sp_feed, if_pos (by rw [eF]; exact (show (500 : Int32) < nI t + 20 by rw [show nI t + 20 = nI (t + 20) from nI_add t 20]; exact (nI_ltN (a := 500) (by omega) (by omega)).mpr (by omega)))]
    refine ⟨_, _, own, rfl, ?_, ?_⟩
    · rw [eS]
    · rw [eS]; exact hRel.b1

