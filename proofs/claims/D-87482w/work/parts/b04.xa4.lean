/-! ===== the component: plates (3), jobs, answers ===== -/
set_option maxHeartbeats 4000000 in
set_option maxRecDepth 100000 in
/-- WheelTables.says -/
theorem x_says {ξ : Xs} {mid dyn : List ACell} {τ : Tw} {own : Nat → Nat} (hm : mid.length = 61) (hRel : Rel own ξ dyn τ) (n r : Int32) : Ct yX0_says (ws_ yX0_says cX0_says 3 (some .int)) 2 0 0 [.ref 0, .int n, .int r] (XM ξ mid dyn) (XQi mid (sp_says n r τ)) noX := by
  obtain ⟨hI, hA, hB, hW, hP, hR, hT, hE, hC, hV⟩ := id hRel
  obtain ⟨C, P, T, K, F, ⟨hC1, eC, hP1, eP, hT1, eT, eK, hF0, hFP, hF, hcc⟩, hL⟩ := id hP
  have hbig := InvP.big hF0 (fun p hp => ⟨(hF p hp).1, (hF p hp).2.1⟩)
  have hb : ∀ p, p ≤ P → F p ≤ 1 + 1000 * p ∧ p < F p := hbig
  have e46 : ξ.1 46 = nI P := (hI.at 46 79 (by decide)).trans eP
  have hbP := hb P (Nat.le_refl _)
  refine Ct.of (ini := false) (ls := [some (.ref 0), some (.int n), some (.int r)]) (by decide) (Nat.le_of_ble_eq_true rfl) (fun h => by cases h) rfl ?_
  refine e_iload_n dX0_says_0 2 rfl rfl ?_
  refine e_callSB (As := [.int r]) (rest := []) dX0_says_1 rfl msX0_451 (x_isRow r) (Nat.le_of_ble_eq_true rfl) rfl rfl (Nat.le_of_ble_eq_true rfl) (Nat.zero_le _) (Nat.zero_le _) (fun h1 => ?_) (fun h1 => ?_)
  · have h1 : (0 ≤ r ∧ r ≤ 39) := h1
    refine e_if_ne_t 13 (by decide) dX0_says_4 (by decide) ?_
    refine e_aload_n dX0_says_13 0 rfl rfl rfl ?_
    refine e_iload_n dX0_says_14 1 rfl rfl ?_
    refine e_callVB (As := [.int n]) (rest := []) dX0_says_15 rfl mvX0_475 (xm_o0) rfl (x_isCopy hP1 hF0 hFP hb e46 hL n) (Nat.le_of_ble_eq_true rfl) rfl rfl (Nat.le_of_ble_eq_true rfl) (Nat.zero_le _) (Nat.zero_le _) (fun h15 => ?_) (fun h15 => ?_)
    · have h15 : (1 ≤ n ∧ n ≤ nI K) := h15
      refine e_if_eq_f (by decide) 38 dX0_says_18 (by decide) ?_
      have hCP := h15
      obtain ⟨cp, hcK, rfl⟩ := in_oc (x := n) (c := nI K) K (nI_toInt (by omega)) (Int32.le_trans (by decide) hCP.1) hCP.2
      have hc1_ : 1 ≤ cp := (nI_leN (a := 1) (by omega) (by omega)).mp hCP.1
      have hP0 : 0 < P := by
        rcases Nat.eq_zero_or_pos P with e | e
        · subst e; rw [hF0] at hFP; omega
        · exact e
      have hlt : prN (τ.2.2.1 85) (nI cp) P < P := prN_lt hP0
      obtain ⟨c, hcC, ec⟩ := hcc _ hlt
      have hc100 : c ≤ 100 := by omega
      have hsp : spCopy (nI cp) τ := ⟨hCP.1, by rw [eK]; exact hCP.2⟩
      refine e_aload_n dX0_says_21 0 rfl rfl rfl ?_
      refine e_aload_n dX0_says_22 0 rfl rfl rfl ?_
      refine e_aload_n dX0_says_23 0 rfl rfl rfl ?_
      refine e_iload_n dX0_says_24 1 rfl rfl ?_
      refine e_callV1 (As := [.int (nI cp)]) (rest := [.ref 0, .ref 0]) dX0_says_25 rfl mvX0_478 (xm_o0) rfl (x_prOf (f := τ.2.2.1 85) hP1 hP0 hF0 hFP hb hL hc1_ hcK hF) (Nat.le_of_ble_eq_true rfl) rfl rfl (Nat.le_of_ble_eq_true rfl) (Nat.zero_le _) (Nat.zero_le _) ?_
      refine e_iload_n dX0_says_28 2 rfl rfl ?_
      refine e_callV1 (As := [.int (nI (prN (τ.2.2.1 85) (nI cp) P)), .int r]) (rest := [.ref 0]) dX0_says_29 rfl mvX0_481 (xm_o0) rfl (x_saidBy hA (p := prN (τ.2.2.1 85) (nI cp) P) (c := c) (r := r) (by omega) ec hc100) (Nat.le_of_ble_eq_true rfl) rfl rfl (Nat.le_of_ble_eq_true rfl) (Nat.zero_le _) (Nat.zero_le _) ?_
      refine e_callV1 (As := [.int (sayN (τ.2.2.1 83) (τ.2.2.1 84) r c)]) (rest := []) dX0_says_32 rfl mvX0_215 (xm_o0) rfl (x_gives (sayN (τ.2.2.1 83) (τ.2.2.1 84) r c)) (Nat.le_of_ble_eq_true rfl) rfl rfl (Nat.le_of_ble_eq_true rfl) (Nat.zero_le _) (Nat.zero_le _) ?_
      refine e_goto 44 dX0_says_35 (by decide) ?_
      refine e_ireturn dX0_says_44 rfl rfl (Nat.zero_le _) (Nat.zero_le _) ?_
      have eS : sp_says (nI cp) r τ = (sayN (τ.2.2.1 83) (τ.2.2.1 84) r c, b0 τ) := by rw [sp_says, if_neg (fun z => z h1), if_neg (fun z => z hsp), eP, ix_nI (by omega), spSay, ec, ix_nI (by omega)]
      refine ⟨_, _, own, rfl, ?_, ?_⟩
      · rw [eS]
      · rw [eS]; exact hRel.st0
    · have h15 : ¬ (1 ≤ n ∧ n ≤ nI K) := h15
      refine e_if_eq_t 38 (by decide) dX0_says_18 (by decide) ?_
      refine e_aload_n dX0_says_38 0 rfl rfl rfl ?_
      refine e_bipush 8 dX0_says_39 rfl ?_
      refine e_callV1 (As := [.int 8]) (rest := []) dX0_says_41 rfl mvX0_169 (xm_o0) rfl (x_none 8) (Nat.le_of_ble_eq_true rfl) rfl rfl (Nat.le_of_ble_eq_true rfl) (Nat.zero_le _) (Nat.zero_le _) ?_
      refine e_ireturn dX0_says_44 rfl rfl (Nat.zero_le _) (Nat.zero_le _) ?_
      have eS : sp_says n r τ = (-1, bE τ 8) := by rw [sp_says, if_neg (fun z => z h1), if_pos (show ¬ spCopy n τ from fun z => h15 ⟨z.1, by rw [← eK]; exact z.2⟩)]
      refine ⟨_, _, own, rfl, ?_, ?_⟩
      · rw [eS]
      · rw [eS]; exact hRel.stE 8
  · have h1 : ¬ (0 ≤ r ∧ r ≤ 39) := h1
    refine e_if_ne_f (by decide) 13 dX0_says_4 (by decide) ?_
    refine e_aload_n dX0_says_7 0 rfl rfl rfl ?_
    refine e_iconst 2 dX0_says_8 rfl ?_
    refine e_callV1 (As := [.int 2]) (rest := []) dX0_says_9 rfl mvX0_169 (xm_o0) rfl (x_none 2) (Nat.le_of_ble_eq_true rfl) rfl rfl (Nat.le_of_ble_eq_true rfl) (Nat.zero_le _) (Nat.zero_le _) ?_
    refine e_ireturn dX0_says_12 rfl rfl (Nat.zero_le _) (Nat.zero_le _) ?_
    have eS : sp_says n r τ = (-1, bE τ 2) := by rw [sp_says, if_pos h1]
    refine ⟨_, _, own, rfl, ?_, ?_⟩
    · rw [eS]
    · rw [eS]; exact hRel.stE 2

set_option maxHeartbeats 4000000 in
set_option maxRecDepth 100000 in
/-- WheelTables.wrong -/
theorem x_wrong {ξ : Xs} {mid dyn : List ACell} {τ : Tw} {own : Nat → Nat} (hm : mid.length = 61) (hRel : Rel own ξ dyn τ) (n d : Int32) : Ct yX0_wrong (ws_ yX0_wrong cX0_wrong 3 (some .int)) 2 0 0 [.ref 0, .int n, .int d] (XM ξ mid dyn) (XQi mid (sp_wrong n d τ)) noX := by
  obtain ⟨hI, hA, hB, hW, hP, hR, hT, hE, hC, hV⟩ := id hRel
  obtain ⟨C, P, T, K, F, ⟨hC1, eC, hP1, eP, hT1, eT, eK, hF0, hFP, hF, hcc⟩, hL⟩ := id hP
  have hbig := InvP.big hF0 (fun p hp => ⟨(hF p hp).1, (hF p hp).2.1⟩)
  have hb : ∀ p, p ≤ P → F p ≤ 1 + 1000 * p ∧ p < F p := hbig
  have e46 : ξ.1 46 = nI P := (hI.at 46 79 (by decide)).trans eP
  have hbP := hb P (Nat.le_refl _)
  refine Ct.of (ini := false) (ls := [some (.ref 0), some (.int n), some (.int d)]) (by decide) (Nat.le_of_ble_eq_true rfl) (fun h => by cases h) rfl ?_
  refine e_iload_n dX0_wrong_0 2 rfl rfl ?_
  refine e_callSB (As := [.int d]) (rest := []) dX0_wrong_1 rfl msX0_454 (x_isDay d) (Nat.le_of_ble_eq_true rfl) rfl rfl (Nat.le_of_ble_eq_true rfl) (Nat.zero_le _) (Nat.zero_le _) (fun h1 => ?_) (fun h1 => ?_)
  · have h1 : (0 ≤ d ∧ d ≤ 9999) := h1
    refine e_if_ne_t 13 (by decide) dX0_wrong_4 (by decide) ?_
    refine e_aload_n dX0_wrong_13 0 rfl rfl rfl ?_
    refine e_iload_n dX0_wrong_14 1 rfl rfl ?_
    refine e_callVB (As := [.int n]) (rest := []) dX0_wrong_15 rfl mvX0_475 (xm_o0) rfl (x_isCopy hP1 hF0 hFP hb e46 hL n) (Nat.le_of_ble_eq_true rfl) rfl rfl (Nat.le_of_ble_eq_true rfl) (Nat.zero_le _) (Nat.zero_le _) (fun h15 => ?_) (fun h15 => ?_)
    · have h15 : (1 ≤ n ∧ n ≤ nI K) := h15
      refine e_if_eq_f (by decide) 38 dX0_wrong_18 (by decide) ?_
      have hCP := h15
      obtain ⟨cp, hcK, rfl⟩ := in_oc (x := n) (c := nI K) K (nI_toInt (by omega)) (Int32.le_trans (by decide) hCP.1) hCP.2
      have hc1_ : 1 ≤ cp := (nI_leN (a := 1) (by omega) (by omega)).mp hCP.1
      have hP0 : 0 < P := by
        rcases Nat.eq_zero_or_pos P with e | e
        · subst e; rw [hF0] at hFP; omega
        · exact e
      have hlt : prN (τ.2.2.1 85) (nI cp) P < P := prN_lt hP0
      obtain ⟨c, hcC, ec⟩ := hcc _ hlt
      have hc100 : c ≤ 100 := by omega
      have hsp : spCopy (nI cp) τ := ⟨hCP.1, by rw [eK]; exact hCP.2⟩
      refine e_aload_n dX0_wrong_21 0 rfl rfl rfl ?_
      refine e_aload_n dX0_wrong_22 0 rfl rfl rfl ?_
      refine e_aload_n dX0_wrong_23 0 rfl rfl rfl ?_
      refine e_iload_n dX0_wrong_24 1 rfl rfl ?_
      refine e_callV1 (As := [.int (nI cp)]) (rest := [.ref 0, .ref 0]) dX0_wrong_25 rfl mvX0_478 (xm_o0) rfl (x_prOf (f := τ.2.2.1 85) hP1 hP0 hF0 hFP hb hL hc1_ hcK hF) (Nat.le_of_ble_eq_true rfl) rfl rfl (Nat.le_of_ble_eq_true rfl) (Nat.zero_le _) (Nat.zero_le _) ?_
      refine e_iload_n dX0_wrong_28 2 rfl rfl ?_
      refine e_callV1 (As := [.int (nI (prN (τ.2.2.1 85) (nI cp) P)), .int d]) (rest := [.ref 0]) dX0_wrong_29 rfl mvX0_484 (xm_o0) rfl (x_wrongIn hI hA (p := prN (τ.2.2.1 85) (nI cp) P) (c := c) (T := T) (d := d) (by omega) ec hc100 hT1 eT) (Nat.le_of_ble_eq_true rfl) rfl rfl (Nat.le_of_ble_eq_true rfl) (Nat.zero_le _) (Nat.zero_le _) ?_
      refine e_callV1 (As := [.int (wrongN (prN (τ.2.2.1 85) (nI cp) P) d τ 40)]) (rest := []) dX0_wrong_32 rfl mvX0_215 (xm_o0) rfl (x_gives (wrongN (prN (τ.2.2.1 85) (nI cp) P) d τ 40)) (Nat.le_of_ble_eq_true rfl) rfl rfl (Nat.le_of_ble_eq_true rfl) (Nat.zero_le _) (Nat.zero_le _) ?_
      refine e_goto 44 dX0_wrong_35 (by decide) ?_
      refine e_ireturn dX0_wrong_44 rfl rfl (Nat.zero_le _) (Nat.zero_le _) ?_
      have eS : sp_wrong (nI cp) d τ = (wrongN (prN (τ.2.2.1 85) (nI cp) P) d τ 40, b0 τ) := by rw [sp_wrong, if_neg (fun z => z h1), if_neg (fun z => z hsp), eP, ix_nI (by omega)]; rfl
      refine ⟨_, _, own, rfl, ?_, ?_⟩
      · rw [eS]
      · rw [eS]; exact hRel.st0
    · have h15 : ¬ (1 ≤ n ∧ n ≤ nI K) := h15
      refine e_if_eq_t 38 (by decide) dX0_wrong_18 (by decide) ?_
      refine e_aload_n dX0_wrong_38 0 rfl rfl rfl ?_
      refine e_bipush 8 dX0_wrong_39 rfl ?_
      refine e_callV1 (As := [.int 8]) (rest := []) dX0_wrong_41 rfl mvX0_169 (xm_o0) rfl (x_none 8) (Nat.le_of_ble_eq_true rfl) rfl rfl (Nat.le_of_ble_eq_true rfl) (Nat.zero_le _) (Nat.zero_le _) ?_
      refine e_ireturn dX0_wrong_44 rfl rfl (Nat.zero_le _) (Nat.zero_le _) ?_
      have eS : sp_wrong n d τ = (-1, bE τ 8) := by rw [sp_wrong, if_neg (fun z => z h1), if_pos (show ¬ spCopy n τ from fun z => h15 ⟨z.1, by rw [← eK]; exact z.2⟩)]
      refine ⟨_, _, own, rfl, ?_, ?_⟩
      · rw [eS]
      · rw [eS]; exact hRel.stE 8
  · have h1 : ¬ (0 ≤ d ∧ d ≤ 9999) := h1
    refine e_if_ne_f (by decide) 13 dX0_wrong_4 (by decide) ?_
    refine e_aload_n dX0_wrong_7 0 rfl rfl rfl ?_
    refine e_iconst 5 dX0_wrong_8 rfl ?_
    refine e_callV1 (As := [.int 5]) (rest := []) dX0_wrong_9 rfl mvX0_169 (xm_o0) rfl (x_none 5) (Nat.le_of_ble_eq_true rfl) rfl rfl (Nat.le_of_ble_eq_true rfl) (Nat.zero_le _) (Nat.zero_le _) ?_
    refine e_ireturn dX0_wrong_12 rfl rfl (Nat.zero_le _) (Nat.zero_le _) ?_
    have eS : sp_wrong n d τ = (-1, bE τ 5) := by rw [sp_wrong, if_pos h1]
    refine ⟨_, _, own, rfl, ?_, ?_⟩
    · rw [eS]
    · rw [eS]; exact hRel.stE 5

theorem spOf_eq {τ : Tw} {F : Nat → Nat} {P K p : Nat} (hP1 : P ≤ 20) (eP : τ.1 79 = nI P) (eK : τ.1 80 = nI K) (hFP : F P = K + 1) (hb : ∀ p, p ≤ P → F p ≤ 1 + 1000 * p ∧ p < F p) (hF : ∀ p, p < P → F p < F (p + 1) ∧ F (p + 1) ≤ F p + 1000 ∧ τ.2.2.1 85 p = nI (F p)) (hp : p < P) : spOf p τ = nI (F (p + 1) - F p) := by
  have h1 := hF p hp
  have h2 := hb p (by omega)
  have h3 := hb (p + 1) (by omega)
  unfold spOf
  rw [h1.2.2, eP]
  have e1 : (if nI (p + 1) < nI P then τ.2.2.1 85 (p + 1) else τ.1 80 + 1) = nI (F (p + 1)) := by
    by_cases h : p + 1 < P
    · rw [if_pos ((nI_ltN (by omega) (by omega)).mpr h)]; exact (hF (p + 1) h).2.2
    · rw [if_neg (fun z => h ((nI_ltN (by omega) (by omega)).mp z)), eK, show p + 1 = P by omega, hFP]; exact nI_add K 1
  rw [e1]
  exact pk_sub (by omega)
set_option maxHeartbeats 4000000 in
set_option maxRecDepth 100000 in
/-- a loop of bad -/
theorem x_bad_loop {ξ : Xs} {mid dyn : List ACell} {τ : Tw} (hI : RI ξ τ) (hA : RA ξ τ) {F : Nat → Nat} {C P K T : Nat} {d : Int32} (hP1 : P ≤ 20) (eP : τ.1 79 = nI P) (hT1 : T ≤ 60) (eT : τ.1 81 = nI T) (eK : τ.1 80 = nI K) (hF0 : F 0 = 1) (hFP : F P = K + 1) (hb : ∀ p, p ≤ P → F p ≤ 1 + 1000 * p ∧ p < F p) (hF : ∀ p, p < P → F p < F (p + 1) ∧ F (p + 1) ≤ F p + 1000 ∧ τ.2.2.1 85 p = nI (F p)) (hL : ∀ p, p < P → ξ.2.2.1 41 p = nI (F (p + 1) - 1)) (hC1 : C ≤ 100) (hcc : ∀ p, p < P → ∃ c, c ≤ C ∧ τ.2.2.1 86 p = nI c) {Q : Qfun} : ∀ (fuel : Nat) (q : Nat) (n : Int32), q ≤ P → P < q + fuel → n = badN d τ q → E cX0_bad (RX0, (some .int), 4, 2, (0, 0), false, []) Q noX 0 0 66 [some (.ref 0), some (.int d), some (.int (badN d τ P)), none] [] (XM ξ mid dyn) →
    E cX0_bad (RX0, (some .int), 4, 2, (0, 0), false, []) Q noX 0 0 17 [some (.ref 0), some (.int d), some (.int n), some (.int (nI q))] [] (XM ξ mid dyn) := by
  intro fuel
  induction fuel with
  | zero => intro q n hq hf hn hQ; exact absurd hf (by omega)
  | succ fuel ih =>
    intro q n hq hf hn hQ
    refine e_iload_n dX0_bad_17 3 rfl rfl ?_
    refine e_aload_n dX0_bad_18 0 rfl rfl rfl ?_
    refine e_getf (v := (.int (ξ.1 46))) dX0_bad_19 rfl fX0_466 (xm_o0) rfl ?_
    refine e_top (congrArg Value.int (hI.at 46 79 (by decide))) ?_
    refine e_top (congrArg Value.int eP) ?_
    refine e_icmp_geN q P 66 (by omega) (by omega) dX0_bad_22 (by decide) (fun h22 => ?_) (fun h22 => ?_)
    · refine e_forget (i := 3) (ln_s (ln_s (ln_s ln_0))) ?_
      have e1 : q = P := by omega
      subst e1
      rw [hn]; exact hQ
    · obtain ⟨c, hcC, ec⟩ := hcc q (by omega)
      have hc100 : c ≤ 100 := by omega
      have hb1 := hb q (by omega)
      have hb2 := hb (q + 1) (by omega)
      have hF1 := hF q (by omega)
      refine e_aload_n dX0_bad_25 0 rfl rfl rfl ?_
      refine e_iload_n dX0_bad_26 3 rfl rfl ?_
      refine e_iload_n dX0_bad_27 1 rfl rfl ?_
      refine e_callV1 (As := [.int (nI q), .int d]) (rest := []) dX0_bad_28 rfl mvX0_484 (xm_o0) rfl (x_wrongIn hI hA (p := q) (c := c) (T := T) (d := d) (by omega) ec hc100 hT1 eT) (Nat.le_of_ble_eq_true rfl) rfl rfl (Nat.le_of_ble_eq_true rfl) (Nat.zero_le _) (Nat.zero_le _) ?_
      refine e_if_le 60 dX0_bad_31 (by decide) (fun h31 => ?_) (fun h31 => ?_)
      · refine e_incN q (q + 1) (inc1 _) dX0_bad_60 rfl (ls_s (ls_s (ls_1 rfl))) (Nat.le_of_ble_eq_true rfl) ?_
        refine e_goto 17 dX0_bad_63 (by decide) ?_
        have hw : ¬ 0 < spWrong q d τ := Int32.not_lt.mpr h31
        refine ih (q + 1) _ (by omega) (by omega) ?_ hQ
        rw [badN, if_neg hw]; exact hn
      · refine e_iload_n dX0_bad_34 2 rfl rfl ?_
        refine e_aload_n dX0_bad_35 0 rfl rfl rfl ?_
        refine e_getf (v := (.ref 42)) dX0_bad_36 rfl fX0_114 (xm_o0) rfl ?_
        refine e_iload_n dX0_bad_39 3 rfl rfl ?_
        refine e_iald (f := ξ.2.2.1 41) (j := q) dX0_bad_40 (xm_a41) rfl (by omega) (by decide) ?_
        refine e_top (congrArg Value.int (hL q (by omega))) ?_
        refine e_iload_n dX0_bad_41 3 rfl rfl ?_
        refine e_if_neN q 49 (by omega) dX0_bad_42 (by decide) (fun h42 => ?_) (fun h42 => ?_)
        · refine e_aload_n dX0_bad_49 0 rfl rfl rfl ?_
          refine e_getf (v := (.ref 42)) dX0_bad_50 rfl fX0_114 (xm_o0) rfl ?_
          refine e_iload_n dX0_bad_53 3 rfl rfl ?_
          refine e_iconst 1 dX0_bad_54 rfl ?_
          refine e_isubN q 1 (by omega) dX0_bad_55 ?_
          refine e_iald (f := ξ.2.2.1 41) (j := q - 1) dX0_bad_56 (xm_a41) rfl (by omega) (by decide) ?_
          refine e_isub dX0_bad_57 ?_
          refine e_iadd dX0_bad_58 ?_
          refine e_istore_n dX0_bad_59 2 rfl (ls_s (ls_1 rfl)) (Nat.le_of_ble_eq_true rfl) ?_
          refine e_incN q (q + 1) (inc1 _) dX0_bad_60 rfl (ls_s (ls_s (ls_1 rfl))) (Nat.le_of_ble_eq_true rfl) ?_
          refine e_goto 17 dX0_bad_63 (by decide) ?_
          have hw : 0 < spWrong q d τ := Int32.not_le.mp h31
          have e1 : nI (F (q + 1) - 1) - ξ.2.2.1 41 (q - 1) = nI (F (q + 1) - F q) := by
            rw [hL (q - 1) (by omega), show q - 1 + 1 = q by omega, pk_sub (by omega)]; congr 1; omega
          refine ih (q + 1) _ (by omega) (by omega) ?_ hQ
          rw [badN, if_pos hw, spOf_eq hP1 eP eK hFP hb hF (by omega), ← hn, ← e1]
        · refine e_iconst 0 dX0_bad_45 rfl ?_
          refine e_goto 57 dX0_bad_46 (by decide) ?_
          refine e_isub dX0_bad_57 ?_
          refine e_iadd dX0_bad_58 ?_
          refine e_istore_n dX0_bad_59 2 rfl (ls_s (ls_1 rfl)) (Nat.le_of_ble_eq_true rfl) ?_
          refine e_incN q (q + 1) (inc1 _) dX0_bad_60 rfl (ls_s (ls_s (ls_1 rfl))) (Nat.le_of_ble_eq_true rfl) ?_
          refine e_goto 17 dX0_bad_63 (by decide) ?_
          have hw : 0 < spWrong q d τ := Int32.not_le.mp h31
          have e0 : q = 0 := h42
          have e1 : nI (F (q + 1) - 1) - (0 : Int32) = nI (F (q + 1) - F q) := by rw [show F q = 1 by rw [e0]; exact hF0]; exact Int32.sub_zero _
          refine ih (q + 1) _ (by omega) (by omega) ?_ hQ
          rw [badN, if_pos hw, spOf_eq hP1 eP eK hFP hb hF (by omega), ← hn, ← e1]

set_option maxHeartbeats 4000000 in
set_option maxRecDepth 100000 in
/-- WheelTables.bad -/
theorem x_bad {ξ : Xs} {mid dyn : List ACell} {τ : Tw} {own : Nat → Nat} (hm : mid.length = 61) (hRel : Rel own ξ dyn τ) (d : Int32) : Ct yX0_bad (ws_ yX0_bad cX0_bad 4 (some .int)) 2 0 0 [.ref 0, .int d] (XM ξ mid dyn) (XQi mid (sp_bad d τ)) noX := by
  obtain ⟨hI, hA, hB, hW, hP, hR, hT, hE, hC, hV⟩ := id hRel
  obtain ⟨C, P, T, K, F, ⟨hC1, eC, hP1, eP, hT1, eT, eK, hF0, hFP, hF, hcc⟩, hL⟩ := id hP
  have hbig := InvP.big hF0 (fun p hp => ⟨(hF p hp).1, (hF p hp).2.1⟩)
  refine Ct.of (ini := false) (ls := [some (.ref 0), some (.int d), none, none]) (by decide) (Nat.le_of_ble_eq_true rfl) (fun h => by cases h) rfl ?_
  refine e_iload_n dX0_bad_0 1 rfl rfl ?_
  refine e_callSB (As := [.int d]) (rest := []) dX0_bad_1 rfl msX0_454 (x_isDay d) (Nat.le_of_ble_eq_true rfl) rfl rfl (Nat.le_of_ble_eq_true rfl) (Nat.zero_le _) (Nat.zero_le _) (fun h1 => ?_) (fun h1 => ?_)
  · have h1 : (0 ≤ d ∧ d ≤ 9999) := h1
    refine e_if_ne_t 13 (by decide) dX0_bad_4 (by decide) ?_
    refine e_iconst 0 dX0_bad_13 rfl ?_
    refine e_istore_n dX0_bad_14 2 rfl (ls_s (ls_1 rfl)) (Nat.le_of_ble_eq_true rfl) ?_
    refine e_iconst 0 dX0_bad_15 rfl ?_
    refine e_istore_n dX0_bad_16 3 rfl (ls_s (ls_s (ls_1 rfl))) (Nat.le_of_ble_eq_true rfl) ?_
    refine x_bad_loop hI hA (d := d) hP1 eP hT1 eT eK hF0 hFP hbig hF hL hC1 hcc (P + 1) 0 0 (by omega) (by omega) rfl ?_
    refine e_aload_n dX0_bad_66 0 rfl rfl rfl ?_
    refine e_iload_n dX0_bad_67 2 rfl rfl ?_
    refine e_callV1 (As := [.int (badN d τ P)]) (rest := []) dX0_bad_68 rfl mvX0_215 (xm_o0) rfl (x_gives (badN d τ P)) (Nat.le_of_ble_eq_true rfl) rfl rfl (Nat.le_of_ble_eq_true rfl) (Nat.zero_le _) (Nat.zero_le _) ?_
    refine e_ireturn dX0_bad_71 rfl rfl (Nat.zero_le _) (Nat.zero_le _) ?_
    have eS : sp_bad d τ = (badN d τ P, b0 τ) := by rw [sp_bad, if_neg (fun z => z h1), eP, ix_nI (by omega)]
    refine ⟨_, _, own, rfl, ?_, ?_⟩
    · rw [eS]
    · rw [eS]; exact hRel.st0
  · have h1 : ¬ (0 ≤ d ∧ d ≤ 9999) := h1
    refine e_if_ne_f (by decide) 13 dX0_bad_4 (by decide) ?_
    refine e_aload_n dX0_bad_7 0 rfl rfl rfl ?_
    refine e_iconst 5 dX0_bad_8 rfl ?_
    refine e_callV1 (As := [.int 5]) (rest := []) dX0_bad_9 rfl mvX0_169 (xm_o0) rfl (x_none 5) (Nat.le_of_ble_eq_true rfl) rfl rfl (Nat.le_of_ble_eq_true rfl) (Nat.zero_le _) (Nat.zero_le _) ?_
    refine e_ireturn dX0_bad_12 rfl rfl (Nat.zero_le _) (Nat.zero_le _) ?_
    have eS : sp_bad d τ = (-1, bE τ 5) := by rw [sp_bad, if_pos h1]
    refine ⟨_, _, own, rfl, ?_, ?_⟩
    · rw [eS]
    · rw [eS]; exact hRel.stE 5

set_option maxHeartbeats 4000000 in
set_option maxRecDepth 100000 in
/-- WheelTables.print -/
theorem x_print {ξ : Xs} {mid dyn : List ACell} {τ : Tw} {own : Nat → Nat} (hm : mid.length = 61) (hRel : Rel own ξ dyn τ) (d n : Int32) : Ct yX0_print (ws_ yX0_print cX0_print 4 (some .int)) 2 0 0 [.ref 0, .int d, .int n] (XM ξ mid dyn) (XQi mid (sp_print d n τ)) noX := by
  obtain ⟨hI, hA, hB, hW, hP, hR, hT, hE, hC, hV⟩ := id hRel
  obtain ⟨C, P, T, K, F, ⟨hC1, eC, hP1, eP, hT1, eT, eK, hF0, hFP, hF, hcc⟩, hL⟩ := id hP
  have hbig := InvP.big hF0 (fun p hp => ⟨(hF p hp).1, (hF p hp).2.1⟩)
  have hb : ∀ p, p ≤ P → F p ≤ 1 + 1000 * p ∧ p < F p := hbig
  have e46 : ξ.1 46 = nI P := (hI.at 46 79 (by decide)).trans eP
  have hbP := hb P (Nat.le_refl _)
  refine Ct.of (ini := false) (ls := [some (.ref 0), some (.int d), some (.int n), none]) (by decide) (Nat.le_of_ble_eq_true rfl) (fun h => by cases h) rfl ?_
  refine e_iload_n dX0_print_0 1 rfl rfl ?_
  refine e_callSB (As := [.int d]) (rest := []) dX0_print_1 rfl msX0_454 (x_isDay d) (Nat.le_of_ble_eq_true rfl) rfl rfl (Nat.le_of_ble_eq_true rfl) (Nat.zero_le _) (Nat.zero_le _) (fun h1 => ?_) (fun h1 => ?_)
  · have h1 : (0 ≤ d ∧ d ≤ 9999) := h1
    refine e_if_eq_f (by decide) 19 dX0_print_4 (by decide) ?_
    refine e_iload_n dX0_print_7 2 rfl rfl ?_
    refine e_iconst 1 dX0_print_8 rfl ?_
    refine e_icmp_lt 19 dX0_print_9 (by decide) (fun h9 => ?_) (fun h9 => ?_)
    · refine e_aload_n dX0_print_19 0 rfl rfl rfl ?_
      refine e_iconst 5 dX0_print_20 rfl ?_
      refine e_callV1 (As := [.int 5]) (rest := []) dX0_print_21 rfl mvX0_169 (xm_o0) rfl (x_none 5) (Nat.le_of_ble_eq_true rfl) rfl rfl (Nat.le_of_ble_eq_true rfl) (Nat.zero_le _) (Nat.zero_le _) ?_
      refine e_ireturn dX0_print_24 rfl rfl (Nat.zero_le _) (Nat.zero_le _) ?_
      have eS : sp_print d n τ = (-1, bE τ 5) := by rw [sp_print, if_pos (fun z => i32_lt h9 z.2.1)]
      refine ⟨_, _, own, rfl, ?_, ?_⟩
      · rw [eS]
      · rw [eS]; exact hRel.stE 5
    · refine e_iload_n dX0_print_12 2 rfl rfl ?_
      refine e_sipush 1000 dX0_print_13 rfl ?_
      refine e_icmp_le 25 dX0_print_16 (by decide) (fun h16 => ?_) (fun h16 => ?_)
      · refine e_aload_n dX0_print_25 0 rfl rfl rfl ?_
        refine e_getf (v := (.int (ξ.1 46))) dX0_print_26 rfl fX0_466 (xm_o0) rfl ?_
        refine e_top (congrArg Value.int (hI.at 46 79 (by decide))) ?_
        refine e_top (congrArg Value.int eP) ?_
        refine e_bipush 20 dX0_print_29 rfl ?_
        refine e_icmp_neN P 20 41 (by omega) (by omega) dX0_print_31 (by decide) (fun h31 => ?_) (fun h31 => ?_)
        · refine e_iload_n dX0_print_41 1 rfl rfl ?_
          refine e_aload_n dX0_print_42 0 rfl rfl rfl ?_
          refine e_getf (v := (.int (ξ.1 48))) dX0_print_43 rfl fX0_463 (xm_o0) rfl ?_
          refine e_top (congrArg Value.int (hI.at 48 77 (by decide))) ?_
          refine e_icmp_ge 56 dX0_print_46 (by decide) (fun h46 => ?_) (fun h46 => ?_)
          · obtain ⟨n_n, hn_n, rfl⟩ := in_oc (x := n) (c := 1000) 1000 (by decide) (Int32.le_trans (by decide) (i32_nlt h9)) h16
            have hn1 : 1 ≤ n_n := (nI_leN (a := 1) (by omega) (by omega)).mp (i32_nlt h9)
            refine e_aload_n dX0_print_56 0 rfl rfl rfl ?_
            refine e_iload_n dX0_print_57 1 rfl rfl ?_
            refine e_xputI dX0_print_58 rfl pX0_463 rfl (xm_o0) (Nat.le_of_ble_eq_true rfl) (xm_f48 _) ?_
            refine e_aload_n dX0_print_61 0 rfl rfl rfl ?_
            refine e_callV1 (As := []) (rest := []) dX0_print_62 rfl mvX0_469 (xm_o0) rfl (x_copies hP1 hF0 hFP hb (by exact e46) hL) (Nat.le_of_ble_eq_true rfl) rfl rfl (Nat.le_of_ble_eq_true rfl) (Nat.zero_le _) (Nat.zero_le _) ?_
            refine e_iload_n dX0_print_65 2 rfl rfl ?_
            refine e_iaddN K n_n dX0_print_66 ?_
            refine e_istore_n dX0_print_67 3 rfl (ls_s (ls_s (ls_1 rfl))) (Nat.le_of_ble_eq_true rfl) ?_
            refine e_aload_n dX0_print_68 0 rfl rfl rfl ?_
            refine e_getf (v := (.ref 41)) dX0_print_69 rfl fX0_111 (xm_o0) rfl ?_
            refine e_aload_n dX0_print_72 0 rfl rfl rfl ?_
            refine e_getf (v := (.int (ξ.1 46))) dX0_print_73 rfl fX0_466 (xm_o0) rfl ?_
            refine e_top (congrArg Value.int (hI.at 46 79 (by decide))) ?_
            refine e_top (congrArg Value.int eP) ?_
            refine e_aload_n dX0_print_76 0 rfl rfl rfl ?_
            refine e_getf (v := (.int (ξ.1 45))) dX0_print_77 rfl fX0_460 (xm_o0) rfl ?_
            refine e_top (congrArg Value.int (hI.at 45 78 (by decide))) ?_
            refine e_top (congrArg Value.int eC) ?_
            refine e_iast (f := ξ.2.2.1 40) (j := P) dX0_print_80 (xm_a40) rfl (by omega) (by decide) ?_
            rw [xm_s40]
            refine e_aload_n dX0_print_81 0 rfl rfl rfl ?_
            refine e_getf (v := (.ref 42)) dX0_print_82 rfl fX0_114 (xm_o0) rfl ?_
            refine e_aload_n dX0_print_85 0 rfl rfl rfl ?_
            refine e_getf (v := (.int (ξ.1 46))) dX0_print_86 rfl fX0_466 (xm_o0) rfl ?_
            refine e_top (congrArg Value.int (hI.at 46 79 (by decide))) ?_
            refine e_top (congrArg Value.int eP) ?_
            refine e_iload_n dX0_print_89 3 rfl rfl ?_
            refine e_iast (f := ξ.2.2.1 41) (j := P) dX0_print_90 (xm_a41) rfl (by omega) (by decide) ?_
            rw [xm_s41]
            refine e_aload_n dX0_print_91 0 rfl rfl rfl ?_
            refine e_dup dX0_print_92 rfl ?_
            refine e_getf (v := (.int (ξ.1 46))) dX0_print_93 rfl fX0_466 (xm_o0) rfl ?_
            refine e_top (congrArg Value.int (hI.at 46 79 (by decide))) ?_
            refine e_top (congrArg Value.int eP) ?_
            refine e_iconst 1 dX0_print_96 rfl ?_
            refine e_iaddN P 1 dX0_print_97 ?_
            refine e_xputI dX0_print_98 rfl pX0_466 rfl (xm_o0) (Nat.le_of_ble_eq_true rfl) (xm_f46 _) ?_
            refine e_aload_n dX0_print_101 0 rfl rfl rfl ?_
            refine e_iload_n dX0_print_102 3 rfl rfl ?_
            refine e_callV1 (As := [.int (nI (K + n_n))]) (rest := []) dX0_print_103 rfl mvX0_215 (xm_o0) rfl (x_gives (nI (K + n_n))) (Nat.le_of_ble_eq_true rfl) rfl rfl (Nat.le_of_ble_eq_true rfl) (Nat.zero_le _) (Nat.zero_le _) ?_
            refine e_ireturn dX0_print_106 rfl rfl (Nat.zero_le _) (Nat.zero_le _) ?_
            have hP2 : ∀ (ξ1 : Xs) (τ1 : Tw), ξ1.2.2.1 41 = upd (ξ.2.2.1 41) P (nI (K + n_n)) → τ1.1 78 = τ.1 78 → τ1.1 79 = nI (P + 1) → τ1.1 81 = τ.1 81 → τ1.1 80 = nI (K + n_n) → τ1.2.2.1 85 = upd (τ.2.2.1 85) P (nI (K + 1)) → τ1.2.2.1 86 = upd (τ.2.2.1 86) P (nI C) → RP ξ1 τ1 := by
              intro ξ1 τ1 h1 h2 h3 h4 h5 h6 h7
              have hFe : ∀ p, p ≤ P → (fun q => if q = P + 1 then K + n_n + 1 else F q) p = F p := fun p hp => if_neg (by omega)
              have hFs : (fun q => if q = P + 1 then K + n_n + 1 else F q) (P + 1) = K + n_n + 1 := if_pos rfl
              refine ⟨C, P + 1, T, K + n_n, fun q => if q = P + 1 then K + n_n + 1 else F q, ⟨hC1, h2.trans eC, by omega, h3, hT1, h4.trans eT, h5, (hFe 0 (by omega)).trans hF0, hFs, fun p hp => ?_, fun p hp => ?_⟩, fun p hp => ?_⟩
              · by_cases e : p = P
                · subst e
                  rw [hFs, hFe p (by omega), hFP, h6, pk_us]
                  exact ⟨by omega, by omega, rfl⟩
                · rw [hFe p (by omega), hFe (p + 1) (by omega), h6, pk_un e]
                  exact hF p (by omega)
              · rw [h7]
                by_cases e : p = P
                · subst e; rw [pk_us]; exact ⟨C, by omega, rfl⟩
                · rw [pk_un e]
                  exact hcc p (by omega)
              · rw [h1]
                by_cases e : p = P
                · subst e
                  rw [pk_us, hFs, show K + n_n + 1 - 1 = K + n_n by omega]
                · rw [pk_un e, hFe (p + 1) (by omega)]; exact hL p (by omega)
            have eS : sp_print d (nI n_n) τ = (nI (K + n_n), tI (tI (tI (tA (tA (b0 τ) 85 (upd (τ.2.2.1 85) P (nI (K + 1)))) 86 (upd (τ.2.2.1 86) P (nI C))) 79 (nI (P + 1))) 80 (nI (K + n_n))) 77 d) := by rw [sp_print, if_neg (fun z => z ⟨h1, i32_nlt h9, h16⟩), if_neg (show ¬ τ.1 79 = 20 from fun z => h31 ((nI_eqN (b := 20) (by omega) (by omega)).mp (eP.symm.trans z))), if_neg (i32_le h46), eP, eK, eC, ix_nI (by omega), show nI P + 1 = nI (P + 1) from nI_add P 1, show nI K + 1 = nI (K + 1) from nI_add K 1, nI_add]
            refine ⟨_, _, own, rfl, ?_, ?_⟩
            · rw [eS]
            · rw [eS]; exact ⟨(by
              intro q hq
              simp only [rlI, List.mem_cons, List.not_mem_nil, or_false] at hq
              rcases hq with rfl | rfl | rfl | rfl | rfl | rfl | rfl | rfl | rfl | rfl | rfl | rfl | rfl | rfl | rfl | rfl | rfl
              · first | exact hI (8, 0) (by decide) | rfl
              · first | exact hI (6, 5) (by decide) | rfl
              · first | exact hI (7, 41) (by decide) | rfl
              · first | exact hI (9, 31) (by decide) | rfl
              · first | exact hI (10, 32) (by decide) | rfl
              · first | exact hI (101, 29) (by decide) | rfl
              · first | exact hI (25, 60) (by decide) | rfl
              · first | exact hI (26, 61) (by decide) | rfl
              · first | exact hI (20, 62) (by decide) | rfl
              · first | exact hI (21, 63) (by decide) | rfl
              · first | exact hI (22, 64) (by decide) | rfl
              · first | exact hI (24, 66) (by decide) | rfl
              · first | exact hI (45, 78) (by decide) | rfl
              · first | exact hI (46, 79) (by decide) | rfl
              · first | exact hI (47, 81) (by decide) | rfl
              · first | exact hI (48, 77) (by decide) | rfl
              · first | exact hI (55, 82) (by decide) | rfl), (by
              intro q hq
              simp only [rlA, List.mem_cons, List.not_mem_nil, or_false] at hq
              rcases hq with rfl | rfl | rfl | rfl | rfl | rfl | rfl | rfl | rfl | rfl
              · first | exact hA (100, 28) (by decide) | rfl | exact congrArg (fun z => upd z _ _) (hA (100, 28) (by decide)) | exact congrArg (fun z => upd (upd z _ _) _ _) (hA (100, 28) (by decide))
              · first | exact hA (38, 83) (by decide) | rfl | exact congrArg (fun z => upd z _ _) (hA (38, 83) (by decide)) | exact congrArg (fun z => upd (upd z _ _) _ _) (hA (38, 83) (by decide))
              · first | exact hA (39, 84) (by decide) | rfl | exact congrArg (fun z => upd z _ _) (hA (39, 84) (by decide)) | exact congrArg (fun z => upd (upd z _ _) _ _) (hA (39, 84) (by decide))
              · first | exact hA (40, 86) (by decide) | rfl | exact congrArg (fun z => upd z _ _) (hA (40, 86) (by decide)) | exact congrArg (fun z => upd (upd z _ _) _ _) (hA (40, 86) (by decide))
              · first | exact hA (42, 87) (by decide) | rfl | exact congrArg (fun z => upd z _ _) (hA (42, 87) (by decide)) | exact congrArg (fun z => upd (upd z _ _) _ _) (hA (42, 87) (by decide))
              · first | exact hA (43, 88) (by decide) | rfl | exact congrArg (fun z => upd z _ _) (hA (43, 88) (by decide)) | exact congrArg (fun z => upd (upd z _ _) _ _) (hA (43, 88) (by decide))
              · first | exact hA (44, 89) (by decide) | rfl | exact congrArg (fun z => upd z _ _) (hA (44, 89) (by decide)) | exact congrArg (fun z => upd (upd z _ _) _ _) (hA (44, 89) (by decide))
              · first | exact hA (49, 90) (by decide) | rfl | exact congrArg (fun z => upd z _ _) (hA (49, 90) (by decide)) | exact congrArg (fun z => upd (upd z _ _) _ _) (hA (49, 90) (by decide))
              · first | exact hA (50, 91) (by decide) | rfl | exact congrArg (fun z => upd z _ _) (hA (50, 91) (by decide)) | exact congrArg (fun z => upd (upd z _ _) _ _) (hA (50, 91) (by decide))
              · first | exact hA (51, 92) (by decide) | rfl | exact congrArg (fun z => upd z _ _) (hA (51, 92) (by decide)) | exact congrArg (fun z => upd (upd z _ _) _ _) (hA (51, 92) (by decide))), hB, hW, hP2 _ _ rfl rfl rfl rfl rfl rfl rfl, hR, hT, hE, hC, hV⟩
          · refine e_aload_n dX0_print_49 0 rfl rfl rfl ?_
            refine e_bipush 12 dX0_print_50 rfl ?_
            refine e_callV1 (As := [.int 12]) (rest := []) dX0_print_52 rfl mvX0_169 (xm_o0) rfl (x_none 12) (Nat.le_of_ble_eq_true rfl) rfl rfl (Nat.le_of_ble_eq_true rfl) (Nat.zero_le _) (Nat.zero_le _) ?_
            refine e_ireturn dX0_print_55 rfl rfl (Nat.zero_le _) (Nat.zero_le _) ?_
            have eS : sp_print d n τ = (-1, bE τ 12) := by rw [sp_print, if_neg (fun z => z ⟨h1, i32_nlt h9, h16⟩), if_neg (show ¬ τ.1 79 = 20 from fun z => h31 ((nI_eqN (b := 20) (by omega) (by omega)).mp (eP.symm.trans z))), if_pos (Int32.not_le.mp h46)]
            refine ⟨_, _, own, rfl, ?_, ?_⟩
            · rw [eS]
            · rw [eS]; exact hRel.stE 12
        · refine e_aload_n dX0_print_34 0 rfl rfl rfl ?_
          refine e_bipush 7 dX0_print_35 rfl ?_
          refine e_callV1 (As := [.int 7]) (rest := []) dX0_print_37 rfl mvX0_169 (xm_o0) rfl (x_none 7) (Nat.le_of_ble_eq_true rfl) rfl rfl (Nat.le_of_ble_eq_true rfl) (Nat.zero_le _) (Nat.zero_le _) ?_
          refine e_ireturn dX0_print_40 rfl rfl (Nat.zero_le _) (Nat.zero_le _) ?_
          have eS : sp_print d n τ = (-1, bE τ 7) := by rw [sp_print, if_neg (fun z => z ⟨h1, i32_nlt h9, h16⟩), if_pos (by rw [eP, h31]; rfl)]
          refine ⟨_, _, own, rfl, ?_, ?_⟩
          · rw [eS]
          · rw [eS]; exact hRel.stE 7
      · refine e_aload_n dX0_print_19 0 rfl rfl rfl ?_
        refine e_iconst 5 dX0_print_20 rfl ?_
        refine e_callV1 (As := [.int 5]) (rest := []) dX0_print_21 rfl mvX0_169 (xm_o0) rfl (x_none 5) (Nat.le_of_ble_eq_true rfl) rfl rfl (Nat.le_of_ble_eq_true rfl) (Nat.zero_le _) (Nat.zero_le _) ?_
        refine e_ireturn dX0_print_24 rfl rfl (Nat.zero_le _) (Nat.zero_le _) ?_
        have eS : sp_print d n τ = (-1, bE τ 5) := by rw [sp_print, if_pos (fun z => h16 z.2.2)]
        refine ⟨_, _, own, rfl, ?_, ?_⟩
        · rw [eS]
        · rw [eS]; exact hRel.stE 5
  · have h1 : ¬ (0 ≤ d ∧ d ≤ 9999) := h1
    refine e_if_eq_t 19 (by decide) dX0_print_4 (by decide) ?_
    refine e_aload_n dX0_print_19 0 rfl rfl rfl ?_
    refine e_iconst 5 dX0_print_20 rfl ?_
    refine e_callV1 (As := [.int 5]) (rest := []) dX0_print_21 rfl mvX0_169 (xm_o0) rfl (x_none 5) (Nat.le_of_ble_eq_true rfl) rfl rfl (Nat.le_of_ble_eq_true rfl) (Nat.zero_le _) (Nat.zero_le _) ?_
    refine e_ireturn dX0_print_24 rfl rfl (Nat.zero_le _) (Nat.zero_le _) ?_
    have eS : sp_print d n τ = (-1, bE τ 5) := by rw [sp_print, if_pos (fun z => h1 z.1)]
    refine ⟨_, _, own, rfl, ?_, ?_⟩
    · rw [eS]
    · rw [eS]; exact hRel.stE 5

