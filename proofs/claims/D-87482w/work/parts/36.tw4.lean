/-! ===== the twin: plates (2), jobs ===== -/
theorem wrongN_b (p : Nat) (d : Int32) (τ : Tw) : ∀ r, wrongN p d (tI (tI τ 1 0) 0 0) r = wrongN p d τ r
  | 0 => rfl
  | r + 1 => by rw [wrongN, wrongN, wrongN_b p d τ r]; rfl
theorem badN_b (d : Int32) (τ : Tw) : ∀ P, badN d (tI (tI τ 1 0) 0 0) P = badN d τ P
  | 0 => rfl
  | P + 1 => by
    rw [badN, badN, badN_b d τ P, show spWrong P d (tI (tI τ 1 0) 0 0) = spWrong P d τ from wrongN_b P d τ 40]; rfl
theorem prN_lt {f : Nat → Int32} {n : Int32} : ∀ {P : Nat}, 0 < P → prN f n P < P
  | 0, h => absurd h (Nat.lt_irrefl 0)
  | p + 1, _ => by
    rw [prN]
    split
    · omega
    · by_cases h : 0 < p
      · have := prN_lt (f := f) (n := n) h; omega
      · have e : p = 0 := by omega
        subst e; rw [prN]; omega
/-- a copy that there is: of some printing -/
theorem cp_ok {τ : Tw} {n : Int32} {F : Nat → Nat} {P K : Nat} (hP : P ≤ 20) (hF0 : F 0 = 1) (hFK : F P = K + 1) (eK : τ.1 80 = nI K) (hF : ∀ p, p < P → F p < F (p + 1) ∧ F (p + 1) ≤ F p + 1000 ∧ τ.2.2.1 85 p = nI (F p)) (h : spCopy n τ) : 0 < P ∧ nI (F 0) ≤ n := by
  rw [hF0]
  refine ⟨?_, h.1⟩
  rcases Nat.eq_zero_or_pos P with e | e
  · subst e
    have hK : K = 0 := by omega
    obtain ⟨h1, h2⟩ := h
    rw [eK, hK] at h2
    exact absurd (Int32.le_trans h1 h2) (by decide)
  · exact e
set_option maxHeartbeats 4000000 in
set_option maxRecDepth 100000 in
/-- WheelTablesModel.says -/
theorem t_says {pre post : List ACell} {τ : Tw} (hp : pre.length = 56) (hI : InvP τ) (n r : Int32) : Ct yX4_says (ws_ yX4_says cX4_says 3 (some .int)) 2 0 0 [.ref 56, .int n, .int r] (TW pre τ post) (TQi pre post (sp_says n r τ)) noX := by
  obtain ⟨C, P, T, K, F, hC, eC, hP, eP, hT, eT, eK, hF0, hFK, hF, hcP⟩ := id hI
  obtain ⟨cf, hcf⟩ : ∃ cf : Nat → Nat, ∀ p, p < P → cf p ≤ C ∧ τ.2.2.1 86 p = nI (cf p) := by
    refine ⟨fun p => ix (τ.2.2.1 86 p), fun p hp => ?_⟩
    obtain ⟨c, h1, h2⟩ := hcP p hp
    simp only [h2, ix_nI (show c < 2147483648 by omega)]
    exact ⟨h1, trivial⟩
  have hcl : ∀ p, p < P → cf p ≤ 100 := fun p hp => Nat.le_trans (hcf p hp).1 hC
  have hce : ∀ p, p < P → τ.2.2.1 86 p = nI (cf p) := fun p hp => (hcf p hp).2
  refine Ct.of (ini := false) (ls := [some (.ref 56), some (.int n), some (.int r)]) (by decide) (Nat.le_of_ble_eq_true rfl) (fun h => by cases h) rfl ?_
  refine e_aload_n dX4_says_0 0 rfl rfl rfl ?_
  refine e_iconst 0 dX4_says_1 rfl ?_
  refine e_tputI dX4_says_2 rfl pX4_212 rfl hp (Nat.le_of_ble_eq_true rfl) (tw_f1 _) ?_
  refine e_aload_n dX4_says_5 0 rfl rfl rfl ?_
  refine e_iconst 0 dX4_says_6 rfl ?_
  refine e_tputI dX4_says_7 rfl pX4_215 rfl hp (Nat.le_of_ble_eq_true rfl) (tw_f0 _) ?_
  refine e_iload_n dX4_says_10 2 rfl rfl ?_
  refine e_callSB (As := [.int r]) (rest := []) dX4_says_11 rfl msX4_522 (t_isRow r) (Nat.le_of_ble_eq_true rfl) rfl rfl (Nat.le_of_ble_eq_true rfl) (Nat.zero_le _) (Nat.zero_le _) (fun h11 => ?_) (fun h11 => ?_)
  · refine e_if_ne_t 23 (by decide) dX4_says_14 (by decide) ?_
    refine e_aload_n dX4_says_23 0 rfl rfl rfl ?_
    refine e_iload_n dX4_says_24 1 rfl rfl ?_
    refine e_callVB (As := [.int n]) (rest := []) dX4_says_25 rfl mvX4_545 (tw_o hp) rfl (t_isCopy hp n) (Nat.le_of_ble_eq_true rfl) rfl rfl (Nat.le_of_ble_eq_true rfl) (Nat.zero_le _) (Nat.zero_le _) (fun h25 => ?_) (fun h25 => ?_)
    · have h25 : (spCopy n τ) := h25
      refine e_if_eq_f (by decide) 44 dX4_says_28 (by decide) ?_
      refine e_aload_n dX4_says_31 0 rfl rfl rfl ?_
      refine e_aload_n dX4_says_32 0 rfl rfl rfl ?_
      refine e_iload_n dX4_says_33 1 rfl rfl ?_
      refine e_callV1 (As := [.int n]) (rest := [.ref 56]) dX4_says_34 rfl mvX4_548 (tw_o hp) rfl (t_prOf hp hP hF (cp_ok hP hF0 hFK eK hF h25).2 (by exact eP) (cp_ok hP hF0 hFK eK hF h25).1) (Nat.le_of_ble_eq_true rfl) rfl rfl (Nat.le_of_ble_eq_true rfl) (Nat.zero_le _) (Nat.zero_le _) ?_
      refine e_iload_n dX4_says_37 2 rfl rfl ?_
      refine e_callV1 (As := [.int (nI (prN (τ.2.2.1 85) n P)), .int r]) (rest := []) dX4_says_38 rfl mvX4_551 (tw_o hp) rfl (t_say hp hP (prN_lt (cp_ok hP hF0 hFK eK hF h25).1) (hcl _ (prN_lt (cp_ok hP hF0 hFK eK hF h25).1)) (by exact (hce _ (prN_lt (cp_ok hP hF0 hFK eK hF h25).1))) r) (Nat.le_of_ble_eq_true rfl) rfl rfl (Nat.le_of_ble_eq_true rfl) (Nat.zero_le _) (Nat.zero_le _) ?_
      refine e_goto 50 dX4_says_41 (by decide) ?_
      refine e_ireturn dX4_says_50 rfl rfl (Nat.zero_le _) (Nat.zero_le _) ?_
      refine TQi.of ?_
      rw [sp_says, if_neg (fun z => z h11), if_neg (fun z => z h25), eP, ix_nI (show P < 2147483648 by omega)]
      rfl
    · have h25 : ¬ (spCopy n τ) := h25
      refine e_if_eq_t 44 (by decide) dX4_says_28 (by decide) ?_
      refine e_aload_n dX4_says_44 0 rfl rfl rfl ?_
      refine e_bipush 8 dX4_says_45 rfl ?_
      refine e_callV1 (As := [.int 8]) (rest := []) dX4_says_47 rfl mvX4_252 (tw_o hp) rfl (t_refuse hp 8) (Nat.le_of_ble_eq_true rfl) rfl rfl (Nat.le_of_ble_eq_true rfl) (Nat.zero_le _) (Nat.zero_le _) ?_
      refine e_ireturn dX4_says_50 rfl rfl (Nat.zero_le _) (Nat.zero_le _) ?_
      refine TQi.of ?_
      first | (simp only [eP, ix_nI (show P < 2147483648 by omega), spRow, spNum, spDay, spCopy, spIsJob, nI_1, sp_says, h11, h25, or_true, true_or, or_self, or_false, false_or, and_true, true_and, and_false, false_and, if_true, if_false, not_true_eq_false, not_false_eq_true]; done) | (simp only [eP, ix_nI (show P < 2147483648 by omega), spRow, spNum, spDay, spCopy, spIsJob, nI_1, sp_says, h11, h25, or_true, true_or, or_self, or_false, false_or, and_true, true_and, and_false, false_and, if_true, if_false, not_true_eq_false, not_false_eq_true]; rfl)
  · refine e_if_ne_f (by decide) 23 dX4_says_14 (by decide) ?_
    refine e_aload_n dX4_says_17 0 rfl rfl rfl ?_
    refine e_iconst 2 dX4_says_18 rfl ?_
    refine e_callV1 (As := [.int 2]) (rest := []) dX4_says_19 rfl mvX4_252 (tw_o hp) rfl (t_refuse hp 2) (Nat.le_of_ble_eq_true rfl) rfl rfl (Nat.le_of_ble_eq_true rfl) (Nat.zero_le _) (Nat.zero_le _) ?_
    refine e_ireturn dX4_says_22 rfl rfl (Nat.zero_le _) (Nat.zero_le _) ?_
    refine TQi.of ?_
    first | (simp only [eP, ix_nI (show P < 2147483648 by omega), spRow, spNum, spDay, spCopy, spIsJob, nI_1, sp_says, h11, or_true, true_or, or_self, or_false, false_or, and_true, true_and, and_false, false_and, if_true, if_false, not_true_eq_false, not_false_eq_true]; done) | (simp only [eP, ix_nI (show P < 2147483648 by omega), spRow, spNum, spDay, spCopy, spIsJob, nI_1, sp_says, h11, or_true, true_or, or_self, or_false, false_or, and_true, true_and, and_false, false_and, if_true, if_false, not_true_eq_false, not_false_eq_true]; rfl)

theorem lastN_in {row day : Nat → Int32} {r d : Int32} : ∀ {k : Nat}, lastN row day r d k = -1 ∨ ∃ j, j < k ∧ lastN row day r d k = nI j
  | 0 => Or.inl rfl
  | k + 1 => by
    rw [lastN]
    split
    · exact Or.inr ⟨k, Nat.lt_succ_self k, rfl⟩
    · rcases lastN_in (row := row) (day := day) (r := r) (d := d) (k := k) with h | ⟨j, h1, h2⟩
      · exact Or.inl h
      · exact Or.inr ⟨j, by omega, h2⟩
set_option maxHeartbeats 4000000 in
set_option maxRecDepth 100000 in
/-- a loop of wrongOf -/
theorem t_wr_in {pre post : List ACell} {τ : Tw} (hp : pre.length = 56) {P T p c : Nat} {d : Int32} (hP : P ≤ 20) (hp1 : p < P) (hc : c ≤ 100) (ec : τ.2.2.1 86 p = nI c) (hT : T ≤ 60) (eT : τ.1 81 = nI T) {Q : Qfun} {n : Int32} {r : Nat} : ∀ (fuel : Nat) (k : Nat) (x : Int32), k ≤ T → T < k + fuel → x = lastN (τ.2.2.1 88) (τ.2.2.1 87) (nI r) d k → E cX4_wrongOf (RX4, some .int, 7, 1, (0, 0), false, []) Q noX 0 0 60 [some (.ref 56), some (.int (nI p)), some (.int d), some (.int n), some (.int (nI r)), some (.int (lastN (τ.2.2.1 88) (τ.2.2.1 87) (nI r) d T)), some (.int (nI T))] [] (TW pre τ post) →
    E cX4_wrongOf (RX4, (some .int), 7, 1, (0, 0), false, []) Q noX 0 0 18 [some (.ref 56), some (.int (nI p)), some (.int d), some (.int n), some (.int (nI r)), some (.int x), some (.int (nI k))] [] (TW pre τ post) := by
  intro fuel
  induction fuel with
  | zero => intro k x hk hf hx hE; exact absurd hf (by omega)
  | succ fuel ih =>
    intro k x hk hf hx hE
    refine e_iload dX4_wrongOf_18 rfl ?_
    refine e_aload_n dX4_wrongOf_20 0 rfl rfl rfl ?_
    refine e_getf (v := .int (τ.1 81)) dX4_wrongOf_21 rfl fX4_542 (tw_o hp) rfl ?_
    refine e_top (congrArg Value.int eT) ?_
    refine e_icmp_geN k T 60 (by omega) (by omega) dX4_wrongOf_24 (by decide) (fun h24 => ?_) (fun h24 => ?_)
    · have e : k = T := by omega
      subst e
      rw [hx]; exact hE
    · refine e_aload_n dX4_wrongOf_27 0 rfl rfl rfl ?_
      refine e_getf (v := .ref 106) dX4_wrongOf_28 rfl fX4_179 (tw_o hp) rfl ?_
      refine e_iload dX4_wrongOf_31 rfl ?_
      refine e_iald (f := τ.2.2.1 88) (j := k) dX4_wrongOf_33 (tw_a88 hp) rfl (by omega) (by decide) ?_
      refine e_iload dX4_wrongOf_34 rfl ?_
      refine e_icmp_ne 54 dX4_wrongOf_36 (by decide) (fun h36 => ?_) (fun h36 => ?_)
      · refine e_incN k (k + 1) (inc1 _) dX4_wrongOf_54 rfl (ls_s (ls_s (ls_s (ls_s (ls_s (ls_1 rfl)))))) (Nat.le_of_ble_eq_true rfl) ?_
        refine e_goto 18 dX4_wrongOf_57 (by decide) ?_
        exact ih (k + 1) _ (by omega) (by omega) (by first | (rw [lastN, if_pos ⟨h36, Int32.not_lt.mp h47⟩]; done) | (rw [lastN, if_neg (fun z => absurd z.1 h36)]; exact hx) | (rw [lastN, if_neg (fun z => absurd h47 (Int32.not_lt.mpr z.2))]; exact hx)) hE
      · refine e_aload_n dX4_wrongOf_39 0 rfl rfl rfl ?_
        refine e_getf (v := .ref 105) dX4_wrongOf_40 rfl fX4_176 (tw_o hp) rfl ?_
        refine e_iload dX4_wrongOf_43 rfl ?_
        refine e_iald (f := τ.2.2.1 87) (j := k) dX4_wrongOf_45 (tw_a87 hp) rfl (by omega) (by decide) ?_
        refine e_iload_n dX4_wrongOf_46 2 rfl rfl ?_
        refine e_icmp_gt 54 dX4_wrongOf_47 (by decide) (fun h47 => ?_) (fun h47 => ?_)
        · refine e_incN k (k + 1) (inc1 _) dX4_wrongOf_54 rfl (ls_s (ls_s (ls_s (ls_s (ls_s (ls_1 rfl)))))) (Nat.le_of_ble_eq_true rfl) ?_
          refine e_goto 18 dX4_wrongOf_57 (by decide) ?_
          exact ih (k + 1) _ (by omega) (by omega) (by first | (rw [lastN, if_pos ⟨h36, Int32.not_lt.mp h47⟩]; done) | (rw [lastN, if_neg (fun z => absurd z.1 h36)]; exact hx) | (rw [lastN, if_neg (fun z => absurd h47 (Int32.not_lt.mpr z.2))]; exact hx)) hE
        · refine e_iload dX4_wrongOf_50 rfl ?_
          refine e_istore dX4_wrongOf_52 (ls_s (ls_s (ls_s (ls_s (ls_1 rfl))))) (Nat.le_of_ble_eq_true rfl) ?_
          refine e_incN k (k + 1) (inc1 _) dX4_wrongOf_54 rfl (ls_s (ls_s (ls_s (ls_s (ls_s (ls_1 rfl)))))) (Nat.le_of_ble_eq_true rfl) ?_
          refine e_goto 18 dX4_wrongOf_57 (by decide) ?_
          exact ih (k + 1) _ (by omega) (by omega) (by first | (rw [lastN, if_pos ⟨h36, Int32.not_lt.mp h47⟩]; done) | (rw [lastN, if_neg (fun z => absurd z.1 h36)]; exact hx) | (rw [lastN, if_neg (fun z => absurd h47 (Int32.not_lt.mpr z.2))]; exact hx)) hE

set_option maxHeartbeats 4000000 in
set_option maxRecDepth 100000 in
/-- a loop of wrongOf -/
theorem t_wr_out {pre post : List ACell} {τ : Tw} (hp : pre.length = 56) {P T p c : Nat} {d : Int32} (hP : P ≤ 20) (hp1 : p < P) (hc : c ≤ 100) (ec : τ.2.2.1 86 p = nI c) (hT : T ≤ 60) (eT : τ.1 81 = nI T) {Q : Qfun} : ∀ (fuel : Nat) (r : Nat) (n : Int32), r ≤ 40 → 40 < r + fuel → n = wrongN p d τ r → Q (some (.int (spWrong p d τ))) (TW pre τ post) →
    E cX4_wrongOf (RX4, (some .int), 7, 1, (0, 0), false, []) Q noX 0 0 5 [some (.ref 56), some (.int (nI p)), some (.int d), some (.int n), some (.int (nI r)), none, none] [] (TW pre τ post) := by
  intro fuel
  induction fuel with
  | zero => intro r n hr hf hn hQ; exact absurd hf (by omega)
  | succ fuel ih =>
    intro r n hr hf hn hQ
    refine e_iload dX4_wrongOf_5 rfl ?_
    refine e_bipush 40 dX4_wrongOf_7 rfl ?_
    refine e_icmp_geN r 40 96 (by omega) (by omega) dX4_wrongOf_9 (by decide) (fun h9 => ?_) (fun h9 => ?_)
    · refine e_iload_n dX4_wrongOf_96 3 rfl rfl ?_
      refine e_ireturn dX4_wrongOf_97 rfl rfl (Nat.zero_le _) (Nat.zero_le _) ?_
      have e : r = 40 := by omega
      subst e
      rw [hn]; exact hQ
    · refine e_iconst (-1) dX4_wrongOf_12 rfl ?_
      refine e_istore dX4_wrongOf_13 (ls_s (ls_s (ls_s (ls_s (ls_1 rfl))))) (Nat.le_of_ble_eq_true rfl) ?_
      refine e_iconst 0 dX4_wrongOf_15 rfl ?_
      refine e_istore dX4_wrongOf_16 (ls_s (ls_s (ls_s (ls_s (ls_s (ls_1 rfl)))))) (Nat.le_of_ble_eq_true rfl) ?_
      refine t_wr_in hp hP hp1 hc ec hT eT (T + 1) 0 (-1) (Nat.zero_le _) (by omega) rfl ?_
      refine e_iload_n dX4_wrongOf_60 3 rfl rfl ?_
      refine e_iload dX4_wrongOf_61 rfl ?_
      refine e_if_lt 87 dX4_wrongOf_63 (by decide) (fun h63 => ?_) (fun h63 => ?_)
      · refine e_iconst 0 dX4_wrongOf_87 rfl ?_
        refine e_iadd dX4_wrongOf_88 ?_
        refine e_istore_n dX4_wrongOf_89 3 rfl (ls_s (ls_s (ls_1 rfl))) (Nat.le_of_ble_eq_true rfl) ?_
        refine e_incN r (r + 1) (inc1 _) dX4_wrongOf_90 rfl (ls_s (ls_s (ls_s (ls_1 rfl)))) (Nat.le_of_ble_eq_true rfl) ?_
        refine e_goto 5 dX4_wrongOf_93 (by decide) ?_
        refine e_forget (i := 5) (ln_s (ln_s (ln_s (ln_s (ln_s ln_0))))) ?_
        refine e_forget (i := 6) (ln_s (ln_s (ln_s (ln_s (ln_s (ln_s ln_0)))))) ?_
        refine ih (r + 1) _ (by omega) (by omega) ?_ hQ
        rw [wrongN, spBadRow, eT, ix_nI (show T < 2147483648 by omega), if_neg (fun z => absurd z.1 (Int32.not_le.mpr h63)), hn]
      · obtain ⟨j, hj, ej⟩ : ∃ j, j < T ∧ lastN (τ.2.2.1 88) (τ.2.2.1 87) (nI r) d T = nI j := by
          rcases lastN_in (row := τ.2.2.1 88) (day := τ.2.2.1 87) (r := nI r) (d := d) (k := T) with h | h
          · rw [h] at h63; exact absurd (show (-1 : Int32) < 0 by decide) h63
          · exact h
        rw [ej]
        refine e_aload_n dX4_wrongOf_66 0 rfl rfl rfl ?_
        refine e_getf (v := .ref 107) dX4_wrongOf_67 rfl fX4_182 (tw_o hp) rfl ?_
        refine e_iload dX4_wrongOf_70 rfl ?_
        refine e_iald (f := τ.2.2.1 89) (j := j) dX4_wrongOf_72 (tw_a89 hp) rfl (by omega) (by decide) ?_
        refine e_aload_n dX4_wrongOf_73 0 rfl rfl rfl ?_
        refine e_iload_n dX4_wrongOf_74 1 rfl rfl ?_
        refine e_iload dX4_wrongOf_75 rfl ?_
        refine e_callV1 (As := [.int (nI p), .int (nI r)]) (rest := [.int (τ.2.2.1 89 j), .int n]) dX4_wrongOf_77 rfl mvX4_551 (tw_o hp) rfl (t_say hp hP hp1 hc (by exact ec) (nI r)) (Nat.le_of_ble_eq_true rfl) rfl rfl (Nat.le_of_ble_eq_true rfl) (Nat.zero_le _) (Nat.zero_le _) ?_
        refine e_icmp_eq 87 dX4_wrongOf_80 (by decide) (fun h80 => ?_) (fun h80 => ?_)
        · refine e_iconst 0 dX4_wrongOf_87 rfl ?_
          refine e_iadd dX4_wrongOf_88 ?_
          refine e_istore_n dX4_wrongOf_89 3 rfl (ls_s (ls_s (ls_1 rfl))) (Nat.le_of_ble_eq_true rfl) ?_
          refine e_incN r (r + 1) (inc1 _) dX4_wrongOf_90 rfl (ls_s (ls_s (ls_s (ls_1 rfl)))) (Nat.le_of_ble_eq_true rfl) ?_
          refine e_goto 5 dX4_wrongOf_93 (by decide) ?_
          refine e_forget (i := 5) (ln_s (ln_s (ln_s (ln_s (ln_s ln_0))))) ?_
          refine e_forget (i := 6) (ln_s (ln_s (ln_s (ln_s (ln_s (ln_s ln_0)))))) ?_
          refine ih (r + 1) _ (by omega) (by omega) ?_ hQ
          have h63' : ¬ lastN (τ.2.2.1 88) (τ.2.2.1 87) (nI r) d T < 0 := by rw [ej]; exact nI_pos (by omega)
          rw [wrongN, spBadRow, eT, ix_nI (show T < 2147483648 by omega), if_neg (by rw [ej, ix_nI (show j < 2147483648 by omega)]; exact (fun z => z.2 h80)), hn]
        · refine e_iconst 1 dX4_wrongOf_83 rfl ?_
          refine e_goto 88 dX4_wrongOf_84 (by decide) ?_
          refine e_iadd dX4_wrongOf_88 ?_
          refine e_istore_n dX4_wrongOf_89 3 rfl (ls_s (ls_s (ls_1 rfl))) (Nat.le_of_ble_eq_true rfl) ?_
          refine e_incN r (r + 1) (inc1 _) dX4_wrongOf_90 rfl (ls_s (ls_s (ls_s (ls_1 rfl)))) (Nat.le_of_ble_eq_true rfl) ?_
          refine e_goto 5 dX4_wrongOf_93 (by decide) ?_
          refine e_forget (i := 5) (ln_s (ln_s (ln_s (ln_s (ln_s ln_0))))) ?_
          refine e_forget (i := 6) (ln_s (ln_s (ln_s (ln_s (ln_s (ln_s ln_0)))))) ?_
          refine ih (r + 1) _ (by omega) (by omega) ?_ hQ
          have h63' : ¬ lastN (τ.2.2.1 88) (τ.2.2.1 87) (nI r) d T < 0 := by rw [ej]; exact nI_pos (by omega)
          rw [wrongN, spBadRow, eT, ix_nI (show T < 2147483648 by omega), if_pos (by rw [ej, ix_nI (show j < 2147483648 by omega)]; exact ⟨nI_pos' (by omega), h80⟩), hn]

set_option maxHeartbeats 4000000 in
set_option maxRecDepth 100000 in
/-- WheelTablesModel.wrongOf -/
theorem t_wrongOf {pre post : List ACell} {τ : Tw} (hp : pre.length = 56) {P T p c : Nat} (hP : P ≤ 20) (hp1 : p < P) (hc : c ≤ 100) (ec : τ.2.2.1 86 p = nI c) (hT : T ≤ 60) (eT : τ.1 81 = nI T) (d : Int32) : Ct yX4_wrongOf (ws_ yX4_wrongOf cX4_wrongOf 7 (some .int)) 1 0 0 [.ref 56, .int (nI p), .int d] (TW pre τ post) (Q1 (some (.int (spWrong p d τ))) (TW pre τ post)) noX := by
  refine Ct.of (ini := false) (ls := [some (.ref 56), some (.int (nI p)), some (.int d), none, none, none, none]) (by decide) (Nat.le_of_ble_eq_true rfl) (fun h => by cases h) rfl ?_
  refine e_iconst 0 dX4_wrongOf_0 rfl ?_
  refine e_istore_n dX4_wrongOf_1 3 rfl (ls_s (ls_s (ls_1 rfl))) (Nat.le_of_ble_eq_true rfl) ?_
  refine e_iconst 0 dX4_wrongOf_2 rfl ?_
  refine e_istore dX4_wrongOf_3 (ls_s (ls_s (ls_s (ls_1 rfl)))) (Nat.le_of_ble_eq_true rfl) ?_
  exact t_wr_out hp hP hp1 hc ec hT eT 41 0 0 (by omega) (by omega) rfl ⟨rfl, rfl⟩

set_option maxHeartbeats 4000000 in
set_option maxRecDepth 100000 in
/-- WheelTablesModel.wrong -/
theorem t_wrong {pre post : List ACell} {τ : Tw} (hp : pre.length = 56) (hI : InvP τ) (n d : Int32) : Ct yX4_wrong_2 (ws_ yX4_wrong_2 cX4_wrong_2 3 (some .int)) 3 0 0 [.ref 56, .int n, .int d] (TW pre τ post) (TQi pre post (sp_wrong n d τ)) noX := by
  obtain ⟨C, P, T, K, F, hC, eC, hP, eP, hT, eT, eK, hF0, hFK, hF, hcP⟩ := id hI
  obtain ⟨cf, hcf⟩ : ∃ cf : Nat → Nat, ∀ p, p < P → cf p ≤ C ∧ τ.2.2.1 86 p = nI (cf p) := by
    refine ⟨fun p => ix (τ.2.2.1 86 p), fun p hp => ?_⟩
    obtain ⟨c, h1, h2⟩ := hcP p hp
    simp only [h2, ix_nI (show c < 2147483648 by omega)]
    exact ⟨h1, trivial⟩
  have hcl : ∀ p, p < P → cf p ≤ 100 := fun p hp => Nat.le_trans (hcf p hp).1 hC
  have hce : ∀ p, p < P → τ.2.2.1 86 p = nI (cf p) := fun p hp => (hcf p hp).2
  refine Ct.of (ini := false) (ls := [some (.ref 56), some (.int n), some (.int d)]) (by decide) (Nat.le_of_ble_eq_true rfl) (fun h => by cases h) rfl ?_
  refine e_aload_n dX4_wrong_2_0 0 rfl rfl rfl ?_
  refine e_iconst 0 dX4_wrong_2_1 rfl ?_
  refine e_tputI dX4_wrong_2_2 rfl pX4_212 rfl hp (Nat.le_of_ble_eq_true rfl) (tw_f1 _) ?_
  refine e_aload_n dX4_wrong_2_5 0 rfl rfl rfl ?_
  refine e_iconst 0 dX4_wrong_2_6 rfl ?_
  refine e_tputI dX4_wrong_2_7 rfl pX4_215 rfl hp (Nat.le_of_ble_eq_true rfl) (tw_f0 _) ?_
  refine e_iload_n dX4_wrong_2_10 2 rfl rfl ?_
  refine e_i2l dX4_wrong_2_11 ?_
  refine e_lconst 0 dX4_wrong_2_12 rfl ?_
  refine e_ldc2 rfl q1753 dX4_wrong_2_13 ?_
  refine e_callSB (As := [.long d.toInt64, .long 0, .long 9999]) (rest := []) dX4_wrong_2_16 rfl msX4_239 (t_isInI d 0 9999 rfl (by decide) (by decide)) (Nat.le_of_ble_eq_true rfl) rfl rfl (Nat.le_of_ble_eq_true rfl) (Nat.zero_le _) (Nat.zero_le _) (fun h16 => ?_) (fun h16 => ?_)
  · refine e_if_ne_t 28 (by decide) dX4_wrong_2_19 (by decide) ?_
    refine e_aload_n dX4_wrong_2_28 0 rfl rfl rfl ?_
    refine e_iload_n dX4_wrong_2_29 1 rfl rfl ?_
    refine e_callVB (As := [.int n]) (rest := []) dX4_wrong_2_30 rfl mvX4_545 (tw_o hp) rfl (t_isCopy hp n) (Nat.le_of_ble_eq_true rfl) rfl rfl (Nat.le_of_ble_eq_true rfl) (Nat.zero_le _) (Nat.zero_le _) (fun h30 => ?_) (fun h30 => ?_)
    · have h30 : (spCopy n τ) := h30
      refine e_if_eq_f (by decide) 49 dX4_wrong_2_33 (by decide) ?_
      refine e_aload_n dX4_wrong_2_36 0 rfl rfl rfl ?_
      refine e_aload_n dX4_wrong_2_37 0 rfl rfl rfl ?_
      refine e_iload_n dX4_wrong_2_38 1 rfl rfl ?_
      have hcp := h30
      refine e_callV1 (As := [.int n]) (rest := [.ref 56]) dX4_wrong_2_39 rfl mvX4_548 (tw_o hp) rfl (t_prOf hp hP hF (cp_ok hP hF0 hFK eK hF hcp).2 (by exact eP) (cp_ok hP hF0 hFK eK hF hcp).1) (Nat.le_of_ble_eq_true rfl) rfl rfl (Nat.le_of_ble_eq_true rfl) (Nat.zero_le _) (Nat.zero_le _) ?_
      refine e_iload_n dX4_wrong_2_42 2 rfl rfl ?_
      refine e_callV1 (As := [.int (nI (prN (τ.2.2.1 85) n P)), .int d]) (rest := []) dX4_wrong_2_43 rfl mvX4_554 (tw_o hp) rfl (t_wrongOf hp hP (prN_lt (cp_ok hP hF0 hFK eK hF hcp).1) (hcl _ (prN_lt (cp_ok hP hF0 hFK eK hF hcp).1)) (by exact (hce _ (prN_lt (cp_ok hP hF0 hFK eK hF hcp).1))) hT (by exact eT) d) (Nat.le_of_ble_eq_true rfl) rfl rfl (Nat.le_of_ble_eq_true rfl) (Nat.zero_le _) (Nat.zero_le _) ?_
      refine e_goto 55 dX4_wrong_2_46 (by decide) ?_
      refine e_ireturn dX4_wrong_2_55 rfl rfl (Nat.zero_le _) (Nat.zero_le _) ?_
      refine TQi.of ?_
      rw [sp_wrong, if_neg (fun z => z h16), if_neg (fun z => z h30), eP, ix_nI (show P < 2147483648 by omega)]
      rfl
    · have h30 : ¬ (spCopy n τ) := h30
      refine e_if_eq_t 49 (by decide) dX4_wrong_2_33 (by decide) ?_
      refine e_aload_n dX4_wrong_2_49 0 rfl rfl rfl ?_
      refine e_bipush 8 dX4_wrong_2_50 rfl ?_
      refine e_callV1 (As := [.int 8]) (rest := []) dX4_wrong_2_52 rfl mvX4_252 (tw_o hp) rfl (t_refuse hp 8) (Nat.le_of_ble_eq_true rfl) rfl rfl (Nat.le_of_ble_eq_true rfl) (Nat.zero_le _) (Nat.zero_le _) ?_
      refine e_ireturn dX4_wrong_2_55 rfl rfl (Nat.zero_le _) (Nat.zero_le _) ?_
      refine TQi.of ?_
      first | (simp only [eP, ix_nI (show P < 2147483648 by omega), spRow, spNum, spDay, spCopy, spIsJob, nI_1, sp_wrong, h16, h30, or_true, true_or, or_self, or_false, false_or, and_true, true_and, and_false, false_and, if_true, if_false, not_true_eq_false, not_false_eq_true]; done) | (simp only [eP, ix_nI (show P < 2147483648 by omega), spRow, spNum, spDay, spCopy, spIsJob, nI_1, sp_wrong, h16, h30, or_true, true_or, or_self, or_false, false_or, and_true, true_and, and_false, false_and, if_true, if_false, not_true_eq_false, not_false_eq_true]; rfl)
  · refine e_if_ne_f (by decide) 28 dX4_wrong_2_19 (by decide) ?_
    refine e_aload_n dX4_wrong_2_22 0 rfl rfl rfl ?_
    refine e_iconst 5 dX4_wrong_2_23 rfl ?_
    refine e_callV1 (As := [.int 5]) (rest := []) dX4_wrong_2_24 rfl mvX4_252 (tw_o hp) rfl (t_refuse hp 5) (Nat.le_of_ble_eq_true rfl) rfl rfl (Nat.le_of_ble_eq_true rfl) (Nat.zero_le _) (Nat.zero_le _) ?_
    refine e_ireturn dX4_wrong_2_27 rfl rfl (Nat.zero_le _) (Nat.zero_le _) ?_
    refine TQi.of ?_
    first | (simp only [eP, ix_nI (show P < 2147483648 by omega), spRow, spNum, spDay, spCopy, spIsJob, nI_1, sp_wrong, h16, or_true, true_or, or_self, or_false, false_or, and_true, true_and, and_false, false_and, if_true, if_false, not_true_eq_false, not_false_eq_true]; done) | (simp only [eP, ix_nI (show P < 2147483648 by omega), spRow, spNum, spDay, spCopy, spIsJob, nI_1, sp_wrong, h16, or_true, true_or, or_self, or_false, false_or, and_true, true_and, and_false, false_and, if_true, if_false, not_true_eq_false, not_false_eq_true]; rfl)

set_option maxHeartbeats 4000000 in
set_option maxRecDepth 100000 in
/-- a loop of bad -/
theorem t_bad_loop {pre post : List ACell} {τ : Tw} (hp : pre.length = 56) {P T : Nat} {cf : Nat → Nat} {d : Int32} (hP : P ≤ 20) (hcl : ∀ p, p < P → cf p ≤ 100) (hce : ∀ p, p < P → τ.2.2.1 86 p = nI (cf p)) (hT : T ≤ 60) (eT : τ.1 81 = nI T) (eP : τ.1 79 = nI P) {Q : Qfun} : ∀ (fuel : Nat) (p : Nat) (v : Int32), p ≤ P → P < p + fuel → v = badN d τ p → Q (some (.int (badN d τ P))) (TW pre τ post) →
    E cX4_bad (RX4, (some .int), 4, 2, (0, 0), false, []) Q noX 0 0 32 [some (.ref 56), some (.int d), some (.int v), some (.int (nI p))] [] (TW pre τ post) := by
  intro fuel
  induction fuel with
  | zero => intro p v hp1 hf hv hQ; exact absurd hf (by omega)
  | succ fuel ih =>
    intro p v hp1 hf hv hQ
    refine e_iload_n dX4_bad_32 3 rfl rfl ?_
    refine e_aload_n dX4_bad_33 0 rfl rfl rfl ?_
    refine e_getf (v := .int (τ.1 79)) dX4_bad_34 rfl fX4_536 (tw_o hp) rfl ?_
    refine e_top (congrArg Value.int eP) ?_
    refine e_icmp_geN p P 92 (by omega) (by omega) dX4_bad_37 (by decide) (fun h37 => ?_) (fun h37 => ?_)
    · refine e_iload_n dX4_bad_92 2 rfl rfl ?_
      refine e_ireturn dX4_bad_93 rfl rfl (Nat.zero_le _) (Nat.zero_le _) ?_
      have e : p = P := by omega
      rw [hv, e]; exact hQ
    · refine e_aload_n dX4_bad_40 0 rfl rfl rfl ?_
      refine e_iload_n dX4_bad_41 3 rfl rfl ?_
      refine e_iload_n dX4_bad_42 1 rfl rfl ?_
      refine e_callV1 (As := [.int (nI p), .int d]) (rest := []) dX4_bad_43 rfl mvX4_554 (tw_o hp) rfl (t_wrongOf hp hP (show p < P by omega) (hcl p (by omega)) (by exact (hce p (by omega))) hT (by exact eT) d) (Nat.le_of_ble_eq_true rfl) rfl rfl (Nat.le_of_ble_eq_true rfl) (Nat.zero_le _) (Nat.zero_le _) ?_
      refine e_if_le 86 dX4_bad_46 (by decide) (fun h46 => ?_) (fun h46 => ?_)
      · refine e_incN p (p + 1) (inc1 _) dX4_bad_86 rfl (ls_s (ls_s (ls_1 rfl))) (Nat.le_of_ble_eq_true rfl) ?_
        refine e_goto 32 dX4_bad_89 (by decide) ?_
        exact ih (p + 1) _ (by omega) (by omega) (by rw [badN, if_neg (Int32.not_lt.mpr h46), hv]) hQ
      · refine e_iload_n dX4_bad_49 2 rfl rfl ?_
        refine e_iload_n dX4_bad_50 3 rfl rfl ?_
        refine e_iconst 1 dX4_bad_51 rfl ?_
        refine e_iaddN p 1 dX4_bad_52 ?_
        refine e_aload_n dX4_bad_53 0 rfl rfl rfl ?_
        refine e_getf (v := .int (τ.1 79)) dX4_bad_54 rfl fX4_536 (tw_o hp) rfl ?_
        refine e_top (congrArg Value.int eP) ?_
        refine e_icmp_geN (p + 1) P 71 (by omega) (by omega) dX4_bad_57 (by decide) (fun h57 => ?_) (fun h57 => ?_)
        · refine e_aload_n dX4_bad_71 0 rfl rfl rfl ?_
          refine e_getf (v := .int (τ.1 80)) dX4_bad_72 rfl fX4_539 (tw_o hp) rfl ?_
          refine e_iconst 1 dX4_bad_75 rfl ?_
          refine e_iadd dX4_bad_76 ?_
          refine e_aload_n dX4_bad_77 0 rfl rfl rfl ?_
          refine e_getf (v := .ref 103) dX4_bad_78 rfl fX4_170 (tw_o hp) rfl ?_
          refine e_iload_n dX4_bad_81 3 rfl rfl ?_
          refine e_iald (f := τ.2.2.1 85) (j := p) dX4_bad_82 (tw_a85 hp) rfl (by omega) (by decide) ?_
          refine e_isub dX4_bad_83 ?_
          refine e_iadd dX4_bad_84 ?_
          refine e_istore_n dX4_bad_85 2 rfl (ls_s (ls_1 rfl)) (Nat.le_of_ble_eq_true rfl) ?_
          refine e_incN p (p + 1) (inc1 _) dX4_bad_86 rfl (ls_s (ls_s (ls_1 rfl))) (Nat.le_of_ble_eq_true rfl) ?_
          refine e_goto 32 dX4_bad_89 (by decide) ?_
          exact ih (p + 1) _ (by omega) (by omega) (by rw [badN, if_pos (Int32.not_le.mp h46), spOf, eP, if_neg (fun z => absurd ((nI_ltN (by omega) (by omega)).mp z) (by omega)), hv]) hQ
        · refine e_aload_n dX4_bad_60 0 rfl rfl rfl ?_
          refine e_getf (v := .ref 103) dX4_bad_61 rfl fX4_170 (tw_o hp) rfl ?_
          refine e_iload_n dX4_bad_64 3 rfl rfl ?_
          refine e_iconst 1 dX4_bad_65 rfl ?_
          refine e_iaddN p 1 dX4_bad_66 ?_
          refine e_iald (f := τ.2.2.1 85) (j := p + 1) dX4_bad_67 (tw_a85 hp) rfl (by omega) (by decide) ?_
          refine e_goto 77 dX4_bad_68 (by decide) ?_
          refine e_aload_n dX4_bad_77 0 rfl rfl rfl ?_
          refine e_getf (v := .ref 103) dX4_bad_78 rfl fX4_170 (tw_o hp) rfl ?_
          refine e_iload_n dX4_bad_81 3 rfl rfl ?_
          refine e_iald (f := τ.2.2.1 85) (j := p) dX4_bad_82 (tw_a85 hp) rfl (by omega) (by decide) ?_
          refine e_isub dX4_bad_83 ?_
          refine e_iadd dX4_bad_84 ?_
          refine e_istore_n dX4_bad_85 2 rfl (ls_s (ls_1 rfl)) (Nat.le_of_ble_eq_true rfl) ?_
          refine e_incN p (p + 1) (inc1 _) dX4_bad_86 rfl (ls_s (ls_s (ls_1 rfl))) (Nat.le_of_ble_eq_true rfl) ?_
          refine e_goto 32 dX4_bad_89 (by decide) ?_
          exact ih (p + 1) _ (by omega) (by omega) (by rw [badN, if_pos (Int32.not_le.mp h46), spOf, eP, if_pos ((nI_ltN (by omega) (by omega)).mpr (by omega)), hv]) hQ

set_option maxHeartbeats 4000000 in
set_option maxRecDepth 100000 in
/-- WheelTablesModel.bad -/
theorem t_bad {pre post : List ACell} {τ : Tw} (hp : pre.length = 56) (hI : InvP τ) (d : Int32) : Ct yX4_bad (ws_ yX4_bad cX4_bad 4 (some .int)) 2 0 0 [.ref 56, .int d] (TW pre τ post) (TQi pre post (sp_bad d τ)) noX := by
  obtain ⟨C, P, T, K, F, hC, eC, hP, eP, hT, eT, eK, hF0, hFK, hF, hcP⟩ := id hI
  obtain ⟨cf, hcf⟩ : ∃ cf : Nat → Nat, ∀ p, p < P → cf p ≤ C ∧ τ.2.2.1 86 p = nI (cf p) := by
    refine ⟨fun p => ix (τ.2.2.1 86 p), fun p hp => ?_⟩
    obtain ⟨c, h1, h2⟩ := hcP p hp
    simp only [h2, ix_nI (show c < 2147483648 by omega)]
    exact ⟨h1, trivial⟩
  have hcl : ∀ p, p < P → cf p ≤ 100 := fun p hp => Nat.le_trans (hcf p hp).1 hC
  have hce : ∀ p, p < P → τ.2.2.1 86 p = nI (cf p) := fun p hp => (hcf p hp).2
  refine Ct.of (ini := false) (ls := [some (.ref 56), some (.int d), none, none]) (by decide) (Nat.le_of_ble_eq_true rfl) (fun h => by cases h) rfl ?_
  refine e_aload_n dX4_bad_0 0 rfl rfl rfl ?_
  refine e_iconst 0 dX4_bad_1 rfl ?_
  refine e_tputI dX4_bad_2 rfl pX4_212 rfl hp (Nat.le_of_ble_eq_true rfl) (tw_f1 _) ?_
  refine e_aload_n dX4_bad_5 0 rfl rfl rfl ?_
  refine e_iconst 0 dX4_bad_6 rfl ?_
  refine e_tputI dX4_bad_7 rfl pX4_215 rfl hp (Nat.le_of_ble_eq_true rfl) (tw_f0 _) ?_
  refine e_iload_n dX4_bad_10 1 rfl rfl ?_
  refine e_i2l dX4_bad_11 ?_
  refine e_lconst 0 dX4_bad_12 rfl ?_
  refine e_ldc2 rfl q1753 dX4_bad_13 ?_
  refine e_callSB (As := [.long d.toInt64, .long 0, .long 9999]) (rest := []) dX4_bad_16 rfl msX4_239 (t_isInI d 0 9999 rfl (by decide) (by decide)) (Nat.le_of_ble_eq_true rfl) rfl rfl (Nat.le_of_ble_eq_true rfl) (Nat.zero_le _) (Nat.zero_le _) (fun h16 => ?_) (fun h16 => ?_)
  · refine e_if_ne_t 28 (by decide) dX4_bad_19 (by decide) ?_
    refine e_iconst 0 dX4_bad_28 rfl ?_
    refine e_istore_n dX4_bad_29 2 rfl (ls_s (ls_1 rfl)) (Nat.le_of_ble_eq_true rfl) ?_
    refine e_iconst 0 dX4_bad_30 rfl ?_
    refine e_istore_n dX4_bad_31 3 rfl (ls_s (ls_s (ls_1 rfl))) (Nat.le_of_ble_eq_true rfl) ?_
    refine t_bad_loop (τ := tI (tI τ 1 0) 0 0) hp hP hcl (by exact hce) hT (by exact eT) (by exact eP) (P + 1) 0 0 (Nat.zero_le _) (by omega) rfl ?_
    refine TQi.of ?_
    rw [sp_bad, if_neg (fun z => z h16), eP, ix_nI (show P < 2147483648 by omega), badN_b]
    rfl
  · refine e_if_ne_f (by decide) 28 dX4_bad_19 (by decide) ?_
    refine e_aload_n dX4_bad_22 0 rfl rfl rfl ?_
    refine e_iconst 5 dX4_bad_23 rfl ?_
    refine e_callV1 (As := [.int 5]) (rest := []) dX4_bad_24 rfl mvX4_252 (tw_o hp) rfl (t_refuse hp 5) (Nat.le_of_ble_eq_true rfl) rfl rfl (Nat.le_of_ble_eq_true rfl) (Nat.zero_le _) (Nat.zero_le _) ?_
    refine e_ireturn dX4_bad_27 rfl rfl (Nat.zero_le _) (Nat.zero_le _) ?_
    refine TQi.of ?_
    first | (simp only [eP, ix_nI (show P < 2147483648 by omega), spRow, spNum, spDay, spCopy, spIsJob, nI_1, sp_bad, h16, or_true, true_or, or_self, or_false, false_or, and_true, true_and, and_false, false_and, if_true, if_false, not_true_eq_false, not_false_eq_true]; done) | (simp only [eP, ix_nI (show P < 2147483648 by omega), spRow, spNum, spDay, spCopy, spIsJob, nI_1, sp_bad, h16, or_true, true_or, or_self, or_false, false_or, and_true, true_and, and_false, false_and, if_true, if_false, not_true_eq_false, not_false_eq_true]; rfl)

set_option maxHeartbeats 4000000 in
set_option maxRecDepth 100000 in
/-- WheelTablesModel.job -/
theorem t_job {pre post : List ACell} {τ : Tw} (hp : pre.length = 56) (hI : InvJ τ) (x w t : Int32) : Ct yX4_job (ws_ yX4_job cX4_job 4 (some .int)) 2 0 0 [.ref 56, .int x, .int w, .int t] (TW pre τ post) (TQi pre post (sp_job x w t τ)) noX := by
  obtain ⟨n_J, hJ, eJ, -⟩ := id hI
  refine Ct.of (ini := false) (ls := [some (.ref 56), some (.int x), some (.int w), some (.int t)]) (by decide) (Nat.le_of_ble_eq_true rfl) (fun h => by cases h) rfl ?_
  refine e_aload_n dX4_job_0 0 rfl rfl rfl ?_
  refine e_iconst 0 dX4_job_1 rfl ?_
  refine e_tputI dX4_job_2 rfl pX4_212 rfl hp (Nat.le_of_ble_eq_true rfl) (tw_f1 _) ?_
  refine e_aload_n dX4_job_5 0 rfl rfl rfl ?_
  refine e_iconst 0 dX4_job_6 rfl ?_
  refine e_tputI dX4_job_7 rfl pX4_215 rfl hp (Nat.le_of_ble_eq_true rfl) (tw_f0 _) ?_
  refine e_iload_n dX4_job_10 1 rfl rfl ?_
  refine e_i2l dX4_job_11 ?_
  refine e_ldc2 rfl q1466 dX4_job_12 ?_
  refine e_ldc2 rfl q1467 dX4_job_15 ?_
  refine e_callSB (As := [.long x.toInt64, .long 2, .long 7]) (rest := []) dX4_job_18 rfl msX4_239 (t_isInI x 2 7 rfl (by decide) (by decide)) (Nat.le_of_ble_eq_true rfl) rfl rfl (Nat.le_of_ble_eq_true rfl) (Nat.zero_le _) (Nat.zero_le _) (fun h18 => ?_) (fun h18 => ?_)
  · refine e_if_eq_f (by decide) 48 dX4_job_21 (by decide) ?_
    refine e_iload_n dX4_job_24 2 rfl rfl ?_
    refine e_i2l dX4_job_25 ?_
    refine e_lconst 1 dX4_job_26 rfl ?_
    refine e_ldc2 rfl q1471 dX4_job_27 ?_
    refine e_callSB (As := [.long w.toInt64, .long 1, .long 12]) (rest := []) dX4_job_30 rfl msX4_239 (t_isInI w 1 12 rfl (by decide) (by decide)) (Nat.le_of_ble_eq_true rfl) rfl rfl (Nat.le_of_ble_eq_true rfl) (Nat.zero_le _) (Nat.zero_le _) (fun h30 => ?_) (fun h30 => ?_)
    · refine e_if_eq_f (by decide) 48 dX4_job_33 (by decide) ?_
      refine e_iload_n dX4_job_36 3 rfl rfl ?_
      refine e_i2l dX4_job_37 ?_
      refine e_lconst 1 dX4_job_38 rfl ?_
      refine e_ldc2 rfl q1526 dX4_job_39 ?_
      refine e_callSB (As := [.long t.toInt64, .long 1, .long 1000]) (rest := []) dX4_job_42 rfl msX4_239 (t_isInI t 1 1000 rfl (by decide) (by decide)) (Nat.le_of_ble_eq_true rfl) rfl rfl (Nat.le_of_ble_eq_true rfl) (Nat.zero_le _) (Nat.zero_le _) (fun h42 => ?_) (fun h42 => ?_)
      · refine e_if_ne_t 54 (by decide) dX4_job_45 (by decide) ?_
        refine e_aload_n dX4_job_54 0 rfl rfl rfl ?_
        refine e_getf (v := .int (τ.1 82)) dX4_job_55 rfl fX4_557 (tw_o hp) rfl ?_
        refine e_top (congrArg Value.int eJ) ?_
        refine e_bipush 7 dX4_job_58 rfl ?_
        refine e_icmp_neN n_J 7 70 (by omega) (by omega) dX4_job_60 (by decide) (fun h60 => ?_) (fun h60 => ?_)
        · refine e_aload_n dX4_job_70 0 rfl rfl rfl ?_
          refine e_getf (v := .ref 108) dX4_job_71 rfl fX4_185 (tw_o hp) rfl ?_
          refine e_aload_n dX4_job_74 0 rfl rfl rfl ?_
          refine e_getf (v := .int (τ.1 82)) dX4_job_75 rfl fX4_557 (tw_o hp) rfl ?_
          refine e_top (congrArg Value.int eJ) ?_
          refine e_iload_n dX4_job_78 1 rfl rfl ?_
          refine e_iast (f := τ.2.2.1 90) (j := n_J) dX4_job_79 (tw_a90 hp) rfl (by omega) (by decide) ?_
          rw [tw_s90 hp]
          refine e_aload_n dX4_job_80 0 rfl rfl rfl ?_
          refine e_getf (v := .ref 109) dX4_job_81 rfl fX4_188 (tw_o hp) rfl ?_
          refine e_aload_n dX4_job_84 0 rfl rfl rfl ?_
          refine e_getf (v := .int (τ.1 82)) dX4_job_85 rfl fX4_557 (tw_o hp) rfl ?_
          refine e_top (congrArg Value.int eJ) ?_
          refine e_iload_n dX4_job_88 2 rfl rfl ?_
          refine e_iast (f := τ.2.2.1 91) (j := n_J) dX4_job_89 (tw_a91 hp) rfl (by omega) (by decide) ?_
          rw [tw_s91 hp]
          refine e_aload_n dX4_job_90 0 rfl rfl rfl ?_
          refine e_getf (v := .ref 110) dX4_job_91 rfl fX4_191 (tw_o hp) rfl ?_
          refine e_aload_n dX4_job_94 0 rfl rfl rfl ?_
          refine e_getf (v := .int (τ.1 82)) dX4_job_95 rfl fX4_557 (tw_o hp) rfl ?_
          refine e_top (congrArg Value.int eJ) ?_
          refine e_iload_n dX4_job_98 3 rfl rfl ?_
          refine e_iast (f := τ.2.2.1 92) (j := n_J) dX4_job_99 (tw_a92 hp) rfl (by omega) (by decide) ?_
          rw [tw_s92 hp]
          refine e_aload_n dX4_job_100 0 rfl rfl rfl ?_
          refine e_dup dX4_job_101 rfl ?_
          refine e_getf (v := .int (τ.1 82)) dX4_job_102 rfl fX4_557 (tw_o hp) rfl ?_
          refine e_top (congrArg Value.int eJ) ?_
          refine e_iconst 1 dX4_job_105 rfl ?_
          refine e_iaddN n_J 1 dX4_job_106 ?_
          refine e_tputI dX4_job_107 rfl pX4_557 rfl hp (Nat.le_of_ble_eq_true rfl) (tw_f82 _) ?_
          refine e_aload_n dX4_job_110 0 rfl rfl rfl ?_
          refine e_getf (v := .int (nI (n_J + 1))) dX4_job_111 rfl fX4_557 (tw_o hp) rfl ?_
          refine e_iconst 1 dX4_job_114 rfl ?_
          refine e_isubN (n_J + 1) 1 (by omega) dX4_job_115 ?_
          refine e_ireturn dX4_job_116 rfl rfl (Nat.zero_le _) (Nat.zero_le _) ?_
          have e82 : (nI n_J = 7) = (n_J = 7) := by rw [show (7 : Int32) = nI 7 from rfl]; exact propext (nI_eqN (by omega) (by omega))
          refine TQi.of ?_
          first | (simp only [e82, eJ, ix_nI (show n_J < 2147483648 by omega), spRow, spNum, spDay, spCopy, spIsJob, nI_1, sp_job, h18, h30, h42, h60, or_true, true_or, or_self, or_false, false_or, and_true, true_and, and_false, false_and, if_true, if_false, not_true_eq_false, not_false_eq_true]; done) | (simp only [e82, eJ, ix_nI (show n_J < 2147483648 by omega), spRow, spNum, spDay, spCopy, spIsJob, nI_1, sp_job, h18, h30, h42, h60, or_true, true_or, or_self, or_false, false_or, and_true, true_and, and_false, false_and, if_true, if_false, not_true_eq_false, not_false_eq_true]; rfl)
        · refine e_aload_n dX4_job_63 0 rfl rfl rfl ?_
          refine e_bipush 7 dX4_job_64 rfl ?_
          refine e_callV1 (As := [.int 7]) (rest := []) dX4_job_66 rfl mvX4_252 (tw_o hp) rfl (t_refuse hp 7) (Nat.le_of_ble_eq_true rfl) rfl rfl (Nat.le_of_ble_eq_true rfl) (Nat.zero_le _) (Nat.zero_le _) ?_
          refine e_ireturn dX4_job_69 rfl rfl (Nat.zero_le _) (Nat.zero_le _) ?_
          have e82 : (nI n_J = 7) = (n_J = 7) := by rw [show (7 : Int32) = nI 7 from rfl]; exact propext (nI_eqN (by omega) (by omega))
          refine TQi.of ?_
          first | (simp only [e82, eJ, ix_nI (show n_J < 2147483648 by omega), spRow, spNum, spDay, spCopy, spIsJob, nI_1, sp_job, h18, h30, h42, h60, or_true, true_or, or_self, or_false, false_or, and_true, true_and, and_false, false_and, if_true, if_false, not_true_eq_false, not_false_eq_true]; done) | (simp only [e82, eJ, ix_nI (show n_J < 2147483648 by omega), spRow, spNum, spDay, spCopy, spIsJob, nI_1, sp_job, h18, h30, h42, h60, or_true, true_or, or_self, or_false, false_or, and_true, true_and, and_false, false_and, if_true, if_false, not_true_eq_false, not_false_eq_true]; rfl)
      · refine e_if_ne_f (by decide) 54 dX4_job_45 (by decide) ?_
        refine e_aload_n dX4_job_48 0 rfl rfl rfl ?_
        refine e_iconst 5 dX4_job_49 rfl ?_
        refine e_callV1 (As := [.int 5]) (rest := []) dX4_job_50 rfl mvX4_252 (tw_o hp) rfl (t_refuse hp 5) (Nat.le_of_ble_eq_true rfl) rfl rfl (Nat.le_of_ble_eq_true rfl) (Nat.zero_le _) (Nat.zero_le _) ?_
        refine e_ireturn dX4_job_53 rfl rfl (Nat.zero_le _) (Nat.zero_le _) ?_
        have e82 : (nI n_J = 7) = (n_J = 7) := by rw [show (7 : Int32) = nI 7 from rfl]; exact propext (nI_eqN (by omega) (by omega))
        refine TQi.of ?_
        first | (simp only [e82, eJ, ix_nI (show n_J < 2147483648 by omega), spRow, spNum, spDay, spCopy, spIsJob, nI_1, sp_job, h18, h30, h42, or_true, true_or, or_self, or_false, false_or, and_true, true_and, and_false, false_and, if_true, if_false, not_true_eq_false, not_false_eq_true]; done) | (simp only [e82, eJ, ix_nI (show n_J < 2147483648 by omega), spRow, spNum, spDay, spCopy, spIsJob, nI_1, sp_job, h18, h30, h42, or_true, true_or, or_self, or_false, false_or, and_true, true_and, and_false, false_and, if_true, if_false, not_true_eq_false, not_false_eq_true]; rfl)
    · refine e_if_eq_t 48 (by decide) dX4_job_33 (by decide) ?_
      refine e_aload_n dX4_job_48 0 rfl rfl rfl ?_
      refine e_iconst 5 dX4_job_49 rfl ?_
      refine e_callV1 (As := [.int 5]) (rest := []) dX4_job_50 rfl mvX4_252 (tw_o hp) rfl (t_refuse hp 5) (Nat.le_of_ble_eq_true rfl) rfl rfl (Nat.le_of_ble_eq_true rfl) (Nat.zero_le _) (Nat.zero_le _) ?_
      refine e_ireturn dX4_job_53 rfl rfl (Nat.zero_le _) (Nat.zero_le _) ?_
      have e82 : (nI n_J = 7) = (n_J = 7) := by rw [show (7 : Int32) = nI 7 from rfl]; exact propext (nI_eqN (by omega) (by omega))
      refine TQi.of ?_
      first | (simp only [e82, eJ, ix_nI (show n_J < 2147483648 by omega), spRow, spNum, spDay, spCopy, spIsJob, nI_1, sp_job, h18, h30, or_true, true_or, or_self, or_false, false_or, and_true, true_and, and_false, false_and, if_true, if_false, not_true_eq_false, not_false_eq_true]; done) | (simp only [e82, eJ, ix_nI (show n_J < 2147483648 by omega), spRow, spNum, spDay, spCopy, spIsJob, nI_1, sp_job, h18, h30, or_true, true_or, or_self, or_false, false_or, and_true, true_and, and_false, false_and, if_true, if_false, not_true_eq_false, not_false_eq_true]; rfl)
  · refine e_if_eq_t 48 (by decide) dX4_job_21 (by decide) ?_
    refine e_aload_n dX4_job_48 0 rfl rfl rfl ?_
    refine e_iconst 5 dX4_job_49 rfl ?_
    refine e_callV1 (As := [.int 5]) (rest := []) dX4_job_50 rfl mvX4_252 (tw_o hp) rfl (t_refuse hp 5) (Nat.le_of_ble_eq_true rfl) rfl rfl (Nat.le_of_ble_eq_true rfl) (Nat.zero_le _) (Nat.zero_le _) ?_
    refine e_ireturn dX4_job_53 rfl rfl (Nat.zero_le _) (Nat.zero_le _) ?_
    have e82 : (nI n_J = 7) = (n_J = 7) := by rw [show (7 : Int32) = nI 7 from rfl]; exact propext (nI_eqN (by omega) (by omega))
    refine TQi.of ?_
    first | (simp only [e82, eJ, ix_nI (show n_J < 2147483648 by omega), spRow, spNum, spDay, spCopy, spIsJob, nI_1, sp_job, h18, or_true, true_or, or_self, or_false, false_or, and_true, true_and, and_false, false_and, if_true, if_false, not_true_eq_false, not_false_eq_true]; done) | (simp only [e82, eJ, ix_nI (show n_J < 2147483648 by omega), spRow, spNum, spDay, spCopy, spIsJob, nI_1, sp_job, h18, or_true, true_or, or_self, or_false, false_or, and_true, true_and, and_false, false_and, if_true, if_false, not_true_eq_false, not_false_eq_true]; rfl)

