/-! ===== the twin: partings ===== -/
set_option maxHeartbeats 4000000 in
set_option maxRecDepth 100000 in
/-- a loop of mostOf -/
theorem t_most1 {pre post : List ACell} {τ0 : Tw} (hp : pre.length = 56) {Eg J : Nat} {AX WX JA JW JT t : Nat → Nat} (hF : PrF τ0 Eg J AX WX JA JW JT) {Q : Qfun} : ∀ (fuel : Nat) (k : Nat) (τ : Tw), k ≤ Eg → Eg < k + fuel → Sx [] [] [95] [] τ τ0 → (∀ e, e < k → τ.2.2.1 95 e = 0) → (∀ τ : Tw, Sx [] [] [95] [] τ τ0 → (∀ e, e < Eg → τ.2.2.1 95 e = 0) → E cX4_mostOf (RX4, (some .int), 4, 1, (0, 0), false, []) Q noX 0 0 23 [some (.ref 56), none, none, none] [] (TW pre τ post)) →
    E cX4_mostOf (RX4, (some .int), 4, 1, (0, 0), false, []) Q noX 0 0 2 [some (.ref 56), some (.int (nI k)), none, none] [] (TW pre τ post) := by
  intro fuel
  induction fuel with
  | zero => intro k τ hk hf hS hl hE; exact absurd hf (by omega)
  | succ fuel ih =>
    intro k τ hk hf hS hl hE
    obtain ⟨⟨hE4, eE⟩, ⟨hJ7, eJ⟩, hEs, hJs⟩ := id hF
    have eE1 : τ.1 5 = nI Eg := by rw [hS.1 5 (by simp)]; exact eE
    refine e_iload_n dX4_mostOf_2 1 rfl rfl ?_
    refine e_aload_n dX4_mostOf_3 0 rfl rfl rfl ?_
    refine e_getf (v := .int (τ.1 5)) dX4_mostOf_4 rfl fX4_236 (tw_o hp) rfl ?_
    refine e_top (congrArg Value.int eE1) ?_
    refine e_icmp_geN k Eg 23 (by omega) (by omega) dX4_mostOf_7 (by decide) (fun h7 => ?_) (fun h7 => ?_)
    · refine e_forget (i := 1) (ln_s ln_0) ?_
      have e1 : k = Eg := by omega
      subst e1
      exact hE τ hS hl
    · refine e_aload_n dX4_mostOf_10 0 rfl rfl rfl ?_
      refine e_getf (v := .ref 113) dX4_mostOf_11 rfl fX4_200 (tw_o hp) rfl ?_
      refine e_iload_n dX4_mostOf_14 1 rfl rfl ?_
      refine e_iconst 0 dX4_mostOf_15 rfl ?_
      refine e_iast (f := τ.2.2.1 95) (j := k) dX4_mostOf_16 (tw_a95 hp) rfl (by omega) (by decide) ?_
      rw [tw_s95 hp]
      refine e_incN k (k + 1) (inc1 _) dX4_mostOf_17 rfl (ls_1 rfl) (Nat.le_of_ble_eq_true rfl) ?_
      refine e_goto 2 dX4_mostOf_20 (by decide) ?_
      refine ih (k + 1) _ (by omega) (by omega) (hS.A _ (by decide)) (fun e he => ?_) hE
      show upd (τ.2.2.1 95) k 0 e = 0
      by_cases ee : e = k
      · subst ee; exact pk_us ..
      · rw [pk_un ee]; exact hl e (by omega)

theorem mxI_N {a b : Nat} (ha : a < 2147483648) (hb : b < 2147483648) : mxI (nI a) (nI b) = nI (max a b) := by
  unfold mxI
  by_cases h : b ≤ a
  · rw [if_pos ((nI_leN hb ha).mpr h), Nat.max_eq_left h]
  · rw [if_neg (fun z => h ((nI_leN hb ha).mp z)), Nat.max_eq_right (by omega)]
set_option maxHeartbeats 4000000 in
set_option maxRecDepth 100000 in
/-- a loop of mostOf -/
theorem t_most2 {pre post : List ACell} {τ0 : Tw} (hp : pre.length = 56) {Eg J : Nat} {AX WX JA JW JT t : Nat → Nat} (hF : PrF τ0 Eg J AX WX JA JW JT) (ht0 : ∀ j, j < J → τ0.2.2.1 94 j = nI (t j) ∧ t j < Eg) {Q : Qfun} : ∀ (fuel : Nat) (k : Nat) (m : Nat) (τ : Tw), k ≤ J → J < k + fuel → Sx [] [] [95] [] τ τ0 → (∀ e, e < Eg → τ.2.2.1 95 e = nI (ldN JT t k e)) → mostN AX WX JA JW JT t k = some m → (∀ τ : Tw, Sx [] [] [95] [] τ τ0 → Q (some (.int (oI (mostN AX WX JA JW JT t J)))) (TW pre τ post)) →
    E cX4_mostOf (RX4, (some .int), 4, 1, (0, 0), false, []) Q noX 0 0 27 [some (.ref 56), some (.int (nI m)), some (.int (nI k)), none] [] (TW pre τ post) := by
  intro fuel
  induction fuel with
  | zero => intro k m τ hk hf hS hl hm hQ; exact absurd hf (by omega)
  | succ fuel ih =>
    intro k m τ hk hf hS hl hm hQ
    obtain ⟨⟨hE4, eE⟩, ⟨hJ7, eJ⟩, hEs, hJs⟩ := id hF
    have eJ1 : τ.1 82 = nI J := by rw [hS.1 82 (by simp)]; exact eJ
    have h6 : ∀ e, e < Eg → τ.2.2.1 6 e = nI (AX e) := fun e he => by rw [hS.2.2.1 6 (by decide)]; exact (hEs e he).1.2
    have h7 : ∀ e, e < Eg → τ.2.2.1 7 e = nI (WX e) := fun e he => by rw [hS.2.2.1 7 (by decide)]; exact (hEs e he).2.2
    have h90 : ∀ j, j < J → τ.2.2.1 90 j = nI (JA j) := fun j hj => by rw [hS.2.2.1 90 (by decide)]; exact (hJs j hj).1.2
    have h91 : ∀ j, j < J → τ.2.2.1 91 j = nI (JW j) := fun j hj => by rw [hS.2.2.1 91 (by decide)]; exact (hJs j hj).2.1.2
    have h92 : ∀ j, j < J → τ.2.2.1 92 j = nI (JT j) := fun j hj => by rw [hS.2.2.1 92 (by decide)]; exact (hJs j hj).2.2.2
    have ht : ∀ j, j < J → τ.2.2.1 94 j = nI (t j) ∧ t j < Eg := fun j hj => by rw [hS.2.2.1 94 (by decide)]; exact ht0 j hj
    have hld := fun e => ldN_le (t := t) (fun j hj => (hJs j hj).2.2.1) e k hk
    have hml := mostN_le (fun j hj => (hJs j hj).2.2.1) k hk m hm
    refine e_iload_n dX4_mostOf_27 2 rfl rfl ?_
    refine e_aload_n dX4_mostOf_28 0 rfl rfl rfl ?_
    refine e_getf (v := .int (τ.1 82)) dX4_mostOf_29 rfl fX4_557 (tw_o hp) rfl ?_
    refine e_top (congrArg Value.int eJ1) ?_
    refine e_icmp_geN k J 106 (by omega) (by omega) dX4_mostOf_32 (by decide) (fun h32 => ?_) (fun h32 => ?_)
    · refine e_iload_n dX4_mostOf_106 1 rfl rfl ?_
      refine e_ireturn dX4_mostOf_107 rfl rfl (Nat.zero_le _) (Nat.zero_le _) ?_
      have e1 : k = J := by omega
      subst e1
      have e4 := hQ τ hS
      rw [hm] at e4
      exact e4
    · refine e_aload_n dX4_mostOf_35 0 rfl rfl rfl ?_
      refine e_getf (v := .ref 112) dX4_mostOf_36 rfl fX4_197 (tw_o hp) rfl ?_
      refine e_iload_n dX4_mostOf_39 2 rfl rfl ?_
      refine e_iald (f := τ.2.2.1 94) (j := k) dX4_mostOf_40 (tw_a94 hp) rfl (by omega) (by decide) ?_
      refine e_top (congrArg Value.int (ht k (by omega)).1) ?_
      refine e_istore_n dX4_mostOf_41 3 rfl (ls_s (ls_s (ls_1 rfl))) (Nat.le_of_ble_eq_true rfl) ?_
      have htk := (ht k (by omega)).2
      have hax := (hEs (t k) htk).1.1
      have hwx := (hEs (t k) htk).2.1
      have hja := (hJs k (by omega)).1.1
      have hjw := (hJs k (by omega)).2.1.1
      have hjt := (hJs k (by omega)).2.2.1
      have hlk := hld (t k)
      refine e_aload_n dX4_mostOf_42 0 rfl rfl rfl ?_
      refine e_getf (v := .ref 60) dX4_mostOf_43 rfl fX4_20 (tw_o hp) rfl ?_
      refine e_iload_n dX4_mostOf_46 3 rfl rfl ?_
      refine e_iald (f := τ.2.2.1 6) (j := t k) dX4_mostOf_47 (tw_a6 hp) rfl (by omega) (by decide) ?_
      refine e_top (congrArg Value.int (h6 (t k) htk)) ?_
      refine e_aload_n dX4_mostOf_48 0 rfl rfl rfl ?_
      refine e_getf (v := .ref 108) dX4_mostOf_49 rfl fX4_185 (tw_o hp) rfl ?_
      refine e_iload_n dX4_mostOf_52 2 rfl rfl ?_
      refine e_iald (f := τ.2.2.1 90) (j := k) dX4_mostOf_53 (tw_a90 hp) rfl (by omega) (by decide) ?_
      refine e_top (congrArg Value.int (h90 k (by omega))) ?_
      refine e_icmp_ltN (AX (t k)) (JA k) 72 (by omega) (by omega) dX4_mostOf_54 (by decide) (fun h54 => ?_) (fun h54 => ?_)
      · refine e_iconst (-1) dX4_mostOf_72 rfl ?_
        refine e_ireturn dX4_mostOf_73 rfl rfl (Nat.zero_le _) (Nat.zero_le _) ?_
        have e1 : mostN AX WX JA JW JT t J = none := by
          have e2 : mostN AX WX JA JW JT t (k + 1) = none := by rw [mostN_s hm, if_neg (fun z => absurd z.1 (by omega))]
          have e3 := mostN_no e2 (J - (k + 1))
          rw [show k + 1 + (J - (k + 1)) = J by omega] at e3
          exact e3
        have e4 := hQ τ hS
        rw [e1] at e4
        exact e4
      · refine e_aload_n dX4_mostOf_57 0 rfl rfl rfl ?_
        refine e_getf (v := .ref 61) dX4_mostOf_58 rfl fX4_23 (tw_o hp) rfl ?_
        refine e_iload_n dX4_mostOf_61 3 rfl rfl ?_
        refine e_iald (f := τ.2.2.1 7) (j := t k) dX4_mostOf_62 (tw_a7 hp) rfl (by omega) (by decide) ?_
        refine e_top (congrArg Value.int (h7 (t k) htk)) ?_
        refine e_aload_n dX4_mostOf_63 0 rfl rfl rfl ?_
        refine e_getf (v := .ref 109) dX4_mostOf_64 rfl fX4_188 (tw_o hp) rfl ?_
        refine e_iload_n dX4_mostOf_67 2 rfl rfl ?_
        refine e_iald (f := τ.2.2.1 91) (j := k) dX4_mostOf_68 (tw_a91 hp) rfl (by omega) (by decide) ?_
        refine e_top (congrArg Value.int (h91 k (by omega))) ?_
        refine e_icmp_geN (WX (t k)) (JW k) 74 (by omega) (by omega) dX4_mostOf_69 (by decide) (fun h69 => ?_) (fun h69 => ?_)
        · refine e_aload_n dX4_mostOf_74 0 rfl rfl rfl ?_
          refine e_getf (v := .ref 113) dX4_mostOf_75 rfl fX4_200 (tw_o hp) rfl ?_
          refine e_iload_n dX4_mostOf_78 3 rfl rfl ?_
          refine e_dup2 dX4_mostOf_79 rfl rfl ?_
          refine e_iald (f := τ.2.2.1 95) (j := t k) dX4_mostOf_80 (tw_a95 hp) rfl (by omega) (by decide) ?_
          refine e_top (congrArg Value.int (hl (t k) htk)) ?_
          refine e_aload_n dX4_mostOf_81 0 rfl rfl rfl ?_
          refine e_getf (v := .ref 110) dX4_mostOf_82 rfl fX4_191 (tw_o hp) rfl ?_
          refine e_iload_n dX4_mostOf_85 2 rfl rfl ?_
          refine e_iald (f := τ.2.2.1 92) (j := k) dX4_mostOf_86 (tw_a92 hp) rfl (by omega) (by decide) ?_
          refine e_top (congrArg Value.int (h92 k (by omega))) ?_
          refine e_iaddN (ldN JT t k (t k)) (JT k) dX4_mostOf_87 ?_
          refine e_iast (f := τ.2.2.1 95) (j := t k) dX4_mostOf_88 (tw_a95 hp) rfl (by omega) (by decide) ?_
          rw [tw_s95 hp]
          refine e_iload_n dX4_mostOf_89 1 rfl rfl ?_
          refine e_aload_n dX4_mostOf_90 0 rfl rfl rfl ?_
          refine e_getf (v := .ref 113) dX4_mostOf_91 rfl fX4_200 (tw_o hp) rfl ?_
          refine e_iload_n dX4_mostOf_94 3 rfl rfl ?_
          refine e_iald (f := (upd (τ.2.2.1 95) (t k) (nI ((ldN JT t k (t k)) + (JT k))))) (j := t k) dX4_mostOf_95 (tw_a95 hp) rfl (by omega) (by decide) ?_
          refine e_top (congrArg Value.int (pk_us ..)) ?_
          refine e_callS1 (As := [.int (nI m), .int (nI (ldN JT t k (t k) + JT k))]) (rest := []) dX4_mostOf_96 rfl msX4_563 (m_max (nI m) (nI (ldN JT t k (t k) + JT k))) (Nat.le_of_ble_eq_true rfl) rfl rfl (Nat.le_of_ble_eq_true rfl) (Nat.zero_le _) (Nat.zero_le _) ?_
          refine e_istore_n dX4_mostOf_99 1 rfl (ls_1 rfl) (Nat.le_of_ble_eq_true rfl) ?_
          refine e_incN k (k + 1) (inc1 _) dX4_mostOf_100 rfl (ls_s (ls_1 rfl)) (Nat.le_of_ble_eq_true rfl) ?_
          refine e_goto 27 dX4_mostOf_103 (by decide) ?_
          refine e_forget (i := 3) (ln_s (ln_s (ln_s ln_0))) ?_
          have e5 : ldN JT t (k + 1) (t k) = ldN JT t k (t k) + JT k := by rw [ldN, if_pos rfl]
          have e6 : mostN AX WX JA JW JT t (k + 1) = some (max m (ldN JT t k (t k) + JT k)) := by rw [mostN_s hm, if_pos ⟨by omega, by omega⟩, e5]
          rw [mxI_N (by omega) (by omega)]
          refine ih (k + 1) _ _ (by omega) (by omega) (hS.A _ (by decide)) (fun e he => ?_) e6 hQ
          show upd (τ.2.2.1 95) (t k) _ e = _
          by_cases ee : e = t k
          · rw [ee, e5]; exact pk_us ..
          · rw [pk_un ee, hl e he, ldN, if_neg (fun z => ee z.symm), Nat.add_zero]
        · refine e_iconst (-1) dX4_mostOf_72 rfl ?_
          refine e_ireturn dX4_mostOf_73 rfl rfl (Nat.zero_le _) (Nat.zero_le _) ?_
          have e1 : mostN AX WX JA JW JT t J = none := by
            have e2 : mostN AX WX JA JW JT t (k + 1) = none := by rw [mostN_s hm, if_neg (fun z => absurd z.2 (by omega))]
            have e3 := mostN_no e2 (J - (k + 1))
            rw [show k + 1 + (J - (k + 1)) = J by omega] at e3
            exact e3
          have e4 := hQ τ hS
          rw [e1] at e4
          exact e4

set_option maxHeartbeats 4000000 in
set_option maxRecDepth 100000 in
/-- WheelTablesModel.mostOf -/
theorem t_mostOf {pre post : List ACell} {τ0 : Tw} (hp : pre.length = 56) {Eg J : Nat} {AX WX JA JW JT t : Nat → Nat} (hF : PrF τ0 Eg J AX WX JA JW JT) (ht0 : ∀ j, j < J → τ0.2.2.1 94 j = nI (t j) ∧ t j < Eg) : Ct yX4_mostOf (ws_ yX4_mostOf cX4_mostOf 4 (some .int)) 1 0 0 [.ref 56] (TW pre τ0 post) (fun v N => ∃ τ1, N = TW pre τ1 post ∧ v = some (.int (oI (mostN AX WX JA JW JT t J))) ∧ Sx [] [] [95] [] τ1 τ0) noX := by
  obtain ⟨⟨hE4, eE⟩, ⟨hJ7, eJ⟩, hEs, hJs⟩ := id hF
  refine Ct.of (ini := false) (ls := [some (.ref 56), none, none, none]) (by decide) (Nat.le_of_ble_eq_true rfl) (fun h => by cases h) rfl ?_
  refine e_iconst 0 dX4_mostOf_0 rfl ?_
  refine e_istore_n dX4_mostOf_1 1 rfl (ls_1 rfl) (Nat.le_of_ble_eq_true rfl) ?_
  refine t_most1 (τ0 := τ0) (t := t) hp hF (Eg + 1) 0 τ0 (by omega) (by omega) Sx.rf (fun e he => absurd he (by omega)) (fun τ1 hS1 hl1 => ?_)
  refine e_iconst 0 dX4_mostOf_23 rfl ?_
  refine e_istore_n dX4_mostOf_24 1 rfl (ls_1 rfl) (Nat.le_of_ble_eq_true rfl) ?_
  refine e_iconst 0 dX4_mostOf_25 rfl ?_
  refine e_istore_n dX4_mostOf_26 2 rfl (ls_s (ls_1 rfl)) (Nat.le_of_ble_eq_true rfl) ?_
  exact t_most2 (τ0 := τ0) (t := t) hp hF ht0 (J + 1) 0 0 τ1 (by omega) (by omega) hS1 hl1 rfl (fun τ2 hS2 => ⟨τ2, rfl, rfl, hS2⟩)

