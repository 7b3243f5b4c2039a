/-! ===== the component: errata (2): windows ===== -/
theorem nIne {a : Nat} (h : a < 60) : ¬ (nI (a + 1)).toInt64 = 0 := fun z => by
  rw [nI_l (by omega)] at z
  exact absurd ((lN_eq (b := 0) (by omega) (by omega)).mp z) (by omega)
set_option maxHeartbeats 4000000 in
set_option maxRecDepth 100000 in
/-- a loop of isSmoothAt -/
theorem x_sm_loop {ξ : Xs} {mid dyn : List ACell} {n k : Nat} {b : Int32} (hn : n ≤ 20) (hk : 1 ≤ k ∧ k ≤ 4) (hkn : k < n) (hN : ξ.1 35 = nI n) (hK : ξ.1 36 = nI k) (hBd : ξ.1 37 = b) {i : Nat} (hi : i + k < n) {Q : Qfun} : ∀ (fuel : Nat) (j : Nat) (d : Int64) (c : Int64), j ≤ k + 1 → k + 1 < j + fuel → d = smS k (ξ.2.2.2.1 30) i j → c = bnC k j → (smP n k b (ξ.2.2.2.1 30) (k + i) = true → Q (some (.int 1)) (XM ξ mid dyn)) → (¬ smP n k b (ξ.2.2.2.1 30) (k + i) = true → Q (some (.int 0)) (XM ξ mid dyn)) →
    E cX0_isSmoothAt (RX0, (some .boolean), 7, 1, (0, 0), false, []) Q noX 0 0 8 [some (.ref 0), some (.int (nI i)), some (.long d), none, some (.long c), none, some (.int (nI j))] [] (XM ξ mid dyn) := by
  intro fuel
  induction fuel with
  | zero => intro j d c hj hf hd hc hQ1 hQ0; exact absurd hf (by omega)
  | succ fuel ih =>
    intro j d c hj hf hd hc hQ1 hQ0
    have hjz := nIne (a := j) (by omega)
    refine e_iload dX0_isSmoothAt_8 rfl ?_
    refine e_aload_n dX0_isSmoothAt_10 0 rfl rfl rfl ?_
    refine e_getf (v := (.int (ξ.1 36))) dX0_isSmoothAt_11 rfl fX0_406 (xm_o0) rfl ?_
    refine e_top (congrArg Value.int hK) ?_
    refine e_icmp_gtN j k 85 (by omega) (by omega) dX0_isSmoothAt_14 (by decide) (fun h14 => ?_) (fun h14 => ?_)
    · refine e_lload_n dX0_isSmoothAt_85 2 rfl rfl ?_
      refine e_callS1 (As := [.long d]) (rest := []) dX0_isSmoothAt_86 rfl msX0_371 (m_absL d) (Nat.le_of_ble_eq_true rfl) rfl rfl (Nat.le_of_ble_eq_true rfl) (Nat.zero_le _) (Nat.zero_le _) ?_
      refine e_aload_n dX0_isSmoothAt_89 0 rfl rfl rfl ?_
      refine e_getf (v := (.int (ξ.1 37))) dX0_isSmoothAt_90 rfl fX0_409 (xm_o0) rfl ?_
      refine e_top (congrArg Value.int hBd) ?_
      refine e_i2l dX0_isSmoothAt_93 ?_
      refine e_lcmp_gt 102 dX0_isSmoothAt_94 dX0_isSmoothAt_95 (by decide) (fun h94 => ?_) (fun h94 => ?_)
      · refine e_iconst 0 dX0_isSmoothAt_102 rfl ?_
        refine e_ireturn dX0_isSmoothAt_103 rfl rfl (Nat.zero_le _) (Nat.zero_le _) ?_
        obtain rfl : j = k + 1 := by omega
        refine hQ0 (fun z => ?_)
        unfold smP at z
        rw [← smS_df hk.1 hk.2 (by omega), ← hd] at z
        exact absurd (of_decide_eq_true z) (Int64.not_le.mpr h94)
      · refine e_iconst 1 dX0_isSmoothAt_98 rfl ?_
        refine e_goto 103 dX0_isSmoothAt_99 (by decide) ?_
        refine e_ireturn dX0_isSmoothAt_103 rfl rfl (Nat.zero_le _) (Nat.zero_le _) ?_
        obtain rfl : j = k + 1 := by omega
        refine hQ1 ?_
        unfold smP
        rw [← smS_df hk.1 hk.2 (by omega), ← hd]
        exact decide_eq_true (Int64.not_lt.mp h94)
    · refine e_lload_n dX0_isSmoothAt_17 2 rfl rfl ?_
      refine e_aload_n dX0_isSmoothAt_18 0 rfl rfl rfl ?_
      refine e_getf (v := (.int (ξ.1 36))) dX0_isSmoothAt_19 rfl fX0_406 (xm_o0) rfl ?_
      refine e_top (congrArg Value.int hK) ?_
      refine e_iload dX0_isSmoothAt_22 rfl ?_
      refine e_isubN k j (by omega) dX0_isSmoothAt_24 ?_
      refine e_iconst 2 dX0_isSmoothAt_25 rfl ?_
      refine e_iremN (k - j) 2 (by omega) (by omega) (by omega) dX0_isSmoothAt_26 ?_
      refine e_if_neN ((k - j) % 2) 45 (by omega) dX0_isSmoothAt_27 (by decide) (fun h27 => ?_) (fun h27 => ?_)
      · refine e_lload dX0_isSmoothAt_45 rfl ?_
        refine e_lneg dX0_isSmoothAt_47 ?_
        refine e_aload_n dX0_isSmoothAt_48 0 rfl rfl rfl ?_
        refine e_getf (v := (.ref 32)) dX0_isSmoothAt_49 rfl fX0_90 (xm_o0) rfl ?_
        refine e_iload_n dX0_isSmoothAt_52 1 rfl rfl ?_
        refine e_iload dX0_isSmoothAt_53 rfl ?_
        refine e_iaddN i j dX0_isSmoothAt_55 ?_
        refine e_lald (f := ξ.2.2.2.1 30) (j := i + j) dX0_isSmoothAt_56 (xm_a30) rfl (by omega) (by decide) ?_
        refine e_lmul dX0_isSmoothAt_57 ?_
        refine e_ladd dX0_isSmoothAt_58 ?_
        refine e_lstore_n dX0_isSmoothAt_59 2 rfl (ls_s (ls_1 rfl)) (ln_s (ln_s (ln_s ln_0))) (Nat.le_of_ble_eq_true rfl) ?_
        refine e_lload dX0_isSmoothAt_60 rfl ?_
        refine e_aload_n dX0_isSmoothAt_62 0 rfl rfl rfl ?_
        refine e_getf (v := (.int (ξ.1 36))) dX0_isSmoothAt_63 rfl fX0_406 (xm_o0) rfl ?_
        refine e_top (congrArg Value.int hK) ?_
        refine e_iload dX0_isSmoothAt_66 rfl ?_
        refine e_isubN k j (by omega) dX0_isSmoothAt_68 ?_
        refine e_i2l dX0_isSmoothAt_69 ?_
        refine e_lmul dX0_isSmoothAt_70 ?_
        refine e_iload dX0_isSmoothAt_71 rfl ?_
        refine e_iconst 1 dX0_isSmoothAt_73 rfl ?_
        refine e_iaddN j 1 dX0_isSmoothAt_74 ?_
        refine e_i2l dX0_isSmoothAt_75 ?_
        refine e_ldiv dX0_isSmoothAt_76 (by assumption) ?_
        refine e_lstore dX0_isSmoothAt_77 (ls_s (ls_s (ls_s (ls_1 rfl)))) (ln_s (ln_s (ln_s (ln_s (ln_s ln_0))))) (Nat.le_of_ble_eq_true rfl) ?_
        refine e_incN j (j + 1) (inc1 _) dX0_isSmoothAt_79 rfl (ls_s (ls_s (ls_s (ls_s (ls_s (ls_1 rfl)))))) (Nat.le_of_ble_eq_true rfl) ?_
        refine e_goto 8 dX0_isSmoothAt_82 (by decide) ?_
        refine ih (j + 1) _ _ (by omega) (by omega) ?_ ?_ hQ1 hQ0
        · rw [smS, if_neg (by omega), hd, hc]
        · rw [bnC, hc]
      · refine e_lload dX0_isSmoothAt_30 rfl ?_
        refine e_aload_n dX0_isSmoothAt_32 0 rfl rfl rfl ?_
        refine e_getf (v := (.ref 32)) dX0_isSmoothAt_33 rfl fX0_90 (xm_o0) rfl ?_
        refine e_iload_n dX0_isSmoothAt_36 1 rfl rfl ?_
        refine e_iload dX0_isSmoothAt_37 rfl ?_
        refine e_iaddN i j dX0_isSmoothAt_39 ?_
        refine e_lald (f := ξ.2.2.2.1 30) (j := i + j) dX0_isSmoothAt_40 (xm_a30) rfl (by omega) (by decide) ?_
        refine e_lmul dX0_isSmoothAt_41 ?_
        refine e_goto 58 dX0_isSmoothAt_42 (by decide) ?_
        refine e_ladd dX0_isSmoothAt_58 ?_
        refine e_lstore_n dX0_isSmoothAt_59 2 rfl (ls_s (ls_1 rfl)) (ln_s (ln_s (ln_s ln_0))) (Nat.le_of_ble_eq_true rfl) ?_
        refine e_lload dX0_isSmoothAt_60 rfl ?_
        refine e_aload_n dX0_isSmoothAt_62 0 rfl rfl rfl ?_
        refine e_getf (v := (.int (ξ.1 36))) dX0_isSmoothAt_63 rfl fX0_406 (xm_o0) rfl ?_
        refine e_top (congrArg Value.int hK) ?_
        refine e_iload dX0_isSmoothAt_66 rfl ?_
        refine e_isubN k j (by omega) dX0_isSmoothAt_68 ?_
        refine e_i2l dX0_isSmoothAt_69 ?_
        refine e_lmul dX0_isSmoothAt_70 ?_
        refine e_iload dX0_isSmoothAt_71 rfl ?_
        refine e_iconst 1 dX0_isSmoothAt_73 rfl ?_
        refine e_iaddN j 1 dX0_isSmoothAt_74 ?_
        refine e_i2l dX0_isSmoothAt_75 ?_
        refine e_ldiv dX0_isSmoothAt_76 (by assumption) ?_
        refine e_lstore dX0_isSmoothAt_77 (ls_s (ls_s (ls_s (ls_1 rfl)))) (ln_s (ln_s (ln_s (ln_s (ln_s ln_0))))) (Nat.le_of_ble_eq_true rfl) ?_
        refine e_incN j (j + 1) (inc1 _) dX0_isSmoothAt_79 rfl (ls_s (ls_s (ls_s (ls_s (ls_s (ls_1 rfl)))))) (Nat.le_of_ble_eq_true rfl) ?_
        refine e_goto 8 dX0_isSmoothAt_82 (by decide) ?_
        refine ih (j + 1) _ _ (by omega) (by omega) ?_ ?_ hQ1 hQ0
        · rw [smS, if_pos (by omega), hd, hc]
        · rw [bnC, hc]

set_option maxHeartbeats 4000000 in
set_option maxRecDepth 100000 in
/-- WheelTables.isSmoothAt -/
theorem x_isSmoothAt {ξ : Xs} {mid dyn : List ACell} {n k : Nat} {b : Int32} (hn : n ≤ 20) (hk : 1 ≤ k ∧ k ≤ 4) (hkn : k < n) (hN : ξ.1 35 = nI n) (hK : ξ.1 36 = nI k) (hBd : ξ.1 37 = b) {i : Nat} (hi : i + k < n) : Ct yX0_isSmoothAt (ws_ yX0_isSmoothAt cX0_isSmoothAt 7 (some .boolean)) 1 0 0 [.ref 0, .int (nI i)] (XM ξ mid dyn) (QB (smP n k b (ξ.2.2.2.1 30) (k + i) = true) (XM ξ mid dyn)) noX := by
  refine Ct.of (ini := false) (ls := [some (.ref 0), some (.int (nI i)), none, none, none, none, none]) (by decide) (Nat.le_of_ble_eq_true rfl) (fun h => by cases h) rfl ?_
  refine e_lconst 0 dX0_isSmoothAt_0 rfl ?_
  refine e_lstore_n dX0_isSmoothAt_1 2 rfl (ls_s (ls_1 rfl)) (ln_s (ln_s (ln_s ln_0))) (Nat.le_of_ble_eq_true rfl) ?_
  refine e_lconst 1 dX0_isSmoothAt_2 rfl ?_
  refine e_lstore dX0_isSmoothAt_3 (ls_s (ls_s (ls_s (ls_1 rfl)))) (ln_s (ln_s (ln_s (ln_s (ln_s ln_0))))) (Nat.le_of_ble_eq_true rfl) ?_
  refine e_iconst 0 dX0_isSmoothAt_5 rfl ?_
  refine e_istore dX0_isSmoothAt_6 (ls_s (ls_s (ls_s (ls_s (ls_s (ls_1 rfl)))))) (Nat.le_of_ble_eq_true rfl) ?_
  exact x_sm_loop hn hk hkn hN hK hBd hi (k + 2) 0 _ _ (by omega) (by omega) rfl rfl (fun h => ⟨rfl, Or.inl ⟨h, rfl⟩⟩) (fun h => ⟨rfl, Or.inr ⟨h, rfl⟩⟩)

/-- all windows are smooth but those that hold one of two -/
def alB (n k : Nat) (b : Int32) (T : Nat → Int64) (x y : Int32) : Bool := allB (fun q => smP n k b T (k + q) || decide ((nI q ≤ x ∧ x ≤ nI (q + k)) ∨ (nI q ≤ y ∧ y ≤ nI (q + k)))) (n - k)
theorem alB_el {n k : Nat} {b : Int32} {T : Nat → Int64} {i j : Nat} (hn : n ≤ 20) (hi : i < n) (hj : j < n) : alB n k b T (nI i) (nI j) = elN n k b T i j := by
  apply Bool.eq_iff_iff.mpr
  constructor
  · intro h
    refine allB_iff.mpr (fun q hq => ?_)
    have h1 := allB_iff.mp h q hq
    rw [Bool.or_eq_true, decide_eq_true_eq, nI_leN (by omega) (by omega), nI_leN (by omega) (by omega), nI_leN (by omega) (by omega), nI_leN (by omega) (by omega)] at h1
    unfold elP inW
    rw [Bool.or_eq_true, Bool.or_eq_true, decide_eq_true_eq, decide_eq_true_eq, Nat.add_sub_cancel_left]
    rcases h1 with h1 | h1 | h1
    · exact Or.inl h1
    · exact Or.inr (Or.inl ⟨h1.1, by omega⟩)
    · exact Or.inr (Or.inr ⟨h1.1, by omega⟩)
  · intro h
    refine allB_iff.mpr (fun q hq => ?_)
    have h1 := el_all h q hq
    rw [Bool.or_eq_true, decide_eq_true_eq, nI_leN (by omega) (by omega), nI_leN (by omega) (by omega), nI_leN (by omega) (by omega), nI_leN (by omega) (by omega)]
    rcases h1 with h1 | h1 | h1
    · exact Or.inl h1
    · exact Or.inr (Or.inl ⟨h1.1, by omega⟩)
    · exact Or.inr (Or.inr ⟨h1.1, by omega⟩)
theorem alB_sm {n k : Nat} {b : Int32} {T : Nat → Int64} (hn : n ≤ 20) : alB n k b T (-8) (-8) = smN n k b T := by
  have e : ∀ q, q < 60 → ¬ nI q ≤ -8 := fun q hq z => by
    have z2 : (nI q).toInt ≤ (-8 : Int32).toInt := Int32.le_iff_toInt_le.mp z
    rw [nI_toInt (by omega), show (-8 : Int32).toInt = -8 from rfl] at z2
    omega
  apply Bool.eq_iff_iff.mpr
  constructor
  · intro h
    refine allB_iff.mpr (fun q hq => ?_)
    have h1 := allB_iff.mp h q hq
    rw [Bool.or_eq_true, decide_eq_true_eq] at h1
    rcases h1 with h1 | h1 | h1
    · exact h1
    · exact absurd h1.1 (e q (by omega))
    · exact absurd h1.1 (e q (by omega))
  · intro h
    refine allB_iff.mpr (fun q hq => ?_)
    rw [Bool.or_eq_true]
    exact Or.inl (allB_iff.mp h q hq)
set_option maxHeartbeats 4000000 in
set_option maxRecDepth 100000 in
/-- a loop of areAll -/
theorem x_al_loop {ξ : Xs} {mid dyn : List ACell} {n k : Nat} {b : Int32} (hn : n ≤ 20) (hk : 1 ≤ k ∧ k ≤ 4) (hkn : k < n) (hN : ξ.1 35 = nI n) (hK : ξ.1 36 = nI k) (hBd : ξ.1 37 = b) (x y : Int32) {Q : Qfun} : ∀ (fuel : Nat) (i : Nat), i ≤ n - k → n - k < i + fuel → allB (fun q => smP n k b (ξ.2.2.2.1 30) (k + q) || decide ((nI q ≤ x ∧ x ≤ nI (q + k)) ∨ (nI q ≤ y ∧ y ≤ nI (q + k)))) i = true → (alB n k b (ξ.2.2.2.1 30) x y = true → Q (some (.int 1)) (XM ξ mid dyn)) → (¬ alB n k b (ξ.2.2.2.1 30) x y = true → Q (some (.int 0)) (XM ξ mid dyn)) →
    E cX0_areAll (RX0, (some .boolean), 5, 2, (0, 0), false, []) Q noX 0 0 2 [some (.ref 0), some (.int x), some (.int y), some (.int (nI i)), none] [] (XM ξ mid dyn) := by
  intro fuel
  induction fuel with
  | zero => intro i hi hf hb hQ1 hQ0; exact absurd hf (by omega)
  | succ fuel ih =>
    intro i hi hf hb hQ1 hQ0
    refine e_iload_n dX0_areAll_2 3 rfl rfl ?_
    refine e_aload_n dX0_areAll_3 0 rfl rfl rfl ?_
    refine e_getf (v := (.int (ξ.1 36))) dX0_areAll_4 rfl fX0_406 (xm_o0) rfl ?_
    refine e_top (congrArg Value.int hK) ?_
    refine e_iaddN i k dX0_areAll_7 ?_
    refine e_aload_n dX0_areAll_8 0 rfl rfl rfl ?_
    refine e_getf (v := (.int (ξ.1 35))) dX0_areAll_9 rfl fX0_415 (xm_o0) rfl ?_
    refine e_top (congrArg Value.int hN) ?_
    refine e_icmp_geN (i + k) n 73 (by omega) (by omega) dX0_areAll_12 (by decide) (fun h12 => ?_) (fun h12 => ?_)
    · refine e_iconst 1 dX0_areAll_73 rfl ?_
      refine e_ireturn dX0_areAll_74 rfl rfl (Nat.zero_le _) (Nat.zero_le _) ?_
      obtain rfl : i = n - k := by omega
      exact hQ1 hb
    · refine e_iload_n dX0_areAll_15 1 rfl rfl ?_
      refine e_iload_n dX0_areAll_16 3 rfl rfl ?_
      refine e_icmp_lt 30 dX0_areAll_17 (by decide) (fun h17 => ?_) (fun h17 => ?_)
      · refine e_iload_n dX0_areAll_30 2 rfl rfl ?_
        refine e_iload_n dX0_areAll_31 3 rfl rfl ?_
        refine e_icmp_lt 49 dX0_areAll_32 (by decide) (fun h32 => ?_) (fun h32 => ?_)
        · refine e_iconst 0 dX0_areAll_49 rfl ?_
          refine e_istore dX0_areAll_50 (ls_s (ls_s (ls_s (ls_1 rfl)))) (Nat.le_of_ble_eq_true rfl) ?_
          refine e_iload dX0_areAll_52 rfl ?_
          refine e_if_ne_f (by decide) 67 dX0_areAll_54 (by decide) ?_
          refine e_aload_n dX0_areAll_57 0 rfl rfl rfl ?_
          refine e_iload_n dX0_areAll_58 3 rfl rfl ?_
          refine e_callVB (As := [.int (nI i)]) (rest := []) dX0_areAll_59 rfl mvX0_418 (xm_o0) rfl (x_isSmoothAt hn hk hkn hN hK hBd (i := i) (by omega)) (Nat.le_of_ble_eq_true rfl) rfl rfl (Nat.le_of_ble_eq_true rfl) (Nat.zero_le _) (Nat.zero_le _) (fun h59 => ?_) (fun h59 => ?_)
          · have h59 : (smP n k b (ξ.2.2.2.1 30) (k + i) = true) := h59
            refine e_if_ne_t 67 (by decide) dX0_areAll_62 (by decide) ?_
            refine e_incN i (i + 1) (inc1 _) dX0_areAll_67 rfl (ls_s (ls_s (ls_1 rfl))) (Nat.le_of_ble_eq_true rfl) ?_
            refine e_goto 2 dX0_areAll_70 (by decide) ?_
            refine e_forget (i := 4) (ln_s (ln_s (ln_s (ln_s ln_0)))) ?_
            refine ih (i + 1) (by omega) (by omega) ?_ hQ1 hQ0
            rw [allB, hb, Bool.true_and, Bool.or_eq_true]
            exact Or.inl h59
          · have h59 : ¬ (smP n k b (ξ.2.2.2.1 30) (k + i) = true) := h59
            refine e_if_ne_f (by decide) 67 dX0_areAll_62 (by decide) ?_
            refine e_iconst 0 dX0_areAll_65 rfl ?_
            refine e_ireturn dX0_areAll_66 rfl rfl (Nat.zero_le _) (Nat.zero_le _) ?_
            refine hQ0 (fun z => ?_)
            have hz := allB_iff.mp z i (by omega)
            rw [Bool.or_eq_true, decide_eq_true_eq] at hz
            rcases hz with z | z | z
            · exact h59 z
            · exact i32_lt h17 z.1
            · exact i32_lt h32 z.1
        · refine e_iload_n dX0_areAll_35 2 rfl rfl ?_
          refine e_iload_n dX0_areAll_36 3 rfl rfl ?_
          refine e_aload_n dX0_areAll_37 0 rfl rfl rfl ?_
          refine e_getf (v := (.int (ξ.1 36))) dX0_areAll_38 rfl fX0_406 (xm_o0) rfl ?_
          refine e_top (congrArg Value.int hK) ?_
          refine e_iaddN i k dX0_areAll_41 ?_
          refine e_icmp_gt 49 dX0_areAll_42 (by decide) (fun h42 => ?_) (fun h42 => ?_)
          · refine e_iconst 0 dX0_areAll_49 rfl ?_
            refine e_istore dX0_areAll_50 (ls_s (ls_s (ls_s (ls_1 rfl)))) (Nat.le_of_ble_eq_true rfl) ?_
            refine e_iload dX0_areAll_52 rfl ?_
            refine e_if_ne_f (by decide) 67 dX0_areAll_54 (by decide) ?_
            refine e_aload_n dX0_areAll_57 0 rfl rfl rfl ?_
            refine e_iload_n dX0_areAll_58 3 rfl rfl ?_
            refine e_callVB (As := [.int (nI i)]) (rest := []) dX0_areAll_59 rfl mvX0_418 (xm_o0) rfl (x_isSmoothAt hn hk hkn hN hK hBd (i := i) (by omega)) (Nat.le_of_ble_eq_true rfl) rfl rfl (Nat.le_of_ble_eq_true rfl) (Nat.zero_le _) (Nat.zero_le _) (fun h59 => ?_) (fun h59 => ?_)
            · have h59 : (smP n k b (ξ.2.2.2.1 30) (k + i) = true) := h59
              refine e_if_ne_t 67 (by decide) dX0_areAll_62 (by decide) ?_
              refine e_incN i (i + 1) (inc1 _) dX0_areAll_67 rfl (ls_s (ls_s (ls_1 rfl))) (Nat.le_of_ble_eq_true rfl) ?_
              refine e_goto 2 dX0_areAll_70 (by decide) ?_
              refine e_forget (i := 4) (ln_s (ln_s (ln_s (ln_s ln_0)))) ?_
              refine ih (i + 1) (by omega) (by omega) ?_ hQ1 hQ0
              rw [allB, hb, Bool.true_and, Bool.or_eq_true]
              exact Or.inl h59
            · have h59 : ¬ (smP n k b (ξ.2.2.2.1 30) (k + i) = true) := h59
              refine e_if_ne_f (by decide) 67 dX0_areAll_62 (by decide) ?_
              refine e_iconst 0 dX0_areAll_65 rfl ?_
              refine e_ireturn dX0_areAll_66 rfl rfl (Nat.zero_le _) (Nat.zero_le _) ?_
              refine hQ0 (fun z => ?_)
              have hz := allB_iff.mp z i (by omega)
              rw [Bool.or_eq_true, decide_eq_true_eq] at hz
              rcases hz with z | z | z
              · exact h59 z
              · exact i32_lt h17 z.1
              · exact absurd z.2 (Int32.not_le.mpr h42)
          · refine e_iconst 1 dX0_areAll_45 rfl ?_
            refine e_goto 50 dX0_areAll_46 (by decide) ?_
            refine e_istore dX0_areAll_50 (ls_s (ls_s (ls_s (ls_1 rfl)))) (Nat.le_of_ble_eq_true rfl) ?_
            refine e_iload dX0_areAll_52 rfl ?_
            refine e_if_ne_t 67 (by decide) dX0_areAll_54 (by decide) ?_
            refine e_incN i (i + 1) (inc1 _) dX0_areAll_67 rfl (ls_s (ls_s (ls_1 rfl))) (Nat.le_of_ble_eq_true rfl) ?_
            refine e_goto 2 dX0_areAll_70 (by decide) ?_
            refine e_forget (i := 4) (ln_s (ln_s (ln_s (ln_s ln_0)))) ?_
            refine ih (i + 1) (by omega) (by omega) ?_ hQ1 hQ0
            rw [allB, hb, Bool.true_and, Bool.or_eq_true]
            exact Or.inr (decide_eq_true (Or.inr ⟨i32_nlt h32, i32_nlt h42⟩))
      · refine e_iload_n dX0_areAll_20 1 rfl rfl ?_
        refine e_iload_n dX0_areAll_21 3 rfl rfl ?_
        refine e_aload_n dX0_areAll_22 0 rfl rfl rfl ?_
        refine e_getf (v := (.int (ξ.1 36))) dX0_areAll_23 rfl fX0_406 (xm_o0) rfl ?_
        refine e_top (congrArg Value.int hK) ?_
        refine e_iaddN i k dX0_areAll_26 ?_
        refine e_icmp_le 45 dX0_areAll_27 (by decide) (fun h27 => ?_) (fun h27 => ?_)
        · refine e_iconst 1 dX0_areAll_45 rfl ?_
          refine e_goto 50 dX0_areAll_46 (by decide) ?_
          refine e_istore dX0_areAll_50 (ls_s (ls_s (ls_s (ls_1 rfl)))) (Nat.le_of_ble_eq_true rfl) ?_
          refine e_iload dX0_areAll_52 rfl ?_
          refine e_if_ne_t 67 (by decide) dX0_areAll_54 (by decide) ?_
          refine e_incN i (i + 1) (inc1 _) dX0_areAll_67 rfl (ls_s (ls_s (ls_1 rfl))) (Nat.le_of_ble_eq_true rfl) ?_
          refine e_goto 2 dX0_areAll_70 (by decide) ?_
          refine e_forget (i := 4) (ln_s (ln_s (ln_s (ln_s ln_0)))) ?_
          refine ih (i + 1) (by omega) (by omega) ?_ hQ1 hQ0
          rw [allB, hb, Bool.true_and, Bool.or_eq_true]
          exact Or.inr (decide_eq_true (Or.inl ⟨i32_nlt h17, h27⟩))
        · refine e_iload_n dX0_areAll_30 2 rfl rfl ?_
          refine e_iload_n dX0_areAll_31 3 rfl rfl ?_
          refine e_icmp_lt 49 dX0_areAll_32 (by decide) (fun h32 => ?_) (fun h32 => ?_)
          · refine e_iconst 0 dX0_areAll_49 rfl ?_
            refine e_istore dX0_areAll_50 (ls_s (ls_s (ls_s (ls_1 rfl)))) (Nat.le_of_ble_eq_true rfl) ?_
            refine e_iload dX0_areAll_52 rfl ?_
            refine e_if_ne_f (by decide) 67 dX0_areAll_54 (by decide) ?_
            refine e_aload_n dX0_areAll_57 0 rfl rfl rfl ?_
            refine e_iload_n dX0_areAll_58 3 rfl rfl ?_
            refine e_callVB (As := [.int (nI i)]) (rest := []) dX0_areAll_59 rfl mvX0_418 (xm_o0) rfl (x_isSmoothAt hn hk hkn hN hK hBd (i := i) (by omega)) (Nat.le_of_ble_eq_true rfl) rfl rfl (Nat.le_of_ble_eq_true rfl) (Nat.zero_le _) (Nat.zero_le _) (fun h59 => ?_) (fun h59 => ?_)
            · have h59 : (smP n k b (ξ.2.2.2.1 30) (k + i) = true) := h59
              refine e_if_ne_t 67 (by decide) dX0_areAll_62 (by decide) ?_
              refine e_incN i (i + 1) (inc1 _) dX0_areAll_67 rfl (ls_s (ls_s (ls_1 rfl))) (Nat.le_of_ble_eq_true rfl) ?_
              refine e_goto 2 dX0_areAll_70 (by decide) ?_
              refine e_forget (i := 4) (ln_s (ln_s (ln_s (ln_s ln_0)))) ?_
              refine ih (i + 1) (by omega) (by omega) ?_ hQ1 hQ0
              rw [allB, hb, Bool.true_and, Bool.or_eq_true]
              exact Or.inl h59
            · have h59 : ¬ (smP n k b (ξ.2.2.2.1 30) (k + i) = true) := h59
              refine e_if_ne_f (by decide) 67 dX0_areAll_62 (by decide) ?_
              refine e_iconst 0 dX0_areAll_65 rfl ?_
              refine e_ireturn dX0_areAll_66 rfl rfl (Nat.zero_le _) (Nat.zero_le _) ?_
              refine hQ0 (fun z => ?_)
              have hz := allB_iff.mp z i (by omega)
              rw [Bool.or_eq_true, decide_eq_true_eq] at hz
              rcases hz with z | z | z
              · exact h59 z
              · exact h27 z.2
              · exact i32_lt h32 z.1
          · refine e_iload_n dX0_areAll_35 2 rfl rfl ?_
            refine e_iload_n dX0_areAll_36 3 rfl rfl ?_
            refine e_aload_n dX0_areAll_37 0 rfl rfl rfl ?_
            refine e_getf (v := (.int (ξ.1 36))) dX0_areAll_38 rfl fX0_406 (xm_o0) rfl ?_
            refine e_top (congrArg Value.int hK) ?_
            refine e_iaddN i k dX0_areAll_41 ?_
            refine e_icmp_gt 49 dX0_areAll_42 (by decide) (fun h42 => ?_) (fun h42 => ?_)
            · refine e_iconst 0 dX0_areAll_49 rfl ?_
              refine e_istore dX0_areAll_50 (ls_s (ls_s (ls_s (ls_1 rfl)))) (Nat.le_of_ble_eq_true rfl) ?_
              refine e_iload dX0_areAll_52 rfl ?_
              refine e_if_ne_f (by decide) 67 dX0_areAll_54 (by decide) ?_
              refine e_aload_n dX0_areAll_57 0 rfl rfl rfl ?_
              refine e_iload_n dX0_areAll_58 3 rfl rfl ?_
              refine e_callVB (As := [.int (nI i)]) (rest := []) dX0_areAll_59 rfl mvX0_418 (xm_o0) rfl (x_isSmoothAt hn hk hkn hN hK hBd (i := i) (by omega)) (Nat.le_of_ble_eq_true rfl) rfl rfl (Nat.le_of_ble_eq_true rfl) (Nat.zero_le _) (Nat.zero_le _) (fun h59 => ?_) (fun h59 => ?_)
              · have h59 : (smP n k b (ξ.2.2.2.1 30) (k + i) = true) := h59
                refine e_if_ne_t 67 (by decide) dX0_areAll_62 (by decide) ?_
                refine e_incN i (i + 1) (inc1 _) dX0_areAll_67 rfl (ls_s (ls_s (ls_1 rfl))) (Nat.le_of_ble_eq_true rfl) ?_
                refine e_goto 2 dX0_areAll_70 (by decide) ?_
                refine e_forget (i := 4) (ln_s (ln_s (ln_s (ln_s ln_0)))) ?_
                refine ih (i + 1) (by omega) (by omega) ?_ hQ1 hQ0
                rw [allB, hb, Bool.true_and, Bool.or_eq_true]
                exact Or.inl h59
              · have h59 : ¬ (smP n k b (ξ.2.2.2.1 30) (k + i) = true) := h59
                refine e_if_ne_f (by decide) 67 dX0_areAll_62 (by decide) ?_
                refine e_iconst 0 dX0_areAll_65 rfl ?_
                refine e_ireturn dX0_areAll_66 rfl rfl (Nat.zero_le _) (Nat.zero_le _) ?_
                refine hQ0 (fun z => ?_)
                have hz := allB_iff.mp z i (by omega)
                rw [Bool.or_eq_true, decide_eq_true_eq] at hz
                rcases hz with z | z | z
                · exact h59 z
                · exact h27 z.2
                · exact absurd z.2 (Int32.not_le.mpr h42)
            · refine e_iconst 1 dX0_areAll_45 rfl ?_
              refine e_goto 50 dX0_areAll_46 (by decide) ?_
              refine e_istore dX0_areAll_50 (ls_s (ls_s (ls_s (ls_1 rfl)))) (Nat.le_of_ble_eq_true rfl) ?_
              refine e_iload dX0_areAll_52 rfl ?_
              refine e_if_ne_t 67 (by decide) dX0_areAll_54 (by decide) ?_
              refine e_incN i (i + 1) (inc1 _) dX0_areAll_67 rfl (ls_s (ls_s (ls_1 rfl))) (Nat.le_of_ble_eq_true rfl) ?_
              refine e_goto 2 dX0_areAll_70 (by decide) ?_
              refine e_forget (i := 4) (ln_s (ln_s (ln_s (ln_s ln_0)))) ?_
              refine ih (i + 1) (by omega) (by omega) ?_ hQ1 hQ0
              rw [allB, hb, Bool.true_and, Bool.or_eq_true]
              exact Or.inr (decide_eq_true (Or.inr ⟨i32_nlt h32, i32_nlt h42⟩))

set_option maxHeartbeats 4000000 in
set_option maxRecDepth 100000 in
/-- WheelTables.areAll -/
theorem x_areAll {ξ : Xs} {mid dyn : List ACell} {n k : Nat} {b : Int32} (hn : n ≤ 20) (hk : 1 ≤ k ∧ k ≤ 4) (hkn : k < n) (hN : ξ.1 35 = nI n) (hK : ξ.1 36 = nI k) (hBd : ξ.1 37 = b) (x y : Int32) : Ct yX0_areAll (ws_ yX0_areAll cX0_areAll 5 (some .boolean)) 2 0 0 [.ref 0, .int x, .int y] (XM ξ mid dyn) (QB (alB n k b (ξ.2.2.2.1 30) x y = true) (XM ξ mid dyn)) noX := by
  refine Ct.of (ini := false) (ls := [some (.ref 0), some (.int x), some (.int y), none, none]) (by decide) (Nat.le_of_ble_eq_true rfl) (fun h => by cases h) rfl ?_
  refine e_iconst 0 dX0_areAll_0 rfl ?_
  refine e_istore_n dX0_areAll_1 3 rfl (ls_s (ls_s (ls_1 rfl))) (Nat.le_of_ble_eq_true rfl) ?_
  exact x_al_loop hn hk hkn hN hK hBd x y (n + 1) 0 (by omega) (by omega) rfl (fun h => ⟨rfl, Or.inl ⟨h, rfl⟩⟩) (fun h => ⟨rfl, Or.inr ⟨h, rfl⟩⟩)

theorem mx_by {a k : Nat} (ha : a < 60) (hk : k ≤ 4) : mxI 0 (nI a - nI k) = nI (a - k) := by
  have e : ∀ a, a < 60 → ∀ k, k < 5 → mxI 0 (nI a - nI k) = nI (a - k) := by decide +kernel
  exact e a ha k (by omega)
set_option maxHeartbeats 4000000 in
set_option maxRecDepth 100000 in
/-- a loop of isSmoothBy -/
theorem x_by_loop {ξ : Xs} {mid dyn : List ACell} {n k : Nat} {b : Int32} (hn : n ≤ 20) (hk : 1 ≤ k ∧ k ≤ 4) (hkn : k < n) (hN : ξ.1 35 = nI n) (hK : ξ.1 36 = nI k) (hBd : ξ.1 37 = b) {a : Nat} (ha : a < n) {Q : Qfun} : ∀ (fuel : Nat) (i : Nat), a ≤ k + i ∧ i ≤ n - k → n - k < i + fuel → allB (fun q => !(decide (a ≤ k + q ∧ q ≤ a)) || smP n k b (ξ.2.2.2.1 30) (k + q)) i = true → (byB n k b (ξ.2.2.2.1 30) a = true → Q (some (.int 1)) (XM ξ mid dyn)) → (¬ byB n k b (ξ.2.2.2.1 30) a = true → Q (some (.int 0)) (XM ξ mid dyn)) →
    E cX0_isSmoothBy (RX0, (some .boolean), 3, 2, (0, 0), false, []) Q noX 0 0 11 [some (.ref 0), some (.int (nI a)), some (.int (nI i))] [] (XM ξ mid dyn) := by
  intro fuel
  induction fuel with
  | zero => intro i hi hf hb hQ1 hQ0; exact absurd hf (by omega)
  | succ fuel ih =>
    intro i hi hf hb hQ1 hQ0
    refine e_iload_n dX0_isSmoothBy_11 2 rfl rfl ?_
    refine e_iload_n dX0_isSmoothBy_12 1 rfl rfl ?_
    refine e_icmp_gtN i a 45 (by omega) (by omega) dX0_isSmoothBy_13 (by decide) (fun h13 => ?_) (fun h13 => ?_)
    · refine e_iconst 1 dX0_isSmoothBy_45 rfl ?_
      refine e_ireturn dX0_isSmoothBy_46 rfl rfl (Nat.zero_le _) (Nat.zero_le _) ?_
      refine hQ1 (allB_iff.mpr (fun q hq => ?_))
      by_cases e : q < i
      · exact allB_iff.mp hb q e
      · rw [Bool.or_eq_true, Bool.not_eq_true', decide_eq_false_iff_not]
        exact Or.inl (fun z => by omega)
    · refine e_iload_n dX0_isSmoothBy_16 2 rfl rfl ?_
      refine e_aload_n dX0_isSmoothBy_17 0 rfl rfl rfl ?_
      refine e_getf (v := (.int (ξ.1 36))) dX0_isSmoothBy_18 rfl fX0_406 (xm_o0) rfl ?_
      refine e_top (congrArg Value.int hK) ?_
      refine e_iaddN i k dX0_isSmoothBy_21 ?_
      refine e_aload_n dX0_isSmoothBy_22 0 rfl rfl rfl ?_
      refine e_getf (v := (.int (ξ.1 35))) dX0_isSmoothBy_23 rfl fX0_415 (xm_o0) rfl ?_
      refine e_top (congrArg Value.int hN) ?_
      refine e_icmp_geN (i + k) n 45 (by omega) (by omega) dX0_isSmoothBy_26 (by decide) (fun h26 => ?_) (fun h26 => ?_)
      · refine e_iconst 1 dX0_isSmoothBy_45 rfl ?_
        refine e_ireturn dX0_isSmoothBy_46 rfl rfl (Nat.zero_le _) (Nat.zero_le _) ?_
        refine hQ1 (allB_iff.mpr (fun q hq => ?_))
        by_cases e : q < i
        · exact allB_iff.mp hb q e
        · rw [Bool.or_eq_true, Bool.not_eq_true', decide_eq_false_iff_not]
          exact Or.inl (fun z => by omega)
      · refine e_aload_n dX0_isSmoothBy_29 0 rfl rfl rfl ?_
        refine e_iload_n dX0_isSmoothBy_30 2 rfl rfl ?_
        refine e_callVB (As := [.int (nI i)]) (rest := []) dX0_isSmoothBy_31 rfl mvX0_418 (xm_o0) rfl (x_isSmoothAt hn hk hkn hN hK hBd (i := i) (by omega)) (Nat.le_of_ble_eq_true rfl) rfl rfl (Nat.le_of_ble_eq_true rfl) (Nat.zero_le _) (Nat.zero_le _) (fun h31 => ?_) (fun h31 => ?_)
        · have h31 : (smP n k b (ξ.2.2.2.1 30) (k + i) = true) := h31
          refine e_if_ne_t 39 (by decide) dX0_isSmoothBy_34 (by decide) ?_
          refine e_incN i (i + 1) (inc1 _) dX0_isSmoothBy_39 rfl (ls_s (ls_1 rfl)) (Nat.le_of_ble_eq_true rfl) ?_
          refine e_goto 11 dX0_isSmoothBy_42 (by decide) ?_
          refine ih (i + 1) (by omega) (by omega) ?_ hQ1 hQ0
          rw [allB, hb, Bool.true_and, Bool.or_eq_true]
          exact Or.inr h31
        · have h31 : ¬ (smP n k b (ξ.2.2.2.1 30) (k + i) = true) := h31
          refine e_if_ne_f (by decide) 39 dX0_isSmoothBy_34 (by decide) ?_
          refine e_iconst 0 dX0_isSmoothBy_37 rfl ?_
          refine e_ireturn dX0_isSmoothBy_38 rfl rfl (Nat.zero_le _) (Nat.zero_le _) ?_
          refine hQ0 (fun z => ?_)
          have hz := allB_iff.mp z i (by omega)
          rw [Bool.or_eq_true, Bool.not_eq_true', decide_eq_false_iff_not] at hz
          rcases hz with z | z
          · exact z (by omega)
          · exact h31 z

set_option maxHeartbeats 4000000 in
set_option maxRecDepth 100000 in
/-- WheelTables.isSmoothBy -/
theorem x_isSmoothBy {ξ : Xs} {mid dyn : List ACell} {n k : Nat} {b : Int32} (hn : n ≤ 20) (hk : 1 ≤ k ∧ k ≤ 4) (hkn : k < n) (hN : ξ.1 35 = nI n) (hK : ξ.1 36 = nI k) (hBd : ξ.1 37 = b) {a : Nat} (ha : a < n) : Ct yX0_isSmoothBy (ws_ yX0_isSmoothBy cX0_isSmoothBy 3 (some .boolean)) 2 0 0 [.ref 0, .int (nI a)] (XM ξ mid dyn) (QB (byB n k b (ξ.2.2.2.1 30) a = true) (XM ξ mid dyn)) noX := by
  refine Ct.of (ini := false) (ls := [some (.ref 0), some (.int (nI a)), none]) (by decide) (Nat.le_of_ble_eq_true rfl) (fun h => by cases h) rfl ?_
  refine e_iconst 0 dX0_isSmoothBy_0 rfl ?_
  refine e_iload_n dX0_isSmoothBy_1 1 rfl rfl ?_
  refine e_aload_n dX0_isSmoothBy_2 0 rfl rfl rfl ?_
  refine e_getf (v := (.int (ξ.1 36))) dX0_isSmoothBy_3 rfl fX0_406 (xm_o0) rfl ?_
  refine e_top (congrArg Value.int hK) ?_
  refine e_isub dX0_isSmoothBy_6 ?_
  refine e_callS1 (As := [.int 0, .int ((nI a) - (nI k))]) (rest := []) dX0_isSmoothBy_7 rfl msX0_412 (m_max 0 ((nI a) - (nI k))) (Nat.le_of_ble_eq_true rfl) rfl rfl (Nat.le_of_ble_eq_true rfl) (Nat.zero_le _) (Nat.zero_le _) ?_
  refine e_top (congrArg Value.int (mx_by (by omega) hk.2)) ?_
  refine e_istore_n dX0_isSmoothBy_10 2 rfl (ls_s (ls_1 rfl)) (Nat.le_of_ble_eq_true rfl) ?_
  refine x_by_loop hn hk hkn hN hK hBd ha (n + 1) (a - k) (by omega) (by omega) (allB_iff.mpr (fun q hq => ?_)) (fun h => ⟨rfl, Or.inl ⟨h, rfl⟩⟩) (fun h => ⟨rfl, Or.inr ⟨h, rfl⟩⟩)
  rw [Bool.or_eq_true, Bool.not_eq_true', decide_eq_false_iff_not]
  exact Or.inl (fun z => by omega)

