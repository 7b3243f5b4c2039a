/-! ===== the component: finer tables (1) ===== -/
set_option maxHeartbeats 4000000 in
set_option maxRecDepth 100000 in
/-- a loop of at -/
theorem x_at_in {ξ : Xs} {mid dyn : List ACell} {st : Nat → Int64} {t k m : Nat} (hk : k ≤ 4) (hm : 2 ≤ m ∧ m ≤ 20) (ht : t < 60) {n : Nat} {u v : Int64} (hn : n ≤ k) {Q : Qfun} : ∀ (fuel : Nat) (c : Nat), n + c ≤ k → k < n + c + fuel → E cX0_at (RX0, (some .long), 12, 0, (0, 0), false, []) Q noX 0 0 47 [some (.ref 0), some (.int (nI t)), some (.int (nI k)), some (.int (nI m)), some (.long u), none, some (.long v), none, some (.int (nI n)), some (.long (reL m n (k - n))), none, none] [] (XM ξ mid dyn) →
    E cX0_at (RX0, (some .long), 12, 0, (0, 0), false, []) Q noX 0 0 22 [some (.ref 0), some (.int (nI t)), some (.int (nI k)), some (.int (nI m)), some (.long u), none, some (.long v), none, some (.int (nI n)), some (.long (reL m n c)), none, some (.int (nI (n + c)))] [] (XM ξ mid dyn) := by
  intro fuel
  induction fuel with
  | zero => intro c hc hf hE; exact absurd hf (by omega)
  | succ fuel ih =>
    intro c hc hf hE
    refine e_iload dX0_at_22 rfl ?_
    refine e_iload_n dX0_at_24 2 rfl rfl ?_
    refine e_icmp_geN (n + c) k 47 (by omega) (by omega) dX0_at_25 (by decide) (fun h25 => ?_) (fun h25 => ?_)
    · refine e_forget (i := 11) (ln_s (ln_s (ln_s (ln_s (ln_s (ln_s (ln_s (ln_s (ln_s (ln_s (ln_s ln_0))))))))))) ?_
      obtain rfl : c = k - n := by omega
      exact hE
    · refine e_lload dX0_at_28 rfl ?_
      refine e_iload_n dX0_at_30 3 rfl rfl ?_
      refine e_i2l dX0_at_31 ?_
      refine e_iload dX0_at_32 rfl ?_
      refine e_i2l dX0_at_34 ?_
      refine e_lconst 1 dX0_at_35 rfl ?_
      refine e_ladd dX0_at_36 ?_
      refine e_lmul dX0_at_37 ?_
      refine e_lmul dX0_at_38 ?_
      refine e_lstore dX0_at_39 (ls_s (ls_s (ls_s (ls_s (ls_s (ls_s (ls_s (ls_s (ls_1 rfl))))))))) (ln_s (ln_s (ln_s (ln_s (ln_s (ln_s (ln_s (ln_s (ln_s (ln_s ln_0)))))))))) (Nat.le_of_ble_eq_true rfl) ?_
      refine e_incN (n + c) (n + c + 1) (inc1 _) dX0_at_41 rfl (ls_s (ls_s (ls_s (ls_s (ls_s (ls_s (ls_s (ls_s (ls_s (ls_s (ls_1 rfl))))))))))) (Nat.le_of_ble_eq_true rfl) ?_
      refine e_goto 22 dX0_at_44 (by decide) ?_
      exact ih (c + 1) (by omega) (by omega) hE

set_option maxHeartbeats 4000000 in
set_option maxRecDepth 100000 in
/-- a loop of at -/
theorem x_at_loop {ξ : Xs} {mid dyn : List ACell} {st : Nat → Int64} {t k m : Nat} (hk : k ≤ 4) (hm : 2 ≤ m ∧ m ≤ 20) (ht : t < 60) (hpv : ∀ q, q ≤ k → ξ.2.2.2.1 15 q = st q) {Q : Qfun} : ∀ (fuel : Nat) (n : Nat) (u : Int64) (v : Int64), n ≤ k + 1 → k + 1 < n + fuel → u = (atP st k m t n).1 → v = pdN m t n → Q (some (.long (atN st k m t))) (XM ξ mid dyn) →
    E cX0_at (RX0, (some .long), 12, 0, (0, 0), false, []) Q noX 0 0 9 [some (.ref 0), some (.int (nI t)), some (.int (nI k)), some (.int (nI m)), some (.long u), none, some (.long v), none, some (.int (nI n)), none, none, none] [] (XM ξ mid dyn) := by
  intro fuel
  induction fuel with
  | zero => intro n u v hn hf hu hv hQ; exact absurd hf (by omega)
  | succ fuel ih =>
    intro n u v hn hf hu hv hQ
    refine e_iload dX0_at_9 rfl ?_
    refine e_iload_n dX0_at_11 2 rfl rfl ?_
    refine e_icmp_gtN n k 85 (by omega) (by omega) dX0_at_12 (by decide) (fun h12 => ?_) (fun h12 => ?_)
    · refine e_lload dX0_at_85 rfl ?_
      refine e_lreturn dX0_at_87 rfl (Nat.zero_le _) (Nat.zero_le _) ?_
      have e1 : n = k + 1 := by omega
      subst e1
      rw [hu]
      exact hQ
    · refine e_lconst 1 dX0_at_15 rfl ?_
      refine e_lstore dX0_at_16 (ls_s (ls_s (ls_s (ls_s (ls_s (ls_s (ls_s (ls_s (ls_1 rfl))))))))) (ln_s (ln_s (ln_s (ln_s (ln_s (ln_s (ln_s (ln_s (ln_s (ln_s ln_0)))))))))) (Nat.le_of_ble_eq_true rfl) ?_
      refine e_iload dX0_at_18 rfl ?_
      refine e_istore dX0_at_20 (ls_s (ls_s (ls_s (ls_s (ls_s (ls_s (ls_s (ls_s (ls_s (ls_s (ls_1 rfl))))))))))) (Nat.le_of_ble_eq_true rfl) ?_
      refine x_at_in (st := st) (u := u) (v := v) hk hm ht (show n ≤ k by omega) (k + 1) 0 (by omega) (by omega) ?_
      refine e_lload dX0_at_47 rfl ?_
      refine e_aload_n dX0_at_49 0 rfl rfl rfl ?_
      refine e_getf (v := (.ref 10)) dX0_at_50 rfl fX0_64 (xm_o0) rfl ?_
      refine e_iload dX0_at_53 rfl ?_
      refine e_lald (f := ξ.2.2.2.1 15) (j := n) dX0_at_55 (xm_a15) rfl (by omega) (by decide) ?_
      refine e_top (congrArg Value.long (hpv n (by omega))) ?_
      refine e_lload dX0_at_56 rfl ?_
      refine e_lmul dX0_at_58 ?_
      refine e_lload dX0_at_59 rfl ?_
      refine e_lmul dX0_at_61 ?_
      refine e_ladd dX0_at_62 ?_
      refine e_lstore dX0_at_63 (ls_s (ls_s (ls_s (ls_1 rfl)))) (ln_s (ln_s (ln_s (ln_s (ln_s ln_0))))) (Nat.le_of_ble_eq_true rfl) ?_
      refine e_lload dX0_at_65 rfl ?_
      refine e_iload_n dX0_at_67 1 rfl rfl ?_
      refine e_i2l dX0_at_68 ?_
      refine e_iload dX0_at_69 rfl ?_
      refine e_i2l dX0_at_71 ?_
      refine e_iload_n dX0_at_72 3 rfl rfl ?_
      refine e_i2l dX0_at_73 ?_
      refine e_lmul dX0_at_74 ?_
      refine e_lsub dX0_at_75 ?_
      refine e_lmul dX0_at_76 ?_
      refine e_lstore dX0_at_77 (ls_s (ls_s (ls_s (ls_s (ls_s (ls_1 rfl)))))) (ln_s (ln_s (ln_s (ln_s (ln_s (ln_s (ln_s ln_0))))))) (Nat.le_of_ble_eq_true rfl) ?_
      refine e_incN n (n + 1) (inc1 _) dX0_at_79 rfl (ls_s (ls_s (ls_s (ls_s (ls_s (ls_s (ls_s (ls_1 rfl)))))))) (Nat.le_of_ble_eq_true rfl) ?_
      refine e_goto 9 dX0_at_82 (by decide) ?_
      refine e_forget (i := 9) (ln_s (ln_s (ln_s (ln_s (ln_s (ln_s (ln_s (ln_s (ln_s ln_0))))))))) ?_
      refine ih (n + 1) _ _ (by omega) (by omega) ?_ ?_ hQ
      · obtain ⟨h1, h2⟩ := atP_2 st k m t n
        rw [hu, hv, atP, h1, h2, (lo_of (n := n) hm hk (by omega)).1]
      · rw [hv]
        rfl

set_option maxHeartbeats 4000000 in
set_option maxRecDepth 100000 in
/-- WheelTables.at -/
theorem x_at {ξ : Xs} {mid dyn : List ACell} {st : Nat → Int64} {t k m : Nat} (hk : k ≤ 4) (hm : 2 ≤ m ∧ m ≤ 20) (ht : t < 60) (hpv : ∀ q, q ≤ k → ξ.2.2.2.1 15 q = st q) : Ct yX0_at (ws_ yX0_at cX0_at 12 (some .long)) 0 0 0 [.ref 0, .int (nI t), .int (nI k), .int (nI m)] (XM ξ mid dyn) (Q1 (some (.long (atN st k m t))) (XM ξ mid dyn)) noX := by
  refine Ct.of (ini := false) (ls := [some (.ref 0), some (.int (nI t)), some (.int (nI k)), some (.int (nI m)), none, none, none, none, none, none, none, none]) (by decide) (Nat.le_of_ble_eq_true rfl) (fun h => by cases h) rfl ?_
  refine e_lconst 0 dX0_at_0 rfl ?_
  refine e_lstore dX0_at_1 (ls_s (ls_s (ls_s (ls_1 rfl)))) (ln_s (ln_s (ln_s (ln_s (ln_s ln_0))))) (Nat.le_of_ble_eq_true rfl) ?_
  refine e_lconst 1 dX0_at_3 rfl ?_
  refine e_lstore dX0_at_4 (ls_s (ls_s (ls_s (ls_s (ls_s (ls_1 rfl)))))) (ln_s (ln_s (ln_s (ln_s (ln_s (ln_s (ln_s ln_0))))))) (Nat.le_of_ble_eq_true rfl) ?_
  refine e_iconst 0 dX0_at_6 rfl ?_
  refine e_istore dX0_at_7 (ls_s (ls_s (ls_s (ls_s (ls_s (ls_s (ls_s (ls_1 rfl)))))))) (Nat.le_of_ble_eq_true rfl) ?_
  exact x_at_loop hk hm ht hpv (k + 2) 0 0 1 (by omega) (by omega) rfl rfl ⟨rfl, rfl⟩

set_option maxHeartbeats 4000000 in
set_option maxRecDepth 100000 in
/-- WheelTables.rounded -/
theorem x_rounded {M : List ACell} (u l g : Int64) (hl : ¬ l = 0) (hl2 : ¬ 2 * l = 0) : Ct yX0_rounded (ws_ yX0_rounded cX0_rounded 10 (some .long)) 1 0 0 [.long u, .long l, .long g] M (Q1 (some (.long (rdL u l g))) M) noX := by
  refine Ct.of (ini := false) (ls := [some (.long u), none, some (.long l), none, some (.long g), none, none, none, none, none]) (by decide) (Nat.le_of_ble_eq_true rfl) (fun h => by cases h) rfl ?_
  refine e_lload_n dX0_rounded_0 0 rfl rfl ?_
  refine e_lload_n dX0_rounded_1 2 rfl rfl ?_
  refine e_callS1 (As := [.long u, .long l]) (rest := []) dX0_rounded_2 rfl msX0_288 (m_fdL u l hl) (Nat.le_of_ble_eq_true rfl) rfl rfl (Nat.le_of_ble_eq_true rfl) (Nat.zero_le _) (Nat.zero_le _) ?_
  refine e_lstore dX0_rounded_5 (ls_s (ls_s (ls_s (ls_s (ls_s (ls_1 rfl)))))) (ln_s (ln_s (ln_s (ln_s (ln_s (ln_s (ln_s ln_0))))))) (Nat.le_of_ble_eq_true rfl) ?_
  refine e_lload_n dX0_rounded_7 0 rfl rfl ?_
  refine e_lload_n dX0_rounded_8 2 rfl rfl ?_
  refine e_callS1 (As := [.long u, .long l]) (rest := []) dX0_rounded_9 rfl msX0_292 (m_fmL u l hl) (Nat.le_of_ble_eq_true rfl) rfl rfl (Nat.le_of_ble_eq_true rfl) (Nat.zero_le _) (Nat.zero_le _) ?_
  refine e_lstore dX0_rounded_12 (ls_s (ls_s (ls_s (ls_s (ls_s (ls_s (ls_s (ls_1 rfl)))))))) (ln_s (ln_s (ln_s (ln_s (ln_s (ln_s (ln_s (ln_s (ln_s ln_0))))))))) (Nat.le_of_ble_eq_true rfl) ?_
  refine e_lload dX0_rounded_14 rfl ?_
  refine e_lload dX0_rounded_16 rfl ?_
  refine e_lmul dX0_rounded_18 ?_
  refine e_ldc2 rfl q575 dX0_rounded_19 ?_
  refine e_lload dX0_rounded_22 rfl ?_
  refine e_lmul dX0_rounded_24 ?_
  refine e_lload dX0_rounded_25 rfl ?_
  refine e_lmul dX0_rounded_27 ?_
  refine e_lload_n dX0_rounded_28 2 rfl rfl ?_
  refine e_ladd dX0_rounded_29 ?_
  refine e_ldc2 rfl q575 dX0_rounded_30 ?_
  refine e_lload_n dX0_rounded_33 2 rfl rfl ?_
  refine e_lmul dX0_rounded_34 ?_
  refine e_ldiv dX0_rounded_35 (by assumption) ?_
  refine e_ladd dX0_rounded_36 ?_
  refine e_lreturn dX0_rounded_37 rfl (Nat.zero_le _) (Nat.zero_le _) ?_
  exact ⟨rfl, rfl⟩

theorem ax_step (w : Nat → Int64) : vp_updL (vp_updL (vp_updL (vp_updL w 0 (w 0 + w 1)) 2 (vp_updL w 0 (w 0 + w 1) 2 + vp_updL w 0 (w 0 + w 1) 3)) 1 (vp_updL (vp_updL w 0 (w 0 + w 1)) 2 (vp_updL w 0 (w 0 + w 1) 2 + vp_updL w 0 (w 0 + w 1) 3) 1 + vp_updL (vp_updL w 0 (w 0 + w 1)) 2 (vp_updL w 0 (w 0 + w 1) 2 + vp_updL w 0 (w 0 + w 1) 3) 2)) 3 (vp_updL (vp_updL (vp_updL w 0 (w 0 + w 1)) 2 (vp_updL w 0 (w 0 + w 1) 2 + vp_updL w 0 (w 0 + w 1) 3)) 1 (vp_updL (vp_updL w 0 (w 0 + w 1)) 2 (vp_updL w 0 (w 0 + w 1) 2 + vp_updL w 0 (w 0 + w 1) 3) 1 + vp_updL (vp_updL w 0 (w 0 + w 1)) 2 (vp_updL w 0 (w 0 + w 1) 2 + vp_updL w 0 (w 0 + w 1) 3) 2) 3 + vp_updL (vp_updL (vp_updL w 0 (w 0 + w 1)) 2 (vp_updL w 0 (w 0 + w 1) 2 + vp_updL w 0 (w 0 + w 1) 3)) 1 (vp_updL (vp_updL w 0 (w 0 + w 1)) 2 (vp_updL w 0 (w 0 + w 1) 2 + vp_updL w 0 (w 0 + w 1) 3) 1 + vp_updL (vp_updL w 0 (w 0 + w 1)) 2 (vp_updL w 0 (w 0 + w 1) 2 + vp_updL w 0 (w 0 + w 1) 3) 2) 4) = adE 4 (adO 4 w) := by
  funext q
  by_cases h : q < 4
  · rcases (show q = 0 ∨ q = 1 ∨ q = 2 ∨ q = 3 by omega) with rfl | rfl | rfl | rfl <;> rfl
  · unfold vp_updL adE adO
    rw [if_neg (show ¬ q = 3 by omega), if_neg (show ¬ q = 1 by omega), if_neg (show ¬ q = 2 by omega), if_neg (show ¬ q = 0 by omega), if_neg (show ¬ (q % 2 = 1 ∧ q + 1 ≤ 4) by omega), if_neg (show ¬ (q % 2 = 0 ∧ q + 1 ≤ 4) by omega)]
set_option maxHeartbeats 4000000 in
set_option maxRecDepth 100000 in
/-- a loop of isRight -/
theorem x_isR1 {ξ : Xs} {mid dyn : List ACell} {v : Nat → Int64} {k m r : Nat} {g : Int64} (hk : k ≤ 4) (hm : 2 ≤ m ∧ m ≤ 20) (hr : r ≤ 60) (hv : ∀ i, i < k + 1 → bdL 10000 (v i)) (hg : 0 < g.toInt) (hg2 : g.toInt ≤ 1000000) (hpv : ∀ q, q ≤ k → ξ.2.2.2.1 15 q = dfL (k + 1) v k q) (hex : ∀ q, q ≤ k → ξ.2.2.2.1 16 q = bkN (k + 1) (fun i => atN (dfL (k + 1) v k) k m i) q) (hlo : ξ.2.1 14 = unL m k)  : ∀ (fuel : Nat) (n : Nat), n ≤ 5 → 5 < n + fuel → E cX0_isRight (RX0, (some .boolean), 7, 2, (0, 0), false, []) (fun z M' => ∃ f, M' = XM (xB ξ 17 f) mid dyn ∧ ((enN (dfL (k + 1) v k) k m r (unL m k) g = true ∧ z = some (.int 1)) ∨ (¬ enN (dfL (k + 1) v k) k m r (unL m k) g = true ∧ z = some (.int 0)))) noX 0 0 48 [some (.ref 0), some (.int (nI k)), some (.int (nI m)), some (.int (nI r)), some (.long g), none, none] [] (XM (xB ξ 17 (rngL (ξ.2.2.2.1 17) 0 5 (fun q => if q ≤ k then fnV (unL m k) g (bkN (k + 1) (fun i => atN (dfL (k + 1) v k) k m i) q) else 0))) mid dyn) →
    E cX0_isRight (RX0, (some .boolean), 7, 2, (0, 0), false, []) (fun z M' => ∃ f, M' = XM (xB ξ 17 f) mid dyn ∧ ((enN (dfL (k + 1) v k) k m r (unL m k) g = true ∧ z = some (.int 1)) ∨ (¬ enN (dfL (k + 1) v k) k m r (unL m k) g = true ∧ z = some (.int 0)))) noX 0 0 3 [some (.ref 0), some (.int (nI k)), some (.int (nI m)), some (.int (nI r)), some (.long g), none, some (.int (nI n))] [] (XM (xB ξ 17 (rngL (ξ.2.2.2.1 17) 0 n (fun q => if q ≤ k then fnV (unL m k) g (bkN (k + 1) (fun i => atN (dfL (k + 1) v k) k m i) q) else 0))) mid dyn) := by
  intro fuel
  induction fuel with
  | zero => intro n hn hf hE; exact absurd hf (by omega)
  | succ fuel ih =>
    intro n hn hf hE
    obtain ⟨hu, hu2⟩ := un_ne m (by omega) k (by omega) hm.1
    obtain ⟨p1, p2⟩ := un_pos hm hk
    have hgz : ¬ g = 0 := fun z => by rw [z] at hg; exact absurd hg (by decide)
    have hgz2 : ¬ 2 * g = 0 := fun z => by
      have z2 := congrArg Int64.toInt z
      rw [Int64.toInt_mul, i64_2, Int.bmod_eq_of_le (by omega) (by omega), show (0 : Int64).toInt = 0 from rfl] at z2
      omega
    refine e_iload dX0_isRight_3 rfl ?_
    refine e_iconst 5 dX0_isRight_5 rfl ?_
    refine e_icmp_geN n 5 48 (by omega) (by omega) dX0_isRight_6 (by decide) (fun h6 => ?_) (fun h6 => ?_)
    · refine e_forget (i := 6) (ln_s (ln_s (ln_s (ln_s (ln_s (ln_s ln_0)))))) ?_
      obtain rfl : n = 5 := by omega
      exact hE
    · refine e_aload_n dX0_isRight_9 0 rfl rfl rfl ?_
      refine e_getf (v := (.ref 12)) dX0_isRight_10 rfl fX0_70 (xm_o0) rfl ?_
      refine e_iload dX0_isRight_13 rfl ?_
      refine e_iload dX0_isRight_15 rfl ?_
      refine e_iload_n dX0_isRight_17 1 rfl rfl ?_
      refine e_icmp_leN n k 25 (by omega) (by omega) dX0_isRight_18 (by decide) (fun h18 => ?_) (fun h18 => ?_)
      · refine e_aload_n dX0_isRight_25 0 rfl rfl rfl ?_
        refine e_getf (v := (.ref 11)) dX0_isRight_26 rfl fX0_67 (xm_o0) rfl ?_
        refine e_iload dX0_isRight_29 rfl ?_
        refine e_lald (f := ξ.2.2.2.1 16) (j := n) dX0_isRight_31 (xm_a16) rfl (by omega) (by decide) ?_
        refine e_top (congrArg Value.long (hex n (by omega))) ?_
        refine e_aload_n dX0_isRight_32 0 rfl rfl rfl ?_
        refine e_getf (v := (.long (ξ.2.1 14))) dX0_isRight_33 rfl fX0_295 (xm_o0) rfl ?_
        refine e_top (congrArg Value.long hlo) ?_
        refine e_lload dX0_isRight_36 rfl ?_
        refine e_callS1 (As := [.long (bkN (k + 1) (fun i => atN (dfL (k + 1) v k) k m i) n), .long (unL m k), .long g]) (rest := [.int (nI n), .ref 12]) dX0_isRight_38 rfl msX0_299 (x_rounded (bkN (k + 1) (fun i => atN (dfL (k + 1) v k) k m i) n) (unL m k) g hu hu2) (Nat.le_of_ble_eq_true rfl) rfl rfl (Nat.le_of_ble_eq_true rfl) (Nat.zero_le _) (Nat.zero_le _) ?_
        refine e_top (w := .long ((fun q => if q ≤ k then fnV (unL m k) g (bkN (k + 1) (fun i => atN (dfL (k + 1) v k) k m i) q) else 0) n)) (congrArg Value.long ((rd_fn p1 p2 hg hg2).trans (if_pos (by omega) : (fun q => if q ≤ k then fnV (unL m k) g (bkN (k + 1) (fun i => atN (dfL (k + 1) v k) k m i) q) else 0) n = _).symm)) ?_
        refine e_last (f := (rngL (ξ.2.2.2.1 17) 0 n (fun q => if q ≤ k then fnV (unL m k) g (bkN (k + 1) (fun i => atN (dfL (k + 1) v k) k m i) q) else 0))) (j := n) dX0_isRight_41 (xm_a17) rfl (by omega) (by decide) ?_
        rw [xm_s17]
        refine e_incN n (n + 1) (inc1 _) dX0_isRight_42 rfl (ls_s (ls_s (ls_s (ls_s (ls_s (ls_1 rfl)))))) (Nat.le_of_ble_eq_true rfl) ?_
        refine e_goto 3 dX0_isRight_45 (by decide) ?_
        rw [xB_xB]
        refine E_mem (M' := XM (xB ξ 17 (rngL (ξ.2.2.2.1 17) 0 (n + 1) (fun q => if q ≤ k then fnV (unL m k) g (bkN (k + 1) (fun i => atN (dfL (k + 1) v k) k m i) q) else 0))) mid dyn) ?_ ?_
        · rw [← rngL_s, Nat.zero_add]
        exact ih (n + 1) (by omega) (by omega) hE
      · refine e_lconst 0 dX0_isRight_21 rfl ?_
        refine e_goto 41 dX0_isRight_22 (by decide) ?_
        refine e_top (w := .long ((fun q => if q ≤ k then fnV (unL m k) g (bkN (k + 1) (fun i => atN (dfL (k + 1) v k) k m i) q) else 0) n)) (congrArg Value.long (if_neg (by omega) : (fun q => if q ≤ k then fnV (unL m k) g (bkN (k + 1) (fun i => atN (dfL (k + 1) v k) k m i) q) else 0) n = 0).symm) ?_
        refine e_last (f := (rngL (ξ.2.2.2.1 17) 0 n (fun q => if q ≤ k then fnV (unL m k) g (bkN (k + 1) (fun i => atN (dfL (k + 1) v k) k m i) q) else 0))) (j := n) dX0_isRight_41 (xm_a17) rfl (by omega) (by decide) ?_
        rw [xm_s17]
        refine e_incN n (n + 1) (inc1 _) dX0_isRight_42 rfl (ls_s (ls_s (ls_s (ls_s (ls_s (ls_1 rfl)))))) (Nat.le_of_ble_eq_true rfl) ?_
        refine e_goto 3 dX0_isRight_45 (by decide) ?_
        rw [xB_xB]
        refine E_mem (M' := XM (xB ξ 17 (rngL (ξ.2.2.2.1 17) 0 (n + 1) (fun q => if q ≤ k then fnV (unL m k) g (bkN (k + 1) (fun i => atN (dfL (k + 1) v k) k m i) q) else 0))) mid dyn) ?_ ?_
        · rw [← rngL_s, Nat.zero_add]
        exact ih (n + 1) (by omega) (by omega) hE

set_option maxHeartbeats 4000000 in
set_option maxRecDepth 100000 in
/-- a loop of isRight -/
theorem x_isR2 {ξ : Xs} {mid dyn : List ACell} {v : Nat → Int64} {k m r : Nat} {g : Int64} (hk : k ≤ 4) (hm : 2 ≤ m ∧ m ≤ 20) (hr : r ≤ 60) (hv : ∀ i, i < k + 1 → bdL 10000 (v i)) (hg : 0 < g.toInt) (hg2 : g.toInt ≤ 1000000) (hpv : ∀ q, q ≤ k → ξ.2.2.2.1 15 q = dfL (k + 1) v k q) (hex : ∀ q, q ≤ k → ξ.2.2.2.1 16 q = bkN (k + 1) (fun i => atN (dfL (k + 1) v k) k m i) q) (hlo : ξ.2.1 14 = unL m k)  : ∀ (fuel : Nat) (n : Nat) (w : Nat → Int64), n ≤ r → r < n + fuel → (∀ q, q ≤ 4 → w q = hfN 4 (fun q => if q ≤ k then fnV (unL m k) g (bkN (k + 1) (fun i => atN (dfL (k + 1) v k) k m i) q) else 0) n q) → allB (enP (dfL (k + 1) v k) k m (unL m k) g (fun q => fnV (unL m k) g (bkN (k + 1) (fun i => atN (dfL (k + 1) v k) k m i) q))) n = true →
    E cX0_isRight (RX0, (some .boolean), 7, 2, (0, 0), false, []) (fun z M' => ∃ f, M' = XM (xB ξ 17 f) mid dyn ∧ ((enN (dfL (k + 1) v k) k m r (unL m k) g = true ∧ z = some (.int 1)) ∨ (¬ enN (dfL (k + 1) v k) k m r (unL m k) g = true ∧ z = some (.int 0)))) noX 0 0 51 [some (.ref 0), some (.int (nI k)), some (.int (nI m)), some (.int (nI r)), some (.long g), none, some (.int (nI n))] [] (XM (xB ξ 17 w) mid dyn) := by
  intro fuel
  induction fuel with
  | zero => intro n w hn hf hw hb; exact absurd hf (by omega)
  | succ fuel ih =>
    intro n w hn hf hw hb
    obtain ⟨hu, hu2⟩ := un_ne m (by omega) k (by omega) hm.1
    obtain ⟨p1, p2⟩ := un_pos hm hk
    have hgz : ¬ g = 0 := fun z => by rw [z] at hg; exact absurd hg (by decide)
    have hgz2 : ¬ 2 * g = 0 := fun z => by
      have z2 := congrArg Int64.toInt z
      rw [Int64.toInt_mul, i64_2, Int.bmod_eq_of_le (by omega) (by omega), show (0 : Int64).toInt = 0 from rfl] at z2
      omega
    refine e_iload dX0_isRight_51 rfl ?_
    refine e_iload_n dX0_isRight_53 3 rfl rfl ?_
    refine e_icmp_geN n r 157 (by omega) (by omega) dX0_isRight_54 (by decide) (fun h54 => ?_) (fun h54 => ?_)
    · refine e_iconst 1 dX0_isRight_157 rfl ?_
      refine e_ireturn dX0_isRight_158 rfl rfl (Nat.zero_le _) (Nat.zero_le _) ?_
      obtain rfl : n = r := by omega
      exact ⟨_, rfl, Or.inl ⟨hb, rfl⟩⟩
    · refine e_aload_n dX0_isRight_57 0 rfl rfl rfl ?_
      refine e_getf (v := (.ref 12)) dX0_isRight_58 rfl fX0_70 (xm_o0) rfl ?_
      refine e_iconst 0 dX0_isRight_61 rfl ?_
      refine e_lald (f := w) (j := 0) dX0_isRight_62 (xm_a17) rfl (by omega) (by decide) ?_
      refine e_lload dX0_isRight_63 rfl ?_
      refine e_lconst 1 dX0_isRight_65 rfl ?_
      refine e_callS1 (As := [.long (w 0), .long g, .long 1]) (rest := []) dX0_isRight_66 rfl msX0_299 (x_rounded (w 0) g 1 hgz hgz2) (Nat.le_of_ble_eq_true rfl) rfl rfl (Nat.le_of_ble_eq_true rfl) (Nat.zero_le _) (Nat.zero_le _) ?_
      refine e_aload_n dX0_isRight_69 0 rfl rfl rfl ?_
      refine e_iload dX0_isRight_70 rfl ?_
      refine e_iload_n dX0_isRight_72 1 rfl rfl ?_
      refine e_iload_n dX0_isRight_73 2 rfl rfl ?_
      refine e_callV1 (As := [.int (nI n), .int (nI k), .int (nI m)]) (rest := [.long (rdL (w 0) g 1)]) dX0_isRight_74 rfl mvX0_303 (xm_o0) rfl (x_at (ξ := xB ξ 17 w) hk hm (show n < 60 by omega) hpv) (Nat.le_of_ble_eq_true rfl) rfl rfl (Nat.le_of_ble_eq_true rfl) (Nat.zero_le _) (Nat.zero_le _) ?_
      refine e_aload_n dX0_isRight_77 0 rfl rfl rfl ?_
      refine e_getf (v := (.long (ξ.2.1 14))) dX0_isRight_78 rfl fX0_295 (xm_o0) rfl ?_
      refine e_top (congrArg Value.long hlo) ?_
      refine e_lconst 1 dX0_isRight_81 rfl ?_
      refine e_callS1 (As := [.long (atN (dfL (k + 1) v k) k m n), .long (unL m k), .long 1]) (rest := [.long (rdL (w 0) g 1)]) dX0_isRight_82 rfl msX0_299 (x_rounded (atN (dfL (k + 1) v k) k m n) (unL m k) 1 hu hu2) (Nat.le_of_ble_eq_true rfl) rfl rfl (Nat.le_of_ble_eq_true rfl) (Nat.zero_le _) (Nat.zero_le _) ?_
      refine e_lcmp_eq 91 dX0_isRight_85 dX0_isRight_86 (by decide) (fun h85 => ?_) (fun h85 => ?_)
      · refine e_aload_n dX0_isRight_91 0 rfl rfl rfl ?_
        refine e_getf (v := (.ref 12)) dX0_isRight_92 rfl fX0_70 (xm_o0) rfl ?_
        refine e_iconst 0 dX0_isRight_95 rfl ?_
        refine e_dup2 dX0_isRight_96 rfl rfl ?_
        refine e_lald (f := w) (j := 0) dX0_isRight_97 (xm_a17) rfl (by omega) (by decide) ?_
        refine e_aload_n dX0_isRight_98 0 rfl rfl rfl ?_
        refine e_getf (v := (.ref 12)) dX0_isRight_99 rfl fX0_70 (xm_o0) rfl ?_
        refine e_iconst 1 dX0_isRight_102 rfl ?_
        refine e_lald (f := w) (j := 1) dX0_isRight_103 (xm_a17) rfl (by omega) (by decide) ?_
        refine e_ladd dX0_isRight_104 ?_
        refine e_last (f := w) (j := 0) dX0_isRight_105 (xm_a17) rfl (by omega) (by decide) ?_
        rw [xm_s17]
        refine e_aload_n dX0_isRight_106 0 rfl rfl rfl ?_
        refine e_getf (v := (.ref 12)) dX0_isRight_107 rfl fX0_70 (xm_o0) rfl ?_
        refine e_iconst 2 dX0_isRight_110 rfl ?_
        refine e_dup2 dX0_isRight_111 rfl rfl ?_
        refine e_lald (f := (vp_updL w 0 ((w 0) + (w 1)))) (j := 2) dX0_isRight_112 (xm_a17) rfl (by omega) (by decide) ?_
        refine e_aload_n dX0_isRight_113 0 rfl rfl rfl ?_
        refine e_getf (v := (.ref 12)) dX0_isRight_114 rfl fX0_70 (xm_o0) rfl ?_
        refine e_iconst 3 dX0_isRight_117 rfl ?_
        refine e_lald (f := (vp_updL w 0 ((w 0) + (w 1)))) (j := 3) dX0_isRight_118 (xm_a17) rfl (by omega) (by decide) ?_
        refine e_ladd dX0_isRight_119 ?_
        refine e_last (f := (vp_updL w 0 ((w 0) + (w 1)))) (j := 2) dX0_isRight_120 (xm_a17) rfl (by omega) (by decide) ?_
        rw [xm_s17]
        refine e_aload_n dX0_isRight_121 0 rfl rfl rfl ?_
        refine e_getf (v := (.ref 12)) dX0_isRight_122 rfl fX0_70 (xm_o0) rfl ?_
        refine e_iconst 1 dX0_isRight_125 rfl ?_
        refine e_dup2 dX0_isRight_126 rfl rfl ?_
        refine e_lald (f := (vp_updL (vp_updL w 0 ((w 0) + (w 1))) 2 (((vp_updL w 0 ((w 0) + (w 1))) 2) + ((vp_updL w 0 ((w 0) + (w 1))) 3)))) (j := 1) dX0_isRight_127 (xm_a17) rfl (by omega) (by decide) ?_
        refine e_aload_n dX0_isRight_128 0 rfl rfl rfl ?_
        refine e_getf (v := (.ref 12)) dX0_isRight_129 rfl fX0_70 (xm_o0) rfl ?_
        refine e_iconst 2 dX0_isRight_132 rfl ?_
        refine e_lald (f := (vp_updL (vp_updL w 0 ((w 0) + (w 1))) 2 (((vp_updL w 0 ((w 0) + (w 1))) 2) + ((vp_updL w 0 ((w 0) + (w 1))) 3)))) (j := 2) dX0_isRight_133 (xm_a17) rfl (by omega) (by decide) ?_
        refine e_ladd dX0_isRight_134 ?_
        refine e_last (f := (vp_updL (vp_updL w 0 ((w 0) + (w 1))) 2 (((vp_updL w 0 ((w 0) + (w 1))) 2) + ((vp_updL w 0 ((w 0) + (w 1))) 3)))) (j := 1) dX0_isRight_135 (xm_a17) rfl (by omega) (by decide) ?_
        rw [xm_s17]
        refine e_aload_n dX0_isRight_136 0 rfl rfl rfl ?_
        refine e_getf (v := (.ref 12)) dX0_isRight_137 rfl fX0_70 (xm_o0) rfl ?_
        refine e_iconst 3 dX0_isRight_140 rfl ?_
        refine e_dup2 dX0_isRight_141 rfl rfl ?_
        refine e_lald (f := (vp_updL (vp_updL (vp_updL w 0 ((w 0) + (w 1))) 2 (((vp_updL w 0 ((w 0) + (w 1))) 2) + ((vp_updL w 0 ((w 0) + (w 1))) 3))) 1 (((vp_updL (vp_updL w 0 ((w 0) + (w 1))) 2 (((vp_updL w 0 ((w 0) + (w 1))) 2) + ((vp_updL w 0 ((w 0) + (w 1))) 3))) 1) + ((vp_updL (vp_updL w 0 ((w 0) + (w 1))) 2 (((vp_updL w 0 ((w 0) + (w 1))) 2) + ((vp_updL w 0 ((w 0) + (w 1))) 3))) 2)))) (j := 3) dX0_isRight_142 (xm_a17) rfl (by omega) (by decide) ?_
        refine e_aload_n dX0_isRight_143 0 rfl rfl rfl ?_
        refine e_getf (v := (.ref 12)) dX0_isRight_144 rfl fX0_70 (xm_o0) rfl ?_
        refine e_iconst 4 dX0_isRight_147 rfl ?_
        refine e_lald (f := (vp_updL (vp_updL (vp_updL w 0 ((w 0) + (w 1))) 2 (((vp_updL w 0 ((w 0) + (w 1))) 2) + ((vp_updL w 0 ((w 0) + (w 1))) 3))) 1 (((vp_updL (vp_updL w 0 ((w 0) + (w 1))) 2 (((vp_updL w 0 ((w 0) + (w 1))) 2) + ((vp_updL w 0 ((w 0) + (w 1))) 3))) 1) + ((vp_updL (vp_updL w 0 ((w 0) + (w 1))) 2 (((vp_updL w 0 ((w 0) + (w 1))) 2) + ((vp_updL w 0 ((w 0) + (w 1))) 3))) 2)))) (j := 4) dX0_isRight_148 (xm_a17) rfl (by omega) (by decide) ?_
        refine e_ladd dX0_isRight_149 ?_
        refine e_last (f := (vp_updL (vp_updL (vp_updL w 0 ((w 0) + (w 1))) 2 (((vp_updL w 0 ((w 0) + (w 1))) 2) + ((vp_updL w 0 ((w 0) + (w 1))) 3))) 1 (((vp_updL (vp_updL w 0 ((w 0) + (w 1))) 2 (((vp_updL w 0 ((w 0) + (w 1))) 2) + ((vp_updL w 0 ((w 0) + (w 1))) 3))) 1) + ((vp_updL (vp_updL w 0 ((w 0) + (w 1))) 2 (((vp_updL w 0 ((w 0) + (w 1))) 2) + ((vp_updL w 0 ((w 0) + (w 1))) 3))) 2)))) (j := 3) dX0_isRight_150 (xm_a17) rfl (by omega) (by decide) ?_
        rw [xm_s17]
        refine e_incN n (n + 1) (inc1 _) dX0_isRight_151 rfl (ls_s (ls_s (ls_s (ls_s (ls_s (ls_1 rfl)))))) (Nat.le_of_ble_eq_true rfl) ?_
        refine e_goto 51 dX0_isRight_154 (by decide) ?_
        rw [xB_xB, xB_xB, xB_xB, ax_step]
        refine ih (n + 1) _ (by omega) (by omega) (fun q hq => hfN_cg hw 1 q hq) ?_
        rw [allB, hb, Bool.true_and]
        refine (en_line hm hk hv hg hg2 (by omega) (fun q _ => rfl)).mp ?_
        rw [← hw 0 (by decide)]
        exact h85
      · refine e_iconst 0 dX0_isRight_89 rfl ?_
        refine e_ireturn dX0_isRight_90 rfl rfl (Nat.zero_le _) (Nat.zero_le _) ?_
        refine ⟨_, rfl, Or.inr ⟨fun z => h85 ?_, rfl⟩⟩
        rw [hw 0 (by decide)]
        exact (en_line hm hk hv hg hg2 (by omega) (fun q _ => rfl)).mpr ((allB_iff.mp z) n (by omega))

set_option maxHeartbeats 4000000 in
set_option maxRecDepth 100000 in
/-- WheelTables.isRight -/
theorem x_isRight {ξ : Xs} {mid dyn : List ACell} {v : Nat → Int64} {k m r : Nat} {g : Int64} (hk : k ≤ 4) (hm : 2 ≤ m ∧ m ≤ 20) (hr : r ≤ 60) (hv : ∀ i, i < k + 1 → bdL 10000 (v i)) (hg : 0 < g.toInt) (hg2 : g.toInt ≤ 1000000) (hpv : ∀ q, q ≤ k → ξ.2.2.2.1 15 q = dfL (k + 1) v k q) (hex : ∀ q, q ≤ k → ξ.2.2.2.1 16 q = bkN (k + 1) (fun i => atN (dfL (k + 1) v k) k m i) q) (hlo : ξ.2.1 14 = unL m k) : Ct yX0_isRight (ws_ yX0_isRight cX0_isRight 7 (some .boolean)) 2 0 0 [.ref 0, .int (nI k), .int (nI m), .int (nI r), .long g] (XM ξ mid dyn) (fun z M' => ∃ f, M' = XM (xB ξ 17 f) mid dyn ∧ ((enN (dfL (k + 1) v k) k m r (unL m k) g = true ∧ z = some (.int 1)) ∨ (¬ enN (dfL (k + 1) v k) k m r (unL m k) g = true ∧ z = some (.int 0)))) noX := by
  refine Ct.of (ini := false) (ls := [some (.ref 0), some (.int (nI k)), some (.int (nI m)), some (.int (nI r)), some (.long g), none, none]) (by decide) (Nat.le_of_ble_eq_true rfl) (fun h => by cases h) rfl ?_
  refine e_iconst 0 dX0_isRight_0 rfl ?_
  refine e_istore dX0_isRight_1 (ls_s (ls_s (ls_s (ls_s (ls_s (ls_1 rfl)))))) (Nat.le_of_ble_eq_true rfl) ?_
  refine E_mem (M' := XM (xB ξ 17 (rngL (ξ.2.2.2.1 17) 0 0 (fun q => if q ≤ k then fnV (unL m k) g (bkN (k + 1) (fun i => atN (dfL (k + 1) v k) k m i) q) else 0))) mid dyn) ?_ ?_
  · rw [rngL_0]
    rw [xB_self]
  refine x_isR1 hk hm hr hv hg hg2 hpv hex hlo 6 0 (by omega) (by omega) ?_
  refine e_iconst 0 dX0_isRight_48 rfl ?_
  refine e_istore dX0_isRight_49 (ls_s (ls_s (ls_s (ls_s (ls_s (ls_1 rfl)))))) (Nat.le_of_ble_eq_true rfl) ?_
  refine x_isR2 hk hm hr hv hg hg2 hpv hex hlo (r + 1) 0 _ (by omega) (by omega) (fun q hq => ?_) rfl
  unfold rngL
  rw [if_pos (by omega), Nat.sub_zero]
  rfl

