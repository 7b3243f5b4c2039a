/-! ===== the component: plates (2) ===== -/
set_option maxHeartbeats 4000000 in
set_option maxRecDepth 100000 in
/-- WheelTables.copies -/
theorem x_copies {ξ : Xs} {mid dyn : List ACell} {F : Nat → Nat} {P K : Nat} (hP1 : P ≤ 20) (hF0 : F 0 = 1) (hFP : F P = K + 1) (hb : ∀ p, p ≤ P → F p ≤ 1 + 1000 * p ∧ p < F p) (e46 : ξ.1 46 = nI P) (hL : ∀ p, p < P → ξ.2.2.1 41 p = nI (F (p + 1) - 1)) : Ct yX0_copies (ws_ yX0_copies cX0_copies 1 (some .int)) 0 0 0 [.ref 0] (XM ξ mid dyn) (Q1 (some (.int (nI K))) (XM ξ mid dyn)) noX := by
  refine Ct.of (ini := false) (ls := [some (.ref 0)]) (by decide) (Nat.le_of_ble_eq_true rfl) (fun h => by cases h) rfl ?_
  refine e_aload_n dX0_copies_0 0 rfl rfl rfl ?_
  refine e_getf (v := (.int (ξ.1 46))) dX0_copies_1 rfl fX0_466 (xm_o0) rfl ?_
  refine e_top (congrArg Value.int e46) ?_
  refine e_if_neN P 11 (by omega) dX0_copies_4 (by decide) (fun h4 => ?_) (fun h4 => ?_)
  · refine e_aload_n dX0_copies_11 0 rfl rfl rfl ?_
    refine e_getf (v := (.ref 42)) dX0_copies_12 rfl fX0_114 (xm_o0) rfl ?_
    refine e_aload_n dX0_copies_15 0 rfl rfl rfl ?_
    refine e_getf (v := (.int (ξ.1 46))) dX0_copies_16 rfl fX0_466 (xm_o0) rfl ?_
    refine e_top (congrArg Value.int e46) ?_
    refine e_iconst 1 dX0_copies_19 rfl ?_
    refine e_isubN P 1 (by omega) dX0_copies_20 ?_
    refine e_iald (f := ξ.2.2.1 41) (j := P - 1) dX0_copies_21 (xm_a41) rfl (by omega) (by decide) ?_
    refine e_ireturn dX0_copies_22 rfl rfl (Nat.zero_le _) (Nat.zero_le _) ?_
    refine ⟨?_, rfl⟩
    rw [hL (P - 1) (by omega), show P - 1 + 1 = P by omega, hFP, show K + 1 - 1 = K by omega]
  · refine e_iconst 0 dX0_copies_7 rfl ?_
    refine e_goto 22 dX0_copies_8 (by decide) ?_
    refine e_ireturn dX0_copies_22 rfl rfl (Nat.zero_le _) (Nat.zero_le _) ?_
    refine ⟨?_, rfl⟩
    have e1 : P = 0 := h4
    rw [show K = 0 by rw [e1] at hFP; omega]; rfl

set_option maxHeartbeats 4000000 in
set_option maxRecDepth 100000 in
/-- WheelTables.isCopy -/
theorem x_isCopy {ξ : Xs} {mid dyn : List ACell} {F : Nat → Nat} {P K : Nat} (hP1 : P ≤ 20) (hF0 : F 0 = 1) (hFP : F P = K + 1) (hb : ∀ p, p ≤ P → F p ≤ 1 + 1000 * p ∧ p < F p) (e46 : ξ.1 46 = nI P) (hL : ∀ p, p < P → ξ.2.2.1 41 p = nI (F (p + 1) - 1)) (n : Int32) : Ct yX0_isCopy (ws_ yX0_isCopy cX0_isCopy 2 (some .boolean)) 1 0 0 [.ref 0, .int n] (XM ξ mid dyn) (QB (1 ≤ n ∧ n ≤ nI K) (XM ξ mid dyn)) noX := by
  refine Ct.of (ini := false) (ls := [some (.ref 0), some (.int n)]) (by decide) (Nat.le_of_ble_eq_true rfl) (fun h => by cases h) rfl ?_
  refine e_iload_n dX0_isCopy_0 1 rfl rfl ?_
  refine e_iconst 1 dX0_isCopy_1 rfl ?_
  refine e_icmp_lt 17 dX0_isCopy_2 (by decide) (fun h2 => ?_) (fun h2 => ?_)
  · refine e_iconst 0 dX0_isCopy_17 rfl ?_
    refine e_ireturn dX0_isCopy_18 rfl rfl (Nat.zero_le _) (Nat.zero_le _) ?_
    exact ⟨rfl, Or.inr ⟨fun z => i32_lt h2 z.1, rfl⟩⟩
  · refine e_iload_n dX0_isCopy_5 1 rfl rfl ?_
    refine e_aload_n dX0_isCopy_6 0 rfl rfl rfl ?_
    refine e_callV1 (As := []) (rest := [.int n]) dX0_isCopy_7 rfl mvX0_469 (xm_o0) rfl (x_copies hP1 hF0 hFP hb (by exact e46) hL) (Nat.le_of_ble_eq_true rfl) rfl rfl (Nat.le_of_ble_eq_true rfl) (Nat.zero_le _) (Nat.zero_le _) ?_
    refine e_icmp_gt 17 dX0_isCopy_10 (by decide) (fun h10 => ?_) (fun h10 => ?_)
    · refine e_iconst 0 dX0_isCopy_17 rfl ?_
      refine e_ireturn dX0_isCopy_18 rfl rfl (Nat.zero_le _) (Nat.zero_le _) ?_
      exact ⟨rfl, Or.inr ⟨fun z => i32_lt h10 z.2, rfl⟩⟩
    · refine e_iconst 1 dX0_isCopy_13 rfl ?_
      refine e_goto 18 dX0_isCopy_14 (by decide) ?_
      refine e_ireturn dX0_isCopy_18 rfl rfl (Nat.zero_le _) (Nat.zero_le _) ?_
      exact ⟨rfl, Or.inl ⟨⟨i32_nlt h2, i32_nlt h10⟩, rfl⟩⟩

theorem prN_eq {f : Nat → Int32} {F : Nat → Nat} {c : Nat} (hc : c < 2147483648) : ∀ {P p0 : Nat}, P ≤ 20 → (∀ p, p < P → F p < F (p + 1) ∧ F (p + 1) ≤ F p + 1000 ∧ f p = nI (F p)) → (∀ p, p ≤ P → F p ≤ 1 + 1000 * p ∧ p < F p) → p0 < P → F p0 ≤ c → c < F (p0 + 1) → prN f (nI c) P = p0
  | 0, p0, _, _, _, h, _, _ => absurd h (Nat.not_lt_zero _)
  | P + 1, p0, hP, hF, hb, h, h1, h2 => by
    have hbP := hb P (by omega)
    rw [prN, (hF P (by omega)).2.2]
    by_cases e : p0 = P
    · subst e
      rw [if_pos ((nI_leN (by omega) hc).mpr h1)]
    · have hlt : F (p0 + 1) ≤ F P := by
        have hm : ∀ d, p0 + 1 + d ≤ P → F (p0 + 1) ≤ F (p0 + 1 + d) := by
          intro d
          induction d with
          | zero => intro _; exact Nat.le_refl _
          | succ d ih =>
            intro hd
            have := ih (by omega)
            have h3 := (hF (p0 + 1 + d) (by omega)).1
            rw [show p0 + 1 + (d + 1) = p0 + 1 + d + 1 by omega]
            omega
        have := hm (P - (p0 + 1)) (by omega)
        rwa [show p0 + 1 + (P - (p0 + 1)) = P by omega] at this
      rw [if_neg (fun z => absurd ((nI_leN (by omega) hc).mp z) (by omega))]
      exact prN_eq hc (by omega) (fun p hp => hF p (by omega)) (fun p hp => hb p (by omega)) (by omega) h1 h2
set_option maxHeartbeats 4000000 in
set_option maxRecDepth 100000 in
/-- a loop of printingOf -/
theorem x_prOf_loop {ξ : Xs} {mid dyn : List ACell} {F : Nat → Nat} {P K c : Nat} (hP1 : P ≤ 20) (hFP : F P = K + 1) (hb : ∀ p, p ≤ P → F p ≤ 1 + 1000 * p ∧ p < F p) (hL : ∀ p, p < P → ξ.2.2.1 41 p = nI (F (p + 1) - 1)) (hcK : c ≤ K) {Q : Qfun} : ∀ (fuel : Nat) (q : Nat), q < P → P < q + fuel → F q ≤ c → (∀ p0, p0 < P → F p0 ≤ c → c < F (p0 + 1) → Q (some (.int (nI p0))) (XM ξ mid dyn)) →
    E cX0_printingOf (RX0, (some .int), 3, 0, (0, 0), false, []) Q noX 0 0 2 [some (.ref 0), some (.int (nI c)), some (.int (nI q))] [] (XM ξ mid dyn) := by
  intro fuel
  induction fuel with
  | zero => intro q hq hf hlow hQ; exact absurd hf (by omega)
  | succ fuel ih =>
    intro q hq hf hlow hQ
    have hb1 := hb q (by omega)
    have hb2 := hb (q + 1) (by omega)
    have hb3 := hb P (by omega)
    refine e_aload_n dX0_printingOf_2 0 rfl rfl rfl ?_
    refine e_getf (v := (.ref 42)) dX0_printingOf_3 rfl fX0_114 (xm_o0) rfl ?_
    refine e_iload_n dX0_printingOf_6 2 rfl rfl ?_
    refine e_iald (f := ξ.2.2.1 41) (j := q) dX0_printingOf_7 (xm_a41) rfl (by omega) (by decide) ?_
    refine e_top (congrArg Value.int (hL q hq)) ?_
    refine e_iload_n dX0_printingOf_8 1 rfl rfl ?_
    refine e_icmp_geN (F (q + 1) - 1) c 18 (by omega) (by omega) dX0_printingOf_9 (by decide) (fun h9 => ?_) (fun h9 => ?_)
    · refine e_iload_n dX0_printingOf_18 2 rfl rfl ?_
      refine e_ireturn dX0_printingOf_19 rfl rfl (Nat.zero_le _) (Nat.zero_le _) ?_
      exact hQ q hq hlow (by omega)
    · refine e_incN q (q + 1) (inc1 _) dX0_printingOf_12 rfl (ls_s (ls_1 rfl)) (Nat.le_of_ble_eq_true rfl) ?_
      refine e_goto 2 dX0_printingOf_15 (by decide) ?_
      have h10 : q + 1 < P := by
        rcases Nat.lt_or_ge (q + 1) P with h | h
        · exact h
        · have e : q + 1 = P := by omega
          rw [e] at h9; omega
      exact ih (q + 1) h10 (by omega) (by omega) hQ

set_option maxHeartbeats 4000000 in
set_option maxRecDepth 100000 in
/-- WheelTables.printingOf -/
theorem x_prOf {ξ : Xs} {mid dyn : List ACell} {F : Nat → Nat} {P K c : Nat} (hP1 : P ≤ 20) (hP0 : 0 < P) (hF0 : F 0 = 1) (hFP : F P = K + 1) (hb : ∀ p, p ≤ P → F p ≤ 1 + 1000 * p ∧ p < F p) (hL : ∀ p, p < P → ξ.2.2.1 41 p = nI (F (p + 1) - 1)) (hc1 : 1 ≤ c) (hcK : c ≤ K) {f : Nat → Int32} (hF : ∀ p, p < P → F p < F (p + 1) ∧ F (p + 1) ≤ F p + 1000 ∧ f p = nI (F p)) : Ct yX0_printingOf (ws_ yX0_printingOf cX0_printingOf 3 (some .int)) 0 0 0 [.ref 0, .int (nI c)] (XM ξ mid dyn) (Q1 (some (.int (nI (prN f (nI c) P)))) (XM ξ mid dyn)) noX := by
  refine Ct.of (ini := false) (ls := [some (.ref 0), some (.int (nI c)), none]) (by decide) (Nat.le_of_ble_eq_true rfl) (fun h => by cases h) rfl ?_
  refine e_iconst 0 dX0_printingOf_0 rfl ?_
  refine e_istore_n dX0_printingOf_1 2 rfl (ls_s (ls_1 rfl)) (Nat.le_of_ble_eq_true rfl) ?_
  have hb3 := hb P (by omega)
  exact x_prOf_loop hP1 hFP hb hL hcK (P + 1) 0 hP0 (by omega) (by omega) (fun p0 h1 h2 h3 => ⟨by rw [prN_eq (by omega) hP1 hF hb h1 h2 h3], rfl⟩)

set_option maxHeartbeats 4000000 in
set_option maxRecDepth 100000 in
/-- a loop of saidBy -/
theorem x_saidBy_loop {ξ : Xs} {mid dyn : List ACell} {τ : Tw} (hA : RA ξ τ) {p c : Nat} {r : Int32} (hp20 : p < 20) (ec : τ.2.2.1 86 p = nI c) (hc : c ≤ 100) {Q : Qfun} : ∀ (fuel : Nat) (k : Nat) (n : Int32), k ≤ c → c < k + fuel → n = sayN (τ.2.2.1 83) (τ.2.2.1 84) r k → Q (some (.int (sayN (τ.2.2.1 83) (τ.2.2.1 84) r c))) (XM ξ mid dyn) →
    E cX0_saidBy (RX0, (some .int), 5, 0, (0, 0), false, []) Q noX 0 0 5 [some (.ref 0), some (.int (nI p)), some (.int r), some (.int n), some (.int (nI k))] [] (XM ξ mid dyn) := by
  intro fuel
  induction fuel with
  | zero => intro k n hk hf hn hQ; exact absurd hf (by omega)
  | succ fuel ih =>
    intro k n hk hf hn hQ
    refine e_iload dX0_saidBy_5 rfl ?_
    refine e_aload_n dX0_saidBy_7 0 rfl rfl rfl ?_
    refine e_getf (v := (.ref 41)) dX0_saidBy_8 rfl fX0_111 (xm_o0) rfl ?_
    refine e_iload_n dX0_saidBy_11 1 rfl rfl ?_
    refine e_iald (f := ξ.2.2.1 40) (j := p) dX0_saidBy_12 (xm_a40) rfl (by omega) (by decide) ?_
    refine e_top (congrArg Value.int (congrFun (hA.at 40 86 (by decide)) _)) ?_
    refine e_top (congrArg Value.int ec) ?_
    refine e_icmp_geN k c 45 (by omega) (by omega) dX0_saidBy_13 (by decide) (fun h13 => ?_) (fun h13 => ?_)
    · refine e_iload_n dX0_saidBy_45 3 rfl rfl ?_
      refine e_ireturn dX0_saidBy_46 rfl rfl (Nat.zero_le _) (Nat.zero_le _) ?_
      have e1 : k = c := by omega
      subst e1
      rw [hn]; exact hQ
    · refine e_aload_n dX0_saidBy_16 0 rfl rfl rfl ?_
      refine e_getf (v := (.ref 39)) dX0_saidBy_17 rfl fX0_105 (xm_o0) rfl ?_
      refine e_iload dX0_saidBy_20 rfl ?_
      refine e_iald (f := ξ.2.2.1 38) (j := k) dX0_saidBy_22 (xm_a38) rfl (by omega) (by decide) ?_
      refine e_top (congrArg Value.int (congrFun (hA.at 38 83 (by decide)) _)) ?_
      refine e_iload_n dX0_saidBy_23 2 rfl rfl ?_
      refine e_icmp_ne 37 dX0_saidBy_24 (by decide) (fun h24 => ?_) (fun h24 => ?_)
      · refine e_iload_n dX0_saidBy_37 3 rfl rfl ?_
        refine e_istore_n dX0_saidBy_38 3 rfl (ls_s (ls_s (ls_1 rfl))) (Nat.le_of_ble_eq_true rfl) ?_
        refine e_incN k (k + 1) (inc1 _) dX0_saidBy_39 rfl (ls_s (ls_s (ls_s (ls_1 rfl)))) (Nat.le_of_ble_eq_true rfl) ?_
        refine e_goto 5 dX0_saidBy_42 (by decide) ?_
        refine ih (k + 1) _ (by omega) (by omega) ?_ hQ
        rw [sayN, if_neg h24]; exact hn
      · refine e_aload_n dX0_saidBy_27 0 rfl rfl rfl ?_
        refine e_getf (v := (.ref 40)) dX0_saidBy_28 rfl fX0_108 (xm_o0) rfl ?_
        refine e_iload dX0_saidBy_31 rfl ?_
        refine e_iald (f := ξ.2.2.1 39) (j := k) dX0_saidBy_33 (xm_a39) rfl (by omega) (by decide) ?_
        refine e_top (congrArg Value.int (congrFun (hA.at 39 84 (by decide)) _)) ?_
        refine e_goto 38 dX0_saidBy_34 (by decide) ?_
        refine e_istore_n dX0_saidBy_38 3 rfl (ls_s (ls_s (ls_1 rfl))) (Nat.le_of_ble_eq_true rfl) ?_
        refine e_incN k (k + 1) (inc1 _) dX0_saidBy_39 rfl (ls_s (ls_s (ls_s (ls_1 rfl)))) (Nat.le_of_ble_eq_true rfl) ?_
        refine e_goto 5 dX0_saidBy_42 (by decide) ?_
        refine ih (k + 1) _ (by omega) (by omega) ?_ hQ
        rw [sayN, if_pos h24]

set_option maxHeartbeats 4000000 in
set_option maxRecDepth 100000 in
/-- WheelTables.saidBy -/
theorem x_saidBy {ξ : Xs} {mid dyn : List ACell} {τ : Tw} (hA : RA ξ τ) {p c : Nat} {r : Int32} (hp20 : p < 20) (ec : τ.2.2.1 86 p = nI c) (hc : c ≤ 100) : Ct yX0_saidBy (ws_ yX0_saidBy cX0_saidBy 5 (some .int)) 0 0 0 [.ref 0, .int (nI p), .int r] (XM ξ mid dyn) (Q1 (some (.int (sayN (τ.2.2.1 83) (τ.2.2.1 84) r c))) (XM ξ mid dyn)) noX := by
  refine Ct.of (ini := false) (ls := [some (.ref 0), some (.int (nI p)), some (.int r), none, none]) (by decide) (Nat.le_of_ble_eq_true rfl) (fun h => by cases h) rfl ?_
  refine e_iconst 0 dX0_saidBy_0 rfl ?_
  refine e_istore_n dX0_saidBy_1 3 rfl (ls_s (ls_s (ls_1 rfl))) (Nat.le_of_ble_eq_true rfl) ?_
  refine e_iconst 0 dX0_saidBy_2 rfl ?_
  refine e_istore dX0_saidBy_3 (ls_s (ls_s (ls_s (ls_1 rfl)))) (Nat.le_of_ble_eq_true rfl) ?_
  exact x_saidBy_loop hA hp20 ec hc (c + 1) 0 0 (by omega) (by omega) rfl ⟨rfl, rfl⟩

set_option maxHeartbeats 4000000 in
set_option maxRecDepth 100000 in
/-- a loop of wrongIn -/
theorem x_wrongIn1 {ξ : Xs} {mid dyn : List ACell} {τ : Tw} (hI : RI ξ τ) (hA : RA ξ τ) {p c T : Nat} {d : Int32} (hp20 : p < 20) (ec : τ.2.2.1 86 p = nI c) (hc : c ≤ 100) (hT1 : T ≤ 60) (eT : τ.1 81 = nI T) {n : Int32} {r : Nat} (hr : r < 40) {Q : Qfun} : ∀ (fuel : Nat) (k : Nat) (x : Int32), k ≤ T → T < k + fuel → x = lastN (τ.2.2.1 88) (τ.2.2.1 87) (nI r) d k → E cX0_wrongIn (RX0, (some .int), 7, 1, (0, 0), false, []) Q noX 0 0 60 [some (.ref 0), some (.int (nI p)), some (.int d), some (.int n), some (.int (nI r)), some (.int (lastN (τ.2.2.1 88) (τ.2.2.1 87) (nI r) d T)), none] [] (XM ξ mid dyn) →
    E cX0_wrongIn (RX0, (some .int), 7, 1, (0, 0), false, []) Q noX 0 0 18 [some (.ref 0), some (.int (nI p)), some (.int d), some (.int n), some (.int (nI r)), some (.int x), some (.int (nI k))] [] (XM ξ mid dyn) := by
  intro fuel
  induction fuel with
  | zero => intro k x hk hf hx hE; exact absurd hf (by omega)
  | succ fuel ih =>
    intro k x hk hf hx hE
    refine e_iload dX0_wrongIn_18 rfl ?_
    refine e_aload_n dX0_wrongIn_20 0 rfl rfl rfl ?_
    refine e_getf (v := (.int (ξ.1 47))) dX0_wrongIn_21 rfl fX0_472 (xm_o0) rfl ?_
    refine e_top (congrArg Value.int (hI.at 47 81 (by decide))) ?_
    refine e_top (congrArg Value.int eT) ?_
    refine e_icmp_geN k T 60 (by omega) (by omega) dX0_wrongIn_24 (by decide) (fun h24 => ?_) (fun h24 => ?_)
    · refine e_forget (i := 6) (ln_s (ln_s (ln_s (ln_s (ln_s (ln_s ln_0)))))) ?_
      have e1 : k = T := by omega
      subst e1
      rw [hx]; exact hE
    · refine e_aload_n dX0_wrongIn_27 0 rfl rfl rfl ?_
      refine e_getf (v := (.ref 44)) dX0_wrongIn_28 rfl fX0_120 (xm_o0) rfl ?_
      refine e_iload dX0_wrongIn_31 rfl ?_
      refine e_iald (f := ξ.2.2.1 43) (j := k) dX0_wrongIn_33 (xm_a43) rfl (by omega) (by decide) ?_
      refine e_top (congrArg Value.int (congrFun (hA.at 43 88 (by decide)) _)) ?_
      refine e_iload dX0_wrongIn_34 rfl ?_
      refine e_icmp_ne 54 dX0_wrongIn_36 (by decide) (fun h36 => ?_) (fun h36 => ?_)
      · refine e_incN k (k + 1) (inc1 _) dX0_wrongIn_54 rfl (ls_s (ls_s (ls_s (ls_s (ls_s (ls_1 rfl)))))) (Nat.le_of_ble_eq_true rfl) ?_
        refine e_goto 18 dX0_wrongIn_57 (by decide) ?_
        refine ih (k + 1) _ (by omega) (by omega) ?_ hE
        rw [lastN, if_neg (fun z => h36 z.1)]; exact hx
      · refine e_aload_n dX0_wrongIn_39 0 rfl rfl rfl ?_
        refine e_getf (v := (.ref 43)) dX0_wrongIn_40 rfl fX0_117 (xm_o0) rfl ?_
        refine e_iload dX0_wrongIn_43 rfl ?_
        refine e_iald (f := ξ.2.2.1 42) (j := k) dX0_wrongIn_45 (xm_a42) rfl (by omega) (by decide) ?_
        refine e_top (congrArg Value.int (congrFun (hA.at 42 87 (by decide)) _)) ?_
        refine e_iload_n dX0_wrongIn_46 2 rfl rfl ?_
        refine e_icmp_gt 54 dX0_wrongIn_47 (by decide) (fun h47 => ?_) (fun h47 => ?_)
        · refine e_incN k (k + 1) (inc1 _) dX0_wrongIn_54 rfl (ls_s (ls_s (ls_s (ls_s (ls_s (ls_1 rfl)))))) (Nat.le_of_ble_eq_true rfl) ?_
          refine e_goto 18 dX0_wrongIn_57 (by decide) ?_
          refine ih (k + 1) _ (by omega) (by omega) ?_ hE
          rw [lastN, if_neg (fun z => absurd h47 (Int32.not_lt.mpr z.2))]; exact hx
        · refine e_iload dX0_wrongIn_50 rfl ?_
          refine e_istore dX0_wrongIn_52 (ls_s (ls_s (ls_s (ls_s (ls_1 rfl))))) (Nat.le_of_ble_eq_true rfl) ?_
          refine e_incN k (k + 1) (inc1 _) dX0_wrongIn_54 rfl (ls_s (ls_s (ls_s (ls_s (ls_s (ls_1 rfl)))))) (Nat.le_of_ble_eq_true rfl) ?_
          refine e_goto 18 dX0_wrongIn_57 (by decide) ?_
          refine ih (k + 1) _ (by omega) (by omega) ?_ hE
          rw [lastN, if_pos ⟨h36, Int32.not_lt.mp h47⟩]

set_option maxHeartbeats 4000000 in
set_option maxRecDepth 100000 in
theorem x_wrongIn2 {ξ : Xs} {mid dyn : List ACell} {τ : Tw} (hI : RI ξ τ) (hA : RA ξ τ) {p c T : Nat} {d : Int32} (hp20 : p < 20) (ec : τ.2.2.1 86 p = nI c) (hc : c ≤ 100) (hT1 : T ≤ 60) (eT : τ.1 81 = nI T) {r : Nat} {n : Int32} (hr : r < 40) {Q : Qfun} (hE : E cX0_wrongIn (RX0, (some .int), 7, 1, (0, 0), false, []) Q noX 0 0 5 [some (.ref 0), some (.int (nI p)), some (.int d), some (.int (n + spBadRow p d τ r)), some (.int (nI (r + 1))), none, none] [] (XM ξ mid dyn)) :
    E cX0_wrongIn (RX0, (some .int), 7, 1, (0, 0), false, []) Q noX 0 0 60 [some (.ref 0), some (.int (nI p)), some (.int d), some (.int n), some (.int (nI r)), some (.int (lastN (τ.2.2.1 88) (τ.2.2.1 87) (nI r) d T)), none] [] (XM ξ mid dyn) := by
  rcases lastN_in (row := τ.2.2.1 88) (day := τ.2.2.1 87) (r := nI r) (d := d) (k := T) with hl | ⟨j, hj, hl⟩
  · refine e_iload_n dX0_wrongIn_60 3 rfl rfl ?_
    refine e_iload dX0_wrongIn_61 rfl ?_
    refine e_top (congrArg Value.int hl) ?_
    refine e_iconst (-1) dX0_wrongIn_63 rfl ?_
    refine e_icmp_eq 88 dX0_wrongIn_64 (by decide) (fun _ => ?_) (fun h => absurd h (by decide))
    refine e_iconst 0 dX0_wrongIn_88 rfl ?_
    refine e_iadd dX0_wrongIn_89 ?_
    refine e_istore_n dX0_wrongIn_90 3 rfl (ls_s (ls_s (ls_1 rfl))) (Nat.le_of_ble_eq_true rfl) ?_
    refine e_incN r (r + 1) (inc1 _) dX0_wrongIn_91 rfl (ls_s (ls_s (ls_s (ls_1 rfl)))) (Nat.le_of_ble_eq_true rfl) ?_
    refine e_goto 5 dX0_wrongIn_94 (by decide) ?_
    refine e_forget (i := 5) (ln_s (ln_s (ln_s (ln_s (ln_s ln_0))))) ?_
    have eB : spBadRow p d τ r = 0 := by rw [spBadRow, eT, ix_nI (show T < 2147483648 by omega), if_neg (fun z => absurd z.1 (by rw [hl]; decide))]
    rw [eB] at hE
    exact hE
  · refine e_iload_n dX0_wrongIn_60 3 rfl rfl ?_
    refine e_iload dX0_wrongIn_61 rfl ?_
    refine e_top (congrArg Value.int hl) ?_
    refine e_iconst (-1) dX0_wrongIn_63 rfl ?_
    refine e_icmp_eq 88 dX0_wrongIn_64 (by decide) (fun h64 => ?_) (fun h64 => ?_)
    · exact absurd h64 (fun z => absurd (congrArg Int32.toInt z) (by rw [nI_toInt (by omega), show (-1 : Int32).toInt = -1 from rfl]; omega))
    · refine e_aload_n dX0_wrongIn_67 0 rfl rfl rfl ?_
      refine e_getf (v := (.ref 45)) dX0_wrongIn_68 rfl fX0_123 (xm_o0) rfl ?_
      refine e_iload dX0_wrongIn_71 rfl ?_
      refine e_top (congrArg Value.int hl) ?_
      refine e_iald (f := ξ.2.2.1 44) (j := j) dX0_wrongIn_73 (xm_a44) rfl (by omega) (by decide) ?_
      refine e_top (congrArg Value.int (congrFun (hA.at 44 89 (by decide)) _)) ?_
      refine e_aload_n dX0_wrongIn_74 0 rfl rfl rfl ?_
      refine e_iload_n dX0_wrongIn_75 1 rfl rfl ?_
      refine e_iload dX0_wrongIn_76 rfl ?_
      refine e_callV1 (As := [.int (nI p), .int (nI r)]) (rest := [.int (τ.2.2.1 89 j), .int n]) dX0_wrongIn_78 rfl mvX0_481 (xm_o0) rfl (x_saidBy hA (p := p) (c := c) (r := nI r) (by omega) ec hc) (Nat.le_of_ble_eq_true rfl) rfl rfl (Nat.le_of_ble_eq_true rfl) (Nat.zero_le _) (Nat.zero_le _) ?_
      refine e_icmp_eq 88 dX0_wrongIn_81 (by decide) (fun h81 => ?_) (fun h81 => ?_)
      · refine e_iconst 0 dX0_wrongIn_88 rfl ?_
        refine e_iadd dX0_wrongIn_89 ?_
        refine e_istore_n dX0_wrongIn_90 3 rfl (ls_s (ls_s (ls_1 rfl))) (Nat.le_of_ble_eq_true rfl) ?_
        refine e_incN r (r + 1) (inc1 _) dX0_wrongIn_91 rfl (ls_s (ls_s (ls_s (ls_1 rfl)))) (Nat.le_of_ble_eq_true rfl) ?_
        refine e_goto 5 dX0_wrongIn_94 (by decide) ?_
        refine e_forget (i := 5) (ln_s (ln_s (ln_s (ln_s (ln_s ln_0))))) ?_
        have eB : spBadRow p d τ r = 0 := by rw [spBadRow, eT, ix_nI (show T < 2147483648 by omega), if_neg (fun z => z.2 (by rw [hl, ix_nI (show j < 2147483648 by omega), spSay, ec, ix_nI (by omega)]; exact h81))]
        rw [eB] at hE
        exact hE
      · refine e_iconst 1 dX0_wrongIn_84 rfl ?_
        refine e_goto 89 dX0_wrongIn_85 (by decide) ?_
        refine e_iadd dX0_wrongIn_89 ?_
        refine e_istore_n dX0_wrongIn_90 3 rfl (ls_s (ls_s (ls_1 rfl))) (Nat.le_of_ble_eq_true rfl) ?_
        refine e_incN r (r + 1) (inc1 _) dX0_wrongIn_91 rfl (ls_s (ls_s (ls_s (ls_1 rfl)))) (Nat.le_of_ble_eq_true rfl) ?_
        refine e_goto 5 dX0_wrongIn_94 (by decide) ?_
        refine e_forget (i := 5) (ln_s (ln_s (ln_s (ln_s (ln_s ln_0))))) ?_
        have eB : spBadRow p d τ r = 1 := by rw [spBadRow, eT, ix_nI (show T < 2147483648 by omega), if_pos ⟨by rw [hl]; exact nI_pos' (by omega), by rw [hl, ix_nI (show j < 2147483648 by omega), spSay, ec, ix_nI (by omega)]; exact h81⟩]
        rw [eB] at hE
        exact hE

set_option maxHeartbeats 4000000 in
set_option maxRecDepth 100000 in
/-- a loop of wrongIn -/
theorem x_wrongIn3 {ξ : Xs} {mid dyn : List ACell} {τ : Tw} (hI : RI ξ τ) (hA : RA ξ τ) {p c T : Nat} {d : Int32} (hp20 : p < 20) (ec : τ.2.2.1 86 p = nI c) (hc : c ≤ 100) (hT1 : T ≤ 60) (eT : τ.1 81 = nI T) {Q : Qfun} : ∀ (fuel : Nat) (r : Nat) (n : Int32), r ≤ 40 → 40 < r + fuel → n = wrongN p d τ r → Q (some (.int (wrongN p d τ 40))) (XM ξ mid dyn) →
    E cX0_wrongIn (RX0, (some .int), 7, 1, (0, 0), false, []) Q noX 0 0 5 [some (.ref 0), some (.int (nI p)), some (.int d), some (.int n), some (.int (nI r)), none, none] [] (XM ξ mid dyn) := by
  intro fuel
  induction fuel with
  | zero => intro r n hr hf hn hQ; exact absurd hf (by omega)
  | succ fuel ih =>
    intro r n hr hf hn hQ
    refine e_iload dX0_wrongIn_5 rfl ?_
    refine e_bipush 40 dX0_wrongIn_7 rfl ?_
    refine e_icmp_geN r 40 97 (by omega) (by omega) dX0_wrongIn_9 (by decide) (fun h9 => ?_) (fun h9 => ?_)
    · refine e_iload_n dX0_wrongIn_97 3 rfl rfl ?_
      refine e_ireturn dX0_wrongIn_98 rfl rfl (Nat.zero_le _) (Nat.zero_le _) ?_
      have e1 : r = 40 := by omega
      subst e1
      rw [hn]; exact hQ
    · refine e_iconst (-1) dX0_wrongIn_12 rfl ?_
      refine e_istore dX0_wrongIn_13 (ls_s (ls_s (ls_s (ls_s (ls_1 rfl))))) (Nat.le_of_ble_eq_true rfl) ?_
      refine e_iconst 0 dX0_wrongIn_15 rfl ?_
      refine e_istore dX0_wrongIn_16 (ls_s (ls_s (ls_s (ls_s (ls_s (ls_1 rfl)))))) (Nat.le_of_ble_eq_true rfl) ?_
      refine x_wrongIn1 hI hA hp20 ec hc hT1 eT (by omega) (T + 1) 0 _ (by omega) (by omega) rfl ?_
      refine x_wrongIn2 hI hA hp20 ec hc hT1 eT (by omega) ?_
      exact ih (r + 1) _ (by omega) (by omega) (by rw [wrongN, hn]) hQ

set_option maxHeartbeats 4000000 in
set_option maxRecDepth 100000 in
/-- WheelTables.wrongIn -/
theorem x_wrongIn {ξ : Xs} {mid dyn : List ACell} {τ : Tw} (hI : RI ξ τ) (hA : RA ξ τ) {p c T : Nat} {d : Int32} (hp20 : p < 20) (ec : τ.2.2.1 86 p = nI c) (hc : c ≤ 100) (hT1 : T ≤ 60) (eT : τ.1 81 = nI T) : Ct yX0_wrongIn (ws_ yX0_wrongIn cX0_wrongIn 7 (some .int)) 1 0 0 [.ref 0, .int (nI p), .int d] (XM ξ mid dyn) (Q1 (some (.int (wrongN p d τ 40))) (XM ξ mid dyn)) noX := by
  refine Ct.of (ini := false) (ls := [some (.ref 0), some (.int (nI p)), some (.int d), none, none, none, none]) (by decide) (Nat.le_of_ble_eq_true rfl) (fun h => by cases h) rfl ?_
  refine e_iconst 0 dX0_wrongIn_0 rfl ?_
  refine e_istore_n dX0_wrongIn_1 3 rfl (ls_s (ls_s (ls_1 rfl))) (Nat.le_of_ble_eq_true rfl) ?_
  refine e_iconst 0 dX0_wrongIn_2 rfl ?_
  refine e_istore dX0_wrongIn_3 (ls_s (ls_s (ls_s (ls_1 rfl)))) (Nat.le_of_ble_eq_true rfl) ?_
  exact x_wrongIn3 hI hA hp20 ec hc hT1 eT 41 0 0 (by omega) (by omega) rfl ⟨rfl, rfl⟩

