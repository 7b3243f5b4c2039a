/-! ===== the component: the mill, cards done ===== -/
set_option maxHeartbeats 4000000 in
set_option maxRecDepth 100000 in
/-- WheelTables.alarms -/
theorem x_alarms {ξ : Xs} {mid dyn : List ACell} (a b : Int32) : Ct yX0_alarms (ws_ yX0_alarms cX0_alarms 3 none) 0 0 0 [.ref 0, .int a, .int b] (XM ξ mid dyn) (Q1 none (XM (xI (xI ξ 22 a) 23 b) mid dyn)) noX := by
  refine Ct.of (ini := false) (ls := [some (.ref 0), some (.int a), some (.int b)]) (by decide) (Nat.le_of_ble_eq_true rfl) (fun h => by cases h) rfl ?_
  refine e_aload_n dX0_alarms_0 0 rfl rfl rfl ?_
  refine e_iload_n dX0_alarms_1 1 rfl rfl ?_
  refine e_xputI dX0_alarms_2 rfl pX0_343 rfl (xm_o0) (Nat.le_of_ble_eq_true rfl) (xm_f22 _) ?_
  refine e_aload_n dX0_alarms_5 0 rfl rfl rfl ?_
  refine e_iload_n dX0_alarms_6 2 rfl rfl ?_
  refine e_xputI dX0_alarms_7 rfl pX0_346 rfl (xm_o0) (Nat.le_of_ble_eq_true rfl) (xm_f23 _) ?_
  refine e_return dX0_alarms_10 rfl (Nat.zero_le _) (Nat.zero_le _) ?_
  exact ⟨rfl, rfl⟩

set_option maxHeartbeats 4000000 in
set_option maxRecDepth 100000 in
/-- WheelTables.results -/
theorem x_results {ξ : Xs} {mid dyn : List ACell} (hm : mid.length = 61) {b k : Nat} (hk : k < 40) {K cw cp : Int32} {cv : Int64} {at_ : Nat → Int32} (hcd0 : dyn[b]? = some (.inr (7, [.int K, .ref (117 + b + 1), .long cv, .int cw, .int cp]))) (hcd1 : dyn[b + 1]? = some (.inl (0, 4, .inl at_))) {a0 a1 a2 a3 : Nat} (hz0 : at_ 0 = nI a0) (hz1 : at_ 1 = nI a1) (hz2 : at_ 2 = nI a2) (hz3 : at_ 3 = nI a3) (ha0 : a0 < 20) (ha1 : a1 < 20) (ha2 : a2 < 20) (ha3 : a3 < 20) (v : Int64) (t : Int32) : Ct yX0_results (ws_ yX0_results cX0_results 6 none) 1 0 0 [.ref 0, .ref (117 + b), .long v, .int (nI k), .int t] (XM ξ mid dyn) (fun v0 N => v0 = none ∧ ((999999999999 < abL v ∧ N = XM (xI (xI ξ 22 1) 23 (nI k)) mid dyn) ∨ (¬ 999999999999 < abL v ∧ N = XM (xI (xI (xB ξ 18 (vp_updL (ξ.2.2.2.1 18) a2 v)) 26 (spUp v)) 21 (ξ.1 21 + t)) mid dyn))) noX := by
  refine Ct.of (ini := false) (ls := [some (.ref 0), some (.ref (117 + b)), some (.long v), none, some (.int (nI k)), some (.int t)]) (by decide) (Nat.le_of_ble_eq_true rfl) (fun h => by cases h) rfl ?_
  refine e_lload_n dX0_results_0 2 rfl rfl ?_
  refine e_callS1 (As := [.long v]) (rest := []) dX0_results_1 rfl msX0_371 (m_absL v) (Nat.le_of_ble_eq_true rfl) rfl rfl (Nat.le_of_ble_eq_true rfl) (Nat.zero_le _) (Nat.zero_le _) ?_
  refine e_ldc2 rfl q951 dX0_results_4 ?_
  refine e_lcmp_le 19 dX0_results_7 dX0_results_8 (by decide) (fun h7 => ?_) (fun h7 => ?_)
  · refine e_aload_n dX0_results_19 0 rfl rfl rfl ?_
    refine e_getf (v := (.ref 13)) dX0_results_20 rfl fX0_73 (xm_o0) rfl ?_
    refine e_aload_n dX0_results_23 1 rfl rfl rfl ?_
    refine e_getf (v := (.ref (117 + b + 1))) dX0_results_24 rfl fX0_362 ((xm_d hm b).trans hcd0) rfl ?_
    refine e_iconst 2 dX0_results_27 rfl ?_
    refine e_iald (f := at_) (j := 2) dX0_results_28 ((show (XM _ mid dyn)[117 + b + 1]? = _ from (xm_d hm (b + 1)).trans hcd1)) rfl (by omega) (by decide) ?_
    refine e_top (congrArg Value.int hz2) ?_
    refine e_lload_n dX0_results_29 2 rfl rfl ?_
    refine e_last (f := ξ.2.2.2.1 18) (j := a2) dX0_results_30 (xm_a18) rfl (by omega) (by decide) ?_
    rw [xm_s18]
    refine e_aload_n dX0_results_31 0 rfl rfl rfl ?_
    refine e_lload_n dX0_results_32 2 rfl rfl ?_
    refine e_lconst 0 dX0_results_33 rfl ?_
    refine e_lcmp_ge 42 dX0_results_34 dX0_results_35 (by decide) (fun h34 => ?_) (fun h34 => ?_)
    · refine e_iconst 0 dX0_results_42 rfl ?_
      refine e_xputI dX0_results_43 rfl pX0_352 rfl (xm_o0) (Nat.le_of_ble_eq_true rfl) (xm_f26 _) ?_
      refine e_aload_n dX0_results_46 0 rfl rfl rfl ?_
      refine e_dup dX0_results_47 rfl ?_
      refine e_getf (v := (.int (ξ.1 21))) dX0_results_48 rfl fX0_340 (xm_o0) rfl ?_
      refine e_iload dX0_results_51 rfl ?_
      refine e_iadd dX0_results_53 ?_
      refine e_xputI dX0_results_54 rfl pX0_340 rfl (xm_o0) (Nat.le_of_ble_eq_true rfl) (xm_f21 _) ?_
      refine e_return dX0_results_57 rfl (Nat.zero_le _) (Nat.zero_le _) ?_
      refine ⟨rfl, Or.inr ⟨Int64.not_lt.mpr h7, ?_⟩⟩
      rw [show spUp v = 0 from if_neg (Int64.not_lt.mpr h34)]
    · refine e_iconst 1 dX0_results_38 rfl ?_
      refine e_goto 43 dX0_results_39 (by decide) ?_
      refine e_xputI dX0_results_43 rfl pX0_352 rfl (xm_o0) (Nat.le_of_ble_eq_true rfl) (xm_f26 _) ?_
      refine e_aload_n dX0_results_46 0 rfl rfl rfl ?_
      refine e_dup dX0_results_47 rfl ?_
      refine e_getf (v := (.int (ξ.1 21))) dX0_results_48 rfl fX0_340 (xm_o0) rfl ?_
      refine e_iload dX0_results_51 rfl ?_
      refine e_iadd dX0_results_53 ?_
      refine e_xputI dX0_results_54 rfl pX0_340 rfl (xm_o0) (Nat.le_of_ble_eq_true rfl) (xm_f21 _) ?_
      refine e_return dX0_results_57 rfl (Nat.zero_le _) (Nat.zero_le _) ?_
      refine ⟨rfl, Or.inr ⟨Int64.not_lt.mpr h7, ?_⟩⟩
      rw [show spUp v = 1 from if_pos (Int64.not_le.mp h34)]
  · refine e_aload_n dX0_results_11 0 rfl rfl rfl ?_
    refine e_iconst 1 dX0_results_12 rfl ?_
    refine e_iload dX0_results_13 rfl ?_
    refine e_callV0 (As := [.int 1, .int (nI k)]) (rest := []) dX0_results_15 rfl mvX0_395 (xm_o0) rfl (x_alarms 1 (nI k)) (Nat.le_of_ble_eq_true rfl) rfl rfl (Nat.le_of_ble_eq_true rfl) (Nat.zero_le _) (Nat.zero_le _) ?_
    refine e_return dX0_results_18 rfl (Nat.zero_le _) (Nat.zero_le _) ?_
    exact ⟨rfl, Or.inl ⟨Int64.not_le.mp h7, rfl⟩⟩

set_option maxHeartbeats 4000000 in
set_option maxRecDepth 100000 in
/-- WheelTables.prints -/
theorem x_prints {ξ : Xs} {mid dyn : List ACell} {k P : Nat} (hP : P ≤ 40) (e62 : ξ.1 20 = nI P) (v : Int64) : Ct yX0_prints (ws_ yX0_prints cX0_prints 4 none) 1 0 0 [.ref 0, .long v, .int (nI k)] (XM ξ mid dyn) (fun v0 N => v0 = none ∧ ((ξ.1 20 = 40 ∧ N = XM (xI (xI ξ 22 3) 23 (nI k)) mid dyn) ∨ (¬ ξ.1 20 = 40 ∧ N = XM (xI (xI (xB ξ 19 (vp_updL (ξ.2.2.2.1 19) (ix (ξ.1 20)) v)) 20 (ξ.1 20 + 1)) 21 (ξ.1 21 + 1)) mid dyn))) noX := by
  refine Ct.of (ini := false) (ls := [some (.ref 0), some (.long v), none, some (.int (nI k))]) (by decide) (Nat.le_of_ble_eq_true rfl) (fun h => by cases h) rfl ?_
  refine e_aload_n dX0_prints_0 0 rfl rfl rfl ?_
  refine e_getf (v := (.int (ξ.1 20))) dX0_prints_1 rfl fX0_337 (xm_o0) rfl ?_
  refine e_top (congrArg Value.int e62) ?_
  refine e_bipush 40 dX0_prints_4 rfl ?_
  refine e_icmp_neN P 40 16 (by omega) (by omega) dX0_prints_6 (by decide) (fun h6 => ?_) (fun h6 => ?_)
  · refine e_aload_n dX0_prints_16 0 rfl rfl rfl ?_
    refine e_getf (v := (.ref 14)) dX0_prints_17 rfl fX0_76 (xm_o0) rfl ?_
    refine e_aload_n dX0_prints_20 0 rfl rfl rfl ?_
    refine e_getf (v := (.int (ξ.1 20))) dX0_prints_21 rfl fX0_337 (xm_o0) rfl ?_
    refine e_top (congrArg Value.int e62) ?_
    refine e_lload_n dX0_prints_24 1 rfl rfl ?_
    refine e_last (f := ξ.2.2.2.1 19) (j := P) dX0_prints_25 (xm_a19) rfl (by omega) (by decide) ?_
    rw [xm_s19]
    refine e_aload_n dX0_prints_26 0 rfl rfl rfl ?_
    refine e_dup dX0_prints_27 rfl ?_
    refine e_getf (v := (.int (ξ.1 20))) dX0_prints_28 rfl fX0_337 (xm_o0) rfl ?_
    refine e_top (congrArg Value.int e62) ?_
    refine e_iconst 1 dX0_prints_31 rfl ?_
    refine e_iaddN P 1 dX0_prints_32 ?_
    refine e_xputI dX0_prints_33 rfl pX0_337 rfl (xm_o0) (Nat.le_of_ble_eq_true rfl) (xm_f20 _) ?_
    refine e_aload_n dX0_prints_36 0 rfl rfl rfl ?_
    refine e_dup dX0_prints_37 rfl ?_
    refine e_getf (v := (.int (ξ.1 21))) dX0_prints_38 rfl fX0_340 (xm_o0) rfl ?_
    refine e_iconst 1 dX0_prints_41 rfl ?_
    refine e_iadd dX0_prints_42 ?_
    refine e_xputI dX0_prints_43 rfl pX0_340 rfl (xm_o0) (Nat.le_of_ble_eq_true rfl) (xm_f21 _) ?_
    refine e_return dX0_prints_46 rfl (Nat.zero_le _) (Nat.zero_le _) ?_
    refine ⟨rfl, Or.inr ⟨fun z => h6 ((nI_eqN (b := 40) (by omega) (by omega)).mp (e62.symm.trans z)), ?_⟩⟩
    rw [e62, show nI P + 1 = nI (P + 1) from nI_add P 1, ix_nI (by omega)]
  · refine e_aload_n dX0_prints_9 0 rfl rfl rfl ?_
    refine e_iconst 3 dX0_prints_10 rfl ?_
    refine e_iload_n dX0_prints_11 3 rfl rfl ?_
    refine e_callV0 (As := [.int 3, .int (nI k)]) (rest := []) dX0_prints_12 rfl mvX0_395 (xm_o0) rfl (x_alarms 3 (nI k)) (Nat.le_of_ble_eq_true rfl) rfl rfl (Nat.le_of_ble_eq_true rfl) (Nat.zero_le _) (Nat.zero_le _) ?_
    refine e_return dX0_prints_15 rfl (Nat.zero_le _) (Nat.zero_le _) ?_
    refine ⟨rfl, Or.inl ⟨?_, rfl⟩⟩
    rw [e62, h6]; rfl

set_option maxHeartbeats 4000000 in
set_option maxRecDepth 100000 in
/-- WheelTables.stands -/
theorem x_stands {ξ : Xs} {mid dyn : List ACell} (hm : mid.length = 61) {b : Nat} {K cw cp : Int32} {cv : Int64} (hcd0 : dyn[b]? = some (.inr (7, [.int K, .ref (117 + b + 1), .long cv, .int cw, .int cp]))) : Ct yX0_stands (ws_ yX0_stands cX0_stands 2 (some .boolean)) 0 0 0 [.ref 0, .ref (117 + b)] (XM ξ mid dyn) (QB (cw = 0 ∨ (cw = 1 ∧ ξ.1 26 = 1) ∨ (¬ cw = 1 ∧ ξ.1 26 = 0)) (XM ξ mid dyn)) noX := by
  refine Ct.of (ini := false) (ls := [some (.ref 0), some (.ref (117 + b))]) (by decide) (Nat.le_of_ble_eq_true rfl) (fun h => by cases h) rfl ?_
  refine e_aload_n dX0_stands_0 1 rfl rfl rfl ?_
  refine e_getf (v := (.int cw)) dX0_stands_1 rfl fX0_392 ((xm_d hm b).trans hcd0) rfl ?_
  refine e_if_eq 27 dX0_stands_4 (by decide) (fun h4 => ?_) (fun h4 => ?_)
  · refine e_iconst 1 dX0_stands_27 rfl ?_
    refine e_goto 32 dX0_stands_28 (by decide) ?_
    refine e_ireturn dX0_stands_32 rfl rfl (Nat.zero_le _) (Nat.zero_le _) ?_
    exact ⟨rfl, Or.inl ⟨Or.inl h4, rfl⟩⟩
  · refine e_aload_n dX0_stands_7 1 rfl rfl rfl ?_
    refine e_getf (v := (.int cw)) dX0_stands_8 rfl fX0_392 ((xm_d hm b).trans hcd0) rfl ?_
    refine e_iconst 1 dX0_stands_11 rfl ?_
    refine e_icmp_ne 19 dX0_stands_12 (by decide) (fun h12 => ?_) (fun h12 => ?_)
    · refine e_iconst 0 dX0_stands_19 rfl ?_
      refine e_aload_n dX0_stands_20 0 rfl rfl rfl ?_
      refine e_getf (v := (.int (ξ.1 26))) dX0_stands_21 rfl fX0_352 (xm_o0) rfl ?_
      refine e_icmp_ne 31 dX0_stands_24 (by decide) (fun h24 => ?_) (fun h24 => ?_)
      · refine e_iconst 0 dX0_stands_31 rfl ?_
        refine e_ireturn dX0_stands_32 rfl rfl (Nat.zero_le _) (Nat.zero_le _) ?_
        exact ⟨rfl, Or.inr ⟨fun z => z.elim h4 (fun z => z.elim (fun z => h12 z.1) (fun z => h24 z.2.symm)), rfl⟩⟩
      · refine e_iconst 1 dX0_stands_27 rfl ?_
        refine e_goto 32 dX0_stands_28 (by decide) ?_
        refine e_ireturn dX0_stands_32 rfl rfl (Nat.zero_le _) (Nat.zero_le _) ?_
        exact ⟨rfl, Or.inl ⟨Or.inr (Or.inr ⟨h12, h24.symm⟩), rfl⟩⟩
    · refine e_iconst 1 dX0_stands_15 rfl ?_
      refine e_goto 20 dX0_stands_16 (by decide) ?_
      refine e_aload_n dX0_stands_20 0 rfl rfl rfl ?_
      refine e_getf (v := (.int (ξ.1 26))) dX0_stands_21 rfl fX0_352 (xm_o0) rfl ?_
      refine e_icmp_ne 31 dX0_stands_24 (by decide) (fun h24 => ?_) (fun h24 => ?_)
      · refine e_iconst 0 dX0_stands_31 rfl ?_
        refine e_ireturn dX0_stands_32 rfl rfl (Nat.zero_le _) (Nat.zero_le _) ?_
        exact ⟨rfl, Or.inr ⟨fun z => z.elim h4 (fun z => z.elim (fun z => h24 z.2.symm) (fun z => z.1 h12)), rfl⟩⟩
      · refine e_iconst 1 dX0_stands_27 rfl ?_
        refine e_goto 32 dX0_stands_28 (by decide) ?_
        refine e_ireturn dX0_stands_32 rfl rfl (Nat.zero_le _) (Nat.zero_le _) ?_
        exact ⟨rfl, Or.inl ⟨Or.inr (Or.inl ⟨h12, h24.symm⟩), rfl⟩⟩

