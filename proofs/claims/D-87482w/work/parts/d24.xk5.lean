/-! ===== the component: errata (5): two put right ===== -/
set_option maxHeartbeats 4000000 in
set_option maxRecDepth 100000 in
/-- a loop of pairRight -/
theorem x_pair_in {ξ : Xs} {xs : Nat → Nat} {T : Nat → Int64} {mid dyn : List ACell} {n k : Nat} {b : Int32} (hn : n ≤ 20) (hk : 1 ≤ k ∧ k ≤ 4) (hkn : k < n) (hN : ξ.1 35 = nI n) (hK : ξ.1 36 = nI k) (hBd : ξ.1 37 = b) (hxs : ∀ i, i < n → xs i ≤ 99999999 ∧ T i = lN (xs i)) {a d : Nat} (ha : a < n) (hd : d < n) (had : ¬ a = d) (hel : elN n k b T a d = true) {x : Nat} (hx : x < (corL (xs a)).1) {Q : Qfun} : ∀ (fuel : Nat) (y : Nat) (ξ1 : Xs) (e : Int64), y ≤ (corL (xs d)).1 → (corL (xs d)).1 < y + fuel → ErS ξ (vp_updL (vp_updL T a ((corL (xs a)).2 x).toInt64) d e) ξ1 → Erv 0 (corL (xs a)) ξ1 → Erv 1 (corL (xs d)) ξ1 → (∀ j, j < y → pwP n k b T xs a d x j = false) → (∀ y ξ2 U, y < (corL (xs d)).1 → pwP n k b T xs a d x y = true → (∀ y', y' < y → pwP n k b T xs a d x y' = false) → ErS ξ U ξ2 → Q (some (.int 1)) (XM (fdX ξ2 (nI a) ((corL (xs a)).2 x) (nI d) ((corL (xs d)).2 y)) mid dyn)) → (∀ ξ2 e, ErS ξ (vp_updL (vp_updL T a ((corL (xs a)).2 x).toInt64) d e) ξ2 → Erv 0 (corL (xs a)) ξ2 → Erv 1 (corL (xs d)) ξ2 → (∀ j, j < (corL (xs d)).1 → pwP n k b T xs a d x j = false) → E cX0_pairRight (RX0, (some .boolean), 7, 3, (0, 0), false, []) Q noX 0 0 141 [some (.ref 0), some (.int (nI a)), some (.int (nI d)), some (.int (nI (xs a))), some (.int (nI (xs d))), some (.int (nI x)), none] [] (XM ξ2 mid dyn)) →
    E cX0_pairRight (RX0, (some .boolean), 7, 3, (0, 0), false, []) Q noX 0 0 63 [some (.ref 0), some (.int (nI a)), some (.int (nI d)), some (.int (nI (xs a))), some (.int (nI (xs d))), some (.int (nI x)), some (.int (nI y))] [] (XM ξ1 mid dyn) := by
  intro fuel
  induction fuel with
  | zero => intro y ξ1 e hy hf hS hV0 hV1 hno hQ hE; exact absurd hf (by omega)
  | succ fuel ih =>
    intro y ξ1 e hy hf hS hV0 hV1 hno hQ hE
    have hm79 : (corL (xs a)).1 ≤ 79 := rgM_le xs a
    have hn79 : (corL (xs d)).1 ≤ 79 := rgM_le xs d
    refine e_iload dX0_pairRight_63 rfl ?_
    refine e_aload_n dX0_pairRight_65 0 rfl rfl rfl ?_
    refine e_getf (v := (.ref 36)) dX0_pairRight_66 rfl fX0_96 (xm_o0) rfl ?_
    refine e_iconst 1 dX0_pairRight_69 rfl ?_
    refine e_iald (f := ξ1.2.2.1 32) (j := 1) dX0_pairRight_70 (xm_a32) rfl (by omega) (by decide) ?_
    refine e_top (congrArg Value.int hV1.1) ?_
    refine e_icmp_geN y ((corL (xs d)).1) 141 (by omega) (by omega) dX0_pairRight_71 (by decide) (fun h71 => ?_) (fun h71 => ?_)
    · refine e_forget (i := 6) (ln_s (ln_s (ln_s (ln_s (ln_s (ln_s ln_0)))))) ?_
      exact hE ξ1 e hS hV0 hV1 (fun j hj => hno j (by omega))
    · have h71 : y < (corL (xs d)).1 := Nat.lt_of_not_le h71
      refine e_aload_n dX0_pairRight_74 0 rfl rfl rfl ?_
      refine e_getf (v := (.ref 32)) dX0_pairRight_75 rfl fX0_90 (xm_o0) rfl ?_
      refine e_iload_n dX0_pairRight_78 2 rfl rfl ?_
      refine e_aload_n dX0_pairRight_79 0 rfl rfl rfl ?_
      refine e_getf (v := (.ref 33)) dX0_pairRight_80 rfl fX0_93 (xm_o0) rfl ?_
      refine e_iconst 1 dX0_pairRight_83 rfl ?_
      refine e_aaldA (f := riF) (j := 1) dX0_pairRight_84 xm_r33 rfl (by omega) (by decide) ?_
      refine e_top (congrArg rfO (riF_at (by omega))) ?_
      refine e_iload dX0_pairRight_85 rfl ?_
      refine e_iald (f := ξ1.2.2.1 421) (j := y) dX0_pairRight_87 (xm_i (j := 1) (by decide)) rfl (by omega) (by decide) ?_
      refine e_top (congrArg Value.int (hV1.2 y (by assumption))) ?_
      refine e_i2l dX0_pairRight_88 ?_
      refine e_last (f := ξ1.2.2.2.1 30) (j := d) dX0_pairRight_89 (xm_a30) rfl (by omega) (by decide) ?_
      rw [xm_s30]
      refine e_aload_n dX0_pairRight_90 0 rfl rfl rfl ?_
      refine e_iload_n dX0_pairRight_91 1 rfl rfl ?_
      refine e_callVB (As := [.int (nI a)]) (rest := []) dX0_pairRight_92 rfl mvX0_431 (xm_o0) rfl (x_isSmoothBy (ξ := xB ξ1 30 (vp_updL (ξ1.2.2.2.1 30) d (((corL (xs d)).2 y).toInt64))) hn hk hkn ((congrFun hS.1 35).trans hN) ((congrFun hS.1 36).trans hK) ((congrFun hS.1 37).trans hBd) (a := a) (by omega)) (Nat.le_of_ble_eq_true rfl) rfl rfl (Nat.le_of_ble_eq_true rfl) (Nat.zero_le _) (Nat.zero_le _) (fun h92 => ?_) (fun h92 => ?_)
      · have h92 : (byB n k b (vp_updL (ξ1.2.2.2.1 30) d (((corL (xs d)).2 y).toInt64)) a = true) := h92
        refine e_if_eq_f (by decide) 135 dX0_pairRight_95 (by decide) ?_
        refine e_aload_n dX0_pairRight_98 0 rfl rfl rfl ?_
        refine e_iload_n dX0_pairRight_99 2 rfl rfl ?_
        refine e_callVB (As := [.int (nI d)]) (rest := []) dX0_pairRight_100 rfl mvX0_431 (xm_o0) rfl (x_isSmoothBy (ξ := xB ξ1 30 (vp_updL (ξ1.2.2.2.1 30) d (((corL (xs d)).2 y).toInt64))) hn hk hkn ((congrFun hS.1 35).trans hN) ((congrFun hS.1 36).trans hK) ((congrFun hS.1 37).trans hBd) (a := d) (by omega)) (Nat.le_of_ble_eq_true rfl) rfl rfl (Nat.le_of_ble_eq_true rfl) (Nat.zero_le _) (Nat.zero_le _) (fun h100 => ?_) (fun h100 => ?_)
        · have h100 : (byB n k b (vp_updL (ξ1.2.2.2.1 30) d (((corL (xs d)).2 y).toInt64)) d = true) := h100
          refine e_if_ne_t 109 (by decide) dX0_pairRight_103 (by decide) ?_
          refine e_aload_n dX0_pairRight_109 0 rfl rfl rfl ?_
          refine e_iload_n dX0_pairRight_110 1 rfl rfl ?_
          refine e_aload_n dX0_pairRight_111 0 rfl rfl rfl ?_
          refine e_getf (v := (.ref 33)) dX0_pairRight_112 rfl fX0_93 (xm_o0) rfl ?_
          refine e_iconst 0 dX0_pairRight_115 rfl ?_
          refine e_aaldA (f := riF) (j := 0) dX0_pairRight_116 xm_r33 rfl (by omega) (by decide) ?_
          refine e_top (congrArg rfO (riF_at (by omega))) ?_
          refine e_iload dX0_pairRight_117 rfl ?_
          refine e_iald (f := ξ1.2.2.1 420) (j := x) dX0_pairRight_119 (xm_i (j := 0) (by decide)) rfl (by omega) (by decide) ?_
          refine e_top (congrArg Value.int (hV0.2 x (by assumption))) ?_
          refine e_iload_n dX0_pairRight_120 2 rfl rfl ?_
          refine e_aload_n dX0_pairRight_121 0 rfl rfl rfl ?_
          refine e_getf (v := (.ref 33)) dX0_pairRight_122 rfl fX0_93 (xm_o0) rfl ?_
          refine e_iconst 1 dX0_pairRight_125 rfl ?_
          refine e_aaldA (f := riF) (j := 1) dX0_pairRight_126 xm_r33 rfl (by omega) (by decide) ?_
          refine e_top (congrArg rfO (riF_at (by omega))) ?_
          refine e_iload dX0_pairRight_127 rfl ?_
          refine e_iald (f := ξ1.2.2.1 421) (j := y) dX0_pairRight_129 (xm_i (j := 1) (by decide)) rfl (by omega) (by decide) ?_
          refine e_top (congrArg Value.int (hV1.2 y (by assumption))) ?_
          refine e_callV0 (As := [.int (nI a), .int ((corL (xs a)).2 x), .int (nI d), .int ((corL (xs d)).2 y)]) (rest := []) dX0_pairRight_130 rfl mvX0_434 (xm_o0) rfl (x_found (ξ := (xB ξ1 30 (vp_updL (ξ1.2.2.2.1 30) d (((corL (xs d)).2 y).toInt64)))) (nI a) ((corL (xs a)).2 x) (nI d) ((corL (xs d)).2 y)) (Nat.le_of_ble_eq_true rfl) rfl rfl (Nat.le_of_ble_eq_true rfl) (Nat.zero_le _) (Nat.zero_le _) ?_
          refine e_iconst 1 dX0_pairRight_133 rfl ?_
          refine e_ireturn dX0_pairRight_134 rfl rfl (Nat.zero_le _) (Nat.zero_le _) ?_
          have eB : (byB n k b (vp_updL (ξ1.2.2.2.1 30) d ((corL (xs d)).2 y).toInt64) a && byB n k b (vp_updL (ξ1.2.2.2.1 30) d ((corL (xs d)).2 y).toInt64) d) = pwP n k b T xs a d x y := by
            rw [hS.2.1, updL_updL]
            exact by_two hkn hel _ _
          exact hQ y _ _ h71 (by rw [← eB, h92, h100]; rfl) hno (hS.tab _)
        · have h100 : ¬ (byB n k b (vp_updL (ξ1.2.2.2.1 30) d (((corL (xs d)).2 y).toInt64)) d = true) := h100
          refine e_if_ne_f (by decide) 109 dX0_pairRight_103 (by decide) ?_
          refine e_goto 135 dX0_pairRight_106 (by decide) ?_
          refine e_incN y (y + 1) (inc1 _) dX0_pairRight_135 rfl (ls_s (ls_s (ls_s (ls_s (ls_s (ls_1 rfl)))))) (Nat.le_of_ble_eq_true rfl) ?_
          refine e_goto 63 dX0_pairRight_138 (by decide) ?_
          have eB : (byB n k b (vp_updL (ξ1.2.2.2.1 30) d ((corL (xs d)).2 y).toInt64) a && byB n k b (vp_updL (ξ1.2.2.2.1 30) d ((corL (xs d)).2 y).toInt64) d) = pwP n k b T xs a d x y := by
            rw [hS.2.1, updL_updL]
            exact by_two hkn hel _ _
          refine ih (y + 1) (xB ξ1 30 (vp_updL (ξ1.2.2.2.1 30) d ((corL (xs d)).2 y).toInt64)) ((corL (xs d)).2 y).toInt64 (by omega) (by omega) ?_ hV0 hV1 ?_ hQ hE
          · have := hS.tab (vp_updL (ξ1.2.2.2.1 30) d ((corL (xs d)).2 y).toInt64)
            rw [hS.2.1, updL_updL] at this
            rw [hS.2.1, updL_updL]
            exact this
          · intro j hj
            by_cases e : j = y
            · subst e
              rw [← eB, eq_false_of_ne_true h100, Bool.and_false]
            · exact hno j (by omega)
      · have h92 : ¬ (byB n k b (vp_updL (ξ1.2.2.2.1 30) d (((corL (xs d)).2 y).toInt64)) a = true) := h92
        refine e_if_eq_t 135 (by decide) dX0_pairRight_95 (by decide) ?_
        refine e_incN y (y + 1) (inc1 _) dX0_pairRight_135 rfl (ls_s (ls_s (ls_s (ls_s (ls_s (ls_1 rfl)))))) (Nat.le_of_ble_eq_true rfl) ?_
        refine e_goto 63 dX0_pairRight_138 (by decide) ?_
        have eB : (byB n k b (vp_updL (ξ1.2.2.2.1 30) d ((corL (xs d)).2 y).toInt64) a && byB n k b (vp_updL (ξ1.2.2.2.1 30) d ((corL (xs d)).2 y).toInt64) d) = pwP n k b T xs a d x y := by
          rw [hS.2.1, updL_updL]
          exact by_two hkn hel _ _
        refine ih (y + 1) (xB ξ1 30 (vp_updL (ξ1.2.2.2.1 30) d ((corL (xs d)).2 y).toInt64)) ((corL (xs d)).2 y).toInt64 (by omega) (by omega) ?_ hV0 hV1 ?_ hQ hE
        · have := hS.tab (vp_updL (ξ1.2.2.2.1 30) d ((corL (xs d)).2 y).toInt64)
          rw [hS.2.1, updL_updL] at this
          rw [hS.2.1, updL_updL]
          exact this
        · intro j hj
          by_cases e : j = y
          · subst e
            rw [← eB, eq_false_of_ne_true h92, Bool.false_and]
          · exact hno j (by omega)

set_option maxHeartbeats 4000000 in
set_option maxRecDepth 100000 in
/-- a loop of pairRight -/
theorem x_pair_out {ξ : Xs} {xs : Nat → Nat} {T : Nat → Int64} {mid dyn : List ACell} {n k : Nat} {b : Int32} (hn : n ≤ 20) (hk : 1 ≤ k ∧ k ≤ 4) (hkn : k < n) (hN : ξ.1 35 = nI n) (hK : ξ.1 36 = nI k) (hBd : ξ.1 37 = b) (hxs : ∀ i, i < n → xs i ≤ 99999999 ∧ T i = lN (xs i)) {a d : Nat} (ha : a < n) (hd : d < n) (had : ¬ a = d) (hel : elN n k b T a d = true) {Q : Qfun} : ∀ (fuel : Nat) (x : Nat) (ξ1 : Xs) (c : Int64) (e : Int64), x ≤ (corL (xs a)).1 → (corL (xs a)).1 < x + fuel → ErS ξ (vp_updL (vp_updL T a c) d e) ξ1 → Erv 0 (corL (xs a)) ξ1 → Erv 1 (corL (xs d)) ξ1 → (∀ i, i < x → ∀ j, j < (corL (xs d)).1 → pwP n k b T xs a d i j = false) → (∀ x y ξ2 U, x < (corL (xs a)).1 → y < (corL (xs d)).1 → pwP n k b T xs a d x y = true → (∀ x', x' < x → ∀ y', y' < (corL (xs d)).1 → pwP n k b T xs a d x' y' = false) → (∀ y', y' < y → pwP n k b T xs a d x y' = false) → ErS ξ U ξ2 → Q (some (.int 1)) (XM (fdX ξ2 (nI a) ((corL (xs a)).2 x) (nI d) ((corL (xs d)).2 y)) mid dyn)) → (∀ ξ2, ErS ξ T ξ2 → (∀ i, i < (corL (xs a)).1 → ∀ j, j < (corL (xs d)).1 → pwP n k b T xs a d i j = false) → Q (some (.int 0)) (XM ξ2 mid dyn)) →
    E cX0_pairRight (RX0, (some .boolean), 7, 3, (0, 0), false, []) Q noX 0 0 33 [some (.ref 0), some (.int (nI a)), some (.int (nI d)), some (.int (nI (xs a))), some (.int (nI (xs d))), some (.int (nI x)), none] [] (XM ξ1 mid dyn) := by
  intro fuel
  induction fuel with
  | zero => intro x ξ1 c e hx hf hS hV0 hV1 hno hQ hE; exact absurd hf (by omega)
  | succ fuel ih =>
    intro x ξ1 c e hx hf hS hV0 hV1 hno hQ hE
    have hm79 : (corL (xs a)).1 ≤ 79 := rgM_le xs a
    have hn79 : (corL (xs d)).1 ≤ 79 := rgM_le xs d
    have hxa := (hxs a ha).1
    have hxd := (hxs d hd).1
    refine e_iload dX0_pairRight_33 rfl ?_
    refine e_aload_n dX0_pairRight_35 0 rfl rfl rfl ?_
    refine e_getf (v := (.ref 36)) dX0_pairRight_36 rfl fX0_96 (xm_o0) rfl ?_
    refine e_iconst 0 dX0_pairRight_39 rfl ?_
    refine e_iald (f := ξ1.2.2.1 32) (j := 0) dX0_pairRight_40 (xm_a32) rfl (by omega) (by decide) ?_
    refine e_top (congrArg Value.int hV0.1) ?_
    refine e_icmp_geN x ((corL (xs a)).1) 147 (by omega) (by omega) dX0_pairRight_41 (by decide) (fun h41 => ?_) (fun h41 => ?_)
    · refine e_aload_n dX0_pairRight_147 0 rfl rfl rfl ?_
      refine e_getf (v := (.ref 32)) dX0_pairRight_148 rfl fX0_90 (xm_o0) rfl ?_
      refine e_iload_n dX0_pairRight_151 1 rfl rfl ?_
      refine e_iload_n dX0_pairRight_152 3 rfl rfl ?_
      refine e_i2lN (xs a) (by omega) dX0_pairRight_153 ?_
      refine e_last (f := ξ1.2.2.2.1 30) (j := a) dX0_pairRight_154 (xm_a30) rfl (by omega) (by decide) ?_
      rw [xm_s30]
      refine e_aload_n dX0_pairRight_155 0 rfl rfl rfl ?_
      refine e_getf (v := (.ref 32)) dX0_pairRight_156 rfl fX0_90 (xm_o0) rfl ?_
      refine e_iload_n dX0_pairRight_159 2 rfl rfl ?_
      refine e_iload dX0_pairRight_160 rfl ?_
      refine e_i2lN (xs d) (by omega) dX0_pairRight_162 ?_
      refine e_last (f := (vp_updL (ξ1.2.2.2.1 30) a (lN (xs a)))) (j := d) dX0_pairRight_163 (xm_a30) rfl (by omega) (by decide) ?_
      rw [xm_s30]
      refine e_iconst 0 dX0_pairRight_164 rfl ?_
      refine e_ireturn dX0_pairRight_165 rfl rfl (Nat.zero_le _) (Nat.zero_le _) ?_
      refine hE _ ?_ (fun i hi => hno i (by omega))
      have := hS.tab (vp_updL (vp_updL (ξ1.2.2.2.1 30) a (lN (xs a))) d (lN (xs d)))
      have e1 : vp_updL (vp_updL (ξ1.2.2.2.1 30) a (lN (xs a))) d (lN (xs d)) = T := by
        rw [hS.2.1, updL_cm had, ← (hxs a ha).2, updL_updL, updL_id, ← (hxs d hd).2, updL_id]
      rw [e1] at this
      rw [xB_xB, e1]
      exact this
    · have h41 : x < (corL (xs a)).1 := Nat.lt_of_not_le h41
      refine e_aload_n dX0_pairRight_44 0 rfl rfl rfl ?_
      refine e_getf (v := (.ref 32)) dX0_pairRight_45 rfl fX0_90 (xm_o0) rfl ?_
      refine e_iload_n dX0_pairRight_48 1 rfl rfl ?_
      refine e_aload_n dX0_pairRight_49 0 rfl rfl rfl ?_
      refine e_getf (v := (.ref 33)) dX0_pairRight_50 rfl fX0_93 (xm_o0) rfl ?_
      refine e_iconst 0 dX0_pairRight_53 rfl ?_
      refine e_aaldA (f := riF) (j := 0) dX0_pairRight_54 xm_r33 rfl (by omega) (by decide) ?_
      refine e_top (congrArg rfO (riF_at (by omega))) ?_
      refine e_iload dX0_pairRight_55 rfl ?_
      refine e_iald (f := ξ1.2.2.1 420) (j := x) dX0_pairRight_57 (xm_i (j := 0) (by decide)) rfl (by omega) (by decide) ?_
      refine e_top (congrArg Value.int (hV0.2 x (by assumption))) ?_
      refine e_i2l dX0_pairRight_58 ?_
      refine e_last (f := ξ1.2.2.2.1 30) (j := a) dX0_pairRight_59 (xm_a30) rfl (by omega) (by decide) ?_
      rw [xm_s30]
      refine e_iconst 0 dX0_pairRight_60 rfl ?_
      refine e_istore dX0_pairRight_61 (ls_s (ls_s (ls_s (ls_s (ls_s (ls_1 rfl)))))) (Nat.le_of_ble_eq_true rfl) ?_
      have hS2 : ErS ξ (vp_updL (vp_updL T a ((corL (xs a)).2 x).toInt64) d e) (xB ξ1 30 (vp_updL (ξ1.2.2.2.1 30) a ((corL (xs a)).2 x).toInt64)) := by
        have := hS.tab (vp_updL (ξ1.2.2.2.1 30) a ((corL (xs a)).2 x).toInt64)
        rw [hS.2.1, updL_cm had] at this
        rw [hS.2.1, updL_cm had]
        exact this
      refine x_pair_in hn hk hkn hN hK hBd hxs ha hd had hel h41 ((corL (xs d)).1 + 1) 0 (xB ξ1 30 (vp_updL (ξ1.2.2.2.1 30) a ((corL (xs a)).2 x).toInt64)) e (Nat.zero_le _) (by omega) hS2 hV0 hV1 (fun j hj => absurd hj (Nat.not_lt_zero j)) (fun y ξ2 U hy hm1 hm2 hS4 => hQ x y ξ2 U h41 hy hm1 hno hm2 hS4) (fun ξ3 e3 hS3 hV03 hV13 hno3 => ?_)
      refine e_incN x (x + 1) (inc1 _) dX0_pairRight_141 rfl (ls_s (ls_s (ls_s (ls_s (ls_1 rfl))))) (Nat.le_of_ble_eq_true rfl) ?_
      refine e_goto 33 dX0_pairRight_144 (by decide) ?_
      refine ih (x + 1) ξ3 _ _ (by omega) (by omega) hS3 hV03 hV13 ?_ hQ hE
      intro i hi
      by_cases e : i = x
      · subst e; exact hno3
      · exact hno i (by omega)

set_option maxHeartbeats 4000000 in
set_option maxRecDepth 100000 in
/-- WheelTables.pairRight -/
theorem x_pairRight {ξ : Xs} {xs : Nat → Nat} {T : Nat → Int64} {mid dyn : List ACell} {n k : Nat} {b : Int32} (hn : n ≤ 20) (hk : 1 ≤ k ∧ k ≤ 4) (hkn : k < n) (hN : ξ.1 35 = nI n) (hK : ξ.1 36 = nI k) (hBd : ξ.1 37 = b) (hxs : ∀ i, i < n → xs i ≤ 99999999 ∧ T i = lN (xs i)) {a d : Nat} (ha : a < n) (hd : d < n) (had : ¬ a = d) {ξ1 : Xs} (hS : ErS ξ T ξ1) (hel : elN n k b T a d = true) : Ct yX0_pairRight (ws_ yX0_pairRight cX0_pairRight 7 (some .boolean)) 3 0 0 [.ref 0, .int (nI a), .int (nI d)] (XM ξ1 mid dyn) (fun v N => (∃ m ξ2 U, spTwo n k b T xs a d = some m ∧ ErS ξ U ξ2 ∧ v = some (.int 1) ∧ N = XM (fdX ξ2 (nI a) ((corL (xs a)).2 (m / rgM xs d)) (nI d) ((corL (xs d)).2 (m % rgM xs d))) mid dyn) ∨ (∃ ξ2, ErS ξ T ξ2 ∧ spTwo n k b T xs a d = none ∧ v = some (.int 0) ∧ N = XM ξ2 mid dyn)) noX := by
  refine Ct.of (ini := false) (ls := [some (.ref 0), some (.int (nI a)), some (.int (nI d)), none, none, none, none]) (by decide) (Nat.le_of_ble_eq_true rfl) (fun h => by cases h) rfl ?_
  refine e_aload_n dX0_pairRight_0 0 rfl rfl rfl ?_
  refine e_getf (v := (.ref 32)) dX0_pairRight_1 rfl fX0_90 (xm_o0) rfl ?_
  refine e_iload_n dX0_pairRight_4 1 rfl rfl ?_
  refine e_lald (f := ξ1.2.2.2.1 30) (j := a) dX0_pairRight_5 (xm_a30) rfl (by omega) (by decide) ?_
  refine e_top (congrArg Value.long ((congrFun hS.2.1 a).trans (hxs a (by omega)).2)) ?_
  refine e_l2i dX0_pairRight_6 ?_
  refine e_top (w := .int (nI (xs a))) (congrArg Value.int (lN_i32 (Nat.lt_of_le_of_lt (hxs a (by omega)).1 (by decide)))) ?_
  refine e_istore_n dX0_pairRight_7 3 rfl (ls_s (ls_s (ls_1 rfl))) (Nat.le_of_ble_eq_true rfl) ?_
  refine e_aload_n dX0_pairRight_8 0 rfl rfl rfl ?_
  refine e_getf (v := (.ref 32)) dX0_pairRight_9 rfl fX0_90 (xm_o0) rfl ?_
  refine e_iload_n dX0_pairRight_12 2 rfl rfl ?_
  refine e_lald (f := ξ1.2.2.2.1 30) (j := d) dX0_pairRight_13 (xm_a30) rfl (by omega) (by decide) ?_
  refine e_top (congrArg Value.long ((congrFun hS.2.1 d).trans (hxs d (by omega)).2)) ?_
  refine e_l2i dX0_pairRight_14 ?_
  refine e_top (w := .int (nI (xs d))) (congrArg Value.int (lN_i32 (Nat.lt_of_le_of_lt (hxs d (by omega)).1 (by decide)))) ?_
  refine e_istore dX0_pairRight_15 (ls_s (ls_s (ls_s (ls_1 rfl)))) (Nat.le_of_ble_eq_true rfl) ?_
  refine e_aload_n dX0_pairRight_17 0 rfl rfl rfl ?_
  refine e_iconst 0 dX0_pairRight_18 rfl ?_
  refine e_iload_n dX0_pairRight_19 3 rfl rfl ?_
  refine e_callVQ (As := [.int 0, .int (nI (xs a))]) (rest := []) dX0_pairRight_20 rfl mvX0_428 (xm_o0) rfl (x_corrects (ξ := ξ1) (i := 0) (x := xs a) (by decide) (hxs a (by omega)).1) (Nat.le_of_ble_eq_true rfl) rfl rfl (Nat.le_of_ble_eq_true rfl) (Nat.zero_le _) (Nat.zero_le _) (fun v0 M0 h0_ _ => ?_)
  obtain ⟨ξ2, rfl, rfl, hV0, hX0⟩ := h0_
  refine e_aload_n dX0_pairRight_23 0 rfl rfl rfl ?_
  refine e_iconst 1 dX0_pairRight_24 rfl ?_
  refine e_iload dX0_pairRight_25 rfl ?_
  refine e_callVQ (As := [.int 1, .int (nI (xs d))]) (rest := []) dX0_pairRight_27 rfl mvX0_428 (xm_o0) rfl (x_corrects (ξ := ξ2) (i := 1) (x := xs d) (by decide) (hxs d (by omega)).1) (Nat.le_of_ble_eq_true rfl) rfl rfl (Nat.le_of_ble_eq_true rfl) (Nat.zero_le _) (Nat.zero_le _) (fun v0 M0 h0_ _ => ?_)
  obtain ⟨ξ3, rfl, rfl, hV1, hX1⟩ := h0_
  refine e_iconst 0 dX0_pairRight_30 rfl ?_
  refine e_istore dX0_pairRight_31 (ls_s (ls_s (ls_s (ls_s (ls_1 rfl))))) (Nat.le_of_ble_eq_true rfl) ?_
  refine x_pair_out hn hk hkn hN hK hBd hxs ha hd had hel ((corL (xs a)).1 + 1) 0 ξ3 (T a) (T d) (Nat.zero_le _) (by omega) (by rw [updL_id, updL_id]; exact (hS.erx hX0 (by decide)).erx hX1 (by decide)) (hV0.erx hX1) hV1 (fun i hi => absurd hi (Nat.not_lt_zero i)) (fun x y ξ4 U h1 h2 h3 h4 h5 h6 => ?_) (fun ξ4 h1 h2 => Or.inr ⟨ξ4, h1, ?_, rfl, rfl⟩)
  · have e1 : spTwo n k b T xs a d = some (x * (corL (xs d)).1 + y) := by
      unfold spTwo
      rw [if_pos hel]
      exact fst2_some (f := pwP n k b T xs a d) h1 h2 h3 h4 h5
    refine Or.inl ⟨_, ξ4, U, e1, h6, rfl, ?_⟩
    have hM : rgM xs d = (corL (xs d)).1 := rfl
    rw [hM, (dm_mul h2).1, (dm_mul h2).2]
  · unfold spTwo
    rw [if_pos hel]
    exact fst2_none (f := pwP n k b T xs a d) h2

set_option maxHeartbeats 4000000 in
set_option maxRecDepth 100000 in
/-- a loop of twoRight -/
theorem x_two_in {ξ : Xs} {xs : Nat → Nat} {T : Nat → Int64} {mid dyn : List ACell} {n k : Nat} {b : Int32} (hn : n ≤ 20) (hk : 1 ≤ k ∧ k ≤ 4) (hkn : k < n) (hN : ξ.1 35 = nI n) (hK : ξ.1 36 = nI k) (hBd : ξ.1 37 = b) (hxs : ∀ i, i < n → xs i ≤ 99999999 ∧ T i = lN (xs i)) {a : Nat} (ha : a < n) (hno1 : ∀ i, i < a → ∀ j, j < n → (fun a d => decide (a < d) && (spTwo n k b T xs a d).isSome) i j = false) {Q : Qfun} : ∀ (fuel : Nat) (d : Nat) (ξ1 : Xs), a < d ∧ d ≤ n → n < d + fuel → ErS ξ T ξ1 → (∀ j, j < d → (fun a d => decide (a < d) && (spTwo n k b T xs a d).isSome) a j = false) → (∀ a d m ξ2 U, a < d → d < n → spTwo n k b T xs a d = some m → (∀ i, i < a → ∀ j, j < n → (fun a d => decide (a < d) && (spTwo n k b T xs a d).isSome) i j = false) → (∀ j, j < d → (fun a d => decide (a < d) && (spTwo n k b T xs a d).isSome) a j = false) → ErS ξ U ξ2 → Q (some (.int 1)) (XM (fdX ξ2 (nI a) ((corL (xs a)).2 (m / rgM xs d)) (nI d) ((corL (xs d)).2 (m % rgM xs d))) mid dyn)) → (∀ ξ2, ErS ξ T ξ2 → (∀ j, j < n → (fun a d => decide (a < d) && (spTwo n k b T xs a d).isSome) a j = false) → E cX0_twoRight (RX0, (some .boolean), 3, 4, (0, 0), false, []) Q noX 0 0 51 [some (.ref 0), some (.int (nI a)), none] [] (XM ξ2 mid dyn)) →
    E cX0_twoRight (RX0, (some .boolean), 3, 4, (0, 0), false, []) Q noX 0 0 14 [some (.ref 0), some (.int (nI a)), some (.int (nI d))] [] (XM ξ1 mid dyn) := by
  intro fuel
  induction fuel with
  | zero => intro d ξ1 hd hf hS hno2 hQ hE; exact absurd hf (by omega)
  | succ fuel ih =>
    intro d ξ1 hd hf hS hno2 hQ hE
    refine e_iload_n dX0_twoRight_14 2 rfl rfl ?_
    refine e_aload_n dX0_twoRight_15 0 rfl rfl rfl ?_
    refine e_getf (v := (.int (ξ1.1 35))) dX0_twoRight_16 rfl fX0_415 (xm_o0) rfl ?_
    refine e_top (congrArg Value.int ((congrFun hS.1 35).trans hN)) ?_
    refine e_icmp_geN d n 51 (by omega) (by omega) dX0_twoRight_19 (by decide) (fun h19 => ?_) (fun h19 => ?_)
    · refine e_forget (i := 2) (ln_s (ln_s ln_0)) ?_
      exact hE ξ1 hS (fun j hj => hno2 j (by omega))
    · refine e_aload_n dX0_twoRight_22 0 rfl rfl rfl ?_
      refine e_iload_n dX0_twoRight_23 1 rfl rfl ?_
      refine e_iload_n dX0_twoRight_24 2 rfl rfl ?_
      refine e_callVB (As := [.int (nI a), .int (nI d)]) (rest := []) dX0_twoRight_25 rfl mvX0_424 (xm_o0) rfl (x_areAll (ξ := ξ1) hn hk hkn ((congrFun hS.1 35).trans hN) ((congrFun hS.1 36).trans hK) ((congrFun hS.1 37).trans hBd) (nI a) (nI d)) (Nat.le_of_ble_eq_true rfl) rfl rfl (Nat.le_of_ble_eq_true rfl) (Nat.zero_le _) (Nat.zero_le _) (fun h25 => ?_) (fun h25 => ?_)
      · have h25 : (alB n k b (ξ1.2.2.2.1 30) (nI a) (nI d) = true) := h25
        refine e_if_ne_t 34 (by decide) dX0_twoRight_28 (by decide) ?_
        refine e_aload_n dX0_twoRight_34 0 rfl rfl rfl ?_
        refine e_iload_n dX0_twoRight_35 1 rfl rfl ?_
        refine e_iload_n dX0_twoRight_36 2 rfl rfl ?_
        refine e_callVQ (As := [.int (nI a), .int (nI d)]) (rest := []) dX0_twoRight_37 rfl mvX0_437 (xm_o0) rfl (x_pairRight hn hk hkn hN hK hBd hxs (a := a) (d := d) (by omega) (by omega) (by omega) hS (by rw [hS.2.1, alB_el hn (by omega) (by omega)] at h25; exact h25)) (Nat.le_of_ble_eq_true rfl) rfl rfl (Nat.le_of_ble_eq_true rfl) (Nat.zero_le _) (Nat.zero_le _) (fun v0 M0 h0_ _ => ?_)
        rcases h0_ with ⟨m, ξ2, U, e1, hS2, rfl, rfl⟩ | ⟨ξ2, hS2, e1, rfl, rfl⟩
        · refine e_if_eq_f (by decide) 45 dX0_twoRight_40 (by decide) ?_
          refine e_iconst 1 dX0_twoRight_43 rfl ?_
          refine e_ireturn dX0_twoRight_44 rfl rfl (Nat.zero_le _) (Nat.zero_le _) ?_
          exact hQ a d m ξ2 U hd.1 (by omega) e1 hno1 hno2 hS2
        · refine e_if_eq_t 45 (by decide) dX0_twoRight_40 (by decide) ?_
          refine e_incN d (d + 1) (inc1 _) dX0_twoRight_45 rfl (ls_s (ls_1 rfl)) (Nat.le_of_ble_eq_true rfl) ?_
          refine e_goto 14 dX0_twoRight_48 (by decide) ?_
          refine ih (d + 1) ξ2 (by omega) (by omega) hS2 ?_ hQ hE
          intro j hj
          by_cases e : j = d
          · subst e
            show (decide (a < j) && (spTwo n k b T xs a j).isSome) = false
            rw [e1]
            exact Bool.and_false _
          · exact hno2 j (by omega)
      · have h25 : ¬ (alB n k b (ξ1.2.2.2.1 30) (nI a) (nI d) = true) := h25
        refine e_if_ne_f (by decide) 34 dX0_twoRight_28 (by decide) ?_
        refine e_goto 45 dX0_twoRight_31 (by decide) ?_
        refine e_incN d (d + 1) (inc1 _) dX0_twoRight_45 rfl (ls_s (ls_1 rfl)) (Nat.le_of_ble_eq_true rfl) ?_
        refine e_goto 14 dX0_twoRight_48 (by decide) ?_
        have e1 : spTwo n k b T xs a d = none := by
          unfold spTwo
          rw [hS.2.1, alB_el hn (by omega) (by omega)] at h25
          rw [if_neg h25]
        refine ih (d + 1) ξ1 (by omega) (by omega) hS ?_ hQ hE
        intro j hj
        by_cases e : j = d
        · subst e
          show (decide (a < j) && (spTwo n k b T xs a j).isSome) = false
          rw [e1]
          exact Bool.and_false _
        · exact hno2 j (by omega)

set_option maxHeartbeats 4000000 in
set_option maxRecDepth 100000 in
/-- a loop of twoRight -/
theorem x_two_out {ξ : Xs} {xs : Nat → Nat} {T : Nat → Int64} {mid dyn : List ACell} {n k : Nat} {b : Int32} (hn : n ≤ 20) (hk : 1 ≤ k ∧ k ≤ 4) (hkn : k < n) (hN : ξ.1 35 = nI n) (hK : ξ.1 36 = nI k) (hBd : ξ.1 37 = b) (hxs : ∀ i, i < n → xs i ≤ 99999999 ∧ T i = lN (xs i)) {Q : Qfun} : ∀ (fuel : Nat) (a : Nat) (ξ1 : Xs), a ≤ n → n < a + fuel → ErS ξ T ξ1 → (∀ i, i < a → ∀ j, j < n → (fun a d => decide (a < d) && (spTwo n k b T xs a d).isSome) i j = false) → (∀ a d m ξ2 U, a < d → d < n → spTwo n k b T xs a d = some m → (∀ i, i < a → ∀ j, j < n → (fun a d => decide (a < d) && (spTwo n k b T xs a d).isSome) i j = false) → (∀ j, j < d → (fun a d => decide (a < d) && (spTwo n k b T xs a d).isSome) a j = false) → ErS ξ U ξ2 → Q (some (.int 1)) (XM (fdX ξ2 (nI a) ((corL (xs a)).2 (m / rgM xs d)) (nI d) ((corL (xs d)).2 (m % rgM xs d))) mid dyn)) → (∀ ξ2, ErS ξ T ξ2 → (∀ i, i < n → ∀ j, j < n → (fun a d => decide (a < d) && (spTwo n k b T xs a d).isSome) i j = false) → Q (some (.int 0)) (XM ξ2 mid dyn)) →
    E cX0_twoRight (RX0, (some .boolean), 3, 4, (0, 0), false, []) Q noX 0 0 2 [some (.ref 0), some (.int (nI a)), none] [] (XM ξ1 mid dyn) := by
  intro fuel
  induction fuel with
  | zero => intro a ξ1 ha hf hS hno hQ hE; exact absurd hf (by omega)
  | succ fuel ih =>
    intro a ξ1 ha hf hS hno hQ hE
    refine e_iload_n dX0_twoRight_2 1 rfl rfl ?_
    refine e_aload_n dX0_twoRight_3 0 rfl rfl rfl ?_
    refine e_getf (v := (.int (ξ1.1 35))) dX0_twoRight_4 rfl fX0_415 (xm_o0) rfl ?_
    refine e_top (congrArg Value.int ((congrFun hS.1 35).trans hN)) ?_
    refine e_icmp_geN a n 57 (by omega) (by omega) dX0_twoRight_7 (by decide) (fun h7 => ?_) (fun h7 => ?_)
    · refine e_iconst 0 dX0_twoRight_57 rfl ?_
      refine e_ireturn dX0_twoRight_58 rfl rfl (Nat.zero_le _) (Nat.zero_le _) ?_
      exact hE ξ1 hS (fun i hi => hno i (by omega))
    · refine e_iload_n dX0_twoRight_10 1 rfl rfl ?_
      refine e_iconst 1 dX0_twoRight_11 rfl ?_
      refine e_iaddN a 1 dX0_twoRight_12 ?_
      refine e_istore_n dX0_twoRight_13 2 rfl (ls_s (ls_1 rfl)) (Nat.le_of_ble_eq_true rfl) ?_
      refine x_two_in hn hk hkn hN hK hBd hxs (by omega) hno (n + 1) (a + 1) ξ1 (by omega) (by omega) hS (fun j hj => ?_) hQ (fun ξ2 hS2 hno2 => ?_)
      · show (decide (a < j) && (spTwo n k b T xs a j).isSome) = false
        rw [decide_eq_false (by omega)]
        rfl
      refine e_incN a (a + 1) (inc1 _) dX0_twoRight_51 rfl (ls_1 rfl) (Nat.le_of_ble_eq_true rfl) ?_
      refine e_goto 2 dX0_twoRight_54 (by decide) ?_
      
      refine ih (a + 1) ξ2 (by omega) (by omega) hS2 ?_ hQ hE
      intro i hi
      by_cases e : i = a
      · subst e; exact hno2
      · exact hno i (by omega)

set_option maxHeartbeats 4000000 in
set_option maxRecDepth 100000 in
/-- WheelTables.twoRight -/
theorem x_twoRight {ξ : Xs} {xs : Nat → Nat} {T : Nat → Int64} {mid dyn : List ACell} {n k : Nat} {b : Int32} (hn : n ≤ 20) (hk : 1 ≤ k ∧ k ≤ 4) (hkn : k < n) (hN : ξ.1 35 = nI n) (hK : ξ.1 36 = nI k) (hBd : ξ.1 37 = b) (hxs : ∀ i, i < n → xs i ≤ 99999999 ∧ T i = lN (xs i)) {ξ1 : Xs} (hS : ErS ξ T ξ1) : Ct yX0_twoRight (ws_ yX0_twoRight cX0_twoRight 3 (some .boolean)) 4 0 0 [.ref 0] (XM ξ1 mid dyn) (fun v N => (∃ q m ξ2 U, q / n < n ∧ q % n < n ∧ spFst2 n k b T xs = some q ∧ spTwo n k b T xs (q / n) (q % n) = some m ∧ ErS ξ U ξ2 ∧ v = some (.int 1) ∧ N = XM (fdX ξ2 (nI (q / n)) ((corL (xs (q / n))).2 (m / rgM xs (q % n))) (nI (q % n)) ((corL (xs (q % n))).2 (m % rgM xs (q % n)))) mid dyn) ∨ (∃ ξ2, ErS ξ T ξ2 ∧ spFst2 n k b T xs = none ∧ v = some (.int 0) ∧ N = XM ξ2 mid dyn)) noX := by
  refine Ct.of (ini := false) (ls := [some (.ref 0), none, none]) (by decide) (Nat.le_of_ble_eq_true rfl) (fun h => by cases h) rfl ?_
  refine e_iconst 0 dX0_twoRight_0 rfl ?_
  refine e_istore_n dX0_twoRight_1 1 rfl (ls_1 rfl) (Nat.le_of_ble_eq_true rfl) ?_
  refine x_two_out hn hk hkn hN hK hBd hxs (n + 1) 0 ξ1 (Nat.zero_le _) (by omega) hS (fun i hi => absurd hi (Nat.not_lt_zero i)) (fun a d m ξ2 U had hd h2 h3 h4 h5 => ?_) (fun ξ2 h1 h2 => Or.inr ⟨ξ2, h1, fst2_none (f := (fun a d => decide (a < d) && (spTwo n k b T xs a d).isSome)) h2, rfl, rfl⟩)
  have e1 : spFst2 n k b T xs = some (a * n + d) := fst2_some (f := (fun a d => decide (a < d) && (spTwo n k b T xs a d).isSome)) (by omega) hd (by show (decide (a < d) && (spTwo n k b T xs a d).isSome) = true; rw [decide_eq_true had, h2]; rfl) h3 h4
  obtain ⟨q1, q2⟩ := dm_mul (x := a) hd
  exact Or.inl ⟨a * n + d, m, ξ2, U, by rw [q1]; omega, by rw [q2]; omega, e1, by rw [q1, q2]; exact h2, h5, rfl, by rw [q1, q2]⟩

