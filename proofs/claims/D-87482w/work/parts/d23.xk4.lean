/-! ===== the component: errata (4): one, two put right ===== -/
/-- what is put right is told -/
def fdX (ξ : Xs) (a v b u : Int32) : Xs := xA (xA ξ 33 (upd (upd (ξ.2.2.1 33) 0 a) 1 b)) 34 (upd (upd (ξ.2.2.1 34) 0 v) 1 u)
/-- errata's state: the table T; scratch but for it -/
def ErS (ξ : Xs) (T : Nat → Int64) (ξ' : Xs) : Prop := ξ'.1 = ξ.1 ∧ ξ'.2.2.2.1 30 = T ∧ Sy sI sA sB ξ' ξ
theorem ErS.erx {ξ a b : Xs} {T : Nat → Int64} {i : Nat} (h : ErS ξ T a) (hx : Erx i a b) (hi : i < 2) : ErS ξ T b := by
  obtain ⟨f, m, rfl, -⟩ := hx
  refine ⟨h.1, h.2.1, (h.2.2.A f ?_).A m (by decide)⟩
  unfold sA
  rw [Bool.or_eq_true]
  exact Or.inr (decide_eq_true (by omega))
theorem ErS.tab {ξ a : Xs} {T : Nat → Int64} (h : ErS ξ T a) (U : Nat → Int64) : ErS ξ U (xB a 30 U) := ⟨h.1, rfl, h.2.2.B U (by decide)⟩
theorem Erv.erx {a b : Xs} {l : LV} (h : Erv 0 l a) (hx : Erx 1 a b) : Erv 0 l b := by
  obtain ⟨f, m, rfl, hm⟩ := hx
  refine ⟨?_, fun q hq => h.2 q hq⟩
  show m 0 = _
  rw [hm 0 (by decide)]; exact h.1
theorem Erv.tab {a : Xs} {l : LV} {i : Nat} (h : Erv i l a) (U : Nat → Int64) : Erv i l (xB a 30 U) := h
theorem updL_cm {f : Nat → Int64} {a d : Nat} (h : ¬ a = d) (x y z : Int64) : vp_updL (vp_updL (vp_updL f a x) d y) a z = vp_updL (vp_updL f a z) d y := by
  funext j
  unfold vp_updL
  by_cases h1 : j = a
  · rw [if_pos h1, if_neg (fun e => h (h1.symm.trans e)), if_pos h1]
  · rw [if_neg h1]
    by_cases h2 : j = d
    · rw [if_pos h2, if_pos h2]
    · rw [if_neg h2, if_neg h1, if_neg h2, if_neg h1]
/-- the first of pairs -/
theorem dm_mul {x y M : Nat} (hy : y < M) : (x * M + y) / M = x ∧ (x * M + y) % M = y := by
  refine ⟨?_, ?_⟩
  · rw [Nat.mul_comm, Nat.mul_add_div (by omega), Nat.div_eq_of_lt hy]; rfl
  · rw [Nat.mul_comm, Nat.mul_add_mod, Nat.mod_eq_of_lt hy]
theorem fst2_none {f : Nat → Nat → Bool} {A M : Nat} (h : ∀ x, x < A → ∀ y, y < M → f x y = false) : fstN (fun m => f (m / M) (m % M)) (A * M) 0 = none := by
  refine fstN_none (fun j _ hj => ?_)
  have hM : 0 < M := by
    rcases Nat.eq_zero_or_pos M with e | e
    · subst e; rw [Nat.mul_zero] at hj; omega
    · exact e
  exact h _ ((Nat.div_lt_iff_lt_mul hM).mpr (by omega)) _ (Nat.mod_lt _ hM)
theorem fst2_some {f : Nat → Nat → Bool} {A M x y : Nat} (hx : x < A) (hy : y < M) (h : f x y = true) (h1 : ∀ x', x' < x → ∀ y', y' < M → f x' y' = false) (h2 : ∀ y', y' < y → f x y' = false) : fstN (fun m => f (m / M) (m % M)) (A * M) 0 = some (x * M + y) := by
  have hM : 0 < M := by omega
  have hle : (x + 1) * M ≤ A * M := Nat.mul_le_mul_right M hx
  rw [Nat.succ_mul] at hle
  refine fstN_some (m := x * M + y) ?_ (Nat.zero_le _) (by omega) (fun j _ hj => ?_)
  · show f ((x * M + y) / M) ((x * M + y) % M) = true
    rw [(dm_mul hy).1, (dm_mul hy).2]; exact h
  · have hdm := Nat.div_add_mod j M
    have hmo := Nat.mod_lt j hM
    have hd : j / M < x + 1 := (Nat.div_lt_iff_lt_mul hM).mpr (by rw [Nat.succ_mul]; omega)
    by_cases e : j / M = x
    · show f (j / M) (j % M) = false
      rw [e]
      rw [e, Nat.mul_comm] at hdm
      exact h2 _ (by omega)
    · exact h1 _ (by omega) _ hmo
/-- what tw2 says of pairs -/
def pwP (n k : Nat) (b : Int32) (T : Nat → Int64) (xs : Nat → Nat) (a d x y : Nat) : Bool := smN n k b (vp_updL (vp_updL T a (rgV xs a x)) d (rgV xs d y))
set_option maxHeartbeats 4000000 in
set_option maxRecDepth 100000 in
/-- WheelTables.found -/
theorem x_found {ξ : Xs} {mid dyn : List ACell} (a v b u : Int32) : Ct yX0_found (ws_ yX0_found cX0_found 5 none) 0 0 0 [.ref 0, .int a, .int v, .int b, .int u] (XM ξ mid dyn) (Q1 none (XM (fdX ξ a v b u) mid dyn)) noX := by
  refine Ct.of (ini := false) (ls := [some (.ref 0), some (.int a), some (.int v), some (.int b), some (.int u)]) (by decide) (Nat.le_of_ble_eq_true rfl) (fun h => by cases h) rfl ?_
  refine e_aload_n dX0_found_0 0 rfl rfl rfl ?_
  refine e_getf (v := (.ref 37)) dX0_found_1 rfl fX0_99 (xm_o0) rfl ?_
  refine e_iconst 0 dX0_found_4 rfl ?_
  refine e_iload_n dX0_found_5 1 rfl rfl ?_
  refine e_iast (f := ξ.2.2.1 33) (j := 0) dX0_found_6 (xm_a33) rfl (by omega) (by decide) ?_
  rw [xm_s33]
  refine e_aload_n dX0_found_7 0 rfl rfl rfl ?_
  refine e_getf (v := (.ref 38)) dX0_found_8 rfl fX0_102 (xm_o0) rfl ?_
  refine e_iconst 0 dX0_found_11 rfl ?_
  refine e_iload_n dX0_found_12 2 rfl rfl ?_
  refine e_iast (f := ξ.2.2.1 34) (j := 0) dX0_found_13 (xm_a34) rfl (by omega) (by decide) ?_
  rw [xm_s34]
  refine e_aload_n dX0_found_14 0 rfl rfl rfl ?_
  refine e_getf (v := (.ref 37)) dX0_found_15 rfl fX0_99 (xm_o0) rfl ?_
  refine e_iconst 1 dX0_found_18 rfl ?_
  refine e_iload_n dX0_found_19 3 rfl rfl ?_
  refine e_iast (f := (upd (ξ.2.2.1 33) 0 a)) (j := 1) dX0_found_20 (xm_a33) rfl (by omega) (by decide) ?_
  rw [xm_s33]
  refine e_aload_n dX0_found_21 0 rfl rfl rfl ?_
  refine e_getf (v := (.ref 38)) dX0_found_22 rfl fX0_102 (xm_o0) rfl ?_
  refine e_iconst 1 dX0_found_25 rfl ?_
  refine e_iload dX0_found_26 rfl ?_
  refine e_iast (f := (upd (ξ.2.2.1 34) 0 v)) (j := 1) dX0_found_28 (xm_a34) rfl (by omega) (by decide) ?_
  rw [xm_s34]
  refine e_return dX0_found_29 rfl (Nat.zero_le _) (Nat.zero_le _) ?_
  rw [xA_cm (xA ξ 33 _) (show ¬ 34 = 33 by decide), xA_xA, xA_xA]
  exact ⟨rfl, rfl⟩

theorem lN_i32 {a : Nat} (h : a < 2147483648) : (lN a).toInt32 = nI a := by
  rw [← nI_l h]
  exact Int32.toInt32_toInt64 _
set_option maxHeartbeats 4000000 in
set_option maxRecDepth 100000 in
/-- a loop of oneRight -/
theorem x_one_in {ξ : Xs} {xs : Nat → Nat} {T : Nat → Int64} {mid dyn : List ACell} {n k : Nat} {b : Int32} (hn : n ≤ 20) (hk : 1 ≤ k ∧ k ≤ 4) (hkn : k < n) (hN : ξ.1 35 = nI n) (hK : ξ.1 36 = nI k) (hBd : ξ.1 37 = b) (hxs : ∀ i, i < n → xs i ≤ 99999999 ∧ T i = lN (xs i)) {a : Nat} (ha : a < n) (hel : elN n k b T a a = true) {Q : Qfun} : ∀ (fuel : Nat) (m : Nat) (ξ1 : Xs) (c : Int64), m ≤ (corL (xs a)).1 → (corL (xs a)).1 < m + fuel → ErS ξ (vp_updL T a c) ξ1 → Erv 0 (corL (xs a)) ξ1 → (∀ j, j < m → onP n k b T xs a j = false) → (∀ m ξ2 U, m < (corL (xs a)).1 → onP n k b T xs a m = true → (∀ j, j < m → onP n k b T xs a j = false) → ErS ξ U ξ2 → Q (some (.int 1)) (XM (fdX ξ2 (nI a) ((corL (xs a)).2 m) (-1) 0) mid dyn)) → (∀ ξ2 c, ErS ξ (vp_updL T a c) ξ2 → (∀ j, j < (corL (xs a)).1 → onP n k b T xs a j = false) → E cX0_oneRight (RX0, (some .boolean), 4, 3, (0, 0), false, []) Q noX 0 0 97 [some (.ref 0), some (.int (nI a)), some (.int (nI (xs a))), none] [] (XM ξ2 mid dyn)) →
    E cX0_oneRight (RX0, (some .boolean), 4, 3, (0, 0), false, []) Q noX 0 0 38 [some (.ref 0), some (.int (nI a)), some (.int (nI (xs a))), some (.int (nI m))] [] (XM ξ1 mid dyn) := by
  intro fuel
  induction fuel with
  | zero => intro m ξ1 c hm hf hS hV hno hQ hE; exact absurd hf (by omega)
  | succ fuel ih =>
    intro m ξ1 c hm hf hS hV hno hQ hE
    have hm79 : (corL (xs a)).1 ≤ 79 := rgM_le xs a
    refine e_iload_n dX0_oneRight_38 3 rfl rfl ?_
    refine e_aload_n dX0_oneRight_39 0 rfl rfl rfl ?_
    refine e_getf (v := (.ref 36)) dX0_oneRight_40 rfl fX0_96 (xm_o0) rfl ?_
    refine e_iconst 0 dX0_oneRight_43 rfl ?_
    refine e_iald (f := ξ1.2.2.1 32) (j := 0) dX0_oneRight_44 (xm_a32) rfl (by omega) (by decide) ?_
    refine e_top (congrArg Value.int hV.1) ?_
    refine e_icmp_geN m ((corL (xs a)).1) 97 (by omega) (by omega) dX0_oneRight_45 (by decide) (fun h45 => ?_) (fun h45 => ?_)
    · refine e_forget (i := 3) (ln_s (ln_s (ln_s ln_0))) ?_
      exact hE ξ1 c hS (fun j hj => hno j (by omega))
    · have h45 : m < (corL (xs a)).1 := Nat.lt_of_not_le h45
      refine e_aload_n dX0_oneRight_48 0 rfl rfl rfl ?_
      refine e_getf (v := (.ref 32)) dX0_oneRight_49 rfl fX0_90 (xm_o0) rfl ?_
      refine e_iload_n dX0_oneRight_52 1 rfl rfl ?_
      refine e_aload_n dX0_oneRight_53 0 rfl rfl rfl ?_
      refine e_getf (v := (.ref 33)) dX0_oneRight_54 rfl fX0_93 (xm_o0) rfl ?_
      refine e_iconst 0 dX0_oneRight_57 rfl ?_
      refine e_aaldA (f := riF) (j := 0) dX0_oneRight_58 xm_r33 rfl (by omega) (by decide) ?_
      refine e_top (congrArg rfO (riF_at (by omega))) ?_
      refine e_iload_n dX0_oneRight_59 3 rfl rfl ?_
      refine e_iald (f := ξ1.2.2.1 420) (j := m) dX0_oneRight_60 (xm_i (j := 0) (by decide)) rfl (by omega) (by decide) ?_
      refine e_top (congrArg Value.int (hV.2 m (by assumption))) ?_
      refine e_i2l dX0_oneRight_61 ?_
      refine e_last (f := ξ1.2.2.2.1 30) (j := a) dX0_oneRight_62 (xm_a30) rfl (by omega) (by decide) ?_
      rw [xm_s30]
      refine e_aload_n dX0_oneRight_63 0 rfl rfl rfl ?_
      refine e_iload_n dX0_oneRight_64 1 rfl rfl ?_
      refine e_callVB (As := [.int (nI a)]) (rest := []) dX0_oneRight_65 rfl mvX0_431 (xm_o0) rfl (x_isSmoothBy (ξ := xB ξ1 30 (vp_updL (ξ1.2.2.2.1 30) a (((corL (xs a)).2 m).toInt64))) hn hk hkn ((congrFun hS.1 35).trans hN) ((congrFun hS.1 36).trans hK) ((congrFun hS.1 37).trans hBd) (a := a) (by omega)) (Nat.le_of_ble_eq_true rfl) rfl rfl (Nat.le_of_ble_eq_true rfl) (Nat.zero_le _) (Nat.zero_le _) (fun h65 => ?_) (fun h65 => ?_)
      · have h65 : (byB n k b (vp_updL (ξ1.2.2.2.1 30) a (((corL (xs a)).2 m).toInt64)) a = true) := h65
        refine e_if_ne_t 74 (by decide) dX0_oneRight_68 (by decide) ?_
        refine e_aload_n dX0_oneRight_74 0 rfl rfl rfl ?_
        refine e_iload_n dX0_oneRight_75 1 rfl rfl ?_
        refine e_aload_n dX0_oneRight_76 0 rfl rfl rfl ?_
        refine e_getf (v := (.ref 33)) dX0_oneRight_77 rfl fX0_93 (xm_o0) rfl ?_
        refine e_iconst 0 dX0_oneRight_80 rfl ?_
        refine e_aaldA (f := riF) (j := 0) dX0_oneRight_81 xm_r33 rfl (by omega) (by decide) ?_
        refine e_top (congrArg rfO (riF_at (by omega))) ?_
        refine e_iload_n dX0_oneRight_82 3 rfl rfl ?_
        refine e_iald (f := ξ1.2.2.1 420) (j := m) dX0_oneRight_83 (xm_i (j := 0) (by decide)) rfl (by omega) (by decide) ?_
        refine e_top (congrArg Value.int (hV.2 m (by assumption))) ?_
        refine e_iconst (-1) dX0_oneRight_84 rfl ?_
        refine e_iconst 0 dX0_oneRight_85 rfl ?_
        refine e_callV0 (As := [.int (nI a), .int ((corL (xs a)).2 m), .int (-1), .int 0]) (rest := []) dX0_oneRight_86 rfl mvX0_434 (xm_o0) rfl (x_found (ξ := (xB ξ1 30 (vp_updL (ξ1.2.2.2.1 30) a (((corL (xs a)).2 m).toInt64)))) (nI a) ((corL (xs a)).2 m) (-1) 0) (Nat.le_of_ble_eq_true rfl) rfl rfl (Nat.le_of_ble_eq_true rfl) (Nat.zero_le _) (Nat.zero_le _) ?_
        refine e_iconst 1 dX0_oneRight_89 rfl ?_
        refine e_ireturn dX0_oneRight_90 rfl rfl (Nat.zero_le _) (Nat.zero_le _) ?_
        have eB : byB n k b (vp_updL (ξ1.2.2.2.1 30) a ((corL (xs a)).2 m).toInt64) a = onP n k b T xs a m := by
          rw [hS.2.1, updL_updL]
          exact by_one hkn hel _
        exact hQ m _ _ h45 (by rw [← eB]; exact h65) hno (hS.tab _)
      · have h65 : ¬ (byB n k b (vp_updL (ξ1.2.2.2.1 30) a (((corL (xs a)).2 m).toInt64)) a = true) := h65
        refine e_if_ne_f (by decide) 74 dX0_oneRight_68 (by decide) ?_
        refine e_goto 91 dX0_oneRight_71 (by decide) ?_
        refine e_incN m (m + 1) (inc1 _) dX0_oneRight_91 rfl (ls_s (ls_s (ls_1 rfl))) (Nat.le_of_ble_eq_true rfl) ?_
        refine e_goto 38 dX0_oneRight_94 (by decide) ?_
        have eB : byB n k b (vp_updL (ξ1.2.2.2.1 30) a ((corL (xs a)).2 m).toInt64) a = onP n k b T xs a m := by
          rw [hS.2.1, updL_updL]
          exact by_one hkn hel _
        refine ih (m + 1) (xB ξ1 30 (vp_updL (ξ1.2.2.2.1 30) a ((corL (xs a)).2 m).toInt64)) ((corL (xs a)).2 m).toInt64 (by omega) (by omega) ?_ hV ?_ hQ hE
        · have := hS.tab (vp_updL (ξ1.2.2.2.1 30) a ((corL (xs a)).2 m).toInt64)
          rw [hS.2.1, updL_updL] at this
          rw [hS.2.1, updL_updL]
          exact this
        · intro j hj
          by_cases e : j = m
          · subst e
            rw [← eB]; exact eq_false_of_ne_true h65
          · exact hno j (by omega)

set_option maxHeartbeats 4000000 in
set_option maxRecDepth 100000 in
/-- a loop of oneRight -/
theorem x_one_out {ξ : Xs} {xs : Nat → Nat} {T : Nat → Int64} {mid dyn : List ACell} {n k : Nat} {b : Int32} (hn : n ≤ 20) (hk : 1 ≤ k ∧ k ≤ 4) (hkn : k < n) (hN : ξ.1 35 = nI n) (hK : ξ.1 36 = nI k) (hBd : ξ.1 37 = b) (hxs : ∀ i, i < n → xs i ≤ 99999999 ∧ T i = lN (xs i)) {Q : Qfun} : ∀ (fuel : Nat) (a : Nat) (ξ1 : Xs), a ≤ n → n < a + fuel → ErS ξ T ξ1 → (∀ i, i < a → spOne n k b T xs i = none) → (∀ a m ξ2 U, a < n → spOne n k b T xs a = some m → (∀ i, i < a → spOne n k b T xs i = none) → ErS ξ U ξ2 → Q (some (.int 1)) (XM (fdX ξ2 (nI a) ((corL (xs a)).2 m) (-1) 0) mid dyn)) → (∀ ξ2, ErS ξ T ξ2 → (∀ i, i < n → spOne n k b T xs i = none) → Q (some (.int 0)) (XM ξ2 mid dyn)) →
    E cX0_oneRight (RX0, (some .boolean), 4, 3, (0, 0), false, []) Q noX 0 0 2 [some (.ref 0), some (.int (nI a)), none, none] [] (XM ξ1 mid dyn) := by
  intro fuel
  induction fuel with
  | zero => intro a ξ1 ha hf hS hno hQ hE; exact absurd hf (by omega)
  | succ fuel ih =>
    intro a ξ1 ha hf hS hno hQ hE
    refine e_iload_n dX0_oneRight_2 1 rfl rfl ?_
    refine e_aload_n dX0_oneRight_3 0 rfl rfl rfl ?_
    refine e_getf (v := (.int (ξ1.1 35))) dX0_oneRight_4 rfl fX0_415 (xm_o0) rfl ?_
    refine e_top (congrArg Value.int ((congrFun hS.1 35).trans hN)) ?_
    refine e_icmp_geN a n 111 (by omega) (by omega) dX0_oneRight_7 (by decide) (fun h7 => ?_) (fun h7 => ?_)
    · refine e_iconst 0 dX0_oneRight_111 rfl ?_
      refine e_ireturn dX0_oneRight_112 rfl rfl (Nat.zero_le _) (Nat.zero_le _) ?_
      exact hE ξ1 hS (fun i hi => hno i (by omega))
    · refine e_aload_n dX0_oneRight_10 0 rfl rfl rfl ?_
      refine e_iload_n dX0_oneRight_11 1 rfl rfl ?_
      refine e_iload_n dX0_oneRight_12 1 rfl rfl ?_
      refine e_callVB (As := [.int (nI a), .int (nI a)]) (rest := []) dX0_oneRight_13 rfl mvX0_424 (xm_o0) rfl (x_areAll (ξ := ξ1) hn hk hkn ((congrFun hS.1 35).trans hN) ((congrFun hS.1 36).trans hK) ((congrFun hS.1 37).trans hBd) (nI a) (nI a)) (Nat.le_of_ble_eq_true rfl) rfl rfl (Nat.le_of_ble_eq_true rfl) (Nat.zero_le _) (Nat.zero_le _) (fun h13 => ?_) (fun h13 => ?_)
      · have h13 : (alB n k b (ξ1.2.2.2.1 30) (nI a) (nI a) = true) := h13
        refine e_if_ne_t 22 (by decide) dX0_oneRight_16 (by decide) ?_
        refine e_aload_n dX0_oneRight_22 0 rfl rfl rfl ?_
        refine e_getf (v := (.ref 32)) dX0_oneRight_23 rfl fX0_90 (xm_o0) rfl ?_
        refine e_iload_n dX0_oneRight_26 1 rfl rfl ?_
        refine e_lald (f := ξ1.2.2.2.1 30) (j := a) dX0_oneRight_27 (xm_a30) rfl (by omega) (by decide) ?_
        refine e_top (congrArg Value.long ((congrFun hS.2.1 a).trans (hxs a (by omega)).2)) ?_
        refine e_l2i dX0_oneRight_28 ?_
        refine e_top (w := .int (nI (xs a))) (congrArg Value.int (lN_i32 (Nat.lt_of_le_of_lt (hxs a (by omega)).1 (by decide)))) ?_
        refine e_istore_n dX0_oneRight_29 2 rfl (ls_s (ls_1 rfl)) (Nat.le_of_ble_eq_true rfl) ?_
        refine e_aload_n dX0_oneRight_30 0 rfl rfl rfl ?_
        refine e_iconst 0 dX0_oneRight_31 rfl ?_
        refine e_iload_n dX0_oneRight_32 2 rfl rfl ?_
        refine e_callVQ (As := [.int 0, .int (nI (xs a))]) (rest := []) dX0_oneRight_33 rfl mvX0_428 (xm_o0) rfl (x_corrects (ξ := ξ1) (i := 0) (x := xs a) (by decide) (hxs a (by omega)).1) (Nat.le_of_ble_eq_true rfl) rfl rfl (Nat.le_of_ble_eq_true rfl) (Nat.zero_le _) (Nat.zero_le _) (fun v0 M0 h0_ _ => ?_)
        obtain ⟨ξ2, rfl, rfl, hV0, hX0⟩ := h0_
        refine e_iconst 0 dX0_oneRight_36 rfl ?_
        refine e_istore_n dX0_oneRight_37 3 rfl (ls_s (ls_s (ls_1 rfl))) (Nat.le_of_ble_eq_true rfl) ?_
        have hS2 := hS.erx hX0 (by decide)
        have hxa := (hxs a (by omega)).1
        have hel : elN n k b T a a = true := by
          rw [hS.2.1, alB_el hn (by omega) (by omega)] at h13
          exact h13
        refine x_one_in hn hk hkn hN hK hBd hxs (by omega) hel ((corL (xs a)).1 + 1) 0 ξ2 (T a) (Nat.zero_le _) (by omega) (by rw [updL_id]; exact hS2) hV0 (fun j hj => absurd hj (Nat.not_lt_zero j)) (fun m ξ4 U hm hm1 hm2 hS4 => ?_) (fun ξ3 c hS3 hno3 => ?_)
        · have e1 : spOne n k b T xs a = some m := by
            unfold spOne
            rw [if_pos hel]
            exact fstN_some (p := onP n k b T xs a) (m := m) hm1 (Nat.zero_le _) (by have : rgM xs a = (corL (xs a)).1 := rfl; omega) (fun j _ hj => hm2 j hj)
          exact hQ a m ξ4 U (by omega) e1 hno hS4
        have e0 : spOne n k b T xs a = none := by
          unfold spOne
          rw [if_pos hel]
          exact fstN_none (fun j _ hj => hno3 j (by have : rgM xs a = (corL (xs a)).1 := rfl; omega))
        refine e_aload_n dX0_oneRight_97 0 rfl rfl rfl ?_
        refine e_getf (v := (.ref 32)) dX0_oneRight_98 rfl fX0_90 (xm_o0) rfl ?_
        refine e_iload_n dX0_oneRight_101 1 rfl rfl ?_
        refine e_iload_n dX0_oneRight_102 2 rfl rfl ?_
        refine e_i2lN (xs a) (by omega) dX0_oneRight_103 ?_
        refine e_last (f := ξ3.2.2.2.1 30) (j := a) dX0_oneRight_104 (xm_a30) rfl (by omega) (by decide) ?_
        rw [xm_s30]
        refine e_incN a (a + 1) (inc1 _) dX0_oneRight_105 rfl (ls_1 rfl) (Nat.le_of_ble_eq_true rfl) ?_
        refine e_goto 2 dX0_oneRight_108 (by decide) ?_
        refine e_forget (i := 2) (ln_s (ln_s ln_0)) ?_
        refine ih (a + 1) _ (by omega) (by omega) ?_ ?_ hQ hE
        · have := hS3.tab (vp_updL (ξ3.2.2.2.1 30) a (lN (xs a)))
          rw [hS3.2.1, updL_updL, ← (hxs a (by omega)).2, updL_id] at this
          rw [hS3.2.1, updL_updL, ← (hxs a (by omega)).2, updL_id]
          exact this
        · intro i hi
          by_cases e : i = a
          · subst e; exact e0
          · exact hno i (by omega)
      · have h13 : ¬ (alB n k b (ξ1.2.2.2.1 30) (nI a) (nI a) = true) := h13
        refine e_if_ne_f (by decide) 22 dX0_oneRight_16 (by decide) ?_
        refine e_goto 105 dX0_oneRight_19 (by decide) ?_
        refine e_incN a (a + 1) (inc1 _) dX0_oneRight_105 rfl (ls_1 rfl) (Nat.le_of_ble_eq_true rfl) ?_
        refine e_goto 2 dX0_oneRight_108 (by decide) ?_
        have e0 : spOne n k b T xs a = none := by
          unfold spOne
          rw [hS.2.1, alB_el hn (by omega) (by omega)] at h13
          rw [if_neg h13]
        refine ih (a + 1) ξ1 (by omega) (by omega) hS ?_ hQ hE
        · intro i hi
          by_cases e : i = a
          · subst e; exact e0
          · exact hno i (by omega)

set_option maxHeartbeats 4000000 in
set_option maxRecDepth 100000 in
/-- WheelTables.oneRight -/
theorem x_oneRight {ξ : Xs} {xs : Nat → Nat} {T : Nat → Int64} {mid dyn : List ACell} {n k : Nat} {b : Int32} (hn : n ≤ 20) (hk : 1 ≤ k ∧ k ≤ 4) (hkn : k < n) (hN : ξ.1 35 = nI n) (hK : ξ.1 36 = nI k) (hBd : ξ.1 37 = b) (hxs : ∀ i, i < n → xs i ≤ 99999999 ∧ T i = lN (xs i)) (hT : ξ.2.2.2.1 30 = T) : Ct yX0_oneRight (ws_ yX0_oneRight cX0_oneRight 4 (some .boolean)) 3 0 0 [.ref 0] (XM ξ mid dyn) (fun v N => (∃ a m ξ2 U, a < n ∧ spOne n k b T xs a = some m ∧ (∀ i, i < a → spOne n k b T xs i = none) ∧ ErS ξ U ξ2 ∧ v = some (.int 1) ∧ N = XM (fdX ξ2 (nI a) ((corL (xs a)).2 m) (-1) 0) mid dyn) ∨ (∃ ξ2, ErS ξ T ξ2 ∧ (∀ i, i < n → spOne n k b T xs i = none) ∧ v = some (.int 0) ∧ N = XM ξ2 mid dyn)) noX := by
  refine Ct.of (ini := false) (ls := [some (.ref 0), none, none, none]) (by decide) (Nat.le_of_ble_eq_true rfl) (fun h => by cases h) rfl ?_
  refine e_iconst 0 dX0_oneRight_0 rfl ?_
  refine e_istore_n dX0_oneRight_1 1 rfl (ls_1 rfl) (Nat.le_of_ble_eq_true rfl) ?_
  exact x_one_out hn hk hkn hN hK hBd hxs (n + 1) 0 ξ (Nat.zero_le _) (by omega) ⟨rfl, hT, Sy.rf⟩ (fun i hi => absurd hi (Nat.not_lt_zero i)) (fun a m ξ2 U h1 h2 h3 h4 => Or.inl ⟨a, m, ξ2, U, h1, h2, h3, h4, rfl, rfl⟩) (fun ξ2 h1 h2 => Or.inr ⟨ξ2, h1, h2, rfl, rfl⟩)

