/-! ===== the component: errata (3): corrections ===== -/
/-- corrections told in a row of the component's -/
def Erv (i : Nat) (l : LV) (ξ : Xs) : Prop := ξ.2.2.1 32 i = nI l.1 ∧ ∀ q, q < l.1 → ξ.2.2.1 (420 + i) q = l.2 q
/-- the same but for a row of corrections -/
def Erx (i : Nat) (ξ ξ' : Xs) : Prop := ∃ f m, ξ' = xA (xA ξ (420 + i) f) 32 m ∧ ∀ z, z ≠ i → m z = ξ.2.2.1 32 z
theorem xA_cm (ξ : Xs) {a b : Nat} (h : ¬ a = b) (f g : Nat → Int32) : xA (xA ξ a f) b g = xA (xA ξ b g) a f := by
  have e : va_up (va_up ξ.2.2.1 a f) b g = va_up (va_up ξ.2.2.1 b g) a f := by
    funext j
    unfold va_up
    by_cases h1 : j = b
    · rw [if_pos h1, if_neg (fun z => h (z.symm.trans h1)), if_pos h1]
    · rw [if_neg h1]
      by_cases h2 : j = a
      · rw [if_pos h2, if_pos h2]
      · rw [if_neg h2, if_neg h2, if_neg h1]
  unfold xA
  exact congrArg (fun z => (ξ.1, ξ.2.1, z, ξ.2.2.2)) e
theorem xm_iA {ξ : Xs} {mid dyn : List ACell} {j : Nat} {f : Nat → Int32} (h : j < 2) : (XM (xA ξ (420 + j) f) mid dyn)[34 + j]? = some (.inl (0, 80, .inl f)) := by
  rcases (show j = 0 ∨ j = 1 by omega) with rfl | rfl <;> rfl
theorem xm_a32i {ξ : Xs} {mid dyn : List ACell} {j : Nat} {f : Nat → Int32} (h : j < 2) : (XM (xA ξ (420 + j) f) mid dyn)[36]? = some (.inl (0, 2, .inl (ξ.2.2.1 32))) := by
  rcases (show j = 0 ∨ j = 1 by omega) with rfl | rfl <;> rfl
theorem up_at {f : Nat → Int32} {k : Nat} {v : Int32} : upd f k v k = v := if_pos rfl
theorem up_no {f : Nat → Int32} {k j : Nat} {v : Int32} (h : j ≠ k) : upd f k v j = f j := if_neg h
theorem Er_at {ξ : Xs} {i : Nat} {f m : Nat → Int32} (q : Nat) : (xA (xA ξ (420 + i) f) 32 m).2.2.1 (420 + i) q = f q := congrFun ((va_up_ne _ _ (show ¬ 420 + i = 32 by omega)).trans (va_up_self ..)) q
theorem Erx.rf (i : Nat) (hi : i < 2) (ξ : Xs) : Erx i ξ ξ := ⟨ξ.2.2.1 (420 + i), ξ.2.2.1 32, by rw [xA_self]; exact (xA_self ξ 32).symm, fun _ _ => rfl⟩
theorem Erx.tr {i : Nat} {a b c : Xs} (h1 : Erx i a b) (h2 : Erx i b c) : Erx i a c := by
  obtain ⟨f, m, rfl, hm⟩ := h1
  obtain ⟨g, m2, rfl, hm2⟩ := h2
  refine ⟨g, m2, ?_, fun z hz => (hm2 z hz).trans ?_⟩
  · rw [xA_cm (xA a (420 + i) f) (show ¬ 32 = 420 + i by omega) m g, xA_xA, xA_xA]
  · exact (congrFun (va_up_self (va_up a.2.2.1 (420 + i) f) 32 m) z).trans (hm z hz)
set_option maxHeartbeats 4000000 in
set_option maxRecDepth 100000 in
/-- a loop of adds -/
theorem x_ad2 {ξ : Xs} {mid dyn : List ACell} {i : Nat} {l : LV} (hi : i < 2) (hl : l.1 < 80) (hV : Erv i l ξ) (v : Int32) {k : Nat} (hk : k ≤ l.1) (hp : k = posV l.2 v l.1) (hne : 0 < k → ¬ l.2 (k - 1) = v)  : ∀ (fuel : Nat) (j : Nat) (w : Nat → Int32), k ≤ j ∧ j ≤ l.1 → j < k + fuel → (∀ q, q < j → w q = l.2 q) ∧ (∀ q, j < q → q ≤ l.1 → w q = l.2 (q - 1)) →
    E cX0_adds (RX0, none, 6, 0, (0, 0), false, []) (fun z N => ∃ ξ', N = XM ξ' mid dyn ∧ z = none ∧ Erv i (insV v l) ξ' ∧ Erx i ξ ξ') noX 0 0 60 [some (.ref 0), some (.int (nI i)), some (.int v), some (.ref (34 + i)), some (.int (nI k)), some (.int (nI j))] [] (XM (xA ξ (420 + i) w) mid dyn) := by
  intro fuel
  induction fuel with
  | zero => intro j w hj hf hw; exact absurd hf (by omega)
  | succ fuel ih =>
    intro j w hj hf hw
    refine e_iload dX0_adds_60 rfl ?_
    refine e_iload dX0_adds_62 rfl ?_
    refine e_icmp_leN j k 83 (by omega) (by omega) dX0_adds_64 (by decide) (fun h64 => ?_) (fun h64 => ?_)
    · refine e_aload_n dX0_adds_83 3 rfl rfl rfl ?_
      refine e_iload dX0_adds_84 rfl ?_
      refine e_iload_n dX0_adds_86 2 rfl rfl ?_
      refine e_iast (f := w) (j := k) dX0_adds_87 (xm_iA (j := i) (by omega)) rfl (by omega) (by decide) ?_
      rw [xm_is (j := i) (by omega)]
      rw [xA_xA]
      refine e_aload_n dX0_adds_88 0 rfl rfl rfl ?_
      refine e_getf (v := (.ref 36)) dX0_adds_89 rfl fX0_96 (xm_o0) rfl ?_
      refine e_iload_n dX0_adds_92 1 rfl rfl ?_
      refine e_dup2 dX0_adds_93 rfl rfl ?_
      refine e_iald (f := ξ.2.2.1 32) (j := i) dX0_adds_94 (xm_a32i hi) rfl (by omega) (by decide) ?_
      refine e_top (congrArg Value.int hV.1) ?_
      refine e_iconst 1 dX0_adds_95 rfl ?_
      refine e_iaddN l.1 1 dX0_adds_96 ?_
      refine e_iast (f := ξ.2.2.1 32) (j := i) dX0_adds_97 (xm_a32i hi) rfl (by omega) (by decide) ?_
      rw [xm_s32]
      refine e_return dX0_adds_98 rfl (Nat.zero_le _) (Nat.zero_le _) ?_
      obtain rfl : j = k := by omega
      have e0 : insV v l = (l.1 + 1, insF l.2 j v) := by
        unfold insV
        rw [← hp, if_neg (fun z => hne z.1 z.2)]
      refine ⟨_, rfl, rfl, ?_, ⟨_, _, rfl, fun z hz => ?_⟩⟩
      · rw [e0]
        refine ⟨?_, fun q hq => ?_⟩
        · show upd _ i _ i = _
          rw [up_at]
        · refine (Er_at q).trans ?_
          show upd w j v q = insF l.2 j v q
          unfold insF
          by_cases h1 : q = j
          · subst h1
            rw [up_at, if_neg (by omega), if_pos rfl]
          · rw [up_no h1]
            by_cases h2 : q < j
            · rw [if_pos h2]; exact hw.1 q h2
            · rw [if_neg h2, if_neg h1]; exact hw.2 q (by omega) (show q ≤ l.1 by have : q < l.1 + 1 := hq; omega)
      · exact up_no hz
    · obtain ⟨q, rfl⟩ : ∃ q, j = q + 1 := ⟨j - 1, by omega⟩
      refine e_aload_n dX0_adds_67 3 rfl rfl rfl ?_
      refine e_iload dX0_adds_68 rfl ?_
      refine e_aload_n dX0_adds_70 3 rfl rfl rfl ?_
      refine e_iload dX0_adds_71 rfl ?_
      refine e_iconst 1 dX0_adds_73 rfl ?_
      refine e_isubN (q + 1) 1 (by omega) dX0_adds_74 ?_
      refine e_iald (f := w) (j := (q + 1) - 1) dX0_adds_75 (xm_iA (j := i) (by omega)) rfl (by omega) (by decide) ?_
      refine e_iast (f := w) (j := q + 1) dX0_adds_76 (xm_iA (j := i) (by omega)) rfl (by omega) (by decide) ?_
      rw [xm_is (j := i) (by omega)]
      refine e_incN (q + 1) q (decS _) dX0_adds_77 rfl (ls_s (ls_s (ls_s (ls_s (ls_1 rfl))))) (Nat.le_of_ble_eq_true rfl) ?_
      refine e_goto 60 dX0_adds_80 (by decide) ?_
      rw [xA_xA]
      refine ih q _ (by omega) (by omega) ⟨fun x hx => ?_, fun x h1 h2 => ?_⟩
      · rw [up_no (by omega)]; exact hw.1 x (by omega)
      · by_cases e : x = q + 1
        · subst e
          rw [up_at]
          exact hw.1 q (by omega)
        · rw [up_no e]; exact hw.2 x (by omega) h2

set_option maxHeartbeats 4000000 in
set_option maxRecDepth 100000 in
/-- a loop of adds -/
theorem x_ad1 {ξ : Xs} {mid dyn : List ACell} {i : Nat} {l : LV} (hi : i < 2) (hl : l.1 < 80) (hV : Erv i l ξ) (v : Int32)  : ∀ (fuel : Nat) (k : Nat), k ≤ l.1 → k < fuel → posV l.2 v l.1 = posV l.2 v k →
    E cX0_adds (RX0, none, 6, 0, (0, 0), false, []) (fun z N => ∃ ξ', N = XM ξ' mid dyn ∧ z = none ∧ Erv i (insV v l) ξ' ∧ Erx i ξ ξ') noX 0 0 15 [some (.ref 0), some (.int (nI i)), some (.int v), some (.ref (34 + i)), some (.int (nI k)), none] [] (XM ξ mid dyn) := by
  intro fuel
  induction fuel with
  | zero => intro k hk hf hp; exact absurd hf (by omega)
  | succ fuel ih =>
    intro k hk hf hp
    refine e_iload dX0_adds_15 rfl ?_
    refine e_if_leN k 36 (by omega) dX0_adds_17 (by decide) (fun h17 => ?_) (fun h17 => ?_)
    · have hp2 : k = posV l.2 v l.1 := by
        rw [hp]
        obtain rfl : k = 0 := by omega
        rfl
      refine e_iload dX0_adds_36 rfl ?_
      refine e_if_leN k 52 (by omega) dX0_adds_38 (by decide) (fun h38 => ?_) (fun h38 => ?_)
      · refine e_aload_n dX0_adds_52 0 rfl rfl rfl ?_
        refine e_getf (v := (.ref 36)) dX0_adds_53 rfl fX0_96 (xm_o0) rfl ?_
        refine e_iload_n dX0_adds_56 1 rfl rfl ?_
        refine e_iald (f := ξ.2.2.1 32) (j := i) dX0_adds_57 (xm_a32) rfl (by omega) (by decide) ?_
        refine e_top (congrArg Value.int hV.1) ?_
        refine e_istore dX0_adds_58 (ls_s (ls_s (ls_s (ls_s (ls_1 rfl))))) (Nat.le_of_ble_eq_true rfl) ?_
        refine E_mem (M' := XM (xA ξ (420 + i) (ξ.2.2.1 (420 + i))) mid dyn) (by rw [xA_self]) ?_
        exact x_ad2 hi hl hV v hk hp2 (fun z => absurd z (by omega)) (l.1 + 1) l.1 _ (by omega) (by omega) ⟨fun q hq => hV.2 q hq, fun q h1 h2 => absurd h1 (by omega)⟩
      · refine e_aload_n dX0_adds_41 3 rfl rfl rfl ?_
        refine e_iload dX0_adds_42 rfl ?_
        refine e_iconst 1 dX0_adds_44 rfl ?_
        refine e_isubN k 1 (by omega) dX0_adds_45 ?_
        refine e_iald (f := ξ.2.2.1 (420 + i)) (j := k - 1) dX0_adds_46 (xm_i (j := i) (by omega)) rfl (by omega) (by decide) ?_
        refine e_top (congrArg Value.int (hV.2 (k - 1) (by omega))) ?_
        refine e_iload_n dX0_adds_47 2 rfl rfl ?_
        refine e_icmp_ne 52 dX0_adds_48 (by decide) (fun h48 => ?_) (fun h48 => ?_)
        · refine e_aload_n dX0_adds_52 0 rfl rfl rfl ?_
          refine e_getf (v := (.ref 36)) dX0_adds_53 rfl fX0_96 (xm_o0) rfl ?_
          refine e_iload_n dX0_adds_56 1 rfl rfl ?_
          refine e_iald (f := ξ.2.2.1 32) (j := i) dX0_adds_57 (xm_a32) rfl (by omega) (by decide) ?_
          refine e_top (congrArg Value.int hV.1) ?_
          refine e_istore dX0_adds_58 (ls_s (ls_s (ls_s (ls_s (ls_1 rfl))))) (Nat.le_of_ble_eq_true rfl) ?_
          refine E_mem (M' := XM (xA ξ (420 + i) (ξ.2.2.1 (420 + i))) mid dyn) (by rw [xA_self]) ?_
          exact x_ad2 hi hl hV v hk hp2 (fun _ => h48) (l.1 + 1) l.1 _ (by omega) (by omega) ⟨fun q hq => hV.2 q hq, fun q h1 h2 => absurd h1 (by omega)⟩
        · refine e_return dX0_adds_51 rfl (Nat.zero_le _) (Nat.zero_le _) ?_
          refine ⟨ξ, rfl, rfl, ?_, Erx.rf i hi ξ⟩
          have e0 : insV v l = l := by
            unfold insV
            rw [← hp2, if_pos ⟨by omega, h48⟩]
          rw [e0]
          exact hV
    · refine e_aload_n dX0_adds_20 3 rfl rfl rfl ?_
      refine e_iload dX0_adds_21 rfl ?_
      refine e_iconst 1 dX0_adds_23 rfl ?_
      refine e_isubN k 1 (by omega) dX0_adds_24 ?_
      refine e_iald (f := ξ.2.2.1 (420 + i)) (j := k - 1) dX0_adds_25 (xm_i (j := i) (by omega)) rfl (by omega) (by decide) ?_
      refine e_top (congrArg Value.int (hV.2 (k - 1) (by omega))) ?_
      refine e_iload_n dX0_adds_26 2 rfl rfl ?_
      refine e_icmp_le 36 dX0_adds_27 (by decide) (fun h27 => ?_) (fun h27 => ?_)
      · have hp2 : k = posV l.2 v l.1 := by
          rw [hp]
          obtain ⟨q, rfl⟩ : ∃ q, k = q + 1 := ⟨k - 1, by omega⟩
          exact (posV_ge (Int32.not_lt.mpr h27)).symm
        refine e_iload dX0_adds_36 rfl ?_
        refine e_if_leN k 52 (by omega) dX0_adds_38 (by decide) (fun h38 => ?_) (fun h38 => ?_)
        · refine e_aload_n dX0_adds_52 0 rfl rfl rfl ?_
          refine e_getf (v := (.ref 36)) dX0_adds_53 rfl fX0_96 (xm_o0) rfl ?_
          refine e_iload_n dX0_adds_56 1 rfl rfl ?_
          refine e_iald (f := ξ.2.2.1 32) (j := i) dX0_adds_57 (xm_a32) rfl (by omega) (by decide) ?_
          refine e_top (congrArg Value.int hV.1) ?_
          refine e_istore dX0_adds_58 (ls_s (ls_s (ls_s (ls_s (ls_1 rfl))))) (Nat.le_of_ble_eq_true rfl) ?_
          refine E_mem (M' := XM (xA ξ (420 + i) (ξ.2.2.1 (420 + i))) mid dyn) (by rw [xA_self]) ?_
          exact x_ad2 hi hl hV v hk hp2 (fun z => absurd z (by omega)) (l.1 + 1) l.1 _ (by omega) (by omega) ⟨fun q hq => hV.2 q hq, fun q h1 h2 => absurd h1 (by omega)⟩
        · refine e_aload_n dX0_adds_41 3 rfl rfl rfl ?_
          refine e_iload dX0_adds_42 rfl ?_
          refine e_iconst 1 dX0_adds_44 rfl ?_
          refine e_isubN k 1 (by omega) dX0_adds_45 ?_
          refine e_iald (f := ξ.2.2.1 (420 + i)) (j := k - 1) dX0_adds_46 (xm_i (j := i) (by omega)) rfl (by omega) (by decide) ?_
          refine e_top (congrArg Value.int (hV.2 (k - 1) (by omega))) ?_
          refine e_iload_n dX0_adds_47 2 rfl rfl ?_
          refine e_icmp_ne 52 dX0_adds_48 (by decide) (fun h48 => ?_) (fun h48 => ?_)
          · refine e_aload_n dX0_adds_52 0 rfl rfl rfl ?_
            refine e_getf (v := (.ref 36)) dX0_adds_53 rfl fX0_96 (xm_o0) rfl ?_
            refine e_iload_n dX0_adds_56 1 rfl rfl ?_
            refine e_iald (f := ξ.2.2.1 32) (j := i) dX0_adds_57 (xm_a32) rfl (by omega) (by decide) ?_
            refine e_top (congrArg Value.int hV.1) ?_
            refine e_istore dX0_adds_58 (ls_s (ls_s (ls_s (ls_s (ls_1 rfl))))) (Nat.le_of_ble_eq_true rfl) ?_
            refine E_mem (M' := XM (xA ξ (420 + i) (ξ.2.2.1 (420 + i))) mid dyn) (by rw [xA_self]) ?_
            exact x_ad2 hi hl hV v hk hp2 (fun _ => h48) (l.1 + 1) l.1 _ (by omega) (by omega) ⟨fun q hq => hV.2 q hq, fun q h1 h2 => absurd h1 (by omega)⟩
          · refine e_return dX0_adds_51 rfl (Nat.zero_le _) (Nat.zero_le _) ?_
            refine ⟨ξ, rfl, rfl, ?_, Erx.rf i hi ξ⟩
            have e0 : insV v l = l := by
              unfold insV
              rw [← hp2, if_pos ⟨by omega, h48⟩]
            rw [e0]
            exact hV
      · obtain ⟨q, rfl⟩ : ∃ q, k = q + 1 := ⟨k - 1, by omega⟩
        refine e_incN (q + 1) q (decS _) dX0_adds_30 rfl (ls_s (ls_s (ls_s (ls_1 rfl)))) (Nat.le_of_ble_eq_true rfl) ?_
        refine e_goto 15 dX0_adds_33 (by decide) ?_
        exact ih q (by omega) (by omega) (hp.trans (posV_lt (Int32.not_le.mp h27)))

set_option maxHeartbeats 4000000 in
set_option maxRecDepth 100000 in
/-- WheelTables.adds -/
theorem x_addE {ξ : Xs} {mid dyn : List ACell} {i : Nat} {l : LV} (hi : i < 2) (hl : l.1 < 80) (hV : Erv i l ξ) (v : Int32) : Ct yX0_adds (ws_ yX0_adds cX0_adds 6 none) 0 0 0 [.ref 0, .int (nI i), .int v] (XM ξ mid dyn) (fun z N => ∃ ξ', N = XM ξ' mid dyn ∧ z = none ∧ Erv i (insV v l) ξ' ∧ Erx i ξ ξ') noX := by
  refine Ct.of (ini := false) (ls := [some (.ref 0), some (.int (nI i)), some (.int v), none, none, none]) (by decide) (Nat.le_of_ble_eq_true rfl) (fun h => by cases h) rfl ?_
  refine e_aload_n dX0_adds_0 0 rfl rfl rfl ?_
  refine e_getf (v := (.ref 33)) dX0_adds_1 rfl fX0_93 (xm_o0) rfl ?_
  refine e_iload_n dX0_adds_4 1 rfl rfl ?_
  refine e_aaldA (f := riF) (j := i) dX0_adds_5 xm_r33 rfl (by omega) (by decide) ?_
  refine e_top (congrArg rfO (riF_at (by omega))) ?_
  refine e_astore_n dX0_adds_6 3 rfl (ls_s (ls_s (ls_1 rfl))) (Nat.le_of_ble_eq_true rfl) rfl ?_
  refine e_aload_n dX0_adds_7 0 rfl rfl rfl ?_
  refine e_getf (v := (.ref 36)) dX0_adds_8 rfl fX0_96 (xm_o0) rfl ?_
  refine e_iload_n dX0_adds_11 1 rfl rfl ?_
  refine e_iald (f := ξ.2.2.1 32) (j := i) dX0_adds_12 (xm_a32) rfl (by omega) (by decide) ?_
  refine e_top (congrArg Value.int hV.1) ?_
  refine e_istore dX0_adds_13 (ls_s (ls_s (ls_s (ls_1 rfl)))) (Nat.le_of_ble_eq_true rfl) ?_
  exact x_ad1 hi hl hV v (l.1 + 1) l.1 (Nat.le_refl _) (by omega) rfl

set_option maxHeartbeats 4000000 in
set_option maxRecDepth 100000 in
/-- a loop of corrects -/
theorem x_cor_in {ξ : Xs} {mid dyn : List ACell} {i x : Nat} (hi : i < 2) (hx : x ≤ 99999999) {k : Nat} (hk : k < 8) {Q : Qfun} : ∀ (fuel : Nat) (g : Nat) (ξ1 : Xs), g ≤ 10 → 10 < g + fuel → Erv i (corF x (pw k) (x / pw k % 10) g (corN x k)) ξ1 → Erx i ξ ξ1 → (∀ ξ2, Erv i (corF x (pw k) (x / pw k % 10) 10 (corN x k)) ξ2 → Erx i ξ ξ2 → E cX0_corrects (RX0, none, 7, 1, (0, 0), false, []) Q noX 0 0 64 [some (.ref 0), some (.int (nI i)), some (.int (nI x)), some (.int (nI (pw k))), some (.int (nI k)), some (.int (nI (x / pw k % 10))), none] [] (XM ξ2 mid dyn)) →
    E cX0_corrects (RX0, none, 7, 1, (0, 0), false, []) Q noX 0 0 30 [some (.ref 0), some (.int (nI i)), some (.int (nI x)), some (.int (nI (pw k))), some (.int (nI k)), some (.int (nI (x / pw k % 10))), some (.int (nI g))] [] (XM ξ1 mid dyn) := by
  intro fuel
  induction fuel with
  | zero => intro g ξ1 hg hf hV hX hE; exact absurd hf (by omega)
  | succ fuel ih =>
    intro g ξ1 hg hf hV hX hE
    have hp1 := pw_le7 k
    have hp0 := pw_pos7 k
    have hxp : x / pw k ≤ x := Nat.div_le_self _ _
    have hl := corN_len x k (by omega)
    have hd : x / pw k % 10 < 10 := Nat.mod_lt _ (by decide)
    have hlf := corF_len x (pw k) hd (corN x k) g hg
    have hlg : (corF x (pw k) (x / pw k % 10) g (corN x k)).1 ≤ 79 := by
      split at hlf <;> omega
    refine e_iload dX0_corrects_30 rfl ?_
    refine e_bipush 10 dX0_corrects_32 rfl ?_
    refine e_icmp_geN g 10 64 (by omega) (by omega) dX0_corrects_34 (by decide) (fun h34 => ?_) (fun h34 => ?_)
    · refine e_forget (i := 6) (ln_s (ln_s (ln_s (ln_s (ln_s (ln_s ln_0)))))) ?_
      have e1 : g = 10 := by omega
      subst e1
      exact hE ξ1 hV hX
    · refine e_iload dX0_corrects_37 rfl ?_
      refine e_iload dX0_corrects_39 rfl ?_
      refine e_icmp_eqN g (x / pw k % 10) 58 (by omega) (by omega) dX0_corrects_41 (by decide) (fun h41 => ?_) (fun h41 => ?_)
      · refine e_incN g (g + 1) (inc1 _) dX0_corrects_58 rfl (ls_s (ls_s (ls_s (ls_s (ls_s (ls_1 rfl)))))) (Nat.le_of_ble_eq_true rfl) ?_
        refine e_goto 30 dX0_corrects_61 (by decide) ?_
        have eF : corF x (pw k) (x / pw k % 10) (g + 1) (corN x k) = corF x (pw k) (x / pw k % 10) g (corN x k) := by rw [corF, if_pos h41]
        exact ih (g + 1) ξ1 (by omega) (by omega) (by rw [eF]; exact hV) hX hE
      · refine e_aload_n dX0_corrects_44 0 rfl rfl rfl ?_
        refine e_iload_n dX0_corrects_45 1 rfl rfl ?_
        refine e_iload_n dX0_corrects_46 2 rfl rfl ?_
        refine e_iload dX0_corrects_47 rfl ?_
        refine e_iload dX0_corrects_49 rfl ?_
        refine e_isub dX0_corrects_51 ?_
        refine e_iload_n dX0_corrects_52 3 rfl rfl ?_
        refine e_imul dX0_corrects_53 ?_
        refine e_iadd dX0_corrects_54 ?_
        refine e_callVQ (As := [.int (nI i), .int ((nI x) + (((nI g) - (nI (x / pw k % 10))) * (nI (pw k))))]) (rest := []) dX0_corrects_55 rfl mvX0_421 (xm_o0) rfl (x_addE (ξ := ξ1) (l := corF x (pw k) (x / pw k % 10) g (corN x k)) hi (by omega) hV ((nI x) + (((nI g) - (nI (x / pw k % 10))) * (nI (pw k))))) (Nat.le_of_ble_eq_true rfl) rfl rfl (Nat.le_of_ble_eq_true rfl) (Nat.zero_le _) (Nat.zero_le _) (fun v0 M0 h0_ _ => ?_)
        obtain ⟨ξ2, rfl, rfl, hV2, hX2⟩ := h0_
        replace hV2 : Erv i (insV ((nI x) + (((nI g) - (nI (x / pw k % 10))) * (nI (pw k)))) (corF x (pw k) (x / pw k % 10) g (corN x k))) ξ2 := hV2
        refine e_incN g (g + 1) (inc1 _) dX0_corrects_58 rfl (ls_s (ls_s (ls_s (ls_s (ls_s (ls_1 rfl)))))) (Nat.le_of_ble_eq_true rfl) ?_
        refine e_goto 30 dX0_corrects_61 (by decide) ?_
        have eF : corF x (pw k) (x / pw k % 10) (g + 1) (corN x k) = insV (nI x + (nI g - nI (x / pw k % 10)) * nI (pw k)) (corF x (pw k) (x / pw k % 10) g (corN x k)) := by rw [corF, if_neg h41]
        exact ih (g + 1) ξ2 (by omega) (by omega) (by rw [eF]; exact hV2) (hX.tr hX2) hE

set_option maxHeartbeats 4000000 in
set_option maxRecDepth 100000 in
/-- a loop of corrects -/
theorem x_cor_out {ξ : Xs} {mid dyn : List ACell} {i x : Nat} (hi : i < 2) (hx : x ≤ 99999999) {Q : Qfun} : ∀ (fuel : Nat) (k : Nat) (t : Int32) (ξ1 : Xs), k ≤ 8 → 8 < k + fuel → (k < 8 → t = nI (pw k)) → Erv i (corN x k) ξ1 → Erx i ξ ξ1 → (∀ ξ2, Erv i (corL x) ξ2 → Erx i ξ ξ2 → Q none (XM ξ2 mid dyn)) →
    E cX0_corrects (RX0, none, 7, 1, (0, 0), false, []) Q noX 0 0 12 [some (.ref 0), some (.int (nI i)), some (.int (nI x)), some (.int t), some (.int (nI k)), none, none] [] (XM ξ1 mid dyn) := by
  intro fuel
  induction fuel with
  | zero => intro k t ξ1 hk hf ht hV hX hQ; exact absurd hf (by omega)
  | succ fuel ih =>
    intro k t ξ1 hk hf ht hV hX hQ
    have hp1 := pw_le7 k
    have hp0 := pw_pos7 k
    have hxp : x / pw k ≤ x := Nat.div_le_self _ _
    have hl := corN_len x k (by omega)
    have hd : x / pw k % 10 < 10 := Nat.mod_lt _ (by decide)
    have hlf := corF_len x (pw k) hd (corN x k) 10 (Nat.le_refl _)
    rw [if_pos hd] at hlf
    have hxq : x / pw k / 10 ≤ x / pw k := Nat.div_le_self _ _
    refine e_iload dX0_corrects_12 rfl ?_
    refine e_bipush 8 dX0_corrects_14 rfl ?_
    refine e_icmp_geN k 8 125 (by omega) (by omega) dX0_corrects_16 (by decide) (fun h16 => ?_) (fun h16 => ?_)
    · refine e_return dX0_corrects_125 rfl (Nat.zero_le _) (Nat.zero_le _) ?_
      have e1 : k = 8 := by omega
      subst e1
      exact hQ ξ1 hV hX
    · obtain rfl := ht (by omega)
      refine e_iload_n dX0_corrects_19 2 rfl rfl ?_
      refine e_iload_n dX0_corrects_20 3 rfl rfl ?_
      refine e_idivN x (pw k) (by omega) (by omega) (by omega) dX0_corrects_21 ?_
      refine e_bipush 10 dX0_corrects_22 rfl ?_
      refine e_iremN (x / (pw k)) 10 (by omega) (by omega) (by omega) dX0_corrects_24 ?_
      refine e_istore dX0_corrects_25 (ls_s (ls_s (ls_s (ls_s (ls_1 rfl))))) (Nat.le_of_ble_eq_true rfl) ?_
      refine e_iconst 0 dX0_corrects_27 rfl ?_
      refine e_istore dX0_corrects_28 (ls_s (ls_s (ls_s (ls_s (ls_s (ls_1 rfl)))))) (Nat.le_of_ble_eq_true rfl) ?_
      refine x_cor_in hi hx (by omega) 11 0 ξ1 (by omega) (by omega) hV hX (fun ξ3 hV3 hX3 => ?_)
      refine e_iload dX0_corrects_64 rfl ?_
      refine e_bipush 7 dX0_corrects_66 rfl ?_
      refine e_icmp_geN k 7 114 (by omega) (by omega) dX0_corrects_68 (by decide) (fun h68 => ?_) (fun h68 => ?_)
      · refine e_iload_n dX0_corrects_114 3 rfl rfl ?_
        refine e_bipush 10 dX0_corrects_115 rfl ?_
        refine e_imulN (pw k) 10 dX0_corrects_117 ?_
        refine e_istore_n dX0_corrects_118 3 rfl (ls_s (ls_s (ls_1 rfl))) (Nat.le_of_ble_eq_true rfl) ?_
        refine e_incN k (k + 1) (inc1 _) dX0_corrects_119 rfl (ls_s (ls_s (ls_s (ls_1 rfl)))) (Nat.le_of_ble_eq_true rfl) ?_
        refine e_goto 12 dX0_corrects_122 (by decide) ?_
        have e7 : (if k < 7 then x / pw k / 10 % 10 else x / pw k % 10) = x / pw k % 10 := if_neg (by omega)
        have eN : corN x (k + 1) = corF x (pw k) (x / pw k % 10) 10 (corN x k) := by rw [corN, e7, corH, if_pos rfl]
        refine e_forget (i := 5) (ln_s (ln_s (ln_s (ln_s (ln_s ln_0))))) ?_
        exact ih (k + 1) _ ξ3 (by omega) (by omega) (fun h => by rw [pw_s (show k < 7 by omega)]) (by rw [eN]; exact hV3) hX3 hQ
      · refine e_iload_n dX0_corrects_71 2 rfl rfl ?_
        refine e_iload_n dX0_corrects_72 3 rfl rfl ?_
        refine e_idivN x (pw k) (by omega) (by omega) (by omega) dX0_corrects_73 ?_
        refine e_bipush 10 dX0_corrects_74 rfl ?_
        refine e_idivN (x / (pw k)) 10 (by omega) (by omega) (by omega) dX0_corrects_76 ?_
        refine e_bipush 10 dX0_corrects_77 rfl ?_
        refine e_iremN ((x / (pw k)) / 10) 10 (by omega) (by omega) (by omega) dX0_corrects_79 ?_
        refine e_istore dX0_corrects_80 (ls_s (ls_s (ls_s (ls_s (ls_s (ls_1 rfl)))))) (Nat.le_of_ble_eq_true rfl) ?_
        refine e_iload dX0_corrects_82 rfl ?_
        refine e_iload dX0_corrects_84 rfl ?_
        refine e_icmp_eqN (((x / (pw k)) / 10) % 10) ((x / (pw k)) % 10) 114 (by omega) (by omega) dX0_corrects_86 (by decide) (fun h86 => ?_) (fun h86 => ?_)
        · refine e_iload_n dX0_corrects_114 3 rfl rfl ?_
          refine e_bipush 10 dX0_corrects_115 rfl ?_
          refine e_imulN (pw k) 10 dX0_corrects_117 ?_
          refine e_istore_n dX0_corrects_118 3 rfl (ls_s (ls_s (ls_1 rfl))) (Nat.le_of_ble_eq_true rfl) ?_
          refine e_incN k (k + 1) (inc1 _) dX0_corrects_119 rfl (ls_s (ls_s (ls_s (ls_1 rfl)))) (Nat.le_of_ble_eq_true rfl) ?_
          refine e_goto 12 dX0_corrects_122 (by decide) ?_
          have e7 : (if k < 7 then x / pw k / 10 % 10 else x / pw k % 10) = x / pw k / 10 % 10 := if_pos (by omega)
          have eN : corN x (k + 1) = corF x (pw k) (x / pw k % 10) 10 (corN x k) := by rw [corN, e7, corH, if_pos h86]
          refine e_forget (i := 5) (ln_s (ln_s (ln_s (ln_s (ln_s ln_0))))) ?_
          refine e_forget (i := 6) (ln_s (ln_s (ln_s (ln_s (ln_s (ln_s ln_0)))))) ?_
          exact ih (k + 1) _ ξ3 (by omega) (by omega) (fun h => by rw [pw_s (show k < 7 by omega)]) (by rw [eN]; exact hV3) hX3 hQ
        · refine e_aload_n dX0_corrects_89 0 rfl rfl rfl ?_
          refine e_iload_n dX0_corrects_90 1 rfl rfl ?_
          refine e_iload_n dX0_corrects_91 2 rfl rfl ?_
          refine e_iload dX0_corrects_92 rfl ?_
          refine e_iload dX0_corrects_94 rfl ?_
          refine e_isub dX0_corrects_96 ?_
          refine e_iload_n dX0_corrects_97 3 rfl rfl ?_
          refine e_imul dX0_corrects_98 ?_
          refine e_iadd dX0_corrects_99 ?_
          refine e_iload dX0_corrects_100 rfl ?_
          refine e_iload dX0_corrects_102 rfl ?_
          refine e_isub dX0_corrects_104 ?_
          refine e_iload_n dX0_corrects_105 3 rfl rfl ?_
          refine e_imul dX0_corrects_106 ?_
          refine e_bipush 10 dX0_corrects_107 rfl ?_
          refine e_imul dX0_corrects_109 ?_
          refine e_iadd dX0_corrects_110 ?_
          refine e_callVQ (As := [.int (nI i), .int (((nI x) + (((nI (((x / (pw k)) / 10) % 10)) - (nI ((x / (pw k)) % 10))) * (nI (pw k)))) + ((((nI ((x / (pw k)) % 10)) - (nI (((x / (pw k)) / 10) % 10))) * (nI (pw k))) * 10))]) (rest := []) dX0_corrects_111 rfl mvX0_421 (xm_o0) rfl (x_addE (ξ := ξ3) (l := corF x (pw k) (x / pw k % 10) 10 (corN x k)) hi (by omega) hV3 (((nI x) + (((nI (((x / (pw k)) / 10) % 10)) - (nI ((x / (pw k)) % 10))) * (nI (pw k)))) + ((((nI ((x / (pw k)) % 10)) - (nI (((x / (pw k)) / 10) % 10))) * (nI (pw k))) * 10))) (Nat.le_of_ble_eq_true rfl) rfl rfl (Nat.le_of_ble_eq_true rfl) (Nat.zero_le _) (Nat.zero_le _) (fun v0 M0 h0_ _ => ?_)
          obtain ⟨ξ2, rfl, rfl, hV2, hX2⟩ := h0_
          replace hV2 : Erv i (insV (((nI x) + (((nI (((x / (pw k)) / 10) % 10)) - (nI ((x / (pw k)) % 10))) * (nI (pw k)))) + ((((nI ((x / (pw k)) % 10)) - (nI (((x / (pw k)) / 10) % 10))) * (nI (pw k))) * 10)) (corF x (pw k) (x / pw k % 10) 10 (corN x k))) ξ2 := hV2
          refine e_iload_n dX0_corrects_114 3 rfl rfl ?_
          refine e_bipush 10 dX0_corrects_115 rfl ?_
          refine e_imulN (pw k) 10 dX0_corrects_117 ?_
          refine e_istore_n dX0_corrects_118 3 rfl (ls_s (ls_s (ls_1 rfl))) (Nat.le_of_ble_eq_true rfl) ?_
          refine e_incN k (k + 1) (inc1 _) dX0_corrects_119 rfl (ls_s (ls_s (ls_s (ls_1 rfl)))) (Nat.le_of_ble_eq_true rfl) ?_
          refine e_goto 12 dX0_corrects_122 (by decide) ?_
          have e7 : (if k < 7 then x / pw k / 10 % 10 else x / pw k % 10) = x / pw k / 10 % 10 := if_pos (by omega)
          have eN : corN x (k + 1) = insV (nI x + (nI (x / pw k / 10 % 10) - nI (x / pw k % 10)) * nI (pw k) + (nI (x / pw k % 10) - nI (x / pw k / 10 % 10)) * nI (pw k) * 10) (corF x (pw k) (x / pw k % 10) 10 (corN x k)) := by rw [corN, e7, corH, if_neg h86]
          refine e_forget (i := 5) (ln_s (ln_s (ln_s (ln_s (ln_s ln_0))))) ?_
          refine e_forget (i := 6) (ln_s (ln_s (ln_s (ln_s (ln_s (ln_s ln_0)))))) ?_
          exact ih (k + 1) _ ξ2 (by omega) (by omega) (fun h => by rw [pw_s (show k < 7 by omega)]) (by rw [eN]; exact hV2) (hX3.tr hX2) hQ

set_option maxHeartbeats 4000000 in
set_option maxRecDepth 100000 in
/-- WheelTables.corrects -/
theorem x_corrects {ξ : Xs} {mid dyn : List ACell} {i x : Nat} (hi : i < 2) (hx : x ≤ 99999999) : Ct yX0_corrects (ws_ yX0_corrects cX0_corrects 7 none) 1 0 0 [.ref 0, .int (nI i), .int (nI x)] (XM ξ mid dyn) (fun v0 N => ∃ ξ', N = XM ξ' mid dyn ∧ v0 = none ∧ Erv i (corL x) ξ' ∧ Erx i ξ ξ') noX := by
  refine Ct.of (ini := false) (ls := [some (.ref 0), some (.int (nI i)), some (.int (nI x)), none, none, none, none]) (by decide) (Nat.le_of_ble_eq_true rfl) (fun h => by cases h) rfl ?_
  refine e_aload_n dX0_corrects_0 0 rfl rfl rfl ?_
  refine e_getf (v := (.ref 36)) dX0_corrects_1 rfl fX0_96 (xm_o0) rfl ?_
  refine e_iload_n dX0_corrects_4 1 rfl rfl ?_
  refine e_iconst 0 dX0_corrects_5 rfl ?_
  refine e_iast (f := ξ.2.2.1 32) (j := i) dX0_corrects_6 (xm_a32) rfl (by omega) (by decide) ?_
  rw [xm_s32]
  refine e_iconst 1 dX0_corrects_7 rfl ?_
  refine e_istore_n dX0_corrects_8 3 rfl (ls_s (ls_s (ls_1 rfl))) (Nat.le_of_ble_eq_true rfl) ?_
  refine e_iconst 0 dX0_corrects_9 rfl ?_
  refine e_istore dX0_corrects_10 (ls_s (ls_s (ls_s (ls_1 rfl)))) (Nat.le_of_ble_eq_true rfl) ?_
  refine x_cor_out (ξ := ξ) hi hx 9 0 _ _ (by omega) (by omega) (fun _ => rfl) ⟨?_, fun q hq => absurd hq (Nat.not_lt_zero q)⟩ ⟨ξ.2.2.1 (420 + i), upd (ξ.2.2.1 32) i 0, ?_, fun z hz => up_no hz⟩ (fun ξ2 h1 h2 => ⟨ξ2, rfl, rfl, h1, h2⟩)
  · show upd (ξ.2.2.1 32) i 0 i = nI 0
    exact up_at
  · rw [xA_self]

