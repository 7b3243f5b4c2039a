/-! ===== the component: engines, small ones ===== -/
section
variable {pre post : List ACell} {η : En}
theorem em_rW {W : Nat} (hW : η.2.1 = W) : (EM pre η post)[pre.length + 6]? = some (.inl (0, W, .inl η.2.2.2.2.2.2.1)) := by subst hW; exact em_r
theorem em_fN {A W a : Nat} {f : Nat → Int32} (hA : η.1 = A) (hW : η.2.1 = W) (ha : a < A) : (EM pre (nF η a f) post)[pre.length + 9 + 2 * a]? = some (.inl (0, W, .inl f)) :=
  (em_f (η := nF η a f) hA hW ha).trans (congrArg (fun z => some (Sum.inl (0, W, Sum.inl z))) (va_up_self _ _ _))
theorem em_xA {A : Nat} (hA : η.1 = A) : (EM pre η post)[pre.length + 7]? = some (.inl (8, A, .inr (.inr (.inr (.inr (enA pre.length A)))))) := by subst hA; exact em_x
end
/-- an engine with A axes, W wheels, m mishaps, the wheels' figures rd -/
def EnJ (η : En) (A W m : Nat) (rd : Nat → Nat) : Prop := η.1 = A ∧ η.2.1 = W ∧ (2 ≤ A ∧ A ≤ 7) ∧ (1 ≤ W ∧ W ≤ 12) ∧ m ≤ 20 ∧ η.2.2.2.1 = nI m ∧ ∀ i, i < W → η.2.2.2.2.2.2.1 i = nI (rd i)
/-- its figures -/
def EfM (η : En) (A W : Nat) (F : Mx) : Prop := ∀ a, a < A → ∀ i, i < W → η.2.2.2.2.2.2.2 a i = nI (F a i)
/-- how often a mishap is told -/
def cE (η : En) (t : Int32) (x w k : Nat) : Nat → Nat
  | 0 => 0
  | m + 1 => cE η t x w k m + (if η.2.2.2.2.1 0 m = t ∧ η.2.2.2.2.1 1 m = nI x ∧ η.2.2.2.2.1 2 m = nI w ∧ η.2.2.2.2.1 3 m = nI k then 1 else 0)
theorem cE_mono (η : En) (t : Int32) (x w k : Nat) {a : Nat} : ∀ b, a ≤ b → cE η t x w k a ≤ cE η t x w k b
  | 0, h => by rw [show a = 0 by omega]; exact Nat.le_refl _
  | b + 1, h => by
    by_cases e : a = b + 1
    · rw [e]; exact Nat.le_refl _
    · have := cE_mono (a := a) η t x w k b (by omega)
      rw [cE]; omega
set_option maxHeartbeats 4000000 in
set_option maxRecDepth 100000 in
/-- a loop of has -/
theorem x_has_loop {pre post : List ACell} {η : En} {m : Nat} {x w c : Nat} (hm20 : m ≤ 20) (eM : η.2.2.2.1 = nI m)  : ∀ (fuel : Nat) (k : Nat), k ≤ m → m < k + fuel → cE η η.2.2.1 x w c k = 0 →
    E cX5_has (RX5, (some .boolean), 5, 0, (0, 0), false, []) (QB (0 < cE η η.2.2.1 x w c m) (EM pre η post)) noX 0 0 3 [some (.ref pre.length), some (.int (nI x)), some (.int (nI w)), some (.int (nI c)), some (.int (nI k))] [] (EM pre η post) := by
  intro fuel
  induction fuel with
  | zero => intro k hk hf hc; exact absurd hf (by omega)
  | succ fuel ih =>
    intro k hk hf hc
    refine e_iload dX5_has_3 rfl ?_
    refine e_aload_n dX5_has_5 0 rfl rfl rfl ?_
    refine e_getf (v := (.int η.2.2.2.1)) dX5_has_6 rfl fX5_59 em_o rfl ?_
    refine e_top (congrArg Value.int eM) ?_
    refine e_icmp_geN k m 67 (by omega) (by omega) dX5_has_9 (by decide) (fun h9 => ?_) (fun h9 => ?_)
    · refine e_iconst 0 dX5_has_67 rfl ?_
      refine e_ireturn dX5_has_68 rfl rfl (Nat.zero_le _) (Nat.zero_le _) ?_
      refine ⟨rfl, Or.inr ⟨?_, rfl⟩⟩
      have h3 : k = m := by omega
      rw [← h3, hc]; omega
    · refine e_aload_n dX5_has_12 0 rfl rfl rfl ?_
      refine e_getf (v := (.ref (pre.length + 1))) dX5_has_13 rfl fX5_9 em_o rfl ?_
      refine e_iload dX5_has_16 rfl ?_
      refine e_iald (f := η.2.2.2.2.1 0) (j := k) dX5_has_18 (em_k1) rfl (by omega) (by omega) ?_
      refine e_aload_n dX5_has_19 0 rfl rfl rfl ?_
      refine e_getf (v := (.int η.2.2.1)) dX5_has_20 rfl fX5_56 em_o rfl ?_
      refine e_icmp_ne 61 dX5_has_23 (by decide) (fun h23 => ?_) (fun h23 => ?_)
      · refine e_incN k (k + 1) (inc1 _) dX5_has_61 rfl (ls_s (ls_s (ls_s (ls_1 rfl)))) (Nat.le_of_ble_eq_true rfl) ?_
        refine e_goto 3 dX5_has_64 (by decide) ?_
        refine ih (k + 1) (by omega) (by omega) ?_
        rw [cE, if_neg (fun z => h23 z.1)]; exact hc
      · refine e_aload_n dX5_has_26 0 rfl rfl rfl ?_
        refine e_getf (v := (.ref (pre.length + 2))) dX5_has_27 rfl fX5_15 em_o rfl ?_
        refine e_iload dX5_has_30 rfl ?_
        refine e_iald (f := η.2.2.2.2.1 1) (j := k) dX5_has_32 (em_k2) rfl (by omega) (by omega) ?_
        refine e_iload_n dX5_has_33 1 rfl rfl ?_
        refine e_icmp_ne 61 dX5_has_34 (by decide) (fun h34 => ?_) (fun h34 => ?_)
        · refine e_incN k (k + 1) (inc1 _) dX5_has_61 rfl (ls_s (ls_s (ls_s (ls_1 rfl)))) (Nat.le_of_ble_eq_true rfl) ?_
          refine e_goto 3 dX5_has_64 (by decide) ?_
          refine ih (k + 1) (by omega) (by omega) ?_
          rw [cE, if_neg (fun z => h34 z.2.1)]; exact hc
        · refine e_aload_n dX5_has_37 0 rfl rfl rfl ?_
          refine e_getf (v := (.ref (pre.length + 3))) dX5_has_38 rfl fX5_18 em_o rfl ?_
          refine e_iload dX5_has_41 rfl ?_
          refine e_iald (f := η.2.2.2.2.1 2) (j := k) dX5_has_43 (em_k3) rfl (by omega) (by omega) ?_
          refine e_iload_n dX5_has_44 2 rfl rfl ?_
          refine e_icmp_ne 61 dX5_has_45 (by decide) (fun h45 => ?_) (fun h45 => ?_)
          · refine e_incN k (k + 1) (inc1 _) dX5_has_61 rfl (ls_s (ls_s (ls_s (ls_1 rfl)))) (Nat.le_of_ble_eq_true rfl) ?_
            refine e_goto 3 dX5_has_64 (by decide) ?_
            refine ih (k + 1) (by omega) (by omega) ?_
            rw [cE, if_neg (fun z => h45 z.2.2.1)]; exact hc
          · refine e_aload_n dX5_has_48 0 rfl rfl rfl ?_
            refine e_getf (v := (.ref (pre.length + 4))) dX5_has_49 rfl fX5_21 em_o rfl ?_
            refine e_iload dX5_has_52 rfl ?_
            refine e_iald (f := η.2.2.2.2.1 3) (j := k) dX5_has_54 (em_k4) rfl (by omega) (by omega) ?_
            refine e_iload_n dX5_has_55 3 rfl rfl ?_
            refine e_icmp_ne 61 dX5_has_56 (by decide) (fun h56 => ?_) (fun h56 => ?_)
            · refine e_incN k (k + 1) (inc1 _) dX5_has_61 rfl (ls_s (ls_s (ls_s (ls_1 rfl)))) (Nat.le_of_ble_eq_true rfl) ?_
              refine e_goto 3 dX5_has_64 (by decide) ?_
              refine ih (k + 1) (by omega) (by omega) ?_
              rw [cE, if_neg (fun z => h56 z.2.2.2)]; exact hc
            · refine e_iconst 1 dX5_has_59 rfl ?_
              refine e_ireturn dX5_has_60 rfl rfl (Nat.zero_le _) (Nat.zero_le _) ?_
              refine ⟨rfl, Or.inl ⟨?_, rfl⟩⟩
              have h1 : cE η η.2.2.1 x w c (k + 1) = 0 + 1 := by rw [cE, if_pos ⟨h23, h34, h45, h56⟩, hc]
              have h2 := cE_mono η η.2.2.1 x w c (a := k + 1) m (by omega)
              omega

set_option maxHeartbeats 4000000 in
set_option maxRecDepth 100000 in
/-- WheelTables$Engine.has -/
theorem x_has {pre post : List ACell} {η : En} {m : Nat} {x w c : Nat} (hm20 : m ≤ 20) (eM : η.2.2.2.1 = nI m) : Ct yX5_has (ws_ yX5_has cX5_has 5 (some .boolean)) 0 0 0 [.ref pre.length, .int (nI x), .int (nI w), .int (nI c)] (EM pre η post) (QB (0 < cE η η.2.2.1 x w c m) (EM pre η post)) noX := by
  refine Ct.of (ini := false) (ls := [some (.ref pre.length), some (.int (nI x)), some (.int (nI w)), some (.int (nI c)), none]) (by decide) (Nat.le_of_ble_eq_true rfl) (fun h => by cases h) rfl ?_
  refine e_iconst 0 dX5_has_0 rfl ?_
  refine e_istore dX5_has_1 (ls_s (ls_s (ls_s (ls_1 rfl)))) (Nat.le_of_ble_eq_true rfl) ?_
  exact x_has_loop hm20 eM (m + 1) 0 (by omega) (by omega) rfl

set_option maxHeartbeats 4000000 in
set_option maxRecDepth 100000 in
/-- WheelTables$Engine.mishap -/
theorem x_emish {pre post : List ACell} {η : En} {m : Nat} {t x w c : Int32} (hm20 : m < 20) (eM : η.2.2.2.1 = nI m) : Ct yX5_mishap (ws_ yX5_mishap cX5_mishap 5 none) 0 0 0 [.ref pre.length, .int t, .int x, .int w, .int c] (EM pre η post) (Q1 none (EM pre (nM (nK (nK (nK (nK η 0 (upd (η.2.2.2.2.1 0) m t)) 1 (upd (η.2.2.2.2.1 1) m x)) 2 (upd (η.2.2.2.2.1 2) m w)) 3 (upd (η.2.2.2.2.1 3) m c)) (nI (m + 1))) post)) noX := by
  refine Ct.of (ini := false) (ls := [some (.ref pre.length), some (.int t), some (.int x), some (.int w), some (.int c)]) (by decide) (Nat.le_of_ble_eq_true rfl) (fun h => by cases h) rfl ?_
  refine e_aload_n dX5_mishap_0 0 rfl rfl rfl ?_
  refine e_getf (v := (.ref (pre.length + 1))) dX5_mishap_1 rfl fX5_9 em_o rfl ?_
  refine e_aload_n dX5_mishap_4 0 rfl rfl rfl ?_
  refine e_getf (v := (.int η.2.2.2.1)) dX5_mishap_5 rfl fX5_59 em_o rfl ?_
  refine e_top (congrArg Value.int eM) ?_
  refine e_iload_n dX5_mishap_8 1 rfl rfl ?_
  refine e_iast (f := η.2.2.2.2.1 0) (j := m) dX5_mishap_9 (em_k1) rfl (by omega) (by omega) ?_
  rw [em_s1]
  refine e_aload_n dX5_mishap_10 0 rfl rfl rfl ?_
  refine e_getf (v := (.ref (pre.length + 2))) dX5_mishap_11 rfl fX5_15 em_o rfl ?_
  refine e_aload_n dX5_mishap_14 0 rfl rfl rfl ?_
  refine e_getf (v := (.int η.2.2.2.1)) dX5_mishap_15 rfl fX5_59 em_o rfl ?_
  refine e_top (congrArg Value.int eM) ?_
  refine e_iload_n dX5_mishap_18 2 rfl rfl ?_
  refine e_iast (f := η.2.2.2.2.1 1) (j := m) dX5_mishap_19 (em_k2) rfl (by omega) (by omega) ?_
  rw [em_s2]
  refine e_aload_n dX5_mishap_20 0 rfl rfl rfl ?_
  refine e_getf (v := (.ref (pre.length + 3))) dX5_mishap_21 rfl fX5_18 em_o rfl ?_
  refine e_aload_n dX5_mishap_24 0 rfl rfl rfl ?_
  refine e_getf (v := (.int η.2.2.2.1)) dX5_mishap_25 rfl fX5_59 em_o rfl ?_
  refine e_top (congrArg Value.int eM) ?_
  refine e_iload_n dX5_mishap_28 3 rfl rfl ?_
  refine e_iast (f := η.2.2.2.2.1 2) (j := m) dX5_mishap_29 (em_k3) rfl (by omega) (by omega) ?_
  rw [em_s3]
  refine e_aload_n dX5_mishap_30 0 rfl rfl rfl ?_
  refine e_getf (v := (.ref (pre.length + 4))) dX5_mishap_31 rfl fX5_21 em_o rfl ?_
  refine e_aload_n dX5_mishap_34 0 rfl rfl rfl ?_
  refine e_getf (v := (.int η.2.2.2.1)) dX5_mishap_35 rfl fX5_59 em_o rfl ?_
  refine e_top (congrArg Value.int eM) ?_
  refine e_iload dX5_mishap_38 rfl ?_
  refine e_iast (f := η.2.2.2.2.1 3) (j := m) dX5_mishap_40 (em_k4) rfl (by omega) (by omega) ?_
  rw [em_s4]
  refine e_aload_n dX5_mishap_41 0 rfl rfl rfl ?_
  refine e_dup dX5_mishap_42 rfl ?_
  refine e_getf (v := (.int η.2.2.2.1)) dX5_mishap_43 rfl fX5_59 em_o rfl ?_
  refine e_top (congrArg Value.int eM) ?_
  refine e_iconst 1 dX5_mishap_46 rfl ?_
  refine e_iaddN m 1 dX5_mishap_47 ?_
  refine e_xputI dX5_mishap_48 rfl pX5_59 rfl em_o (Nat.le_of_ble_eq_true rfl) (em_sM _) ?_
  refine e_return dX5_mishap_51 rfl (Nat.zero_le _) (Nat.zero_le _) ?_
  exact ⟨rfl, rfl⟩

set_option maxHeartbeats 4000000 in
set_option maxRecDepth 100000 in
/-- a loop of number -/
theorem x_enumber_loop {pre post : List ACell} {η : En} {A W m : Nat} {rd : Nat → Nat} {x : Nat} (hJ : EnJ η A W m rd) (hx : x < A)  : ∀ (fuel : Nat) (m' : Nat) (v : Int64) (y : Int32), m' ≤ W → W < m' + fuel → v = oaN η.2.2.2.2.2.2.1 (η.2.2.2.2.2.2.2 x) W m' → (m' = W ∧ y = -1) ∨ (m' < W ∧ y = nI (W - 1 - m')) →
    E cX5_number (RX5, (some .long), 5, 0, (0, 0), false, []) (Q1 (some (.long (oaN η.2.2.2.2.2.2.1 (η.2.2.2.2.2.2.2 x) W W))) (EM pre η post)) noX 0 0 10 [some (.ref pre.length), some (.int (nI x)), some (.long v), none, some (.int y)] [] (EM pre η post) := by
  intro fuel
  induction fuel with
  | zero => intro m' v y hm' hf hv hy; exact absurd hf (by omega)
  | succ fuel ih =>
    intro m' v y hm' hf hv hy
    obtain ⟨hA, hW, hA7, hW12, hm20, eM, hR⟩ := id hJ
    refine e_iload dX5_number_10 rfl ?_
    refine e_if_lt 46 dX5_number_12 (by decide) (fun h12 => ?_) (fun h12 => ?_)
    · refine e_lload_n dX5_number_46 2 rfl rfl ?_
      refine e_lreturn dX5_number_47 rfl (Nat.zero_le _) (Nat.zero_le _) ?_
      have e1 : m' = W := by
        rcases hy with ⟨e1, -⟩ | ⟨e1, e2⟩
        · exact e1
        · rw [e2] at h12; exact absurd h12 (nI_pos (by omega))
      rw [hv, e1]; exact ⟨rfl, rfl⟩
    · obtain ⟨i, hi, hmW, rfl, ei⟩ : ∃ i, i < W ∧ m' < W ∧ y = nI i ∧ i = W - 1 - m' := by
        rcases hy with ⟨e1, e2⟩ | ⟨e1, e2⟩
        · rw [e2] at h12; exact absurd (show (-1 : Int32) < 0 by decide) h12
        · exact ⟨_, by omega, e1, e2, rfl⟩
      refine e_lload_n dX5_number_15 2 rfl rfl ?_
      refine e_aload_n dX5_number_16 0 rfl rfl rfl ?_
      refine e_getf (v := (.ref (pre.length + 6))) dX5_number_17 rfl fX5_35 em_o rfl ?_
      refine e_iload dX5_number_20 rfl ?_
      refine e_iald (f := η.2.2.2.2.2.2.1) (j := i) dX5_number_22 (em_rW (η := η) hW) rfl (by omega) (by omega) ?_
      refine e_i2l dX5_number_23 ?_
      refine e_lmul dX5_number_24 ?_
      refine e_aload_n dX5_number_25 0 rfl rfl rfl ?_
      refine e_getf (v := (.ref (pre.length + 7))) dX5_number_26 rfl fX5_46 em_o rfl ?_
      refine e_iload_n dX5_number_29 1 rfl rfl ?_
      refine e_aald (f := enA pre.length A) (j := x) dX5_number_30 (em_xA (η := η) hA) (fun _ => rfl) rfl (by omega) (by omega) ?_
      refine e_top (congrArg rfO (enA_at (by omega))) ?_
      refine e_getf (v := (.ref (pre.length + 9 + 2 * x))) dX5_number_31 rfl fX5_53 (em_a (η := η) hA (by omega)) rfl ?_
      refine e_iload dX5_number_34 rfl ?_
      refine e_iald (f := η.2.2.2.2.2.2.2 x) (j := i) dX5_number_36 (em_f (η := η) hA hW (by omega)) rfl (by omega) (by omega) ?_
      refine e_i2l dX5_number_37 ?_
      refine e_ladd dX5_number_38 ?_
      refine e_lstore_n dX5_number_39 2 rfl (ls_s (ls_1 rfl)) (ln_s (ln_s (ln_s ln_0))) (Nat.le_of_ble_eq_true rfl) ?_
      refine e_iinc ((nI i) + (-1)) dX5_number_40 rfl rfl (ls_s (ls_s (ls_s (ls_1 rfl)))) (Nat.le_of_ble_eq_true rfl) ?_
      refine e_goto 10 dX5_number_43 (by decide) ?_
      refine ih (m' + 1) _ _ (by omega) (by omega) (by rw [oaN, hv, ← ei]) ?_
      subst ei
      by_cases e1 : m' + 1 = W
      · exact Or.inl ⟨e1, by rw [show W - 1 - m' = 0 by omega]; rfl⟩
      · refine Or.inr ⟨by omega, ?_⟩
        obtain ⟨q, hq⟩ : ∃ q, W - 1 - m' = q + 1 := ⟨W - 1 - m' - 1, by omega⟩
        rw [hq, show W - 1 - (m' + 1) = q by omega]; exact decS q

set_option maxHeartbeats 4000000 in
set_option maxRecDepth 100000 in
/-- WheelTables$Engine.number -/
theorem x_enumber {pre post : List ACell} {η : En} {A W m : Nat} {rd : Nat → Nat} {x : Nat} (hJ : EnJ η A W m rd) (hx : x < A) : Ct yX5_number (ws_ yX5_number cX5_number 5 (some .long)) 0 0 0 [.ref pre.length, .int (nI x)] (EM pre η post) (Q1 (some (.long (oaN η.2.2.2.2.2.2.1 (η.2.2.2.2.2.2.2 x) W W))) (EM pre η post)) noX := by
  obtain ⟨hA, hW, hA7, hW12, hm20, eM, hR⟩ := id hJ
  refine Ct.of (ini := false) (ls := [some (.ref pre.length), some (.int (nI x)), none, none, none]) (by decide) (Nat.le_of_ble_eq_true rfl) (fun h => by cases h) rfl ?_
  refine e_lconst 0 dX5_number_0 rfl ?_
  refine e_lstore_n dX5_number_1 2 rfl (ls_s (ls_1 rfl)) (ln_s (ln_s (ln_s ln_0))) (Nat.le_of_ble_eq_true rfl) ?_
  refine e_aload_n dX5_number_2 0 rfl rfl rfl ?_
  refine e_getf (v := (.int (nI η.2.1))) dX5_number_3 rfl fX5_32 em_o rfl ?_
  refine e_top (congrArg (fun z => Value.int (nI z)) hW) ?_
  refine e_iconst 1 dX5_number_6 rfl ?_
  refine e_isubN W 1 (by omega) dX5_number_7 ?_
  refine e_istore dX5_number_8 (ls_s (ls_s (ls_s (ls_1 rfl)))) (Nat.le_of_ble_eq_true rfl) ?_
  exact x_enumber_loop hJ hx (W + 1) 0 0 _ (by omega) (by omega) rfl (Or.inr ⟨by omega, rfl⟩)

