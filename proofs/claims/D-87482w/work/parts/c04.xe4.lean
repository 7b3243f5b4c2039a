/-! ===== the component: a turn ===== -/
theorem EfM.cg {η : En} {A W : Nat} {F G : Mx} (h : EfM η A W F) (e : ∀ a, a < A → ∀ i, i < W → F a i = G a i) : EfM η A W G := fun a ha i hi => (h a ha i hi).trans (congrArg nI (e a ha i hi))
/-- the slips among the first k mishaps told -/
def slK (η : En) (rd : Nat → Nat) (G : Mx) (k : Nat) : Mx := fun a w => decN (rd w) (G a w) (cE η η.2.2.1 a w 0 k)
/-- the mishaps told are of axes but the last, of wheels -/
def EnM (η : En) (A W m : Nat) : Prop := ∀ q, q < m → ∃ x w k, x + 1 < A ∧ w < W ∧ k < 3 ∧ η.2.2.2.2.1 1 q = nI x ∧ η.2.2.2.2.1 2 q = nI w ∧ η.2.2.2.2.1 3 q = nI k
theorem EnM.cg {η' η : En} {A W m : Nat} (h : EnM η A W m) (e : η'.2.2.2.2.1 = η.2.2.2.2.1) : EnM η' A W m := by unfold EnM; rw [e]; exact h
theorem cE_last {η : En} {A W m : Nat} (hA : A ≤ 7) (hM : EnM η A W m) {t : Int32} {x w k : Nat} (hx : A ≤ x + 1) (hx2 : x < A) : ∀ q, q ≤ m → cE η t x w k q = 0
  | 0, _ => rfl
  | q + 1, hq => by
    rw [cE, cE_last hA hM hx hx2 q (by omega), if_neg]
    intro z
    obtain ⟨x', w', k', h1, h2, h3, h4, h5, h6⟩ := hM q (by omega)
    have := z.2.1
    rw [h4] at this
    have := (nI_eqN (by omega) (by omega)).mp this
    omega
theorem slK_e {η : En} {A W m : Nat} {rd : Nat → Nat} {cnt : Nat → Nat → Nat → Nat} {G : Mx} (hA : A ≤ 7) (hM : EnM η A W m) (hcn : ∀ x w k, cE η η.2.2.1 x w k m = cnt x w k) : ∀ a, a < A → ∀ i, i < W → slK η rd G m a i = slF A W rd cnt G a i := by
  intro a ha i hi
  unfold slK slF
  by_cases h : a + 1 < A
  · rw [if_pos ⟨h, hi⟩, hcn]
  · rw [if_neg (fun z => h z.1), cE_last hA hM (by omega) ha m (Nat.le_refl _)]; rfl
theorem slK_ok {η : En} {A W : Nat} {rd : Nat → Nat} {G : Mx} (hr : Rds W rd) (h : Bnd A W rd G) (k : Nat) : Bnd A W rd (slK η rd G k) := fun a ha i hi => decN_ok (by have := hr i hi; omega) (h a ha i hi) _
theorem slK_n {η : En} {rd : Nat → Nat} {G : Mx} {k : Nat} (h : ¬ (η.2.2.2.2.1 0 k = η.2.2.1 ∧ η.2.2.2.2.1 3 k = 0)) : slK η rd G (k + 1) = slK η rd G k := by
  funext a w
  unfold slK
  rw [cE, if_neg (fun z => h ⟨z.1, z.2.2.2⟩)]; rfl
theorem slK_s {η : En} {A W : Nat} {rd : Nat → Nat} {G : Mx} {k x w : Nat} (hA : A ≤ 7) (hW : W ≤ 12) (hx : x < A) (hw : w < W) (h0 : η.2.2.2.2.1 0 k = η.2.2.1) (h1 : η.2.2.2.2.1 1 k = nI x) (h2 : η.2.2.2.2.1 2 k = nI w) (h3 : η.2.2.2.2.1 3 k = 0) :
    ∀ a, a < A → ∀ i, i < W → upM (slK η rd G k) x w ((slK η rd G k x w + rd w - 1) % rd w) a i = slK η rd G (k + 1) a i := by
  intro a ha i hi
  by_cases e : a = x ∧ i = w
  · obtain ⟨rfl, rfl⟩ := e
    rw [upM_s]
    show _ = decN _ _ (cE η η.2.2.1 a i 0 (k + 1))
    rw [cE, if_pos ⟨h0, h1, h2, h3⟩]
    rfl
  · rw [upM_n e]
    show decN _ _ (cE η η.2.2.1 a i 0 k) = decN _ _ (cE η η.2.2.1 a i 0 (k + 1))
    rw [cE, if_neg]
    · rfl
    · intro z
      refine e ⟨?_, ?_⟩
      · have := z.2.1; rw [h1] at this; exact ((nI_eqN (by omega) (by omega)).mp this).symm
      · have := z.2.2.1; rw [h2] at this; exact ((nI_eqN (by omega) (by omega)).mp this).symm
set_option maxHeartbeats 4000000 in
set_option maxRecDepth 100000 in
/-- a loop of turns -/
theorem x_turns1 {pre post : List ACell} {η0 : En} {A W m : Nat} {rd : Nat → Nat} {cnt : Nat → Nat → Nat → Nat} {F : Mx} (hJ0 : EnJ η0 A W m rd) (hcn : ∀ x w k, cE η0 η0.2.2.1 x w k m = cnt x w k) (hr : Rds W rd) (hB : Bnd A W rd F) {Q : Qfun} : ∀ (fuel : Nat) (j : Nat) (η : En), j ≤ (A / 2) → (A / 2) < j + fuel → Sme η η0 → EfM η A W (adL W rd cnt 1 F j) → (∀ η, Sme η η0 → EfM η A W (adL W rd cnt 1 F (A / 2)) → E cX5_turns (RX5, none, 3, 3, (0, 0), false, []) Q noX 0 0 36 [some (.ref pre.length), none, none] [] (EM pre η post)) →
    E cX5_turns (RX5, none, 3, 3, (0, 0), false, []) Q noX 0 0 12 [some (.ref pre.length), some (.int (nI (2 * j))), none] [] (EM pre η post) := by
  intro fuel
  induction fuel with
  | zero => intro j η hj hf hS hF hE; exact absurd hf (by omega)
  | succ fuel ih =>
    intro j η hj hf hS hF hE
    have hJ : EnJ η A W m rd := hS.J hJ0
    obtain ⟨hA, hW, hA7, hW12, hm20, eM, hR⟩ := id hJ
    refine e_iload_n dX5_turns_12 1 rfl rfl ?_
    refine e_iconst 1 dX5_turns_13 rfl ?_
    refine e_iaddN (2 * j) 1 dX5_turns_14 ?_
    refine e_aload_n dX5_turns_15 0 rfl rfl rfl ?_
    refine e_getf (v := (.int (nI η.1))) dX5_turns_16 rfl fX5_28 em_o rfl ?_
    refine e_top (congrArg (fun z => Value.int (nI z)) hA) ?_
    refine e_icmp_geN ((2 * j) + 1) A 36 (by omega) (by omega) dX5_turns_19 (by decide) (fun h19 => ?_) (fun h19 => ?_)
    · refine e_forget (i := 1) (ln_s ln_0) ?_
      obtain rfl : j = (A / 2) := by omega
      exact hE η hS hF
    · refine e_aload_n dX5_turns_22 0 rfl rfl rfl ?_
      refine e_iload_n dX5_turns_23 1 rfl rfl ?_
      refine e_iload_n dX5_turns_24 1 rfl rfl ?_
      refine e_iconst 1 dX5_turns_25 rfl ?_
      refine e_iaddN (2 * j) 1 dX5_turns_26 ?_
      refine e_callVQ (As := [.int (nI (2 * j)), .int (nI ((2 * j) + 1))]) (rest := []) dX5_turns_27 rfl mvX5_66 (em_o) rfl (x_adds (x := (2 * j)) hJ (fun a b c => (hS.c a b c m).trans (hcn a b c)) (by omega) hr (adL_ok (s := 1) (by omega) hr hB j) hF) (Nat.le_of_ble_eq_true rfl) rfl rfl (Nat.le_of_ble_eq_true rfl) (Nat.zero_le _) (Nat.zero_le _) (fun v0 M0 h0_ _ => ?_)
      obtain ⟨rfl, η1, rfl, hS1, hF1⟩ := h0_
      refine e_incN (2 * j) (2 * j + 2) (nI_add _ 2) dX5_turns_30 rfl (ls_1 rfl) (Nat.le_of_ble_eq_true rfl) ?_
      refine e_goto 12 dX5_turns_33 (by decide) ?_
      refine ih (j + 1) η1 (by omega) (by omega) (hS1.trans hS) ?_ hE
      rw [adL, show 1 + 2 * j = 2 * j + 1 by omega]
      exact hF1

set_option maxHeartbeats 4000000 in
set_option maxRecDepth 100000 in
/-- a loop of turns -/
theorem x_turns2 {pre post : List ACell} {η0 : En} {A W m : Nat} {rd : Nat → Nat} {cnt : Nat → Nat → Nat → Nat} {F : Mx} (hJ0 : EnJ η0 A W m rd) (hcn : ∀ x w k, cE η0 η0.2.2.1 x w k m = cnt x w k) (hr : Rds W rd) (hB : Bnd A W rd F) {Q : Qfun} : ∀ (fuel : Nat) (j : Nat) (η : En), j ≤ ((A - 1) / 2) → ((A - 1) / 2) < j + fuel → Sme η η0 → EfM η A W (adL W rd cnt 2 F j) → (∀ η, Sme η η0 → EfM η A W (adL W rd cnt 2 F ((A - 1) / 2)) → E cX5_turns (RX5, none, 3, 3, (0, 0), false, []) Q noX 0 0 62 [some (.ref pre.length), none, none] [] (EM pre η post)) →
    E cX5_turns (RX5, none, 3, 3, (0, 0), false, []) Q noX 0 0 38 [some (.ref pre.length), some (.int (nI (1 + 2 * j))), none] [] (EM pre η post) := by
  intro fuel
  induction fuel with
  | zero => intro j η hj hf hS hF hE; exact absurd hf (by omega)
  | succ fuel ih =>
    intro j η hj hf hS hF hE
    have hJ : EnJ η A W m rd := hS.J hJ0
    obtain ⟨hA, hW, hA7, hW12, hm20, eM, hR⟩ := id hJ
    refine e_iload_n dX5_turns_38 1 rfl rfl ?_
    refine e_iconst 1 dX5_turns_39 rfl ?_
    refine e_iaddN (1 + 2 * j) 1 dX5_turns_40 ?_
    refine e_aload_n dX5_turns_41 0 rfl rfl rfl ?_
    refine e_getf (v := (.int (nI η.1))) dX5_turns_42 rfl fX5_28 em_o rfl ?_
    refine e_top (congrArg (fun z => Value.int (nI z)) hA) ?_
    refine e_icmp_geN ((1 + 2 * j) + 1) A 62 (by omega) (by omega) dX5_turns_45 (by decide) (fun h45 => ?_) (fun h45 => ?_)
    · refine e_forget (i := 1) (ln_s ln_0) ?_
      obtain rfl : j = ((A - 1) / 2) := by omega
      exact hE η hS hF
    · refine e_aload_n dX5_turns_48 0 rfl rfl rfl ?_
      refine e_iload_n dX5_turns_49 1 rfl rfl ?_
      refine e_iload_n dX5_turns_50 1 rfl rfl ?_
      refine e_iconst 1 dX5_turns_51 rfl ?_
      refine e_iaddN (1 + 2 * j) 1 dX5_turns_52 ?_
      refine e_callVQ (As := [.int (nI (1 + 2 * j)), .int (nI ((1 + 2 * j) + 1))]) (rest := []) dX5_turns_53 rfl mvX5_66 (em_o) rfl (x_adds (x := (1 + 2 * j)) hJ (fun a b c => (hS.c a b c m).trans (hcn a b c)) (by omega) hr (adL_ok (s := 2) (by omega) hr hB j) hF) (Nat.le_of_ble_eq_true rfl) rfl rfl (Nat.le_of_ble_eq_true rfl) (Nat.zero_le _) (Nat.zero_le _) (fun v0 M0 h0_ _ => ?_)
      obtain ⟨rfl, η1, rfl, hS1, hF1⟩ := h0_
      refine e_incN (1 + 2 * j) (1 + 2 * j + 2) (nI_add _ 2) dX5_turns_56 rfl (ls_1 rfl) (Nat.le_of_ble_eq_true rfl) ?_
      refine e_goto 38 dX5_turns_59 (by decide) ?_
      refine ih (j + 1) η1 (by omega) (by omega) (hS1.trans hS) ?_ hE
      rw [adL, show 2 + 2 * j = 1 + 2 * j + 1 by omega]
      exact hF1

set_option maxHeartbeats 4000000 in
set_option maxRecDepth 100000 in
/-- a loop of turns -/
theorem x_turns3 {pre post : List ACell} {η0 : En} {A W m : Nat} {rd : Nat → Nat} {cnt : Nat → Nat → Nat → Nat} {F : Mx} (hJ0 : EnJ η0 A W m rd) (hcn : ∀ x w k, cE η0 η0.2.2.1 x w k m = cnt x w k) (hr : Rds W rd) (hB : Bnd A W rd F) (hM : EnM η0 A W m) {Q : Qfun} : ∀ (fuel : Nat) (k : Nat) (η : En), k ≤ m → m < k + fuel → Sme η η0 → EfM η A W (slK η0 rd F k) → (∀ η, Sme η η0 → EfM η A W (slF A W rd cnt F) → Q none (EM pre η post)) →
    E cX5_turns (RX5, none, 3, 3, (0, 0), false, []) Q noX 0 0 64 [some (.ref pre.length), some (.int (nI k)), none] [] (EM pre η post) := by
  intro fuel
  induction fuel with
  | zero => intro k η hk hf hS hF hE; exact absurd hf (by omega)
  | succ fuel ih =>
    intro k η hk hf hS hF hE
    have hJ : EnJ η A W m rd := hS.J hJ0
    obtain ⟨hA, hW, hA7, hW12, hm20, eM, hR⟩ := id hJ
    refine e_iload_n dX5_turns_64 1 rfl rfl ?_
    refine e_aload_n dX5_turns_65 0 rfl rfl rfl ?_
    refine e_getf (v := (.int η.2.2.2.1)) dX5_turns_66 rfl fX5_59 em_o rfl ?_
    refine e_top (congrArg Value.int eM) ?_
    refine e_icmp_geN k m 163 (by omega) (by omega) dX5_turns_69 (by decide) (fun h69 => ?_) (fun h69 => ?_)
    · refine e_return dX5_turns_163 rfl (Nat.zero_le _) (Nat.zero_le _) ?_
      obtain rfl : k = m := by omega
      exact hE η hS (hF.cg (slK_e hA7.2 hM hcn))
    · refine e_aload_n dX5_turns_72 0 rfl rfl rfl ?_
      refine e_getf (v := (.ref (pre.length + 1))) dX5_turns_73 rfl fX5_9 em_o rfl ?_
      refine e_iload_n dX5_turns_76 1 rfl rfl ?_
      refine e_iald (f := η.2.2.2.2.1 0) (j := k) dX5_turns_77 (em_k1) rfl (by omega) (by omega) ?_
      refine e_aload_n dX5_turns_78 0 rfl rfl rfl ?_
      refine e_getf (v := (.int η.2.2.1)) dX5_turns_79 rfl fX5_56 em_o rfl ?_
      refine e_icmp_ne 157 dX5_turns_82 (by decide) (fun h82 => ?_) (fun h82 => ?_)
      · refine e_incN k (k + 1) (inc1 _) dX5_turns_157 rfl (ls_1 rfl) (Nat.le_of_ble_eq_true rfl) ?_
        refine e_goto 64 dX5_turns_160 (by decide) ?_
        refine ih (k + 1) _ (by omega) (by omega) hS ?_ hE
        rw [slK_n (fun z => h82 ((congrFun (congrFun hS.2.2.2.2.1 0) k).trans (z.1.trans hS.2.2.1.symm)))]; exact hF
      · refine e_aload_n dX5_turns_85 0 rfl rfl rfl ?_
        refine e_getf (v := (.ref (pre.length + 4))) dX5_turns_86 rfl fX5_21 em_o rfl ?_
        refine e_iload_n dX5_turns_89 1 rfl rfl ?_
        refine e_iald (f := η.2.2.2.2.1 3) (j := k) dX5_turns_90 (em_k4) rfl (by omega) (by omega) ?_
        refine e_if_eq 97 dX5_turns_91 (by decide) (fun h91 => ?_) (fun h91 => ?_)
        · obtain ⟨xa, wa, ka, hxa, hwa, hka, e1, e2, e3⟩ := hM k (by omega)
          have e1 : η.2.2.2.2.1 1 k = nI xa := (congrFun (congrFun hS.2.2.2.2.1 1) k).trans e1
          have e2 : η.2.2.2.2.1 2 k = nI wa := (congrFun (congrFun hS.2.2.2.2.1 2) k).trans e2
          have hb := slK_ok (η := η0) hr hB k xa (by omega) wa (by omega)
          have hrw := hr wa (by omega)
          refine e_aload_n dX5_turns_97 0 rfl rfl rfl ?_
          refine e_getf (v := (.ref (pre.length + 7))) dX5_turns_98 rfl fX5_46 em_o rfl ?_
          refine e_aload_n dX5_turns_101 0 rfl rfl rfl ?_
          refine e_getf (v := (.ref (pre.length + 2))) dX5_turns_102 rfl fX5_15 em_o rfl ?_
          refine e_iload_n dX5_turns_105 1 rfl rfl ?_
          refine e_iald (f := η.2.2.2.2.1 1) (j := k) dX5_turns_106 (em_k2) rfl (by omega) (by omega) ?_
          refine e_top (congrArg Value.int e1) ?_
          refine e_aald (f := enA pre.length A) (j := xa) dX5_turns_107 (em_xA (η := η) hA) (fun _ => rfl) rfl (by omega) (by omega) ?_
          refine e_top (congrArg rfO (enA_at (by omega))) ?_
          refine e_getf (v := (.ref (pre.length + 9 + 2 * xa))) dX5_turns_108 rfl fX5_53 (em_a (η := η) hA (by omega)) rfl ?_
          refine e_astore_n dX5_turns_111 2 rfl (ls_s (ls_1 rfl)) (Nat.le_of_ble_eq_true rfl) rfl ?_
          refine e_aload_n dX5_turns_112 2 rfl rfl rfl ?_
          refine e_aload_n dX5_turns_113 0 rfl rfl rfl ?_
          refine e_getf (v := (.ref (pre.length + 3))) dX5_turns_114 rfl fX5_18 em_o rfl ?_
          refine e_iload_n dX5_turns_117 1 rfl rfl ?_
          refine e_iald (f := η.2.2.2.2.1 2) (j := k) dX5_turns_118 (em_k3) rfl (by omega) (by omega) ?_
          refine e_top (congrArg Value.int e2) ?_
          refine e_aload_n dX5_turns_119 2 rfl rfl rfl ?_
          refine e_aload_n dX5_turns_120 0 rfl rfl rfl ?_
          refine e_getf (v := (.ref (pre.length + 3))) dX5_turns_121 rfl fX5_18 em_o rfl ?_
          refine e_iload_n dX5_turns_124 1 rfl rfl ?_
          refine e_iald (f := η.2.2.2.2.1 2) (j := k) dX5_turns_125 (em_k3) rfl (by omega) (by omega) ?_
          refine e_top (congrArg Value.int e2) ?_
          refine e_iald (f := η.2.2.2.2.2.2.2 xa) (j := wa) dX5_turns_126 (em_f (η := η) hA hW (by omega)) rfl (by omega) (by omega) ?_
          refine e_top (congrArg Value.int (hF xa (by omega) wa (by omega))) ?_
          refine e_if_neN ((slK η0 rd F k) xa wa) 146 (by omega) dX5_turns_127 (by decide) (fun h127 => ?_) (fun h127 => ?_)
          · refine e_aload_n dX5_turns_146 2 rfl rfl rfl ?_
            refine e_aload_n dX5_turns_147 0 rfl rfl rfl ?_
            refine e_getf (v := (.ref (pre.length + 3))) dX5_turns_148 rfl fX5_18 em_o rfl ?_
            refine e_iload_n dX5_turns_151 1 rfl rfl ?_
            refine e_iald (f := η.2.2.2.2.1 2) (j := k) dX5_turns_152 (em_k3) rfl (by omega) (by omega) ?_
            refine e_top (congrArg Value.int e2) ?_
            refine e_iald (f := η.2.2.2.2.2.2.2 xa) (j := wa) dX5_turns_153 (em_f (η := η) hA hW (by omega)) rfl (by omega) (by omega) ?_
            refine e_top (congrArg Value.int (hF xa (by omega) wa (by omega))) ?_
            refine e_iconst 1 dX5_turns_154 rfl ?_
            refine e_isubN ((slK η0 rd F k) xa wa) 1 (by omega) dX5_turns_155 ?_
            refine e_iast (f := η.2.2.2.2.2.2.2 xa) (j := wa) dX5_turns_156 (em_f (η := η) hA hW (by omega)) rfl (by omega) (by omega) ?_
            rw [em_fs (η := η) hA hW (by omega)]
            refine e_incN k (k + 1) (inc1 _) dX5_turns_157 rfl (ls_1 rfl) (Nat.le_of_ble_eq_true rfl) ?_
            refine e_goto 64 dX5_turns_160 (by decide) ?_
            refine e_forget (i := 2) (ln_s (ln_s ln_0)) ?_
            refine ih (k + 1) _ (by omega) (by omega) (by exact hS) ?_ hE
            refine EfM.cg ?_ (slK_s (x := xa) (w := wa) hA7.2 hW12.2 (by omega) hwa ((congrFun (congrFun hS.2.2.2.2.1 0) k).symm.trans (h82.trans hS.2.2.1)) ((congrFun (congrFun hS.2.2.2.2.1 1) k).symm.trans e1) ((congrFun (congrFun hS.2.2.2.2.1 2) k).symm.trans e2) ((congrFun (congrFun hS.2.2.2.2.1 3) k).symm.trans h91))
            rw [show ((slK η0 rd F k) xa wa + rd wa - 1) % rd wa = (slK η0 rd F k) xa wa - 1 by rw [show (slK η0 rd F k) xa wa + rd wa - 1 = (slK η0 rd F k) xa wa - 1 + rd wa by omega, Nat.add_mod_right, Nat.mod_eq_of_lt (by omega)]]
            exact EfM.up hF (fun b hb => nF_n hb) ((congrFun (nF_s _ _ _) _).trans pk_us) (fun i hi => (congrFun (nF_s _ _ _) i).trans (pk_un hi))
          · refine e_aload_n dX5_turns_130 0 rfl rfl rfl ?_
            refine e_getf (v := (.ref (pre.length + 6))) dX5_turns_131 rfl fX5_35 em_o rfl ?_
            refine e_aload_n dX5_turns_134 0 rfl rfl rfl ?_
            refine e_getf (v := (.ref (pre.length + 3))) dX5_turns_135 rfl fX5_18 em_o rfl ?_
            refine e_iload_n dX5_turns_138 1 rfl rfl ?_
            refine e_iald (f := η.2.2.2.2.1 2) (j := k) dX5_turns_139 (em_k3) rfl (by omega) (by omega) ?_
            refine e_top (congrArg Value.int e2) ?_
            refine e_iald (f := η.2.2.2.2.2.2.1) (j := wa) dX5_turns_140 (em_rW (η := η) hW) rfl (by omega) (by omega) ?_
            refine e_top (congrArg Value.int (hR wa (by omega))) ?_
            refine e_iconst 1 dX5_turns_141 rfl ?_
            refine e_isubN (rd wa) 1 (by omega) dX5_turns_142 ?_
            refine e_goto 156 dX5_turns_143 (by decide) ?_
            refine e_iast (f := η.2.2.2.2.2.2.2 xa) (j := wa) dX5_turns_156 (em_f (η := η) hA hW (by omega)) rfl (by omega) (by omega) ?_
            rw [em_fs (η := η) hA hW (by omega)]
            refine e_incN k (k + 1) (inc1 _) dX5_turns_157 rfl (ls_1 rfl) (Nat.le_of_ble_eq_true rfl) ?_
            refine e_goto 64 dX5_turns_160 (by decide) ?_
            refine e_forget (i := 2) (ln_s (ln_s ln_0)) ?_
            refine ih (k + 1) _ (by omega) (by omega) (by exact hS) ?_ hE
            refine EfM.cg ?_ (slK_s (x := xa) (w := wa) hA7.2 hW12.2 (by omega) hwa ((congrFun (congrFun hS.2.2.2.2.1 0) k).symm.trans (h82.trans hS.2.2.1)) ((congrFun (congrFun hS.2.2.2.2.1 1) k).symm.trans e1) ((congrFun (congrFun hS.2.2.2.2.1 2) k).symm.trans e2) ((congrFun (congrFun hS.2.2.2.2.1 3) k).symm.trans h91))
            rw [show ((slK η0 rd F k) xa wa + rd wa - 1) % rd wa = rd wa - 1 by rw [h127, Nat.zero_add, Nat.mod_eq_of_lt (by omega)]]
            exact EfM.up hF (fun b hb => nF_n hb) ((congrFun (nF_s _ _ _) _).trans pk_us) (fun i hi => (congrFun (nF_s _ _ _) i).trans (pk_un hi))
        · refine e_goto 157 dX5_turns_94 (by decide) ?_
          refine e_incN k (k + 1) (inc1 _) dX5_turns_157 rfl (ls_1 rfl) (Nat.le_of_ble_eq_true rfl) ?_
          refine e_goto 64 dX5_turns_160 (by decide) ?_
          refine ih (k + 1) _ (by omega) (by omega) hS ?_ hE
          rw [slK_n (fun z => h91 ((congrFun (congrFun hS.2.2.2.2.1 3) k).trans z.2))]; exact hF

set_option maxHeartbeats 4000000 in
set_option maxRecDepth 100000 in
/-- WheelTables$Engine.turns -/
theorem x_turns5 {pre post : List ACell} {η : En} {A W m : Nat} {rd : Nat → Nat} {cnt : Nat → Nat → Nat → Nat} {F : Mx} (hJ0 : EnJ η A W m rd) (hcn : ∀ x w k, cE η (η.2.2.1 + 1) x w k m = cnt x w k) (hr : Rds W rd) (hB : Bnd A W rd F) (hF : EfM η A W F) (hM : EnM η A W m) : Ct yX5_turns (ws_ yX5_turns cX5_turns 3 none) 3 0 0 [.ref pre.length] (EM pre η post) (fun v M' => v = none ∧ ∃ η', M' = EM pre η' post ∧ Sme η' (nT η (η.2.2.1 + 1)) ∧ EfM η' A W (turnN A W rd cnt F)) noX := by
  obtain ⟨hA, hW, hA7, hW12, hm20, eM, hR⟩ := id hJ0
  refine Ct.of (ini := false) (ls := [some (.ref pre.length), none, none]) (by decide) (Nat.le_of_ble_eq_true rfl) (fun h => by cases h) rfl ?_
  refine e_aload_n dX5_turns_0 0 rfl rfl rfl ?_
  refine e_dup dX5_turns_1 rfl ?_
  refine e_getf (v := (.int η.2.2.1)) dX5_turns_2 rfl fX5_56 em_o rfl ?_
  refine e_iconst 1 dX5_turns_5 rfl ?_
  refine e_iadd dX5_turns_6 ?_
  refine e_xputI dX5_turns_7 rfl pX5_56 rfl em_o (Nat.le_of_ble_eq_true rfl) (em_sT _) ?_
  refine e_iconst 0 dX5_turns_10 rfl ?_
  refine e_istore_n dX5_turns_11 1 rfl (ls_1 rfl) (Nat.le_of_ble_eq_true rfl) ?_
  refine x_turns1 (η0 := (nT η (η.2.2.1 + 1))) (F := F) (cnt := cnt) hJ0 (fun a b c => (cE_cg (η := η) (η' := (nT η (η.2.2.1 + 1))) rfl _ a b c m).trans (hcn a b c)) hr hB (A / 2 + 1) 0 (nT η (η.2.2.1 + 1)) (by omega) (by omega) (Sme.rf _) (by exact hF) (fun η1 hS1 hF1 => ?_)
  refine e_iconst 1 dX5_turns_36 rfl ?_
  refine e_istore_n dX5_turns_37 1 rfl (ls_1 rfl) (Nat.le_of_ble_eq_true rfl) ?_
  refine x_turns2 (η0 := (nT η (η.2.2.1 + 1))) (F := adL W rd cnt 1 F (A / 2)) (cnt := cnt) hJ0 (fun a b c => (cE_cg (η := η) (η' := (nT η (η.2.2.1 + 1))) rfl _ a b c m).trans (hcn a b c)) hr (adL_ok (s := 1) hW12.1 hr hB (A / 2)) ((A - 1) / 2 + 1) 0 η1 (by omega) (by omega) hS1 hF1 (fun η2 hS2 hF2 => ?_)
  refine e_iconst 0 dX5_turns_62 rfl ?_
  refine e_istore_n dX5_turns_63 1 rfl (ls_1 rfl) (Nat.le_of_ble_eq_true rfl) ?_
  exact x_turns3 (η0 := (nT η (η.2.2.1 + 1))) (F := adL W rd cnt 2 (adL W rd cnt 1 F (A / 2)) ((A - 1) / 2)) (cnt := cnt) hJ0 (fun a b c => (cE_cg (η := η) (η' := (nT η (η.2.2.1 + 1))) rfl _ a b c m).trans (hcn a b c)) hr (adL_ok (s := 2) hW12.1 hr (adL_ok (s := 1) hW12.1 hr hB (A / 2)) ((A - 1) / 2)) (hM.cg rfl) (m + 1) 0 η2 (by omega) (by omega) hS2 (by exact hF2) (fun η3 hS3 hF3 => ⟨rfl, η3, rfl, hS3, hF3⟩)

