/-! ===== the component: least turns ===== -/
def lA : Nat → Bool := fun k => k == 27 || k == 28 || decide (400 ≤ k)
/-- figures of a number that isn't below 0 -/
theorem rsN_nn {v : Int64} (h : 0 ≤ v) : ∀ k, 0 ≤ rsN v k ∧ (rsN v k).toInt = ((v.toInt.toNat / 10 ^ k : Nat) : Int)
  | 0 => ⟨h, by
    have h1 := Int64.le_iff_toInt_le.mp h
    rw [show (0 : Int64).toInt = 0 from rfl] at h1
    rw [rsN]; omega⟩
  | k + 1 => by
    obtain ⟨h1, h2⟩ := rsN_nn h k
    have h1' : 0 ≤ (rsN v k).toInt := by rw [h2]; exact Int.natCast_nonneg _
    have e : (rsN v (k + 1)).toInt = (rsN v k).toInt / 10 := by
      rw [rsN, Int64.toInt_div]
      have hlt := Int64.toInt_lt (rsN v k)
      rw [show (10 : Int64).toInt = 10 from rfl, Int.tdiv_eq_ediv_of_nonneg h1']
      exact Int.bmod_eq_of_le (by omega) (by omega)
    have e3 : v.toInt.toNat / 10 ^ (k + 1) = v.toInt.toNat / 10 ^ k / 10 := by rw [Nat.div_div_eq_div_mul, Nat.pow_succ]
    refine ⟨?_, by rw [e, h2, e3]; omega⟩
    rw [Int64.le_iff_toInt_le, e]
    show (0 : Int64).toInt ≤ _
    rw [show (0 : Int64).toInt = 0 from rfl]
    omega
theorem dgN_at {v : Int64} (h : 0 ≤ v) (k : Nat) : ∃ q, q ≤ 9 ∧ dgN v k = nI q ∧ q = v.toInt.toNat / 10 ^ k % 10 := by
  obtain ⟨h1, h2⟩ := rsN_nn h k
  have h1' : 0 ≤ (rsN v k).toInt := by rw [h2]; exact Int.natCast_nonneg _
  have hlt := Int64.toInt_lt (rsN v k)
  have e1 : (rsN v k / 10).toInt = (rsN v k).toInt / 10 := by
    rw [Int64.toInt_div, show (10 : Int64).toInt = 10 from rfl, Int.tdiv_eq_ediv_of_nonneg h1']
    exact Int.bmod_eq_of_le (by omega) (by omega)
  have e4 : (rsN v k / 10 * 10).toInt = (rsN v k).toInt / 10 * 10 := by
    rw [Int64.toInt_mul, e1, show (10 : Int64).toInt = 10 from rfl]
    exact Int.bmod_eq_of_le (by omega) (by omega)
  have e2 : (rsN v k - rsN v k / 10 * 10).toInt = (rsN v k).toInt % 10 := by
    rw [Int64.toInt_sub, e4, show (rsN v k).toInt - (rsN v k).toInt / 10 * 10 = (rsN v k).toInt % 10 by omega]
    exact Int.bmod_eq_of_le (by omega) (by omega)
  refine ⟨v.toInt.toNat / 10 ^ k % 10, by omega, ?_, rfl⟩
  unfold dgN
  refine Int32.toInt_inj.mp ?_
  rw [Int64.toInt_toInt32, e2, h2, nI_toInt (by omega)]
  have e5 : ((v.toInt.toNat / 10 ^ k : Nat) : Int) % 10 = ((v.toInt.toNat / 10 ^ k % 10 : Nat) : Int) := by omega
  rw [e5]
  exact Int.bmod_eq_of_le (by omega) (by omega)
set_option maxHeartbeats 4000000 in
set_option maxRecDepth 100000 in
/-- a loop of least -/
theorem x_lst1 {ξ0 : Xs} {mid dyn : List ACell} {v : Int64} {Q : Qfun} : ∀ (fuel : Nat) (k : Nat) (r : Int64) (ξ : Xs), k ≤ 13 → 13 < k + fuel → r = rsN v k → Sy nB lA nB ξ ξ0 → (∀ j, j < k → ξ.2.2.1 27 j = dgN v j) → (∀ ξ : Xs, Sy nB lA nB ξ ξ0 → (∀ j, j < 13 → ξ.2.2.1 27 j = dgN v j) → E cX0_least (RX0, (some .int), 10, 1, (0, 0), false, []) Q noX 0 0 37 [some (.ref 0), some (.long v), none, none, none, none, none, none, none, none] [] (XM ξ mid dyn)) →
    E cX0_least (RX0, (some .int), 10, 1, (0, 0), false, []) Q noX 0 0 5 [some (.ref 0), some (.long v), none, some (.long r), none, some (.int (nI k)), none, none, none, none] [] (XM ξ mid dyn) := by
  intro fuel
  induction fuel with
  | zero => intro k r ξ hk hf hr hS hd hE; exact absurd hf (by omega)
  | succ fuel ih =>
    intro k r ξ hk hf hr hS hd hE
    refine e_iload dX0_least_5 rfl ?_
    refine e_bipush 13 dX0_least_7 rfl ?_
    refine e_icmp_geN k 13 37 (by omega) (by omega) dX0_least_9 (by decide) (fun h9 => ?_) (fun h9 => ?_)
    · refine e_forget (i := 3) (ln_s (ln_s (ln_s ln_0))) ?_
      refine e_forget (i := 5) (ln_s (ln_s (ln_s (ln_s (ln_s ln_0))))) ?_
      exact hE ξ hS (fun j hj => hd j (by omega))
    · refine e_aload_n dX0_least_12 0 rfl rfl rfl ?_
      refine e_getf (v := (.ref 15)) dX0_least_13 rfl fX0_79 (xm_o0) rfl ?_
      refine e_iload dX0_least_16 rfl ?_
      refine e_lload_n dX0_least_18 3 rfl rfl ?_
      refine e_ldc2 rfl q773 dX0_least_19 ?_
      refine e_lrem dX0_least_22 (by decide) ?_
      refine e_l2i dX0_least_23 ?_
      refine e_iast (f := ξ.2.2.1 27) (j := k) dX0_least_24 (xm_a27) rfl (by omega) (by decide) ?_
      rw [xm_s27]
      refine e_lload_n dX0_least_25 3 rfl rfl ?_
      refine e_ldc2 rfl q773 dX0_least_26 ?_
      refine e_ldiv dX0_least_29 (by decide) ?_
      refine e_lstore_n dX0_least_30 3 rfl (ls_s (ls_s (ls_1 rfl))) (ln_s (ln_s (ln_s (ln_s ln_0)))) (Nat.le_of_ble_eq_true rfl) ?_
      refine e_incN k (k + 1) (inc1 _) dX0_least_31 rfl (ls_s (ls_s (ls_s (ls_s (ls_1 rfl))))) (Nat.le_of_ble_eq_true rfl) ?_
      refine e_goto 5 dX0_least_34 (by decide) ?_
      refine ih (k + 1) _ _ (by omega) (by omega) (by rw [rsN, hr]) (hS.A _ rfl) (fun j hj => ?_) hE
      show upd (ξ.2.2.1 27) k _ j = _
      by_cases e : j = k
      · subst e; rw [pk_us, dgN, hr]
      · rw [pk_un e]; exact hd j (by omega)

theorem lA_c (j : Nat) : lA (400 + j) = true := by unfold lA; simp
theorem ls_at2 {B : Int32} {d : Nat → Int32} {k c : Nat} (hk : k ≤ 12) : lsB B d (13 - k) c = mnI (if 9 < d k + nI c then 1000 else d k + nI c + lsB B d (12 - k) 0) (if d k + nI c < 1 then 1000 else 10 - (d k + nI c) + lsB B d (12 - k) 1) := by
  rw [show 13 - k = (12 - k) + 1 by omega, lsB, show 12 - (12 - k) = k by omega]
set_option maxHeartbeats 4000000 in
set_option maxRecDepth 100000 in
/-- a loop of least -/
theorem x_lst2 {ξ0 : Xs} {mid dyn : List ACell} {v : Int64} (hv : 0 ≤ v) {k : Nat} (hk : k ≤ 12) {Q : Qfun} : ∀ (fuel : Nat) (c : Nat) (ξ : Xs), c ≤ 2 → 2 < c + fuel → Sy nB lA nB ξ ξ0 → (∀ j, j < 13 → ξ.2.2.1 27 j = dgN v j) → (∀ j c, k + 1 ≤ j → j ≤ 13 → c < 2 → ξ.2.2.1 (400 + j) c = lsB 100 (dgN v) (13 - j) c) → (∀ c', c' < c → ξ.2.2.1 (400 + k) c' = lsB 100 (dgN v) (13 - k) c') → (∀ ξ : Xs, Sy nB lA nB ξ ξ0 → (∀ j, j < 13 → ξ.2.2.1 27 j = dgN v j) → (∀ j c, k ≤ j → j ≤ 13 → c < 2 → ξ.2.2.1 (400 + j) c = lsB 100 (dgN v) (13 - j) c) → E cX0_least (RX0, (some .int), 10, 1, (0, 0), false, []) Q noX 0 0 170 [some (.ref 0), some (.long v), none, none, none, some (.int (nI k)), none, none, none, none] [] (XM ξ mid dyn)) →
    E cX0_least (RX0, (some .int), 10, 1, (0, 0), false, []) Q noX 0 0 70 [some (.ref 0), some (.long v), none, none, none, some (.int (nI k)), some (.int (nI c)), none, none, none] [] (XM ξ mid dyn) := by
  intro fuel
  induction fuel with
  | zero => intro c ξ hc hf hS hd hg hc1 hE; exact absurd hf (by omega)
  | succ fuel ih =>
    intro c ξ hc hf hS hd hg hc1 hE
    obtain ⟨q, hq9, eq, -⟩ := dgN_at hv k
    have hq27 : ξ.2.2.1 27 k = nI q := (hd k (by omega)).trans eq
    refine e_iload dX0_least_70 rfl ?_
    refine e_iconst 2 dX0_least_72 rfl ?_
    refine e_icmp_geN c 2 170 (by omega) (by omega) dX0_least_73 (by decide) (fun h73 => ?_) (fun h73 => ?_)
    · refine e_forget (i := 6) (ln_s (ln_s (ln_s (ln_s (ln_s (ln_s ln_0)))))) ?_
      refine hE ξ hS hd (fun j c' h1 h2 h3 => ?_)
      by_cases e : j = k
      · subst e; exact hc1 c' (by omega)
      · exact hg j c' (by omega) h2 h3
    · refine e_aload_n dX0_least_76 0 rfl rfl rfl ?_
      refine e_getf (v := (.ref 15)) dX0_least_77 rfl fX0_79 (xm_o0) rfl ?_
      refine e_iload dX0_least_80 rfl ?_
      refine e_iald (f := ξ.2.2.1 27) (j := k) dX0_least_82 (xm_a27) rfl (by omega) (by decide) ?_
      refine e_top (congrArg Value.int (hq27.trans rfl)) ?_
      refine e_iload dX0_least_83 rfl ?_
      refine e_iaddN q c dX0_least_85 ?_
      refine e_istore dX0_least_86 (ls_s (ls_s (ls_s (ls_s (ls_s (ls_s (ls_1 rfl))))))) (Nat.le_of_ble_eq_true rfl) ?_
      refine e_iload dX0_least_88 rfl ?_
      refine e_bipush 10 dX0_least_90 rfl ?_
      refine e_icmp_neN (q + c) 10 101 (by omega) (by omega) dX0_least_92 (by decide) (fun h92 => ?_) (fun h92 => ?_)
      · refine e_iload dX0_least_101 rfl ?_
        refine e_aload_n dX0_least_103 0 rfl rfl rfl ?_
        refine e_getf (v := (.ref 17)) dX0_least_104 rfl fX0_87 (xm_o0) rfl ?_
        refine e_iload dX0_least_107 rfl ?_
        refine e_iconst 1 dX0_least_109 rfl ?_
        refine e_iaddN k 1 dX0_least_110 ?_
        refine e_aaldA (f := coF) (j := k + 1) dX0_least_111 xm_r17 rfl (by omega) (by decide) ?_
        refine e_top (congrArg rfO (coF_at (by omega))) ?_
        refine e_iconst 0 dX0_least_112 rfl ?_
        refine e_iald (f := ξ.2.2.1 (400 + (k + 1))) (j := 0) dX0_least_113 (xm_c (by omega)) rfl (by omega) (by decide) ?_
        refine e_iadd dX0_least_114 ?_
        refine e_istore dX0_least_115 (ls_s (ls_s (ls_s (ls_s (ls_s (ls_s (ls_s (ls_1 rfl)))))))) (Nat.le_of_ble_eq_true rfl) ?_
        refine e_iload dX0_least_117 rfl ?_
        refine e_if_neN (q + c) 128 (by omega) dX0_least_119 (by decide) (fun h119 => ?_) (fun h119 => ?_)
        · refine e_bipush 10 dX0_least_128 rfl ?_
          refine e_iload dX0_least_130 rfl ?_
          refine e_isub dX0_least_132 ?_
          refine e_aload_n dX0_least_133 0 rfl rfl rfl ?_
          refine e_getf (v := (.ref 17)) dX0_least_134 rfl fX0_87 (xm_o0) rfl ?_
          refine e_iload dX0_least_137 rfl ?_
          refine e_iconst 1 dX0_least_139 rfl ?_
          refine e_iaddN k 1 dX0_least_140 ?_
          refine e_aaldA (f := coF) (j := k + 1) dX0_least_141 xm_r17 rfl (by omega) (by decide) ?_
          refine e_top (congrArg rfO (coF_at (by omega))) ?_
          refine e_iconst 1 dX0_least_142 rfl ?_
          refine e_iald (f := ξ.2.2.1 (400 + (k + 1))) (j := 1) dX0_least_143 (xm_c (by omega)) rfl (by omega) (by decide) ?_
          refine e_iadd dX0_least_144 ?_
          refine e_istore dX0_least_145 (ls_s (ls_s (ls_s (ls_s (ls_s (ls_s (ls_s (ls_s (ls_1 rfl))))))))) (Nat.le_of_ble_eq_true rfl) ?_
          refine e_aload_n dX0_least_147 0 rfl rfl rfl ?_
          refine e_getf (v := (.ref 17)) dX0_least_148 rfl fX0_87 (xm_o0) rfl ?_
          refine e_iload dX0_least_151 rfl ?_
          refine e_aaldA (f := coF) (j := k) dX0_least_153 xm_r17 rfl (by omega) (by decide) ?_
          refine e_top (congrArg rfO (coF_at (by omega))) ?_
          refine e_iload dX0_least_154 rfl ?_
          refine e_iload dX0_least_156 rfl ?_
          refine e_iload dX0_least_158 rfl ?_
          refine e_callS1 (As := [.int ((nI (q + c)) + (ξ.2.2.1 (400 + (k + 1)) 0)), .int ((10 - (nI (q + c))) + (ξ.2.2.1 (400 + (k + 1)) 1))]) (rest := [.int (nI c), .ref (18 + k)]) dX0_least_160 rfl msX0_398 (m_min ((nI (q + c)) + (ξ.2.2.1 (400 + (k + 1)) 0)) ((10 - (nI (q + c))) + (ξ.2.2.1 (400 + (k + 1)) 1))) (Nat.le_of_ble_eq_true rfl) rfl rfl (Nat.le_of_ble_eq_true rfl) (Nat.zero_le _) (Nat.zero_le _) ?_
          refine e_iast (f := ξ.2.2.1 (400 + k)) (j := c) dX0_least_163 (xm_c (by omega)) rfl (by omega) (by decide) ?_
          rw [xm_cs (by omega)]
          refine e_incN c (c + 1) (inc1 _) dX0_least_164 rfl (ls_s (ls_s (ls_s (ls_s (ls_s (ls_1 rfl)))))) (Nat.le_of_ble_eq_true rfl) ?_
          refine e_goto 70 dX0_least_167 (by decide) ?_
          refine e_forget (i := 7) (ln_s (ln_s (ln_s (ln_s (ln_s (ln_s (ln_s ln_0))))))) ?_
          refine e_forget (i := 8) (ln_s (ln_s (ln_s (ln_s (ln_s (ln_s (ln_s (ln_s ln_0)))))))) ?_
          refine e_forget (i := 9) (ln_s (ln_s (ln_s (ln_s (ln_s (ln_s (ln_s (ln_s (ln_s ln_0))))))))) ?_
          have u0 := hg (k + 1) 0 (by omega) (by omega) (by omega)
          rw [show 13 - (k + 1) = 12 - k by omega] at u0
          have u1 := hg (k + 1) 1 (by omega) (by omega) (by omega)
          rw [show 13 - (k + 1) = 12 - k by omega] at u1
          refine ih (c + 1) _ (by omega) (by omega) (hS.A _ (lA_c k)) (fun j hj => ?_) (fun j c' h1 h2 h3 => ?_) (fun c' hc' => ?_) hE
          · show va_up ξ.2.2.1 (400 + k) _ 27 j = _
            rw [va_up_ne _ _ (by omega)]; exact hd j hj
          · show va_up ξ.2.2.1 (400 + k) _ (400 + j) c' = _
            rw [va_up_ne _ _ (by omega)]; exact hg j c' h1 h2 h3
          · show va_up ξ.2.2.1 (400 + k) _ (400 + k) c' = _
            rw [va_up_self]
            by_cases e : c' = c
            · subst e
              rw [pk_us, ls_at2 (by omega), eq, nI_add, if_neg (show ¬ (9 : Int32) < nI (q + c') from fun z => absurd ((nI_ltN (a := 9) (by omega) (by omega)).mp z) (by omega)), if_neg (show ¬ nI (q + c') < 1 from fun z => absurd ((nI_ltN (b := 1) (by omega) (by omega)).mp z) (by omega)), u0, u1]
            · rw [pk_un e]; exact hc1 c' (by omega)
        · refine e_sipush 1000 dX0_least_122 rfl ?_
          refine e_goto 145 dX0_least_125 (by decide) ?_
          refine e_istore dX0_least_145 (ls_s (ls_s (ls_s (ls_s (ls_s (ls_s (ls_s (ls_s (ls_1 rfl))))))))) (Nat.le_of_ble_eq_true rfl) ?_
          refine e_aload_n dX0_least_147 0 rfl rfl rfl ?_
          refine e_getf (v := (.ref 17)) dX0_least_148 rfl fX0_87 (xm_o0) rfl ?_
          refine e_iload dX0_least_151 rfl ?_
          refine e_aaldA (f := coF) (j := k) dX0_least_153 xm_r17 rfl (by omega) (by decide) ?_
          refine e_top (congrArg rfO (coF_at (by omega))) ?_
          refine e_iload dX0_least_154 rfl ?_
          refine e_iload dX0_least_156 rfl ?_
          refine e_iload dX0_least_158 rfl ?_
          refine e_callS1 (As := [.int ((nI (q + c)) + (ξ.2.2.1 (400 + (k + 1)) 0)), .int 1000]) (rest := [.int (nI c), .ref (18 + k)]) dX0_least_160 rfl msX0_398 (m_min ((nI (q + c)) + (ξ.2.2.1 (400 + (k + 1)) 0)) 1000) (Nat.le_of_ble_eq_true rfl) rfl rfl (Nat.le_of_ble_eq_true rfl) (Nat.zero_le _) (Nat.zero_le _) ?_
          refine e_iast (f := ξ.2.2.1 (400 + k)) (j := c) dX0_least_163 (xm_c (by omega)) rfl (by omega) (by decide) ?_
          rw [xm_cs (by omega)]
          refine e_incN c (c + 1) (inc1 _) dX0_least_164 rfl (ls_s (ls_s (ls_s (ls_s (ls_s (ls_1 rfl)))))) (Nat.le_of_ble_eq_true rfl) ?_
          refine e_goto 70 dX0_least_167 (by decide) ?_
          refine e_forget (i := 7) (ln_s (ln_s (ln_s (ln_s (ln_s (ln_s (ln_s ln_0))))))) ?_
          refine e_forget (i := 8) (ln_s (ln_s (ln_s (ln_s (ln_s (ln_s (ln_s (ln_s ln_0)))))))) ?_
          refine e_forget (i := 9) (ln_s (ln_s (ln_s (ln_s (ln_s (ln_s (ln_s (ln_s (ln_s ln_0))))))))) ?_
          have u0 := hg (k + 1) 0 (by omega) (by omega) (by omega)
          rw [show 13 - (k + 1) = 12 - k by omega] at u0
          refine ih (c + 1) _ (by omega) (by omega) (hS.A _ (lA_c k)) (fun j hj => ?_) (fun j c' h1 h2 h3 => ?_) (fun c' hc' => ?_) hE
          · show va_up ξ.2.2.1 (400 + k) _ 27 j = _
            rw [va_up_ne _ _ (by omega)]; exact hd j hj
          · show va_up ξ.2.2.1 (400 + k) _ (400 + j) c' = _
            rw [va_up_ne _ _ (by omega)]; exact hg j c' h1 h2 h3
          · show va_up ξ.2.2.1 (400 + k) _ (400 + k) c' = _
            rw [va_up_self]
            by_cases e : c' = c
            · subst e
              rw [pk_us, ls_at2 (by omega), eq, nI_add, if_neg (show ¬ (9 : Int32) < nI (q + c') from fun z => absurd ((nI_ltN (a := 9) (by omega) (by omega)).mp z) (by omega)), if_pos (show nI (q + c') < 1 from (nI_ltN (b := 1) (by omega) (by omega)).mpr (by omega)), u0]
            · rw [pk_un e]; exact hc1 c' (by omega)
      · refine e_sipush 1000 dX0_least_95 rfl ?_
        refine e_goto 115 dX0_least_98 (by decide) ?_
        refine e_istore dX0_least_115 (ls_s (ls_s (ls_s (ls_s (ls_s (ls_s (ls_s (ls_1 rfl)))))))) (Nat.le_of_ble_eq_true rfl) ?_
        refine e_iload dX0_least_117 rfl ?_
        refine e_if_neN (q + c) 128 (by omega) dX0_least_119 (by decide) (fun h119 => ?_) (fun h119 => ?_)
        · refine e_bipush 10 dX0_least_128 rfl ?_
          refine e_iload dX0_least_130 rfl ?_
          refine e_isub dX0_least_132 ?_
          refine e_aload_n dX0_least_133 0 rfl rfl rfl ?_
          refine e_getf (v := (.ref 17)) dX0_least_134 rfl fX0_87 (xm_o0) rfl ?_
          refine e_iload dX0_least_137 rfl ?_
          refine e_iconst 1 dX0_least_139 rfl ?_
          refine e_iaddN k 1 dX0_least_140 ?_
          refine e_aaldA (f := coF) (j := k + 1) dX0_least_141 xm_r17 rfl (by omega) (by decide) ?_
          refine e_top (congrArg rfO (coF_at (by omega))) ?_
          refine e_iconst 1 dX0_least_142 rfl ?_
          refine e_iald (f := ξ.2.2.1 (400 + (k + 1))) (j := 1) dX0_least_143 (xm_c (by omega)) rfl (by omega) (by decide) ?_
          refine e_iadd dX0_least_144 ?_
          refine e_istore dX0_least_145 (ls_s (ls_s (ls_s (ls_s (ls_s (ls_s (ls_s (ls_s (ls_1 rfl))))))))) (Nat.le_of_ble_eq_true rfl) ?_
          refine e_aload_n dX0_least_147 0 rfl rfl rfl ?_
          refine e_getf (v := (.ref 17)) dX0_least_148 rfl fX0_87 (xm_o0) rfl ?_
          refine e_iload dX0_least_151 rfl ?_
          refine e_aaldA (f := coF) (j := k) dX0_least_153 xm_r17 rfl (by omega) (by decide) ?_
          refine e_top (congrArg rfO (coF_at (by omega))) ?_
          refine e_iload dX0_least_154 rfl ?_
          refine e_iload dX0_least_156 rfl ?_
          refine e_iload dX0_least_158 rfl ?_
          refine e_callS1 (As := [.int 1000, .int ((10 - (nI (q + c))) + (ξ.2.2.1 (400 + (k + 1)) 1))]) (rest := [.int (nI c), .ref (18 + k)]) dX0_least_160 rfl msX0_398 (m_min 1000 ((10 - (nI (q + c))) + (ξ.2.2.1 (400 + (k + 1)) 1))) (Nat.le_of_ble_eq_true rfl) rfl rfl (Nat.le_of_ble_eq_true rfl) (Nat.zero_le _) (Nat.zero_le _) ?_
          refine e_iast (f := ξ.2.2.1 (400 + k)) (j := c) dX0_least_163 (xm_c (by omega)) rfl (by omega) (by decide) ?_
          rw [xm_cs (by omega)]
          refine e_incN c (c + 1) (inc1 _) dX0_least_164 rfl (ls_s (ls_s (ls_s (ls_s (ls_s (ls_1 rfl)))))) (Nat.le_of_ble_eq_true rfl) ?_
          refine e_goto 70 dX0_least_167 (by decide) ?_
          refine e_forget (i := 7) (ln_s (ln_s (ln_s (ln_s (ln_s (ln_s (ln_s ln_0))))))) ?_
          refine e_forget (i := 8) (ln_s (ln_s (ln_s (ln_s (ln_s (ln_s (ln_s (ln_s ln_0)))))))) ?_
          refine e_forget (i := 9) (ln_s (ln_s (ln_s (ln_s (ln_s (ln_s (ln_s (ln_s (ln_s ln_0))))))))) ?_
          have u1 := hg (k + 1) 1 (by omega) (by omega) (by omega)
          rw [show 13 - (k + 1) = 12 - k by omega] at u1
          refine ih (c + 1) _ (by omega) (by omega) (hS.A _ (lA_c k)) (fun j hj => ?_) (fun j c' h1 h2 h3 => ?_) (fun c' hc' => ?_) hE
          · show va_up ξ.2.2.1 (400 + k) _ 27 j = _
            rw [va_up_ne _ _ (by omega)]; exact hd j hj
          · show va_up ξ.2.2.1 (400 + k) _ (400 + j) c' = _
            rw [va_up_ne _ _ (by omega)]; exact hg j c' h1 h2 h3
          · show va_up ξ.2.2.1 (400 + k) _ (400 + k) c' = _
            rw [va_up_self]
            by_cases e : c' = c
            · subst e
              rw [pk_us, ls_at2 (by omega), eq, nI_add, if_pos (show (9 : Int32) < nI (q + c') from (nI_ltN (a := 9) (by omega) (by omega)).mpr (by omega)), if_neg (show ¬ nI (q + c') < 1 from fun z => absurd ((nI_ltN (b := 1) (by omega) (by omega)).mp z) (by omega)), u1]
            · rw [pk_un e]; exact hc1 c' (by omega)
        · refine e_sipush 1000 dX0_least_122 rfl ?_
          refine e_goto 145 dX0_least_125 (by decide) ?_
          refine e_istore dX0_least_145 (ls_s (ls_s (ls_s (ls_s (ls_s (ls_s (ls_s (ls_s (ls_1 rfl))))))))) (Nat.le_of_ble_eq_true rfl) ?_
          refine e_aload_n dX0_least_147 0 rfl rfl rfl ?_
          refine e_getf (v := (.ref 17)) dX0_least_148 rfl fX0_87 (xm_o0) rfl ?_
          refine e_iload dX0_least_151 rfl ?_
          refine e_aaldA (f := coF) (j := k) dX0_least_153 xm_r17 rfl (by omega) (by decide) ?_
          refine e_top (congrArg rfO (coF_at (by omega))) ?_
          refine e_iload dX0_least_154 rfl ?_
          refine e_iload dX0_least_156 rfl ?_
          refine e_iload dX0_least_158 rfl ?_
          refine e_callS1 (As := [.int 1000, .int 1000]) (rest := [.int (nI c), .ref (18 + k)]) dX0_least_160 rfl msX0_398 (m_min 1000 1000) (Nat.le_of_ble_eq_true rfl) rfl rfl (Nat.le_of_ble_eq_true rfl) (Nat.zero_le _) (Nat.zero_le _) ?_
          refine e_iast (f := ξ.2.2.1 (400 + k)) (j := c) dX0_least_163 (xm_c (by omega)) rfl (by omega) (by decide) ?_
          rw [xm_cs (by omega)]
          refine e_incN c (c + 1) (inc1 _) dX0_least_164 rfl (ls_s (ls_s (ls_s (ls_s (ls_s (ls_1 rfl)))))) (Nat.le_of_ble_eq_true rfl) ?_
          refine e_goto 70 dX0_least_167 (by decide) ?_
          refine e_forget (i := 7) (ln_s (ln_s (ln_s (ln_s (ln_s (ln_s (ln_s ln_0))))))) ?_
          refine e_forget (i := 8) (ln_s (ln_s (ln_s (ln_s (ln_s (ln_s (ln_s (ln_s ln_0)))))))) ?_
          refine e_forget (i := 9) (ln_s (ln_s (ln_s (ln_s (ln_s (ln_s (ln_s (ln_s (ln_s ln_0))))))))) ?_
          refine ih (c + 1) _ (by omega) (by omega) (hS.A _ (lA_c k)) (fun j hj => ?_) (fun j c' h1 h2 h3 => ?_) (fun c' hc' => ?_) hE
          · show va_up ξ.2.2.1 (400 + k) _ 27 j = _
            rw [va_up_ne _ _ (by omega)]; exact hd j hj
          · show va_up ξ.2.2.1 (400 + k) _ (400 + j) c' = _
            rw [va_up_ne _ _ (by omega)]; exact hg j c' h1 h2 h3
          · show va_up ξ.2.2.1 (400 + k) _ (400 + k) c' = _
            rw [va_up_self]
            by_cases e : c' = c
            · subst e
              rw [pk_us, ls_at2 (by omega), eq, nI_add, if_pos (show (9 : Int32) < nI (q + c') from (nI_ltN (a := 9) (by omega) (by omega)).mpr (by omega)), if_pos (show nI (q + c') < 1 from (nI_ltN (b := 1) (by omega) (by omega)).mpr (by omega))]
            · rw [pk_un e]; exact hc1 c' (by omega)

set_option maxHeartbeats 4000000 in
set_option maxRecDepth 100000 in
/-- a loop of least -/
theorem x_lst3 {ξ0 : Xs} {mid dyn : List ACell} {v : Int64} (hv : 0 ≤ v) {Q : Qfun} : ∀ (fuel : Nat) (n : Nat) (x : Int32) (ξ : Xs), n ≤ 13 → n < fuel → (n = 0 ∧ x = -1) ∨ (∃ k, n = k + 1 ∧ x = nI k) → Sy nB lA nB ξ ξ0 → (∀ j, j < 13 → ξ.2.2.1 27 j = dgN v j) → (∀ j c, n ≤ j → j ≤ 13 → c < 2 → ξ.2.2.1 (400 + j) c = lsB 100 (dgN v) (13 - j) c) → (∀ ξ : Xs, Sy nB lA nB ξ ξ0 → (∀ j, j < 13 → ξ.2.2.1 27 j = dgN v j) → (∀ j c, 0 ≤ j → j ≤ 13 → c < 2 → ξ.2.2.1 (400 + j) c = lsB 100 (dgN v) (13 - j) c) → E cX0_least (RX0, (some .int), 10, 1, (0, 0), false, []) Q noX 0 0 176 [some (.ref 0), some (.long v), none, none, none, none, none, none, none, none] [] (XM ξ mid dyn)) →
    E cX0_least (RX0, (some .int), 10, 1, (0, 0), false, []) Q noX 0 0 62 [some (.ref 0), some (.long v), none, none, none, some (.int x), none, none, none, none] [] (XM ξ mid dyn) := by
  intro fuel
  induction fuel with
  | zero => intro n x ξ hn hf hx hS hd hg hE; exact absurd hf (by omega)
  | succ fuel ih =>
    intro n x ξ hn hf hx hS hd hg hE
    refine e_iload dX0_least_62 rfl ?_
    refine e_if_lt 176 dX0_least_64 (by decide) (fun h64 => ?_) (fun h64 => ?_)
    · have e0 : n = 0 := by
        rcases hx with ⟨e1, -⟩ | ⟨k, ek, e2⟩
        · exact e1
        · rw [e2] at h64; exact absurd h64 (nI_pos (by omega))
      refine e_forget (i := 5) (ln_s (ln_s (ln_s (ln_s (ln_s ln_0))))) ?_
      exact hE ξ hS hd (fun j c h1 h2 h3 => hg j c (by omega) h2 h3)
    · obtain ⟨k, rfl, rfl⟩ : ∃ k, n = k + 1 ∧ x = nI k := by
        rcases hx with ⟨e1, e2⟩ | h
        · rw [e2] at h64; exact absurd (show (-1 : Int32) < 0 by decide) h64
        · exact h
      refine e_iconst 0 dX0_least_67 rfl ?_
      refine e_istore dX0_least_68 (ls_s (ls_s (ls_s (ls_s (ls_s (ls_1 rfl)))))) (Nat.le_of_ble_eq_true rfl) ?_
      refine x_lst2 (ξ0 := ξ0) hv (k := k) (by omega) 3 0 ξ (by omega) (by omega) hS hd hg (fun e he => absurd he (by omega)) (fun ξ1 hS1 hd1 hg1 => ?_)
      refine e_iinc ((nI k) + (-1)) dX0_least_170 rfl rfl (ls_s (ls_s (ls_s (ls_s (ls_1 rfl))))) (Nat.le_of_ble_eq_true rfl) ?_
      refine e_goto 62 dX0_least_173 (by decide) ?_
      refine ih k _ ξ1 (by omega) (by omega) ?_ hS1 hd1 hg1 hE
      cases k with
      | zero => exact Or.inl ⟨rfl, rfl⟩
      | succ q => exact Or.inr ⟨q, rfl, decS q⟩

set_option maxHeartbeats 4000000 in
set_option maxRecDepth 100000 in
/-- a loop of least -/
theorem x_lst4 {ξ0 : Xs} {mid dyn : List ACell} {v : Int64} (hv : 0 ≤ v) {Q : Qfun} : ∀ (fuel : Nat) (k : Nat) (x : Int32) (ξ : Xs), k ≤ 13 → 13 < k + fuel → x = nI (cyB 100 (dgN v) k) → Sy nB lA nB ξ ξ0 → (∀ j, j < 13 → ξ.2.2.1 27 j = dgN v j) → (∀ j c, 0 ≤ j → j ≤ 13 → c < 2 → ξ.2.2.1 (400 + j) c = lsB 100 (dgN v) (13 - j) c) → (∀ j, j < k → ξ.2.2.1 28 j = fgB 100 (dgN v) j) → (∀ ξ : Xs, Sy nB lA nB ξ ξ0 → (∀ j, j < 13 → ξ.2.2.1 28 j = fgB 100 (dgN v) j) → Q (some (.int (lsB 100 (dgN v) 13 0))) (XM ξ mid dyn)) →
    E cX0_least (RX0, (some .int), 10, 1, (0, 0), false, []) Q noX 0 0 182 [some (.ref 0), some (.long v), none, none, none, some (.int x), some (.int (nI k)), none, none, none] [] (XM ξ mid dyn) := by
  intro fuel
  induction fuel with
  | zero => intro k x ξ hk hf hx hS hd hg hF hQ; exact absurd hf (by omega)
  | succ fuel ih =>
    intro k x ξ hk hf hx hS hd hg hF hQ
    refine e_iload dX0_least_182 rfl ?_
    refine e_bipush 13 dX0_least_184 rfl ?_
    refine e_icmp_geN k 13 282 (by omega) (by omega) dX0_least_186 (by decide) (fun h186 => ?_) (fun h186 => ?_)
    · refine e_aload_n dX0_least_282 0 rfl rfl rfl ?_
      refine e_getf (v := (.ref 17)) dX0_least_283 rfl fX0_87 (xm_o0) rfl ?_
      refine e_iconst 0 dX0_least_286 rfl ?_
      refine e_aaldA (f := coF) (j := 0) dX0_least_287 xm_r17 rfl (by omega) (by decide) ?_
      refine e_top (congrArg rfO (coF_at (by omega))) ?_
      refine e_iconst 0 dX0_least_288 rfl ?_
      refine e_iald (f := ξ.2.2.1 (400 + 0)) (j := 0) dX0_least_289 (xm_c (by omega)) rfl (by omega) (by decide) ?_
      refine e_ireturn dX0_least_290 rfl rfl (Nat.zero_le _) (Nat.zero_le _) ?_
      have e0 := hg 0 0 (by omega) (by omega) (by omega)
      rw [show ξ.2.2.1 (400 + 0) 0 = lsB 100 (dgN v) 13 0 from e0]
      exact hQ ξ hS (fun j hj => hF j (by omega))
    · subst hx
      have hcy := cyB_le (B := 100) (d := dgN v) k
      obtain ⟨q, hq9, eq, -⟩ := dgN_at hv k
      have hq27 : ξ.2.2.1 27 k = nI q := (hd k (by omega)).trans eq
      have g1 := hg (k + 1) 0 (by omega) (by omega) (by omega)
      rw [show 13 - (k + 1) = 12 - k by omega] at g1
      have g2 := hg k (cyB 100 (dgN v) k) (by omega) (by omega) (by omega)
      refine e_aload_n dX0_least_189 0 rfl rfl rfl ?_
      refine e_getf (v := (.ref 15)) dX0_least_190 rfl fX0_79 (xm_o0) rfl ?_
      refine e_iload dX0_least_193 rfl ?_
      refine e_iald (f := ξ.2.2.1 27) (j := k) dX0_least_195 (xm_a27) rfl (by omega) (by decide) ?_
      refine e_top (congrArg Value.int (hq27.trans rfl)) ?_
      refine e_iload dX0_least_196 rfl ?_
      refine e_iaddN q (cyB 100 (dgN v) k) dX0_least_198 ?_
      refine e_istore dX0_least_199 (ls_s (ls_s (ls_s (ls_s (ls_s (ls_s (ls_1 rfl))))))) (Nat.le_of_ble_eq_true rfl) ?_
      refine e_iload dX0_least_201 rfl ?_
      refine e_bipush 10 dX0_least_203 rfl ?_
      refine e_icmp_geN (q + (cyB 100 (dgN v) k)) 10 239 (by omega) (by omega) dX0_least_205 (by decide) (fun h205 => ?_) (fun h205 => ?_)
      · refine e_iconst 0 dX0_least_239 rfl ?_
        refine e_istore dX0_least_240 (ls_s (ls_s (ls_s (ls_s (ls_s (ls_s (ls_s (ls_1 rfl)))))))) (Nat.le_of_ble_eq_true rfl) ?_
        refine e_aload_n dX0_least_242 0 rfl rfl rfl ?_
        refine e_getf (v := (.ref 16)) dX0_least_243 rfl fX0_82 (xm_o0) rfl ?_
        refine e_iload dX0_least_246 rfl ?_
        refine e_iload dX0_least_248 rfl ?_
        refine e_if_eq_t 258 (by decide) dX0_least_250 (by decide) ?_
        refine e_iload dX0_least_258 rfl ?_
        refine e_bipush 10 dX0_least_260 rfl ?_
        refine e_isub dX0_least_262 ?_
        refine e_iast (f := ξ.2.2.1 28) (j := k) dX0_least_263 (xm_a28) rfl (by omega) (by decide) ?_
        rw [xm_s28]
        refine e_iload dX0_least_264 rfl ?_
        refine e_if_eq_t 273 (by decide) dX0_least_266 (by decide) ?_
        refine e_iconst 1 dX0_least_273 rfl ?_
        refine e_istore dX0_least_274 (ls_s (ls_s (ls_s (ls_s (ls_1 rfl))))) (Nat.le_of_ble_eq_true rfl) ?_
        refine e_incN k (k + 1) (inc1 _) dX0_least_276 rfl (ls_s (ls_s (ls_s (ls_s (ls_s (ls_1 rfl)))))) (Nat.le_of_ble_eq_true rfl) ?_
        refine e_goto 182 dX0_least_279 (by decide) ?_
        refine e_forget (i := 7) (ln_s (ln_s (ln_s (ln_s (ln_s (ln_s (ln_s ln_0))))))) ?_
        refine e_forget (i := 8) (ln_s (ln_s (ln_s (ln_s (ln_s (ln_s (ln_s (ln_s ln_0)))))))) ?_
        refine ih (k + 1) _ _ (by omega) (by omega) (by rw [cyB, if_neg (fun z => absurd (stB_iff.mp z).1 (by rw [eq, nI_add]; exact fun y => absurd ((nI_leN (b := 9) (by omega) (by omega)).mp y) (by omega)))]; rfl) (hS.A _ rfl) hd (fun j c h1 h2 h3 => by show va_up ξ.2.2.1 28 _ (400 + j) c = _; rw [va_up_ne _ _ (by omega)]; exact hg j c h1 h2 h3) (fun j hj => ?_) hQ
        show upd (ξ.2.2.1 28) k _ j = _
        by_cases e : j = k
        · rw [e, pk_us, fgB, if_neg (fun z => absurd (stB_iff.mp z).1 (by rw [eq, nI_add]; exact fun y => absurd ((nI_leN (b := 9) (by omega) (by omega)).mp y) (by omega))), eq, nI_add]
        · rw [pk_un e]; exact hF j (by omega)
      · refine e_iload dX0_least_208 rfl ?_
        refine e_aload_n dX0_least_210 0 rfl rfl rfl ?_
        refine e_getf (v := (.ref 17)) dX0_least_211 rfl fX0_87 (xm_o0) rfl ?_
        refine e_iload dX0_least_214 rfl ?_
        refine e_iconst 1 dX0_least_216 rfl ?_
        refine e_iaddN k 1 dX0_least_217 ?_
        refine e_aaldA (f := coF) (j := k + 1) dX0_least_218 xm_r17 rfl (by omega) (by decide) ?_
        refine e_top (congrArg rfO (coF_at (by omega))) ?_
        refine e_iconst 0 dX0_least_219 rfl ?_
        refine e_iald (f := ξ.2.2.1 (400 + (k + 1))) (j := 0) dX0_least_220 (xm_c (by omega)) rfl (by omega) (by decide) ?_
        refine e_iadd dX0_least_221 ?_
        refine e_aload_n dX0_least_222 0 rfl rfl rfl ?_
        refine e_getf (v := (.ref 17)) dX0_least_223 rfl fX0_87 (xm_o0) rfl ?_
        refine e_iload dX0_least_226 rfl ?_
        refine e_aaldA (f := coF) (j := k) dX0_least_228 xm_r17 rfl (by omega) (by decide) ?_
        refine e_top (congrArg rfO (coF_at (by omega))) ?_
        refine e_iload dX0_least_229 rfl ?_
        refine e_iald (f := ξ.2.2.1 (400 + k)) (j := cyB 100 (dgN v) k) dX0_least_231 (xm_c (by omega)) rfl (by omega) (by decide) ?_
        refine e_icmp_ne 239 dX0_least_232 (by decide) (fun h232 => ?_) (fun h232 => ?_)
        · refine e_iconst 0 dX0_least_239 rfl ?_
          refine e_istore dX0_least_240 (ls_s (ls_s (ls_s (ls_s (ls_s (ls_s (ls_s (ls_1 rfl)))))))) (Nat.le_of_ble_eq_true rfl) ?_
          refine e_aload_n dX0_least_242 0 rfl rfl rfl ?_
          refine e_getf (v := (.ref 16)) dX0_least_243 rfl fX0_82 (xm_o0) rfl ?_
          refine e_iload dX0_least_246 rfl ?_
          refine e_iload dX0_least_248 rfl ?_
          refine e_if_eq_t 258 (by decide) dX0_least_250 (by decide) ?_
          refine e_iload dX0_least_258 rfl ?_
          refine e_bipush 10 dX0_least_260 rfl ?_
          refine e_isub dX0_least_262 ?_
          refine e_iast (f := ξ.2.2.1 28) (j := k) dX0_least_263 (xm_a28) rfl (by omega) (by decide) ?_
          rw [xm_s28]
          refine e_iload dX0_least_264 rfl ?_
          refine e_if_eq_t 273 (by decide) dX0_least_266 (by decide) ?_
          refine e_iconst 1 dX0_least_273 rfl ?_
          refine e_istore dX0_least_274 (ls_s (ls_s (ls_s (ls_s (ls_1 rfl))))) (Nat.le_of_ble_eq_true rfl) ?_
          refine e_incN k (k + 1) (inc1 _) dX0_least_276 rfl (ls_s (ls_s (ls_s (ls_s (ls_s (ls_1 rfl)))))) (Nat.le_of_ble_eq_true rfl) ?_
          refine e_goto 182 dX0_least_279 (by decide) ?_
          refine e_forget (i := 7) (ln_s (ln_s (ln_s (ln_s (ln_s (ln_s (ln_s ln_0))))))) ?_
          refine e_forget (i := 8) (ln_s (ln_s (ln_s (ln_s (ln_s (ln_s (ln_s (ln_s ln_0)))))))) ?_
          refine ih (k + 1) _ _ (by omega) (by omega) (by rw [cyB, if_neg (fun z => h232 (by rw [g1, g2, show nI (q + cyB 100 (dgN v) k) = dgN v k + nI (cyB 100 (dgN v) k) by rw [eq, nI_add]]; exact (stB_iff.mp z).2))]; rfl) (hS.A _ rfl) hd (fun j c h1 h2 h3 => by show va_up ξ.2.2.1 28 _ (400 + j) c = _; rw [va_up_ne _ _ (by omega)]; exact hg j c h1 h2 h3) (fun j hj => ?_) hQ
          show upd (ξ.2.2.1 28) k _ j = _
          by_cases e : j = k
          · rw [e, pk_us, fgB, if_neg (fun z => h232 (by rw [g1, g2, show nI (q + cyB 100 (dgN v) k) = dgN v k + nI (cyB 100 (dgN v) k) by rw [eq, nI_add]]; exact (stB_iff.mp z).2)), eq, nI_add]
          · rw [pk_un e]; exact hF j (by omega)
        · refine e_iconst 1 dX0_least_235 rfl ?_
          refine e_goto 240 dX0_least_236 (by decide) ?_
          refine e_istore dX0_least_240 (ls_s (ls_s (ls_s (ls_s (ls_s (ls_s (ls_s (ls_1 rfl)))))))) (Nat.le_of_ble_eq_true rfl) ?_
          refine e_aload_n dX0_least_242 0 rfl rfl rfl ?_
          refine e_getf (v := (.ref 16)) dX0_least_243 rfl fX0_82 (xm_o0) rfl ?_
          refine e_iload dX0_least_246 rfl ?_
          refine e_iload dX0_least_248 rfl ?_
          refine e_if_eq_f (by decide) 258 dX0_least_250 (by decide) ?_
          refine e_iload dX0_least_253 rfl ?_
          refine e_goto 263 dX0_least_255 (by decide) ?_
          refine e_iast (f := ξ.2.2.1 28) (j := k) dX0_least_263 (xm_a28) rfl (by omega) (by decide) ?_
          rw [xm_s28]
          refine e_iload dX0_least_264 rfl ?_
          refine e_if_eq_f (by decide) 273 dX0_least_266 (by decide) ?_
          refine e_iconst 0 dX0_least_269 rfl ?_
          refine e_goto 274 dX0_least_270 (by decide) ?_
          refine e_istore dX0_least_274 (ls_s (ls_s (ls_s (ls_s (ls_1 rfl))))) (Nat.le_of_ble_eq_true rfl) ?_
          refine e_incN k (k + 1) (inc1 _) dX0_least_276 rfl (ls_s (ls_s (ls_s (ls_s (ls_s (ls_1 rfl)))))) (Nat.le_of_ble_eq_true rfl) ?_
          refine e_goto 182 dX0_least_279 (by decide) ?_
          refine e_forget (i := 7) (ln_s (ln_s (ln_s (ln_s (ln_s (ln_s (ln_s ln_0))))))) ?_
          refine e_forget (i := 8) (ln_s (ln_s (ln_s (ln_s (ln_s (ln_s (ln_s (ln_s ln_0)))))))) ?_
          refine ih (k + 1) _ _ (by omega) (by omega) (by rw [cyB, if_pos (stB_iff.mpr ⟨by rw [eq, nI_add]; exact (nI_leN (b := 9) (by omega) (by omega)).mpr (by omega), by rw [← g1, ← g2, eq, nI_add]; exact h232⟩)]; rfl) (hS.A _ rfl) hd (fun j c h1 h2 h3 => by show va_up ξ.2.2.1 28 _ (400 + j) c = _; rw [va_up_ne _ _ (by omega)]; exact hg j c h1 h2 h3) (fun j hj => ?_) hQ
          show upd (ξ.2.2.1 28) k _ j = _
          by_cases e : j = k
          · rw [e, pk_us, fgB, if_pos (stB_iff.mpr ⟨by rw [eq, nI_add]; exact (nI_leN (b := 9) (by omega) (by omega)).mpr (by omega), by rw [← g1, ← g2, eq, nI_add]; exact h232⟩), eq, nI_add]
          · rw [pk_un e]; exact hF j (by omega)

set_option maxHeartbeats 4000000 in
set_option maxRecDepth 100000 in
/-- WheelTables.least -/
theorem x_least {ξ : Xs} {mid dyn : List ACell} {v : Int64} (hv : 0 ≤ v) : Ct yX0_least (ws_ yX0_least cX0_least 10 (some .int)) 1 0 0 [.ref 0, .long v] (XM ξ mid dyn) (fun v0 M0 => ∃ ξ1, M0 = XM ξ1 mid dyn ∧ v0 = some (.int (lsB 100 (dgN v) 13 0)) ∧ Sy nB lA nB ξ1 ξ ∧ ∀ j, j < 13 → ξ1.2.2.1 28 j = fgB 100 (dgN v) j) noX := by
  refine Ct.of (ini := false) (ls := [some (.ref 0), some (.long v), none, none, none, none, none, none, none, none]) (by decide) (Nat.le_of_ble_eq_true rfl) (fun h => by cases h) rfl ?_
  refine e_lload_n dX0_least_0 1 rfl rfl ?_
  refine e_lstore_n dX0_least_1 3 rfl (ls_s (ls_s (ls_1 rfl))) (ln_s (ln_s (ln_s (ln_s ln_0)))) (Nat.le_of_ble_eq_true rfl) ?_
  refine e_iconst 0 dX0_least_2 rfl ?_
  refine e_istore dX0_least_3 (ls_s (ls_s (ls_s (ls_s (ls_1 rfl))))) (Nat.le_of_ble_eq_true rfl) ?_
  refine x_lst1 (ξ0 := ξ) 14 0 v ξ (by omega) (by omega) rfl Sy.rf (fun j hj => absurd hj (by omega)) (fun ξ1 hS1 hd1 => ?_)
  refine e_aload_n dX0_least_37 0 rfl rfl rfl ?_
  refine e_getf (v := (.ref 17)) dX0_least_38 rfl fX0_87 (xm_o0) rfl ?_
  refine e_bipush 13 dX0_least_41 rfl ?_
  refine e_aaldA (f := coF) (j := 13) dX0_least_43 xm_r17 rfl (by omega) (by decide) ?_
  refine e_top (congrArg rfO (coF_at (by omega))) ?_
  refine e_iconst 0 dX0_least_44 rfl ?_
  refine e_iconst 0 dX0_least_45 rfl ?_
  refine e_iast (f := ξ1.2.2.1 (400 + 13)) (j := 0) dX0_least_46 (xm_c (by omega)) rfl (by omega) (by decide) ?_
  rw [xm_cs (by omega)]
  refine e_aload_n dX0_least_47 0 rfl rfl rfl ?_
  refine e_getf (v := (.ref 17)) dX0_least_48 rfl fX0_87 (xm_o0) rfl ?_
  refine e_bipush 13 dX0_least_51 rfl ?_
  refine e_aaldA (f := coF) (j := 13) dX0_least_53 xm_r17 rfl (by omega) (by decide) ?_
  refine e_top (congrArg rfO (coF_at (by omega))) ?_
  refine e_iconst 1 dX0_least_54 rfl ?_
  refine e_bipush 100 dX0_least_55 rfl ?_
  refine e_iast (f := (upd (ξ1.2.2.1 (400 + 13)) 0 0)) (j := 1) dX0_least_57 (xm_c (by omega)) rfl (by omega) (by decide) ?_
  rw [xm_cs (by omega)]
  refine e_bipush 12 dX0_least_58 rfl ?_
  refine e_istore dX0_least_60 (ls_s (ls_s (ls_s (ls_s (ls_1 rfl))))) (Nat.le_of_ble_eq_true rfl) ?_
  refine x_lst3 (ξ0 := ξ) hv 14 13 12 _ (by omega) (by omega) (Or.inr ⟨12, rfl, rfl⟩) ((hS1.A _ (lA_c 13)).A _ (lA_c 13)) (by exact hd1) (fun j c h1 h2 h3 => ?_) (fun ξ2 hS2 hd2 hg2 => ?_)
  · obtain rfl : j = 13 := by omega
    rcases (show c = 0 ∨ c = 1 by omega) with rfl | rfl <;> rfl
  refine e_iconst 0 dX0_least_176 rfl ?_
  refine e_istore dX0_least_177 (ls_s (ls_s (ls_s (ls_s (ls_1 rfl))))) (Nat.le_of_ble_eq_true rfl) ?_
  refine e_iconst 0 dX0_least_179 rfl ?_
  refine e_istore dX0_least_180 (ls_s (ls_s (ls_s (ls_s (ls_s (ls_1 rfl)))))) (Nat.le_of_ble_eq_true rfl) ?_
  refine x_lst4 (ξ0 := ξ) hv 14 0 0 ξ2 (by omega) (by omega) rfl hS2 hd2 hg2 (fun j hj => absurd hj (by omega)) (fun ξ3 hS3 hF3 => ?_)
  exact ⟨ξ3, rfl, rfl, hS3, hF3⟩

