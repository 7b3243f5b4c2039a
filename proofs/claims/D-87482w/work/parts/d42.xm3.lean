/-! ===== the component: the next token ===== -/
theorem xI_xI' (ξ : Xs) (k : Nat) (a b : Int32) : xI (xI ξ k a) k b = xI ξ k b := congrArg (fun z => (z, ξ.2)) (upd_upd ξ.1 k a b)
theorem xI_same {ξ : Xs} {k : Nat} {a : Int32} (h : ξ.1 k = a) : xI ξ k a = ξ := by
  subst h
  exact congrArg (fun z => (z, ξ.2)) (upd_self ξ.1 k)
theorem atR_sp {f : Nat → Int32} {n e : Nat} : (e < n ∧ (lkN f n e = 10 ∨ lkN f n e = 32)) ↔ (atR f n e = 32 ∨ atR f n e = 10) := by
  by_cases h : e < n
  · rw [atR_in h]
    exact ⟨fun z => z.2.symm, fun z => ⟨h, z.symm⟩⟩
  · rw [(atR_out h).1]
    exact ⟨fun z => absurd z.1 h, fun z => z.elim (fun y => absurd y (by decide)) (fun y => absurd y (by decide))⟩
set_option maxHeartbeats 4000000 in
set_option maxRecDepth 100000 in
/-- a loop of next -/
theorem x_nx0 {ξ : Xs} {mid dyn : List ACell} {f : Nat → Int32} {n : Nat} (hn : n ≤ 500) (h102 : ξ.1 102 = nI n) (hf : ξ.2.2.1 100 = f) {Q : Qfun} : ∀ (fuel : Nat) (e : Nat), e ≤ n → n < e + fuel → E cX2_next (RX2, none, 2, 1, (0, 0), false, []) Q noX 0 0 39 [some (.ref 4), none] [] (XM (xI ξ 105 (nI (skN f n fuel e))) mid dyn) →
    E cX2_next (RX2, none, 2, 1, (0, 0), false, []) Q noX 0 0 0 [some (.ref 4), none] [] (XM (xI ξ 105 (nI e)) mid dyn) := by
  intro fuel
  induction fuel with
  | zero => intro e he hf2 hE; exact absurd hf2 (by omega)
  | succ fuel ih =>
    intro e he hf2 hE
    refine e_aload_n dX2_next_0 0 rfl rfl rfl ?_
    refine e_aload_n dX2_next_1 0 rfl rfl rfl ?_
    refine e_getf (v := (.int (nI e))) dX2_next_2 rfl fX2_23 (xm_o4) rfl ?_
    refine e_callV1 (As := [.int (nI e)]) (rest := []) dX2_next_5 rfl mvX2_26 (xm_o4) rfl (x_atR (ξ := (xI ξ 105 (nI e))) hn h102 hf (k := e) (by omega)) (Nat.le_of_ble_eq_true rfl) rfl rfl (Nat.le_of_ble_eq_true rfl) (Nat.zero_le _) (Nat.zero_le _) ?_
    refine e_bipush 32 dX2_next_8 rfl ?_
    refine e_icmp_eq 26 dX2_next_10 (by decide) (fun h10 => ?_) (fun h10 => ?_)
    · refine e_aload_n dX2_next_26 0 rfl rfl rfl ?_
      refine e_dup dX2_next_27 rfl ?_
      refine e_getf (v := (.int (nI e))) dX2_next_28 rfl fX2_23 (xm_o4) rfl ?_
      refine e_iconst 1 dX2_next_31 rfl ?_
      refine e_iaddN e 1 dX2_next_32 ?_
      refine e_xputI dX2_next_33 rfl pX2_23 rfl (xm_o4) (Nat.le_of_ble_eq_true rfl) (xm_f105 _) ?_
      refine e_goto 0 dX2_next_36 (by decide) ?_
      rw [xI_xI']
      have hc := atR_sp.mpr (show atR f n e = 32 ∨ atR f n e = 10 from Or.inl h10)
      exact ih (e + 1) (by omega) (by omega) (by rw [skN, if_pos hc] at hE; exact hE)
    · refine e_aload_n dX2_next_13 0 rfl rfl rfl ?_
      refine e_aload_n dX2_next_14 0 rfl rfl rfl ?_
      refine e_getf (v := (.int (nI e))) dX2_next_15 rfl fX2_23 (xm_o4) rfl ?_
      refine e_callV1 (As := [.int (nI e)]) (rest := []) dX2_next_18 rfl mvX2_26 (xm_o4) rfl (x_atR (ξ := (xI ξ 105 (nI e))) hn h102 hf (k := e) (by omega)) (Nat.le_of_ble_eq_true rfl) rfl rfl (Nat.le_of_ble_eq_true rfl) (Nat.zero_le _) (Nat.zero_le _) ?_
      refine e_bipush 10 dX2_next_21 rfl ?_
      refine e_icmp_ne 39 dX2_next_23 (by decide) (fun h23 => ?_) (fun h23 => ?_)
      · rw [skN, if_neg (fun z => (atR_sp.mp z).elim h10 h23)] at hE
        exact hE
      · refine e_aload_n dX2_next_26 0 rfl rfl rfl ?_
        refine e_dup dX2_next_27 rfl ?_
        refine e_getf (v := (.int (nI e))) dX2_next_28 rfl fX2_23 (xm_o4) rfl ?_
        refine e_iconst 1 dX2_next_31 rfl ?_
        refine e_iaddN e 1 dX2_next_32 ?_
        refine e_xputI dX2_next_33 rfl pX2_23 rfl (xm_o4) (Nat.le_of_ble_eq_true rfl) (xm_f105 _) ?_
        refine e_goto 0 dX2_next_36 (by decide) ?_
        rw [xI_xI']
        have hc := atR_sp.mpr (show atR f n e = 32 ∨ atR f n e = 10 from Or.inr h23)
        exact ih (e + 1) (by omega) (by omega) (by rw [skN, if_pos hc] at hE; exact hE)

set_option maxHeartbeats 4000000 in
set_option maxRecDepth 100000 in
/-- a loop of next -/
theorem x_nx1 {ξ : Xs} {mid dyn : List ACell} {f : Nat → Int32} {n : Nat} (hn : n ≤ 500) (h102 : ξ.1 102 = nI n) (hf : ξ.2.2.1 100 = f) {a : Nat} {x : Int32} {Q : Qfun} : ∀ (fuel : Nat) (e : Nat) (w : Int64), e ≤ n → n < e + fuel → E cX2_next (RX2, none, 2, 1, (0, 0), false, []) Q noX 0 0 109 [some (.ref 4), some (.int x)] [] (XM (xI ξ 105 (nI ((wdN f n a fuel e w).1))) mid dyn) →
    E cX2_next (RX2, none, 2, 1, (0, 0), false, []) Q noX 0 0 82 [some (.ref 4), some (.int x)] [] (XM (xI ξ 105 (nI e)) mid dyn) := by
  intro fuel
  induction fuel with
  | zero => intro e w he hf2 hE; exact absurd hf2 (by omega)
  | succ fuel ih =>
    intro e w he hf2 hE
    refine e_aload_n dX2_next_82 0 rfl rfl rfl ?_
    refine e_aload_n dX2_next_83 0 rfl rfl rfl ?_
    refine e_getf (v := (.int (nI e))) dX2_next_84 rfl fX2_23 (xm_o4) rfl ?_
    refine e_callV1 (As := [.int (nI e)]) (rest := []) dX2_next_87 rfl mvX2_26 (xm_o4) rfl (x_atR (ξ := (xI ξ 105 (nI e))) hn h102 hf (k := e) (by omega)) (Nat.le_of_ble_eq_true rfl) rfl rfl (Nat.le_of_ble_eq_true rfl) (Nat.zero_le _) (Nat.zero_le _) ?_
    refine e_callSB (As := [.int (atR f n e)]) (rest := []) dX2_next_90 rfl msX2_40 (x_isSmall (atR f n e)) (Nat.le_of_ble_eq_true rfl) rfl rfl (Nat.le_of_ble_eq_true rfl) (Nat.zero_le _) (Nat.zero_le _) (fun h90 => ?_) (fun h90 => ?_)
    · have h90 : (isLt (atR f n e)) := h90
      refine e_if_eq_f (by decide) 109 dX2_next_93 (by decide) ?_
      refine e_aload_n dX2_next_96 0 rfl rfl rfl ?_
      refine e_dup dX2_next_97 rfl ?_
      refine e_getf (v := (.int (nI e))) dX2_next_98 rfl fX2_23 (xm_o4) rfl ?_
      refine e_iconst 1 dX2_next_101 rfl ?_
      refine e_iaddN e 1 dX2_next_102 ?_
      refine e_xputI dX2_next_103 rfl pX2_23 rfl (xm_o4) (Nat.le_of_ble_eq_true rfl) (xm_f105 _) ?_
      refine e_goto 82 dX2_next_106 (by decide) ?_
      rw [xI_xI']
      have hc := (atR_lt f n e).mp h90
      have hen := lk_lt (n := n) (Or.inl hc)
      rw [wdN, if_pos hc] at hE
      exact ih (e + 1) _ (by omega) (by omega) hE
    · have h90 : ¬ (isLt (atR f n e)) := h90
      refine e_if_eq_t 109 (by decide) dX2_next_93 (by decide) ?_
      rw [wdN, if_neg (fun z => h90 ((atR_lt f n e).mpr z))] at hE
      exact hE

/-- a number's value so far, if it is not too long -/
def nvI (a e : Nat) (v w : Int64) : Prop := e ≤ a + 12 → v = w ∧ 0 ≤ w.toInt ∧ w.toInt < 10 ^ (e - a)
theorem pw10_12 {d : Nat} (h : d ≤ 12) : (10 : Int) ^ d ≤ 1000000000000 := by
  have e : ∀ d, d < 13 → (10 : Int) ^ d ≤ 1000000000000 := by decide +kernel
  exact e d (by omega)
theorem nvI.s {a e : Nat} {v w : Int64} {c : Int32} (ha : a ≤ e) (hv : nvI a e v w) (hc : isDg c) : nvI a (e + 1) (mnL 1000000000000 ((10 * v) + c.toInt64 - 48)) (if e < a + 12 then 10 * w + c.toInt64 - 48 else w) := by
  intro h
  obtain ⟨rfl, h1, h2⟩ := hv (by omega)
  have hp := pw10_12 (d := e - a) (by omega)
  have hp1 := pw10_12 (d := e + 1 - a) (by omega)
  have hs : (10 : Int) ^ (e + 1 - a) = 10 ^ (e - a) * 10 := by rw [show e + 1 - a = (e - a) + 1 by omega, Int.pow_succ]
  rw [if_pos (by omega)]
  have hc1 : (48 : Int) ≤ c.toInt := Int32.le_iff_toInt_le.mp hc.1
  have hc2 : c.toInt ≤ 57 := Int32.le_iff_toInt_le.mp hc.2
  have e10 : (10 : Int64).toInt = 10 := rfl
  have e48 : (48 : Int64).toInt = 48 := rfl
  have hle : (10 * v + c.toInt64 - 48).toInt = 10 * v.toInt + c.toInt - 48 := by
    rw [Int64.toInt_sub, Int64.toInt_add, Int64.toInt_mul, e10, e48, Int32.toInt_toInt64, Int.bmod_eq_of_le (n := 10 * v.toInt) (by omega) (by omega), Int.bmod_eq_of_le (n := 10 * v.toInt + c.toInt) (by omega) (by omega), Int.bmod_eq_of_le (by omega) (by omega)]
  have hg : (1000000000000 : Int64).toInt = 1000000000000 := rfl
  refine ⟨?_, by rw [hle]; omega, by rw [hle]; omega⟩
  unfold mnL
  by_cases z : (1000000000000 : Int64) ≤ 10 * v + c.toInt64 - 48
  · rw [Int64.le_iff_toInt_le, hle, hg] at z
    omega
  · rw [if_neg z]
set_option maxHeartbeats 4000000 in
set_option maxRecDepth 100000 in
/-- a loop of next -/
theorem x_nx2 {ξ : Xs} {mid dyn : List ACell} {f : Nat → Int32} {n : Nat} (hn : n ≤ 500) (h102 : ξ.1 102 = nI n) (hf : ξ.2.2.1 100 = f) {a : Nat} {x : Int32} (h104 : ξ.1 104 = nI a) {Q : Qfun} : ∀ (fuel : Nat) (e : Nat) (v : Int64) (w : Int64), a ≤ e ∧ e ≤ n → n < e + fuel → nvI a e v w → (∀ v, nvI a (nuN f n a fuel e w).1 v (nuN f n a fuel e w).2 → E cX2_next (RX2, none, 2, 1, (0, 0), false, []) Q noX 0 0 188 [some (.ref 4), some (.int x)] [] (XM (xL (xI ξ 105 (nI ((nuN f n a fuel e w).1))) 106 v) mid dyn)) →
    E cX2_next (RX2, none, 2, 1, (0, 0), false, []) Q noX 0 0 129 [some (.ref 4), some (.int x)] [] (XM (xL (xI ξ 105 (nI e)) 106 v) mid dyn) := by
  intro fuel
  induction fuel with
  | zero => intro e v w he hf2 hv hE; exact absurd hf2 (by omega)
  | succ fuel ih =>
    intro e v w he hf2 hv hE
    refine e_aload_n dX2_next_129 0 rfl rfl rfl ?_
    refine e_aload_n dX2_next_130 0 rfl rfl rfl ?_
    refine e_getf (v := (.int (nI e))) dX2_next_131 rfl fX2_23 (xm_o4) rfl ?_
    refine e_callV1 (As := [.int (nI e)]) (rest := []) dX2_next_134 rfl mvX2_26 (xm_o4) rfl (x_atR (ξ := (xL (xI ξ 105 (nI e)) 106 v)) hn h102 hf (k := e) (by omega)) (Nat.le_of_ble_eq_true rfl) rfl rfl (Nat.le_of_ble_eq_true rfl) (Nat.zero_le _) (Nat.zero_le _) ?_
    refine e_callSB (As := [.int (atR f n e)]) (rest := []) dX2_next_137 rfl msX2_44 (x_isDigit (atR f n e)) (Nat.le_of_ble_eq_true rfl) rfl rfl (Nat.le_of_ble_eq_true rfl) (Nat.zero_le _) (Nat.zero_le _) (fun h137 => ?_) (fun h137 => ?_)
    · have h137 : (isDg (atR f n e)) := h137
      refine e_if_eq_f (by decide) 188 dX2_next_140 (by decide) ?_
      refine e_aload_n dX2_next_143 0 rfl rfl rfl ?_
      refine e_ldc2 rfl q804 dX2_next_144 ?_
      refine e_ldc2 rfl q805 dX2_next_147 ?_
      refine e_aload_n dX2_next_150 0 rfl rfl rfl ?_
      refine e_getf (v := (.long v)) dX2_next_151 rfl fX2_33 (xm_o4) rfl ?_
      refine e_lmul dX2_next_154 ?_
      refine e_aload_n dX2_next_155 0 rfl rfl rfl ?_
      refine e_aload_n dX2_next_156 0 rfl rfl rfl ?_
      refine e_getf (v := (.int (nI e))) dX2_next_157 rfl fX2_23 (xm_o4) rfl ?_
      refine e_callV1 (As := [.int (nI e)]) (rest := [.long (10 * v), .long 1000000000000, .ref 4]) dX2_next_160 rfl mvX2_26 (xm_o4) rfl (x_atR (ξ := (xL (xI ξ 105 (nI e)) 106 v)) hn h102 hf (k := e) (by omega)) (Nat.le_of_ble_eq_true rfl) rfl rfl (Nat.le_of_ble_eq_true rfl) (Nat.zero_le _) (Nat.zero_le _) ?_
      refine e_i2l dX2_next_163 ?_
      refine e_ladd dX2_next_164 ?_
      refine e_ldc2 rfl q806 dX2_next_165 ?_
      refine e_lsub dX2_next_168 ?_
      refine e_callS1 (As := [.long 1000000000000, .long (((10 * v) + ((atR f n e).toInt64)) - 48)]) (rest := [.ref 4]) dX2_next_169 rfl msX2_53 (m_minL 1000000000000 (((10 * v) + ((atR f n e).toInt64)) - 48)) (Nat.le_of_ble_eq_true rfl) rfl rfl (Nat.le_of_ble_eq_true rfl) (Nat.zero_le _) (Nat.zero_le _) ?_
      refine e_xputL dX2_next_172 rfl pX2_33 (xm_o4) (Nat.le_of_ble_eq_true rfl) (xm_f106 _) ?_
      refine e_aload_n dX2_next_175 0 rfl rfl rfl ?_
      refine e_dup dX2_next_176 rfl ?_
      refine e_getf (v := (.int (nI e))) dX2_next_177 rfl fX2_23 (xm_o4) rfl ?_
      refine e_iconst 1 dX2_next_180 rfl ?_
      refine e_iaddN e 1 dX2_next_181 ?_
      refine e_xputI dX2_next_182 rfl pX2_23 rfl (xm_o4) (Nat.le_of_ble_eq_true rfl) (xm_f105 _) ?_
      refine e_goto 129 dX2_next_185 (by decide) ?_
      rw [show xI (xL (xL (xI ξ 105 (nI e)) 106 v) 106 (mnL 1000000000000 (((10 * v) + (atR f n e).toInt64) - 48))) 105 (nI (e + 1)) = xL (xI ξ 105 (nI (e + 1))) 106 (mnL 1000000000000 (((10 * v) + (atR f n e).toInt64) - 48)) by rw [xL_xL, ← xI_xI' ξ 105 (nI e) (nI (e + 1))]; rfl]
      have hc := (atR_dg f n e).mp h137
      have hen := lk_lt (n := n) (Or.inr hc)
      refine ih (e + 1) _ _ (by omega) (by omega) (hv.s (by omega) h137) ?_
      rw [nuN, if_pos hc] at hE
      rw [atR_in hen]
      exact hE
    · have h137 : ¬ (isDg (atR f n e)) := h137
      refine e_if_eq_t 188 (by decide) dX2_next_140 (by decide) ?_
      rw [nuN, if_neg (fun z => h137 ((atR_dg f n e).mpr z))] at hE
      exact hE v hv

theorem xL_same {ξ : Xs} {k : Nat} {a : Int64} (h : ξ.2.1 k = a) : xL ξ k a = ξ := by
  subst h
  exact congrArg (fun z => (ξ.1, z, ξ.2.2)) (updL_id ξ.2.1 k)
theorem nvI.z (a : Nat) : nvI a a 0 0 := fun _ => ⟨rfl, Int.le_refl _, by rw [Nat.sub_self]; decide⟩
set_option maxHeartbeats 4000000 in
set_option maxRecDepth 100000 in
/-- WheelTables$Reader.next -/
theorem x_next {ξ : Xs} {mid dyn : List ACell} {f : Nat → Int32} {n : Nat} (hn : n ≤ 500) (h102 : ξ.1 102 = nI n) (hf : ξ.2.2.1 100 = f) {p : Nat} (hp : p ≤ n) (h105 : ξ.1 105 = nI p) : Ct yX2_next (ws_ yX2_next cX2_next 2 none) 1 0 0 [.ref 4] (XM ξ mid dyn) (fun v N => ∃ ξ', N = XM ξ' mid dyn ∧ v = none ∧ SyN ξ ξ' ∧ TkX (tokN f n p) ξ') noX := by
  refine Ct.of (ini := false) (ls := [some (.ref 4), none]) (by decide) (Nat.le_of_ble_eq_true rfl) (fun h => by cases h) rfl ?_
  refine E_mem (M' := XM (xI ξ 105 (nI p)) mid dyn) (by rw [xI_same h105]) ?_
  refine x_nx0 hn h102 hf 501 p hp (by omega) ?_
  obtain ⟨a, ha⟩ : ∃ a, skN f n 501 p = a := ⟨_, rfl⟩
  have hle := skN_le (f := f) (n := n) 501 p hp
  have etk : tokN f n p = tokA f n a := by unfold tokN; rw [ha]
  rw [ha] at hle ⊢
  rw [etk]
  refine e_aload_n dX2_next_39 0 rfl rfl rfl ?_
  refine e_aload_n dX2_next_40 0 rfl rfl rfl ?_
  refine e_getf (v := (.int (nI a))) dX2_next_41 rfl fX2_23 (xm_o4) rfl ?_
  refine e_xputI dX2_next_44 rfl pX2_30 rfl (xm_o4) (Nat.le_of_ble_eq_true rfl) (xm_f104 _) ?_
  refine e_aload_n dX2_next_47 0 rfl rfl rfl ?_
  refine e_aload_n dX2_next_48 0 rfl rfl rfl ?_
  refine e_getf (v := (.int (nI a))) dX2_next_49 rfl fX2_23 (xm_o4) rfl ?_
  refine e_callV1 (As := [.int (nI a)]) (rest := []) dX2_next_52 rfl mvX2_26 (xm_o4) rfl (x_atR (ξ := (xI (xI ξ 105 (nI a)) 104 (nI a))) hn h102 hf (k := a) (by omega)) (Nat.le_of_ble_eq_true rfl) rfl rfl (Nat.le_of_ble_eq_true rfl) (Nat.zero_le _) (Nat.zero_le _) ?_
  refine e_istore_n dX2_next_55 1 rfl (ls_1 rfl) (Nat.le_of_ble_eq_true rfl) ?_
  refine e_aload_n dX2_next_56 0 rfl rfl rfl ?_
  refine e_iload_n dX2_next_57 1 rfl rfl ?_
  refine e_i2l dX2_next_58 ?_
  refine e_xputL dX2_next_59 rfl pX2_33 (xm_o4) (Nat.le_of_ble_eq_true rfl) (xm_f106 _) ?_
  refine e_iload_n dX2_next_62 1 rfl rfl ?_
  refine e_iconst (-1) dX2_next_63 rfl ?_
  refine e_icmp_ne 75 dX2_next_64 (by decide) (fun h64 => ?_) (fun h64 => ?_)
  · refine e_iload_n dX2_next_75 1 rfl rfl ?_
    refine e_callSB (As := [.int (atR f n a)]) (rest := []) dX2_next_76 rfl msX2_40 (x_isSmall (atR f n a)) (Nat.le_of_ble_eq_true rfl) rfl rfl (Nat.le_of_ble_eq_true rfl) (Nat.zero_le _) (Nat.zero_le _) (fun h76 => ?_) (fun h76 => ?_)
    · have h76 : (isLt (atR f n a)) := h76
      refine e_if_eq_f (by decide) 117 dX2_next_79 (by decide) ?_
      obtain ⟨ξb, hb⟩ : ∃ ξb, (xL (xI (xI ξ 105 (nI a)) 104 (nI a)) 106 ((atR f n a).toInt64)) = ξb := ⟨_, rfl⟩
      have g102 : ξb.1 102 = nI n := by rw [← hb]; exact h102
      have gf : ξb.2.2.1 100 = f := by rw [← hb]; exact hf
      have h104 : ξb.1 104 = nI a := by rw [← hb]; rfl
      have g105 : ξb.1 105 = nI a := by rw [← hb]; rfl
      have gS : SyN ξ ξb := by rw [← hb]; exact (((SyN.rf ξ).I _ (by decide)).I _ (by decide)).L _ _
      rw [hb]
      refine E_mem (M' := XM (xI ξb 105 (nI a)) mid dyn) (by rw [xI_same g105]) ?_
      refine x_nx1 hn g102 gf (a := a) 501 a 0 (by omega) (by omega) ?_
      refine e_aload_n dX2_next_109 0 rfl rfl rfl ?_
      refine e_iconst 2 dX2_next_110 rfl ?_
      refine e_xputI dX2_next_111 rfl pX2_37 rfl (xm_o4) (Nat.le_of_ble_eq_true rfl) (xm_f103 _) ?_
      refine e_goto 245 dX2_next_114 (by decide) ?_
      refine e_return dX2_next_245 rfl (Nat.zero_le _) (Nat.zero_le _) ?_
      have hna : ¬ n ≤ a := fun z => h64 ((atR_m1 f n a).mpr z)
      have e1 : tokA f n a = (1, a, (wdN f n a 501 a 0).1, (wdN f n a 501 a 0).2) := by unfold tokA; rw [if_neg hna, if_pos ((atR_lt f n a).mp h76)]
      rw [e1]
      exact ⟨_, rfl, rfl, (gS.I _ (by decide)).I _ (by decide), rfl, h104, rfl, fun z => absurd (show (1 : Nat) = 2 ∨ (1 : Nat) = 3 from z) (by decide)⟩
    · have h76 : ¬ (isLt (atR f n a)) := h76
      refine e_if_eq_t 117 (by decide) dX2_next_79 (by decide) ?_
      refine e_iload_n dX2_next_117 1 rfl rfl ?_
      refine e_callSB (As := [.int (atR f n a)]) (rest := []) dX2_next_118 rfl msX2_44 (x_isDigit (atR f n a)) (Nat.le_of_ble_eq_true rfl) rfl rfl (Nat.le_of_ble_eq_true rfl) (Nat.zero_le _) (Nat.zero_le _) (fun h118 => ?_) (fun h118 => ?_)
      · have h118 : (isDg (atR f n a)) := h118
        refine e_if_eq_f (by decide) 214 dX2_next_121 (by decide) ?_
        refine e_aload_n dX2_next_124 0 rfl rfl rfl ?_
        refine e_lconst 0 dX2_next_125 rfl ?_
        refine e_xputL dX2_next_126 rfl pX2_33 (xm_o4) (Nat.le_of_ble_eq_true rfl) (xm_f106 _) ?_
        obtain ⟨ξb, hb⟩ : ∃ ξb, (xL (xL (xI (xI ξ 105 (nI a)) 104 (nI a)) 106 ((atR f n a).toInt64)) 106 0) = ξb := ⟨_, rfl⟩
        have g102 : ξb.1 102 = nI n := by rw [← hb]; exact h102
        have gf : ξb.2.2.1 100 = f := by rw [← hb]; exact hf
        have h104 : ξb.1 104 = nI a := by rw [← hb]; rfl
        have g105 : ξb.1 105 = nI a := by rw [← hb]; rfl
        have gS : SyN ξ ξb := by rw [← hb]; exact ((((SyN.rf ξ).I _ (by decide)).I _ (by decide)).L _ _).L _ _
        rw [hb]
        have g106 : ξb.2.1 106 = 0 := by rw [← hb]; rfl
        refine E_mem (M' := XM (xL (xI ξb 105 (nI a)) 106 0) mid dyn) (by rw [xI_same g105, xL_same g106]) ?_
        refine x_nx2 hn g102 gf h104 501 a 0 0 ⟨Nat.le_refl _, by omega⟩ (by omega) (nvI.z a) (fun v hv => ?_)
        have hnu := nuN_le (f := f) (n := n) (a := a) 501 a 0 hle.2
        refine e_aload_n dX2_next_188 0 rfl rfl rfl ?_
        refine e_aload_n dX2_next_189 0 rfl rfl rfl ?_
        refine e_getf (v := (.int (nI ((nuN f n a 501 a 0).1)))) dX2_next_190 rfl fX2_23 (xm_o4) rfl ?_
        refine e_aload_n dX2_next_193 0 rfl rfl rfl ?_
        refine e_getf (v := (.int (ξb.1 104))) dX2_next_194 rfl fX2_30 (xm_o4) rfl ?_
        refine e_top (congrArg Value.int h104) ?_
        refine e_isubN ((nuN f n a 501 a 0).1) a (by omega) dX2_next_197 ?_
        refine e_bipush 12 dX2_next_198 rfl ?_
        refine e_icmp_leN (((nuN f n a 501 a 0).1) - a) 12 207 (by omega) (by omega) dX2_next_200 (by decide) (fun h200 => ?_) (fun h200 => ?_)
        · refine e_iconst 3 dX2_next_207 rfl ?_
          refine e_xputI dX2_next_208 rfl pX2_37 rfl (xm_o4) (Nat.le_of_ble_eq_true rfl) (xm_f103 _) ?_
          refine e_goto 245 dX2_next_211 (by decide) ?_
          refine e_return dX2_next_245 rfl (Nat.zero_le _) (Nat.zero_le _) ?_
          have hna : ¬ n ≤ a := fun z => h64 ((atR_m1 f n a).mpr z)
          have hnl : ¬ isLt (lkN f n a) := fun z => h76 ((atR_lt f n a).mpr z)
          have e1 : tokA f n a = (2, a, (nuN f n a 501 a 0).1, (nuN f n a 501 a 0).2) := by unfold tokA; rw [if_neg hna, if_neg hnl, if_pos ((atR_dg f n a).mp h118), if_neg (by omega)]
          rw [e1]
          exact ⟨_, rfl, rfl, ((gS.I _ (by decide)).L _ _).I _ (by decide), rfl, h104, rfl, fun _ => (hv (by omega)).1⟩
        · refine e_iconst 1 dX2_next_203 rfl ?_
          refine e_goto 208 dX2_next_204 (by decide) ?_
          refine e_xputI dX2_next_208 rfl pX2_37 rfl (xm_o4) (Nat.le_of_ble_eq_true rfl) (xm_f103 _) ?_
          refine e_goto 245 dX2_next_211 (by decide) ?_
          refine e_return dX2_next_245 rfl (Nat.zero_le _) (Nat.zero_le _) ?_
          have hna : ¬ n ≤ a := fun z => h64 ((atR_m1 f n a).mpr z)
          have hnl : ¬ isLt (lkN f n a) := fun z => h76 ((atR_lt f n a).mpr z)
          have e1 : tokA f n a = (4, a, (nuN f n a 501 a 0).1, (nuN f n a 501 a 0).2) := by unfold tokA; rw [if_neg hna, if_neg hnl, if_pos ((atR_dg f n a).mp h118), if_pos (by omega)]
          rw [e1]
          exact ⟨_, rfl, rfl, ((gS.I _ (by decide)).L _ _).I _ (by decide), rfl, h104, rfl, fun z => absurd (show (4 : Nat) = 2 ∨ (4 : Nat) = 3 from z) (by decide)⟩
      · have h118 : ¬ (isDg (atR f n a)) := h118
        refine e_if_eq_t 214 (by decide) dX2_next_121 (by decide) ?_
        refine e_aload_n dX2_next_214 0 rfl rfl rfl ?_
        refine e_dup dX2_next_215 rfl ?_
        refine e_getf (v := (.int (nI a))) dX2_next_216 rfl fX2_23 (xm_o4) rfl ?_
        refine e_iconst 1 dX2_next_219 rfl ?_
        refine e_iaddN a 1 dX2_next_220 ?_
        refine e_xputI dX2_next_221 rfl pX2_23 rfl (xm_o4) (Nat.le_of_ble_eq_true rfl) (xm_f105 _) ?_
        refine e_aload_n dX2_next_224 0 rfl rfl rfl ?_
        refine e_iload_n dX2_next_225 1 rfl rfl ?_
        refine e_bipush 59 dX2_next_226 rfl ?_
        refine e_icmp_eq 237 dX2_next_228 (by decide) (fun h228 => ?_) (fun h228 => ?_)
        · refine e_iconst 4 dX2_next_237 rfl ?_
          refine e_goto 242 dX2_next_238 (by decide) ?_
          refine e_xputI dX2_next_242 rfl pX2_37 rfl (xm_o4) (Nat.le_of_ble_eq_true rfl) (xm_f103 _) ?_
          refine e_return dX2_next_245 rfl (Nat.zero_le _) (Nat.zero_le _) ?_
          have hna : ¬ n ≤ a := fun z => h64 ((atR_m1 f n a).mpr z)
          have hnl : ¬ isLt (lkN f n a) := fun z => h76 ((atR_lt f n a).mpr z)
          have hnd : ¬ isDg (lkN f n a) := fun z => h118 ((atR_dg f n a).mpr z)
          have eal := atR_in (f := f) (n := n) (k := a) (by omega)
          have e1 : tokA f n a = (3, a, a + 1, (lkN f n a).toInt64) := by unfold tokA; rw [if_neg hna, if_neg hnl, if_neg hnd, if_pos (Or.inl (eal.symm.trans h228))]
          rw [e1]
          exact ⟨_, rfl, rfl, (((((SyN.rf ξ).I _ (by decide)).I _ (by decide)).L _ _).I _ (by decide)).I _ (by decide), rfl, rfl, rfl, fun _ => congrArg Int32.toInt64 eal⟩
        · refine e_iload_n dX2_next_231 1 rfl rfl ?_
          refine e_bipush 45 dX2_next_232 rfl ?_
          refine e_icmp_ne 241 dX2_next_234 (by decide) (fun h234 => ?_) (fun h234 => ?_)
          · refine e_iconst 1 dX2_next_241 rfl ?_
            refine e_xputI dX2_next_242 rfl pX2_37 rfl (xm_o4) (Nat.le_of_ble_eq_true rfl) (xm_f103 _) ?_
            refine e_return dX2_next_245 rfl (Nat.zero_le _) (Nat.zero_le _) ?_
            have hna : ¬ n ≤ a := fun z => h64 ((atR_m1 f n a).mpr z)
            have hnl : ¬ isLt (lkN f n a) := fun z => h76 ((atR_lt f n a).mpr z)
            have hnd : ¬ isDg (lkN f n a) := fun z => h118 ((atR_dg f n a).mpr z)
            have eal := atR_in (f := f) (n := n) (k := a) (by omega)
            have e1 : tokA f n a = (4, a, a + 1, (lkN f n a).toInt64) := by unfold tokA; rw [if_neg hna, if_neg hnl, if_neg hnd, if_neg (fun z => z.elim (fun y => h228 (eal.trans y)) (fun y => h234 (eal.trans y)))]
            rw [e1]
            exact ⟨_, rfl, rfl, (((((SyN.rf ξ).I _ (by decide)).I _ (by decide)).L _ _).I _ (by decide)).I _ (by decide), rfl, rfl, rfl, fun z => absurd (show (4 : Nat) = 2 ∨ (4 : Nat) = 3 from z) (by decide)⟩
          · refine e_iconst 4 dX2_next_237 rfl ?_
            refine e_goto 242 dX2_next_238 (by decide) ?_
            refine e_xputI dX2_next_242 rfl pX2_37 rfl (xm_o4) (Nat.le_of_ble_eq_true rfl) (xm_f103 _) ?_
            refine e_return dX2_next_245 rfl (Nat.zero_le _) (Nat.zero_le _) ?_
            have hna : ¬ n ≤ a := fun z => h64 ((atR_m1 f n a).mpr z)
            have hnl : ¬ isLt (lkN f n a) := fun z => h76 ((atR_lt f n a).mpr z)
            have hnd : ¬ isDg (lkN f n a) := fun z => h118 ((atR_dg f n a).mpr z)
            have eal := atR_in (f := f) (n := n) (k := a) (by omega)
            have e1 : tokA f n a = (3, a, a + 1, (lkN f n a).toInt64) := by unfold tokA; rw [if_neg hna, if_neg hnl, if_neg hnd, if_pos (Or.inr (eal.symm.trans h234))]
            rw [e1]
            exact ⟨_, rfl, rfl, (((((SyN.rf ξ).I _ (by decide)).I _ (by decide)).L _ _).I _ (by decide)).I _ (by decide), rfl, rfl, rfl, fun _ => congrArg Int32.toInt64 eal⟩
  · refine e_aload_n dX2_next_67 0 rfl rfl rfl ?_
    refine e_iconst 0 dX2_next_68 rfl ?_
    refine e_xputI dX2_next_69 rfl pX2_37 rfl (xm_o4) (Nat.le_of_ble_eq_true rfl) (xm_f103 _) ?_
    refine e_goto 245 dX2_next_72 (by decide) ?_
    refine e_return dX2_next_245 rfl (Nat.zero_le _) (Nat.zero_le _) ?_
    have hna := (atR_m1 f n a).mp h64
    have e1 : tokA f n a = (0, a, a, 0) := by unfold tokA; rw [if_pos hna]
    rw [e1]
    exact ⟨_, rfl, rfl, ((((SyN.rf ξ).I _ (by decide)).I _ (by decide)).L _ _).I _ (by decide), rfl, rfl, rfl, fun z => absurd (show (0 : Nat) = 2 ∨ (0 : Nat) = 3 from z) (by decide)⟩

