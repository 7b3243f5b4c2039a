/-! ===== the component: the reader's small methods ===== -/
set_option maxHeartbeats 4000000 in
set_option maxRecDepth 100000 in
/-- a loop of is -/
theorem x_is3l {ξ : Xs} {mid dyn : List ACell} {f : Nat → Int32} {n : Nat} (hn : n ≤ 500) (h102 : ξ.1 102 = nI n) (hf : ξ.2.2.1 100 = f) {t : Tok} (hG : TkG f n t) (hT : TkX t ξ) {j k e : Nat} (hj : j < 4) (he : e ≤ glLen.getD j 0) (h1 : t.1 = 1) (h2 : e - k = t.2.2.1 - t.2.1) {Q : Qfun} : ∀ (fuel : Nat) (i : Nat), k ≤ i ∧ i ≤ e → e < i + fuel → (∀ q, q < i - k → chS j (k + q) = lkN f n (t.2.1 + q)) → (isW f n j k e t → Q (some (.int 1)) (XM ξ mid dyn)) → (¬ isW f n j k e t → Q (some (.int 0)) (XM ξ mid dyn)) →
    E cX2_is (RX2, (some .boolean), 5, 4, (0, 0), false, []) Q noX 0 0 28 [some (.ref 4), some (.retAddr j), some (.int (nI k)), some (.int (nI e)), some (.int (nI i))] [] (XM ξ mid dyn) := by
  intro fuel
  induction fuel with
  | zero => intro i hi hf2 hb hQ1 hQ0; exact absurd hf2 (by omega)
  | succ fuel ih =>
    intro i hi hf2 hb hQ1 hQ0
    obtain ⟨h103, h104, h105, h106⟩ := id hT
    obtain ⟨hW4, hW1, hW2, hW3⟩ := hG.1
    have hs4 := srT_le t.1
    have hl35 := (lenS_ok j hj).1
    refine e_iload dX2_is_28 rfl ?_
    refine e_iload_n dX2_is_30 3 rfl rfl ?_
    refine e_icmp_geN i e 64 (by omega) (by omega) dX2_is_31 (by decide) (fun h31 => ?_) (fun h31 => ?_)
    · refine e_iconst 1 dX2_is_64 rfl ?_
      refine e_ireturn dX2_is_65 rfl rfl (Nat.zero_le _) (Nat.zero_le _) ?_
      obtain rfl : i = e := by omega
      exact hQ1 ⟨h1, h2, hb⟩
    · refine e_aload_n dX2_is_34 1 rfl rfl rfl ?_
      refine e_iload dX2_is_35 rfl ?_
      refine e_callVS1 (As := [.int (nI i)]) (rest := []) dX2_is_37 rfl mvX2_59 hj rfl (s_charAt (j := j) (k := i) hj (by omega)) (Nat.le_of_ble_eq_true rfl) rfl rfl (Nat.le_of_ble_eq_true rfl) (Nat.zero_le _) (Nat.zero_le _) ?_
      refine e_aload_n dX2_is_40 0 rfl rfl rfl ?_
      refine e_aload_n dX2_is_41 0 rfl rfl rfl ?_
      refine e_getf (v := (.int (ξ.1 104))) dX2_is_42 rfl fX2_30 (xm_o4) rfl ?_
      refine e_top (congrArg Value.int h104) ?_
      refine e_iload dX2_is_45 rfl ?_
      refine e_iaddN t.2.1 i dX2_is_47 ?_
      refine e_iload_n dX2_is_48 2 rfl rfl ?_
      refine e_isubN (t.2.1 + i) k (by omega) dX2_is_49 ?_
      refine e_callV1 (As := [.int (nI ((t.2.1 + i) - k))]) (rest := [.int (chS j i)]) dX2_is_50 rfl mvX2_26 (xm_o4) rfl (x_atR (ξ := ξ) hn h102 hf (k := (t.2.1 + i) - k) (by omega)) (Nat.le_of_ble_eq_true rfl) rfl rfl (Nat.le_of_ble_eq_true rfl) (Nat.zero_le _) (Nat.zero_le _) ?_
      refine e_icmp_eq 58 dX2_is_53 (by decide) (fun h53 => ?_) (fun h53 => ?_)
      · refine e_incN i (i + 1) (inc1 _) dX2_is_58 rfl (ls_s (ls_s (ls_s (ls_1 rfl)))) (Nat.le_of_ble_eq_true rfl) ?_
        refine e_goto 28 dX2_is_61 (by decide) ?_
        have ea : atR f n (t.2.1 + i - k) = lkN f n (t.2.1 + (i - k)) := by rw [atR_in (by omega), show t.2.1 + i - k = t.2.1 + (i - k) by omega]
        refine ih (i + 1) (by omega) (by omega) (fun q hq => ?_) hQ1 hQ0
        by_cases z : q = i - k
        · subst z
          rw [show k + (i - k) = i by omega, h53, ea]
        · exact hb q (by omega)
      · refine e_iconst 0 dX2_is_56 rfl ?_
        refine e_ireturn dX2_is_57 rfl rfl (Nat.zero_le _) (Nat.zero_le _) ?_
        have ea : atR f n (t.2.1 + i - k) = lkN f n (t.2.1 + (i - k)) := by rw [atR_in (by omega), show t.2.1 + i - k = t.2.1 + (i - k) by omega]
        refine hQ0 (fun z => h53 ?_)
        have := z.2.2 (i - k) (by omega)
        rw [show k + (i - k) = i by omega] at this
        rw [this, ea]

set_option maxHeartbeats 4000000 in
set_option maxRecDepth 100000 in
/-- WheelTables$Reader.is -/
theorem x_is3 {ξ : Xs} {mid dyn : List ACell} {f : Nat → Int32} {n : Nat} (hn : n ≤ 500) (h102 : ξ.1 102 = nI n) (hf : ξ.2.2.1 100 = f) {t : Tok} (hG : TkG f n t) (hT : TkX t ξ) {j k e : Nat} (hj : j < 4) (hk : k ≤ e) (he : e ≤ glLen.getD j 0) : Ct yX2_is (ws_ yX2_is cX2_is 5 (some .boolean)) 4 0 0 [.ref 4, .retAddr j, .int (nI k), .int (nI e)] (XM ξ mid dyn) (QB (isW f n j k e t) (XM ξ mid dyn)) noX := by
  obtain ⟨h103, h104, h105, h106⟩ := id hT
  obtain ⟨hW4, hW1, hW2, hW3⟩ := hG.1
  have hs4 := srT_le t.1
  have hl35 := (lenS_ok j hj).1
  refine Ct.of (ini := false) (ls := [some (.ref 4), some (.retAddr j), some (.int (nI k)), some (.int (nI e)), none]) (by decide) (Nat.le_of_ble_eq_true rfl) (fun h => by cases h) rfl ?_
  refine e_aload_n dX2_is_0 0 rfl rfl rfl ?_
  refine e_getf (v := (.int (ξ.1 103))) dX2_is_1 rfl fX2_37 (xm_o4) rfl ?_
  refine e_top (congrArg Value.int h103) ?_
  refine e_iconst 2 dX2_is_4 rfl ?_
  refine e_icmp_neN (srT t.1) 2 23 (by omega) (by omega) dX2_is_5 (by decide) (fun h5 => ?_) (fun h5 => ?_)
  · refine e_iconst 0 dX2_is_23 rfl ?_
    refine e_ireturn dX2_is_24 rfl rfl (Nat.zero_le _) (Nat.zero_le _) ?_
    exact ⟨rfl, Or.inr ⟨fun z => h5 (srT_2.mpr z.1), rfl⟩⟩
  · refine e_iload_n dX2_is_8 3 rfl rfl ?_
    refine e_iload_n dX2_is_9 2 rfl rfl ?_
    refine e_isubN e k (by omega) dX2_is_10 ?_
    refine e_aload_n dX2_is_11 0 rfl rfl rfl ?_
    refine e_getf (v := (.int (ξ.1 105))) dX2_is_12 rfl fX2_23 (xm_o4) rfl ?_
    refine e_top (congrArg Value.int h105) ?_
    refine e_aload_n dX2_is_15 0 rfl rfl rfl ?_
    refine e_getf (v := (.int (ξ.1 104))) dX2_is_16 rfl fX2_30 (xm_o4) rfl ?_
    refine e_top (congrArg Value.int h104) ?_
    refine e_isubN t.2.2.1 t.2.1 (by omega) dX2_is_19 ?_
    refine e_icmp_eqN (e - k) (t.2.2.1 - t.2.1) 25 (by omega) (by omega) dX2_is_20 (by decide) (fun h20 => ?_) (fun h20 => ?_)
    · refine e_iload_n dX2_is_25 2 rfl rfl ?_
      refine e_istore dX2_is_26 (ls_s (ls_s (ls_s (ls_1 rfl)))) (Nat.le_of_ble_eq_true rfl) ?_
      exact x_is3l hn h102 hf hG hT hj he (srT_2.mp h5) h20 (e + 1) k ⟨Nat.le_refl _, hk⟩ (by omega) (fun q hq => absurd hq (by omega)) (fun h => ⟨rfl, Or.inl ⟨h, rfl⟩⟩) (fun h => ⟨rfl, Or.inr ⟨h, rfl⟩⟩)
    · refine e_iconst 0 dX2_is_23 rfl ?_
      refine e_ireturn dX2_is_24 rfl rfl (Nat.zero_le _) (Nat.zero_le _) ?_
      exact ⟨rfl, Or.inr ⟨fun z => h20 z.2.1, rfl⟩⟩

set_option maxHeartbeats 4000000 in
set_option maxRecDepth 100000 in
/-- WheelTables$Reader.is -/
theorem x_is1 {ξ : Xs} {mid dyn : List ACell} {f : Nat → Int32} {n : Nat} (hn : n ≤ 500) (h102 : ξ.1 102 = nI n) (hf : ξ.2.2.1 100 = f) {t : Tok} (hG : TkG f n t) (hT : TkX t ξ) {j : Nat} (hj : j < 4) : Ct yX2_is_2 (ws_ yX2_is_2 cX2_is_2 2 (some .boolean)) 5 0 0 [.ref 4, .retAddr j] (XM ξ mid dyn) (QB (isW f n j 0 (glLen.getD j 0) t) (XM ξ mid dyn)) noX := by
  obtain ⟨h103, h104, h105, h106⟩ := id hT
  obtain ⟨hW4, hW1, hW2, hW3⟩ := hG.1
  have hs4 := srT_le t.1
  have hl35 := (lenS_ok j hj).1
  refine Ct.of (ini := false) (ls := [some (.ref 4), some (.retAddr j)]) (by decide) (Nat.le_of_ble_eq_true rfl) (fun h => by cases h) rfl ?_
  refine e_aload_n dX2_is_2_0 0 rfl rfl rfl ?_
  refine e_aload_n dX2_is_2_1 1 rfl rfl rfl ?_
  refine e_iconst 0 dX2_is_2_2 rfl ?_
  refine e_aload_n dX2_is_2_3 1 rfl rfl rfl ?_
  refine e_callVS1 (As := []) (rest := [.int 0, .retAddr j, .ref 4]) dX2_is_2_4 rfl mvX2_65 hj rfl (s_length (j := j) hj) (Nat.le_of_ble_eq_true rfl) rfl rfl (Nat.le_of_ble_eq_true rfl) (Nat.zero_le _) (Nat.zero_le _) ?_
  refine e_callVB (As := [.retAddr j, .int 0, .int (nI (glLen.getD j 0))]) (rest := []) dX2_is_2_7 rfl mvX2_69 (xm_o4) rfl (x_is3 hn h102 hf hG hT hj (Nat.zero_le _) (Nat.le_refl _)) (Nat.le_of_ble_eq_true rfl) rfl rfl (Nat.le_of_ble_eq_true rfl) (Nat.zero_le _) (Nat.zero_le _) (fun h7 => ?_) (fun h7 => ?_)
  · have h7 : (isW f n j 0 (glLen.getD j 0) t) := h7
    refine e_ireturn dX2_is_2_10 rfl rfl (Nat.zero_le _) (Nat.zero_le _) ?_
    exact ⟨rfl, Or.inl ⟨h7, rfl⟩⟩
  · have h7 : ¬ (isW f n j 0 (glLen.getD j 0) t) := h7
    refine e_ireturn dX2_is_2_10 rfl rfl (Nat.zero_le _) (Nat.zero_le _) ?_
    exact ⟨rfl, Or.inr ⟨h7, rfl⟩⟩

set_option maxHeartbeats 4000000 in
set_option maxRecDepth 100000 in
/-- WheelTables$Reader.is -/
theorem x_isC {ξ : Xs} {mid dyn : List ACell} {f : Nat → Int32} {n : Nat} (hn : n ≤ 500) (h102 : ξ.1 102 = nI n) (hf : ξ.2.2.1 100 = f) {t : Tok} (hG : TkG f n t) (hT : TkX t ξ) {c : Int32} {cl : Int64} (hc : c.toInt64 = cl) : Ct yX2_is_3 (ws_ yX2_is_3 cX2_is_3 2 (some .boolean)) 0 0 0 [.ref 4, .int c] (XM ξ mid dyn) (QB (sgT t cl) (XM ξ mid dyn)) noX := by
  obtain ⟨h103, h104, h105, h106⟩ := id hT
  obtain ⟨hW4, hW1, hW2, hW3⟩ := hG.1
  have hs4 := srT_le t.1
  refine Ct.of (ini := false) (ls := [some (.ref 4), some (.int c)]) (by decide) (Nat.le_of_ble_eq_true rfl) (fun h => by cases h) rfl ?_
  refine e_aload_n dX2_is_3_0 0 rfl rfl rfl ?_
  refine e_getf (v := (.int (ξ.1 103))) dX2_is_3_1 rfl fX2_37 (xm_o4) rfl ?_
  refine e_top (congrArg Value.int h103) ?_
  refine e_iconst 4 dX2_is_3_4 rfl ?_
  refine e_icmp_neN (srT t.1) 4 22 (by omega) (by omega) dX2_is_3_5 (by decide) (fun h5 => ?_) (fun h5 => ?_)
  · refine e_iconst 0 dX2_is_3_22 rfl ?_
    refine e_ireturn dX2_is_3_23 rfl rfl (Nat.zero_le _) (Nat.zero_le _) ?_
    exact ⟨rfl, Or.inr ⟨fun z => h5 (srT_4.mpr z.1), rfl⟩⟩
  · refine e_aload_n dX2_is_3_8 0 rfl rfl rfl ?_
    refine e_getf (v := (.long (ξ.2.1 106))) dX2_is_3_9 rfl fX2_33 (xm_o4) rfl ?_
    refine e_top (congrArg Value.long (h106 (Or.inr (srT_4.mp h5)))) ?_
    refine e_iload_n dX2_is_3_12 1 rfl rfl ?_
    refine e_i2l dX2_is_3_13 ?_
    refine e_lcmp_ne 22 dX2_is_3_14 dX2_is_3_15 (by decide) (fun h14 => ?_) (fun h14 => ?_)
    · refine e_iconst 0 dX2_is_3_22 rfl ?_
      refine e_ireturn dX2_is_3_23 rfl rfl (Nat.zero_le _) (Nat.zero_le _) ?_
      exact ⟨rfl, Or.inr ⟨fun z => h14 (z.2.trans hc.symm), rfl⟩⟩
    · refine e_iconst 1 dX2_is_3_18 rfl ?_
      refine e_goto 23 dX2_is_3_19 (by decide) ?_
      refine e_ireturn dX2_is_3_23 rfl rfl (Nat.zero_le _) (Nat.zero_le _) ?_
      exact ⟨rfl, Or.inl ⟨⟨srT_4.mp h5, h14.trans hc⟩, rfl⟩⟩

set_option maxHeartbeats 4000000 in
set_option maxRecDepth 100000 in
/-- WheelTables$Wrong.of -/
theorem x_of {ξ : Xs} {mid dyn : List ACell} (a b : Int32) : Ct yX1_of (ws_ yX1_of cX1_of 3 (some (.object "WheelTables$Wrong"))) 0 0 0 [.ref 3, .int a, .int b] (XM ξ mid dyn) (Q1 (some (.ref 3)) (XM (xI (xI ξ 206 a) 207 b) mid dyn)) noX := by
  refine Ct.of (ini := false) (ls := [some (.ref 3), some (.int a), some (.int b)]) (by decide) (Nat.le_of_ble_eq_true rfl) (fun h => by cases h) rfl ?_
  refine e_aload_n dX1_of_0 0 rfl rfl rfl ?_
  refine e_iload_n dX1_of_1 1 rfl rfl ?_
  refine e_xputI dX1_of_2 rfl pX1_7 rfl (xm_o3) (Nat.le_of_ble_eq_true rfl) (xm_f206 _) ?_
  refine e_aload_n dX1_of_5 0 rfl rfl rfl ?_
  refine e_iload_n dX1_of_6 2 rfl rfl ?_
  refine e_xputI dX1_of_7 rfl pX1_13 rfl (xm_o3) (Nat.le_of_ble_eq_true rfl) (xm_f207 _) ?_
  refine e_aload_n dX1_of_10 0 rfl rfl rfl ?_
  refine e_areturn dX1_of_11 rfl (by first | exact Or.inl ⟨_, rfl⟩ | exact Or.inr ⟨_, rfl⟩) rfl (Nat.zero_le _) (Nat.zero_le _) ?_
  exact ⟨rfl, rfl⟩

set_option maxHeartbeats 4000000 in
set_option maxRecDepth 100000 in
/-- WheelTables$Reader.fail -/
theorem x_fail {ξ : Xs} {mid dyn : List ACell} {f : Nat → Int32} {n : Nat} (hn : n ≤ 500) (h102 : ξ.1 102 = nI n) (hf : ξ.2.2.1 100 = f) {t : Tok} (hG : TkG f n t) (hT : TkX t ξ) (k : Int32) : Ct yX2_fail (ws_ yX2_fail cX2_fail 2 (some (.object "WheelTables$Wrong"))) 1 0 0 [.ref 4, .int k] (XM ξ mid dyn) (Q1 (some (.ref 3)) (XM (xI (xI ξ 206 (if t.1 = 4 then 1 else k)) 207 (nI t.2.1)) mid dyn)) noX := by
  obtain ⟨h103, h104, h105, h106⟩ := id hT
  obtain ⟨hW4, hW1, hW2, hW3⟩ := hG.1
  have hs4 := srT_le t.1
  refine Ct.of (ini := false) (ls := [some (.ref 4), some (.int k)]) (by decide) (Nat.le_of_ble_eq_true rfl) (fun h => by cases h) rfl ?_
  refine e_aload_n dX2_fail_0 0 rfl rfl rfl ?_
  refine e_getf (v := (.ref 3)) dX2_fail_1 rfl fX2_15 (xm_o4) rfl ?_
  refine e_aload_n dX2_fail_4 0 rfl rfl rfl ?_
  refine e_getf (v := (.int (ξ.1 103))) dX2_fail_5 rfl fX2_37 (xm_o4) rfl ?_
  refine e_top (congrArg Value.int h103) ?_
  refine e_iconst 1 dX2_fail_8 rfl ?_
  refine e_icmp_neN (srT t.1) 1 16 (by omega) (by omega) dX2_fail_9 (by decide) (fun h9 => ?_) (fun h9 => ?_)
  · refine e_iload_n dX2_fail_16 1 rfl rfl ?_
    refine e_aload_n dX2_fail_17 0 rfl rfl rfl ?_
    refine e_getf (v := (.int (ξ.1 104))) dX2_fail_18 rfl fX2_30 (xm_o4) rfl ?_
    refine e_top (congrArg Value.int h104) ?_
    refine e_callV1 (As := [.int k, .int (nI t.2.1)]) (rest := []) dX2_fail_21 rfl mvX2_73 (xm_o3) rfl (x_of k (nI t.2.1)) (Nat.le_of_ble_eq_true rfl) rfl rfl (Nat.le_of_ble_eq_true rfl) (Nat.zero_le _) (Nat.zero_le _) ?_
    refine e_areturn dX2_fail_24 rfl (by first | exact Or.inl ⟨_, rfl⟩ | exact Or.inr ⟨_, rfl⟩) rfl (Nat.zero_le _) (Nat.zero_le _) ?_
    rw [if_neg (fun z => h9 ((srT_1 hW4).mpr z))]
    exact ⟨rfl, rfl⟩
  · refine e_iconst 1 dX2_fail_12 rfl ?_
    refine e_goto 17 dX2_fail_13 (by decide) ?_
    refine e_aload_n dX2_fail_17 0 rfl rfl rfl ?_
    refine e_getf (v := (.int (ξ.1 104))) dX2_fail_18 rfl fX2_30 (xm_o4) rfl ?_
    refine e_top (congrArg Value.int h104) ?_
    refine e_callV1 (As := [.int 1, .int (nI t.2.1)]) (rest := []) dX2_fail_21 rfl mvX2_73 (xm_o3) rfl (x_of 1 (nI t.2.1)) (Nat.le_of_ble_eq_true rfl) rfl rfl (Nat.le_of_ble_eq_true rfl) (Nat.zero_le _) (Nat.zero_le _) ?_
    refine e_areturn dX2_fail_24 rfl (by first | exact Or.inl ⟨_, rfl⟩ | exact Or.inr ⟨_, rfl⟩) rfl (Nat.zero_le _) (Nat.zero_le _) ?_
    rw [if_pos ((srT_1 hW4).mp h9)]
    exact ⟨rfl, rfl⟩

set_option maxHeartbeats 4000000 in
set_option maxRecDepth 100000 in
/-- WheelTables$Reader.need -/
theorem x_need1 {ξ : Xs} {mid dyn : List ACell} : Ct yX2_need (ws_ yX2_need cX2_need 2 none) 2 0 0 [.ref 4, .int 1] (XM ξ mid dyn) (Q1 none (XM ξ mid dyn)) noX := by
  refine Ct.of (ini := false) (ls := [some (.ref 4), some (.int 1)]) (by decide) (Nat.le_of_ble_eq_true rfl) (fun h => by cases h) rfl ?_
  refine e_iload_n dX2_need_0 1 rfl rfl ?_
  refine e_if_ne_t 10 (by decide) dX2_need_1 (by decide) ?_
  refine e_return dX2_need_10 rfl (Nat.zero_le _) (Nat.zero_le _) ?_
  exact ⟨rfl, rfl⟩

set_option maxHeartbeats 4000000 in
set_option maxRecDepth 100000 in
/-- WheelTables$Reader.need -/
theorem x_need0 {ξ : Xs} {mid dyn : List ACell} {f : Nat → Int32} {n : Nat} (hn : n ≤ 500) (h102 : ξ.1 102 = nI n) (hf : ξ.2.2.1 100 = f) {t : Tok} (hG : TkG f n t) (hT : TkX t ξ) : Ct yX2_need (ws_ yX2_need cX2_need 2 none) 2 0 0 [.ref 4, .int 0] (XM ξ mid dyn) (fun _ _ => False) (fun cl w N => cl = RX1 ∧ w = some 3 ∧ N = XM (xI (xI ξ 206 (nI (bdT t).1)) 207 (nI (bdT t).2)) mid dyn) := by
  obtain ⟨h103, h104, h105, h106⟩ := id hT
  obtain ⟨hW4, hW1, hW2, hW3⟩ := hG.1
  have hs4 := srT_le t.1
  refine Ct.of (ini := false) (ls := [some (.ref 4), some (.int 0)]) (by decide) (Nat.le_of_ble_eq_true rfl) (fun h => by cases h) rfl ?_
  refine e_iload_n dX2_need_0 1 rfl rfl ?_
  refine e_if_ne_f (by decide) 10 dX2_need_1 (by decide) ?_
  refine e_aload_n dX2_need_4 0 rfl rfl rfl ?_
  refine e_iconst 2 dX2_need_5 rfl ?_
  refine e_callV1 (As := [.int 2]) (rest := []) dX2_need_6 rfl mvX2_79 (xm_o4) rfl (x_fail hn h102 hf hG hT 2) (Nat.le_of_ble_eq_true rfl) rfl rfl (Nat.le_of_ble_eq_true rfl) (Nat.zero_le _) (Nat.zero_le _) ?_
  refine e_athrow dX2_need_9 xm_o3 rfl ?_
  refine ex_out (fun _ h => by cases h) (Nat.zero_le _) (Nat.zero_le _) ?_
  refine ⟨rfl, rfl, ?_⟩
  unfold bdT
  split
  · rfl
  · rfl

