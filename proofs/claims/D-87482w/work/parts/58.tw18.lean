/-! ===== the twin: partings (2) ===== -/
theorem pw_le {Eg J : Nat} (h : Eg ≤ 4) (hJ : J ≤ 7) : Eg ^ J ≤ 16384 :=
  Nat.le_trans (Nat.pow_le_pow_left h J) (Nat.le_trans (Nat.pow_le_pow_right (by decide) hJ) (by decide))
theorem pw_pos {Eg J v : Nat} (h : v < Eg ^ J) (hJ : 0 < J) : 0 < Eg := by
  rcases Nat.eq_zero_or_pos Eg with e | e
  · subst e; rw [Nat.zero_pow hJ] at h; exact absurd h (by omega)
  · exact e
def bV (p : Nat → Option Nat) (v : Nat) : Option Nat := (bst p v).map (·.1)
theorem oI_neg {o : Option Nat} (hb : ∀ m, o = some m → m ≤ 7000) (h : oI o < 0) : o = none := by
  cases o with
  | none => rfl
  | some m => exact absurd h (nI_pos (by have := hb m rfl; omega))
theorem oI_pos {o : Option Nat} (h : ¬ oI o < 0) : ∃ m, o = some m ∧ oI o = nI m := by
  cases o with
  | none => exact absurd (show (-1 : Int32) < 0 by decide) h
  | some m => exact ⟨m, rfl, rfl⟩
set_option maxHeartbeats 4000000 in
set_option maxRecDepth 100000 in
/-- a loop of parts -/
theorem t_parts1 {pre post : List ACell} {τ0 : Tw} (hp : pre.length = 56) {Eg J : Nat} {AX WX JA JW JT : Nat → Nat} (hF : PrF τ0 Eg J AX WX JA JW JT) {Q : Qfun} : ∀ (fuel : Nat) (k : Nat), k ≤ J → J < k + fuel → E cX4_parts (RX4, (some .int), 7, 2, (0, 0), false, []) Q noX 0 0 25 [some (.ref 56), some (.int (nI (Eg ^ J))), none, none, none, none, none] [] (TW pre τ0 post) →
    E cX4_parts (RX4, (some .int), 7, 2, (0, 0), false, []) Q noX 0 0 4 [some (.ref 56), some (.int (nI (Eg ^ k))), some (.int (nI k)), none, none, none, none] [] (TW pre τ0 post) := by
  intro fuel
  induction fuel with
  | zero => intro k hk hf hE; exact absurd hf (by omega)
  | succ fuel ih =>
    intro k hk hf hE
    obtain ⟨⟨hE4, eE⟩, ⟨hJ7, eJ⟩, hEs, hJs⟩ := id hF
    refine e_iload_n dX4_parts_4 2 rfl rfl ?_
    refine e_aload_n dX4_parts_5 0 rfl rfl rfl ?_
    refine e_getf (v := .int (τ0.1 82)) dX4_parts_6 rfl fX4_557 (tw_o hp) rfl ?_
    refine e_top (congrArg Value.int eJ) ?_
    refine e_icmp_geN k J 25 (by omega) (by omega) dX4_parts_9 (by decide) (fun h9 => ?_) (fun h9 => ?_)
    · refine e_forget (i := 2) (ln_s (ln_s ln_0)) ?_
      have e1 : k = J := by omega
      subst e1
      exact hE
    · refine e_iload_n dX4_parts_12 1 rfl rfl ?_
      refine e_aload_n dX4_parts_13 0 rfl rfl rfl ?_
      refine e_getf (v := .int (τ0.1 5)) dX4_parts_14 rfl fX4_236 (tw_o hp) rfl ?_
      refine e_top (congrArg Value.int eE) ?_
      refine e_imulN (Eg ^ k) Eg dX4_parts_17 ?_
      refine e_istore_n dX4_parts_18 1 rfl (ls_1 rfl) (Nat.le_of_ble_eq_true rfl) ?_
      refine e_incN k (k + 1) (inc1 _) dX4_parts_19 rfl (ls_s (ls_1 rfl)) (Nat.le_of_ble_eq_true rfl) ?_
      refine e_goto 4 dX4_parts_22 (by decide) ?_
      exact ih (k + 1) (by omega) (by omega) hE

set_option maxHeartbeats 4000000 in
set_option maxRecDepth 100000 in
/-- a loop of parts -/
theorem t_parts3 {pre post : List ACell} {τ0 : Tw} (hp : pre.length = 56) {Eg J : Nat} {AX WX JA JW JT : Nat → Nat} (hF : PrF τ0 Eg J AX WX JA JW JT) {v : Nat} {x : Int32} (hv : v < Eg ^ J) {Q : Qfun} : ∀ (fuel : Nat) (m : Nat) (y : Int32) (τ : Tw), m ≤ J → J < m + fuel → Sx [] [] [94] [] τ τ0 → (m = J ∧ y = -1) ∨ (m < J ∧ y = nI (J - 1 - m)) → (∀ i, i < m → τ.2.2.1 94 (J - 1 - i) = nI (v / Eg ^ i % Eg)) → (∀ τ : Tw, Sx [] [] [94] [] τ τ0 → (∀ j, j < J → τ.2.2.1 94 j = nI (dgt Eg J v j)) → E cX4_parts (RX4, (some .int), 7, 2, (0, 0), false, []) Q noX 0 0 79 [some (.ref 56), some (.int (nI (Eg ^ J))), some (.int x), some (.int (nI v)), none, none, none] [] (TW pre τ post)) →
    E cX4_parts (RX4, (some .int), 7, 2, (0, 0), false, []) Q noX 0 0 45 [some (.ref 56), some (.int (nI (Eg ^ J))), some (.int x), some (.int (nI v)), some (.int (nI (v / Eg ^ m))), some (.int y), none] [] (TW pre τ post) := by
  intro fuel
  induction fuel with
  | zero => intro m y τ hm hf hS hy ht hE; exact absurd hf (by omega)
  | succ fuel ih =>
    intro m y τ hm hf hS hy ht hE
    obtain ⟨⟨hE4, eE⟩, ⟨hJ7, eJ⟩, hEs, hJs⟩ := id hF
    have eE1 : τ.1 5 = nI Eg := by rw [hS.1 5 (by simp)]; exact eE
    have hv2 := pw_le hE4 hJ7
    have hvm : v / Eg ^ m ≤ v := Nat.div_le_self _ _
    refine e_iload dX4_parts_45 rfl ?_
    refine e_if_lt 79 dX4_parts_47 (by decide) (fun h47 => ?_) (fun h47 => ?_)
    · refine e_forget (i := 4) (ln_s (ln_s (ln_s (ln_s ln_0)))) ?_
      refine e_forget (i := 5) (ln_s (ln_s (ln_s (ln_s (ln_s ln_0))))) ?_
      have e1 : m = J := by
        rcases hy with ⟨e1, -⟩ | ⟨e1, e2⟩
        · exact e1
        · rw [e2] at h47; exact absurd h47 (nI_pos (by omega))
      subst e1
      refine hE τ hS (fun j hj => ?_)
      have h3 := ht (m - 1 - j) (by omega)
      rw [show m - 1 - (m - 1 - j) = j by omega] at h3
      exact h3
    · obtain ⟨i, hi, hmJ, rfl, ei⟩ : ∃ i, i < J ∧ m < J ∧ y = nI i ∧ i = J - 1 - m := by
        rcases hy with ⟨e1, e2⟩ | ⟨e1, e2⟩
        · rw [e2] at h47; exact absurd (show (-1 : Int32) < 0 by decide) h47
        · exact ⟨_, by omega, e1, e2, rfl⟩
      have hE0 := pw_pos hv (show 0 < J by omega)
      refine e_aload_n dX4_parts_50 0 rfl rfl rfl ?_
      refine e_getf (v := .ref 112) dX4_parts_51 rfl fX4_197 (tw_o hp) rfl ?_
      refine e_iload dX4_parts_54 rfl ?_
      refine e_iload dX4_parts_56 rfl ?_
      refine e_aload_n dX4_parts_58 0 rfl rfl rfl ?_
      refine e_getf (v := .int (τ.1 5)) dX4_parts_59 rfl fX4_236 (tw_o hp) rfl ?_
      refine e_top (congrArg Value.int eE1) ?_
      refine e_iremN (v / Eg ^ m) Eg (by omega) (by omega) (by omega) dX4_parts_62 ?_
      refine e_iast (f := τ.2.2.1 94) (j := i) dX4_parts_63 (tw_a94 hp) rfl (by omega) (by decide) ?_
      rw [tw_s94 hp]
      refine e_iload dX4_parts_64 rfl ?_
      refine e_aload_n dX4_parts_66 0 rfl rfl rfl ?_
      refine e_getf (v := .int (τ.1 5)) dX4_parts_67 rfl fX4_236 (tw_o hp) rfl ?_
      refine e_top (congrArg Value.int eE1) ?_
      refine e_idivN (v / Eg ^ m) Eg (by omega) (by omega) (by omega) dX4_parts_70 ?_
      refine e_istore dX4_parts_71 (ls_s (ls_s (ls_s (ls_1 rfl)))) (Nat.le_of_ble_eq_true rfl) ?_
      refine e_iinc ((nI i) + (-1)) dX4_parts_73 rfl rfl (ls_s (ls_s (ls_s (ls_s (ls_1 rfl))))) (Nat.le_of_ble_eq_true rfl) ?_
      refine e_goto 45 dX4_parts_76 (by decide) ?_
      rw [show v / Eg ^ m / Eg = v / Eg ^ (m + 1) by rw [Nat.div_div_eq_div_mul, ← Nat.pow_succ]]
      refine ih (m + 1) _ _ (by omega) (by omega) (hS.A _ (by decide)) ?_ (fun q hq => ?_) hE
      · subst ei
        by_cases e1 : m + 1 = J
        · exact Or.inl ⟨e1, by rw [show J - 1 - m = 0 by omega]; rfl⟩
        · refine Or.inr ⟨by omega, ?_⟩
          obtain ⟨q, hq⟩ : ∃ q, J - 1 - m = q + 1 := ⟨J - 1 - m - 1, by omega⟩
          rw [hq, show J - 1 - (m + 1) = q by omega]; exact decS q
      · show upd (τ.2.2.1 94) i _ (J - 1 - q) = _
        by_cases eq : q = m
        · subst eq; rw [← ei]; exact pk_us ..
        · rw [pk_un (by omega)]; exact ht q (by omega)

set_option maxHeartbeats 4000000 in
set_option maxRecDepth 100000 in
/-- a loop of parts -/
theorem t_parts4 {pre post : List ACell} {τ0 : Tw} (hp : pre.length = 56) {Eg J : Nat} {AX WX JA JW JT : Nat → Nat} (hF : PrF τ0 Eg J AX WX JA JW JT) {v m : Nat} {Q : Qfun} : ∀ (fuel : Nat) (k : Nat) (τ : Tw), k ≤ J → J < k + fuel → τ = tA τ0 93 (rngI (τ0.2.2.1 93) 0 k (τ0.2.2.1 94)) → E cX4_parts (RX4, (some .int), 7, 2, (0, 0), false, []) Q noX 0 0 138 [some (.ref 56), some (.int (nI (Eg ^ J))), some (.int (nI m)), some (.int (nI v)), none, none, none] [] (TW pre (tA τ0 93 (rngI (τ0.2.2.1 93) 0 J (τ0.2.2.1 94))) post) →
    E cX4_parts (RX4, (some .int), 7, 2, (0, 0), false, []) Q noX 0 0 109 [some (.ref 56), some (.int (nI (Eg ^ J))), some (.int (nI m)), some (.int (nI v)), none, some (.int (nI m)), some (.int (nI k))] [] (TW pre τ post) := by
  intro fuel
  induction fuel with
  | zero => intro k τ hk hf hS hE; exact absurd hf (by omega)
  | succ fuel ih =>
    intro k τ hk hf hS hE
    obtain ⟨⟨hE4, eE⟩, ⟨hJ7, eJ⟩, hEs, hJs⟩ := id hF
    have eJ1 : τ.1 82 = nI J := by rw [hS]; exact eJ
    refine e_iload dX4_parts_109 rfl ?_
    refine e_aload_n dX4_parts_111 0 rfl rfl rfl ?_
    refine e_getf (v := .int (τ.1 82)) dX4_parts_112 rfl fX4_557 (tw_o hp) rfl ?_
    refine e_top (congrArg Value.int eJ1) ?_
    refine e_icmp_geN k J 138 (by omega) (by omega) dX4_parts_115 (by decide) (fun h115 => ?_) (fun h115 => ?_)
    · refine e_forget (i := 5) (ln_s (ln_s (ln_s (ln_s (ln_s ln_0))))) ?_
      refine e_forget (i := 6) (ln_s (ln_s (ln_s (ln_s (ln_s (ln_s ln_0)))))) ?_
      have e1 : k = J := by omega
      subst e1
      rw [← hS] at hE
      exact hE
    · refine e_aload_n dX4_parts_118 0 rfl rfl rfl ?_
      refine e_getf (v := .ref 111) dX4_parts_119 rfl fX4_194 (tw_o hp) rfl ?_
      refine e_iload dX4_parts_122 rfl ?_
      refine e_aload_n dX4_parts_124 0 rfl rfl rfl ?_
      refine e_getf (v := .ref 112) dX4_parts_125 rfl fX4_197 (tw_o hp) rfl ?_
      refine e_iload dX4_parts_128 rfl ?_
      refine e_iald (f := τ.2.2.1 94) (j := k) dX4_parts_130 (tw_a94 hp) rfl (by omega) (by decide) ?_
      refine e_iast (f := τ.2.2.1 93) (j := k) dX4_parts_131 (tw_a93 hp) rfl (by omega) (by decide) ?_
      rw [tw_s93 hp]
      refine e_incN k (k + 1) (inc1 _) dX4_parts_132 rfl (ls_s (ls_s (ls_s (ls_s (ls_s (ls_1 rfl)))))) (Nat.le_of_ble_eq_true rfl) ?_
      refine e_goto 109 dX4_parts_135 (by decide) ?_
      subst hS
      refine ih (k + 1) _ (by omega) (by omega) ?_ hE
      rw [tA_tA, ← rngI_s, Nat.zero_add]
      show tA τ0 93 (upd (va_up τ0.2.2.1 93 _ 93) _ _) = _
      rw [va_up_self]
      rfl

set_option maxHeartbeats 4000000 in
set_option maxRecDepth 100000 in
/-- a loop of parts -/
theorem t_parts2 {pre post : List ACell} {τ0 : Tw} (hp : pre.length = 56) {Eg J : Nat} {AX WX JA JW JT : Nat → Nat} (hF : PrF τ0 Eg J AX WX JA JW JT) {p : Nat → Option Nat} (hpp : ∀ v, p v = mostN AX WX JA JW JT (dgt Eg J v) J) (hpb : ∀ v m, p v = some m → m ≤ 7000) {Q : Qfun} : ∀ (fuel : Nat) (v : Nat) (τ : Tw), v ≤ Eg ^ J → Eg ^ J < v + fuel → Sx [] [] [93, 94, 95] [] τ τ0 → (∀ b i, bst p v = some (b, i) → ∀ j, j < J → τ.2.2.1 93 j = nI (dgt Eg J i j)) → (∀ τ : Tw, Sx [] [] [93, 94, 95] [] τ τ0 → (∀ b i, bst p (Eg ^ J) = some (b, i) → ∀ j, j < J → τ.2.2.1 93 j = nI (dgt Eg J i j)) → Q (some (.int (oI (bV p (Eg ^ J))))) (TW pre τ post)) →
    E cX4_parts (RX4, (some .int), 7, 2, (0, 0), false, []) Q noX 0 0 29 [some (.ref 56), some (.int (nI (Eg ^ J))), some (.int (oI (bV p v))), some (.int (nI v)), none, none, none] [] (TW pre τ post) := by
  intro fuel
  induction fuel with
  | zero => intro v τ hv hf hS hpa hQ; exact absurd hf (by omega)
  | succ fuel ih =>
    intro v τ hv hf hS hpa hQ
    obtain ⟨⟨hE4, eE⟩, ⟨hJ7, eJ⟩, hEs, hJs⟩ := id hF
    have hv2 := pw_le hE4 hJ7
    have hF1 : PrF τ Eg J AX WX JA JW JT := hF.sx hS (by decide) (by decide) (by decide) (by decide) (by decide)
    have eJ1 : τ.1 82 = nI J := hF1.2.1.2
    refine e_iload_n dX4_parts_29 3 rfl rfl ?_
    refine e_iload_n dX4_parts_30 1 rfl rfl ?_
    refine e_icmp_geN v (Eg ^ J) 144 (by omega) (by omega) dX4_parts_31 (by decide) (fun h31 => ?_) (fun h31 => ?_)
    · refine e_iload_n dX4_parts_144 2 rfl rfl ?_
      refine e_ireturn dX4_parts_145 rfl rfl (Nat.zero_le _) (Nat.zero_le _) ?_
      have e1 : v = Eg ^ J := by omega
      subst e1
      exact hQ τ hS hpa
    · refine e_iload_n dX4_parts_34 3 rfl rfl ?_
      refine e_istore dX4_parts_35 (ls_s (ls_s (ls_s (ls_1 rfl)))) (Nat.le_of_ble_eq_true rfl) ?_
      refine e_aload_n dX4_parts_37 0 rfl rfl rfl ?_
      refine e_getf (v := .int (τ.1 82)) dX4_parts_38 rfl fX4_557 (tw_o hp) rfl ?_
      refine e_top (congrArg Value.int eJ1) ?_
      refine e_iconst 1 dX4_parts_41 rfl ?_
      refine e_isub dX4_parts_42 ?_
      refine e_istore dX4_parts_43 (ls_s (ls_s (ls_s (ls_s (ls_1 rfl))))) (Nat.le_of_ble_eq_true rfl) ?_
      have hv0 : v < Eg ^ J := by omega
      have e0 := t_parts3 (pre := pre) (post := post) (τ0 := τ) (Q := Q) (x := oI (bV p v)) hp hF1 hv0 (J + 1) 0 (nI J - 1) τ (by omega) (by omega) Sx.rf (by
        rcases Nat.eq_zero_or_pos J with e | e
        · subst e; exact Or.inl ⟨rfl, rfl⟩
        · exact Or.inr ⟨e, by rw [Nat.sub_zero]; exact pk_sub (b := 1) e⟩) (fun i hi => absurd hi (by omega))
      rw [Nat.pow_zero, Nat.div_one] at e0
      refine e0 (fun τ1 hS1 ht1 => ?_)
      clear e0
      have hF2 : PrF τ1 Eg J AX WX JA JW JT := hF1.sx hS1 (by decide) (by decide) (by decide) (by decide) (by decide)
      refine e_aload_n dX4_parts_79 0 rfl rfl rfl ?_
      refine e_callVQ (As := []) (rest := []) dX4_parts_80 rfl mvX4_560 (tw_o hp) rfl (t_mostOf (t := dgt Eg J v) hp hF2 (fun j hj => ⟨ht1 j hj, Nat.mod_lt _ (pw_pos hv0 (by omega))⟩)) (Nat.le_of_ble_eq_true rfl) rfl rfl (Nat.le_of_ble_eq_true rfl) (Nat.zero_le _) (Nat.zero_le _) (fun v0 M0 h0 _ => ?_)
      obtain ⟨τ2, rfl, rfl, hS2⟩ := h0
      rw [← hpp v]
      have hS3 : Sx [] [] [93, 94, 95] [] τ2 τ0 := (hS2.mono (by simp) (by simp) (by decide) (by simp)).trans ((hS1.mono (by simp) (by simp) (by decide) (by simp)).trans hS)
      have hF3 : PrF τ2 Eg J AX WX JA JW JT := hF2.sx hS2 (by decide) (by decide) (by decide) (by decide) (by decide)
      refine e_istore dX4_parts_83 (ls_s (ls_s (ls_s (ls_s (ls_1 rfl))))) (Nat.le_of_ble_eq_true rfl) ?_
      refine e_iload dX4_parts_85 rfl ?_
      refine e_if_lt 138 dX4_parts_87 (by decide) (fun h87 => ?_) (fun h87 => ?_)
      · refine e_incN v (v + 1) (inc1 _) dX4_parts_138 rfl (ls_s (ls_s (ls_1 rfl))) (Nat.le_of_ble_eq_true rfl) ?_
        refine e_goto 29 dX4_parts_141 (by decide) ?_
        refine e_forget (i := 5) (ln_s (ln_s (ln_s (ln_s (ln_s ln_0))))) ?_
        have epn := oI_neg (hpb v) h87
        have hbs : bst p (v + 1) = bst p v := by rw [bst, epn]
        have ebv : bV p v = bV p (v + 1) := by unfold bV; rw [hbs]
        rw [ebv]
        refine ih (v + 1) τ2 (by omega) (by omega) hS3 (fun b i hbi j hj => ?_) hQ
        rw [hS2.2.2.1 93 (by decide), hS1.2.2.1 93 (by decide)]
        rw [hbs] at hbi
        exact hpa b i hbi j hj
      · obtain ⟨m, em, em1⟩ := oI_pos h87
        have hm7 := hpb v m em
        rw [em1]
        refine e_iload_n dX4_parts_90 2 rfl rfl ?_
        refine e_if_lt 103 dX4_parts_91 (by decide) (fun h91 => ?_) (fun h91 => ?_)
        · refine e_iload dX4_parts_103 rfl ?_
          refine e_istore_n dX4_parts_105 2 rfl (ls_s (ls_1 rfl)) (Nat.le_of_ble_eq_true rfl) ?_
          refine e_iconst 0 dX4_parts_106 rfl ?_
          refine e_istore dX4_parts_107 (ls_s (ls_s (ls_s (ls_s (ls_s (ls_1 rfl)))))) (Nat.le_of_ble_eq_true rfl) ?_
          have hbn : bst p v = none := by
            have h5 : bV p v = none := oI_neg (fun q hq => by
              unfold bV at hq
              cases hh : bst p v with
              | none => rw [hh] at hq; exact absurd hq (by simp)
              | some z => rw [hh] at hq; obtain ⟨z1, z2⟩ := z; injection hq with e5; rw [← e5]; exact hpb z2 z1 (bst_lt hh).2) h91
            unfold bV at h5
            cases hh : bst p v with
            | none => rfl
            | some z => rw [hh] at h5; exact absurd h5 (by simp)
          have hbs : bst p (v + 1) = some (m, v) := by rw [bst, em, hbn]
          refine t_parts4 (τ0 := τ2) hp hF3 (J + 1) 0 τ2 (by omega) (by omega) (by rw [rngI_0, tA_self]) ?_
          refine e_incN v (v + 1) (inc1 _) dX4_parts_138 rfl (ls_s (ls_s (ls_1 rfl))) (Nat.le_of_ble_eq_true rfl) ?_
          refine e_goto 29 dX4_parts_141 (by decide) ?_
          
          have ebv : nI m = oI (bV p (v + 1)) := by unfold bV; rw [hbs]; rfl
          rw [ebv]
          refine ih (v + 1) _ (by omega) (by omega) (hS3.A _ (by decide)) (fun b2 i2 hbi j hj => ?_) hQ
          rw [hbs] at hbi
          injection hbi with hbi
          injection hbi with h8 h9
          subst h9
          rw [tA_at]
          unfold rngI
          rw [if_pos ⟨by omega, by omega⟩, Nat.sub_zero, hS2.2.2.1 94 (by decide)]
          exact ht1 j hj
        · obtain ⟨b, eb, eb1⟩ := oI_pos h91
          obtain ⟨i, ebi⟩ : ∃ i, bst p v = some (b, i) := by
            unfold bV at eb
            cases hh : bst p v with
            | none => rw [hh] at eb; exact absurd eb (by simp)
            | some z => rw [hh] at eb; obtain ⟨z1, z2⟩ := z; injection eb with e5; exact ⟨z2, by rw [← e5]⟩
          have hb7 := hpb i b (bst_lt ebi).2
          rw [eb1]
          refine e_iload dX4_parts_94 rfl ?_
          refine e_iload_n dX4_parts_96 2 rfl rfl ?_
          refine e_icmp_ltN m b 103 (by omega) (by omega) dX4_parts_97 (by decide) (fun h97 => ?_) (fun h97 => ?_)
          · refine e_iload dX4_parts_103 rfl ?_
            refine e_istore_n dX4_parts_105 2 rfl (ls_s (ls_1 rfl)) (Nat.le_of_ble_eq_true rfl) ?_
            refine e_iconst 0 dX4_parts_106 rfl ?_
            refine e_istore dX4_parts_107 (ls_s (ls_s (ls_s (ls_s (ls_s (ls_1 rfl)))))) (Nat.le_of_ble_eq_true rfl) ?_
            have hbs : bst p (v + 1) = some (m, v) := by rw [bst, em, ebi]; exact if_pos (by omega)
            refine t_parts4 (τ0 := τ2) hp hF3 (J + 1) 0 τ2 (by omega) (by omega) (by rw [rngI_0, tA_self]) ?_
            refine e_incN v (v + 1) (inc1 _) dX4_parts_138 rfl (ls_s (ls_s (ls_1 rfl))) (Nat.le_of_ble_eq_true rfl) ?_
            refine e_goto 29 dX4_parts_141 (by decide) ?_
            
            have ebv : nI m = oI (bV p (v + 1)) := by unfold bV; rw [hbs]; rfl
            rw [ebv]
            refine ih (v + 1) _ (by omega) (by omega) (hS3.A _ (by decide)) (fun b2 i2 hbi j hj => ?_) hQ
            rw [hbs] at hbi
            injection hbi with hbi
            injection hbi with h8 h9
            subst h9
            rw [tA_at]
            unfold rngI
            rw [if_pos ⟨by omega, by omega⟩, Nat.sub_zero, hS2.2.2.1 94 (by decide)]
            exact ht1 j hj
          · refine e_goto 138 dX4_parts_100 (by decide) ?_
            refine e_incN v (v + 1) (inc1 _) dX4_parts_138 rfl (ls_s (ls_s (ls_1 rfl))) (Nat.le_of_ble_eq_true rfl) ?_
            refine e_goto 29 dX4_parts_141 (by decide) ?_
            refine e_forget (i := 5) (ln_s (ln_s (ln_s (ln_s (ln_s ln_0))))) ?_
            have hbs : bst p (v + 1) = some (b, i) := by rw [bst, em, ebi]; exact if_neg (by omega)
            have ebv : nI b = oI (bV p (v + 1)) := by unfold bV; rw [hbs]; rfl
            rw [ebv]
            refine ih (v + 1) τ2 (by omega) (by omega) hS3 (fun b2 i2 hbi j hj => ?_) hQ
            rw [hS2.2.2.1 93 (by decide), hS1.2.2.1 93 (by decide)]
            rw [hbs, ← ebi] at hbi
            exact hpa b2 i2 hbi j hj

