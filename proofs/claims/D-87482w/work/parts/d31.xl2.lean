/-! ===== the component: partings ===== -/
/-- the component while it parts: the least sum, what is tried, the least's, the engines' sums -/
def pz (ξ : Xs) (L : Int32) (T P S : Nat → Int32) : Xs := xI (xA (xA (xA ξ 52 T) 53 P) 54 S) 56 L
section
variable {ξ : Xs} {L : Int32} {T P S : Nat → Int32}
theorem pz_L (v : Int32) : xI (pz ξ L T P S) 56 v = pz ξ v T P S := by
  have h : upd (upd ξ.1 56 L) 56 v = upd ξ.1 56 v := upd_upd _ _ _ _
  exact congrArg (fun z => (z, (xA (xA (xA ξ 52 T) 53 P) 54 S).2)) h
theorem pz_S (f : Nat → Int32) : xA (pz ξ L T P S) 54 f = pz ξ L T P f := by
  show xI (xA (xA (xA (xA ξ 52 T) 53 P) 54 S) 54 f) 56 L = _
  rw [xA_xA]; rfl
theorem pz_P (f : Nat → Int32) : xA (pz ξ L T P S) 53 f = pz ξ L T f S := by
  show xI (xA (xA (xA (xA ξ 52 T) 53 P) 54 S) 53 f) 56 L = _
  rw [xA_cm _ (show ¬ 54 = 53 by decide), xA_xA]; rfl
theorem pz_T (f : Nat → Int32) : xA (pz ξ L T P S) 52 f = pz ξ L f P S := by
  show xI (xA (xA (xA (xA ξ 52 T) 53 P) 54 S) 52 f) 56 L = _
  rw [xA_cm _ (show ¬ 54 = 52 by decide), xA_cm _ (show ¬ 53 = 52 by decide), xA_xA]; rfl
end
/-- the best so far, as it is kept -/
def RepB (Z J : Nat) (L : Int32) (P : Nat → Int32) : Option (Nat × Nat) → Prop
  | none => L = -1
  | some (B, i) => L = nI B ∧ B ≤ 7000 ∧ ∀ j, j < J → P j = nI (dgt Z J i j)
theorem nIm1 {n : Nat} (h : n < 2147483648) : ¬ nI n = -1 := fun z => nI_pos (n := n) h (by rw [z]; decide)
set_option maxHeartbeats 4000000 in
set_option maxRecDepth 100000 in
/-- a loop of parts -/
theorem x_pa_loop {ξ : Xs} {mid dyn : List ACell} {Z J : Nat} {AX WX JA JW JT : Nat → Nat} (hm : mid.length = 61) (hE4 : Z ≤ 4) (hJ7 : J ≤ 7) (hE : ξ.1 6 = nI Z) (hJ : ξ.1 55 = nI J) (hEn : ∀ e, e < Z → AX e ≤ 7 ∧ WX e ≤ 12 ∧ ∃ b fs, ξ.2.2.2.2.1 1 e = some (117 + b) ∧ dyn[b]? = some (.inr (5, .int (nI (AX e)) :: .int (nI (WX e)) :: fs))) (hJb : ∀ j, j < J → (JA j ≤ 7 ∧ ξ.2.2.1 49 j = nI (JA j)) ∧ (JW j ≤ 12 ∧ ξ.2.2.1 50 j = nI (JW j)) ∧ JT j ≤ 1000 ∧ ξ.2.2.1 51 j = nI (JT j)) {k r u m : Nat} (hk : k + (r + 1) = J) (hmo : mostN AX WX JA JW JT (dgt Z k u) k = some m) (ih : ∀ u m L T P S, (∀ j, j < k + 1 → T j = nI (dgt Z (k + 1) u j)) → (∀ e, e < Z → S e = nI (ldN JT (dgt Z (k + 1) u) (k + 1) e)) → mostN AX WX JA JW JT (dgt Z (k + 1) u) (k + 1) = some m → RepB Z J L P (bst (pM AX WX JA JW JT Z J) (u * Z ^ r)) → Ct yX0_parts (ws_ yX0_parts cX0_parts 4 none) (r + 1) 0 0 [.ref 0, .int (nI (k + 1)), .int (nI m)] (XM (pz ξ L T P S) mid dyn) (fun v N => ∃ L' T' P' S', N = XM (pz ξ L' T' P' S') mid dyn ∧ v = none ∧ (∀ j, j < k + 1 → T' j = nI (dgt Z (k + 1) u j)) ∧ (∀ e, e < Z → S' e = nI (ldN JT (dgt Z (k + 1) u) (k + 1) e)) ∧ RepB Z J L' P' (bst (pM AX WX JA JW JT Z J) ((u + 1) * Z ^ r))) noX) {Q : Qfun} : ∀ (fuel : Nat) (e : Nat) (L : Int32) (T : Nat → Int32) (P : Nat → Int32) (S : Nat → Int32), e ≤ Z → Z < e + fuel → (∀ j, j < k → T j = nI (dgt Z k u j)) → (∀ e, e < Z → S e = nI (ldN JT (dgt Z k u) k e)) → RepB Z J L P (bst (pM AX WX JA JW JT Z J) ((u * Z + e) * Z ^ r)) → (∀ L' T' P' S', (∀ j, j < k → T' j = nI (dgt Z k u j)) → (∀ e, e < Z → S' e = nI (ldN JT (dgt Z k u) k e)) → RepB Z J L' P' (bst (pM AX WX JA JW JT Z J) ((u + 1) * Z ^ (r + 1))) → Q none (XM (pz ξ L' T' P' S') mid dyn)) →
    E cX0_parts (RX0, none, 4, (r + 2), (0, 0), false, []) Q noX 0 0 48 [some (.ref 0), some (.int (nI k)), some (.int (nI m)), some (.int (nI e))] [] (XM (pz ξ L T P S) mid dyn) := by
  intro fuel
  induction fuel with
  | zero => intro e L T P S he hf hT hS hB hQ; exact absurd hf (by omega)
  | succ fuel ih2 =>
    intro e L T P S he hf hT hS hB hQ
    have hk7 : k < J := by omega
    have hml := mostN_le (fun j hj => (hJb j hj).2.2.1) k (by omega) m hmo
    have hll := fun x => ldN_le (t := dgt Z k u) (fun j hj => (hJb j hj).2.2.1) x k (by omega)
    have hle := hll e
    obtain ⟨⟨hA7, -⟩, ⟨hW12, -⟩, hT1000, -⟩ := hJb k hk7
    refine e_iload_n dX0_parts_48 3 rfl rfl ?_
    refine e_aload_n dX0_parts_49 0 rfl rfl rfl ?_
    refine e_getf (v := (.int ((pz ξ L T P S).1 6))) dX0_parts_50 rfl fX0_193 (xm_o0) rfl ?_
    refine e_top (congrArg Value.int (hE)) ?_
    refine e_icmp_geN e Z 155 (by omega) (by omega) dX0_parts_53 (by decide) (fun h53 => ?_) (fun h53 => ?_)
    · refine e_return dX0_parts_155 rfl (Nat.zero_le _) (Nat.zero_le _) ?_
      obtain rfl : e = Z := by omega
      refine hQ L T P S hT hS ?_
      rw [Nat.pow_succ, Nat.mul_comm (e ^ r) e, ← Nat.mul_assoc, Nat.succ_mul]
      exact hB
    · have heE : e < Z := by omega
      obtain ⟨hx7, hw12, b, fs, hb1, hb2⟩ := hEn e heE
      refine e_aload_n dX0_parts_56 0 rfl rfl rfl ?_
      refine e_getf (v := (.ref 2)) dX0_parts_57 rfl fX0_17 (xm_o0) rfl ?_
      refine e_iload_n dX0_parts_60 3 rfl rfl ?_
      refine e_aald (f := ξ.2.2.2.2.1 1) (j := e) dX0_parts_61 xm_r2 (fun _ => rfl) rfl (by omega) (by decide) ?_
      refine e_top (congrArg rfO hb1) ?_
      refine e_getf (v := (.int (nI (AX e)))) dX0_parts_62 rfl fX0_199 ((xm_d hm b).trans hb2) rfl ?_
      refine e_aload_n dX0_parts_65 0 rfl rfl rfl ?_
      refine e_getf (v := (.ref 46)) dX0_parts_66 rfl fX0_126 (xm_o0) rfl ?_
      refine e_iload_n dX0_parts_69 1 rfl rfl ?_
      refine e_iald (f := (pz ξ L T P S).2.2.1 49) (j := k) dX0_parts_70 (xm_a49) rfl (by omega) (by decide) ?_
      refine e_top (congrArg Value.int ((hJb k (by omega)).1.2)) ?_
      refine e_icmp_ltN (AX e) (JA k) 149 (by omega) (by omega) dX0_parts_71 (by decide) (fun h71 => ?_) (fun h71 => ?_)
      · refine e_incN e (e + 1) (inc1 _) dX0_parts_149 rfl (ls_s (ls_s (ls_1 rfl))) (Nat.le_of_ble_eq_true rfl) ?_
        refine e_goto 48 dX0_parts_152 (by decide) ?_
        have hm2 := most_s (AX := AX) (WX := WX) (JA := JA) (JW := JW) heE hmo
        rw [if_neg (by omega)] at hm2
        have hb := bst_none (J := J) (r := r) (by omega) hm2
        refine ih2 (e + 1) L T P S (by omega) (by omega) hT hS ?_ hQ
        rw [show u * Z + (e + 1) = u * Z + e + 1 from rfl, hb]
        exact hB
      · refine e_aload_n dX0_parts_74 0 rfl rfl rfl ?_
        refine e_getf (v := (.ref 2)) dX0_parts_75 rfl fX0_17 (xm_o0) rfl ?_
        refine e_iload_n dX0_parts_78 3 rfl rfl ?_
        refine e_aald (f := ξ.2.2.2.2.1 1) (j := e) dX0_parts_79 xm_r2 (fun _ => rfl) rfl (by omega) (by decide) ?_
        refine e_top (congrArg rfO hb1) ?_
        refine e_getf (v := (.int (nI (WX e)))) dX0_parts_80 rfl fX0_201 ((xm_d hm b).trans hb2) rfl ?_
        refine e_aload_n dX0_parts_83 0 rfl rfl rfl ?_
        refine e_getf (v := (.ref 47)) dX0_parts_84 rfl fX0_129 (xm_o0) rfl ?_
        refine e_iload_n dX0_parts_87 1 rfl rfl ?_
        refine e_iald (f := (pz ξ L T P S).2.2.1 50) (j := k) dX0_parts_88 (xm_a50) rfl (by omega) (by decide) ?_
        refine e_top (congrArg Value.int ((hJb k (by omega)).2.1.2)) ?_
        refine e_icmp_geN (WX e) (JW k) 95 (by omega) (by omega) dX0_parts_89 (by decide) (fun h89 => ?_) (fun h89 => ?_)
        · refine e_aload_n dX0_parts_95 0 rfl rfl rfl ?_
          refine e_getf (v := (.ref 51)) dX0_parts_96 rfl fX0_141 (xm_o0) rfl ?_
          refine e_iload_n dX0_parts_99 3 rfl rfl ?_
          refine e_dup2 dX0_parts_100 rfl rfl ?_
          refine e_iald (f := (pz ξ L T P S).2.2.1 54) (j := e) dX0_parts_101 (xm_a54) rfl (by omega) (by decide) ?_
          refine e_top (congrArg Value.int (hS e (by omega))) ?_
          refine e_aload_n dX0_parts_102 0 rfl rfl rfl ?_
          refine e_getf (v := (.ref 48)) dX0_parts_103 rfl fX0_132 (xm_o0) rfl ?_
          refine e_iload_n dX0_parts_106 1 rfl rfl ?_
          refine e_iald (f := (pz ξ L T P S).2.2.1 51) (j := k) dX0_parts_107 (xm_a51) rfl (by omega) (by decide) ?_
          refine e_top (congrArg Value.int ((hJb k (by omega)).2.2.2)) ?_
          refine e_iaddN (ldN JT (dgt Z k u) k e) (JT k) dX0_parts_108 ?_
          refine e_iast (f := (pz ξ L T P S).2.2.1 54) (j := e) dX0_parts_109 (xm_a54) rfl (by omega) (by decide) ?_
          rw [xm_s54]
          rw [pz_S]
          obtain ⟨S1, hS1⟩ : ∃ f, (upd (S) e (nI ((ldN JT (dgt Z k u) k e) + (JT k)))) = f := ⟨_, rfl⟩
          rw [show (upd ((pz ξ L T P S).2.2.1 54) e (nI ((ldN JT (dgt Z k u) k e) + (JT k)))) = S1 from hS1]
          refine e_aload_n dX0_parts_110 0 rfl rfl rfl ?_
          refine e_getf (v := (.ref 49)) dX0_parts_111 rfl fX0_135 (xm_o0) rfl ?_
          refine e_iload_n dX0_parts_114 1 rfl rfl ?_
          refine e_iload_n dX0_parts_115 3 rfl rfl ?_
          refine e_iast (f := (pz ξ L T P S1).2.2.1 52) (j := k) dX0_parts_116 (xm_a52) rfl (by omega) (by decide) ?_
          rw [xm_s52]
          rw [pz_T]
          obtain ⟨T2, hT2⟩ : ∃ f, (upd (T) k (nI e)) = f := ⟨_, rfl⟩
          rw [show (upd ((pz ξ L T P S1).2.2.1 52) k (nI e)) = T2 from hT2]
          have hS_e : S1 e = nI (ldN JT (dgt Z k u) k e + JT k) := by rw [← hS1]; exact up_at
          have hT2 : ∀ j, j < k + 1 → T2 j = nI (dgt Z (k + 1) (u * Z + e) j) := fun j hj => by
            rw [← hT2]
            by_cases e1 : j = k
            · subst e1; rw [up_at, dgt_l heE]
            · rw [up_no e1, dgt_s (by omega) heE]; exact hT j (by omega)
          have hS2 : ∀ x, x < Z → S1 x = nI (ldN JT (dgt Z (k + 1) (u * Z + e)) (k + 1) x) := fun x hx => by
            rw [← hS1, ld_s heE]
            by_cases e1 : x = e
            · subst e1; rw [up_at, if_pos rfl]
            · rw [up_no e1, if_neg (fun z => e1 z.symm), Nat.add_zero]; exact hS x hx
          have hm2 := most_s (AX := AX) (WX := WX) (JA := JA) (JW := JW) heE hmo
          rw [if_pos ⟨by omega, by omega⟩] at hm2
          refine e_aload_n dX0_parts_117 0 rfl rfl rfl ?_
          refine e_iload_n dX0_parts_118 1 rfl rfl ?_
          refine e_iconst 1 dX0_parts_119 rfl ?_
          refine e_iaddN k 1 dX0_parts_120 ?_
          refine e_iload_n dX0_parts_121 2 rfl rfl ?_
          refine e_aload_n dX0_parts_122 0 rfl rfl rfl ?_
          refine e_getf (v := (.ref 51)) dX0_parts_123 rfl fX0_141 (xm_o0) rfl ?_
          refine e_iload_n dX0_parts_126 3 rfl rfl ?_
          refine e_iald (f := (pz ξ L T2 P S1).2.2.1 54) (j := e) dX0_parts_127 (xm_a54) rfl (by omega) (by decide) ?_
          refine e_top (congrArg Value.int (hS_e)) ?_
          refine e_callS1 (As := [.int (nI m), .int (nI (ldN JT (dgt Z k u) k e + JT k))]) (rest := [.int (nI (k + 1)), .ref 0]) dX0_parts_128 rfl msX0_412 (m_max (nI m) (nI (ldN JT (dgt Z k u) k e + JT k))) (by show _ + 1 ≤ r + 2; omega) rfl rfl (Nat.le_of_ble_eq_true rfl) (Nat.zero_le _) (Nat.zero_le _) ?_
          refine e_top (congrArg Value.int (mxI_N (by omega) (by omega))) ?_
          refine e_callVQ (As := [.int (nI (k + 1)), .int (nI (max m (ldN JT (dgt Z k u) k e + JT k)))]) (rest := []) dX0_parts_131 rfl mvX0_493 (xm_o0) rfl (ih (u * Z + e) _ _ _ _ _ hT2 hS2 hm2 hB) (by show _ + 1 ≤ r + 2; omega) rfl rfl (Nat.le_of_ble_eq_true rfl) (Nat.zero_le _) (Nat.zero_le _) (fun v0 M0 h0_ _ => ?_)
          obtain ⟨L3, T3, P3, S3, rfl, rfl, hT3, hS3, hB3⟩ := h0_
          have hS3e : S3 e = nI (ldN JT (dgt Z k u) k e + JT k) := by rw [hS3 e heE, ld_s heE, if_pos rfl]
          refine e_aload_n dX0_parts_134 0 rfl rfl rfl ?_
          refine e_getf (v := (.ref 51)) dX0_parts_135 rfl fX0_141 (xm_o0) rfl ?_
          refine e_iload_n dX0_parts_138 3 rfl rfl ?_
          refine e_dup2 dX0_parts_139 rfl rfl ?_
          refine e_iald (f := (pz ξ L3 T3 P3 S3).2.2.1 54) (j := e) dX0_parts_140 (xm_a54) rfl (by omega) (by decide) ?_
          refine e_top (congrArg Value.int (hS3e)) ?_
          refine e_aload_n dX0_parts_141 0 rfl rfl rfl ?_
          refine e_getf (v := (.ref 48)) dX0_parts_142 rfl fX0_132 (xm_o0) rfl ?_
          refine e_iload_n dX0_parts_145 1 rfl rfl ?_
          refine e_iald (f := (pz ξ L3 T3 P3 S3).2.2.1 51) (j := k) dX0_parts_146 (xm_a51) rfl (by omega) (by decide) ?_
          refine e_top (congrArg Value.int ((hJb k (by omega)).2.2.2)) ?_
          refine e_isubN (ldN JT (dgt Z k u) k e + JT k) (JT k) (by omega) dX0_parts_147 ?_
          refine e_iast (f := (pz ξ L3 T3 P3 S3).2.2.1 54) (j := e) dX0_parts_148 (xm_a54) rfl (by omega) (by decide) ?_
          rw [xm_s54]
          rw [pz_S]
          obtain ⟨S1, hS1⟩ : ∃ f, (upd (S3) e (nI ((ldN JT (dgt Z k u) k e + JT k) - (JT k)))) = f := ⟨_, rfl⟩
          rw [show (upd ((pz ξ L3 T3 P3 S3).2.2.1 54) e (nI ((ldN JT (dgt Z k u) k e + JT k) - (JT k)))) = S1 from hS1]
          refine e_incN e (e + 1) (inc1 _) dX0_parts_149 rfl (ls_s (ls_s (ls_1 rfl))) (Nat.le_of_ble_eq_true rfl) ?_
          refine e_goto 48 dX0_parts_152 (by decide) ?_
          refine ih2 (e + 1) L3 T3 P3 S1 (by omega) (by omega) (fun j hj => ?_) (fun x hx => ?_) hB3 hQ
          · rw [hT3 j (by omega), dgt_s hj heE]
          · rw [← hS1]
            by_cases e1 : x = e
            · subst e1; rw [up_at, Nat.add_sub_cancel]
            · rw [up_no e1, hS3 x hx, ld_s heE, if_neg (fun z => e1 z.symm), Nat.add_zero]
        · refine e_goto 149 dX0_parts_92 (by decide) ?_
          refine e_incN e (e + 1) (inc1 _) dX0_parts_149 rfl (ls_s (ls_s (ls_1 rfl))) (Nat.le_of_ble_eq_true rfl) ?_
          refine e_goto 48 dX0_parts_152 (by decide) ?_
          have hm2 := most_s (AX := AX) (WX := WX) (JA := JA) (JW := JW) heE hmo
          rw [if_neg (by omega)] at hm2
          have hb := bst_none (J := J) (r := r) (by omega) hm2
          refine ih2 (e + 1) L T P S (by omega) (by omega) hT hS ?_ hQ
          rw [show u * Z + (e + 1) = u * Z + e + 1 from rfl, hb]
          exact hB

set_option maxHeartbeats 4000000 in
set_option maxRecDepth 100000 in
/-- WheelTables.parts -/
theorem x_pa_step {ξ : Xs} {mid dyn : List ACell} {Z J : Nat} {AX WX JA JW JT : Nat → Nat} (hm : mid.length = 61) (hE4 : Z ≤ 4) (hJ7 : J ≤ 7) (hE : ξ.1 6 = nI Z) (hJ : ξ.1 55 = nI J) (hEn : ∀ e, e < Z → AX e ≤ 7 ∧ WX e ≤ 12 ∧ ∃ b fs, ξ.2.2.2.2.1 1 e = some (117 + b) ∧ dyn[b]? = some (.inr (5, .int (nI (AX e)) :: .int (nI (WX e)) :: fs))) (hJb : ∀ j, j < J → (JA j ≤ 7 ∧ ξ.2.2.1 49 j = nI (JA j)) ∧ (JW j ≤ 12 ∧ ξ.2.2.1 50 j = nI (JW j)) ∧ JT j ≤ 1000 ∧ ξ.2.2.1 51 j = nI (JT j)) {k r u m : Nat} {L : Int32} {T P S : Nat → Int32} (hk : k + r = J) (hT : (∀ j, j < k → T j = nI (dgt Z k u j))) (hS : (∀ e, e < Z → S e = nI (ldN JT (dgt Z k u) k e))) (hmo : mostN AX WX JA JW JT (dgt Z k u) k = some m) (hB : RepB Z J L P (bst (pM AX WX JA JW JT Z J) (u * Z ^ r))) (ih : ∀ r1, r = r1 + 1 → ∀ u m L T P S, (∀ j, j < k + 1 → T j = nI (dgt Z (k + 1) u j)) → (∀ e, e < Z → S e = nI (ldN JT (dgt Z (k + 1) u) (k + 1) e)) → mostN AX WX JA JW JT (dgt Z (k + 1) u) (k + 1) = some m → RepB Z J L P (bst (pM AX WX JA JW JT Z J) (u * Z ^ r1)) → Ct yX0_parts (ws_ yX0_parts cX0_parts 4 none) (r1 + 1) 0 0 [.ref 0, .int (nI (k + 1)), .int (nI m)] (XM (pz ξ L T P S) mid dyn) (fun v N => ∃ L' T' P' S', N = XM (pz ξ L' T' P' S') mid dyn ∧ v = none ∧ (∀ j, j < k + 1 → T' j = nI (dgt Z (k + 1) u j)) ∧ (∀ e, e < Z → S' e = nI (ldN JT (dgt Z (k + 1) u) (k + 1) e)) ∧ RepB Z J L' P' (bst (pM AX WX JA JW JT Z J) ((u + 1) * Z ^ r1))) noX) : Ct yX0_parts (ws_ yX0_parts cX0_parts 4 none) (r + 1) 0 0 [.ref 0, .int (nI k), .int (nI m)] (XM (pz ξ L T P S) mid dyn) (fun v N => ∃ L' T' P' S', N = XM (pz ξ L' T' P' S') mid dyn ∧ v = none ∧ (∀ j, j < k → T' j = nI (dgt Z k u j)) ∧ (∀ e, e < Z → S' e = nI (ldN JT (dgt Z k u) k e)) ∧ RepB Z J L' P' (bst (pM AX WX JA JW JT Z J) ((u + 1) * Z ^ r))) noX := by
  have hml := mostN_le (fun j hj => (hJb j hj).2.2.1) k (by omega) m hmo
  refine Ct.of (ini := false) (ls := [some (.ref 0), some (.int (nI k)), some (.int (nI m)), none]) (by decide) (Nat.le_of_ble_eq_true rfl) (fun h => by cases h) rfl ?_
  refine e_aload_n dX0_parts_0 0 rfl rfl rfl ?_
  refine e_getf (v := (.int ((pz ξ L T P S).1 56))) dX0_parts_1 rfl fX0_490 (xm_o0) rfl ?_
  refine e_top (w := .int L) rfl ?_
  refine e_iconst (-1) dX0_parts_4 rfl ?_
  refine e_icmp_eq 17 dX0_parts_5 (by decide) (fun h5 => ?_) (fun h5 => ?_)
  · refine e_iload_n dX0_parts_17 1 rfl rfl ?_
    refine e_aload_n dX0_parts_18 0 rfl rfl rfl ?_
    refine e_getf (v := (.int ((pz ξ L T P S).1 55))) dX0_parts_19 rfl fX0_487 (xm_o0) rfl ?_
    refine e_top (congrArg Value.int (hJ)) ?_
    refine e_icmp_neN k J 46 (by omega) (by omega) dX0_parts_22 (by decide) (fun h22 => ?_) (fun h22 => ?_)
    · refine e_iconst 0 dX0_parts_46 rfl ?_
      refine e_istore_n dX0_parts_47 3 rfl (ls_s (ls_s (ls_1 rfl))) (Nat.le_of_ble_eq_true rfl) ?_
      obtain ⟨r1, rfl⟩ : ∃ r1, r = r1 + 1 := ⟨r - 1, by omega⟩
      exact x_pa_loop hm hE4 hJ7 hE hJ hEn hJb hk hmo (ih r1 rfl) (Z + 1) 0 L T P S (Nat.zero_le _) (by omega) hT hS (by
        rw [Nat.add_zero, Nat.mul_assoc, Nat.mul_comm Z, ← Nat.pow_succ]
        exact hB) (fun L' T' P' S' h1 h2 h3 => ⟨L', T', P', S', rfl, rfl, h1, h2, h3⟩)
    · refine e_aload_n dX0_parts_25 0 rfl rfl rfl ?_
      refine e_iload_n dX0_parts_26 2 rfl rfl ?_
      refine e_xputI dX0_parts_27 rfl pX0_490 rfl (xm_o0) (Nat.le_of_ble_eq_true rfl) (xm_f56 _) ?_
      refine e_aload_n dX0_parts_30 0 rfl rfl rfl ?_
      refine e_getf (v := (.ref 49)) dX0_parts_31 rfl fX0_135 (xm_o0) rfl ?_
      refine e_iconst 0 dX0_parts_34 rfl ?_
      refine e_aload_n dX0_parts_35 0 rfl rfl rfl ?_
      refine e_getf (v := (.ref 50)) dX0_parts_36 rfl fX0_138 (xm_o0) rfl ?_
      refine e_iconst 0 dX0_parts_39 rfl ?_
      refine e_bipush 7 dX0_parts_40 rfl ?_
      refine e_acopyI (sp := 0) (dp := 0) (n := 7) (n1 := 7) (n2 := 7) (f := T) (g := P) dX0_parts_42 rfl q564 xm_a52 xm_a53 (fun _ => rfl) (fun _ _ => rfl) (by decide) (by decide) (by decide) (by decide) (by decide) ?_
      rw [xm_s53, pz_L, pz_P]
      refine e_return dX0_parts_45 rfl (Nat.zero_le _) (Nat.zero_le _) ?_
      obtain rfl : k = J := by omega
      obtain rfl : r = 0 := by omega
      refine ⟨_, T, _, S, rfl, rfl, hT, hS, ?_⟩
      have e1 : bst (pM AX WX JA JW JT Z k) ((u + 1) * Z ^ 0) = some (m, u) := by
        rw [Nat.pow_zero, Nat.mul_one] at hB ⊢
        rw [bst, show pM AX WX JA JW JT Z k u = some m from hmo]
        cases hb : bst (pM AX WX JA JW JT Z k) u with
        | none => rfl
        | some bi =>
          obtain ⟨B, i⟩ := bi
          rw [hb] at hB
          have hlt : m < B := absurd h5 (by rw [hB.1]; exact nIm1 (by have := hB.2.1; omega))
          show (if m < B then some (m, u) else some (B, i)) = some (m, u)
          rw [if_pos hlt]
      rw [e1]
      refine ⟨rfl, by omega, fun j hj => ?_⟩
      show cpV T P 0 0 7 j = _
      unfold cpV
      rw [if_pos (by omega), Nat.sub_zero, Nat.zero_add]
      exact hT j hj
  · refine e_iload_n dX0_parts_8 2 rfl rfl ?_
    refine e_aload_n dX0_parts_9 0 rfl rfl rfl ?_
    refine e_getf (v := (.int ((pz ξ L T P S).1 56))) dX0_parts_10 rfl fX0_490 (xm_o0) rfl ?_
    refine e_top (w := .int L) rfl ?_
    refine e_icmp_lt 17 dX0_parts_13 (by decide) (fun h13 => ?_) (fun h13 => ?_)
    · refine e_iload_n dX0_parts_17 1 rfl rfl ?_
      refine e_aload_n dX0_parts_18 0 rfl rfl rfl ?_
      refine e_getf (v := (.int ((pz ξ L T P S).1 55))) dX0_parts_19 rfl fX0_487 (xm_o0) rfl ?_
      refine e_top (congrArg Value.int (hJ)) ?_
      refine e_icmp_neN k J 46 (by omega) (by omega) dX0_parts_22 (by decide) (fun h22 => ?_) (fun h22 => ?_)
      · refine e_iconst 0 dX0_parts_46 rfl ?_
        refine e_istore_n dX0_parts_47 3 rfl (ls_s (ls_s (ls_1 rfl))) (Nat.le_of_ble_eq_true rfl) ?_
        obtain ⟨r1, rfl⟩ : ∃ r1, r = r1 + 1 := ⟨r - 1, by omega⟩
        exact x_pa_loop hm hE4 hJ7 hE hJ hEn hJb hk hmo (ih r1 rfl) (Z + 1) 0 L T P S (Nat.zero_le _) (by omega) hT hS (by
          rw [Nat.add_zero, Nat.mul_assoc, Nat.mul_comm Z, ← Nat.pow_succ]
          exact hB) (fun L' T' P' S' h1 h2 h3 => ⟨L', T', P', S', rfl, rfl, h1, h2, h3⟩)
      · refine e_aload_n dX0_parts_25 0 rfl rfl rfl ?_
        refine e_iload_n dX0_parts_26 2 rfl rfl ?_
        refine e_xputI dX0_parts_27 rfl pX0_490 rfl (xm_o0) (Nat.le_of_ble_eq_true rfl) (xm_f56 _) ?_
        refine e_aload_n dX0_parts_30 0 rfl rfl rfl ?_
        refine e_getf (v := (.ref 49)) dX0_parts_31 rfl fX0_135 (xm_o0) rfl ?_
        refine e_iconst 0 dX0_parts_34 rfl ?_
        refine e_aload_n dX0_parts_35 0 rfl rfl rfl ?_
        refine e_getf (v := (.ref 50)) dX0_parts_36 rfl fX0_138 (xm_o0) rfl ?_
        refine e_iconst 0 dX0_parts_39 rfl ?_
        refine e_bipush 7 dX0_parts_40 rfl ?_
        refine e_acopyI (sp := 0) (dp := 0) (n := 7) (n1 := 7) (n2 := 7) (f := T) (g := P) dX0_parts_42 rfl q564 xm_a52 xm_a53 (fun _ => rfl) (fun _ _ => rfl) (by decide) (by decide) (by decide) (by decide) (by decide) ?_
        rw [xm_s53, pz_L, pz_P]
        refine e_return dX0_parts_45 rfl (Nat.zero_le _) (Nat.zero_le _) ?_
        obtain rfl : k = J := by omega
        obtain rfl : r = 0 := by omega
        refine ⟨_, T, _, S, rfl, rfl, hT, hS, ?_⟩
        have e1 : bst (pM AX WX JA JW JT Z k) ((u + 1) * Z ^ 0) = some (m, u) := by
          rw [Nat.pow_zero, Nat.mul_one] at hB ⊢
          rw [bst, show pM AX WX JA JW JT Z k u = some m from hmo]
          cases hb : bst (pM AX WX JA JW JT Z k) u with
          | none => rfl
          | some bi =>
            obtain ⟨B, i⟩ := bi
            rw [hb] at hB
            have hlt : m < B := (nI_ltN (by omega) (by have := hB.2.1; omega)).mp (by rw [← hB.1]; exact h13)
            show (if m < B then some (m, u) else some (B, i)) = some (m, u)
            rw [if_pos hlt]
        rw [e1]
        refine ⟨rfl, by omega, fun j hj => ?_⟩
        show cpV T P 0 0 7 j = _
        unfold cpV
        rw [if_pos (by omega), Nat.sub_zero, Nat.zero_add]
        exact hT j hj
    · refine e_return dX0_parts_16 rfl (Nat.zero_le _) (Nat.zero_le _) ?_
      refine ⟨L, T, P, S, rfl, rfl, hT, hS, ?_⟩
      cases hb : bst (pM AX WX JA JW JT Z J) (u * Z ^ r) with
      | none => rw [hb] at hB; exact absurd hB h5
      | some bi =>
        obtain ⟨B, i⟩ := bi
        rw [hb] at hB
        rw [bst_dear (by omega) hmo hb (Nat.le_of_not_lt (fun z => h13 (by rw [hB.1]; exact (nI_ltN (by omega) (by have := hB.2.1; omega)).mpr z)))]
        exact hB

theorem x_parts {ξ : Xs} {mid dyn : List ACell} {Z J : Nat} {AX WX JA JW JT : Nat → Nat} (hm : mid.length = 61) (hE4 : Z ≤ 4) (hJ7 : J ≤ 7) (hE : ξ.1 6 = nI Z) (hJ : ξ.1 55 = nI J) (hEn : ∀ e, e < Z → AX e ≤ 7 ∧ WX e ≤ 12 ∧ ∃ b fs, ξ.2.2.2.2.1 1 e = some (117 + b) ∧ dyn[b]? = some (.inr (5, .int (nI (AX e)) :: .int (nI (WX e)) :: fs))) (hJb : ∀ j, j < J → (JA j ≤ 7 ∧ ξ.2.2.1 49 j = nI (JA j)) ∧ (JW j ≤ 12 ∧ ξ.2.2.1 50 j = nI (JW j)) ∧ JT j ≤ 1000 ∧ ξ.2.2.1 51 j = nI (JT j)) : ∀ (r k u m : Nat) (L : Int32) (T P S : Nat → Int32), k + r = J → (∀ j, j < k → T j = nI (dgt Z k u j)) → (∀ e, e < Z → S e = nI (ldN JT (dgt Z k u) k e)) → mostN AX WX JA JW JT (dgt Z k u) k = some m → RepB Z J L P (bst (pM AX WX JA JW JT Z J) (u * Z ^ r)) → Ct yX0_parts (ws_ yX0_parts cX0_parts 4 none) (r + 1) 0 0 [.ref 0, .int (nI k), .int (nI m)] (XM (pz ξ L T P S) mid dyn) (fun v N => ∃ L' T' P' S', N = XM (pz ξ L' T' P' S') mid dyn ∧ v = none ∧ (∀ j, j < k → T' j = nI (dgt Z k u j)) ∧ (∀ e, e < Z → S' e = nI (ldN JT (dgt Z k u) k e)) ∧ RepB Z J L' P' (bst (pM AX WX JA JW JT Z J) ((u + 1) * Z ^ r))) noX := by
  intro r
  induction r with
  | zero => intro k u m L T P S hk hT hS hmo hB; exact x_pa_step hm hE4 hJ7 hE hJ hEn hJb hk hT hS hmo hB (fun r1 h => absurd h (by omega))
  | succ r ih =>
    intro k u m L T P S hk hT hS hmo hB
    refine x_pa_step hm hE4 hJ7 hE hJ hEn hJb hk hT hS hmo hB (fun r1 h => ?_)
    obtain rfl : r = r1 := by omega
    exact fun u m L T P S h1 h2 h3 h4 => ih (k + 1) u m L T P S (by omega) h1 h2 h3 h4
