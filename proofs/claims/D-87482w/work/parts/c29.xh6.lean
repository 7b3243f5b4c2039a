/-! ===== the component: a sheet explained ===== -/
theorem xA_xA (ξ : Xs) (k : Nat) (a b : Nat → Int32) : xA (xA ξ k a) k b = xA ξ k b := by
  have h : va_up (va_up ξ.2.2.1 k a) k b = va_up ξ.2.2.1 k b := by funext j; unfold va_up; split <;> rfl
  unfold xA
  exact congrArg (fun z => (ξ.1, ξ.2.1, z, ξ.2.2.2)) h
theorem HlD.app {dyn X : List ACell} {b : Nat} {cs : List ACell} (h : HlD dyn b cs) : HlD (dyn ++ X) b cs := fun k c hc => by
  have h1 := h k c hc
  rw [List.getElem?_append_left (List.getElem?_eq_some_iff.mp h1).1]; exact h1
theorem HlD_end {dyn cs : List ACell} : HlD (dyn ++ cs) dyn.length cs := fun k c hc => by
  rw [List.getElem?_append_right (by omega), show dyn.length + k - dyn.length = k by omega]; exact hc
theorem rpB_end {dyn cs ds : List ACell} (h : ds.length = cs.length) : rpB (dyn ++ cs) dyn.length ds = dyn ++ ds := by
  unfold rpB
  rw [List.take_left, h, List.drop_of_length_le (by rw [List.length_append]; omega), List.append_nil]
/-- cells that none owns behind the others -/
def ownG (own : Nat → Nat) (L : Nat) : Nat → Nat := fun k => if k < L then own k else 200
theorem Rel.gb {own : Nat → Nat} {ξ : Xs} {dyn : List ACell} {τ : Tw} (hRel : Rel own ξ dyn τ) (X : List ACell) : Rel (ownG own dyn.length) ξ (dyn ++ X) τ := by
  obtain ⟨hI, hA, hB, hW, hP, hR, hT, hE, hC, hV⟩ := hRel
  have hd : ∀ k c, dyn[k]? = some c → (dyn ++ X)[k]? = some c ∧ ownG own dyn.length k = own k := fun k c hc => by
    have hl := (List.getElem?_eq_some_iff.mp hc).1
    exact ⟨by rw [List.getElem?_append_left hl]; exact hc, if_pos hl⟩
  exact ⟨hI, hA, hB, hW, hP, hR, hT.dy (t := 4) (fun _ _ _ => rfl) (fun _ _ _ => rfl) (fun _ _ _ => rfl) (fun _ _ _ _ _ => rfl) (fun k c hc _ => hd k c hc) (fun h => absurd h (by omega)), hE.dy rfl (fun k c hc _ => hd k c hc), hC.dy (fun _ _ => rfl) rfl (fun k c hc _ => hd k c hc), hV⟩
/-- why -/
theorem Rel.why {own : Nat → Nat} {ξ ξ' : Xs} {dyn : List ACell} {τ τ' : Tw} (hRel : Rel own ξ dyn τ) (f : Nat → Int32) (v : Int32) (hx : ξ' = xI (xA ξ 12 f) 13 v) (q2 : τ'.2 = τ.2) (q1 : ∀ k, k ∉ [22, 23, 24, 25] → τ'.1 k = τ.1 k) (hw : RW0 ξ' τ') : Rel own ξ' dyn τ' := by
  subst hx
  obtain ⟨hI, hA, hB, hW, hP, hR, hT, hE, hC, hV⟩ := hRel
  have q3 : τ'.2.2.1 = τ.2.2.1 := by rw [q2]
  have q4 : τ'.2.2.2 = τ.2.2.2 := by rw [q2]
  have sA : ∀ (L : List Nat), ∀ k ∈ L, τ'.2.2.1 k = τ.2.2.1 k := fun L k _ => by rw [q3]
  have sI : ∀ (L : List Nat), (∀ k ∈ L, k ∉ [22, 23, 24, 25]) → ∀ k ∈ L, τ'.1 k = τ.1 k := fun L h k hk => q1 k (h k hk)
  have kI : ∀ q ∈ rlI, q.2 ∉ [22, 23, 24, 25] := by decide
  have kX : ∀ q ∈ rlI, ¬ q.1 = 13 := by decide
  have kA : ∀ q ∈ rlA, ¬ q.1 = 12 := by decide
  have u12 : ∀ k, ¬ k = 12 → (xI (xA ξ 12 f) 13 v).2.2.1 k = ξ.2.2.1 k := fun k hk => va_up_ne _ _ hk
  refine ⟨fun q hq => ?_, fun q hq => ?_, fun q hq => ?_, ⟨hw, hW.2.elim (fun z => Or.inl ((q1 60 (by decide)).trans z)) (fun z => Or.inr (z.trans (q1 65 (by decide)).symm))⟩, ?_, ?_, ?_, ?_, ?_, ?_⟩
  · rw [q1 _ (kI q hq)]
    exact (pk_un (kX q hq)).trans (hI q hq)
  · rw [q3, u12 _ (kA q hq)]; exact hA q hq
  · rw [q4]; exact hB q hq
  · have := hP.cg (sI _ (by decide)) (sA _)
    unfold RP at this ⊢
    rw [u12 41 (by decide)]; exact this
  · have := hR.cg (q1 74 (by decide)) (sA _)
    unfold RR at this ⊢
    rw [u12 33 (by decide), u12 34 (by decide)]; exact this
  · exact RT.cg (τ := τ) hT (sA _) (by rw [q4])
  · exact RE.cg (τ := τ) hE (q1 5 (by decide)) (sA _)
  · exact RC.cg (τ := τ) hC (q1 41 (by decide)) (sA _) (by rw [q4])
  · obtain ⟨hVT, hVJ, hVR, hVF, hVN, hV0⟩ := hV
    exact ⟨hVT.cg (sA _), hVJ.cg (q1 82 (by decide)) (sA _), hVR.cg (sI _ (by decide)), hVF.cg (q1 29 (by decide)), hVN.cg (by rw [q3]) (by rw [q3]) (by rw [q3]), fun h => (q1 62 (by decide)).trans (hV0 ((q1 60 (by decide)).symm.trans h))⟩
theorem b0_k (X : Tw) (k : Nat) (v : Int32) (h0 : ¬ k = 0) (h1 : ¬ k = 1) : tI (b0 X) k v = b0 (tI X k v) := by
  unfold b0
  rw [tI_cm _ (fun z => h0 z.symm), tI_cm (ς := X) (fun z => h1 z.symm)]
theorem spCause_b0 (X : Tw) (W t q : Nat) : spCause (b0 X) W t q = b0 (spCause X W t q) := by
  unfold spCause
  rw [b0_k _ _ _ (by decide) (by decide), b0_k _ _ _ (by decide) (by decide), b0_k _ _ _ (by decide) (by decide), b0_k _ _ _ (by decide) (by decide)]
theorem dm_ix {Z u qq : Nat} (h : qq < 3 * Z) : (u * (3 * Z) + qq) / (3 * Z) = u ∧ (u * (3 * Z) + qq) % (3 * Z) = qq :=
  ⟨by rw [Nat.add_comm, Nat.add_mul_div_right _ _ (by omega), Nat.div_eq_of_lt h, Nat.zero_add], by rw [Nat.add_comm, Nat.add_mul_mod_self_right, Nat.mod_eq_of_lt h]⟩
theorem dm_3 {a w k W : Nat} (hw : w < W) (hk : k < 3) : ((a * W + w) * 3 + k) / (3 * W) = a ∧ ((a * W + w) * 3 + k) / 3 % W = w ∧ ((a * W + w) * 3 + k) % 3 = k := by
  have e : ((a * W + w) * 3 + k) / 3 = a * W + w := by omega
  have e2 : (a * W + w) / W = a := by rw [Nat.add_comm, Nat.add_mul_div_right _ _ (by omega), Nat.div_eq_of_lt hw, Nat.zero_add]
  have e3 : (a * W + w) % W = w := by rw [Nat.add_comm, Nat.add_mul_mod_self_right, Nat.mod_eq_of_lt hw]
  refine ⟨?_, ?_, by omega⟩
  · rw [← Nat.div_div_eq_div_mul, e, e2]
  · rw [e, e3]
theorem mhM_Z (τ : Tw) (j : Nat) : mhM τ j = 3 * ((gA τ j - 1) * gW τ j) := by unfold mhM; rw [Nat.mul_assoc]
set_option maxHeartbeats 4000000 in
set_option maxRecDepth 100000 in
/-- a loop of explain -/
theorem x_expl {ξ : Xs} {mid dyn : List ACell} {τ : Tw} {own : Nat → Nat} (hm : mid.length = 61) (hRel : Rel own ξ dyn τ) {j b q y s n r : Nat} (hj4 : j < 4) {g : Nat → Int64} {η η0 : En} (hO : EngOk τ j) (hH : HlD dyn b (enB (117 + b) η)) (hn : EnR η τ j) (hz0 : Smz η0 η) (hq : q ≤ n) (hq1 : 1 ≤ q) (hn60 : n ≤ 60) (hs : s < 4) (hy : y < 4) (e2 : τ.2.2.1 2 y = nI s) (hTr : ξ.2.2.2.2.2.2 y = (some (117 + r), nI s)) (hD : dyn[r]? = some (rowC s n g)) (hg : ∀ k, k < n → g k = τ.2.2.2 4 (60 * y + k) ∧ fitS s (g k)) (hA0 : spAsk (nI j) (nI y) (nI q) τ = 0) (hs0 : ¬ shN τ j y q cn0 = true)  : ∀ (fuel : Nat) (u : Nat) (a : Nat) (w : Nat) (k : Nat) (ηc : En), u < q → a + 1 < gA τ j → w < gW τ j → k ≤ 3 → (q * ((gA τ j - 1) * gW τ j)) * 4 < (u * ((gA τ j - 1) * gW τ j) + (a * gW τ j + w)) * 4 + k + fuel → Smz ηc η → (∀ m, m < (u * (3 * ((gA τ j - 1) * gW τ j)) + ((a * gW τ j + w) * 3 + k)) → (fun m => shN τ j y q (cn1 (gW τ j) (m / mhM τ j + 1) (m % mhM τ j))) m = false) → True →
    E cX0_explain (RX0, (some .int), 11, 5, (22, 222), false, []) (XQi mid (sp_explain (nI j) (nI y) (nI q) τ)) noX 22 222 127 [some (.ref 0), some (.int (nI j)), some (.int (nI y)), some (.int (nI q)), none, some (.ref (117 + b)), some (.ref (117 + dyn.length)), some (.int (nI (u + 1))), some (.int (nI a)), some (.int (nI w)), some (.int (nI k))] [] (XM ξ mid (rpB (dyn ++ enB (117 + dyn.length) η0) dyn.length (enB (117 + dyn.length) ηc))) := by
  intro fuel
  induction fuel with
  | zero =>
    intro u a w k ηc hu ha hw hk hf hzc hno hE
    have z2 : (u + 1) * ((gA τ j - 1) * gW τ j) = u * ((gA τ j - 1) * gW τ j) + ((gA τ j - 1) * gW τ j) := Nat.succ_mul _ _
    have z3 : (a + 1) * gW τ j ≤ ((gA τ j - 1) * gW τ j) := Nat.mul_le_mul_right _ (by omega)
    have z1 : (a + 1) * gW τ j = a * gW τ j + gW τ j := Nat.succ_mul _ _
    have z4 : (u + 1) * ((gA τ j - 1) * gW τ j) ≤ q * ((gA τ j - 1) * gW τ j) := Nat.mul_le_mul_right _ (by omega)
    exact absurd hf (by omega)
  | succ fuel ih =>
    intro u a w k ηc hu ha hw hk hf hzc hno hE
    have hA := (hn.J hO).1
    have hW := (hn.J hO).2.1
    have hA7 := (hn.J hO).2.2.1
    have hW12 := (hn.J hO).2.2.2.1
    have hr : Rds (gW τ j) (gR τ j) := fun i hi => ⟨(hO.2.2.2.2.1 i hi).1, (hO.2.2.2.2.1 i hi).2.1⟩
    have hle := hH.le (enB_pos _ _)
    rw [enB_len] at hle
    have hrl := (List.getElem?_eq_some_iff.mp hD).1
    have hlc : dyn.length + (enB (117 + dyn.length) ηc).length ≤ (dyn ++ enB (117 + dyn.length) η0).length := by (rw [List.length_append, enB_len, enB_len, hzc.1, hz0.1]) <;> omega
    have hHc := rpB_Hl hlc
    have hdis : b + (8 + 2 * gA τ j) ≤ dyn.length ∨ dyn.length + (8 + 2 * gA τ j) ≤ b := Or.inl (by rw [← hA]; exact hle)
    have hHe : HlD (rpB (dyn ++ enB (117 + dyn.length) η0) dyn.length (enB (117 + dyn.length) ηc)) b (enB (117 + b) η) := HlD.rp (HlD.app hH) hlc (Or.inl (by rw [enB_len]; exact hle))
    have z1 : (a + 1) * gW τ j = a * gW τ j + gW τ j := Nat.succ_mul _ _
    have z2 : (u + 1) * ((gA τ j - 1) * gW τ j) = u * ((gA τ j - 1) * gW τ j) + ((gA τ j - 1) * gW τ j) := Nat.succ_mul _ _
    have z3 : (a + 1) * gW τ j ≤ ((gA τ j - 1) * gW τ j) := Nat.mul_le_mul_right _ (by omega)
    have z4 : (u + 1) * ((gA τ j - 1) * gW τ j) ≤ q * ((gA τ j - 1) * gW τ j) := Nat.mul_le_mul_right _ (by omega)
    have z5 : u * (3 * ((gA τ j - 1) * gW τ j)) = 3 * (u * ((gA τ j - 1) * gW τ j)) := Nat.mul_left_comm _ _ _
    have z7 : gA τ j = a + 2 → (a + 1) * gW τ j = ((gA τ j - 1) * gW τ j) := fun z => by rw [z]; rfl
    refine e_iload dX0_explain_127 rfl ?_
    refine e_iconst 3 dX0_explain_129 rfl ?_
    refine e_icmp_geN k 3 221 (by omega) (by omega) dX0_explain_130 (by decide) (fun h130 => ?_) (fun h130 => ?_)
    · refine e_incN w (w + 1) (inc1 _) dX0_explain_221 rfl (ls_s (ls_s (ls_s (ls_s (ls_s (ls_s (ls_s (ls_s (ls_1 rfl))))))))) (Nat.le_of_ble_eq_true rfl) ?_
      refine e_goto 114 dX0_explain_224 (by decide) ?_
      refine e_iload dX0_explain_114 rfl ?_
      refine e_aload dX0_explain_116 rfl rfl ?_
      refine e_getf (v := (.int (nI η.2.1))) dX0_explain_118 rfl fX0_201 (xh_o hm hHe) rfl ?_
      refine e_top (congrArg (fun z => Value.int (nI z)) hW) ?_
      refine e_icmp_geN (w + 1) (gW τ j) 227 (by omega) (by omega) dX0_explain_121 (by decide) (fun h121 => ?_) (fun h121 => ?_)
      · refine e_incN a (a + 1) (inc1 _) dX0_explain_227 rfl (ls_s (ls_s (ls_s (ls_s (ls_s (ls_s (ls_s (ls_1 rfl)))))))) (Nat.le_of_ble_eq_true rfl) ?_
        refine e_goto 99 dX0_explain_230 (by decide) ?_
        refine e_iload dX0_explain_99 rfl ?_
        refine e_iconst 1 dX0_explain_101 rfl ?_
        refine e_iaddN (a + 1) 1 dX0_explain_102 ?_
        refine e_aload dX0_explain_103 rfl rfl ?_
        refine e_getf (v := (.int (nI η.1))) dX0_explain_105 rfl fX0_199 (xh_o hm hHe) rfl ?_
        refine e_top (congrArg (fun z => Value.int (nI z)) hA) ?_
        refine e_icmp_geN ((a + 1) + 1) (gA τ j) 233 (by omega) (by omega) dX0_explain_108 (by decide) (fun h108 => ?_) (fun h108 => ?_)
        · refine e_incN (u + 1) (u + 1 + 1) (inc1 _) dX0_explain_233 rfl (ls_s (ls_s (ls_s (ls_s (ls_s (ls_s (ls_1 rfl))))))) (Nat.le_of_ble_eq_true rfl) ?_
          refine e_goto 90 dX0_explain_236 (by decide) ?_
          refine e_iload dX0_explain_90 rfl ?_
          refine e_iload_n dX0_explain_92 3 rfl rfl ?_
          refine e_icmp_gtN (u + 1 + 1) q 239 (by omega) (by omega) dX0_explain_93 (by decide) (fun h93 => ?_) (fun h93 => ?_)
          · refine e_aload_n dX0_explain_239 0 rfl rfl rfl ?_
            refine e_bipush 8 dX0_explain_240 rfl ?_
            refine e_callV1 (As := [.int 8]) (rest := []) dX0_explain_242 rfl mvX0_169 (xm_o0) rfl (x_none 8) (Nat.le_of_ble_eq_true rfl) rfl rfl (Nat.le_of_ble_eq_true rfl) (Nat.le_of_ble_eq_true rfl) (Nat.le_of_ble_eq_true rfl) ?_
            refine e_ireturn dX0_explain_245 rfl rfl (Nat.le_of_ble_eq_true rfl) (Nat.le_of_ble_eq_true rfl) ?_
            have hsp : spTry j y q τ = none := by
              refine fstN_none (fun m _ hm => hno m ?_)
              have kk : k = 3 := by omega
              have ww : gW τ j = w + 1 := by omega
              have aa := z7 (by omega)
              have uu : q = u + 1 := by omega
              rw [mhM_Z, Nat.zero_add, uu, Nat.mul_left_comm] at hm
              rw [z5]; omega
            have e1 : sp_explain (nI j) (nI y) (nI q) τ = (-1, bE τ 8) := by
              rw [sp_explain, hA0, if_neg (by decide), ix_nI (by omega), ix_nI (by omega), ix_nI (by omega), if_neg hs0, hsp]
            refine ⟨_, _, ownG own dyn.length, rfl, by rw [e1], ?_⟩
            rw [e1, rpB_end (by rw [enB_len, enB_len, hzc.1, hz0.1])]
            exact (hRel.gb _).stE 8
          · refine e_iconst 0 dX0_explain_96 rfl ?_
            refine e_istore dX0_explain_97 (ls_s (ls_s (ls_s (ls_s (ls_s (ls_s (ls_s (ls_1 rfl)))))))) (Nat.le_of_ble_eq_true rfl) ?_
            refine e_iload dX0_explain_99 rfl ?_
            refine e_iconst 1 dX0_explain_101 rfl ?_
            refine e_iadd dX0_explain_102 ?_
            refine e_top (w := .int 1) (by decide) ?_
            refine e_aload dX0_explain_103 rfl rfl ?_
            refine e_getf (v := (.int (nI η.1))) dX0_explain_105 rfl fX0_199 (xh_o hm hHe) rfl ?_
            refine e_top (congrArg (fun z => Value.int (nI z)) hA) ?_
            refine e_icmp_geN 1 (gA τ j) 233 (by omega) (by omega) dX0_explain_108 (by decide) (fun h108 => ?_) (fun h108 => ?_)
            · exact absurd h108 (by omega)
            · refine e_iconst 0 dX0_explain_111 rfl ?_
              refine e_istore dX0_explain_112 (ls_s (ls_s (ls_s (ls_s (ls_s (ls_s (ls_s (ls_s (ls_1 rfl))))))))) (Nat.le_of_ble_eq_true rfl) ?_
              refine e_iload dX0_explain_114 rfl ?_
              refine e_aload dX0_explain_116 rfl rfl ?_
              refine e_getf (v := (.int (nI η.2.1))) dX0_explain_118 rfl fX0_201 (xh_o hm hHe) rfl ?_
              refine e_top (congrArg (fun z => Value.int (nI z)) hW) ?_
              refine e_icmp_geN 0 (gW τ j) 227 (by omega) (by omega) dX0_explain_121 (by decide) (fun h121 => ?_) (fun h121 => ?_)
              · exact absurd h121 (by omega)
              · refine e_iconst 0 dX0_explain_124 rfl ?_
                refine e_istore dX0_explain_125 (ls_s (ls_s (ls_s (ls_s (ls_s (ls_s (ls_s (ls_s (ls_s (ls_1 rfl)))))))))) (Nat.le_of_ble_eq_true rfl) ?_
                have kk : k = 3 := by omega
                have ww : gW τ j = w + 1 := by omega
                have aa := z7 (by omega)
                have z6 : 0 * gW τ j = 0 := Nat.zero_mul _
                refine ih (u + 1) 0 0 0 ηc (by omega) (by omega) (by omega) (by omega) (by omega) hzc (fun m hm => hno m (by rw [z5]; rw [show (u + 1) * (3 * ((gA τ j - 1) * gW τ j)) = 3 * ((u + 1) * ((gA τ j - 1) * gW τ j)) from Nat.mul_left_comm _ _ _] at hm;  omega)) hE
        · refine e_iconst 0 dX0_explain_111 rfl ?_
          refine e_istore dX0_explain_112 (ls_s (ls_s (ls_s (ls_s (ls_s (ls_s (ls_s (ls_s (ls_1 rfl))))))))) (Nat.le_of_ble_eq_true rfl) ?_
          refine e_iload dX0_explain_114 rfl ?_
          refine e_aload dX0_explain_116 rfl rfl ?_
          refine e_getf (v := (.int (nI η.2.1))) dX0_explain_118 rfl fX0_201 (xh_o hm hHe) rfl ?_
          refine e_top (congrArg (fun z => Value.int (nI z)) hW) ?_
          refine e_icmp_geN 0 (gW τ j) 227 (by omega) (by omega) dX0_explain_121 (by decide) (fun h121 => ?_) (fun h121 => ?_)
          · exact absurd h121 (by omega)
          · refine e_iconst 0 dX0_explain_124 rfl ?_
            refine e_istore dX0_explain_125 (ls_s (ls_s (ls_s (ls_s (ls_s (ls_s (ls_s (ls_s (ls_s (ls_1 rfl)))))))))) (Nat.le_of_ble_eq_true rfl) ?_
            have kk : k = 3 := by omega
            have ww : gW τ j = w + 1 := by omega
            have z6 : 0 * gW τ j = 0 := Nat.zero_mul _
            refine ih u (a + 1) 0 0 ηc (by omega) (by omega) (by omega) (by omega) (by omega) hzc (fun m hm => hno m (by rw [z5]; rw [show u * (3 * ((gA τ j - 1) * gW τ j)) = 3 * (u * ((gA τ j - 1) * gW τ j)) from Nat.mul_left_comm _ _ _] at hm;  omega)) hE
      · refine e_iconst 0 dX0_explain_124 rfl ?_
        refine e_istore dX0_explain_125 (ls_s (ls_s (ls_s (ls_s (ls_s (ls_s (ls_s (ls_s (ls_s (ls_1 rfl)))))))))) (Nat.le_of_ble_eq_true rfl) ?_
        have kk : k = 3 := by omega
        have z6 : 0 * gW τ j = 0 := Nat.zero_mul _
        refine ih u a (w + 1) 0 ηc (by omega) (by omega) (by omega) (by omega) (by omega) hzc (fun m hm => hno m (by rw [z5]; rw [show u * (3 * ((gA τ j - 1) * gW τ j)) = 3 * (u * ((gA τ j - 1) * gW τ j)) from Nat.mul_left_comm _ _ _] at hm;  omega)) hE
    · refine e_aload dX0_explain_133 rfl rfl ?_
      refine e_aload dX0_explain_135 rfl rfl ?_
      refine e_callVQ (As := [.ref (117 + b)]) (rest := []) dX0_explain_137 rfl mvX0_276 ((xh_o hm hHc)) rfl (x_like hm (hzc.1.trans hA) (hzc.2.1.trans hW) hA hW hA7.2 hW12.2 hHc hHe hdis) (Nat.le_of_ble_eq_true rfl) rfl rfl (Nat.le_of_ble_eq_true rfl) (Nat.le_of_ble_eq_true rfl) (Nat.le_of_ble_eq_true rfl) (fun v0 M0 h0_ _ => ?_)
      obtain ⟨rfl, η1, rfl, hS1, hF1⟩ := h0_
      rw [rpB_rpB hlc (by rw [enB_len, enB_len, hS1.1]; rfl)]
      have hl1 : dyn.length + (enB (117 + dyn.length) η1).length ≤ (dyn ++ enB (117 + dyn.length) η0).length := by rw [enB_len, hS1.1]; rw [enB_len] at hlc; exact hlc
      have hH1 := rpB_Hl hl1
      have hz1 : Smz η1 η := hS1.z ⟨hzc.1, hzc.2.1, hzc.2.2⟩
      refine e_aload dX0_explain_140 rfl rfl ?_
      refine e_iload dX0_explain_142 rfl ?_
      refine e_iload dX0_explain_144 rfl ?_
      refine e_iload dX0_explain_146 rfl ?_
      refine e_iload dX0_explain_148 rfl ?_
      refine e_callV0 (As := [.int (nI (u + 1)), .int (nI a), .int (nI w), .int (nI k)]) (rest := []) dX0_explain_150 rfl mvX0_261 ((xh_o hm hH1)) rfl (x_emishX hm hH1 (m := 0) (by omega) (hS1.2.2.2.1.trans nI_0.symm)) (Nat.le_of_ble_eq_true rfl) rfl rfl (Nat.le_of_ble_eq_true rfl) (Nat.le_of_ble_eq_true rfl) (Nat.le_of_ble_eq_true rfl) ?_
      obtain ⟨η2, hη2⟩ : ∃ η2, (nM (nK (nK (nK (nK η1 0 (upd (η1.2.2.2.2.1 0) 0 (nI (u + 1)))) 1 (upd (η1.2.2.2.2.1 1) 0 (nI a))) 2 (upd (η1.2.2.2.2.1 2) 0 (nI w))) 3 (upd (η1.2.2.2.2.1 3) 0 (nI k))) (nI (0 + 1))) = η2 := ⟨_, rfl⟩
      have hz2 : Smz η2 η := by rw [← hη2]; exact hz1
      rw [hη2, rpB_rpB hl1 (by rw [enB_len, enB_len, hz2.1, hz1.1])]
      have hl2 : dyn.length + (enB (117 + dyn.length) η2).length ≤ (dyn ++ enB (117 + dyn.length) η0).length := by (rw [List.length_append, enB_len, enB_len, hz2.1, hz0.1]) <;> omega
      have hH2 := rpB_Hl hl2
      have hJ2 : EnJ η2 (gA τ j) (gW τ j) 1 (gR τ j) := ⟨hz2.1.trans hA, hz2.2.1.trans hW, hA7, hW12, by omega, by rw [← hη2]; rfl, fun i hi => (hz2.2.2 i (by rw [hW]; exact hi)).trans ((hn.J hO).2.2.2.2.2.2 i hi)⟩
      have hM2 : EnM η2 (gA τ j) (gW τ j) 1 := fun q hq => by
        obtain rfl : q = 0 := by omega
        refine ⟨a, w, k, ha, hw, by omega, ?_, ?_, ?_⟩ <;> (rw [← hη2]; rfl)
      have hF2 : EfM η2 (gA τ j) (gW τ j) (gF τ j) := fun a ha i hi => by rw [← hη2]; exact (hF1 a ha i hi).trans ((hn.F hO) a ha i hi)
      have hU2 : η2.2.2.1 = 0 := by rw [← hη2]; exact hS1.2.2.1
      have hcn2 : ∀ t x w' c, cE η2 (nI t) x w' c 1 = cn1 (gW τ j) (u + 1) ((a * gW τ j + w) * 3 + k) t x w' c := fun t x w' c => by
        obtain ⟨d1, d2, d3⟩ := dm_3 (a := a) hw (show k < 3 by omega)
        unfold cn1
        rw [d1, d2, d3, ← hη2, cE, cE, Nat.zero_add]
        rfl
      have hr2 : r < dyn.length ∨ dyn.length + (8 + 2 * η2.1) ≤ r := Or.inl hrl
      have hD2 : (rpB (dyn ++ enB (117 + dyn.length) η0) dyn.length (enB (117 + dyn.length) η2))[r]? = some (rowC s n g) := by
        rw [rpB_out hl2 (Or.inl hrl), List.getElem?_append_left hrl]; exact hD
      refine e_aload_n dX0_explain_153 0 rfl rfl rfl ?_
      refine e_aload dX0_explain_154 rfl rfl ?_
      refine e_aload_n dX0_explain_156 0 rfl rfl rfl ?_
      refine e_getf (v := (.ref 1)) dX0_explain_157 rfl fX0_11 (xm_o0) rfl ?_
      refine e_iload_n dX0_explain_160 2 rfl rfl ?_
      refine e_aald (f := trF) (j := y) dX0_explain_161 xm_r1 (fun _ => rfl) rfl (by omega) (by decide) ?_
      refine e_top (congrArg rfO (trF_at (by omega))) ?_
      refine e_iload_n dX0_explain_162 3 rfl rfl ?_
      refine e_callVQ (As := [.ref (117 + dyn.length), .ref (52 + y), .int (nI q)]) (rest := []) dX0_explain_163 rfl mvX0_280 (xm_o0) rfl (x_makes (m := 1) (cnt := cn1 (gW τ j) (u + 1) ((a * gW τ j + w) * 3 + k)) hm hO hH2 hJ2 hM2 hU2 hF2 hcn2 hq hn60 hs hy e2 hTr hD2 hg hr2) (Nat.le_of_ble_eq_true rfl) rfl rfl (Nat.le_of_ble_eq_true rfl) (Nat.le_of_ble_eq_true rfl) (Nat.le_of_ble_eq_true rfl) (fun v0 M0 h0_ _ => ?_)
      obtain ⟨η3, hz3, rfl, hsh⟩ := h0_
      rw [rpB_rpB hl2 (by rw [enB_len, enB_len, hz3.1])]
      rcases hsh with ⟨hsh, rfl⟩ | ⟨hsh, rfl⟩
      · refine e_if_ne_t 172 (by decide) dX0_explain_166 (by decide) ?_
        refine e_aload_n dX0_explain_172 0 rfl rfl rfl ?_
        refine e_getf (v := (.ref 9)) dX0_explain_173 rfl fX0_60 (xm_o0) rfl ?_
        refine e_iconst 0 dX0_explain_176 rfl ?_
        refine e_iload dX0_explain_177 rfl ?_
        refine e_iast (f := ξ.2.2.1 12) (j := 0) dX0_explain_179 (xm_a12) rfl (by omega) (by decide) ?_
        rw [xm_s12]
        refine e_aload_n dX0_explain_180 0 rfl rfl rfl ?_
        refine e_getf (v := (.ref 9)) dX0_explain_181 rfl fX0_60 (xm_o0) rfl ?_
        refine e_iconst 1 dX0_explain_184 rfl ?_
        refine e_iload dX0_explain_185 rfl ?_
        refine e_iast (f := (upd (ξ.2.2.1 12) 0 (nI (u + 1)))) (j := 1) dX0_explain_187 (xm_a12) rfl (by omega) (by decide) ?_
        rw [xm_s12]
        refine e_aload_n dX0_explain_188 0 rfl rfl rfl ?_
        refine e_getf (v := (.ref 9)) dX0_explain_189 rfl fX0_60 (xm_o0) rfl ?_
        refine e_iconst 2 dX0_explain_192 rfl ?_
        refine e_iload dX0_explain_193 rfl ?_
        refine e_iast (f := (upd (upd (ξ.2.2.1 12) 0 (nI (u + 1))) 1 (nI a))) (j := 2) dX0_explain_195 (xm_a12) rfl (by omega) (by decide) ?_
        rw [xm_s12]
        refine e_aload_n dX0_explain_196 0 rfl rfl rfl ?_
        refine e_getf (v := (.ref 9)) dX0_explain_197 rfl fX0_60 (xm_o0) rfl ?_
        refine e_iconst 3 dX0_explain_200 rfl ?_
        refine e_iload dX0_explain_201 rfl ?_
        refine e_iast (f := (upd (upd (upd (ξ.2.2.1 12) 0 (nI (u + 1))) 1 (nI a)) 2 (nI w))) (j := 3) dX0_explain_203 (xm_a12) rfl (by omega) (by decide) ?_
        rw [xm_s12]
        refine e_aload_n dX0_explain_204 0 rfl rfl rfl ?_
        refine e_iconst 1 dX0_explain_205 rfl ?_
        refine e_xputI dX0_explain_206 rfl pX0_284 rfl (xm_o0) (Nat.le_of_ble_eq_true rfl) (xm_f13 _) ?_
        refine e_aload_n dX0_explain_209 0 rfl rfl rfl ?_
        refine e_iconst 1 dX0_explain_210 rfl ?_
        refine e_callV1 (As := [.int 1]) (rest := []) dX0_explain_211 rfl mvX0_215 (xm_o0) rfl (x_gives 1) (Nat.le_of_ble_eq_true rfl) rfl rfl (Nat.le_of_ble_eq_true rfl) (Nat.le_of_ble_eq_true rfl) (Nat.le_of_ble_eq_true rfl) ?_
        refine e_ireturn dX0_explain_214 rfl rfl (Nat.le_of_ble_eq_true rfl) (Nat.le_of_ble_eq_true rfl) ?_
        have hq3 : ((a * gW τ j + w) * 3 + k) < 3 * ((gA τ j - 1) * gW τ j) := by omega
        obtain ⟨d4, d5⟩ := dm_ix (u := u) hq3
        have hsp : spTry j y q τ = some (u * (3 * ((gA τ j - 1) * gW τ j)) + ((a * gW τ j + w) * 3 + k)) := by
          refine fstN_some ?_ (Nat.zero_le _) ?_ (fun m _ hm => hno m hm)
          · show shN τ j y q (cn1 (gW τ j) ((u * (3 * ((gA τ j - 1) * gW τ j)) + ((a * gW τ j + w) * 3 + k)) / mhM τ j + 1) ((u * (3 * ((gA τ j - 1) * gW τ j)) + ((a * gW τ j + w) * 3 + k)) % mhM τ j)) = true
            rw [mhM_Z, d4, d5]; exact hsh
          · rw [mhM_Z, Nat.zero_add, z5, Nat.mul_left_comm q 3]; omega
        obtain ⟨d1, d2, d3⟩ := dm_3 (a := a) hw (show k < 3 by omega)
        have e1 : sp_explain (nI j) (nI y) (nI q) τ = (1, spCause (b0 τ) (gW τ j) (u + 1) ((a * gW τ j + w) * 3 + k)) := by
          rw [sp_explain, hA0, if_neg (by decide), ix_nI (by omega), ix_nI (by omega), ix_nI (by omega), if_neg hs0, hsp]
          show (1, spCause (b0 τ) (gW τ j) ((u * (3 * ((gA τ j - 1) * gW τ j)) + ((a * gW τ j + w) * 3 + k)) / mhM τ j + 1) ((u * (3 * ((gA τ j - 1) * gW τ j)) + ((a * gW τ j + w) * 3 + k)) % mhM τ j)) = _
          rw [mhM_Z, d4, d5]
        refine ⟨_, _, ownG own dyn.length, rfl, by rw [e1], ?_⟩
        rw [e1, spCause_b0, xA_xA, xA_xA, xA_xA, rpB_end (by rw [enB_len, enB_len, (hz3.trans hz2).1, hz0.1])]
        refine Rel.st0 (Rel.why (hRel.gb _) _ _ rfl rfl (fun k hk => ?_) (Or.inr ⟨rfl, ?_, ?_⟩))
        · unfold spCause
          exact (pk_un (fun e => hk (by rw [e]; decide))).trans ((pk_un (fun e => hk (by rw [e]; decide))).trans ((pk_un (fun e => hk (by rw [e]; decide))).trans (pk_un (fun e => hk (by rw [e]; decide)))))
        · show ¬ nI (u + 1) < 0
          exact nI_pos (by omega)
        · show _ = nI (u + 1) ∧ _ = nI (((a * gW τ j + w) * 3 + k) / (3 * gW τ j)) ∧ _ = nI (((a * gW τ j + w) * 3 + k) / 3 % gW τ j) ∧ _ = nI (((a * gW τ j + w) * 3 + k) % 3)
          rw [d1, d2, d3]
          exact ⟨rfl, rfl, rfl, rfl⟩
      · refine e_if_ne_f (by decide) 172 dX0_explain_166 (by decide) ?_
        refine e_goto 215 dX0_explain_169 (by decide) ?_
        refine e_incN k (k + 1) (inc1 _) dX0_explain_215 rfl (ls_s (ls_s (ls_s (ls_s (ls_s (ls_s (ls_s (ls_s (ls_s (ls_1 rfl)))))))))) (Nat.le_of_ble_eq_true rfl) ?_
        refine e_goto 127 dX0_explain_218 (by decide) ?_
        refine ih u a w (k + 1) η3 hu ha hw (by omega) (by omega) (hz3.trans hz2) (fun m hm => ?_) hE
        by_cases e : m = (u * (3 * ((gA τ j - 1) * gW τ j)) + ((a * gW τ j + w) * 3 + k))
        · subst e
          have hq3 : ((a * gW τ j + w) * 3 + k) < 3 * ((gA τ j - 1) * gW τ j) := by omega
          obtain ⟨d4, d5⟩ := dm_ix (u := u) hq3
          show shN τ j y q (cn1 (gW τ j) ((u * (3 * ((gA τ j - 1) * gW τ j)) + ((a * gW τ j + w) * 3 + k)) / mhM τ j + 1) ((u * (3 * ((gA τ j - 1) * gW τ j)) + ((a * gW τ j + w) * 3 + k)) % mhM τ j)) = false
          rw [mhM_Z, d4, d5]
          exact eq_false_of_ne_true hsh
        · exact hno m (by omega)

theorem xA_self (ξ : Xs) (k : Nat) : xA ξ k (ξ.2.2.1 k) = ξ := by
  have h : va_up ξ.2.2.1 k (ξ.2.2.1 k) = ξ.2.2.1 := by
    funext j; unfold va_up; split
    · rename_i e; rw [e]
    · rfl
  unfold xA
  exact congrArg (fun z => (ξ.1, ξ.2.1, z, ξ.2.2.2)) h
set_option maxHeartbeats 4000000 in
set_option maxRecDepth 100000 in
/-- WheelTables.explain -/
theorem x_explain {ξ : Xs} {mid dyn : List ACell} {τ : Tw} {own : Nat → Nat} (hm : mid.length = 61) (hRel : Rel own ξ dyn τ) (e t r0 : Int32) : Ct yX0_explain (ws_ yX0_explain cX0_explain 11 (some .int)) 5 22 222 [.ref 0, .int e, .int t, .int r0] (XM ξ mid dyn) (XQi mid (sp_explain e t r0 τ)) noX := by
  obtain ⟨hI, hA, hB, hW, hP, hR, hT, hE, hC, hV⟩ := id hRel
  have hI4 := hE.1.1
  refine Ct.of (ini := false) (ls := [some (.ref 0), some (.int e), some (.int t), some (.int r0), none, none, none, none, none, none, none]) (by decide) (Nat.le_of_ble_eq_true rfl) (fun h => by cases h) rfl ?_
  refine e_aload_n dX0_explain_0 0 rfl rfl rfl ?_
  refine e_iload_n dX0_explain_1 1 rfl rfl ?_
  refine e_iload_n dX0_explain_2 2 rfl rfl ?_
  refine e_iload_n dX0_explain_3 3 rfl rfl ?_
  refine e_callV1 (As := [.int e, .int t, .int r0]) (rest := []) dX0_explain_4 rfl mvX0_268 (xm_o0) rfl (x_wrongSheet hm hRel e t r0) (Nat.le_of_ble_eq_true rfl) rfl rfl (Nat.le_of_ble_eq_true rfl) (Nat.le_of_ble_eq_true rfl) (Nat.le_of_ble_eq_true rfl) ?_
  refine e_istore dX0_explain_7 (ls_s (ls_s (ls_s (ls_1 rfl)))) (Nat.le_of_ble_eq_true rfl) ?_
  refine e_iload dX0_explain_9 rfl ?_
  refine e_if_le 21 dX0_explain_11 (by decide) (fun h11 => ?_) (fun h11 => ?_)
  · obtain ⟨ea, hie, y, n, q, hy, rfl, hn60, e3, h1q, hqn, rfl⟩ := spAsk_0 hE.1 hV.1 (i32_le h11)
    obtain ⟨j, hj, hj4, rfl⟩ := eng_of hE.1 hie
    obtain ⟨hO, hMs⟩ := hE.1.2.2.1 j hj
    obtain ⟨b, η, hRe, hH, hown, hn⟩ := hE.2 j hj
    obtain ⟨hA, hW, hA7, hW12, hm20, eM, hRd⟩ := id (hn.J hO)
    have hU := hO.2.2.1.1
    obtain ⟨s, r, g, hs, e2, hTr, hD, hown3, hg⟩ : ∃ s r : Nat, ∃ g : Nat → Int64, s < 4 ∧ τ.2.2.1 2 y = nI s ∧ ξ.2.2.2.2.2.2 y = (some (117 + r), nI s) ∧ dyn[r]? = some (rowC s n g) ∧ own r = 1 + y ∧ ∀ k, k < n → g k = τ.2.2.2 4 (60 * y + k) ∧ fitS s (g k) := by
      rcases hT y hy with ⟨z, -⟩ | ⟨s, n2, r, g, g1, g2, g3, g4, g5, g6, g7, g8⟩
      · rw [e3] at z; exact absurd (show nI n < 0 by rw [z]; decide) (nI_pos (by omega))
      · obtain rfl : n2 = n := (nI_eqN (by omega) (by omega)).mp (g4.symm.trans e3)
        exact ⟨s, r, g, g1, g3, g5, g6, g7, g8⟩
    have hA0 := ea
    have hle := hH.le (enB_pos _ _)
    rw [enB_len] at hle
    have hrl := (List.getElem?_eq_some_iff.mp hD).1
    have hr : Rds (gW τ j) (gR τ j) := fun i hi => ⟨(hO.2.2.2.2.1 i hi).1, (hO.2.2.2.2.1 i hi).2.1⟩
    have hrv := xh_r (ξ := ξ) hm hH hW
    refine e_aload_n dX0_explain_21 0 rfl rfl rfl ?_
    refine e_getf (v := (.ref 2)) dX0_explain_22 rfl fX0_17 (xm_o0) rfl ?_
    refine e_iload_n dX0_explain_25 1 rfl rfl ?_
    refine e_aald (f := ξ.2.2.2.2.1 1) (j := j) dX0_explain_26 xm_r2 (fun _ => rfl) rfl (by omega) (by decide) ?_
    refine e_top (congrArg rfO hRe) ?_
    refine e_astore dX0_explain_27 (ls_s (ls_s (ls_s (ls_s (ls_1 rfl))))) (Nat.le_of_ble_eq_true rfl) rfl ?_
    refine e_new (u := 11) (L := (XM ξ mid dyn).length) dX0_explain_29 rfl nwX0_15 rfl (Nat.le_of_ble_eq_true rfl) (Nat.le_of_ble_eq_true rfl) rfl ?_
    refine e_dup dX0_explain_32 rfl ?_
    refine e_aload dX0_explain_33 rfl rfl ?_
    refine e_getf (v := (.int (nI η.1))) dX0_explain_35 rfl fX0_199 (ap_o (xh_o hm hH)) rfl ?_
    refine e_top (congrArg (fun z => Value.int (nI z)) hA) ?_
    refine e_aload dX0_explain_38 rfl rfl ?_
    refine e_getf (v := (.int (nI η.2.1))) dX0_explain_40 rfl fX0_201 (ap_o (xh_o hm hH)) rfl ?_
    refine e_top (congrArg (fun z => Value.int (nI z)) hW) ?_
    refine e_aload dX0_explain_43 rfl rfl ?_
    refine e_getf (v := (.ref (117 + b + 6))) dX0_explain_45 rfl fX0_231 (ap_o (xh_o hm hH)) rfl ?_
    refine e_callIQ (As := [.int (nI (gA τ j)), .int (nI (gW τ j)), .ref (117 + b + 6)]) (rest := [.ref ((XM ξ mid dyn).length)]) dX0_explain_48 rfl miX0_212 (x_engI (P := XM ξ mid dyn) hA7.2 hW12.2 (Nat.le_refl _) hW12.2 hrv) (Nat.le_of_ble_eq_true rfl) rfl rfl (Nat.le_of_ble_eq_true rfl) (Nat.le_of_ble_eq_true rfl) (Nat.le_of_ble_eq_true rfl) (fun v0 M0 h0_ _ => ?_)
    obtain ⟨rfl, rfl⟩ := h0_
    have hPl : (XM ξ mid dyn).length = 117 + dyn.length := xm_len hm
    refine e_top (congrArg Value.ref hPl) ?_
    obtain ⟨η0, hη0⟩ : ∃ η0, (e0 (gA τ j) (gW τ j) (cpV η.2.2.2.2.2.2.1 (fun _ => 0) 0 0 (gW τ j))) = η0 := ⟨_, rfl⟩
    have hz0 : Smz η0 η := by
      rw [← hη0]
      refine ⟨hA.symm, hW.symm, fun i hi => ?_⟩
      show cpV η.2.2.2.2.2.2.1 (fun _ => 0) 0 0 (gW τ j) i = _
      unfold cpV
      rw [if_pos ⟨Nat.zero_le _, by rw [Nat.zero_add, ← hW]; exact hi⟩, Nat.zero_add, Nat.sub_zero]
    refine E_mem (M' := XM ξ mid (dyn ++ enB (117 + dyn.length) η0)) (by rw [EM, hPl, List.append_nil, XM, XM, hη0]; simp only [List.append_assoc]) ?_
    refine e_astore dX0_explain_51 (ls_s (ls_s (ls_s (ls_s (ls_s (ls_1 rfl)))))) (Nat.le_of_ble_eq_true rfl) rfl ?_
    have hHc : HlD (dyn ++ enB (117 + dyn.length) η0) dyn.length (enB (117 + dyn.length) η0) := HlD_end
    have hHe : HlD (dyn ++ enB (117 + dyn.length) η0) b (enB (117 + b) η) := hH.app
    have hdis : b + (8 + 2 * gA τ j) ≤ dyn.length ∨ dyn.length + (8 + 2 * gA τ j) ≤ b := Or.inl (by rw [← hA]; exact hle)
    refine e_aload dX0_explain_53 rfl rfl ?_
    refine e_aload dX0_explain_55 rfl rfl ?_
    refine e_callVQ (As := [.ref (117 + b)]) (rest := []) dX0_explain_57 rfl mvX0_276 ((xh_o hm hHc)) rfl (x_like hm (hz0.1.trans hA) (hz0.2.1.trans hW) hA hW hA7.2 hW12.2 hHc hHe hdis) (Nat.le_of_ble_eq_true rfl) rfl rfl (Nat.le_of_ble_eq_true rfl) (Nat.le_of_ble_eq_true rfl) (Nat.le_of_ble_eq_true rfl) (fun v0 M0 h0_ _ => ?_)
    obtain ⟨rfl, η1, rfl, hS1, hF1⟩ := h0_
    have hl1 : dyn.length + (enB (117 + dyn.length) η1).length ≤ (dyn ++ enB (117 + dyn.length) η0).length := by
      rw [List.length_append, enB_len, enB_len, hS1.1]
      exact Nat.le_refl _
    have hH1 := rpB_Hl hl1
    have hz1 : Smz η1 η := hS1.z ⟨hz0.1, hz0.2.1, hz0.2.2⟩
    have hJ1 : EnJ η1 (gA τ j) (gW τ j) 0 (gR τ j) := ⟨hz1.1.trans hA, hz1.2.1.trans hW, hA7, hW12, by omega, hS1.2.2.2.1.trans nI_0.symm, fun i hi => (hz1.2.2 i (by rw [hW]; exact hi)).trans ((hn.J hO).2.2.2.2.2.2 i hi)⟩
    have hF1' : EfM η1 (gA τ j) (gW τ j) (gF τ j) := fun a ha i hi => (hF1 a ha i hi).trans ((hn.F hO) a ha i hi)
    have hr1 : r < dyn.length ∨ dyn.length + (8 + 2 * η1.1) ≤ r := Or.inl hrl
    have hD1 : (rpB (dyn ++ enB (117 + dyn.length) η0) dyn.length (enB (117 + dyn.length) η1))[r]? = some (rowC s n g) := by
      rw [rpB_out hl1 (Or.inl hrl), List.getElem?_append_left hrl]; exact hD
    refine e_aload_n dX0_explain_60 0 rfl rfl rfl ?_
    refine e_aload dX0_explain_61 rfl rfl ?_
    refine e_aload_n dX0_explain_63 0 rfl rfl rfl ?_
    refine e_getf (v := (.ref 1)) dX0_explain_64 rfl fX0_11 (xm_o0) rfl ?_
    refine e_iload_n dX0_explain_67 2 rfl rfl ?_
    refine e_aald (f := trF) (j := y) dX0_explain_68 xm_r1 (fun _ => rfl) rfl (by omega) (by decide) ?_
    refine e_top (congrArg rfO (trF_at (by omega))) ?_
    refine e_iload_n dX0_explain_69 3 rfl rfl ?_
    refine e_callVQ (As := [.ref (117 + dyn.length), .ref (52 + y), .int (nI q)]) (rest := []) dX0_explain_70 rfl mvX0_280 (xm_o0) rfl (x_makes (m := 0) (cnt := cn0) hm hO hH1 hJ1 (fun q hq => absurd hq (by omega)) hS1.2.2.1 hF1' (fun _ _ _ _ => rfl) hqn hn60 hs hy e2 hTr hD1 hg hr1) (Nat.le_of_ble_eq_true rfl) rfl rfl (Nat.le_of_ble_eq_true rfl) (Nat.le_of_ble_eq_true rfl) (Nat.le_of_ble_eq_true rfl) (fun v0 M0 h0_ _ => ?_)
    obtain ⟨η3, hz3, rfl, hsh⟩ := h0_
    rw [rpB_rpB hl1 (by rw [enB_len, enB_len, hz3.1])]
    rcases hsh with ⟨hsh, rfl⟩ | ⟨hsh, rfl⟩
    · refine e_if_eq_f (by decide) 87 dX0_explain_73 (by decide) ?_
      refine e_aload_n dX0_explain_76 0 rfl rfl rfl ?_
      refine e_iconst 0 dX0_explain_77 rfl ?_
      refine e_xputI dX0_explain_78 rfl pX0_284 rfl (xm_o0) (Nat.le_of_ble_eq_true rfl) (xm_f13 _) ?_
      refine e_aload_n dX0_explain_81 0 rfl rfl rfl ?_
      refine e_iconst 0 dX0_explain_82 rfl ?_
      refine e_callV1 (As := [.int 0]) (rest := []) dX0_explain_83 rfl mvX0_215 (xm_o0) rfl (x_gives 0) (Nat.le_of_ble_eq_true rfl) rfl rfl (Nat.le_of_ble_eq_true rfl) (Nat.le_of_ble_eq_true rfl) (Nat.le_of_ble_eq_true rfl) ?_
      refine e_ireturn dX0_explain_86 rfl rfl (Nat.le_of_ble_eq_true rfl) (Nat.le_of_ble_eq_true rfl) ?_
      have e1 : sp_explain (nI j) (nI y) (nI q) τ = (0, tI (b0 τ) 22 (-1)) := by
        rw [sp_explain, hA0, if_neg (by decide), ix_nI (by omega), ix_nI (by omega), ix_nI (by omega), if_pos hsh]
      refine ⟨_, _, ownG own dyn.length, rfl, by rw [e1], ?_⟩
      rw [e1, b0_k _ _ _ (by decide) (by decide), rpB_end (by rw [enB_len, enB_len, (hz3.trans hz1).1, hz0.1])]
      refine Rel.st0 (Rel.why (hRel.gb _) (ξ.2.2.1 12) 0 (by rw [xA_self]) rfl (fun k hk => pk_un (fun e => hk (by rw [e]; decide))) (Or.inl ⟨rfl, show (-1 : Int32) < 0 by decide⟩))
    · refine e_if_eq_t 87 (by decide) dX0_explain_73 (by decide) ?_
      have hHe3 : HlD (rpB (dyn ++ enB (117 + dyn.length) η0) dyn.length (enB (117 + dyn.length) η3)) b (enB (117 + b) η) := HlD.rp (HlD.app hH) (by rw [enB_len, hz3.1, ← enB_len (117 + dyn.length) η1]; exact hl1) (Or.inl (by rw [enB_len]; exact hle))
      refine e_iconst 1 dX0_explain_87 rfl ?_
      refine e_istore dX0_explain_88 (ls_s (ls_s (ls_s (ls_s (ls_s (ls_s (ls_1 rfl))))))) (Nat.le_of_ble_eq_true rfl) ?_
      refine e_iload dX0_explain_90 rfl ?_
      refine e_iload_n dX0_explain_92 3 rfl rfl ?_
      refine e_icmp_gtN 1 q 239 (by omega) (by omega) dX0_explain_93 (by decide) (fun h93 => ?_) (fun h93 => ?_)
      · exact absurd h93 (by omega)
      · refine e_iconst 0 dX0_explain_96 rfl ?_
        refine e_istore dX0_explain_97 (ls_s (ls_s (ls_s (ls_s (ls_s (ls_s (ls_s (ls_1 rfl)))))))) (Nat.le_of_ble_eq_true rfl) ?_
        refine e_iload dX0_explain_99 rfl ?_
        refine e_iconst 1 dX0_explain_101 rfl ?_
        refine e_iadd dX0_explain_102 ?_
        refine e_top (w := .int 1) (by decide) ?_
        refine e_aload dX0_explain_103 rfl rfl ?_
        refine e_getf (v := (.int (nI η.1))) dX0_explain_105 rfl fX0_199 (xh_o hm hHe3) rfl ?_
        refine e_top (congrArg (fun z => Value.int (nI z)) hA) ?_
        refine e_icmp_geN 1 (gA τ j) 233 (by omega) (by omega) dX0_explain_108 (by decide) (fun h108 => ?_) (fun h108 => ?_)
        · exact absurd h108 (by omega)
        · refine e_iconst 0 dX0_explain_111 rfl ?_
          refine e_istore dX0_explain_112 (ls_s (ls_s (ls_s (ls_s (ls_s (ls_s (ls_s (ls_s (ls_1 rfl))))))))) (Nat.le_of_ble_eq_true rfl) ?_
          refine e_iload dX0_explain_114 rfl ?_
          refine e_aload dX0_explain_116 rfl rfl ?_
          refine e_getf (v := (.int (nI η.2.1))) dX0_explain_118 rfl fX0_201 (xh_o hm hHe3) rfl ?_
          refine e_top (congrArg (fun z => Value.int (nI z)) hW) ?_
          refine e_icmp_geN 0 (gW τ j) 227 (by omega) (by omega) dX0_explain_121 (by decide) (fun h121 => ?_) (fun h121 => ?_)
          · exact absurd h121 (by omega)
          · refine e_iconst 0 dX0_explain_124 rfl ?_
            refine e_istore dX0_explain_125 (ls_s (ls_s (ls_s (ls_s (ls_s (ls_s (ls_s (ls_s (ls_s (ls_1 rfl)))))))))) (Nat.le_of_ble_eq_true rfl) ?_
            refine e_forget (i := 4) (ln_s (ln_s (ln_s (ln_s ln_0)))) ?_
            exact x_expl hm hRel hj4 hO hH hn hz0 hqn h1q hn60 hs hy e2 hTr hD hg hA0 hsh (q * ((gA τ j - 1) * gW τ j) * 4 + 1) 0 0 0 0 η3 (by omega) (by omega) (by omega) (by omega) (by omega) (hz3.trans hz1) (fun m hm => absurd hm (by omega)) trivial
  · have hw0 : ¬ spAsk e t r0 τ = 0 := fun z => h11 (by rw [z]; decide)
    refine e_aload_n dX0_explain_14 0 rfl rfl rfl ?_
    refine e_iload dX0_explain_15 rfl ?_
    refine e_callV1 (As := [.int (spAsk e t r0 τ)]) (rest := []) dX0_explain_17 rfl mvX0_169 (xm_o0) rfl (x_none (spAsk e t r0 τ)) (Nat.le_of_ble_eq_true rfl) rfl rfl (Nat.le_of_ble_eq_true rfl) (Nat.le_of_ble_eq_true rfl) (Nat.le_of_ble_eq_true rfl) ?_
    refine e_ireturn dX0_explain_20 rfl rfl (Nat.le_of_ble_eq_true rfl) (Nat.le_of_ble_eq_true rfl) ?_
    refine ⟨_, _, own, rfl, ?_, ?_⟩
    · rw [sp_explain, if_pos (i32_nle h11)]
    · rw [sp_explain, if_pos (i32_nle h11)]; exact hRel.st _

