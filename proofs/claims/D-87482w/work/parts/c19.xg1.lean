/-! ===== the component: engine (2) ===== -/
theorem i64r {v : Int64} (h1 : 2 ≤ v) (h2 : v ≤ 12) : ∃ r, 2 ≤ r ∧ r ≤ 12 ∧ v.toInt32 = nI r := by
  rw [Int64.le_iff_toInt_le] at h1 h2
  rw [show (2 : Int64).toInt = 2 by decide] at h1
  rw [show (12 : Int64).toInt = 12 by decide] at h2
  rcases (show v.toInt = 2 ∨ v.toInt = 3 ∨ v.toInt = 4 ∨ v.toInt = 5 ∨ v.toInt = 6 ∨ v.toInt = 7 ∨ v.toInt = 8 ∨ v.toInt = 9 ∨ v.toInt = 10 ∨ v.toInt = 11 ∨ v.toInt = 12 by omega) with h | h | h | h | h | h | h | h | h | h | h
  · exact ⟨2, by omega, by omega, by rw [show v = 2 from Int64.toInt_inj.mp (h.trans (show ((2 : Int64).toInt = 2) by decide).symm)]; decide⟩
  · exact ⟨3, by omega, by omega, by rw [show v = 3 from Int64.toInt_inj.mp (h.trans (show ((3 : Int64).toInt = 3) by decide).symm)]; decide⟩
  · exact ⟨4, by omega, by omega, by rw [show v = 4 from Int64.toInt_inj.mp (h.trans (show ((4 : Int64).toInt = 4) by decide).symm)]; decide⟩
  · exact ⟨5, by omega, by omega, by rw [show v = 5 from Int64.toInt_inj.mp (h.trans (show ((5 : Int64).toInt = 5) by decide).symm)]; decide⟩
  · exact ⟨6, by omega, by omega, by rw [show v = 6 from Int64.toInt_inj.mp (h.trans (show ((6 : Int64).toInt = 6) by decide).symm)]; decide⟩
  · exact ⟨7, by omega, by omega, by rw [show v = 7 from Int64.toInt_inj.mp (h.trans (show ((7 : Int64).toInt = 7) by decide).symm)]; decide⟩
  · exact ⟨8, by omega, by omega, by rw [show v = 8 from Int64.toInt_inj.mp (h.trans (show ((8 : Int64).toInt = 8) by decide).symm)]; decide⟩
  · exact ⟨9, by omega, by omega, by rw [show v = 9 from Int64.toInt_inj.mp (h.trans (show ((9 : Int64).toInt = 9) by decide).symm)]; decide⟩
  · exact ⟨10, by omega, by omega, by rw [show v = 10 from Int64.toInt_inj.mp (h.trans (show ((10 : Int64).toInt = 10) by decide).symm)]; decide⟩
  · exact ⟨11, by omega, by omega, by rw [show v = 11 from Int64.toInt_inj.mp (h.trans (show ((11 : Int64).toInt = 11) by decide).symm)]; decide⟩
  · exact ⟨12, by omega, by omega, by rw [show v = 12 from Int64.toInt_inj.mp (h.trans (show ((12 : Int64).toInt = 12) by decide).symm)]; decide⟩
theorem b0_5 (X : Tw) (v : Int32) : tI (b0 X) 5 v = b0 (tI X 5 v) := by
  unfold b0
  rw [tI_cm _ (by decide), tI_cm (ς := X) (by decide)]
theorem tA_b0 (X : Tw) (k : Nat) (f : Nat → Int32) : tA (b0 X) k f = b0 (tA X k f) := rfl
set_option maxHeartbeats 4000000 in
set_option maxRecDepth 100000 in
/-- WheelTables.engine -/
theorem x_engine {ξ : Xs} {mid dyn : List ACell} {τ : Tw} {own : Nat → Nat} (hm : mid.length = 61) (hRel : Rel own ξ dyn τ) (a w t : Int32) : Ct yX0_engine (ws_ yX0_engine cX0_engine 7 (some .int)) 2 23 234 [.ref 0, .int a, .int w, .int t] (XM ξ mid dyn) (XQi mid (sp_engine a w t τ)) noX := by
  obtain ⟨hI, hA, hB, hW, hP, hR, hT, hE, hC, hV⟩ := id hRel
  have hI4 := hE.1.1
  refine Ct.of (ini := false) (ls := [some (.ref 0), some (.int a), some (.int w), some (.int t), none, none, none]) (by decide) (Nat.le_of_ble_eq_true rfl) (fun h => by cases h) rfl ?_
  refine e_iload_n dX0_engine_0 3 rfl rfl ?_
  refine e_callSB (As := [.int t]) (rest := []) dX0_engine_1 rfl msX0_148 (x_isTray t) (Nat.le_of_ble_eq_true rfl) rfl rfl (Nat.le_of_ble_eq_true rfl) (Nat.le_of_ble_eq_true rfl) (Nat.le_of_ble_eq_true rfl) (fun h1 => ?_) (fun h1 => ?_)
  · have h1 : (0 ≤ t ∧ t < 4) := h1
    refine e_if_ne_t 13 (by decide) dX0_engine_4 (by decide) ?_
    obtain ⟨y, hy, rfl⟩ := in_0_4 h1
    refine e_aload_n dX0_engine_13 0 rfl rfl rfl ?_
    refine e_getf (v := (.ref 1)) dX0_engine_14 rfl fX0_11 (xm_o0) rfl ?_
    refine e_iload_n dX0_engine_17 3 rfl rfl ?_
    refine e_aald (f := trF) (j := y) dX0_engine_18 xm_r1 (fun _ => rfl) rfl (by omega) (by decide) ?_
    refine e_top (congrArg rfO (trF_at (by omega))) ?_
    refine e_astore dX0_engine_19 (ls_s (ls_s (ls_s (ls_1 rfl)))) (Nat.le_of_ble_eq_true rfl) rfl ?_
    refine e_aload dX0_engine_21 rfl rfl ?_
    rcases hT y hy with ⟨e3, hTr, e2⟩ | ⟨s, n, r, g, hs, hn, e2, e3, hTr, hD, hown3, hg⟩
    · have hO3 : (XM ξ mid dyn)[52 + y]? = some (.inr (3, [.null, .int 0])) := by rw [xm_oT hy, hTr]; rfl
      refine e_getf (v := .null) dX0_engine_23 rfl fX0_179 (hO3) rfl ?_
      refine e_ifnonnullN dX0_engine_26 ?_
      refine e_aload_n dX0_engine_29 0 rfl rfl rfl ?_
      refine e_iconst 3 dX0_engine_30 rfl ?_
      refine e_callV1 (As := [.int 3]) (rest := []) dX0_engine_31 rfl mvX0_169 (xm_o0) rfl (x_none 3) (Nat.le_of_ble_eq_true rfl) rfl rfl (Nat.le_of_ble_eq_true rfl) (Nat.le_of_ble_eq_true rfl) (Nat.le_of_ble_eq_true rfl) ?_
      refine e_ireturn dX0_engine_34 rfl rfl (Nat.le_of_ble_eq_true rfl) (Nat.le_of_ble_eq_true rfl) ?_
      refine ⟨_, _, own, rfl, ?_, ?_⟩
      · rw [sp_engine, if_pos (show 0 < spT (nI y) τ by rw [spT_m hy e3]; decide)]
      · rw [sp_engine, if_pos (show 0 < spT (nI y) τ by rw [spT_m hy e3]; decide), spT_m hy e3]; exact hRel.st 3
    · have hO3 : (XM ξ mid dyn)[52 + y]? = some (.inr (3, [.ref (117 + r), .int (nI s)])) := by rw [xm_oT hy, hTr]; rfl
      refine e_getf (v := (.ref (117 + r))) dX0_engine_23 rfl fX0_179 (hO3) rfl ?_
      refine e_ifnonnull 35 dX0_engine_26 (by decide) ?_
      refine e_iload_n dX0_engine_35 1 rfl rfl ?_
      refine e_iconst 2 dX0_engine_36 rfl ?_
      refine e_icmp_lt 57 dX0_engine_37 (by decide) (fun h37 => ?_) (fun h37 => ?_)
      · refine e_aload_n dX0_engine_57 0 rfl rfl rfl ?_
        refine e_iconst 5 dX0_engine_58 rfl ?_
        refine e_callV1 (As := [.int 5]) (rest := []) dX0_engine_59 rfl mvX0_169 (xm_o0) rfl (x_none 5) (Nat.le_of_ble_eq_true rfl) rfl rfl (Nat.le_of_ble_eq_true rfl) (Nat.le_of_ble_eq_true rfl) (Nat.le_of_ble_eq_true rfl) ?_
        refine e_ireturn dX0_engine_62 rfl rfl (Nat.le_of_ble_eq_true rfl) (Nat.le_of_ble_eq_true rfl) ?_
        refine ⟨_, _, own, rfl, ?_, ?_⟩
        · rw [sp_engine, if_neg (show ¬ 0 < spT (nI y) τ by rw [spT_ok hy hn e3]; decide), if_pos (fun z => i32_lt h37 z.1.1)]
        · rw [sp_engine, if_neg (show ¬ 0 < spT (nI y) τ by rw [spT_ok hy hn e3]; decide), if_pos (fun z => i32_lt h37 z.1.1)]; exact hRel.stE 5
      · refine e_iload_n dX0_engine_40 1 rfl rfl ?_
        refine e_bipush 7 dX0_engine_41 rfl ?_
        refine e_icmp_gt 57 dX0_engine_43 (by decide) (fun h43 => ?_) (fun h43 => ?_)
        · refine e_aload_n dX0_engine_57 0 rfl rfl rfl ?_
          refine e_iconst 5 dX0_engine_58 rfl ?_
          refine e_callV1 (As := [.int 5]) (rest := []) dX0_engine_59 rfl mvX0_169 (xm_o0) rfl (x_none 5) (Nat.le_of_ble_eq_true rfl) rfl rfl (Nat.le_of_ble_eq_true rfl) (Nat.le_of_ble_eq_true rfl) (Nat.le_of_ble_eq_true rfl) ?_
          refine e_ireturn dX0_engine_62 rfl rfl (Nat.le_of_ble_eq_true rfl) (Nat.le_of_ble_eq_true rfl) ?_
          refine ⟨_, _, own, rfl, ?_, ?_⟩
          · rw [sp_engine, if_neg (show ¬ 0 < spT (nI y) τ by rw [spT_ok hy hn e3]; decide), if_pos (fun z => absurd z.1.2 (Int32.not_le.mpr h43))]
          · rw [sp_engine, if_neg (show ¬ 0 < spT (nI y) τ by rw [spT_ok hy hn e3]; decide), if_pos (fun z => absurd z.1.2 (Int32.not_le.mpr h43))]; exact hRel.stE 5
        · refine e_iload_n dX0_engine_46 2 rfl rfl ?_
          refine e_iconst 1 dX0_engine_47 rfl ?_
          refine e_icmp_lt 57 dX0_engine_48 (by decide) (fun h48 => ?_) (fun h48 => ?_)
          · refine e_aload_n dX0_engine_57 0 rfl rfl rfl ?_
            refine e_iconst 5 dX0_engine_58 rfl ?_
            refine e_callV1 (As := [.int 5]) (rest := []) dX0_engine_59 rfl mvX0_169 (xm_o0) rfl (x_none 5) (Nat.le_of_ble_eq_true rfl) rfl rfl (Nat.le_of_ble_eq_true rfl) (Nat.le_of_ble_eq_true rfl) (Nat.le_of_ble_eq_true rfl) ?_
            refine e_ireturn dX0_engine_62 rfl rfl (Nat.le_of_ble_eq_true rfl) (Nat.le_of_ble_eq_true rfl) ?_
            refine ⟨_, _, own, rfl, ?_, ?_⟩
            · rw [sp_engine, if_neg (show ¬ 0 < spT (nI y) τ by rw [spT_ok hy hn e3]; decide), if_pos (fun z => i32_lt h48 z.2.1)]
            · rw [sp_engine, if_neg (show ¬ 0 < spT (nI y) τ by rw [spT_ok hy hn e3]; decide), if_pos (fun z => i32_lt h48 z.2.1)]; exact hRel.stE 5
          · refine e_iload_n dX0_engine_51 2 rfl rfl ?_
            refine e_bipush 12 dX0_engine_52 rfl ?_
            refine e_icmp_le 63 dX0_engine_54 (by decide) (fun h54 => ?_) (fun h54 => ?_)
            · have spE : spEng a w := ⟨⟨i32_nlt h37, i32_nlt h43⟩, i32_nlt h48, h54⟩
              obtain ⟨A, hA7, rfl⟩ := in_le (x := a) 7 (by decide) (fun z => h37 (Int32.lt_trans z (by decide))) (i32_nlt h43)
              obtain ⟨W, hW12, rfl⟩ := in_le (x := w) 12 (by decide) (fun z => h48 (Int32.lt_trans z (by decide))) h54
              have hA2 : 2 ≤ A := (nI_leN (a := 2) (by omega) (by omega)).mp (i32_nlt h37)
              have hW1 : 1 ≤ W := (nI_leN (a := 1) (by omega) (by omega)).mp (i32_nlt h48)
              refine e_aload dX0_engine_63 rfl rfl ?_
              refine e_callV1 (As := []) (rest := []) dX0_engine_65 rfl mvX0_204 (xm_oT hy) rfl (y_manyS hm hy hs hn hTr hD) (Nat.le_of_ble_eq_true rfl) rfl rfl (Nat.le_of_ble_eq_true rfl) (Nat.le_of_ble_eq_true rfl) (Nat.le_of_ble_eq_true rfl) ?_
              refine e_iload_n dX0_engine_68 2 rfl rfl ?_
              refine e_icmp_geN n W 78 (by omega) (by omega) dX0_engine_69 (by decide) (fun h69 => ?_) (fun h69 => ?_)
              · refine e_iconst 0 dX0_engine_78 rfl ?_
                refine e_istore dX0_engine_79 (ls_s (ls_s (ls_s (ls_s (ls_1 rfl))))) (Nat.le_of_ble_eq_true rfl) ?_
                refine x_eng1 hm hW12 h69 hn hs hy hTr hD hg (W + 1) 0 (by omega) (by omega) rfl (fun hz => ⟨_, _, own, rfl, by rw [sp_engine, if_neg (show ¬ 0 < spT (nI y) τ by rw [spT_ok hy hn e3]; decide), if_neg (fun z => z spE), ix_nI (by omega), e3, if_neg (fun z => absurd ((nI_ltN (by omega) (by omega)).mp z) (by omega)), ix_nI (by omega), if_pos hz], by rw [sp_engine, if_neg (show ¬ 0 < spT (nI y) τ by rw [spT_ok hy hn e3]; decide), if_neg (fun z => z spE), ix_nI (by omega), e3, if_neg (fun z => absurd ((nI_ltN (by omega) (by omega)).mp z) (by omega)), ix_nI (by omega), if_pos hz]; exact hRel.stE 5⟩) (fun hz => ?_)
                obtain ⟨E, hEq⟩ : ∃ E, gE τ = E := ⟨_, rfl⟩
                have eE : τ.1 5 = nI E := by rw [hE.1.2.1, hEq]
                have hE4' : E ≤ 4 := by rw [← hEq]; exact hE.1.1
                refine e_aload_n dX0_engine_127 0 rfl rfl rfl ?_
                refine e_getf (v := (.int (ξ.1 6))) dX0_engine_128 rfl fX0_193 (xm_o0) rfl ?_
                refine e_top (congrArg Value.int (hI.at 6 5 (by decide))) ?_
                refine e_top (congrArg Value.int eE) ?_
                refine e_iconst 4 dX0_engine_131 rfl ?_
                refine e_icmp_neN E 4 142 (by omega) (by omega) dX0_engine_132 (by decide) (fun h132 => ?_) (fun h132 => ?_)
                · have hE4 : E < 4 := by omega
                  refine e_bipush 12 dX0_engine_142 rfl ?_
                  refine e_newi (n := 12) (L := 117 + dyn.length) dX0_engine_144 rfl (by decide) (Nat.le_of_ble_eq_true rfl) (Nat.le_of_ble_eq_true rfl) (xm_len hm) ?_
                  rw [xm_push]
                  refine e_astore dX0_engine_146 (ls_s (ls_s (ls_s (ls_s (ls_1 rfl))))) (Nat.le_of_ble_eq_true rfl) rfl ?_
                  refine e_iconst 0 dX0_engine_148 rfl ?_
                  refine e_istore dX0_engine_149 (ls_s (ls_s (ls_s (ls_s (ls_s (ls_1 rfl)))))) (Nat.le_of_ble_eq_true rfl) ?_
                  refine E_mem (M' := XM ξ mid (dyn ++ [(.inl (0, 12, .inl (rngI (fun _ => 0) 0 0 (fun k => (τ.2.2.2 4 (60 * y + k)).toInt32))) : ACell)])) (by rw [rngI_0]) ?_
                  refine x_eng2 hm hW12 h69 hn hs hy hTr hD hg (W + 1) 0 (by omega) (by omega) ?_
                  have hrv : (XM ξ mid (dyn ++ [(.inl (0, 12, .inl (rngI (fun _ => 0) 0 W (fun k => (τ.2.2.2 4 (60 * y + k)).toInt32))) : ACell)]))[117 + dyn.length]? = some (.inl (0, 12, .inl (rngI (fun _ => 0) 0 W (fun k => (τ.2.2.2 4 (60 * y + k)).toInt32)))) := (xm_d hm _).trans (by rw [List.getElem?_append_right (Nat.le_refl _), Nat.sub_self]; rfl)
                  refine e_aload_n dX0_engine_176 0 rfl rfl rfl ?_
                  refine e_getf (v := (.ref 2)) dX0_engine_177 rfl fX0_17 (xm_o0) rfl ?_
                  refine e_aload_n dX0_engine_180 0 rfl rfl rfl ?_
                  refine e_getf (v := (.int (ξ.1 6))) dX0_engine_181 rfl fX0_193 (xm_o0) rfl ?_
                  refine e_top (congrArg Value.int (hI.at 6 5 (by decide))) ?_
                  refine e_top (congrArg Value.int eE) ?_
                  refine e_new (u := 11) (L := (XM ξ mid (dyn ++ [(.inl (0, 12, .inl (rngI (fun _ => 0) 0 W (fun k => (τ.2.2.2 4 (60 * y + k)).toInt32))) : ACell)])).length) dX0_engine_184 rfl nwX0_15 rfl (Nat.le_of_ble_eq_true rfl) (Nat.le_of_ble_eq_true rfl) rfl ?_
                  refine e_dup dX0_engine_187 rfl ?_
                  refine e_iload_n dX0_engine_188 1 rfl rfl ?_
                  refine e_iload_n dX0_engine_189 2 rfl rfl ?_
                  refine e_aload dX0_engine_190 rfl rfl ?_
                  refine e_callIQ (As := [.int (nI A), .int (nI W), .ref (117 + dyn.length)]) (rest := [.ref ((XM ξ mid (dyn ++ [(.inl (0, 12, .inl (rngI (fun _ => 0) 0 W (fun k => (τ.2.2.2 4 (60 * y + k)).toInt32))) : ACell)])).length), .int (nI E), .ref 2]) dX0_engine_192 rfl miX0_212 (x_engI (P := XM ξ mid (dyn ++ [(.inl (0, 12, .inl (rngI (fun _ => 0) 0 W (fun k => (τ.2.2.2 4 (60 * y + k)).toInt32))) : ACell)])) hA7 hW12 hW12 (Nat.le_refl _) hrv) (Nat.le_of_ble_eq_true rfl) rfl rfl (Nat.le_of_ble_eq_true rfl) (Nat.le_of_ble_eq_true rfl) (Nat.le_of_ble_eq_true rfl) (fun v0 M0 h0_ _ => ?_)
                  obtain ⟨rfl, rfl⟩ := h0_
                  have hPl : (XM ξ mid (dyn ++ [(.inl (0, 12, .inl (rngI (fun _ => 0) 0 W (fun k => (τ.2.2.2 4 (60 * y + k)).toInt32))) : ACell)])).length = 117 + (dyn.length + 1) := by rw [xm_len hm, List.length_append]; rfl
                  refine e_top (congrArg Value.ref hPl) ?_
                  refine E_mem (M' := XM ξ mid (dyn ++ [(.inl (0, 12, .inl (rngI (fun _ => 0) 0 W (fun k => (τ.2.2.2 4 (60 * y + k)).toInt32))) : ACell)] ++ enB (117 + (dyn.length + 1)) (e0 A W (cpV (rngI (fun _ => 0) 0 W (fun k => (τ.2.2.2 4 (60 * y + k)).toInt32)) (fun _ => 0) 0 0 W)))) (by rw [EM, hPl, List.append_nil, XM, XM]; simp only [List.append_assoc]) ?_
                  have hHn : HlD (dyn ++ [(.inl (0, 12, .inl (rngI (fun _ => 0) 0 W (fun k => (τ.2.2.2 4 (60 * y + k)).toInt32))) : ACell)] ++ enB (117 + (dyn.length + 1)) (e0 A W (cpV (rngI (fun _ => 0) 0 W (fun k => (τ.2.2.2 4 (60 * y + k)).toInt32)) (fun _ => 0) 0 0 W))) (dyn.length + 1) (enB (117 + (dyn.length + 1)) (e0 A W (cpV (rngI (fun _ => 0) 0 W (fun k => (τ.2.2.2 4 (60 * y + k)).toInt32)) (fun _ => 0) 0 0 W))) := fun k c hc => by
                    rw [List.getElem?_append_right (by rw [List.length_append]; show dyn.length + 1 ≤ _; omega), List.length_append]
                    show (enB _ _)[dyn.length + 1 + k - (dyn.length + 1)]? = _
                    rw [show dyn.length + 1 + k - (dyn.length + 1) = k by omega]; exact hc
                  refine e_aast (n := 4) (t := 7) (ci := 5) (j := E) (r := (RX5, TX5, 11)) (f := ξ.2.2.2.2.1 1) dX0_engine_195 xm_r2 (fun _ => rfl) (xh_o hm hHn) rfl rfl hE4 (by decide) ?_
                  rw [xm_rs2]
                  refine e_aload_n dX0_engine_196 0 rfl rfl rfl ?_
                  refine e_dup dX0_engine_197 rfl ?_
                  refine e_getf (v := (.int (ξ.1 6))) dX0_engine_198 rfl fX0_193 (xm_o0) rfl ?_
                  refine e_top (congrArg Value.int (hI.at 6 5 (by decide))) ?_
                  refine e_top (congrArg Value.int eE) ?_
                  refine e_iconst 1 dX0_engine_201 rfl ?_
                  refine e_iaddN E 1 dX0_engine_202 ?_
                  refine e_xputI dX0_engine_203 rfl pX0_193 rfl (xm_o0) (Nat.le_of_ble_eq_true rfl) (xm_f6 _) ?_
                  refine e_aload_n dX0_engine_206 0 rfl rfl rfl ?_
                  refine e_aload_n dX0_engine_207 0 rfl rfl rfl ?_
                  refine e_getf (v := (.int (nI (E + 1)))) dX0_engine_208 rfl fX0_193 (xm_o0) rfl ?_
                  refine e_iconst 1 dX0_engine_211 rfl ?_
                  refine e_isubN (E + 1) 1 (by omega) dX0_engine_212 ?_
                  refine e_callV1 (As := [.int (nI ((E + 1) - 1))]) (rest := []) dX0_engine_213 rfl mvX0_215 (xm_o0) rfl (x_gives (nI ((E + 1) - 1))) (Nat.le_of_ble_eq_true rfl) rfl rfl (Nat.le_of_ble_eq_true rfl) (Nat.le_of_ble_eq_true rfl) (Nat.le_of_ble_eq_true rfl) ?_
                  refine e_ireturn dX0_engine_216 rfl rfl (Nat.le_of_ble_eq_true rfl) (Nat.le_of_ble_eq_true rfl) ?_
                  refine ⟨_, _, (fun k => if k < dyn.length then own k else if k = dyn.length then 0 else 10 + E), rfl, ?_, ?_⟩
                  · rw [sp_engine, if_neg (show ¬ 0 < spT (nI y) τ by rw [spT_ok hy hn e3]; decide), if_neg (fun z => z spE), ix_nI (by omega), e3, if_neg (fun z => absurd ((nI_ltN (by omega) (by omega)).mp z) (by omega)), ix_nI (by omega), if_neg (fun z => z hz), if_neg (fun z => h132 (by rw [eE] at z; exact (nI_eqN (b := 4) (by omega) (by omega)).mp z)), eE]
                    rfl
                  · rw [sp_engine, if_neg (show ¬ 0 < spT (nI y) τ by rw [spT_ok hy hn e3]; decide), if_neg (fun z => z spE), ix_nI (by omega), e3, if_neg (fun z => absurd ((nI_ltN (by omega) (by omega)).mp z) (by omega)), ix_nI (by omega), if_neg (fun z => z hz), if_neg (fun z => h132 (by rw [eE] at z; exact (nI_eqN (b := 4) (by omega) (by omega)).mp z)), eE, ix_nI (show E < 2147483648 by omega), show nI E + 1 = nI (E + 1) from nI_add _ 1, tA_b0, tA_b0, tA_b0, b0_5]
                    have hR9 := (hRel.newE (A := A) (W := W) (rv := (fun k => (τ.2.2.2 4 (60 * y + k)).toInt32)) hEq hE4 ⟨hA2, hA7⟩ ⟨hW1, hW12⟩ (fun i hi => by
                      have h9 := of_decide_eq_true ((allB_iff.mp hz) i hi)
                      exact i64r h9.1 h9.2) (c0 := (.inl (0, 12, .inl (rngI (fun _ => 0) 0 W (fun k => (τ.2.2.2 4 (60 * y + k)).toInt32))) : ACell)) (η := e0 A W (cpV (rngI (fun _ => 0) 0 W (fun k => (τ.2.2.2 4 (60 * y + k)).toInt32)) (fun _ => 0) 0 0 W)) rfl (fun i hi => by
                        show (cpV (rngI (fun _ => 0) 0 W (fun k => (τ.2.2.2 4 (60 * y + k)).toInt32)) (fun _ => 0) 0 0 W) i = _
                        unfold cpV
                        rw [if_pos (by omega)]
                        unfold rngI
                        rw [if_pos (by omega)]
                        show (τ.2.2.2 4 (60 * y + (0 + (i - 0) - 0))).toInt32 = _
                        rw [show 0 + (i - 0) - 0 = i by omega])).st0
                    exact hR9
                · refine e_aload_n dX0_engine_135 0 rfl rfl rfl ?_
                  refine e_bipush 7 dX0_engine_136 rfl ?_
                  refine e_callV1 (As := [.int 7]) (rest := []) dX0_engine_138 rfl mvX0_169 (xm_o0) rfl (x_none 7) (Nat.le_of_ble_eq_true rfl) rfl rfl (Nat.le_of_ble_eq_true rfl) (Nat.le_of_ble_eq_true rfl) (Nat.le_of_ble_eq_true rfl) ?_
                  refine e_ireturn dX0_engine_141 rfl rfl (Nat.le_of_ble_eq_true rfl) (Nat.le_of_ble_eq_true rfl) ?_
                  refine ⟨_, _, own, rfl, ?_, ?_⟩
                  · rw [sp_engine, if_neg (show ¬ 0 < spT (nI y) τ by rw [spT_ok hy hn e3]; decide), if_neg (fun z => z spE), ix_nI (by omega), e3, if_neg (fun z => absurd ((nI_ltN (by omega) (by omega)).mp z) (by omega)), ix_nI (by omega), if_neg (fun z => z hz), if_pos (by rw [eE, h132]; rfl)]
                  · rw [sp_engine, if_neg (show ¬ 0 < spT (nI y) τ by rw [spT_ok hy hn e3]; decide), if_neg (fun z => z spE), ix_nI (by omega), e3, if_neg (fun z => absurd ((nI_ltN (by omega) (by omega)).mp z) (by omega)), ix_nI (by omega), if_neg (fun z => z hz), if_pos (by rw [eE, h132]; rfl)]; exact hRel.stE 7
              · refine e_aload_n dX0_engine_72 0 rfl rfl rfl ?_
                refine e_iconst 4 dX0_engine_73 rfl ?_
                refine e_callV1 (As := [.int 4]) (rest := []) dX0_engine_74 rfl mvX0_169 (xm_o0) rfl (x_none 4) (Nat.le_of_ble_eq_true rfl) rfl rfl (Nat.le_of_ble_eq_true rfl) (Nat.le_of_ble_eq_true rfl) (Nat.le_of_ble_eq_true rfl) ?_
                refine e_ireturn dX0_engine_77 rfl rfl (Nat.le_of_ble_eq_true rfl) (Nat.le_of_ble_eq_true rfl) ?_
                refine ⟨_, _, own, rfl, ?_, ?_⟩
                · rw [sp_engine, if_neg (show ¬ 0 < spT (nI y) τ by rw [spT_ok hy hn e3]; decide), if_neg (fun z => z spE), ix_nI (by omega), e3, if_pos ((nI_ltN (by omega) (by omega)).mpr (by omega))]
                · rw [sp_engine, if_neg (show ¬ 0 < spT (nI y) τ by rw [spT_ok hy hn e3]; decide), if_neg (fun z => z spE), ix_nI (by omega), e3, if_pos ((nI_ltN (by omega) (by omega)).mpr (by omega))]; exact hRel.stE 4
            · refine e_aload_n dX0_engine_57 0 rfl rfl rfl ?_
              refine e_iconst 5 dX0_engine_58 rfl ?_
              refine e_callV1 (As := [.int 5]) (rest := []) dX0_engine_59 rfl mvX0_169 (xm_o0) rfl (x_none 5) (Nat.le_of_ble_eq_true rfl) rfl rfl (Nat.le_of_ble_eq_true rfl) (Nat.le_of_ble_eq_true rfl) (Nat.le_of_ble_eq_true rfl) ?_
              refine e_ireturn dX0_engine_62 rfl rfl (Nat.le_of_ble_eq_true rfl) (Nat.le_of_ble_eq_true rfl) ?_
              refine ⟨_, _, own, rfl, ?_, ?_⟩
              · rw [sp_engine, if_neg (show ¬ 0 < spT (nI y) τ by rw [spT_ok hy hn e3]; decide), if_pos (fun z => h54 z.2.2)]
              · rw [sp_engine, if_neg (show ¬ 0 < spT (nI y) τ by rw [spT_ok hy hn e3]; decide), if_pos (fun z => h54 z.2.2)]; exact hRel.stE 5
  · have h1 : ¬ (0 ≤ t ∧ t < 4) := h1
    refine e_if_ne_f (by decide) 13 dX0_engine_4 (by decide) ?_
    refine e_aload_n dX0_engine_7 0 rfl rfl rfl ?_
    refine e_iconst 1 dX0_engine_8 rfl ?_
    refine e_callV1 (As := [.int 1]) (rest := []) dX0_engine_9 rfl mvX0_169 (xm_o0) rfl (x_none 1) (Nat.le_of_ble_eq_true rfl) rfl rfl (Nat.le_of_ble_eq_true rfl) (Nat.le_of_ble_eq_true rfl) (Nat.le_of_ble_eq_true rfl) ?_
    refine e_ireturn dX0_engine_12 rfl rfl (Nat.le_of_ble_eq_true rfl) (Nat.le_of_ble_eq_true rfl) ?_
    refine ⟨_, _, own, rfl, ?_, ?_⟩
    · rw [sp_engine, if_pos (show 0 < spT t τ by rw [spT_r h1]; decide)]
    · rw [sp_engine, if_pos (show 0 < spT t τ by rw [spT_r h1]; decide), spT_r h1]; exact hRel.st 1

