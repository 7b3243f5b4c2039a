/-! ===== the component: jumps ===== -/
set_option maxHeartbeats 4000000 in
set_option maxRecDepth 100000 in
/-- WheelTables$Reader.goes -/
theorem x_goes {ξ : Xs} {mid dyn : List ACell} {f : Nat → Int32} {n : Nat} (hn : n ≤ 500) (h102 : ξ.1 102 = nI n) (hf : ξ.2.2.1 100 = f) (hm : mid.length = 61) {t : Tok} (hG : TkG f n t) (hT : TkX t ξ) {K : Int32} {at_ : Nat → Int32} : Ct yX2_goes (ws_ yX2_goes cX2_goes 2 none) 6 0 0 [.ref 4, .ref (117 + dyn.length)] (XM ξ mid (dyn ++ cdB (117 + dyn.length) K at_ 0 0 0)) (fun v N => ∃ r ξ', pzJmp f n t = .inr r ∧ N = XM ξ' mid (dyn ++ cdB (117 + dyn.length) K at_ (lN r.1) (nI r.2.1) (nI t.2.1)) ∧ v = none ∧ SyN ξ ξ' ∧ TkX r.2.2 ξ' ∧ TkG f n r.2.2 ∧ t.2.2.1 ≤ r.2.2.2.1 ∧ (1 ≤ r.1 ∧ r.1 ≤ 40) ∧ r.2.1 ≤ 2) (ErQ (pzJmp f n t) ξ mid dyn) := by
  obtain ⟨h103, h104, h105, h106⟩ := id hT
  obtain ⟨hW4, hW1, hW2, hW3⟩ := hG.1
  have hs4 := srT_le t.1
  have hS := SyN.rf ξ
  refine Ct.of (ini := false) (ls := [some (.ref 4), some (.ref (117 + dyn.length))]) (by decide) (Nat.le_of_ble_eq_true rfl) (fun h => by cases h) rfl ?_
  refine e_aload_n dX2_goes_0 0 rfl rfl rfl ?_
  refine e_aload_n dX2_goes_1 0 rfl rfl rfl ?_
  refine e_getf (v := (.int (ξ.1 103))) dX2_goes_2 rfl fX2_37 (xm_o4) rfl ?_
  refine e_top (congrArg Value.int h103) ?_
  refine e_iconst 3 dX2_goes_5 rfl ?_
  refine e_icmp_neN (srT t.1) 3 13 (by omega) (by omega) dX2_goes_6 (by decide) (fun h6 => ?_) (fun h6 => ?_)
  · refine e_iconst 0 dX2_goes_13 rfl ?_
    refine e_invV (As := [.int 0]) (rest := []) dX2_goes_14 rfl mvX2_91 (xm_o4) rfl (x_need0 hn h102 hf hG hT) (Nat.le_of_ble_eq_true rfl) rfl rfl (Nat.le_of_ble_eq_true rfl) (Nat.zero_le _) (Nat.zero_le _) (fun _ _ h _ => h.elim) (fun cl w9 M9 hx _ => ?_)
    obtain ⟨rfl, rfl, rfl⟩ := hx
    refine ex_out (fun _ h => by cases h) (Nat.zero_le _) (Nat.zero_le _) ?_
    refine ⟨rfl, rfl, (bdT t), _, _, ?_, rfl, ⟨rfl, rfl⟩, (hS.p.I _ (by decide)).I _ (by decide)⟩
    rw [pzJmp, pzCnt, if_pos (fun z => h6 (srT_3.mpr z))]
    rfl
  · refine e_iconst 1 dX2_goes_9 rfl ?_
    refine e_goto 14 dX2_goes_10 (by decide) ?_
    refine e_callV0 (As := [.int 1]) (rest := []) dX2_goes_14 rfl mvX2_91 (xm_o4) rfl (x_need1) (Nat.le_of_ble_eq_true rfl) rfl rfl (Nat.le_of_ble_eq_true rfl) (Nat.zero_le _) (Nat.zero_le _) ?_
    have h2 : t.1 = 2 := srT_3.mp h6
    refine e_aload_n dX2_goes_17 0 rfl rfl rfl ?_
    refine e_getf (v := (.long (ξ.2.1 106))) dX2_goes_18 rfl fX2_33 (xm_o4) rfl ?_
    refine e_top (congrArg Value.long (h106 (Or.inl (srT_3.mp h6)))) ?_
    refine e_lconst 1 dX2_goes_21 rfl ?_
    refine e_lcmp_lt 37 dX2_goes_22 dX2_goes_23 (by decide) (fun h22 => ?_) (fun h22 => ?_)
    · refine e_aload_n dX2_goes_37 0 rfl rfl rfl ?_
      refine e_iconst 4 dX2_goes_38 rfl ?_
      refine e_callV1 (As := [.int 4]) (rest := []) dX2_goes_39 rfl mvX2_79 (xm_o4) rfl (x_fail hn h102 hf hG hT 4) (Nat.le_of_ble_eq_true rfl) rfl rfl (Nat.le_of_ble_eq_true rfl) (Nat.zero_le _) (Nat.zero_le _) ?_
      refine e_athrow dX2_goes_42 xm_o3 rfl ?_
      refine ex_out (fun _ h => by cases h) (Nat.zero_le _) (Nat.zero_le _) ?_
      refine ⟨rfl, rfl, (4, t.2.1), _, _, ?_, rfl, ⟨?_, rfl⟩, (hS.p.I _ (by decide)).I _ (by decide)⟩
      · rw [pzJmp, pzCnt, if_neg (fun z => z h2), if_neg (fun (z : lN 1 ≤ t.2.2.2 ∧ t.2.2.2 ≤ lN 40) => absurd z.1 (Int64.not_le.mpr h22))]
        rfl
      · show (if t.1 = 4 then 1 else 4) = nI 4
        rw [if_neg (by omega)]
        rfl
    · refine e_aload_n dX2_goes_26 0 rfl rfl rfl ?_
      refine e_getf (v := (.long (ξ.2.1 106))) dX2_goes_27 rfl fX2_33 (xm_o4) rfl ?_
      refine e_top (congrArg Value.long (h106 (Or.inl (srT_3.mp h6)))) ?_
      refine e_ldc2 rfl q915 dX2_goes_30 ?_
      refine e_lcmp_le 43 dX2_goes_33 dX2_goes_34 (by decide) (fun h33 => ?_) (fun h33 => ?_)
      · have hlh : lN 1 ≤ t.2.2.2 ∧ t.2.2.2 ≤ lN 40 := ⟨Int64.not_lt.mp h22, h33⟩
        obtain ⟨ev, hv1, hv2⟩ := tv_of (by decide) (by decide) hlh.1 hlh.2
        replace ev : t.2.2.2 = lN (tvN t) := ev
        replace hv1 : 1 ≤ tvN t := hv1
        replace hv2 : tvN t ≤ 40 := hv2
        refine e_aload_n dX2_goes_43 1 rfl rfl rfl ?_
        refine e_aload_n dX2_goes_44 0 rfl rfl rfl ?_
        refine e_getf (v := (.long (ξ.2.1 106))) dX2_goes_45 rfl fX2_33 (xm_o4) rfl ?_
        refine e_top (congrArg Value.long (h106 (Or.inl (srT_3.mp h6)))) ?_
        refine e_top (congrArg Value.long ev) ?_
        refine e_xputL dX2_goes_48 rfl pX2_105 (xc_o hm) (Nat.le_of_ble_eq_true rfl) (xc_sv hm _) ?_
        refine e_aload_n dX2_goes_51 1 rfl rfl rfl ?_
        refine e_aload_n dX2_goes_52 0 rfl rfl rfl ?_
        refine e_getf (v := (.int (ξ.1 104))) dX2_goes_53 rfl fX2_30 (xm_o4) rfl ?_
        refine e_top (congrArg Value.int h104) ?_
        refine e_xputI dX2_goes_56 rfl pX2_108 rfl (xc_o hm) (Nat.le_of_ble_eq_true rfl) (xc_sp hm _) ?_
        refine e_aload_n dX2_goes_59 0 rfl rfl rfl ?_
        refine e_callVQ (As := []) (rest := []) dX2_goes_60 rfl mvX2_85 (xm_o4) rfl (x_next hn h102 hf (p := t.2.2.1) hG.1.2.2.1 h105) (Nat.le_of_ble_eq_true rfl) rfl rfl (Nat.le_of_ble_eq_true rfl) (Nat.zero_le _) (Nat.zero_le _) (fun v0 M0 h0_ _ => ?_)
        obtain ⟨ξ1, rfl, rfl, hS9, hT⟩ := h0_
        obtain ⟨t1, e_t1⟩ : ∃ z, nxT f n t = z := ⟨_, rfl⟩
        replace hS := hS.tr hS9
        replace h102 : ξ1.1 102 = nI n := (hS9.1 102 (by decide)).trans h102
        replace hf : ξ1.2.2.1 100 = f := (congrArg (fun z => z.1 100) hS9.2).trans hf
        have hle9 := (nxT_w (f := f) hG.1).2
        replace hG := hG.nx
        rw [e_t1] at hG hle9
        replace hT : TkX t1 ξ1 := by rw [← e_t1]; exact hT
        obtain ⟨h103, h104, h105, h106⟩ := id hT
        obtain ⟨hW4, hW1, hW2, hW3⟩ := hG.1
        have hs4 := srT_le t1.1
        refine e_aload_n dX2_goes_63 0 rfl rfl rfl ?_
        refine e_ldcS (j := 1) (by decide) rfl rfl dX2_goes_64 ?_
        refine e_callVB (As := [.retAddr 1]) (rest := []) dX2_goes_66 rfl mvX2_130 (xm_o4) rfl (x_isWd1 hn h102 hf hG hT wok_if rfl) (Nat.le_of_ble_eq_true rfl) rfl rfl (Nat.le_of_ble_eq_true rfl) (Nat.zero_le _) (Nat.zero_le _) (fun h66 => ?_) (fun h66 => ?_)
        · refine e_if_ne_t 73 (by decide) dX2_goes_69 (by decide) ?_
          refine e_aload_n dX2_goes_73 0 rfl rfl rfl ?_
          refine e_callVQ (As := []) (rest := []) dX2_goes_74 rfl mvX2_85 (xm_o4) rfl (x_next hn h102 hf (p := t1.2.2.1) hG.1.2.2.1 h105) (Nat.le_of_ble_eq_true rfl) rfl rfl (Nat.le_of_ble_eq_true rfl) (Nat.zero_le _) (Nat.zero_le _) (fun v0 M0 h0_ _ => ?_)
          obtain ⟨ξ2, rfl, rfl, hS9, hT⟩ := h0_
          obtain ⟨t2, e_t2⟩ : ∃ z, nxT f n t1 = z := ⟨_, rfl⟩
          replace hS := hS.tr hS9
          replace h102 : ξ2.1 102 = nI n := (hS9.1 102 (by decide)).trans h102
          replace hf : ξ2.2.2.1 100 = f := (congrArg (fun z => z.1 100) hS9.2).trans hf
          have hle9 := (nxT_w (f := f) hG.1).2
          replace hG := hG.nx
          rw [e_t2] at hG hle9
          replace hT : TkX t2 ξ2 := by rw [← e_t2]; exact hT
          obtain ⟨h103, h104, h105, h106⟩ := id hT
          obtain ⟨hW4, hW1, hW2, hW3⟩ := hG.1
          have hs4 := srT_le t2.1
          refine e_aload_n dX2_goes_77 0 rfl rfl rfl ?_
          refine e_aload_n dX2_goes_78 0 rfl rfl rfl ?_
          refine e_ldcS (j := 2) (by decide) rfl rfl dX2_goes_79 ?_
          refine e_callVB (As := [.retAddr 2]) (rest := [.ref 4]) dX2_goes_81 rfl mvX2_130 (xm_o4) rfl (x_isWd1 hn h102 hf hG hT wok_up rfl) (Nat.le_of_ble_eq_true rfl) rfl rfl (Nat.le_of_ble_eq_true rfl) (Nat.zero_le _) (Nat.zero_le _) (fun h81 => ?_) (fun h81 => ?_)
          · refine e_if_ne_t 96 (by decide) dX2_goes_84 (by decide) ?_
            refine e_iconst 1 dX2_goes_96 rfl ?_
            refine e_goto 101 dX2_goes_97 (by decide) ?_
            refine e_callV0 (As := [.int 1]) (rest := []) dX2_goes_101 rfl mvX2_91 (xm_o4) rfl (x_need1) (Nat.le_of_ble_eq_true rfl) rfl rfl (Nat.le_of_ble_eq_true rfl) (Nat.zero_le _) (Nat.zero_le _) ?_
            refine e_aload_n dX2_goes_104 1 rfl rfl rfl ?_
            refine e_aload_n dX2_goes_105 0 rfl rfl rfl ?_
            refine e_ldcS (j := 2) (by decide) rfl rfl dX2_goes_106 ?_
            refine e_callVB (As := [.retAddr 2]) (rest := [.ref (117 + dyn.length)]) dX2_goes_108 rfl mvX2_130 (xm_o4) rfl (x_isWd1 hn h102 hf hG hT wok_up rfl) (Nat.le_of_ble_eq_true rfl) rfl rfl (Nat.le_of_ble_eq_true rfl) (Nat.zero_le _) (Nat.zero_le _) (fun h108 => ?_) (fun h108 => ?_)
            · refine e_if_eq_f (by decide) 118 dX2_goes_111 (by decide) ?_
              refine e_iconst 1 dX2_goes_114 rfl ?_
              refine e_goto 119 dX2_goes_115 (by decide) ?_
              refine e_xputI dX2_goes_119 rfl pX2_137 rfl (xc_o hm) (Nat.le_of_ble_eq_true rfl) (xc_sw hm _) ?_
              refine e_aload_n dX2_goes_122 0 rfl rfl rfl ?_
              refine e_callVQ (As := []) (rest := []) dX2_goes_123 rfl mvX2_85 (xm_o4) rfl (x_next hn h102 hf (p := t2.2.2.1) hG.1.2.2.1 h105) (Nat.le_of_ble_eq_true rfl) rfl rfl (Nat.le_of_ble_eq_true rfl) (Nat.zero_le _) (Nat.zero_le _) (fun v0 M0 h0_ _ => ?_)
              obtain ⟨ξ3, rfl, rfl, hS9, hT⟩ := h0_
              obtain ⟨t3, e_t3⟩ : ∃ z, nxT f n t2 = z := ⟨_, rfl⟩
              replace hS := hS.tr hS9
              replace h102 : ξ3.1 102 = nI n := (hS9.1 102 (by decide)).trans h102
              replace hf : ξ3.2.2.1 100 = f := (congrArg (fun z => z.1 100) hS9.2).trans hf
              have hle9 := (nxT_w (f := f) hG.1).2
              replace hG := hG.nx
              rw [e_t3] at hG hle9
              replace hT : TkX t3 ξ3 := by rw [← e_t3]; exact hT
              obtain ⟨h103, h104, h105, h106⟩ := id hT
              obtain ⟨hW4, hW1, hW2, hW3⟩ := hG.1
              have hs4 := srT_le t3.1
              refine e_return dX2_goes_126 rfl (Nat.zero_le _) (Nat.zero_le _) ?_
              refine ⟨(tvN t, 1, t3), _, ?_, rfl, rfl, hS, hT, hG, by show t.2.2.1 ≤ t3.2.1; omega, ⟨hv1, hv2⟩, by show 1 ≤ 2; omega⟩
              rw [pzJmp, pzCnt, if_neg (fun z => z h2), if_pos hlh, e_t1]
              show pzJm2 f n (tvN t) t1 = _
              rw [pzJm2, if_pos h66, e_t2, pzIf, if_pos h81, e_t3]
            · exact absurd h81 h108
          · refine e_if_ne_f (by decide) 96 dX2_goes_84 (by decide) ?_
            refine e_aload_n dX2_goes_87 0 rfl rfl rfl ?_
            refine e_ldcS (j := 3) (by decide) rfl rfl dX2_goes_88 ?_
            refine e_callVB (As := [.retAddr 3]) (rest := [.ref 4]) dX2_goes_90 rfl mvX2_130 (xm_o4) rfl (x_isWd1 hn h102 hf hG hT wok_down rfl) (Nat.le_of_ble_eq_true rfl) rfl rfl (Nat.le_of_ble_eq_true rfl) (Nat.zero_le _) (Nat.zero_le _) (fun h90 => ?_) (fun h90 => ?_)
            · refine e_if_eq_f (by decide) 100 dX2_goes_93 (by decide) ?_
              refine e_iconst 1 dX2_goes_96 rfl ?_
              refine e_goto 101 dX2_goes_97 (by decide) ?_
              refine e_callV0 (As := [.int 1]) (rest := []) dX2_goes_101 rfl mvX2_91 (xm_o4) rfl (x_need1) (Nat.le_of_ble_eq_true rfl) rfl rfl (Nat.le_of_ble_eq_true rfl) (Nat.zero_le _) (Nat.zero_le _) ?_
              refine e_aload_n dX2_goes_104 1 rfl rfl rfl ?_
              refine e_aload_n dX2_goes_105 0 rfl rfl rfl ?_
              refine e_ldcS (j := 2) (by decide) rfl rfl dX2_goes_106 ?_
              refine e_callVB (As := [.retAddr 2]) (rest := [.ref (117 + dyn.length)]) dX2_goes_108 rfl mvX2_130 (xm_o4) rfl (x_isWd1 hn h102 hf hG hT wok_up rfl) (Nat.le_of_ble_eq_true rfl) rfl rfl (Nat.le_of_ble_eq_true rfl) (Nat.zero_le _) (Nat.zero_le _) (fun h108 => ?_) (fun h108 => ?_)
              · exact absurd h108 h81
              · refine e_if_eq_t 118 (by decide) dX2_goes_111 (by decide) ?_
                refine e_iconst 2 dX2_goes_118 rfl ?_
                refine e_xputI dX2_goes_119 rfl pX2_137 rfl (xc_o hm) (Nat.le_of_ble_eq_true rfl) (xc_sw hm _) ?_
                refine e_aload_n dX2_goes_122 0 rfl rfl rfl ?_
                refine e_callVQ (As := []) (rest := []) dX2_goes_123 rfl mvX2_85 (xm_o4) rfl (x_next hn h102 hf (p := t2.2.2.1) hG.1.2.2.1 h105) (Nat.le_of_ble_eq_true rfl) rfl rfl (Nat.le_of_ble_eq_true rfl) (Nat.zero_le _) (Nat.zero_le _) (fun v0 M0 h0_ _ => ?_)
                obtain ⟨ξ3, rfl, rfl, hS9, hT⟩ := h0_
                obtain ⟨t3, e_t3⟩ : ∃ z, nxT f n t2 = z := ⟨_, rfl⟩
                replace hS := hS.tr hS9
                replace h102 : ξ3.1 102 = nI n := (hS9.1 102 (by decide)).trans h102
                replace hf : ξ3.2.2.1 100 = f := (congrArg (fun z => z.1 100) hS9.2).trans hf
                have hle9 := (nxT_w (f := f) hG.1).2
                replace hG := hG.nx
                rw [e_t3] at hG hle9
                replace hT : TkX t3 ξ3 := by rw [← e_t3]; exact hT
                obtain ⟨h103, h104, h105, h106⟩ := id hT
                obtain ⟨hW4, hW1, hW2, hW3⟩ := hG.1
                have hs4 := srT_le t3.1
                refine e_return dX2_goes_126 rfl (Nat.zero_le _) (Nat.zero_le _) ?_
                refine ⟨(tvN t, 2, t3), _, ?_, rfl, rfl, hS, hT, hG, by show t.2.2.1 ≤ t3.2.1; omega, ⟨hv1, hv2⟩, by show 2 ≤ 2; omega⟩
                rw [pzJmp, pzCnt, if_neg (fun z => z h2), if_pos hlh, e_t1]
                show pzJm2 f n (tvN t) t1 = _
                rw [pzJm2, if_pos h66, e_t2, pzIf, if_neg h81, if_pos h90, e_t3]
            · refine e_if_eq_t 100 (by decide) dX2_goes_93 (by decide) ?_
              refine e_iconst 0 dX2_goes_100 rfl ?_
              refine e_invV (As := [.int 0]) (rest := []) dX2_goes_101 rfl mvX2_91 (xm_o4) rfl (x_need0 hn h102 hf hG hT) (Nat.le_of_ble_eq_true rfl) rfl rfl (Nat.le_of_ble_eq_true rfl) (Nat.zero_le _) (Nat.zero_le _) (fun _ _ h _ => h.elim) (fun cl w9 M9 hx _ => ?_)
              obtain ⟨rfl, rfl, rfl⟩ := hx
              refine ex_out (fun _ h => by cases h) (Nat.zero_le _) (Nat.zero_le _) ?_
              refine ⟨rfl, rfl, (bdT t2), _, _, ?_, rfl, ⟨rfl, rfl⟩, (hS.p.I _ (by decide)).I _ (by decide)⟩
              rw [pzJmp, pzCnt, if_neg (fun z => z h2), if_pos hlh, e_t1]
              show pzJm2 f n (tvN t) t1 = _
              rw [pzJm2, if_pos h66, e_t2, pzIf, if_neg h81, if_neg h90]
        · refine e_if_ne_f (by decide) 73 dX2_goes_69 (by decide) ?_
          refine e_return dX2_goes_72 rfl (Nat.zero_le _) (Nat.zero_le _) ?_
          refine ⟨(tvN t, 0, t1), _, ?_, rfl, rfl, hS, hT, hG, by show t.2.2.1 ≤ t1.2.1; omega, ⟨hv1, hv2⟩, by show 0 ≤ 2; omega⟩
          rw [pzJmp, pzCnt, if_neg (fun z => z h2), if_pos hlh, e_t1]
          show pzJm2 f n (tvN t) t1 = _
          rw [pzJm2, if_neg h66]
      · refine e_aload_n dX2_goes_37 0 rfl rfl rfl ?_
        refine e_iconst 4 dX2_goes_38 rfl ?_
        refine e_callV1 (As := [.int 4]) (rest := []) dX2_goes_39 rfl mvX2_79 (xm_o4) rfl (x_fail hn h102 hf hG hT 4) (Nat.le_of_ble_eq_true rfl) rfl rfl (Nat.le_of_ble_eq_true rfl) (Nat.zero_le _) (Nat.zero_le _) ?_
        refine e_athrow dX2_goes_42 xm_o3 rfl ?_
        refine ex_out (fun _ h => by cases h) (Nat.zero_le _) (Nat.zero_le _) ?_
        refine ⟨rfl, rfl, (4, t.2.1), _, _, ?_, rfl, ⟨?_, rfl⟩, (hS.p.I _ (by decide)).I _ (by decide)⟩
        · rw [pzJmp, pzCnt, if_neg (fun z => z h2), if_neg (fun (z : lN 1 ≤ t.2.2.2 ∧ t.2.2.2 ≤ lN 40) => absurd z.2 h33)]
          rfl
        · show (if t.1 = 4 then 1 else 4) = nI 4
          rw [if_neg (by omega)]
          rfl

