/-! ===== the component: one card, read ===== -/
set_option maxHeartbeats 4000000 in
set_option maxRecDepth 100000 in
/-- WheelTables$Reader.card -/
theorem x_card {ξ : Xs} {mid dyn : List ACell} {f : Nat → Int32} {n : Nat} (hn : n ≤ 500) (h102 : ξ.1 102 = nI n) (hf : ξ.2.2.1 100 = f) (hm : mid.length = 61) {t : Tok} (hG : TkG f n t) (hT : TkX t ξ) {K : Nat} (hK7 : K ≤ 7) : Ct yX2_card (ws_ yX2_card cX2_card 5 (some (.object "WheelTables$Card"))) 7 2 9 [.ref 4, .int (nI K)] (XM ξ mid dyn) (fun v N => ∃ x ξ' at_ v9 w9 p9, pcX f n K (nxT f n t) = .inr x ∧ N = XM ξ' mid (dyn ++ cdB (117 + dyn.length) (nI K) at_ v9 w9 p9) ∧ v = some (.ref (117 + dyn.length)) ∧ SyN ξ ξ' ∧ TkX x.2 ξ' ∧ TkG f n x.2 ∧ t.2.2.1 ≤ x.2.2.1 ∧ CdM x.1 at_ v9 w9 p9 ∧ x.1.1 = K) (ErQ (pcX f n K (nxT f n t)) ξ mid dyn) := by
  obtain ⟨h103, h104, h105, h106⟩ := id hT
  obtain ⟨hW4, hW1, hW2, hW3⟩ := hG.1
  have hs4 := srT_le t.1
  have hS := SyN.rf ξ
  refine Ct.of (ini := false) (ls := [some (.ref 4), some (.int (nI K)), none, none, none]) (by decide) (Nat.le_of_ble_eq_true rfl) (fun h => by cases h) rfl ?_
  refine e_new (u := 5) (L := (XM ξ mid dyn).length) dX2_card_0 rfl nwX2_102 rfl (Nat.le_of_ble_eq_true rfl) (Nat.le_of_ble_eq_true rfl) rfl ?_
  refine e_dup dX2_card_3 rfl ?_
  refine e_iload_n dX2_card_4 1 rfl rfl ?_
  refine e_callIQ (As := [.int (nI K)]) (rest := [.ref (XM ξ mid dyn).length]) dX2_card_5 rfl miX2_111 (x_cardI (P := XM ξ mid dyn) (nI K)) (Nat.le_of_ble_eq_true rfl) rfl rfl (Nat.le_of_ble_eq_true rfl) (Nat.le_of_ble_eq_true rfl) (Nat.le_of_ble_eq_true rfl) (fun v0 M0 h0_ _ => ?_)
  obtain ⟨rfl, rfl⟩ := h0_
  have hPl : (XM ξ mid dyn).length = 117 + dyn.length := xm_len hm
  refine e_top (congrArg Value.ref hPl) ?_
  refine E_mem (M' := XM ξ mid (dyn ++ cdB (117 + dyn.length) (nI K) (fun _ => 0) 0 0 0)) (by rw [hPl, XM, XM]; simp only [List.append_assoc]) ?_
  refine e_astore_n dX2_card_8 2 rfl (ls_s (ls_1 rfl)) (Nat.le_of_ble_eq_true rfl) rfl ?_
  refine e_aload_n dX2_card_9 0 rfl rfl rfl ?_
  refine e_callVQ (As := []) (rest := []) dX2_card_10 rfl mvX2_85 (xm_o4) rfl (x_next hn h102 hf (p := t.2.2.1) hG.1.2.2.1 h105) (Nat.le_of_ble_eq_true rfl) rfl rfl (Nat.le_of_ble_eq_true rfl) (Nat.le_of_ble_eq_true rfl) (Nat.le_of_ble_eq_true rfl) (fun v0 M0 h0_ _ => ?_)
  obtain ⟨ξ1, rfl, rfl, hS9, hT⟩ := h0_
  obtain ⟨t1, e_t1⟩ : ∃ z, nxT f n t = z := ⟨_, rfl⟩
  replace hS := hS.tr hS9
  replace h102 : ξ1.1 102 = nI n := (hS9.1 102 (by decide)).trans h102
  replace hf : ξ1.2.2.1 100 = f := (congrArg (fun z => z.1 100) hS9.2).trans hf
  have hle_1 := (nxT_w (f := f) hG.1).2
  replace hG := hG.nx
  rw [e_t1] at hG hle_1
  replace hT : TkX t1 ξ1 := by rw [← e_t1]; exact hT
  obtain ⟨h103, h104, h105, h106⟩ := id hT
  obtain ⟨hW4, hW1, hW2, hW3⟩ := hG.1
  have hs4 := srT_le t1.1
  refine e_iload_n dX2_card_13 1 rfl rfl ?_
  refine e_bipush 6 dX2_card_14 rfl ?_
  refine e_icmp_eqN K 6 25 (by omega) (by omega) dX2_card_16 (by decide) (fun h16 => ?_) (fun h16 => ?_)
  · refine e_aload_n dX2_card_25 0 rfl rfl rfl ?_
    refine e_aload_n dX2_card_26 2 rfl rfl rfl ?_
    refine e_invV (As := [.ref (117 + dyn.length)]) (rest := []) dX2_card_27 rfl mvX2_114 (xm_o4) rfl (x_goes hn h102 hf hm hG hT) (Nat.le_of_ble_eq_true rfl) rfl rfl (Nat.le_of_ble_eq_true rfl) (Nat.le_of_ble_eq_true rfl) (Nat.le_of_ble_eq_true rfl) (fun v9 N9 h0_ _ => ?_) (fun cl w9 N9 hx _ => ?_)
    · obtain ⟨r, ξ9, hr, rfl, rfl, hS9, hT9, hG9, hle9, hjb, hj9⟩ := h0_
      refine e_aload_n dX2_card_30 2 rfl rfl rfl ?_
      refine e_areturn dX2_card_31 rfl (by first | exact Or.inl ⟨_, rfl⟩ | exact Or.inr ⟨_, rfl⟩) rfl (Nat.le_of_ble_eq_true rfl) (Nat.le_of_ble_eq_true rfl) ?_
      refine ⟨((K, r.1, 0, 0, 0, r.2.1, 0, t1.2.1), r.2.2), ξ9, _, _, _, _, ?_, rfl, rfl, hS.tr hS9, hT9, hG9, by show t.2.2.1 ≤ r.2.2.2.1; omega, ⟨fun j hj => by
          rcases (show j = 0 ∨ j = 1 ∨ j = 2 ∨ j = 3 by omega) with rfl | rfl | rfl | rfl
          · exact ⟨0, by omega, rfl⟩
          · exact ⟨0, by omega, rfl⟩
          · exact ⟨0, by omega, rfl⟩
          · exact ⟨0, by omega, rfl⟩, fun (z : K = 0) => absurd z (by omega), fun (z : 1 ≤ K ∧ K ≤ 5) => absurd z (by omega), fun (z : 1 ≤ K ∧ K ≤ 4) => absurd z (by omega), fun (z : K = 4) => absurd z (by omega), fun _ => ⟨rfl, rfl, hjb.2⟩, rfl⟩, rfl⟩
      rw [e_t1, pcX, if_pos (by omega), hr]
      rfl
    · obtain ⟨rfl, rfl, e9, ξ9, X9, hr, rfl, hE9, hP9⟩ := hx
      refine ex_out (fun _ h => by cases h) (Nat.le_of_ble_eq_true rfl) (Nat.le_of_ble_eq_true rfl) ?_
      refine ⟨rfl, rfl, e9, ξ9, _, ?_, rfl, hE9, (hS.p.tr hP9)⟩
      rw [pcX, if_pos (by omega), e_t1, hr]
      rfl
  · refine e_iload_n dX2_card_19 1 rfl rfl ?_
    refine e_bipush 7 dX2_card_20 rfl ?_
    refine e_icmp_neN K 7 32 (by omega) (by omega) dX2_card_22 (by decide) (fun h22 => ?_) (fun h22 => ?_)
    · refine e_iload_n dX2_card_32 1 rfl rfl ?_
      refine e_if_eqN K 41 (by omega) dX2_card_33 (by decide) (fun h33 => ?_) (fun h33 => ?_)
      · refine e_iconst 1 dX2_card_41 rfl ?_
        refine e_goto 55 dX2_card_42 (by decide) ?_
        refine e_istore_n dX2_card_55 3 rfl (ls_s (ls_s (ls_1 rfl))) (Nat.le_of_ble_eq_true rfl) ?_
        refine e_iconst 0 dX2_card_56 rfl ?_
        refine e_istore dX2_card_57 (ls_s (ls_s (ls_s (ls_1 rfl)))) (Nat.le_of_ble_eq_true rfl) ?_
        refine e_iload dX2_card_59 rfl ?_
        refine e_iload_n dX2_card_61 3 rfl rfl ?_
        refine e_icmp_ge 121 dX2_card_62 (by decide) (fun h => absurd h (by decide)) (fun _ => ?_)
        refine e_aload_n dX2_card_65 0 rfl rfl rfl ?_
        refine e_aload_n dX2_card_66 0 rfl rfl rfl ?_
        refine e_getf (v := (.int (ξ1.1 103))) dX2_card_67 rfl fX2_37 (xm_o4) rfl ?_
        refine e_top (congrArg Value.int h103) ?_
        refine e_iconst 3 dX2_card_70 rfl ?_
        refine e_icmp_neN (srT t1.1) 3 78 (by omega) (by omega) dX2_card_71 (by decide) (fun h71 => ?_) (fun h71 => ?_)
        · refine e_iconst 0 dX2_card_78 rfl ?_
          refine e_invV (As := [.int 0]) (rest := []) dX2_card_79 rfl mvX2_91 (xm_o4) rfl (x_need0 hn h102 hf hG hT) (Nat.le_of_ble_eq_true rfl) rfl rfl (Nat.le_of_ble_eq_true rfl) (Nat.le_of_ble_eq_true rfl) (Nat.le_of_ble_eq_true rfl) (fun _ _ h _ => h.elim) (fun cl w9 M9 hx _ => ?_)
          obtain ⟨rfl, rfl, rfl⟩ := hx
          refine ex_out (fun _ h => by cases h) (Nat.le_of_ble_eq_true rfl) (Nat.le_of_ble_eq_true rfl) ?_
          have ce : pzCnt f n 0 19 t1 = .inl (bdT t1) := by rw [pzCnt, if_pos (fun z => h71 (srT_3.mpr z))]
          refine ⟨rfl, rfl, bdT t1, _, _, ?_, rfl, ⟨rfl, rfl⟩, (hS.p.I _ (by decide)).I _ (by decide)⟩
          rw [e_t1]
          rw [pcX, if_neg (by omega), pc96, ce]
          rfl
        · refine e_iconst 1 dX2_card_74 rfl ?_
          refine e_goto 79 dX2_card_75 (by decide) ?_
          refine e_callV0 (As := [.int 1]) (rest := []) dX2_card_79 rfl mvX2_91 (xm_o4) rfl (x_need1) (Nat.le_of_ble_eq_true rfl) rfl rfl (Nat.le_of_ble_eq_true rfl) (Nat.le_of_ble_eq_true rfl) (Nat.le_of_ble_eq_true rfl) ?_
          refine e_aload_n dX2_card_82 0 rfl rfl rfl ?_
          refine e_getf (v := (.long (ξ1.2.1 106))) dX2_card_83 rfl fX2_33 (xm_o4) rfl ?_
          refine e_top (congrArg Value.long (h106 (Or.inl (srT_3.mp h71)))) ?_
          refine e_ldc2 rfl q923 dX2_card_86 ?_
          refine e_lcmp_lt 99 dX2_card_89 dX2_card_90 (by decide) (fun h89 => ?_) (fun h89 => ?_)
          · have h2 : t1.1 = 2 := srT_3.mp h71
            have hnum := hG.2.2 h2
            have hbd := nv_bd hnum.1 hnum.2
            have hlh : lN 0 ≤ t1.2.2.2 ∧ t1.2.2.2 ≤ lN 19 := by
              have h9 : t1.2.2.2.toInt < 20 := Int64.lt_iff_toInt_lt.mp h89
              rw [Int64.le_iff_toInt_le, Int64.le_iff_toInt_le, lN_toInt (by decide), lN_toInt (by decide)]
              omega
            have hv19_t1 : tvN t1 ≤ 19 := (tv_of (by decide) (by decide) hlh.1 hlh.2).2.2
            have evi_t1 : t1.2.2.2.toInt32 = nI (tvN t1) := tv_i (by decide) (by decide) hlh.1 hlh.2
            have cn_t1 : pzCnt f n 0 19 t1 = .inr (tvN t1, nxT f n t1) := by rw [pzCnt, if_neg (fun z => z h2), if_pos hlh]
            refine e_aload_n dX2_card_99 2 rfl rfl rfl ?_
            refine e_getf (v := (.ref (117 + dyn.length + 1))) dX2_card_100 rfl fX2_120 (xc_o hm) rfl ?_
            refine e_iload dX2_card_103 rfl ?_
            refine e_aload_n dX2_card_105 0 rfl rfl rfl ?_
            refine e_getf (v := (.long (ξ1.2.1 106))) dX2_card_106 rfl fX2_33 (xm_o4) rfl ?_
            refine e_top (congrArg Value.long (h106 (Or.inl (srT_3.mp h71)))) ?_
            refine e_l2i dX2_card_109 ?_
            refine e_top (w := .int (nI (tvN t1))) (congrArg Value.int evi_t1) ?_
            refine e_iast (f := (fun _ => 0)) (j := 0) dX2_card_110 (xc_a hm) rfl (by omega) (by decide) ?_
            rw [xc_sa hm]
            refine e_aload_n dX2_card_111 0 rfl rfl rfl ?_
            refine e_callVQ (As := []) (rest := []) dX2_card_112 rfl mvX2_85 (xm_o4) rfl (x_next hn h102 hf (p := t1.2.2.1) hG.1.2.2.1 h105) (Nat.le_of_ble_eq_true rfl) rfl rfl (Nat.le_of_ble_eq_true rfl) (Nat.le_of_ble_eq_true rfl) (Nat.le_of_ble_eq_true rfl) (fun v0 M0 h0_ _ => ?_)
            obtain ⟨ξ2, rfl, rfl, hS9, hT⟩ := h0_
            obtain ⟨t2, e_t2⟩ : ∃ z, nxT f n t1 = z := ⟨_, rfl⟩
            replace hS := hS.tr hS9
            replace h102 : ξ2.1 102 = nI n := (hS9.1 102 (by decide)).trans h102
            replace hf : ξ2.2.2.1 100 = f := (congrArg (fun z => z.1 100) hS9.2).trans hf
            have hle_2 := (nxT_w (f := f) hG.1).2
            replace hG := hG.nx
            rw [e_t2] at hG hle_2
            replace hT : TkX t2 ξ2 := by rw [← e_t2]; exact hT
            obtain ⟨h103, h104, h105, h106⟩ := id hT
            obtain ⟨hW4, hW1, hW2, hW3⟩ := hG.1
            have hs4 := srT_le t2.1
            refine e_iinc 1 dX2_card_115 rfl (by decide) (ls_s (ls_s (ls_s (ls_1 rfl)))) (Nat.le_of_ble_eq_true rfl) ?_
            refine e_goto 59 dX2_card_118 (by decide) ?_
            refine e_iload dX2_card_59 rfl ?_
            refine e_iload_n dX2_card_61 3 rfl rfl ?_
            refine e_icmp_ge 121 dX2_card_62 (by decide) (fun _ => ?_) (fun h => absurd h (by decide))
            refine e_iload_n dX2_card_121 1 rfl rfl ?_
            refine e_if_neN K 130 (by omega) dX2_card_122 (by decide) (fun h122 => ?_) (fun h122 => ?_)
            · exact absurd h33 h122
            · refine e_aload_n dX2_card_125 0 rfl rfl rfl ?_
              refine e_aload_n dX2_card_126 2 rfl rfl rfl ?_
              refine e_invV (As := [.ref (117 + dyn.length)]) (rest := []) dX2_card_127 rfl mvX2_123 (xm_o4) rfl (x_whole hn h102 hf hm hG hT) (Nat.le_of_ble_eq_true rfl) rfl rfl (Nat.le_of_ble_eq_true rfl) (Nat.le_of_ble_eq_true rfl) (Nat.le_of_ble_eq_true rfl) (fun v9 N9 h0_ _ => ?_) (fun cl w9 N9 hx _ => ?_)
              · obtain ⟨r, ξ9, hr, rfl, rfl, hS9, hT9, hG9, hle9, hwb⟩ := h0_
                refine e_aload_n dX2_card_130 2 rfl rfl rfl ?_
                refine e_areturn dX2_card_131 rfl (by first | exact Or.inl ⟨_, rfl⟩ | exact Or.inr ⟨_, rfl⟩) rfl (Nat.le_of_ble_eq_true rfl) (Nat.le_of_ble_eq_true rfl) ?_
                refine ⟨((K, tvN t1, 0, 0, 0, 0, r.1, 0), r.2), ξ9, _, _, _, _, ?_, rfl, rfl, hS.tr hS9, hT9, hG9, by show t.2.2.1 ≤ r.2.2.1; omega, ⟨fun j hj => by
                    rcases (show j = 0 ∨ j = 1 ∨ j = 2 ∨ j = 3 by omega) with rfl | rfl | rfl | rfl
                    · exact ⟨tvN t1, by omega, rfl⟩
                    · exact ⟨0, by omega, rfl⟩
                    · exact ⟨0, by omega, rfl⟩
                    · exact ⟨0, by omega, rfl⟩, fun _ => ⟨rfl, rfl, hwb.1, hwb.2⟩, fun (z : 1 ≤ K ∧ K ≤ 5) => absurd z (by omega), fun (z : 1 ≤ K ∧ K ≤ 4) => absurd z (by omega), fun (z : K = 4) => absurd z (by omega), fun (z : 6 ≤ K) => absurd z (by omega), rfl⟩, rfl⟩
                rw [e_t1]
                rw [pcX, if_neg (by omega), pc96, cn_t1]
                show pc109 f n K (tvN t1) (nxT f n t1) = _
                rw [e_t2, pc109, if_pos h33, hr]
                show pc118 f n K (tvN t1) r.1 r.2 = _
                rw [pc118, if_neg (by omega), pc143, if_neg (by omega), pc168, if_neg (by omega)]
              · obtain ⟨rfl, rfl, e9, ξ9, X9, hr, rfl, hE9, hP9⟩ := hx
                refine ex_out (fun _ h => by cases h) (Nat.le_of_ble_eq_true rfl) (Nat.le_of_ble_eq_true rfl) ?_
                refine ⟨rfl, rfl, e9, ξ9, _, ?_, rfl, hE9, (hS.p.tr hP9)⟩
                rw [e_t1]
                rw [pcX, if_neg (by omega), pc96, cn_t1]
                show pc109 f n K (tvN t1) (nxT f n t1) = _
                rw [e_t2, pc109, if_pos h33, hr]
                rfl
          · refine e_aload_n dX2_card_93 0 rfl rfl rfl ?_
            refine e_iconst 4 dX2_card_94 rfl ?_
            refine e_callV1 (As := [.int 4]) (rest := []) dX2_card_95 rfl mvX2_79 (xm_o4) rfl (x_fail hn h102 hf hG hT 4) (Nat.le_of_ble_eq_true rfl) rfl rfl (Nat.le_of_ble_eq_true rfl) (Nat.le_of_ble_eq_true rfl) (Nat.le_of_ble_eq_true rfl) ?_
            refine e_athrow dX2_card_98 xm_o3 rfl ?_
            refine ex_out (fun _ h => by cases h) (Nat.le_of_ble_eq_true rfl) (Nat.le_of_ble_eq_true rfl) ?_
            have h2 : t1.1 = 2 := srT_3.mp h71
            have ce : pzCnt f n 0 19 t1 = .inl (4, t1.2.1) := by
              rw [pzCnt, if_neg (fun z => z h2), if_neg (fun z => ?_)]
              have h9 : ¬ t1.2.2.2.toInt < 20 := fun q => h89 (Int64.lt_iff_toInt_lt.mpr q)
              have h10 := Int64.le_iff_toInt_le.mp z.2
              rw [lN_toInt (by decide)] at h10
              exact h9 (show _ < (20 : Int) by omega)
            refine ⟨rfl, rfl, (4, t1.2.1), _, _, ?_, rfl, ⟨?_, rfl⟩, (hS.p.I _ (by decide)).I _ (by decide)⟩
            · rw [e_t1]
              rw [pcX, if_neg (by omega), pc96, ce]
              rfl
            · show (if t1.1 = 4 then 1 else 4) = nI 4
              rw [if_neg (by omega)]
              rfl
      · refine e_iload_n dX2_card_36 1 rfl rfl ?_
        refine e_iconst 5 dX2_card_37 rfl ?_
        refine e_icmp_neN K 5 45 (by omega) (by omega) dX2_card_38 (by decide) (fun h38 => ?_) (fun h38 => ?_)
        · refine e_iload_n dX2_card_45 1 rfl rfl ?_
          refine e_iconst 4 dX2_card_46 rfl ?_
          refine e_icmp_neN K 4 54 (by omega) (by omega) dX2_card_47 (by decide) (fun h47 => ?_) (fun h47 => ?_)
          · refine e_iconst 3 dX2_card_54 rfl ?_
            refine e_istore_n dX2_card_55 3 rfl (ls_s (ls_s (ls_1 rfl))) (Nat.le_of_ble_eq_true rfl) ?_
            refine e_iconst 0 dX2_card_56 rfl ?_
            refine e_istore dX2_card_57 (ls_s (ls_s (ls_s (ls_1 rfl)))) (Nat.le_of_ble_eq_true rfl) ?_
            refine e_iload dX2_card_59 rfl ?_
            refine e_iload_n dX2_card_61 3 rfl rfl ?_
            refine e_icmp_ge 121 dX2_card_62 (by decide) (fun h => absurd h (by decide)) (fun _ => ?_)
            refine e_aload_n dX2_card_65 0 rfl rfl rfl ?_
            refine e_aload_n dX2_card_66 0 rfl rfl rfl ?_
            refine e_getf (v := (.int (ξ1.1 103))) dX2_card_67 rfl fX2_37 (xm_o4) rfl ?_
            refine e_top (congrArg Value.int h103) ?_
            refine e_iconst 3 dX2_card_70 rfl ?_
            refine e_icmp_neN (srT t1.1) 3 78 (by omega) (by omega) dX2_card_71 (by decide) (fun h71 => ?_) (fun h71 => ?_)
            · refine e_iconst 0 dX2_card_78 rfl ?_
              refine e_invV (As := [.int 0]) (rest := []) dX2_card_79 rfl mvX2_91 (xm_o4) rfl (x_need0 hn h102 hf hG hT) (Nat.le_of_ble_eq_true rfl) rfl rfl (Nat.le_of_ble_eq_true rfl) (Nat.le_of_ble_eq_true rfl) (Nat.le_of_ble_eq_true rfl) (fun _ _ h _ => h.elim) (fun cl w9 M9 hx _ => ?_)
              obtain ⟨rfl, rfl, rfl⟩ := hx
              refine ex_out (fun _ h => by cases h) (Nat.le_of_ble_eq_true rfl) (Nat.le_of_ble_eq_true rfl) ?_
              have ce : pzCnt f n 0 19 t1 = .inl (bdT t1) := by rw [pzCnt, if_pos (fun z => h71 (srT_3.mpr z))]
              refine ⟨rfl, rfl, bdT t1, _, _, ?_, rfl, ⟨rfl, rfl⟩, (hS.p.I _ (by decide)).I _ (by decide)⟩
              rw [e_t1]
              rw [pcX, if_neg (by omega), pc96, ce]
              rfl
            · refine e_iconst 1 dX2_card_74 rfl ?_
              refine e_goto 79 dX2_card_75 (by decide) ?_
              refine e_callV0 (As := [.int 1]) (rest := []) dX2_card_79 rfl mvX2_91 (xm_o4) rfl (x_need1) (Nat.le_of_ble_eq_true rfl) rfl rfl (Nat.le_of_ble_eq_true rfl) (Nat.le_of_ble_eq_true rfl) (Nat.le_of_ble_eq_true rfl) ?_
              refine e_aload_n dX2_card_82 0 rfl rfl rfl ?_
              refine e_getf (v := (.long (ξ1.2.1 106))) dX2_card_83 rfl fX2_33 (xm_o4) rfl ?_
              refine e_top (congrArg Value.long (h106 (Or.inl (srT_3.mp h71)))) ?_
              refine e_ldc2 rfl q923 dX2_card_86 ?_
              refine e_lcmp_lt 99 dX2_card_89 dX2_card_90 (by decide) (fun h89 => ?_) (fun h89 => ?_)
              · have h2 : t1.1 = 2 := srT_3.mp h71
                have hnum := hG.2.2 h2
                have hbd := nv_bd hnum.1 hnum.2
                have hlh : lN 0 ≤ t1.2.2.2 ∧ t1.2.2.2 ≤ lN 19 := by
                  have h9 : t1.2.2.2.toInt < 20 := Int64.lt_iff_toInt_lt.mp h89
                  rw [Int64.le_iff_toInt_le, Int64.le_iff_toInt_le, lN_toInt (by decide), lN_toInt (by decide)]
                  omega
                have hv19_t1 : tvN t1 ≤ 19 := (tv_of (by decide) (by decide) hlh.1 hlh.2).2.2
                have evi_t1 : t1.2.2.2.toInt32 = nI (tvN t1) := tv_i (by decide) (by decide) hlh.1 hlh.2
                have cn_t1 : pzCnt f n 0 19 t1 = .inr (tvN t1, nxT f n t1) := by rw [pzCnt, if_neg (fun z => z h2), if_pos hlh]
                refine e_aload_n dX2_card_99 2 rfl rfl rfl ?_
                refine e_getf (v := (.ref (117 + dyn.length + 1))) dX2_card_100 rfl fX2_120 (xc_o hm) rfl ?_
                refine e_iload dX2_card_103 rfl ?_
                refine e_aload_n dX2_card_105 0 rfl rfl rfl ?_
                refine e_getf (v := (.long (ξ1.2.1 106))) dX2_card_106 rfl fX2_33 (xm_o4) rfl ?_
                refine e_top (congrArg Value.long (h106 (Or.inl (srT_3.mp h71)))) ?_
                refine e_l2i dX2_card_109 ?_
                refine e_top (w := .int (nI (tvN t1))) (congrArg Value.int evi_t1) ?_
                refine e_iast (f := (fun _ => 0)) (j := 0) dX2_card_110 (xc_a hm) rfl (by omega) (by decide) ?_
                rw [xc_sa hm]
                refine e_aload_n dX2_card_111 0 rfl rfl rfl ?_
                refine e_callVQ (As := []) (rest := []) dX2_card_112 rfl mvX2_85 (xm_o4) rfl (x_next hn h102 hf (p := t1.2.2.1) hG.1.2.2.1 h105) (Nat.le_of_ble_eq_true rfl) rfl rfl (Nat.le_of_ble_eq_true rfl) (Nat.le_of_ble_eq_true rfl) (Nat.le_of_ble_eq_true rfl) (fun v0 M0 h0_ _ => ?_)
                obtain ⟨ξ2, rfl, rfl, hS9, hT⟩ := h0_
                obtain ⟨t2, e_t2⟩ : ∃ z, nxT f n t1 = z := ⟨_, rfl⟩
                replace hS := hS.tr hS9
                replace h102 : ξ2.1 102 = nI n := (hS9.1 102 (by decide)).trans h102
                replace hf : ξ2.2.2.1 100 = f := (congrArg (fun z => z.1 100) hS9.2).trans hf
                have hle_2 := (nxT_w (f := f) hG.1).2
                replace hG := hG.nx
                rw [e_t2] at hG hle_2
                replace hT : TkX t2 ξ2 := by rw [← e_t2]; exact hT
                obtain ⟨h103, h104, h105, h106⟩ := id hT
                obtain ⟨hW4, hW1, hW2, hW3⟩ := hG.1
                have hs4 := srT_le t2.1
                refine e_iinc 1 dX2_card_115 rfl (by decide) (ls_s (ls_s (ls_s (ls_1 rfl)))) (Nat.le_of_ble_eq_true rfl) ?_
                refine e_goto 59 dX2_card_118 (by decide) ?_
                refine e_iload dX2_card_59 rfl ?_
                refine e_iload_n dX2_card_61 3 rfl rfl ?_
                refine e_icmp_ge 121 dX2_card_62 (by decide) (fun h => absurd h (by decide)) (fun _ => ?_)
                refine e_aload_n dX2_card_65 0 rfl rfl rfl ?_
                refine e_aload_n dX2_card_66 0 rfl rfl rfl ?_
                refine e_getf (v := (.int (ξ2.1 103))) dX2_card_67 rfl fX2_37 (xm_o4) rfl ?_
                refine e_top (congrArg Value.int h103) ?_
                refine e_iconst 3 dX2_card_70 rfl ?_
                refine e_icmp_neN (srT t2.1) 3 78 (by omega) (by omega) dX2_card_71 (by decide) (fun h71 => ?_) (fun h71 => ?_)
                · refine e_iconst 0 dX2_card_78 rfl ?_
                  refine e_invV (As := [.int 0]) (rest := []) dX2_card_79 rfl mvX2_91 (xm_o4) rfl (x_need0 hn h102 hf hG hT) (Nat.le_of_ble_eq_true rfl) rfl rfl (Nat.le_of_ble_eq_true rfl) (Nat.le_of_ble_eq_true rfl) (Nat.le_of_ble_eq_true rfl) (fun _ _ h _ => h.elim) (fun cl w9 M9 hx _ => ?_)
                  obtain ⟨rfl, rfl, rfl⟩ := hx
                  refine ex_out (fun _ h => by cases h) (Nat.le_of_ble_eq_true rfl) (Nat.le_of_ble_eq_true rfl) ?_
                  have ce : pzCnt f n 0 19 t2 = .inl (bdT t2) := by rw [pzCnt, if_pos (fun z => h71 (srT_3.mpr z))]
                  refine ⟨rfl, rfl, bdT t2, _, _, ?_, rfl, ⟨rfl, rfl⟩, (hS.p.I _ (by decide)).I _ (by decide)⟩
                  rw [e_t1]
                  rw [pcX, if_neg (by omega), pc96, cn_t1]
                  show pc109 f n K (tvN t1) (nxT f n t1) = _
                  rw [e_t2, pc109, if_neg (by omega), pc118, if_pos (by omega), ce]
                  rfl
                · refine e_iconst 1 dX2_card_74 rfl ?_
                  refine e_goto 79 dX2_card_75 (by decide) ?_
                  refine e_callV0 (As := [.int 1]) (rest := []) dX2_card_79 rfl mvX2_91 (xm_o4) rfl (x_need1) (Nat.le_of_ble_eq_true rfl) rfl rfl (Nat.le_of_ble_eq_true rfl) (Nat.le_of_ble_eq_true rfl) (Nat.le_of_ble_eq_true rfl) ?_
                  refine e_aload_n dX2_card_82 0 rfl rfl rfl ?_
                  refine e_getf (v := (.long (ξ2.2.1 106))) dX2_card_83 rfl fX2_33 (xm_o4) rfl ?_
                  refine e_top (congrArg Value.long (h106 (Or.inl (srT_3.mp h71)))) ?_
                  refine e_ldc2 rfl q923 dX2_card_86 ?_
                  refine e_lcmp_lt 99 dX2_card_89 dX2_card_90 (by decide) (fun h89 => ?_) (fun h89 => ?_)
                  · have h2 : t2.1 = 2 := srT_3.mp h71
                    have hnum := hG.2.2 h2
                    have hbd := nv_bd hnum.1 hnum.2
                    have hlh : lN 0 ≤ t2.2.2.2 ∧ t2.2.2.2 ≤ lN 19 := by
                      have h9 : t2.2.2.2.toInt < 20 := Int64.lt_iff_toInt_lt.mp h89
                      rw [Int64.le_iff_toInt_le, Int64.le_iff_toInt_le, lN_toInt (by decide), lN_toInt (by decide)]
                      omega
                    have hv19_t2 : tvN t2 ≤ 19 := (tv_of (by decide) (by decide) hlh.1 hlh.2).2.2
                    have evi_t2 : t2.2.2.2.toInt32 = nI (tvN t2) := tv_i (by decide) (by decide) hlh.1 hlh.2
                    have cn_t2 : pzCnt f n 0 19 t2 = .inr (tvN t2, nxT f n t2) := by rw [pzCnt, if_neg (fun z => z h2), if_pos hlh]
                    refine e_aload_n dX2_card_99 2 rfl rfl rfl ?_
                    refine e_getf (v := (.ref (117 + dyn.length + 1))) dX2_card_100 rfl fX2_120 (xc_o hm) rfl ?_
                    refine e_iload dX2_card_103 rfl ?_
                    refine e_aload_n dX2_card_105 0 rfl rfl rfl ?_
                    refine e_getf (v := (.long (ξ2.2.1 106))) dX2_card_106 rfl fX2_33 (xm_o4) rfl ?_
                    refine e_top (congrArg Value.long (h106 (Or.inl (srT_3.mp h71)))) ?_
                    refine e_l2i dX2_card_109 ?_
                    refine e_top (w := .int (nI (tvN t2))) (congrArg Value.int evi_t2) ?_
                    refine e_iast (f := (upd (fun _ => 0) 0 (nI (tvN t1)))) (j := 1) dX2_card_110 (xc_a hm) rfl (by omega) (by decide) ?_
                    rw [xc_sa hm]
                    refine e_aload_n dX2_card_111 0 rfl rfl rfl ?_
                    refine e_callVQ (As := []) (rest := []) dX2_card_112 rfl mvX2_85 (xm_o4) rfl (x_next hn h102 hf (p := t2.2.2.1) hG.1.2.2.1 h105) (Nat.le_of_ble_eq_true rfl) rfl rfl (Nat.le_of_ble_eq_true rfl) (Nat.le_of_ble_eq_true rfl) (Nat.le_of_ble_eq_true rfl) (fun v0 M0 h0_ _ => ?_)
                    obtain ⟨ξ3, rfl, rfl, hS9, hT⟩ := h0_
                    obtain ⟨t3, e_t3⟩ : ∃ z, nxT f n t2 = z := ⟨_, rfl⟩
                    replace hS := hS.tr hS9
                    replace h102 : ξ3.1 102 = nI n := (hS9.1 102 (by decide)).trans h102
                    replace hf : ξ3.2.2.1 100 = f := (congrArg (fun z => z.1 100) hS9.2).trans hf
                    have hle_3 := (nxT_w (f := f) hG.1).2
                    replace hG := hG.nx
                    rw [e_t3] at hG hle_3
                    replace hT : TkX t3 ξ3 := by rw [← e_t3]; exact hT
                    obtain ⟨h103, h104, h105, h106⟩ := id hT
                    obtain ⟨hW4, hW1, hW2, hW3⟩ := hG.1
                    have hs4 := srT_le t3.1
                    refine e_iinc 2 dX2_card_115 rfl (by decide) (ls_s (ls_s (ls_s (ls_1 rfl)))) (Nat.le_of_ble_eq_true rfl) ?_
                    refine e_goto 59 dX2_card_118 (by decide) ?_
                    refine e_iload dX2_card_59 rfl ?_
                    refine e_iload_n dX2_card_61 3 rfl rfl ?_
                    refine e_icmp_ge 121 dX2_card_62 (by decide) (fun h => absurd h (by decide)) (fun _ => ?_)
                    refine e_aload_n dX2_card_65 0 rfl rfl rfl ?_
                    refine e_aload_n dX2_card_66 0 rfl rfl rfl ?_
                    refine e_getf (v := (.int (ξ3.1 103))) dX2_card_67 rfl fX2_37 (xm_o4) rfl ?_
                    refine e_top (congrArg Value.int h103) ?_
                    refine e_iconst 3 dX2_card_70 rfl ?_
                    refine e_icmp_neN (srT t3.1) 3 78 (by omega) (by omega) dX2_card_71 (by decide) (fun h71 => ?_) (fun h71 => ?_)
                    · refine e_iconst 0 dX2_card_78 rfl ?_
                      refine e_invV (As := [.int 0]) (rest := []) dX2_card_79 rfl mvX2_91 (xm_o4) rfl (x_need0 hn h102 hf hG hT) (Nat.le_of_ble_eq_true rfl) rfl rfl (Nat.le_of_ble_eq_true rfl) (Nat.le_of_ble_eq_true rfl) (Nat.le_of_ble_eq_true rfl) (fun _ _ h _ => h.elim) (fun cl w9 M9 hx _ => ?_)
                      obtain ⟨rfl, rfl, rfl⟩ := hx
                      refine ex_out (fun _ h => by cases h) (Nat.le_of_ble_eq_true rfl) (Nat.le_of_ble_eq_true rfl) ?_
                      have ce : pzCnt f n 0 19 t3 = .inl (bdT t3) := by rw [pzCnt, if_pos (fun z => h71 (srT_3.mpr z))]
                      refine ⟨rfl, rfl, bdT t3, _, _, ?_, rfl, ⟨rfl, rfl⟩, (hS.p.I _ (by decide)).I _ (by decide)⟩
                      rw [e_t1]
                      rw [pcX, if_neg (by omega), pc96, cn_t1]
                      show pc109 f n K (tvN t1) (nxT f n t1) = _
                      rw [e_t2, pc109, if_neg (by omega), pc118, if_pos (by omega), cn_t2]
                      show pc143 f n K (tvN t1) (tvN t2) 0 (nxT f n t2) = _
                      rw [e_t3, pc143, if_pos (by omega), ce]
                      rfl
                    · refine e_iconst 1 dX2_card_74 rfl ?_
                      refine e_goto 79 dX2_card_75 (by decide) ?_
                      refine e_callV0 (As := [.int 1]) (rest := []) dX2_card_79 rfl mvX2_91 (xm_o4) rfl (x_need1) (Nat.le_of_ble_eq_true rfl) rfl rfl (Nat.le_of_ble_eq_true rfl) (Nat.le_of_ble_eq_true rfl) (Nat.le_of_ble_eq_true rfl) ?_
                      refine e_aload_n dX2_card_82 0 rfl rfl rfl ?_
                      refine e_getf (v := (.long (ξ3.2.1 106))) dX2_card_83 rfl fX2_33 (xm_o4) rfl ?_
                      refine e_top (congrArg Value.long (h106 (Or.inl (srT_3.mp h71)))) ?_
                      refine e_ldc2 rfl q923 dX2_card_86 ?_
                      refine e_lcmp_lt 99 dX2_card_89 dX2_card_90 (by decide) (fun h89 => ?_) (fun h89 => ?_)
                      · have h2 : t3.1 = 2 := srT_3.mp h71
                        have hnum := hG.2.2 h2
                        have hbd := nv_bd hnum.1 hnum.2
                        have hlh : lN 0 ≤ t3.2.2.2 ∧ t3.2.2.2 ≤ lN 19 := by
                          have h9 : t3.2.2.2.toInt < 20 := Int64.lt_iff_toInt_lt.mp h89
                          rw [Int64.le_iff_toInt_le, Int64.le_iff_toInt_le, lN_toInt (by decide), lN_toInt (by decide)]
                          omega
                        have hv19_t3 : tvN t3 ≤ 19 := (tv_of (by decide) (by decide) hlh.1 hlh.2).2.2
                        have evi_t3 : t3.2.2.2.toInt32 = nI (tvN t3) := tv_i (by decide) (by decide) hlh.1 hlh.2
                        have cn_t3 : pzCnt f n 0 19 t3 = .inr (tvN t3, nxT f n t3) := by rw [pzCnt, if_neg (fun z => z h2), if_pos hlh]
                        refine e_aload_n dX2_card_99 2 rfl rfl rfl ?_
                        refine e_getf (v := (.ref (117 + dyn.length + 1))) dX2_card_100 rfl fX2_120 (xc_o hm) rfl ?_
                        refine e_iload dX2_card_103 rfl ?_
                        refine e_aload_n dX2_card_105 0 rfl rfl rfl ?_
                        refine e_getf (v := (.long (ξ3.2.1 106))) dX2_card_106 rfl fX2_33 (xm_o4) rfl ?_
                        refine e_top (congrArg Value.long (h106 (Or.inl (srT_3.mp h71)))) ?_
                        refine e_l2i dX2_card_109 ?_
                        refine e_top (w := .int (nI (tvN t3))) (congrArg Value.int evi_t3) ?_
                        refine e_iast (f := (upd (upd (fun _ => 0) 0 (nI (tvN t1))) 1 (nI (tvN t2)))) (j := 2) dX2_card_110 (xc_a hm) rfl (by omega) (by decide) ?_
                        rw [xc_sa hm]
                        refine e_aload_n dX2_card_111 0 rfl rfl rfl ?_
                        refine e_callVQ (As := []) (rest := []) dX2_card_112 rfl mvX2_85 (xm_o4) rfl (x_next hn h102 hf (p := t3.2.2.1) hG.1.2.2.1 h105) (Nat.le_of_ble_eq_true rfl) rfl rfl (Nat.le_of_ble_eq_true rfl) (Nat.le_of_ble_eq_true rfl) (Nat.le_of_ble_eq_true rfl) (fun v0 M0 h0_ _ => ?_)
                        obtain ⟨ξ4, rfl, rfl, hS9, hT⟩ := h0_
                        obtain ⟨t4, e_t4⟩ : ∃ z, nxT f n t3 = z := ⟨_, rfl⟩
                        replace hS := hS.tr hS9
                        replace h102 : ξ4.1 102 = nI n := (hS9.1 102 (by decide)).trans h102
                        replace hf : ξ4.2.2.1 100 = f := (congrArg (fun z => z.1 100) hS9.2).trans hf
                        have hle_4 := (nxT_w (f := f) hG.1).2
                        replace hG := hG.nx
                        rw [e_t4] at hG hle_4
                        replace hT : TkX t4 ξ4 := by rw [← e_t4]; exact hT
                        obtain ⟨h103, h104, h105, h106⟩ := id hT
                        obtain ⟨hW4, hW1, hW2, hW3⟩ := hG.1
                        have hs4 := srT_le t4.1
                        refine e_iinc 3 dX2_card_115 rfl (by decide) (ls_s (ls_s (ls_s (ls_1 rfl)))) (Nat.le_of_ble_eq_true rfl) ?_
                        refine e_goto 59 dX2_card_118 (by decide) ?_
                        refine e_iload dX2_card_59 rfl ?_
                        refine e_iload_n dX2_card_61 3 rfl rfl ?_
                        refine e_icmp_ge 121 dX2_card_62 (by decide) (fun _ => ?_) (fun h => absurd h (by decide))
                        refine e_iload_n dX2_card_121 1 rfl rfl ?_
                        refine e_if_neN K 130 (by omega) dX2_card_122 (by decide) (fun h122 => ?_) (fun h122 => ?_)
                        · refine e_aload_n dX2_card_130 2 rfl rfl rfl ?_
                          refine e_areturn dX2_card_131 rfl (by first | exact Or.inl ⟨_, rfl⟩ | exact Or.inr ⟨_, rfl⟩) rfl (Nat.le_of_ble_eq_true rfl) (Nat.le_of_ble_eq_true rfl) ?_
                          refine ⟨((K, tvN t1, tvN t2, tvN t3, 0, 0, 0, 0), t4), _, _, _, _, _, ?_, rfl, rfl, hS, hT, hG, by show t.2.2.1 ≤ t4.2.1; omega, ⟨fun j hj => by
                              rcases (show j = 0 ∨ j = 1 ∨ j = 2 ∨ j = 3 by omega) with rfl | rfl | rfl | rfl
                              · exact ⟨tvN t1, by omega, rfl⟩
                              · exact ⟨tvN t2, by omega, rfl⟩
                              · exact ⟨tvN t3, by omega, rfl⟩
                              · exact ⟨0, by omega, rfl⟩, fun (z : K = 0) => absurd z (by omega), fun _ => rfl, fun _ => ⟨rfl, rfl⟩, fun (z : K = 4) => absurd z (by omega), fun (z : 6 ≤ K) => absurd z (by omega), rfl⟩, rfl⟩
                          rw [e_t1]
                          rw [pcX, if_neg (by omega), pc96, cn_t1]
                          show pc109 f n K (tvN t1) (nxT f n t1) = _
                          rw [e_t2, pc109, if_neg (by omega), pc118, if_pos (by omega), cn_t2]
                          show pc143 f n K (tvN t1) (tvN t2) 0 (nxT f n t2) = _
                          rw [e_t3, pc143, if_pos (by omega), cn_t3]
                          show pc168 f n K (tvN t1) (tvN t2) (tvN t3) 0 (nxT f n t3) = _
                          rw [e_t4, pc168, if_neg (by omega)]
                        · exact absurd h122 (by omega)
                      · refine e_aload_n dX2_card_93 0 rfl rfl rfl ?_
                        refine e_iconst 4 dX2_card_94 rfl ?_
                        refine e_callV1 (As := [.int 4]) (rest := []) dX2_card_95 rfl mvX2_79 (xm_o4) rfl (x_fail hn h102 hf hG hT 4) (Nat.le_of_ble_eq_true rfl) rfl rfl (Nat.le_of_ble_eq_true rfl) (Nat.le_of_ble_eq_true rfl) (Nat.le_of_ble_eq_true rfl) ?_
                        refine e_athrow dX2_card_98 xm_o3 rfl ?_
                        refine ex_out (fun _ h => by cases h) (Nat.le_of_ble_eq_true rfl) (Nat.le_of_ble_eq_true rfl) ?_
                        have h2 : t3.1 = 2 := srT_3.mp h71
                        have ce : pzCnt f n 0 19 t3 = .inl (4, t3.2.1) := by
                          rw [pzCnt, if_neg (fun z => z h2), if_neg (fun z => ?_)]
                          have h9 : ¬ t3.2.2.2.toInt < 20 := fun q => h89 (Int64.lt_iff_toInt_lt.mpr q)
                          have h10 := Int64.le_iff_toInt_le.mp z.2
                          rw [lN_toInt (by decide)] at h10
                          exact h9 (show _ < (20 : Int) by omega)
                        refine ⟨rfl, rfl, (4, t3.2.1), _, _, ?_, rfl, ⟨?_, rfl⟩, (hS.p.I _ (by decide)).I _ (by decide)⟩
                        · rw [e_t1]
                          rw [pcX, if_neg (by omega), pc96, cn_t1]
                          show pc109 f n K (tvN t1) (nxT f n t1) = _
                          rw [e_t2, pc109, if_neg (by omega), pc118, if_pos (by omega), cn_t2]
                          show pc143 f n K (tvN t1) (tvN t2) 0 (nxT f n t2) = _
                          rw [e_t3, pc143, if_pos (by omega), ce]
                          rfl
                        · show (if t3.1 = 4 then 1 else 4) = nI 4
                          rw [if_neg (by omega)]
                          rfl
                  · refine e_aload_n dX2_card_93 0 rfl rfl rfl ?_
                    refine e_iconst 4 dX2_card_94 rfl ?_
                    refine e_callV1 (As := [.int 4]) (rest := []) dX2_card_95 rfl mvX2_79 (xm_o4) rfl (x_fail hn h102 hf hG hT 4) (Nat.le_of_ble_eq_true rfl) rfl rfl (Nat.le_of_ble_eq_true rfl) (Nat.le_of_ble_eq_true rfl) (Nat.le_of_ble_eq_true rfl) ?_
                    refine e_athrow dX2_card_98 xm_o3 rfl ?_
                    refine ex_out (fun _ h => by cases h) (Nat.le_of_ble_eq_true rfl) (Nat.le_of_ble_eq_true rfl) ?_
                    have h2 : t2.1 = 2 := srT_3.mp h71
                    have ce : pzCnt f n 0 19 t2 = .inl (4, t2.2.1) := by
                      rw [pzCnt, if_neg (fun z => z h2), if_neg (fun z => ?_)]
                      have h9 : ¬ t2.2.2.2.toInt < 20 := fun q => h89 (Int64.lt_iff_toInt_lt.mpr q)
                      have h10 := Int64.le_iff_toInt_le.mp z.2
                      rw [lN_toInt (by decide)] at h10
                      exact h9 (show _ < (20 : Int) by omega)
                    refine ⟨rfl, rfl, (4, t2.2.1), _, _, ?_, rfl, ⟨?_, rfl⟩, (hS.p.I _ (by decide)).I _ (by decide)⟩
                    · rw [e_t1]
                      rw [pcX, if_neg (by omega), pc96, cn_t1]
                      show pc109 f n K (tvN t1) (nxT f n t1) = _
                      rw [e_t2, pc109, if_neg (by omega), pc118, if_pos (by omega), ce]
                      rfl
                    · show (if t2.1 = 4 then 1 else 4) = nI 4
                      rw [if_neg (by omega)]
                      rfl
              · refine e_aload_n dX2_card_93 0 rfl rfl rfl ?_
                refine e_iconst 4 dX2_card_94 rfl ?_
                refine e_callV1 (As := [.int 4]) (rest := []) dX2_card_95 rfl mvX2_79 (xm_o4) rfl (x_fail hn h102 hf hG hT 4) (Nat.le_of_ble_eq_true rfl) rfl rfl (Nat.le_of_ble_eq_true rfl) (Nat.le_of_ble_eq_true rfl) (Nat.le_of_ble_eq_true rfl) ?_
                refine e_athrow dX2_card_98 xm_o3 rfl ?_
                refine ex_out (fun _ h => by cases h) (Nat.le_of_ble_eq_true rfl) (Nat.le_of_ble_eq_true rfl) ?_
                have h2 : t1.1 = 2 := srT_3.mp h71
                have ce : pzCnt f n 0 19 t1 = .inl (4, t1.2.1) := by
                  rw [pzCnt, if_neg (fun z => z h2), if_neg (fun z => ?_)]
                  have h9 : ¬ t1.2.2.2.toInt < 20 := fun q => h89 (Int64.lt_iff_toInt_lt.mpr q)
                  have h10 := Int64.le_iff_toInt_le.mp z.2
                  rw [lN_toInt (by decide)] at h10
                  exact h9 (show _ < (20 : Int) by omega)
                refine ⟨rfl, rfl, (4, t1.2.1), _, _, ?_, rfl, ⟨?_, rfl⟩, (hS.p.I _ (by decide)).I _ (by decide)⟩
                · rw [e_t1]
                  rw [pcX, if_neg (by omega), pc96, ce]
                  rfl
                · show (if t1.1 = 4 then 1 else 4) = nI 4
                  rw [if_neg (by omega)]
                  rfl
          · refine e_iconst 4 dX2_card_50 rfl ?_
            refine e_goto 55 dX2_card_51 (by decide) ?_
            refine e_istore_n dX2_card_55 3 rfl (ls_s (ls_s (ls_1 rfl))) (Nat.le_of_ble_eq_true rfl) ?_
            refine e_iconst 0 dX2_card_56 rfl ?_
            refine e_istore dX2_card_57 (ls_s (ls_s (ls_s (ls_1 rfl)))) (Nat.le_of_ble_eq_true rfl) ?_
            refine e_iload dX2_card_59 rfl ?_
            refine e_iload_n dX2_card_61 3 rfl rfl ?_
            refine e_icmp_ge 121 dX2_card_62 (by decide) (fun h => absurd h (by decide)) (fun _ => ?_)
            refine e_aload_n dX2_card_65 0 rfl rfl rfl ?_
            refine e_aload_n dX2_card_66 0 rfl rfl rfl ?_
            refine e_getf (v := (.int (ξ1.1 103))) dX2_card_67 rfl fX2_37 (xm_o4) rfl ?_
            refine e_top (congrArg Value.int h103) ?_
            refine e_iconst 3 dX2_card_70 rfl ?_
            refine e_icmp_neN (srT t1.1) 3 78 (by omega) (by omega) dX2_card_71 (by decide) (fun h71 => ?_) (fun h71 => ?_)
            · refine e_iconst 0 dX2_card_78 rfl ?_
              refine e_invV (As := [.int 0]) (rest := []) dX2_card_79 rfl mvX2_91 (xm_o4) rfl (x_need0 hn h102 hf hG hT) (Nat.le_of_ble_eq_true rfl) rfl rfl (Nat.le_of_ble_eq_true rfl) (Nat.le_of_ble_eq_true rfl) (Nat.le_of_ble_eq_true rfl) (fun _ _ h _ => h.elim) (fun cl w9 M9 hx _ => ?_)
              obtain ⟨rfl, rfl, rfl⟩ := hx
              refine ex_out (fun _ h => by cases h) (Nat.le_of_ble_eq_true rfl) (Nat.le_of_ble_eq_true rfl) ?_
              have ce : pzCnt f n 0 19 t1 = .inl (bdT t1) := by rw [pzCnt, if_pos (fun z => h71 (srT_3.mpr z))]
              refine ⟨rfl, rfl, bdT t1, _, _, ?_, rfl, ⟨rfl, rfl⟩, (hS.p.I _ (by decide)).I _ (by decide)⟩
              rw [e_t1]
              rw [pcX, if_neg (by omega), pc96, ce]
              rfl
            · refine e_iconst 1 dX2_card_74 rfl ?_
              refine e_goto 79 dX2_card_75 (by decide) ?_
              refine e_callV0 (As := [.int 1]) (rest := []) dX2_card_79 rfl mvX2_91 (xm_o4) rfl (x_need1) (Nat.le_of_ble_eq_true rfl) rfl rfl (Nat.le_of_ble_eq_true rfl) (Nat.le_of_ble_eq_true rfl) (Nat.le_of_ble_eq_true rfl) ?_
              refine e_aload_n dX2_card_82 0 rfl rfl rfl ?_
              refine e_getf (v := (.long (ξ1.2.1 106))) dX2_card_83 rfl fX2_33 (xm_o4) rfl ?_
              refine e_top (congrArg Value.long (h106 (Or.inl (srT_3.mp h71)))) ?_
              refine e_ldc2 rfl q923 dX2_card_86 ?_
              refine e_lcmp_lt 99 dX2_card_89 dX2_card_90 (by decide) (fun h89 => ?_) (fun h89 => ?_)
              · have h2 : t1.1 = 2 := srT_3.mp h71
                have hnum := hG.2.2 h2
                have hbd := nv_bd hnum.1 hnum.2
                have hlh : lN 0 ≤ t1.2.2.2 ∧ t1.2.2.2 ≤ lN 19 := by
                  have h9 : t1.2.2.2.toInt < 20 := Int64.lt_iff_toInt_lt.mp h89
                  rw [Int64.le_iff_toInt_le, Int64.le_iff_toInt_le, lN_toInt (by decide), lN_toInt (by decide)]
                  omega
                have hv19_t1 : tvN t1 ≤ 19 := (tv_of (by decide) (by decide) hlh.1 hlh.2).2.2
                have evi_t1 : t1.2.2.2.toInt32 = nI (tvN t1) := tv_i (by decide) (by decide) hlh.1 hlh.2
                have cn_t1 : pzCnt f n 0 19 t1 = .inr (tvN t1, nxT f n t1) := by rw [pzCnt, if_neg (fun z => z h2), if_pos hlh]
                refine e_aload_n dX2_card_99 2 rfl rfl rfl ?_
                refine e_getf (v := (.ref (117 + dyn.length + 1))) dX2_card_100 rfl fX2_120 (xc_o hm) rfl ?_
                refine e_iload dX2_card_103 rfl ?_
                refine e_aload_n dX2_card_105 0 rfl rfl rfl ?_
                refine e_getf (v := (.long (ξ1.2.1 106))) dX2_card_106 rfl fX2_33 (xm_o4) rfl ?_
                refine e_top (congrArg Value.long (h106 (Or.inl (srT_3.mp h71)))) ?_
                refine e_l2i dX2_card_109 ?_
                refine e_top (w := .int (nI (tvN t1))) (congrArg Value.int evi_t1) ?_
                refine e_iast (f := (fun _ => 0)) (j := 0) dX2_card_110 (xc_a hm) rfl (by omega) (by decide) ?_
                rw [xc_sa hm]
                refine e_aload_n dX2_card_111 0 rfl rfl rfl ?_
                refine e_callVQ (As := []) (rest := []) dX2_card_112 rfl mvX2_85 (xm_o4) rfl (x_next hn h102 hf (p := t1.2.2.1) hG.1.2.2.1 h105) (Nat.le_of_ble_eq_true rfl) rfl rfl (Nat.le_of_ble_eq_true rfl) (Nat.le_of_ble_eq_true rfl) (Nat.le_of_ble_eq_true rfl) (fun v0 M0 h0_ _ => ?_)
                obtain ⟨ξ2, rfl, rfl, hS9, hT⟩ := h0_
                obtain ⟨t2, e_t2⟩ : ∃ z, nxT f n t1 = z := ⟨_, rfl⟩
                replace hS := hS.tr hS9
                replace h102 : ξ2.1 102 = nI n := (hS9.1 102 (by decide)).trans h102
                replace hf : ξ2.2.2.1 100 = f := (congrArg (fun z => z.1 100) hS9.2).trans hf
                have hle_2 := (nxT_w (f := f) hG.1).2
                replace hG := hG.nx
                rw [e_t2] at hG hle_2
                replace hT : TkX t2 ξ2 := by rw [← e_t2]; exact hT
                obtain ⟨h103, h104, h105, h106⟩ := id hT
                obtain ⟨hW4, hW1, hW2, hW3⟩ := hG.1
                have hs4 := srT_le t2.1
                refine e_iinc 1 dX2_card_115 rfl (by decide) (ls_s (ls_s (ls_s (ls_1 rfl)))) (Nat.le_of_ble_eq_true rfl) ?_
                refine e_goto 59 dX2_card_118 (by decide) ?_
                refine e_iload dX2_card_59 rfl ?_
                refine e_iload_n dX2_card_61 3 rfl rfl ?_
                refine e_icmp_ge 121 dX2_card_62 (by decide) (fun h => absurd h (by decide)) (fun _ => ?_)
                refine e_aload_n dX2_card_65 0 rfl rfl rfl ?_
                refine e_aload_n dX2_card_66 0 rfl rfl rfl ?_
                refine e_getf (v := (.int (ξ2.1 103))) dX2_card_67 rfl fX2_37 (xm_o4) rfl ?_
                refine e_top (congrArg Value.int h103) ?_
                refine e_iconst 3 dX2_card_70 rfl ?_
                refine e_icmp_neN (srT t2.1) 3 78 (by omega) (by omega) dX2_card_71 (by decide) (fun h71 => ?_) (fun h71 => ?_)
                · refine e_iconst 0 dX2_card_78 rfl ?_
                  refine e_invV (As := [.int 0]) (rest := []) dX2_card_79 rfl mvX2_91 (xm_o4) rfl (x_need0 hn h102 hf hG hT) (Nat.le_of_ble_eq_true rfl) rfl rfl (Nat.le_of_ble_eq_true rfl) (Nat.le_of_ble_eq_true rfl) (Nat.le_of_ble_eq_true rfl) (fun _ _ h _ => h.elim) (fun cl w9 M9 hx _ => ?_)
                  obtain ⟨rfl, rfl, rfl⟩ := hx
                  refine ex_out (fun _ h => by cases h) (Nat.le_of_ble_eq_true rfl) (Nat.le_of_ble_eq_true rfl) ?_
                  have ce : pzCnt f n 0 19 t2 = .inl (bdT t2) := by rw [pzCnt, if_pos (fun z => h71 (srT_3.mpr z))]
                  refine ⟨rfl, rfl, bdT t2, _, _, ?_, rfl, ⟨rfl, rfl⟩, (hS.p.I _ (by decide)).I _ (by decide)⟩
                  rw [e_t1]
                  rw [pcX, if_neg (by omega), pc96, cn_t1]
                  show pc109 f n K (tvN t1) (nxT f n t1) = _
                  rw [e_t2, pc109, if_neg (by omega), pc118, if_pos (by omega), ce]
                  rfl
                · refine e_iconst 1 dX2_card_74 rfl ?_
                  refine e_goto 79 dX2_card_75 (by decide) ?_
                  refine e_callV0 (As := [.int 1]) (rest := []) dX2_card_79 rfl mvX2_91 (xm_o4) rfl (x_need1) (Nat.le_of_ble_eq_true rfl) rfl rfl (Nat.le_of_ble_eq_true rfl) (Nat.le_of_ble_eq_true rfl) (Nat.le_of_ble_eq_true rfl) ?_
                  refine e_aload_n dX2_card_82 0 rfl rfl rfl ?_
                  refine e_getf (v := (.long (ξ2.2.1 106))) dX2_card_83 rfl fX2_33 (xm_o4) rfl ?_
                  refine e_top (congrArg Value.long (h106 (Or.inl (srT_3.mp h71)))) ?_
                  refine e_ldc2 rfl q923 dX2_card_86 ?_
                  refine e_lcmp_lt 99 dX2_card_89 dX2_card_90 (by decide) (fun h89 => ?_) (fun h89 => ?_)
                  · have h2 : t2.1 = 2 := srT_3.mp h71
                    have hnum := hG.2.2 h2
                    have hbd := nv_bd hnum.1 hnum.2
                    have hlh : lN 0 ≤ t2.2.2.2 ∧ t2.2.2.2 ≤ lN 19 := by
                      have h9 : t2.2.2.2.toInt < 20 := Int64.lt_iff_toInt_lt.mp h89
                      rw [Int64.le_iff_toInt_le, Int64.le_iff_toInt_le, lN_toInt (by decide), lN_toInt (by decide)]
                      omega
                    have hv19_t2 : tvN t2 ≤ 19 := (tv_of (by decide) (by decide) hlh.1 hlh.2).2.2
                    have evi_t2 : t2.2.2.2.toInt32 = nI (tvN t2) := tv_i (by decide) (by decide) hlh.1 hlh.2
                    have cn_t2 : pzCnt f n 0 19 t2 = .inr (tvN t2, nxT f n t2) := by rw [pzCnt, if_neg (fun z => z h2), if_pos hlh]
                    refine e_aload_n dX2_card_99 2 rfl rfl rfl ?_
                    refine e_getf (v := (.ref (117 + dyn.length + 1))) dX2_card_100 rfl fX2_120 (xc_o hm) rfl ?_
                    refine e_iload dX2_card_103 rfl ?_
                    refine e_aload_n dX2_card_105 0 rfl rfl rfl ?_
                    refine e_getf (v := (.long (ξ2.2.1 106))) dX2_card_106 rfl fX2_33 (xm_o4) rfl ?_
                    refine e_top (congrArg Value.long (h106 (Or.inl (srT_3.mp h71)))) ?_
                    refine e_l2i dX2_card_109 ?_
                    refine e_top (w := .int (nI (tvN t2))) (congrArg Value.int evi_t2) ?_
                    refine e_iast (f := (upd (fun _ => 0) 0 (nI (tvN t1)))) (j := 1) dX2_card_110 (xc_a hm) rfl (by omega) (by decide) ?_
                    rw [xc_sa hm]
                    refine e_aload_n dX2_card_111 0 rfl rfl rfl ?_
                    refine e_callVQ (As := []) (rest := []) dX2_card_112 rfl mvX2_85 (xm_o4) rfl (x_next hn h102 hf (p := t2.2.2.1) hG.1.2.2.1 h105) (Nat.le_of_ble_eq_true rfl) rfl rfl (Nat.le_of_ble_eq_true rfl) (Nat.le_of_ble_eq_true rfl) (Nat.le_of_ble_eq_true rfl) (fun v0 M0 h0_ _ => ?_)
                    obtain ⟨ξ3, rfl, rfl, hS9, hT⟩ := h0_
                    obtain ⟨t3, e_t3⟩ : ∃ z, nxT f n t2 = z := ⟨_, rfl⟩
                    replace hS := hS.tr hS9
                    replace h102 : ξ3.1 102 = nI n := (hS9.1 102 (by decide)).trans h102
                    replace hf : ξ3.2.2.1 100 = f := (congrArg (fun z => z.1 100) hS9.2).trans hf
                    have hle_3 := (nxT_w (f := f) hG.1).2
                    replace hG := hG.nx
                    rw [e_t3] at hG hle_3
                    replace hT : TkX t3 ξ3 := by rw [← e_t3]; exact hT
                    obtain ⟨h103, h104, h105, h106⟩ := id hT
                    obtain ⟨hW4, hW1, hW2, hW3⟩ := hG.1
                    have hs4 := srT_le t3.1
                    refine e_iinc 2 dX2_card_115 rfl (by decide) (ls_s (ls_s (ls_s (ls_1 rfl)))) (Nat.le_of_ble_eq_true rfl) ?_
                    refine e_goto 59 dX2_card_118 (by decide) ?_
                    refine e_iload dX2_card_59 rfl ?_
                    refine e_iload_n dX2_card_61 3 rfl rfl ?_
                    refine e_icmp_ge 121 dX2_card_62 (by decide) (fun h => absurd h (by decide)) (fun _ => ?_)
                    refine e_aload_n dX2_card_65 0 rfl rfl rfl ?_
                    refine e_aload_n dX2_card_66 0 rfl rfl rfl ?_
                    refine e_getf (v := (.int (ξ3.1 103))) dX2_card_67 rfl fX2_37 (xm_o4) rfl ?_
                    refine e_top (congrArg Value.int h103) ?_
                    refine e_iconst 3 dX2_card_70 rfl ?_
                    refine e_icmp_neN (srT t3.1) 3 78 (by omega) (by omega) dX2_card_71 (by decide) (fun h71 => ?_) (fun h71 => ?_)
                    · refine e_iconst 0 dX2_card_78 rfl ?_
                      refine e_invV (As := [.int 0]) (rest := []) dX2_card_79 rfl mvX2_91 (xm_o4) rfl (x_need0 hn h102 hf hG hT) (Nat.le_of_ble_eq_true rfl) rfl rfl (Nat.le_of_ble_eq_true rfl) (Nat.le_of_ble_eq_true rfl) (Nat.le_of_ble_eq_true rfl) (fun _ _ h _ => h.elim) (fun cl w9 M9 hx _ => ?_)
                      obtain ⟨rfl, rfl, rfl⟩ := hx
                      refine ex_out (fun _ h => by cases h) (Nat.le_of_ble_eq_true rfl) (Nat.le_of_ble_eq_true rfl) ?_
                      have ce : pzCnt f n 0 19 t3 = .inl (bdT t3) := by rw [pzCnt, if_pos (fun z => h71 (srT_3.mpr z))]
                      refine ⟨rfl, rfl, bdT t3, _, _, ?_, rfl, ⟨rfl, rfl⟩, (hS.p.I _ (by decide)).I _ (by decide)⟩
                      rw [e_t1]
                      rw [pcX, if_neg (by omega), pc96, cn_t1]
                      show pc109 f n K (tvN t1) (nxT f n t1) = _
                      rw [e_t2, pc109, if_neg (by omega), pc118, if_pos (by omega), cn_t2]
                      show pc143 f n K (tvN t1) (tvN t2) 0 (nxT f n t2) = _
                      rw [e_t3, pc143, if_pos (by omega), ce]
                      rfl
                    · refine e_iconst 1 dX2_card_74 rfl ?_
                      refine e_goto 79 dX2_card_75 (by decide) ?_
                      refine e_callV0 (As := [.int 1]) (rest := []) dX2_card_79 rfl mvX2_91 (xm_o4) rfl (x_need1) (Nat.le_of_ble_eq_true rfl) rfl rfl (Nat.le_of_ble_eq_true rfl) (Nat.le_of_ble_eq_true rfl) (Nat.le_of_ble_eq_true rfl) ?_
                      refine e_aload_n dX2_card_82 0 rfl rfl rfl ?_
                      refine e_getf (v := (.long (ξ3.2.1 106))) dX2_card_83 rfl fX2_33 (xm_o4) rfl ?_
                      refine e_top (congrArg Value.long (h106 (Or.inl (srT_3.mp h71)))) ?_
                      refine e_ldc2 rfl q923 dX2_card_86 ?_
                      refine e_lcmp_lt 99 dX2_card_89 dX2_card_90 (by decide) (fun h89 => ?_) (fun h89 => ?_)
                      · have h2 : t3.1 = 2 := srT_3.mp h71
                        have hnum := hG.2.2 h2
                        have hbd := nv_bd hnum.1 hnum.2
                        have hlh : lN 0 ≤ t3.2.2.2 ∧ t3.2.2.2 ≤ lN 19 := by
                          have h9 : t3.2.2.2.toInt < 20 := Int64.lt_iff_toInt_lt.mp h89
                          rw [Int64.le_iff_toInt_le, Int64.le_iff_toInt_le, lN_toInt (by decide), lN_toInt (by decide)]
                          omega
                        have hv19_t3 : tvN t3 ≤ 19 := (tv_of (by decide) (by decide) hlh.1 hlh.2).2.2
                        have evi_t3 : t3.2.2.2.toInt32 = nI (tvN t3) := tv_i (by decide) (by decide) hlh.1 hlh.2
                        have cn_t3 : pzCnt f n 0 19 t3 = .inr (tvN t3, nxT f n t3) := by rw [pzCnt, if_neg (fun z => z h2), if_pos hlh]
                        refine e_aload_n dX2_card_99 2 rfl rfl rfl ?_
                        refine e_getf (v := (.ref (117 + dyn.length + 1))) dX2_card_100 rfl fX2_120 (xc_o hm) rfl ?_
                        refine e_iload dX2_card_103 rfl ?_
                        refine e_aload_n dX2_card_105 0 rfl rfl rfl ?_
                        refine e_getf (v := (.long (ξ3.2.1 106))) dX2_card_106 rfl fX2_33 (xm_o4) rfl ?_
                        refine e_top (congrArg Value.long (h106 (Or.inl (srT_3.mp h71)))) ?_
                        refine e_l2i dX2_card_109 ?_
                        refine e_top (w := .int (nI (tvN t3))) (congrArg Value.int evi_t3) ?_
                        refine e_iast (f := (upd (upd (fun _ => 0) 0 (nI (tvN t1))) 1 (nI (tvN t2)))) (j := 2) dX2_card_110 (xc_a hm) rfl (by omega) (by decide) ?_
                        rw [xc_sa hm]
                        refine e_aload_n dX2_card_111 0 rfl rfl rfl ?_
                        refine e_callVQ (As := []) (rest := []) dX2_card_112 rfl mvX2_85 (xm_o4) rfl (x_next hn h102 hf (p := t3.2.2.1) hG.1.2.2.1 h105) (Nat.le_of_ble_eq_true rfl) rfl rfl (Nat.le_of_ble_eq_true rfl) (Nat.le_of_ble_eq_true rfl) (Nat.le_of_ble_eq_true rfl) (fun v0 M0 h0_ _ => ?_)
                        obtain ⟨ξ4, rfl, rfl, hS9, hT⟩ := h0_
                        obtain ⟨t4, e_t4⟩ : ∃ z, nxT f n t3 = z := ⟨_, rfl⟩
                        replace hS := hS.tr hS9
                        replace h102 : ξ4.1 102 = nI n := (hS9.1 102 (by decide)).trans h102
                        replace hf : ξ4.2.2.1 100 = f := (congrArg (fun z => z.1 100) hS9.2).trans hf
                        have hle_4 := (nxT_w (f := f) hG.1).2
                        replace hG := hG.nx
                        rw [e_t4] at hG hle_4
                        replace hT : TkX t4 ξ4 := by rw [← e_t4]; exact hT
                        obtain ⟨h103, h104, h105, h106⟩ := id hT
                        obtain ⟨hW4, hW1, hW2, hW3⟩ := hG.1
                        have hs4 := srT_le t4.1
                        refine e_iinc 3 dX2_card_115 rfl (by decide) (ls_s (ls_s (ls_s (ls_1 rfl)))) (Nat.le_of_ble_eq_true rfl) ?_
                        refine e_goto 59 dX2_card_118 (by decide) ?_
                        refine e_iload dX2_card_59 rfl ?_
                        refine e_iload_n dX2_card_61 3 rfl rfl ?_
                        refine e_icmp_ge 121 dX2_card_62 (by decide) (fun h => absurd h (by decide)) (fun _ => ?_)
                        refine e_aload_n dX2_card_65 0 rfl rfl rfl ?_
                        refine e_aload_n dX2_card_66 0 rfl rfl rfl ?_
                        refine e_getf (v := (.int (ξ4.1 103))) dX2_card_67 rfl fX2_37 (xm_o4) rfl ?_
                        refine e_top (congrArg Value.int h103) ?_
                        refine e_iconst 3 dX2_card_70 rfl ?_
                        refine e_icmp_neN (srT t4.1) 3 78 (by omega) (by omega) dX2_card_71 (by decide) (fun h71 => ?_) (fun h71 => ?_)
                        · refine e_iconst 0 dX2_card_78 rfl ?_
                          refine e_invV (As := [.int 0]) (rest := []) dX2_card_79 rfl mvX2_91 (xm_o4) rfl (x_need0 hn h102 hf hG hT) (Nat.le_of_ble_eq_true rfl) rfl rfl (Nat.le_of_ble_eq_true rfl) (Nat.le_of_ble_eq_true rfl) (Nat.le_of_ble_eq_true rfl) (fun _ _ h _ => h.elim) (fun cl w9 M9 hx _ => ?_)
                          obtain ⟨rfl, rfl, rfl⟩ := hx
                          refine ex_out (fun _ h => by cases h) (Nat.le_of_ble_eq_true rfl) (Nat.le_of_ble_eq_true rfl) ?_
                          have ce : pzCnt f n 0 19 t4 = .inl (bdT t4) := by rw [pzCnt, if_pos (fun z => h71 (srT_3.mpr z))]
                          refine ⟨rfl, rfl, bdT t4, _, _, ?_, rfl, ⟨rfl, rfl⟩, (hS.p.I _ (by decide)).I _ (by decide)⟩
                          rw [e_t1]
                          rw [pcX, if_neg (by omega), pc96, cn_t1]
                          show pc109 f n K (tvN t1) (nxT f n t1) = _
                          rw [e_t2, pc109, if_neg (by omega), pc118, if_pos (by omega), cn_t2]
                          show pc143 f n K (tvN t1) (tvN t2) 0 (nxT f n t2) = _
                          rw [e_t3, pc143, if_pos (by omega), cn_t3]
                          show pc168 f n K (tvN t1) (tvN t2) (tvN t3) 0 (nxT f n t3) = _
                          rw [e_t4, pc168, if_pos (by omega), ce]
                          rfl
                        · refine e_iconst 1 dX2_card_74 rfl ?_
                          refine e_goto 79 dX2_card_75 (by decide) ?_
                          refine e_callV0 (As := [.int 1]) (rest := []) dX2_card_79 rfl mvX2_91 (xm_o4) rfl (x_need1) (Nat.le_of_ble_eq_true rfl) rfl rfl (Nat.le_of_ble_eq_true rfl) (Nat.le_of_ble_eq_true rfl) (Nat.le_of_ble_eq_true rfl) ?_
                          refine e_aload_n dX2_card_82 0 rfl rfl rfl ?_
                          refine e_getf (v := (.long (ξ4.2.1 106))) dX2_card_83 rfl fX2_33 (xm_o4) rfl ?_
                          refine e_top (congrArg Value.long (h106 (Or.inl (srT_3.mp h71)))) ?_
                          refine e_ldc2 rfl q923 dX2_card_86 ?_
                          refine e_lcmp_lt 99 dX2_card_89 dX2_card_90 (by decide) (fun h89 => ?_) (fun h89 => ?_)
                          · have h2 : t4.1 = 2 := srT_3.mp h71
                            have hnum := hG.2.2 h2
                            have hbd := nv_bd hnum.1 hnum.2
                            have hlh : lN 0 ≤ t4.2.2.2 ∧ t4.2.2.2 ≤ lN 19 := by
                              have h9 : t4.2.2.2.toInt < 20 := Int64.lt_iff_toInt_lt.mp h89
                              rw [Int64.le_iff_toInt_le, Int64.le_iff_toInt_le, lN_toInt (by decide), lN_toInt (by decide)]
                              omega
                            have hv19_t4 : tvN t4 ≤ 19 := (tv_of (by decide) (by decide) hlh.1 hlh.2).2.2
                            have evi_t4 : t4.2.2.2.toInt32 = nI (tvN t4) := tv_i (by decide) (by decide) hlh.1 hlh.2
                            have cn_t4 : pzCnt f n 0 19 t4 = .inr (tvN t4, nxT f n t4) := by rw [pzCnt, if_neg (fun z => z h2), if_pos hlh]
                            refine e_aload_n dX2_card_99 2 rfl rfl rfl ?_
                            refine e_getf (v := (.ref (117 + dyn.length + 1))) dX2_card_100 rfl fX2_120 (xc_o hm) rfl ?_
                            refine e_iload dX2_card_103 rfl ?_
                            refine e_aload_n dX2_card_105 0 rfl rfl rfl ?_
                            refine e_getf (v := (.long (ξ4.2.1 106))) dX2_card_106 rfl fX2_33 (xm_o4) rfl ?_
                            refine e_top (congrArg Value.long (h106 (Or.inl (srT_3.mp h71)))) ?_
                            refine e_l2i dX2_card_109 ?_
                            refine e_top (w := .int (nI (tvN t4))) (congrArg Value.int evi_t4) ?_
                            refine e_iast (f := (upd (upd (upd (fun _ => 0) 0 (nI (tvN t1))) 1 (nI (tvN t2))) 2 (nI (tvN t3)))) (j := 3) dX2_card_110 (xc_a hm) rfl (by omega) (by decide) ?_
                            rw [xc_sa hm]
                            refine e_aload_n dX2_card_111 0 rfl rfl rfl ?_
                            refine e_callVQ (As := []) (rest := []) dX2_card_112 rfl mvX2_85 (xm_o4) rfl (x_next hn h102 hf (p := t4.2.2.1) hG.1.2.2.1 h105) (Nat.le_of_ble_eq_true rfl) rfl rfl (Nat.le_of_ble_eq_true rfl) (Nat.le_of_ble_eq_true rfl) (Nat.le_of_ble_eq_true rfl) (fun v0 M0 h0_ _ => ?_)
                            obtain ⟨ξ5, rfl, rfl, hS9, hT⟩ := h0_
                            obtain ⟨t5, e_t5⟩ : ∃ z, nxT f n t4 = z := ⟨_, rfl⟩
                            replace hS := hS.tr hS9
                            replace h102 : ξ5.1 102 = nI n := (hS9.1 102 (by decide)).trans h102
                            replace hf : ξ5.2.2.1 100 = f := (congrArg (fun z => z.1 100) hS9.2).trans hf
                            have hle_5 := (nxT_w (f := f) hG.1).2
                            replace hG := hG.nx
                            rw [e_t5] at hG hle_5
                            replace hT : TkX t5 ξ5 := by rw [← e_t5]; exact hT
                            obtain ⟨h103, h104, h105, h106⟩ := id hT
                            obtain ⟨hW4, hW1, hW2, hW3⟩ := hG.1
                            have hs4 := srT_le t5.1
                            refine e_iinc 4 dX2_card_115 rfl (by decide) (ls_s (ls_s (ls_s (ls_1 rfl)))) (Nat.le_of_ble_eq_true rfl) ?_
                            refine e_goto 59 dX2_card_118 (by decide) ?_
                            refine e_iload dX2_card_59 rfl ?_
                            refine e_iload_n dX2_card_61 3 rfl rfl ?_
                            refine e_icmp_ge 121 dX2_card_62 (by decide) (fun _ => ?_) (fun h => absurd h (by decide))
                            refine e_iload_n dX2_card_121 1 rfl rfl ?_
                            refine e_if_neN K 130 (by omega) dX2_card_122 (by decide) (fun h122 => ?_) (fun h122 => ?_)
                            · refine e_aload_n dX2_card_130 2 rfl rfl rfl ?_
                              refine e_areturn dX2_card_131 rfl (by first | exact Or.inl ⟨_, rfl⟩ | exact Or.inr ⟨_, rfl⟩) rfl (Nat.le_of_ble_eq_true rfl) (Nat.le_of_ble_eq_true rfl) ?_
                              refine ⟨((K, tvN t1, tvN t2, tvN t3, tvN t4, 0, 0, 0), t5), _, _, _, _, _, ?_, rfl, rfl, hS, hT, hG, by show t.2.2.1 ≤ t5.2.1; omega, ⟨fun j hj => by
                                  rcases (show j = 0 ∨ j = 1 ∨ j = 2 ∨ j = 3 by omega) with rfl | rfl | rfl | rfl
                                  · exact ⟨tvN t1, by omega, rfl⟩
                                  · exact ⟨tvN t2, by omega, rfl⟩
                                  · exact ⟨tvN t3, by omega, rfl⟩
                                  · exact ⟨tvN t4, by omega, rfl⟩, fun (z : K = 0) => absurd z (by omega), fun _ => rfl, fun _ => ⟨rfl, rfl⟩, fun _ => rfl, fun (z : 6 ≤ K) => absurd z (by omega), rfl⟩, rfl⟩
                              rw [e_t1]
                              rw [pcX, if_neg (by omega), pc96, cn_t1]
                              show pc109 f n K (tvN t1) (nxT f n t1) = _
                              rw [e_t2, pc109, if_neg (by omega), pc118, if_pos (by omega), cn_t2]
                              show pc143 f n K (tvN t1) (tvN t2) 0 (nxT f n t2) = _
                              rw [e_t3, pc143, if_pos (by omega), cn_t3]
                              show pc168 f n K (tvN t1) (tvN t2) (tvN t3) 0 (nxT f n t3) = _
                              rw [e_t4, pc168, if_pos (by omega), cn_t4]
                              show Sum.inr ((K, tvN t1, tvN t2, tvN t3, tvN t4, 0, 0, 0), nxT f n t4) = _
                              rw [e_t5]
                            · exact absurd h122 (by omega)
                          · refine e_aload_n dX2_card_93 0 rfl rfl rfl ?_
                            refine e_iconst 4 dX2_card_94 rfl ?_
                            refine e_callV1 (As := [.int 4]) (rest := []) dX2_card_95 rfl mvX2_79 (xm_o4) rfl (x_fail hn h102 hf hG hT 4) (Nat.le_of_ble_eq_true rfl) rfl rfl (Nat.le_of_ble_eq_true rfl) (Nat.le_of_ble_eq_true rfl) (Nat.le_of_ble_eq_true rfl) ?_
                            refine e_athrow dX2_card_98 xm_o3 rfl ?_
                            refine ex_out (fun _ h => by cases h) (Nat.le_of_ble_eq_true rfl) (Nat.le_of_ble_eq_true rfl) ?_
                            have h2 : t4.1 = 2 := srT_3.mp h71
                            have ce : pzCnt f n 0 19 t4 = .inl (4, t4.2.1) := by
                              rw [pzCnt, if_neg (fun z => z h2), if_neg (fun z => ?_)]
                              have h9 : ¬ t4.2.2.2.toInt < 20 := fun q => h89 (Int64.lt_iff_toInt_lt.mpr q)
                              have h10 := Int64.le_iff_toInt_le.mp z.2
                              rw [lN_toInt (by decide)] at h10
                              exact h9 (show _ < (20 : Int) by omega)
                            refine ⟨rfl, rfl, (4, t4.2.1), _, _, ?_, rfl, ⟨?_, rfl⟩, (hS.p.I _ (by decide)).I _ (by decide)⟩
                            · rw [e_t1]
                              rw [pcX, if_neg (by omega), pc96, cn_t1]
                              show pc109 f n K (tvN t1) (nxT f n t1) = _
                              rw [e_t2, pc109, if_neg (by omega), pc118, if_pos (by omega), cn_t2]
                              show pc143 f n K (tvN t1) (tvN t2) 0 (nxT f n t2) = _
                              rw [e_t3, pc143, if_pos (by omega), cn_t3]
                              show pc168 f n K (tvN t1) (tvN t2) (tvN t3) 0 (nxT f n t3) = _
                              rw [e_t4, pc168, if_pos (by omega), ce]
                              rfl
                            · show (if t4.1 = 4 then 1 else 4) = nI 4
                              rw [if_neg (by omega)]
                              rfl
                      · refine e_aload_n dX2_card_93 0 rfl rfl rfl ?_
                        refine e_iconst 4 dX2_card_94 rfl ?_
                        refine e_callV1 (As := [.int 4]) (rest := []) dX2_card_95 rfl mvX2_79 (xm_o4) rfl (x_fail hn h102 hf hG hT 4) (Nat.le_of_ble_eq_true rfl) rfl rfl (Nat.le_of_ble_eq_true rfl) (Nat.le_of_ble_eq_true rfl) (Nat.le_of_ble_eq_true rfl) ?_
                        refine e_athrow dX2_card_98 xm_o3 rfl ?_
                        refine ex_out (fun _ h => by cases h) (Nat.le_of_ble_eq_true rfl) (Nat.le_of_ble_eq_true rfl) ?_
                        have h2 : t3.1 = 2 := srT_3.mp h71
                        have ce : pzCnt f n 0 19 t3 = .inl (4, t3.2.1) := by
                          rw [pzCnt, if_neg (fun z => z h2), if_neg (fun z => ?_)]
                          have h9 : ¬ t3.2.2.2.toInt < 20 := fun q => h89 (Int64.lt_iff_toInt_lt.mpr q)
                          have h10 := Int64.le_iff_toInt_le.mp z.2
                          rw [lN_toInt (by decide)] at h10
                          exact h9 (show _ < (20 : Int) by omega)
                        refine ⟨rfl, rfl, (4, t3.2.1), _, _, ?_, rfl, ⟨?_, rfl⟩, (hS.p.I _ (by decide)).I _ (by decide)⟩
                        · rw [e_t1]
                          rw [pcX, if_neg (by omega), pc96, cn_t1]
                          show pc109 f n K (tvN t1) (nxT f n t1) = _
                          rw [e_t2, pc109, if_neg (by omega), pc118, if_pos (by omega), cn_t2]
                          show pc143 f n K (tvN t1) (tvN t2) 0 (nxT f n t2) = _
                          rw [e_t3, pc143, if_pos (by omega), ce]
                          rfl
                        · show (if t3.1 = 4 then 1 else 4) = nI 4
                          rw [if_neg (by omega)]
                          rfl
                  · refine e_aload_n dX2_card_93 0 rfl rfl rfl ?_
                    refine e_iconst 4 dX2_card_94 rfl ?_
                    refine e_callV1 (As := [.int 4]) (rest := []) dX2_card_95 rfl mvX2_79 (xm_o4) rfl (x_fail hn h102 hf hG hT 4) (Nat.le_of_ble_eq_true rfl) rfl rfl (Nat.le_of_ble_eq_true rfl) (Nat.le_of_ble_eq_true rfl) (Nat.le_of_ble_eq_true rfl) ?_
                    refine e_athrow dX2_card_98 xm_o3 rfl ?_
                    refine ex_out (fun _ h => by cases h) (Nat.le_of_ble_eq_true rfl) (Nat.le_of_ble_eq_true rfl) ?_
                    have h2 : t2.1 = 2 := srT_3.mp h71
                    have ce : pzCnt f n 0 19 t2 = .inl (4, t2.2.1) := by
                      rw [pzCnt, if_neg (fun z => z h2), if_neg (fun z => ?_)]
                      have h9 : ¬ t2.2.2.2.toInt < 20 := fun q => h89 (Int64.lt_iff_toInt_lt.mpr q)
                      have h10 := Int64.le_iff_toInt_le.mp z.2
                      rw [lN_toInt (by decide)] at h10
                      exact h9 (show _ < (20 : Int) by omega)
                    refine ⟨rfl, rfl, (4, t2.2.1), _, _, ?_, rfl, ⟨?_, rfl⟩, (hS.p.I _ (by decide)).I _ (by decide)⟩
                    · rw [e_t1]
                      rw [pcX, if_neg (by omega), pc96, cn_t1]
                      show pc109 f n K (tvN t1) (nxT f n t1) = _
                      rw [e_t2, pc109, if_neg (by omega), pc118, if_pos (by omega), ce]
                      rfl
                    · show (if t2.1 = 4 then 1 else 4) = nI 4
                      rw [if_neg (by omega)]
                      rfl
              · refine e_aload_n dX2_card_93 0 rfl rfl rfl ?_
                refine e_iconst 4 dX2_card_94 rfl ?_
                refine e_callV1 (As := [.int 4]) (rest := []) dX2_card_95 rfl mvX2_79 (xm_o4) rfl (x_fail hn h102 hf hG hT 4) (Nat.le_of_ble_eq_true rfl) rfl rfl (Nat.le_of_ble_eq_true rfl) (Nat.le_of_ble_eq_true rfl) (Nat.le_of_ble_eq_true rfl) ?_
                refine e_athrow dX2_card_98 xm_o3 rfl ?_
                refine ex_out (fun _ h => by cases h) (Nat.le_of_ble_eq_true rfl) (Nat.le_of_ble_eq_true rfl) ?_
                have h2 : t1.1 = 2 := srT_3.mp h71
                have ce : pzCnt f n 0 19 t1 = .inl (4, t1.2.1) := by
                  rw [pzCnt, if_neg (fun z => z h2), if_neg (fun z => ?_)]
                  have h9 : ¬ t1.2.2.2.toInt < 20 := fun q => h89 (Int64.lt_iff_toInt_lt.mpr q)
                  have h10 := Int64.le_iff_toInt_le.mp z.2
                  rw [lN_toInt (by decide)] at h10
                  exact h9 (show _ < (20 : Int) by omega)
                refine ⟨rfl, rfl, (4, t1.2.1), _, _, ?_, rfl, ⟨?_, rfl⟩, (hS.p.I _ (by decide)).I _ (by decide)⟩
                · rw [e_t1]
                  rw [pcX, if_neg (by omega), pc96, ce]
                  rfl
                · show (if t1.1 = 4 then 1 else 4) = nI 4
                  rw [if_neg (by omega)]
                  rfl
        · refine e_iconst 1 dX2_card_41 rfl ?_
          refine e_goto 55 dX2_card_42 (by decide) ?_
          refine e_istore_n dX2_card_55 3 rfl (ls_s (ls_s (ls_1 rfl))) (Nat.le_of_ble_eq_true rfl) ?_
          refine e_iconst 0 dX2_card_56 rfl ?_
          refine e_istore dX2_card_57 (ls_s (ls_s (ls_s (ls_1 rfl)))) (Nat.le_of_ble_eq_true rfl) ?_
          refine e_iload dX2_card_59 rfl ?_
          refine e_iload_n dX2_card_61 3 rfl rfl ?_
          refine e_icmp_ge 121 dX2_card_62 (by decide) (fun h => absurd h (by decide)) (fun _ => ?_)
          refine e_aload_n dX2_card_65 0 rfl rfl rfl ?_
          refine e_aload_n dX2_card_66 0 rfl rfl rfl ?_
          refine e_getf (v := (.int (ξ1.1 103))) dX2_card_67 rfl fX2_37 (xm_o4) rfl ?_
          refine e_top (congrArg Value.int h103) ?_
          refine e_iconst 3 dX2_card_70 rfl ?_
          refine e_icmp_neN (srT t1.1) 3 78 (by omega) (by omega) dX2_card_71 (by decide) (fun h71 => ?_) (fun h71 => ?_)
          · refine e_iconst 0 dX2_card_78 rfl ?_
            refine e_invV (As := [.int 0]) (rest := []) dX2_card_79 rfl mvX2_91 (xm_o4) rfl (x_need0 hn h102 hf hG hT) (Nat.le_of_ble_eq_true rfl) rfl rfl (Nat.le_of_ble_eq_true rfl) (Nat.le_of_ble_eq_true rfl) (Nat.le_of_ble_eq_true rfl) (fun _ _ h _ => h.elim) (fun cl w9 M9 hx _ => ?_)
            obtain ⟨rfl, rfl, rfl⟩ := hx
            refine ex_out (fun _ h => by cases h) (Nat.le_of_ble_eq_true rfl) (Nat.le_of_ble_eq_true rfl) ?_
            have ce : pzCnt f n 0 19 t1 = .inl (bdT t1) := by rw [pzCnt, if_pos (fun z => h71 (srT_3.mpr z))]
            refine ⟨rfl, rfl, bdT t1, _, _, ?_, rfl, ⟨rfl, rfl⟩, (hS.p.I _ (by decide)).I _ (by decide)⟩
            rw [e_t1]
            rw [pcX, if_neg (by omega), pc96, ce]
            rfl
          · refine e_iconst 1 dX2_card_74 rfl ?_
            refine e_goto 79 dX2_card_75 (by decide) ?_
            refine e_callV0 (As := [.int 1]) (rest := []) dX2_card_79 rfl mvX2_91 (xm_o4) rfl (x_need1) (Nat.le_of_ble_eq_true rfl) rfl rfl (Nat.le_of_ble_eq_true rfl) (Nat.le_of_ble_eq_true rfl) (Nat.le_of_ble_eq_true rfl) ?_
            refine e_aload_n dX2_card_82 0 rfl rfl rfl ?_
            refine e_getf (v := (.long (ξ1.2.1 106))) dX2_card_83 rfl fX2_33 (xm_o4) rfl ?_
            refine e_top (congrArg Value.long (h106 (Or.inl (srT_3.mp h71)))) ?_
            refine e_ldc2 rfl q923 dX2_card_86 ?_
            refine e_lcmp_lt 99 dX2_card_89 dX2_card_90 (by decide) (fun h89 => ?_) (fun h89 => ?_)
            · have h2 : t1.1 = 2 := srT_3.mp h71
              have hnum := hG.2.2 h2
              have hbd := nv_bd hnum.1 hnum.2
              have hlh : lN 0 ≤ t1.2.2.2 ∧ t1.2.2.2 ≤ lN 19 := by
                have h9 : t1.2.2.2.toInt < 20 := Int64.lt_iff_toInt_lt.mp h89
                rw [Int64.le_iff_toInt_le, Int64.le_iff_toInt_le, lN_toInt (by decide), lN_toInt (by decide)]
                omega
              have hv19_t1 : tvN t1 ≤ 19 := (tv_of (by decide) (by decide) hlh.1 hlh.2).2.2
              have evi_t1 : t1.2.2.2.toInt32 = nI (tvN t1) := tv_i (by decide) (by decide) hlh.1 hlh.2
              have cn_t1 : pzCnt f n 0 19 t1 = .inr (tvN t1, nxT f n t1) := by rw [pzCnt, if_neg (fun z => z h2), if_pos hlh]
              refine e_aload_n dX2_card_99 2 rfl rfl rfl ?_
              refine e_getf (v := (.ref (117 + dyn.length + 1))) dX2_card_100 rfl fX2_120 (xc_o hm) rfl ?_
              refine e_iload dX2_card_103 rfl ?_
              refine e_aload_n dX2_card_105 0 rfl rfl rfl ?_
              refine e_getf (v := (.long (ξ1.2.1 106))) dX2_card_106 rfl fX2_33 (xm_o4) rfl ?_
              refine e_top (congrArg Value.long (h106 (Or.inl (srT_3.mp h71)))) ?_
              refine e_l2i dX2_card_109 ?_
              refine e_top (w := .int (nI (tvN t1))) (congrArg Value.int evi_t1) ?_
              refine e_iast (f := (fun _ => 0)) (j := 0) dX2_card_110 (xc_a hm) rfl (by omega) (by decide) ?_
              rw [xc_sa hm]
              refine e_aload_n dX2_card_111 0 rfl rfl rfl ?_
              refine e_callVQ (As := []) (rest := []) dX2_card_112 rfl mvX2_85 (xm_o4) rfl (x_next hn h102 hf (p := t1.2.2.1) hG.1.2.2.1 h105) (Nat.le_of_ble_eq_true rfl) rfl rfl (Nat.le_of_ble_eq_true rfl) (Nat.le_of_ble_eq_true rfl) (Nat.le_of_ble_eq_true rfl) (fun v0 M0 h0_ _ => ?_)
              obtain ⟨ξ2, rfl, rfl, hS9, hT⟩ := h0_
              obtain ⟨t2, e_t2⟩ : ∃ z, nxT f n t1 = z := ⟨_, rfl⟩
              replace hS := hS.tr hS9
              replace h102 : ξ2.1 102 = nI n := (hS9.1 102 (by decide)).trans h102
              replace hf : ξ2.2.2.1 100 = f := (congrArg (fun z => z.1 100) hS9.2).trans hf
              have hle_2 := (nxT_w (f := f) hG.1).2
              replace hG := hG.nx
              rw [e_t2] at hG hle_2
              replace hT : TkX t2 ξ2 := by rw [← e_t2]; exact hT
              obtain ⟨h103, h104, h105, h106⟩ := id hT
              obtain ⟨hW4, hW1, hW2, hW3⟩ := hG.1
              have hs4 := srT_le t2.1
              refine e_iinc 1 dX2_card_115 rfl (by decide) (ls_s (ls_s (ls_s (ls_1 rfl)))) (Nat.le_of_ble_eq_true rfl) ?_
              refine e_goto 59 dX2_card_118 (by decide) ?_
              refine e_iload dX2_card_59 rfl ?_
              refine e_iload_n dX2_card_61 3 rfl rfl ?_
              refine e_icmp_ge 121 dX2_card_62 (by decide) (fun _ => ?_) (fun h => absurd h (by decide))
              refine e_iload_n dX2_card_121 1 rfl rfl ?_
              refine e_if_neN K 130 (by omega) dX2_card_122 (by decide) (fun h122 => ?_) (fun h122 => ?_)
              · refine e_aload_n dX2_card_130 2 rfl rfl rfl ?_
                refine e_areturn dX2_card_131 rfl (by first | exact Or.inl ⟨_, rfl⟩ | exact Or.inr ⟨_, rfl⟩) rfl (Nat.le_of_ble_eq_true rfl) (Nat.le_of_ble_eq_true rfl) ?_
                refine ⟨((K, tvN t1, 0, 0, 0, 0, 0, 0), t2), _, _, _, _, _, ?_, rfl, rfl, hS, hT, hG, by show t.2.2.1 ≤ t2.2.1; omega, ⟨fun j hj => by
                    rcases (show j = 0 ∨ j = 1 ∨ j = 2 ∨ j = 3 by omega) with rfl | rfl | rfl | rfl
                    · exact ⟨tvN t1, by omega, rfl⟩
                    · exact ⟨0, by omega, rfl⟩
                    · exact ⟨0, by omega, rfl⟩
                    · exact ⟨0, by omega, rfl⟩, fun (z : K = 0) => absurd z (by omega), fun _ => rfl, fun (z : 1 ≤ K ∧ K ≤ 4) => absurd z (by omega), fun (z : K = 4) => absurd z (by omega), fun (z : 6 ≤ K) => absurd z (by omega), rfl⟩, rfl⟩
                rw [e_t1]
                rw [pcX, if_neg (by omega), pc96, cn_t1]
                show pc109 f n K (tvN t1) (nxT f n t1) = _
                rw [e_t2, pc109, if_neg (by omega), pc118, if_neg (by omega), pc143, if_neg (by omega), pc168, if_neg (by omega)]
              · exact absurd h122 (by omega)
            · refine e_aload_n dX2_card_93 0 rfl rfl rfl ?_
              refine e_iconst 4 dX2_card_94 rfl ?_
              refine e_callV1 (As := [.int 4]) (rest := []) dX2_card_95 rfl mvX2_79 (xm_o4) rfl (x_fail hn h102 hf hG hT 4) (Nat.le_of_ble_eq_true rfl) rfl rfl (Nat.le_of_ble_eq_true rfl) (Nat.le_of_ble_eq_true rfl) (Nat.le_of_ble_eq_true rfl) ?_
              refine e_athrow dX2_card_98 xm_o3 rfl ?_
              refine ex_out (fun _ h => by cases h) (Nat.le_of_ble_eq_true rfl) (Nat.le_of_ble_eq_true rfl) ?_
              have h2 : t1.1 = 2 := srT_3.mp h71
              have ce : pzCnt f n 0 19 t1 = .inl (4, t1.2.1) := by
                rw [pzCnt, if_neg (fun z => z h2), if_neg (fun z => ?_)]
                have h9 : ¬ t1.2.2.2.toInt < 20 := fun q => h89 (Int64.lt_iff_toInt_lt.mpr q)
                have h10 := Int64.le_iff_toInt_le.mp z.2
                rw [lN_toInt (by decide)] at h10
                exact h9 (show _ < (20 : Int) by omega)
              refine ⟨rfl, rfl, (4, t1.2.1), _, _, ?_, rfl, ⟨?_, rfl⟩, (hS.p.I _ (by decide)).I _ (by decide)⟩
              · rw [e_t1]
                rw [pcX, if_neg (by omega), pc96, ce]
                rfl
              · show (if t1.1 = 4 then 1 else 4) = nI 4
                rw [if_neg (by omega)]
                rfl
    · refine e_aload_n dX2_card_25 0 rfl rfl rfl ?_
      refine e_aload_n dX2_card_26 2 rfl rfl rfl ?_
      refine e_invV (As := [.ref (117 + dyn.length)]) (rest := []) dX2_card_27 rfl mvX2_114 (xm_o4) rfl (x_goes hn h102 hf hm hG hT) (Nat.le_of_ble_eq_true rfl) rfl rfl (Nat.le_of_ble_eq_true rfl) (Nat.le_of_ble_eq_true rfl) (Nat.le_of_ble_eq_true rfl) (fun v9 N9 h0_ _ => ?_) (fun cl w9 N9 hx _ => ?_)
      · obtain ⟨r, ξ9, hr, rfl, rfl, hS9, hT9, hG9, hle9, hjb, hj9⟩ := h0_
        refine e_aload_n dX2_card_30 2 rfl rfl rfl ?_
        refine e_areturn dX2_card_31 rfl (by first | exact Or.inl ⟨_, rfl⟩ | exact Or.inr ⟨_, rfl⟩) rfl (Nat.le_of_ble_eq_true rfl) (Nat.le_of_ble_eq_true rfl) ?_
        refine ⟨((K, r.1, 0, 0, 0, r.2.1, 0, t1.2.1), r.2.2), ξ9, _, _, _, _, ?_, rfl, rfl, hS.tr hS9, hT9, hG9, by show t.2.2.1 ≤ r.2.2.2.1; omega, ⟨fun j hj => by
            rcases (show j = 0 ∨ j = 1 ∨ j = 2 ∨ j = 3 by omega) with rfl | rfl | rfl | rfl
            · exact ⟨0, by omega, rfl⟩
            · exact ⟨0, by omega, rfl⟩
            · exact ⟨0, by omega, rfl⟩
            · exact ⟨0, by omega, rfl⟩, fun (z : K = 0) => absurd z (by omega), fun (z : 1 ≤ K ∧ K ≤ 5) => absurd z (by omega), fun (z : 1 ≤ K ∧ K ≤ 4) => absurd z (by omega), fun (z : K = 4) => absurd z (by omega), fun _ => ⟨rfl, rfl, hjb.2⟩, rfl⟩, rfl⟩
        rw [e_t1, pcX, if_pos (by omega), hr]
        rfl
      · obtain ⟨rfl, rfl, e9, ξ9, X9, hr, rfl, hE9, hP9⟩ := hx
        refine ex_out (fun _ h => by cases h) (Nat.le_of_ble_eq_true rfl) (Nat.le_of_ble_eq_true rfl) ?_
        refine ⟨rfl, rfl, e9, ξ9, _, ?_, rfl, hE9, (hS.p.tr hP9)⟩
        rw [pcX, if_pos (by omega), e_t1, hr]
        rfl

