/-! ===== the component: all cards (2): the loop ===== -/
set_option maxHeartbeats 4000000 in
set_option maxRecDepth 100000 in
/-- a loop of read -/
theorem x_rd1 {ξ : Xs} {mid dyn : List ACell} {f : Nat → Int32} {n : Nat} (hn : n ≤ 500) (hm : mid.length = 61) {q : Nat} (hq : q = 6 ∨ q = 7) {res : Er ⊕ List Cd} {Qx : Qxun} {Q : Qfun} : ∀ (fuel : Nat) (m : Nat) (cs : List Cd) (t : Tok) (ξ1 : Xs) (D : List ACell), cs.length = m → m ≤ 40 → n < t.2.1 + fuel → ξ1.1 102 = nI n → ξ1.2.2.1 100 = f → TkG f n t → TkX t ξ1 → CdS q ξ1 dyn D cs → SyQ q ξ ξ1 → pzAll f n fuel cs t = res → (∀ e ξ' X, res = .inl e → ErX e ξ' → SyQ q ξ ξ' → Qx RX1 (some 3) (XM ξ' mid (dyn ++ X))) → (∀ m cs ξ' D, cs.length = m → m ≤ 40 → CdS q ξ' dyn D cs → SyQ q ξ ξ' → res = .inr cs → E cX2_read (RX2, (some .int), 5, 8, (80, 360), false, []) Q Qx 80 360 85 [some (.ref 4), some (.int (nI n)), some (.ref q), some (.int (nI m)), none] [] (XM ξ' mid (dyn ++ D))) →
    E cX2_read (RX2, (some .int), 5, 8, (80, 360), false, []) Q Qx (2 * m) (9 * m) 16 [some (.ref 4), some (.int (nI n)), some (.ref q), some (.int (nI m)), none] [] (XM ξ1 mid (dyn ++ D)) := by
  intro fuel
  induction fuel with
  | zero => intro m cs t ξ1 D hl hm40x hf2 h102 hf hG hT hC hY hP hX hE; exact absurd hf2 (by have := hG.1.2.1; have := hG.1.2.2.1; omega)
  | succ fuel ih =>
    intro m cs t ξ1 D hl hm40x hf2 h102 hf hG hT hC hY hP hX hE
    obtain ⟨h103, h104, h105, h106⟩ := id hT
    obtain ⟨hW4, hW1, hW2, hW3⟩ := hG.1
    have hs4 := srT_le t.1
    rw [pzAll] at hP
    refine e_aload_n dX2_read_16 0 rfl rfl rfl ?_
    refine e_getf (v := (.int (ξ1.1 103))) dX2_read_17 rfl fX2_37 (xm_o4) rfl ?_
    refine e_top (congrArg Value.int h103) ?_
    refine e_if_eqN (srT t.1) 85 (by omega) dX2_read_20 (by decide) (fun h20 => ?_) (fun h20 => ?_)
    · rw [if_pos (srT_0.mp h20)] at hP
      refine E_widX (kc' := 80) (ks' := 360) (by omega) (by omega) ?_
      exact hE m cs ξ1 D hl hm40x hC hY hP.symm
    · have ht0 : ¬ t.1 = 0 := fun z => h20 (srT_0.mpr z)
      rw [if_neg ht0, hl] at hP
      have hWp := hW3 ht0
      refine e_aload_n dX2_read_23 0 rfl rfl rfl ?_
      refine e_callVQ (As := []) (rest := []) dX2_read_24 rfl mvX2_88 (xm_o4) rfl (x_kind hn h102 hf hG hT) (Nat.le_of_ble_eq_true rfl) rfl rfl (Nat.le_of_ble_eq_true rfl) (by first | (show 2 * m ≤ 80; omega) | (show 9 * m ≤ 360; omega) | (show 2 * m + 2 ≤ 80; omega) | (show 9 * m + 9 ≤ 360; omega)) (by first | (show 2 * m ≤ 80; omega) | (show 9 * m ≤ 360; omega) | (show 2 * m + 2 ≤ 80; omega) | (show 9 * m + 9 ≤ 360; omega)) (fun v0 M0 h0_ _ => ?_)
      obtain ⟨rfl, rfl⟩ := h0_
      by_cases hk8 : knT t = 8
      · refine e_top (congrArg Value.int (if_pos hk8)) ?_
        refine e_istore dX2_read_27 (ls_s (ls_s (ls_s (ls_1 rfl)))) (Nat.le_of_ble_eq_true rfl) ?_
        refine e_aload_n dX2_read_29 0 rfl rfl rfl ?_
        refine e_iload dX2_read_30 rfl ?_
        refine e_iconst (-1) dX2_read_32 rfl ?_
        refine e_icmp_eq 40 dX2_read_33 (by decide) (fun _ => ?_) (fun h => absurd h (by decide))
        refine e_iconst 0 dX2_read_40 rfl ?_
        refine e_invV (As := [.int 0]) (rest := []) dX2_read_41 rfl mvX2_91 (xm_o4) rfl (x_need0 hn h102 hf hG hT) (Nat.le_of_ble_eq_true rfl) rfl rfl (Nat.le_of_ble_eq_true rfl) (by first | (show 2 * m ≤ 80; omega) | (show 9 * m ≤ 360; omega) | (show 2 * m + 2 ≤ 80; omega) | (show 9 * m + 9 ≤ 360; omega)) (by first | (show 2 * m ≤ 80; omega) | (show 9 * m ≤ 360; omega) | (show 2 * m + 2 ≤ 80; omega) | (show 9 * m + 9 ≤ 360; omega)) (fun _ _ h _ => h.elim) (fun cl w9 M9 hx _ => ?_)
        obtain ⟨rfl, rfl, rfl⟩ := hx
        refine ex_out (fun _ h => by cases h) (by first | (show 2 * m ≤ 80; omega) | (show 9 * m ≤ 360; omega) | (show 2 * m + 2 ≤ 80; omega) | (show 9 * m + 9 ≤ 360; omega)) (by first | (show 2 * m ≤ 80; omega) | (show 9 * m ≤ 360; omega) | (show 2 * m + 2 ≤ 80; omega) | (show 9 * m + 9 ≤ 360; omega)) ?_
        have hpc : pzCard f n m t = .inl (bdT t) := by unfold pzCard; rw [if_pos hk8]
        rw [hpc] at hP
        exact hX (bdT t) _ D hP.symm ⟨rfl, rfl⟩ (hY.tr ((((SyN.rf ξ1).p.I _ (by decide)).I _ (by decide)).q q))
      · have ht1 := knT_1 hk8
        have hkl := knT_le t
        refine e_top (congrArg Value.int (if_neg hk8)) ?_
        refine e_istore dX2_read_27 (ls_s (ls_s (ls_s (ls_1 rfl)))) (Nat.le_of_ble_eq_true rfl) ?_
        refine e_aload_n dX2_read_29 0 rfl rfl rfl ?_
        refine e_iload dX2_read_30 rfl ?_
        refine e_iconst (-1) dX2_read_32 rfl ?_
        refine e_icmp_eq 40 dX2_read_33 (by decide) (fun h33 => ?_) (fun h33 => ?_)
        · exact absurd h33 (nIm1 (by omega))
        · refine e_iconst 1 dX2_read_36 rfl ?_
          refine e_goto 41 dX2_read_37 (by decide) ?_
          refine e_callV0 (As := [.int 1]) (rest := []) dX2_read_41 rfl mvX2_91 (xm_o4) rfl (x_need1) (Nat.le_of_ble_eq_true rfl) rfl rfl (Nat.le_of_ble_eq_true rfl) (by first | (show 2 * m ≤ 80; omega) | (show 9 * m ≤ 360; omega) | (show 2 * m + 2 ≤ 80; omega) | (show 9 * m + 9 ≤ 360; omega)) (by first | (show 2 * m ≤ 80; omega) | (show 9 * m ≤ 360; omega) | (show 2 * m + 2 ≤ 80; omega) | (show 9 * m + 9 ≤ 360; omega)) ?_
          refine e_iload_n dX2_read_44 3 rfl rfl ?_
          refine e_bipush 40 dX2_read_45 rfl ?_
          refine e_icmp_neN m 40 56 (by omega) (by omega) dX2_read_47 (by decide) (fun h47 => ?_) (fun h47 => ?_)
          · have hm40 : ¬ m = 40 := h47
            refine e_aload_n dX2_read_56 2 rfl rfl rfl ?_
            refine e_iload_n dX2_read_57 3 rfl rfl ?_
            refine e_aload_n dX2_read_58 0 rfl rfl rfl ?_
            refine e_iload dX2_read_59 rfl ?_
            refine e_invV (As := [.int (nI (knT t))]) (rest := [.int (nI m), .ref q]) dX2_read_61 rfl mvX2_95 (xm_o4) rfl (x_card hn h102 hf hm hG hT (K := knT t) (by omega)) (Nat.le_of_ble_eq_true rfl) rfl rfl (Nat.le_of_ble_eq_true rfl) (show 2 * m + 2 ≤ 80 by omega) (show 9 * m + 9 ≤ 360 by omega) (fun v9 N9 h0_ _ => ?_) (fun cl w9 N9 hx _ => ?_)
            · obtain ⟨x, ξ2, at_, v9, w9, p9, hx, rfl, rfl, hS2, hT2, hG2, hle2, hM2, hK2⟩ := h0_
              rw [← hK2]
              replace h102 : ξ2.1 102 = nI n := (hS2.1 102 (by decide)).trans h102
              replace hf : ξ2.2.2.1 100 = f := (congrArg (fun z => z.1 100) hS2.2).trans hf
              replace hT := hT2
              replace hG := hG2
              obtain ⟨h103, h104, h105, h106⟩ := id hT
              obtain ⟨hW4x, hW1x, hW2x, hW3x⟩ := hG.1
              have hs4 := srT_le x.2.1
              have hpc := pcX_e (f := f) (n := n) hk8 hm40
              rw [hx] at hpc
              replace hpc : pzCard f n m t = pzEnd f n x.1 x.2 := hpc
              refine e_aast (n := 40) (t := 9) (ci := 7) (j := m) (r := (RX7, TX7, 5)) (f := ξ2.2.2.2.2.1 q) dX2_read_64 (xm_rq hq) (fun _ => rfl) (xc_o (dyn := dyn ++ D) hm) rfl rfl (by omega) (by decide) ?_
              rw [xm_rsq hq]
              obtain ⟨ξ3, hξ3⟩ : ∃ z, xR ξ2 q (va_up (ξ2.2.2.2.2.1 q) m (some (117 + (dyn ++ D).length))) = z := ⟨_, rfl⟩
              replace h102 : ξ3.1 102 = nI n := by rw [← hξ3]; exact h102
              replace hf : ξ3.2.2.1 100 = f := by rw [← hξ3]; exact hf
              replace hT : TkX x.2 ξ3 := by rw [← hξ3]; exact hT
              replace h103 := hT.1
              replace h104 := hT.2.1
              replace h105 := hT.2.2.1
              have hR3 : ξ3.2.2.2.2.1 q = va_up (ξ1.2.2.2.2.1 q) cs.length (some (117 + (dyn ++ D).length)) := by
                rw [← hξ3, hl]
                refine (va_up_self _ _ _).trans ?_
                rw [hS2.2]
              have hY3 : SyQ q ξ ξ3 := by rw [← hξ3]; exact (hY.tr (hS2.p.q q)).tr (SyQ.R q ξ2 _)
              have hC3 := hC.push hR3 hM2
              rw [hξ3]
              refine e_incN m (m + 1) (inc1 _) dX2_read_65 rfl (ls_s (ls_s (ls_1 rfl))) (Nat.le_of_ble_eq_true rfl) ?_
              refine e_aload_n dX2_read_68 0 rfl rfl rfl ?_
              refine e_aload_n dX2_read_69 0 rfl rfl rfl ?_
              refine e_bipush 59 dX2_read_70 rfl ?_
              refine e_callVB (As := [.int 59]) (rest := [.ref 4]) dX2_read_72 rfl mvX2_99 (xm_o4) rfl (x_isC hn h102 hf hG hT (c := 59) (cl := 59) rfl) (Nat.le_of_ble_eq_true rfl) rfl rfl (Nat.le_of_ble_eq_true rfl) (by first | (show 2 * m ≤ 80; omega) | (show 9 * m ≤ 360; omega) | (show 2 * m + 2 ≤ 80; omega) | (show 9 * m + 9 ≤ 360; omega)) (by first | (show 2 * m ≤ 80; omega) | (show 9 * m ≤ 360; omega) | (show 2 * m + 2 ≤ 80; omega) | (show 9 * m + 9 ≤ 360; omega)) (fun h72 => ?_) (fun h72 => ?_)
              · refine e_callV0 (As := [.int 1]) (rest := []) dX2_read_75 rfl mvX2_91 (xm_o4) rfl (x_need1) (Nat.le_of_ble_eq_true rfl) rfl rfl (Nat.le_of_ble_eq_true rfl) (by first | (show 2 * m ≤ 80; omega) | (show 9 * m ≤ 360; omega) | (show 2 * m + 2 ≤ 80; omega) | (show 9 * m + 9 ≤ 360; omega)) (by first | (show 2 * m ≤ 80; omega) | (show 9 * m ≤ 360; omega) | (show 2 * m + 2 ≤ 80; omega) | (show 9 * m + 9 ≤ 360; omega)) ?_
                refine e_aload_n dX2_read_78 0 rfl rfl rfl ?_
                refine e_callVQ (As := []) (rest := []) dX2_read_79 rfl mvX2_85 (xm_o4) rfl (x_next hn h102 hf (p := x.2.2.2.1) hG.1.2.2.1 h105) (Nat.le_of_ble_eq_true rfl) rfl rfl (Nat.le_of_ble_eq_true rfl) (by first | (show 2 * m ≤ 80; omega) | (show 9 * m ≤ 360; omega) | (show 2 * m + 2 ≤ 80; omega) | (show 9 * m + 9 ≤ 360; omega)) (by first | (show 2 * m ≤ 80; omega) | (show 9 * m ≤ 360; omega) | (show 2 * m + 2 ≤ 80; omega) | (show 9 * m + 9 ≤ 360; omega)) (fun v0 M0 h0_ _ => ?_)
                obtain ⟨ξ4, rfl, rfl, hS9, hT⟩ := h0_
                obtain ⟨t4, e_t4⟩ : ∃ z, nxT f n x.2 = z := ⟨_, rfl⟩
                replace h102 : ξ4.1 102 = nI n := (hS9.1 102 (by decide)).trans h102
                replace hf : ξ4.2.2.1 100 = f := (congrArg (fun z => z.1 100) hS9.2).trans hf
                have hle9 := (nxT_w (f := f) hG.1).2
                replace hG := hG.nx
                rw [e_t4] at hG hle9
                replace hT : TkX t4 ξ4 := by rw [← e_t4]; exact hT
                obtain ⟨h103, h104, h105, h106⟩ := id hT
                obtain ⟨hW4, hW1, hW2, hW3⟩ := hG.1
                have hs4 := srT_le t4.1
                refine e_goto 16 dX2_read_82 (by decide) ?_
                refine e_forget (i := 4) (ln_s (ln_s (ln_s (ln_s ln_0)))) ?_
                rw [hpc, pzEnd, if_pos h72] at hP
                replace hP : pzAll f n fuel (cs ++ [x.1]) (nxT f n x.2) = res := hP
                rw [e_t4] at hP
                rw [List.append_assoc]
                refine E_widX (kc' := 2 * (m + 1)) (ks' := 9 * (m + 1)) (show 2 * m + 2 ≤ 2 * (m + 1) by omega) (show 9 * m + 9 ≤ 9 * (m + 1) by omega) ?_
                refine ih (m + 1) (cs ++ [x.1]) t4 ξ4 (D ++ cdB (117 + (dyn ++ D).length) (nI x.1.1) at_ v9 w9 p9) ?_ (by omega) (by omega) h102 hf hG hT (hC3.cg (by rw [hS9.2])) (hY3.tr (hS9.p.q q)) hP hX hE
                rw [List.length_append, hl]
                rfl
              · refine e_invV (As := [.int 0]) (rest := []) dX2_read_75 rfl mvX2_91 (xm_o4) rfl (x_need0 hn h102 hf hG hT) (Nat.le_of_ble_eq_true rfl) rfl rfl (Nat.le_of_ble_eq_true rfl) (by first | (show 2 * m ≤ 80; omega) | (show 9 * m ≤ 360; omega) | (show 2 * m + 2 ≤ 80; omega) | (show 9 * m + 9 ≤ 360; omega)) (by first | (show 2 * m ≤ 80; omega) | (show 9 * m ≤ 360; omega) | (show 2 * m + 2 ≤ 80; omega) | (show 9 * m + 9 ≤ 360; omega)) (fun _ _ h _ => h.elim) (fun cl w9 M9 hx _ => ?_)
                obtain ⟨rfl, rfl, rfl⟩ := hx
                refine ex_out (fun _ h => by cases h) (by first | (show 2 * m ≤ 80; omega) | (show 9 * m ≤ 360; omega) | (show 2 * m + 2 ≤ 80; omega) | (show 9 * m + 9 ≤ 360; omega)) (by first | (show 2 * m ≤ 80; omega) | (show 9 * m ≤ 360; omega) | (show 2 * m + 2 ≤ 80; omega) | (show 9 * m + 9 ≤ 360; omega)) ?_
                rw [hpc, pzEnd, if_neg h72] at hP
                rw [List.append_assoc]
                exact hX (bdT x.2) _ _ hP.symm ⟨rfl, rfl⟩ (hY3.tr ((((SyN.rf ξ3).p.I _ (by decide)).I _ (by decide)).q q))
            · obtain ⟨rfl, rfl, e9, ξ9, X9, hx, rfl, hE9, hP9⟩ := hx
              refine ex_out (fun _ h => by cases h) (by first | (show 2 * m ≤ 80; omega) | (show 9 * m ≤ 360; omega) | (show 2 * m + 2 ≤ 80; omega) | (show 9 * m + 9 ≤ 360; omega)) (by first | (show 2 * m ≤ 80; omega) | (show 9 * m ≤ 360; omega) | (show 2 * m + 2 ≤ 80; omega) | (show 9 * m + 9 ≤ 360; omega)) ?_
              have hpc := pcX_e (f := f) (n := n) hk8 hm40
              rw [hx] at hpc
              rw [show pzCard f n m t = .inl e9 from hpc] at hP
              rw [List.append_assoc]
              exact hX e9 ξ9 (D ++ X9) hP.symm hE9 (hY.tr (hP9.q q))
          · refine e_aload_n dX2_read_50 0 rfl rfl rfl ?_
            refine e_iconst 3 dX2_read_51 rfl ?_
            refine e_callV1 (As := [.int 3]) (rest := []) dX2_read_52 rfl mvX2_79 (xm_o4) rfl (x_fail hn h102 hf hG hT 3) (Nat.le_of_ble_eq_true rfl) rfl rfl (Nat.le_of_ble_eq_true rfl) (by first | (show 2 * m ≤ 80; omega) | (show 9 * m ≤ 360; omega) | (show 2 * m + 2 ≤ 80; omega) | (show 9 * m + 9 ≤ 360; omega)) (by first | (show 2 * m ≤ 80; omega) | (show 9 * m ≤ 360; omega) | (show 2 * m + 2 ≤ 80; omega) | (show 9 * m + 9 ≤ 360; omega)) ?_
            refine e_athrow dX2_read_55 xm_o3 rfl ?_
            refine ex_out (fun _ h => by cases h) (by first | (show 2 * m ≤ 80; omega) | (show 9 * m ≤ 360; omega) | (show 2 * m + 2 ≤ 80; omega) | (show 9 * m + 9 ≤ 360; omega)) (by first | (show 2 * m ≤ 80; omega) | (show 9 * m ≤ 360; omega) | (show 2 * m + 2 ≤ 80; omega) | (show 9 * m + 9 ≤ 360; omega)) ?_
            have hpc : pzCard f n m t = .inl (3, t.2.1) := by unfold pzCard; rw [if_neg hk8, if_pos h47]
            rw [hpc] at hP
            refine hX (3, t.2.1) _ D hP.symm ⟨?_, rfl⟩ (hY.tr ((((SyN.rf ξ1).p.I _ (by decide)).I _ (by decide)).q q))
            show (if t.1 = 4 then 1 else 3) = nI 3
            rw [if_neg (by omega)]
            rfl

