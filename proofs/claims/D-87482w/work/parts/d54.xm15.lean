/-! ===== the component: cards ===== -/
set_option maxHeartbeats 4000000 in
set_option maxRecDepth 100000 in
/-- WheelTables.cards -/
theorem x_cards {ξ : Xs} {mid dyn : List ACell} {τ : Tw} {own : Nat → Nat} (hm : mid.length = 61) (hRel : Rel own ξ dyn τ) (n : Int32) : Ct yX0_cards (wsW_ yX0_cards cX0_cards 4 (some .int) [(39, 52, 55, 21)]) 9 80 360 [.ref 0, .int n] (XM ξ mid dyn) (fun v N => ∃ ξ' dyn' own' i, N = XM ξ' mid dyn' ∧ v = some (.int i) ∧ ∀ w τ1, CaQ n τ w τ1 → v = w ∧ Rel own' ξ' dyn' τ1) noX := by
  obtain ⟨hI, hA, hB, hW, hP, hR, hT, hE, hC, hV⟩ := id hRel
  have hI4 := hE.1.1
  refine Ct.ofW (ls := [some (.ref 0), some (.int n), none, none]) (by decide) (Nat.le_of_ble_eq_true rfl) rfl ?_
  refine e_iload_n dX0_cards_0 1 rfl rfl ?_
  refine e_if_lt 15 dX0_cards_1 (by decide) (fun h1 => ?_) (fun h1 => ?_)
  · refine e_aload_n dX0_cards_15 0 rfl rfl rfl ?_
    refine e_iconst 5 dX0_cards_16 rfl ?_
    refine e_callV1 (As := [.int 5]) (rest := []) dX0_cards_17 rfl mvX0_169 (xm_o0) rfl (x_none 5) (Nat.le_of_ble_eq_true rfl) rfl rfl (Nat.le_of_ble_eq_true rfl) (Nat.le_of_ble_eq_true rfl) (Nat.le_of_ble_eq_true rfl) ?_
    refine e_ireturn dX0_cards_20 rfl rfl (Nat.le_of_ble_eq_true rfl) (Nat.le_of_ble_eq_true rfl) ?_
    refine ⟨_, _, own, _, rfl, rfl, fun w τ1 hc => ?_⟩
    rcases hc with ⟨-, rfl, rfl⟩ | ⟨hb, -⟩
    · exact ⟨rfl, hRel.stE 5⟩
    · exact absurd (Or.inl h1) hb
  · refine e_iload_n dX0_cards_4 1 rfl rfl ?_
    refine e_aload_n dX0_cards_5 0 rfl rfl rfl ?_
    refine e_getf (v := (.ref 4)) dX0_cards_6 rfl fX0_33 (xm_o0) rfl ?_
    refine e_getf (v := (.int (ξ.1 101))) dX0_cards_9 rfl fX0_317 (xm_o4) rfl ?_
    refine e_top (congrArg Value.int (hI.at 101 29 (by decide))) ?_
    refine e_icmp_le 21 dX0_cards_12 (by decide) (fun h12 => ?_) (fun h12 => ?_)
    · obtain ⟨T, hT5, e29⟩ := id hV.2.2.2.1
      have hgd : ¬ (n < 0 ∨ τ.1 29 < n) := fun z => z.elim h1 (fun z => absurd h12 (Int32.not_le.mpr z))
      rw [e29] at h12
      obtain ⟨n9, hn9, rfl⟩ := in_le (x := n) T (nI_toInt (by omega)) h1 h12
      obtain ⟨hM, p, hp, hP4, hP5, hcd⟩ := id hC
      obtain ⟨q, hqe⟩ : ∃ q, 13 - p = q := ⟨_, rfl⟩
      have hq : q = 6 ∨ q = 7 := by omega
      have hpq : p ≠ q := by omega
      have hp13 : 13 - q = p := by omega
      rw [hqe] at hP5
      have hP5x := hP5
      refine e_aload_n dX0_cards_21 0 rfl rfl rfl ?_
      refine e_getf (v := (.ref 4)) dX0_cards_22 rfl fX0_33 (xm_o0) rfl ?_
      refine e_iconst 0 dX0_cards_25 rfl ?_
      refine e_xputI dX0_cards_26 rfl pX0_317 rfl (xm_o4) (Nat.le_of_ble_eq_true rfl) (xm_f101 _) ?_
      refine e_aload_n dX0_cards_29 0 rfl rfl rfl ?_
      refine e_iconst 0 dX0_cards_30 rfl ?_
      refine e_xputI dX0_cards_31 rfl pX0_50 rfl (xm_o0) (Nat.le_of_ble_eq_true rfl) (xm_f9 _) ?_
      refine e_aload_n dX0_cards_34 0 rfl rfl rfl ?_
      refine e_iconst (-1) dX0_cards_35 rfl ?_
      refine e_xputI dX0_cards_36 rfl pX0_53 rfl (xm_o0) (Nat.le_of_ble_eq_true rfl) (xm_f10 _) ?_
      refine e_aload_n dX0_cards_39 0 rfl rfl rfl ?_
      refine e_getf (v := (.ref 4)) dX0_cards_40 rfl fX0_33 (xm_o0) rfl ?_
      refine e_iload_n dX0_cards_43 1 rfl rfl ?_
      refine e_aload_n dX0_cards_44 0 rfl rfl rfl ?_
      refine e_getf (v := (rfO (ξ.2.2.2.2.2.1 5))) dX0_cards_45 rfl fX0_43 (xm_o0) rfl ?_
      refine e_top (congrArg rfO hP5x) ?_
      obtain ⟨ξb, hξb⟩ : ∃ z, xI (xI (xI ξ 101 0) 9 0) 10 (-1) = z := ⟨_, rfl⟩
      have hfb : ξb.2.2.1 100 = τ.2.2.1 28 := by rw [← hξb]; exact hA.at 100 28 (by decide)
      have hbx : ∀ k, k ∉ [9, 10, 101] → ξb.1 k = ξ.1 k := fun k hk => by
        rw [← hξb]
        exact (pk_un (fun e => hk (by rw [e]; decide))).trans ((pk_un (fun e => hk (by rw [e]; decide))).trans (pk_un (fun e => hk (by rw [e]; decide))))
      have hbr : ξb.2 = ξ.2 := by rw [← hξb]; rfl
      have hb9 : ξb.1 9 = 0 ∧ ξb.1 10 = -1 ∧ ξb.1 101 = 0 := by rw [← hξb]; exact ⟨rfl, rfl, rfl⟩
      rw [hξb]
      refine e_invV (As := [.int (nI n9), .ref q]) (rest := []) dX0_cards_48 rfl mvX0_327 (xm_o4) rfl (x_read_ (ξ := ξb) (n := n9) (by omega) hm hq hfb) (Nat.le_of_ble_eq_true rfl) rfl rfl (Nat.le_of_ble_eq_true rfl) (Nat.le_of_ble_eq_true rfl) (Nat.le_of_ble_eq_true rfl) (fun v9 N9 h0_ _ => ?_) (fun cl w9 N9 hx _ => ?_)
      · obtain ⟨cs, ξ1, D, hps, h40, rfl, rfl, hCs, hY⟩ := h0_
        have hx1 : ∀ k, k ∉ [9, 10, 101, 102, 103, 104, 105, 206, 207] → ξ1.1 k = ξ.1 k := fun k hk => by
          refine (hY.1 k (fun z => hk ?_)).trans ((pk_un (fun e => hk (by rw [e]; decide))).trans (hbx k (fun z => hk ?_)))
          · simp only [List.mem_cons, List.not_mem_nil, or_false] at z ⊢
            omega
          · simp only [List.mem_cons, List.not_mem_nil, or_false] at z ⊢
            omega
        have hx9 : ξ1.1 9 = 0 ∧ ξ1.1 10 = -1 ∧ ξ1.1 101 = 0 := ⟨(hY.1 9 (by decide)).trans hb9.1, (hY.1 10 (by decide)).trans hb9.2.1, (hY.1 101 (by decide)).trans hb9.2.2⟩
        have hxA : ξ1.2.2.1 = ξ.2.2.1 := hY.2.1.trans (congrArg (fun z => z.2.1) hbr)
        have hxB : ξ1.2.2.2.1 = ξ.2.2.2.1 := hY.2.2.1.trans (congrArg (fun z => z.2.2.1) hbr)
        have hxR : ∀ k, k ≠ q → ξ1.2.2.2.2.1 k = ξ.2.2.2.2.1 k := fun k hk => (hY.2.2.2.1 k hk).trans (congrArg (fun z => z.2.2.2.1 k) hbr)
        have hxP : ξ1.2.2.2.2.2 = ξ.2.2.2.2.2 := hY.2.2.2.2.trans (congrArg (fun z => z.2.2.2.2) hbr)
        have hP4x : ξ1.2.2.2.2.2.1 4 = some p := (congrArg (fun z => z.1 4) hxP).trans hP4
        have hP5x : ξ1.2.2.2.2.2.1 5 = some q := (congrArg (fun z => z.1 5) hxP).trans hP5
        refine e_istore_n dX0_cards_51 2 rfl (ls_s (ls_1 rfl)) (Nat.le_of_ble_eq_true rfl) ?_
        refine e_goto 79 dX0_cards_52 (by decide) ?_
        refine e_aload_n dX0_cards_79 0 rfl rfl rfl ?_
        refine e_getf (v := (rfO (ξ1.2.2.2.2.2.1 4))) dX0_cards_80 rfl fX0_39 (xm_o0) rfl ?_
        refine e_top (congrArg rfO hP4x) ?_
        refine e_astore_n dX0_cards_83 3 rfl (ls_s (ls_s (ls_1 rfl))) (Nat.le_of_ble_eq_true rfl) rfl ?_
        refine e_aload_n dX0_cards_84 0 rfl rfl rfl ?_
        refine e_aload_n dX0_cards_85 0 rfl rfl rfl ?_
        refine e_getf (v := (rfO (ξ1.2.2.2.2.2.1 5))) dX0_cards_86 rfl fX0_43 (xm_o0) rfl ?_
        refine e_top (congrArg rfO hP5x) ?_
        refine e_putf dX0_cards_89 rfl pX0_39 (fun h => by cases h) xm_o0 (Nat.le_of_ble_eq_true rfl) rfl ?_
        refine E_mem (M' := XM (xP ξ1 4 (some q)) mid (dyn ++ D)) (Eq.symm (xm_f4 (some q))) ?_
        refine e_aload_n dX0_cards_92 0 rfl rfl rfl ?_
        refine e_aload_n dX0_cards_93 3 rfl rfl rfl ?_
        refine e_putf dX0_cards_94 rfl pX0_43 (fun h => by cases h) xm_o0 (Nat.le_of_ble_eq_true rfl) rfl ?_
        refine E_mem (M' := XM (xP (xP ξ1 4 (some q)) 5 (some p)) mid (dyn ++ D)) (Eq.symm (xm_f5 (some p))) ?_
        refine e_aload_n dX0_cards_97 0 rfl rfl rfl ?_
        refine e_iload_n dX0_cards_98 2 rfl rfl ?_
        refine e_xputI dX0_cards_99 rfl pX0_46 rfl (xm_o0) (Nat.le_of_ble_eq_true rfl) (xm_f7 _) ?_
        refine e_aload_n dX0_cards_102 0 rfl rfl rfl ?_
        refine e_iload_n dX0_cards_103 2 rfl rfl ?_
        refine e_callV1 (As := [.int (nI cs.length)]) (rest := []) dX0_cards_104 rfl mvX0_215 (xm_o0) rfl (x_gives (nI cs.length)) (Nat.le_of_ble_eq_true rfl) rfl rfl (Nat.le_of_ble_eq_true rfl) (Nat.le_of_ble_eq_true rfl) (Nat.le_of_ble_eq_true rfl) ?_
        refine e_ireturn dX0_cards_107 rfl rfl (Nat.le_of_ble_eq_true rfl) (Nat.le_of_ble_eq_true rfl) ?_
        refine ⟨_, _, ownC own dyn.length, _, rfl, rfl, fun w τ1 hc => ?_⟩
        rcases hc with ⟨hb, -⟩ | ⟨-, hs, hN, -, h29, hc⟩
        · exact absurd hb hgd
        rw [ix_nI (show n9 < 2147483648 by omega), hps] at hc
        rcases hc with ⟨e', he, -⟩ | ⟨cs', he, -, rfl, e0, e31, e32, e41, hIn, hD⟩
        · exact absurd he (by simp)
        · injection he with he
          subst he
          obtain ⟨hb1, hb2⟩ := pars_inr hps h40
          refine ⟨rfl, Rel.cdx (hRel.gc D) (fun k hk => ?_) hxA hxB (hxR 1 (by omega)) (congrArg (fun z => z.2) hxP) hs hN e0.symm e41.symm (hx9.1.trans e31.symm) (hx9.2.1.trans e32.symm) hx9.2.2 h29 ?_⟩
          · refine (pk_un (fun z => hk (by rw [z]; decide))).trans ((pk_un (fun z => hk (by rw [z]; decide))).trans (hx1 k (fun z => hk ?_)))
            simp only [List.mem_cons, List.not_mem_nil, or_false] at z ⊢
            omega
          · refine RC.new hq rfl ?_ (hCs.cg rfl) h40 e41 hIn hD hb1 hb2
            rw [hp13]
            rfl
      · obtain ⟨rfl, rfl, e, ξ1, X, hps, rfl, hE9, hY⟩ := hx
        have hx1 : ∀ k, k ∉ [9, 10, 101, 102, 103, 104, 105, 206, 207] → ξ1.1 k = ξ.1 k := fun k hk => by
          refine (hY.1 k (fun z => hk ?_)).trans ((pk_un (fun e => hk (by rw [e]; decide))).trans (hbx k (fun z => hk ?_)))
          · simp only [List.mem_cons, List.not_mem_nil, or_false] at z ⊢
            omega
          · simp only [List.mem_cons, List.not_mem_nil, or_false] at z ⊢
            omega
        have hx9 : ξ1.1 9 = 0 ∧ ξ1.1 10 = -1 ∧ ξ1.1 101 = 0 := ⟨(hY.1 9 (by decide)).trans hb9.1, (hY.1 10 (by decide)).trans hb9.2.1, (hY.1 101 (by decide)).trans hb9.2.2⟩
        have hxA : ξ1.2.2.1 = ξ.2.2.1 := hY.2.1.trans (congrArg (fun z => z.2.1) hbr)
        have hxB : ξ1.2.2.2.1 = ξ.2.2.2.1 := hY.2.2.1.trans (congrArg (fun z => z.2.2.1) hbr)
        have hxR : ∀ k, k ≠ q → ξ1.2.2.2.2.1 k = ξ.2.2.2.2.1 k := fun k hk => (hY.2.2.2.1 k hk).trans (congrArg (fun z => z.2.2.2.1 k) hbr)
        have hxP : ξ1.2.2.2.2.2 = ξ.2.2.2.2.2 := hY.2.2.2.2.trans (congrArg (fun z => z.2.2.2.2) hbr)
        have hP4x : ξ1.2.2.2.2.2.1 4 = some p := (congrArg (fun z => z.1 4) hxP).trans hP4
        have hP5x : ξ1.2.2.2.2.2.1 5 = some q := (congrArg (fun z => z.1 5) hxP).trans hP5
        refine ex_catch [] ⟨39, 52, 55, 21⟩ [] rfl (fun _ h => by cases h) rfl (by decide) q130 q132 ?_
        refine e_astore_n dX0_cards_55 3 rfl (ls_s (ls_s (ls_1 rfl))) (Nat.le_of_ble_eq_true rfl) rfl ?_
        refine e_aload_n dX0_cards_56 0 rfl rfl rfl ?_
        refine e_aload_n dX0_cards_57 3 rfl rfl rfl ?_
        refine e_getf (v := (.int (ξ1.1 206))) dX0_cards_58 rfl fX0_331 (xm_o3) rfl ?_
        refine e_top (congrArg Value.int hE9.1) ?_
        refine e_xputI dX0_cards_61 rfl pX0_50 rfl (xm_o0) (Nat.le_of_ble_eq_true rfl) (xm_f9 _) ?_
        refine e_aload_n dX0_cards_64 0 rfl rfl rfl ?_
        refine e_aload_n dX0_cards_65 3 rfl rfl rfl ?_
        refine e_getf (v := (.int (ξ1.1 207))) dX0_cards_66 rfl fX0_334 (xm_o3) rfl ?_
        refine e_top (congrArg Value.int hE9.2) ?_
        refine e_xputI dX0_cards_69 rfl pX0_53 rfl (xm_o0) (Nat.le_of_ble_eq_true rfl) (xm_f10 _) ?_
        refine e_aload_n dX0_cards_72 0 rfl rfl rfl ?_
        refine e_bipush 10 dX0_cards_73 rfl ?_
        refine e_callV1 (As := [.int 10]) (rest := []) dX0_cards_75 rfl mvX0_169 (xm_o0) rfl (x_none 10) (Nat.le_of_ble_eq_true rfl) rfl rfl (Nat.le_of_ble_eq_true rfl) (Nat.le_of_ble_eq_true rfl) (Nat.le_of_ble_eq_true rfl) ?_
        refine e_ireturn dX0_cards_78 rfl rfl (Nat.le_of_ble_eq_true rfl) (Nat.le_of_ble_eq_true rfl) ?_
        refine ⟨_, _, ownC own dyn.length, _, rfl, rfl, fun w τ1 hc => ?_⟩
        rcases hc with ⟨hb, -⟩ | ⟨-, hs, hN, -, h29, hc⟩
        · exact absurd hb hgd
        rw [ix_nI (show n9 < 2147483648 by omega), hps] at hc
        rcases hc with ⟨e', he, rfl, e0, e31, e32, e41, h43, h56⟩ | ⟨cs, he, -⟩
        · injection he with he
          subst he
          refine ⟨rfl, Rel.cdx (hRel.gc X) (fun k hk => ?_) hxA hxB (hxR 1 (by omega)) (congrArg (fun z => z.2) hxP) hs hN e0.symm ((hx1 7 (by decide)).trans ((hI.at 7 41 (by decide)).trans e41.symm)) e31.symm e32.symm hx9.2.2 h29 ?_⟩
          · refine (pk_un (fun z => hk (by rw [z]; decide))).trans ((pk_un (fun z => hk (by rw [z]; decide))).trans ((pk_un (fun z => hk (by rw [z]; decide))).trans (hx1 k (fun z => hk ?_))))
            simp only [List.mem_cons, List.not_mem_nil, or_false] at z ⊢
            omega
          · refine RC.q ((hRel.gc X).2.2.2.2.2.2.2.2.1.cg e41 h43 h56) (congrArg (fun z => z.1) hxP) (fun p' hp' h4' => hxR p' (fun z => hpq ?_))
            rw [hP4] at h4'
            injection h4' with h4'
            rw [h4']; exact z
        · exact absurd he (by simp)
    · refine e_aload_n dX0_cards_15 0 rfl rfl rfl ?_
      refine e_iconst 5 dX0_cards_16 rfl ?_
      refine e_callV1 (As := [.int 5]) (rest := []) dX0_cards_17 rfl mvX0_169 (xm_o0) rfl (x_none 5) (Nat.le_of_ble_eq_true rfl) rfl rfl (Nat.le_of_ble_eq_true rfl) (Nat.le_of_ble_eq_true rfl) (Nat.le_of_ble_eq_true rfl) ?_
      refine e_ireturn dX0_cards_20 rfl rfl (Nat.le_of_ble_eq_true rfl) (Nat.le_of_ble_eq_true rfl) ?_
      refine ⟨_, _, own, _, rfl, rfl, fun w τ1 hc => ?_⟩
      rcases hc with ⟨-, rfl, rfl⟩ | ⟨hb, -⟩
      · exact ⟨rfl, hRel.stE 5⟩
      · exact absurd (Or.inr (Int32.not_le.mp h12)) hb

