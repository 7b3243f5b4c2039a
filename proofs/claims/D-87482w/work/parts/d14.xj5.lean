/-! ===== the component: finer tables (3) ===== -/
theorem tn_ok : ∀ d, d < 7 → 0 < (tnL d).toInt ∧ (tnL d).toInt ≤ 1000000 := by decide
theorem fst_no {p : Nat → Bool} {n : Nat} (h : ∀ j, j < n → p j = false) : fstN p n 0 = none := fstN_none (fun j _ hj => h j (by omega))
set_option maxHeartbeats 4000000 in
set_option maxRecDepth 100000 in
/-- a loop of finer -/
theorem x_fin6 {ξ ξ0 : Xs} {mid dyn : List ACell} {τ : Tw} {own : Nat → Nat} (hRel : Rel own ξ0 dyn τ) (hSy : Sy sI sA sB ξ ξ0) {k m r y : Nat} (hk : k ≤ 4) (hm2 : 2 ≤ m ∧ m ≤ 20) (hr : r ≤ 60) (hv : ∀ i, i < k + 1 → bdL 10000 (τ.2.2.2 4 (60 * y + i))) (hpv : ∀ q, q ≤ k → ξ.2.2.2.1 15 q = (spSt y k τ) q) (hex : ∀ q, q ≤ k → ξ.2.2.2.1 16 q = bkN (k + 1) (fun i => atN (dfL (k + 1) (fun q => τ.2.2.2 4 (60 * y + q)) k) k m i) q) (hlo : ξ.2.1 14 = unL m k) (hsp : sp_finer (nI y) (nI k) (nI m) (nI r) τ = match fstN (fun d => enN (spSt y k τ) k m r (unL m k) (tnL d)) 7 0 with | some d => (nI d, b0 τ) | none => (-1, bE τ 8))  : ∀ (fuel : Nat) (d : Nat) (f : Nat → Int64), d ≤ 7 → 7 < d + fuel → (∀ j, j < d → (fun d => enN (spSt y k τ) k m r (unL m k) (tnL d)) j = false) →
    E cX0_finer (RX0, (some .int), 9, 3, (0, 0), false, []) (XQi mid (sp_finer (nI y) (nI k) (nI m) (nI r) τ)) noX 0 0 319 [some (.ref 0), some (.int (nI y)), some (.int (nI k)), some (.int (nI m)), some (.int (nI r)), some (.ref (52 + y)), some (.long (tnL d)), none, some (.int (nI d))] [] (XM (xB ξ 17 f) mid dyn) := by
  intro fuel
  induction fuel with
  | zero => intro d f hd hf hno; exact absurd hf (by omega)
  | succ fuel ih =>
    intro d f hd hf hno
    refine e_iload dX0_finer_319 rfl ?_
    refine e_bipush 6 dX0_finer_321 rfl ?_
    refine e_icmp_gtN d 6 360 (by omega) (by omega) dX0_finer_323 (by decide) (fun h323 => ?_) (fun h323 => ?_)
    · refine e_aload_n dX0_finer_360 0 rfl rfl rfl ?_
      refine e_bipush 8 dX0_finer_361 rfl ?_
      refine e_callV1 (As := [.int 8]) (rest := []) dX0_finer_363 rfl mvX0_169 (xm_o0) rfl (x_none 8) (Nat.le_of_ble_eq_true rfl) rfl rfl (Nat.le_of_ble_eq_true rfl) (Nat.zero_le _) (Nat.zero_le _) ?_
      refine e_ireturn dX0_finer_366 rfl rfl (Nat.zero_le _) (Nat.zero_le _) ?_
      have e1 : fstN (fun d => enN (spSt y k τ) k m r (unL m k) (tnL d)) 7 0 = none := fst_no (fun j hj => hno j (by omega))
      rw [e1] at hsp
      refine ⟨_, _, own, rfl, by rw [hsp], ?_⟩
      rw [hsp]
      exact (hRel.sq (Sy.B hSy f rfl)).stE 8
    · refine e_aload_n dX0_finer_326 0 rfl rfl rfl ?_
      refine e_iload_n dX0_finer_327 2 rfl rfl ?_
      refine e_iload_n dX0_finer_328 3 rfl rfl ?_
      refine e_iload dX0_finer_329 rfl ?_
      refine e_lload dX0_finer_331 rfl ?_
      refine e_callVQ (As := [.int (nI k), .int (nI m), .int (nI r), .long (tnL d)]) (rest := []) dX0_finer_333 rfl mvX0_311 (xm_o0) rfl (x_isRight (ξ := xB ξ 17 f) (v := (fun q => τ.2.2.2 4 (60 * y + q))) hk hm2 hr hv (tn_ok d (by omega)).1 (tn_ok d (by omega)).2 hpv hex hlo) (Nat.le_of_ble_eq_true rfl) rfl rfl (Nat.le_of_ble_eq_true rfl) (Nat.zero_le _) (Nat.zero_le _) (fun v0 M0 h0_ _ => ?_)
      obtain ⟨f2, rfl, hz⟩ := h0_
      rw [xB_xB]
      rcases hz with ⟨hz, rfl⟩ | ⟨hz, rfl⟩
      · refine e_if_eq_f (by decide) 346 dX0_finer_336 (by decide) ?_
        refine e_aload_n dX0_finer_339 0 rfl rfl rfl ?_
        refine e_iload dX0_finer_340 rfl ?_
        refine e_callV1 (As := [.int (nI d)]) (rest := []) dX0_finer_342 rfl mvX0_215 (xm_o0) rfl (x_gives (nI d)) (Nat.le_of_ble_eq_true rfl) rfl rfl (Nat.le_of_ble_eq_true rfl) (Nat.zero_le _) (Nat.zero_le _) ?_
        refine e_ireturn dX0_finer_345 rfl rfl (Nat.zero_le _) (Nat.zero_le _) ?_
        have e1 : fstN (fun d => enN (spSt y k τ) k m r (unL m k) (tnL d)) 7 0 = some d := fstN_some (p := (fun d => enN (spSt y k τ) k m r (unL m k) (tnL d))) (m := d) hz (Nat.zero_le _) (by omega) (fun j _ hj => hno j hj)
        rw [e1] at hsp
        refine ⟨_, _, own, rfl, by rw [hsp], ?_⟩
        rw [hsp]
        exact (hRel.sq (Sy.B hSy f2 rfl)).st0
      · refine e_if_eq_t 346 (by decide) dX0_finer_336 (by decide) ?_
        refine e_lload dX0_finer_346 rfl ?_
        refine e_ldc2 rfl q773 dX0_finer_348 ?_
        refine e_lmul dX0_finer_351 ?_
        refine e_lstore dX0_finer_352 (ls_s (ls_s (ls_s (ls_s (ls_s (ls_1 rfl)))))) (ln_s (ln_s (ln_s (ln_s (ln_s (ln_s (ln_s ln_0))))))) (Nat.le_of_ble_eq_true rfl) ?_
        refine e_incN d (d + 1) (inc1 _) dX0_finer_354 rfl (ls_s (ls_s (ls_s (ls_s (ls_s (ls_s (ls_s (ls_1 rfl)))))))) (Nat.le_of_ble_eq_true rfl) ?_
        refine e_goto 319 dX0_finer_357 (by decide) ?_
        refine ih (d + 1) f2 (by omega) (by omega) (fun j hj => ?_)
        by_cases e : j = d
        · subst e; exact eq_false_of_ne_true hz
        · exact hno j (by omega)

set_option maxHeartbeats 4000000 in
set_option maxRecDepth 100000 in
/-- WheelTables.finer -/
theorem x_finer {ξ : Xs} {mid dyn : List ACell} {τ : Tw} {own : Nat → Nat} (hm : mid.length = 61) (hRel : Rel own ξ dyn τ) (t k0 m0 r1 : Int32) : Ct yX0_finer (ws_ yX0_finer cX0_finer 9 (some .int)) 3 0 0 [.ref 0, .int t, .int k0, .int m0, .int r1] (XM ξ mid dyn) (XQi mid (sp_finer t k0 m0 r1 τ)) noX := by
  obtain ⟨hI, hA, hB, hW, hP, hR, hT, hE, hC, hV⟩ := id hRel
  have hI4 := hE.1.1
  refine Ct.of (ini := false) (ls := [some (.ref 0), some (.int t), some (.int k0), some (.int m0), some (.int r1), none, none, none, none]) (by decide) (Nat.le_of_ble_eq_true rfl) (fun h => by cases h) rfl ?_
  refine e_iload_n dX0_finer_0 1 rfl rfl ?_
  refine e_callSB (As := [.int t]) (rest := []) dX0_finer_1 rfl msX0_148 (x_isTray t) (Nat.le_of_ble_eq_true rfl) rfl rfl (Nat.le_of_ble_eq_true rfl) (Nat.zero_le _) (Nat.zero_le _) (fun h1 => ?_) (fun h1 => ?_)
  · have h1 : (0 ≤ t ∧ t < 4) := h1
    refine e_if_ne_t 13 (by decide) dX0_finer_4 (by decide) ?_
    obtain ⟨y, hy, rfl⟩ := in_0_4 h1
    refine e_aload_n dX0_finer_13 0 rfl rfl rfl ?_
    refine e_getf (v := (.ref 1)) dX0_finer_14 rfl fX0_11 (xm_o0) rfl ?_
    refine e_iload_n dX0_finer_17 1 rfl rfl ?_
    refine e_aald (f := trF) (j := y) dX0_finer_18 xm_r1 (fun _ => rfl) rfl (by omega) (by decide) ?_
    refine e_top (congrArg rfO (trF_at (by omega))) ?_
    refine e_astore dX0_finer_19 (ls_s (ls_s (ls_s (ls_s (ls_1 rfl))))) (Nat.le_of_ble_eq_true rfl) rfl ?_
    refine e_aload dX0_finer_21 rfl rfl ?_
    rcases hT y hy with ⟨e3, hTr, e2⟩ | ⟨s, n, r0, g, hs, hn60, e2, e3, hTr, hD, hown3, hg⟩
    · have hO3 : (XM ξ mid dyn)[52 + y]? = some (.inr (3, [.null, .int 0])) := by rw [xm_oT hy, hTr]; rfl
      refine e_getf (v := .null) dX0_finer_23 rfl fX0_179 (hO3) rfl ?_
      refine e_ifnonnullN dX0_finer_26 ?_
      refine e_aload_n dX0_finer_29 0 rfl rfl rfl ?_
      refine e_iconst 3 dX0_finer_30 rfl ?_
      refine e_callV1 (As := [.int 3]) (rest := []) dX0_finer_31 rfl mvX0_169 (xm_o0) rfl (x_none 3) (Nat.le_of_ble_eq_true rfl) rfl rfl (Nat.le_of_ble_eq_true rfl) (Nat.zero_le _) (Nat.zero_le _) ?_
      refine e_ireturn dX0_finer_34 rfl rfl (Nat.zero_le _) (Nat.zero_le _) ?_
      refine ⟨_, _, own, rfl, ?_, ?_⟩
      · rw [sp_finer, if_pos (show 0 < spT (nI y) τ by rw [spT_m hy e3]; decide)]
      · rw [sp_finer, if_pos (show 0 < spT (nI y) τ by rw [spT_m hy e3]; decide), spT_m hy e3]; exact hRel.st 3
    · have hO3 : (XM ξ mid dyn)[52 + y]? = some (.inr (3, [.ref (117 + r0), .int (nI s)])) := by rw [xm_oT hy, hTr]; rfl
      refine e_getf (v := (.ref (117 + r0))) dX0_finer_23 rfl fX0_179 (hO3) rfl ?_
      refine e_ifnonnull 35 dX0_finer_26 (by decide) ?_
      refine e_iload_n dX0_finer_35 2 rfl rfl ?_
      refine e_iconst 1 dX0_finer_36 rfl ?_
      refine e_icmp_lt 69 dX0_finer_37 (by decide) (fun h37 => ?_) (fun h37 => ?_)
      · refine e_aload_n dX0_finer_69 0 rfl rfl rfl ?_
        refine e_iconst 5 dX0_finer_70 rfl ?_
        refine e_callV1 (As := [.int 5]) (rest := []) dX0_finer_71 rfl mvX0_169 (xm_o0) rfl (x_none 5) (Nat.le_of_ble_eq_true rfl) rfl rfl (Nat.le_of_ble_eq_true rfl) (Nat.zero_le _) (Nat.zero_le _) ?_
        refine e_ireturn dX0_finer_74 rfl rfl (Nat.zero_le _) (Nat.zero_le _) ?_
        refine ⟨_, _, own, rfl, ?_, ?_⟩
        · rw [sp_finer, if_neg (show ¬ 0 < spT (nI y) τ by rw [spT_ok hy hn60 e3]; decide), if_pos (fun z => i32_lt h37 z.1.1)]
        · rw [sp_finer, if_neg (show ¬ 0 < spT (nI y) τ by rw [spT_ok hy hn60 e3]; decide), if_pos (fun z => i32_lt h37 z.1.1)]; exact hRel.stE 5
      · refine e_iload_n dX0_finer_40 2 rfl rfl ?_
        refine e_iconst 4 dX0_finer_41 rfl ?_
        refine e_icmp_gt 69 dX0_finer_42 (by decide) (fun h42 => ?_) (fun h42 => ?_)
        · refine e_aload_n dX0_finer_69 0 rfl rfl rfl ?_
          refine e_iconst 5 dX0_finer_70 rfl ?_
          refine e_callV1 (As := [.int 5]) (rest := []) dX0_finer_71 rfl mvX0_169 (xm_o0) rfl (x_none 5) (Nat.le_of_ble_eq_true rfl) rfl rfl (Nat.le_of_ble_eq_true rfl) (Nat.zero_le _) (Nat.zero_le _) ?_
          refine e_ireturn dX0_finer_74 rfl rfl (Nat.zero_le _) (Nat.zero_le _) ?_
          refine ⟨_, _, own, rfl, ?_, ?_⟩
          · rw [sp_finer, if_neg (show ¬ 0 < spT (nI y) τ by rw [spT_ok hy hn60 e3]; decide), if_pos (fun z => absurd z.1.2 (Int32.not_le.mpr h42))]
          · rw [sp_finer, if_neg (show ¬ 0 < spT (nI y) τ by rw [spT_ok hy hn60 e3]; decide), if_pos (fun z => absurd z.1.2 (Int32.not_le.mpr h42))]; exact hRel.stE 5
        · refine e_iload_n dX0_finer_45 3 rfl rfl ?_
          refine e_iconst 2 dX0_finer_46 rfl ?_
          refine e_icmp_lt 69 dX0_finer_47 (by decide) (fun h47 => ?_) (fun h47 => ?_)
          · refine e_aload_n dX0_finer_69 0 rfl rfl rfl ?_
            refine e_iconst 5 dX0_finer_70 rfl ?_
            refine e_callV1 (As := [.int 5]) (rest := []) dX0_finer_71 rfl mvX0_169 (xm_o0) rfl (x_none 5) (Nat.le_of_ble_eq_true rfl) rfl rfl (Nat.le_of_ble_eq_true rfl) (Nat.zero_le _) (Nat.zero_le _) ?_
            refine e_ireturn dX0_finer_74 rfl rfl (Nat.zero_le _) (Nat.zero_le _) ?_
            refine ⟨_, _, own, rfl, ?_, ?_⟩
            · rw [sp_finer, if_neg (show ¬ 0 < spT (nI y) τ by rw [spT_ok hy hn60 e3]; decide), if_pos (fun z => i32_lt h47 z.2.1.1)]
            · rw [sp_finer, if_neg (show ¬ 0 < spT (nI y) τ by rw [spT_ok hy hn60 e3]; decide), if_pos (fun z => i32_lt h47 z.2.1.1)]; exact hRel.stE 5
          · refine e_iload_n dX0_finer_50 3 rfl rfl ?_
            refine e_bipush 20 dX0_finer_51 rfl ?_
            refine e_icmp_gt 69 dX0_finer_53 (by decide) (fun h53 => ?_) (fun h53 => ?_)
            · refine e_aload_n dX0_finer_69 0 rfl rfl rfl ?_
              refine e_iconst 5 dX0_finer_70 rfl ?_
              refine e_callV1 (As := [.int 5]) (rest := []) dX0_finer_71 rfl mvX0_169 (xm_o0) rfl (x_none 5) (Nat.le_of_ble_eq_true rfl) rfl rfl (Nat.le_of_ble_eq_true rfl) (Nat.zero_le _) (Nat.zero_le _) ?_
              refine e_ireturn dX0_finer_74 rfl rfl (Nat.zero_le _) (Nat.zero_le _) ?_
              refine ⟨_, _, own, rfl, ?_, ?_⟩
              · rw [sp_finer, if_neg (show ¬ 0 < spT (nI y) τ by rw [spT_ok hy hn60 e3]; decide), if_pos (fun z => absurd z.2.1.2 (Int32.not_le.mpr h53))]
              · rw [sp_finer, if_neg (show ¬ 0 < spT (nI y) τ by rw [spT_ok hy hn60 e3]; decide), if_pos (fun z => absurd z.2.1.2 (Int32.not_le.mpr h53))]; exact hRel.stE 5
            · refine e_iload dX0_finer_56 rfl ?_
              refine e_iconst 1 dX0_finer_58 rfl ?_
              refine e_icmp_lt 69 dX0_finer_59 (by decide) (fun h59 => ?_) (fun h59 => ?_)
              · refine e_aload_n dX0_finer_69 0 rfl rfl rfl ?_
                refine e_iconst 5 dX0_finer_70 rfl ?_
                refine e_callV1 (As := [.int 5]) (rest := []) dX0_finer_71 rfl mvX0_169 (xm_o0) rfl (x_none 5) (Nat.le_of_ble_eq_true rfl) rfl rfl (Nat.le_of_ble_eq_true rfl) (Nat.zero_le _) (Nat.zero_le _) ?_
                refine e_ireturn dX0_finer_74 rfl rfl (Nat.zero_le _) (Nat.zero_le _) ?_
                refine ⟨_, _, own, rfl, ?_, ?_⟩
                · rw [sp_finer, if_neg (show ¬ 0 < spT (nI y) τ by rw [spT_ok hy hn60 e3]; decide), if_pos (fun z => i32_lt h59 z.2.2.1)]
                · rw [sp_finer, if_neg (show ¬ 0 < spT (nI y) τ by rw [spT_ok hy hn60 e3]; decide), if_pos (fun z => i32_lt h59 z.2.2.1)]; exact hRel.stE 5
              · refine e_iload dX0_finer_62 rfl ?_
                refine e_bipush 60 dX0_finer_64 rfl ?_
                refine e_icmp_le 75 dX0_finer_66 (by decide) (fun h66 => ?_) (fun h66 => ?_)
                · have spF : spFin k0 m0 r1 := ⟨⟨i32_nlt h37, i32_nlt h42⟩, ⟨i32_nlt h47, i32_nlt h53⟩, i32_nlt h59, h66⟩
                  obtain ⟨k, hk, rfl⟩ := in_le (x := k0) 4 (by decide) (fun z => h37 (Int32.lt_trans z (by decide))) (i32_nlt h42)
                  obtain ⟨m, hm20', rfl⟩ := in_le (x := m0) 20 (by decide) (fun z => h47 (Int32.lt_trans z (by decide))) (i32_nlt h53)
                  obtain ⟨r, hr, rfl⟩ := in_le (x := r1) 60 (by decide) (fun z => h59 (Int32.lt_trans z (by decide))) h66
                  have hk1 : 1 ≤ k := (nI_leN (a := 1) (by omega) (by omega)).mp (i32_nlt h37)
                  have hm2 : 2 ≤ m ∧ m ≤ 20 := ⟨(nI_leN (a := 2) (by omega) (by omega)).mp (i32_nlt h47), hm20'⟩
                  refine e_aload dX0_finer_75 rfl rfl ?_
                  refine e_callV1 (As := []) (rest := []) dX0_finer_77 rfl mvX0_204 (xm_oT hy) rfl (y_manyS hm hy hs hn60 hTr hD) (Nat.le_of_ble_eq_true rfl) rfl rfl (Nat.le_of_ble_eq_true rfl) (Nat.zero_le _) (Nat.zero_le _) ?_
                  refine e_iload_n dX0_finer_80 2 rfl rfl ?_
                  refine e_icmp_gtN n k 90 (by omega) (by omega) dX0_finer_81 (by decide) (fun h81 => ?_) (fun h81 => ?_)
                  · refine e_iconst 0 dX0_finer_90 rfl ?_
                    refine e_istore dX0_finer_91 (ls_s (ls_s (ls_s (ls_s (ls_s (ls_1 rfl)))))) (Nat.le_of_ble_eq_true rfl) ?_
                    have hkn : k < n := by omega
                    refine x_fin1 (m := m) (r := r) hm hkn hn60 hs hy hTr hD hg (k + 2) 0 (by omega) (by omega) rfl (fun hz => ⟨_, _, own, rfl, by rw [sp_finer, if_neg (show ¬ 0 < spT (nI y) τ by rw [spT_ok hy hn60 e3]; decide), if_neg (fun z => z spF), ix_nI (by omega), e3, show nI k + 1 = nI (k + 1) from nI_add _ 1, if_neg (fun z => absurd ((nI_ltN (by omega) (by omega)).mp z) (by omega)), ix_nI (show k < 2147483648 by omega), if_pos hz], by rw [sp_finer, if_neg (show ¬ 0 < spT (nI y) τ by rw [spT_ok hy hn60 e3]; decide), if_neg (fun z => z spF), ix_nI (by omega), e3, show nI k + 1 = nI (k + 1) from nI_add _ 1, if_neg (fun z => absurd ((nI_ltN (by omega) (by omega)).mp z) (by omega)), ix_nI (show k < 2147483648 by omega), if_pos hz]; exact hRel.stE 5⟩) (fun hz => ?_)
                    have hv : ∀ i, i < k + 1 → bdL 10000 (τ.2.2.2 4 (60 * y + i)) := fun i hi => by
                      have h1 := of_decide_eq_true (allB_iff.mp hz i hi)
                      rw [Int64.le_iff_toInt_le, Int64.le_iff_toInt_le] at h1
                      exact h1
                    have hsp : sp_finer (nI y) (nI k) (nI m) (nI r) τ = match fstN (fun d => enN (spSt y k τ) k m r (unL m k) (tnL d)) 7 0 with | some d => (nI d, b0 τ) | none => (-1, bE τ 8) := by
                      rw [sp_finer, if_neg (show ¬ 0 < spT (nI y) τ by rw [spT_ok hy hn60 e3]; decide), if_neg (fun z => z spF), ix_nI (by omega), e3, show nI k + 1 = nI (k + 1) from nI_add _ 1, if_neg (fun z => absurd ((nI_ltN (by omega) (by omega)).mp z) (by omega)), ix_nI (show k < 2147483648 by omega), ix_nI (show m < 2147483648 by omega), ix_nI (show r < 2147483648 by omega), if_neg (fun z => z hz)]
                      generalize fstN _ 7 0 = oo
                      cases oo <;> rfl
                    refine e_iconst 0 dX0_finer_139 rfl ?_
                    refine e_istore dX0_finer_140 (ls_s (ls_s (ls_s (ls_s (ls_s (ls_1 rfl)))))) (Nat.le_of_ble_eq_true rfl) ?_
                    refine E_mem (M' := XM (xB ξ 11 (rngL (ξ.2.2.2.1 11) 0 0 (fun k => τ.2.2.2 4 (60 * y + k)))) mid dyn) ?_ ?_
                    · rw [rngL_0, xB_self]
                    refine x_fin2 (m := m) (r := r) hm hkn hn60 hs hy hTr hD hg hk (k + 2) 0 (by omega) (by omega) ?_
                    refine e_aload_n dX0_finer_168 0 rfl rfl rfl ?_
                    refine e_iload_n dX0_finer_169 2 rfl rfl ?_
                    refine e_iconst 1 dX0_finer_170 rfl ?_
                    refine e_iaddN k 1 dX0_finer_171 ?_
                    refine e_callV0 (As := [.int (nI (k + 1))]) (rest := []) dX0_finer_172 rfl mvX0_245 (xm_o0) rfl (x_differences (n := k + 1) (by omega) (by omega)) (Nat.le_of_ble_eq_true rfl) rfl rfl (Nat.le_of_ble_eq_true rfl) (Nat.zero_le _) (Nat.zero_le _) ?_
                    refine e_aload_n dX0_finer_175 0 rfl rfl rfl ?_
                    refine e_getf (v := (.ref 8)) dX0_finer_176 rfl fX0_56 (xm_o0) rfl ?_
                    refine e_iconst 0 dX0_finer_179 rfl ?_
                    refine e_aload_n dX0_finer_180 0 rfl rfl rfl ?_
                    refine e_getf (v := (.ref 10)) dX0_finer_181 rfl fX0_64 (xm_o0) rfl ?_
                    refine e_iconst 0 dX0_finer_184 rfl ?_
                    refine e_iload_n dX0_finer_185 2 rfl rfl ?_
                    refine e_iconst 1 dX0_finer_186 rfl ?_
                    refine e_iaddN k 1 dX0_finer_187 ?_
                    refine e_acopyL (sp := 0) (dp := 0) (n := k + 1) (n1 := 16) (n2 := 5) (f := (dfL (k + 1) (rngL (ξ.2.2.2.1 11) 0 (k + 1) (fun k => τ.2.2.2 4 (60 * y + k))) (k + 1 - 1))) (g := ξ.2.2.2.1 15) dX0_finer_188 rfl q564 xm_a11 xm_a15 (by omega) (by omega) (by decide) (by decide) (by decide) ?_
                    rw [xm_s15]
                    refine e_aload_n dX0_finer_191 0 rfl rfl rfl ?_
                    refine e_lconst 1 dX0_finer_192 rfl ?_
                    refine e_xputL dX0_finer_193 rfl pX0_295 (xm_o0) (Nat.le_of_ble_eq_true rfl) (xm_f14 _) ?_
                    refine e_iconst 0 dX0_finer_196 rfl ?_
                    refine e_istore dX0_finer_197 (ls_s (ls_s (ls_s (ls_s (ls_s (ls_1 rfl)))))) (Nat.le_of_ble_eq_true rfl) ?_
                    obtain ⟨ξ1, hξ1⟩ : ∃ ξ1, xB (xB ξ 11 (dfL (k + 1) (rngL (ξ.2.2.2.1 11) 0 (k + 1) (fun k => τ.2.2.2 4 (60 * y + k))) (k + 1 - 1))) 15 (cpV (dfL (k + 1) (rngL (ξ.2.2.2.1 11) 0 (k + 1) (fun k => τ.2.2.2 4 (60 * y + k))) (k + 1 - 1)) (ξ.2.2.2.1 15) 0 0 (k + 1)) = ξ1 := ⟨_, rfl⟩
                    have hS1 : Sy sI sA sB ξ1 ξ := by rw [← hξ1]; exact (Sy.rf.B _ rfl).B _ rfl
                    have hp1 : ∀ q, q ≤ k → ξ1.2.2.2.1 15 q = (spSt y k τ) q := fun q hq => by
                      rw [← hξ1]
                      show cpV (dfL (k + 1) (rngL (ξ.2.2.2.1 11) 0 (k + 1) (fun k => τ.2.2.2 4 (60 * y + k))) (k + 1 - 1)) (ξ.2.2.2.1 15) 0 0 (k + 1) q = dfL (k + 1) (fun q => τ.2.2.2 4 (60 * y + q)) k q
                      unfold cpV
                      rw [if_pos (by omega), Nat.sub_zero, Nat.zero_add]
                      exact dfL_cg (fun i hi => by unfold rngL; rw [if_pos (by omega), Nat.sub_zero]) k q (by omega)
                    rw [hξ1]
                    refine x_fin3 (r := r) (y := y) hk hm2 (k + 1) 0 1 (by omega) (by omega) rfl ?_
                    obtain ⟨ξ2, hξ2⟩ : ∃ ξ2, xL ξ1 14 (unL m k) = ξ2 := ⟨_, rfl⟩
                    have hS2 : Sy sI sA sB ξ2 ξ := by rw [← hξ2]; exact hS1
                    have hp2 : ∀ q, q ≤ k → ξ2.2.2.2.1 15 q = (spSt y k τ) q := by rw [← hξ2]; exact hp1
                    have hl2 : ξ2.2.1 14 = unL m k := by rw [← hξ2]; rfl
                    rw [hξ2]
                    refine e_iconst 0 dX0_finer_228 rfl ?_
                    refine e_istore dX0_finer_229 (ls_s (ls_s (ls_s (ls_s (ls_s (ls_1 rfl)))))) (Nat.le_of_ble_eq_true rfl) ?_
                    refine E_mem (M' := XM (xB ξ2 11 (rngL (ξ2.2.2.2.1 11) 0 0 (fun i => atN (spSt y k τ) k m i))) mid dyn) ?_ ?_
                    · rw [rngL_0, xB_self]
                    refine x_fin4 (r := r) (y := y) hk hm2 hp2 (k + 2) 0 (by omega) (by omega) ?_
                    refine e_aload_n dX0_finer_258 0 rfl rfl rfl ?_
                    refine e_iload_n dX0_finer_259 2 rfl rfl ?_
                    refine e_iconst 1 dX0_finer_260 rfl ?_
                    refine e_iaddN k 1 dX0_finer_261 ?_
                    refine e_callV0 (As := [.int (nI (k + 1))]) (rest := []) dX0_finer_262 rfl mvX0_245 (xm_o0) rfl (x_differences (n := k + 1) (by omega) (by omega)) (Nat.le_of_ble_eq_true rfl) rfl rfl (Nat.le_of_ble_eq_true rfl) (Nat.zero_le _) (Nat.zero_le _) ?_
                    refine e_iconst 0 dX0_finer_265 rfl ?_
                    refine e_istore dX0_finer_266 (ls_s (ls_s (ls_s (ls_s (ls_s (ls_1 rfl)))))) (Nat.le_of_ble_eq_true rfl) ?_
                    refine E_mem (M' := XM (xB (xB ξ2 16 (rngL (ξ2.2.2.2.1 16) 0 0 (fun q => bkN (k + 1) (fun i => atN (dfL (k + 1) (fun q => τ.2.2.2 4 (60 * y + q)) k) k m i) q))) 11 (stT (k + 1) (dfL (k + 1) (rngL (ξ2.2.2.2.1 11) 0 (k + 1) (fun i => atN (spSt y k τ) k m i)) k) ((0 - 1) / 2))) mid dyn) ?_ ?_
                    · rw [rngL_0, xB_self]
                      rfl
                    refine x_fin5 (m := m) (r := r) (y := y) (v := (fun q => τ.2.2.2 4 (60 * y + q))) hk (k + 2) 0 (by omega) (by omega) (fun f => ?_)
                    obtain ⟨ξ3, hξ3⟩ : ∃ ξ3, xB (xB ξ2 16 (rngL (ξ2.2.2.2.1 16) 0 (k + 1) (fun q => bkN (k + 1) (fun i => atN (dfL (k + 1) (fun q => τ.2.2.2 4 (60 * y + q)) k) k m i) q))) 11 f = ξ3 := ⟨_, rfl⟩
                    have hS3 : Sy sI sA sB ξ3 ξ := by rw [← hξ3]; exact (hS2.B _ rfl).B _ rfl
                    have hp3 : ∀ q, q ≤ k → ξ3.2.2.2.1 15 q = (spSt y k τ) q := by rw [← hξ3]; exact hp2
                    have hl3 : ξ3.2.1 14 = unL m k := by rw [← hξ3]; exact hl2
                    have hx3 : ∀ q, q ≤ k → ξ3.2.2.2.1 16 q = bkN (k + 1) (fun i => atN (dfL (k + 1) (fun q => τ.2.2.2 4 (60 * y + q)) k) k m i) q := fun q hq => by
                      rw [← hξ3]
                      show rngL (ξ2.2.2.2.1 16) 0 (k + 1) (fun q => bkN (k + 1) (fun i => atN (dfL (k + 1) (fun q => τ.2.2.2 4 (60 * y + q)) k) k m i) q) q = _
                      unfold rngL
                      rw [if_pos (by omega), Nat.sub_zero]
                    rw [hξ3]
                    refine e_lconst 1 dX0_finer_313 rfl ?_
                    refine e_lstore dX0_finer_314 (ls_s (ls_s (ls_s (ls_s (ls_s (ls_1 rfl)))))) (ln_s (ln_s (ln_s (ln_s (ln_s (ln_s (ln_s ln_0))))))) (Nat.le_of_ble_eq_true rfl) ?_
                    refine e_iconst 0 dX0_finer_316 rfl ?_
                    refine e_istore dX0_finer_317 (ls_s (ls_s (ls_s (ls_s (ls_s (ls_s (ls_s (ls_1 rfl)))))))) (Nat.le_of_ble_eq_true rfl) ?_
                    refine E_mem (M' := XM (xB ξ3 17 (ξ3.2.2.2.1 17)) mid dyn) (by rw [xB_self]) ?_
                    exact x_fin6 hRel hS3 hk hm2 hr hv hp3 hx3 hl3 hsp 8 0 _ (by omega) (by omega) (fun j hj => absurd hj (by omega))
                  · refine e_aload_n dX0_finer_84 0 rfl rfl rfl ?_
                    refine e_iconst 4 dX0_finer_85 rfl ?_
                    refine e_callV1 (As := [.int 4]) (rest := []) dX0_finer_86 rfl mvX0_169 (xm_o0) rfl (x_none 4) (Nat.le_of_ble_eq_true rfl) rfl rfl (Nat.le_of_ble_eq_true rfl) (Nat.zero_le _) (Nat.zero_le _) ?_
                    refine e_ireturn dX0_finer_89 rfl rfl (Nat.zero_le _) (Nat.zero_le _) ?_
                    refine ⟨_, _, own, rfl, ?_, ?_⟩
                    · rw [sp_finer, if_neg (show ¬ 0 < spT (nI y) τ by rw [spT_ok hy hn60 e3]; decide), if_neg (fun z => z spF), ix_nI (by omega), e3, show nI k + 1 = nI (k + 1) from nI_add _ 1, if_pos ((nI_ltN (by omega) (by omega)).mpr (by omega))]
                    · rw [sp_finer, if_neg (show ¬ 0 < spT (nI y) τ by rw [spT_ok hy hn60 e3]; decide), if_neg (fun z => z spF), ix_nI (by omega), e3, show nI k + 1 = nI (k + 1) from nI_add _ 1, if_pos ((nI_ltN (by omega) (by omega)).mpr (by omega))]; exact hRel.stE 4
                · refine e_aload_n dX0_finer_69 0 rfl rfl rfl ?_
                  refine e_iconst 5 dX0_finer_70 rfl ?_
                  refine e_callV1 (As := [.int 5]) (rest := []) dX0_finer_71 rfl mvX0_169 (xm_o0) rfl (x_none 5) (Nat.le_of_ble_eq_true rfl) rfl rfl (Nat.le_of_ble_eq_true rfl) (Nat.zero_le _) (Nat.zero_le _) ?_
                  refine e_ireturn dX0_finer_74 rfl rfl (Nat.zero_le _) (Nat.zero_le _) ?_
                  refine ⟨_, _, own, rfl, ?_, ?_⟩
                  · rw [sp_finer, if_neg (show ¬ 0 < spT (nI y) τ by rw [spT_ok hy hn60 e3]; decide), if_pos (fun z => h66 z.2.2.2)]
                  · rw [sp_finer, if_neg (show ¬ 0 < spT (nI y) τ by rw [spT_ok hy hn60 e3]; decide), if_pos (fun z => h66 z.2.2.2)]; exact hRel.stE 5
  · have h1 : ¬ (0 ≤ t ∧ t < 4) := h1
    refine e_if_ne_f (by decide) 13 dX0_finer_4 (by decide) ?_
    refine e_aload_n dX0_finer_7 0 rfl rfl rfl ?_
    refine e_iconst 1 dX0_finer_8 rfl ?_
    refine e_callV1 (As := [.int 1]) (rest := []) dX0_finer_9 rfl mvX0_169 (xm_o0) rfl (x_none 1) (Nat.le_of_ble_eq_true rfl) rfl rfl (Nat.le_of_ble_eq_true rfl) (Nat.zero_le _) (Nat.zero_le _) ?_
    refine e_ireturn dX0_finer_12 rfl rfl (Nat.zero_le _) (Nat.zero_le _) ?_
    refine ⟨_, _, own, rfl, ?_, ?_⟩
    · rw [sp_finer, if_pos (show 0 < spT t τ by rw [spT_r h1]; decide)]
    · rw [sp_finer, if_pos (show 0 < spT t τ by rw [spT_r h1]; decide), spT_r h1]; exact hRel.st 1

