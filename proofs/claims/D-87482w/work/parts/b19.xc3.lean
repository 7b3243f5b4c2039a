/-! ===== the component: tray, write, read (2) ===== -/
theorem xI_xI (ξ : Xs) (k : Nat) (a b : Int32) : xI (xI ξ k a) k b = xI ξ k b := by
  have h : upd (upd ξ.1 k a) k b = upd ξ.1 k b := by funext j; unfold upd; split <;> rfl
  exact congrArg (fun z => (z, ξ.2)) h
theorem vp_inI {i : Int32} {n : Nat} (hn : n < 2147483648) : ¬ vp_in i n ↔ (i < 0 ∨ nI n ≤ i) := by
  refine ⟨vp_inN hn, fun h z => ?_⟩
  obtain ⟨j, hj, rfl⟩ := vp_inE z
  rcases h with h | h
  · exact absurd h (nI_pos (by omega))
  · exact absurd ((nI_leN hn (by omega)).mp h) (by omega)
theorem spT_r {t : Int32} {τ : Tw} (h : ¬ (0 ≤ t ∧ t < 4)) : spT t τ = 1 := by
  unfold spT
  rw [if_pos]
  by_cases h0 : t < 0
  · exact Or.inl h0
  · exact Or.inr (Int32.not_lt.mp fun z => h ⟨Int32.not_lt.mp h0, z⟩)
theorem spT_m {j : Nat} {τ : Tw} (hj : j < 4) (h : τ.2.2.1 3 j = -1) : spT (nI j) τ = 3 := by
  unfold spT
  rw [if_neg (not_or.mpr ⟨nI_pos (by omega), fun (z : (4 : Int32) ≤ nI j) => absurd ((nI_leN (a := 4) (by omega) (by omega)).mp z) (by omega)⟩), ix_nI (by omega), h, if_pos (by decide)]
theorem spT_ok {j n : Nat} {τ : Tw} (hj : j < 4) (hn : n ≤ 60) (h : τ.2.2.1 3 j = nI n) : spT (nI j) τ = 0 := by
  unfold spT
  rw [if_neg (not_or.mpr ⟨nI_pos (by omega), fun (z : (4 : Int32) ≤ nI j) => absurd ((nI_leN (a := 4) (by omega) (by omega)).mp z) (by omega)⟩), ix_nI (by omega), h, if_neg (nI_pos (by omega))]
theorem spP_r {t k : Int32} {τ : Tw} (h : ¬ (0 ≤ t ∧ t < 4)) : spP t k τ = 1 := by
  unfold spP; rw [spT_r h, if_pos (by decide)]
theorem spP_m {j : Nat} {k : Int32} {τ : Tw} (hj : j < 4) (h : τ.2.2.1 3 j = -1) : spP (nI j) k τ = 3 := by
  unfold spP; rw [spT_m hj h, if_pos (by decide)]
theorem spP_b {j n : Nat} {k : Int32} {τ : Tw} (hj : j < 4) (hn : n ≤ 60) (h : τ.2.2.1 3 j = nI n) (hk : ¬ vp_in k n) : spP (nI j) k τ = 4 := by
  unfold spP; rw [spT_ok hj hn h, if_neg (by decide), ix_nI (by omega), h, if_pos ((vp_inI (by omega)).mp hk)]
theorem spP_ok {j n i : Nat} {τ : Tw} (hj : j < 4) (hn : n ≤ 60) (h : τ.2.2.1 3 j = nI n) (hi : i < n) : spP (nI j) (nI i) τ = 0 := by
  unfold spP; rw [spT_ok hj hn h, if_neg (by decide), ix_nI (by omega), h, if_neg (not_or.mpr ⟨nI_pos (by omega), fun z => absurd ((nI_leN (by omega) (by omega)).mp z) (by omega)⟩)]
theorem in_0_4 {t : Int32} (h : 0 ≤ t ∧ t < 4) : ∃ j, j < 4 ∧ t = nI j := in_lt 4 (by decide) (i32_le h.1) h.2
set_option maxHeartbeats 4000000 in
set_option maxRecDepth 100000 in
/-- WheelTables.write -/
theorem x_write {ξ : Xs} {mid dyn : List ACell} {τ : Tw} {own : Nat → Nat} (hm : mid.length = 61) (hRel : Rel own ξ dyn τ) (t k : Int32) (v : Int64) : Ct yX0_write (wsW_ yX0_write cX0_write 6 (some .boolean) [(13, 24, 27, 165), (13, 24, 35, 167)]) 1 3 222 [.ref 0, .int t, .int k, .long v] (XM ξ mid dyn) (XQi mid (sp_write t k v τ)) noX := by
  obtain ⟨hI, hA, hB, hW, hP, hR, hT, hE, hC, hV⟩ := id hRel
  refine Ct.ofW (ls := [some (.ref 0), some (.int t), some (.int k), some (.long v), none, none]) (by decide) (Nat.le_of_ble_eq_true rfl) rfl ?_
  refine e_iload_n dX0_write_0 1 rfl rfl ?_
  refine e_callSB (As := [.int t]) (rest := []) dX0_write_1 rfl msX0_148 (x_isTray t) (Nat.le_of_ble_eq_true rfl) rfl rfl (Nat.le_of_ble_eq_true rfl) (Nat.le_of_ble_eq_true rfl) (Nat.le_of_ble_eq_true rfl) (fun h1 => ?_) (fun h1 => ?_)
  · have h1 : (0 ≤ t ∧ t < 4) := h1
    refine e_if_ne_t 13 (by decide) dX0_write_4 (by decide) ?_
    obtain ⟨j, hj, rfl⟩ := in_0_4 h1
    refine e_aload_n dX0_write_13 0 rfl rfl rfl ?_
    refine e_getf (v := (.ref 1)) dX0_write_14 rfl fX0_11 (xm_o0) rfl ?_
    refine e_iload_n dX0_write_17 1 rfl rfl ?_
    refine e_aald (f := trF) (j := j) dX0_write_18 xm_r1 (fun _ => rfl) rfl (by omega) (by decide) ?_
    refine e_top (congrArg rfO (trF_at (by omega))) ?_
    refine e_iload_n dX0_write_19 2 rfl rfl ?_
    refine e_lload_n dX0_write_20 3 rfl rfl ?_
    refine e_invV (As := [.int k, .long v]) (rest := []) dX0_write_21 rfl mvX0_161 (xm_oT (by omega)) rfl (y_set hm hRel hj) (Nat.le_of_ble_eq_true rfl) rfl rfl (Nat.le_of_ble_eq_true rfl) (Nat.le_of_ble_eq_true rfl) (Nat.le_of_ble_eq_true rfl) (fun u M' hu _ => ?_) (fun cl w M' hx _ => ?_)
    · obtain ⟨rfl, dyn', n, q, hn, hq, rfl, e3, rfl, hRel2⟩ := hu
      refine e_goto 43 dX0_write_24 (by decide) ?_
      refine e_aload_n dX0_write_43 0 rfl rfl rfl ?_
      refine e_iconst 0 dX0_write_44 rfl ?_
      refine e_callV1 (As := [.int 0]) (rest := []) dX0_write_45 rfl mvX0_152 (xm_o0) rfl (x_is0) (Nat.le_of_ble_eq_true rfl) rfl rfl (Nat.le_of_ble_eq_true rfl) (Nat.le_of_ble_eq_true rfl) (Nat.le_of_ble_eq_true rfl) ?_
      refine e_ireturn dX0_write_48 rfl rfl (Nat.le_of_ble_eq_true rfl) (Nat.le_of_ble_eq_true rfl) ?_
      refine ⟨_, _, own, rfl, ?_, ?_⟩
      · unfold sp_write; rw [spP_ok hj hn e3 hq, if_neg (by decide)]
      · unfold sp_write; rw [spP_ok hj hn e3 hq, if_neg (by decide), ix_nI (by omega), ix_nI (by omega)]; exact hRel2.st 0
    · rcases hx with ⟨⟨rfl, e3⟩ | ⟨rfl, n, hn, e3, hin⟩, rfl⟩
      · refine ex_catchA [] ⟨13, 24, 27, 165⟩ [⟨13, 24, 35, 167⟩] rfl (fun _ h => by cases h) rfl (by decide) q494 q516 dX0_write_27 (ls_s (ls_s (ls_s (ls_s (ls_1 rfl))))) (Nat.le_of_ble_eq_true rfl) ?_
        refine e_aload_n dX0_write_29 0 rfl rfl rfl ?_
        refine e_iconst 3 dX0_write_30 rfl ?_
        refine e_callV1 (As := [.int 3]) (rest := []) dX0_write_31 rfl mvX0_152 (xm_o0) rfl (x_isN (w := 3) (by decide)) (Nat.le_of_ble_eq_true rfl) rfl rfl (Nat.le_of_ble_eq_true rfl) (Nat.le_of_ble_eq_true rfl) (Nat.le_of_ble_eq_true rfl) ?_
        refine e_ireturn dX0_write_34 rfl rfl (Nat.le_of_ble_eq_true rfl) (Nat.le_of_ble_eq_true rfl) ?_
        refine ⟨_, _, own, rfl, ?_, ?_⟩
        · unfold sp_write; rw [spP_m hj e3, if_pos (by decide)]
        · unfold sp_write; rw [spP_m hj e3, if_pos (by decide)]; exact hRel.st 3
      · refine ex_catchA [⟨13, 24, 27, 165⟩] ⟨13, 24, 35, 167⟩ [] rfl (fun z hz => by rw [List.mem_singleton.mp hz]; exact ⟨by decide, rfl, q494⟩) rfl (by decide) q519 q534 dX0_write_35 (ls_s (ls_s (ls_s (ls_s (ls_1 rfl))))) (Nat.le_of_ble_eq_true rfl) ?_
        refine e_aload_n dX0_write_37 0 rfl rfl rfl ?_
        refine e_iconst 4 dX0_write_38 rfl ?_
        refine e_callV1 (As := [.int 4]) (rest := []) dX0_write_39 rfl mvX0_152 (xm_o0) rfl (x_isN (w := 4) (by decide)) (Nat.le_of_ble_eq_true rfl) rfl rfl (Nat.le_of_ble_eq_true rfl) (Nat.le_of_ble_eq_true rfl) (Nat.le_of_ble_eq_true rfl) ?_
        refine e_ireturn dX0_write_42 rfl rfl (Nat.le_of_ble_eq_true rfl) (Nat.le_of_ble_eq_true rfl) ?_
        refine ⟨_, _, own, rfl, ?_, ?_⟩
        · unfold sp_write; rw [spP_b hj hn e3 hin, if_pos (by decide)]
        · unfold sp_write; rw [spP_b hj hn e3 hin, if_pos (by decide)]; exact hRel.st 4
  · have h1 : ¬ (0 ≤ t ∧ t < 4) := h1
    refine e_if_ne_f (by decide) 13 dX0_write_4 (by decide) ?_
    refine e_aload_n dX0_write_7 0 rfl rfl rfl ?_
    refine e_iconst 1 dX0_write_8 rfl ?_
    refine e_callV1 (As := [.int 1]) (rest := []) dX0_write_9 rfl mvX0_152 (xm_o0) rfl (x_isN (w := 1) (by decide)) (Nat.le_of_ble_eq_true rfl) rfl rfl (Nat.le_of_ble_eq_true rfl) (Nat.le_of_ble_eq_true rfl) (Nat.le_of_ble_eq_true rfl) ?_
    refine e_ireturn dX0_write_12 rfl rfl (Nat.le_of_ble_eq_true rfl) (Nat.le_of_ble_eq_true rfl) ?_
    refine ⟨_, _, own, rfl, ?_, ?_⟩
    · unfold sp_write; rw [spP_r h1, if_pos (by decide)]
    · unfold sp_write; rw [spP_r h1, if_pos (by decide)]; exact hRel.st 1

set_option maxHeartbeats 4000000 in
set_option maxRecDepth 100000 in
/-- WheelTables.read -/
theorem x_read {ξ : Xs} {mid dyn : List ACell} {τ : Tw} {own : Nat → Nat} (hm : mid.length = 61) (hRel : Rel own ξ dyn τ) (t k : Int32) : Ct yX0_read (wsW_ yX0_read cX0_read 4 (some .long) [(19, 29, 30, 165), (19, 29, 39, 167)]) 1 3 222 [.ref 0, .int t, .int k] (XM ξ mid dyn) (XQl mid (sp_read t k τ)) noX := by
  obtain ⟨hI, hA, hB, hW, hP, hR, hT, hE, hC, hV⟩ := id hRel
  refine Ct.ofW (ls := [some (.ref 0), some (.int t), some (.int k), none]) (by decide) (Nat.le_of_ble_eq_true rfl) rfl ?_
  refine e_iload_n dX0_read_0 1 rfl rfl ?_
  refine e_callSB (As := [.int t]) (rest := []) dX0_read_1 rfl msX0_148 (x_isTray t) (Nat.le_of_ble_eq_true rfl) rfl rfl (Nat.le_of_ble_eq_true rfl) (Nat.le_of_ble_eq_true rfl) (Nat.le_of_ble_eq_true rfl) (fun h1 => ?_) (fun h1 => ?_)
  · have h1 : (0 ≤ t ∧ t < 4) := h1
    refine e_if_ne_t 14 (by decide) dX0_read_4 (by decide) ?_
    obtain ⟨j, hj, rfl⟩ := in_0_4 h1
    refine e_aload_n dX0_read_14 0 rfl rfl rfl ?_
    refine e_iconst 0 dX0_read_15 rfl ?_
    refine e_xputI dX0_read_16 rfl pX0_145 rfl (xm_o0) (Nat.le_of_ble_eq_true rfl) (xm_f8 _) ?_
    refine e_aload_n dX0_read_19 0 rfl rfl rfl ?_
    refine e_getf (v := (.ref 1)) dX0_read_20 rfl fX0_11 (xm_o0) rfl ?_
    refine e_iload_n dX0_read_23 1 rfl rfl ?_
    refine e_aald (f := trF) (j := j) dX0_read_24 xm_r1 (fun _ => rfl) rfl (by omega) (by decide) ?_
    refine e_top (congrArg rfO (trF_at (by omega))) ?_
    refine e_iload_n dX0_read_25 2 rfl rfl ?_
    refine e_invV (As := [.int k]) (rest := []) dX0_read_26 rfl mvX0_173 (xm_oT (by omega)) rfl (y_get hm (hRel.st 0) hj) (Nat.le_of_ble_eq_true rfl) rfl rfl (Nat.le_of_ble_eq_true rfl) (Nat.le_of_ble_eq_true rfl) (Nat.le_of_ble_eq_true rfl) (fun u M' hu _ => ?_) (fun cl w M' hx _ => ?_)
    · obtain ⟨rfl, n, q, hn, hq, rfl, e3, rfl⟩ := hu
      refine e_lreturn dX0_read_29 rfl (Nat.le_of_ble_eq_true rfl) (Nat.le_of_ble_eq_true rfl) ?_
      refine ⟨_, _, own, rfl, ?_, ?_⟩
      · unfold sp_read; rw [spP_ok (τ := τ) hj hn e3 hq, if_neg (by decide), ix_nI (by omega), ix_nI (by omega)]; rfl
      · unfold sp_read; rw [spP_ok (τ := τ) hj hn e3 hq, if_neg (by decide)]; exact hRel.st 0
    · rcases hx with ⟨⟨rfl, e3⟩ | ⟨rfl, n, hn, e3, hin⟩, rfl⟩
      · refine ex_catchAn 3 rfl [] ⟨19, 29, 30, 165⟩ [⟨19, 29, 39, 167⟩] rfl (fun _ h => by cases h) rfl (by decide) q494 q516 dX0_read_30 (ls_s (ls_s (ls_1 rfl))) (Nat.le_of_ble_eq_true rfl) ?_
        refine e_aload_n dX0_read_31 0 rfl rfl rfl ?_
        refine e_iconst 3 dX0_read_32 rfl ?_
        refine e_xputI dX0_read_33 rfl pX0_145 rfl (xm_o0) (Nat.le_of_ble_eq_true rfl) (xm_f8 _) ?_
        refine e_goto 45 dX0_read_36 (by decide) ?_
        refine e_ldc2 rfl q558 dX0_read_45 ?_
        refine e_lreturn dX0_read_48 rfl (Nat.le_of_ble_eq_true rfl) (Nat.le_of_ble_eq_true rfl) ?_
        refine ⟨_, _, own, rfl, ?_, ?_⟩
        · unfold sp_read; rw [spP_m (τ := τ) hj e3, if_pos (by decide)]
        · unfold sp_read; rw [spP_m (τ := τ) hj e3, if_pos (by decide)]; rw [xI_xI]; exact hRel.st 3
      · refine ex_catchAn 3 rfl [⟨19, 29, 30, 165⟩] ⟨19, 29, 39, 167⟩ [] rfl (fun z hz => by rw [List.mem_singleton.mp hz]; exact ⟨by decide, rfl, q494⟩) rfl (by decide) q519 q534 dX0_read_39 (ls_s (ls_s (ls_1 rfl))) (Nat.le_of_ble_eq_true rfl) ?_
        refine e_aload_n dX0_read_40 0 rfl rfl rfl ?_
        refine e_iconst 4 dX0_read_41 rfl ?_
        refine e_xputI dX0_read_42 rfl pX0_145 rfl (xm_o0) (Nat.le_of_ble_eq_true rfl) (xm_f8 _) ?_
        refine e_ldc2 rfl q558 dX0_read_45 ?_
        refine e_lreturn dX0_read_48 rfl (Nat.le_of_ble_eq_true rfl) (Nat.le_of_ble_eq_true rfl) ?_
        refine ⟨_, _, own, rfl, ?_, ?_⟩
        · unfold sp_read; rw [spP_b (τ := τ) hj hn e3 hin, if_pos (by decide)]
        · unfold sp_read; rw [spP_b (τ := τ) hj hn e3 hin, if_pos (by decide)]; rw [xI_xI]; exact hRel.st 4
  · have h1 : ¬ (0 ≤ t ∧ t < 4) := h1
    refine e_if_ne_f (by decide) 14 dX0_read_4 (by decide) ?_
    refine e_aload_n dX0_read_7 0 rfl rfl rfl ?_
    refine e_iconst 1 dX0_read_8 rfl ?_
    refine e_callV1 (As := [.int 1]) (rest := []) dX0_read_9 rfl mvX0_169 (xm_o0) rfl (x_none 1) (Nat.le_of_ble_eq_true rfl) rfl rfl (Nat.le_of_ble_eq_true rfl) (Nat.le_of_ble_eq_true rfl) (Nat.le_of_ble_eq_true rfl) ?_
    refine e_i2l dX0_read_12 ?_
    refine e_lreturn dX0_read_13 rfl (Nat.le_of_ble_eq_true rfl) (Nat.le_of_ble_eq_true rfl) ?_
    refine ⟨_, _, own, rfl, ?_, ?_⟩
    · unfold sp_read; rw [spP_r h1, if_pos (by decide)]; rfl
    · unfold sp_read; rw [spP_r h1, if_pos (by decide)]; exact hRel.st 1

set_option maxHeartbeats 4000000 in
set_option maxRecDepth 100000 in
/-- WheelTables.tray -/
theorem x_tray {ξ : Xs} {mid dyn : List ACell} {τ : Tw} {own : Nat → Nat} (hm : mid.length = 61) (hRel : Rel own ξ dyn τ) (t s n : Int32) : Ct yX0_tray (wsW_ yX0_tray cX0_tray 5 (some .boolean) [(34, 45, 48, 159)]) 1 3 60 [.ref 0, .int t, .int s, .int n] (XM ξ mid dyn) (XQi mid (sp_tray t s n τ)) noX := by
  obtain ⟨hI, hA, hB, hW, hP, hR, hT, hE, hC, hV⟩ := id hRel
  refine Ct.ofW (ls := [some (.ref 0), some (.int t), some (.int s), some (.int n), none]) (by decide) (Nat.le_of_ble_eq_true rfl) rfl ?_
  refine e_iload_n dX0_tray_0 1 rfl rfl ?_
  refine e_callSB (As := [.int t]) (rest := []) dX0_tray_1 rfl msX0_148 (x_isTray t) (Nat.le_of_ble_eq_true rfl) rfl rfl (Nat.le_of_ble_eq_true rfl) (Nat.le_of_ble_eq_true rfl) (Nat.le_of_ble_eq_true rfl) (fun h1 => ?_) (fun h1 => ?_)
  · have h1 : (0 ≤ t ∧ t < 4) := h1
    refine e_if_eq_f (by decide) 16 dX0_tray_4 (by decide) ?_
    refine e_iload_n dX0_tray_7 2 rfl rfl ?_
    refine e_if_lt 16 dX0_tray_8 (by decide) (fun h8 => ?_) (fun h8 => ?_)
    · refine e_aload_n dX0_tray_16 0 rfl rfl rfl ?_
      refine e_iconst 1 dX0_tray_17 rfl ?_
      refine e_callV1 (As := [.int 1]) (rest := []) dX0_tray_18 rfl mvX0_152 (xm_o0) rfl (x_isN (w := 1) (by decide)) (Nat.le_of_ble_eq_true rfl) rfl rfl (Nat.le_of_ble_eq_true rfl) (Nat.le_of_ble_eq_true rfl) (Nat.le_of_ble_eq_true rfl) ?_
      refine e_ireturn dX0_tray_21 rfl rfl (Nat.le_of_ble_eq_true rfl) (Nat.le_of_ble_eq_true rfl) ?_
      refine ⟨_, _, own, rfl, ?_, ?_⟩
      · unfold sp_tray; rw [if_pos (Or.inr (Or.inr (Or.inl h8)))]
      · unfold sp_tray; rw [if_pos (Or.inr (Or.inr (Or.inl h8)))]; exact hRel.stE 1
    · refine e_iload_n dX0_tray_11 2 rfl rfl ?_
      refine e_iconst 3 dX0_tray_12 rfl ?_
      refine e_icmp_le 22 dX0_tray_13 (by decide) (fun h13 => ?_) (fun h13 => ?_)
      · have hz : ¬ (t < 0 ∨ 4 ≤ t ∨ s < 0 ∨ 3 < s) := by
          rintro (z | z | z | z)
          · exact absurd z (Int32.not_lt.mpr h1.1)
          · exact absurd h1.2 (Int32.not_lt.mpr z)
          · exact h8 z
          · exact absurd h13 (Int32.not_le.mpr z)
        refine e_iload_n dX0_tray_22 3 rfl rfl ?_
        refine e_bipush 60 dX0_tray_23 rfl ?_
        refine e_icmp_le 34 dX0_tray_25 (by decide) (fun h25 => ?_) (fun h25 => ?_)
        · obtain ⟨j, hj, rfl⟩ := in_0_4 h1
          obtain ⟨c, hc, rfl⟩ : ∃ c, c < 4 ∧ s = nI c := by
            obtain ⟨c, hc, rfl⟩ := in_le 3 (by decide) h8 h13
            exact ⟨c, by omega, rfl⟩
          refine e_aload_n dX0_tray_34 0 rfl rfl rfl ?_
          refine e_getf (v := (.ref 1)) dX0_tray_35 rfl fX0_11 (xm_o0) rfl ?_
          refine e_iload_n dX0_tray_38 1 rfl rfl ?_
          refine e_aald (f := trF) (j := j) dX0_tray_39 xm_r1 (fun _ => rfl) rfl (by omega) (by decide) ?_
          refine e_top (congrArg rfO (trF_at (by omega))) ?_
          refine e_iload_n dX0_tray_40 2 rfl rfl ?_
          refine e_iload_n dX0_tray_41 3 rfl rfl ?_
          refine e_invV (As := [.int (nI c), .int n]) (rest := []) dX0_tray_42 rfl mvX0_155 (xm_oT (by omega)) rfl (y_make hm hRel hj hc h25) (Nat.le_of_ble_eq_true rfl) rfl rfl (Nat.le_of_ble_eq_true rfl) (Nat.le_of_ble_eq_true rfl) (Nat.le_of_ble_eq_true rfl) (fun u M' hu _ => ?_) (fun cl w M' hx _ => ?_)
          · obtain ⟨rfl, q, ξ1, dyn1, own1, hq, rfl, rfl, hRel2⟩ := hu
            refine e_goto 57 dX0_tray_45 (by decide) ?_
            refine e_aload_n dX0_tray_57 0 rfl rfl rfl ?_
            refine e_iconst 0 dX0_tray_58 rfl ?_
            refine e_callV1 (As := [.int 0]) (rest := []) dX0_tray_59 rfl mvX0_152 (xm_o0) rfl (x_is0) (Nat.le_of_ble_eq_true rfl) rfl rfl (Nat.le_of_ble_eq_true rfl) (Nat.le_of_ble_eq_true rfl) (Nat.le_of_ble_eq_true rfl) ?_
            refine e_ireturn dX0_tray_62 rfl rfl (Nat.le_of_ble_eq_true rfl) (Nat.le_of_ble_eq_true rfl) ?_
            refine ⟨_, _, own1, rfl, ?_, ?_⟩
            · unfold sp_tray; rw [if_neg hz, if_neg (i32_le h25), if_neg (nI_pos (by omega))]
            · unfold sp_tray; rw [if_neg hz, if_neg (i32_le h25), if_neg (nI_pos (by omega)), ix_nI (by omega), ix_nI (by omega)]; exact hRel2.st 0
          · rcases hx with ⟨rfl, hx0, rfl⟩
            · refine ex_catchA [] ⟨34, 45, 48, 159⟩ [] rfl (fun _ h => by cases h) rfl (by decide) q451 q471 dX0_tray_48 (ls_s (ls_s (ls_s (ls_1 rfl)))) (Nat.le_of_ble_eq_true rfl) ?_
              refine e_aload_n dX0_tray_50 0 rfl rfl rfl ?_
              refine e_bipush 6 dX0_tray_51 rfl ?_
              refine e_callV1 (As := [.int 6]) (rest := []) dX0_tray_53 rfl mvX0_152 (xm_o0) rfl (x_isN (w := 6) (by decide)) (Nat.le_of_ble_eq_true rfl) rfl rfl (Nat.le_of_ble_eq_true rfl) (Nat.le_of_ble_eq_true rfl) (Nat.le_of_ble_eq_true rfl) ?_
              refine e_ireturn dX0_tray_56 rfl rfl (Nat.le_of_ble_eq_true rfl) (Nat.le_of_ble_eq_true rfl) ?_
              refine ⟨_, _, own, rfl, ?_, ?_⟩
              · unfold sp_tray; rw [if_neg hz, if_neg (i32_le h25), if_pos hx0]
              · unfold sp_tray; rw [if_neg hz, if_neg (i32_le h25), if_pos hx0]; exact hRel.stE 6
        · refine e_aload_n dX0_tray_28 0 rfl rfl rfl ?_
          refine e_iconst 5 dX0_tray_29 rfl ?_
          refine e_callV1 (As := [.int 5]) (rest := []) dX0_tray_30 rfl mvX0_152 (xm_o0) rfl (x_isN (w := 5) (by decide)) (Nat.le_of_ble_eq_true rfl) rfl rfl (Nat.le_of_ble_eq_true rfl) (Nat.le_of_ble_eq_true rfl) (Nat.le_of_ble_eq_true rfl) ?_
          refine e_ireturn dX0_tray_33 rfl rfl (Nat.le_of_ble_eq_true rfl) (Nat.le_of_ble_eq_true rfl) ?_
          refine ⟨_, _, own, rfl, ?_, ?_⟩
          · unfold sp_tray; rw [if_neg hz, if_pos (i32_nle h25)]
          · unfold sp_tray; rw [if_neg hz, if_pos (i32_nle h25)]; exact hRel.stE 5
      · refine e_aload_n dX0_tray_16 0 rfl rfl rfl ?_
        refine e_iconst 1 dX0_tray_17 rfl ?_
        refine e_callV1 (As := [.int 1]) (rest := []) dX0_tray_18 rfl mvX0_152 (xm_o0) rfl (x_isN (w := 1) (by decide)) (Nat.le_of_ble_eq_true rfl) rfl rfl (Nat.le_of_ble_eq_true rfl) (Nat.le_of_ble_eq_true rfl) (Nat.le_of_ble_eq_true rfl) ?_
        refine e_ireturn dX0_tray_21 rfl rfl (Nat.le_of_ble_eq_true rfl) (Nat.le_of_ble_eq_true rfl) ?_
        refine ⟨_, _, own, rfl, ?_, ?_⟩
        · unfold sp_tray; rw [if_pos (Or.inr (Or.inr (Or.inr (Int32.not_le.mp h13))))]
        · unfold sp_tray; rw [if_pos (Or.inr (Or.inr (Or.inr (Int32.not_le.mp h13))))]; exact hRel.stE 1
  · have h1 : ¬ (0 ≤ t ∧ t < 4) := h1
    refine e_if_eq_t 16 (by decide) dX0_tray_4 (by decide) ?_
    refine e_aload_n dX0_tray_16 0 rfl rfl rfl ?_
    refine e_iconst 1 dX0_tray_17 rfl ?_
    refine e_callV1 (As := [.int 1]) (rest := []) dX0_tray_18 rfl mvX0_152 (xm_o0) rfl (x_isN (w := 1) (by decide)) (Nat.le_of_ble_eq_true rfl) rfl rfl (Nat.le_of_ble_eq_true rfl) (Nat.le_of_ble_eq_true rfl) (Nat.le_of_ble_eq_true rfl) ?_
    refine e_ireturn dX0_tray_21 rfl rfl (Nat.le_of_ble_eq_true rfl) (Nat.le_of_ble_eq_true rfl) ?_
    refine ⟨_, _, own, rfl, ?_, ?_⟩
    · unfold sp_tray; rw [if_pos (if h0 : t < 0 then Or.inl h0 else Or.inr (Or.inl (Int32.not_lt.mp fun z => h1 ⟨Int32.not_lt.mp h0, z⟩)))]
    · unfold sp_tray; rw [if_pos (if h0 : t < 0 then Or.inl h0 else Or.inr (Or.inl (Int32.not_lt.mp fun z => h1 ⟨Int32.not_lt.mp h0, z⟩)))]; exact hRel.stE 1

