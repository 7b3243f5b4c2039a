/-! ===== the component: reading a card ===== -/
section
variable {ξ : Xs} {mid dyn : List ACell} {K w p : Int32} {at_ : Nat → Int32} {v : Int64}
theorem xc_o (hm : mid.length = 61) : (XM ξ mid (dyn ++ cdB (117 + dyn.length) K at_ v w p))[117 + dyn.length]? = some (.inr (7, [.int K, .ref (117 + dyn.length + 1), .long v, .int w, .int p])) := by
  rw [xm_d hm, List.getElem?_append_right (Nat.le_refl _), Nat.sub_self]; rfl
theorem xc_a (hm : mid.length = 61) : (XM ξ mid (dyn ++ cdB (117 + dyn.length) K at_ v w p))[117 + dyn.length + 1]? = some (.inl (0, 4, .inl at_)) := by
  rw [Nat.add_assoc, xm_d hm, List.getElem?_append_right (by omega), show dyn.length + 1 - dyn.length = 1 by omega]; rfl
theorem xc_s0 (hm : mid.length = 61) (c : ACell) : (XM ξ mid (dyn ++ cdB (117 + dyn.length) K at_ v w p)).set (117 + dyn.length) c = XM ξ mid (dyn ++ [c, .inl (0, 4, .inl at_)]) := by
  rw [xm_ds hm, List.set_append_right _ _ (Nat.le_refl _), Nat.sub_self]; rfl
theorem xc_sv (hm : mid.length = 61) (v' : Int64) : (XM ξ mid (dyn ++ cdB (117 + dyn.length) K at_ v w p)).set (117 + dyn.length) (.inr (7, [.int K, .ref (117 + dyn.length + 1), .long v', .int w, .int p])) = XM ξ mid (dyn ++ cdB (117 + dyn.length) K at_ v' w p) := xc_s0 hm _
theorem xc_sw (hm : mid.length = 61) (w' : Int32) : (XM ξ mid (dyn ++ cdB (117 + dyn.length) K at_ v w p)).set (117 + dyn.length) (.inr (7, [.int K, .ref (117 + dyn.length + 1), .long v, .int w', .int p])) = XM ξ mid (dyn ++ cdB (117 + dyn.length) K at_ v w' p) := xc_s0 hm _
theorem xc_sp (hm : mid.length = 61) (p' : Int32) : (XM ξ mid (dyn ++ cdB (117 + dyn.length) K at_ v w p)).set (117 + dyn.length) (.inr (7, [.int K, .ref (117 + dyn.length + 1), .long v, .int w, .int p'])) = XM ξ mid (dyn ++ cdB (117 + dyn.length) K at_ v w p') := xc_s0 hm _
theorem xc_sa (hm : mid.length = 61) (f : Nat → Int32) : (XM ξ mid (dyn ++ cdB (117 + dyn.length) K at_ v w p)).set (117 + dyn.length + 1) (.inl (0, 4, .inl f)) = XM ξ mid (dyn ++ cdB (117 + dyn.length) K f v w p) := by
  rw [Nat.add_assoc, xm_ds hm, List.set_append_right _ _ (by omega), show dyn.length + 1 - dyn.length = 1 by omega]; rfl
end
/-- the same but for the token and what is wrong -/
def SyP (ξ ξ' : Xs) : Prop := (∀ k, k ∉ [103, 104, 105, 206, 207] → ξ'.1 k = ξ.1 k) ∧ ξ'.2.2 = ξ.2.2
theorem SyN.p {a b : Xs} (h : SyN a b) : SyP a b := ⟨fun k hk => h.1 k (fun z => hk (by
  rcases List.mem_cons.mp z with e | z
  · rw [e]; decide
  · rcases List.mem_cons.mp z with e | z
    · rw [e]; decide
    · rw [List.mem_singleton.mp z]; decide)), h.2⟩
theorem SyP.I {ξ a : Xs} (h : SyP ξ a) {k : Nat} (v : Int32) (hk : k ∈ [103, 104, 105, 206, 207]) : SyP ξ (xI a k v) := ⟨fun j hj => (pk_un (fun e => hj (by rw [e]; exact hk))).trans (h.1 j hj), h.2⟩
theorem SyP.tr {a b c : Xs} (h : SyP a b) (g : SyP b c) : SyP a c := ⟨fun k hk => (g.1 k hk).trans (h.1 k hk), g.2.trans h.2⟩
/-- what is wrong is told -/
def ErX (e : Er) (ξ : Xs) : Prop := ξ.1 206 = nI e.1 ∧ ξ.1 207 = nI e.2
/-- the end of a part that failed -/
def ErQ {α : Type} (r : Er ⊕ α) (ξ : Xs) (mid dyn : List ACell) : Qxun := fun cl w N => cl = RX1 ∧ w = some 3 ∧ ∃ e ξ' X, r = .inl e ∧ N = XM ξ' mid (dyn ++ X) ∧ ErX e ξ' ∧ SyP ξ ξ'
theorem TkG.nx {f : Nat → Int32} {n : Nat} {t : Tok} (h : TkG f n t) : TkG f n (nxT f n t) := TkG.of h.1.2.2.1
theorem nv_bd {a e : Nat} {v : Int64} (h : nvI a e v v) (he : e ≤ a + 12) : 0 ≤ v.toInt ∧ v.toInt ≤ 999999999999 := by
  obtain ⟨-, h1, h2⟩ := h he
  have := pw10_12 (d := e - a) (by omega)
  omega
theorem nv_b1 {v : Int64} (h : 0 ≤ v.toInt ∧ v.toInt ≤ 999999999999) : (-999999999999 ≤ v ∧ v ≤ 999999999999) ∧ -999999999999 ≤ -v ∧ -v ≤ 999999999999 := by
  have e1 : (-v).toInt = -v.toInt := by rw [Int64.toInt_neg, Int.bmod_eq_of_le (by omega) (by omega)]
  have c1 : (-999999999999 : Int64).toInt = -999999999999 := rfl
  have c2 : (999999999999 : Int64).toInt = 999999999999 := rfl
  exact ⟨⟨by rw [Int64.le_iff_toInt_le, c1]; omega, by rw [Int64.le_iff_toInt_le, c2]; omega⟩, by rw [Int64.le_iff_toInt_le, c1, e1]; omega, by rw [Int64.le_iff_toInt_le, c2, e1]; omega⟩
set_option maxHeartbeats 4000000 in
set_option maxRecDepth 100000 in
/-- WheelTables$Reader.whole -/
theorem x_whole {ξ : Xs} {mid dyn : List ACell} {f : Nat → Int32} {n : Nat} (hn : n ≤ 500) (h102 : ξ.1 102 = nI n) (hf : ξ.2.2.1 100 = f) (hm : mid.length = 61) {t : Tok} (hG : TkG f n t) (hT : TkX t ξ) {K w p : Int32} {at_ : Nat → Int32} : Ct yX2_whole (ws_ yX2_whole cX2_whole 3 none) 3 0 0 [.ref 4, .ref (117 + dyn.length)] (XM ξ mid (dyn ++ cdB (117 + dyn.length) K at_ 0 w p)) (fun v N => ∃ r ξ', pzWho f n t = .inr r ∧ N = XM ξ' mid (dyn ++ cdB (117 + dyn.length) K at_ r.1 w p) ∧ v = none ∧ SyN ξ ξ' ∧ TkX r.2 ξ' ∧ TkG f n r.2 ∧ t.2.2.1 ≤ r.2.2.1 ∧ -999999999999 ≤ r.1 ∧ r.1 ≤ 999999999999) (ErQ (pzWho f n t) ξ mid dyn) := by
  obtain ⟨h103, h104, h105, h106⟩ := id hT
  obtain ⟨hW4, hW1, hW2, hW3⟩ := hG.1
  have hs4 := srT_le t.1
  have hS := SyN.rf ξ
  refine Ct.of (ini := false) (ls := [some (.ref 4), some (.ref (117 + dyn.length)), none]) (by decide) (Nat.le_of_ble_eq_true rfl) (fun h => by cases h) rfl ?_
  refine e_aload_n dX2_whole_0 0 rfl rfl rfl ?_
  refine e_bipush 45 dX2_whole_1 rfl ?_
  refine e_callVB (As := [.int 45]) (rest := []) dX2_whole_3 rfl mvX2_99 (xm_o4) rfl (x_isC hn h102 hf hG hT (c := 45) (cl := 45) rfl) (Nat.le_of_ble_eq_true rfl) rfl rfl (Nat.le_of_ble_eq_true rfl) (Nat.zero_le _) (Nat.zero_le _) (fun h3 => ?_) (fun h3 => ?_)
  · refine e_istore_n dX2_whole_6 2 rfl (ls_s (ls_1 rfl)) (Nat.le_of_ble_eq_true rfl) ?_
    refine e_iload_n dX2_whole_7 2 rfl rfl ?_
    refine e_if_eq_f (by decide) 15 dX2_whole_8 (by decide) ?_
    refine e_aload_n dX2_whole_11 0 rfl rfl rfl ?_
    refine e_callVQ (As := []) (rest := []) dX2_whole_12 rfl mvX2_85 (xm_o4) rfl (x_next hn h102 hf (p := t.2.2.1) hG.1.2.2.1 h105) (Nat.le_of_ble_eq_true rfl) rfl rfl (Nat.le_of_ble_eq_true rfl) (Nat.zero_le _) (Nat.zero_le _) (fun v0 M0 h0_ _ => ?_)
    obtain ⟨ξ1, rfl, rfl, hS9, hT⟩ := h0_
    obtain ⟨t1, e_t1⟩ : ∃ z, nxT f n t = z := ⟨_, rfl⟩
    replace hS := hS.tr hS9
    replace h102 : ξ1.1 102 = nI n := (hS9.1 102 (by decide)).trans h102
    replace hf : ξ1.2.2.1 100 = f := (congrArg (fun z => z.1 100) hS9.2).trans hf
    have hle9 := (nxT_w (f := f) hG.1).2
    replace hG := hG.nx
    rw [e_t1] at hG hle9
    replace hT : TkX t1 ξ1 := by rw [← e_t1]; exact hT
    obtain ⟨h103, h104, h105, h106⟩ := id hT
    obtain ⟨hW4, hW1, hW2, hW3⟩ := hG.1
    have hs4 := srT_le t1.1
    refine e_aload_n dX2_whole_15 0 rfl rfl rfl ?_
    refine e_aload_n dX2_whole_16 0 rfl rfl rfl ?_
    refine e_getf (v := (.int (ξ1.1 103))) dX2_whole_17 rfl fX2_37 (xm_o4) rfl ?_
    refine e_top (congrArg Value.int h103) ?_
    refine e_iconst 3 dX2_whole_20 rfl ?_
    refine e_icmp_neN (srT t1.1) 3 28 (by omega) (by omega) dX2_whole_21 (by decide) (fun h21 => ?_) (fun h21 => ?_)
    · refine e_iconst 0 dX2_whole_28 rfl ?_
      refine e_invV (As := [.int 0]) (rest := []) dX2_whole_29 rfl mvX2_91 (xm_o4) rfl (x_need0 hn h102 hf hG hT) (Nat.le_of_ble_eq_true rfl) rfl rfl (Nat.le_of_ble_eq_true rfl) (Nat.zero_le _) (Nat.zero_le _) (fun _ _ h _ => h.elim) (fun cl w9 M9 hx _ => ?_)
      obtain ⟨rfl, rfl, rfl⟩ := hx
      refine ex_out (fun _ h => by cases h) (Nat.zero_le _) (Nat.zero_le _) ?_
      refine ⟨rfl, rfl, bdT t1, _, _, ?_, rfl, ⟨rfl, rfl⟩, (hS.p.I _ (by decide)).I _ (by decide)⟩
      rw [pzWho, if_pos h3, e_t1, pzWhM, if_pos (fun z => h21 (srT_3.mpr z))]
    · refine e_iconst 1 dX2_whole_24 rfl ?_
      refine e_goto 29 dX2_whole_25 (by decide) ?_
      refine e_callV0 (As := [.int 1]) (rest := []) dX2_whole_29 rfl mvX2_91 (xm_o4) rfl (x_need1) (Nat.le_of_ble_eq_true rfl) rfl rfl (Nat.le_of_ble_eq_true rfl) (Nat.zero_le _) (Nat.zero_le _) ?_
      have hnum := hG.2.2 (srT_3.mp h21)
      have hbv := nv_b1 (nv_bd hnum.1 hnum.2)
      refine e_aload_n dX2_whole_32 1 rfl rfl rfl ?_
      refine e_iload_n dX2_whole_33 2 rfl rfl ?_
      refine e_if_eq_f (by decide) 45 dX2_whole_34 (by decide) ?_
      refine e_aload_n dX2_whole_37 0 rfl rfl rfl ?_
      refine e_getf (v := (.long (ξ1.2.1 106))) dX2_whole_38 rfl fX2_33 (xm_o4) rfl ?_
      refine e_top (congrArg Value.long (h106 (Or.inl (srT_3.mp h21)))) ?_
      refine e_lneg dX2_whole_41 ?_
      refine e_goto 49 dX2_whole_42 (by decide) ?_
      refine e_xputL dX2_whole_49 rfl pX2_105 (xc_o hm) (Nat.le_of_ble_eq_true rfl) (xc_sv hm _) ?_
      refine e_aload_n dX2_whole_52 0 rfl rfl rfl ?_
      refine e_callVQ (As := []) (rest := []) dX2_whole_53 rfl mvX2_85 (xm_o4) rfl (x_next hn h102 hf (p := t1.2.2.1) hG.1.2.2.1 h105) (Nat.le_of_ble_eq_true rfl) rfl rfl (Nat.le_of_ble_eq_true rfl) (Nat.zero_le _) (Nat.zero_le _) (fun v0 M0 h0_ _ => ?_)
      obtain ⟨ξ2, rfl, rfl, hS9, hT⟩ := h0_
      obtain ⟨t2, e_t2⟩ : ∃ z, nxT f n t1 = z := ⟨_, rfl⟩
      replace hS := hS.tr hS9
      replace h102 : ξ2.1 102 = nI n := (hS9.1 102 (by decide)).trans h102
      replace hf : ξ2.2.2.1 100 = f := (congrArg (fun z => z.1 100) hS9.2).trans hf
      have hle9 := (nxT_w (f := f) hG.1).2
      replace hG := hG.nx
      rw [e_t2] at hG hle9
      replace hT : TkX t2 ξ2 := by rw [← e_t2]; exact hT
      obtain ⟨h103, h104, h105, h106⟩ := id hT
      obtain ⟨hW4, hW1, hW2, hW3⟩ := hG.1
      have hs4 := srT_le t2.1
      refine e_return dX2_whole_56 rfl (Nat.zero_le _) (Nat.zero_le _) ?_
      refine ⟨(-t1.2.2.2, t2), _, ?_, rfl, rfl, hS, hT, hG, by show t.2.2.1 ≤ t2.2.1; omega, hbv.2⟩
      rw [pzWho, if_pos h3, e_t1, pzWhM, if_neg (fun z => z (srT_3.mp h21)), if_pos rfl, e_t2]
  · refine e_istore_n dX2_whole_6 2 rfl (ls_s (ls_1 rfl)) (Nat.le_of_ble_eq_true rfl) ?_
    refine e_iload_n dX2_whole_7 2 rfl rfl ?_
    refine e_if_eq_t 15 (by decide) dX2_whole_8 (by decide) ?_
    refine e_aload_n dX2_whole_15 0 rfl rfl rfl ?_
    refine e_aload_n dX2_whole_16 0 rfl rfl rfl ?_
    refine e_getf (v := (.int (ξ.1 103))) dX2_whole_17 rfl fX2_37 (xm_o4) rfl ?_
    refine e_top (congrArg Value.int h103) ?_
    refine e_iconst 3 dX2_whole_20 rfl ?_
    refine e_icmp_neN (srT t.1) 3 28 (by omega) (by omega) dX2_whole_21 (by decide) (fun h21 => ?_) (fun h21 => ?_)
    · refine e_iconst 0 dX2_whole_28 rfl ?_
      refine e_invV (As := [.int 0]) (rest := []) dX2_whole_29 rfl mvX2_91 (xm_o4) rfl (x_need0 hn h102 hf hG hT) (Nat.le_of_ble_eq_true rfl) rfl rfl (Nat.le_of_ble_eq_true rfl) (Nat.zero_le _) (Nat.zero_le _) (fun _ _ h _ => h.elim) (fun cl w9 M9 hx _ => ?_)
      obtain ⟨rfl, rfl, rfl⟩ := hx
      refine ex_out (fun _ h => by cases h) (Nat.zero_le _) (Nat.zero_le _) ?_
      refine ⟨rfl, rfl, bdT t, _, _, ?_, rfl, ⟨rfl, rfl⟩, (hS.p.I _ (by decide)).I _ (by decide)⟩
      rw [pzWho, if_neg h3, pzWhM, if_pos (fun z => h21 (srT_3.mpr z))]
    · refine e_iconst 1 dX2_whole_24 rfl ?_
      refine e_goto 29 dX2_whole_25 (by decide) ?_
      refine e_callV0 (As := [.int 1]) (rest := []) dX2_whole_29 rfl mvX2_91 (xm_o4) rfl (x_need1) (Nat.le_of_ble_eq_true rfl) rfl rfl (Nat.le_of_ble_eq_true rfl) (Nat.zero_le _) (Nat.zero_le _) ?_
      have hnum := hG.2.2 (srT_3.mp h21)
      have hbv := nv_b1 (nv_bd hnum.1 hnum.2)
      refine e_aload_n dX2_whole_32 1 rfl rfl rfl ?_
      refine e_iload_n dX2_whole_33 2 rfl rfl ?_
      refine e_if_eq_t 45 (by decide) dX2_whole_34 (by decide) ?_
      refine e_aload_n dX2_whole_45 0 rfl rfl rfl ?_
      refine e_getf (v := (.long (ξ.2.1 106))) dX2_whole_46 rfl fX2_33 (xm_o4) rfl ?_
      refine e_top (congrArg Value.long (h106 (Or.inl (srT_3.mp h21)))) ?_
      refine e_xputL dX2_whole_49 rfl pX2_105 (xc_o hm) (Nat.le_of_ble_eq_true rfl) (xc_sv hm _) ?_
      refine e_aload_n dX2_whole_52 0 rfl rfl rfl ?_
      refine e_callVQ (As := []) (rest := []) dX2_whole_53 rfl mvX2_85 (xm_o4) rfl (x_next hn h102 hf (p := t.2.2.1) hG.1.2.2.1 h105) (Nat.le_of_ble_eq_true rfl) rfl rfl (Nat.le_of_ble_eq_true rfl) (Nat.zero_le _) (Nat.zero_le _) (fun v0 M0 h0_ _ => ?_)
      obtain ⟨ξ3, rfl, rfl, hS9, hT⟩ := h0_
      obtain ⟨t3, e_t3⟩ : ∃ z, nxT f n t = z := ⟨_, rfl⟩
      replace hS := hS.tr hS9
      replace h102 : ξ3.1 102 = nI n := (hS9.1 102 (by decide)).trans h102
      replace hf : ξ3.2.2.1 100 = f := (congrArg (fun z => z.1 100) hS9.2).trans hf
      have hle9 := (nxT_w (f := f) hG.1).2
      replace hG := hG.nx
      rw [e_t3] at hG hle9
      replace hT : TkX t3 ξ3 := by rw [← e_t3]; exact hT
      obtain ⟨h103, h104, h105, h106⟩ := id hT
      obtain ⟨hW4, hW1, hW2, hW3⟩ := hG.1
      have hs4 := srT_le t3.1
      refine e_return dX2_whole_56 rfl (Nat.zero_le _) (Nat.zero_le _) ?_
      refine ⟨(t.2.2.2, t3), _, ?_, rfl, rfl, hS, hT, hG, by show t.2.2.1 ≤ t3.2.1; omega, hbv.1⟩
      rw [pzWho, if_neg h3, pzWhM, if_neg (fun z => z (srT_3.mp h21)), if_neg (by decide), e_t3]

