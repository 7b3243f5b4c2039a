/-! ===== the component: a sheet tried ===== -/
set_option maxHeartbeats 4000000 in
set_option maxRecDepth 100000 in
/-- WheelTables$Tray.cut -/
theorem z_cut0 {ξ : Xs} {mid dyn : List ACell} (hm : mid.length = 61) {t : Nat} (ht : t < 4) {n r : Nat} {g : Nat → Int64} (hn : n ≤ 60) (hTr : ξ.2.2.2.2.2.2 t = (some (117 + r), 0)) (hD : dyn[r]? = some (.inl (2, n, .inl (fun k => (g k).toInt32)))) {v : Int64} : Ct yX3_cut (ws_ yX3_cut cX3_cut 3 (some .long)) 0 0 0 [.ref (52 + t), .long v] (XM ξ mid dyn) (Q1 (some (.long (spCut (nI 0) v))) (XM ξ mid dyn)) noX := by
  have hO : (XM ξ mid dyn)[52 + t]? = some (.inr (3, [.ref (117 + r), .int 0])) := by rw [xm_oT ht, hTr]; rfl
  have hRow : (XM ξ mid dyn)[117 + r]? = some (.inl (2, n, .inl (fun k => (g k).toInt32))) := (xm_d hm r).trans hD
  refine Ct.of (ini := false) (ls := [some (.ref (52 + t)), some (.long v), none]) (by decide) (Nat.le_of_ble_eq_true rfl) (fun h => by cases h) rfl ?_
  refine e_aload_n dX3_cut_0 0 rfl rfl rfl ?_
  refine e_getf (v := (.int 0)) dX3_cut_1 rfl fX3_13 (hO) rfl ?_
  refine e_if_ne_f (by decide) 14 dX3_cut_4 (by decide) ?_
  refine e_lload_n dX3_cut_7 1 rfl rfl ?_
  refine e_l2i dX3_cut_8 ?_
  refine e_i2b dX3_cut_9 ?_
  refine e_i2l dX3_cut_10 ?_
  refine e_goto 44 dX3_cut_11 (by decide) ?_
  refine e_lreturn dX3_cut_44 rfl (Nat.zero_le _) (Nat.zero_le _) ?_
  exact ⟨rfl, rfl⟩

set_option maxHeartbeats 4000000 in
set_option maxRecDepth 100000 in
/-- WheelTables$Tray.cut -/
theorem z_cut1 {ξ : Xs} {mid dyn : List ACell} (hm : mid.length = 61) {t : Nat} (ht : t < 4) {n r : Nat} {g : Nat → Int64} (hn : n ≤ 60) (hTr : ξ.2.2.2.2.2.2 t = (some (117 + r), 1)) (hD : dyn[r]? = some (.inl (3, n, .inl (fun k => (g k).toInt32)))) {v : Int64} : Ct yX3_cut (ws_ yX3_cut cX3_cut 3 (some .long)) 0 0 0 [.ref (52 + t), .long v] (XM ξ mid dyn) (Q1 (some (.long (spCut (nI 1) v))) (XM ξ mid dyn)) noX := by
  have hO : (XM ξ mid dyn)[52 + t]? = some (.inr (3, [.ref (117 + r), .int 1])) := by rw [xm_oT ht, hTr]; rfl
  have hRow : (XM ξ mid dyn)[117 + r]? = some (.inl (3, n, .inl (fun k => (g k).toInt32))) := (xm_d hm r).trans hD
  refine Ct.of (ini := false) (ls := [some (.ref (52 + t)), some (.long v), none]) (by decide) (Nat.le_of_ble_eq_true rfl) (fun h => by cases h) rfl ?_
  refine e_aload_n dX3_cut_0 0 rfl rfl rfl ?_
  refine e_getf (v := (.int 1)) dX3_cut_1 rfl fX3_13 (hO) rfl ?_
  refine e_if_ne_t 14 (by decide) dX3_cut_4 (by decide) ?_
  refine e_aload_n dX3_cut_14 0 rfl rfl rfl ?_
  refine e_getf (v := (.int 1)) dX3_cut_15 rfl fX3_13 (hO) rfl ?_
  refine e_iconst 1 dX3_cut_18 rfl ?_
  refine e_icmp_ne 29 dX3_cut_19 (by decide) (fun h => absurd h (by decide)) (fun _ => ?_)
  refine e_lload_n dX3_cut_22 1 rfl rfl ?_
  refine e_l2i dX3_cut_23 ?_
  refine e_i2s dX3_cut_24 ?_
  refine e_i2l dX3_cut_25 ?_
  refine e_goto 44 dX3_cut_26 (by decide) ?_
  refine e_lreturn dX3_cut_44 rfl (Nat.zero_le _) (Nat.zero_le _) ?_
  exact ⟨rfl, rfl⟩

set_option maxHeartbeats 4000000 in
set_option maxRecDepth 100000 in
/-- WheelTables$Tray.cut -/
theorem z_cut2 {ξ : Xs} {mid dyn : List ACell} (hm : mid.length = 61) {t : Nat} (ht : t < 4) {n r : Nat} {g : Nat → Int64} (hn : n ≤ 60) (hTr : ξ.2.2.2.2.2.2 t = (some (117 + r), 2)) (hD : dyn[r]? = some (.inl (0, n, .inl (fun k => (g k).toInt32)))) {v : Int64} : Ct yX3_cut (ws_ yX3_cut cX3_cut 3 (some .long)) 0 0 0 [.ref (52 + t), .long v] (XM ξ mid dyn) (Q1 (some (.long (spCut (nI 2) v))) (XM ξ mid dyn)) noX := by
  have hO : (XM ξ mid dyn)[52 + t]? = some (.inr (3, [.ref (117 + r), .int 2])) := by rw [xm_oT ht, hTr]; rfl
  have hRow : (XM ξ mid dyn)[117 + r]? = some (.inl (0, n, .inl (fun k => (g k).toInt32))) := (xm_d hm r).trans hD
  refine Ct.of (ini := false) (ls := [some (.ref (52 + t)), some (.long v), none]) (by decide) (Nat.le_of_ble_eq_true rfl) (fun h => by cases h) rfl ?_
  refine e_aload_n dX3_cut_0 0 rfl rfl rfl ?_
  refine e_getf (v := (.int 2)) dX3_cut_1 rfl fX3_13 (hO) rfl ?_
  refine e_if_ne_t 14 (by decide) dX3_cut_4 (by decide) ?_
  refine e_aload_n dX3_cut_14 0 rfl rfl rfl ?_
  refine e_getf (v := (.int 2)) dX3_cut_15 rfl fX3_13 (hO) rfl ?_
  refine e_iconst 1 dX3_cut_18 rfl ?_
  refine e_icmp_ne 29 dX3_cut_19 (by decide) (fun _ => ?_) (fun h => absurd h (by decide))
  refine e_aload_n dX3_cut_29 0 rfl rfl rfl ?_
  refine e_getf (v := (.int 2)) dX3_cut_30 rfl fX3_13 (hO) rfl ?_
  refine e_iconst 2 dX3_cut_33 rfl ?_
  refine e_icmp_ne 43 dX3_cut_34 (by decide) (fun h => absurd h (by decide)) (fun _ => ?_)
  refine e_lload_n dX3_cut_37 1 rfl rfl ?_
  refine e_l2i dX3_cut_38 ?_
  refine e_i2l dX3_cut_39 ?_
  refine e_goto 44 dX3_cut_40 (by decide) ?_
  refine e_lreturn dX3_cut_44 rfl (Nat.zero_le _) (Nat.zero_le _) ?_
  exact ⟨rfl, rfl⟩

set_option maxHeartbeats 4000000 in
set_option maxRecDepth 100000 in
/-- WheelTables$Tray.cut -/
theorem z_cut3 {ξ : Xs} {mid dyn : List ACell} (hm : mid.length = 61) {t : Nat} (ht : t < 4) {n r : Nat} {g : Nat → Int64} (hn : n ≤ 60) (hTr : ξ.2.2.2.2.2.2 t = (some (117 + r), 3)) (hD : dyn[r]? = some (.inl (1, n, .inr (.inl g)))) {v : Int64} : Ct yX3_cut (ws_ yX3_cut cX3_cut 3 (some .long)) 0 0 0 [.ref (52 + t), .long v] (XM ξ mid dyn) (Q1 (some (.long (spCut (nI 3) v))) (XM ξ mid dyn)) noX := by
  have hO : (XM ξ mid dyn)[52 + t]? = some (.inr (3, [.ref (117 + r), .int 3])) := by rw [xm_oT ht, hTr]; rfl
  have hRow : (XM ξ mid dyn)[117 + r]? = some (.inl (1, n, .inr (.inl g))) := (xm_d hm r).trans hD
  refine Ct.of (ini := false) (ls := [some (.ref (52 + t)), some (.long v), none]) (by decide) (Nat.le_of_ble_eq_true rfl) (fun h => by cases h) rfl ?_
  refine e_aload_n dX3_cut_0 0 rfl rfl rfl ?_
  refine e_getf (v := (.int 3)) dX3_cut_1 rfl fX3_13 (hO) rfl ?_
  refine e_if_ne_t 14 (by decide) dX3_cut_4 (by decide) ?_
  refine e_aload_n dX3_cut_14 0 rfl rfl rfl ?_
  refine e_getf (v := (.int 3)) dX3_cut_15 rfl fX3_13 (hO) rfl ?_
  refine e_iconst 1 dX3_cut_18 rfl ?_
  refine e_icmp_ne 29 dX3_cut_19 (by decide) (fun _ => ?_) (fun h => absurd h (by decide))
  refine e_aload_n dX3_cut_29 0 rfl rfl rfl ?_
  refine e_getf (v := (.int 3)) dX3_cut_30 rfl fX3_13 (hO) rfl ?_
  refine e_iconst 2 dX3_cut_33 rfl ?_
  refine e_icmp_ne 43 dX3_cut_34 (by decide) (fun _ => ?_) (fun h => absurd h (by decide))
  refine e_lload_n dX3_cut_43 1 rfl rfl ?_
  refine e_lreturn dX3_cut_44 rfl (Nat.zero_le _) (Nat.zero_le _) ?_
  exact ⟨rfl, rfl⟩

theorem z_cut {ξ : Xs} {mid dyn : List ACell} (hm : mid.length = 61) {t : Nat} (ht : t < 4) {s n r : Nat} {g : Nat → Int64} (hs : s < 4) (hn : n ≤ 60) (hTr : ξ.2.2.2.2.2.2 t = (some (117 + r), nI s)) (hD : dyn[r]? = some (rowC s n g)) {v : Int64} : Ct yX3_cut (ws_ yX3_cut cX3_cut 3 (some .long)) 0 0 0 [.ref (52 + t), .long v] (XM ξ mid dyn) (Q1 (some (.long (spCut (nI s) v))) (XM ξ mid dyn)) noX := by
  rcases (show s = 0 ∨ s = 1 ∨ s = 2 ∨ s = 3 by omega) with rfl | rfl | rfl | rfl
  · exact z_cut0 hm ht hn hTr hD
  · exact z_cut1 hm ht hn hTr hD
  · exact z_cut2 hm ht hn hTr hD
  · exact z_cut3 hm ht hn hTr hD
/-- the same measure and wheels -/
def Smz (η' η : En) : Prop := η'.1 = η.1 ∧ η'.2.1 = η.2.1 ∧ ∀ i, i < η.2.1 → η'.2.2.2.2.2.2.1 i = η.2.2.2.2.2.2.1 i
theorem Sme.z {η' η η2 : En} (h : Sme η' η2) (h2 : Smz η2 η) : Smz η' η := ⟨h.1.trans h2.1, h.2.1.trans h2.2.1, fun i hi => (congrFun h.2.2.2.2.2 i).trans (h2.2.2 i hi)⟩
theorem Smz.rf (η : En) : Smz η η := ⟨rfl, rfl, fun _ _ => rfl⟩
theorem Smz.trans {a b c : En} (h : Smz a b) (g : Smz b c) : Smz a c := ⟨h.1.trans g.1, h.2.1.trans g.2.1, fun i hi => (h.2.2 i (by rw [g.2.1]; exact hi)).trans (g.2.2 i hi)⟩
set_option maxHeartbeats 4000000 in
set_option maxRecDepth 100000 in
/-- a loop of makes -/
theorem x_makes_loop {ξ : Xs} {mid dyn : List ACell} {τ : Tw} (hm : mid.length = 61) {j b q y s n r m : Nat} {g : Nat → Int64} {η : En} {cnt : Nat → Nat → Nat → Nat → Nat} (hO : EngOk τ j) (hH : HlD dyn b (enB (117 + b) η)) (hJ : EnJ η (gA τ j) (gW τ j) m (gR τ j)) (hM : EnM η (gA τ j) (gW τ j) m) (hU : η.2.2.1 = 0) (hF0 : EfM η (gA τ j) (gW τ j) (gF τ j)) (hcn : ∀ t x w c, cE η (nI t) x w c m = cnt t x w c) (hq : q ≤ n) (hn60 : n ≤ 60) (hs : s < 4) (hy : y < 4) (e2 : τ.2.2.1 2 y = nI s) (hTr : ξ.2.2.2.2.2.2 y = (some (117 + r), nI s)) (hD : dyn[r]? = some (rowC s n g)) (hg : ∀ k, k < n → g k = τ.2.2.2 4 (60 * y + k) ∧ fitS s (g k)) (hrb : r < b ∨ b + (8 + 2 * η.1) ≤ r)  : ∀ (fuel : Nat) (k : Nat) (η' : En), k ≤ q → q < k + fuel → Sme η' (nT η (nI k)) → EfM η' (gA τ j) (gW τ j) (trnN (gA τ j) (gW τ j) (gR τ j) cnt 0 (gF τ j) k) → allB (shP τ j y cnt) k = true →
    E cX0_makes (RX0, (some .boolean), 5, 4, (0, 0), false, []) (fun v M' => ∃ η', Smz η' η ∧ M' = XM ξ mid (rpB dyn b (enB (117 + b) η')) ∧ ((shN τ j y q cnt = true ∧ v = some (.int 1)) ∨ (¬ shN τ j y q cnt = true ∧ v = some (.int 0)))) noX 0 0 3 [some (.ref 0), some (.ref (117 + b)), some (.ref (52 + y)), some (.int (nI q)), some (.int (nI k))] [] (XM ξ mid (rpB dyn b (enB (117 + b) η'))) := by
  intro fuel
  induction fuel with
  | zero => intro k η' hk hf hS hF hb; exact absurd hf (by omega)
  | succ fuel ih =>
    intro k η' hk hf hS hF hb
    have hle : b + (enB (117 + b) η').length ≤ dyn.length := by
      have := hH.le (enB_pos _ _)
      rw [enB_len] at this ⊢
      rw [hS.1]; exact this
    have hH' := rpB_Hl hle
    have hJ' : EnJ η' (gA τ j) (gW τ j) m (gR τ j) := hS.J hJ
    have hM' : EnM η' (gA τ j) (gW τ j) m := hM.cg hS.2.2.2.2.1
    have hr : Rds (gW τ j) (gR τ j) := fun i hi => ⟨(hO.2.2.2.2.1 i hi).1, (hO.2.2.2.2.1 i hi).2.1⟩
    have hW12 := hJ'.2.2.2.1
    have hcn' : ∀ x w c, cE η' (η'.2.2.1 + 1) x w c m = cnt (0 + k + 1) x w c := fun x w c => by
      rw [cE_cg (η := η) hS.2.2.2.2.1, hS.2.2.1, Nat.zero_add, ← hcn]
      show cE η (nI k + 1) x w c m = _
      rw [show nI k + 1 = nI (k + 1) from nI_add _ 1]
    refine e_iload dX0_makes_3 rfl ?_
    refine e_iload_n dX0_makes_5 3 rfl rfl ?_
    refine e_icmp_geN k q 40 (by omega) (by omega) dX0_makes_6 (by decide) (fun h6 => ?_) (fun h6 => ?_)
    · refine e_iconst 1 dX0_makes_40 rfl ?_
      refine e_ireturn dX0_makes_41 rfl rfl (Nat.zero_le _) (Nat.zero_le _) ?_
      obtain rfl : k = q := by omega
      exact ⟨η', hS.z ⟨rfl, rfl, fun _ _ => rfl⟩, rfl, Or.inl ⟨hb, rfl⟩⟩
    · refine e_aload_n dX0_makes_9 1 rfl rfl rfl ?_
      refine e_callVQ (As := []) (rest := []) dX0_makes_10 rfl mvX0_265 (xh_o hm hH') rfl (x_turnsX hm hH' hJ' hcn' hr (trnN_ok hW12.1 hr hO.B k) hF hM') (Nat.le_of_ble_eq_true rfl) rfl rfl (Nat.le_of_ble_eq_true rfl) (Nat.zero_le _) (Nat.zero_le _) (fun v0 M0 h0_ _ => ?_)
      obtain ⟨rfl, η1, rfl, hS1, hF1⟩ := h0_
      rw [rpB_rpB hle (by rw [enB_len, enB_len, hS1.1]; rfl)]
      have hle1 : b + (enB (117 + b) η1).length ≤ dyn.length := by
        rw [enB_len] at hle ⊢
        rw [hS1.1]; exact hle
      have hH1 := rpB_Hl hle1
      have hS2 : Sme η1 (nT η (nI (k + 1))) := by
        refine ⟨hS1.1.trans hS.1, hS1.2.1.trans hS.2.1, ?_, hS1.2.2.2.1.trans hS.2.2.2.1, hS1.2.2.2.2.1.trans hS.2.2.2.2.1, hS1.2.2.2.2.2.trans hS.2.2.2.2.2⟩
        refine hS1.2.2.1.trans ?_
        show η'.2.2.1 + 1 = nI (k + 1)
        rw [hS.2.2.1]
        exact nI_add _ 1
      have hz1 : Smz η1 η := hS2.z ⟨rfl, rfl, fun _ _ => rfl⟩
      have hJ1 : EnJ η1 (gA τ j) (gW τ j) m (gR τ j) := hS2.J hJ
      have hon : oaN η1.2.2.2.2.2.2.1 (η1.2.2.2.2.2.2.2 0) (gW τ j) (gW τ j) = oaM (gW τ j) (gR τ j) (trnN (gA τ j) (gW τ j) (gR τ j) cnt 0 (gF τ j) (k + 1)) 0 := oaN_cgx _ (Nat.le_refl _) (fun i hi => hJ1.2.2.2.2.2.2 i hi) (fun i hi => hF1 0 (by have := hO.1.1; omega) i hi)
      have hr1 : r < b ∨ b + (enB (117 + b) η1).length ≤ r := by rw [enB_len, hS2.1]; exact hrb
      have hD1 : (rpB dyn b (enB (117 + b) η1))[r]? = some (rowC s n g) := by
        rw [rpB_out hle1 hr1]; exact hD
      refine e_aload_n dX0_makes_13 2 rfl rfl rfl ?_
      refine e_aload_n dX0_makes_14 1 rfl rfl rfl ?_
      refine e_iconst 0 dX0_makes_15 rfl ?_
      refine e_callV1 (As := [.int 0]) (rest := [.ref (52 + y)]) dX0_makes_16 rfl mvX0_234 (xh_o hm hH1) rfl (x_numX (x := 0) hm hH1 hJ1 (by have := hO.1.1; omega)) (Nat.le_of_ble_eq_true rfl) rfl rfl (Nat.le_of_ble_eq_true rfl) (Nat.zero_le _) (Nat.zero_le _) ?_
      refine e_top (congrArg Value.long hon) ?_
      refine e_callV1 (As := [.long (oaM (gW τ j) (gR τ j) (trnN (gA τ j) (gW τ j) (gR τ j) cnt 0 (gF τ j) (k + 1)) 0)]) (rest := []) dX0_makes_19 rfl mvX0_272 (xm_oT hy) rfl (z_cut hm hy hs hn60 hTr hD1) (Nat.le_of_ble_eq_true rfl) rfl rfl (Nat.le_of_ble_eq_true rfl) (Nat.zero_le _) (Nat.zero_le _) ?_
      refine e_aload_n dX0_makes_22 2 rfl rfl rfl ?_
      refine e_iload dX0_makes_23 rfl ?_
      refine e_callV1 (As := [.int (nI k)]) (rest := [.long (spCut (nI s) (oaM (gW τ j) (gR τ j) (trnN (gA τ j) (gW τ j) (gR τ j) cnt 0 (gF τ j) (k + 1)) 0))]) dX0_makes_25 rfl mvX0_173 (xm_oT hy) rfl (z_get hm hy hs hn60 hTr hD1 (by omega) (hg k (by omega)).2) (Nat.le_of_ble_eq_true rfl) rfl rfl (Nat.le_of_ble_eq_true rfl) (Nat.zero_le _) (Nat.zero_le _) ?_
      refine e_top (congrArg Value.long (hg k (by omega)).1) ?_
      refine e_lcmp_eq 34 dX0_makes_28 dX0_makes_29 (by decide) (fun h28 => ?_) (fun h28 => ?_)
      · refine e_incN k (k + 1) (inc1 _) dX0_makes_34 rfl (ls_s (ls_s (ls_s (ls_1 rfl)))) (Nat.le_of_ble_eq_true rfl) ?_
        refine e_goto 3 dX0_makes_37 (by decide) ?_
        refine ih (k + 1) η1 (by omega) (by omega) hS2 hF1 ?_
        rw [allB, hb, Bool.true_and]
        refine decide_eq_true ?_
        rw [e2]; exact h28
      · refine e_iconst 0 dX0_makes_32 rfl ?_
        refine e_ireturn dX0_makes_33 rfl rfl (Nat.zero_le _) (Nat.zero_le _) ?_
        refine ⟨η1, hz1, rfl, Or.inr ⟨fun z => h28 ?_, rfl⟩⟩
        have hz := of_decide_eq_true ((allB_iff.mp z) k (by omega))
        rw [e2] at hz
        exact hz

set_option maxHeartbeats 4000000 in
set_option maxRecDepth 100000 in
/-- WheelTables.makes -/
theorem x_makes {ξ : Xs} {mid dyn : List ACell} {τ : Tw} (hm : mid.length = 61) {j b q y s n r m : Nat} {g : Nat → Int64} {η : En} {cnt : Nat → Nat → Nat → Nat → Nat} (hO : EngOk τ j) (hH : HlD dyn b (enB (117 + b) η)) (hJ : EnJ η (gA τ j) (gW τ j) m (gR τ j)) (hM : EnM η (gA τ j) (gW τ j) m) (hU : η.2.2.1 = 0) (hF0 : EfM η (gA τ j) (gW τ j) (gF τ j)) (hcn : ∀ t x w c, cE η (nI t) x w c m = cnt t x w c) (hq : q ≤ n) (hn60 : n ≤ 60) (hs : s < 4) (hy : y < 4) (e2 : τ.2.2.1 2 y = nI s) (hTr : ξ.2.2.2.2.2.2 y = (some (117 + r), nI s)) (hD : dyn[r]? = some (rowC s n g)) (hg : ∀ k, k < n → g k = τ.2.2.2 4 (60 * y + k) ∧ fitS s (g k)) (hrb : r < b ∨ b + (8 + 2 * η.1) ≤ r) : Ct yX0_makes (ws_ yX0_makes cX0_makes 5 (some .boolean)) 4 0 0 [.ref 0, .ref (117 + b), .ref (52 + y), .int (nI q)] (XM ξ mid dyn) (fun v M' => ∃ η', Smz η' η ∧ M' = XM ξ mid (rpB dyn b (enB (117 + b) η')) ∧ ((shN τ j y q cnt = true ∧ v = some (.int 1)) ∨ (¬ shN τ j y q cnt = true ∧ v = some (.int 0)))) noX := by
  refine Ct.of (ini := false) (ls := [some (.ref 0), some (.ref (117 + b)), some (.ref (52 + y)), some (.int (nI q)), none]) (by decide) (Nat.le_of_ble_eq_true rfl) (fun h => by cases h) rfl ?_
  refine e_iconst 0 dX0_makes_0 rfl ?_
  refine e_istore dX0_makes_1 (ls_s (ls_s (ls_s (ls_1 rfl)))) (Nat.le_of_ble_eq_true rfl) ?_
  refine E_mem (M' := XM ξ mid (rpB dyn b (enB (117 + b) η))) (by rw [← hH.spl (enB_pos _ _)]) ?_
  exact x_makes_loop hm hO hH hJ hM hU hF0 hcn hq hn60 hs hy e2 hTr hD hg hrb (q + 1) 0 η (by omega) (by omega) ⟨rfl, rfl, hU, rfl, rfl, rfl⟩ hF0 rfl

