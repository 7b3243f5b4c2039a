/-! ===== the twin: reading cards, steps ===== -/
theorem tA_ss (τ : Tw) (k m : Nat) (f : Nat → Int32) : (tA τ k f).2.2.1 k m = f m := congrFun (va_up_self ..) m
theorem tB_ss (τ : Tw) (k m : Nat) (f : Nat → Int64) : (tB τ k f).2.2.2 k m = f m := congrFun (va_up_self ..) m
theorem tA_sn {τ : Tw} {k k' m : Nat} {f : Nat → Int32} (h : ¬ k' = k) : (tA τ k f).2.2.1 k' m = τ.2.2.1 k' m := congrFun (va_up_ne _ _ h) m
theorem tB_sn {τ : Tw} {k k' m : Nat} {f : Nat → Int64} (h : ¬ k' = k) : (tB τ k f).2.2.2 k' m = τ.2.2.2 k' m := congrFun (va_up_ne _ _ h) m
theorem tB_A (τ : Tw) (k k' m : Nat) (f : Nat → Int64) : (tB τ k f).2.2.1 k' m = τ.2.2.1 k' m := rfl
def Bd (τ : Tw) (e : Er) : Prop := τ.1 33 = nI e.1 ∧ 0 < e.1 ∧ e.1 ≤ 5 ∧ τ.1 34 = nI e.2
/-- arrays the same but at m -/
def Bl (m : Nat) (τ' τ : Tw) : Prop := (∀ k j, ¬ j = m → τ'.2.2.1 k j = τ.2.2.1 k j) ∧ ∀ k j, ¬ j = m → τ'.2.2.2 k j = τ.2.2.2 k j
theorem Bl.rf {m : Nat} {τ : Tw} : Bl m τ τ := ⟨fun _ _ _ => rfl, fun _ _ _ => rfl⟩
theorem Bl.trans {m : Nat} {τ τ1 τ2 : Tw} (h : Bl m τ τ1) (g : Bl m τ1 τ2) : Bl m τ τ2 := ⟨fun k j hj => (h.1 k j hj).trans (g.1 k j hj), fun k j hj => (h.2 k j hj).trans (g.2 k j hj)⟩
theorem Bl.I {m : Nat} {τ τ1 : Tw} (h : Bl m τ τ1) {k : Nat} (v : Int32) (_ : True) : Bl m (tI τ k v) τ1 := h
theorem Bl.L {m : Nat} {τ τ1 : Tw} (h : Bl m τ τ1) {k : Nat} (v : Int64) (_ : True) : Bl m (tL τ k v) τ1 := h
theorem Bl.A {m : Nat} {τ τ1 : Tw} (h : Bl m τ τ1) {k : Nat} (v : Int32) : Bl m (tA τ k (upd (τ.2.2.1 k) m v)) τ1 := by
  refine ⟨fun k' j hj => ?_, h.2⟩
  refine Eq.trans ?_ (h.1 k' j hj)
  show va_up τ.2.2.1 k (upd (τ.2.2.1 k) m v) k' j = τ.2.2.1 k' j
  by_cases e : k' = k
  · subst e; rw [va_up_self]; exact pk_un hj
  · rw [va_up_ne _ _ e]
theorem Bl.B {m : Nat} {τ τ1 : Tw} (h : Bl m τ τ1) {k : Nat} (v : Int64) : Bl m (tB τ k (vp_updL (τ.2.2.2 k) m v)) τ1 := by
  refine ⟨h.1, fun k' j hj => ?_⟩
  refine Eq.trans ?_ (h.2 k' j hj)
  show va_up τ.2.2.2 k (vp_updL (τ.2.2.2 k) m v) k' j = τ.2.2.2 k' j
  by_cases e : k' = k
  · subst e; rw [va_up_self]; exact pk_uLn hj
  · rw [va_up_ne _ _ e]
theorem Bl.of {m : Nat} {a b : List Nat} {τ τ1 : Tw} (h : Sx a b [] [] τ τ1) : Bl m τ τ1 := ⟨fun k j _ => by rw [h.2.2.1 k (by simp)], fun k j _ => by rw [h.2.2.2 k (by simp)]⟩
theorem sg_iff {τ : Tw} {t : Tok} (h : TkOk τ t) (hw : t.1 ≤ 4) (c : Int64) : (τ.1 35 = 3 ∧ τ.2.1 40 = c) ↔ sgT t c := by
  rw [h.1]
  constructor
  · intro z
    have h1 : t.1 = 3 := (nI_eqN (b := 3) (by omega) (by omega)).mp z.1
    exact ⟨h1, (h.2.2.2.2 (Or.inr h1)).symm.trans z.2⟩
  · intro z
    exact ⟨by rw [z.1]; rfl, (h.2.2.2.2 (Or.inr z.1)).trans z.2⟩
theorem wd_iff {τ : Tw} {t : Tok} (h : TkOk τ t) (hw : t.1 ≤ 4) (c : Int64) : (τ.1 35 = 1 ∧ τ.2.1 39 = c) ↔ wdT t c := by
  rw [h.1]
  constructor
  · intro z
    have h1 : t.1 = 1 := (nI_eqN (b := 1) (by omega) (by omega)).mp z.1
    exact ⟨h1, (h.2.2.2.1 h1).symm.trans z.2⟩
  · intro z
    exact ⟨by rw [z.1]; rfl, (h.2.2.2.1 z.1).trans z.2⟩
theorem kn_eq {τ : Tw} {t : Tok} (h : TkOk τ t) (hw : t.1 ≤ 4) : (knT t = 8 ∧ knW (τ.1 35) (τ.2.1 39) = -1) ∨ (knT t < 8 ∧ knW (τ.1 35) (τ.2.1 39) = nI (knT t)) := by
  unfold knW knT
  simp only [wd_iff h hw]
  by_cases h0 : wdT t (spW 112 117 116 0 0)
  · rw [if_pos h0, if_pos h0]; exact Or.inr ⟨by decide, rfl⟩
  rw [if_neg h0, if_neg h0]
  by_cases h0 : wdT t (spW 97 100 100 0 0)
  · rw [if_pos h0, if_pos h0]; exact Or.inr ⟨by decide, rfl⟩
  rw [if_neg h0, if_neg h0]
  by_cases h0 : wdT t (spW 115 117 98 0 0)
  · rw [if_pos h0, if_pos h0]; exact Or.inr ⟨by decide, rfl⟩
  rw [if_neg h0, if_neg h0]
  by_cases h0 : wdT t (spW 109 117 108 0 0)
  · rw [if_pos h0, if_pos h0]; exact Or.inr ⟨by decide, rfl⟩
  rw [if_neg h0, if_neg h0]
  by_cases h0 : wdT t (spW 100 105 118 0 0)
  · rw [if_pos h0, if_pos h0]; exact Or.inr ⟨by decide, rfl⟩
  rw [if_neg h0, if_neg h0]
  by_cases h0 : wdT t (spW 112 114 105 110 116)
  · rw [if_pos h0, if_pos h0]; exact Or.inr ⟨by decide, rfl⟩
  rw [if_neg h0, if_neg h0]
  by_cases h0 : wdT t (spW 98 97 99 107 0)
  · rw [if_pos h0, if_pos h0]; exact Or.inr ⟨by decide, rfl⟩
  rw [if_neg h0, if_neg h0]
  by_cases h0 : wdT t (spW 111 110 0 0 0)
  · rw [if_pos h0, if_pos h0]; exact Or.inr ⟨by decide, rfl⟩
  rw [if_neg h0, if_neg h0]
  exact Or.inl ⟨rfl, rfl⟩
theorem tv_of {v : Int64} {lo hi : Nat} (hhi : hi ≤ 100) (hlo : lo ≤ 100) (h1 : lN lo ≤ v) (h2 : v ≤ lN hi) : v = lN v.toNatClampNeg ∧ lo ≤ v.toNatClampNeg ∧ v.toNatClampNeg ≤ hi := by
  rw [Int64.le_iff_toInt_le, lN_toInt (by omega)] at h1 h2
  have h3 : (v.toNatClampNeg : Int) = v.toInt := by
    show ((v.toInt.toNat : Nat) : Int) = v.toInt
    omega
  have h4 : v = lN v.toNatClampNeg := Int64.toInt_inj.mp (by rw [lN_toInt (by omega)]; omega)
  exact ⟨h4, by omega, by omega⟩
theorem tv_i {v : Int64} {lo hi : Nat} (hhi : hi ≤ 100) (hlo : lo ≤ 100) (h1 : lN lo ≤ v) (h2 : v ≤ lN hi) : v.toInt32 = nI v.toNatClampNeg := by
  have h := (tv_of hhi hlo h1 h2)
  rw [h.1, ← nI_l (show v.toNatClampNeg < 2147483648 by omega), Int32.toInt32_toInt64]
  congr 1
  rw [nI_l (show v.toNatClampNeg < 2147483648 by omega), ← h.1]
theorem t_fail0 {pre post : List ACell} {τ : Tw} (hp : pre.length = 56) (a b : Int32) (h33 : τ.1 33 = 0) : Ct yX4_fail (ws_ yX4_fail cX4_fail 3 none) 0 0 0 [.ref 56, .int a, .int b] (TW pre τ post) (Q1 none (TW pre (tI (tI τ 33 a) 34 b) post)) noX := by
  have h := t_fail (post := post) (τ := τ) hp a b
  rw [failT, if_neg (by rw [h33]; decide)] at h
  exact h
theorem t_wrong0 {pre post : List ACell} {τ : Tw} (hp : pre.length = 56) {t : Tok} (hT : TkOk τ t) (hw : t.1 ≤ 4) (h33 : τ.1 33 = 0) : Ct yX4_wrong (ws_ yX4_wrong cX4_wrong 1 none) 1 0 0 [.ref 56] (TW pre τ post) (Q1 none (TW pre (tI (tI τ 33 (nI (bdT t).1)) 34 (nI (bdT t).2)) post)) noX := by
  have h := t_wrongV (post := post) (τ := τ) hp
  have e1 : (if τ.1 35 = 4 then (1 : Int32) else 2) = nI (bdT t).1 := by
    unfold bdT
    rw [hT.1]
    by_cases e : t.1 = 4
    · rw [e]; rfl
    · rw [if_neg e, if_neg (show ¬ nI t.1 = 4 from fun z => e ((nI_eqN (b := 4) (by omega) (by omega)).mp z))]; rfl
  rw [wrongT, failT, if_neg (by rw [h33]; decide), e1, hT.2.1] at h
  exact h
theorem t_nextT {pre post : List ACell} {τ0 : Tw} (hp : pre.length = 56) {f : Nat → Int32} {n : Nat} (hn : n ≤ 500) (e30 : τ0.1 30 = nI n) (e28 : τ0.2.2.1 28 = f) {t : Tok} (hT : TkOk τ0 t) (hW : TkW n t) : Ct yX4_next (ws_ yX4_next cX4_next 2 none) 1 0 0 [.ref 56] (TW pre τ0 post) (fun v0 N => ∃ τ1, N = TW pre τ1 post ∧ v0 = none ∧ Sx [35, 36, 37, 38] [39, 40] [] [] τ1 τ0 ∧ TkOk τ1 (nxT f n t) ∧ TkW n (nxT f n t) ∧ (nxT f n t).1 ≤ 4) noX :=
  (t_next hp hn e30 e28 (p := t.2.2.1) hW.2.2.1 hT.2.2.1).mono (fun v N h => by
    obtain ⟨τ1, h1, h2, h3, h4⟩ := h
    exact ⟨τ1, h1, h2, h3, h4, (nxT_w hW).1, (nxT_w (f := f) hW).1.1⟩) (fun _ _ _ h => h)
set_option maxHeartbeats 4000000 in
set_option maxRecDepth 100000 in
/-- WheelTablesModel.count -/
theorem t_count {pre post : List ACell} {τ0 : Tw} (hp : pre.length = 56) {f : Nat → Int32} {n : Nat} (hn : n ≤ 500) (e30 : τ0.1 30 = nI n) (e28 : τ0.2.2.1 28 = f) {t : Tok} (hT : TkOk τ0 t) (hW : TkW n t) (h33 : τ0.1 33 = 0) {lo hi : Nat} (hlo : lo ≤ 100) (hhi : hi ≤ 100) : Ct yX4_count (ws_ yX4_count cX4_count 4 (some .int)) 2 0 0 [.ref 56, .int (nI lo), .int (nI hi)] (TW pre τ0 post) (fun v0 N => ∃ τ1, N = TW pre τ1 post ∧ Sx [33, 34, 35, 36, 37, 38] [39, 40] [] [] τ1 τ0 ∧ ((∃ e, pzCnt f n lo hi t = .inl e ∧ v0 = some (.int 0) ∧ Bd τ1 e) ∨ ∃ x, pzCnt f n lo hi t = .inr x ∧ v0 = some (.int (nI x.1)) ∧ τ1.1 33 = 0 ∧ TkOk τ1 x.2 ∧ TkW n x.2 ∧ x.2.1 ≤ 4 ∧ lo ≤ x.1 ∧ x.1 ≤ hi ∧ t.2.1 < x.2.2.1)) noX := by
  have hw : t.1 ≤ 4 := hW.1
  have hb1 := (bdT_b t).1
  have hb2 := (bdT_b t).2
  refine Ct.of (ini := false) (ls := [some (.ref 56), some (.int (nI lo)), some (.int (nI hi)), none]) (by decide) (Nat.le_of_ble_eq_true rfl) (fun h => by cases h) rfl ?_
  refine e_aload_n dX4_count_0 0 rfl rfl rfl ?_
  refine e_getf (v := .int (τ0.1 33)) dX4_count_1 rfl fX4_400 (tw_o hp) rfl ?_
  refine e_top (congrArg Value.int h33) ?_
  refine e_if_ne_f (by decide) 19 dX4_count_4 (by decide) ?_
  refine e_aload_n dX4_count_7 0 rfl rfl rfl ?_
  refine e_getf (v := .int (τ0.1 35)) dX4_count_8 rfl fX4_375 (tw_o hp) rfl ?_
  refine e_top (congrArg Value.int hT.1) ?_
  refine e_iconst 2 dX4_count_11 rfl ?_
  refine e_icmp_eqN t.1 2 19 (by omega) (by omega) dX4_count_12 (by decide) (fun h12 => ?_) (fun h12 => ?_)
  · refine e_aload_n dX4_count_19 0 rfl rfl rfl ?_
    refine e_getf (v := .int (τ0.1 33)) dX4_count_20 rfl fX4_400 (tw_o hp) rfl ?_
    refine e_top (congrArg Value.int h33) ?_
    refine e_if_ne_f (by decide) 49 dX4_count_23 (by decide) ?_
    refine e_aload_n dX4_count_26 0 rfl rfl rfl ?_
    refine e_getf (v := .long (τ0.2.1 40)) dX4_count_27 rfl fX4_395 (tw_o hp) rfl ?_
    refine e_top (congrArg Value.long (hT.2.2.2.2 (Or.inl h12))) ?_
    refine e_iload_n dX4_count_30 1 rfl rfl ?_
    refine e_i2lN lo (by omega) dX4_count_31 ?_
    refine e_iload_n dX4_count_32 2 rfl rfl ?_
    refine e_i2lN hi (by omega) dX4_count_33 ?_
    refine e_callSB (As := [.long t.2.2.2, .long (lN lo), .long (lN hi)]) (rest := []) dX4_count_34 rfl msX4_239 (t_isIn t.2.2.2 (lN lo) (lN hi)) (Nat.le_of_ble_eq_true rfl) rfl rfl (Nat.le_of_ble_eq_true rfl) (Nat.zero_le _) (Nat.zero_le _) (fun h34 => ?_) (fun h34 => ?_)
    · have h34 : ((lN lo) ≤ t.2.2.2 ∧ t.2.2.2 ≤ (lN hi)) := h34
      refine e_if_ne_t 49 (by decide) dX4_count_37 (by decide) ?_
      refine e_aload_n dX4_count_49 0 rfl rfl rfl ?_
      refine e_getf (v := .int (τ0.1 33)) dX4_count_50 rfl fX4_400 (tw_o hp) rfl ?_
      refine e_top (congrArg Value.int h33) ?_
      refine e_if_le_t 58 (by decide) dX4_count_53 (by decide) ?_
      refine e_aload_n dX4_count_58 0 rfl rfl rfl ?_
      refine e_getf (v := .long (τ0.2.1 40)) dX4_count_59 rfl fX4_395 (tw_o hp) rfl ?_
      refine e_top (congrArg Value.long (hT.2.2.2.2 (Or.inl h12))) ?_
      refine e_l2i dX4_count_62 ?_
      refine e_top (congrArg Value.int (tv_i hhi hlo h34.1 h34.2)) ?_
      refine e_istore_n dX4_count_63 3 rfl (ls_s (ls_s (ls_1 rfl))) (Nat.le_of_ble_eq_true rfl) ?_
      refine e_aload_n dX4_count_64 0 rfl rfl rfl ?_
      refine e_callVQ (As := []) (rest := []) dX4_count_65 rfl mvX4_412 (tw_o hp) rfl (t_nextT hp hn (by exact e30) (by exact e28) (t := t) (by exact hT) hW) (Nat.le_of_ble_eq_true rfl) rfl rfl (Nat.le_of_ble_eq_true rfl) (Nat.zero_le _) (Nat.zero_le _) (fun v0 M0 h0 _ => ?_)
      obtain ⟨τ1, rfl, rfl, hS_1, hT_1, hW_1, hw_1⟩ := h0
      have e30_1 := (hS_1.1 30 (by decide)).trans e30
      have e28_1 := (hS_1.2.2.1 28 (by simp)).trans e28
      have h33_1 := (hS_1.1 33 (by decide)).trans (show _ = _ from h33)
      refine e_iload_n dX4_count_68 3 rfl rfl ?_
      refine e_ireturn dX4_count_69 rfl rfl (Nat.zero_le _) (Nat.zero_le _) ?_
      refine ⟨_, rfl, ((hS_1.mono (by simp) (by simp) (by simp) (by simp)).trans Sx.rf), Or.inr ⟨(tvN t, nxT f n t), ?_, rfl, h33_1, hT_1, hW_1, hw_1, (tv_of hhi hlo h34.1 h34.2).2.1, (tv_of hhi hlo h34.1 h34.2).2.2, ?_⟩⟩
      · rw [pzCnt, if_neg (fun z => z h12), if_pos h34]
      · have h9 := hW.2.2.2 (by omega)
        have h10 := (nxT_w (f := f) hW).2
        show t.2.1 < (nxT f n t).2.1
        omega
    · have h34 : ¬ ((lN lo) ≤ t.2.2.2 ∧ t.2.2.2 ≤ (lN hi)) := h34
      refine e_if_ne_f (by decide) 49 dX4_count_37 (by decide) ?_
      refine e_aload_n dX4_count_40 0 rfl rfl rfl ?_
      refine e_iconst 4 dX4_count_41 rfl ?_
      refine e_aload_n dX4_count_42 0 rfl rfl rfl ?_
      refine e_getf (v := .int (τ0.1 36)) dX4_count_43 rfl fX4_369 (tw_o hp) rfl ?_
      refine e_top (congrArg Value.int hT.2.1) ?_
      refine e_callV0 (As := [.int 4, .int (nI t.2.1)]) (rest := []) dX4_count_46 rfl mvX4_406 (tw_o hp) rfl (t_fail0 hp 4 (nI t.2.1) (by exact h33)) (Nat.le_of_ble_eq_true rfl) rfl rfl (Nat.le_of_ble_eq_true rfl) (Nat.zero_le _) (Nat.zero_le _) ?_
      refine e_aload_n dX4_count_49 0 rfl rfl rfl ?_
      refine e_getf (v := .int 4) dX4_count_50 rfl fX4_400 (tw_o hp) rfl ?_
      refine e_if_le_f (by decide) 58 dX4_count_53 (by decide) ?_
      refine e_iconst 0 dX4_count_56 rfl ?_
      refine e_ireturn dX4_count_57 rfl rfl (Nat.zero_le _) (Nat.zero_le _) ?_
      refine ⟨_, rfl, ((Sx.rf.I _ (by decide)).I _ (by decide)), Or.inl ⟨(4, t.2.1), ?_, rfl, ⟨rfl, by show 0 < 4; decide, by show 4 ≤ 5; decide, rfl⟩⟩⟩
      rw [pzCnt, if_neg (fun z => z h12), if_neg h34]
  · refine e_aload_n dX4_count_15 0 rfl rfl rfl ?_
    refine e_callV0 (As := []) (rest := []) dX4_count_16 rfl mvX4_409 (tw_o hp) rfl (t_wrong0 hp (t := t) (by exact hT) hw (by exact h33)) (Nat.le_of_ble_eq_true rfl) rfl rfl (Nat.le_of_ble_eq_true rfl) (Nat.zero_le _) (Nat.zero_le _) ?_
    refine e_aload_n dX4_count_19 0 rfl rfl rfl ?_
    refine e_getf (v := .int (nI ((bdT t).1))) dX4_count_20 rfl fX4_400 (tw_o hp) rfl ?_
    refine e_if_neN ((bdT t).1) 49 (by omega) dX4_count_23 (by decide) (fun h23 => ?_) (fun h23 => ?_)
    · refine e_aload_n dX4_count_49 0 rfl rfl rfl ?_
      refine e_getf (v := .int (nI ((bdT t).1))) dX4_count_50 rfl fX4_400 (tw_o hp) rfl ?_
      refine e_if_leN ((bdT t).1) 58 (by omega) dX4_count_53 (by decide) (fun h53 => ?_) (fun h53 => ?_)
      · exact absurd h53 (by have := (bdT_b t).1; omega)
      · refine e_iconst 0 dX4_count_56 rfl ?_
        refine e_ireturn dX4_count_57 rfl rfl (Nat.zero_le _) (Nat.zero_le _) ?_
        refine ⟨_, rfl, ((Sx.rf.I _ (by decide)).I _ (by decide)), Or.inl ⟨(bdT t), ?_, rfl, ⟨rfl, (bdT_b t).1, (bdT_b t).2, rfl⟩⟩⟩
        rw [pzCnt, if_pos h12]
    · exact absurd h23 (by have := (bdT_b t).1; omega)

