/-! ===== the component: trays ===== -/
theorem vp_inE {i : Int32} {n : Nat} (h : vp_in i n) : ∃ j, j < n ∧ i = nI j := by
  unfold vp_in at h
  obtain ⟨j, hj, rfl⟩ := nI_of (fun z => h (Or.inl z))
  exact ⟨j, by rw [nI_clamp hj] at h; omega, rfl⟩
theorem vp_inN {i : Int32} {n : Nat} (hn : n < 2147483648) (h : ¬ vp_in i n) : i < 0 ∨ nI n ≤ i := by
  by_cases h0 : i < 0
  · exact Or.inl h0
  · obtain ⟨j, hj, rfl⟩ := nI_of h0
    refine Or.inr ((nI_leN hn hj).mpr (Nat.not_lt.mp fun z => h ?_))
    exact vp_in_nI z (by omega)
def rgv (s : Nat) (v : Int64) : Int64 := if s = 3 then v else v.toInt32.toInt64
theorem spCut_0 (v : Int64) : spCut (nI 0) v = v.toInt32.toInt8.toInt32.toInt64 := rfl
theorem spCut_1 (v : Int64) : spCut (nI 1) v = v.toInt32.toInt16.toInt32.toInt64 := rfl
theorem spCut_2 (v : Int64) : spCut (nI 2) v = v.toInt32.toInt64 := rfl
theorem spCut_3 (v : Int64) : spCut (nI 3) v = v := rfl
theorem rgv_fit {s : Nat} {v : Int64} (hs : s < 4) (h : fitS s v) : rgv s v = v := by
  unfold fitS at h
  rcases (show s = 0 ∨ s = 1 ∨ s = 2 ∨ s = 3 by omega) with rfl | rfl | rfl | rfl
  · rw [spCut_0] at h; show v.toInt32.toInt64 = v; rw [← h, Int32.toInt32_toInt64]
  · rw [spCut_1] at h; show v.toInt32.toInt64 = v; rw [← h, Int32.toInt32_toInt64]
  · exact h
  · rfl
theorem spCut_fit {s : Nat} (hs : s < 4) (v : Int64) : fitS s (spCut (nI s) v) := by
  unfold fitS
  rcases (show s = 0 ∨ s = 1 ∨ s = 2 ∨ s = 3 by omega) with rfl | rfl | rfl | rfl
  · rw [spCut_0, spCut_0, Int32.toInt32_toInt64, Int8.toInt8_toInt32]
  · rw [spCut_1, spCut_1, Int32.toInt32_toInt64, Int16.toInt16_toInt32]
  · rw [spCut_2, spCut_2, Int32.toInt32_toInt64]
  · rfl
theorem row_up {n j : Nat} {g : Nat → Int64} {c : Int64} {x : Int32} (h : c.toInt32 = x) : (fun k => (vp_updL g j c k).toInt32) = upd (fun k => (g k).toInt32) j x := by
  funext k
  unfold vp_updL upd
  split
  · exact h
  · rfl
set_option maxHeartbeats 4000000 in
set_option maxRecDepth 100000 in
/-- WheelTables$Tray.many -/
theorem y_many0 {ξ : Xs} {mid dyn : List ACell} (hm : mid.length = 61) {t : Nat} (ht : t < 4) {n r : Nat} {g : Nat → Int64} (hn : n ≤ 60) (hTr : ξ.2.2.2.2.2.2 t = (some (117 + r), 0)) (hD : dyn[r]? = some (.inl (2, n, .inl (fun k => (g k).toInt32)))) : Ct yX3_many (ws_ yX3_many cX3_many 1 (some .int)) 0 0 0 [.ref (52 + t)] (XM ξ mid dyn) (Q1 (some (.int (nI n))) (XM ξ mid dyn)) noX := by
  have hO : (XM ξ mid dyn)[52 + t]? = some (.inr (3, [.ref (117 + r), .int 0])) := by rw [xm_oT ht, hTr]; rfl
  have hRow : (XM ξ mid dyn)[117 + r]? = some (.inl (2, n, .inl (fun k => (g k).toInt32))) := (xm_d hm r).trans hD
  refine Ct.of (ini := false) (ls := [some (.ref (52 + t))]) (by decide) (Nat.le_of_ble_eq_true rfl) (fun h => by cases h) rfl ?_
  refine e_aload_n dX3_many_0 0 rfl rfl rfl ?_
  refine e_getf (v := (.int 0)) dX3_many_1 rfl fX3_13 (hO) rfl ?_
  refine e_if_ne_f (by decide) 18 dX3_many_4 (by decide) ?_
  refine e_aload_n dX3_many_7 0 rfl rfl rfl ?_
  refine e_getf (v := (.ref (117 + r))) dX3_many_8 rfl fX3_7 (hO) rfl ?_
  refine e_castA dX3_many_11 rfl q542 hRow (fun _ => rfl) (fun _ h => by cases h) (by decide +kernel) ?_
  refine e_alen (v := nI n) dX3_many_14 hRow (fun _ => rfl) rfl ?_
  refine e_goto 64 dX3_many_15 (by decide) ?_
  refine e_ireturn dX3_many_64 rfl rfl (Nat.zero_le _) (Nat.zero_le _) ?_
  exact ⟨rfl, rfl⟩

set_option maxHeartbeats 4000000 in
set_option maxRecDepth 100000 in
/-- WheelTables$Tray.get -/
theorem y_get0 {ξ : Xs} {mid dyn : List ACell} (hm : mid.length = 61) {t : Nat} (ht : t < 4) {n r : Nat} {g : Nat → Int64} (hn : n ≤ 60) (hTr : ξ.2.2.2.2.2.2 t = (some (117 + r), 0)) (hD : dyn[r]? = some (.inl (2, n, .inl (fun k => (g k).toInt32)))) {j : Nat} (hj : j < n) : Ct yX3_get (ws_ yX3_get cX3_get 2 (some .long)) 0 3 222 [.ref (52 + t), .int (nI j)] (XM ξ mid dyn) (fun u M' => M' = XM ξ mid dyn ∧ u = some (.long (rgv 0 (g j)))) noX := by
  have hO : (XM ξ mid dyn)[52 + t]? = some (.inr (3, [.ref (117 + r), .int 0])) := by rw [xm_oT ht, hTr]; rfl
  have hRow : (XM ξ mid dyn)[117 + r]? = some (.inl (2, n, .inl (fun k => (g k).toInt32))) := (xm_d hm r).trans hD
  refine Ct.of (ini := false) (ls := [some (.ref (52 + t)), some (.int (nI j))]) (by decide) (Nat.le_of_ble_eq_true rfl) (fun h => by cases h) rfl ?_
  refine e_aload_n dX3_get_0 0 rfl rfl rfl ?_
  refine e_getf (v := (.int 0)) dX3_get_1 rfl fX3_13 (hO) rfl ?_
  refine e_if_ne_f (by decide) 20 dX3_get_4 (by decide) ?_
  refine e_aload_n dX3_get_7 0 rfl rfl rfl ?_
  refine e_getf (v := (.ref (117 + r))) dX3_get_8 rfl fX3_7 (hO) rfl ?_
  refine e_castA dX3_get_11 rfl q542 hRow (fun _ => rfl) (fun _ h => by cases h) (by decide +kernel) ?_
  refine e_iload_n dX3_get_14 1 rfl rfl ?_
  refine e_bald (f := fun k => (g k).toInt32) (j := j) dX3_get_15 hRow rfl hj (by omega) ?_
  refine e_i2l dX3_get_16 ?_
  refine e_goto 71 dX3_get_17 (by decide) ?_
  refine e_lreturn dX3_get_71 rfl (Nat.zero_le _) (Nat.zero_le _) ?_
  exact ⟨rfl, rfl⟩

set_option maxHeartbeats 4000000 in
set_option maxRecDepth 100000 in
/-- WheelTables$Tray.get -/
theorem y_getZ0 {ξ : Xs} {mid dyn : List ACell} (hm : mid.length = 61) {t : Nat} (ht : t < 4) {n r : Nat} {g : Nat → Int64} (hn : n ≤ 60) (hTr : ξ.2.2.2.2.2.2 t = (some (117 + r), 0)) (hD : dyn[r]? = some (.inl (2, n, .inl (fun k => (g k).toInt32)))) {i : Int32} (hin : ¬ vp_in i n) : Ct yX3_get (ws_ yX3_get cX3_get 2 (some .long)) 0 3 222 [.ref (52 + t), .int i] (XM ξ mid dyn) (fun _ _ => False) (fun c _ M' => c = "java/lang/ArrayIndexOutOfBoundsException" ∧ ¬ vp_in i n ∧ M' = XM ξ mid dyn) := by
  have hO : (XM ξ mid dyn)[52 + t]? = some (.inr (3, [.ref (117 + r), .int 0])) := by rw [xm_oT ht, hTr]; rfl
  have hRow : (XM ξ mid dyn)[117 + r]? = some (.inl (2, n, .inl (fun k => (g k).toInt32))) := (xm_d hm r).trans hD
  refine Ct.of (ini := false) (ls := [some (.ref (52 + t)), some (.int i)]) (by decide) (Nat.le_of_ble_eq_true rfl) (fun h => by cases h) rfl ?_
  refine e_aload_n dX3_get_0 0 rfl rfl rfl ?_
  refine e_getf (v := (.int 0)) dX3_get_1 rfl fX3_13 (hO) rfl ?_
  refine e_if_ne_f (by decide) 20 dX3_get_4 (by decide) ?_
  refine e_aload_n dX3_get_7 0 rfl rfl rfl ?_
  refine e_getf (v := (.ref (117 + r))) dX3_get_8 rfl fX3_7 (hO) rfl ?_
  refine e_castA dX3_get_11 rfl q542 hRow (fun _ => rfl) (fun _ h => by cases h) (by decide +kernel) ?_
  refine e_iload_n dX3_get_14 1 rfl rfl ?_
  refine e_baldZ hin (by omega) dX3_get_15 hRow (by decide) (by decide) (by decide) ?_
  exact ex_out (fun _ h => by cases h) (by decide) (by decide) ⟨rfl, hin, rfl⟩

set_option maxHeartbeats 4000000 in
set_option maxRecDepth 100000 in
/-- WheelTables$Tray.set -/
theorem y_setZ0 {ξ : Xs} {mid dyn : List ACell} (hm : mid.length = 61) {t : Nat} (ht : t < 4) {n r : Nat} {g : Nat → Int64} (hn : n ≤ 60) (hTr : ξ.2.2.2.2.2.2 t = (some (117 + r), 0)) (hD : dyn[r]? = some (.inl (2, n, .inl (fun k => (g k).toInt32)))) {i : Int32} {v : Int64} (hin : ¬ vp_in i n) : Ct yX3_set (ws_ yX3_set cX3_set 4 none) 0 3 222 [.ref (52 + t), .int i, .long v] (XM ξ mid dyn) (fun _ _ => False) (fun c _ M' => c = "java/lang/ArrayIndexOutOfBoundsException" ∧ ¬ vp_in i n ∧ M' = XM ξ mid dyn) := by
  have hO : (XM ξ mid dyn)[52 + t]? = some (.inr (3, [.ref (117 + r), .int 0])) := by rw [xm_oT ht, hTr]; rfl
  have hRow : (XM ξ mid dyn)[117 + r]? = some (.inl (2, n, .inl (fun k => (g k).toInt32))) := (xm_d hm r).trans hD
  refine Ct.of (ini := false) (ls := [some (.ref (52 + t)), some (.int i), some (.long v), none]) (by decide) (Nat.le_of_ble_eq_true rfl) (fun h => by cases h) rfl ?_
  refine e_aload_n dX3_set_0 0 rfl rfl rfl ?_
  refine e_getf (v := (.int 0)) dX3_set_1 rfl fX3_13 (hO) rfl ?_
  refine e_if_ne_f (by decide) 22 dX3_set_4 (by decide) ?_
  refine e_aload_n dX3_set_7 0 rfl rfl rfl ?_
  refine e_getf (v := (.ref (117 + r))) dX3_set_8 rfl fX3_7 (hO) rfl ?_
  refine e_castA dX3_set_11 rfl q542 hRow (fun _ => rfl) (fun _ h => by cases h) (by decide +kernel) ?_
  refine e_iload_n dX3_set_14 1 rfl rfl ?_
  refine e_lload_n dX3_set_15 2 rfl rfl ?_
  refine e_l2i dX3_set_16 ?_
  refine e_i2b dX3_set_17 ?_
  refine e_bastZ hin (by omega) dX3_set_18 hRow (by decide) (by decide) (by decide) ?_
  exact ex_out (fun _ h => by cases h) (by decide) (by decide) ⟨rfl, hin, rfl⟩

set_option maxHeartbeats 4000000 in
set_option maxRecDepth 100000 in
/-- WheelTables$Tray.set -/
theorem y_set0 {ξ : Xs} {mid dyn : List ACell} (hm : mid.length = 61) {t : Nat} (ht : t < 4) {n r : Nat} {g : Nat → Int64} (hn : n ≤ 60) (hTr : ξ.2.2.2.2.2.2 t = (some (117 + r), 0)) (hD : dyn[r]? = some (.inl (2, n, .inl (fun k => (g k).toInt32)))) {j : Nat} {v : Int64} (hj : j < n) : Ct yX3_set (ws_ yX3_set cX3_set 4 none) 0 3 222 [.ref (52 + t), .int (nI j), .long v] (XM ξ mid dyn) (fun u M' => M' = XM ξ mid (dyn.set r (rowC 0 n (vp_updL g j (spCut (nI 0) v)))) ∧ u = none) noX := by
  have hO : (XM ξ mid dyn)[52 + t]? = some (.inr (3, [.ref (117 + r), .int 0])) := by rw [xm_oT ht, hTr]; rfl
  have hRow : (XM ξ mid dyn)[117 + r]? = some (.inl (2, n, .inl (fun k => (g k).toInt32))) := (xm_d hm r).trans hD
  refine Ct.of (ini := false) (ls := [some (.ref (52 + t)), some (.int (nI j)), some (.long v), none]) (by decide) (Nat.le_of_ble_eq_true rfl) (fun h => by cases h) rfl ?_
  refine e_aload_n dX3_set_0 0 rfl rfl rfl ?_
  refine e_getf (v := (.int 0)) dX3_set_1 rfl fX3_13 (hO) rfl ?_
  refine e_if_ne_f (by decide) 22 dX3_set_4 (by decide) ?_
  refine e_aload_n dX3_set_7 0 rfl rfl rfl ?_
  refine e_getf (v := (.ref (117 + r))) dX3_set_8 rfl fX3_7 (hO) rfl ?_
  refine e_castA dX3_set_11 rfl q542 hRow (fun _ => rfl) (fun _ h => by cases h) (by decide +kernel) ?_
  refine e_iload_n dX3_set_14 1 rfl rfl ?_
  refine e_lload_n dX3_set_15 2 rfl rfl ?_
  refine e_l2i dX3_set_16 ?_
  refine e_i2b dX3_set_17 ?_
  refine e_bast (f := fun k => (g k).toInt32) (j := j) dX3_set_18 hRow rfl hj (by omega) ?_
  rw [xm_ds hm]
  refine e_goto 77 dX3_set_19 (by decide) ?_
  refine e_return dX3_set_77 rfl (Nat.zero_le _) (Nat.zero_le _) ?_
  refine ⟨?_, rfl⟩
  show XM ξ mid (dyn.set r (.inl (2, n, .inl (upd (fun k => (g k).toInt32) j (v.toInt32.toInt8.toInt32.toInt8.toInt32))))) = XM ξ mid (dyn.set r (.inl (2, n, .inl (fun k => (vp_updL g j (spCut (nI 0) v) k).toInt32))))
  rw [row_up (n := n) (x := v.toInt32.toInt8.toInt32.toInt8.toInt32) (by rw [spCut_0, Int32.toInt32_toInt64, Int8.toInt8_toInt32])]

set_option maxHeartbeats 4000000 in
set_option maxRecDepth 100000 in
/-- WheelTables$Tray.many -/
theorem y_many1 {ξ : Xs} {mid dyn : List ACell} (hm : mid.length = 61) {t : Nat} (ht : t < 4) {n r : Nat} {g : Nat → Int64} (hn : n ≤ 60) (hTr : ξ.2.2.2.2.2.2 t = (some (117 + r), 1)) (hD : dyn[r]? = some (.inl (3, n, .inl (fun k => (g k).toInt32)))) : Ct yX3_many (ws_ yX3_many cX3_many 1 (some .int)) 0 0 0 [.ref (52 + t)] (XM ξ mid dyn) (Q1 (some (.int (nI n))) (XM ξ mid dyn)) noX := by
  have hO : (XM ξ mid dyn)[52 + t]? = some (.inr (3, [.ref (117 + r), .int 1])) := by rw [xm_oT ht, hTr]; rfl
  have hRow : (XM ξ mid dyn)[117 + r]? = some (.inl (3, n, .inl (fun k => (g k).toInt32))) := (xm_d hm r).trans hD
  refine Ct.of (ini := false) (ls := [some (.ref (52 + t))]) (by decide) (Nat.le_of_ble_eq_true rfl) (fun h => by cases h) rfl ?_
  refine e_aload_n dX3_many_0 0 rfl rfl rfl ?_
  refine e_getf (v := (.int 1)) dX3_many_1 rfl fX3_13 (hO) rfl ?_
  refine e_if_ne_t 18 (by decide) dX3_many_4 (by decide) ?_
  refine e_aload_n dX3_many_18 0 rfl rfl rfl ?_
  refine e_getf (v := (.int 1)) dX3_many_19 rfl fX3_13 (hO) rfl ?_
  refine e_iconst 1 dX3_many_22 rfl ?_
  refine e_icmp_ne 37 dX3_many_23 (by decide) (fun h => absurd h (by decide)) (fun _ => ?_)
  refine e_aload_n dX3_many_26 0 rfl rfl rfl ?_
  refine e_getf (v := (.ref (117 + r))) dX3_many_27 rfl fX3_7 (hO) rfl ?_
  refine e_castA dX3_many_30 rfl q543 hRow (fun _ => rfl) (fun _ h => by cases h) (by decide +kernel) ?_
  refine e_alen (v := nI n) dX3_many_33 hRow (fun _ => rfl) rfl ?_
  refine e_goto 64 dX3_many_34 (by decide) ?_
  refine e_ireturn dX3_many_64 rfl rfl (Nat.zero_le _) (Nat.zero_le _) ?_
  exact ⟨rfl, rfl⟩

set_option maxHeartbeats 4000000 in
set_option maxRecDepth 100000 in
/-- WheelTables$Tray.get -/
theorem y_get1 {ξ : Xs} {mid dyn : List ACell} (hm : mid.length = 61) {t : Nat} (ht : t < 4) {n r : Nat} {g : Nat → Int64} (hn : n ≤ 60) (hTr : ξ.2.2.2.2.2.2 t = (some (117 + r), 1)) (hD : dyn[r]? = some (.inl (3, n, .inl (fun k => (g k).toInt32)))) {j : Nat} (hj : j < n) : Ct yX3_get (ws_ yX3_get cX3_get 2 (some .long)) 0 3 222 [.ref (52 + t), .int (nI j)] (XM ξ mid dyn) (fun u M' => M' = XM ξ mid dyn ∧ u = some (.long (rgv 1 (g j)))) noX := by
  have hO : (XM ξ mid dyn)[52 + t]? = some (.inr (3, [.ref (117 + r), .int 1])) := by rw [xm_oT ht, hTr]; rfl
  have hRow : (XM ξ mid dyn)[117 + r]? = some (.inl (3, n, .inl (fun k => (g k).toInt32))) := (xm_d hm r).trans hD
  refine Ct.of (ini := false) (ls := [some (.ref (52 + t)), some (.int (nI j))]) (by decide) (Nat.le_of_ble_eq_true rfl) (fun h => by cases h) rfl ?_
  refine e_aload_n dX3_get_0 0 rfl rfl rfl ?_
  refine e_getf (v := (.int 1)) dX3_get_1 rfl fX3_13 (hO) rfl ?_
  refine e_if_ne_t 20 (by decide) dX3_get_4 (by decide) ?_
  refine e_aload_n dX3_get_20 0 rfl rfl rfl ?_
  refine e_getf (v := (.int 1)) dX3_get_21 rfl fX3_13 (hO) rfl ?_
  refine e_iconst 1 dX3_get_24 rfl ?_
  refine e_icmp_ne 41 dX3_get_25 (by decide) (fun h => absurd h (by decide)) (fun _ => ?_)
  refine e_aload_n dX3_get_28 0 rfl rfl rfl ?_
  refine e_getf (v := (.ref (117 + r))) dX3_get_29 rfl fX3_7 (hO) rfl ?_
  refine e_castA dX3_get_32 rfl q543 hRow (fun _ => rfl) (fun _ h => by cases h) (by decide +kernel) ?_
  refine e_iload_n dX3_get_35 1 rfl rfl ?_
  refine e_sald (f := fun k => (g k).toInt32) (j := j) dX3_get_36 hRow rfl hj (by omega) ?_
  refine e_i2l dX3_get_37 ?_
  refine e_goto 71 dX3_get_38 (by decide) ?_
  refine e_lreturn dX3_get_71 rfl (Nat.zero_le _) (Nat.zero_le _) ?_
  exact ⟨rfl, rfl⟩

set_option maxHeartbeats 4000000 in
set_option maxRecDepth 100000 in
/-- WheelTables$Tray.get -/
theorem y_getZ1 {ξ : Xs} {mid dyn : List ACell} (hm : mid.length = 61) {t : Nat} (ht : t < 4) {n r : Nat} {g : Nat → Int64} (hn : n ≤ 60) (hTr : ξ.2.2.2.2.2.2 t = (some (117 + r), 1)) (hD : dyn[r]? = some (.inl (3, n, .inl (fun k => (g k).toInt32)))) {i : Int32} (hin : ¬ vp_in i n) : Ct yX3_get (ws_ yX3_get cX3_get 2 (some .long)) 0 3 222 [.ref (52 + t), .int i] (XM ξ mid dyn) (fun _ _ => False) (fun c _ M' => c = "java/lang/ArrayIndexOutOfBoundsException" ∧ ¬ vp_in i n ∧ M' = XM ξ mid dyn) := by
  have hO : (XM ξ mid dyn)[52 + t]? = some (.inr (3, [.ref (117 + r), .int 1])) := by rw [xm_oT ht, hTr]; rfl
  have hRow : (XM ξ mid dyn)[117 + r]? = some (.inl (3, n, .inl (fun k => (g k).toInt32))) := (xm_d hm r).trans hD
  refine Ct.of (ini := false) (ls := [some (.ref (52 + t)), some (.int i)]) (by decide) (Nat.le_of_ble_eq_true rfl) (fun h => by cases h) rfl ?_
  refine e_aload_n dX3_get_0 0 rfl rfl rfl ?_
  refine e_getf (v := (.int 1)) dX3_get_1 rfl fX3_13 (hO) rfl ?_
  refine e_if_ne_t 20 (by decide) dX3_get_4 (by decide) ?_
  refine e_aload_n dX3_get_20 0 rfl rfl rfl ?_
  refine e_getf (v := (.int 1)) dX3_get_21 rfl fX3_13 (hO) rfl ?_
  refine e_iconst 1 dX3_get_24 rfl ?_
  refine e_icmp_ne 41 dX3_get_25 (by decide) (fun h => absurd h (by decide)) (fun _ => ?_)
  refine e_aload_n dX3_get_28 0 rfl rfl rfl ?_
  refine e_getf (v := (.ref (117 + r))) dX3_get_29 rfl fX3_7 (hO) rfl ?_
  refine e_castA dX3_get_32 rfl q543 hRow (fun _ => rfl) (fun _ h => by cases h) (by decide +kernel) ?_
  refine e_iload_n dX3_get_35 1 rfl rfl ?_
  refine e_saldZ hin (by omega) dX3_get_36 hRow (by decide) (by decide) (by decide) ?_
  exact ex_out (fun _ h => by cases h) (by decide) (by decide) ⟨rfl, hin, rfl⟩

set_option maxHeartbeats 4000000 in
set_option maxRecDepth 100000 in
/-- WheelTables$Tray.set -/
theorem y_setZ1 {ξ : Xs} {mid dyn : List ACell} (hm : mid.length = 61) {t : Nat} (ht : t < 4) {n r : Nat} {g : Nat → Int64} (hn : n ≤ 60) (hTr : ξ.2.2.2.2.2.2 t = (some (117 + r), 1)) (hD : dyn[r]? = some (.inl (3, n, .inl (fun k => (g k).toInt32)))) {i : Int32} {v : Int64} (hin : ¬ vp_in i n) : Ct yX3_set (ws_ yX3_set cX3_set 4 none) 0 3 222 [.ref (52 + t), .int i, .long v] (XM ξ mid dyn) (fun _ _ => False) (fun c _ M' => c = "java/lang/ArrayIndexOutOfBoundsException" ∧ ¬ vp_in i n ∧ M' = XM ξ mid dyn) := by
  have hO : (XM ξ mid dyn)[52 + t]? = some (.inr (3, [.ref (117 + r), .int 1])) := by rw [xm_oT ht, hTr]; rfl
  have hRow : (XM ξ mid dyn)[117 + r]? = some (.inl (3, n, .inl (fun k => (g k).toInt32))) := (xm_d hm r).trans hD
  refine Ct.of (ini := false) (ls := [some (.ref (52 + t)), some (.int i), some (.long v), none]) (by decide) (Nat.le_of_ble_eq_true rfl) (fun h => by cases h) rfl ?_
  refine e_aload_n dX3_set_0 0 rfl rfl rfl ?_
  refine e_getf (v := (.int 1)) dX3_set_1 rfl fX3_13 (hO) rfl ?_
  refine e_if_ne_t 22 (by decide) dX3_set_4 (by decide) ?_
  refine e_aload_n dX3_set_22 0 rfl rfl rfl ?_
  refine e_getf (v := (.int 1)) dX3_set_23 rfl fX3_13 (hO) rfl ?_
  refine e_iconst 1 dX3_set_26 rfl ?_
  refine e_icmp_ne 45 dX3_set_27 (by decide) (fun h => absurd h (by decide)) (fun _ => ?_)
  refine e_aload_n dX3_set_30 0 rfl rfl rfl ?_
  refine e_getf (v := (.ref (117 + r))) dX3_set_31 rfl fX3_7 (hO) rfl ?_
  refine e_castA dX3_set_34 rfl q543 hRow (fun _ => rfl) (fun _ h => by cases h) (by decide +kernel) ?_
  refine e_iload_n dX3_set_37 1 rfl rfl ?_
  refine e_lload_n dX3_set_38 2 rfl rfl ?_
  refine e_l2i dX3_set_39 ?_
  refine e_i2s dX3_set_40 ?_
  refine e_sastZ hin (by omega) dX3_set_41 hRow (by decide) (by decide) (by decide) ?_
  exact ex_out (fun _ h => by cases h) (by decide) (by decide) ⟨rfl, hin, rfl⟩

set_option maxHeartbeats 4000000 in
set_option maxRecDepth 100000 in
/-- WheelTables$Tray.set -/
theorem y_set1 {ξ : Xs} {mid dyn : List ACell} (hm : mid.length = 61) {t : Nat} (ht : t < 4) {n r : Nat} {g : Nat → Int64} (hn : n ≤ 60) (hTr : ξ.2.2.2.2.2.2 t = (some (117 + r), 1)) (hD : dyn[r]? = some (.inl (3, n, .inl (fun k => (g k).toInt32)))) {j : Nat} {v : Int64} (hj : j < n) : Ct yX3_set (ws_ yX3_set cX3_set 4 none) 0 3 222 [.ref (52 + t), .int (nI j), .long v] (XM ξ mid dyn) (fun u M' => M' = XM ξ mid (dyn.set r (rowC 1 n (vp_updL g j (spCut (nI 1) v)))) ∧ u = none) noX := by
  have hO : (XM ξ mid dyn)[52 + t]? = some (.inr (3, [.ref (117 + r), .int 1])) := by rw [xm_oT ht, hTr]; rfl
  have hRow : (XM ξ mid dyn)[117 + r]? = some (.inl (3, n, .inl (fun k => (g k).toInt32))) := (xm_d hm r).trans hD
  refine Ct.of (ini := false) (ls := [some (.ref (52 + t)), some (.int (nI j)), some (.long v), none]) (by decide) (Nat.le_of_ble_eq_true rfl) (fun h => by cases h) rfl ?_
  refine e_aload_n dX3_set_0 0 rfl rfl rfl ?_
  refine e_getf (v := (.int 1)) dX3_set_1 rfl fX3_13 (hO) rfl ?_
  refine e_if_ne_t 22 (by decide) dX3_set_4 (by decide) ?_
  refine e_aload_n dX3_set_22 0 rfl rfl rfl ?_
  refine e_getf (v := (.int 1)) dX3_set_23 rfl fX3_13 (hO) rfl ?_
  refine e_iconst 1 dX3_set_26 rfl ?_
  refine e_icmp_ne 45 dX3_set_27 (by decide) (fun h => absurd h (by decide)) (fun _ => ?_)
  refine e_aload_n dX3_set_30 0 rfl rfl rfl ?_
  refine e_getf (v := (.ref (117 + r))) dX3_set_31 rfl fX3_7 (hO) rfl ?_
  refine e_castA dX3_set_34 rfl q543 hRow (fun _ => rfl) (fun _ h => by cases h) (by decide +kernel) ?_
  refine e_iload_n dX3_set_37 1 rfl rfl ?_
  refine e_lload_n dX3_set_38 2 rfl rfl ?_
  refine e_l2i dX3_set_39 ?_
  refine e_i2s dX3_set_40 ?_
  refine e_sast (f := fun k => (g k).toInt32) (j := j) dX3_set_41 hRow rfl hj (by omega) ?_
  rw [xm_ds hm]
  refine e_goto 77 dX3_set_42 (by decide) ?_
  refine e_return dX3_set_77 rfl (Nat.zero_le _) (Nat.zero_le _) ?_
  refine ⟨?_, rfl⟩
  show XM ξ mid (dyn.set r (.inl (3, n, .inl (upd (fun k => (g k).toInt32) j (v.toInt32.toInt16.toInt32.toInt16.toInt32))))) = XM ξ mid (dyn.set r (.inl (3, n, .inl (fun k => (vp_updL g j (spCut (nI 1) v) k).toInt32))))
  rw [row_up (n := n) (x := v.toInt32.toInt16.toInt32.toInt16.toInt32) (by rw [spCut_1, Int32.toInt32_toInt64, Int16.toInt16_toInt32])]

set_option maxHeartbeats 4000000 in
set_option maxRecDepth 100000 in
/-- WheelTables$Tray.many -/
theorem y_many2 {ξ : Xs} {mid dyn : List ACell} (hm : mid.length = 61) {t : Nat} (ht : t < 4) {n r : Nat} {g : Nat → Int64} (hn : n ≤ 60) (hTr : ξ.2.2.2.2.2.2 t = (some (117 + r), 2)) (hD : dyn[r]? = some (.inl (0, n, .inl (fun k => (g k).toInt32)))) : Ct yX3_many (ws_ yX3_many cX3_many 1 (some .int)) 0 0 0 [.ref (52 + t)] (XM ξ mid dyn) (Q1 (some (.int (nI n))) (XM ξ mid dyn)) noX := by
  have hO : (XM ξ mid dyn)[52 + t]? = some (.inr (3, [.ref (117 + r), .int 2])) := by rw [xm_oT ht, hTr]; rfl
  have hRow : (XM ξ mid dyn)[117 + r]? = some (.inl (0, n, .inl (fun k => (g k).toInt32))) := (xm_d hm r).trans hD
  refine Ct.of (ini := false) (ls := [some (.ref (52 + t))]) (by decide) (Nat.le_of_ble_eq_true rfl) (fun h => by cases h) rfl ?_
  refine e_aload_n dX3_many_0 0 rfl rfl rfl ?_
  refine e_getf (v := (.int 2)) dX3_many_1 rfl fX3_13 (hO) rfl ?_
  refine e_if_ne_t 18 (by decide) dX3_many_4 (by decide) ?_
  refine e_aload_n dX3_many_18 0 rfl rfl rfl ?_
  refine e_getf (v := (.int 2)) dX3_many_19 rfl fX3_13 (hO) rfl ?_
  refine e_iconst 1 dX3_many_22 rfl ?_
  refine e_icmp_ne 37 dX3_many_23 (by decide) (fun _ => ?_) (fun h => absurd h (by decide))
  refine e_aload_n dX3_many_37 0 rfl rfl rfl ?_
  refine e_getf (v := (.int 2)) dX3_many_38 rfl fX3_13 (hO) rfl ?_
  refine e_iconst 2 dX3_many_41 rfl ?_
  refine e_icmp_ne 56 dX3_many_42 (by decide) (fun h => absurd h (by decide)) (fun _ => ?_)
  refine e_aload_n dX3_many_45 0 rfl rfl rfl ?_
  refine e_getf (v := (.ref (117 + r))) dX3_many_46 rfl fX3_7 (hO) rfl ?_
  refine e_castA dX3_many_49 rfl q544 hRow (fun _ => rfl) (fun _ h => by cases h) (by decide +kernel) ?_
  refine e_alen (v := nI n) dX3_many_52 hRow (fun _ => rfl) rfl ?_
  refine e_goto 64 dX3_many_53 (by decide) ?_
  refine e_ireturn dX3_many_64 rfl rfl (Nat.zero_le _) (Nat.zero_le _) ?_
  exact ⟨rfl, rfl⟩

set_option maxHeartbeats 4000000 in
set_option maxRecDepth 100000 in
/-- WheelTables$Tray.get -/
theorem y_get2 {ξ : Xs} {mid dyn : List ACell} (hm : mid.length = 61) {t : Nat} (ht : t < 4) {n r : Nat} {g : Nat → Int64} (hn : n ≤ 60) (hTr : ξ.2.2.2.2.2.2 t = (some (117 + r), 2)) (hD : dyn[r]? = some (.inl (0, n, .inl (fun k => (g k).toInt32)))) {j : Nat} (hj : j < n) : Ct yX3_get (ws_ yX3_get cX3_get 2 (some .long)) 0 3 222 [.ref (52 + t), .int (nI j)] (XM ξ mid dyn) (fun u M' => M' = XM ξ mid dyn ∧ u = some (.long (rgv 2 (g j)))) noX := by
  have hO : (XM ξ mid dyn)[52 + t]? = some (.inr (3, [.ref (117 + r), .int 2])) := by rw [xm_oT ht, hTr]; rfl
  have hRow : (XM ξ mid dyn)[117 + r]? = some (.inl (0, n, .inl (fun k => (g k).toInt32))) := (xm_d hm r).trans hD
  refine Ct.of (ini := false) (ls := [some (.ref (52 + t)), some (.int (nI j))]) (by decide) (Nat.le_of_ble_eq_true rfl) (fun h => by cases h) rfl ?_
  refine e_aload_n dX3_get_0 0 rfl rfl rfl ?_
  refine e_getf (v := (.int 2)) dX3_get_1 rfl fX3_13 (hO) rfl ?_
  refine e_if_ne_t 20 (by decide) dX3_get_4 (by decide) ?_
  refine e_aload_n dX3_get_20 0 rfl rfl rfl ?_
  refine e_getf (v := (.int 2)) dX3_get_21 rfl fX3_13 (hO) rfl ?_
  refine e_iconst 1 dX3_get_24 rfl ?_
  refine e_icmp_ne 41 dX3_get_25 (by decide) (fun _ => ?_) (fun h => absurd h (by decide))
  refine e_aload_n dX3_get_41 0 rfl rfl rfl ?_
  refine e_getf (v := (.int 2)) dX3_get_42 rfl fX3_13 (hO) rfl ?_
  refine e_iconst 2 dX3_get_45 rfl ?_
  refine e_icmp_ne 62 dX3_get_46 (by decide) (fun h => absurd h (by decide)) (fun _ => ?_)
  refine e_aload_n dX3_get_49 0 rfl rfl rfl ?_
  refine e_getf (v := (.ref (117 + r))) dX3_get_50 rfl fX3_7 (hO) rfl ?_
  refine e_castA dX3_get_53 rfl q544 hRow (fun _ => rfl) (fun _ h => by cases h) (by decide +kernel) ?_
  refine e_iload_n dX3_get_56 1 rfl rfl ?_
  refine e_iald (f := fun k => (g k).toInt32) (j := j) dX3_get_57 hRow rfl hj (by omega) ?_
  refine e_i2l dX3_get_58 ?_
  refine e_goto 71 dX3_get_59 (by decide) ?_
  refine e_lreturn dX3_get_71 rfl (Nat.zero_le _) (Nat.zero_le _) ?_
  exact ⟨rfl, rfl⟩

set_option maxHeartbeats 4000000 in
set_option maxRecDepth 100000 in
/-- WheelTables$Tray.get -/
theorem y_getZ2 {ξ : Xs} {mid dyn : List ACell} (hm : mid.length = 61) {t : Nat} (ht : t < 4) {n r : Nat} {g : Nat → Int64} (hn : n ≤ 60) (hTr : ξ.2.2.2.2.2.2 t = (some (117 + r), 2)) (hD : dyn[r]? = some (.inl (0, n, .inl (fun k => (g k).toInt32)))) {i : Int32} (hin : ¬ vp_in i n) : Ct yX3_get (ws_ yX3_get cX3_get 2 (some .long)) 0 3 222 [.ref (52 + t), .int i] (XM ξ mid dyn) (fun _ _ => False) (fun c _ M' => c = "java/lang/ArrayIndexOutOfBoundsException" ∧ ¬ vp_in i n ∧ M' = XM ξ mid dyn) := by
  have hO : (XM ξ mid dyn)[52 + t]? = some (.inr (3, [.ref (117 + r), .int 2])) := by rw [xm_oT ht, hTr]; rfl
  have hRow : (XM ξ mid dyn)[117 + r]? = some (.inl (0, n, .inl (fun k => (g k).toInt32))) := (xm_d hm r).trans hD
  refine Ct.of (ini := false) (ls := [some (.ref (52 + t)), some (.int i)]) (by decide) (Nat.le_of_ble_eq_true rfl) (fun h => by cases h) rfl ?_
  refine e_aload_n dX3_get_0 0 rfl rfl rfl ?_
  refine e_getf (v := (.int 2)) dX3_get_1 rfl fX3_13 (hO) rfl ?_
  refine e_if_ne_t 20 (by decide) dX3_get_4 (by decide) ?_
  refine e_aload_n dX3_get_20 0 rfl rfl rfl ?_
  refine e_getf (v := (.int 2)) dX3_get_21 rfl fX3_13 (hO) rfl ?_
  refine e_iconst 1 dX3_get_24 rfl ?_
  refine e_icmp_ne 41 dX3_get_25 (by decide) (fun _ => ?_) (fun h => absurd h (by decide))
  refine e_aload_n dX3_get_41 0 rfl rfl rfl ?_
  refine e_getf (v := (.int 2)) dX3_get_42 rfl fX3_13 (hO) rfl ?_
  refine e_iconst 2 dX3_get_45 rfl ?_
  refine e_icmp_ne 62 dX3_get_46 (by decide) (fun h => absurd h (by decide)) (fun _ => ?_)
  refine e_aload_n dX3_get_49 0 rfl rfl rfl ?_
  refine e_getf (v := (.ref (117 + r))) dX3_get_50 rfl fX3_7 (hO) rfl ?_
  refine e_castA dX3_get_53 rfl q544 hRow (fun _ => rfl) (fun _ h => by cases h) (by decide +kernel) ?_
  refine e_iload_n dX3_get_56 1 rfl rfl ?_
  refine e_ialdZ hin (by omega) dX3_get_57 hRow (by decide) (by decide) (by decide) ?_
  exact ex_out (fun _ h => by cases h) (by decide) (by decide) ⟨rfl, hin, rfl⟩

set_option maxHeartbeats 4000000 in
set_option maxRecDepth 100000 in
/-- WheelTables$Tray.set -/
theorem y_setZ2 {ξ : Xs} {mid dyn : List ACell} (hm : mid.length = 61) {t : Nat} (ht : t < 4) {n r : Nat} {g : Nat → Int64} (hn : n ≤ 60) (hTr : ξ.2.2.2.2.2.2 t = (some (117 + r), 2)) (hD : dyn[r]? = some (.inl (0, n, .inl (fun k => (g k).toInt32)))) {i : Int32} {v : Int64} (hin : ¬ vp_in i n) : Ct yX3_set (ws_ yX3_set cX3_set 4 none) 0 3 222 [.ref (52 + t), .int i, .long v] (XM ξ mid dyn) (fun _ _ => False) (fun c _ M' => c = "java/lang/ArrayIndexOutOfBoundsException" ∧ ¬ vp_in i n ∧ M' = XM ξ mid dyn) := by
  have hO : (XM ξ mid dyn)[52 + t]? = some (.inr (3, [.ref (117 + r), .int 2])) := by rw [xm_oT ht, hTr]; rfl
  have hRow : (XM ξ mid dyn)[117 + r]? = some (.inl (0, n, .inl (fun k => (g k).toInt32))) := (xm_d hm r).trans hD
  refine Ct.of (ini := false) (ls := [some (.ref (52 + t)), some (.int i), some (.long v), none]) (by decide) (Nat.le_of_ble_eq_true rfl) (fun h => by cases h) rfl ?_
  refine e_aload_n dX3_set_0 0 rfl rfl rfl ?_
  refine e_getf (v := (.int 2)) dX3_set_1 rfl fX3_13 (hO) rfl ?_
  refine e_if_ne_t 22 (by decide) dX3_set_4 (by decide) ?_
  refine e_aload_n dX3_set_22 0 rfl rfl rfl ?_
  refine e_getf (v := (.int 2)) dX3_set_23 rfl fX3_13 (hO) rfl ?_
  refine e_iconst 1 dX3_set_26 rfl ?_
  refine e_icmp_ne 45 dX3_set_27 (by decide) (fun _ => ?_) (fun h => absurd h (by decide))
  refine e_aload_n dX3_set_45 0 rfl rfl rfl ?_
  refine e_getf (v := (.int 2)) dX3_set_46 rfl fX3_13 (hO) rfl ?_
  refine e_iconst 2 dX3_set_49 rfl ?_
  refine e_icmp_ne 67 dX3_set_50 (by decide) (fun h => absurd h (by decide)) (fun _ => ?_)
  refine e_aload_n dX3_set_53 0 rfl rfl rfl ?_
  refine e_getf (v := (.ref (117 + r))) dX3_set_54 rfl fX3_7 (hO) rfl ?_
  refine e_castA dX3_set_57 rfl q544 hRow (fun _ => rfl) (fun _ h => by cases h) (by decide +kernel) ?_
  refine e_iload_n dX3_set_60 1 rfl rfl ?_
  refine e_lload_n dX3_set_61 2 rfl rfl ?_
  refine e_l2i dX3_set_62 ?_
  refine e_iastZ hin (by omega) dX3_set_63 hRow (by decide) (by decide) (by decide) ?_
  exact ex_out (fun _ h => by cases h) (by decide) (by decide) ⟨rfl, hin, rfl⟩

set_option maxHeartbeats 4000000 in
set_option maxRecDepth 100000 in
/-- WheelTables$Tray.set -/
theorem y_set2 {ξ : Xs} {mid dyn : List ACell} (hm : mid.length = 61) {t : Nat} (ht : t < 4) {n r : Nat} {g : Nat → Int64} (hn : n ≤ 60) (hTr : ξ.2.2.2.2.2.2 t = (some (117 + r), 2)) (hD : dyn[r]? = some (.inl (0, n, .inl (fun k => (g k).toInt32)))) {j : Nat} {v : Int64} (hj : j < n) : Ct yX3_set (ws_ yX3_set cX3_set 4 none) 0 3 222 [.ref (52 + t), .int (nI j), .long v] (XM ξ mid dyn) (fun u M' => M' = XM ξ mid (dyn.set r (rowC 2 n (vp_updL g j (spCut (nI 2) v)))) ∧ u = none) noX := by
  have hO : (XM ξ mid dyn)[52 + t]? = some (.inr (3, [.ref (117 + r), .int 2])) := by rw [xm_oT ht, hTr]; rfl
  have hRow : (XM ξ mid dyn)[117 + r]? = some (.inl (0, n, .inl (fun k => (g k).toInt32))) := (xm_d hm r).trans hD
  refine Ct.of (ini := false) (ls := [some (.ref (52 + t)), some (.int (nI j)), some (.long v), none]) (by decide) (Nat.le_of_ble_eq_true rfl) (fun h => by cases h) rfl ?_
  refine e_aload_n dX3_set_0 0 rfl rfl rfl ?_
  refine e_getf (v := (.int 2)) dX3_set_1 rfl fX3_13 (hO) rfl ?_
  refine e_if_ne_t 22 (by decide) dX3_set_4 (by decide) ?_
  refine e_aload_n dX3_set_22 0 rfl rfl rfl ?_
  refine e_getf (v := (.int 2)) dX3_set_23 rfl fX3_13 (hO) rfl ?_
  refine e_iconst 1 dX3_set_26 rfl ?_
  refine e_icmp_ne 45 dX3_set_27 (by decide) (fun _ => ?_) (fun h => absurd h (by decide))
  refine e_aload_n dX3_set_45 0 rfl rfl rfl ?_
  refine e_getf (v := (.int 2)) dX3_set_46 rfl fX3_13 (hO) rfl ?_
  refine e_iconst 2 dX3_set_49 rfl ?_
  refine e_icmp_ne 67 dX3_set_50 (by decide) (fun h => absurd h (by decide)) (fun _ => ?_)
  refine e_aload_n dX3_set_53 0 rfl rfl rfl ?_
  refine e_getf (v := (.ref (117 + r))) dX3_set_54 rfl fX3_7 (hO) rfl ?_
  refine e_castA dX3_set_57 rfl q544 hRow (fun _ => rfl) (fun _ h => by cases h) (by decide +kernel) ?_
  refine e_iload_n dX3_set_60 1 rfl rfl ?_
  refine e_lload_n dX3_set_61 2 rfl rfl ?_
  refine e_l2i dX3_set_62 ?_
  refine e_iast (f := fun k => (g k).toInt32) (j := j) dX3_set_63 hRow rfl hj (by omega) ?_
  rw [xm_ds hm]
  refine e_goto 77 dX3_set_64 (by decide) ?_
  refine e_return dX3_set_77 rfl (Nat.zero_le _) (Nat.zero_le _) ?_
  refine ⟨?_, rfl⟩
  show XM ξ mid (dyn.set r (.inl (0, n, .inl (upd (fun k => (g k).toInt32) j (v.toInt32))))) = XM ξ mid (dyn.set r (.inl (0, n, .inl (fun k => (vp_updL g j (spCut (nI 2) v) k).toInt32))))
  rw [row_up (n := n) (x := v.toInt32) (by rw [spCut_2, Int32.toInt32_toInt64])]

set_option maxHeartbeats 4000000 in
set_option maxRecDepth 100000 in
/-- WheelTables$Tray.many -/
theorem y_many3 {ξ : Xs} {mid dyn : List ACell} (hm : mid.length = 61) {t : Nat} (ht : t < 4) {n r : Nat} {g : Nat → Int64} (hn : n ≤ 60) (hTr : ξ.2.2.2.2.2.2 t = (some (117 + r), 3)) (hD : dyn[r]? = some (.inl (1, n, .inr (.inl g)))) : Ct yX3_many (ws_ yX3_many cX3_many 1 (some .int)) 0 0 0 [.ref (52 + t)] (XM ξ mid dyn) (Q1 (some (.int (nI n))) (XM ξ mid dyn)) noX := by
  have hO : (XM ξ mid dyn)[52 + t]? = some (.inr (3, [.ref (117 + r), .int 3])) := by rw [xm_oT ht, hTr]; rfl
  have hRow : (XM ξ mid dyn)[117 + r]? = some (.inl (1, n, .inr (.inl g))) := (xm_d hm r).trans hD
  refine Ct.of (ini := false) (ls := [some (.ref (52 + t))]) (by decide) (Nat.le_of_ble_eq_true rfl) (fun h => by cases h) rfl ?_
  refine e_aload_n dX3_many_0 0 rfl rfl rfl ?_
  refine e_getf (v := (.int 3)) dX3_many_1 rfl fX3_13 (hO) rfl ?_
  refine e_if_ne_t 18 (by decide) dX3_many_4 (by decide) ?_
  refine e_aload_n dX3_many_18 0 rfl rfl rfl ?_
  refine e_getf (v := (.int 3)) dX3_many_19 rfl fX3_13 (hO) rfl ?_
  refine e_iconst 1 dX3_many_22 rfl ?_
  refine e_icmp_ne 37 dX3_many_23 (by decide) (fun _ => ?_) (fun h => absurd h (by decide))
  refine e_aload_n dX3_many_37 0 rfl rfl rfl ?_
  refine e_getf (v := (.int 3)) dX3_many_38 rfl fX3_13 (hO) rfl ?_
  refine e_iconst 2 dX3_many_41 rfl ?_
  refine e_icmp_ne 56 dX3_many_42 (by decide) (fun _ => ?_) (fun h => absurd h (by decide))
  refine e_aload_n dX3_many_56 0 rfl rfl rfl ?_
  refine e_getf (v := (.ref (117 + r))) dX3_many_57 rfl fX3_7 (hO) rfl ?_
  refine e_castA dX3_many_60 rfl q545 hRow (fun _ => rfl) (fun _ h => by cases h) (by decide +kernel) ?_
  refine e_alen (v := nI n) dX3_many_63 hRow (fun _ => rfl) rfl ?_
  refine e_ireturn dX3_many_64 rfl rfl (Nat.zero_le _) (Nat.zero_le _) ?_
  exact ⟨rfl, rfl⟩

set_option maxHeartbeats 4000000 in
set_option maxRecDepth 100000 in
/-- WheelTables$Tray.get -/
theorem y_get3 {ξ : Xs} {mid dyn : List ACell} (hm : mid.length = 61) {t : Nat} (ht : t < 4) {n r : Nat} {g : Nat → Int64} (hn : n ≤ 60) (hTr : ξ.2.2.2.2.2.2 t = (some (117 + r), 3)) (hD : dyn[r]? = some (.inl (1, n, .inr (.inl g)))) {j : Nat} (hj : j < n) : Ct yX3_get (ws_ yX3_get cX3_get 2 (some .long)) 0 3 222 [.ref (52 + t), .int (nI j)] (XM ξ mid dyn) (fun u M' => M' = XM ξ mid dyn ∧ u = some (.long (rgv 3 (g j)))) noX := by
  have hO : (XM ξ mid dyn)[52 + t]? = some (.inr (3, [.ref (117 + r), .int 3])) := by rw [xm_oT ht, hTr]; rfl
  have hRow : (XM ξ mid dyn)[117 + r]? = some (.inl (1, n, .inr (.inl g))) := (xm_d hm r).trans hD
  refine Ct.of (ini := false) (ls := [some (.ref (52 + t)), some (.int (nI j))]) (by decide) (Nat.le_of_ble_eq_true rfl) (fun h => by cases h) rfl ?_
  refine e_aload_n dX3_get_0 0 rfl rfl rfl ?_
  refine e_getf (v := (.int 3)) dX3_get_1 rfl fX3_13 (hO) rfl ?_
  refine e_if_ne_t 20 (by decide) dX3_get_4 (by decide) ?_
  refine e_aload_n dX3_get_20 0 rfl rfl rfl ?_
  refine e_getf (v := (.int 3)) dX3_get_21 rfl fX3_13 (hO) rfl ?_
  refine e_iconst 1 dX3_get_24 rfl ?_
  refine e_icmp_ne 41 dX3_get_25 (by decide) (fun _ => ?_) (fun h => absurd h (by decide))
  refine e_aload_n dX3_get_41 0 rfl rfl rfl ?_
  refine e_getf (v := (.int 3)) dX3_get_42 rfl fX3_13 (hO) rfl ?_
  refine e_iconst 2 dX3_get_45 rfl ?_
  refine e_icmp_ne 62 dX3_get_46 (by decide) (fun _ => ?_) (fun h => absurd h (by decide))
  refine e_aload_n dX3_get_62 0 rfl rfl rfl ?_
  refine e_getf (v := (.ref (117 + r))) dX3_get_63 rfl fX3_7 (hO) rfl ?_
  refine e_castA dX3_get_66 rfl q545 hRow (fun _ => rfl) (fun _ h => by cases h) (by decide +kernel) ?_
  refine e_iload_n dX3_get_69 1 rfl rfl ?_
  refine e_lald (f := g) (j := j) dX3_get_70 hRow rfl hj (by omega) ?_
  refine e_lreturn dX3_get_71 rfl (Nat.zero_le _) (Nat.zero_le _) ?_
  exact ⟨rfl, rfl⟩

set_option maxHeartbeats 4000000 in
set_option maxRecDepth 100000 in
/-- WheelTables$Tray.get -/
theorem y_getZ3 {ξ : Xs} {mid dyn : List ACell} (hm : mid.length = 61) {t : Nat} (ht : t < 4) {n r : Nat} {g : Nat → Int64} (hn : n ≤ 60) (hTr : ξ.2.2.2.2.2.2 t = (some (117 + r), 3)) (hD : dyn[r]? = some (.inl (1, n, .inr (.inl g)))) {i : Int32} (hin : ¬ vp_in i n) : Ct yX3_get (ws_ yX3_get cX3_get 2 (some .long)) 0 3 222 [.ref (52 + t), .int i] (XM ξ mid dyn) (fun _ _ => False) (fun c _ M' => c = "java/lang/ArrayIndexOutOfBoundsException" ∧ ¬ vp_in i n ∧ M' = XM ξ mid dyn) := by
  have hO : (XM ξ mid dyn)[52 + t]? = some (.inr (3, [.ref (117 + r), .int 3])) := by rw [xm_oT ht, hTr]; rfl
  have hRow : (XM ξ mid dyn)[117 + r]? = some (.inl (1, n, .inr (.inl g))) := (xm_d hm r).trans hD
  refine Ct.of (ini := false) (ls := [some (.ref (52 + t)), some (.int i)]) (by decide) (Nat.le_of_ble_eq_true rfl) (fun h => by cases h) rfl ?_
  refine e_aload_n dX3_get_0 0 rfl rfl rfl ?_
  refine e_getf (v := (.int 3)) dX3_get_1 rfl fX3_13 (hO) rfl ?_
  refine e_if_ne_t 20 (by decide) dX3_get_4 (by decide) ?_
  refine e_aload_n dX3_get_20 0 rfl rfl rfl ?_
  refine e_getf (v := (.int 3)) dX3_get_21 rfl fX3_13 (hO) rfl ?_
  refine e_iconst 1 dX3_get_24 rfl ?_
  refine e_icmp_ne 41 dX3_get_25 (by decide) (fun _ => ?_) (fun h => absurd h (by decide))
  refine e_aload_n dX3_get_41 0 rfl rfl rfl ?_
  refine e_getf (v := (.int 3)) dX3_get_42 rfl fX3_13 (hO) rfl ?_
  refine e_iconst 2 dX3_get_45 rfl ?_
  refine e_icmp_ne 62 dX3_get_46 (by decide) (fun _ => ?_) (fun h => absurd h (by decide))
  refine e_aload_n dX3_get_62 0 rfl rfl rfl ?_
  refine e_getf (v := (.ref (117 + r))) dX3_get_63 rfl fX3_7 (hO) rfl ?_
  refine e_castA dX3_get_66 rfl q545 hRow (fun _ => rfl) (fun _ h => by cases h) (by decide +kernel) ?_
  refine e_iload_n dX3_get_69 1 rfl rfl ?_
  refine e_laldZ hin (by omega) dX3_get_70 hRow (by decide) (by decide) (by decide) ?_
  exact ex_out (fun _ h => by cases h) (by decide) (by decide) ⟨rfl, hin, rfl⟩

set_option maxHeartbeats 4000000 in
set_option maxRecDepth 100000 in
/-- WheelTables$Tray.set -/
theorem y_setZ3 {ξ : Xs} {mid dyn : List ACell} (hm : mid.length = 61) {t : Nat} (ht : t < 4) {n r : Nat} {g : Nat → Int64} (hn : n ≤ 60) (hTr : ξ.2.2.2.2.2.2 t = (some (117 + r), 3)) (hD : dyn[r]? = some (.inl (1, n, .inr (.inl g)))) {i : Int32} {v : Int64} (hin : ¬ vp_in i n) : Ct yX3_set (ws_ yX3_set cX3_set 4 none) 0 3 222 [.ref (52 + t), .int i, .long v] (XM ξ mid dyn) (fun _ _ => False) (fun c _ M' => c = "java/lang/ArrayIndexOutOfBoundsException" ∧ ¬ vp_in i n ∧ M' = XM ξ mid dyn) := by
  have hO : (XM ξ mid dyn)[52 + t]? = some (.inr (3, [.ref (117 + r), .int 3])) := by rw [xm_oT ht, hTr]; rfl
  have hRow : (XM ξ mid dyn)[117 + r]? = some (.inl (1, n, .inr (.inl g))) := (xm_d hm r).trans hD
  refine Ct.of (ini := false) (ls := [some (.ref (52 + t)), some (.int i), some (.long v), none]) (by decide) (Nat.le_of_ble_eq_true rfl) (fun h => by cases h) rfl ?_
  refine e_aload_n dX3_set_0 0 rfl rfl rfl ?_
  refine e_getf (v := (.int 3)) dX3_set_1 rfl fX3_13 (hO) rfl ?_
  refine e_if_ne_t 22 (by decide) dX3_set_4 (by decide) ?_
  refine e_aload_n dX3_set_22 0 rfl rfl rfl ?_
  refine e_getf (v := (.int 3)) dX3_set_23 rfl fX3_13 (hO) rfl ?_
  refine e_iconst 1 dX3_set_26 rfl ?_
  refine e_icmp_ne 45 dX3_set_27 (by decide) (fun _ => ?_) (fun h => absurd h (by decide))
  refine e_aload_n dX3_set_45 0 rfl rfl rfl ?_
  refine e_getf (v := (.int 3)) dX3_set_46 rfl fX3_13 (hO) rfl ?_
  refine e_iconst 2 dX3_set_49 rfl ?_
  refine e_icmp_ne 67 dX3_set_50 (by decide) (fun _ => ?_) (fun h => absurd h (by decide))
  refine e_aload_n dX3_set_67 0 rfl rfl rfl ?_
  refine e_getf (v := (.ref (117 + r))) dX3_set_68 rfl fX3_7 (hO) rfl ?_
  refine e_castA dX3_set_71 rfl q545 hRow (fun _ => rfl) (fun _ h => by cases h) (by decide +kernel) ?_
  refine e_iload_n dX3_set_74 1 rfl rfl ?_
  refine e_lload_n dX3_set_75 2 rfl rfl ?_
  refine e_lastZ hin (by omega) dX3_set_76 hRow (by decide) (by decide) (by decide) ?_
  exact ex_out (fun _ h => by cases h) (by decide) (by decide) ⟨rfl, hin, rfl⟩

set_option maxHeartbeats 4000000 in
set_option maxRecDepth 100000 in
/-- WheelTables$Tray.set -/
theorem y_set3 {ξ : Xs} {mid dyn : List ACell} (hm : mid.length = 61) {t : Nat} (ht : t < 4) {n r : Nat} {g : Nat → Int64} (hn : n ≤ 60) (hTr : ξ.2.2.2.2.2.2 t = (some (117 + r), 3)) (hD : dyn[r]? = some (.inl (1, n, .inr (.inl g)))) {j : Nat} {v : Int64} (hj : j < n) : Ct yX3_set (ws_ yX3_set cX3_set 4 none) 0 3 222 [.ref (52 + t), .int (nI j), .long v] (XM ξ mid dyn) (fun u M' => M' = XM ξ mid (dyn.set r (rowC 3 n (vp_updL g j (spCut (nI 3) v)))) ∧ u = none) noX := by
  have hO : (XM ξ mid dyn)[52 + t]? = some (.inr (3, [.ref (117 + r), .int 3])) := by rw [xm_oT ht, hTr]; rfl
  have hRow : (XM ξ mid dyn)[117 + r]? = some (.inl (1, n, .inr (.inl g))) := (xm_d hm r).trans hD
  refine Ct.of (ini := false) (ls := [some (.ref (52 + t)), some (.int (nI j)), some (.long v), none]) (by decide) (Nat.le_of_ble_eq_true rfl) (fun h => by cases h) rfl ?_
  refine e_aload_n dX3_set_0 0 rfl rfl rfl ?_
  refine e_getf (v := (.int 3)) dX3_set_1 rfl fX3_13 (hO) rfl ?_
  refine e_if_ne_t 22 (by decide) dX3_set_4 (by decide) ?_
  refine e_aload_n dX3_set_22 0 rfl rfl rfl ?_
  refine e_getf (v := (.int 3)) dX3_set_23 rfl fX3_13 (hO) rfl ?_
  refine e_iconst 1 dX3_set_26 rfl ?_
  refine e_icmp_ne 45 dX3_set_27 (by decide) (fun _ => ?_) (fun h => absurd h (by decide))
  refine e_aload_n dX3_set_45 0 rfl rfl rfl ?_
  refine e_getf (v := (.int 3)) dX3_set_46 rfl fX3_13 (hO) rfl ?_
  refine e_iconst 2 dX3_set_49 rfl ?_
  refine e_icmp_ne 67 dX3_set_50 (by decide) (fun _ => ?_) (fun h => absurd h (by decide))
  refine e_aload_n dX3_set_67 0 rfl rfl rfl ?_
  refine e_getf (v := (.ref (117 + r))) dX3_set_68 rfl fX3_7 (hO) rfl ?_
  refine e_castA dX3_set_71 rfl q545 hRow (fun _ => rfl) (fun _ h => by cases h) (by decide +kernel) ?_
  refine e_iload_n dX3_set_74 1 rfl rfl ?_
  refine e_lload_n dX3_set_75 2 rfl rfl ?_
  refine e_last (f := g) (j := j) dX3_set_76 hRow rfl hj (by omega) ?_
  rw [xm_ds hm]
  refine e_return dX3_set_77 rfl (Nat.zero_le _) (Nat.zero_le _) ?_
  exact ⟨rfl, rfl⟩

set_option maxHeartbeats 4000000 in
set_option maxRecDepth 100000 in
/-- WheelTables$Tray.get -/
theorem y_getN {ξ : Xs} {mid dyn : List ACell} {t : Nat} (ht : t < 4) (hTr : ξ.2.2.2.2.2.2 t = (none, 0)) {i : Int32} : Ct yX3_get (ws_ yX3_get cX3_get 2 (some .long)) 0 3 222 [.ref (52 + t), .int i] (XM ξ mid dyn) (fun _ _ => False) (fun c _ M' => c = "java/lang/NullPointerException" ∧ M' = XM ξ mid dyn) := by
  have hO : (XM ξ mid dyn)[52 + t]? = some (.inr (3, [.null, .int 0])) := by rw [xm_oT ht, hTr]; rfl
  refine Ct.of (ini := false) (ls := [some (.ref (52 + t)), some (.int i)]) (by decide) (Nat.le_of_ble_eq_true rfl) (fun h => by cases h) rfl ?_
  refine e_aload_n dX3_get_0 0 rfl rfl rfl ?_
  refine e_getf (v := (.int 0)) dX3_get_1 rfl fX3_13 (hO) rfl ?_
  refine e_if_ne_f (by decide) 20 dX3_get_4 (by decide) ?_
  refine e_aload_n dX3_get_7 0 rfl rfl rfl ?_
  refine e_getf (v := .null) dX3_get_8 rfl fX3_7 (hO) rfl ?_
  refine e_castN dX3_get_11 ?_
  refine e_iload_n dX3_get_14 1 rfl rfl ?_
  refine e_baldN dX3_get_15 (by decide) (by decide) (by decide) ?_
  exact ex_out (fun _ h => by cases h) (by decide) (by decide) ⟨rfl, rfl⟩

set_option maxHeartbeats 4000000 in
set_option maxRecDepth 100000 in
/-- WheelTables$Tray.set -/
theorem y_setN {ξ : Xs} {mid dyn : List ACell} {t : Nat} (ht : t < 4) (hTr : ξ.2.2.2.2.2.2 t = (none, 0)) {i : Int32} {v : Int64} : Ct yX3_set (ws_ yX3_set cX3_set 4 none) 0 3 222 [.ref (52 + t), .int i, .long v] (XM ξ mid dyn) (fun _ _ => False) (fun c _ M' => c = "java/lang/NullPointerException" ∧ M' = XM ξ mid dyn) := by
  have hO : (XM ξ mid dyn)[52 + t]? = some (.inr (3, [.null, .int 0])) := by rw [xm_oT ht, hTr]; rfl
  refine Ct.of (ini := false) (ls := [some (.ref (52 + t)), some (.int i), some (.long v), none]) (by decide) (Nat.le_of_ble_eq_true rfl) (fun h => by cases h) rfl ?_
  refine e_aload_n dX3_set_0 0 rfl rfl rfl ?_
  refine e_getf (v := (.int 0)) dX3_set_1 rfl fX3_13 (hO) rfl ?_
  refine e_if_ne_f (by decide) 22 dX3_set_4 (by decide) ?_
  refine e_aload_n dX3_set_7 0 rfl rfl rfl ?_
  refine e_getf (v := .null) dX3_set_8 rfl fX3_7 (hO) rfl ?_
  refine e_castN dX3_set_11 ?_
  refine e_iload_n dX3_set_14 1 rfl rfl ?_
  refine e_lload_n dX3_set_15 2 rfl rfl ?_
  refine e_l2i dX3_set_16 ?_
  refine e_i2b dX3_set_17 ?_
  refine e_bastN dX3_set_18 (by decide) (by decide) (by decide) ?_
  exact ex_out (fun _ h => by cases h) (by decide) (by decide) ⟨rfl, rfl⟩

theorem xT_xT (ξ : Xs) (k : Nat) (a b : Option Nat × Int32) : xT (xT ξ k a) k b = xT ξ k b := by
  have h : va_up (va_up ξ.2.2.2.2.2.2 k a) k b = va_up ξ.2.2.2.2.2.2 k b := by funext j; unfold va_up; split <;> rfl
  exact congrArg (fun z => (ξ.1, ξ.2.1, ξ.2.2.1, ξ.2.2.2.1, ξ.2.2.2.2.1, ξ.2.2.2.2.2.1, z)) h
set_option maxHeartbeats 4000000 in
set_option maxRecDepth 100000 in
/-- WheelTables$Tray.make -/
theorem y_make0 {ξ : Xs} {mid dyn : List ACell} (hm : mid.length = 61) {t : Nat} (ht : t < 4) {n : Nat} (hn : n ≤ 60) : Ct yX3_make (ws_ yX3_make cX3_make 4 none) 0 3 60 [.ref (52 + t), .int 0, .int (nI n)] (XM ξ mid dyn) (fun u M' => u = none ∧ M' = XM (xT ξ t (some (117 + dyn.length), 0)) mid (dyn ++ [rowC 0 n (fun _ => 0)])) noX := by
  refine Ct.of (ini := false) (ls := [some (.ref (52 + t)), some (.int 0), some (.int (nI n)), none]) (by decide) (Nat.le_of_ble_eq_true rfl) (fun h => by cases h) rfl ?_
  refine e_iload_n dX3_make_0 1 rfl rfl ?_
  refine e_if_ne_f (by decide) 10 dX3_make_1 (by decide) ?_
  refine e_iload_n dX3_make_4 2 rfl rfl ?_
  refine e_newb (n := n) (L := 117 + dyn.length) dX3_make_5 rfl (by omega) (show 0 + 1 ≤ 3 by decide) (show 0 + n ≤ 60 by omega) (xm_len hm) ?_
  rw [xm_push]
  refine e_goto 35 dX3_make_7 (by decide) ?_
  refine e_astore_n dX3_make_35 3 rfl (ls_s (ls_s (ls_1 rfl))) (Nat.le_of_ble_eq_true rfl) rfl ?_
  refine e_aload_n dX3_make_36 0 rfl rfl rfl ?_
  refine e_aload_n dX3_make_37 3 rfl rfl rfl ?_
  refine e_putf dX3_make_38 rfl pX3_7 (fun h => by cases h) (xm_oT ht) (Nat.le_of_ble_eq_true rfl) rfl ?_
  refine E_mem (xm_fT ht (some (117 + dyn.length)) (ξ.2.2.2.2.2.2 t).2).symm ?_
  refine e_aload_n dX3_make_41 0 rfl rfl rfl ?_
  refine e_iload_n dX3_make_42 1 rfl rfl ?_
  refine e_putf dX3_make_43 rfl pX3_13 (fun h => by cases h) (xm_oT ht) (Nat.le_of_ble_eq_true rfl) rfl ?_
  refine E_mem (M' := XM (xT ξ t (some (117 + dyn.length), 0)) mid (dyn ++ [rowC 0 n (fun _ => 0)])) ?_ ?_
  · rw [show (xT ξ t (some (117 + dyn.length), (ξ.2.2.2.2.2.2 t).2)).2.2.2.2.2.2 t = (some (117 + dyn.length), (ξ.2.2.2.2.2.2 t).2) from va_up_self _ _ _]
    refine Eq.symm ((xm_fT ht (some (117 + dyn.length)) 0).trans ?_)
    rw [xT_xT]
    all_goals rfl
  refine e_return dX3_make_46 rfl (by first | decide | (show 0 + n ≤ 60; omega)) (by first | decide | (show 0 + n ≤ 60; omega)) ?_
  exact ⟨rfl, rfl⟩

set_option maxHeartbeats 4000000 in
set_option maxRecDepth 100000 in
/-- WheelTables$Tray.make -/
theorem y_makeZ0 {ξ : Xs} {mid dyn : List ACell} (hm : mid.length = 61) {t : Nat} (ht : t < 4) {n : Int32} (h0 : n < 0) : Ct yX3_make (ws_ yX3_make cX3_make 4 none) 0 3 60 [.ref (52 + t), .int 0, .int n] (XM ξ mid dyn) (fun _ _ => False) (fun c _ M' => c = "java/lang/NegativeArraySizeException" ∧ n < 0 ∧ M' = XM ξ mid dyn) := by
  refine Ct.of (ini := false) (ls := [some (.ref (52 + t)), some (.int 0), some (.int n), none]) (by decide) (Nat.le_of_ble_eq_true rfl) (fun h => by cases h) rfl ?_
  refine e_iload_n dX3_make_0 1 rfl rfl ?_
  refine e_if_ne_f (by decide) 10 dX3_make_1 (by decide) ?_
  refine e_iload_n dX3_make_4 2 rfl rfl ?_
  refine e_newarrZ h0 dX3_make_5 (by decide) (by decide) (by decide) ?_
  exact ex_out (fun _ h => by cases h) (by decide) (by decide) ⟨rfl, h0, rfl⟩

set_option maxHeartbeats 4000000 in
set_option maxRecDepth 100000 in
/-- WheelTables$Tray.make -/
theorem y_make1 {ξ : Xs} {mid dyn : List ACell} (hm : mid.length = 61) {t : Nat} (ht : t < 4) {n : Nat} (hn : n ≤ 60) : Ct yX3_make (ws_ yX3_make cX3_make 4 none) 0 3 60 [.ref (52 + t), .int 1, .int (nI n)] (XM ξ mid dyn) (fun u M' => u = none ∧ M' = XM (xT ξ t (some (117 + dyn.length), 1)) mid (dyn ++ [rowC 1 n (fun _ => 0)])) noX := by
  refine Ct.of (ini := false) (ls := [some (.ref (52 + t)), some (.int 1), some (.int (nI n)), none]) (by decide) (Nat.le_of_ble_eq_true rfl) (fun h => by cases h) rfl ?_
  refine e_iload_n dX3_make_0 1 rfl rfl ?_
  refine e_if_ne_t 10 (by decide) dX3_make_1 (by decide) ?_
  refine e_iload_n dX3_make_10 1 rfl rfl ?_
  refine e_iconst 1 dX3_make_11 rfl ?_
  refine e_icmp_ne 21 dX3_make_12 (by decide) (fun h => absurd h (by decide)) (fun _ => ?_)
  refine e_iload_n dX3_make_15 2 rfl rfl ?_
  refine e_news (n := n) (L := 117 + dyn.length) dX3_make_16 rfl (by omega) (show 0 + 1 ≤ 3 by decide) (show 0 + n ≤ 60 by omega) (xm_len hm) ?_
  rw [xm_push]
  refine e_goto 35 dX3_make_18 (by decide) ?_
  refine e_astore_n dX3_make_35 3 rfl (ls_s (ls_s (ls_1 rfl))) (Nat.le_of_ble_eq_true rfl) rfl ?_
  refine e_aload_n dX3_make_36 0 rfl rfl rfl ?_
  refine e_aload_n dX3_make_37 3 rfl rfl rfl ?_
  refine e_putf dX3_make_38 rfl pX3_7 (fun h => by cases h) (xm_oT ht) (Nat.le_of_ble_eq_true rfl) rfl ?_
  refine E_mem (xm_fT ht (some (117 + dyn.length)) (ξ.2.2.2.2.2.2 t).2).symm ?_
  refine e_aload_n dX3_make_41 0 rfl rfl rfl ?_
  refine e_iload_n dX3_make_42 1 rfl rfl ?_
  refine e_putf dX3_make_43 rfl pX3_13 (fun h => by cases h) (xm_oT ht) (Nat.le_of_ble_eq_true rfl) rfl ?_
  refine E_mem (M' := XM (xT ξ t (some (117 + dyn.length), 1)) mid (dyn ++ [rowC 1 n (fun _ => 0)])) ?_ ?_
  · rw [show (xT ξ t (some (117 + dyn.length), (ξ.2.2.2.2.2.2 t).2)).2.2.2.2.2.2 t = (some (117 + dyn.length), (ξ.2.2.2.2.2.2 t).2) from va_up_self _ _ _]
    refine Eq.symm ((xm_fT ht (some (117 + dyn.length)) 1).trans ?_)
    rw [xT_xT]
    all_goals rfl
  refine e_return dX3_make_46 rfl (by first | decide | (show 0 + n ≤ 60; omega)) (by first | decide | (show 0 + n ≤ 60; omega)) ?_
  exact ⟨rfl, rfl⟩

set_option maxHeartbeats 4000000 in
set_option maxRecDepth 100000 in
/-- WheelTables$Tray.make -/
theorem y_makeZ1 {ξ : Xs} {mid dyn : List ACell} (hm : mid.length = 61) {t : Nat} (ht : t < 4) {n : Int32} (h0 : n < 0) : Ct yX3_make (ws_ yX3_make cX3_make 4 none) 0 3 60 [.ref (52 + t), .int 1, .int n] (XM ξ mid dyn) (fun _ _ => False) (fun c _ M' => c = "java/lang/NegativeArraySizeException" ∧ n < 0 ∧ M' = XM ξ mid dyn) := by
  refine Ct.of (ini := false) (ls := [some (.ref (52 + t)), some (.int 1), some (.int n), none]) (by decide) (Nat.le_of_ble_eq_true rfl) (fun h => by cases h) rfl ?_
  refine e_iload_n dX3_make_0 1 rfl rfl ?_
  refine e_if_ne_t 10 (by decide) dX3_make_1 (by decide) ?_
  refine e_iload_n dX3_make_10 1 rfl rfl ?_
  refine e_iconst 1 dX3_make_11 rfl ?_
  refine e_icmp_ne 21 dX3_make_12 (by decide) (fun h => absurd h (by decide)) (fun _ => ?_)
  refine e_iload_n dX3_make_15 2 rfl rfl ?_
  refine e_newarrZ h0 dX3_make_16 (by decide) (by decide) (by decide) ?_
  exact ex_out (fun _ h => by cases h) (by decide) (by decide) ⟨rfl, h0, rfl⟩

set_option maxHeartbeats 4000000 in
set_option maxRecDepth 100000 in
/-- WheelTables$Tray.make -/
theorem y_make2 {ξ : Xs} {mid dyn : List ACell} (hm : mid.length = 61) {t : Nat} (ht : t < 4) {n : Nat} (hn : n ≤ 60) : Ct yX3_make (ws_ yX3_make cX3_make 4 none) 0 3 60 [.ref (52 + t), .int 2, .int (nI n)] (XM ξ mid dyn) (fun u M' => u = none ∧ M' = XM (xT ξ t (some (117 + dyn.length), 2)) mid (dyn ++ [rowC 2 n (fun _ => 0)])) noX := by
  refine Ct.of (ini := false) (ls := [some (.ref (52 + t)), some (.int 2), some (.int (nI n)), none]) (by decide) (Nat.le_of_ble_eq_true rfl) (fun h => by cases h) rfl ?_
  refine e_iload_n dX3_make_0 1 rfl rfl ?_
  refine e_if_ne_t 10 (by decide) dX3_make_1 (by decide) ?_
  refine e_iload_n dX3_make_10 1 rfl rfl ?_
  refine e_iconst 1 dX3_make_11 rfl ?_
  refine e_icmp_ne 21 dX3_make_12 (by decide) (fun _ => ?_) (fun h => absurd h (by decide))
  refine e_iload_n dX3_make_21 1 rfl rfl ?_
  refine e_iconst 2 dX3_make_22 rfl ?_
  refine e_icmp_ne 32 dX3_make_23 (by decide) (fun h => absurd h (by decide)) (fun _ => ?_)
  refine e_iload_n dX3_make_26 2 rfl rfl ?_
  refine e_newi (n := n) (L := 117 + dyn.length) dX3_make_27 rfl (by omega) (show 0 + 1 ≤ 3 by decide) (show 0 + n ≤ 60 by omega) (xm_len hm) ?_
  rw [xm_push]
  refine e_goto 35 dX3_make_29 (by decide) ?_
  refine e_astore_n dX3_make_35 3 rfl (ls_s (ls_s (ls_1 rfl))) (Nat.le_of_ble_eq_true rfl) rfl ?_
  refine e_aload_n dX3_make_36 0 rfl rfl rfl ?_
  refine e_aload_n dX3_make_37 3 rfl rfl rfl ?_
  refine e_putf dX3_make_38 rfl pX3_7 (fun h => by cases h) (xm_oT ht) (Nat.le_of_ble_eq_true rfl) rfl ?_
  refine E_mem (xm_fT ht (some (117 + dyn.length)) (ξ.2.2.2.2.2.2 t).2).symm ?_
  refine e_aload_n dX3_make_41 0 rfl rfl rfl ?_
  refine e_iload_n dX3_make_42 1 rfl rfl ?_
  refine e_putf dX3_make_43 rfl pX3_13 (fun h => by cases h) (xm_oT ht) (Nat.le_of_ble_eq_true rfl) rfl ?_
  refine E_mem (M' := XM (xT ξ t (some (117 + dyn.length), 2)) mid (dyn ++ [rowC 2 n (fun _ => 0)])) ?_ ?_
  · rw [show (xT ξ t (some (117 + dyn.length), (ξ.2.2.2.2.2.2 t).2)).2.2.2.2.2.2 t = (some (117 + dyn.length), (ξ.2.2.2.2.2.2 t).2) from va_up_self _ _ _]
    refine Eq.symm ((xm_fT ht (some (117 + dyn.length)) 2).trans ?_)
    rw [xT_xT]
    all_goals rfl
  refine e_return dX3_make_46 rfl (by first | decide | (show 0 + n ≤ 60; omega)) (by first | decide | (show 0 + n ≤ 60; omega)) ?_
  exact ⟨rfl, rfl⟩

set_option maxHeartbeats 4000000 in
set_option maxRecDepth 100000 in
/-- WheelTables$Tray.make -/
theorem y_makeZ2 {ξ : Xs} {mid dyn : List ACell} (hm : mid.length = 61) {t : Nat} (ht : t < 4) {n : Int32} (h0 : n < 0) : Ct yX3_make (ws_ yX3_make cX3_make 4 none) 0 3 60 [.ref (52 + t), .int 2, .int n] (XM ξ mid dyn) (fun _ _ => False) (fun c _ M' => c = "java/lang/NegativeArraySizeException" ∧ n < 0 ∧ M' = XM ξ mid dyn) := by
  refine Ct.of (ini := false) (ls := [some (.ref (52 + t)), some (.int 2), some (.int n), none]) (by decide) (Nat.le_of_ble_eq_true rfl) (fun h => by cases h) rfl ?_
  refine e_iload_n dX3_make_0 1 rfl rfl ?_
  refine e_if_ne_t 10 (by decide) dX3_make_1 (by decide) ?_
  refine e_iload_n dX3_make_10 1 rfl rfl ?_
  refine e_iconst 1 dX3_make_11 rfl ?_
  refine e_icmp_ne 21 dX3_make_12 (by decide) (fun _ => ?_) (fun h => absurd h (by decide))
  refine e_iload_n dX3_make_21 1 rfl rfl ?_
  refine e_iconst 2 dX3_make_22 rfl ?_
  refine e_icmp_ne 32 dX3_make_23 (by decide) (fun h => absurd h (by decide)) (fun _ => ?_)
  refine e_iload_n dX3_make_26 2 rfl rfl ?_
  refine e_newarrZ h0 dX3_make_27 (by decide) (by decide) (by decide) ?_
  exact ex_out (fun _ h => by cases h) (by decide) (by decide) ⟨rfl, h0, rfl⟩

set_option maxHeartbeats 4000000 in
set_option maxRecDepth 100000 in
/-- WheelTables$Tray.make -/
theorem y_make3 {ξ : Xs} {mid dyn : List ACell} (hm : mid.length = 61) {t : Nat} (ht : t < 4) {n : Nat} (hn : n ≤ 60) : Ct yX3_make (ws_ yX3_make cX3_make 4 none) 0 3 60 [.ref (52 + t), .int 3, .int (nI n)] (XM ξ mid dyn) (fun u M' => u = none ∧ M' = XM (xT ξ t (some (117 + dyn.length), 3)) mid (dyn ++ [rowC 3 n (fun _ => 0)])) noX := by
  refine Ct.of (ini := false) (ls := [some (.ref (52 + t)), some (.int 3), some (.int (nI n)), none]) (by decide) (Nat.le_of_ble_eq_true rfl) (fun h => by cases h) rfl ?_
  refine e_iload_n dX3_make_0 1 rfl rfl ?_
  refine e_if_ne_t 10 (by decide) dX3_make_1 (by decide) ?_
  refine e_iload_n dX3_make_10 1 rfl rfl ?_
  refine e_iconst 1 dX3_make_11 rfl ?_
  refine e_icmp_ne 21 dX3_make_12 (by decide) (fun _ => ?_) (fun h => absurd h (by decide))
  refine e_iload_n dX3_make_21 1 rfl rfl ?_
  refine e_iconst 2 dX3_make_22 rfl ?_
  refine e_icmp_ne 32 dX3_make_23 (by decide) (fun _ => ?_) (fun h => absurd h (by decide))
  refine e_iload_n dX3_make_32 2 rfl rfl ?_
  refine e_newl (n := n) (L := 117 + dyn.length) dX3_make_33 rfl (by omega) (show 0 + 1 ≤ 3 by decide) (show 0 + n ≤ 60 by omega) (xm_len hm) ?_
  rw [xm_push]
  refine e_astore_n dX3_make_35 3 rfl (ls_s (ls_s (ls_1 rfl))) (Nat.le_of_ble_eq_true rfl) rfl ?_
  refine e_aload_n dX3_make_36 0 rfl rfl rfl ?_
  refine e_aload_n dX3_make_37 3 rfl rfl rfl ?_
  refine e_putf dX3_make_38 rfl pX3_7 (fun h => by cases h) (xm_oT ht) (Nat.le_of_ble_eq_true rfl) rfl ?_
  refine E_mem (xm_fT ht (some (117 + dyn.length)) (ξ.2.2.2.2.2.2 t).2).symm ?_
  refine e_aload_n dX3_make_41 0 rfl rfl rfl ?_
  refine e_iload_n dX3_make_42 1 rfl rfl ?_
  refine e_putf dX3_make_43 rfl pX3_13 (fun h => by cases h) (xm_oT ht) (Nat.le_of_ble_eq_true rfl) rfl ?_
  refine E_mem (M' := XM (xT ξ t (some (117 + dyn.length), 3)) mid (dyn ++ [rowC 3 n (fun _ => 0)])) ?_ ?_
  · rw [show (xT ξ t (some (117 + dyn.length), (ξ.2.2.2.2.2.2 t).2)).2.2.2.2.2.2 t = (some (117 + dyn.length), (ξ.2.2.2.2.2.2 t).2) from va_up_self _ _ _]
    refine Eq.symm ((xm_fT ht (some (117 + dyn.length)) 3).trans ?_)
    rw [xT_xT]
    all_goals rfl
  refine e_return dX3_make_46 rfl (by first | decide | (show 0 + n ≤ 60; omega)) (by first | decide | (show 0 + n ≤ 60; omega)) ?_
  exact ⟨rfl, rfl⟩

set_option maxHeartbeats 4000000 in
set_option maxRecDepth 100000 in
/-- WheelTables$Tray.make -/
theorem y_makeZ3 {ξ : Xs} {mid dyn : List ACell} (hm : mid.length = 61) {t : Nat} (ht : t < 4) {n : Int32} (h0 : n < 0) : Ct yX3_make (ws_ yX3_make cX3_make 4 none) 0 3 60 [.ref (52 + t), .int 3, .int n] (XM ξ mid dyn) (fun _ _ => False) (fun c _ M' => c = "java/lang/NegativeArraySizeException" ∧ n < 0 ∧ M' = XM ξ mid dyn) := by
  refine Ct.of (ini := false) (ls := [some (.ref (52 + t)), some (.int 3), some (.int n), none]) (by decide) (Nat.le_of_ble_eq_true rfl) (fun h => by cases h) rfl ?_
  refine e_iload_n dX3_make_0 1 rfl rfl ?_
  refine e_if_ne_t 10 (by decide) dX3_make_1 (by decide) ?_
  refine e_iload_n dX3_make_10 1 rfl rfl ?_
  refine e_iconst 1 dX3_make_11 rfl ?_
  refine e_icmp_ne 21 dX3_make_12 (by decide) (fun _ => ?_) (fun h => absurd h (by decide))
  refine e_iload_n dX3_make_21 1 rfl rfl ?_
  refine e_iconst 2 dX3_make_22 rfl ?_
  refine e_icmp_ne 32 dX3_make_23 (by decide) (fun _ => ?_) (fun h => absurd h (by decide))
  refine e_iload_n dX3_make_32 2 rfl rfl ?_
  refine e_newarrZ h0 dX3_make_33 (by decide) (by decide) (by decide) ?_
  exact ex_out (fun _ h => by cases h) (by decide) (by decide) ⟨rfl, h0, rfl⟩

