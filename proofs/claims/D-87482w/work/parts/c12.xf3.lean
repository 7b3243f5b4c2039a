/-! ===== the component: sheet ===== -/
set_option maxHeartbeats 4000000 in
set_option maxRecDepth 100000 in
/-- WheelTables$Tray.set -/
theorem z_set0 {ξ : Xs} {mid dyn : List ACell} (hm : mid.length = 61) {t : Nat} (ht : t < 4) {n r : Nat} {g : Nat → Int64} (hn : n ≤ 60) (hTr : ξ.2.2.2.2.2.2 t = (some (117 + r), 0)) (hD : dyn[r]? = some (.inl (2, n, .inl (fun k => (g k).toInt32)))) {j : Nat} {v : Int64} (hj : j < n) : Ct yX3_set (ws_ yX3_set cX3_set 4 none) 0 0 0 [.ref (52 + t), .int (nI j), .long v] (XM ξ mid dyn) (fun u M' => M' = XM ξ mid (dyn.set r (rowC 0 n (vp_updL g j (spCut (nI 0) v)))) ∧ u = none) noX := by
  have hO : (XM ξ mid dyn)[52 + t]? = some (.inr (3, [.ref (117 + r), .int 0])) := by rw [xm_oT ht, hTr]; rfl
  have hRow : (XM ξ mid dyn)[117 + r]? = some (.inl (2, n, .inl (fun k => (g k).toInt32))) := (xm_d hm r).trans hD
  refine Ct.of (ini := false) (ls := [some (.ref (52 + t)), some (.int (nI j)), some (.long v), none]) (by decide) (Nat.le_of_ble_eq_true rfl) (fun h => by cases h) rfl ?_
  refine e_aload_n dX3_set_0 0 rfl rfl rfl ?_
  refine e_getf (v := (.int 0)) dX3_set_1 rfl fX3_13 (hO) rfl ?_
  refine e_if_ne_f (by decide) 22 dX3_set_4 (by decide) ?_
  refine e_aload_n dX3_set_7 0 rfl rfl rfl ?_
  refine e_getf (v := (.ref (117 + r))) dX3_set_8 rfl fX3_7 (hO) rfl ?_
  refine e_castA dX3_set_11 rfl q542 hRow (fun _ => rfl) (fun _ h => by cases h) (by decide +kernel) ?_
  refine e_iload_n dX3_set_14 1 rfl rfl ?_
  refine e_lload_n dX3_set_15 2 rfl rfl ?_
  refine e_l2i dX3_set_16 ?_
  refine e_i2b dX3_set_17 ?_
  refine e_bast (f := fun k => (g k).toInt32) (j := j) dX3_set_18 hRow rfl hj (by omega) ?_
  rw [xm_ds hm]
  refine e_goto 77 dX3_set_19 (by decide) ?_
  refine e_return dX3_set_77 rfl (Nat.zero_le _) (Nat.zero_le _) ?_
  refine ⟨?_, rfl⟩
  show XM ξ mid (dyn.set r (.inl (2, n, .inl (upd (fun k => (g k).toInt32) j (v.toInt32.toInt8.toInt32.toInt8.toInt32))))) = XM ξ mid (dyn.set r (.inl (2, n, .inl (fun k => (vp_updL g j (spCut (nI 0) v) k).toInt32))))
  rw [row_up (n := n) (x := v.toInt32.toInt8.toInt32.toInt8.toInt32) (by rw [spCut_0, Int32.toInt32_toInt64, Int8.toInt8_toInt32])]

set_option maxHeartbeats 4000000 in
set_option maxRecDepth 100000 in
/-- WheelTables$Tray.get -/
theorem z_get0 {ξ : Xs} {mid dyn : List ACell} (hm : mid.length = 61) {t : Nat} (ht : t < 4) {n r : Nat} {g : Nat → Int64} (hn : n ≤ 60) (hTr : ξ.2.2.2.2.2.2 t = (some (117 + r), 0)) (hD : dyn[r]? = some (.inl (2, n, .inl (fun k => (g k).toInt32)))) {j : Nat} (hj : j < n) : Ct yX3_get (ws_ yX3_get cX3_get 2 (some .long)) 0 0 0 [.ref (52 + t), .int (nI j)] (XM ξ mid dyn) (Q1 (some (.long (rgv 0 (g j)))) (XM ξ mid dyn)) noX := by
  have hO : (XM ξ mid dyn)[52 + t]? = some (.inr (3, [.ref (117 + r), .int 0])) := by rw [xm_oT ht, hTr]; rfl
  have hRow : (XM ξ mid dyn)[117 + r]? = some (.inl (2, n, .inl (fun k => (g k).toInt32))) := (xm_d hm r).trans hD
  refine Ct.of (ini := false) (ls := [some (.ref (52 + t)), some (.int (nI j))]) (by decide) (Nat.le_of_ble_eq_true rfl) (fun h => by cases h) rfl ?_
  refine e_aload_n dX3_get_0 0 rfl rfl rfl ?_
  refine e_getf (v := (.int 0)) dX3_get_1 rfl fX3_13 (hO) rfl ?_
  refine e_if_ne_f (by decide) 20 dX3_get_4 (by decide) ?_
  refine e_aload_n dX3_get_7 0 rfl rfl rfl ?_
  refine e_getf (v := (.ref (117 + r))) dX3_get_8 rfl fX3_7 (hO) rfl ?_
  refine e_castA dX3_get_11 rfl q542 hRow (fun _ => rfl) (fun _ h => by cases h) (by decide +kernel) ?_
  refine e_iload_n dX3_get_14 1 rfl rfl ?_
  refine e_bald (f := fun k => (g k).toInt32) (j := j) dX3_get_15 hRow rfl hj (by omega) ?_
  refine e_i2l dX3_get_16 ?_
  refine e_goto 71 dX3_get_17 (by decide) ?_
  refine e_lreturn dX3_get_71 rfl (Nat.zero_le _) (Nat.zero_le _) ?_
  exact ⟨rfl, rfl⟩

set_option maxHeartbeats 4000000 in
set_option maxRecDepth 100000 in
/-- WheelTables$Tray.set -/
theorem z_set1 {ξ : Xs} {mid dyn : List ACell} (hm : mid.length = 61) {t : Nat} (ht : t < 4) {n r : Nat} {g : Nat → Int64} (hn : n ≤ 60) (hTr : ξ.2.2.2.2.2.2 t = (some (117 + r), 1)) (hD : dyn[r]? = some (.inl (3, n, .inl (fun k => (g k).toInt32)))) {j : Nat} {v : Int64} (hj : j < n) : Ct yX3_set (ws_ yX3_set cX3_set 4 none) 0 0 0 [.ref (52 + t), .int (nI j), .long v] (XM ξ mid dyn) (fun u M' => M' = XM ξ mid (dyn.set r (rowC 1 n (vp_updL g j (spCut (nI 1) v)))) ∧ u = none) noX := by
  have hO : (XM ξ mid dyn)[52 + t]? = some (.inr (3, [.ref (117 + r), .int 1])) := by rw [xm_oT ht, hTr]; rfl
  have hRow : (XM ξ mid dyn)[117 + r]? = some (.inl (3, n, .inl (fun k => (g k).toInt32))) := (xm_d hm r).trans hD
  refine Ct.of (ini := false) (ls := [some (.ref (52 + t)), some (.int (nI j)), some (.long v), none]) (by decide) (Nat.le_of_ble_eq_true rfl) (fun h => by cases h) rfl ?_
  refine e_aload_n dX3_set_0 0 rfl rfl rfl ?_
  refine e_getf (v := (.int 1)) dX3_set_1 rfl fX3_13 (hO) rfl ?_
  refine e_if_ne_t 22 (by decide) dX3_set_4 (by decide) ?_
  refine e_aload_n dX3_set_22 0 rfl rfl rfl ?_
  refine e_getf (v := (.int 1)) dX3_set_23 rfl fX3_13 (hO) rfl ?_
  refine e_iconst 1 dX3_set_26 rfl ?_
  refine e_icmp_ne 45 dX3_set_27 (by decide) (fun h => absurd h (by decide)) (fun _ => ?_)
  refine e_aload_n dX3_set_30 0 rfl rfl rfl ?_
  refine e_getf (v := (.ref (117 + r))) dX3_set_31 rfl fX3_7 (hO) rfl ?_
  refine e_castA dX3_set_34 rfl q543 hRow (fun _ => rfl) (fun _ h => by cases h) (by decide +kernel) ?_
  refine e_iload_n dX3_set_37 1 rfl rfl ?_
  refine e_lload_n dX3_set_38 2 rfl rfl ?_
  refine e_l2i dX3_set_39 ?_
  refine e_i2s dX3_set_40 ?_
  refine e_sast (f := fun k => (g k).toInt32) (j := j) dX3_set_41 hRow rfl hj (by omega) ?_
  rw [xm_ds hm]
  refine e_goto 77 dX3_set_42 (by decide) ?_
  refine e_return dX3_set_77 rfl (Nat.zero_le _) (Nat.zero_le _) ?_
  refine ⟨?_, rfl⟩
  show XM ξ mid (dyn.set r (.inl (3, n, .inl (upd (fun k => (g k).toInt32) j (v.toInt32.toInt16.toInt32.toInt16.toInt32))))) = XM ξ mid (dyn.set r (.inl (3, n, .inl (fun k => (vp_updL g j (spCut (nI 1) v) k).toInt32))))
  rw [row_up (n := n) (x := v.toInt32.toInt16.toInt32.toInt16.toInt32) (by rw [spCut_1, Int32.toInt32_toInt64, Int16.toInt16_toInt32])]

set_option maxHeartbeats 4000000 in
set_option maxRecDepth 100000 in
/-- WheelTables$Tray.get -/
theorem z_get1 {ξ : Xs} {mid dyn : List ACell} (hm : mid.length = 61) {t : Nat} (ht : t < 4) {n r : Nat} {g : Nat → Int64} (hn : n ≤ 60) (hTr : ξ.2.2.2.2.2.2 t = (some (117 + r), 1)) (hD : dyn[r]? = some (.inl (3, n, .inl (fun k => (g k).toInt32)))) {j : Nat} (hj : j < n) : Ct yX3_get (ws_ yX3_get cX3_get 2 (some .long)) 0 0 0 [.ref (52 + t), .int (nI j)] (XM ξ mid dyn) (Q1 (some (.long (rgv 1 (g j)))) (XM ξ mid dyn)) noX := by
  have hO : (XM ξ mid dyn)[52 + t]? = some (.inr (3, [.ref (117 + r), .int 1])) := by rw [xm_oT ht, hTr]; rfl
  have hRow : (XM ξ mid dyn)[117 + r]? = some (.inl (3, n, .inl (fun k => (g k).toInt32))) := (xm_d hm r).trans hD
  refine Ct.of (ini := false) (ls := [some (.ref (52 + t)), some (.int (nI j))]) (by decide) (Nat.le_of_ble_eq_true rfl) (fun h => by cases h) rfl ?_
  refine e_aload_n dX3_get_0 0 rfl rfl rfl ?_
  refine e_getf (v := (.int 1)) dX3_get_1 rfl fX3_13 (hO) rfl ?_
  refine e_if_ne_t 20 (by decide) dX3_get_4 (by decide) ?_
  refine e_aload_n dX3_get_20 0 rfl rfl rfl ?_
  refine e_getf (v := (.int 1)) dX3_get_21 rfl fX3_13 (hO) rfl ?_
  refine e_iconst 1 dX3_get_24 rfl ?_
  refine e_icmp_ne 41 dX3_get_25 (by decide) (fun h => absurd h (by decide)) (fun _ => ?_)
  refine e_aload_n dX3_get_28 0 rfl rfl rfl ?_
  refine e_getf (v := (.ref (117 + r))) dX3_get_29 rfl fX3_7 (hO) rfl ?_
  refine e_castA dX3_get_32 rfl q543 hRow (fun _ => rfl) (fun _ h => by cases h) (by decide +kernel) ?_
  refine e_iload_n dX3_get_35 1 rfl rfl ?_
  refine e_sald (f := fun k => (g k).toInt32) (j := j) dX3_get_36 hRow rfl hj (by omega) ?_
  refine e_i2l dX3_get_37 ?_
  refine e_goto 71 dX3_get_38 (by decide) ?_
  refine e_lreturn dX3_get_71 rfl (Nat.zero_le _) (Nat.zero_le _) ?_
  exact ⟨rfl, rfl⟩

set_option maxHeartbeats 4000000 in
set_option maxRecDepth 100000 in
/-- WheelTables$Tray.set -/
theorem z_set2 {ξ : Xs} {mid dyn : List ACell} (hm : mid.length = 61) {t : Nat} (ht : t < 4) {n r : Nat} {g : Nat → Int64} (hn : n ≤ 60) (hTr : ξ.2.2.2.2.2.2 t = (some (117 + r), 2)) (hD : dyn[r]? = some (.inl (0, n, .inl (fun k => (g k).toInt32)))) {j : Nat} {v : Int64} (hj : j < n) : Ct yX3_set (ws_ yX3_set cX3_set 4 none) 0 0 0 [.ref (52 + t), .int (nI j), .long v] (XM ξ mid dyn) (fun u M' => M' = XM ξ mid (dyn.set r (rowC 2 n (vp_updL g j (spCut (nI 2) v)))) ∧ u = none) noX := by
  have hO : (XM ξ mid dyn)[52 + t]? = some (.inr (3, [.ref (117 + r), .int 2])) := by rw [xm_oT ht, hTr]; rfl
  have hRow : (XM ξ mid dyn)[117 + r]? = some (.inl (0, n, .inl (fun k => (g k).toInt32))) := (xm_d hm r).trans hD
  refine Ct.of (ini := false) (ls := [some (.ref (52 + t)), some (.int (nI j)), some (.long v), none]) (by decide) (Nat.le_of_ble_eq_true rfl) (fun h => by cases h) rfl ?_
  refine e_aload_n dX3_set_0 0 rfl rfl rfl ?_
  refine e_getf (v := (.int 2)) dX3_set_1 rfl fX3_13 (hO) rfl ?_
  refine e_if_ne_t 22 (by decide) dX3_set_4 (by decide) ?_
  refine e_aload_n dX3_set_22 0 rfl rfl rfl ?_
  refine e_getf (v := (.int 2)) dX3_set_23 rfl fX3_13 (hO) rfl ?_
  refine e_iconst 1 dX3_set_26 rfl ?_
  refine e_icmp_ne 45 dX3_set_27 (by decide) (fun _ => ?_) (fun h => absurd h (by decide))
  refine e_aload_n dX3_set_45 0 rfl rfl rfl ?_
  refine e_getf (v := (.int 2)) dX3_set_46 rfl fX3_13 (hO) rfl ?_
  refine e_iconst 2 dX3_set_49 rfl ?_
  refine e_icmp_ne 67 dX3_set_50 (by decide) (fun h => absurd h (by decide)) (fun _ => ?_)
  refine e_aload_n dX3_set_53 0 rfl rfl rfl ?_
  refine e_getf (v := (.ref (117 + r))) dX3_set_54 rfl fX3_7 (hO) rfl ?_
  refine e_castA dX3_set_57 rfl q544 hRow (fun _ => rfl) (fun _ h => by cases h) (by decide +kernel) ?_
  refine e_iload_n dX3_set_60 1 rfl rfl ?_
  refine e_lload_n dX3_set_61 2 rfl rfl ?_
  refine e_l2i dX3_set_62 ?_
  refine e_iast (f := fun k => (g k).toInt32) (j := j) dX3_set_63 hRow rfl hj (by omega) ?_
  rw [xm_ds hm]
  refine e_goto 77 dX3_set_64 (by decide) ?_
  refine e_return dX3_set_77 rfl (Nat.zero_le _) (Nat.zero_le _) ?_
  refine ⟨?_, rfl⟩
  show XM ξ mid (dyn.set r (.inl (0, n, .inl (upd (fun k => (g k).toInt32) j (v.toInt32))))) = XM ξ mid (dyn.set r (.inl (0, n, .inl (fun k => (vp_updL g j (spCut (nI 2) v) k).toInt32))))
  rw [row_up (n := n) (x := v.toInt32) (by rw [spCut_2, Int32.toInt32_toInt64])]

set_option maxHeartbeats 4000000 in
set_option maxRecDepth 100000 in
/-- WheelTables$Tray.get -/
theorem z_get2 {ξ : Xs} {mid dyn : List ACell} (hm : mid.length = 61) {t : Nat} (ht : t < 4) {n r : Nat} {g : Nat → Int64} (hn : n ≤ 60) (hTr : ξ.2.2.2.2.2.2 t = (some (117 + r), 2)) (hD : dyn[r]? = some (.inl (0, n, .inl (fun k => (g k).toInt32)))) {j : Nat} (hj : j < n) : Ct yX3_get (ws_ yX3_get cX3_get 2 (some .long)) 0 0 0 [.ref (52 + t), .int (nI j)] (XM ξ mid dyn) (Q1 (some (.long (rgv 2 (g j)))) (XM ξ mid dyn)) noX := by
  have hO : (XM ξ mid dyn)[52 + t]? = some (.inr (3, [.ref (117 + r), .int 2])) := by rw [xm_oT ht, hTr]; rfl
  have hRow : (XM ξ mid dyn)[117 + r]? = some (.inl (0, n, .inl (fun k => (g k).toInt32))) := (xm_d hm r).trans hD
  refine Ct.of (ini := false) (ls := [some (.ref (52 + t)), some (.int (nI j))]) (by decide) (Nat.le_of_ble_eq_true rfl) (fun h => by cases h) rfl ?_
  refine e_aload_n dX3_get_0 0 rfl rfl rfl ?_
  refine e_getf (v := (.int 2)) dX3_get_1 rfl fX3_13 (hO) rfl ?_
  refine e_if_ne_t 20 (by decide) dX3_get_4 (by decide) ?_
  refine e_aload_n dX3_get_20 0 rfl rfl rfl ?_
  refine e_getf (v := (.int 2)) dX3_get_21 rfl fX3_13 (hO) rfl ?_
  refine e_iconst 1 dX3_get_24 rfl ?_
  refine e_icmp_ne 41 dX3_get_25 (by decide) (fun _ => ?_) (fun h => absurd h (by decide))
  refine e_aload_n dX3_get_41 0 rfl rfl rfl ?_
  refine e_getf (v := (.int 2)) dX3_get_42 rfl fX3_13 (hO) rfl ?_
  refine e_iconst 2 dX3_get_45 rfl ?_
  refine e_icmp_ne 62 dX3_get_46 (by decide) (fun h => absurd h (by decide)) (fun _ => ?_)
  refine e_aload_n dX3_get_49 0 rfl rfl rfl ?_
  refine e_getf (v := (.ref (117 + r))) dX3_get_50 rfl fX3_7 (hO) rfl ?_
  refine e_castA dX3_get_53 rfl q544 hRow (fun _ => rfl) (fun _ h => by cases h) (by decide +kernel) ?_
  refine e_iload_n dX3_get_56 1 rfl rfl ?_
  refine e_iald (f := fun k => (g k).toInt32) (j := j) dX3_get_57 hRow rfl hj (by omega) ?_
  refine e_i2l dX3_get_58 ?_
  refine e_goto 71 dX3_get_59 (by decide) ?_
  refine e_lreturn dX3_get_71 rfl (Nat.zero_le _) (Nat.zero_le _) ?_
  exact ⟨rfl, rfl⟩

set_option maxHeartbeats 4000000 in
set_option maxRecDepth 100000 in
/-- WheelTables$Tray.set -/
theorem z_set3 {ξ : Xs} {mid dyn : List ACell} (hm : mid.length = 61) {t : Nat} (ht : t < 4) {n r : Nat} {g : Nat → Int64} (hn : n ≤ 60) (hTr : ξ.2.2.2.2.2.2 t = (some (117 + r), 3)) (hD : dyn[r]? = some (.inl (1, n, .inr (.inl g)))) {j : Nat} {v : Int64} (hj : j < n) : Ct yX3_set (ws_ yX3_set cX3_set 4 none) 0 0 0 [.ref (52 + t), .int (nI j), .long v] (XM ξ mid dyn) (fun u M' => M' = XM ξ mid (dyn.set r (rowC 3 n (vp_updL g j (spCut (nI 3) v)))) ∧ u = none) noX := by
  have hO : (XM ξ mid dyn)[52 + t]? = some (.inr (3, [.ref (117 + r), .int 3])) := by rw [xm_oT ht, hTr]; rfl
  have hRow : (XM ξ mid dyn)[117 + r]? = some (.inl (1, n, .inr (.inl g))) := (xm_d hm r).trans hD
  refine Ct.of (ini := false) (ls := [some (.ref (52 + t)), some (.int (nI j)), some (.long v), none]) (by decide) (Nat.le_of_ble_eq_true rfl) (fun h => by cases h) rfl ?_
  refine e_aload_n dX3_set_0 0 rfl rfl rfl ?_
  refine e_getf (v := (.int 3)) dX3_set_1 rfl fX3_13 (hO) rfl ?_
  refine e_if_ne_t 22 (by decide) dX3_set_4 (by decide) ?_
  refine e_aload_n dX3_set_22 0 rfl rfl rfl ?_
  refine e_getf (v := (.int 3)) dX3_set_23 rfl fX3_13 (hO) rfl ?_
  refine e_iconst 1 dX3_set_26 rfl ?_
  refine e_icmp_ne 45 dX3_set_27 (by decide) (fun _ => ?_) (fun h => absurd h (by decide))
  refine e_aload_n dX3_set_45 0 rfl rfl rfl ?_
  refine e_getf (v := (.int 3)) dX3_set_46 rfl fX3_13 (hO) rfl ?_
  refine e_iconst 2 dX3_set_49 rfl ?_
  refine e_icmp_ne 67 dX3_set_50 (by decide) (fun _ => ?_) (fun h => absurd h (by decide))
  refine e_aload_n dX3_set_67 0 rfl rfl rfl ?_
  refine e_getf (v := (.ref (117 + r))) dX3_set_68 rfl fX3_7 (hO) rfl ?_
  refine e_castA dX3_set_71 rfl q545 hRow (fun _ => rfl) (fun _ h => by cases h) (by decide +kernel) ?_
  refine e_iload_n dX3_set_74 1 rfl rfl ?_
  refine e_lload_n dX3_set_75 2 rfl rfl ?_
  refine e_last (f := g) (j := j) dX3_set_76 hRow rfl hj (by omega) ?_
  rw [xm_ds hm]
  refine e_return dX3_set_77 rfl (Nat.zero_le _) (Nat.zero_le _) ?_
  exact ⟨rfl, rfl⟩

set_option maxHeartbeats 4000000 in
set_option maxRecDepth 100000 in
/-- WheelTables$Tray.get -/
theorem z_get3 {ξ : Xs} {mid dyn : List ACell} (hm : mid.length = 61) {t : Nat} (ht : t < 4) {n r : Nat} {g : Nat → Int64} (hn : n ≤ 60) (hTr : ξ.2.2.2.2.2.2 t = (some (117 + r), 3)) (hD : dyn[r]? = some (.inl (1, n, .inr (.inl g)))) {j : Nat} (hj : j < n) : Ct yX3_get (ws_ yX3_get cX3_get 2 (some .long)) 0 0 0 [.ref (52 + t), .int (nI j)] (XM ξ mid dyn) (Q1 (some (.long (rgv 3 (g j)))) (XM ξ mid dyn)) noX := by
  have hO : (XM ξ mid dyn)[52 + t]? = some (.inr (3, [.ref (117 + r), .int 3])) := by rw [xm_oT ht, hTr]; rfl
  have hRow : (XM ξ mid dyn)[117 + r]? = some (.inl (1, n, .inr (.inl g))) := (xm_d hm r).trans hD
  refine Ct.of (ini := false) (ls := [some (.ref (52 + t)), some (.int (nI j))]) (by decide) (Nat.le_of_ble_eq_true rfl) (fun h => by cases h) rfl ?_
  refine e_aload_n dX3_get_0 0 rfl rfl rfl ?_
  refine e_getf (v := (.int 3)) dX3_get_1 rfl fX3_13 (hO) rfl ?_
  refine e_if_ne_t 20 (by decide) dX3_get_4 (by decide) ?_
  refine e_aload_n dX3_get_20 0 rfl rfl rfl ?_
  refine e_getf (v := (.int 3)) dX3_get_21 rfl fX3_13 (hO) rfl ?_
  refine e_iconst 1 dX3_get_24 rfl ?_
  refine e_icmp_ne 41 dX3_get_25 (by decide) (fun _ => ?_) (fun h => absurd h (by decide))
  refine e_aload_n dX3_get_41 0 rfl rfl rfl ?_
  refine e_getf (v := (.int 3)) dX3_get_42 rfl fX3_13 (hO) rfl ?_
  refine e_iconst 2 dX3_get_45 rfl ?_
  refine e_icmp_ne 62 dX3_get_46 (by decide) (fun _ => ?_) (fun h => absurd h (by decide))
  refine e_aload_n dX3_get_62 0 rfl rfl rfl ?_
  refine e_getf (v := (.ref (117 + r))) dX3_get_63 rfl fX3_7 (hO) rfl ?_
  refine e_castA dX3_get_66 rfl q545 hRow (fun _ => rfl) (fun _ h => by cases h) (by decide +kernel) ?_
  refine e_iload_n dX3_get_69 1 rfl rfl ?_
  refine e_lald (f := g) (j := j) dX3_get_70 hRow rfl hj (by omega) ?_
  refine e_lreturn dX3_get_71 rfl (Nat.zero_le _) (Nat.zero_le _) ?_
  exact ⟨rfl, rfl⟩

theorem z_set {ξ : Xs} {mid dyn : List ACell} (hm : mid.length = 61) {t : Nat} (ht : t < 4) {s n r : Nat} {g : Nat → Int64} (hs : s < 4) (hn : n ≤ 60) (hTr : ξ.2.2.2.2.2.2 t = (some (117 + r), nI s)) (hD : dyn[r]? = some (rowC s n g)) {j : Nat} (hj : j < n) {v : Int64} : Ct yX3_set (ws_ yX3_set cX3_set 4 none) 0 0 0 [.ref (52 + t), .int (nI j), .long v] (XM ξ mid dyn) (fun u M' => M' = XM ξ mid (dyn.set r (rowC s n (vp_updL g j (spCut (nI s) v)))) ∧ u = none) noX := by
  rcases (show s = 0 ∨ s = 1 ∨ s = 2 ∨ s = 3 by omega) with rfl | rfl | rfl | rfl
  · exact z_set0 hm ht hn hTr hD hj
  · exact z_set1 hm ht hn hTr hD hj
  · exact z_set2 hm ht hn hTr hD hj
  · exact z_set3 hm ht hn hTr hD hj
theorem z_get {ξ : Xs} {mid dyn : List ACell} (hm : mid.length = 61) {t : Nat} (ht : t < 4) {s n r : Nat} {g : Nat → Int64} (hs : s < 4) (hn : n ≤ 60) (hTr : ξ.2.2.2.2.2.2 t = (some (117 + r), nI s)) (hD : dyn[r]? = some (rowC s n g)) {j : Nat} (hj : j < n) (hf : fitS s (g j)) : Ct yX3_get (ws_ yX3_get cX3_get 2 (some .long)) 0 0 0 [.ref (52 + t), .int (nI j)] (XM ξ mid dyn) (Q1 (some (.long (g j))) (XM ξ mid dyn)) noX := by
  rw [← rgv_fit hs hf]
  rcases (show s = 0 ∨ s = 1 ∨ s = 2 ∨ s = 3 by omega) with rfl | rfl | rfl | rfl
  · exact z_get0 hm ht hn hTr hD hj
  · exact z_get1 hm ht hn hTr hD hj
  · exact z_get2 hm ht hn hTr hD hj
  · exact z_get3 hm ht hn hTr hD hj
theorem rpB_set {dyn : List ACell} {b r : Nat} {cs : List ACell} {c : ACell} (hl : b + cs.length ≤ dyn.length) (hr : r < b ∨ b + cs.length ≤ r) : (rpB dyn b cs).set r c = rpB (dyn.set r c) b cs := by
  have hl2 : b + cs.length ≤ (dyn.set r c).length := by rw [List.length_set]; exact hl
  refine List.ext_getElem? (fun i => ?_)
  by_cases h1 : i < b ∨ b + cs.length ≤ i
  · rw [rpB_out hl2 h1, List.getElem?_set, List.getElem?_set, rpB_out hl h1, rpB_len hl]
  · obtain ⟨k, rfl⟩ : ∃ k, i = b + k := ⟨i - b, by omega⟩
    rw [List.getElem?_set_ne (by omega), rpB_in hl (by omega), rpB_in hl2 (by omega)]
theorem HlD.st {dyn : List ACell} {b r : Nat} {cs : List ACell} {c : ACell} (h : HlD dyn b cs) (hr : r < b ∨ b + cs.length ≤ r) : HlD (dyn.set r c) b cs := fun k x hx => by
  have := (List.getElem?_eq_some_iff.mp hx).1
  rw [List.getElem?_set_ne (by omega)]; exact h k x hx
theorem Rel.wrN {own : Nat → Nat} {ξ : Xs} {dyn : List ACell} {τ : Tw} (hRel : Rel own ξ dyn τ) {t s n r : Nat} {g g' f4 : Nat → Int64} (ht : t < 4) (hs : s < 4) (hn : n ≤ 60) (e2 : τ.2.2.1 2 t = nI s) (e3 : τ.2.2.1 3 t = nI n) (hTr : ξ.2.2.2.2.2.2 t = (some (117 + r), nI s)) (hD : dyn[r]? = some (rowC s n g)) (hown : own r = 1 + t)
    (hg : ∀ k, k < n → g' k = f4 (60 * t + k) ∧ fitS s (g' k)) (hf : ∀ k, ¬ (60 * t ≤ k ∧ k < 60 * t + 60) → f4 k = τ.2.2.2 4 k) : Rel own ξ (dyn.set r (rowC s n g')) (tB τ 4 f4) := by
  obtain ⟨hI, hA, hB, hW, hP, hR, hT, hE, hC, hV⟩ := hRel
  have hd : ∀ k c, dyn[k]? = some c → ¬ own k = 1 + t → (dyn.set r (rowC s n g'))[k]? = some c ∧ own k = own k := fun k c hc ho => by
    have e : ¬ r = k := fun e => ho (by rw [← e]; exact hown)
    exact ⟨by rw [List.getElem?_set_ne e]; exact hc, rfl⟩
  refine ⟨hI, hA, hB.t 4 _ (by decide), hW, hP, hR, ?_, hE.dy rfl (fun k c hc h10 => hd k c hc (by omega)), hC.dy (fun _ _ => rfl) rfl (fun k c hc h10 => hd k c hc (by omega)), hV⟩
  have u4 : ∀ k, (tB τ 4 f4).2.2.2 4 k = f4 k := fun _ => rfl
  refine hT.dy (t := t) (fun _ _ _ => rfl) (fun _ _ _ => rfl) (fun _ _ _ => rfl) (fun t' k h1 h2 h3 => ?_) hd (fun _ => Or.inr ⟨s, n, r, g', hs, hn, e2, e3, hTr, ?_, hown, fun k hk => ?_⟩)
  · rw [u4]; exact hf _ (by omega)
  · rw [List.getElem?_set_self (List.getElem?_eq_some_iff.mp hD).1]
  · rw [u4]; exact hg k hk
set_option maxHeartbeats 4000000 in
set_option maxRecDepth 100000 in
/-- a loop of sheet -/
theorem x_sheet_loop {ξ : Xs} {mid dyn : List ACell} {τ : Tw} (hm : mid.length = 61) {j b q y s n r : Nat} {g : Nat → Int64} {η : En} (hO : EngOk τ j) (hMs : MisOk τ j) (hH : HlD dyn b (enB (117 + b) η)) (hn : EnR η τ j) (hq : q ≤ n) (hn60 : n ≤ 60) (hs : s < 4) (hy : y < 4) (hTr : ξ.2.2.2.2.2.2 y = (some (117 + r), nI s)) (hD : dyn[r]? = some (rowC s n g)) (hrb : r < b ∨ b + (8 + 2 * η.1) ≤ r) {Q : Qfun} : ∀ (fuel : Nat) (k : Nat) (η' : En), k ≤ q → q < k + fuel → Sme η' (nT η (nI (gU τ j + k))) → EfM η' (gA τ j) (gW τ j) (trnN (gA τ j) (gW τ j) (gR τ j) (fun t => mhN τ j (nI t) false) (gU τ j) (gF τ j) k) → (∀ η' : En, Sme η' (nT η (nI (gU τ j + q))) → EfM η' (gA τ j) (gW τ j) (trnN (gA τ j) (gW τ j) (gR τ j) (fun t => mhN τ j (nI t) false) (gU τ j) (gF τ j) q) → E cX0_sheet (RX0, (some .boolean), 7, 4, (0, 0), false, []) Q noX 0 0 86 [some (.ref 0), some (.int (nI j)), some (.int (nI y)), some (.int (nI q)), none, some (.ref (117 + b)), none] [] (XM ξ mid (rpB (dyn.set r (rowC s n (rngL g 0 q (fun i => spCut (nI s) (oaM (gW τ j) (gR τ j) (trnN (gA τ j) (gW τ j) (gR τ j) (fun t => mhN τ j (nI t) false) (gU τ j) (gF τ j) (i + 1)) 0))))) b (enB (117 + b) η')))) →
    E cX0_sheet (RX0, (some .boolean), 7, 4, (0, 0), false, []) Q noX 0 0 52 [some (.ref 0), some (.int (nI j)), some (.int (nI y)), some (.int (nI q)), none, some (.ref (117 + b)), some (.int (nI k))] [] (XM ξ mid (rpB (dyn.set r (rowC s n (rngL g 0 k (fun i => spCut (nI s) (oaM (gW τ j) (gR τ j) (trnN (gA τ j) (gW τ j) (gR τ j) (fun t => mhN τ j (nI t) false) (gU τ j) (gF τ j) (i + 1)) 0))))) b (enB (117 + b) η'))) := by
  intro fuel
  induction fuel with
  | zero => intro k η' hk hf hS hF hE; exact absurd hf (by omega)
  | succ fuel ih =>
    intro k η' hk hf hS hF hE
    have hle : b + (enB (117 + b) η').length ≤ (dyn.set r (rowC s n (rngL g 0 k (fun i => spCut (nI s) (oaM (gW τ j) (gR τ j) (trnN (gA τ j) (gW τ j) (gR τ j) (fun t => mhN τ j (nI t) false) (gU τ j) (gF τ j) (i + 1)) 0))))).length := by
      have := hH.le (enB_pos _ _)
      rw [enB_len] at this ⊢
      rw [hS.1, List.length_set]; exact this
    have hH' := rpB_Hl hle
    have hJ' : EnJ η' (gA τ j) (gW τ j) (gM τ j) (gR τ j) := hS.J (hn.J hO)
    have hM' : EnM η' (gA τ j) (gW τ j) (gM τ j) := (hn.M hMs).cg hS.2.2.2.2.1
    have hr : Rds (gW τ j) (gR τ j) := fun i hi => ⟨(hO.2.2.2.2.1 i hi).1, (hO.2.2.2.2.1 i hi).2.1⟩
    have hW12 := hJ'.2.2.2.1
    have hcn' : ∀ x w c, cE η' (η'.2.2.1 + 1) x w c (gM τ j) = mhN τ j (nI (gU τ j + k + 1)) false x w c := fun x w c => by
      rw [cE_cg (η := η) hS.2.2.2.2.1, hS.2.2.1, hn.c]
      show mhN τ j (nI (gU τ j + k) + 1) false x w c = _
      rw [show nI (gU τ j + k) + 1 = nI (gU τ j + k + 1) from nI_add _ 1]
    refine e_iload dX0_sheet_52 rfl ?_
    refine e_iload_n dX0_sheet_54 3 rfl rfl ?_
    refine e_icmp_geN k q 86 (by omega) (by omega) dX0_sheet_55 (by decide) (fun h55 => ?_) (fun h55 => ?_)
    · refine e_forget (i := 6) (ln_s (ln_s (ln_s (ln_s (ln_s (ln_s ln_0)))))) ?_
      obtain rfl : k = q := by omega
      exact hE η' hS hF
    · refine e_aload dX0_sheet_58 rfl rfl ?_
      refine e_callVQ (As := []) (rest := []) dX0_sheet_60 rfl mvX0_265 (xh_o hm hH') rfl (x_turnsX hm hH' hJ' hcn' hr (trnN_ok hW12.1 hr hO.B k) hF hM') (Nat.le_of_ble_eq_true rfl) rfl rfl (Nat.le_of_ble_eq_true rfl) (Nat.zero_le _) (Nat.zero_le _) (fun v0 M0 h0_ _ => ?_)
      obtain ⟨rfl, η1, rfl, hS1, hF1⟩ := h0_
      rw [rpB_rpB hle (by rw [enB_len, enB_len, hS1.1]; rfl)]
      have hle1 : b + (enB (117 + b) η1).length ≤ (dyn.set r (rowC s n (rngL g 0 k (fun i => spCut (nI s) (oaM (gW τ j) (gR τ j) (trnN (gA τ j) (gW τ j) (gR τ j) (fun t => mhN τ j (nI t) false) (gU τ j) (gF τ j) (i + 1)) 0))))).length := by
        rw [enB_len] at hle ⊢
        rw [hS1.1]; exact hle
      have hH1 := rpB_Hl hle1
      have hS2 : Sme η1 (nT η (nI (gU τ j + (k + 1)))) := by
        refine ⟨hS1.1.trans hS.1, hS1.2.1.trans hS.2.1, ?_, hS1.2.2.2.1.trans hS.2.2.2.1, hS1.2.2.2.2.1.trans hS.2.2.2.2.1, hS1.2.2.2.2.2.trans hS.2.2.2.2.2⟩
        refine hS1.2.2.1.trans ?_
        show η'.2.2.1 + 1 = nI (gU τ j + (k + 1))
        rw [hS.2.2.1]
        exact nI_add _ 1
      have hJ1 : EnJ η1 (gA τ j) (gW τ j) (gM τ j) (gR τ j) := hS2.J (hn.J hO)
      have hon : oaN η1.2.2.2.2.2.2.1 (η1.2.2.2.2.2.2.2 0) (gW τ j) (gW τ j) = oaM (gW τ j) (gR τ j) (trnN (gA τ j) (gW τ j) (gR τ j) (fun t => mhN τ j (nI t) false) (gU τ j) (gF τ j) (k + 1)) 0 := oaN_cgx _ (Nat.le_refl _) (fun i hi => hJ1.2.2.2.2.2.2 i hi) (fun i hi => hF1 0 (by have := hO.1.1; omega) i hi)
      have hr1 : r < b ∨ b + (enB (117 + b) η1).length ≤ r := by rw [enB_len, hS2.1]; exact hrb
      have hD1 : (rpB (dyn.set r (rowC s n (rngL g 0 k (fun i => spCut (nI s) (oaM (gW τ j) (gR τ j) (trnN (gA τ j) (gW τ j) (gR τ j) (fun t => mhN τ j (nI t) false) (gU τ j) (gF τ j) (i + 1)) 0))))) b (enB (117 + b) η1))[r]? = some (rowC s n (rngL g 0 k (fun i => spCut (nI s) (oaM (gW τ j) (gR τ j) (trnN (gA τ j) (gW τ j) (gR τ j) (fun t => mhN τ j (nI t) false) (gU τ j) (gF τ j) (i + 1)) 0)))) := by
        rw [rpB_out hle1 hr1, List.getElem?_set_self (List.getElem?_eq_some_iff.mp hD).1]
      refine e_aload_n dX0_sheet_63 0 rfl rfl rfl ?_
      refine e_getf (v := (.ref 1)) dX0_sheet_64 rfl fX0_11 (xm_o0) rfl ?_
      refine e_iload_n dX0_sheet_67 2 rfl rfl ?_
      refine e_aald (f := trF) (j := y) dX0_sheet_68 xm_r1 (fun _ => rfl) rfl (by omega) (by decide) ?_
      refine e_top (congrArg rfO (trF_at (by omega))) ?_
      refine e_iload dX0_sheet_69 rfl ?_
      refine e_aload dX0_sheet_71 rfl rfl ?_
      refine e_iconst 0 dX0_sheet_73 rfl ?_
      refine e_callV1 (As := [.int 0]) (rest := [.int (nI k), .ref (52 + y)]) dX0_sheet_74 rfl mvX0_234 (xh_o hm hH1) rfl (x_numX (x := 0) hm hH1 hJ1 (by have := hO.1.1; omega)) (Nat.le_of_ble_eq_true rfl) rfl rfl (Nat.le_of_ble_eq_true rfl) (Nat.zero_le _) (Nat.zero_le _) ?_
      refine e_top (congrArg Value.long hon) ?_
      refine e_callVQ (As := [.int (nI k), .long (oaM (gW τ j) (gR τ j) (trnN (gA τ j) (gW τ j) (gR τ j) (fun t => mhN τ j (nI t) false) (gU τ j) (gF τ j) (k + 1)) 0)]) (rest := []) dX0_sheet_77 rfl mvX0_161 (xm_oT hy) rfl (z_set hm hy hs hn60 hTr hD1 (by omega)) (Nat.le_of_ble_eq_true rfl) rfl rfl (Nat.le_of_ble_eq_true rfl) (Nat.zero_le _) (Nat.zero_le _) (fun v0 M0 h0_ _ => ?_)
      obtain ⟨rfl, rfl⟩ := h0_
      refine e_incN k (k + 1) (inc1 _) dX0_sheet_80 rfl (ls_s (ls_s (ls_s (ls_s (ls_s (ls_1 rfl)))))) (Nat.le_of_ble_eq_true rfl) ?_
      refine e_goto 52 dX0_sheet_83 (by decide) ?_
      refine E_mem (M' := XM ξ mid (rpB (dyn.set r (rowC s n (rngL g 0 (k + 1) (fun i => spCut (nI s) (oaM (gW τ j) (gR τ j) (trnN (gA τ j) (gW τ j) (gR τ j) (fun t => mhN τ j (nI t) false) (gU τ j) (gF τ j) (i + 1)) 0))))) b (enB (117 + b) η1))) ?_ ?_
      · rw [rpB_set hle1 hr1, List.set_set, ← rngL_s, Nat.zero_add]
      exact ih (k + 1) η1 (by omega) (by omega) hS2 hF1 hE

