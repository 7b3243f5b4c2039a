/-! ===== the component's constructor ===== -/
theorem nwX0_21 : NW RX0 21 1 [.null, .null, .null, .null, .null, .int 0, .int 0, .int 0] := ⟨RX1, TX1, 8, tyX1, rfl, in_X1, tyX1_ok, q130, q131, q99, rfl, by decide, rfl⟩
theorem nwX0_28 : NW RX0 28 2 [.null, .int 0, .int 0, .int 0, .int 0, .int 0, .long 0, .null] := ⟨RX2, TX2, 8, tyX2, rfl, in_X2, tyX2_ok, q218, q219, q100, rfl, by decide, rfl⟩
theorem nwX0_9 : NW RX0 9 3 [.null, .int 0] := ⟨RX3, TX3, 2, tyX3, rfl, in_X3, tyX3_ok, q126, q255, q101, rfl, by decide, rfl⟩
set_option maxRecDepth 100000
def pxJ : List (Nat × Value) := [(0, .ref 1), (1, .ref 2), (2, .ref 3), (3, .ref 4), (4, .ref 6), (5, .ref 7), (7, .int (-1)), (9, .int (-1)), (10, .int (-1)), (11, .ref 8), (12, .ref 9), (15, .ref 10), (16, .ref 11), (17, .ref 12), (18, .ref 13), (19, .ref 14), (27, .ref 15), (28, .ref 16), (29, .ref 17), (30, .ref 32), (31, .ref 33), (32, .ref 36), (33, .ref 37), (34, .ref 38), (38, .ref 39), (39, .ref 40), (40, .ref 41), (41, .ref 42), (42, .ref 43), (43, .ref 44), (44, .ref 45), (49, .ref 46), (50, .ref 47), (51, .ref 48), (52, .ref 49), (53, .ref 50), (54, .ref 51)]
/-- the fields after the first so many are written -/
def fxJ (i : Nat) : List Value := (pxJ.take i).foldl (fun l p => l.set p.1 p.2) [.null, .null, .null, .null, .null, .null, .int 0, .int 0, .int 0, .int 0, .int 0, .null, .null, .int 0, .long 0, .null, .null, .null, .null, .null, .int 0, .int 0, .int 0, .int 0, .int 0, .int 0, .int 0, .null, .null, .null, .null, .null, .null, .null, .null, .int 0, .int 0, .int 0, .null, .null, .null, .null, .null, .null, .null, .int 0, .int 0, .int 0, .int 0, .null, .null, .null, .null, .null, .null, .int 0, .int 0]
def xZ : List ACell := [.inl (6, 4, .inr (.inr (.inr (.inr (fun _ => none))))), .inl (7, 4, .inr (.inr (.inr (.inr (fun _ => none))))), .inr (1, [.null, .null, .null, .null, .null, .int 0, .int 0, .int 0]), .inr (2, [.ref 5, .int 0, .int 0, .int 0, .int 0, .int 0, .long 0, .ref 3]), .inl (2, 500, .inl (fun _ => 0)), .inl (9, 40, .inr (.inr (.inr (.inr (fun _ => none))))), .inl (9, 40, .inr (.inr (.inr (.inr (fun _ => none))))), .inl (1, 16, .inr (.inl (fun _ => 0))), .inl (0, 4, .inl (fun _ => 0)), .inl (1, 5, .inr (.inl (fun _ => 0))), .inl (1, 5, .inr (.inl (fun _ => 0))), .inl (1, 5, .inr (.inl (fun _ => 0))), .inl (1, 20, .inr (.inl (fun _ => 0))), .inl (1, 40, .inr (.inl (fun _ => 0))), .inl (0, 14, .inl (fun _ => 0)), .inl (0, 14, .inl (fun _ => 0)), .inl (5, 14, .inr (.inr (.inr (.inr coF)))), .inl (0, 2, .inl (fun _ => 0)), .inl (0, 2, .inl (fun _ => 0)), .inl (0, 2, .inl (fun _ => 0)), .inl (0, 2, .inl (fun _ => 0)), .inl (0, 2, .inl (fun _ => 0)), .inl (0, 2, .inl (fun _ => 0)), .inl (0, 2, .inl (fun _ => 0)), .inl (0, 2, .inl (fun _ => 0)), .inl (0, 2, .inl (fun _ => 0)), .inl (0, 2, .inl (fun _ => 0)), .inl (0, 2, .inl (fun _ => 0)), .inl (0, 2, .inl (fun _ => 0)), .inl (0, 2, .inl (fun _ => 0)), .inl (0, 2, .inl (fun _ => 0)), .inl (1, 20, .inr (.inl (fun _ => 0))), .inl (5, 2, .inr (.inr (.inr (.inr riF)))), .inl (0, 80, .inl (fun _ => 0)), .inl (0, 80, .inl (fun _ => 0)), .inl (0, 2, .inl (fun _ => 0)), .inl (0, 2, .inl (upd (upd (fun _ => 0) 0 (-1)) 1 (-1))), .inl (0, 2, .inl (fun _ => 0)), .inl (0, 100, .inl (fun _ => 0)), .inl (0, 100, .inl (fun _ => 0)), .inl (0, 20, .inl (fun _ => 0)), .inl (0, 20, .inl (fun _ => 0)), .inl (0, 60, .inl (fun _ => 0)), .inl (0, 60, .inl (fun _ => 0)), .inl (0, 60, .inl (fun _ => 0)), .inl (0, 7, .inl (fun _ => 0)), .inl (0, 7, .inl (fun _ => 0)), .inl (0, 7, .inl (fun _ => 0)), .inl (0, 7, .inl (fun _ => 0)), .inl (0, 7, .inl (fun _ => 0)), .inl (0, 4, .inl (fun _ => 0)), .inr (3, [.null, .int 0]), .inr (3, [.null, .int 0]), .inr (3, [.null, .int 0]), .inr (3, [.null, .int 0])]
/-- the component when it is made -/
def x00 : Xs := (upd (upd (upd (fun _ => 0) 7 (-1)) 9 (-1)) 10 (-1), fun _ => 0, va_up (fun _ _ => 0) 33 (upd (upd (fun _ => 0) 0 (-1)) 1 (-1)), fun _ _ => 0, fun _ _ => none, va_up (va_up (fun _ => none) 4 (some 6)) 5 (some 7), fun _ => (none, 0))
theorem x0_fin : (.inr (0, fxJ 37) :: ((xZ.set 0 (.inl (6, 4, .inr (.inr (.inr (.inr trF)))))).take 55) : List ACell) = xW x00 := rfl
set_option maxHeartbeats 4000000 in
set_option maxRecDepth 100000 in
/-- WheelTables.<init> -/
theorem x0_init  : Ct yX0_init (ws_ yX0_init cX0_init 2 none) 4 55 1424 [.ref 0] ([.inr (0, [.null, .null, .null, .null, .null, .null, .int 0, .int 0, .int 0, .int 0, .int 0, .null, .null, .int 0, .long 0, .null, .null, .null, .null, .null, .int 0, .int 0, .int 0, .int 0, .int 0, .int 0, .int 0, .null, .null, .null, .null, .null, .null, .null, .null, .int 0, .int 0, .int 0, .null, .null, .null, .null, .null, .null, .null, .int 0, .int 0, .int 0, .int 0, .null, .null, .null, .null, .null, .null, .int 0, .int 0])]) (fun v M' => v = none ∧ M' = xW x00) noX := by
  refine Ct.of (ini := true) (ls := [some (.ref 0), none]) (by decide) (Nat.le_of_ble_eq_true rfl) (fun _ => rfl) rfl ?_
  refine e_aload_n dX0_init_0 0 rfl rfl rfl ?_
  refine e_objI dX0_init_1 rfl q123 q124 q125 (by decide) ?_
  refine e_aload_n dX0_init_4 0 rfl rfl rfl ?_
  refine e_iconst 4 dX0_init_5 rfl ?_
  refine e_newq (C := RX3) (t := 6) (n := 4) (L := 1) dX0_init_6 rfl q126 (fun _ => rfl) (fun hG => hG.2.2.2.1) rfl (by decide) (by decide) (by decide) rfl ?_
  refine E_mem (M' := .inr (0, fxJ 0) :: (xZ.take 1)) rfl ?_
  refine E_widX (kc' := 1) (ks' := 4) (by decide) (by decide) ?_
  refine e_putf (fs := fxJ 0) (ci := 0) dX0_init_9 rfl pX0_11 (fun _ => rfl) rfl (Nat.le_of_ble_eq_true rfl) rfl ?_
  refine E_mem (M' := .inr (0, fxJ 1) :: (xZ.take 1)) rfl ?_
  refine e_aload_n dX0_init_12 0 rfl rfl rfl ?_
  refine e_iconst 4 dX0_init_13 rfl ?_
  refine e_newq (C := RX5) (t := 7) (n := 4) (L := 2) dX0_init_14 rfl q128 (fun _ => rfl) (fun hG => hG.2.2.2.2.1) rfl (by decide) (by decide) (by decide) rfl ?_
  refine E_mem (M' := .inr (0, fxJ 1) :: (xZ.take 2)) rfl ?_
  refine E_widX (kc' := 2) (ks' := 8) (by decide) (by decide) ?_
  refine e_putf (fs := fxJ 1) (ci := 0) dX0_init_17 rfl pX0_17 (fun _ => rfl) rfl (Nat.le_of_ble_eq_true rfl) rfl ?_
  refine E_mem (M' := .inr (0, fxJ 2) :: (xZ.take 2)) rfl ?_
  refine e_aload_n dX0_init_20 0 rfl rfl rfl ?_
  refine e_new (u := 8) (L := 3) dX0_init_21 rfl nwX0_21 rfl (by decide) (by decide) rfl ?_
  refine E_mem (M' := .inr (0, fxJ 2) :: (xZ.take 2 ++ [.inr (1, [.null, .null, .null, .null, .null, .int 0, .int 0, .int 0])])) rfl ?_
  refine E_widX (kc' := 3) (ks' := 16) (by decide) (by decide) ?_
  refine e_dup dX0_init_24 rfl ?_
  refine e_callI0 (As := []) (rest := [.ref 3, .ref 0]) dX0_init_25 rfl miX0_23 (x_wrongI (P := .inr (0, fxJ 2) :: xZ.take 2)) (Nat.le_of_ble_eq_true rfl) rfl rfl (Nat.le_of_ble_eq_true rfl) (by decide) (by decide) ?_
  refine E_mem (M' := .inr (0, fxJ 2) :: (xZ.take 3)) rfl ?_
  refine e_putf (fs := fxJ 2) (ci := 0) dX0_init_28 rfl pX0_24 (fun _ => rfl) rfl (Nat.le_of_ble_eq_true rfl) rfl ?_
  refine E_mem (M' := .inr (0, fxJ 3) :: (xZ.take 3)) rfl ?_
  refine e_aload_n dX0_init_31 0 rfl rfl rfl ?_
  refine e_new (u := 8) (L := 4) dX0_init_32 rfl nwX0_28 rfl (by decide) (by decide) rfl ?_
  refine E_mem (M' := .inr (0, fxJ 3) :: (xZ.take 3 ++ [.inr (2, [.null, .int 0, .int 0, .int 0, .int 0, .int 0, .long 0, .null])])) rfl ?_
  refine E_widX (kc' := 4) (ks' := 24) (by decide) (by decide) ?_
  refine e_dup dX0_init_35 rfl ?_
  refine e_aload_n dX0_init_36 0 rfl rfl rfl ?_
  refine e_getf (v := .ref 3) (fs := fxJ 3) (ci := 0) dX0_init_37 rfl fX0_24 rfl rfl ?_
  refine e_callIQ (As := [.ref 3]) (rest := [.ref 4, .ref 0]) dX0_init_40 rfl miX0_30 (x_readerI (P := .inr (0, fxJ 3) :: xZ.take 3)) (Nat.le_of_ble_eq_true rfl) rfl rfl (Nat.le_of_ble_eq_true rfl) (by decide) (by decide) (fun v0 M0 h0_ _ => ?_)
  obtain ⟨rfl, rfl⟩ := h0_
  refine E_mem (M' := .inr (0, fxJ 3) :: (xZ.take 5)) rfl ?_
  refine E_widX (kc' := 5) (ks' := 524) (by decide) (by decide) ?_
  refine e_putf (fs := fxJ 3) (ci := 0) dX0_init_43 rfl pX0_33 (fun _ => rfl) rfl (Nat.le_of_ble_eq_true rfl) rfl ?_
  refine E_mem (M' := .inr (0, fxJ 4) :: (xZ.take 5)) rfl ?_
  refine e_aload_n dX0_init_46 0 rfl rfl rfl ?_
  refine e_bipush 40 dX0_init_47 rfl ?_
  refine e_newq (C := RX7) (t := 9) (n := 40) (L := 6) dX0_init_49 rfl q251 (fun _ => rfl) (fun hG => hG.2.2.2.2.2.2.1) rfl (by decide) (by decide) (by decide) rfl ?_
  refine E_mem (M' := .inr (0, fxJ 4) :: (xZ.take 6)) rfl ?_
  refine E_widX (kc' := 6) (ks' := 564) (by decide) (by decide) ?_
  refine e_putf (fs := fxJ 4) (ci := 0) dX0_init_52 rfl pX0_39 (fun h => by cases h) rfl (Nat.le_of_ble_eq_true rfl) rfl ?_
  refine E_mem (M' := .inr (0, fxJ 5) :: (xZ.take 6)) rfl ?_
  refine e_aload_n dX0_init_55 0 rfl rfl rfl ?_
  refine e_bipush 40 dX0_init_56 rfl ?_
  refine e_newq (C := RX7) (t := 9) (n := 40) (L := 7) dX0_init_58 rfl q251 (fun _ => rfl) (fun hG => hG.2.2.2.2.2.2.1) rfl (by decide) (by decide) (by decide) rfl ?_
  refine E_mem (M' := .inr (0, fxJ 5) :: (xZ.take 7)) rfl ?_
  refine E_widX (kc' := 7) (ks' := 604) (by decide) (by decide) ?_
  refine e_putf (fs := fxJ 5) (ci := 0) dX0_init_61 rfl pX0_43 (fun h => by cases h) rfl (Nat.le_of_ble_eq_true rfl) rfl ?_
  refine E_mem (M' := .inr (0, fxJ 6) :: (xZ.take 7)) rfl ?_
  refine e_aload_n dX0_init_64 0 rfl rfl rfl ?_
  refine e_iconst (-1) dX0_init_65 rfl ?_
  refine e_putf (fs := fxJ 6) (ci := 0) dX0_init_66 rfl pX0_46 (fun h => by cases h) rfl (Nat.le_of_ble_eq_true rfl) rfl ?_
  refine E_mem (M' := .inr (0, fxJ 7) :: (xZ.take 7)) rfl ?_
  refine e_aload_n dX0_init_69 0 rfl rfl rfl ?_
  refine e_iconst (-1) dX0_init_70 rfl ?_
  refine e_putf (fs := fxJ 7) (ci := 0) dX0_init_71 rfl pX0_50 (fun h => by cases h) rfl (Nat.le_of_ble_eq_true rfl) rfl ?_
  refine E_mem (M' := .inr (0, fxJ 8) :: (xZ.take 7)) rfl ?_
  refine e_aload_n dX0_init_74 0 rfl rfl rfl ?_
  refine e_iconst (-1) dX0_init_75 rfl ?_
  refine e_putf (fs := fxJ 8) (ci := 0) dX0_init_76 rfl pX0_53 (fun h => by cases h) rfl (Nat.le_of_ble_eq_true rfl) rfl ?_
  refine E_mem (M' := .inr (0, fxJ 9) :: (xZ.take 7)) rfl ?_
  refine e_aload_n dX0_init_79 0 rfl rfl rfl ?_
  refine e_bipush 16 dX0_init_80 rfl ?_
  refine e_newl (n := 16) (L := 8) dX0_init_82 rfl (by decide) (by decide) (by decide) rfl ?_
  refine E_mem (M' := .inr (0, fxJ 9) :: (xZ.take 8)) rfl ?_
  refine E_widX (kc' := 8) (ks' := 620) (by decide) (by decide) ?_
  refine e_putf (fs := fxJ 9) (ci := 0) dX0_init_84 rfl pX0_56 (fun _ => rfl) rfl (Nat.le_of_ble_eq_true rfl) rfl ?_
  refine E_mem (M' := .inr (0, fxJ 10) :: (xZ.take 8)) rfl ?_
  refine e_aload_n dX0_init_87 0 rfl rfl rfl ?_
  refine e_iconst 4 dX0_init_88 rfl ?_
  refine e_newi (n := 4) (L := 9) dX0_init_89 rfl (by decide) (by decide) (by decide) rfl ?_
  refine E_mem (M' := .inr (0, fxJ 10) :: (xZ.take 9)) rfl ?_
  refine E_widX (kc' := 9) (ks' := 624) (by decide) (by decide) ?_
  refine e_putf (fs := fxJ 10) (ci := 0) dX0_init_91 rfl pX0_60 (fun _ => rfl) rfl (Nat.le_of_ble_eq_true rfl) rfl ?_
  refine E_mem (M' := .inr (0, fxJ 11) :: (xZ.take 9)) rfl ?_
  refine e_aload_n dX0_init_94 0 rfl rfl rfl ?_
  refine e_iconst 5 dX0_init_95 rfl ?_
  refine e_newl (n := 5) (L := 10) dX0_init_96 rfl (by decide) (by decide) (by decide) rfl ?_
  refine E_mem (M' := .inr (0, fxJ 11) :: (xZ.take 10)) rfl ?_
  refine E_widX (kc' := 10) (ks' := 629) (by decide) (by decide) ?_
  refine e_putf (fs := fxJ 11) (ci := 0) dX0_init_98 rfl pX0_64 (fun _ => rfl) rfl (Nat.le_of_ble_eq_true rfl) rfl ?_
  refine E_mem (M' := .inr (0, fxJ 12) :: (xZ.take 10)) rfl ?_
  refine e_aload_n dX0_init_101 0 rfl rfl rfl ?_
  refine e_iconst 5 dX0_init_102 rfl ?_
  refine e_newl (n := 5) (L := 11) dX0_init_103 rfl (by decide) (by decide) (by decide) rfl ?_
  refine E_mem (M' := .inr (0, fxJ 12) :: (xZ.take 11)) rfl ?_
  refine E_widX (kc' := 11) (ks' := 634) (by decide) (by decide) ?_
  refine e_putf (fs := fxJ 12) (ci := 0) dX0_init_105 rfl pX0_67 (fun _ => rfl) rfl (Nat.le_of_ble_eq_true rfl) rfl ?_
  refine E_mem (M' := .inr (0, fxJ 13) :: (xZ.take 11)) rfl ?_
  refine e_aload_n dX0_init_108 0 rfl rfl rfl ?_
  refine e_iconst 5 dX0_init_109 rfl ?_
  refine e_newl (n := 5) (L := 12) dX0_init_110 rfl (by decide) (by decide) (by decide) rfl ?_
  refine E_mem (M' := .inr (0, fxJ 13) :: (xZ.take 12)) rfl ?_
  refine E_widX (kc' := 12) (ks' := 639) (by decide) (by decide) ?_
  refine e_putf (fs := fxJ 13) (ci := 0) dX0_init_112 rfl pX0_70 (fun _ => rfl) rfl (Nat.le_of_ble_eq_true rfl) rfl ?_
  refine E_mem (M' := .inr (0, fxJ 14) :: (xZ.take 12)) rfl ?_
  refine e_aload_n dX0_init_115 0 rfl rfl rfl ?_
  refine e_bipush 20 dX0_init_116 rfl ?_
  refine e_newl (n := 20) (L := 13) dX0_init_118 rfl (by decide) (by decide) (by decide) rfl ?_
  refine E_mem (M' := .inr (0, fxJ 14) :: (xZ.take 13)) rfl ?_
  refine E_widX (kc' := 13) (ks' := 659) (by decide) (by decide) ?_
  refine e_putf (fs := fxJ 14) (ci := 0) dX0_init_120 rfl pX0_73 (fun _ => rfl) rfl (Nat.le_of_ble_eq_true rfl) rfl ?_
  refine E_mem (M' := .inr (0, fxJ 15) :: (xZ.take 13)) rfl ?_
  refine e_aload_n dX0_init_123 0 rfl rfl rfl ?_
  refine e_bipush 40 dX0_init_124 rfl ?_
  refine e_newl (n := 40) (L := 14) dX0_init_126 rfl (by decide) (by decide) (by decide) rfl ?_
  refine E_mem (M' := .inr (0, fxJ 15) :: (xZ.take 14)) rfl ?_
  refine E_widX (kc' := 14) (ks' := 699) (by decide) (by decide) ?_
  refine e_putf (fs := fxJ 15) (ci := 0) dX0_init_128 rfl pX0_76 (fun _ => rfl) rfl (Nat.le_of_ble_eq_true rfl) rfl ?_
  refine E_mem (M' := .inr (0, fxJ 16) :: (xZ.take 14)) rfl ?_
  refine e_aload_n dX0_init_131 0 rfl rfl rfl ?_
  refine e_bipush 14 dX0_init_132 rfl ?_
  refine e_newi (n := 14) (L := 15) dX0_init_134 rfl (by decide) (by decide) (by decide) rfl ?_
  refine E_mem (M' := .inr (0, fxJ 16) :: (xZ.take 15)) rfl ?_
  refine E_widX (kc' := 15) (ks' := 713) (by decide) (by decide) ?_
  refine e_putf (fs := fxJ 16) (ci := 0) dX0_init_136 rfl pX0_79 (fun _ => rfl) rfl (Nat.le_of_ble_eq_true rfl) rfl ?_
  refine E_mem (M' := .inr (0, fxJ 17) :: (xZ.take 15)) rfl ?_
  refine e_aload_n dX0_init_139 0 rfl rfl rfl ?_
  refine e_bipush 14 dX0_init_140 rfl ?_
  refine e_newi (n := 14) (L := 16) dX0_init_142 rfl (by decide) (by decide) (by decide) rfl ?_
  refine E_mem (M' := .inr (0, fxJ 17) :: (xZ.take 16)) rfl ?_
  refine E_widX (kc' := 16) (ks' := 727) (by decide) (by decide) ?_
  refine e_putf (fs := fxJ 17) (ci := 0) dX0_init_144 rfl pX0_82 (fun _ => rfl) rfl (Nat.le_of_ble_eq_true rfl) rfl ?_
  refine E_mem (M' := .inr (0, fxJ 18) :: (xZ.take 16)) rfl ?_
  refine e_aload_n dX0_init_147 0 rfl rfl rfl ?_
  refine e_bipush 14 dX0_init_148 rfl ?_
  refine e_iconst 2 dX0_init_150 rfl ?_
  refine e_manew (n := 14) (k := 2) (L := 17) dX0_init_151 rfl q253 (by decide) (by decide) (by decide) (by decide) rfl ?_
  refine E_mem (M' := .inr (0, fxJ 18) :: (xZ.take 31)) rfl ?_
  refine E_widX (kc' := 31) (ks' := 769) (by decide) (by decide) ?_
  refine e_putf (fs := fxJ 18) (ci := 0) dX0_init_155 rfl pX0_87 (fun _ => rfl) rfl (Nat.le_of_ble_eq_true rfl) rfl ?_
  refine E_mem (M' := .inr (0, fxJ 19) :: (xZ.take 31)) rfl ?_
  refine e_aload_n dX0_init_158 0 rfl rfl rfl ?_
  refine e_bipush 20 dX0_init_159 rfl ?_
  refine e_newl (n := 20) (L := 32) dX0_init_161 rfl (by decide) (by decide) (by decide) rfl ?_
  refine E_mem (M' := .inr (0, fxJ 19) :: (xZ.take 32)) rfl ?_
  refine E_widX (kc' := 32) (ks' := 789) (by decide) (by decide) ?_
  refine e_putf (fs := fxJ 19) (ci := 0) dX0_init_163 rfl pX0_90 (fun _ => rfl) rfl (Nat.le_of_ble_eq_true rfl) rfl ?_
  refine E_mem (M' := .inr (0, fxJ 20) :: (xZ.take 32)) rfl ?_
  refine e_aload_n dX0_init_166 0 rfl rfl rfl ?_
  refine e_iconst 2 dX0_init_167 rfl ?_
  refine e_bipush 80 dX0_init_168 rfl ?_
  refine e_manew (n := 2) (k := 80) (L := 33) dX0_init_170 rfl q253 (by decide) (by decide) (by decide) (by decide) rfl ?_
  refine E_mem (M' := .inr (0, fxJ 20) :: (xZ.take 35)) rfl ?_
  refine E_widX (kc' := 35) (ks' := 951) (by decide) (by decide) ?_
  refine e_putf (fs := fxJ 20) (ci := 0) dX0_init_174 rfl pX0_93 (fun _ => rfl) rfl (Nat.le_of_ble_eq_true rfl) rfl ?_
  refine E_mem (M' := .inr (0, fxJ 21) :: (xZ.take 35)) rfl ?_
  refine e_aload_n dX0_init_177 0 rfl rfl rfl ?_
  refine e_iconst 2 dX0_init_178 rfl ?_
  refine e_newi (n := 2) (L := 36) dX0_init_179 rfl (by decide) (by decide) (by decide) rfl ?_
  refine E_mem (M' := .inr (0, fxJ 21) :: (xZ.take 36)) rfl ?_
  refine E_widX (kc' := 36) (ks' := 953) (by decide) (by decide) ?_
  refine e_putf (fs := fxJ 21) (ci := 0) dX0_init_181 rfl pX0_96 (fun _ => rfl) rfl (Nat.le_of_ble_eq_true rfl) rfl ?_
  refine E_mem (M' := .inr (0, fxJ 22) :: (xZ.take 36)) rfl ?_
  refine e_aload_n dX0_init_184 0 rfl rfl rfl ?_
  refine e_iconst 2 dX0_init_185 rfl ?_
  refine e_newi (n := 2) (L := 37) dX0_init_186 rfl (by decide) (by decide) (by decide) rfl ?_
  refine E_mem (M' := .inr (0, fxJ 22) :: (xZ.take 36 ++ [.inl (0, 2, .inl (fun _ => 0))])) rfl ?_
  refine E_widX (kc' := 37) (ks' := 955) (by decide) (by decide) ?_
  refine e_dup dX0_init_188 rfl ?_
  refine e_iconst 0 dX0_init_189 rfl ?_
  refine e_iconst (-1) dX0_init_190 rfl ?_
  refine e_iast (f := (fun _ => 0)) (n := 2) (j := 0) dX0_init_191 rfl rfl (by decide) (by decide) ?_
  refine E_mem (M' := .inr (0, fxJ 22) :: (xZ.take 36 ++ [.inl (0, 2, .inl (upd (fun _ => 0) 0 (-1)))])) rfl ?_
  refine e_dup dX0_init_192 rfl ?_
  refine e_iconst 1 dX0_init_193 rfl ?_
  refine e_iconst (-1) dX0_init_194 rfl ?_
  refine e_iast (f := (upd (fun _ => 0) 0 (-1))) (n := 2) (j := 1) dX0_init_195 rfl rfl (by decide) (by decide) ?_
  refine E_mem (M' := .inr (0, fxJ 22) :: (xZ.take 37)) rfl ?_
  refine e_putf (fs := fxJ 22) (ci := 0) dX0_init_196 rfl pX0_99 (fun _ => rfl) rfl (Nat.le_of_ble_eq_true rfl) rfl ?_
  refine E_mem (M' := .inr (0, fxJ 23) :: (xZ.take 37)) rfl ?_
  refine e_aload_n dX0_init_199 0 rfl rfl rfl ?_
  refine e_iconst 2 dX0_init_200 rfl ?_
  refine e_newi (n := 2) (L := 38) dX0_init_201 rfl (by decide) (by decide) (by decide) rfl ?_
  refine E_mem (M' := .inr (0, fxJ 23) :: (xZ.take 38)) rfl ?_
  refine E_widX (kc' := 38) (ks' := 957) (by decide) (by decide) ?_
  refine e_putf (fs := fxJ 23) (ci := 0) dX0_init_203 rfl pX0_102 (fun _ => rfl) rfl (Nat.le_of_ble_eq_true rfl) rfl ?_
  refine E_mem (M' := .inr (0, fxJ 24) :: (xZ.take 38)) rfl ?_
  refine e_aload_n dX0_init_206 0 rfl rfl rfl ?_
  refine e_bipush 100 dX0_init_207 rfl ?_
  refine e_newi (n := 100) (L := 39) dX0_init_209 rfl (by decide) (by decide) (by decide) rfl ?_
  refine E_mem (M' := .inr (0, fxJ 24) :: (xZ.take 39)) rfl ?_
  refine E_widX (kc' := 39) (ks' := 1057) (by decide) (by decide) ?_
  refine e_putf (fs := fxJ 24) (ci := 0) dX0_init_211 rfl pX0_105 (fun _ => rfl) rfl (Nat.le_of_ble_eq_true rfl) rfl ?_
  refine E_mem (M' := .inr (0, fxJ 25) :: (xZ.take 39)) rfl ?_
  refine e_aload_n dX0_init_214 0 rfl rfl rfl ?_
  refine e_bipush 100 dX0_init_215 rfl ?_
  refine e_newi (n := 100) (L := 40) dX0_init_217 rfl (by decide) (by decide) (by decide) rfl ?_
  refine E_mem (M' := .inr (0, fxJ 25) :: (xZ.take 40)) rfl ?_
  refine E_widX (kc' := 40) (ks' := 1157) (by decide) (by decide) ?_
  refine e_putf (fs := fxJ 25) (ci := 0) dX0_init_219 rfl pX0_108 (fun _ => rfl) rfl (Nat.le_of_ble_eq_true rfl) rfl ?_
  refine E_mem (M' := .inr (0, fxJ 26) :: (xZ.take 40)) rfl ?_
  refine e_aload_n dX0_init_222 0 rfl rfl rfl ?_
  refine e_bipush 20 dX0_init_223 rfl ?_
  refine e_newi (n := 20) (L := 41) dX0_init_225 rfl (by decide) (by decide) (by decide) rfl ?_
  refine E_mem (M' := .inr (0, fxJ 26) :: (xZ.take 41)) rfl ?_
  refine E_widX (kc' := 41) (ks' := 1177) (by decide) (by decide) ?_
  refine e_putf (fs := fxJ 26) (ci := 0) dX0_init_227 rfl pX0_111 (fun _ => rfl) rfl (Nat.le_of_ble_eq_true rfl) rfl ?_
  refine E_mem (M' := .inr (0, fxJ 27) :: (xZ.take 41)) rfl ?_
  refine e_aload_n dX0_init_230 0 rfl rfl rfl ?_
  refine e_bipush 20 dX0_init_231 rfl ?_
  refine e_newi (n := 20) (L := 42) dX0_init_233 rfl (by decide) (by decide) (by decide) rfl ?_
  refine E_mem (M' := .inr (0, fxJ 27) :: (xZ.take 42)) rfl ?_
  refine E_widX (kc' := 42) (ks' := 1197) (by decide) (by decide) ?_
  refine e_putf (fs := fxJ 27) (ci := 0) dX0_init_235 rfl pX0_114 (fun _ => rfl) rfl (Nat.le_of_ble_eq_true rfl) rfl ?_
  refine E_mem (M' := .inr (0, fxJ 28) :: (xZ.take 42)) rfl ?_
  refine e_aload_n dX0_init_238 0 rfl rfl rfl ?_
  refine e_bipush 60 dX0_init_239 rfl ?_
  refine e_newi (n := 60) (L := 43) dX0_init_241 rfl (by decide) (by decide) (by decide) rfl ?_
  refine E_mem (M' := .inr (0, fxJ 28) :: (xZ.take 43)) rfl ?_
  refine E_widX (kc' := 43) (ks' := 1257) (by decide) (by decide) ?_
  refine e_putf (fs := fxJ 28) (ci := 0) dX0_init_243 rfl pX0_117 (fun _ => rfl) rfl (Nat.le_of_ble_eq_true rfl) rfl ?_
  refine E_mem (M' := .inr (0, fxJ 29) :: (xZ.take 43)) rfl ?_
  refine e_aload_n dX0_init_246 0 rfl rfl rfl ?_
  refine e_bipush 60 dX0_init_247 rfl ?_
  refine e_newi (n := 60) (L := 44) dX0_init_249 rfl (by decide) (by decide) (by decide) rfl ?_
  refine E_mem (M' := .inr (0, fxJ 29) :: (xZ.take 44)) rfl ?_
  refine E_widX (kc' := 44) (ks' := 1317) (by decide) (by decide) ?_
  refine e_putf (fs := fxJ 29) (ci := 0) dX0_init_251 rfl pX0_120 (fun _ => rfl) rfl (Nat.le_of_ble_eq_true rfl) rfl ?_
  refine E_mem (M' := .inr (0, fxJ 30) :: (xZ.take 44)) rfl ?_
  refine e_aload_n dX0_init_254 0 rfl rfl rfl ?_
  refine e_bipush 60 dX0_init_255 rfl ?_
  refine e_newi (n := 60) (L := 45) dX0_init_257 rfl (by decide) (by decide) (by decide) rfl ?_
  refine E_mem (M' := .inr (0, fxJ 30) :: (xZ.take 45)) rfl ?_
  refine E_widX (kc' := 45) (ks' := 1377) (by decide) (by decide) ?_
  refine e_putf (fs := fxJ 30) (ci := 0) dX0_init_259 rfl pX0_123 (fun _ => rfl) rfl (Nat.le_of_ble_eq_true rfl) rfl ?_
  refine E_mem (M' := .inr (0, fxJ 31) :: (xZ.take 45)) rfl ?_
  refine e_aload_n dX0_init_262 0 rfl rfl rfl ?_
  refine e_bipush 7 dX0_init_263 rfl ?_
  refine e_newi (n := 7) (L := 46) dX0_init_265 rfl (by decide) (by decide) (by decide) rfl ?_
  refine E_mem (M' := .inr (0, fxJ 31) :: (xZ.take 46)) rfl ?_
  refine E_widX (kc' := 46) (ks' := 1384) (by decide) (by decide) ?_
  refine e_putf (fs := fxJ 31) (ci := 0) dX0_init_267 rfl pX0_126 (fun _ => rfl) rfl (Nat.le_of_ble_eq_true rfl) rfl ?_
  refine E_mem (M' := .inr (0, fxJ 32) :: (xZ.take 46)) rfl ?_
  refine e_aload_n dX0_init_270 0 rfl rfl rfl ?_
  refine e_bipush 7 dX0_init_271 rfl ?_
  refine e_newi (n := 7) (L := 47) dX0_init_273 rfl (by decide) (by decide) (by decide) rfl ?_
  refine E_mem (M' := .inr (0, fxJ 32) :: (xZ.take 47)) rfl ?_
  refine E_widX (kc' := 47) (ks' := 1391) (by decide) (by decide) ?_
  refine e_putf (fs := fxJ 32) (ci := 0) dX0_init_275 rfl pX0_129 (fun _ => rfl) rfl (Nat.le_of_ble_eq_true rfl) rfl ?_
  refine E_mem (M' := .inr (0, fxJ 33) :: (xZ.take 47)) rfl ?_
  refine e_aload_n dX0_init_278 0 rfl rfl rfl ?_
  refine e_bipush 7 dX0_init_279 rfl ?_
  refine e_newi (n := 7) (L := 48) dX0_init_281 rfl (by decide) (by decide) (by decide) rfl ?_
  refine E_mem (M' := .inr (0, fxJ 33) :: (xZ.take 48)) rfl ?_
  refine E_widX (kc' := 48) (ks' := 1398) (by decide) (by decide) ?_
  refine e_putf (fs := fxJ 33) (ci := 0) dX0_init_283 rfl pX0_132 (fun _ => rfl) rfl (Nat.le_of_ble_eq_true rfl) rfl ?_
  refine E_mem (M' := .inr (0, fxJ 34) :: (xZ.take 48)) rfl ?_
  refine e_aload_n dX0_init_286 0 rfl rfl rfl ?_
  refine e_bipush 7 dX0_init_287 rfl ?_
  refine e_newi (n := 7) (L := 49) dX0_init_289 rfl (by decide) (by decide) (by decide) rfl ?_
  refine E_mem (M' := .inr (0, fxJ 34) :: (xZ.take 49)) rfl ?_
  refine E_widX (kc' := 49) (ks' := 1405) (by decide) (by decide) ?_
  refine e_putf (fs := fxJ 34) (ci := 0) dX0_init_291 rfl pX0_135 (fun _ => rfl) rfl (Nat.le_of_ble_eq_true rfl) rfl ?_
  refine E_mem (M' := .inr (0, fxJ 35) :: (xZ.take 49)) rfl ?_
  refine e_aload_n dX0_init_294 0 rfl rfl rfl ?_
  refine e_bipush 7 dX0_init_295 rfl ?_
  refine e_newi (n := 7) (L := 50) dX0_init_297 rfl (by decide) (by decide) (by decide) rfl ?_
  refine E_mem (M' := .inr (0, fxJ 35) :: (xZ.take 50)) rfl ?_
  refine E_widX (kc' := 50) (ks' := 1412) (by decide) (by decide) ?_
  refine e_putf (fs := fxJ 35) (ci := 0) dX0_init_299 rfl pX0_138 (fun _ => rfl) rfl (Nat.le_of_ble_eq_true rfl) rfl ?_
  refine E_mem (M' := .inr (0, fxJ 36) :: (xZ.take 50)) rfl ?_
  refine e_aload_n dX0_init_302 0 rfl rfl rfl ?_
  refine e_iconst 4 dX0_init_303 rfl ?_
  refine e_newi (n := 4) (L := 51) dX0_init_304 rfl (by decide) (by decide) (by decide) rfl ?_
  refine E_mem (M' := .inr (0, fxJ 36) :: (xZ.take 51)) rfl ?_
  refine E_widX (kc' := 51) (ks' := 1416) (by decide) (by decide) ?_
  refine e_putf (fs := fxJ 36) (ci := 0) dX0_init_306 rfl pX0_141 (fun _ => rfl) rfl (Nat.le_of_ble_eq_true rfl) rfl ?_
  refine E_mem (M' := .inr (0, fxJ 37) :: (xZ.take 51)) rfl ?_
  refine e_iconst 0 dX0_init_309 rfl ?_
  refine e_istore_n dX0_init_310 1 rfl (ls_1 rfl) (Nat.le_of_ble_eq_true rfl) ?_
  refine e_iload_n dX0_init_311 1 rfl rfl ?_
  refine e_iconst 4 dX0_init_312 rfl ?_
  refine e_icmp_ge 335 dX0_init_313 (by decide) (fun h => absurd h (by decide)) (fun _ => ?_)
  refine e_aload_n dX0_init_316 0 rfl rfl rfl ?_
  refine e_getf (v := .ref 1) (fs := fxJ 37) (ci := 0) dX0_init_317 rfl fX0_11 rfl rfl ?_
  refine e_iload_n dX0_init_320 1 rfl rfl ?_
  refine e_new (u := 2) (L := 52) dX0_init_321 rfl nwX0_9 rfl (by decide) (by decide) rfl ?_
  refine E_mem (M' := .inr (0, fxJ 37) :: (xZ.take 51 ++ [.inr (3, [.null, .int 0])])) rfl ?_
  refine E_widX (kc' := 52) (ks' := 1418) (by decide) (by decide) ?_
  refine e_dup dX0_init_324 rfl ?_
  refine e_callI0 (As := []) (rest := [.ref 52, .int 0, .ref 1]) dX0_init_325 rfl miX0_144 (x_trayI (P := .inr (0, fxJ 37) :: xZ.take 51)) (Nat.le_of_ble_eq_true rfl) rfl rfl (Nat.le_of_ble_eq_true rfl) (by decide) (by decide) ?_
  refine E_mem (M' := .inr (0, fxJ 37) :: (xZ.take 52)) rfl ?_
  refine e_aast (n := 4) (t := 6) (ci := 3) (j := 0) (r := (RX3, TX3, 2)) (f := (fun _ => none)) (fs := [.null, .int 0]) dX0_init_328 rfl (fun _ => rfl) rfl rfl rfl (by decide) (by decide) ?_
  refine E_mem (M' := .inr (0, fxJ 37) :: ((xZ.set 0 (.inl (6, 4, .inr (.inr (.inr (.inr (va_up (fun _ => none) 0 (some 52)))))))).take 52)) rfl ?_
  refine e_iinc 1 dX0_init_329 rfl (by decide) (ls_1 rfl) (Nat.le_of_ble_eq_true rfl) ?_
  refine e_goto 311 dX0_init_332 (by decide) ?_
  refine e_iload_n dX0_init_311 1 rfl rfl ?_
  refine e_iconst 4 dX0_init_312 rfl ?_
  refine e_icmp_ge 335 dX0_init_313 (by decide) (fun h => absurd h (by decide)) (fun _ => ?_)
  refine e_aload_n dX0_init_316 0 rfl rfl rfl ?_
  refine e_getf (v := .ref 1) (fs := fxJ 37) (ci := 0) dX0_init_317 rfl fX0_11 rfl rfl ?_
  refine e_iload_n dX0_init_320 1 rfl rfl ?_
  refine e_new (u := 2) (L := 53) dX0_init_321 rfl nwX0_9 rfl (by decide) (by decide) rfl ?_
  refine E_mem (M' := .inr (0, fxJ 37) :: ((xZ.set 0 (.inl (6, 4, .inr (.inr (.inr (.inr (va_up (fun _ => none) 0 (some 52)))))))).take 52 ++ [.inr (3, [.null, .int 0])])) rfl ?_
  refine E_widX (kc' := 53) (ks' := 1420) (by decide) (by decide) ?_
  refine e_dup dX0_init_324 rfl ?_
  refine e_callI0 (As := []) (rest := [.ref 53, .int 1, .ref 1]) dX0_init_325 rfl miX0_144 (x_trayI (P := .inr (0, fxJ 37) :: (xZ.set 0 (.inl (6, 4, .inr (.inr (.inr (.inr (va_up (fun _ => none) 0 (some 52)))))))).take 52)) (Nat.le_of_ble_eq_true rfl) rfl rfl (Nat.le_of_ble_eq_true rfl) (by decide) (by decide) ?_
  refine E_mem (M' := .inr (0, fxJ 37) :: ((xZ.set 0 (.inl (6, 4, .inr (.inr (.inr (.inr (va_up (fun _ => none) 0 (some 52)))))))).take 53)) rfl ?_
  refine e_aast (n := 4) (t := 6) (ci := 3) (j := 1) (r := (RX3, TX3, 2)) (f := (va_up (fun _ => none) 0 (some 52))) (fs := [.null, .int 0]) dX0_init_328 rfl (fun _ => rfl) rfl rfl rfl (by decide) (by decide) ?_
  refine E_mem (M' := .inr (0, fxJ 37) :: ((xZ.set 0 (.inl (6, 4, .inr (.inr (.inr (.inr (va_up (va_up (fun _ => none) 0 (some 52)) 1 (some 53)))))))).take 53)) rfl ?_
  refine e_iinc 2 dX0_init_329 rfl (by decide) (ls_1 rfl) (Nat.le_of_ble_eq_true rfl) ?_
  refine e_goto 311 dX0_init_332 (by decide) ?_
  refine e_iload_n dX0_init_311 1 rfl rfl ?_
  refine e_iconst 4 dX0_init_312 rfl ?_
  refine e_icmp_ge 335 dX0_init_313 (by decide) (fun h => absurd h (by decide)) (fun _ => ?_)
  refine e_aload_n dX0_init_316 0 rfl rfl rfl ?_
  refine e_getf (v := .ref 1) (fs := fxJ 37) (ci := 0) dX0_init_317 rfl fX0_11 rfl rfl ?_
  refine e_iload_n dX0_init_320 1 rfl rfl ?_
  refine e_new (u := 2) (L := 54) dX0_init_321 rfl nwX0_9 rfl (by decide) (by decide) rfl ?_
  refine E_mem (M' := .inr (0, fxJ 37) :: ((xZ.set 0 (.inl (6, 4, .inr (.inr (.inr (.inr (va_up (va_up (fun _ => none) 0 (some 52)) 1 (some 53)))))))).take 53 ++ [.inr (3, [.null, .int 0])])) rfl ?_
  refine E_widX (kc' := 54) (ks' := 1422) (by decide) (by decide) ?_
  refine e_dup dX0_init_324 rfl ?_
  refine e_callI0 (As := []) (rest := [.ref 54, .int 2, .ref 1]) dX0_init_325 rfl miX0_144 (x_trayI (P := .inr (0, fxJ 37) :: (xZ.set 0 (.inl (6, 4, .inr (.inr (.inr (.inr (va_up (va_up (fun _ => none) 0 (some 52)) 1 (some 53)))))))).take 53)) (Nat.le_of_ble_eq_true rfl) rfl rfl (Nat.le_of_ble_eq_true rfl) (by decide) (by decide) ?_
  refine E_mem (M' := .inr (0, fxJ 37) :: ((xZ.set 0 (.inl (6, 4, .inr (.inr (.inr (.inr (va_up (va_up (fun _ => none) 0 (some 52)) 1 (some 53)))))))).take 54)) rfl ?_
  refine e_aast (n := 4) (t := 6) (ci := 3) (j := 2) (r := (RX3, TX3, 2)) (f := (va_up (va_up (fun _ => none) 0 (some 52)) 1 (some 53))) (fs := [.null, .int 0]) dX0_init_328 rfl (fun _ => rfl) rfl rfl rfl (by decide) (by decide) ?_
  refine E_mem (M' := .inr (0, fxJ 37) :: ((xZ.set 0 (.inl (6, 4, .inr (.inr (.inr (.inr (va_up (va_up (va_up (fun _ => none) 0 (some 52)) 1 (some 53)) 2 (some 54)))))))).take 54)) rfl ?_
  refine e_iinc 3 dX0_init_329 rfl (by decide) (ls_1 rfl) (Nat.le_of_ble_eq_true rfl) ?_
  refine e_goto 311 dX0_init_332 (by decide) ?_
  refine e_iload_n dX0_init_311 1 rfl rfl ?_
  refine e_iconst 4 dX0_init_312 rfl ?_
  refine e_icmp_ge 335 dX0_init_313 (by decide) (fun h => absurd h (by decide)) (fun _ => ?_)
  refine e_aload_n dX0_init_316 0 rfl rfl rfl ?_
  refine e_getf (v := .ref 1) (fs := fxJ 37) (ci := 0) dX0_init_317 rfl fX0_11 rfl rfl ?_
  refine e_iload_n dX0_init_320 1 rfl rfl ?_
  refine e_new (u := 2) (L := 55) dX0_init_321 rfl nwX0_9 rfl (by decide) (by decide) rfl ?_
  refine E_mem (M' := .inr (0, fxJ 37) :: ((xZ.set 0 (.inl (6, 4, .inr (.inr (.inr (.inr (va_up (va_up (va_up (fun _ => none) 0 (some 52)) 1 (some 53)) 2 (some 54)))))))).take 54 ++ [.inr (3, [.null, .int 0])])) rfl ?_
  refine E_widX (kc' := 55) (ks' := 1424) (by decide) (by decide) ?_
  refine e_dup dX0_init_324 rfl ?_
  refine e_callI0 (As := []) (rest := [.ref 55, .int 3, .ref 1]) dX0_init_325 rfl miX0_144 (x_trayI (P := .inr (0, fxJ 37) :: (xZ.set 0 (.inl (6, 4, .inr (.inr (.inr (.inr (va_up (va_up (va_up (fun _ => none) 0 (some 52)) 1 (some 53)) 2 (some 54)))))))).take 54)) (Nat.le_of_ble_eq_true rfl) rfl rfl (Nat.le_of_ble_eq_true rfl) (by decide) (by decide) ?_
  refine E_mem (M' := .inr (0, fxJ 37) :: ((xZ.set 0 (.inl (6, 4, .inr (.inr (.inr (.inr (va_up (va_up (va_up (fun _ => none) 0 (some 52)) 1 (some 53)) 2 (some 54)))))))).take 55)) rfl ?_
  refine e_aast (n := 4) (t := 6) (ci := 3) (j := 3) (r := (RX3, TX3, 2)) (f := (va_up (va_up (va_up (fun _ => none) 0 (some 52)) 1 (some 53)) 2 (some 54))) (fs := [.null, .int 0]) dX0_init_328 rfl (fun _ => rfl) rfl rfl rfl (by decide) (by decide) ?_
  refine E_mem (M' := .inr (0, fxJ 37) :: ((xZ.set 0 (.inl (6, 4, .inr (.inr (.inr (.inr (va_up (va_up (va_up (va_up (fun _ => none) 0 (some 52)) 1 (some 53)) 2 (some 54)) 3 (some 55)))))))).take 55)) rfl ?_
  refine e_iinc 4 dX0_init_329 rfl (by decide) (ls_1 rfl) (Nat.le_of_ble_eq_true rfl) ?_
  refine e_goto 311 dX0_init_332 (by decide) ?_
  refine e_iload_n dX0_init_311 1 rfl rfl ?_
  refine e_iconst 4 dX0_init_312 rfl ?_
  refine e_icmp_ge 335 dX0_init_313 (by decide) (fun _ => ?_) (fun h => absurd h (by decide))
  refine e_return dX0_init_335 rfl (by decide) (by decide) ?_
  exact ⟨rfl, x0_fin⟩

