/-! ===== the reference's constructor ===== -/
set_option maxRecDepth 100000
def puJ : List (Nat × Value) := [(2, .ref 57), (3, .ref 58), (4, .ref 59), (6, .ref 60), (7, .ref 61), (8, .ref 62), (9, .ref 63), (10, .ref 64), (11, .ref 65), (12, .ref 66), (13, .ref 67), (14, .ref 68), (15, .ref 69), (16, .ref 70), (17, .ref 71), (18, .int (-1)), (22, .int (-1)), (26, .ref 72), (27, .ref 73), (28, .ref 74), (31, .int (-1)), (32, .int (-1)), (41, .int (-1)), (43, .ref 75), (44, .ref 76), (45, .ref 77), (46, .ref 78), (47, .ref 79), (48, .ref 80), (49, .ref 81), (50, .ref 82), (51, .ref 83), (52, .ref 84), (53, .ref 85), (54, .ref 86), (55, .ref 87), (56, .ref 88), (57, .ref 89), (58, .ref 90), (59, .ref 91), (65, .int (-1)), (67, .ref 92), (68, .ref 93), (69, .ref 94), (70, .ref 95), (71, .ref 96), (72, .ref 97), (73, .ref 98), (75, .ref 99), (76, .ref 100), (83, .ref 101), (84, .ref 102), (85, .ref 103), (86, .ref 104), (87, .ref 105), (88, .ref 106), (89, .ref 107), (90, .ref 108), (91, .ref 109), (92, .ref 110), (93, .ref 111), (94, .ref 112), (95, .ref 113), (96, .ref 114), (97, .ref 115), (98, .ref 116)]
/-- the fields after the first so many are written -/
def fsJ (i : Nat) : List Value := (puJ.take i).foldl (fun l p => l.set p.1 p.2) [.int 0, .int 0, .null, .null, .null, .int 0, .null, .null, .null, .null, .null, .null, .null, .null, .null, .null, .null, .null, .int 0, .int 0, .int 0, .int 0, .int 0, .int 0, .int 0, .int 0, .null, .null, .null, .int 0, .int 0, .int 0, .int 0, .int 0, .int 0, .int 0, .int 0, .int 0, .int 0, .long 0, .long 0, .int 0, .int 0, .null, .null, .null, .null, .null, .null, .null, .null, .null, .null, .null, .null, .null, .null, .null, .null, .null, .int 0, .int 0, .int 0, .int 0, .int 0, .int 0, .int 0, .null, .null, .null, .null, .null, .null, .null, .int 0, .null, .null, .int 0, .int 0, .int 0, .int 0, .int 0, .int 0, .null, .null, .null, .null, .null, .null, .null, .null, .null, .null, .null, .null, .null, .null, .null, .null]
def twZ : List ACell := [.inl (0, 4, .inl (fun _ => 0)), .inl (0, 4, .inl (fun _ => 0)), .inl (1, 240, .inr (.inl (fun _ => 0))), .inl (0, 4, .inl (fun _ => 0)), .inl (0, 4, .inl (fun _ => 0)), .inl (0, 4, .inl (fun _ => 0)), .inl (0, 48, .inl (fun _ => 0)), .inl (0, 336, .inl (fun _ => 0)), .inl (0, 84, .inl (fun _ => 0)), .inl (0, 4, .inl (fun _ => 0)), .inl (0, 80, .inl (fun _ => 0)), .inl (0, 80, .inl (fun _ => 0)), .inl (0, 80, .inl (fun _ => 0)), .inl (0, 80, .inl (fun _ => 0)), .inl (4, 12, .inl (fun _ => 0)), .inl (1, 7, .inr (.inl (fun _ => 0))), .inl (1, 60, .inr (.inl (fun _ => 0))), .inl (2, 500, .inl (fun _ => 0)), .inl (0, 40, .inl (fun _ => 0)), .inl (0, 40, .inl (fun _ => 0)), .inl (0, 40, .inl (fun _ => 0)), .inl (0, 40, .inl (fun _ => 0)), .inl (0, 40, .inl (fun _ => 0)), .inl (0, 40, .inl (fun _ => 0)), .inl (0, 40, .inl (fun _ => 0)), .inl (0, 40, .inl (fun _ => 0)), .inl (0, 40, .inl (fun _ => 0)), .inl (0, 40, .inl (fun _ => 0)), .inl (0, 40, .inl (fun _ => 0)), .inl (0, 40, .inl (fun _ => 0)), .inl (0, 40, .inl (fun _ => 0)), .inl (1, 40, .inr (.inl (fun _ => 0))), .inl (1, 40, .inr (.inl (fun _ => 0))), .inl (1, 20, .inr (.inl (fun _ => 0))), .inl (1, 40, .inr (.inl (fun _ => 0))), .inl (0, 28, .inl (fun _ => 0)), .inl (0, 13, .inl (fun _ => 0)), .inl (0, 14, .inl (fun _ => 0)), .inl (1, 20, .inr (.inl (fun _ => 0))), .inl (1, 20, .inr (.inl (fun _ => 0))), .inl (1, 1600, .inr (.inl (fun _ => 0))), .inl (0, 20, .inl (fun _ => 0)), .inl (0, 2, .inl (fun _ => 0)), .inl (0, 2, .inl (fun _ => 0)), .inl (0, 100, .inl (fun _ => 0)), .inl (0, 100, .inl (fun _ => 0)), .inl (0, 20, .inl (fun _ => 0)), .inl (0, 20, .inl (fun _ => 0)), .inl (0, 60, .inl (fun _ => 0)), .inl (0, 60, .inl (fun _ => 0)), .inl (0, 60, .inl (fun _ => 0)), .inl (0, 7, .inl (fun _ => 0)), .inl (0, 7, .inl (fun _ => 0)), .inl (0, 7, .inl (fun _ => 0)), .inl (0, 7, .inl (fun _ => 0)), .inl (0, 7, .inl (fun _ => 0)), .inl (0, 4, .inl (fun _ => 0)), .inl (1, 5, .inr (.inl (fun _ => 0))), .inl (0, 2, .inl (fun _ => 0)), .inl (0, 2, .inl (fun _ => 0))]
/-- the reference when it is made -/
def t40 : Tw := ((upd (upd (upd (upd (upd (upd (fun _ => 0) 18 (-1)) 22 (-1)) 31 (-1)) 32 (-1)) 41 (-1)) 65 (-1)), fun _ => 0, va_up (fun _ _ => 0) 3 (upd (upd (upd (upd (fun _ => 0) 0 (-1)) 1 (-1)) 2 (-1)) 3 (-1)), fun _ _ => 0)
section
variable {pre A : List ACell} {c0 c1 c : ACell}
theorem i4_o (hp : pre.length = 56) : (pre ++ (c0 :: A))[56]? = some c0 := by
  rw [List.getElem?_append_right (by omega), hp]; rfl
theorem i4_s (hp : pre.length = 56) : (pre ++ (c0 :: A)).set 56 c1 = pre ++ (c1 :: A) := by
  rw [List.set_append_right _ _ (by omega), hp]; rfl
theorem i4_p : (pre ++ (c0 :: A)) ++ [c] = pre ++ (c0 :: (A ++ [c])) := by rw [List.append_assoc]; rfl
theorem i4_l (hp : pre.length = 56) {j : Nat} (h : 57 + A.length = j) : (pre ++ (c0 :: A)).length = j := by rw [List.length_append, hp, List.length_cons]; omega
theorem i4_g (hp : pre.length = 56) (h : A[1]? = some c) : (pre ++ (c0 :: A))[58]? = some c := by
  rw [List.getElem?_append_right (by omega), hp]; exact h
theorem i4_h (hp : pre.length = 56) : (pre ++ (c0 :: A)).set 58 c = pre ++ (c0 :: A.set 1 c) := by
  rw [List.set_append_right _ _ (by omega), hp]; rfl
end
theorem x4_fin : (.inr (4, fsJ 66) :: twZ.set 1 (.inl (0, 4, .inl (upd (upd (upd (upd (fun _ => 0) 0 (-1)) 1 (-1)) 2 (-1)) 3 (-1)))) : List ACell) = .inr (4, twF t40) :: (twA t40 ++ []) := rfl
set_option maxHeartbeats 4000000 in
set_option maxRecDepth 100000 in
/-- WheelTablesModel.<init> -/
theorem x4_init {pre : List ACell} (hp : pre.length = 56) : Ct yX4_init (ws_ yX4_init cX4_init 2 none) 0 60 4478 [.ref 56] (pre ++ [.inr (4, fsJ 0)]) (fun v M' => v = none ∧ M' = TW pre t40 []) noX := by
  refine Ct.of (ini := true) (ls := [some (.ref 56), none]) (by decide) (Nat.le_of_ble_eq_true rfl) (fun _ => rfl) rfl ?_
  refine e_aload_n dX4_init_0 0 rfl rfl rfl ?_
  refine e_objI dX4_init_1 rfl q1127 q124 q125 (by decide) ?_
  refine e_aload_n dX4_init_4 0 rfl rfl rfl ?_
  refine e_iconst 4 dX4_init_5 rfl ?_
  refine e_newi (n := 4) (L := 57) dX4_init_6 rfl (by decide) (by decide) (by decide) (i4_l hp rfl) ?_
  refine E_mem (M' := pre ++ (.inr (4, fsJ 0) :: twZ.take 1)) (Eq.symm (i4_p.trans rfl)) ?_
  refine E_widX (kc' := 1) (ks' := 4) (by decide) (by decide) ?_
  refine e_putf dX4_init_8 rfl pX4_7 (fun _ => rfl) (i4_o hp) (Nat.le_of_ble_eq_true rfl) rfl ?_
  refine E_mem (M' := pre ++ (.inr (4, fsJ 1) :: twZ.take 1)) (Eq.symm ((i4_s hp).trans rfl)) ?_
  refine e_aload_n dX4_init_11 0 rfl rfl rfl ?_
  refine e_iconst 4 dX4_init_12 rfl ?_
  refine e_newi (n := 4) (L := 58) dX4_init_13 rfl (by decide) (by decide) (by decide) (i4_l hp rfl) ?_
  refine E_mem (M' := pre ++ (.inr (4, fsJ 1) :: twZ.take 2)) (Eq.symm (i4_p.trans rfl)) ?_
  refine E_widX (kc' := 2) (ks' := 8) (by decide) (by decide) ?_
  refine e_putf dX4_init_15 rfl pX4_13 (fun _ => rfl) (i4_o hp) (Nat.le_of_ble_eq_true rfl) rfl ?_
  refine E_mem (M' := pre ++ (.inr (4, fsJ 2) :: twZ.take 2)) (Eq.symm ((i4_s hp).trans rfl)) ?_
  refine e_aload_n dX4_init_18 0 rfl rfl rfl ?_
  refine e_sipush 240 dX4_init_19 rfl ?_
  refine e_newl (n := 240) (L := 59) dX4_init_22 rfl (by decide) (by decide) (by decide) (i4_l hp rfl) ?_
  refine E_mem (M' := pre ++ (.inr (4, fsJ 2) :: twZ.take 3)) (Eq.symm (i4_p.trans rfl)) ?_
  refine E_widX (kc' := 3) (ks' := 248) (by decide) (by decide) ?_
  refine e_putf dX4_init_24 rfl pX4_16 (fun _ => rfl) (i4_o hp) (Nat.le_of_ble_eq_true rfl) rfl ?_
  refine E_mem (M' := pre ++ (.inr (4, fsJ 3) :: twZ.take 3)) (Eq.symm ((i4_s hp).trans rfl)) ?_
  refine e_aload_n dX4_init_27 0 rfl rfl rfl ?_
  refine e_iconst 4 dX4_init_28 rfl ?_
  refine e_newi (n := 4) (L := 60) dX4_init_29 rfl (by decide) (by decide) (by decide) (i4_l hp rfl) ?_
  refine E_mem (M' := pre ++ (.inr (4, fsJ 3) :: twZ.take 4)) (Eq.symm (i4_p.trans rfl)) ?_
  refine E_widX (kc' := 4) (ks' := 252) (by decide) (by decide) ?_
  refine e_putf dX4_init_31 rfl pX4_20 (fun _ => rfl) (i4_o hp) (Nat.le_of_ble_eq_true rfl) rfl ?_
  refine E_mem (M' := pre ++ (.inr (4, fsJ 4) :: twZ.take 4)) (Eq.symm ((i4_s hp).trans rfl)) ?_
  refine e_aload_n dX4_init_34 0 rfl rfl rfl ?_
  refine e_iconst 4 dX4_init_35 rfl ?_
  refine e_newi (n := 4) (L := 61) dX4_init_36 rfl (by decide) (by decide) (by decide) (i4_l hp rfl) ?_
  refine E_mem (M' := pre ++ (.inr (4, fsJ 4) :: twZ.take 5)) (Eq.symm (i4_p.trans rfl)) ?_
  refine E_widX (kc' := 5) (ks' := 256) (by decide) (by decide) ?_
  refine e_putf dX4_init_38 rfl pX4_23 (fun _ => rfl) (i4_o hp) (Nat.le_of_ble_eq_true rfl) rfl ?_
  refine E_mem (M' := pre ++ (.inr (4, fsJ 5) :: twZ.take 5)) (Eq.symm ((i4_s hp).trans rfl)) ?_
  refine e_aload_n dX4_init_41 0 rfl rfl rfl ?_
  refine e_iconst 4 dX4_init_42 rfl ?_
  refine e_newi (n := 4) (L := 62) dX4_init_43 rfl (by decide) (by decide) (by decide) (i4_l hp rfl) ?_
  refine E_mem (M' := pre ++ (.inr (4, fsJ 5) :: twZ.take 6)) (Eq.symm (i4_p.trans rfl)) ?_
  refine E_widX (kc' := 6) (ks' := 260) (by decide) (by decide) ?_
  refine e_putf dX4_init_45 rfl pX4_26 (fun _ => rfl) (i4_o hp) (Nat.le_of_ble_eq_true rfl) rfl ?_
  refine E_mem (M' := pre ++ (.inr (4, fsJ 6) :: twZ.take 6)) (Eq.symm ((i4_s hp).trans rfl)) ?_
  refine e_aload_n dX4_init_48 0 rfl rfl rfl ?_
  refine e_bipush 48 dX4_init_49 rfl ?_
  refine e_newi (n := 48) (L := 63) dX4_init_51 rfl (by decide) (by decide) (by decide) (i4_l hp rfl) ?_
  refine E_mem (M' := pre ++ (.inr (4, fsJ 6) :: twZ.take 7)) (Eq.symm (i4_p.trans rfl)) ?_
  refine E_widX (kc' := 7) (ks' := 308) (by decide) (by decide) ?_
  refine e_putf dX4_init_53 rfl pX4_29 (fun _ => rfl) (i4_o hp) (Nat.le_of_ble_eq_true rfl) rfl ?_
  refine E_mem (M' := pre ++ (.inr (4, fsJ 7) :: twZ.take 7)) (Eq.symm ((i4_s hp).trans rfl)) ?_
  refine e_aload_n dX4_init_56 0 rfl rfl rfl ?_
  refine e_sipush 336 dX4_init_57 rfl ?_
  refine e_newi (n := 336) (L := 64) dX4_init_60 rfl (by decide) (by decide) (by decide) (i4_l hp rfl) ?_
  refine E_mem (M' := pre ++ (.inr (4, fsJ 7) :: twZ.take 8)) (Eq.symm (i4_p.trans rfl)) ?_
  refine E_widX (kc' := 8) (ks' := 644) (by decide) (by decide) ?_
  refine e_putf dX4_init_62 rfl pX4_32 (fun _ => rfl) (i4_o hp) (Nat.le_of_ble_eq_true rfl) rfl ?_
  refine E_mem (M' := pre ++ (.inr (4, fsJ 8) :: twZ.take 8)) (Eq.symm ((i4_s hp).trans rfl)) ?_
  refine e_aload_n dX4_init_65 0 rfl rfl rfl ?_
  refine e_bipush 84 dX4_init_66 rfl ?_
  refine e_newi (n := 84) (L := 65) dX4_init_68 rfl (by decide) (by decide) (by decide) (i4_l hp rfl) ?_
  refine E_mem (M' := pre ++ (.inr (4, fsJ 8) :: twZ.take 9)) (Eq.symm (i4_p.trans rfl)) ?_
  refine E_widX (kc' := 9) (ks' := 728) (by decide) (by decide) ?_
  refine e_putf dX4_init_70 rfl pX4_35 (fun _ => rfl) (i4_o hp) (Nat.le_of_ble_eq_true rfl) rfl ?_
  refine E_mem (M' := pre ++ (.inr (4, fsJ 9) :: twZ.take 9)) (Eq.symm ((i4_s hp).trans rfl)) ?_
  refine e_aload_n dX4_init_73 0 rfl rfl rfl ?_
  refine e_iconst 4 dX4_init_74 rfl ?_
  refine e_newi (n := 4) (L := 66) dX4_init_75 rfl (by decide) (by decide) (by decide) (i4_l hp rfl) ?_
  refine E_mem (M' := pre ++ (.inr (4, fsJ 9) :: twZ.take 10)) (Eq.symm (i4_p.trans rfl)) ?_
  refine E_widX (kc' := 10) (ks' := 732) (by decide) (by decide) ?_
  refine e_putf dX4_init_77 rfl pX4_38 (fun _ => rfl) (i4_o hp) (Nat.le_of_ble_eq_true rfl) rfl ?_
  refine E_mem (M' := pre ++ (.inr (4, fsJ 10) :: twZ.take 10)) (Eq.symm ((i4_s hp).trans rfl)) ?_
  refine e_aload_n dX4_init_80 0 rfl rfl rfl ?_
  refine e_bipush 80 dX4_init_81 rfl ?_
  refine e_newi (n := 80) (L := 67) dX4_init_83 rfl (by decide) (by decide) (by decide) (i4_l hp rfl) ?_
  refine E_mem (M' := pre ++ (.inr (4, fsJ 10) :: twZ.take 11)) (Eq.symm (i4_p.trans rfl)) ?_
  refine E_widX (kc' := 11) (ks' := 812) (by decide) (by decide) ?_
  refine e_putf dX4_init_85 rfl pX4_41 (fun _ => rfl) (i4_o hp) (Nat.le_of_ble_eq_true rfl) rfl ?_
  refine E_mem (M' := pre ++ (.inr (4, fsJ 11) :: twZ.take 11)) (Eq.symm ((i4_s hp).trans rfl)) ?_
  refine e_aload_n dX4_init_88 0 rfl rfl rfl ?_
  refine e_bipush 80 dX4_init_89 rfl ?_
  refine e_newi (n := 80) (L := 68) dX4_init_91 rfl (by decide) (by decide) (by decide) (i4_l hp rfl) ?_
  refine E_mem (M' := pre ++ (.inr (4, fsJ 11) :: twZ.take 12)) (Eq.symm (i4_p.trans rfl)) ?_
  refine E_widX (kc' := 12) (ks' := 892) (by decide) (by decide) ?_
  refine e_putf dX4_init_93 rfl pX4_44 (fun _ => rfl) (i4_o hp) (Nat.le_of_ble_eq_true rfl) rfl ?_
  refine E_mem (M' := pre ++ (.inr (4, fsJ 12) :: twZ.take 12)) (Eq.symm ((i4_s hp).trans rfl)) ?_
  refine e_aload_n dX4_init_96 0 rfl rfl rfl ?_
  refine e_bipush 80 dX4_init_97 rfl ?_
  refine e_newi (n := 80) (L := 69) dX4_init_99 rfl (by decide) (by decide) (by decide) (i4_l hp rfl) ?_
  refine E_mem (M' := pre ++ (.inr (4, fsJ 12) :: twZ.take 13)) (Eq.symm (i4_p.trans rfl)) ?_
  refine E_widX (kc' := 13) (ks' := 972) (by decide) (by decide) ?_
  refine e_putf dX4_init_101 rfl pX4_47 (fun _ => rfl) (i4_o hp) (Nat.le_of_ble_eq_true rfl) rfl ?_
  refine E_mem (M' := pre ++ (.inr (4, fsJ 13) :: twZ.take 13)) (Eq.symm ((i4_s hp).trans rfl)) ?_
  refine e_aload_n dX4_init_104 0 rfl rfl rfl ?_
  refine e_bipush 80 dX4_init_105 rfl ?_
  refine e_newi (n := 80) (L := 70) dX4_init_107 rfl (by decide) (by decide) (by decide) (i4_l hp rfl) ?_
  refine E_mem (M' := pre ++ (.inr (4, fsJ 13) :: twZ.take 14)) (Eq.symm (i4_p.trans rfl)) ?_
  refine E_widX (kc' := 14) (ks' := 1052) (by decide) (by decide) ?_
  refine e_putf dX4_init_109 rfl pX4_50 (fun _ => rfl) (i4_o hp) (Nat.le_of_ble_eq_true rfl) rfl ?_
  refine E_mem (M' := pre ++ (.inr (4, fsJ 14) :: twZ.take 14)) (Eq.symm ((i4_s hp).trans rfl)) ?_
  refine e_aload_n dX4_init_112 0 rfl rfl rfl ?_
  refine e_bipush 12 dX4_init_113 rfl ?_
  refine e_newz (n := 12) (L := 71) dX4_init_115 rfl (by decide) (by decide) (by decide) (i4_l hp rfl) ?_
  refine E_mem (M' := pre ++ (.inr (4, fsJ 14) :: twZ.take 15)) (Eq.symm (i4_p.trans rfl)) ?_
  refine E_widX (kc' := 15) (ks' := 1064) (by decide) (by decide) ?_
  refine e_putf dX4_init_117 rfl pX4_53 (fun _ => rfl) (i4_o hp) (Nat.le_of_ble_eq_true rfl) rfl ?_
  refine E_mem (M' := pre ++ (.inr (4, fsJ 15) :: twZ.take 15)) (Eq.symm ((i4_s hp).trans rfl)) ?_
  refine e_aload_n dX4_init_120 0 rfl rfl rfl ?_
  refine e_iconst (-1) dX4_init_121 rfl ?_
  refine e_putf dX4_init_122 rfl pX4_57 (fun h => by cases h) (i4_o hp) (Nat.le_of_ble_eq_true rfl) rfl ?_
  refine E_mem (M' := pre ++ (.inr (4, fsJ 16) :: twZ.take 15)) (Eq.symm ((i4_s hp).trans rfl)) ?_
  refine e_aload_n dX4_init_125 0 rfl rfl rfl ?_
  refine e_iconst (-1) dX4_init_126 rfl ?_
  refine e_putf dX4_init_127 rfl pX4_61 (fun h => by cases h) (i4_o hp) (Nat.le_of_ble_eq_true rfl) rfl ?_
  refine E_mem (M' := pre ++ (.inr (4, fsJ 17) :: twZ.take 15)) (Eq.symm ((i4_s hp).trans rfl)) ?_
  refine e_aload_n dX4_init_130 0 rfl rfl rfl ?_
  refine e_bipush 7 dX4_init_131 rfl ?_
  refine e_newl (n := 7) (L := 72) dX4_init_133 rfl (by decide) (by decide) (by decide) (i4_l hp rfl) ?_
  refine E_mem (M' := pre ++ (.inr (4, fsJ 17) :: twZ.take 16)) (Eq.symm (i4_p.trans rfl)) ?_
  refine E_widX (kc' := 16) (ks' := 1071) (by decide) (by decide) ?_
  refine e_putf dX4_init_135 rfl pX4_64 (fun _ => rfl) (i4_o hp) (Nat.le_of_ble_eq_true rfl) rfl ?_
  refine E_mem (M' := pre ++ (.inr (4, fsJ 18) :: twZ.take 16)) (Eq.symm ((i4_s hp).trans rfl)) ?_
  refine e_aload_n dX4_init_138 0 rfl rfl rfl ?_
  refine e_bipush 60 dX4_init_139 rfl ?_
  refine e_newl (n := 60) (L := 73) dX4_init_141 rfl (by decide) (by decide) (by decide) (i4_l hp rfl) ?_
  refine E_mem (M' := pre ++ (.inr (4, fsJ 18) :: twZ.take 17)) (Eq.symm (i4_p.trans rfl)) ?_
  refine E_widX (kc' := 17) (ks' := 1131) (by decide) (by decide) ?_
  refine e_putf dX4_init_143 rfl pX4_67 (fun _ => rfl) (i4_o hp) (Nat.le_of_ble_eq_true rfl) rfl ?_
  refine E_mem (M' := pre ++ (.inr (4, fsJ 19) :: twZ.take 17)) (Eq.symm ((i4_s hp).trans rfl)) ?_
  refine e_aload_n dX4_init_146 0 rfl rfl rfl ?_
  refine e_sipush 500 dX4_init_147 rfl ?_
  refine e_newb (n := 500) (L := 74) dX4_init_150 rfl (by decide) (by decide) (by decide) (i4_l hp rfl) ?_
  refine E_mem (M' := pre ++ (.inr (4, fsJ 19) :: twZ.take 18)) (Eq.symm (i4_p.trans rfl)) ?_
  refine E_widX (kc' := 18) (ks' := 1631) (by decide) (by decide) ?_
  refine e_putf dX4_init_152 rfl pX4_70 (fun _ => rfl) (i4_o hp) (Nat.le_of_ble_eq_true rfl) rfl ?_
  refine E_mem (M' := pre ++ (.inr (4, fsJ 20) :: twZ.take 18)) (Eq.symm ((i4_s hp).trans rfl)) ?_
  refine e_aload_n dX4_init_155 0 rfl rfl rfl ?_
  refine e_iconst (-1) dX4_init_156 rfl ?_
  refine e_putf dX4_init_157 rfl pX4_74 (fun h => by cases h) (i4_o hp) (Nat.le_of_ble_eq_true rfl) rfl ?_
  refine E_mem (M' := pre ++ (.inr (4, fsJ 21) :: twZ.take 18)) (Eq.symm ((i4_s hp).trans rfl)) ?_
  refine e_aload_n dX4_init_160 0 rfl rfl rfl ?_
  refine e_iconst (-1) dX4_init_161 rfl ?_
  refine e_putf dX4_init_162 rfl pX4_77 (fun h => by cases h) (i4_o hp) (Nat.le_of_ble_eq_true rfl) rfl ?_
  refine E_mem (M' := pre ++ (.inr (4, fsJ 22) :: twZ.take 18)) (Eq.symm ((i4_s hp).trans rfl)) ?_
  refine e_aload_n dX4_init_165 0 rfl rfl rfl ?_
  refine e_iconst (-1) dX4_init_166 rfl ?_
  refine e_putf dX4_init_167 rfl pX4_80 (fun h => by cases h) (i4_o hp) (Nat.le_of_ble_eq_true rfl) rfl ?_
  refine E_mem (M' := pre ++ (.inr (4, fsJ 23) :: twZ.take 18)) (Eq.symm ((i4_s hp).trans rfl)) ?_
  refine e_aload_n dX4_init_170 0 rfl rfl rfl ?_
  refine e_bipush 40 dX4_init_171 rfl ?_
  refine e_newi (n := 40) (L := 75) dX4_init_173 rfl (by decide) (by decide) (by decide) (i4_l hp rfl) ?_
  refine E_mem (M' := pre ++ (.inr (4, fsJ 23) :: twZ.take 19)) (Eq.symm (i4_p.trans rfl)) ?_
  refine E_widX (kc' := 19) (ks' := 1671) (by decide) (by decide) ?_
  refine e_putf dX4_init_175 rfl pX4_83 (fun _ => rfl) (i4_o hp) (Nat.le_of_ble_eq_true rfl) rfl ?_
  refine E_mem (M' := pre ++ (.inr (4, fsJ 24) :: twZ.take 19)) (Eq.symm ((i4_s hp).trans rfl)) ?_
  refine e_aload_n dX4_init_178 0 rfl rfl rfl ?_
  refine e_bipush 40 dX4_init_179 rfl ?_
  refine e_newi (n := 40) (L := 76) dX4_init_181 rfl (by decide) (by decide) (by decide) (i4_l hp rfl) ?_
  refine E_mem (M' := pre ++ (.inr (4, fsJ 24) :: twZ.take 20)) (Eq.symm (i4_p.trans rfl)) ?_
  refine E_widX (kc' := 20) (ks' := 1711) (by decide) (by decide) ?_
  refine e_putf dX4_init_183 rfl pX4_86 (fun _ => rfl) (i4_o hp) (Nat.le_of_ble_eq_true rfl) rfl ?_
  refine E_mem (M' := pre ++ (.inr (4, fsJ 25) :: twZ.take 20)) (Eq.symm ((i4_s hp).trans rfl)) ?_
  refine e_aload_n dX4_init_186 0 rfl rfl rfl ?_
  refine e_bipush 40 dX4_init_187 rfl ?_
  refine e_newi (n := 40) (L := 77) dX4_init_189 rfl (by decide) (by decide) (by decide) (i4_l hp rfl) ?_
  refine E_mem (M' := pre ++ (.inr (4, fsJ 25) :: twZ.take 21)) (Eq.symm (i4_p.trans rfl)) ?_
  refine E_widX (kc' := 21) (ks' := 1751) (by decide) (by decide) ?_
  refine e_putf dX4_init_191 rfl pX4_89 (fun _ => rfl) (i4_o hp) (Nat.le_of_ble_eq_true rfl) rfl ?_
  refine E_mem (M' := pre ++ (.inr (4, fsJ 26) :: twZ.take 21)) (Eq.symm ((i4_s hp).trans rfl)) ?_
  refine e_aload_n dX4_init_194 0 rfl rfl rfl ?_
  refine e_bipush 40 dX4_init_195 rfl ?_
  refine e_newi (n := 40) (L := 78) dX4_init_197 rfl (by decide) (by decide) (by decide) (i4_l hp rfl) ?_
  refine E_mem (M' := pre ++ (.inr (4, fsJ 26) :: twZ.take 22)) (Eq.symm (i4_p.trans rfl)) ?_
  refine E_widX (kc' := 22) (ks' := 1791) (by decide) (by decide) ?_
  refine e_putf dX4_init_199 rfl pX4_92 (fun _ => rfl) (i4_o hp) (Nat.le_of_ble_eq_true rfl) rfl ?_
  refine E_mem (M' := pre ++ (.inr (4, fsJ 27) :: twZ.take 22)) (Eq.symm ((i4_s hp).trans rfl)) ?_
  refine e_aload_n dX4_init_202 0 rfl rfl rfl ?_
  refine e_bipush 40 dX4_init_203 rfl ?_
  refine e_newi (n := 40) (L := 79) dX4_init_205 rfl (by decide) (by decide) (by decide) (i4_l hp rfl) ?_
  refine E_mem (M' := pre ++ (.inr (4, fsJ 27) :: twZ.take 23)) (Eq.symm (i4_p.trans rfl)) ?_
  refine E_widX (kc' := 23) (ks' := 1831) (by decide) (by decide) ?_
  refine e_putf dX4_init_207 rfl pX4_95 (fun _ => rfl) (i4_o hp) (Nat.le_of_ble_eq_true rfl) rfl ?_
  refine E_mem (M' := pre ++ (.inr (4, fsJ 28) :: twZ.take 23)) (Eq.symm ((i4_s hp).trans rfl)) ?_
  refine e_aload_n dX4_init_210 0 rfl rfl rfl ?_
  refine e_bipush 40 dX4_init_211 rfl ?_
  refine e_newi (n := 40) (L := 80) dX4_init_213 rfl (by decide) (by decide) (by decide) (i4_l hp rfl) ?_
  refine E_mem (M' := pre ++ (.inr (4, fsJ 28) :: twZ.take 24)) (Eq.symm (i4_p.trans rfl)) ?_
  refine E_widX (kc' := 24) (ks' := 1871) (by decide) (by decide) ?_
  refine e_putf dX4_init_215 rfl pX4_98 (fun _ => rfl) (i4_o hp) (Nat.le_of_ble_eq_true rfl) rfl ?_
  refine E_mem (M' := pre ++ (.inr (4, fsJ 29) :: twZ.take 24)) (Eq.symm ((i4_s hp).trans rfl)) ?_
  refine e_aload_n dX4_init_218 0 rfl rfl rfl ?_
  refine e_bipush 40 dX4_init_219 rfl ?_
  refine e_newi (n := 40) (L := 81) dX4_init_221 rfl (by decide) (by decide) (by decide) (i4_l hp rfl) ?_
  refine E_mem (M' := pre ++ (.inr (4, fsJ 29) :: twZ.take 25)) (Eq.symm (i4_p.trans rfl)) ?_
  refine E_widX (kc' := 25) (ks' := 1911) (by decide) (by decide) ?_
  refine e_putf dX4_init_223 rfl pX4_101 (fun _ => rfl) (i4_o hp) (Nat.le_of_ble_eq_true rfl) rfl ?_
  refine E_mem (M' := pre ++ (.inr (4, fsJ 30) :: twZ.take 25)) (Eq.symm ((i4_s hp).trans rfl)) ?_
  refine e_aload_n dX4_init_226 0 rfl rfl rfl ?_
  refine e_bipush 40 dX4_init_227 rfl ?_
  refine e_newi (n := 40) (L := 82) dX4_init_229 rfl (by decide) (by decide) (by decide) (i4_l hp rfl) ?_
  refine E_mem (M' := pre ++ (.inr (4, fsJ 30) :: twZ.take 26)) (Eq.symm (i4_p.trans rfl)) ?_
  refine E_widX (kc' := 26) (ks' := 1951) (by decide) (by decide) ?_
  refine e_putf dX4_init_231 rfl pX4_104 (fun _ => rfl) (i4_o hp) (Nat.le_of_ble_eq_true rfl) rfl ?_
  refine E_mem (M' := pre ++ (.inr (4, fsJ 31) :: twZ.take 26)) (Eq.symm ((i4_s hp).trans rfl)) ?_
  refine e_aload_n dX4_init_234 0 rfl rfl rfl ?_
  refine e_bipush 40 dX4_init_235 rfl ?_
  refine e_newi (n := 40) (L := 83) dX4_init_237 rfl (by decide) (by decide) (by decide) (i4_l hp rfl) ?_
  refine E_mem (M' := pre ++ (.inr (4, fsJ 31) :: twZ.take 27)) (Eq.symm (i4_p.trans rfl)) ?_
  refine E_widX (kc' := 27) (ks' := 1991) (by decide) (by decide) ?_
  refine e_putf dX4_init_239 rfl pX4_107 (fun _ => rfl) (i4_o hp) (Nat.le_of_ble_eq_true rfl) rfl ?_
  refine E_mem (M' := pre ++ (.inr (4, fsJ 32) :: twZ.take 27)) (Eq.symm ((i4_s hp).trans rfl)) ?_
  refine e_aload_n dX4_init_242 0 rfl rfl rfl ?_
  refine e_bipush 40 dX4_init_243 rfl ?_
  refine e_newi (n := 40) (L := 84) dX4_init_245 rfl (by decide) (by decide) (by decide) (i4_l hp rfl) ?_
  refine E_mem (M' := pre ++ (.inr (4, fsJ 32) :: twZ.take 28)) (Eq.symm (i4_p.trans rfl)) ?_
  refine E_widX (kc' := 28) (ks' := 2031) (by decide) (by decide) ?_
  refine e_putf dX4_init_247 rfl pX4_110 (fun _ => rfl) (i4_o hp) (Nat.le_of_ble_eq_true rfl) rfl ?_
  refine E_mem (M' := pre ++ (.inr (4, fsJ 33) :: twZ.take 28)) (Eq.symm ((i4_s hp).trans rfl)) ?_
  refine e_aload_n dX4_init_250 0 rfl rfl rfl ?_
  refine e_bipush 40 dX4_init_251 rfl ?_
  refine e_newi (n := 40) (L := 85) dX4_init_253 rfl (by decide) (by decide) (by decide) (i4_l hp rfl) ?_
  refine E_mem (M' := pre ++ (.inr (4, fsJ 33) :: twZ.take 29)) (Eq.symm (i4_p.trans rfl)) ?_
  refine E_widX (kc' := 29) (ks' := 2071) (by decide) (by decide) ?_
  refine e_putf dX4_init_255 rfl pX4_113 (fun _ => rfl) (i4_o hp) (Nat.le_of_ble_eq_true rfl) rfl ?_
  refine E_mem (M' := pre ++ (.inr (4, fsJ 34) :: twZ.take 29)) (Eq.symm ((i4_s hp).trans rfl)) ?_
  refine e_aload_n dX4_init_258 0 rfl rfl rfl ?_
  refine e_bipush 40 dX4_init_259 rfl ?_
  refine e_newi (n := 40) (L := 86) dX4_init_261 rfl (by decide) (by decide) (by decide) (i4_l hp rfl) ?_
  refine E_mem (M' := pre ++ (.inr (4, fsJ 34) :: twZ.take 30)) (Eq.symm (i4_p.trans rfl)) ?_
  refine E_widX (kc' := 30) (ks' := 2111) (by decide) (by decide) ?_
  refine e_putf dX4_init_263 rfl pX4_116 (fun _ => rfl) (i4_o hp) (Nat.le_of_ble_eq_true rfl) rfl ?_
  refine E_mem (M' := pre ++ (.inr (4, fsJ 35) :: twZ.take 30)) (Eq.symm ((i4_s hp).trans rfl)) ?_
  refine e_aload_n dX4_init_266 0 rfl rfl rfl ?_
  refine e_bipush 40 dX4_init_267 rfl ?_
  refine e_newi (n := 40) (L := 87) dX4_init_269 rfl (by decide) (by decide) (by decide) (i4_l hp rfl) ?_
  refine E_mem (M' := pre ++ (.inr (4, fsJ 35) :: twZ.take 31)) (Eq.symm (i4_p.trans rfl)) ?_
  refine E_widX (kc' := 31) (ks' := 2151) (by decide) (by decide) ?_
  refine e_putf dX4_init_271 rfl pX4_119 (fun _ => rfl) (i4_o hp) (Nat.le_of_ble_eq_true rfl) rfl ?_
  refine E_mem (M' := pre ++ (.inr (4, fsJ 36) :: twZ.take 31)) (Eq.symm ((i4_s hp).trans rfl)) ?_
  refine e_aload_n dX4_init_274 0 rfl rfl rfl ?_
  refine e_bipush 40 dX4_init_275 rfl ?_
  refine e_newl (n := 40) (L := 88) dX4_init_277 rfl (by decide) (by decide) (by decide) (i4_l hp rfl) ?_
  refine E_mem (M' := pre ++ (.inr (4, fsJ 36) :: twZ.take 32)) (Eq.symm (i4_p.trans rfl)) ?_
  refine E_widX (kc' := 32) (ks' := 2191) (by decide) (by decide) ?_
  refine e_putf dX4_init_279 rfl pX4_122 (fun _ => rfl) (i4_o hp) (Nat.le_of_ble_eq_true rfl) rfl ?_
  refine E_mem (M' := pre ++ (.inr (4, fsJ 37) :: twZ.take 32)) (Eq.symm ((i4_s hp).trans rfl)) ?_
  refine e_aload_n dX4_init_282 0 rfl rfl rfl ?_
  refine e_bipush 40 dX4_init_283 rfl ?_
  refine e_newl (n := 40) (L := 89) dX4_init_285 rfl (by decide) (by decide) (by decide) (i4_l hp rfl) ?_
  refine E_mem (M' := pre ++ (.inr (4, fsJ 37) :: twZ.take 33)) (Eq.symm (i4_p.trans rfl)) ?_
  refine E_widX (kc' := 33) (ks' := 2231) (by decide) (by decide) ?_
  refine e_putf dX4_init_287 rfl pX4_125 (fun _ => rfl) (i4_o hp) (Nat.le_of_ble_eq_true rfl) rfl ?_
  refine E_mem (M' := pre ++ (.inr (4, fsJ 38) :: twZ.take 33)) (Eq.symm ((i4_s hp).trans rfl)) ?_
  refine e_aload_n dX4_init_290 0 rfl rfl rfl ?_
  refine e_bipush 20 dX4_init_291 rfl ?_
  refine e_newl (n := 20) (L := 90) dX4_init_293 rfl (by decide) (by decide) (by decide) (i4_l hp rfl) ?_
  refine E_mem (M' := pre ++ (.inr (4, fsJ 38) :: twZ.take 34)) (Eq.symm (i4_p.trans rfl)) ?_
  refine E_widX (kc' := 34) (ks' := 2251) (by decide) (by decide) ?_
  refine e_putf dX4_init_295 rfl pX4_128 (fun _ => rfl) (i4_o hp) (Nat.le_of_ble_eq_true rfl) rfl ?_
  refine E_mem (M' := pre ++ (.inr (4, fsJ 39) :: twZ.take 34)) (Eq.symm ((i4_s hp).trans rfl)) ?_
  refine e_aload_n dX4_init_298 0 rfl rfl rfl ?_
  refine e_bipush 40 dX4_init_299 rfl ?_
  refine e_newl (n := 40) (L := 91) dX4_init_301 rfl (by decide) (by decide) (by decide) (i4_l hp rfl) ?_
  refine E_mem (M' := pre ++ (.inr (4, fsJ 39) :: twZ.take 35)) (Eq.symm (i4_p.trans rfl)) ?_
  refine E_widX (kc' := 35) (ks' := 2291) (by decide) (by decide) ?_
  refine e_putf dX4_init_303 rfl pX4_131 (fun _ => rfl) (i4_o hp) (Nat.le_of_ble_eq_true rfl) rfl ?_
  refine E_mem (M' := pre ++ (.inr (4, fsJ 40) :: twZ.take 35)) (Eq.symm ((i4_s hp).trans rfl)) ?_
  refine e_aload_n dX4_init_306 0 rfl rfl rfl ?_
  refine e_iconst (-1) dX4_init_307 rfl ?_
  refine e_putf dX4_init_308 rfl pX4_134 (fun h => by cases h) (i4_o hp) (Nat.le_of_ble_eq_true rfl) rfl ?_
  refine E_mem (M' := pre ++ (.inr (4, fsJ 41) :: twZ.take 35)) (Eq.symm ((i4_s hp).trans rfl)) ?_
  refine e_aload_n dX4_init_311 0 rfl rfl rfl ?_
  refine e_bipush 28 dX4_init_312 rfl ?_
  refine e_newi (n := 28) (L := 92) dX4_init_314 rfl (by decide) (by decide) (by decide) (i4_l hp rfl) ?_
  refine E_mem (M' := pre ++ (.inr (4, fsJ 41) :: twZ.take 36)) (Eq.symm (i4_p.trans rfl)) ?_
  refine E_widX (kc' := 36) (ks' := 2319) (by decide) (by decide) ?_
  refine e_putf dX4_init_316 rfl pX4_137 (fun _ => rfl) (i4_o hp) (Nat.le_of_ble_eq_true rfl) rfl ?_
  refine E_mem (M' := pre ++ (.inr (4, fsJ 42) :: twZ.take 36)) (Eq.symm ((i4_s hp).trans rfl)) ?_
  refine e_aload_n dX4_init_319 0 rfl rfl rfl ?_
  refine e_bipush 13 dX4_init_320 rfl ?_
  refine e_newi (n := 13) (L := 93) dX4_init_322 rfl (by decide) (by decide) (by decide) (i4_l hp rfl) ?_
  refine E_mem (M' := pre ++ (.inr (4, fsJ 42) :: twZ.take 37)) (Eq.symm (i4_p.trans rfl)) ?_
  refine E_widX (kc' := 37) (ks' := 2332) (by decide) (by decide) ?_
  refine e_putf dX4_init_324 rfl pX4_140 (fun _ => rfl) (i4_o hp) (Nat.le_of_ble_eq_true rfl) rfl ?_
  refine E_mem (M' := pre ++ (.inr (4, fsJ 43) :: twZ.take 37)) (Eq.symm ((i4_s hp).trans rfl)) ?_
  refine e_aload_n dX4_init_327 0 rfl rfl rfl ?_
  refine e_bipush 14 dX4_init_328 rfl ?_
  refine e_newi (n := 14) (L := 94) dX4_init_330 rfl (by decide) (by decide) (by decide) (i4_l hp rfl) ?_
  refine E_mem (M' := pre ++ (.inr (4, fsJ 43) :: twZ.take 38)) (Eq.symm (i4_p.trans rfl)) ?_
  refine E_widX (kc' := 38) (ks' := 2346) (by decide) (by decide) ?_
  refine e_putf dX4_init_332 rfl pX4_143 (fun _ => rfl) (i4_o hp) (Nat.le_of_ble_eq_true rfl) rfl ?_
  refine E_mem (M' := pre ++ (.inr (4, fsJ 44) :: twZ.take 38)) (Eq.symm ((i4_s hp).trans rfl)) ?_
  refine e_aload_n dX4_init_335 0 rfl rfl rfl ?_
  refine e_bipush 20 dX4_init_336 rfl ?_
  refine e_newl (n := 20) (L := 95) dX4_init_338 rfl (by decide) (by decide) (by decide) (i4_l hp rfl) ?_
  refine E_mem (M' := pre ++ (.inr (4, fsJ 44) :: twZ.take 39)) (Eq.symm (i4_p.trans rfl)) ?_
  refine E_widX (kc' := 39) (ks' := 2366) (by decide) (by decide) ?_
  refine e_putf dX4_init_340 rfl pX4_146 (fun _ => rfl) (i4_o hp) (Nat.le_of_ble_eq_true rfl) rfl ?_
  refine E_mem (M' := pre ++ (.inr (4, fsJ 45) :: twZ.take 39)) (Eq.symm ((i4_s hp).trans rfl)) ?_
  refine e_aload_n dX4_init_343 0 rfl rfl rfl ?_
  refine e_bipush 20 dX4_init_344 rfl ?_
  refine e_newl (n := 20) (L := 96) dX4_init_346 rfl (by decide) (by decide) (by decide) (i4_l hp rfl) ?_
  refine E_mem (M' := pre ++ (.inr (4, fsJ 45) :: twZ.take 40)) (Eq.symm (i4_p.trans rfl)) ?_
  refine E_widX (kc' := 40) (ks' := 2386) (by decide) (by decide) ?_
  refine e_putf dX4_init_348 rfl pX4_149 (fun _ => rfl) (i4_o hp) (Nat.le_of_ble_eq_true rfl) rfl ?_
  refine E_mem (M' := pre ++ (.inr (4, fsJ 46) :: twZ.take 40)) (Eq.symm ((i4_s hp).trans rfl)) ?_
  refine e_aload_n dX4_init_351 0 rfl rfl rfl ?_
  refine e_sipush 1600 dX4_init_352 rfl ?_
  refine e_newl (n := 1600) (L := 97) dX4_init_355 rfl (by decide) (by decide) (by decide) (i4_l hp rfl) ?_
  refine E_mem (M' := pre ++ (.inr (4, fsJ 46) :: twZ.take 41)) (Eq.symm (i4_p.trans rfl)) ?_
  refine E_widX (kc' := 41) (ks' := 3986) (by decide) (by decide) ?_
  refine e_putf dX4_init_357 rfl pX4_152 (fun _ => rfl) (i4_o hp) (Nat.le_of_ble_eq_true rfl) rfl ?_
  refine E_mem (M' := pre ++ (.inr (4, fsJ 47) :: twZ.take 41)) (Eq.symm ((i4_s hp).trans rfl)) ?_
  refine e_aload_n dX4_init_360 0 rfl rfl rfl ?_
  refine e_bipush 20 dX4_init_361 rfl ?_
  refine e_newi (n := 20) (L := 98) dX4_init_363 rfl (by decide) (by decide) (by decide) (i4_l hp rfl) ?_
  refine E_mem (M' := pre ++ (.inr (4, fsJ 47) :: twZ.take 42)) (Eq.symm (i4_p.trans rfl)) ?_
  refine E_widX (kc' := 42) (ks' := 4006) (by decide) (by decide) ?_
  refine e_putf dX4_init_365 rfl pX4_155 (fun _ => rfl) (i4_o hp) (Nat.le_of_ble_eq_true rfl) rfl ?_
  refine E_mem (M' := pre ++ (.inr (4, fsJ 48) :: twZ.take 42)) (Eq.symm ((i4_s hp).trans rfl)) ?_
  refine e_aload_n dX4_init_368 0 rfl rfl rfl ?_
  refine e_iconst 2 dX4_init_369 rfl ?_
  refine e_newi (n := 2) (L := 99) dX4_init_370 rfl (by decide) (by decide) (by decide) (i4_l hp rfl) ?_
  refine E_mem (M' := pre ++ (.inr (4, fsJ 48) :: twZ.take 43)) (Eq.symm (i4_p.trans rfl)) ?_
  refine E_widX (kc' := 43) (ks' := 4008) (by decide) (by decide) ?_
  refine e_putf dX4_init_372 rfl pX4_158 (fun _ => rfl) (i4_o hp) (Nat.le_of_ble_eq_true rfl) rfl ?_
  refine E_mem (M' := pre ++ (.inr (4, fsJ 49) :: twZ.take 43)) (Eq.symm ((i4_s hp).trans rfl)) ?_
  refine e_aload_n dX4_init_375 0 rfl rfl rfl ?_
  refine e_iconst 2 dX4_init_376 rfl ?_
  refine e_newi (n := 2) (L := 100) dX4_init_377 rfl (by decide) (by decide) (by decide) (i4_l hp rfl) ?_
  refine E_mem (M' := pre ++ (.inr (4, fsJ 49) :: twZ.take 44)) (Eq.symm (i4_p.trans rfl)) ?_
  refine E_widX (kc' := 44) (ks' := 4010) (by decide) (by decide) ?_
  refine e_putf dX4_init_379 rfl pX4_161 (fun _ => rfl) (i4_o hp) (Nat.le_of_ble_eq_true rfl) rfl ?_
  refine E_mem (M' := pre ++ (.inr (4, fsJ 50) :: twZ.take 44)) (Eq.symm ((i4_s hp).trans rfl)) ?_
  refine e_aload_n dX4_init_382 0 rfl rfl rfl ?_
  refine e_bipush 100 dX4_init_383 rfl ?_
  refine e_newi (n := 100) (L := 101) dX4_init_385 rfl (by decide) (by decide) (by decide) (i4_l hp rfl) ?_
  refine E_mem (M' := pre ++ (.inr (4, fsJ 50) :: twZ.take 45)) (Eq.symm (i4_p.trans rfl)) ?_
  refine E_widX (kc' := 45) (ks' := 4110) (by decide) (by decide) ?_
  refine e_putf dX4_init_387 rfl pX4_164 (fun _ => rfl) (i4_o hp) (Nat.le_of_ble_eq_true rfl) rfl ?_
  refine E_mem (M' := pre ++ (.inr (4, fsJ 51) :: twZ.take 45)) (Eq.symm ((i4_s hp).trans rfl)) ?_
  refine e_aload_n dX4_init_390 0 rfl rfl rfl ?_
  refine e_bipush 100 dX4_init_391 rfl ?_
  refine e_newi (n := 100) (L := 102) dX4_init_393 rfl (by decide) (by decide) (by decide) (i4_l hp rfl) ?_
  refine E_mem (M' := pre ++ (.inr (4, fsJ 51) :: twZ.take 46)) (Eq.symm (i4_p.trans rfl)) ?_
  refine E_widX (kc' := 46) (ks' := 4210) (by decide) (by decide) ?_
  refine e_putf dX4_init_395 rfl pX4_167 (fun _ => rfl) (i4_o hp) (Nat.le_of_ble_eq_true rfl) rfl ?_
  refine E_mem (M' := pre ++ (.inr (4, fsJ 52) :: twZ.take 46)) (Eq.symm ((i4_s hp).trans rfl)) ?_
  refine e_aload_n dX4_init_398 0 rfl rfl rfl ?_
  refine e_bipush 20 dX4_init_399 rfl ?_
  refine e_newi (n := 20) (L := 103) dX4_init_401 rfl (by decide) (by decide) (by decide) (i4_l hp rfl) ?_
  refine E_mem (M' := pre ++ (.inr (4, fsJ 52) :: twZ.take 47)) (Eq.symm (i4_p.trans rfl)) ?_
  refine E_widX (kc' := 47) (ks' := 4230) (by decide) (by decide) ?_
  refine e_putf dX4_init_403 rfl pX4_170 (fun _ => rfl) (i4_o hp) (Nat.le_of_ble_eq_true rfl) rfl ?_
  refine E_mem (M' := pre ++ (.inr (4, fsJ 53) :: twZ.take 47)) (Eq.symm ((i4_s hp).trans rfl)) ?_
  refine e_aload_n dX4_init_406 0 rfl rfl rfl ?_
  refine e_bipush 20 dX4_init_407 rfl ?_
  refine e_newi (n := 20) (L := 104) dX4_init_409 rfl (by decide) (by decide) (by decide) (i4_l hp rfl) ?_
  refine E_mem (M' := pre ++ (.inr (4, fsJ 53) :: twZ.take 48)) (Eq.symm (i4_p.trans rfl)) ?_
  refine E_widX (kc' := 48) (ks' := 4250) (by decide) (by decide) ?_
  refine e_putf dX4_init_411 rfl pX4_173 (fun _ => rfl) (i4_o hp) (Nat.le_of_ble_eq_true rfl) rfl ?_
  refine E_mem (M' := pre ++ (.inr (4, fsJ 54) :: twZ.take 48)) (Eq.symm ((i4_s hp).trans rfl)) ?_
  refine e_aload_n dX4_init_414 0 rfl rfl rfl ?_
  refine e_bipush 60 dX4_init_415 rfl ?_
  refine e_newi (n := 60) (L := 105) dX4_init_417 rfl (by decide) (by decide) (by decide) (i4_l hp rfl) ?_
  refine E_mem (M' := pre ++ (.inr (4, fsJ 54) :: twZ.take 49)) (Eq.symm (i4_p.trans rfl)) ?_
  refine E_widX (kc' := 49) (ks' := 4310) (by decide) (by decide) ?_
  refine e_putf dX4_init_419 rfl pX4_176 (fun _ => rfl) (i4_o hp) (Nat.le_of_ble_eq_true rfl) rfl ?_
  refine E_mem (M' := pre ++ (.inr (4, fsJ 55) :: twZ.take 49)) (Eq.symm ((i4_s hp).trans rfl)) ?_
  refine e_aload_n dX4_init_422 0 rfl rfl rfl ?_
  refine e_bipush 60 dX4_init_423 rfl ?_
  refine e_newi (n := 60) (L := 106) dX4_init_425 rfl (by decide) (by decide) (by decide) (i4_l hp rfl) ?_
  refine E_mem (M' := pre ++ (.inr (4, fsJ 55) :: twZ.take 50)) (Eq.symm (i4_p.trans rfl)) ?_
  refine E_widX (kc' := 50) (ks' := 4370) (by decide) (by decide) ?_
  refine e_putf dX4_init_427 rfl pX4_179 (fun _ => rfl) (i4_o hp) (Nat.le_of_ble_eq_true rfl) rfl ?_
  refine E_mem (M' := pre ++ (.inr (4, fsJ 56) :: twZ.take 50)) (Eq.symm ((i4_s hp).trans rfl)) ?_
  refine e_aload_n dX4_init_430 0 rfl rfl rfl ?_
  refine e_bipush 60 dX4_init_431 rfl ?_
  refine e_newi (n := 60) (L := 107) dX4_init_433 rfl (by decide) (by decide) (by decide) (i4_l hp rfl) ?_
  refine E_mem (M' := pre ++ (.inr (4, fsJ 56) :: twZ.take 51)) (Eq.symm (i4_p.trans rfl)) ?_
  refine E_widX (kc' := 51) (ks' := 4430) (by decide) (by decide) ?_
  refine e_putf dX4_init_435 rfl pX4_182 (fun _ => rfl) (i4_o hp) (Nat.le_of_ble_eq_true rfl) rfl ?_
  refine E_mem (M' := pre ++ (.inr (4, fsJ 57) :: twZ.take 51)) (Eq.symm ((i4_s hp).trans rfl)) ?_
  refine e_aload_n dX4_init_438 0 rfl rfl rfl ?_
  refine e_bipush 7 dX4_init_439 rfl ?_
  refine e_newi (n := 7) (L := 108) dX4_init_441 rfl (by decide) (by decide) (by decide) (i4_l hp rfl) ?_
  refine E_mem (M' := pre ++ (.inr (4, fsJ 57) :: twZ.take 52)) (Eq.symm (i4_p.trans rfl)) ?_
  refine E_widX (kc' := 52) (ks' := 4437) (by decide) (by decide) ?_
  refine e_putf dX4_init_443 rfl pX4_185 (fun _ => rfl) (i4_o hp) (Nat.le_of_ble_eq_true rfl) rfl ?_
  refine E_mem (M' := pre ++ (.inr (4, fsJ 58) :: twZ.take 52)) (Eq.symm ((i4_s hp).trans rfl)) ?_
  refine e_aload_n dX4_init_446 0 rfl rfl rfl ?_
  refine e_bipush 7 dX4_init_447 rfl ?_
  refine e_newi (n := 7) (L := 109) dX4_init_449 rfl (by decide) (by decide) (by decide) (i4_l hp rfl) ?_
  refine E_mem (M' := pre ++ (.inr (4, fsJ 58) :: twZ.take 53)) (Eq.symm (i4_p.trans rfl)) ?_
  refine E_widX (kc' := 53) (ks' := 4444) (by decide) (by decide) ?_
  refine e_putf dX4_init_451 rfl pX4_188 (fun _ => rfl) (i4_o hp) (Nat.le_of_ble_eq_true rfl) rfl ?_
  refine E_mem (M' := pre ++ (.inr (4, fsJ 59) :: twZ.take 53)) (Eq.symm ((i4_s hp).trans rfl)) ?_
  refine e_aload_n dX4_init_454 0 rfl rfl rfl ?_
  refine e_bipush 7 dX4_init_455 rfl ?_
  refine e_newi (n := 7) (L := 110) dX4_init_457 rfl (by decide) (by decide) (by decide) (i4_l hp rfl) ?_
  refine E_mem (M' := pre ++ (.inr (4, fsJ 59) :: twZ.take 54)) (Eq.symm (i4_p.trans rfl)) ?_
  refine E_widX (kc' := 54) (ks' := 4451) (by decide) (by decide) ?_
  refine e_putf dX4_init_459 rfl pX4_191 (fun _ => rfl) (i4_o hp) (Nat.le_of_ble_eq_true rfl) rfl ?_
  refine E_mem (M' := pre ++ (.inr (4, fsJ 60) :: twZ.take 54)) (Eq.symm ((i4_s hp).trans rfl)) ?_
  refine e_aload_n dX4_init_462 0 rfl rfl rfl ?_
  refine e_bipush 7 dX4_init_463 rfl ?_
  refine e_newi (n := 7) (L := 111) dX4_init_465 rfl (by decide) (by decide) (by decide) (i4_l hp rfl) ?_
  refine E_mem (M' := pre ++ (.inr (4, fsJ 60) :: twZ.take 55)) (Eq.symm (i4_p.trans rfl)) ?_
  refine E_widX (kc' := 55) (ks' := 4458) (by decide) (by decide) ?_
  refine e_putf dX4_init_467 rfl pX4_194 (fun _ => rfl) (i4_o hp) (Nat.le_of_ble_eq_true rfl) rfl ?_
  refine E_mem (M' := pre ++ (.inr (4, fsJ 61) :: twZ.take 55)) (Eq.symm ((i4_s hp).trans rfl)) ?_
  refine e_aload_n dX4_init_470 0 rfl rfl rfl ?_
  refine e_bipush 7 dX4_init_471 rfl ?_
  refine e_newi (n := 7) (L := 112) dX4_init_473 rfl (by decide) (by decide) (by decide) (i4_l hp rfl) ?_
  refine E_mem (M' := pre ++ (.inr (4, fsJ 61) :: twZ.take 56)) (Eq.symm (i4_p.trans rfl)) ?_
  refine E_widX (kc' := 56) (ks' := 4465) (by decide) (by decide) ?_
  refine e_putf dX4_init_475 rfl pX4_197 (fun _ => rfl) (i4_o hp) (Nat.le_of_ble_eq_true rfl) rfl ?_
  refine E_mem (M' := pre ++ (.inr (4, fsJ 62) :: twZ.take 56)) (Eq.symm ((i4_s hp).trans rfl)) ?_
  refine e_aload_n dX4_init_478 0 rfl rfl rfl ?_
  refine e_iconst 4 dX4_init_479 rfl ?_
  refine e_newi (n := 4) (L := 113) dX4_init_480 rfl (by decide) (by decide) (by decide) (i4_l hp rfl) ?_
  refine E_mem (M' := pre ++ (.inr (4, fsJ 62) :: twZ.take 57)) (Eq.symm (i4_p.trans rfl)) ?_
  refine E_widX (kc' := 57) (ks' := 4469) (by decide) (by decide) ?_
  refine e_putf dX4_init_482 rfl pX4_200 (fun _ => rfl) (i4_o hp) (Nat.le_of_ble_eq_true rfl) rfl ?_
  refine E_mem (M' := pre ++ (.inr (4, fsJ 63) :: twZ.take 57)) (Eq.symm ((i4_s hp).trans rfl)) ?_
  refine e_aload_n dX4_init_485 0 rfl rfl rfl ?_
  refine e_iconst 5 dX4_init_486 rfl ?_
  refine e_newl (n := 5) (L := 114) dX4_init_487 rfl (by decide) (by decide) (by decide) (i4_l hp rfl) ?_
  refine E_mem (M' := pre ++ (.inr (4, fsJ 63) :: twZ.take 58)) (Eq.symm (i4_p.trans rfl)) ?_
  refine E_widX (kc' := 58) (ks' := 4474) (by decide) (by decide) ?_
  refine e_putf dX4_init_489 rfl pX4_203 (fun _ => rfl) (i4_o hp) (Nat.le_of_ble_eq_true rfl) rfl ?_
  refine E_mem (M' := pre ++ (.inr (4, fsJ 64) :: twZ.take 58)) (Eq.symm ((i4_s hp).trans rfl)) ?_
  refine e_aload_n dX4_init_492 0 rfl rfl rfl ?_
  refine e_iconst 2 dX4_init_493 rfl ?_
  refine e_newi (n := 2) (L := 115) dX4_init_494 rfl (by decide) (by decide) (by decide) (i4_l hp rfl) ?_
  refine E_mem (M' := pre ++ (.inr (4, fsJ 64) :: twZ.take 59)) (Eq.symm (i4_p.trans rfl)) ?_
  refine E_widX (kc' := 59) (ks' := 4476) (by decide) (by decide) ?_
  refine e_putf dX4_init_496 rfl pX4_206 (fun _ => rfl) (i4_o hp) (Nat.le_of_ble_eq_true rfl) rfl ?_
  refine E_mem (M' := pre ++ (.inr (4, fsJ 65) :: twZ.take 59)) (Eq.symm ((i4_s hp).trans rfl)) ?_
  refine e_aload_n dX4_init_499 0 rfl rfl rfl ?_
  refine e_iconst 2 dX4_init_500 rfl ?_
  refine e_newi (n := 2) (L := 116) dX4_init_501 rfl (by decide) (by decide) (by decide) (i4_l hp rfl) ?_
  refine E_mem (M' := pre ++ (.inr (4, fsJ 65) :: twZ.take 60)) (Eq.symm (i4_p.trans rfl)) ?_
  refine E_widX (kc' := 60) (ks' := 4478) (by decide) (by decide) ?_
  refine e_putf dX4_init_503 rfl pX4_209 (fun _ => rfl) (i4_o hp) (Nat.le_of_ble_eq_true rfl) rfl ?_
  refine E_mem (M' := pre ++ (.inr (4, fsJ 66) :: twZ.take 60)) (Eq.symm ((i4_s hp).trans rfl)) ?_
  refine e_iconst 0 dX4_init_506 rfl ?_
  refine e_istore_n dX4_init_507 1 rfl (ls_1 rfl) (Nat.le_of_ble_eq_true rfl) ?_
  refine e_iload_n dX4_init_508 1 rfl rfl ?_
  refine e_iconst 4 dX4_init_509 rfl ?_
  refine e_icmp_ge 526 dX4_init_510 (by decide) (fun h => absurd h (by decide)) (fun _ => ?_)
  refine e_aload_n dX4_init_513 0 rfl rfl rfl ?_
  refine e_getf (v := .ref 58) dX4_init_514 rfl fX4_13 (i4_o hp) rfl ?_
  refine e_iload_n dX4_init_517 1 rfl rfl ?_
  refine e_iconst (-1) dX4_init_518 rfl ?_
  refine e_iast (f := (fun _ => 0)) (j := 0) dX4_init_519 (i4_g hp rfl) rfl (by decide) (by decide) ?_
  refine E_mem (M' := pre ++ (.inr (4, fsJ 66) :: (twZ.set 1 (.inl (0, 4, .inl (upd (fun _ => 0) 0 (-1))))))) (Eq.symm ((i4_h hp).trans rfl)) ?_
  refine e_iinc 1 dX4_init_520 rfl (by decide) (ls_1 rfl) (Nat.le_of_ble_eq_true rfl) ?_
  refine e_goto 508 dX4_init_523 (by decide) ?_
  refine e_iload_n dX4_init_508 1 rfl rfl ?_
  refine e_iconst 4 dX4_init_509 rfl ?_
  refine e_icmp_ge 526 dX4_init_510 (by decide) (fun h => absurd h (by decide)) (fun _ => ?_)
  refine e_aload_n dX4_init_513 0 rfl rfl rfl ?_
  refine e_getf (v := .ref 58) dX4_init_514 rfl fX4_13 (i4_o hp) rfl ?_
  refine e_iload_n dX4_init_517 1 rfl rfl ?_
  refine e_iconst (-1) dX4_init_518 rfl ?_
  refine e_iast (f := (upd (fun _ => 0) 0 (-1))) (j := 1) dX4_init_519 (i4_g hp rfl) rfl (by decide) (by decide) ?_
  refine E_mem (M' := pre ++ (.inr (4, fsJ 66) :: (twZ.set 1 (.inl (0, 4, .inl (upd (upd (fun _ => 0) 0 (-1)) 1 (-1))))))) (Eq.symm ((i4_h hp).trans rfl)) ?_
  refine e_iinc 2 dX4_init_520 rfl (by decide) (ls_1 rfl) (Nat.le_of_ble_eq_true rfl) ?_
  refine e_goto 508 dX4_init_523 (by decide) ?_
  refine e_iload_n dX4_init_508 1 rfl rfl ?_
  refine e_iconst 4 dX4_init_509 rfl ?_
  refine e_icmp_ge 526 dX4_init_510 (by decide) (fun h => absurd h (by decide)) (fun _ => ?_)
  refine e_aload_n dX4_init_513 0 rfl rfl rfl ?_
  refine e_getf (v := .ref 58) dX4_init_514 rfl fX4_13 (i4_o hp) rfl ?_
  refine e_iload_n dX4_init_517 1 rfl rfl ?_
  refine e_iconst (-1) dX4_init_518 rfl ?_
  refine e_iast (f := (upd (upd (fun _ => 0) 0 (-1)) 1 (-1))) (j := 2) dX4_init_519 (i4_g hp rfl) rfl (by decide) (by decide) ?_
  refine E_mem (M' := pre ++ (.inr (4, fsJ 66) :: (twZ.set 1 (.inl (0, 4, .inl (upd (upd (upd (fun _ => 0) 0 (-1)) 1 (-1)) 2 (-1))))))) (Eq.symm ((i4_h hp).trans rfl)) ?_
  refine e_iinc 3 dX4_init_520 rfl (by decide) (ls_1 rfl) (Nat.le_of_ble_eq_true rfl) ?_
  refine e_goto 508 dX4_init_523 (by decide) ?_
  refine e_iload_n dX4_init_508 1 rfl rfl ?_
  refine e_iconst 4 dX4_init_509 rfl ?_
  refine e_icmp_ge 526 dX4_init_510 (by decide) (fun h => absurd h (by decide)) (fun _ => ?_)
  refine e_aload_n dX4_init_513 0 rfl rfl rfl ?_
  refine e_getf (v := .ref 58) dX4_init_514 rfl fX4_13 (i4_o hp) rfl ?_
  refine e_iload_n dX4_init_517 1 rfl rfl ?_
  refine e_iconst (-1) dX4_init_518 rfl ?_
  refine e_iast (f := (upd (upd (upd (fun _ => 0) 0 (-1)) 1 (-1)) 2 (-1))) (j := 3) dX4_init_519 (i4_g hp rfl) rfl (by decide) (by decide) ?_
  refine E_mem (M' := pre ++ (.inr (4, fsJ 66) :: (twZ.set 1 (.inl (0, 4, .inl (upd (upd (upd (upd (fun _ => 0) 0 (-1)) 1 (-1)) 2 (-1)) 3 (-1))))))) (Eq.symm ((i4_h hp).trans rfl)) ?_
  refine e_iinc 4 dX4_init_520 rfl (by decide) (ls_1 rfl) (Nat.le_of_ble_eq_true rfl) ?_
  refine e_goto 508 dX4_init_523 (by decide) ?_
  refine e_iload_n dX4_init_508 1 rfl rfl ?_
  refine e_iconst 4 dX4_init_509 rfl ?_
  refine e_icmp_ge 526 dX4_init_510 (by decide) (fun _ => ?_) (fun h => absurd h (by decide))
  refine e_return dX4_init_526 rfl (by decide) (by decide) ?_
  refine ⟨rfl, ?_⟩
  exact congrArg (fun z => pre ++ z) x4_fin

