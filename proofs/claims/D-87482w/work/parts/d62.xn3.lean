/-! ===== the component's small constructors ===== -/
section
variable {cc : ByteArray} {X : Cx} {Qf : Qfun} {Qx : Qxun} {kc ks pc : Nat} {ls : List (Option Value)} {rest : List Value} {M : List ACell}
theorem e_getsU (ho : X.1 = RJ0) (hd : decode cc pc = .ok (.getstatic 13, 3)) (k : E cc X Qf Qx kc ks (pc + 3) ls (.retAddr 10 :: rest) M) : E cc X Qf Qx kc ks pc ls rest M :=
  E.go (fun n h1 h2 => ⟨h1, wfS_cons (by exact trivial) h2⟩) (fun hK hl hS k => by
    have h := hK.2.2.2.2.2.2.2.2.2.1.2.2.2.2.2.2.2.1.2.2.1
    exact va_gets hK.1 hK.2.1 h hS ((show X.1 = "java/lang/Throwable" from ho) ▸ hK.2.2.2.2.1) (hK.2.2.2.2.2.1 _ q156) (fun _ h => h) hd (k _ hl)) k
theorem e_getsV (ho : X.1 = RJ0) (hd : decode cc pc = .ok (.getstatic 20, 3)) (k : E cc X Qf Qx kc ks (pc + 3) ls (.retAddr 11 :: rest) M) : E cc X Qf Qx kc ks pc ls rest M :=
  E.go (fun n h1 h2 => ⟨h1, wfS_cons (by exact trivial) h2⟩) (fun hK hl hS k => by
    have h := hK.2.2.2.2.2.2.2.2.2.1.2.2.2.2.2.2.2.1.2.2.2.1
    exact va_gets hK.1 hK.2.1 h hS ((show X.1 = "java/lang/Throwable" from ho) ▸ hK.2.2.2.2.1) (hK.2.2.2.2.2.1 _ q158) (fun _ h => h) hd (k _ hl)) k
end
set_option maxHeartbeats 4000000 in
set_option maxRecDepth 100000 in
/-- java/lang/Throwable.<init> -/
theorem j_throwable {P : List ACell} : Ct yJ0_init_2 (ws_ yJ0_init_2 cJ0_init_2 5 none) 0 0 0 [.ref P.length, .null, .null, .int 0, .int 0] (P ++ [.inr (1, [.null, .null, .null, .null, .null, .int 0, .int 0, .int 0])]) (Q1 none (P ++ [.inr (1, [.null, .null, .null, .null, .null, .int 0, .int 0, .int 0])])) noX := by
  refine Ct.ofF (ini := true) (ls := [some (.ref P.length), some (.null), some (.null), some (.int 0), some (.int 0)]) (by decide +kernel) (Nat.le_of_ble_eq_true rfl) (fun _ => rfl) rfl ?_
  refine e_aload_n dJ0_init_2_0 0 rfl rfl rfl ?_
  refine e_objI dJ0_init_2_1 rfl q155 q124 q125 (by decide) ?_
  refine e_aload_n dJ0_init_2_4 0 rfl rfl rfl ?_
  refine e_aload_n dJ0_init_2_5 0 rfl rfl rfl ?_
  refine e_putf dJ0_init_2_6 rfl pJ0_7 (fun h => by cases h) (ap_g (k := 0) rfl) (Nat.le_of_ble_eq_true rfl) rfl ?_
  refine E_mem (M' := P ++ [.inr (1, [.ref P.length, .null, .null, .null, .null, .int 0, .int 0, .int 0])]) (Eq.symm (ap_s (k := 0) rfl)) ?_
  refine e_aload_n dJ0_init_2_9 0 rfl rfl rfl ?_
  refine e_getsU rfl dJ0_init_2_10 ?_
  refine e_putf dJ0_init_2_13 rfl pJ0_17 (fun h => by cases h) (ap_g (k := 0) rfl) (Nat.le_of_ble_eq_true rfl) rfl ?_
  refine E_mem (M' := P ++ [.inr (1, [.ref P.length, .retAddr 10, .null, .null, .null, .int 0, .int 0, .int 0])]) (Eq.symm (ap_s (k := 0) rfl)) ?_
  refine e_aload_n dJ0_init_2_16 0 rfl rfl rfl ?_
  refine e_getsV rfl dJ0_init_2_17 ?_
  refine e_putf dJ0_init_2_20 rfl pJ0_24 (fun h => by cases h) (ap_g (k := 0) rfl) (Nat.le_of_ble_eq_true rfl) rfl ?_
  refine E_mem (M' := P ++ [.inr (1, [.ref P.length, .retAddr 10, .retAddr 11, .null, .null, .int 0, .int 0, .int 0])]) (Eq.symm (ap_s (k := 0) rfl)) ?_
  refine e_iload dJ0_init_2_23 rfl ?_
  refine e_if_eq_t 36 (by decide) dJ0_init_2_25 (by decide) ?_
  refine e_aload_n dJ0_init_2_36 0 rfl rfl rfl ?_
  refine e_null dJ0_init_2_37 ?_
  refine e_putf dJ0_init_2_38 rfl pJ0_17 (fun h => by cases h) (ap_g (k := 0) rfl) (Nat.le_of_ble_eq_true rfl) rfl ?_
  refine E_mem (M' := P ++ [.inr (1, [.ref P.length, .null, .retAddr 11, .null, .null, .int 0, .int 0, .int 0])]) (Eq.symm (ap_s (k := 0) rfl)) ?_
  refine e_aload_n dJ0_init_2_41 0 rfl rfl rfl ?_
  refine e_aload_n dJ0_init_2_42 1 rfl rfl rfl ?_
  refine e_putf dJ0_init_2_43 rfl pJ0_31 (fun h => by cases h) (ap_g (k := 0) rfl) (Nat.le_of_ble_eq_true rfl) rfl ?_
  refine E_mem (M' := P ++ [.inr (1, [.ref P.length, .null, .retAddr 11, .null, .null, .int 0, .int 0, .int 0])]) (Eq.symm (ap_s (k := 0) rfl)) ?_
  refine e_aload_n dJ0_init_2_46 0 rfl rfl rfl ?_
  refine e_aload_n dJ0_init_2_47 2 rfl rfl rfl ?_
  refine e_putf dJ0_init_2_48 rfl pJ0_7 (fun h => by cases h) (ap_g (k := 0) rfl) (Nat.le_of_ble_eq_true rfl) rfl ?_
  refine E_mem (M' := P ++ [.inr (1, [.null, .null, .retAddr 11, .null, .null, .int 0, .int 0, .int 0])]) (Eq.symm (ap_s (k := 0) rfl)) ?_
  refine e_iload_n dJ0_init_2_51 3 rfl rfl ?_
  refine e_if_ne_f (by decide) 60 dJ0_init_2_52 (by decide) ?_
  refine e_aload_n dJ0_init_2_55 0 rfl rfl rfl ?_
  refine e_null dJ0_init_2_56 ?_
  refine e_putf dJ0_init_2_57 rfl pJ0_24 (fun h => by cases h) (ap_g (k := 0) rfl) (Nat.le_of_ble_eq_true rfl) rfl ?_
  refine E_mem (M' := P ++ [.inr (1, [.null, .null, .null, .null, .null, .int 0, .int 0, .int 0])]) (Eq.symm (ap_s (k := 0) rfl)) ?_
  refine e_return dJ0_init_2_60 rfl (Nat.zero_le _) (Nat.zero_le _) ?_
  exact ⟨rfl, rfl⟩

set_option maxHeartbeats 4000000 in
set_option maxRecDepth 100000 in
/-- java/lang/Exception.<init> -/
theorem j_exception {P : List ACell} : Ct yJ1_init (ws_ yJ1_init cJ1_init 5 none) 1 0 0 [.ref P.length, .null, .null, .int 0, .int 0] (P ++ [.inr (1, [.null, .null, .null, .null, .null, .int 0, .int 0, .int 0])]) (Q1 none (P ++ [.inr (1, [.null, .null, .null, .null, .null, .int 0, .int 0, .int 0])])) noX := by
  refine Ct.ofF (ini := true) (ls := [some (.ref P.length), some (.null), some (.null), some (.int 0), some (.int 0)]) (by decide +kernel) (Nat.le_of_ble_eq_true rfl) (fun _ => rfl) rfl ?_
  refine e_aload_n dJ1_init_0 0 rfl rfl rfl ?_
  refine e_aload_n dJ1_init_1 1 rfl rfl rfl ?_
  refine e_aload_n dJ1_init_2 2 rfl rfl rfl ?_
  refine e_iload_n dJ1_init_3 3 rfl rfl ?_
  refine e_iload dJ1_init_4 rfl ?_
  refine e_callI0 (As := [.null, .null, .int 0, .int 0]) (rest := []) dJ1_init_6 rfl miJ1_16 (j_throwable (P := P)) (Nat.le_of_ble_eq_true rfl) rfl rfl (Nat.le_of_ble_eq_true rfl) (Nat.zero_le _) (Nat.zero_le _) ?_
  refine e_return dJ1_init_9 rfl (Nat.zero_le _) (Nat.zero_le _) ?_
  exact ⟨rfl, rfl⟩

set_option maxHeartbeats 4000000 in
set_option maxRecDepth 100000 in
/-- java/lang/RuntimeException.<init> -/
theorem j_runtime {P : List ACell} : Ct yJ2_init (ws_ yJ2_init cJ2_init 5 none) 2 0 0 [.ref P.length, .null, .null, .int 0, .int 0] (P ++ [.inr (1, [.null, .null, .null, .null, .null, .int 0, .int 0, .int 0])]) (Q1 none (P ++ [.inr (1, [.null, .null, .null, .null, .null, .int 0, .int 0, .int 0])])) noX := by
  refine Ct.ofF (ini := true) (ls := [some (.ref P.length), some (.null), some (.null), some (.int 0), some (.int 0)]) (by decide +kernel) (Nat.le_of_ble_eq_true rfl) (fun _ => rfl) rfl ?_
  refine e_aload_n dJ2_init_0 0 rfl rfl rfl ?_
  refine e_aload_n dJ2_init_1 1 rfl rfl rfl ?_
  refine e_aload_n dJ2_init_2 2 rfl rfl rfl ?_
  refine e_iload_n dJ2_init_3 3 rfl rfl ?_
  refine e_iload dJ2_init_4 rfl ?_
  refine e_callI0 (As := [.null, .null, .int 0, .int 0]) (rest := []) dJ2_init_6 rfl miJ2_16 (j_exception (P := P)) (Nat.le_of_ble_eq_true rfl) rfl rfl (Nat.le_of_ble_eq_true rfl) (Nat.zero_le _) (Nat.zero_le _) ?_
  refine e_return dJ2_init_9 rfl (Nat.zero_le _) (Nat.zero_le _) ?_
  exact ⟨rfl, rfl⟩

set_option maxHeartbeats 4000000 in
set_option maxRecDepth 100000 in
/-- WheelTables$Wrong.<init> -/
theorem x_wrongI {P : List ACell} : Ct yX1_init (ws_ yX1_init cX1_init 1 none) 3 0 0 [.ref P.length] (P ++ [.inr (1, [.null, .null, .null, .null, .null, .int 0, .int 0, .int 0])]) (Q1 none (P ++ [.inr (1, [.null, .null, .null, .null, .null, .int 0, .int 0, .int 0])])) noX := by
  refine Ct.of (ini := true) (ls := [some (.ref P.length)]) (by decide) (Nat.le_of_ble_eq_true rfl) (fun _ => rfl) rfl ?_
  refine e_aload_n dX1_init_0 0 rfl rfl rfl ?_
  refine e_null dX1_init_1 ?_
  refine e_null dX1_init_2 ?_
  refine e_iconst 0 dX1_init_3 rfl ?_
  refine e_iconst 0 dX1_init_4 rfl ?_
  refine e_callI0 (As := [.null, .null, .int 0, .int 0]) (rest := []) dX1_init_5 rfl miX1_1 (j_runtime (P := P)) (Nat.le_of_ble_eq_true rfl) rfl rfl (Nat.le_of_ble_eq_true rfl) (Nat.zero_le _) (Nat.zero_le _) ?_
  refine e_return dX1_init_8 rfl (Nat.zero_le _) (Nat.zero_le _) ?_
  exact ⟨rfl, rfl⟩

set_option maxHeartbeats 4000000 in
set_option maxRecDepth 100000 in
/-- WheelTables$Reader.<init> -/
theorem x_readerI {P : List ACell} : Ct yX2_init (ws_ yX2_init cX2_init 2 none) 0 1 500 [.ref P.length, .ref 3] (P ++ [.inr (2, [.null, .int 0, .int 0, .int 0, .int 0, .int 0, .long 0, .null])]) (fun v M' => v = none ∧ M' = P ++ [.inr (2, [.ref (P.length + 1), .int 0, .int 0, .int 0, .int 0, .int 0, .long 0, .ref 3]), .inl (2, 500, .inl (fun _ => 0))]) noX := by
  refine Ct.of (ini := true) (ls := [some (.ref P.length), some (.ref 3)]) (by decide) (Nat.le_of_ble_eq_true rfl) (fun _ => rfl) rfl ?_
  refine e_aload_n dX2_init_0 0 rfl rfl rfl ?_
  refine e_objI dX2_init_1 rfl q223 q124 q125 (by decide) ?_
  refine e_aload_n dX2_init_4 0 rfl rfl rfl ?_
  refine e_sipush 500 dX2_init_5 rfl ?_
  refine e_newb (n := 500) (L := P.length + 1) dX2_init_8 rfl (by decide) (Nat.le_of_ble_eq_true rfl) (Nat.le_of_ble_eq_true rfl) (ap_l rfl) ?_
  refine E_mem (M' := P ++ [.inr (2, [.null, .int 0, .int 0, .int 0, .int 0, .int 0, .long 0, .null]), .inl (2, 500, .inl (fun _ => 0))]) (Eq.symm (ap_p rfl)) ?_
  refine e_putf dX2_init_10 rfl pX2_9 (fun _ => rfl) (ap_g (k := 0) rfl) (Nat.le_of_ble_eq_true rfl) rfl ?_
  refine E_mem (M' := P ++ [.inr (2, [.ref (P.length + 1), .int 0, .int 0, .int 0, .int 0, .int 0, .long 0, .null]), .inl (2, 500, .inl (fun _ => 0))]) (Eq.symm (ap_s (k := 0) rfl)) ?_
  refine e_aload_n dX2_init_13 0 rfl rfl rfl ?_
  refine e_aload_n dX2_init_14 1 rfl rfl rfl ?_
  refine e_putf dX2_init_15 rfl pX2_15 (fun _ => rfl) (ap_g (k := 0) rfl) (Nat.le_of_ble_eq_true rfl) rfl ?_
  refine E_mem (M' := P ++ [.inr (2, [.ref (P.length + 1), .int 0, .int 0, .int 0, .int 0, .int 0, .long 0, .ref 3]), .inl (2, 500, .inl (fun _ => 0))]) (Eq.symm (ap_s (k := 0) rfl)) ?_
  refine e_return dX2_init_18 rfl (Nat.le_of_ble_eq_true rfl) (Nat.le_of_ble_eq_true rfl) ?_
  exact ⟨rfl, rfl⟩

set_option maxHeartbeats 4000000 in
set_option maxRecDepth 100000 in
/-- WheelTables$Tray.<init> -/
theorem x_trayI {P : List ACell} : Ct yX3_init (ws_ yX3_init cX3_init 1 none) 0 0 0 [.ref P.length] (P ++ [.inr (3, [.null, .int 0])]) (Q1 none (P ++ [.inr (3, [.null, .int 0])])) noX := by
  refine Ct.of (ini := true) (ls := [some (.ref P.length)]) (by decide) (Nat.le_of_ble_eq_true rfl) (fun _ => rfl) rfl ?_
  refine e_aload_n dX3_init_0 0 rfl rfl rfl ?_
  refine e_objI dX3_init_1 rfl q259 q124 q125 (by decide) ?_
  refine e_return dX3_init_4 rfl (Nat.zero_le _) (Nat.zero_le _) ?_
  exact ⟨rfl, rfl⟩

