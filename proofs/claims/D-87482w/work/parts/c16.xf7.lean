/-! ===== the component: engines made ===== -/
theorem nwX5_44 : NW RX5 44 6 [.null] := ⟨RX6, TX6, 1, tyX6, rfl, in_X6, tyX6_ok, q583, q585, q110, rfl, by decide, rfl⟩
theorem nwX0_15 : NW RX0 15 5 [.int 0, .int 0, .null, .null, .int 0, .int 0, .null, .null, .null, .null, .null] := ⟨RX5, TX5, 11, tyX5, rfl, in_X5, tyX5_ok, q128, q577, q109, rfl, by decide, rfl⟩
section
variable {P : List ACell}
theorem ap_g {cs : List ACell} {k : Nat} {c : ACell} (h : cs[k]? = some c) : (P ++ cs)[P.length + k]? = some c := by
  rw [List.getElem?_append_right (by omega), show P.length + k - P.length = k by omega]; exact h
theorem ap_s {cs cs' : List ACell} {k : Nat} {c : ACell} (h : cs.set k c = cs') : (P ++ cs).set (P.length + k) c = P ++ cs' := by
  rw [List.set_append_right _ _ (by omega), show P.length + k - P.length = k by omega, h]
theorem ap_l {cs : List ACell} {n : Nat} (h : cs.length = n) : (P ++ cs).length = P.length + n := by rw [List.length_append, h]
theorem ap_p {cs cs' : List ACell} {c : ACell} (h : cs ++ [c] = cs') : (P ++ cs) ++ [c] = P ++ cs' := by rw [List.append_assoc, h]
theorem ap_o {cs : List ACell} {k : Nat} {c : ACell} (h : P[k]? = some c) : (P ++ cs)[k]? = some c := by
  rw [List.getElem?_append_left (List.getElem?_eq_some_iff.mp h).1]; exact h
end
set_option maxHeartbeats 4000000 in
set_option maxRecDepth 100000 in
/-- WheelTables$Axis.<init> -/
theorem x_axisI {P : List ACell} {W : Nat} (hW12 : W ≤ 12) : Ct yX6_init (ws_ yX6_init cX6_init 2 none) 0 1 W [.ref P.length, .int (nI W)] (P ++ [.inr (6, [.null])]) (fun v M' => v = none ∧ M' = P ++ [.inr (6, [.ref (P.length + 1)]), .inl (0, W, .inl (fun _ => 0))]) noX := by
  refine Ct.of (ini := true) (ls := [some (.ref P.length), some (.int (nI W))]) (by decide) (Nat.le_of_ble_eq_true rfl) (fun _ => rfl) rfl ?_
  refine e_aload_n dX6_init_0 0 rfl rfl rfl ?_
  refine e_objI dX6_init_1 rfl q589 q124 q125 (by decide) ?_
  refine e_aload_n dX6_init_4 0 rfl rfl rfl ?_
  refine e_iload_n dX6_init_5 1 rfl rfl ?_
  refine e_newi (n := W) (L := P.length + 1) dX6_init_6 rfl (by omega) (show 0 + 1 ≤ 1 by omega) (show 0 + W ≤ W by omega) (ap_l rfl) ?_
  refine E_mem (M' := P ++ [.inr (6, [.null]), .inl (0, W, .inl (fun _ => 0))]) (Eq.symm (ap_p rfl)) ?_
  refine e_putf dX6_init_8 rfl pX6_7 (fun _ => rfl) (ap_g (k := 0) rfl) (Nat.le_of_ble_eq_true rfl) rfl ?_
  refine E_mem (M' := P ++ [.inr (6, [.ref (P.length + 1)]), .inl (0, W, .inl (fun _ => 0))]) (Eq.symm (ap_s (k := 0) rfl)) ?_
  refine e_return dX6_init_11 rfl (by first | exact Nat.le_refl _ | (show 0 + W ≤ W; omega)) (by first | exact Nat.le_refl _ | (show 0 + W ≤ W; omega)) ?_
  exact ⟨rfl, rfl⟩

theorem E_widX {cc : ByteArray} {X : Cx} {Qf : Qfun} {Qx : Qxun} {kc ks kc' ks' pc : Nat} {ls : List (Option Value)} {st : List Value} {M : List ACell} (h1 : kc ≤ kc') (h2 : ks ≤ ks') (k : E cc X Qf Qx kc' ks' pc ls st M) : E cc X Qf Qx kc ks pc ls st M :=
  fun p l e s m args below meth c D dA cs A ad0 n0 hK ad H locs lsA ha hn hR => W.widen h1 h2 (k p l e s m args below meth c D dA cs A ad0 n0 hK ad H locs lsA ha hn hR)
/-- a new engine -/
def e0 (A W : Nat) (rv : Nat → Int32) : En := (A, W, 0, 0, fun _ _ => 0, fun _ => 0, rv, fun _ _ => 0)
/-- .. a of its axes made -/
def enQ (b : Nat) (η : En) (a : Nat) : List ACell := [.inr (5, enO b η), .inl (0, 20, .inl (η.2.2.2.2.1 0)), .inl (0, 20, .inl (η.2.2.2.2.1 1)), .inl (0, 20, .inl (η.2.2.2.2.1 2)), .inl (0, 20, .inl (η.2.2.2.2.1 3)), .inl (4, 12, .inl η.2.2.2.2.2.1), .inl (0, η.2.1, .inl η.2.2.2.2.2.2.1), .inl (8, η.1, .inr (.inr (.inr (.inr (enA b a)))))] ++ (List.range a).flatMap (enX b η)
theorem enQ_e (b : Nat) (η : En) : enQ b η η.1 = enB b η := rfl
theorem enQ_len (b : Nat) (η : En) (a : Nat) : (enQ b η a).length = 8 + 2 * a := by unfold enQ; rw [List.length_append, enX_len]; rfl
theorem enA_0 (b : Nat) : enA b 0 = fun _ => none := by funext a; unfold enA; rw [if_neg (by omega)]
theorem enA_s (b a : Nat) : va_up (enA b a) a (some (b + 8 + 2 * a)) = enA b (a + 1) := by
  funext k
  unfold va_up enA
  by_cases e : k = a
  · subst e; rw [if_pos rfl, if_pos (by omega)]
  · rw [if_neg e]
    by_cases e2 : k < a
    · rw [if_pos e2, if_pos (by omega)]
    · rw [if_neg e2, if_neg (by omega)]
theorem enQ_s {P : List ACell} {A W a : Nat} {rv : Nat → Int32} : ((P ++ enQ P.length (e0 A W rv) a) ++ ([.inr (6, [.ref ((P ++ enQ P.length (e0 A W rv) a).length + 1)]), .inl (0, W, .inl (fun _ => 0))] : List ACell)).set (P.length + 7) (.inl (8, A, .inr (.inr (.inr (.inr (va_up (enA P.length a) a (some (P ++ enQ P.length (e0 A W rv) a).length))))))) = P ++ enQ P.length (e0 A W rv) (a + 1) := by
  have hl : (P ++ enQ P.length (e0 A W rv) a).length = P.length + 8 + 2 * a := by rw [List.length_append, enQ_len]; omega
  rw [hl, enA_s, List.append_assoc]
  refine ap_s (k := 7) ?_
  rw [enQ, enQ, List.range_succ, List.flatMap_append, List.append_assoc]
  rw [show P.length + 8 + 2 * a + 1 = P.length + 9 + 2 * a by omega]
  rfl
set_option maxHeartbeats 4000000 in
set_option maxRecDepth 100000 in
/-- a loop of <init> -/
theorem x_engI_loop {P : List ACell} {A W a1 N : Nat} {rv : Nat → Int32} (hA7 : A ≤ 7) (hW12 : W ≤ 12) (hWN : W ≤ N) (hN : N ≤ 12) (hrv : P[a1]? = some (.inl (0, N, .inl rv))) {Q : Qfun} : ∀ (fuel : Nat) (k : Nat), k ≤ A → A < k + fuel → Q none (P ++ enQ P.length (e0 A W (cpV rv (fun _ => 0) 0 0 W)) A) →
    E cX5_init (RX5, none, 5, 1, (21, 211), true, []) Q noX (7 + 2 * k) (120 + 13 * k) 83 [some (.ref P.length), some (.int (nI A)), some (.int (nI W)), some (.ref a1), some (.int (nI k))] [] (P ++ enQ P.length (e0 A W (cpV rv (fun _ => 0) 0 0 W)) k) := by
  intro fuel
  induction fuel with
  | zero => intro k hk hf hQ; exact absurd hf (by omega)
  | succ fuel ih =>
    intro k hk hf hQ
    refine e_iload dX5_init_83 rfl ?_
    refine e_iload_n dX5_init_85 1 rfl rfl ?_
    refine e_icmp_geN k A 110 (by omega) (by omega) dX5_init_86 (by decide) (fun h86 => ?_) (fun h86 => ?_)
    · refine e_return dX5_init_110 rfl (by first | (show 7 + 2 * k ≤ 21; omega) | (show 120 + 13 * k ≤ 211; omega)) (by first | (show 7 + 2 * k ≤ 21; omega) | (show 120 + 13 * k ≤ 211; omega)) ?_
      obtain rfl : k = A := by omega
      exact hQ
    · refine e_aload_n dX5_init_89 0 rfl rfl rfl ?_
      refine e_getf (v := .ref (P.length + 7)) dX5_init_90 rfl fX5_46 (ap_g (k := 0) rfl) rfl ?_
      refine e_iload dX5_init_93 rfl ?_
      refine e_new (u := 1) (L := (P ++ enQ P.length (e0 A W (cpV rv (fun _ => 0) 0 0 W)) k).length) dX5_init_95 rfl nwX5_44 rfl (show 7 + 2 * k + 1 ≤ 21 by omega) (show 120 + 13 * k + 1 ≤ 211 by omega) rfl ?_
      refine e_dup dX5_init_98 rfl ?_
      refine e_iload_n dX5_init_99 2 rfl rfl ?_
      refine e_callIQ (As := [.int (nI W)]) (rest := [.ref ((P ++ enQ P.length (e0 A W (cpV rv (fun _ => 0) 0 0 W)) k).length), .int (nI k), .ref (P.length + 7)]) dX5_init_100 rfl miX5_50 (x_axisI (P := P ++ enQ P.length (e0 A W (cpV rv (fun _ => 0) 0 0 W)) k) hW12) (Nat.le_of_ble_eq_true rfl) rfl rfl (Nat.le_of_ble_eq_true rfl) (show 7 + 2 * k + 1 + 1 ≤ 21 by omega) (show 120 + 13 * k + 1 + W ≤ 211 by omega) (fun v0 M0 h0_ _ => ?_)
      obtain ⟨rfl, rfl⟩ := h0_
      refine e_aast (t := 8) (ci := 6) (n := A) (j := k) (r := (RX6, TX6, 1)) (f := enA P.length k) dX5_init_103 (by rw [List.append_assoc]; exact ap_g (k := 7) rfl) (fun _ => rfl) (ap_g (P := P ++ enQ P.length (e0 A W (cpV rv (fun _ => 0) 0 0 W)) k) (k := 0) rfl) rfl rfl (by omega) (by omega) ?_
      rw [enQ_s]
      refine e_incN k (k + 1) (inc1 _) dX5_init_104 rfl (ls_s (ls_s (ls_s (ls_1 rfl)))) (Nat.le_of_ble_eq_true rfl) ?_
      refine e_goto 83 dX5_init_107 (by decide) ?_
      refine E_widX (kc' := 7 + 2 * (k + 1)) (ks' := 120 + 13 * (k + 1)) (by omega) (by omega) ?_
      exact ih (k + 1) (by omega) (by omega) hQ

set_option maxHeartbeats 4000000 in
set_option maxRecDepth 100000 in
/-- WheelTables$Engine.<init> -/
theorem x_engI {P : List ACell} {A W a1 N : Nat} {rv : Nat → Int32} (hA7 : A ≤ 7) (hW12 : W ≤ 12) (hWN : W ≤ N) (hN : N ≤ 12) (hrv : P[a1]? = some (.inl (0, N, .inl rv))) : Ct yX5_init (ws_ yX5_init cX5_init 5 none) 1 21 211 [.ref P.length, .int (nI A), .int (nI W), .ref a1] (P ++ [.inr (5, [.int 0, .int 0, .null, .null, .int 0, .int 0, .null, .null, .null, .null, .null])]) (fun v M' => v = none ∧ M' = EM P (e0 A W (cpV rv (fun _ => 0) 0 0 W)) []) noX := by
  refine Ct.of (ini := true) (ls := [some (.ref P.length), some (.int (nI A)), some (.int (nI W)), some (.ref a1), none]) (by decide) (Nat.le_of_ble_eq_true rfl) (fun _ => rfl) rfl ?_
  refine e_aload_n dX5_init_0 0 rfl rfl rfl ?_
  refine e_objI dX5_init_1 rfl q581 q124 q125 (by decide) ?_
  refine e_aload_n dX5_init_4 0 rfl rfl rfl ?_
  refine e_bipush 20 dX5_init_5 rfl ?_
  refine e_newi (n := 20) (L := P.length + 1) dX5_init_7 rfl (by omega) (show 0 + 1 ≤ 21 by omega) (show 0 + 20 ≤ 211 by omega) (ap_l rfl) ?_
  refine E_mem (M' := P ++ [.inr (5, [.int 0, .int 0, .null, .null, .int 0, .int 0, .null, .null, .null, .null, .null]), .inl (0, 20, .inl (fun _ => 0))]) (Eq.symm (ap_p rfl)) ?_
  refine e_putf dX5_init_9 rfl pX5_9 (fun _ => rfl) (ap_g (k := 0) rfl) (Nat.le_of_ble_eq_true rfl) rfl ?_
  refine E_mem (M' := P ++ [.inr (5, [.int 0, .int 0, .null, .null, .int 0, .int 0, .ref (P.length + 1), .null, .null, .null, .null]), .inl (0, 20, .inl (fun _ => 0))]) (Eq.symm (ap_s (k := 0) rfl)) ?_
  refine e_aload_n dX5_init_12 0 rfl rfl rfl ?_
  refine e_bipush 20 dX5_init_13 rfl ?_
  refine e_newi (n := 20) (L := P.length + 2) dX5_init_15 rfl (by omega) (show 0 + 1 + 1 ≤ 21 by omega) (show 0 + 20 + 20 ≤ 211 by omega) (ap_l rfl) ?_
  refine E_mem (M' := P ++ [.inr (5, [.int 0, .int 0, .null, .null, .int 0, .int 0, .ref (P.length + 1), .null, .null, .null, .null]), .inl (0, 20, .inl (fun _ => 0)), .inl (0, 20, .inl (fun _ => 0))]) (Eq.symm (ap_p rfl)) ?_
  refine e_putf dX5_init_17 rfl pX5_15 (fun _ => rfl) (ap_g (k := 0) rfl) (Nat.le_of_ble_eq_true rfl) rfl ?_
  refine E_mem (M' := P ++ [.inr (5, [.int 0, .int 0, .null, .null, .int 0, .int 0, .ref (P.length + 1), .ref (P.length + 2), .null, .null, .null]), .inl (0, 20, .inl (fun _ => 0)), .inl (0, 20, .inl (fun _ => 0))]) (Eq.symm (ap_s (k := 0) rfl)) ?_
  refine e_aload_n dX5_init_20 0 rfl rfl rfl ?_
  refine e_bipush 20 dX5_init_21 rfl ?_
  refine e_newi (n := 20) (L := P.length + 3) dX5_init_23 rfl (by omega) (show 0 + 1 + 1 + 1 ≤ 21 by omega) (show 0 + 20 + 20 + 20 ≤ 211 by omega) (ap_l rfl) ?_
  refine E_mem (M' := P ++ [.inr (5, [.int 0, .int 0, .null, .null, .int 0, .int 0, .ref (P.length + 1), .ref (P.length + 2), .null, .null, .null]), .inl (0, 20, .inl (fun _ => 0)), .inl (0, 20, .inl (fun _ => 0)), .inl (0, 20, .inl (fun _ => 0))]) (Eq.symm (ap_p rfl)) ?_
  refine e_putf dX5_init_25 rfl pX5_18 (fun _ => rfl) (ap_g (k := 0) rfl) (Nat.le_of_ble_eq_true rfl) rfl ?_
  refine E_mem (M' := P ++ [.inr (5, [.int 0, .int 0, .null, .null, .int 0, .int 0, .ref (P.length + 1), .ref (P.length + 2), .ref (P.length + 3), .null, .null]), .inl (0, 20, .inl (fun _ => 0)), .inl (0, 20, .inl (fun _ => 0)), .inl (0, 20, .inl (fun _ => 0))]) (Eq.symm (ap_s (k := 0) rfl)) ?_
  refine e_aload_n dX5_init_28 0 rfl rfl rfl ?_
  refine e_bipush 20 dX5_init_29 rfl ?_
  refine e_newi (n := 20) (L := P.length + 4) dX5_init_31 rfl (by omega) (show 0 + 1 + 1 + 1 + 1 ≤ 21 by omega) (show 0 + 20 + 20 + 20 + 20 ≤ 211 by omega) (ap_l rfl) ?_
  refine E_mem (M' := P ++ [.inr (5, [.int 0, .int 0, .null, .null, .int 0, .int 0, .ref (P.length + 1), .ref (P.length + 2), .ref (P.length + 3), .null, .null]), .inl (0, 20, .inl (fun _ => 0)), .inl (0, 20, .inl (fun _ => 0)), .inl (0, 20, .inl (fun _ => 0)), .inl (0, 20, .inl (fun _ => 0))]) (Eq.symm (ap_p rfl)) ?_
  refine e_putf dX5_init_33 rfl pX5_21 (fun _ => rfl) (ap_g (k := 0) rfl) (Nat.le_of_ble_eq_true rfl) rfl ?_
  refine E_mem (M' := P ++ [.inr (5, [.int 0, .int 0, .null, .null, .int 0, .int 0, .ref (P.length + 1), .ref (P.length + 2), .ref (P.length + 3), .ref (P.length + 4), .null]), .inl (0, 20, .inl (fun _ => 0)), .inl (0, 20, .inl (fun _ => 0)), .inl (0, 20, .inl (fun _ => 0)), .inl (0, 20, .inl (fun _ => 0))]) (Eq.symm (ap_s (k := 0) rfl)) ?_
  refine e_aload_n dX5_init_36 0 rfl rfl rfl ?_
  refine e_bipush 12 dX5_init_37 rfl ?_
  refine e_newz (n := 12) (L := P.length + 5) dX5_init_39 rfl (by omega) (show 0 + 1 + 1 + 1 + 1 + 1 ≤ 21 by omega) (show 0 + 20 + 20 + 20 + 20 + 12 ≤ 211 by omega) (ap_l rfl) ?_
  refine E_mem (M' := P ++ [.inr (5, [.int 0, .int 0, .null, .null, .int 0, .int 0, .ref (P.length + 1), .ref (P.length + 2), .ref (P.length + 3), .ref (P.length + 4), .null]), .inl (0, 20, .inl (fun _ => 0)), .inl (0, 20, .inl (fun _ => 0)), .inl (0, 20, .inl (fun _ => 0)), .inl (0, 20, .inl (fun _ => 0)), .inl (4, 12, .inl (fun _ => 0))]) (Eq.symm (ap_p rfl)) ?_
  refine e_putf dX5_init_41 rfl pX5_24 (fun _ => rfl) (ap_g (k := 0) rfl) (Nat.le_of_ble_eq_true rfl) rfl ?_
  refine E_mem (M' := P ++ [.inr (5, [.int 0, .int 0, .null, .null, .int 0, .int 0, .ref (P.length + 1), .ref (P.length + 2), .ref (P.length + 3), .ref (P.length + 4), .ref (P.length + 5)]), .inl (0, 20, .inl (fun _ => 0)), .inl (0, 20, .inl (fun _ => 0)), .inl (0, 20, .inl (fun _ => 0)), .inl (0, 20, .inl (fun _ => 0)), .inl (4, 12, .inl (fun _ => 0))]) (Eq.symm (ap_s (k := 0) rfl)) ?_
  refine e_aload_n dX5_init_44 0 rfl rfl rfl ?_
  refine e_iload_n dX5_init_45 1 rfl rfl ?_
  refine e_putf dX5_init_46 rfl pX5_28 (fun _ => rfl) (ap_g (k := 0) rfl) (Nat.le_of_ble_eq_true rfl) rfl ?_
  refine E_mem (M' := P ++ [.inr (5, [.int (nI A), .int 0, .null, .null, .int 0, .int 0, .ref (P.length + 1), .ref (P.length + 2), .ref (P.length + 3), .ref (P.length + 4), .ref (P.length + 5)]), .inl (0, 20, .inl (fun _ => 0)), .inl (0, 20, .inl (fun _ => 0)), .inl (0, 20, .inl (fun _ => 0)), .inl (0, 20, .inl (fun _ => 0)), .inl (4, 12, .inl (fun _ => 0))]) (Eq.symm (ap_s (k := 0) rfl)) ?_
  refine e_aload_n dX5_init_49 0 rfl rfl rfl ?_
  refine e_iload_n dX5_init_50 2 rfl rfl ?_
  refine e_putf dX5_init_51 rfl pX5_32 (fun _ => rfl) (ap_g (k := 0) rfl) (Nat.le_of_ble_eq_true rfl) rfl ?_
  refine E_mem (M' := P ++ [.inr (5, [.int (nI A), .int (nI W), .null, .null, .int 0, .int 0, .ref (P.length + 1), .ref (P.length + 2), .ref (P.length + 3), .ref (P.length + 4), .ref (P.length + 5)]), .inl (0, 20, .inl (fun _ => 0)), .inl (0, 20, .inl (fun _ => 0)), .inl (0, 20, .inl (fun _ => 0)), .inl (0, 20, .inl (fun _ => 0)), .inl (4, 12, .inl (fun _ => 0))]) (Eq.symm (ap_s (k := 0) rfl)) ?_
  refine e_aload_n dX5_init_54 0 rfl rfl rfl ?_
  refine e_iload_n dX5_init_55 2 rfl rfl ?_
  refine e_newi (n := W) (L := P.length + 6) dX5_init_56 rfl (by omega) (show 0 + 1 + 1 + 1 + 1 + 1 + 1 ≤ 21 by omega) (show 0 + 20 + 20 + 20 + 20 + 12 + W ≤ 211 by omega) (ap_l rfl) ?_
  refine E_mem (M' := P ++ [.inr (5, [.int (nI A), .int (nI W), .null, .null, .int 0, .int 0, .ref (P.length + 1), .ref (P.length + 2), .ref (P.length + 3), .ref (P.length + 4), .ref (P.length + 5)]), .inl (0, 20, .inl (fun _ => 0)), .inl (0, 20, .inl (fun _ => 0)), .inl (0, 20, .inl (fun _ => 0)), .inl (0, 20, .inl (fun _ => 0)), .inl (4, 12, .inl (fun _ => 0)), .inl (0, W, .inl (fun _ => 0))]) (Eq.symm (ap_p rfl)) ?_
  refine e_putf dX5_init_58 rfl pX5_35 (fun _ => rfl) (ap_g (k := 0) rfl) (Nat.le_of_ble_eq_true rfl) rfl ?_
  refine E_mem (M' := P ++ [.inr (5, [.int (nI A), .int (nI W), .ref (P.length + 6), .null, .int 0, .int 0, .ref (P.length + 1), .ref (P.length + 2), .ref (P.length + 3), .ref (P.length + 4), .ref (P.length + 5)]), .inl (0, 20, .inl (fun _ => 0)), .inl (0, 20, .inl (fun _ => 0)), .inl (0, 20, .inl (fun _ => 0)), .inl (0, 20, .inl (fun _ => 0)), .inl (4, 12, .inl (fun _ => 0)), .inl (0, W, .inl (fun _ => 0))]) (Eq.symm (ap_s (k := 0) rfl)) ?_
  refine e_aload_n dX5_init_61 3 rfl rfl rfl ?_
  refine e_iconst 0 dX5_init_62 rfl ?_
  refine e_aload_n dX5_init_63 0 rfl rfl rfl ?_
  refine e_getf (v := .ref (P.length + 6)) dX5_init_64 rfl fX5_35 (ap_g (k := 0) rfl) rfl ?_
  refine e_iconst 0 dX5_init_67 rfl ?_
  refine e_iload_n dX5_init_68 2 rfl rfl ?_
  refine e_acopyI (t := 0) (ty := .int) (sp := 0) (dp := 0) (n := W) (n1 := N) (n2 := W) (f := rv) (g := fun _ => 0) dX5_init_69 rfl q582 (ap_o hrv) (ap_g (k := 6) rfl) (fun _ => rfl) (fun _ _ => rfl) (by omega) (by omega) (by omega) (by omega) (by decide) ?_
  refine E_mem (M' := P ++ [.inr (5, [.int (nI A), .int (nI W), .ref (P.length + 6), .null, .int 0, .int 0, .ref (P.length + 1), .ref (P.length + 2), .ref (P.length + 3), .ref (P.length + 4), .ref (P.length + 5)]), .inl (0, 20, .inl (fun _ => 0)), .inl (0, 20, .inl (fun _ => 0)), .inl (0, 20, .inl (fun _ => 0)), .inl (0, 20, .inl (fun _ => 0)), .inl (4, 12, .inl (fun _ => 0)), .inl (0, W, .inl (cpV rv (fun _ => 0) 0 0 W))]) (Eq.symm (ap_s (k := 6) rfl)) ?_
  refine e_aload_n dX5_init_72 0 rfl rfl rfl ?_
  refine e_iload_n dX5_init_73 1 rfl rfl ?_
  refine e_newq (C := RX6) (t := 8) (n := A) (L := P.length + 7) dX5_init_74 rfl q583 (fun _ => rfl) (fun hG => hG.2.2.2.2.2.1) rfl (by omega) (show 0 + 1 + 1 + 1 + 1 + 1 + 1 + 1 ≤ 21 by omega) (show 0 + 20 + 20 + 20 + 20 + 12 + W + A ≤ 211 by omega) (ap_l rfl) ?_
  refine E_mem (M' := P ++ [.inr (5, [.int (nI A), .int (nI W), .ref (P.length + 6), .null, .int 0, .int 0, .ref (P.length + 1), .ref (P.length + 2), .ref (P.length + 3), .ref (P.length + 4), .ref (P.length + 5)]), .inl (0, 20, .inl (fun _ => 0)), .inl (0, 20, .inl (fun _ => 0)), .inl (0, 20, .inl (fun _ => 0)), .inl (0, 20, .inl (fun _ => 0)), .inl (4, 12, .inl (fun _ => 0)), .inl (0, W, .inl (cpV rv (fun _ => 0) 0 0 W)), .inl (8, A, .inr (.inr (.inr (.inr (fun _ => none)))))]) (Eq.symm (ap_p rfl)) ?_
  refine e_putf dX5_init_77 rfl pX5_46 (fun _ => rfl) (ap_g (k := 0) rfl) (Nat.le_of_ble_eq_true rfl) rfl ?_
  refine E_mem (M' := P ++ [.inr (5, [.int (nI A), .int (nI W), .ref (P.length + 6), .ref (P.length + 7), .int 0, .int 0, .ref (P.length + 1), .ref (P.length + 2), .ref (P.length + 3), .ref (P.length + 4), .ref (P.length + 5)]), .inl (0, 20, .inl (fun _ => 0)), .inl (0, 20, .inl (fun _ => 0)), .inl (0, 20, .inl (fun _ => 0)), .inl (0, 20, .inl (fun _ => 0)), .inl (4, 12, .inl (fun _ => 0)), .inl (0, W, .inl (cpV rv (fun _ => 0) 0 0 W)), .inl (8, A, .inr (.inr (.inr (.inr (fun _ => none)))))]) (Eq.symm (ap_s (k := 0) rfl)) ?_
  refine e_iconst 0 dX5_init_80 rfl ?_
  refine e_istore dX5_init_81 (ls_s (ls_s (ls_s (ls_1 rfl)))) (Nat.le_of_ble_eq_true rfl) ?_
  refine E_widX (kc' := 7 + 2 * 0) (ks' := 120 + 13 * 0) (by omega) (by omega) ?_
  refine E_mem (M' := P ++ enQ P.length (e0 A W (cpV rv (fun _ => 0) 0 0 W)) 0) (by rw [enQ, enA_0]; rfl) ?_
  exact x_engI_loop hA7 hW12 hWN hN hrv (A + 1) 0 (by omega) (by omega) ⟨rfl, by rw [EM, List.append_nil]; rfl⟩

