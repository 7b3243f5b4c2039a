/-! ===== the component: one card ===== -/
theorem nwX2_102 : NW RX2 102 7 [.int 0, .null, .long 0, .int 0, .int 0] := ⟨RX7, TX7, 5, tyX7, rfl, in_X7, tyX7_ok, q883, q884, q117, rfl, by decide, rfl⟩
set_option maxHeartbeats 4000000 in
set_option maxRecDepth 100000 in
/-- WheelTables$Card.<init> -/
theorem x_cardI {P : List ACell} (K : Int32) : Ct yX7_init (ws_ yX7_init cX7_init 2 none) 0 1 4 [.ref P.length, .int K] (P ++ [.inr (7, [.int 0, .null, .long 0, .int 0, .int 0])]) (fun v M' => v = none ∧ M' = P ++ cdB P.length K (fun _ => 0) 0 0 0) noX := by
  refine Ct.of (ini := true) (ls := [some (.ref P.length), some (.int K)]) (by decide) (Nat.le_of_ble_eq_true rfl) (fun _ => rfl) rfl ?_
  refine e_aload_n dX7_init_0 0 rfl rfl rfl ?_
  refine e_objI dX7_init_1 rfl q888 q124 q125 (by decide) ?_
  refine e_aload_n dX7_init_4 0 rfl rfl rfl ?_
  refine e_iconst 4 dX7_init_5 rfl ?_
  refine e_newi (n := 4) (L := P.length + 1) dX7_init_6 rfl (by omega) (show 0 + 1 ≤ 1 by omega) (show 0 + 4 ≤ 4 by omega) (ap_l rfl) ?_
  refine E_mem (M' := P ++ [.inr (7, [.int 0, .null, .long 0, .int 0, .int 0]), .inl (0, 4, .inl (fun _ => 0))]) (Eq.symm (ap_p rfl)) ?_
  refine e_putf dX7_init_8 rfl pX7_7 (fun _ => rfl) (ap_g (k := 0) rfl) (Nat.le_of_ble_eq_true rfl) rfl ?_
  refine E_mem (M' := P ++ [.inr (7, [.int 0, .ref (P.length + 1), .long 0, .int 0, .int 0]), .inl (0, 4, .inl (fun _ => 0))]) (Eq.symm (ap_s (k := 0) rfl)) ?_
  refine e_aload_n dX7_init_11 0 rfl rfl rfl ?_
  refine e_iload_n dX7_init_12 1 rfl rfl ?_
  refine e_putf dX7_init_13 rfl pX7_13 (fun _ => rfl) (ap_g (k := 0) rfl) (Nat.le_of_ble_eq_true rfl) rfl ?_
  refine E_mem (M' := P ++ [.inr (7, [.int K, .ref (P.length + 1), .long 0, .int 0, .int 0]), .inl (0, 4, .inl (fun _ => 0))]) (Eq.symm (ap_s (k := 0) rfl)) ?_
  refine e_return dX7_init_16 rfl (Nat.le_of_ble_eq_true rfl) (Nat.le_of_ble_eq_true rfl) ?_
  exact ⟨rfl, rfl⟩

/-- a card, up to its sign -/
def pc168 (f : Nat → Int32) (n K a b c : Nat) (v : Int64) (t : Tok) : Er ⊕ (Cd × Tok) := if K = 4 then bdE (pzCnt f n 0 19 t) (fun x => .inr ((K, a, b, c, x.1, 0, v, 0), x.2)) else .inr ((K, a, b, c, 0, 0, v, 0), t)
def pc143 (f : Nat → Int32) (n K a b : Nat) (v : Int64) (t : Tok) : Er ⊕ (Cd × Tok) := if 1 ≤ K ∧ K ≤ 4 then bdE (pzCnt f n 0 19 t) (fun x => pc168 f n K a b x.1 v x.2) else pc168 f n K a b 0 v t
def pc118 (f : Nat → Int32) (n K a : Nat) (v : Int64) (t : Tok) : Er ⊕ (Cd × Tok) := if 1 ≤ K ∧ K ≤ 4 then bdE (pzCnt f n 0 19 t) (fun x => pc143 f n K a x.1 v x.2) else pc143 f n K a 0 v t
def pc109 (f : Nat → Int32) (n K a : Nat) (t : Tok) : Er ⊕ (Cd × Tok) := if K = 0 then bdE (pzWho f n t) (fun x => pc118 f n K a x.1 x.2) else pc118 f n K a 0 t
def pc96 (f : Nat → Int32) (n K : Nat) (t : Tok) : Er ⊕ (Cd × Tok) := bdE (pzCnt f n 0 19 t) (fun x => pc109 f n K x.1 x.2)
def pcX (f : Nat → Int32) (n K : Nat) (t : Tok) : Er ⊕ (Cd × Tok) := if K = 6 ∨ K = 7 then bdE (pzJmp f n t) (fun x => .inr ((K, x.1, 0, 0, 0, x.2.1, 0, t.2.1), x.2.2)) else pc96 f n K t
theorem bdE_bdE {α β γ : Type} (x : Er ⊕ α) (g : α → Er ⊕ β) (h : β → Er ⊕ γ) : bdE (bdE x g) h = bdE x (fun a => bdE (g a) h) := by cases x <;> rfl
section
variable {f : Nat → Int32} {n : Nat}
theorem pc168_e (K a b c : Nat) (v : Int64) (t : Tok) : pz168 f n K a b c v t = bdE (pc168 f n K a b c v t) (fun x => pzEnd f n x.1 x.2) := by
  unfold pz168 pc168
  split
  · rw [bdE_bdE]; rfl
  · rfl
theorem pc143_e (K a b : Nat) (v : Int64) (t : Tok) : pz143 f n K a b v t = bdE (pc143 f n K a b v t) (fun x => pzEnd f n x.1 x.2) := by
  unfold pz143 pc143
  split
  · rw [bdE_bdE]
    exact congrArg (bdE _) (funext fun x => pc168_e ..)
  · exact pc168_e ..
theorem pc118_e (K a : Nat) (v : Int64) (t : Tok) : pz118 f n K a v t = bdE (pc118 f n K a v t) (fun x => pzEnd f n x.1 x.2) := by
  unfold pz118 pc118
  split
  · rw [bdE_bdE]
    exact congrArg (bdE _) (funext fun x => pc143_e ..)
  · exact pc143_e ..
theorem pc109_e (K a : Nat) (t : Tok) : pz109 f n K a t = bdE (pc109 f n K a t) (fun x => pzEnd f n x.1 x.2) := by
  unfold pz109 pc109
  split
  · rw [bdE_bdE]
    exact congrArg (bdE _) (funext fun x => pc118_e ..)
  · exact pc118_e ..
theorem pcX_e {m : Nat} {t : Tok} (h8 : ¬ knT t = 8) (hm : ¬ m = 40) : pzCard f n m t = bdE (pcX f n (knT t) (nxT f n t)) (fun x => pzEnd f n x.1 x.2) := by
  unfold pzCard pcX
  rw [if_neg h8, if_neg hm]
  split
  · rw [bdE_bdE]; rfl
  · unfold pz96 pc96
    rw [bdE_bdE]
    exact congrArg (bdE _) (funext fun x => pc109_e ..)
end
/-- a card's cells tell it -/
def CdM (c : Cd) (at_ : Nat → Int32) (v : Int64) (w p : Int32) : Prop := (∀ j, j < 4 → ∃ a, a < 20 ∧ at_ j = nI a) ∧ (c.1 = 0 → at_ 0 = nI c.2.1 ∧ v = c.2.2.2.2.2.2.1 ∧ -999999999999 ≤ v ∧ v ≤ 999999999999) ∧ (1 ≤ c.1 ∧ c.1 ≤ 5 → at_ 0 = nI c.2.1) ∧ (1 ≤ c.1 ∧ c.1 ≤ 4 → at_ 1 = nI c.2.2.1 ∧ at_ 2 = nI c.2.2.2.1) ∧ (c.1 = 4 → at_ 3 = nI c.2.2.2.2.1) ∧ (6 ≤ c.1 → v = lN c.2.1 ∧ p = nI c.2.2.2.2.2.2.2 ∧ c.2.1 ≤ 40) ∧ w = nI c.2.2.2.2.2.1
