/-! ===== the start's strings: rows and contracts ===== -/
section
variable {cc : ByteArray} {X : Cx} {Qf : Qfun} {Qx : Qxun} {kc ks pc : Nat} {ls ls' : List (Option Value)} {rest : List Value} {M : List ACell}
theorem e_i2c {x : Int32} (hd : decode cc pc = .ok (.i2c, 1)) (k : E cc X Qf Qx kc ks (pc + 1) ls (.int (x.toUInt32 % 65536).toInt32 :: rest) M) : E cc X Qf Qx kc ks pc ls (.int x :: rest) M :=
  E.go (fun n h1 h2 => ⟨h1, wfS_cons (by exact trivial) (wfS_tl h2)⟩) (fun hK hl _ k => lv_i2c hK.1 hK.2.1 hd rfl (k _ hl)) k
def glTx : List (Nat × String) := [(83, " put add sub mul div print back on "), (128, "if"), (133, "up"), (135, "down")]
/-- the strings of the start, with their places -/
theorem GS.str {cs : Nat → Value} {A : Nat → Prop} {U : State} {H : Heap} (h : GS cs A U H) : ∃ adK adV : Nat → Nat, (∀ j, j < 4 → cs j = .ref (adK j) ∧ cs (20 + j) = .ref (adV j)) ∧ vk_S 4 glLen glByt adK adV A U H ∧ ∀ j, j < 4 → ∀ q, glTx[j]? = some q → vk_R RX2 q.1 q.2 (adK j) U := by
  obtain ⟨-, -, -, -, -, -, adK, adV, ⟨h5, h5'⟩, h6, h7, h8, h9, h10⟩ := h
  refine ⟨adK, adV, fun j hj => ⟨h5 j hj, h5' j hj⟩, h6, fun j hj q hq => ?_⟩
  rcases (show j = 0 ∨ j = 1 ∨ j = 2 ∨ j = 3 by omega) with rfl | rfl | rfl | rfl <;> cases hq
  · exact h7
  · exact h8
  · exact h9
  · exact h10
theorem e_ldcS {j : Nat} {q : Nat × String} (hj : j < 4) (hq : glTx[j]? = some q) (ho : X.1 = RX2) (hd : decode cc pc = .ok (.ldc q.1, 2)) (k : E cc X Qf Qx kc ks (pc + 2) ls (.retAddr j :: rest) M) : E cc X Qf Qx kc ks pc ls rest M :=
  E.go (fun n h1 h2 => ⟨h1, wfS_cons (by exact trivial) h2⟩) (fun {p l e s m args below meth c D dA cs A ad H locs lsA R Q} hK hl hS k => by
    obtain ⟨adK, adV, h1, h2, h3⟩ := GS.str hK.2.2.2.2.2.2.2.2.2.1.2.2.2.2.2.2.2.1
    have k' := k _ hl
    rw [List.map_cons, show rnV ad cs (.retAddr j) = cs j from rfl, (h1 j hj).1] at k'
    exact va_ldcS hK.1 hK.2.1 (ho ▸ hK.2.2.2.2.1) (h3 j hj q hq) hd k') k
theorem e_getfS {j : Nat} (hj : j < 4) (ho : X.1 = RJ4) (hd : decode cc pc = .ok (.getfield 9, 3)) (k : E cc X Qf Qx kc ks (pc + 3) ls (.retAddr (20 + j) :: rest) M) : E cc X Qf Qx kc ks pc ls (.retAddr j :: rest) M :=
  E.go (fun n h1 h2 => ⟨h1, wfS_cons (by exact trivial) (wfS_tl h2)⟩) (fun {p l e s m args below meth c D dA cs A ad H locs lsA R Q} hK hl hS k => by
    obtain ⟨adK, adV, h1, h2, h3⟩ := GS.str hK.2.2.2.2.2.2.2.2.2.1.2.2.2.2.2.2.2.1
    have k' := k _ hl
    rw [List.map_cons, show rnV ad cs (.retAddr (20 + j)) = cs (20 + j) from rfl, (h1 j hj).2] at k'
    rw [List.map_cons, show rnV ad cs (.retAddr j) = cs j from rfl, (h1 j hj).1]
    exact vk_getf hK.1 hK.2.1 (h2.1 j hj).2.2.1 hS ((show X.1 = "java/lang/String" from ho) ▸ hK.2.2.2.2.1) (hK.2.2.2.2.2.1 _ q1817) (fun _ h => h) hd k') k
theorem e_getfC {j : Nat} (hj : j < 4) (ho : X.1 = RJ4) (hd : decode cc pc = .ok (.getfield 15, 3)) (k : E cc X Qf Qx kc ks (pc + 3) ls (.int 0 :: rest) M) : E cc X Qf Qx kc ks pc ls (.retAddr j :: rest) M :=
  E.go (fun n h1 h2 => ⟨h1, wfS_cons (by exact trivial) (wfS_tl h2)⟩) (fun {p l e s m args below meth c D dA cs A ad H locs lsA R Q} hK hl hS k => by
    obtain ⟨adK, adV, h1, h2, h3⟩ := GS.str hK.2.2.2.2.2.2.2.2.2.1.2.2.2.2.2.2.2.1
    rw [List.map_cons, show rnV ad cs (.retAddr j) = cs j from rfl, (h1 j hj).1]
    exact vk_getf hK.1 hK.2.1 (h2.1 j hj).2.1 hS ((show X.1 = "java/lang/String" from ho) ▸ hK.2.2.2.2.1) (hK.2.2.2.2.2.1 _ q1818) (fun _ h => h) hd (k _ hl)) k
theorem e_alenS {j : Nat} (hj : j < 4) (hd : decode cc pc = .ok (.arraylength, 1)) (k : E cc X Qf Qx kc ks (pc + 1) ls (.int (nI (glLen.getD j 0)) :: rest) M) : E cc X Qf Qx kc ks pc ls (.retAddr (20 + j) :: rest) M :=
  E.go (fun n h1 h2 => ⟨h1, wfS_cons (by exact trivial) (wfS_tl h2)⟩) (fun {p l e s m args below meth c D dA cs A ad H locs lsA R Q} hK hl hS k => by
    obtain ⟨adK, adV, h1, h2, h3⟩ := GS.str hK.2.2.2.2.2.2.2.2.2.1.2.2.2.2.2.2.2.1
    rw [List.map_cons, show rnV ad cs (.retAddr (20 + j)) = cs (20 + j) from rfl, (h1 j hj).2]
    exact va_tlen hK.1 hK.2.1 (h2.1 j hj).2.2.2 hS rfl hd (k _ hl)) k
theorem e_baldS {j k : Nat} {i : Int32} (hj : j < 4) (hi : i = nI k) (hk : k < glLen.getD j 0) (hd : decode cc pc = .ok (.baload, 1)) (kk : E cc X Qf Qx kc ks (pc + 1) ls (.int ((glByt.getD j []).getD k 0) :: rest) M) : E cc X Qf Qx kc ks pc ls (.int i :: .retAddr (20 + j) :: rest) M :=
  E.go (fun n h1 h2 => ⟨h1, wfS_cons (by exact trivial) (wfS_tl (wfS_tl h2))⟩) (fun {p l e s m args below meth c D dA cs A ad H locs lsA R Q} hK hl hS k9 => by
    obtain ⟨adK, adV, h1, h2, h3⟩ := GS.str hK.2.2.2.2.2.2.2.2.2.1.2.2.2.2.2.2.2.1
    have hb : ∀ j, j < 4 → glLen.getD j 0 < 2147483648 := by decide
    obtain ⟨g1, g2⟩ := vp_of hi hk (hb j hj)
    rw [List.map_cons, List.map_cons, show rnV ad cs (.retAddr (20 + j)) = cs (20 + j) from rfl, (h1 j hj).2]
    exact va_tb hK.1 hK.2.1 (h2.1 j hj).2.2.2 hS g1 (by rw [g2]; rfl) hd (k9 _ hl)) kk
theorem e_getsC (ho : X.1 = RJ4) (hd : decode cc pc = .ok (.getstatic 38, 3)) (k : E cc X Qf Qx kc ks (pc + 3) ls (.int 1 :: rest) M) : E cc X Qf Qx kc ks pc ls rest M :=
  E.go (fun n h1 h2 => ⟨h1, wfS_cons (by exact trivial) h2⟩) (fun hK hl hS k => by
    have h := hK.2.2.2.2.2.2.2.2.2.1.2.2.2.2.2.2.2.1.2.2.2.2.1
    exact va_gets hK.1 hK.2.1 h hS ((show X.1 = "java/lang/String" from ho) ▸ hK.2.2.2.2.1) (hK.2.2.2.2.2.1 _ q823) (fun _ h => h) hd (k _ hl)) k
theorem e_getsF (ho : X.1 = RJ4) (hd : decode cc pc = .ok (.getstatic 1053, 3)) (k : E cc X Qf Qx kc ks (pc + 3) ls (.retAddr 12 :: rest) M) : E cc X Qf Qx kc ks pc ls rest M :=
  E.go (fun n h1 h2 => ⟨h1, wfS_cons (by exact trivial) h2⟩) (fun hK hl hS k => by
    have h := hK.2.2.2.2.2.2.2.2.2.1.2.2.2.2.2.2.2.1.2.2.2.2.2.1
    exact va_gets hK.1 hK.2.1 h hS ((show X.1 = "java/lang/String" from ho) ▸ hK.2.2.2.2.1) (hK.2.2.2.2.2.1 _ q839) (fun _ h => h) hd (k _ hl)) k
/-- a call of a string's method -/
theorem e_invVS {own : String} {idx n L d' mc' ms' j : Nat} {y : MethodName} {bts : ByteArray} {r : Option FieldType} {As : List Value} {Qf' : Qfun} {Qx' : Qxun} {st : List Value}
    (hd : decode cc pc = .ok (.invokevirtual idx, 3)) (ho : X.1 = own) (hw : MV own idx y bts L r n) (hj : j < 4) (hy : y.cls = "java/lang/String") (hC : Ct y (ws_ y bts L r) d' mc' ms' (.retAddr j :: As) M Qf' Qx') (hdd : d' + 1 ≤ X.2.2.2.1) (hst : st = As.reverse ++ .retAddr j :: rest) (hn : As.length = n) (hcat : (rest.map fun v => v.category).sum ≤ 8) (hmc : kc + mc' ≤ X.2.2.2.2.1.1) (hms : ks + ms' ≤ X.2.2.2.2.1.2)
    (kk : ∀ v M', Qf' v M' → M.length ≤ M'.length → E cc X Qf Qx (kc + mc') (ks + ms') (pc + 3) ls (v.toList ++ rest) M') (kx : ∀ cls w M', Qx' cls w M' → M.length ≤ M'.length → EX cc X Qf Qx (kc + mc') (ks + ms') pc ls cls w M') : E cc X Qf Qx kc ks pc ls st M := by
  intro p l e s m args below meth c D dA cs A ad0 n0 hK ad H locs lsA ha hn0 hR
  subst hst
  obtain ⟨r1, r2, r3, r4, r5, r6, r7⟩ := hR
  have hG := hK.2.2.2.2.2.2.2.2.2.1
  have hts := hK.2.2.2.2.2.1
  obtain ⟨adK, adV, h1, h2, h3⟩ := GS.str hG.2.2.2.2.2.2.2.1
  have ej : rnV ad cs (.retAddr j) = .ref (adK j) := (h1 j hj).1
  have hwr : wfS M.length rest := fun x hx => r7 x (List.mem_append_right _ (List.mem_cons_of_mem _ hx))
  have hwa : wfS M.length (.retAddr j :: As) := fun x hx => by
    rcases List.mem_cons.mp hx with e | h
    · exact r7 x (List.mem_append_right _ (by rw [e]; exact List.mem_cons_self))
    · exact r7 x (List.mem_append_left _ (List.mem_reverse.mpr h))
  have hrun := vx_runV (rest := rest.map (rnV ad cs)) (As := As.map (rnV ad cs)) (b := adK j) (C := y.cls) (g := F0 m pc lsA ((As.reverse ++ .retAddr j :: rest).map (rnV ad cs))) (cells := kc) (slots := ks) (locs := locs) (e := e) (below := below) (meth := meth) (R := rmD X.2.2.2.1 X.2.2.2.2.1.1 X.2.2.2.2.1.2) ⟨hK.1, hK.2.1, hK.2.2.2.1, ho ▸ hK.2.2.2.2.1, hts⟩ (hC l hK.2.2.2.2.2.2.2.2.2.2.1 D dA cs ad H.size r5 hwa)
    (cwV n hts (lw_V hw.1 hw.2.1 hw.2.2.1 hw.2.2.2.1 hw.2.2.2.2.1) rfl rfl rfl ⟨rfl, hw.2.2.2.2.2.1⟩ (rm_ok hdd hw.2.2.2.2.2.2))
    ⟨Pc_blind, by rw [hy]; exact vk_recv h2 hj r3, fun U hU hW => ⟨by rw [List.map_cons, ej], rnM_pre r1 r2 r3 hK.2.2.2.2.2.2.2.2.1 hG hU hW⟩⟩ rfl (by rw [List.length_map]; exact hn) r4.1 (by show List.map _ _ = _; rw [List.map_append, List.map_reverse, List.map_cons, ej]) (by rw [rnV_cats (GC.cat hG.2.2.1)]; show 2 * 0 + _ ≤ 8; omega) hd ⟨hmc, hms⟩
  rw [show (Value.ref (adK j) :: As.map (rnV ad cs)) = (Value.retAddr j :: As).map (rnV ad cs) by rw [List.map_cons, ej]] at hrun
  exact E.back hK ha hn0 ⟨r1, r2, r3, r4, r5, r6, hwr⟩ hrun kk kx
end
section
variable {cc : ByteArray} {X : Cx} {Qf : Qfun} {Qx : Qxun} {kc ks pc : Nat} {ls : List (Option Value)} {rest : List Value} {M M' : List ACell}
theorem e_callVS1 {own : String} {idx n L d' j : Nat} {y : MethodName} {bts : ByteArray} {r : Option FieldType} {As : List Value} {st : List Value} {v : Value}
    (hd : decode cc pc = .ok (.invokevirtual idx, 3)) (ho : X.1 = own) (hw : MV own idx y bts L r n) (hj : j < 4) (hy : y.cls = "java/lang/String") (hC : Ct y (ws_ y bts L r) d' 0 0 (.retAddr j :: As) M (Q1 (some v) M') noX) (hdd : d' + 1 ≤ X.2.2.2.1) (hst : st = As.reverse ++ .retAddr j :: rest) (hn : As.length = n) (hcat : (rest.map fun v => v.category).sum ≤ 8) (hmc : kc ≤ X.2.2.2.2.1.1) (hms : ks ≤ X.2.2.2.2.1.2)
    (k : E cc X Qf Qx kc ks (pc + 3) ls (v :: rest) M') : E cc X Qf Qx kc ks pc ls st M :=
  e_invVS hd ho hw hj hy hC hdd hst hn hcat hmc hms (fun w N h _ => by obtain ⟨rfl, rfl⟩ := h; exact k) (fun _ _ _ h => h.elim)
end
/-- a string's char -/
def chS (j k : Nat) : Int32 := (glByt.getD j []).getD k 0
theorem chS_ok : ∀ j, j < 4 → ∀ k, k < 35 → (((chS j k &&& 255).toUInt32 % 65536).toInt32 = chS j k ∧ narrow .char (.int (chS j k)) = .int (chS j k)) := by decide +kernel
theorem lenS_ok : ∀ j, j < 4 → glLen.getD j 0 ≤ 35 ∧ nI (glLen.getD j 0) >>> ((0 : Int32) &&& 31) = nI (glLen.getD j 0) := by decide +kernel
set_option maxRecDepth 100000 in
theorem s_coder {M : List ACell} {j : Nat} (hj : j < 4) : Ct yJ4_coder (ws_ yJ4_coder cJ4_coder 1 (some .byte)) 0 0 0 [.retAddr j] M (Q1 (some (.int 0)) M) noX := by
  refine Ct.ofF (ini := false) (ls := [some (.retAddr j)]) (by decide +kernel) (Nat.le_of_ble_eq_true rfl) (fun h => by cases h) rfl ?_
  refine e_getsC rfl dJ4_coder_0 ?_
  refine e_if_eq_f (by decide) 13 dJ4_coder_3 (by decide) ?_
  refine e_aload_n dJ4_coder_6 0 rfl rfl rfl ?_
  refine e_getfC hj rfl dJ4_coder_7 ?_
  refine e_goto 14 dJ4_coder_10 (by decide) ?_
  exact e_ireturn dJ4_coder_14 rfl rfl (Nat.zero_le _) (Nat.zero_le _) ⟨rfl, rfl⟩
set_option maxRecDepth 100000 in
theorem s_length {M : List ACell} {j : Nat} (hj : j < 4) : Ct yJ4_length (ws_ yJ4_length cJ4_length 1 (some .int)) 1 0 0 [.retAddr j] M (Q1 (some (.int (nI (glLen.getD j 0)))) M) noX := by
  refine Ct.ofF (ini := false) (ls := [some (.retAddr j)]) (by decide +kernel) (Nat.le_of_ble_eq_true rfl) (fun h => by cases h) rfl ?_
  refine e_aload_n dJ4_length_0 0 rfl rfl rfl ?_
  refine e_getfS hj rfl dJ4_length_1 ?_
  refine e_alenS hj dJ4_length_4 ?_
  refine e_aload_n dJ4_length_5 0 rfl rfl rfl ?_
  refine e_callVS1 (As := []) (rest := [.int (nI (glLen.getD j 0))]) dJ4_length_6 rfl mvJ4_335 hj rfl (s_coder hj) (Nat.le_of_ble_eq_true rfl) rfl rfl (Nat.le_of_ble_eq_true rfl) (Nat.zero_le _) (Nat.zero_le _) ?_
  refine e_ishr dJ4_length_9 ?_
  refine e_top (congrArg Value.int (lenS_ok j hj).2) ?_
  exact e_ireturn dJ4_length_10 rfl rfl (Nat.zero_le _) (Nat.zero_le _) ⟨rfl, rfl⟩
set_option maxRecDepth 100000 in
theorem s_isLatin1 {M : List ACell} {j : Nat} (hj : j < 4) : Ct yJ4_isLatin1 (ws_ yJ4_isLatin1 cJ4_isLatin1 1 (some .boolean)) 0 0 0 [.retAddr j] M (Q1 (some (.int 1)) M) noX := by
  refine Ct.ofF (ini := false) (ls := [some (.retAddr j)]) (by decide +kernel) (Nat.le_of_ble_eq_true rfl) (fun h => by cases h) rfl ?_
  refine e_getsC rfl dJ4_isLatin1_0 ?_
  refine e_if_eq_f (by decide) 17 dJ4_isLatin1_3 (by decide) ?_
  refine e_aload_n dJ4_isLatin1_6 0 rfl rfl rfl ?_
  refine e_getfC hj rfl dJ4_isLatin1_7 ?_
  refine e_if_ne_f (by decide) 17 dJ4_isLatin1_10 (by decide) ?_
  refine e_iconst 1 dJ4_isLatin1_13 rfl ?_
  refine e_goto 18 dJ4_isLatin1_14 (by decide) ?_
  exact e_ireturn dJ4_isLatin1_18 rfl rfl (Nat.zero_le _) (Nat.zero_le _) ⟨rfl, rfl⟩
set_option maxRecDepth 100000 in
theorem s_chk0 {M : List ACell} {k n : Nat} (hk : k < n) (hn : n ≤ 35) : Ct yJ10_checkIndex (ws_ yJ10_checkIndex cJ10_checkIndex 3 (some .int)) 0 0 0 [.int (nI k), .int (nI n), .retAddr 12] M (Q1 (some (.int (nI k))) M) noX := by
  refine Ct.ofF (ini := false) (ls := [some (.int (nI k)), some (.int (nI n)), some (.retAddr 12)]) (by decide +kernel) (Nat.le_of_ble_eq_true rfl) (fun h => by cases h) rfl ?_
  refine e_iload_n dJ10_checkIndex_0 0 rfl rfl ?_
  refine e_if_lt 9 dJ10_checkIndex_1 (by decide) (fun h => absurd h (nI_pos (by omega))) (fun h => ?_)
  refine e_iload_n dJ10_checkIndex_4 0 rfl rfl ?_
  refine e_iload_n dJ10_checkIndex_5 1 rfl rfl ?_
  refine e_icmp_ltN k n 16 (by omega) (by omega) dJ10_checkIndex_6 (by decide) (fun h => ?_) (fun h => absurd hk h)
  refine e_iload_n dJ10_checkIndex_16 0 rfl rfl ?_
  exact e_ireturn dJ10_checkIndex_17 rfl rfl (Nat.zero_le _) (Nat.zero_le _) ⟨rfl, rfl⟩
set_option maxRecDepth 100000 in
theorem s_chk {M : List ACell} {k n : Nat} (hk : k < n) (hn : n ≤ 35) : Ct yJ4_checkIndex (ws_ yJ4_checkIndex cJ4_checkIndex 2 none) 1 0 0 [.int (nI k), .int (nI n)] M (Q1 none M) noX := by
  refine Ct.ofF (ini := false) (ls := [some (.int (nI k)), some (.int (nI n))]) (by decide +kernel) (Nat.le_of_ble_eq_true rfl) (fun h => by cases h) rfl ?_
  refine e_iload_n dJ4_checkIndex_0 0 rfl rfl ?_
  refine e_iload_n dJ4_checkIndex_1 1 rfl rfl ?_
  refine e_getsF rfl dJ4_checkIndex_2 ?_
  refine e_callS1 (As := [.int (nI k), .int (nI n), .retAddr 12]) (rest := []) dJ4_checkIndex_5 rfl msJ4_1059 (s_chk0 hk hn) (Nat.le_of_ble_eq_true rfl) rfl rfl (Nat.le_of_ble_eq_true rfl) (Nat.zero_le _) (Nat.zero_le _) ?_
  refine e_pop dJ4_checkIndex_8 rfl ?_
  exact e_return dJ4_checkIndex_9 rfl (Nat.zero_le _) (Nat.zero_le _) ⟨rfl, rfl⟩
set_option maxRecDepth 100000 in
theorem s_chL {M : List ACell} {j k : Nat} (hj : j < 4) (hk : k < glLen.getD j 0) : Ct yJ9_charAt (ws_ yJ9_charAt cJ9_charAt 2 (some .char)) 2 0 0 [.retAddr (20 + j), .int (nI k)] M (Q1 (some (.int (chS j k))) M) noX := by
  refine Ct.ofF (ini := false) (ls := [some (.retAddr (20 + j)), some (.int (nI k))]) (by decide +kernel) (Nat.le_of_ble_eq_true rfl) (fun h => by cases h) rfl ?_
  have hl := (lenS_ok j hj).1
  refine e_iload_n dJ9_charAt_0 1 rfl rfl ?_
  refine e_aload_n dJ9_charAt_1 0 rfl rfl rfl ?_
  refine e_alenS hj dJ9_charAt_2 ?_
  refine e_callS0 (As := [.int (nI k), .int (nI (glLen.getD j 0))]) (rest := []) dJ9_charAt_3 rfl msJ9_9 (s_chk hk hl) (Nat.le_of_ble_eq_true rfl) rfl rfl (Nat.le_of_ble_eq_true rfl) (Nat.zero_le _) (Nat.zero_le _) ?_
  refine e_aload_n dJ9_charAt_6 0 rfl rfl rfl ?_
  refine e_iload_n dJ9_charAt_7 1 rfl rfl ?_
  refine e_baldS hj rfl hk dJ9_charAt_8 ?_
  refine e_sipush 255 dJ9_charAt_9 rfl ?_
  refine e_iand dJ9_charAt_12 ?_
  refine e_i2c dJ9_charAt_13 ?_
  refine e_top (congrArg Value.int (chS_ok j hj k (by omega)).1) ?_
  exact e_ireturn dJ9_charAt_14 rfl (chS_ok j hj k (by omega)).2 (Nat.zero_le _) (Nat.zero_le _) ⟨rfl, rfl⟩
set_option maxRecDepth 100000 in
theorem s_charAt {M : List ACell} {j k : Nat} (hj : j < 4) (hk : k < glLen.getD j 0) : Ct yJ4_charAt (ws_ yJ4_charAt cJ4_charAt 2 (some .char)) 3 0 0 [.retAddr j, .int (nI k)] M (Q1 (some (.int (chS j k))) M) noX := by
  refine Ct.ofF (ini := false) (ls := [some (.retAddr j), some (.int (nI k))]) (by decide +kernel) (Nat.le_of_ble_eq_true rfl) (fun h => by cases h) rfl ?_
  have hl := (lenS_ok j hj).1
  refine e_aload_n dJ4_charAt_0 0 rfl rfl rfl ?_
  refine e_callVS1 (As := []) (rest := []) dJ4_charAt_1 rfl mvJ4_492 hj rfl (s_isLatin1 hj) (Nat.le_of_ble_eq_true rfl) rfl rfl (Nat.le_of_ble_eq_true rfl) (Nat.zero_le _) (Nat.zero_le _) ?_
  refine e_if_eq_f (by decide) 16 dJ4_charAt_4 (by decide) ?_
  refine e_aload_n dJ4_charAt_7 0 rfl rfl rfl ?_
  refine e_getfS hj rfl dJ4_charAt_8 ?_
  refine e_iload_n dJ4_charAt_11 1 rfl rfl ?_
  refine e_callS1 (As := [.retAddr (20 + j), .int (nI k)]) (rest := []) dJ4_charAt_12 rfl msJ4_495 (s_chL hj hk) (Nat.le_of_ble_eq_true rfl) rfl rfl (Nat.le_of_ble_eq_true rfl) (Nat.zero_le _) (Nat.zero_le _) ?_
  exact e_ireturn dJ4_charAt_15 rfl (chS_ok j hj k (by omega)).2 (Nat.zero_le _) (Nat.zero_le _) ⟨rfl, rfl⟩
