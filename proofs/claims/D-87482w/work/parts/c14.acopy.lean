/-! ===== System.arraycopy, where it copies ===== -/
set_option maxRecDepth 100000
theorem cell_ext {a b : Cell} (h1 : a.cls = b.cls) (h2 : a.slots = b.slots) (h3 : a.monitor = b.monitor) (h4 : a.hash = b.hash) (h5 : a.vm = b.vm) : a = b := by
  cases a; cases b; cases h1; cases h2; cases h3; cases h4; cases h5; rfl
/-- n from sp on in f laid into g from dp on -/
def cpV {α : Type} (f g : Nat → α) (sp dp n : Nat) : Nat → α := fun k => if dp ≤ k ∧ k < dp + n then f (sp + (k - dp)) else g k
theorem cpV_map {α β : Type} (h : α → β) (f g : Nat → α) (sp dp n : Nat) : (fun k => h (cpV f g sp dp n k)) = cpV (fun k => h (f k)) (fun k => h (g k)) sp dp n := by
  funext k
  unfold cpV
  by_cases e : dp ≤ k ∧ k < dp + n
  · rw [if_pos e, if_pos e]
  · rw [if_neg e, if_neg e]
theorem arrV_copied {cA : ClassId} {n1 n2 sp dp n : Nat} {f g : Nat → Value} (h1 : sp + n ≤ n1) (h2 : dp + n ≤ n2) : (arrV cA n2 g).storeRun dp ((arrV cA n1 f).stretch sp n) = arrV cA n2 (cpV f g sp dp n) := by
  obtain ⟨c1, c2, c3, c4, c5⟩ := (arrV cA n2 g).storeRun_facts dp ((arrV cA n1 f).stretch sp n)
  refine cell_ext c1 ?_ c5 c4 c2
  refine Array.ext_getElem? (fun j => ?_)
  rw [Cell.storeRun_get _ _ _ _ (by rw [Cell.stretch_length, arrV_size]; exact h2), Cell.stretch_length]
  by_cases hr : dp ≤ j ∧ j < dp + n
  · rw [if_pos hr, arrV_read _ _ (show j < n2 by omega)]
    unfold Cell.stretch cpV
    rw [List.getElem?_map, List.getElem?_range (by omega), if_pos hr]
    show some ((arrV cA n1 f).slots.getD (sp + (j - dp)) .null) = _
    rw [Array.getD_eq_getD_getElem?, arrV_read _ _ (show sp + (j - dp) < n1 by omega)]
    rfl
  · rw [if_neg hr]
    by_cases hj : j < n2
    · rw [arrV_read _ _ hj, arrV_read _ _ hj]
      unfold cpV
      rw [if_neg hr]
    · rw [Array.getElem?_eq_none (by rw [arrV_size]; omega), Array.getElem?_eq_none (by rw [arrV_size]; omega)]
theorem va_S.puts {A : Nat → Prop} {H0 H H1 : Heap} {locs L : List Loc} {a : Nat} (h : va_S A H0 H locs) (z : H1.size = H.size) (oq : ∀ q : Nat, q ≠ a → H1[q]? = H[q]?) (ha : A a) (hL : ∀ l ∈ L, l.base = a) : va_S A H0 H1 (locs ++ L) := by
  refine ⟨by rw [z]; exact h.1, fun q h1 h2 => ?_, fun q hq => ?_⟩
  · rw [oq q (fun e => h2 (by rw [e]; exact ha))]
    exact h.2.1 q h1 h2
  · rcases List.mem_append.mp hq with h1 | h1
    · exact h.2.2 q h1
    · rw [hL q h1]; exact ha
section
variable {p : Program} {l : Launch} {e : Env} {R : Room} {s : State} {m : MethodId} {args : Array Value} {below : List Frame} {meth : Method} {c : Code} {H : Heap} {locs : List Loc} {cells slots : Nat} {Q : State → Prop}
variable {cc : ByteArray} {pc : Nat} {ls : Array Slot} {rest : List Value} {D : va_G} {cl : List vw_C} {tys : List (ClassId × FieldType)} {ws : va_W} {A : Nat → Prop} {H0 : Heap}
theorem va_acopy {own : String} {idx : Nat} (hexec : p.tables.exec = Jvm.exec) (hb : c.code = cc) (hown : s.vm.findClass own = some m.cls) (hts : ∀ w ∈ lw_all, w.before args s = true) (hl : Cond.methodLink own idx arraycopyName ∈ lw_all) (hls : ls.size = c.maxLocals) (hfr : 1 ≤ R.frames) (hlo : (rest.map fun v => v.category).sum + 30 ≤ R.locals)
    (hK : va_K D cl tys s) (hP : va_P D cl ws H) (hD : va_D A ws) (hS : va_S A H0 H locs) (q1 q2 t0 : Nat) {cA : ClassId} {a1 a2 n1 n2 sp dp n : Nat} {e1 e2 e3 : ACon} {F1 F2 : Nat → Value} {ty : FieldType} (ha1 : ws[q1]? = some (a1, .inl (cA, n1, e1))) (ha2 : ws[q2]? = some (a2, .inl (cA, n2, e2))) (ht : tys[t0]? = some (cA, ty))
    (v1 : vp_cell cA (n1, e1) = arrV cA n1 F1) (v2 : vp_cell cA (n2, e2) = arrV cA n2 F2) (v3 : vp_cell cA (n2, e3) = arrV cA n2 (cpV F1 F2 sp dp n)) (hfit : ∀ k, k < n1 → fits ty (F1 k) = true) (hnr : ∀ k, (∃ x, F1 k = .int x) ∨ ∃ x, F1 k = .long x)
    (h1 : sp + n ≤ n1) (h2 : dp + n ≤ n2) (b1 : n1 < 2147483648) (b2 : n2 < 2147483648) (hdg : decode cc pc = .ok (.invokestatic idx, 3))
    (kk : ∀ (H1 : Heap) (locs1 : List Loc), va_P D cl (ws.set q2 (a2, .inl (cA, n2, e3))) H1 → va_D A (ws.set q2 (a2, .inl (cA, n2, e3))) → va_S A H0 H1 locs1 → W p l e R s m args below meth c H1 locs1 cells slots Q (F0 m (pc + 3) ls rest)) :
    W p l e R s m args below meth c H locs cells slots Q (F0 m pc ls (.int (nI n) :: .int (nI dp) :: .ref a2 :: .int (nI sp) :: .ref a1 :: rest)) := by
  intro T hT X
  have g1 : T.heap[a1]? = some (arrV cA n1 F1) := by rw [hT, ← v1]; exact hP q1 _ ha1
  have g2 : T.heap[a2]? = some (arrV cA n2 F2) := by rw [hT, ← v2]; exact hP q2 _ ha2
  obtain ⟨o1, k, hk, comp, hkind⟩ := (hK.2 t0 _ ht).1 n1 F1
  have o2 := ((hK.2 t0 _ ht).1 n2 F2).1
  have csp : (nI sp).toNatClampNeg = sp := nI_clamp (by omega)
  have cdp : (nI dp).toNatClampNeg = dp := nI_clamp (by omega)
  have cn : (nI n).toNatClampNeg = n := nI_clamp (by omega)
  obtain ⟨vm', X', st⟩ := X.arraycopy hexec hown (hts _ hl) (hts _ q566) (hts _ q565) (hts _ q108) g1 g2 o1 o2 (fun q => by cases q) (fun q => by cases q) hk hk hkind hkind (by simp) (nI_pos (by omega)) (nI_pos (by omega)) (nI_pos (by omega))
    (by rw [nI_toInt (by omega), nI_toInt (by omega), arrV_size]; omega) (by rw [nI_toInt (by omega), nI_toInt (by omega), arrV_size]; omega)
    (fun vm' _ i hi => by
      rw [cn] at hi
      rw [csp, Array.getD_eq_getD_getElem?, arrV_read _ _ (show sp + i < n1 by omega)]
      refine ⟨hfit _ (by omega), ?_⟩
      rcases hnr (sp + i) with ⟨x, hx⟩ | ⟨x, hx⟩
      · show State.takes _ _ (F1 (sp + i)); rw [hx]; trivial
      · show State.takes _ _ (F1 (sp + i)); rw [hx]; trivial)
    (g := F0 m pc ls (.int (nI n) :: .int (nI dp) :: .ref a2 :: .int (nI sp) :: .ref a1 :: rest)) rfl hls (rest := rest) rfl (by rw [hb]; exact hdg) hfr (by show 2 * 0 + (rest.map fun v => v.category).sum + (7 + 11) ≤ R.locals; omega)
  have cpe : copied (arrV cA n1 F1) (arrV cA n2 F2) (nI sp) (nI dp) (nI n) = arrV cA n2 (cpV F1 F2 sp dp n) := by
    unfold copied
    rw [csp, cdp, cn]
    exact arrV_copied h1 h2
  have hlt : a2 < (T.setVm vm').heap.size := (Array.getElem?_eq_some_iff.mp g2).1
  obtain ⟨t, x1, y1⟩ := kk _ _ (hP.set (H1 := ((T.setVm vm').setCell a2 (copied (arrV cA n1 F1) (arrV cA n2 F2) (nI sp) (nI dp) (nI n))).heap) hD ha2 (by
      show _ = some (vp_cell cA (n2, e3))
      rw [heapAt_setCell_self _ hlt, v3, cpe]) (fun q hq => by rw [heapAt_setCell_ne _ (Ne.symm hq), ← hT]; rfl)) (hD.set ha2) (hS.puts (by rw [size_setCell, ← hT]; rfl) (fun q hq => by rw [heapAt_setCell_ne _ (Ne.symm hq), ← hT]; rfl) (hD.2 q2 _ ha2) (fun l hl => by
      obtain ⟨z, -, rfl⟩ := List.mem_map.mp hl; rfl)) _ rfl X'
  exact ⟨t, st t x1, y1⟩
end
section
variable {cc : ByteArray} {X : Cx} {Qf : Qfun} {Qx : Qxun} {kc ks pc : Nat} {ls : List (Option Value)} {rest : List Value} {M : List ACell}
/-- ints (bytes, shorts) copied -/
theorem e_acopyI {own : String} {idx t a1 a2 n1 n2 sp dp n : Nat} {f g : Nat → Int32} {ty : FieldType} (hd : decode cc pc = .ok (.invokestatic idx, 3)) (ho : X.1 = own) (hl : Cond.methodLink own idx arraycopyName ∈ lw_all) (hM1 : M[a1]? = some (.inl (t, n1, .inl f))) (hM2 : M[a2]? = some (.inl (t, n2, .inl g))) (ht : ∀ dA, (glT dA)[t]? = some (dA t, ty)) (hfit : ∀ k, k < n1 → fits ty (.int (f k)) = true)
    (h1 : sp + n ≤ n1) (h2 : dp + n ≤ n2) (b1 : n1 < 2147483648) (b2 : n2 < 2147483648) (hcat : (rest.map fun v => v.category).sum ≤ 100) (kk : E cc X Qf Qx kc ks (pc + 3) ls rest (M.set a2 (.inl (t, n2, .inl (cpV f g sp dp n))))) : E cc X Qf Qx kc ks pc ls (.int (nI n) :: .int (nI dp) :: .ref a2 :: .int (nI sp) :: .ref a1 :: rest) M := by
  intro p l e s m args below meth c D dA cs A ad0 n0 hK ad H locs lsA ha hn hR
  have hR0 := hR
  obtain ⟨r1, r2, r3, r4, r5, r6, r7⟩ := hR
  have hG := hK.2.2.2.2.2.2.2.2.2.1
  have hw : wfS M.length rest := fun v hv => r7 v (List.mem_cons_of_mem _ (List.mem_cons_of_mem _ (List.mem_cons_of_mem _ (List.mem_cons_of_mem _ (List.mem_cons_of_mem _ hv)))))
  exact va_acopy hK.1 hK.2.1 (ho ▸ hK.2.2.2.2.1) hK.2.2.2.2.2.1 hl (r4.1.trans hK.2.2.2.1.symm) (by simp only [rmD]; omega) (by rw [rnV_cats (GC.cat hG.2.2.1)]; simp only [rmD]; omega) hG.1 r1 r2 r3 a1 a2 t (F1 := fun k => .int (f k)) (F2 := fun k => .int (g k)) (e3 := .inl (cpV f g sp dp n)) (rnM_at hM1) (rnM_at hM2) (ht dA) rfl rfl
    (show vp_cell (dA t) (n2, .inl (cpV f g sp dp n)) = _ from congrArg (arrV (dA t) n2) (cpV_map Value.int f g sp dp n)) hfit (fun k => Or.inl ⟨_, rfl⟩) h1 h2 b1 b2 hd
    (fun H1 locs1 h1 h2 h3 => kk p l e s m args below meth c D dA cs A ad0 n0 hK ad H1 locs1 lsA ha (by rw [List.length_set]; exact hn) (hR0.upd (a := a2) (c := .inl (t, n2, .inl (cpV f g sp dp n))) h1 h2 h3 (by exact trivial) hw))
/-- longs copied -/
theorem e_acopyL {own : String} {idx a1 a2 n1 n2 sp dp n : Nat} {f g : Nat → Int64} (hd : decode cc pc = .ok (.invokestatic idx, 3)) (ho : X.1 = own) (hl : Cond.methodLink own idx arraycopyName ∈ lw_all) (hM1 : M[a1]? = some (.inl (1, n1, .inr (.inl f)))) (hM2 : M[a2]? = some (.inl (1, n2, .inr (.inl g))))
    (h1 : sp + n ≤ n1) (h2 : dp + n ≤ n2) (b1 : n1 < 2147483648) (b2 : n2 < 2147483648) (hcat : (rest.map fun v => v.category).sum ≤ 100) (kk : E cc X Qf Qx kc ks (pc + 3) ls rest (M.set a2 (.inl (1, n2, .inr (.inl (cpV f g sp dp n)))))) : E cc X Qf Qx kc ks pc ls (.int (nI n) :: .int (nI dp) :: .ref a2 :: .int (nI sp) :: .ref a1 :: rest) M := by
  intro p l e s m args below meth c D dA cs A ad0 n0 hK ad H locs lsA ha hn hR
  have hR0 := hR
  obtain ⟨r1, r2, r3, r4, r5, r6, r7⟩ := hR
  have hG := hK.2.2.2.2.2.2.2.2.2.1
  have hw : wfS M.length rest := fun v hv => r7 v (List.mem_cons_of_mem _ (List.mem_cons_of_mem _ (List.mem_cons_of_mem _ (List.mem_cons_of_mem _ (List.mem_cons_of_mem _ hv)))))
  exact va_acopy hK.1 hK.2.1 (ho ▸ hK.2.2.2.2.1) hK.2.2.2.2.2.1 hl (r4.1.trans hK.2.2.2.1.symm) (by simp only [rmD]; omega) (by rw [rnV_cats (GC.cat hG.2.2.1)]; simp only [rmD]; omega) hG.1 r1 r2 r3 a1 a2 1 (F1 := fun k => .long (f k)) (F2 := fun k => .long (g k)) (e3 := .inr (.inl (cpV f g sp dp n))) (ty := .long) (rnM_at hM1) (rnM_at hM2) rfl rfl rfl
    (show vp_cell (dA 1) (n2, .inr (.inl (cpV f g sp dp n))) = _ from congrArg (arrV (dA 1) n2) (cpV_map Value.long f g sp dp n)) (fun _ _ => rfl) (fun k => Or.inr ⟨_, rfl⟩) h1 h2 b1 b2 hd
    (fun H1 locs1 h1 h2 h3 => kk p l e s m args below meth c D dA cs A ad0 n0 hK ad H1 locs1 lsA ha (by rw [List.length_set]; exact hn) (hR0.upd (a := a2) (c := .inl (1, n2, .inr (.inl (cpV f g sp dp n)))) h1 h2 h3 (by exact trivial) hw))
end
