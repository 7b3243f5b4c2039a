/-! ===== rows of the calculus: rows of rows made ===== -/
theorem outer_pl (c : ClassId) (N h0 : Nat) : ∀ i, (Jvm.Free.Multi.outerC c N h0 i).monitor = {} ∧ (Jvm.Free.Multi.outerC c N h0 i).hash = none
  | 0 => ⟨rfl, rfl⟩
  | i + 1 => outer_pl c N h0 i
theorem outer_eq (cA : ClassId) (n h : Nat) (f : Nat → Option Nat) (hf : ∀ j, j < n → f j = some (h + 1 + j)) : Jvm.Free.Multi.outerC cA n h n = arrV cA n (fun j => va_rf (f j)) := by
  obtain ⟨a1, a2, a3⟩ := Jvm.Free.Multi.outerC_facts cA n h n
  obtain ⟨b1, b2⟩ := outer_pl cA n h n
  refine cell_ext a1 ?_ b1 b2 a2
  refine Array.ext_getElem? (fun j => ?_)
  by_cases hj : j < n
  · rw [Jvm.Free.Multi.outerC_slot cA n h n j hj, if_pos hj, arrV_read _ _ hj, hf j hj]; rfl
  · rw [Array.getElem?_eq_none (by omega), Array.getElem?_eq_none (by rw [arrV_size]; omega)]
theorem inner_eq (comp : ClassId) (k : Nat) : Jvm.Free.Multi.innerC comp k (.int 0) = arrV comp k (fun _ => .int 0) := by
  refine cell_ext rfl ?_ rfl rfl rfl
  refine Array.ext_getElem? (fun j => ?_)
  by_cases hj : j < k
  · rw [arrV_read _ _ hj]
    show (Array.replicate k (Value.int 0))[j]? = _
    rw [Array.getElem?_replicate, if_pos hj]
  · rw [Array.getElem?_eq_none (by show (Array.replicate k (Value.int 0)).size ≤ j; rw [Array.size_replicate]; omega), Array.getElem?_eq_none (by rw [arrV_size]; omega)]
def mgC (n k L : Nat) : List ACell := .inl (5, n, .inr (.inr (.inr (.inr (fun j => if j < n then some (L + 1 + j) else none))))) :: List.replicate n (.inl (0, k, .inl (fun _ => 0)))
section
variable {cc : ByteArray} {X : Cx} {Qf : Qfun} {Qx : Qxun} {kc ks pc : Nat} {ls : List (Option Value)} {rest : List Value} {M : List ACell}
theorem mgC_len (n k L : Nat) : (mgC n k L).length = n + 1 := by unfold mgC; rw [List.length_cons, List.length_replicate]
theorem e_manew {own : String} {idx n k L : Nat} (hd : decode cc pc = .ok (.multianewarray idx 2, 4)) (ho : X.1 = own) (hcl : Cond.classLink own idx "[[I" ∈ lw_all) (hn : n ≤ 1000) (hk : k ≤ 1000) (hc : kc + (1 + n) ≤ X.2.2.2.2.1.1) (hs : ks + (n + n * k) ≤ X.2.2.2.2.1.2) (hL : M.length = L)
    (kk : E cc X Qf Qx (kc + 1 + n) (ks + n + n * k) (pc + 4) ls (.ref L :: rest) (M ++ mgC n k L)) : E cc X Qf Qx kc ks pc ls (.int (nI k) :: .int (nI n) :: rest) M := by
  subst hL
  intro p l e s m args below meth c D dA cs A ad0 n0 hK ad H locs lsA ha hn0 hR
  obtain ⟨r1, r2, r3, r4, r5, r6, r7⟩ := hR
  have hG := hK.2.2.2.2.2.2.2.2.2.1
  have cn : (nI n).toNatClampNeg = n := nI_clamp (by omega)
  have ck : (nI k).toNatClampNeg = k := nI_clamp (by omega)
  intro T hT XX
  obtain ⟨vm₁, cA, comp, hW, hfA, hfC, -, -, X1, step⟩ := XX.multianewarray2F (ty := .int) hK.1 (ho ▸ hK.2.2.2.2.1) (hK.2.2.2.2.2.1 _ hcl) hG.2.2.2.2.2.2.2.2.1 (hK.2.2.2.2.2.1 _ q270) (g := F0 m pc lsA ((.int (nI k) :: .int (nI n) :: rest).map (rnV ad cs))) rfl (by rw [hK.2.1]; exact hd) (n := nI n) (k := nI k) (rest := rest.map (rnV ad cs)) rfl (nI_pos (by omega)) (nI_pos (by omega)) (by rw [cn]; omega) (by rw [ck]; show k * 4 ≤ _; omega) (by rw [ck]; omega) rfl rfl (by rw [cn]; exact hc) (by rw [cn, ck]; exact hs)
  rw [cn, ck] at X1 step
  obtain ⟨f1, f2, -, -⟩ := Jvm.Free.Multi.fill_facts (T.setVm vm₁) cA comp n k (.int 0) n
  have fo := fun a (h : a < (T.setVm vm₁).heap.size) => Jvm.Free.Multi.fill_old (T.setVm vm₁) cA comp n k (.int 0) h n
  have fi := Jvm.Free.Multi.fill_inner (T.setVm vm₁) cA comp n k (.int 0) n
  have hTH : (T.setVm vm₁).heap = H := hT
  rw [hTH] at f1 f2 fo fi
  obtain ⟨G, hGd⟩ : ∃ G, Jvm.Free.Multi.fill (T.setVm vm₁) cA comp n k (.int 0) n = G := ⟨_, rfl⟩
  have hGd' : Jvm.Free.Multi.fill (T.setVm vm₁) cA comp n k (defaultValue .int) n = G := hGd
  rw [hGd'] at X1 step
  rw [hGd] at f1 f2 fo fi
  have eA : cA = dA 5 := Option.some.inj (hfA.symm.trans (hG.1.2 5 _ rfl).2)
  have eC : comp = dA 0 := Option.some.inj (hfC.symm.trans (hG.1.2 0 _ rfl).2)
  subst eA
  subst eC
  obtain ⟨ad', had⟩ : ∃ g : Nat → Nat, g = fun i => if i < M.length then ad i else H.size + (i - M.length) := ⟨_, rfl⟩
  have ag : ∀ i, i < M.length → ad' i = ad i := fun i hi => by rw [had]; exact if_pos hi
  have an : ∀ i, ad' (M.length + i) = H.size + i := fun i => by rw [had]; show (if M.length + i < M.length then _ else _) = _; rw [if_neg (by omega), Nat.add_sub_cancel_left]
  have hlt : ∀ i c, M[i]? = some c → ad i < H.size := fun i c h => (r1 i _ (rnM_at h)).lt
  have hlen : (M ++ mgC n k M.length).length = M.length + (n + 1) := by rw [List.length_append, mgC_len]
  have cell : ∀ i q, (rnM ad' cs dA (M ++ mgC n k M.length))[i]? = some q → (∃ c, M[i]? = some c ∧ q = (ad i, rnA ad cs dA c)) ∨ (∃ j, i = M.length + j ∧ j < n + 1 ∧ ∃ c, (mgC n k M.length)[j]? = some c ∧ q = (H.size + j, rnA ad' cs dA c)) := by
    intro i q hq
    rw [rnM_get] at hq
    by_cases hi : i < M.length
    · rw [List.getElem?_append_left hi] at hq
      obtain ⟨c, hc1, hc2⟩ := Option.map_eq_some_iff.mp hq
      refine Or.inl ⟨c, hc1, ?_⟩
      rw [← hc2, ag i hi, rnA.agree ag (r5 i c hc1)]
    · obtain ⟨j, rfl⟩ : ∃ j, i = M.length + j := ⟨i - M.length, by omega⟩
      rw [List.getElem?_append_right (by omega), Nat.add_sub_cancel_left] at hq
      obtain ⟨c, hc1, hc2⟩ := Option.map_eq_some_iff.mp hq
      have hj := (List.getElem?_eq_some_iff.mp hc1).1
      rw [mgC_len] at hj
      exact Or.inr ⟨j, rfl, hj, c, hc1, by rw [← hc2, an]⟩
  have hw := kk p l e s m args below meth c D dA cs A ad0 n0 hK ad' G.heap locs lsA (fun i hi => (ag i (Nat.lt_of_lt_of_le hi hn0)).trans (ha i hi)) (by rw [hlen]; omega) ⟨?_, ⟨?_, ?_⟩, ⟨?_, ?_, r3.2.2⟩, ⟨r4.1, r4.2.1, fun i v hv => by rw [rnV.agree ag (wfL_at r6 hv)]; exact r4.2.2 i v hv⟩, ?_, by rw [hlen]; exact wfL.mono (by omega) r6, ?_⟩
  · obtain ⟨t, a1, b1⟩ := hw G rfl X1
    refine ⟨t, step t ?_, b1⟩
    have e1 : ((Value.ref M.length :: rest).map (rnV ad' cs)) = .ref H.size :: rest.map (rnV ad cs) := by
      rw [List.map_cons]
      congr 1
      · show Value.ref (ad' M.length) = _
        have := an 0
        rw [Nat.add_zero, Nat.add_zero] at this
        rw [this]
      · exact List.map_congr_left (fun x hx => rnV.agree ag (r7 x (List.mem_cons_of_mem _ (List.mem_cons_of_mem _ hx))))
    rw [e1] at a1
    rw [show T.heap.size = H.size by rw [hT]]
    exact a1
  · intro i q hq
    rcases cell i q hq with ⟨c, hc1, rfl⟩ | ⟨j, rfl, hj, c, hc1, rfl⟩
    · exact (r1 i _ (rnM_at hc1)).kept (fo _ (hlt i c hc1))
    · cases j with
      | zero =>
        cases hc1
        show G.heap[H.size + 0]? = some (vp_cell (dA 5) (n, _))
        rw [Nat.add_zero, f2]
        refine congrArg some (outer_eq (dA 5) n H.size (fun j => (if j < n then some (M.length + 1 + j) else none).map ad') (fun j hj => ?_))
        show Option.map ad' (if j < n then some (M.length + 1 + j) else none) = _
        rw [if_pos hj, Option.map_some, Nat.add_assoc, an, ← Nat.add_assoc]
      | succ j =>
        have hj' : j < n := by omega
        have hc2 : (List.replicate n (.inl (0, k, .inl (fun _ => 0)) : ACell))[j]? = some c := hc1
        rw [List.getElem?_replicate, if_pos hj'] at hc2
        cases hc2
        show G.heap[H.size + (j + 1)]? = some (vp_cell (dA 0) (k, .inl (fun _ => 0)))
        rw [show H.size + (j + 1) = H.size + 1 + j by omega, fi j hj']
        exact congrArg some (inner_eq _ k)
  · intro i j x y hx hy hxy
    rcases cell i x hx with ⟨c, hc1, rfl⟩ | ⟨a, rfl, ha', c, hc1, rfl⟩ <;> rcases cell j y hy with ⟨c', hc1', rfl⟩ | ⟨b, rfl, hb', c', hc1', rfl⟩
    · exact r2.1 i j _ _ (rnM_at hc1) (rnM_at hc1') hxy
    · have h1 : ad i = H.size + b := hxy
      have := hlt i c hc1; omega
    · have h1 : H.size + a = ad j := hxy
      have := hlt j c' hc1'; omega
    · have h1 : H.size + a = H.size + b := hxy
      omega
  · intro i q hq
    rcases cell i q hq with ⟨c, hc1, rfl⟩ | ⟨j, rfl, hj, c, hc1, rfl⟩
    · exact r2.2 i _ (rnM_at hc1)
    · exact hK.2.2.2.2.2.2.2.2.1 _ (Nat.le_trans r3.1 (Nat.le_add_right _ _))
  · exact Nat.le_trans r3.1 (by rw [f1]; omega)
  · exact fun x h1 h2 => (fo x (Nat.lt_of_lt_of_le h1 r3.1)).trans (r3.2.1 x h1 h2)
  · intro i c hi
    rw [hlen]
    by_cases h : i < M.length
    · rw [List.getElem?_append_left h] at hi
      exact wfA.mono (by omega) (r5 i c hi)
    · rw [List.getElem?_append_right (by omega)] at hi
      rcases List.mem_cons.mp (List.mem_of_getElem? hi) with e1 | e1
      · subst e1
        intro j a' e2
        replace e2 : (if j < n then some (M.length + 1 + j) else none) = some a' := e2
        by_cases hj : j < n
        · rw [if_pos hj] at e2
          cases e2; omega
        · rw [if_neg hj] at e2
          cases e2
      · rw [List.eq_of_mem_replicate e1]; exact trivial
  · rw [hlen]
    exact wfS_cons (by show M.length < _; omega) (wfS.mono (by omega) (wfS_tl (wfS_tl r7)))
end
