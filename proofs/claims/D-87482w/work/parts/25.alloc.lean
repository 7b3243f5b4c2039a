/-! ===== rows of the calculus: new things, casts ===== -/
section
variable {cc : ByteArray} {X : Cx} {Qf : Qfun} {Qx : Qxun} {kc ks pc : Nat} {ls ls' : List (Option Value)} {rest : List Value} {M : List ACell}
theorem rn_new {ad : Nat → Nat} {cs : Nat → Value} {n q : Nat} (h : wfS n rest) : (Value.ref n :: rest).map (rnV (va_up ad n q) cs) = .ref q :: rest.map (rnV ad cs) := by
  rw [List.map_cons]
  congr 1
  · show Value.ref (va_up ad n q n) = .ref q
    rw [va_up_self]
  · exact List.map_congr_left (fun x hx => rnV.agree (fun i hi => va_up_ne _ _ (Nat.ne_of_lt hi)) (h x hx))
theorem e_newa {atype : ArrayType} {ty : FieldType} {t n L : Nat} {c0 : ACon} {i : Int32} (hd : decode cc pc = .ok (.newarray atype, 2)) (hty : newarray.typeOf atype = ty) (hw : Cond.arrayClass ty ∈ lw_all) (ht : ∀ dA, (glT dA)[t]? = some (dA t, ty)) (hra : ∀ U c1 c2, va_RA U c1 ty → va_RA U c2 ty → c1 = c2) (hc0 : ∀ cA, vp_cell cA (n, c0) = arrV cA n (fun _ => defaultValue ty)) (hrn : ∀ ad, rnC ad c0 = c0) (hwf : ∀ n, wfC n c0) (hb : n * componentBytes ty ≤ 536870912)
    (hi : i = nI n) (hn : n < 2147483648) (hk : kc + 1 ≤ X.2.2.2.2.1.1) (hs : ks + n ≤ X.2.2.2.2.1.2) (hL : M.length = L) (k : E cc X Qf Qx (kc + 1) (ks + n) (pc + 2) ls (.ref L :: rest) (M ++ [.inl (t, n, c0)])) : E cc X Qf Qx kc ks pc ls (.int i :: rest) M := by
  subst hL
  refine E.mk (u := n) (c' := .inl (t, n, c0)) (st' := .ref M.length :: rest) (fun n' _ e h => ⟨wfS_cons (by rw [e]; exact Nat.lt_succ_self _) (wfS.mono (Nat.le_succ _) (wfS_tl h)), hwf _⟩) (fun {p l e s m args below meth c D dA cs A ad H locs lsA Q} hK hwM hwS hP hD hS k => ?_) k
  have hG := hK.2.2.2.2.2.2.2.2.2.1
  subst hi
  refine va_newa (a0 := (n, c0)) hK.1 hK.2.1 (by rw [hty]; exact hK.2.2.2.2.2.1 _ hw) hty hG.1 hP hD hS hK.2.2.2.2.2.2.2.2.1 (fun cA => hc0 cA) (nI_pos hn) (nI_clamp hn) hb hk hs hd (fun q cA H1 hK1 hP1 hD1 hS1 => ?_)
  have hcA : cA = dA t := by
    have e1 := (hK1.2 (glT dA).length (cA, ty) (by rw [List.getElem?_append_right (Nat.le_refl _), Nat.sub_self]; rfl)).2
    have e2 := (hG.1.2 t _ (ht dA)).2
    exact hra _ _ _ e1 e2
  subst hcA
  have hr : rnA (va_up ad M.length q) cs dA (.inl (t, n, c0)) = .inl (dA t, n, c0) := by
    show Sum.inl (dA t, n, rnC _ c0) = _
    rw [hrn]
  have hk := k q H1 (by rw [hr]; exact hP1) (by rw [hr]; exact hD1) hS1
  rw [rn_new (wfS_tl hwS)] at hk
  exact hk
theorem raP {ty : FieldType} (h : ∀ C, ty ≠ .object C) (U : State) (c1 c2 : ClassId) (h1 : va_RA U c1 ty) (h2 : va_RA U c2 ty) : c1 = c2 := by
  cases ty with
  | object C => exact absurd rfl (h C)
  | _ => exact Option.some.inj (h1.symm.trans h2)
theorem raO {C : String} (U : State) (c1 c2 : ClassId) (h1 : va_RA U c1 (.object C)) (h2 : va_RA U c2 (.object C)) : c1 = c2 := by
  obtain ⟨_, _, _, _, _, e1⟩ := h1
  obtain ⟨_, _, _, _, _, e2⟩ := h2
  exact Option.some.inj (e1.symm.trans e2)
theorem e_newi {n L : Nat} {i : Int32} (hd : decode cc pc = .ok (.newarray .int, 2)) (hi : i = nI n) (hn : n ≤ 100000) (hk : kc + 1 ≤ X.2.2.2.2.1.1) (hs : ks + n ≤ X.2.2.2.2.1.2) (hL : M.length = L) (k : E cc X Qf Qx (kc + 1) (ks + n) (pc + 2) ls (.ref L :: rest) (M ++ [.inl (0, n, .inl (fun _ => 0))])) : E cc X Qf Qx kc ks pc ls (.int i :: rest) M :=
  e_newa (ty := .int) hd rfl q270 (fun _ => rfl) (raP (fun _ h => by cases h)) (fun _ => rfl) (fun _ => rfl) (fun _ => by exact trivial) (by show n * 4 ≤ 536870912; omega) hi (by omega) hk hs hL k
theorem e_newl {n L : Nat} {i : Int32} (hd : decode cc pc = .ok (.newarray .long, 2)) (hi : i = nI n) (hn : n ≤ 100000) (hk : kc + 1 ≤ X.2.2.2.2.1.1) (hs : ks + n ≤ X.2.2.2.2.1.2) (hL : M.length = L) (k : E cc X Qf Qx (kc + 1) (ks + n) (pc + 2) ls (.ref L :: rest) (M ++ [.inl (1, n, .inr (.inl (fun _ => 0)))])) : E cc X Qf Qx kc ks pc ls (.int i :: rest) M :=
  e_newa (ty := .long) hd rfl q269 (fun _ => rfl) (raP (fun _ h => by cases h)) (fun _ => rfl) (fun _ => rfl) (fun _ => by exact trivial) (by show n * 8 ≤ 536870912; omega) hi (by omega) hk hs hL k
theorem e_newb {n L : Nat} {i : Int32} (hd : decode cc pc = .ok (.newarray .byte, 2)) (hi : i = nI n) (hn : n ≤ 100000) (hk : kc + 1 ≤ X.2.2.2.2.1.1) (hs : ks + n ≤ X.2.2.2.2.1.2) (hL : M.length = L) (k : E cc X Qf Qx (kc + 1) (ks + n) (pc + 2) ls (.ref L :: rest) (M ++ [.inl (2, n, .inl (fun _ => 0))])) : E cc X Qf Qx kc ks pc ls (.int i :: rest) M :=
  e_newa (ty := .byte) hd rfl q250 (fun _ => rfl) (raP (fun _ h => by cases h)) (fun _ => rfl) (fun _ => rfl) (fun _ => by exact trivial) (by show n * 1 ≤ 536870912; omega) hi (by omega) hk hs hL k
theorem e_news {n L : Nat} {i : Int32} (hd : decode cc pc = .ok (.newarray .short, 2)) (hi : i = nI n) (hn : n ≤ 100000) (hk : kc + 1 ≤ X.2.2.2.2.1.1) (hs : ks + n ≤ X.2.2.2.2.1.2) (hL : M.length = L) (k : E cc X Qf Qx (kc + 1) (ks + n) (pc + 2) ls (.ref L :: rest) (M ++ [.inl (3, n, .inl (fun _ => 0))])) : E cc X Qf Qx kc ks pc ls (.int i :: rest) M :=
  e_newa (ty := .short) hd rfl q489 (fun _ => rfl) (raP (fun _ h => by cases h)) (fun _ => rfl) (fun _ => rfl) (fun _ => by exact trivial) (by show n * 2 ≤ 536870912; omega) hi (by omega) hk hs hL k
theorem e_newz {n L : Nat} {i : Int32} (hd : decode cc pc = .ok (.newarray .boolean, 2)) (hi : i = nI n) (hn : n ≤ 100000) (hk : kc + 1 ≤ X.2.2.2.2.1.1) (hs : ks + n ≤ X.2.2.2.2.1.2) (hL : M.length = L) (k : E cc X Qf Qx (kc + 1) (ks + n) (pc + 2) ls (.ref L :: rest) (M ++ [.inl (4, n, .inl (fun _ => 0))])) : E cc X Qf Qx kc ks pc ls (.int i :: rest) M :=
  e_newa (ty := .boolean) hd rfl q596 (fun _ => rfl) (raP (fun _ h => by cases h)) (fun _ => rfl) (fun _ => rfl) (fun _ => by exact trivial) (by show n * 1 ≤ 536870912; omega) hi (by omega) hk hs hL k
/-- an array of references to a class of ours -/
theorem e_newq {own C : String} {idx t n L : Nat} {i : Int32} (hd : decode cc pc = .ok (.anewarray idx, 3)) (ho : X.1 = own) (hcl : Cond.classLink own idx C ∈ lw_all) (ht : ∀ dA, (glT dA)[t]? = some (dA t, .object C)) (hao : ∀ {D dA cs A s}, GX D dA cs A s s.heap → va_AO C s)
    (hi : i = nI n) (hn : n ≤ 100000) (hk : kc + 1 ≤ X.2.2.2.2.1.1) (hs : ks + n ≤ X.2.2.2.2.1.2) (hL : M.length = L) (k : E cc X Qf Qx (kc + 1) (ks + n) (pc + 3) ls (.ref L :: rest) (M ++ [.inl (t, n, .inr (.inr (.inr (.inr (fun _ => none)))))])) : E cc X Qf Qx kc ks pc ls (.int i :: rest) M := by
  subst hL
  have hn' : n < 2 ^ 31 := by omega
  refine E.mk (u := n) (c' := .inl (t, n, .inr (.inr (.inr (.inr (fun _ => none)))))) (st' := .ref M.length :: rest) (fun n' _ e h => ⟨wfS_cons (by rw [e]; exact Nat.lt_succ_self _) (wfS.mono (Nat.le_succ _) (wfS_tl h)), fun k a h => by cases h⟩) (fun {p l e s m args below meth c D dA cs A ad H locs lsA Q} hK hwM hwS hP hD hS k => ?_) k
  have hG := hK.2.2.2.2.2.2.2.2.2.1
  subst hi
  refine va_newq hK.1 hK.2.1 (ho ▸ hK.2.2.2.2.1) (hK.2.2.2.2.2.1 _ hcl) (hao hG) hG.1 hP hD hS hK.2.2.2.2.2.2.2.2.1 (nI_pos hn') (nI_clamp hn') (by omega) hk hs hd (fun q cA H1 hK1 hP1 hD1 hS1 => ?_)
  have hcA : cA = dA t := by
    have e1 := (hK1.2 (glT dA).length (cA, .object C) (by rw [List.getElem?_append_right (Nat.le_refl _), Nat.sub_self]; rfl)).2
    have e2 := (hG.1.2 t _ (ht dA)).2
    exact raO _ _ _ e1 e2
  subst hcA
  have hk := k q H1 hP1 hD1 hS1
  rw [rn_new (wfS_tl hwS)] at hk
  exact hk
/-- a new object, its fields at their defaults -/
def NW (own : String) (idx ci : Nat) (fs : List Value) : Prop := ∃ (C : String) (T : u_T) (N : Nat) (ty : Nat → FieldType), glC[ci]? = some (C, T, N) ∧ (∀ w ∈ u_ws C T N, w ∈ lw_all) ∧ (∀ k, k < N → parseFieldDescriptor (T k).2.2.1 = some (ty k)) ∧ Cond.classLink own idx C ∈ lw_all ∧ Cond.instantiable C N ∈ lw_all ∧ Cond.initialized C ∈ lw_all ∧ fs.length = N ∧ (∀ j, j < N → defaultValue (ty j) = vp_V fs j) ∧ fs.all (fun v => v.isDefault) = true
theorem df_rn {ad : Nat → Nat} {cs : Nat → Value} {fs : List Value} (h : fs.all (fun v => v.isDefault) = true) : fs.map (rnV ad cs) = fs ∧ ∀ n, ∀ v ∈ fs, wfV n v := by
  have h1 : ∀ v ∈ fs, rnV ad cs v = v ∧ ∀ n, wfV n v := fun v hv => by
    have := List.all_eq_true.mp h v hv
    cases v <;> first | exact ⟨rfl, fun _ => trivial⟩ | cases this
  refine ⟨?_, fun n v hv => (h1 v hv).2 n⟩
  rw [List.map_congr_left (fun v hv => (h1 v hv).1)]
  exact List.map_id' fs
theorem e_new {own : String} {idx ci L u : Nat} {fs : List Value} (hd : decode cc pc = .ok (.new idx, 3)) (ho : X.1 = own) (hw : NW own idx ci fs) (hu : fs.length = u) (hk : kc + 1 ≤ X.2.2.2.2.1.1) (hs : ks + u ≤ X.2.2.2.2.1.2) (hL : M.length = L) (k : E cc X Qf Qx (kc + 1) (ks + u) (pc + 3) ls (.ref L :: rest) (M ++ [.inr (ci, fs)])) : E cc X Qf Qx kc ks pc ls rest M := by
  subst hL
  obtain ⟨C, T, N, ty, hc, hin, hty, hcl, hinst, hini, hlen, hfs, hdf⟩ := hw
  have hN : u = N := hu.symm.trans hlen
  subst hN
  refine E.mk (u := u) (c' := .inr (ci, fs)) (st' := .ref M.length :: rest) (fun n' _ e h => ⟨wfS_cons (by rw [e]; exact Nat.lt_succ_self _) (wfS.mono (Nat.le_succ _) h), (df_rn (ad := id) (cs := fun _ => .null) hdf).2 _⟩) (fun {p l e s m args below meth c D dA cs A ad H locs lsA Q} hK hwM hwS hP hD hS k => ?_) k
  have hG := hK.2.2.2.2.2.2.2.2.2.1
  have hts := hK.2.2.2.2.2.1
  refine va_new hK.1 hK.2.1 hts hin ty hty (ho ▸ hK.2.2.2.2.1) (hts _ hcl) (hts _ hinst) (hts _ hini) hG.1 hP hD hS hK.2.2.2.2.2.2.2.2.1 hc hfs hk hs hd (fun q H1 hP1 hD1 hS1 => ?_)
  have hr : rnA (va_up ad M.length q) cs dA (.inr (ci, fs)) = .inr (ci, fs) := by
    show Sum.inr (ci, fs.map _) = _
    rw [(df_rn hdf).1]
  have hk := k q H1 (by rw [hr]; exact hP1) (by rw [hr]; exact hD1) hS1
  rw [rn_new hwS] at hk
  exact hk
/-- casts -/
theorem e_castA {own nm : String} {idx a t n : Nat} {c0 : ACon} {ty : FieldType} (hd : decode cc pc = .ok (.checkcast idx, 3)) (ho : X.1 = own) (hcl : Cond.classLink own idx nm ∈ lw_all) (hM : M[a]? = some (.inl (t, n, c0))) (ht : ∀ dA, (glT dA)[t]? = some (dA t, ty)) (hp : ∀ C, ty ≠ .object C) (hnm : "[" ++ ty.toString = nm) (k : E cc X Qf Qx kc ks (pc + 3) ls (.ref a :: rest) M) : E cc X Qf Qx kc ks pc ls (.ref a :: rest) M :=
  E.rd (fun n _ _ h => h) (fun {p l e s m args below meth c D dA cs A ad H locs lsA R Q} hK hP k => by
    have hG := hK.2.2.2.2.2.2.2.2.2.1
    refine va_castA hK.1 hK.2.1 (ho ▸ hK.2.2.2.2.1) (hK.2.2.2.2.2.1 _ hcl) hP a (rnM_at hM) ?_ hd k
    have e2 := (hG.1.2 t _ (ht dA)).2
    rw [← hnm]
    cases ty with
    | object C => exact absurd rfl (hp C)
    | _ => exact e2) k
theorem e_castN {idx : Nat} (hd : decode cc pc = .ok (.checkcast idx, 3)) (k : E cc X Qf Qx kc ks (pc + 3) ls (.null :: rest) M) : E cc X Qf Qx kc ks pc ls (.null :: rest) M :=
  E.rd (fun n _ _ h => h) (fun hK hP k => lv_castN hK.1 hK.2.1 hd k) k
end
