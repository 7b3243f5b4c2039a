/-! ===== rows of the calculus: ends, fields, arrays, new things ===== -/
section
variable {cc : ByteArray} {X : Cx} {Qf : Qfun} {Qx : Qxun} {kc ks pc : Nat} {ls ls' : List (Option Value)} {rest : List Value} {M : List ACell}
theorem e_ireturn {v : Int32} {ty : FieldType} (hd : decode cc pc = .ok (.ireturn, 1)) (hr : X.2.1 = some ty) (hn : narrow ty (.int v) = .int v) (hk : kc ≤ X.2.2.2.2.1.1) (hs : ks ≤ X.2.2.2.2.1.2) (hq : Qf (some (.int v)) M) : E cc X Qf Qx kc ks pc ls [.int v] M := by
  intro p l e s m args below meth c D dA cs A ad0 n0 hK ad H locs lsA ha hn0 hR
  obtain ⟨r1, r2, r3, r4, r5, r6, r7⟩ := hR
  refine W.widen hk hs ?_
  exact vx_ret (W.zret hK.1 hK.2.1 (hK.2.2.1.trans hr) hn (fun t ht hW => ⟨⟨some (.int v), M, ad, rfl, hq, ha, hn0, by rw [ht]; exact r1, r2, r5, fun w e => by cases e; trivial⟩, r3.F ht⟩) r3.2.2 hd hK.2.2.2.2.2.2.1)
theorem e_lreturn {v : Int64} (hd : decode cc pc = .ok (.lreturn, 1)) (hr : X.2.1 = some .long) (hk : kc ≤ X.2.2.2.2.1.1) (hs : ks ≤ X.2.2.2.2.1.2) (hq : Qf (some (.long v)) M) : E cc X Qf Qx kc ks pc ls [.long v] M := by
  intro p l e s m args below meth c D dA cs A ad0 n0 hK ad H locs lsA ha hn0 hR
  obtain ⟨r1, r2, r3, r4, r5, r6, r7⟩ := hR
  refine W.widen hk hs ?_
  exact vx_ret (W.lret hK.1 hK.2.1 (hK.2.2.1.trans hr) (fun t ht hW => ⟨⟨some (.long v), M, ad, rfl, hq, ha, hn0, by rw [ht]; exact r1, r2, r5, fun w e => by cases e; trivial⟩, r3.F ht⟩) r3.2.2 hd hK.2.2.2.2.2.2.1)
theorem e_dreturn {v : UInt64} (hd : decode cc pc = .ok (.dreturn, 1)) (hr : X.2.1 = some .double) (hk : kc ≤ X.2.2.2.2.1.1) (hs : ks ≤ X.2.2.2.2.1.2) (hq : Qf (some (.double v)) M) : E cc X Qf Qx kc ks pc ls [.double v] M := by
  intro p l e s m args below meth c D dA cs A ad0 n0 hK ad H locs lsA ha hn0 hR
  obtain ⟨r1, r2, r3, r4, r5, r6, r7⟩ := hR
  refine W.widen hk hs ?_
  exact vx_ret (W.dret hK.1 hK.2.1 (hK.2.2.1.trans hr) (fun t ht hW => ⟨⟨some (.double v), M, ad, rfl, hq, ha, hn0, by rw [ht]; exact r1, r2, r5, fun w e => by cases e; trivial⟩, r3.F ht⟩) r3.2.2 hd hK.2.2.2.2.2.2.1)
theorem e_areturn {v : Value} {ty : FieldType} (hd : decode cc pc = .ok (.areturn, 1)) (hr : X.2.1 = some ty) (hrt : (∃ n, ty = .object n) ∨ ∃ t, ty = .array t) (hv : isRf v = true) (hk : kc ≤ X.2.2.2.2.1.1) (hs : ks ≤ X.2.2.2.2.1.2) (hq : Qf (some v) M) : E cc X Qf Qx kc ks pc ls [v] M := by
  intro p l e s m args below meth c D dA cs A ad0 n0 hK ad H locs lsA ha hn0 hR
  obtain ⟨r1, r2, r3, r4, r5, r6, r7⟩ := hR
  refine W.widen hk hs ?_
  exact vx_ret (W.aret hK.1 hK.2.1 (hK.2.2.1.trans hr) hrt (rnV_rf hK.2.2.2.2.2.2.2.2.2.1.2.2.1 hv) (fun t ht hW => ⟨⟨some v, M, ad, rfl, hq, ha, hn0, by rw [ht]; exact r1, r2, r5, fun w e => by cases e; exact wfS_hd r7⟩, r3.F ht⟩) r3.2.2 hd hK.2.2.2.2.2.2.1)
theorem e_return (hd : decode cc pc = .ok (.return_, 1)) (hr : X.2.1 = none) (hk : kc ≤ X.2.2.2.2.1.1) (hs : ks ≤ X.2.2.2.2.1.2) (hq : Qf none M) : E cc X Qf Qx kc ks pc ls [] M := by
  intro p l e s m args below meth c D dA cs A ad0 n0 hK ad H locs lsA ha hn0 hR
  obtain ⟨r1, r2, r3, r4, r5, r6, r7⟩ := hR
  refine W.widen hk hs ?_
  exact vx_ret (W.vret hK.1 hK.2.1 (hK.2.2.1.trans hr) (fun t ht hW => ⟨⟨none, M, ad, rfl, hq, ha, hn0, by rw [ht]; exact r1, r2, r5, fun w e => by cases e⟩, r3.F ht⟩) r3.2.2 hd hK.2.2.2.2.2.2.1)
/-! fields -/
def FL (own : String) (idx ci k : Nat) : Prop := ∃ (C : String) (T : u_T) (N : Nat), glC[ci]? = some (C, T, N) ∧ (∀ w ∈ u_ws C T N, w ∈ lw_all) ∧ k < N ∧ (Cond.fieldLink own idx (T k).1 (T k).2.1 (T k).2.2.1 ∈ lw_all ∨ ∃ host, Cond.fieldLinkNest own idx (T k).1 (T k).2.1 (T k).2.2.1 host ∈ lw_tbl)
theorem e_getf {own : String} {idx ci k a : Nat} {fs : List Value} {v : Value} (hd : decode cc pc = .ok (.getfield idx, 3)) (ho : X.1 = own) (hf : FL own idx ci k) (hM : M[a]? = some (.inr (ci, fs))) (hv : fs[k]? = some v) (kk : E cc X Qf Qx kc ks (pc + 3) ls (v :: rest) M) : E cc X Qf Qx kc ks pc ls (.ref a :: rest) M := by
  intro p l e s m args below meth c D dA cs A ad0 n0 hK ad H locs lsA ha hn0 hR
  obtain ⟨r1, r2, r3, r4, r5, r6, r7⟩ := hR
  obtain ⟨C, T, N, hc, hin, hkN, hl⟩ := hf
  have hw : wfV M.length v := r5 a _ hM v (List.mem_of_getElem? hv)
  have he : (rnM ad cs dA M)[a]? = some (ad a, .inr (ci, fs.map (rnV ad cs))) := rnM_at hM
  have hv' : (fs.map (rnV ad cs))[k]? = some (rnV ad cs v) := by rw [List.getElem?_map, hv]; rfl
  have hk := kk p l e s m args below meth c D dA cs A ad0 n0 hK ad H locs lsA ha hn0 ⟨r1, r2, r3, r4, r5, r6, wfS_cons hw (wfS_tl r7)⟩
  rcases hl with hl | ⟨host, hl⟩
  · exact va_get hK.1 hK.2.1 hK.2.2.2.2.2.1 hin (ho ▸ hK.2.2.2.2.1) hK.2.2.2.2.2.2.2.2.2.1.1 r1 a he hc k hkN (hK.2.2.2.2.2.1 _ hl) (fun _ h => h) hv' hd hk
  · exact va_getN hK.1 hK.2.1 hK.2.2.2.2.2.1 hin (ho ▸ hK.2.2.2.2.1) hK.2.2.2.2.2.2.2.2.2.1.1 r1 a he hc k hkN (va_Nw.use rfl (hK.2.2.2.2.2.2.2.2.2.1.2.1 _ hl rfl)) (fun _ h => h) hv' hd hk
/-- a value of a type -/
def okv (ty : FieldType) (v : Value) : Bool := match ty, v with
  | .int, .int _ => true
  | .boolean, .int x => x == 0 || x == 1
  | .long, .long _ => true
  | .object _, v => isRf v
  | .array _, v => isRf v
  | _, _ => false
theorem okv_rf {v : Value} {ad : Nat → Nat} {cs : Nat → Value} (h : GC cs) (hv : isRf v = true) : (∀ n, narrow (.object n) (rnV ad cs v) = rnV ad cs v ∧ fits (.object n) (rnV ad cs v) = true) ∧ (∀ n, narrow (.array n) (rnV ad cs v) = rnV ad cs v ∧ fits (.array n) (rnV ad cs v) = true) := by
  rcases rnV_rf (ad := ad) h hv with e | ⟨a, e⟩ <;> rw [e] <;> exact ⟨fun n => ⟨rfl, rfl⟩, fun n => ⟨rfl, rfl⟩⟩
theorem okv_ok {ty : FieldType} {v : Value} {ad : Nat → Nat} {cs : Nat → Value} (h : GC cs) (hv : okv ty v = true) : narrow ty (rnV ad cs v) = rnV ad cs v ∧ fits ty (rnV ad cs v) = true := by
  cases ty with
  | object n => exact (okv_rf h hv).1 n
  | array n => exact (okv_rf h hv).2 n
  | int => cases v <;> first | (cases hv; done) | exact ⟨rfl, rfl⟩
  | long => cases v <;> first | (cases hv; done) | exact ⟨rfl, rfl⟩
  | boolean =>
    cases v with
    | int x =>
      have hx : x = 0 ∨ x = 1 := by simpa [okv] using hv
      rcases hx with rfl | rfl
      · exact ⟨(by decide : narrow .boolean (.int 0) = .int 0), (by decide : fits .boolean (.int 0) = true)⟩
      · exact ⟨(by decide : narrow .boolean (.int 1) = .int 1), (by decide : fits .boolean (.int 1) = true)⟩
    | _ => cases hv
  | _ => cases v <;> cases hv
theorem Rl.upd {s : State} {D : va_G} {dA : Nat → ClassId} {cs : Nat → Value} {A : Nat → Prop} {ad : Nat → Nat} {H H1 : Heap} {locs locs1 : List Loc} {lsA : Array Slot} {st st' : List Value} {a : Nat} {c : ACell} (h : Rl X s D dA cs A ad H locs lsA ls st M)
    (h1 : va_P D glC ((rnM ad cs dA M).set a (ad a, rnA ad cs dA c)) H1) (h2 : va_D A ((rnM ad cs dA M).set a (ad a, rnA ad cs dA c))) (h3 : va_S A s.heap H1 locs1) (hw : wfA M.length c) (hst : wfS M.length st') : Rl X s D dA cs A ad H1 locs1 lsA ls st' (M.set a c) := by
  obtain ⟨r1, r2, r3, r4, r5, r6, r7⟩ := h
  rw [rnM_set] at h1 h2
  exact ⟨h1, h2, h3, r4, r5.set hw, by rw [List.length_set]; exact r6, by rw [List.length_set]; exact hst⟩
def FP (own : String) (idx ci k : Nat) (fin : Bool) (ty : FieldType) : Prop := ∃ (C : String) (T : u_T) (N : Nat) (ty0 : Nat → FieldType), glC[ci]? = some (C, T, N) ∧ (∀ w ∈ u_ws C T N, w ∈ lw_all) ∧ k < N ∧
  ((fin = false ∧ (Cond.fieldLink own idx (T k).1 (T k).2.1 (T k).2.2.1 ∈ lw_all ∨ ∃ host, Cond.fieldLinkNest own idx (T k).1 (T k).2.1 (T k).2.2.1 host ∈ lw_tbl)) ∨ (fin = true ∧ Cond.fieldLink own idx (T k).1 (T k).2.1 (T k).2.2.1 ∈ lw_all ∧ (T k).1 = own)) ∧
  (T k).2.2.2 = fin ∧ parseFieldDescriptor (T k).2.2.1 = some ty ∧ (∀ k, k < N → parseFieldDescriptor (T k).2.2.1 = some (ty0 k)) ∧ (∀ a, a < N → ∀ b, b < N → a ≠ b → (T a).2.1 ≠ (T b).2.1)
theorem e_putf {own : String} {idx ci k a : Nat} {fin : Bool} {ty : FieldType} {fs : List Value} {v : Value} (hd : decode cc pc = .ok (.putfield idx, 3)) (ho : X.1 = own) (hf : FP own idx ci k fin ty) (hi : fin = true → X.2.2.2.2.2.1 = true) (hM : M[a]? = some (.inr (ci, fs))) (hl : k < fs.length) (hv : okv ty v = true) (kk : E cc X Qf Qx kc ks (pc + 3) ls rest (M.set a (.inr (ci, fs.set k v)))) : E cc X Qf Qx kc ks pc ls (v :: .ref a :: rest) M := by
  intro p l e s m args below meth c D dA cs A ad0 n0 hK ad H locs lsA ha hn0 hR
  have hR0 := hR
  obtain ⟨r1, r2, r3, r4, r5, r6, r7⟩ := hR
  obtain ⟨C, T, N, ty0, hc, hin, hkN, hlk, hfi, hpa, hty, hnm⟩ := hf
  obtain ⟨hn, hfit⟩ := okv_ok (ad := ad) hK.2.2.2.2.2.2.2.2.2.1.2.2.1 hv
  have he : (rnM ad cs dA M)[a]? = some (ad a, .inr (ci, fs.map (rnV ad cs))) := rnM_at hM
  have hl' : k < (fs.map (rnV ad cs)).length := by rw [List.length_map]; exact hl
  have hset : (fs.map (rnV ad cs)).set k (rnV ad cs v) = (fs.set k v).map (rnV ad cs) := List.map_set.symm
  have hwA : wfA M.length (.inr (ci, fs.set k v)) := fun w hw => by
    rcases List.mem_or_eq_of_mem_set hw with h1 | h1
    · exact r5 a _ hM w h1
    · rw [h1]; exact wfS_hd r7
  have hgo : ∀ (H1 : Heap) (locs1 : List Loc), va_P D glC ((rnM ad cs dA M).set a (ad a, .inr (ci, (fs.map (rnV ad cs)).set k (rnV ad cs v)))) H1 → va_D A ((rnM ad cs dA M).set a (ad a, .inr (ci, (fs.map (rnV ad cs)).set k (rnV ad cs v)))) → va_S A s.heap H1 locs1 →
      W p l e (rmD X.2.2.2.1 X.2.2.2.2.1.1 X.2.2.2.2.1.2) s m args below meth c H1 locs1 kc ks (QF Qf Qx below args s D dA cs A ad0 n0 X.2.2.2.2.1.1 X.2.2.2.2.1.2) (F0 m (pc + 3) lsA (rest.map (rnV ad cs))) := by
    intro H1 locs1 h1 h2 h3
    rw [hset] at h1 h2
    exact kk p l e s m args below meth c D dA cs A ad0 n0 hK ad H1 locs1 lsA ha (by rw [List.length_set]; exact hn0) (hR0.upd (c := .inr (ci, fs.set k v)) h1 h2 h3 hwA (wfS_tl (wfS_tl r7)))
  rcases hlk with ⟨hff, hl1 | ⟨host, hl1⟩⟩ | ⟨hff, hl1, hdecl⟩
  · exact va_put hK.1 hK.2.1 hK.2.2.2.2.2.1 hin ty0 hty hnm (ho ▸ hK.2.2.2.2.1) hK.2.2.2.2.2.2.2.2.2.1.1 r1 r2 r3 a he hc k hkN (hK.2.2.2.2.2.1 _ hl1) (fun _ h => h) (hfi.trans hff) hpa hn hfit hl' hd hgo
  · exact va_putN hK.1 hK.2.1 hK.2.2.2.2.2.1 hin ty0 hty hnm (ho ▸ hK.2.2.2.2.1) hK.2.2.2.2.2.2.2.2.2.1.1 r1 r2 r3 a he hc k hkN (va_Nw.use rfl (hK.2.2.2.2.2.2.2.2.2.1.2.1 _ hl1 rfl)) (fun _ h => h) (hfi.trans hff) hpa hn hfit hl' hd hgo
  · exact va_putF hK.1 hK.2.1 hK.2.2.2.2.2.1 hin ty0 hty hnm (ho ▸ hK.2.2.2.2.1) hK.2.2.2.2.2.2.2.2.2.1.1 r1 r2 r3 a he hc k hkN (hK.2.2.2.2.2.1 _ hl1) (fun _ h => h) (hfi.trans hff) (hK.2.2.2.2.2.2.2.1 (hi hff)) hdecl hpa hn hfit hl' hd hgo
end
