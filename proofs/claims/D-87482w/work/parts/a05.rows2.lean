/-! ===== rows of the calculus: rows of rows, wide constants, exceptions ===== -/
section
variable {p : Program} {l : Launch} {e : Env} {R : Room} {s : State} {m : MethodId} {args : Array Value} {below : List Frame} {meth : Method} {c : Code} {H : Heap} {locs : List Loc} {cells slots : Nat} {Q : State → Prop}
variable {cc : ByteArray} {pc : Nat} {ls : Array Slot} {rest : List Value} {D : va_G} {cl : List vw_C} {a : Nat} {tys : List (ClassId × FieldType)} {ws : va_W}
theorem va_aldqA (hexec : p.tables.exec = Jvm.exec) (hb : c.code = cc) (hK : va_K D cl tys s) (hP : va_P D cl ws H) (q0 t0 : Nat) {cA : ClassId} {n : Nat} {f : Nat → Option Nat} (ha : ws[q0]? = some (a, .inl (cA, n, .inr (.inr (.inr (.inr f)))))) (ht : tys[t0]? = some (cA, .array .int)) {i : Int32} (hin : vp_in i n) (hdg : decode cc pc = .ok (.aaload, 1))
    (kk : W p l e R s m args below meth c H locs cells slots Q (F0 m (pc + 1) ls (va_rf (f i.toNatClampNeg) :: rest))) : W p l e R s m args below meth c H locs cells slots Q (F0 m pc ls (.int i :: .ref a :: rest)) := by
  have hlt : i.toNatClampNeg < n := Nat.not_le.mp fun q => hin (Or.inr q)
  exact W.aald (v := va_rf (f i.toNatClampNeg)) (ty := .array .int) hexec hb (hP q0 _ ha) ((hK.2 t0 _ ht).1 n (fun j => va_rf (f j))) rfl (fun q => by cases q) (by show ¬ (i < 0 ∨ (arrV _ _ _).slots.size ≤ _); rw [arrV_size]; exact hin) (by show (arrV _ _ _).slots[_]? = _; rw [arrV_read _ _ hlt]) rfl rfl hdg kk
end
section
variable {cc : ByteArray} {X : Cx} {Qf : Qfun} {Qx : Qxun} {kc ks pc : Nat} {ls ls' : List (Option Value)} {rest : List Value} {M : List ACell}
theorem e_ldcw {i : Nat} {v : Int32} {own : String} (ho : X.1 = own) (hc : Cond.constant own i v ∈ lw_all) (hd : decode cc pc = .ok (.ldc_w i, 3)) (k : E cc X Qf Qx kc ks (pc + 3) ls (.int v :: rest) M) : E cc X Qf Qx kc ks pc ls rest M :=
  E.go (fun n h1 h2 => ⟨h1, wfS_cons (by exact trivial) h2⟩) (fun hK hl _ k => lv_ldcw hK.1 hK.2.1 (ho ▸ hK.2.2.2.2.1) (hK.2.2.2.2.2.1 _ hc) hd (k _ hl)) k
theorem e_aaldA {a n j : Nat} {f : Nat → Option Nat} {i : Int32} (hd : decode cc pc = .ok (.aaload, 1)) (hM : M[a]? = some (.inl (5, n, .inr (.inr (.inr (.inr f)))))) (hi : i = nI j) (hj : j < n) (hn : n < 2147483648) (k : E cc X Qf Qx kc ks (pc + 1) ls (rfO (f j) :: rest) M) : E cc X Qf Qx kc ks pc ls (.int i :: .ref a :: rest) M :=
  E.rd (fun n hw hn h => wfS_cons (by
      subst hn
      cases hf : f j with
      | none => trivial
      | some b => exact hw a _ hM j b hf) (wfS_tl (wfS_tl h))) (fun {p l e s m args below meth c D dA cs A ad H locs lsA R Q} hK hP k => by
    obtain ⟨h1, h2⟩ := vp_of hi hj hn
    rw [List.map_cons, rnV_rfO] at k
    exact va_aldqA hK.1 hK.2.1 hK.2.2.2.2.2.2.2.2.2.1.1 hP a 5 (rnM_at hM) rfl h1 hd (by rw [h2]; exact k)) k
/-! what the machine throws by itself -/
theorem ex_note {cls text : String} {names : List String} {nb : Nat} {st : List Value} {p : Program} {l : Launch} {e : Env} {s : State} {m : MethodId} {args : Array Value} {below : List Frame} {meth : Method} {c : Code} {D : va_G} {dA : Nat → ClassId} {cs : Nat → Value} {A : Nat → Prop} {ad0 : Nat → Nat} {n0 : Nat}
    (hcls : Bundle.fit cls = true) (hnames : ∀ n ∈ names, Bundle.fit n = true) (hsoe : (cls == "java/lang/StackOverflowError") = false) (hoom : (cls == "java/lang/OutOfMemoryError") = false)
    (hat : ∀ {args : Array Value} {s : State}, (∀ w ∈ lw_all, w.before args s = true) → (∀ w ∈ lw_tbl, glN w = true → va_Nw w s) → ∀ w ∈ vx_atM cls names, w.before args s = true) (hgood : ∀ w ∈ vx_atM cls names, vx_ot w = true) (hnl : names.length ≤ 4)
    (htext : (text == notModelled) = false) (hnb : (stringBytes (stringToUtf16 text)).size ≤ nb) (hnb1 : nb ≤ 1000) (hc : kc + 3 ≤ X.2.2.2.2.1.1) (hs : ks + (nb + 10) ≤ X.2.2.2.2.1.2) (hcat : (st.map fun v => v.category).sum ≤ 100)
    (hK : Kx X cc p l s m args meth c D dA cs A) {ad : Nat → Nat} {locs : List Loc} {H : Heap} {lsA : Array Slot} {st0 : List Value} (ha : ∀ i, i < n0 → ad i = ad0 i) (hn0 : n0 ≤ M.length) (hR : Rl X s D dA cs A ad H locs lsA ls st0 M)
    (kk : EX cc X Qf Qx (kc + 3) (ks + (nb + 10)) pc ls cls none M) : vx_Note p l e (rmD X.2.2.2.1 X.2.2.2.2.1.1 X.2.2.2.2.1.2) s m args below meth c H locs kc ks (QF Qf Qx below args s D dA cs A ad0 n0 X.2.2.2.2.1.1 X.2.2.2.2.1.2) (F0 m pc lsA (st.map (rnV ad cs))) cls text := by
  obtain ⟨r1, r2, r3, r4, r5, r6, r7⟩ := hR
  have hG := hK.2.2.2.2.2.2.2.2.2.1
  have hGS := hG.2.2.2.2.2.2.2.1
  refine vx_vm hK.1 hK.2.2.2.2.2.2.2.2.2.2.1 hcls hnames hsoe hoom (hat hK.2.2.2.2.2.1 hG.2.1) hgood hGS.1 hGS.2.1 r3 (r4.1.trans hK.2.2.2.1.symm) htext hnb hnb1 (by simp only [rmD]; omega) (by rw [rnV_cats (GC.cat hG.2.2.1)]; simp only [rmD]; omega) (by omega) (by simp only [rmD]; omega) (by simp only [rmD]; omega) hK.2.2.2.2.2.2.1 (fun H1 q9 ce h1 h2 h3 h4 h5 h6 => ?_)
  exact kk p l e s m args below meth c D dA cs A ad0 n0 hK ad H1 locs lsA q9 ce _ ha hn0 ⟨r1.kept (fun k x hx => h2 x.1 (r1 k x hx).lt), r2, h3, r4, r5, r6, fun _ h => by cases h⟩ h4 h5 h6 (fun i h => by cases h)
theorem ex_noteN {st : List Value} {p : Program} {l : Launch} {e : Env} {s : State} {m : MethodId} {args : Array Value} {below : List Frame} {meth : Method} {c : Code} {D : va_G} {dA : Nat → ClassId} {cs : Nat → Value} {A : Nat → Prop} {ad0 : Nat → Nat} {n0 : Nat}
    (hc : kc + 1 ≤ X.2.2.2.2.1.1) (hs : ks + 8 ≤ X.2.2.2.2.1.2) (hcat : (st.map fun v => v.category).sum ≤ 100)
    (hK : Kx X cc p l s m args meth c D dA cs A) {ad : Nat → Nat} {locs : List Loc} {H : Heap} {lsA : Array Slot} {st0 : List Value} (ha : ∀ i, i < n0 → ad i = ad0 i) (hn0 : n0 ≤ M.length) (hR : Rl X s D dA cs A ad H locs lsA ls st0 M)
    (kk : EX cc X Qf Qx (kc + 1) (ks + 8) pc ls "java/lang/NullPointerException" none M) : vx_NoteN p l e (rmD X.2.2.2.1 X.2.2.2.2.1.1 X.2.2.2.2.1.2) s m args below meth c H locs kc ks (QF Qf Qx below args s D dA cs A ad0 n0 X.2.2.2.2.1.1 X.2.2.2.2.1.2) (F0 m pc lsA (st.map (rnV ad cs))) := by
  obtain ⟨r1, r2, r3, r4, r5, r6, r7⟩ := hR
  have hG := hK.2.2.2.2.2.2.2.2.2.1
  have hGS := hG.2.2.2.2.2.2.2.1
  refine vx_npe hK.1 hK.2.2.2.2.2.2.2.2.2.2.1 (at_npe hK.2.2.2.2.2.1 hG.2.1) at_npe_g hGS.1 hGS.2.1 r3 (r4.1.trans hK.2.2.2.1.symm) (by simp only [rmD]; omega) (by rw [rnV_cats (GC.cat hG.2.2.1)]; simp only [rmD]; omega) (by simp only [rmD]; omega) (by simp only [rmD]; omega) hK.2.2.2.2.2.2.1 (fun H1 q9 ce h1 h2 h3 h4 h5 h6 => ?_)
  exact kk p l e s m args below meth c D dA cs A ad0 n0 hK ad H1 locs lsA q9 ce _ ha hn0 ⟨r1.kept (fun k x hx => h2 x.1 (r1 k x hx).lt), r2, h3, r4, r5, r6, fun _ h => by cases h⟩ h4 h5 h6 (fun i h => by cases h)
theorem e_newarrZ {aty : ArrayType} {n : Int32} (h0 : n < 0) (hd : decode cc pc = .ok (.newarray aty, 2)) (hcat : (rest.map fun v => v.category).sum ≤ 100) (hc : kc + 3 ≤ X.2.2.2.2.1.1) (hs : ks + 54 ≤ X.2.2.2.2.1.2) (kk : EX cc X Qf Qx (kc + 3) (ks + 54) pc ls "java/lang/NegativeArraySizeException" none M) : E cc X Qf Qx kc ks pc ls (.int n :: rest) M := by
  intro p l e s m args below meth c D dA cs A ad0 n0 hK ad H locs lsA ha hn0 hR
  refine vx_newarrayZ hK.1 hK.2.1 h0 hd (fun tx htx => ?_)
  subst htx
  exact ex_note (names := ["java/lang/RuntimeException", "java/lang/Exception"]) (nb := 44) (by decide +kernel) (by decide +kernel) (by decide) (by decide) at_nas at_nas_g (by decide) (negative_text_modelled h0) (negative_text_bytes n) (by decide) hc hs hcat hK ha hn0 hR kk
theorem e_baldZ {a n : Nat} {f : Nat → Int32} {i : Int32} (hout : ¬ vp_in i n) (hn : n < 2147483648) (hd : decode cc pc = .ok (.baload, 1)) (hM : M[a]? = some (.inl (2, n, .inl f))) (hcat : (rest.map fun v => v.category).sum ≤ 100) (hc : kc + 3 ≤ X.2.2.2.2.1.1) (hs : ks + 222 ≤ X.2.2.2.2.1.2) (kk : EX cc X Qf Qx (kc + 3) (ks + 222) pc ls "java/lang/ArrayIndexOutOfBoundsException" none M) : E cc X Qf Qx kc ks pc ls (.int i :: .ref a :: rest) M := by
  intro p l e s m args below meth c D dA cs A ad0 n0 hK ad H locs lsA ha hn0 hR
  refine vx_baldZ hK.1 hK.2.1 hK.2.2.2.2.2.2.2.2.2.1.1 hR.1 a 2 (rnM_at hM) rfl hout hd (fun tx htx => ?_)
  subst htx
  exact ex_note (names := ["java/lang/IndexOutOfBoundsException", "java/lang/RuntimeException", "java/lang/Exception"]) (nb := 212) (by decide +kernel) (by decide +kernel) (by decide) (by decide) at_aio at_aio_g (by decide) (index_text_modelled i n) (index_text_bytes i hn) (by decide) hc hs hcat hK ha hn0 hR kk
theorem e_baldN {i : Int32} (hd : decode cc pc = .ok (.baload, 1)) (hcat : (rest.map fun v => v.category).sum ≤ 100) (hc : kc + 1 ≤ X.2.2.2.2.1.1) (hs : ks + 8 ≤ X.2.2.2.2.1.2) (kk : EX cc X Qf Qx (kc + 1) (ks + 8) pc ls "java/lang/NullPointerException" none M) : E cc X Qf Qx kc ks pc ls (.int i :: .null :: rest) M := by
  intro p l e s m args below meth c D dA cs A ad0 n0 hK ad H locs lsA ha hn0 hR
  exact vx_baloadN hK.1 hK.2.1 hd (ex_noteN hc hs hcat hK ha hn0 hR kk)
theorem e_bastZ {a n : Nat} {f : Nat → Int32} {i : Int32} {x : Int32} (hout : ¬ vp_in i n) (hn : n < 2147483648) (hd : decode cc pc = .ok (.bastore, 1)) (hM : M[a]? = some (.inl (2, n, .inl f))) (hcat : (rest.map fun v => v.category).sum ≤ 100) (hc : kc + 3 ≤ X.2.2.2.2.1.1) (hs : ks + 222 ≤ X.2.2.2.2.1.2) (kk : EX cc X Qf Qx (kc + 3) (ks + 222) pc ls "java/lang/ArrayIndexOutOfBoundsException" none M) : E cc X Qf Qx kc ks pc ls (.int x :: .int i :: .ref a :: rest) M := by
  intro p l e s m args below meth c D dA cs A ad0 n0 hK ad H locs lsA ha hn0 hR
  refine vx_bastZ hK.1 hK.2.1 hK.2.2.2.2.2.2.2.2.2.1.1 hR.1 a 2 (rnM_at hM) rfl hout hd (fun tx htx => ?_)
  subst htx
  exact ex_note (names := ["java/lang/IndexOutOfBoundsException", "java/lang/RuntimeException", "java/lang/Exception"]) (nb := 212) (by decide +kernel) (by decide +kernel) (by decide) (by decide) at_aio at_aio_g (by decide) (index_text_modelled i n) (index_text_bytes i hn) (by decide) hc hs hcat hK ha hn0 hR kk
theorem e_bastN {i : Int32} {x : Int32} (hd : decode cc pc = .ok (.bastore, 1)) (hcat : (rest.map fun v => v.category).sum ≤ 100) (hc : kc + 1 ≤ X.2.2.2.2.1.1) (hs : ks + 8 ≤ X.2.2.2.2.1.2) (kk : EX cc X Qf Qx (kc + 1) (ks + 8) pc ls "java/lang/NullPointerException" none M) : E cc X Qf Qx kc ks pc ls (.int x :: .int i :: .null :: rest) M := by
  intro p l e s m args below meth c D dA cs A ad0 n0 hK ad H locs lsA ha hn0 hR
  exact vx_bastoreN hK.1 hK.2.1 hd (ex_noteN hc hs hcat hK ha hn0 hR kk)
theorem e_saldZ {a n : Nat} {f : Nat → Int32} {i : Int32} (hout : ¬ vp_in i n) (hn : n < 2147483648) (hd : decode cc pc = .ok (.saload, 1)) (hM : M[a]? = some (.inl (3, n, .inl f))) (hcat : (rest.map fun v => v.category).sum ≤ 100) (hc : kc + 3 ≤ X.2.2.2.2.1.1) (hs : ks + 222 ≤ X.2.2.2.2.1.2) (kk : EX cc X Qf Qx (kc + 3) (ks + 222) pc ls "java/lang/ArrayIndexOutOfBoundsException" none M) : E cc X Qf Qx kc ks pc ls (.int i :: .ref a :: rest) M := by
  intro p l e s m args below meth c D dA cs A ad0 n0 hK ad H locs lsA ha hn0 hR
  refine vx_saldZ hK.1 hK.2.1 hK.2.2.2.2.2.2.2.2.2.1.1 hR.1 a 3 (rnM_at hM) rfl hout hd (fun tx htx => ?_)
  subst htx
  exact ex_note (names := ["java/lang/IndexOutOfBoundsException", "java/lang/RuntimeException", "java/lang/Exception"]) (nb := 212) (by decide +kernel) (by decide +kernel) (by decide) (by decide) at_aio at_aio_g (by decide) (index_text_modelled i n) (index_text_bytes i hn) (by decide) hc hs hcat hK ha hn0 hR kk
theorem e_saldN {i : Int32} (hd : decode cc pc = .ok (.saload, 1)) (hcat : (rest.map fun v => v.category).sum ≤ 100) (hc : kc + 1 ≤ X.2.2.2.2.1.1) (hs : ks + 8 ≤ X.2.2.2.2.1.2) (kk : EX cc X Qf Qx (kc + 1) (ks + 8) pc ls "java/lang/NullPointerException" none M) : E cc X Qf Qx kc ks pc ls (.int i :: .null :: rest) M := by
  intro p l e s m args below meth c D dA cs A ad0 n0 hK ad H locs lsA ha hn0 hR
  exact vx_saloadN hK.1 hK.2.1 hd (ex_noteN hc hs hcat hK ha hn0 hR kk)
theorem e_sastZ {a n : Nat} {f : Nat → Int32} {i : Int32} {x : Int32} (hout : ¬ vp_in i n) (hn : n < 2147483648) (hd : decode cc pc = .ok (.sastore, 1)) (hM : M[a]? = some (.inl (3, n, .inl f))) (hcat : (rest.map fun v => v.category).sum ≤ 100) (hc : kc + 3 ≤ X.2.2.2.2.1.1) (hs : ks + 222 ≤ X.2.2.2.2.1.2) (kk : EX cc X Qf Qx (kc + 3) (ks + 222) pc ls "java/lang/ArrayIndexOutOfBoundsException" none M) : E cc X Qf Qx kc ks pc ls (.int x :: .int i :: .ref a :: rest) M := by
  intro p l e s m args below meth c D dA cs A ad0 n0 hK ad H locs lsA ha hn0 hR
  refine vx_sastZ hK.1 hK.2.1 hK.2.2.2.2.2.2.2.2.2.1.1 hR.1 a 3 (rnM_at hM) rfl hout hd (fun tx htx => ?_)
  subst htx
  exact ex_note (names := ["java/lang/IndexOutOfBoundsException", "java/lang/RuntimeException", "java/lang/Exception"]) (nb := 212) (by decide +kernel) (by decide +kernel) (by decide) (by decide) at_aio at_aio_g (by decide) (index_text_modelled i n) (index_text_bytes i hn) (by decide) hc hs hcat hK ha hn0 hR kk
theorem e_sastN {i : Int32} {x : Int32} (hd : decode cc pc = .ok (.sastore, 1)) (hcat : (rest.map fun v => v.category).sum ≤ 100) (hc : kc + 1 ≤ X.2.2.2.2.1.1) (hs : ks + 8 ≤ X.2.2.2.2.1.2) (kk : EX cc X Qf Qx (kc + 1) (ks + 8) pc ls "java/lang/NullPointerException" none M) : E cc X Qf Qx kc ks pc ls (.int x :: .int i :: .null :: rest) M := by
  intro p l e s m args below meth c D dA cs A ad0 n0 hK ad H locs lsA ha hn0 hR
  exact vx_sastoreN hK.1 hK.2.1 hd (ex_noteN hc hs hcat hK ha hn0 hR kk)
theorem e_ialdZ {a n : Nat} {f : Nat → Int32} {i : Int32} (hout : ¬ vp_in i n) (hn : n < 2147483648) (hd : decode cc pc = .ok (.iaload, 1)) (hM : M[a]? = some (.inl (0, n, .inl f))) (hcat : (rest.map fun v => v.category).sum ≤ 100) (hc : kc + 3 ≤ X.2.2.2.2.1.1) (hs : ks + 222 ≤ X.2.2.2.2.1.2) (kk : EX cc X Qf Qx (kc + 3) (ks + 222) pc ls "java/lang/ArrayIndexOutOfBoundsException" none M) : E cc X Qf Qx kc ks pc ls (.int i :: .ref a :: rest) M := by
  intro p l e s m args below meth c D dA cs A ad0 n0 hK ad H locs lsA ha hn0 hR
  refine vx_ialdZ hK.1 hK.2.1 hK.2.2.2.2.2.2.2.2.2.1.1 hR.1 a 0 (rnM_at hM) rfl hout hd (fun tx htx => ?_)
  subst htx
  exact ex_note (names := ["java/lang/IndexOutOfBoundsException", "java/lang/RuntimeException", "java/lang/Exception"]) (nb := 212) (by decide +kernel) (by decide +kernel) (by decide) (by decide) at_aio at_aio_g (by decide) (index_text_modelled i n) (index_text_bytes i hn) (by decide) hc hs hcat hK ha hn0 hR kk
theorem e_ialdN {i : Int32} (hd : decode cc pc = .ok (.iaload, 1)) (hcat : (rest.map fun v => v.category).sum ≤ 100) (hc : kc + 1 ≤ X.2.2.2.2.1.1) (hs : ks + 8 ≤ X.2.2.2.2.1.2) (kk : EX cc X Qf Qx (kc + 1) (ks + 8) pc ls "java/lang/NullPointerException" none M) : E cc X Qf Qx kc ks pc ls (.int i :: .null :: rest) M := by
  intro p l e s m args below meth c D dA cs A ad0 n0 hK ad H locs lsA ha hn0 hR
  exact vx_ialoadN hK.1 hK.2.1 hd (ex_noteN hc hs hcat hK ha hn0 hR kk)
theorem e_iastZ {a n : Nat} {f : Nat → Int32} {i : Int32} {x : Int32} (hout : ¬ vp_in i n) (hn : n < 2147483648) (hd : decode cc pc = .ok (.iastore, 1)) (hM : M[a]? = some (.inl (0, n, .inl f))) (hcat : (rest.map fun v => v.category).sum ≤ 100) (hc : kc + 3 ≤ X.2.2.2.2.1.1) (hs : ks + 222 ≤ X.2.2.2.2.1.2) (kk : EX cc X Qf Qx (kc + 3) (ks + 222) pc ls "java/lang/ArrayIndexOutOfBoundsException" none M) : E cc X Qf Qx kc ks pc ls (.int x :: .int i :: .ref a :: rest) M := by
  intro p l e s m args below meth c D dA cs A ad0 n0 hK ad H locs lsA ha hn0 hR
  refine vx_iastZ hK.1 hK.2.1 hK.2.2.2.2.2.2.2.2.2.1.1 hR.1 a 0 (rnM_at hM) rfl hout hd (fun tx htx => ?_)
  subst htx
  exact ex_note (names := ["java/lang/IndexOutOfBoundsException", "java/lang/RuntimeException", "java/lang/Exception"]) (nb := 212) (by decide +kernel) (by decide +kernel) (by decide) (by decide) at_aio at_aio_g (by decide) (index_text_modelled i n) (index_text_bytes i hn) (by decide) hc hs hcat hK ha hn0 hR kk
theorem e_iastN {i : Int32} {x : Int32} (hd : decode cc pc = .ok (.iastore, 1)) (hcat : (rest.map fun v => v.category).sum ≤ 100) (hc : kc + 1 ≤ X.2.2.2.2.1.1) (hs : ks + 8 ≤ X.2.2.2.2.1.2) (kk : EX cc X Qf Qx (kc + 1) (ks + 8) pc ls "java/lang/NullPointerException" none M) : E cc X Qf Qx kc ks pc ls (.int x :: .int i :: .null :: rest) M := by
  intro p l e s m args below meth c D dA cs A ad0 n0 hK ad H locs lsA ha hn0 hR
  exact vx_iastoreN hK.1 hK.2.1 hd (ex_noteN hc hs hcat hK ha hn0 hR kk)
theorem e_laldZ {a n : Nat} {f : Nat → Int64} {i : Int32} (hout : ¬ vp_in i n) (hn : n < 2147483648) (hd : decode cc pc = .ok (.laload, 1)) (hM : M[a]? = some (.inl (1, n, .inr (.inl f)))) (hcat : (rest.map fun v => v.category).sum ≤ 100) (hc : kc + 3 ≤ X.2.2.2.2.1.1) (hs : ks + 222 ≤ X.2.2.2.2.1.2) (kk : EX cc X Qf Qx (kc + 3) (ks + 222) pc ls "java/lang/ArrayIndexOutOfBoundsException" none M) : E cc X Qf Qx kc ks pc ls (.int i :: .ref a :: rest) M := by
  intro p l e s m args below meth c D dA cs A ad0 n0 hK ad H locs lsA ha hn0 hR
  refine vx_laldZ hK.1 hK.2.1 hK.2.2.2.2.2.2.2.2.2.1.1 hR.1 a 1 (rnM_at hM) rfl hout hd (fun tx htx => ?_)
  subst htx
  exact ex_note (names := ["java/lang/IndexOutOfBoundsException", "java/lang/RuntimeException", "java/lang/Exception"]) (nb := 212) (by decide +kernel) (by decide +kernel) (by decide) (by decide) at_aio at_aio_g (by decide) (index_text_modelled i n) (index_text_bytes i hn) (by decide) hc hs hcat hK ha hn0 hR kk
theorem e_laldN {i : Int32} (hd : decode cc pc = .ok (.laload, 1)) (hcat : (rest.map fun v => v.category).sum ≤ 100) (hc : kc + 1 ≤ X.2.2.2.2.1.1) (hs : ks + 8 ≤ X.2.2.2.2.1.2) (kk : EX cc X Qf Qx (kc + 1) (ks + 8) pc ls "java/lang/NullPointerException" none M) : E cc X Qf Qx kc ks pc ls (.int i :: .null :: rest) M := by
  intro p l e s m args below meth c D dA cs A ad0 n0 hK ad H locs lsA ha hn0 hR
  exact vx_laloadN hK.1 hK.2.1 hd (ex_noteN hc hs hcat hK ha hn0 hR kk)
theorem e_lastZ {a n : Nat} {f : Nat → Int64} {i : Int32} {x : Int64} (hout : ¬ vp_in i n) (hn : n < 2147483648) (hd : decode cc pc = .ok (.lastore, 1)) (hM : M[a]? = some (.inl (1, n, .inr (.inl f)))) (hcat : (rest.map fun v => v.category).sum ≤ 100) (hc : kc + 3 ≤ X.2.2.2.2.1.1) (hs : ks + 222 ≤ X.2.2.2.2.1.2) (kk : EX cc X Qf Qx (kc + 3) (ks + 222) pc ls "java/lang/ArrayIndexOutOfBoundsException" none M) : E cc X Qf Qx kc ks pc ls (.long x :: .int i :: .ref a :: rest) M := by
  intro p l e s m args below meth c D dA cs A ad0 n0 hK ad H locs lsA ha hn0 hR
  refine vx_lastZ hK.1 hK.2.1 hK.2.2.2.2.2.2.2.2.2.1.1 hR.1 a 1 (rnM_at hM) rfl hout hd (fun tx htx => ?_)
  subst htx
  exact ex_note (names := ["java/lang/IndexOutOfBoundsException", "java/lang/RuntimeException", "java/lang/Exception"]) (nb := 212) (by decide +kernel) (by decide +kernel) (by decide) (by decide) at_aio at_aio_g (by decide) (index_text_modelled i n) (index_text_bytes i hn) (by decide) hc hs hcat hK ha hn0 hR kk
theorem e_lastN {i : Int32} {x : Int64} (hd : decode cc pc = .ok (.lastore, 1)) (hcat : (rest.map fun v => v.category).sum ≤ 100) (hc : kc + 1 ≤ X.2.2.2.2.1.1) (hs : ks + 8 ≤ X.2.2.2.2.1.2) (kk : EX cc X Qf Qx (kc + 1) (ks + 8) pc ls "java/lang/NullPointerException" none M) : E cc X Qf Qx kc ks pc ls (.long x :: .int i :: .null :: rest) M := by
  intro p l e s m args below meth c D dA cs A ad0 n0 hK ad H locs lsA ha hn0 hR
  exact vx_lastoreN hK.1 hK.2.1 hd (ex_noteN hc hs hcat hK ha hn0 hR kk)
/-! a pending exception: out, caught -/
theorem ex_out {cls : String} {w : Option Nat} (hout : ∀ x ∈ tableOf X.2.2.2.2.2.2, covers x pc = false) (hk : kc ≤ X.2.2.2.2.1.1) (hs : ks ≤ X.2.2.2.2.1.2) (hq : Qx cls w M) : EX cc X Qf Qx kc ks pc ls cls w M := by
  intro p l e s m args below meth c D dA cs A ad0 n0 hK ad H locs lsA q ce rest ha hn0 hR h1 h2 h3 h4
  obtain ⟨r1, r2, r3, r4, r5, r6, r7⟩ := hR
  exact vx_out (by rw [hK.2.2.2.2.2.2.2.2.2.2.2]; exact hout) hK.2.2.2.2.2.2.1 h1 h2 h3 (fun t ht hW => ⟨⟨w, M, ad, hq, ha, hn0, by rw [ht]; exact r1, r2, r5, h4⟩, r3.F ht⟩) r3.2.2 hk hs
theorem Lv.set0 {lsA lsA' : Array Slot} {nL i : Nat} {ad : Nat → Nat} {cs : Nat → Value} {v : Value} (hc : ∀ w, (rnV ad cs w).category = 2 → nc2 (some w) = false) (h : Lv lsA nL ad cs ls) (hs : LSet i none ls ls')
    (h' : lv_has lsA' nL ((i, v) :: ((List.range ls.length).filterMap (fun i => (ls[i]?.getD none).map (fun v => (i, rnV ad cs v)))).filter (fun q => !(q.1 == i) && !(q.1 + 1 == i && q.2.category == 2)))) : Lv lsA' nL ad cs ls' := by
  obtain ⟨rfl, h2, h3⟩ := hs
  refine ⟨h'.1, h'.2.1, fun j w hj => ?_⟩
  rw [List.getElem?_set] at hj
  by_cases e : i = j
  · subst e
    rw [if_pos rfl, if_pos h2] at hj
    cases hj
  · rw [if_neg e] at hj
    refine h'.2.2 (j, rnV ad cs w) (List.mem_cons_of_mem _ (List.mem_filter.mpr ⟨Lv.mem hj, ?_⟩))
    have e1 : (j == i) = false := by simpa using fun q => e q.symm
    simp only [e1, Bool.not_false, Bool.true_and, Bool.not_eq_true', Bool.and_eq_false_iff]
    by_cases e2 : j + 1 = i
    · right
      have := h3 j _ e2 hj
      by_cases e3 : (rnV ad cs w).category = 2
      · rw [hc w e3] at this; cases this
      · simpa using e3
    · left; simpa using e2
/-- what the rows ahead of a handler owe -/
def HPass (X : Cx) (cls : String) (pre : List ExceptionTableEntry) : Prop := ∀ z ∈ pre, z.catchType ≠ 0 ∧ cls = "java/lang/ArrayIndexOutOfBoundsException" ∧ Cond.classLink X.1 z.catchType "java/lang/NullPointerException" ∈ lw_all
/-- caught, the exception at hand -/
theorem ex_catch {cls name : String} {i : Nat} (pre : List ExceptionTableEntry) (x : ExceptionTableEntry) (suf : List ExceptionTableEntry) (hsplit : tableOf X.2.2.2.2.2.2 = pre ++ x :: suf) (hpass : HPass X cls pre) (hx : covers x pc = true) (h0 : x.catchType ≠ 0)
    (hlink : Cond.classLink X.1 x.catchType name ∈ lw_all) (hcast : Cond.castable cls name ∈ lw_tbl) (kk : E cc X Qf Qx kc ks x.handlerPc ls [.ref i] M) : EX cc X Qf Qx kc ks pc ls cls (some i) M := by
  intro p l e s m args below meth c D dA cs A ad0 n0 hK ad H locs lsA q ce rest ha hn0 hR h1 h2 h3 h4
  obtain ⟨r1, r2, r3, r4, r5, r6, r7⟩ := hR
  have hG := hK.2.2.2.2.2.2.2.2.2.1
  obtain ⟨rfl, hi⟩ := h4 i rfl
  exact vx_catch hK.2.2.2.2.1 pre x suf (by rw [hK.2.2.2.2.2.2.2.2.2.2.2]; exact hsplit) (fun z hz => Or.inr ⟨(hpass z hz).1, _, hK.2.2.2.2.2.1 _ (hpass z hz).2.2, by rw [(hpass z hz).2.1]; exact hG.2.2.2.2.2.2.2.2.2⟩) hx h0 (hK.2.2.2.2.2.1 _ hlink) (va_Nw.use rfl (hG.2.1 _ hcast rfl)) h1 h2 h3
    (kk p l e s m args below meth c D dA cs A ad0 n0 hK ad H locs lsA ha hn0 ⟨r1, r2, r3, r4, r5, r6, fun v hv => by rw [List.mem_singleton.mp hv]; exact hi⟩)
/-- caught and laid aside -/
theorem ex_catchA {cls name : String} {w : Option Nat} {j : Nat} (pre : List ExceptionTableEntry) (x : ExceptionTableEntry) (suf : List ExceptionTableEntry) (hsplit : tableOf X.2.2.2.2.2.2 = pre ++ x :: suf) (hpass : HPass X cls pre) (hx : covers x pc = true) (h0 : x.catchType ≠ 0)
    (hlink : Cond.classLink X.1 x.catchType name ∈ lw_all) (hcast : Cond.castable cls name ∈ lw_tbl) (hd : decode cc x.handlerPc = .ok (.astore j, 2)) (hls : LSet j none ls ls') (hn : j < X.2.2.1) (kk : E cc X Qf Qx kc ks (x.handlerPc + 2) ls' [] M) : EX cc X Qf Qx kc ks pc ls cls w M := by
  intro p l e s m args below meth c D dA cs A ad0 n0 hK ad H locs lsA q ce rest ha hn0 hR h1 h2 h3 h4
  obtain ⟨r1, r2, r3, r4, r5, r6, r7⟩ := hR
  have hG := hK.2.2.2.2.2.2.2.2.2.1
  refine vx_catch hK.2.2.2.2.1 pre x suf (by rw [hK.2.2.2.2.2.2.2.2.2.2.2]; exact hsplit) (fun z hz => Or.inr ⟨(hpass z hz).1, _, hK.2.2.2.2.2.1 _ (hpass z hz).2.2, by rw [(hpass z hz).2.1]; exact hG.2.2.2.2.2.2.2.2.2⟩) hx h0 (hK.2.2.2.2.2.1 _ hlink) (va_Nw.use rfl (hG.2.1 _ hcast rfl)) h1 h2 h3 ?_
  exact lv_astore hK.1 hK.2.1 hd r4.has hn rfl (fun lsB h' => kk p l e s m args below meth c D dA cs A ad0 n0 hK ad H locs lsB ha hn0 ⟨r1, r2, r3, Lv.set0 (GC.c2 hG.2.2.1) r4 hls h', r5, by rw [hls.1]; exact wfL_set r6, fun _ h => by cases h⟩)
theorem ex_catchAn {cls name : String} {w : Option Nat} {f : Fin 4} (j : Nat) (hj : (f : Nat) = j) (pre : List ExceptionTableEntry) (x : ExceptionTableEntry) (suf : List ExceptionTableEntry) (hsplit : tableOf X.2.2.2.2.2.2 = pre ++ x :: suf) (hpass : HPass X cls pre) (hx : covers x pc = true) (h0 : x.catchType ≠ 0)
    (hlink : Cond.classLink X.1 x.catchType name ∈ lw_all) (hcast : Cond.castable cls name ∈ lw_tbl) (hd : decode cc x.handlerPc = .ok (.astore_n f, 1)) (hls : LSet j none ls ls') (hn : j < X.2.2.1) (kk : E cc X Qf Qx kc ks (x.handlerPc + 1) ls' [] M) : EX cc X Qf Qx kc ks pc ls cls w M := by
  intro p l e s m args below meth c D dA cs A ad0 n0 hK ad H locs lsA q ce rest ha hn0 hR h1 h2 h3 h4
  obtain ⟨r1, r2, r3, r4, r5, r6, r7⟩ := hR
  have hG := hK.2.2.2.2.2.2.2.2.2.1
  refine vx_catch hK.2.2.2.2.1 pre x suf (by rw [hK.2.2.2.2.2.2.2.2.2.2.2]; exact hsplit) (fun z hz => Or.inr ⟨(hpass z hz).1, _, hK.2.2.2.2.2.1 _ (hpass z hz).2.2, by rw [(hpass z hz).2.1]; exact hG.2.2.2.2.2.2.2.2.2⟩) hx h0 (hK.2.2.2.2.2.1 _ hlink) (va_Nw.use rfl (hG.2.1 _ hcast rfl)) h1 h2 h3 ?_
  exact lv_astore_n hK.1 hK.2.1 hd hj r4.has hn rfl (fun lsB h' => kk p l e s m args below meth c D dA cs A ad0 n0 hK ad H locs lsB ha hn0 ⟨r1, r2, r3, Lv.set0 (GC.c2 hG.2.2.1) r4 hls h', r5, by rw [hls.1]; exact wfL_set r6, fun _ h => by cases h⟩)
/-- an object of ours is thrown -/
theorem e_athrow {i ci N : Nat} {fs : List Value} {C : String} {T : u_T} (hd : decode cc pc = .ok (.athrow, 1)) (hM : M[i]? = some (.inr (ci, fs))) (hc : glC[ci]? = some (C, T, N)) (kk : EX cc X Qf Qx kc ks pc ls C (some i) M) : E cc X Qf Qx kc ks pc ls (.ref i :: rest) M := by
  intro p l e s m args below meth c D dA cs A ad0 n0 hK ad H locs lsA ha hn0 hR
  obtain ⟨r1, r2, r3, r4, r5, r6, r7⟩ := hR
  have hG := hK.2.2.2.2.2.2.2.2.2.1
  obtain ⟨r', hr', cellV, g1, g2, g3, -⟩ := r1 i _ (rnM_at hM)
  have hcls := (hG.1.1 ci (C, T, N) hc).2
  refine vx_athrow hK.1 hK.2.1 hd ?_
  exact kk p l e s m args below meth c D dA cs A ad0 n0 hK ad H locs lsA (ad i) cellV _ ha hn0 ⟨r1, r2, r3, r4, r5, r6, fun _ h => by cases h⟩ g1 g3 (by rw [g2]; exact hcls.1) (fun j hj => by cases hj; exact ⟨rfl, r7 _ List.mem_cons_self⟩)
end
