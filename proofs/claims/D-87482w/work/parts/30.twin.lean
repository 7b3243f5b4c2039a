/-! ===== the twin in the memory, by program: fields and arrays by their number in the class ===== -/
set_option maxRecDepth 100000
/-- the twin's state: int fields, long fields, arrays of ints (bytes, booleans), arrays of longs; by the field's number -/
abbrev Tw : Type := (Nat → Int32) × (Nat → Int64) × (Nat → Nat → Int32) × (Nat → Nat → Int64)
def tI (τ : Tw) (k : Nat) (v : Int32) : Tw := (upd τ.1 k v, τ.2)
def tL (τ : Tw) (k : Nat) (v : Int64) : Tw := (τ.1, vp_updL τ.2.1 k v, τ.2.2)
def tA (τ : Tw) (k : Nat) (f : Nat → Int32) : Tw := (τ.1, τ.2.1, va_up τ.2.2.1 k f, τ.2.2.2)
def tB (τ : Tw) (k : Nat) (f : Nat → Int64) : Tw := (τ.1, τ.2.1, τ.2.2.1, va_up τ.2.2.2 k f)
def twF (τ : Tw) : List Value := [.int (τ.1 0), .int (τ.1 1), .ref 57, .ref 58, .ref 59, .int (τ.1 5), .ref 60, .ref 61, .ref 62, .ref 63, .ref 64, .ref 65, .ref 66, .ref 67, .ref 68, .ref 69, .ref 70, .ref 71, .int (τ.1 18), .int (τ.1 19), .int (τ.1 20), .int (τ.1 21), .int (τ.1 22), .int (τ.1 23), .int (τ.1 24), .int (τ.1 25), .ref 72, .ref 73, .ref 74, .int (τ.1 29), .int (τ.1 30), .int (τ.1 31), .int (τ.1 32), .int (τ.1 33), .int (τ.1 34), .int (τ.1 35), .int (τ.1 36), .int (τ.1 37), .int (τ.1 38), .long (τ.2.1 39), .long (τ.2.1 40), .int (τ.1 41), .int (τ.1 42), .ref 75, .ref 76, .ref 77, .ref 78, .ref 79, .ref 80, .ref 81, .ref 82, .ref 83, .ref 84, .ref 85, .ref 86, .ref 87, .ref 88, .ref 89, .ref 90, .ref 91, .int (τ.1 60), .int (τ.1 61), .int (τ.1 62), .int (τ.1 63), .int (τ.1 64), .int (τ.1 65), .int (τ.1 66), .ref 92, .ref 93, .ref 94, .ref 95, .ref 96, .ref 97, .ref 98, .int (τ.1 74), .ref 99, .ref 100, .int (τ.1 77), .int (τ.1 78), .int (τ.1 79), .int (τ.1 80), .int (τ.1 81), .int (τ.1 82), .ref 101, .ref 102, .ref 103, .ref 104, .ref 105, .ref 106, .ref 107, .ref 108, .ref 109, .ref 110, .ref 111, .ref 112, .ref 113, .ref 114, .ref 115, .ref 116]
def twA (τ : Tw) : List ACell := [.inl (0, 4, .inl (τ.2.2.1 2)), .inl (0, 4, .inl (τ.2.2.1 3)), .inl (1, 240, .inr (.inl (τ.2.2.2 4))), .inl (0, 4, .inl (τ.2.2.1 6)), .inl (0, 4, .inl (τ.2.2.1 7)), .inl (0, 4, .inl (τ.2.2.1 8)), .inl (0, 48, .inl (τ.2.2.1 9)), .inl (0, 336, .inl (τ.2.2.1 10)), .inl (0, 84, .inl (τ.2.2.1 11)), .inl (0, 4, .inl (τ.2.2.1 12)), .inl (0, 80, .inl (τ.2.2.1 13)), .inl (0, 80, .inl (τ.2.2.1 14)), .inl (0, 80, .inl (τ.2.2.1 15)), .inl (0, 80, .inl (τ.2.2.1 16)), .inl (4, 12, .inl (τ.2.2.1 17)), .inl (1, 7, .inr (.inl (τ.2.2.2 26))), .inl (1, 60, .inr (.inl (τ.2.2.2 27))), .inl (2, 500, .inl (τ.2.2.1 28)), .inl (0, 40, .inl (τ.2.2.1 43)), .inl (0, 40, .inl (τ.2.2.1 44)), .inl (0, 40, .inl (τ.2.2.1 45)), .inl (0, 40, .inl (τ.2.2.1 46)), .inl (0, 40, .inl (τ.2.2.1 47)), .inl (0, 40, .inl (τ.2.2.1 48)), .inl (0, 40, .inl (τ.2.2.1 49)), .inl (0, 40, .inl (τ.2.2.1 50)), .inl (0, 40, .inl (τ.2.2.1 51)), .inl (0, 40, .inl (τ.2.2.1 52)), .inl (0, 40, .inl (τ.2.2.1 53)), .inl (0, 40, .inl (τ.2.2.1 54)), .inl (0, 40, .inl (τ.2.2.1 55)), .inl (1, 40, .inr (.inl (τ.2.2.2 56))), .inl (1, 40, .inr (.inl (τ.2.2.2 57))), .inl (1, 20, .inr (.inl (τ.2.2.2 58))), .inl (1, 40, .inr (.inl (τ.2.2.2 59))), .inl (0, 28, .inl (τ.2.2.1 67)), .inl (0, 13, .inl (τ.2.2.1 68)), .inl (0, 14, .inl (τ.2.2.1 69)), .inl (1, 20, .inr (.inl (τ.2.2.2 70))), .inl (1, 20, .inr (.inl (τ.2.2.2 71))), .inl (1, 1600, .inr (.inl (τ.2.2.2 72))), .inl (0, 20, .inl (τ.2.2.1 73)), .inl (0, 2, .inl (τ.2.2.1 75)), .inl (0, 2, .inl (τ.2.2.1 76)), .inl (0, 100, .inl (τ.2.2.1 83)), .inl (0, 100, .inl (τ.2.2.1 84)), .inl (0, 20, .inl (τ.2.2.1 85)), .inl (0, 20, .inl (τ.2.2.1 86)), .inl (0, 60, .inl (τ.2.2.1 87)), .inl (0, 60, .inl (τ.2.2.1 88)), .inl (0, 60, .inl (τ.2.2.1 89)), .inl (0, 7, .inl (τ.2.2.1 90)), .inl (0, 7, .inl (τ.2.2.1 91)), .inl (0, 7, .inl (τ.2.2.1 92)), .inl (0, 7, .inl (τ.2.2.1 93)), .inl (0, 7, .inl (τ.2.2.1 94)), .inl (0, 4, .inl (τ.2.2.1 95)), .inl (1, 5, .inr (.inl (τ.2.2.2 96))), .inl (0, 2, .inl (τ.2.2.1 97)), .inl (0, 2, .inl (τ.2.2.1 98))]
/-- the memory: 56 cells ahead, the twin, others -/
def TW (pre : List ACell) (τ : Tw) (post : List ACell) : List ACell := pre ++ (.inr (4, twF τ) :: (twA τ ++ post))
section
variable {cc : ByteArray} {X : Cx} {Qf : Qfun} {Qx : Qxun} {kc ks pc : Nat} {ls ls' : List (Option Value)} {rest : List Value} {pre post : List ACell} {τ : Tw}
theorem tw_o (hp : pre.length = 56) : (TW pre τ post)[56]? = some (.inr (4, twF τ)) := by
  rw [TW, List.getElem?_append_right (by omega), hp]; rfl
theorem tw_so (hp : pre.length = 56) (fs : List Value) : (TW pre τ post).set 56 (.inr (4, fs)) = pre ++ (.inr (4, fs) :: (twA τ ++ post)) := by
  rw [TW, List.set_append_right _ _ (by omega), hp]; rfl
theorem tw_len : (TW pre τ post).length = pre.length + (61 + post.length) := by
  rw [TW, List.length_append, List.length_cons, List.length_append]
  have : (twA τ).length = 60 := rfl
  omega
theorem tw_ar {i a : Nat} {c : ACell} (hp : pre.length = 56) (ha : a = 56 + 1 + i) (h : (twA τ)[i]? = some c) : (TW pre τ post)[a]? = some c := by
  rw [TW, List.getElem?_append_right (by omega), show a - pre.length = i + 1 by omega, List.getElem?_cons_succ, List.getElem?_append_left (List.getElem?_eq_some_iff.mp h).1]; exact h
theorem tw_as {i a : Nat} {c : ACell} (hp : pre.length = 56) (ha : a = 56 + 1 + i) (hi : i < 60) : (TW pre τ post).set a c = pre ++ (.inr (4, twF τ) :: ((twA τ).set i c ++ post)) := by
  rw [TW, List.set_append_right _ _ (by omega), show a - pre.length = i + 1 by omega, List.set_cons_succ, List.set_append_left _ _ (by show i < (twA τ).length; exact hi)]
theorem e_tputI {own : String} {idx k : Nat} {ty : FieldType} {v : Int32} (hd : decode cc pc = .ok (.putfield idx, 3)) (ho : X.1 = own) (hf : FP own idx 4 k false ty) (hv : okv ty (.int v) = true) (hp : pre.length = 56) (hk : k < 99) (hs : (twF τ).set k (.int v) = twF (tI τ k v)) (kk : E cc X Qf Qx kc ks (pc + 3) ls rest (TW pre (tI τ k v) post)) : E cc X Qf Qx kc ks pc ls (.int v :: .ref 56 :: rest) (TW pre τ post) :=
  e_putf hd ho hf (fun h => by cases h) (tw_o hp) (by show k < (twF τ).length; exact hk) hv (by rw [tw_so hp, hs]; exact kk)
theorem e_tputL {own : String} {idx k : Nat} {v : Int64} (hd : decode cc pc = .ok (.putfield idx, 3)) (ho : X.1 = own) (hf : FP own idx 4 k false .long) (hp : pre.length = 56) (hk : k < 99) (hs : (twF τ).set k (.long v) = twF (tL τ k v)) (kk : E cc X Qf Qx kc ks (pc + 3) ls rest (TW pre (tL τ k v) post)) : E cc X Qf Qx kc ks pc ls (.long v :: .ref 56 :: rest) (TW pre τ post) :=
  e_putf hd ho hf (fun h => by cases h) (tw_o hp) (by show k < (twF τ).length; exact hk) rfl (by rw [tw_so hp, hs]; exact kk)

theorem tw_a2 (hp : pre.length = 56) : (TW pre τ post)[57]? = some (.inl (0, 4, .inl (τ.2.2.1 2))) := tw_ar (i := 0) hp rfl rfl
theorem tw_s2 (hp : pre.length = 56) (f : Nat → Int32) : (TW pre τ post).set 57 (.inl (0, 4, .inl f)) = TW pre (tA τ 2 f) post := by rw [tw_as (i := 0) hp rfl (by decide)]; rfl
theorem tw_a3 (hp : pre.length = 56) : (TW pre τ post)[58]? = some (.inl (0, 4, .inl (τ.2.2.1 3))) := tw_ar (i := 1) hp rfl rfl
theorem tw_s3 (hp : pre.length = 56) (f : Nat → Int32) : (TW pre τ post).set 58 (.inl (0, 4, .inl f)) = TW pre (tA τ 3 f) post := by rw [tw_as (i := 1) hp rfl (by decide)]; rfl
theorem tw_a4 (hp : pre.length = 56) : (TW pre τ post)[59]? = some (.inl (1, 240, .inr (.inl (τ.2.2.2 4)))) := tw_ar (i := 2) hp rfl rfl
theorem tw_s4 (hp : pre.length = 56) (f : Nat → Int64) : (TW pre τ post).set 59 (.inl (1, 240, .inr (.inl f))) = TW pre (tB τ 4 f) post := by rw [tw_as (i := 2) hp rfl (by decide)]; rfl
theorem tw_a6 (hp : pre.length = 56) : (TW pre τ post)[60]? = some (.inl (0, 4, .inl (τ.2.2.1 6))) := tw_ar (i := 3) hp rfl rfl
theorem tw_s6 (hp : pre.length = 56) (f : Nat → Int32) : (TW pre τ post).set 60 (.inl (0, 4, .inl f)) = TW pre (tA τ 6 f) post := by rw [tw_as (i := 3) hp rfl (by decide)]; rfl
theorem tw_a7 (hp : pre.length = 56) : (TW pre τ post)[61]? = some (.inl (0, 4, .inl (τ.2.2.1 7))) := tw_ar (i := 4) hp rfl rfl
theorem tw_s7 (hp : pre.length = 56) (f : Nat → Int32) : (TW pre τ post).set 61 (.inl (0, 4, .inl f)) = TW pre (tA τ 7 f) post := by rw [tw_as (i := 4) hp rfl (by decide)]; rfl
theorem tw_a8 (hp : pre.length = 56) : (TW pre τ post)[62]? = some (.inl (0, 4, .inl (τ.2.2.1 8))) := tw_ar (i := 5) hp rfl rfl
theorem tw_s8 (hp : pre.length = 56) (f : Nat → Int32) : (TW pre τ post).set 62 (.inl (0, 4, .inl f)) = TW pre (tA τ 8 f) post := by rw [tw_as (i := 5) hp rfl (by decide)]; rfl
theorem tw_a9 (hp : pre.length = 56) : (TW pre τ post)[63]? = some (.inl (0, 48, .inl (τ.2.2.1 9))) := tw_ar (i := 6) hp rfl rfl
theorem tw_s9 (hp : pre.length = 56) (f : Nat → Int32) : (TW pre τ post).set 63 (.inl (0, 48, .inl f)) = TW pre (tA τ 9 f) post := by rw [tw_as (i := 6) hp rfl (by decide)]; rfl
theorem tw_a10 (hp : pre.length = 56) : (TW pre τ post)[64]? = some (.inl (0, 336, .inl (τ.2.2.1 10))) := tw_ar (i := 7) hp rfl rfl
theorem tw_s10 (hp : pre.length = 56) (f : Nat → Int32) : (TW pre τ post).set 64 (.inl (0, 336, .inl f)) = TW pre (tA τ 10 f) post := by rw [tw_as (i := 7) hp rfl (by decide)]; rfl
theorem tw_a11 (hp : pre.length = 56) : (TW pre τ post)[65]? = some (.inl (0, 84, .inl (τ.2.2.1 11))) := tw_ar (i := 8) hp rfl rfl
theorem tw_s11 (hp : pre.length = 56) (f : Nat → Int32) : (TW pre τ post).set 65 (.inl (0, 84, .inl f)) = TW pre (tA τ 11 f) post := by rw [tw_as (i := 8) hp rfl (by decide)]; rfl
theorem tw_a12 (hp : pre.length = 56) : (TW pre τ post)[66]? = some (.inl (0, 4, .inl (τ.2.2.1 12))) := tw_ar (i := 9) hp rfl rfl
theorem tw_s12 (hp : pre.length = 56) (f : Nat → Int32) : (TW pre τ post).set 66 (.inl (0, 4, .inl f)) = TW pre (tA τ 12 f) post := by rw [tw_as (i := 9) hp rfl (by decide)]; rfl
theorem tw_a13 (hp : pre.length = 56) : (TW pre τ post)[67]? = some (.inl (0, 80, .inl (τ.2.2.1 13))) := tw_ar (i := 10) hp rfl rfl
theorem tw_s13 (hp : pre.length = 56) (f : Nat → Int32) : (TW pre τ post).set 67 (.inl (0, 80, .inl f)) = TW pre (tA τ 13 f) post := by rw [tw_as (i := 10) hp rfl (by decide)]; rfl
theorem tw_a14 (hp : pre.length = 56) : (TW pre τ post)[68]? = some (.inl (0, 80, .inl (τ.2.2.1 14))) := tw_ar (i := 11) hp rfl rfl
theorem tw_s14 (hp : pre.length = 56) (f : Nat → Int32) : (TW pre τ post).set 68 (.inl (0, 80, .inl f)) = TW pre (tA τ 14 f) post := by rw [tw_as (i := 11) hp rfl (by decide)]; rfl
theorem tw_a15 (hp : pre.length = 56) : (TW pre τ post)[69]? = some (.inl (0, 80, .inl (τ.2.2.1 15))) := tw_ar (i := 12) hp rfl rfl
theorem tw_s15 (hp : pre.length = 56) (f : Nat → Int32) : (TW pre τ post).set 69 (.inl (0, 80, .inl f)) = TW pre (tA τ 15 f) post := by rw [tw_as (i := 12) hp rfl (by decide)]; rfl
theorem tw_a16 (hp : pre.length = 56) : (TW pre τ post)[70]? = some (.inl (0, 80, .inl (τ.2.2.1 16))) := tw_ar (i := 13) hp rfl rfl
theorem tw_s16 (hp : pre.length = 56) (f : Nat → Int32) : (TW pre τ post).set 70 (.inl (0, 80, .inl f)) = TW pre (tA τ 16 f) post := by rw [tw_as (i := 13) hp rfl (by decide)]; rfl
theorem tw_a17 (hp : pre.length = 56) : (TW pre τ post)[71]? = some (.inl (4, 12, .inl (τ.2.2.1 17))) := tw_ar (i := 14) hp rfl rfl
theorem tw_s17 (hp : pre.length = 56) (f : Nat → Int32) : (TW pre τ post).set 71 (.inl (4, 12, .inl f)) = TW pre (tA τ 17 f) post := by rw [tw_as (i := 14) hp rfl (by decide)]; rfl
theorem tw_a26 (hp : pre.length = 56) : (TW pre τ post)[72]? = some (.inl (1, 7, .inr (.inl (τ.2.2.2 26)))) := tw_ar (i := 15) hp rfl rfl
theorem tw_s26 (hp : pre.length = 56) (f : Nat → Int64) : (TW pre τ post).set 72 (.inl (1, 7, .inr (.inl f))) = TW pre (tB τ 26 f) post := by rw [tw_as (i := 15) hp rfl (by decide)]; rfl
theorem tw_a27 (hp : pre.length = 56) : (TW pre τ post)[73]? = some (.inl (1, 60, .inr (.inl (τ.2.2.2 27)))) := tw_ar (i := 16) hp rfl rfl
theorem tw_s27 (hp : pre.length = 56) (f : Nat → Int64) : (TW pre τ post).set 73 (.inl (1, 60, .inr (.inl f))) = TW pre (tB τ 27 f) post := by rw [tw_as (i := 16) hp rfl (by decide)]; rfl
theorem tw_a28 (hp : pre.length = 56) : (TW pre τ post)[74]? = some (.inl (2, 500, .inl (τ.2.2.1 28))) := tw_ar (i := 17) hp rfl rfl
theorem tw_s28 (hp : pre.length = 56) (f : Nat → Int32) : (TW pre τ post).set 74 (.inl (2, 500, .inl f)) = TW pre (tA τ 28 f) post := by rw [tw_as (i := 17) hp rfl (by decide)]; rfl
theorem tw_a43 (hp : pre.length = 56) : (TW pre τ post)[75]? = some (.inl (0, 40, .inl (τ.2.2.1 43))) := tw_ar (i := 18) hp rfl rfl
theorem tw_s43 (hp : pre.length = 56) (f : Nat → Int32) : (TW pre τ post).set 75 (.inl (0, 40, .inl f)) = TW pre (tA τ 43 f) post := by rw [tw_as (i := 18) hp rfl (by decide)]; rfl
theorem tw_a44 (hp : pre.length = 56) : (TW pre τ post)[76]? = some (.inl (0, 40, .inl (τ.2.2.1 44))) := tw_ar (i := 19) hp rfl rfl
theorem tw_s44 (hp : pre.length = 56) (f : Nat → Int32) : (TW pre τ post).set 76 (.inl (0, 40, .inl f)) = TW pre (tA τ 44 f) post := by rw [tw_as (i := 19) hp rfl (by decide)]; rfl
theorem tw_a45 (hp : pre.length = 56) : (TW pre τ post)[77]? = some (.inl (0, 40, .inl (τ.2.2.1 45))) := tw_ar (i := 20) hp rfl rfl
theorem tw_s45 (hp : pre.length = 56) (f : Nat → Int32) : (TW pre τ post).set 77 (.inl (0, 40, .inl f)) = TW pre (tA τ 45 f) post := by rw [tw_as (i := 20) hp rfl (by decide)]; rfl
theorem tw_a46 (hp : pre.length = 56) : (TW pre τ post)[78]? = some (.inl (0, 40, .inl (τ.2.2.1 46))) := tw_ar (i := 21) hp rfl rfl
theorem tw_s46 (hp : pre.length = 56) (f : Nat → Int32) : (TW pre τ post).set 78 (.inl (0, 40, .inl f)) = TW pre (tA τ 46 f) post := by rw [tw_as (i := 21) hp rfl (by decide)]; rfl
theorem tw_a47 (hp : pre.length = 56) : (TW pre τ post)[79]? = some (.inl (0, 40, .inl (τ.2.2.1 47))) := tw_ar (i := 22) hp rfl rfl
theorem tw_s47 (hp : pre.length = 56) (f : Nat → Int32) : (TW pre τ post).set 79 (.inl (0, 40, .inl f)) = TW pre (tA τ 47 f) post := by rw [tw_as (i := 22) hp rfl (by decide)]; rfl
theorem tw_a48 (hp : pre.length = 56) : (TW pre τ post)[80]? = some (.inl (0, 40, .inl (τ.2.2.1 48))) := tw_ar (i := 23) hp rfl rfl
theorem tw_s48 (hp : pre.length = 56) (f : Nat → Int32) : (TW pre τ post).set 80 (.inl (0, 40, .inl f)) = TW pre (tA τ 48 f) post := by rw [tw_as (i := 23) hp rfl (by decide)]; rfl
theorem tw_a49 (hp : pre.length = 56) : (TW pre τ post)[81]? = some (.inl (0, 40, .inl (τ.2.2.1 49))) := tw_ar (i := 24) hp rfl rfl
theorem tw_s49 (hp : pre.length = 56) (f : Nat → Int32) : (TW pre τ post).set 81 (.inl (0, 40, .inl f)) = TW pre (tA τ 49 f) post := by rw [tw_as (i := 24) hp rfl (by decide)]; rfl
theorem tw_a50 (hp : pre.length = 56) : (TW pre τ post)[82]? = some (.inl (0, 40, .inl (τ.2.2.1 50))) := tw_ar (i := 25) hp rfl rfl
theorem tw_s50 (hp : pre.length = 56) (f : Nat → Int32) : (TW pre τ post).set 82 (.inl (0, 40, .inl f)) = TW pre (tA τ 50 f) post := by rw [tw_as (i := 25) hp rfl (by decide)]; rfl
theorem tw_a51 (hp : pre.length = 56) : (TW pre τ post)[83]? = some (.inl (0, 40, .inl (τ.2.2.1 51))) := tw_ar (i := 26) hp rfl rfl
theorem tw_s51 (hp : pre.length = 56) (f : Nat → Int32) : (TW pre τ post).set 83 (.inl (0, 40, .inl f)) = TW pre (tA τ 51 f) post := by rw [tw_as (i := 26) hp rfl (by decide)]; rfl
theorem tw_a52 (hp : pre.length = 56) : (TW pre τ post)[84]? = some (.inl (0, 40, .inl (τ.2.2.1 52))) := tw_ar (i := 27) hp rfl rfl
theorem tw_s52 (hp : pre.length = 56) (f : Nat → Int32) : (TW pre τ post).set 84 (.inl (0, 40, .inl f)) = TW pre (tA τ 52 f) post := by rw [tw_as (i := 27) hp rfl (by decide)]; rfl
theorem tw_a53 (hp : pre.length = 56) : (TW pre τ post)[85]? = some (.inl (0, 40, .inl (τ.2.2.1 53))) := tw_ar (i := 28) hp rfl rfl
theorem tw_s53 (hp : pre.length = 56) (f : Nat → Int32) : (TW pre τ post).set 85 (.inl (0, 40, .inl f)) = TW pre (tA τ 53 f) post := by rw [tw_as (i := 28) hp rfl (by decide)]; rfl
theorem tw_a54 (hp : pre.length = 56) : (TW pre τ post)[86]? = some (.inl (0, 40, .inl (τ.2.2.1 54))) := tw_ar (i := 29) hp rfl rfl
theorem tw_s54 (hp : pre.length = 56) (f : Nat → Int32) : (TW pre τ post).set 86 (.inl (0, 40, .inl f)) = TW pre (tA τ 54 f) post := by rw [tw_as (i := 29) hp rfl (by decide)]; rfl
theorem tw_a55 (hp : pre.length = 56) : (TW pre τ post)[87]? = some (.inl (0, 40, .inl (τ.2.2.1 55))) := tw_ar (i := 30) hp rfl rfl
theorem tw_s55 (hp : pre.length = 56) (f : Nat → Int32) : (TW pre τ post).set 87 (.inl (0, 40, .inl f)) = TW pre (tA τ 55 f) post := by rw [tw_as (i := 30) hp rfl (by decide)]; rfl
theorem tw_a56 (hp : pre.length = 56) : (TW pre τ post)[88]? = some (.inl (1, 40, .inr (.inl (τ.2.2.2 56)))) := tw_ar (i := 31) hp rfl rfl
theorem tw_s56 (hp : pre.length = 56) (f : Nat → Int64) : (TW pre τ post).set 88 (.inl (1, 40, .inr (.inl f))) = TW pre (tB τ 56 f) post := by rw [tw_as (i := 31) hp rfl (by decide)]; rfl
theorem tw_a57 (hp : pre.length = 56) : (TW pre τ post)[89]? = some (.inl (1, 40, .inr (.inl (τ.2.2.2 57)))) := tw_ar (i := 32) hp rfl rfl
theorem tw_s57 (hp : pre.length = 56) (f : Nat → Int64) : (TW pre τ post).set 89 (.inl (1, 40, .inr (.inl f))) = TW pre (tB τ 57 f) post := by rw [tw_as (i := 32) hp rfl (by decide)]; rfl
theorem tw_a58 (hp : pre.length = 56) : (TW pre τ post)[90]? = some (.inl (1, 20, .inr (.inl (τ.2.2.2 58)))) := tw_ar (i := 33) hp rfl rfl
theorem tw_s58 (hp : pre.length = 56) (f : Nat → Int64) : (TW pre τ post).set 90 (.inl (1, 20, .inr (.inl f))) = TW pre (tB τ 58 f) post := by rw [tw_as (i := 33) hp rfl (by decide)]; rfl
theorem tw_a59 (hp : pre.length = 56) : (TW pre τ post)[91]? = some (.inl (1, 40, .inr (.inl (τ.2.2.2 59)))) := tw_ar (i := 34) hp rfl rfl
theorem tw_s59 (hp : pre.length = 56) (f : Nat → Int64) : (TW pre τ post).set 91 (.inl (1, 40, .inr (.inl f))) = TW pre (tB τ 59 f) post := by rw [tw_as (i := 34) hp rfl (by decide)]; rfl
theorem tw_a67 (hp : pre.length = 56) : (TW pre τ post)[92]? = some (.inl (0, 28, .inl (τ.2.2.1 67))) := tw_ar (i := 35) hp rfl rfl
theorem tw_s67 (hp : pre.length = 56) (f : Nat → Int32) : (TW pre τ post).set 92 (.inl (0, 28, .inl f)) = TW pre (tA τ 67 f) post := by rw [tw_as (i := 35) hp rfl (by decide)]; rfl
theorem tw_a68 (hp : pre.length = 56) : (TW pre τ post)[93]? = some (.inl (0, 13, .inl (τ.2.2.1 68))) := tw_ar (i := 36) hp rfl rfl
theorem tw_s68 (hp : pre.length = 56) (f : Nat → Int32) : (TW pre τ post).set 93 (.inl (0, 13, .inl f)) = TW pre (tA τ 68 f) post := by rw [tw_as (i := 36) hp rfl (by decide)]; rfl
theorem tw_a69 (hp : pre.length = 56) : (TW pre τ post)[94]? = some (.inl (0, 14, .inl (τ.2.2.1 69))) := tw_ar (i := 37) hp rfl rfl
theorem tw_s69 (hp : pre.length = 56) (f : Nat → Int32) : (TW pre τ post).set 94 (.inl (0, 14, .inl f)) = TW pre (tA τ 69 f) post := by rw [tw_as (i := 37) hp rfl (by decide)]; rfl
theorem tw_a70 (hp : pre.length = 56) : (TW pre τ post)[95]? = some (.inl (1, 20, .inr (.inl (τ.2.2.2 70)))) := tw_ar (i := 38) hp rfl rfl
theorem tw_s70 (hp : pre.length = 56) (f : Nat → Int64) : (TW pre τ post).set 95 (.inl (1, 20, .inr (.inl f))) = TW pre (tB τ 70 f) post := by rw [tw_as (i := 38) hp rfl (by decide)]; rfl
theorem tw_a71 (hp : pre.length = 56) : (TW pre τ post)[96]? = some (.inl (1, 20, .inr (.inl (τ.2.2.2 71)))) := tw_ar (i := 39) hp rfl rfl
theorem tw_s71 (hp : pre.length = 56) (f : Nat → Int64) : (TW pre τ post).set 96 (.inl (1, 20, .inr (.inl f))) = TW pre (tB τ 71 f) post := by rw [tw_as (i := 39) hp rfl (by decide)]; rfl
theorem tw_a72 (hp : pre.length = 56) : (TW pre τ post)[97]? = some (.inl (1, 1600, .inr (.inl (τ.2.2.2 72)))) := tw_ar (i := 40) hp rfl rfl
theorem tw_s72 (hp : pre.length = 56) (f : Nat → Int64) : (TW pre τ post).set 97 (.inl (1, 1600, .inr (.inl f))) = TW pre (tB τ 72 f) post := by rw [tw_as (i := 40) hp rfl (by decide)]; rfl
theorem tw_a73 (hp : pre.length = 56) : (TW pre τ post)[98]? = some (.inl (0, 20, .inl (τ.2.2.1 73))) := tw_ar (i := 41) hp rfl rfl
theorem tw_s73 (hp : pre.length = 56) (f : Nat → Int32) : (TW pre τ post).set 98 (.inl (0, 20, .inl f)) = TW pre (tA τ 73 f) post := by rw [tw_as (i := 41) hp rfl (by decide)]; rfl
theorem tw_a75 (hp : pre.length = 56) : (TW pre τ post)[99]? = some (.inl (0, 2, .inl (τ.2.2.1 75))) := tw_ar (i := 42) hp rfl rfl
theorem tw_s75 (hp : pre.length = 56) (f : Nat → Int32) : (TW pre τ post).set 99 (.inl (0, 2, .inl f)) = TW pre (tA τ 75 f) post := by rw [tw_as (i := 42) hp rfl (by decide)]; rfl
theorem tw_a76 (hp : pre.length = 56) : (TW pre τ post)[100]? = some (.inl (0, 2, .inl (τ.2.2.1 76))) := tw_ar (i := 43) hp rfl rfl
theorem tw_s76 (hp : pre.length = 56) (f : Nat → Int32) : (TW pre τ post).set 100 (.inl (0, 2, .inl f)) = TW pre (tA τ 76 f) post := by rw [tw_as (i := 43) hp rfl (by decide)]; rfl
theorem tw_a83 (hp : pre.length = 56) : (TW pre τ post)[101]? = some (.inl (0, 100, .inl (τ.2.2.1 83))) := tw_ar (i := 44) hp rfl rfl
theorem tw_s83 (hp : pre.length = 56) (f : Nat → Int32) : (TW pre τ post).set 101 (.inl (0, 100, .inl f)) = TW pre (tA τ 83 f) post := by rw [tw_as (i := 44) hp rfl (by decide)]; rfl
theorem tw_a84 (hp : pre.length = 56) : (TW pre τ post)[102]? = some (.inl (0, 100, .inl (τ.2.2.1 84))) := tw_ar (i := 45) hp rfl rfl
theorem tw_s84 (hp : pre.length = 56) (f : Nat → Int32) : (TW pre τ post).set 102 (.inl (0, 100, .inl f)) = TW pre (tA τ 84 f) post := by rw [tw_as (i := 45) hp rfl (by decide)]; rfl
theorem tw_a85 (hp : pre.length = 56) : (TW pre τ post)[103]? = some (.inl (0, 20, .inl (τ.2.2.1 85))) := tw_ar (i := 46) hp rfl rfl
theorem tw_s85 (hp : pre.length = 56) (f : Nat → Int32) : (TW pre τ post).set 103 (.inl (0, 20, .inl f)) = TW pre (tA τ 85 f) post := by rw [tw_as (i := 46) hp rfl (by decide)]; rfl
theorem tw_a86 (hp : pre.length = 56) : (TW pre τ post)[104]? = some (.inl (0, 20, .inl (τ.2.2.1 86))) := tw_ar (i := 47) hp rfl rfl
theorem tw_s86 (hp : pre.length = 56) (f : Nat → Int32) : (TW pre τ post).set 104 (.inl (0, 20, .inl f)) = TW pre (tA τ 86 f) post := by rw [tw_as (i := 47) hp rfl (by decide)]; rfl
theorem tw_a87 (hp : pre.length = 56) : (TW pre τ post)[105]? = some (.inl (0, 60, .inl (τ.2.2.1 87))) := tw_ar (i := 48) hp rfl rfl
theorem tw_s87 (hp : pre.length = 56) (f : Nat → Int32) : (TW pre τ post).set 105 (.inl (0, 60, .inl f)) = TW pre (tA τ 87 f) post := by rw [tw_as (i := 48) hp rfl (by decide)]; rfl
theorem tw_a88 (hp : pre.length = 56) : (TW pre τ post)[106]? = some (.inl (0, 60, .inl (τ.2.2.1 88))) := tw_ar (i := 49) hp rfl rfl
theorem tw_s88 (hp : pre.length = 56) (f : Nat → Int32) : (TW pre τ post).set 106 (.inl (0, 60, .inl f)) = TW pre (tA τ 88 f) post := by rw [tw_as (i := 49) hp rfl (by decide)]; rfl
theorem tw_a89 (hp : pre.length = 56) : (TW pre τ post)[107]? = some (.inl (0, 60, .inl (τ.2.2.1 89))) := tw_ar (i := 50) hp rfl rfl
theorem tw_s89 (hp : pre.length = 56) (f : Nat → Int32) : (TW pre τ post).set 107 (.inl (0, 60, .inl f)) = TW pre (tA τ 89 f) post := by rw [tw_as (i := 50) hp rfl (by decide)]; rfl
theorem tw_a90 (hp : pre.length = 56) : (TW pre τ post)[108]? = some (.inl (0, 7, .inl (τ.2.2.1 90))) := tw_ar (i := 51) hp rfl rfl
theorem tw_s90 (hp : pre.length = 56) (f : Nat → Int32) : (TW pre τ post).set 108 (.inl (0, 7, .inl f)) = TW pre (tA τ 90 f) post := by rw [tw_as (i := 51) hp rfl (by decide)]; rfl
theorem tw_a91 (hp : pre.length = 56) : (TW pre τ post)[109]? = some (.inl (0, 7, .inl (τ.2.2.1 91))) := tw_ar (i := 52) hp rfl rfl
theorem tw_s91 (hp : pre.length = 56) (f : Nat → Int32) : (TW pre τ post).set 109 (.inl (0, 7, .inl f)) = TW pre (tA τ 91 f) post := by rw [tw_as (i := 52) hp rfl (by decide)]; rfl
theorem tw_a92 (hp : pre.length = 56) : (TW pre τ post)[110]? = some (.inl (0, 7, .inl (τ.2.2.1 92))) := tw_ar (i := 53) hp rfl rfl
theorem tw_s92 (hp : pre.length = 56) (f : Nat → Int32) : (TW pre τ post).set 110 (.inl (0, 7, .inl f)) = TW pre (tA τ 92 f) post := by rw [tw_as (i := 53) hp rfl (by decide)]; rfl
theorem tw_a93 (hp : pre.length = 56) : (TW pre τ post)[111]? = some (.inl (0, 7, .inl (τ.2.2.1 93))) := tw_ar (i := 54) hp rfl rfl
theorem tw_s93 (hp : pre.length = 56) (f : Nat → Int32) : (TW pre τ post).set 111 (.inl (0, 7, .inl f)) = TW pre (tA τ 93 f) post := by rw [tw_as (i := 54) hp rfl (by decide)]; rfl
theorem tw_a94 (hp : pre.length = 56) : (TW pre τ post)[112]? = some (.inl (0, 7, .inl (τ.2.2.1 94))) := tw_ar (i := 55) hp rfl rfl
theorem tw_s94 (hp : pre.length = 56) (f : Nat → Int32) : (TW pre τ post).set 112 (.inl (0, 7, .inl f)) = TW pre (tA τ 94 f) post := by rw [tw_as (i := 55) hp rfl (by decide)]; rfl
theorem tw_a95 (hp : pre.length = 56) : (TW pre τ post)[113]? = some (.inl (0, 4, .inl (τ.2.2.1 95))) := tw_ar (i := 56) hp rfl rfl
theorem tw_s95 (hp : pre.length = 56) (f : Nat → Int32) : (TW pre τ post).set 113 (.inl (0, 4, .inl f)) = TW pre (tA τ 95 f) post := by rw [tw_as (i := 56) hp rfl (by decide)]; rfl
theorem tw_a96 (hp : pre.length = 56) : (TW pre τ post)[114]? = some (.inl (1, 5, .inr (.inl (τ.2.2.2 96)))) := tw_ar (i := 57) hp rfl rfl
theorem tw_s96 (hp : pre.length = 56) (f : Nat → Int64) : (TW pre τ post).set 114 (.inl (1, 5, .inr (.inl f))) = TW pre (tB τ 96 f) post := by rw [tw_as (i := 57) hp rfl (by decide)]; rfl
theorem tw_a97 (hp : pre.length = 56) : (TW pre τ post)[115]? = some (.inl (0, 2, .inl (τ.2.2.1 97))) := tw_ar (i := 58) hp rfl rfl
theorem tw_s97 (hp : pre.length = 56) (f : Nat → Int32) : (TW pre τ post).set 115 (.inl (0, 2, .inl f)) = TW pre (tA τ 97 f) post := by rw [tw_as (i := 58) hp rfl (by decide)]; rfl
theorem tw_a98 (hp : pre.length = 56) : (TW pre τ post)[116]? = some (.inl (0, 2, .inl (τ.2.2.1 98))) := tw_ar (i := 59) hp rfl rfl
theorem tw_s98 (hp : pre.length = 56) (f : Nat → Int32) : (TW pre τ post).set 116 (.inl (0, 2, .inl f)) = TW pre (tA τ 98 f) post := by rw [tw_as (i := 59) hp rfl (by decide)]; rfl
theorem tw_f0 (v : Int32) : (twF τ).set 0 (.int v) = twF (tI τ 0 v) := rfl
theorem tw_f1 (v : Int32) : (twF τ).set 1 (.int v) = twF (tI τ 1 v) := rfl
theorem tw_f5 (v : Int32) : (twF τ).set 5 (.int v) = twF (tI τ 5 v) := rfl
theorem tw_f18 (v : Int32) : (twF τ).set 18 (.int v) = twF (tI τ 18 v) := rfl
theorem tw_f19 (v : Int32) : (twF τ).set 19 (.int v) = twF (tI τ 19 v) := rfl
theorem tw_f20 (v : Int32) : (twF τ).set 20 (.int v) = twF (tI τ 20 v) := rfl
theorem tw_f21 (v : Int32) : (twF τ).set 21 (.int v) = twF (tI τ 21 v) := rfl
theorem tw_f22 (v : Int32) : (twF τ).set 22 (.int v) = twF (tI τ 22 v) := rfl
theorem tw_f23 (v : Int32) : (twF τ).set 23 (.int v) = twF (tI τ 23 v) := rfl
theorem tw_f24 (v : Int32) : (twF τ).set 24 (.int v) = twF (tI τ 24 v) := rfl
theorem tw_f25 (v : Int32) : (twF τ).set 25 (.int v) = twF (tI τ 25 v) := rfl
theorem tw_f29 (v : Int32) : (twF τ).set 29 (.int v) = twF (tI τ 29 v) := rfl
theorem tw_f30 (v : Int32) : (twF τ).set 30 (.int v) = twF (tI τ 30 v) := rfl
theorem tw_f31 (v : Int32) : (twF τ).set 31 (.int v) = twF (tI τ 31 v) := rfl
theorem tw_f32 (v : Int32) : (twF τ).set 32 (.int v) = twF (tI τ 32 v) := rfl
theorem tw_f33 (v : Int32) : (twF τ).set 33 (.int v) = twF (tI τ 33 v) := rfl
theorem tw_f34 (v : Int32) : (twF τ).set 34 (.int v) = twF (tI τ 34 v) := rfl
theorem tw_f35 (v : Int32) : (twF τ).set 35 (.int v) = twF (tI τ 35 v) := rfl
theorem tw_f36 (v : Int32) : (twF τ).set 36 (.int v) = twF (tI τ 36 v) := rfl
theorem tw_f37 (v : Int32) : (twF τ).set 37 (.int v) = twF (tI τ 37 v) := rfl
theorem tw_f38 (v : Int32) : (twF τ).set 38 (.int v) = twF (tI τ 38 v) := rfl
theorem tw_f39 (v : Int64) : (twF τ).set 39 (.long v) = twF (tL τ 39 v) := rfl
theorem tw_f40 (v : Int64) : (twF τ).set 40 (.long v) = twF (tL τ 40 v) := rfl
theorem tw_f41 (v : Int32) : (twF τ).set 41 (.int v) = twF (tI τ 41 v) := rfl
theorem tw_f42 (v : Int32) : (twF τ).set 42 (.int v) = twF (tI τ 42 v) := rfl
theorem tw_f60 (v : Int32) : (twF τ).set 60 (.int v) = twF (tI τ 60 v) := rfl
theorem tw_f61 (v : Int32) : (twF τ).set 61 (.int v) = twF (tI τ 61 v) := rfl
theorem tw_f62 (v : Int32) : (twF τ).set 62 (.int v) = twF (tI τ 62 v) := rfl
theorem tw_f63 (v : Int32) : (twF τ).set 63 (.int v) = twF (tI τ 63 v) := rfl
theorem tw_f64 (v : Int32) : (twF τ).set 64 (.int v) = twF (tI τ 64 v) := rfl
theorem tw_f65 (v : Int32) : (twF τ).set 65 (.int v) = twF (tI τ 65 v) := rfl
theorem tw_f66 (v : Int32) : (twF τ).set 66 (.int v) = twF (tI τ 66 v) := rfl
theorem tw_f74 (v : Int32) : (twF τ).set 74 (.int v) = twF (tI τ 74 v) := rfl
theorem tw_f77 (v : Int32) : (twF τ).set 77 (.int v) = twF (tI τ 77 v) := rfl
theorem tw_f78 (v : Int32) : (twF τ).set 78 (.int v) = twF (tI τ 78 v) := rfl
theorem tw_f79 (v : Int32) : (twF τ).set 79 (.int v) = twF (tI τ 79 v) := rfl
theorem tw_f80 (v : Int32) : (twF τ).set 80 (.int v) = twF (tI τ 80 v) := rfl
theorem tw_f81 (v : Int32) : (twF τ).set 81 (.int v) = twF (tI τ 81 v) := rfl
theorem tw_f82 (v : Int32) : (twF τ).set 82 (.int v) = twF (tI τ 82 v) := rfl
end
