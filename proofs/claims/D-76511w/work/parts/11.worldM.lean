/-! THE REFERENCE's WORLD: an object at b, its 17 arrays behind it; F: its int fields, A: its arrays, by the field's number; A2: the two arrays that a reading of the law scribbles on -/
set_option maxRecDepth 100000
theorem Ct.at {g : GE} {y : MethodName} {own : String} {cc : ByteArray} {nL : Nat} {ret : Option FieldType} {d mc ms : Nat} {av : List Value} {L : List (Nat × Value)} {ω : Om} {z : Nat} {Q : Option Value → Om → Nat → Prop} (hy : plainName y.cls = true) (ho : y.cls = own) (hn : (lg_sl av).length ≤ nL) (hL : lv_args 0 av = L)
    (h : G g own cc nL ret noX (rmD d mc ms) (zN g Q mc ms) 0 0 ω z 0 L []) : Ct g y cc nL ret d mc ms av ω z Q := by
  subst hL; subst ho
  exact Ct.of hy hn h
abbrev GN (g : GE) (own : String) (cc : ByteArray) (nL : Nat) (ret : Option FieldType) (d : Nat) (Q : Option Value → Om → Nat → Prop) (ω : Om) (z pc : Nat) (L : List (Nat × Value)) (S : List Value) : Prop := G g own cc nL ret noX (rmD d 0 0) (zN g Q 0 0) 0 0 ω z pc L S
def dQ (v : Option Value) (ω : Om) (z : Nat) : Option Value → Om → Nat → Prop := fun v' ω' z' => v' = v ∧ ω' = ω ∧ z' = z
theorem dQ.mk {v : Option Value} {ω : Om} {z : Nat} : dQ v ω z v ω z := ⟨rfl, rfl, rfl⟩
theorem dQ.of {v v' : Option Value} {ω : Om} {z : Nat} (h : v' = v) : dQ v ω z v' ω z := ⟨h, rfl, rfl⟩
def sA (A : Nat → Nat → Int32) (k : Nat) (f : Nat → Int32) : Nat → Nat → Int32 := fun i => if i = k then f else A i
theorem sA_same (A : Nat → Nat → Int32) (k : Nat) (f : Nat → Int32) : sA A k f k = f := if_pos rfl
theorem sA_ne (A : Nat → Nat → Int32) {k i : Nat} (f : Nat → Int32) (h : i ≠ k) : sA A k f i = A i := if_neg h
theorem sA_sA (A : Nat → Nat → Int32) (k : Nat) (f h : Nat → Int32) : sA (sA A k f) k h = sA A k h := by
  funext i; unfold sA; split <;> rfl
theorem sA_self (A : Nat → Nat → Int32) (k : Nat) : sA A k (A k) = A := by
  funext i; unfold sA; split
  · rename_i h; rw [h]
  · rfl
theorem upd_same (F : Nat → Int32) (k : Nat) (x : Int32) : upd F k x k = x := if_pos rfl
theorem upd_ne (F : Nat → Int32) {k i : Nat} (x : Int32) (h : i ≠ k) : upd F k x i = F i := if_neg h
theorem upd_upd (F : Nat → Int32) (k : Nat) (x y : Int32) : upd (upd F k x) k y = upd F k y := by
  funext i; unfold upd; split <;> rfl
theorem upd_self (F : Nat → Int32) (k : Nat) : upd F k (F k) = F := by
  funext i; unfold upd; split
  · rename_i h; rw [h]
  · rfl
def mfs (b : Nat) (F : Nat → Int32) : List Value := [.int (F 0), .ref (b + 1), .ref (b + 2), .ref (b + 3), .int (F 4), .int (F 5), .ref (b + 4), .int (F 7), .ref (b + 5), .ref (b + 6), .int (F 10), .int (F 11), .int (F 12), .ref (b + 7), .ref (b + 8), .ref (b + 9), .ref (b + 10), .ref (b + 11), .ref (b + 12), .int (F 19), .int (F 20), .int (F 21), .int (F 22), .ref (b + 13), .ref (b + 14), .int (F 25), .int (F 26), .int (F 27), .ref (b + 15), .ref (b + 16), .ref (b + 17), .int (F 31), .int (F 32), .int (F 33)]
def hM (g : GE) (b : Nat) (F : Nat → Int32) (A A2 : Nat → Nat → Int32) (ω0 : Om) : Om := fun q => if q = b then some (.inr (7, mfs b F)) else if q = b + 1 then some (.inl (g.2.2.1 0, 6, .inl (A 1))) else if q = b + 2 then some (.inl (g.2.2.1 0, 6, .inl (A 2))) else if q = b + 3 then some (.inl (g.2.2.1 0, 18, .inl (A 3))) else if q = b + 4 then some (.inl (g.2.2.1 0, 160, .inl (A 6))) else if q = b + 5 then some (.inl (g.2.2.1 0, 1200, .inl (A 8))) else if q = b + 6 then some (.inl (g.2.2.1 0, 24, .inl (A 9))) else if q = b + 7 then some (.inl (g.2.2.1 0, 18, .inl (A 13))) else if q = b + 8 then some (.inl (g.2.2.1 0, 4, .inl (A 14))) else if q = b + 9 then some (.inl (g.2.2.1 0, 4, .inl (A 15))) else if q = b + 10 then some (.inl (g.2.2.1 0, 4, .inl (A 16))) else if q = b + 11 then some (.inl (g.2.2.1 0, 160, .inl (A 17))) else if q = b + 12 then some (.inl (g.2.2.1 0, 32, .inl (A 18))) else if q = b + 13 then some (.inl (g.2.2.1 0, 96, .inl (A 23))) else if q = b + 14 then some (.inl (g.2.2.1 0, 200, .inl (A 24))) else if q = b + 15 then some (.inl (g.2.2.1 0, 200, .inl (A2 28))) else if q = b + 16 then some (.inl (g.2.2.1 0, 6, .inl (A2 29))) else if q = b + 17 then some (.inl (g.2.2.1 0, 20, .inl (A 30))) else ω0 q
def mQ (g : GE) (b : Nat) (ω0 : Om) (z : Nat) (v : Option Value) (F : Nat → Int32) (A : Nat → Nat → Int32) : Option Value → Om → Nat → Prop := fun v' ω' z' => v' = v ∧ z' = z ∧ ∃ A2, ω' = hM g b F A A2 ω0
section MW
variable {g : GE} {b : Nat} {F : Nat → Int32} {A A2 : Nat → Nat → Int32} {ω0 : Om}
theorem mQ.mk {z : Nat} {v : Option Value} : mQ g b ω0 z v F A v (hM g b F A A2 ω0) z := ⟨rfl, rfl, A2, rfl⟩
theorem mQ.of {z : Nat} {v v' : Option Value} {F' : Nat → Int32} {A' : Nat → Nat → Int32} (h : v' = v) (hF : F' = F) (hA : A' = A) : mQ g b ω0 z v F A v' (hM g b F' A' A2 ω0) z := ⟨h, rfl, A2, by rw [hF, hA]⟩
theorem hM_b : hM g b F A A2 ω0 b = some (.inr (7, mfs b F)) := if_pos rfl
theorem hM_kind : hM g b F A A2 ω0 (b + 1) = some (.inl (g.2.2.1 0, 6, .inl (A 1))) := by
  unfold hM
  rw [if_neg (by omega), if_pos rfl]
theorem hM_moreOf : hM g b F A A2 ω0 (b + 2) = some (.inl (g.2.2.1 0, 6, .inl (A 2))) := by
  unfold hM
  rw [if_neg (by omega), if_neg (by omega), if_pos rfl]
theorem hM_rows : hM g b F A A2 ω0 (b + 3) = some (.inl (g.2.2.1 0, 18, .inl (A 3))) := by
  unfold hM
  rw [if_neg (by omega), if_neg (by omega), if_neg (by omega), if_pos rfl]
theorem hM_tape : hM g b F A A2 ω0 (b + 4) = some (.inl (g.2.2.1 0, 160, .inl (A 6))) := by
  unfold hM
  rw [if_neg (by omega), if_neg (by omega), if_neg (by omega), if_neg (by omega), if_pos rfl]
theorem hM_codes : hM g b F A A2 ω0 (b + 5) = some (.inl (g.2.2.1 0, 1200, .inl (A 8))) := by
  unfold hM
  rw [if_neg (by omega), if_neg (by omega), if_neg (by omega), if_neg (by omega), if_neg (by omega), if_pos rfl]
theorem hM_starts : hM g b F A A2 ω0 (b + 6) = some (.inl (g.2.2.1 0, 24, .inl (A 9))) := by
  unfold hM
  rw [if_neg (by omega), if_neg (by omega), if_neg (by omega), if_neg (by omega), if_neg (by omega), if_neg (by omega), if_pos rfl]
theorem hM_imageRows : hM g b F A A2 ω0 (b + 7) = some (.inl (g.2.2.1 0, 18, .inl (A 13))) := by
  unfold hM
  rw [if_neg (by omega), if_neg (by omega), if_neg (by omega), if_neg (by omega), if_neg (by omega), if_neg (by omega), if_neg (by omega), if_pos rfl]
theorem hM_imageHeld : hM g b F A A2 ω0 (b + 8) = some (.inl (g.2.2.1 0, 4, .inl (A 14))) := by
  unfold hM
  rw [if_neg (by omega), if_neg (by omega), if_neg (by omega), if_neg (by omega), if_neg (by omega), if_neg (by omega), if_neg (by omega), if_neg (by omega), if_pos rfl]
theorem hM_sheetSort : hM g b F A A2 ω0 (b + 9) = some (.inl (g.2.2.1 0, 4, .inl (A 15))) := by
  unfold hM
  rw [if_neg (by omega), if_neg (by omega), if_neg (by omega), if_neg (by omega), if_neg (by omega), if_neg (by omega), if_neg (by omega), if_neg (by omega), if_neg (by omega), if_pos rfl]
theorem hM_sheetSize : hM g b F A A2 ω0 (b + 10) = some (.inl (g.2.2.1 0, 4, .inl (A 16))) := by
  unfold hM
  rw [if_neg (by omega), if_neg (by omega), if_neg (by omega), if_neg (by omega), if_neg (by omega), if_neg (by omega), if_neg (by omega), if_neg (by omega), if_neg (by omega), if_neg (by omega), if_pos rfl]
theorem hM_cells : hM g b F A A2 ω0 (b + 11) = some (.inl (g.2.2.1 0, 160, .inl (A 17))) := by
  unfold hM
  rw [if_neg (by omega), if_neg (by omega), if_neg (by omega), if_neg (by omega), if_neg (by omega), if_neg (by omega), if_neg (by omega), if_neg (by omega), if_neg (by omega), if_neg (by omega), if_neg (by omega), if_pos rfl]
theorem hM_law : hM g b F A A2 ω0 (b + 12) = some (.inl (g.2.2.1 0, 32, .inl (A 18))) := by
  unfold hM
  rw [if_neg (by omega), if_neg (by omega), if_neg (by omega), if_neg (by omega), if_neg (by omega), if_neg (by omega), if_neg (by omega), if_neg (by omega), if_neg (by omega), if_neg (by omega), if_neg (by omega), if_neg (by omega), if_pos rfl]
theorem hM_words : hM g b F A A2 ω0 (b + 13) = some (.inl (g.2.2.1 0, 96, .inl (A 23))) := by
  unfold hM
  rw [if_neg (by omega), if_neg (by omega), if_neg (by omega), if_neg (by omega), if_neg (by omega), if_neg (by omega), if_neg (by omega), if_neg (by omega), if_neg (by omega), if_neg (by omega), if_neg (by omega), if_neg (by omega), if_neg (by omega), if_pos rfl]
theorem hM_held : hM g b F A A2 ω0 (b + 14) = some (.inl (g.2.2.1 0, 200, .inl (A 24))) := by
  unfold hM
  rw [if_neg (by omega), if_neg (by omega), if_neg (by omega), if_neg (by omega), if_neg (by omega), if_neg (by omega), if_neg (by omega), if_neg (by omega), if_neg (by omega), if_neg (by omega), if_neg (by omega), if_neg (by omega), if_neg (by omega), if_neg (by omega), if_pos rfl]
theorem hM_stack : hM g b F A A2 ω0 (b + 15) = some (.inl (g.2.2.1 0, 200, .inl (A2 28))) := by
  unfold hM
  rw [if_neg (by omega), if_neg (by omega), if_neg (by omega), if_neg (by omega), if_neg (by omega), if_neg (by omega), if_neg (by omega), if_neg (by omega), if_neg (by omega), if_neg (by omega), if_neg (by omega), if_neg (by omega), if_neg (by omega), if_neg (by omega), if_neg (by omega), if_pos rfl]
theorem hM_named : hM g b F A A2 ω0 (b + 16) = some (.inl (g.2.2.1 0, 6, .inl (A2 29))) := by
  unfold hM
  rw [if_neg (by omega), if_neg (by omega), if_neg (by omega), if_neg (by omega), if_neg (by omega), if_neg (by omega), if_neg (by omega), if_neg (by omega), if_neg (by omega), if_neg (by omega), if_neg (by omega), if_neg (by omega), if_neg (by omega), if_neg (by omega), if_neg (by omega), if_neg (by omega), if_pos rfl]
theorem hM_kept : hM g b F A A2 ω0 (b + 17) = some (.inl (g.2.2.1 0, 20, .inl (A 30))) := by
  unfold hM
  rw [if_neg (by omega), if_neg (by omega), if_neg (by omega), if_neg (by omega), if_neg (by omega), if_neg (by omega), if_neg (by omega), if_neg (by omega), if_neg (by omega), if_neg (by omega), if_neg (by omega), if_neg (by omega), if_neg (by omega), if_neg (by omega), if_neg (by omega), if_neg (by omega), if_neg (by omega), if_pos rfl]
theorem hM_setF {k : Nat} {v : Int32} (hk : (mfs b F).set k (.int v) = mfs b (upd F k v)) : oset (hM g b F A A2 ω0) b (.inr (7, (mfs b F).set k (.int v))) = hM g b (upd F k v) A A2 ω0 := by
  rw [hk]
  funext q
  unfold oset hM
  by_cases h : q = b
  · rw [if_pos h, if_pos h]
  · rw [if_neg h, if_neg h, if_neg h]
theorem hM_s_kind {f : Nat → Int32} : oset (hM g b F A A2 ω0) (b + 1) (.inl (g.2.2.1 0, 6, .inl f)) = hM g b F (sA A 1 f) A2 ω0 := by
  funext q
  unfold oset hM
  by_cases h : q = b + 1
  · subst h
    simp only [if_true]
    rw [if_neg (by omega), sA_same]
  · rw [if_neg h, if_neg h, if_neg h]
    rfl
theorem hM_s_moreOf {f : Nat → Int32} : oset (hM g b F A A2 ω0) (b + 2) (.inl (g.2.2.1 0, 6, .inl f)) = hM g b F (sA A 2 f) A2 ω0 := by
  funext q
  unfold oset hM
  by_cases h : q = b + 2
  · subst h
    simp only [if_true]
    rw [if_neg (by omega), if_neg (by omega), sA_same]
  · rw [if_neg h, if_neg h, if_neg h]
    rfl
theorem hM_s_rows {f : Nat → Int32} : oset (hM g b F A A2 ω0) (b + 3) (.inl (g.2.2.1 0, 18, .inl f)) = hM g b F (sA A 3 f) A2 ω0 := by
  funext q
  unfold oset hM
  by_cases h : q = b + 3
  · subst h
    simp only [if_true]
    rw [if_neg (by omega), if_neg (by omega), if_neg (by omega), sA_same]
  · rw [if_neg h, if_neg h, if_neg h]
    rfl
theorem hM_s_tape {f : Nat → Int32} : oset (hM g b F A A2 ω0) (b + 4) (.inl (g.2.2.1 0, 160, .inl f)) = hM g b F (sA A 6 f) A2 ω0 := by
  funext q
  unfold oset hM
  by_cases h : q = b + 4
  · subst h
    simp only [if_true]
    rw [if_neg (by omega), if_neg (by omega), if_neg (by omega), if_neg (by omega), sA_same]
  · rw [if_neg h, if_neg h, if_neg h]
    rfl
theorem hM_s_codes {f : Nat → Int32} : oset (hM g b F A A2 ω0) (b + 5) (.inl (g.2.2.1 0, 1200, .inl f)) = hM g b F (sA A 8 f) A2 ω0 := by
  funext q
  unfold oset hM
  by_cases h : q = b + 5
  · subst h
    simp only [if_true]
    rw [if_neg (by omega), if_neg (by omega), if_neg (by omega), if_neg (by omega), if_neg (by omega), sA_same]
  · rw [if_neg h, if_neg h, if_neg h]
    rfl
theorem hM_s_starts {f : Nat → Int32} : oset (hM g b F A A2 ω0) (b + 6) (.inl (g.2.2.1 0, 24, .inl f)) = hM g b F (sA A 9 f) A2 ω0 := by
  funext q
  unfold oset hM
  by_cases h : q = b + 6
  · subst h
    simp only [if_true]
    rw [if_neg (by omega), if_neg (by omega), if_neg (by omega), if_neg (by omega), if_neg (by omega), if_neg (by omega), sA_same]
  · rw [if_neg h, if_neg h, if_neg h]
    rfl
theorem hM_s_imageRows {f : Nat → Int32} : oset (hM g b F A A2 ω0) (b + 7) (.inl (g.2.2.1 0, 18, .inl f)) = hM g b F (sA A 13 f) A2 ω0 := by
  funext q
  unfold oset hM
  by_cases h : q = b + 7
  · subst h
    simp only [if_true]
    rw [if_neg (by omega), if_neg (by omega), if_neg (by omega), if_neg (by omega), if_neg (by omega), if_neg (by omega), if_neg (by omega), sA_same]
  · rw [if_neg h, if_neg h, if_neg h]
    rfl
theorem hM_s_imageHeld {f : Nat → Int32} : oset (hM g b F A A2 ω0) (b + 8) (.inl (g.2.2.1 0, 4, .inl f)) = hM g b F (sA A 14 f) A2 ω0 := by
  funext q
  unfold oset hM
  by_cases h : q = b + 8
  · subst h
    simp only [if_true]
    rw [if_neg (by omega), if_neg (by omega), if_neg (by omega), if_neg (by omega), if_neg (by omega), if_neg (by omega), if_neg (by omega), if_neg (by omega), sA_same]
  · rw [if_neg h, if_neg h, if_neg h]
    rfl
theorem hM_s_sheetSort {f : Nat → Int32} : oset (hM g b F A A2 ω0) (b + 9) (.inl (g.2.2.1 0, 4, .inl f)) = hM g b F (sA A 15 f) A2 ω0 := by
  funext q
  unfold oset hM
  by_cases h : q = b + 9
  · subst h
    simp only [if_true]
    rw [if_neg (by omega), if_neg (by omega), if_neg (by omega), if_neg (by omega), if_neg (by omega), if_neg (by omega), if_neg (by omega), if_neg (by omega), if_neg (by omega), sA_same]
  · rw [if_neg h, if_neg h, if_neg h]
    rfl
theorem hM_s_sheetSize {f : Nat → Int32} : oset (hM g b F A A2 ω0) (b + 10) (.inl (g.2.2.1 0, 4, .inl f)) = hM g b F (sA A 16 f) A2 ω0 := by
  funext q
  unfold oset hM
  by_cases h : q = b + 10
  · subst h
    simp only [if_true]
    rw [if_neg (by omega), if_neg (by omega), if_neg (by omega), if_neg (by omega), if_neg (by omega), if_neg (by omega), if_neg (by omega), if_neg (by omega), if_neg (by omega), if_neg (by omega), sA_same]
  · rw [if_neg h, if_neg h, if_neg h]
    rfl
theorem hM_s_cells {f : Nat → Int32} : oset (hM g b F A A2 ω0) (b + 11) (.inl (g.2.2.1 0, 160, .inl f)) = hM g b F (sA A 17 f) A2 ω0 := by
  funext q
  unfold oset hM
  by_cases h : q = b + 11
  · subst h
    simp only [if_true]
    rw [if_neg (by omega), if_neg (by omega), if_neg (by omega), if_neg (by omega), if_neg (by omega), if_neg (by omega), if_neg (by omega), if_neg (by omega), if_neg (by omega), if_neg (by omega), if_neg (by omega), sA_same]
  · rw [if_neg h, if_neg h, if_neg h]
    rfl
theorem hM_s_law {f : Nat → Int32} : oset (hM g b F A A2 ω0) (b + 12) (.inl (g.2.2.1 0, 32, .inl f)) = hM g b F (sA A 18 f) A2 ω0 := by
  funext q
  unfold oset hM
  by_cases h : q = b + 12
  · subst h
    simp only [if_true]
    rw [if_neg (by omega), if_neg (by omega), if_neg (by omega), if_neg (by omega), if_neg (by omega), if_neg (by omega), if_neg (by omega), if_neg (by omega), if_neg (by omega), if_neg (by omega), if_neg (by omega), if_neg (by omega), sA_same]
  · rw [if_neg h, if_neg h, if_neg h]
    rfl
theorem hM_s_words {f : Nat → Int32} : oset (hM g b F A A2 ω0) (b + 13) (.inl (g.2.2.1 0, 96, .inl f)) = hM g b F (sA A 23 f) A2 ω0 := by
  funext q
  unfold oset hM
  by_cases h : q = b + 13
  · subst h
    simp only [if_true]
    rw [if_neg (by omega), if_neg (by omega), if_neg (by omega), if_neg (by omega), if_neg (by omega), if_neg (by omega), if_neg (by omega), if_neg (by omega), if_neg (by omega), if_neg (by omega), if_neg (by omega), if_neg (by omega), if_neg (by omega), sA_same]
  · rw [if_neg h, if_neg h, if_neg h]
    rfl
theorem hM_s_held {f : Nat → Int32} : oset (hM g b F A A2 ω0) (b + 14) (.inl (g.2.2.1 0, 200, .inl f)) = hM g b F (sA A 24 f) A2 ω0 := by
  funext q
  unfold oset hM
  by_cases h : q = b + 14
  · subst h
    simp only [if_true]
    rw [if_neg (by omega), if_neg (by omega), if_neg (by omega), if_neg (by omega), if_neg (by omega), if_neg (by omega), if_neg (by omega), if_neg (by omega), if_neg (by omega), if_neg (by omega), if_neg (by omega), if_neg (by omega), if_neg (by omega), if_neg (by omega), sA_same]
  · rw [if_neg h, if_neg h, if_neg h]
    rfl
theorem hM_s_stack {f : Nat → Int32} : oset (hM g b F A A2 ω0) (b + 15) (.inl (g.2.2.1 0, 200, .inl f)) = hM g b F A (sA A2 28 f) ω0 := by
  funext q
  unfold oset hM
  by_cases h : q = b + 15
  · subst h
    simp only [if_true]
    rw [if_neg (by omega), if_neg (by omega), if_neg (by omega), if_neg (by omega), if_neg (by omega), if_neg (by omega), if_neg (by omega), if_neg (by omega), if_neg (by omega), if_neg (by omega), if_neg (by omega), if_neg (by omega), if_neg (by omega), if_neg (by omega), if_neg (by omega), sA_same]
  · rw [if_neg h, if_neg h, if_neg h]
    rfl
theorem hM_s_named {f : Nat → Int32} : oset (hM g b F A A2 ω0) (b + 16) (.inl (g.2.2.1 0, 6, .inl f)) = hM g b F A (sA A2 29 f) ω0 := by
  funext q
  unfold oset hM
  by_cases h : q = b + 16
  · subst h
    simp only [if_true]
    rw [if_neg (by omega), if_neg (by omega), if_neg (by omega), if_neg (by omega), if_neg (by omega), if_neg (by omega), if_neg (by omega), if_neg (by omega), if_neg (by omega), if_neg (by omega), if_neg (by omega), if_neg (by omega), if_neg (by omega), if_neg (by omega), if_neg (by omega), if_neg (by omega), sA_same]
  · rw [if_neg h, if_neg h, if_neg h]
    rfl
theorem hM_s_kept {f : Nat → Int32} : oset (hM g b F A A2 ω0) (b + 17) (.inl (g.2.2.1 0, 20, .inl f)) = hM g b F (sA A 30 f) A2 ω0 := by
  funext q
  unfold oset hM
  by_cases h : q = b + 17
  · subst h
    simp only [if_true]
    rw [if_neg (by omega), if_neg (by omega), if_neg (by omega), if_neg (by omega), if_neg (by omega), if_neg (by omega), if_neg (by omega), if_neg (by omega), if_neg (by omega), if_neg (by omega), if_neg (by omega), if_neg (by omega), if_neg (by omega), if_neg (by omega), if_neg (by omega), if_neg (by omega), if_neg (by omega), sA_same]
  · rw [if_neg h, if_neg h, if_neg h]
    rfl
variable {cc : ByteArray} {nL : Nat} {ret : Option FieldType} {XT : Method → Code → Prop} {rm : Room} {Z : ZT} {cells slots : Nat} {z pc : Nat} {L : List (Nat × Value)} {rest : List Value}
theorem fit_int (v : Int32) : narrow .int (.int v) = .int v := rfl
theorem mg_fishers (hd : decode cc pc = .ok (.getfield 69, 3)) (k : G g RX7 cc nL ret XT rm Z cells slots (hM g b F A A2 ω0) z (pc + 3) L (.int (F 0) :: rest)) : G g RX7 cc nL ret XT rm Z cells slots (hM g b F A A2 ω0) z (pc) L (.ref b :: rest) := g_get (ref := RX7) (T := TX7) (N := 34) 0 in_X7 rfl (by decide) q1444 rfl hM_b rfl hd k
theorem mp_fishers {v : Int32} (hN : gN g ≤ b) (hd : decode cc pc = .ok (.putfield 69, 3)) (k : G g RX7 cc nL ret XT rm Z cells slots (hM g b (upd F 0 v) A A2 ω0) z (pc + 3) L (rest)) : G g RX7 cc nL ret XT rm Z cells slots (hM g b F A A2 ω0) z (pc) L (.int v :: .ref b :: rest) := g_put (ref := RX7) (T := TX7) (N := 34) (ty := .int) 0 in_X7 rfl tyX7_ok nmX7 (by decide) q1444 rfl rfl rfl hN hM_b (Nat.le_of_ble_eq_true rfl) rfl rfl hd (by rw [hM_setF (k := 0) rfl]; exact k)
theorem mg_kind (hd : decode cc pc = .ok (.getfield 7, 3)) (k : G g RX7 cc nL ret XT rm Z cells slots (hM g b F A A2 ω0) z (pc + 3) L (.ref (b + 1) :: rest)) : G g RX7 cc nL ret XT rm Z cells slots (hM g b F A A2 ω0) z (pc) L (.ref b :: rest) := g_get (ref := RX7) (T := TX7) (N := 34) 1 in_X7 rfl (by decide) q1445 rfl hM_b rfl hd k
theorem ml_kind (n : Nat) {i : Int32} (hn : n < 6) (hi : i = nI n) (hd : decode cc pc = .ok (.iaload, 1)) (k : G g RX7 cc nL ret XT rm Z cells slots (hM g b F A A2 ω0) z (pc + 1) L (.int ((A 1) n) :: rest)) : G g RX7 cc nL ret XT rm Z cells slots (hM g b F A A2 ω0) z (pc) L (.int i :: .ref (b + 1) :: rest) := by
  subst hi
  refine g_iald hM_kind (vp_in_nI hn (by decide)) hd ?_
  rw [nI_clamp (Nat.lt_trans hn (by decide))]
  exact k
theorem ms_kind (n : Nat) {i x : Int32} (hN : gN g ≤ b) (hn : n < 6) (hi : i = nI n) (hd : decode cc pc = .ok (.iastore, 1)) (k : G g RX7 cc nL ret XT rm Z cells slots (hM g b F (sA A 1 (upd (A 1) n x)) A2 ω0) z (pc + 1) L (rest)) : G g RX7 cc nL ret XT rm Z cells slots (hM g b F A A2 ω0) z (pc) L (.int x :: .int i :: .ref (b + 1) :: rest) := by
  subst hi
  refine g_iast (Nat.le_trans hN (Nat.le_add_right _ _)) hM_kind (vp_in_nI hn (by decide)) hd ?_
  rw [nI_clamp (Nat.lt_trans hn (by decide)), hM_s_kind]
  exact k
theorem mg_moreOf (hd : decode cc pc = .ok (.getfield 13, 3)) (k : G g RX7 cc nL ret XT rm Z cells slots (hM g b F A A2 ω0) z (pc + 3) L (.ref (b + 2) :: rest)) : G g RX7 cc nL ret XT rm Z cells slots (hM g b F A A2 ω0) z (pc) L (.ref b :: rest) := g_get (ref := RX7) (T := TX7) (N := 34) 2 in_X7 rfl (by decide) q1446 rfl hM_b rfl hd k
theorem ml_moreOf (n : Nat) {i : Int32} (hn : n < 6) (hi : i = nI n) (hd : decode cc pc = .ok (.iaload, 1)) (k : G g RX7 cc nL ret XT rm Z cells slots (hM g b F A A2 ω0) z (pc + 1) L (.int ((A 2) n) :: rest)) : G g RX7 cc nL ret XT rm Z cells slots (hM g b F A A2 ω0) z (pc) L (.int i :: .ref (b + 2) :: rest) := by
  subst hi
  refine g_iald hM_moreOf (vp_in_nI hn (by decide)) hd ?_
  rw [nI_clamp (Nat.lt_trans hn (by decide))]
  exact k
theorem ms_moreOf (n : Nat) {i x : Int32} (hN : gN g ≤ b) (hn : n < 6) (hi : i = nI n) (hd : decode cc pc = .ok (.iastore, 1)) (k : G g RX7 cc nL ret XT rm Z cells slots (hM g b F (sA A 2 (upd (A 2) n x)) A2 ω0) z (pc + 1) L (rest)) : G g RX7 cc nL ret XT rm Z cells slots (hM g b F A A2 ω0) z (pc) L (.int x :: .int i :: .ref (b + 2) :: rest) := by
  subst hi
  refine g_iast (Nat.le_trans hN (Nat.le_add_right _ _)) hM_moreOf (vp_in_nI hn (by decide)) hd ?_
  rw [nI_clamp (Nat.lt_trans hn (by decide)), hM_s_moreOf]
  exact k
theorem mg_rows (hd : decode cc pc = .ok (.getfield 16, 3)) (k : G g RX7 cc nL ret XT rm Z cells slots (hM g b F A A2 ω0) z (pc + 3) L (.ref (b + 3) :: rest)) : G g RX7 cc nL ret XT rm Z cells slots (hM g b F A A2 ω0) z (pc) L (.ref b :: rest) := g_get (ref := RX7) (T := TX7) (N := 34) 3 in_X7 rfl (by decide) q1447 rfl hM_b rfl hd k
theorem ml_rows (n : Nat) {i : Int32} (hn : n < 18) (hi : i = nI n) (hd : decode cc pc = .ok (.iaload, 1)) (k : G g RX7 cc nL ret XT rm Z cells slots (hM g b F A A2 ω0) z (pc + 1) L (.int ((A 3) n) :: rest)) : G g RX7 cc nL ret XT rm Z cells slots (hM g b F A A2 ω0) z (pc) L (.int i :: .ref (b + 3) :: rest) := by
  subst hi
  refine g_iald hM_rows (vp_in_nI hn (by decide)) hd ?_
  rw [nI_clamp (Nat.lt_trans hn (by decide))]
  exact k
theorem ms_rows (n : Nat) {i x : Int32} (hN : gN g ≤ b) (hn : n < 18) (hi : i = nI n) (hd : decode cc pc = .ok (.iastore, 1)) (k : G g RX7 cc nL ret XT rm Z cells slots (hM g b F (sA A 3 (upd (A 3) n x)) A2 ω0) z (pc + 1) L (rest)) : G g RX7 cc nL ret XT rm Z cells slots (hM g b F A A2 ω0) z (pc) L (.int x :: .int i :: .ref (b + 3) :: rest) := by
  subst hi
  refine g_iast (Nat.le_trans hN (Nat.le_add_right _ _)) hM_rows (vp_in_nI hn (by decide)) hd ?_
  rw [nI_clamp (Nat.lt_trans hn (by decide)), hM_s_rows]
  exact k
theorem mg_sea (hd : decode cc pc = .ok (.getfield 76, 3)) (k : G g RX7 cc nL ret XT rm Z cells slots (hM g b F A A2 ω0) z (pc + 3) L (.int (F 4) :: rest)) : G g RX7 cc nL ret XT rm Z cells slots (hM g b F A A2 ω0) z (pc) L (.ref b :: rest) := g_get (ref := RX7) (T := TX7) (N := 34) 4 in_X7 rfl (by decide) q1448 rfl hM_b rfl hd k
theorem mp_sea {v : Int32} (hN : gN g ≤ b) (hd : decode cc pc = .ok (.putfield 76, 3)) (k : G g RX7 cc nL ret XT rm Z cells slots (hM g b (upd F 4 v) A A2 ω0) z (pc + 3) L (rest)) : G g RX7 cc nL ret XT rm Z cells slots (hM g b F A A2 ω0) z (pc) L (.int v :: .ref b :: rest) := g_put (ref := RX7) (T := TX7) (N := 34) (ty := .int) 4 in_X7 rfl tyX7_ok nmX7 (by decide) q1448 rfl rfl rfl hN hM_b (Nat.le_of_ble_eq_true rfl) rfl rfl hd (by rw [hM_setF (k := 4) rfl]; exact k)
theorem mg_tides (hd : decode cc pc = .ok (.getfield 83, 3)) (k : G g RX7 cc nL ret XT rm Z cells slots (hM g b F A A2 ω0) z (pc + 3) L (.int (F 5) :: rest)) : G g RX7 cc nL ret XT rm Z cells slots (hM g b F A A2 ω0) z (pc) L (.ref b :: rest) := g_get (ref := RX7) (T := TX7) (N := 34) 5 in_X7 rfl (by decide) q1449 rfl hM_b rfl hd k
theorem mp_tides {v : Int32} (hN : gN g ≤ b) (hd : decode cc pc = .ok (.putfield 83, 3)) (k : G g RX7 cc nL ret XT rm Z cells slots (hM g b (upd F 5 v) A A2 ω0) z (pc + 3) L (rest)) : G g RX7 cc nL ret XT rm Z cells slots (hM g b F A A2 ω0) z (pc) L (.int v :: .ref b :: rest) := g_put (ref := RX7) (T := TX7) (N := 34) (ty := .int) 5 in_X7 rfl tyX7_ok nmX7 (by decide) q1449 rfl rfl rfl hN hM_b (Nat.le_of_ble_eq_true rfl) rfl rfl hd (by rw [hM_setF (k := 5) rfl]; exact k)
theorem mg_tape (hd : decode cc pc = .ok (.getfield 19, 3)) (k : G g RX7 cc nL ret XT rm Z cells slots (hM g b F A A2 ω0) z (pc + 3) L (.ref (b + 4) :: rest)) : G g RX7 cc nL ret XT rm Z cells slots (hM g b F A A2 ω0) z (pc) L (.ref b :: rest) := g_get (ref := RX7) (T := TX7) (N := 34) 6 in_X7 rfl (by decide) q1450 rfl hM_b rfl hd k
theorem ml_tape (n : Nat) {i : Int32} (hn : n < 160) (hi : i = nI n) (hd : decode cc pc = .ok (.iaload, 1)) (k : G g RX7 cc nL ret XT rm Z cells slots (hM g b F A A2 ω0) z (pc + 1) L (.int ((A 6) n) :: rest)) : G g RX7 cc nL ret XT rm Z cells slots (hM g b F A A2 ω0) z (pc) L (.int i :: .ref (b + 4) :: rest) := by
  subst hi
  refine g_iald hM_tape (vp_in_nI hn (by decide)) hd ?_
  rw [nI_clamp (Nat.lt_trans hn (by decide))]
  exact k
theorem ms_tape (n : Nat) {i x : Int32} (hN : gN g ≤ b) (hn : n < 160) (hi : i = nI n) (hd : decode cc pc = .ok (.iastore, 1)) (k : G g RX7 cc nL ret XT rm Z cells slots (hM g b F (sA A 6 (upd (A 6) n x)) A2 ω0) z (pc + 1) L (rest)) : G g RX7 cc nL ret XT rm Z cells slots (hM g b F A A2 ω0) z (pc) L (.int x :: .int i :: .ref (b + 4) :: rest) := by
  subst hi
  refine g_iast (Nat.le_trans hN (Nat.le_add_right _ _)) hM_tape (vp_in_nI hn (by decide)) hd ?_
  rw [nI_clamp (Nat.lt_trans hn (by decide)), hM_s_tape]
  exact k
theorem mg_taped (hd : decode cc pc = .ok (.getfield 61, 3)) (k : G g RX7 cc nL ret XT rm Z cells slots (hM g b F A A2 ω0) z (pc + 3) L (.int (F 7) :: rest)) : G g RX7 cc nL ret XT rm Z cells slots (hM g b F A A2 ω0) z (pc) L (.ref b :: rest) := g_get (ref := RX7) (T := TX7) (N := 34) 7 in_X7 rfl (by decide) q1451 rfl hM_b rfl hd k
theorem mp_taped {v : Int32} (hN : gN g ≤ b) (hd : decode cc pc = .ok (.putfield 61, 3)) (k : G g RX7 cc nL ret XT rm Z cells slots (hM g b (upd F 7 v) A A2 ω0) z (pc + 3) L (rest)) : G g RX7 cc nL ret XT rm Z cells slots (hM g b F A A2 ω0) z (pc) L (.int v :: .ref b :: rest) := g_put (ref := RX7) (T := TX7) (N := 34) (ty := .int) 7 in_X7 rfl tyX7_ok nmX7 (by decide) q1451 rfl rfl rfl hN hM_b (Nat.le_of_ble_eq_true rfl) rfl rfl hd (by rw [hM_setF (k := 7) rfl]; exact k)
theorem mg_codes (hd : decode cc pc = .ok (.getfield 22, 3)) (k : G g RX7 cc nL ret XT rm Z cells slots (hM g b F A A2 ω0) z (pc + 3) L (.ref (b + 5) :: rest)) : G g RX7 cc nL ret XT rm Z cells slots (hM g b F A A2 ω0) z (pc) L (.ref b :: rest) := g_get (ref := RX7) (T := TX7) (N := 34) 8 in_X7 rfl (by decide) q1452 rfl hM_b rfl hd k
theorem ml_codes (n : Nat) {i : Int32} (hn : n < 1200) (hi : i = nI n) (hd : decode cc pc = .ok (.iaload, 1)) (k : G g RX7 cc nL ret XT rm Z cells slots (hM g b F A A2 ω0) z (pc + 1) L (.int ((A 8) n) :: rest)) : G g RX7 cc nL ret XT rm Z cells slots (hM g b F A A2 ω0) z (pc) L (.int i :: .ref (b + 5) :: rest) := by
  subst hi
  refine g_iald hM_codes (vp_in_nI hn (by decide)) hd ?_
  rw [nI_clamp (Nat.lt_trans hn (by decide))]
  exact k
theorem ms_codes (n : Nat) {i x : Int32} (hN : gN g ≤ b) (hn : n < 1200) (hi : i = nI n) (hd : decode cc pc = .ok (.iastore, 1)) (k : G g RX7 cc nL ret XT rm Z cells slots (hM g b F (sA A 8 (upd (A 8) n x)) A2 ω0) z (pc + 1) L (rest)) : G g RX7 cc nL ret XT rm Z cells slots (hM g b F A A2 ω0) z (pc) L (.int x :: .int i :: .ref (b + 5) :: rest) := by
  subst hi
  refine g_iast (Nat.le_trans hN (Nat.le_add_right _ _)) hM_codes (vp_in_nI hn (by decide)) hd ?_
  rw [nI_clamp (Nat.lt_trans hn (by decide)), hM_s_codes]
  exact k
theorem mg_starts (hd : decode cc pc = .ok (.getfield 25, 3)) (k : G g RX7 cc nL ret XT rm Z cells slots (hM g b F A A2 ω0) z (pc + 3) L (.ref (b + 6) :: rest)) : G g RX7 cc nL ret XT rm Z cells slots (hM g b F A A2 ω0) z (pc) L (.ref b :: rest) := g_get (ref := RX7) (T := TX7) (N := 34) 9 in_X7 rfl (by decide) q1453 rfl hM_b rfl hd k
theorem ml_starts (n : Nat) {i : Int32} (hn : n < 24) (hi : i = nI n) (hd : decode cc pc = .ok (.iaload, 1)) (k : G g RX7 cc nL ret XT rm Z cells slots (hM g b F A A2 ω0) z (pc + 1) L (.int ((A 9) n) :: rest)) : G g RX7 cc nL ret XT rm Z cells slots (hM g b F A A2 ω0) z (pc) L (.int i :: .ref (b + 6) :: rest) := by
  subst hi
  refine g_iald hM_starts (vp_in_nI hn (by decide)) hd ?_
  rw [nI_clamp (Nat.lt_trans hn (by decide))]
  exact k
theorem ms_starts (n : Nat) {i x : Int32} (hN : gN g ≤ b) (hn : n < 24) (hi : i = nI n) (hd : decode cc pc = .ok (.iastore, 1)) (k : G g RX7 cc nL ret XT rm Z cells slots (hM g b F (sA A 9 (upd (A 9) n x)) A2 ω0) z (pc + 1) L (rest)) : G g RX7 cc nL ret XT rm Z cells slots (hM g b F A A2 ω0) z (pc) L (.int x :: .int i :: .ref (b + 6) :: rest) := by
  subst hi
  refine g_iast (Nat.le_trans hN (Nat.le_add_right _ _)) hM_starts (vp_in_nI hn (by decide)) hd ?_
  rw [nI_clamp (Nat.lt_trans hn (by decide)), hM_s_starts]
  exact k
theorem mg_texts (hd : decode cc pc = .ok (.getfield 86, 3)) (k : G g RX7 cc nL ret XT rm Z cells slots (hM g b F A A2 ω0) z (pc + 3) L (.int (F 10) :: rest)) : G g RX7 cc nL ret XT rm Z cells slots (hM g b F A A2 ω0) z (pc) L (.ref b :: rest) := g_get (ref := RX7) (T := TX7) (N := 34) 10 in_X7 rfl (by decide) q1454 rfl hM_b rfl hd k
theorem mp_texts {v : Int32} (hN : gN g ≤ b) (hd : decode cc pc = .ok (.putfield 86, 3)) (k : G g RX7 cc nL ret XT rm Z cells slots (hM g b (upd F 10 v) A A2 ω0) z (pc + 3) L (rest)) : G g RX7 cc nL ret XT rm Z cells slots (hM g b F A A2 ω0) z (pc) L (.int v :: .ref b :: rest) := g_put (ref := RX7) (T := TX7) (N := 34) (ty := .int) 10 in_X7 rfl tyX7_ok nmX7 (by decide) q1454 rfl rfl rfl hN hM_b (Nat.le_of_ble_eq_true rfl) rfl rfl hd (by rw [hM_setF (k := 10) rfl]; exact k)
theorem mg_rule (hd : decode cc pc = .ok (.getfield 89, 3)) (k : G g RX7 cc nL ret XT rm Z cells slots (hM g b F A A2 ω0) z (pc + 3) L (.int (F 11) :: rest)) : G g RX7 cc nL ret XT rm Z cells slots (hM g b F A A2 ω0) z (pc) L (.ref b :: rest) := g_get (ref := RX7) (T := TX7) (N := 34) 11 in_X7 rfl (by decide) q1455 rfl hM_b rfl hd k
theorem mp_rule {v : Int32} (hN : gN g ≤ b) (hd : decode cc pc = .ok (.putfield 89, 3)) (k : G g RX7 cc nL ret XT rm Z cells slots (hM g b (upd F 11 v) A A2 ω0) z (pc + 3) L (rest)) : G g RX7 cc nL ret XT rm Z cells slots (hM g b F A A2 ω0) z (pc) L (.int v :: .ref b :: rest) := g_put (ref := RX7) (T := TX7) (N := 34) (ty := .int) 11 in_X7 rfl tyX7_ok nmX7 (by decide) q1455 rfl rfl rfl hN hM_b (Nat.le_of_ble_eq_true rfl) rfl rfl hd (by rw [hM_setF (k := 11) rfl]; exact k)
theorem mg_hasImage (hd : decode cc pc = .ok (.getfield 254, 3)) (k : G g RX7 cc nL ret XT rm Z cells slots (hM g b F A A2 ω0) z (pc + 3) L (.int (F 12) :: rest)) : G g RX7 cc nL ret XT rm Z cells slots (hM g b F A A2 ω0) z (pc) L (.ref b :: rest) := g_get (ref := RX7) (T := TX7) (N := 34) 12 in_X7 rfl (by decide) q1456 rfl hM_b rfl hd k
theorem mp_hasImage {v : Int32} (hN : gN g ≤ b) (hnr : narrow .boolean (.int v) = .int v) (hft : fits .boolean (.int v) = true) (hd : decode cc pc = .ok (.putfield 254, 3)) (k : G g RX7 cc nL ret XT rm Z cells slots (hM g b (upd F 12 v) A A2 ω0) z (pc + 3) L (rest)) : G g RX7 cc nL ret XT rm Z cells slots (hM g b F A A2 ω0) z (pc) L (.int v :: .ref b :: rest) := g_put (ref := RX7) (T := TX7) (N := 34) (ty := .boolean) 12 in_X7 rfl tyX7_ok nmX7 (by decide) q1456 rfl rfl rfl hN hM_b (Nat.le_of_ble_eq_true rfl) hnr hft hd (by rw [hM_setF (k := 12) rfl]; exact k)
theorem mg_imageRows (hd : decode cc pc = .ok (.getfield 28, 3)) (k : G g RX7 cc nL ret XT rm Z cells slots (hM g b F A A2 ω0) z (pc + 3) L (.ref (b + 7) :: rest)) : G g RX7 cc nL ret XT rm Z cells slots (hM g b F A A2 ω0) z (pc) L (.ref b :: rest) := g_get (ref := RX7) (T := TX7) (N := 34) 13 in_X7 rfl (by decide) q1457 rfl hM_b rfl hd k
theorem ml_imageRows (n : Nat) {i : Int32} (hn : n < 18) (hi : i = nI n) (hd : decode cc pc = .ok (.iaload, 1)) (k : G g RX7 cc nL ret XT rm Z cells slots (hM g b F A A2 ω0) z (pc + 1) L (.int ((A 13) n) :: rest)) : G g RX7 cc nL ret XT rm Z cells slots (hM g b F A A2 ω0) z (pc) L (.int i :: .ref (b + 7) :: rest) := by
  subst hi
  refine g_iald hM_imageRows (vp_in_nI hn (by decide)) hd ?_
  rw [nI_clamp (Nat.lt_trans hn (by decide))]
  exact k
theorem ms_imageRows (n : Nat) {i x : Int32} (hN : gN g ≤ b) (hn : n < 18) (hi : i = nI n) (hd : decode cc pc = .ok (.iastore, 1)) (k : G g RX7 cc nL ret XT rm Z cells slots (hM g b F (sA A 13 (upd (A 13) n x)) A2 ω0) z (pc + 1) L (rest)) : G g RX7 cc nL ret XT rm Z cells slots (hM g b F A A2 ω0) z (pc) L (.int x :: .int i :: .ref (b + 7) :: rest) := by
  subst hi
  refine g_iast (Nat.le_trans hN (Nat.le_add_right _ _)) hM_imageRows (vp_in_nI hn (by decide)) hd ?_
  rw [nI_clamp (Nat.lt_trans hn (by decide)), hM_s_imageRows]
  exact k
theorem mg_imageHeld (hd : decode cc pc = .ok (.getfield 31, 3)) (k : G g RX7 cc nL ret XT rm Z cells slots (hM g b F A A2 ω0) z (pc + 3) L (.ref (b + 8) :: rest)) : G g RX7 cc nL ret XT rm Z cells slots (hM g b F A A2 ω0) z (pc) L (.ref b :: rest) := g_get (ref := RX7) (T := TX7) (N := 34) 14 in_X7 rfl (by decide) q1458 rfl hM_b rfl hd k
theorem ml_imageHeld (n : Nat) {i : Int32} (hn : n < 4) (hi : i = nI n) (hd : decode cc pc = .ok (.iaload, 1)) (k : G g RX7 cc nL ret XT rm Z cells slots (hM g b F A A2 ω0) z (pc + 1) L (.int ((A 14) n) :: rest)) : G g RX7 cc nL ret XT rm Z cells slots (hM g b F A A2 ω0) z (pc) L (.int i :: .ref (b + 8) :: rest) := by
  subst hi
  refine g_iald hM_imageHeld (vp_in_nI hn (by decide)) hd ?_
  rw [nI_clamp (Nat.lt_trans hn (by decide))]
  exact k
theorem ms_imageHeld (n : Nat) {i x : Int32} (hN : gN g ≤ b) (hn : n < 4) (hi : i = nI n) (hd : decode cc pc = .ok (.iastore, 1)) (k : G g RX7 cc nL ret XT rm Z cells slots (hM g b F (sA A 14 (upd (A 14) n x)) A2 ω0) z (pc + 1) L (rest)) : G g RX7 cc nL ret XT rm Z cells slots (hM g b F A A2 ω0) z (pc) L (.int x :: .int i :: .ref (b + 8) :: rest) := by
  subst hi
  refine g_iast (Nat.le_trans hN (Nat.le_add_right _ _)) hM_imageHeld (vp_in_nI hn (by decide)) hd ?_
  rw [nI_clamp (Nat.lt_trans hn (by decide)), hM_s_imageHeld]
  exact k
theorem mg_sheetSort (hd : decode cc pc = .ok (.getfield 34, 3)) (k : G g RX7 cc nL ret XT rm Z cells slots (hM g b F A A2 ω0) z (pc + 3) L (.ref (b + 9) :: rest)) : G g RX7 cc nL ret XT rm Z cells slots (hM g b F A A2 ω0) z (pc) L (.ref b :: rest) := g_get (ref := RX7) (T := TX7) (N := 34) 15 in_X7 rfl (by decide) q1459 rfl hM_b rfl hd k
theorem ml_sheetSort (n : Nat) {i : Int32} (hn : n < 4) (hi : i = nI n) (hd : decode cc pc = .ok (.iaload, 1)) (k : G g RX7 cc nL ret XT rm Z cells slots (hM g b F A A2 ω0) z (pc + 1) L (.int ((A 15) n) :: rest)) : G g RX7 cc nL ret XT rm Z cells slots (hM g b F A A2 ω0) z (pc) L (.int i :: .ref (b + 9) :: rest) := by
  subst hi
  refine g_iald hM_sheetSort (vp_in_nI hn (by decide)) hd ?_
  rw [nI_clamp (Nat.lt_trans hn (by decide))]
  exact k
theorem ms_sheetSort (n : Nat) {i x : Int32} (hN : gN g ≤ b) (hn : n < 4) (hi : i = nI n) (hd : decode cc pc = .ok (.iastore, 1)) (k : G g RX7 cc nL ret XT rm Z cells slots (hM g b F (sA A 15 (upd (A 15) n x)) A2 ω0) z (pc + 1) L (rest)) : G g RX7 cc nL ret XT rm Z cells slots (hM g b F A A2 ω0) z (pc) L (.int x :: .int i :: .ref (b + 9) :: rest) := by
  subst hi
  refine g_iast (Nat.le_trans hN (Nat.le_add_right _ _)) hM_sheetSort (vp_in_nI hn (by decide)) hd ?_
  rw [nI_clamp (Nat.lt_trans hn (by decide)), hM_s_sheetSort]
  exact k
theorem mg_sheetSize (hd : decode cc pc = .ok (.getfield 37, 3)) (k : G g RX7 cc nL ret XT rm Z cells slots (hM g b F A A2 ω0) z (pc + 3) L (.ref (b + 10) :: rest)) : G g RX7 cc nL ret XT rm Z cells slots (hM g b F A A2 ω0) z (pc) L (.ref b :: rest) := g_get (ref := RX7) (T := TX7) (N := 34) 16 in_X7 rfl (by decide) q1460 rfl hM_b rfl hd k
theorem ml_sheetSize (n : Nat) {i : Int32} (hn : n < 4) (hi : i = nI n) (hd : decode cc pc = .ok (.iaload, 1)) (k : G g RX7 cc nL ret XT rm Z cells slots (hM g b F A A2 ω0) z (pc + 1) L (.int ((A 16) n) :: rest)) : G g RX7 cc nL ret XT rm Z cells slots (hM g b F A A2 ω0) z (pc) L (.int i :: .ref (b + 10) :: rest) := by
  subst hi
  refine g_iald hM_sheetSize (vp_in_nI hn (by decide)) hd ?_
  rw [nI_clamp (Nat.lt_trans hn (by decide))]
  exact k
theorem ms_sheetSize (n : Nat) {i x : Int32} (hN : gN g ≤ b) (hn : n < 4) (hi : i = nI n) (hd : decode cc pc = .ok (.iastore, 1)) (k : G g RX7 cc nL ret XT rm Z cells slots (hM g b F (sA A 16 (upd (A 16) n x)) A2 ω0) z (pc + 1) L (rest)) : G g RX7 cc nL ret XT rm Z cells slots (hM g b F A A2 ω0) z (pc) L (.int x :: .int i :: .ref (b + 10) :: rest) := by
  subst hi
  refine g_iast (Nat.le_trans hN (Nat.le_add_right _ _)) hM_sheetSize (vp_in_nI hn (by decide)) hd ?_
  rw [nI_clamp (Nat.lt_trans hn (by decide)), hM_s_sheetSize]
  exact k
theorem mg_cells (hd : decode cc pc = .ok (.getfield 40, 3)) (k : G g RX7 cc nL ret XT rm Z cells slots (hM g b F A A2 ω0) z (pc + 3) L (.ref (b + 11) :: rest)) : G g RX7 cc nL ret XT rm Z cells slots (hM g b F A A2 ω0) z (pc) L (.ref b :: rest) := g_get (ref := RX7) (T := TX7) (N := 34) 17 in_X7 rfl (by decide) q1461 rfl hM_b rfl hd k
theorem ml_cells (n : Nat) {i : Int32} (hn : n < 160) (hi : i = nI n) (hd : decode cc pc = .ok (.iaload, 1)) (k : G g RX7 cc nL ret XT rm Z cells slots (hM g b F A A2 ω0) z (pc + 1) L (.int ((A 17) n) :: rest)) : G g RX7 cc nL ret XT rm Z cells slots (hM g b F A A2 ω0) z (pc) L (.int i :: .ref (b + 11) :: rest) := by
  subst hi
  refine g_iald hM_cells (vp_in_nI hn (by decide)) hd ?_
  rw [nI_clamp (Nat.lt_trans hn (by decide))]
  exact k
theorem ms_cells (n : Nat) {i x : Int32} (hN : gN g ≤ b) (hn : n < 160) (hi : i = nI n) (hd : decode cc pc = .ok (.iastore, 1)) (k : G g RX7 cc nL ret XT rm Z cells slots (hM g b F (sA A 17 (upd (A 17) n x)) A2 ω0) z (pc + 1) L (rest)) : G g RX7 cc nL ret XT rm Z cells slots (hM g b F A A2 ω0) z (pc) L (.int x :: .int i :: .ref (b + 11) :: rest) := by
  subst hi
  refine g_iast (Nat.le_trans hN (Nat.le_add_right _ _)) hM_cells (vp_in_nI hn (by decide)) hd ?_
  rw [nI_clamp (Nat.lt_trans hn (by decide)), hM_s_cells]
  exact k
theorem mg_law (hd : decode cc pc = .ok (.getfield 43, 3)) (k : G g RX7 cc nL ret XT rm Z cells slots (hM g b F A A2 ω0) z (pc + 3) L (.ref (b + 12) :: rest)) : G g RX7 cc nL ret XT rm Z cells slots (hM g b F A A2 ω0) z (pc) L (.ref b :: rest) := g_get (ref := RX7) (T := TX7) (N := 34) 18 in_X7 rfl (by decide) q1462 rfl hM_b rfl hd k
theorem ml_law (n : Nat) {i : Int32} (hn : n < 32) (hi : i = nI n) (hd : decode cc pc = .ok (.iaload, 1)) (k : G g RX7 cc nL ret XT rm Z cells slots (hM g b F A A2 ω0) z (pc + 1) L (.int ((A 18) n) :: rest)) : G g RX7 cc nL ret XT rm Z cells slots (hM g b F A A2 ω0) z (pc) L (.int i :: .ref (b + 12) :: rest) := by
  subst hi
  refine g_iald hM_law (vp_in_nI hn (by decide)) hd ?_
  rw [nI_clamp (Nat.lt_trans hn (by decide))]
  exact k
theorem ms_law (n : Nat) {i x : Int32} (hN : gN g ≤ b) (hn : n < 32) (hi : i = nI n) (hd : decode cc pc = .ok (.iastore, 1)) (k : G g RX7 cc nL ret XT rm Z cells slots (hM g b F (sA A 18 (upd (A 18) n x)) A2 ω0) z (pc + 1) L (rest)) : G g RX7 cc nL ret XT rm Z cells slots (hM g b F A A2 ω0) z (pc) L (.int x :: .int i :: .ref (b + 12) :: rest) := by
  subst hi
  refine g_iast (Nat.le_trans hN (Nat.le_add_right _ _)) hM_law (vp_in_nI hn (by decide)) hd ?_
  rw [nI_clamp (Nat.lt_trans hn (by decide)), hM_s_law]
  exact k
theorem mg_at (hd : decode cc pc = .ok (.getfield 97, 3)) (k : G g RX7 cc nL ret XT rm Z cells slots (hM g b F A A2 ω0) z (pc + 3) L (.int (F 19) :: rest)) : G g RX7 cc nL ret XT rm Z cells slots (hM g b F A A2 ω0) z (pc) L (.ref b :: rest) := g_get (ref := RX7) (T := TX7) (N := 34) 19 in_X7 rfl (by decide) q1463 rfl hM_b rfl hd k
theorem mp_at {v : Int32} (hN : gN g ≤ b) (hd : decode cc pc = .ok (.putfield 97, 3)) (k : G g RX7 cc nL ret XT rm Z cells slots (hM g b (upd F 19 v) A A2 ω0) z (pc + 3) L (rest)) : G g RX7 cc nL ret XT rm Z cells slots (hM g b F A A2 ω0) z (pc) L (.int v :: .ref b :: rest) := g_put (ref := RX7) (T := TX7) (N := 34) (ty := .int) 19 in_X7 rfl tyX7_ok nmX7 (by decide) q1463 rfl rfl rfl hN hM_b (Nat.le_of_ble_eq_true rfl) rfl rfl hd (by rw [hM_setF (k := 19) rfl]; exact k)
theorem mg_begun (hd : decode cc pc = .ok (.getfield 100, 3)) (k : G g RX7 cc nL ret XT rm Z cells slots (hM g b F A A2 ω0) z (pc + 3) L (.int (F 20) :: rest)) : G g RX7 cc nL ret XT rm Z cells slots (hM g b F A A2 ω0) z (pc) L (.ref b :: rest) := g_get (ref := RX7) (T := TX7) (N := 34) 20 in_X7 rfl (by decide) q1464 rfl hM_b rfl hd k
theorem mp_begun {v : Int32} (hN : gN g ≤ b) (hd : decode cc pc = .ok (.putfield 100, 3)) (k : G g RX7 cc nL ret XT rm Z cells slots (hM g b (upd F 20 v) A A2 ω0) z (pc + 3) L (rest)) : G g RX7 cc nL ret XT rm Z cells slots (hM g b F A A2 ω0) z (pc) L (.int v :: .ref b :: rest) := g_put (ref := RX7) (T := TX7) (N := 34) (ty := .int) 20 in_X7 rfl tyX7_ok nmX7 (by decide) q1464 rfl rfl rfl hN hM_b (Nat.le_of_ble_eq_true rfl) rfl rfl hd (by rw [hM_setF (k := 20) rfl]; exact k)
theorem mg_token (hd : decode cc pc = .ok (.getfield 103, 3)) (k : G g RX7 cc nL ret XT rm Z cells slots (hM g b F A A2 ω0) z (pc + 3) L (.int (F 21) :: rest)) : G g RX7 cc nL ret XT rm Z cells slots (hM g b F A A2 ω0) z (pc) L (.ref b :: rest) := g_get (ref := RX7) (T := TX7) (N := 34) 21 in_X7 rfl (by decide) q1465 rfl hM_b rfl hd k
theorem mp_token {v : Int32} (hN : gN g ≤ b) (hd : decode cc pc = .ok (.putfield 103, 3)) (k : G g RX7 cc nL ret XT rm Z cells slots (hM g b (upd F 21 v) A A2 ω0) z (pc + 3) L (rest)) : G g RX7 cc nL ret XT rm Z cells slots (hM g b F A A2 ω0) z (pc) L (.int v :: .ref b :: rest) := g_put (ref := RX7) (T := TX7) (N := 34) (ty := .int) 21 in_X7 rfl tyX7_ok nmX7 (by decide) q1465 rfl rfl rfl hN hM_b (Nat.le_of_ble_eq_true rfl) rfl rfl hd (by rw [hM_setF (k := 21) rfl]; exact k)
theorem mg_value (hd : decode cc pc = .ok (.getfield 106, 3)) (k : G g RX7 cc nL ret XT rm Z cells slots (hM g b F A A2 ω0) z (pc + 3) L (.int (F 22) :: rest)) : G g RX7 cc nL ret XT rm Z cells slots (hM g b F A A2 ω0) z (pc) L (.ref b :: rest) := g_get (ref := RX7) (T := TX7) (N := 34) 22 in_X7 rfl (by decide) q1466 rfl hM_b rfl hd k
theorem mp_value {v : Int32} (hN : gN g ≤ b) (hd : decode cc pc = .ok (.putfield 106, 3)) (k : G g RX7 cc nL ret XT rm Z cells slots (hM g b (upd F 22 v) A A2 ω0) z (pc + 3) L (rest)) : G g RX7 cc nL ret XT rm Z cells slots (hM g b F A A2 ω0) z (pc) L (.int v :: .ref b :: rest) := g_put (ref := RX7) (T := TX7) (N := 34) (ty := .int) 22 in_X7 rfl tyX7_ok nmX7 (by decide) q1466 rfl rfl rfl hN hM_b (Nat.le_of_ble_eq_true rfl) rfl rfl hd (by rw [hM_setF (k := 22) rfl]; exact k)
theorem mg_words (hd : decode cc pc = .ok (.getfield 46, 3)) (k : G g RX7 cc nL ret XT rm Z cells slots (hM g b F A A2 ω0) z (pc + 3) L (.ref (b + 13) :: rest)) : G g RX7 cc nL ret XT rm Z cells slots (hM g b F A A2 ω0) z (pc) L (.ref b :: rest) := g_get (ref := RX7) (T := TX7) (N := 34) 23 in_X7 rfl (by decide) q1467 rfl hM_b rfl hd k
theorem ml_words (n : Nat) {i : Int32} (hn : n < 96) (hi : i = nI n) (hd : decode cc pc = .ok (.iaload, 1)) (k : G g RX7 cc nL ret XT rm Z cells slots (hM g b F A A2 ω0) z (pc + 1) L (.int ((A 23) n) :: rest)) : G g RX7 cc nL ret XT rm Z cells slots (hM g b F A A2 ω0) z (pc) L (.int i :: .ref (b + 13) :: rest) := by
  subst hi
  refine g_iald hM_words (vp_in_nI hn (by decide)) hd ?_
  rw [nI_clamp (Nat.lt_trans hn (by decide))]
  exact k
theorem ms_words (n : Nat) {i x : Int32} (hN : gN g ≤ b) (hn : n < 96) (hi : i = nI n) (hd : decode cc pc = .ok (.iastore, 1)) (k : G g RX7 cc nL ret XT rm Z cells slots (hM g b F (sA A 23 (upd (A 23) n x)) A2 ω0) z (pc + 1) L (rest)) : G g RX7 cc nL ret XT rm Z cells slots (hM g b F A A2 ω0) z (pc) L (.int x :: .int i :: .ref (b + 13) :: rest) := by
  subst hi
  refine g_iast (Nat.le_trans hN (Nat.le_add_right _ _)) hM_words (vp_in_nI hn (by decide)) hd ?_
  rw [nI_clamp (Nat.lt_trans hn (by decide)), hM_s_words]
  exact k
theorem mg_held (hd : decode cc pc = .ok (.getfield 49, 3)) (k : G g RX7 cc nL ret XT rm Z cells slots (hM g b F A A2 ω0) z (pc + 3) L (.ref (b + 14) :: rest)) : G g RX7 cc nL ret XT rm Z cells slots (hM g b F A A2 ω0) z (pc) L (.ref b :: rest) := g_get (ref := RX7) (T := TX7) (N := 34) 24 in_X7 rfl (by decide) q1468 rfl hM_b rfl hd k
theorem ml_held (n : Nat) {i : Int32} (hn : n < 200) (hi : i = nI n) (hd : decode cc pc = .ok (.iaload, 1)) (k : G g RX7 cc nL ret XT rm Z cells slots (hM g b F A A2 ω0) z (pc + 1) L (.int ((A 24) n) :: rest)) : G g RX7 cc nL ret XT rm Z cells slots (hM g b F A A2 ω0) z (pc) L (.int i :: .ref (b + 14) :: rest) := by
  subst hi
  refine g_iald hM_held (vp_in_nI hn (by decide)) hd ?_
  rw [nI_clamp (Nat.lt_trans hn (by decide))]
  exact k
theorem ms_held (n : Nat) {i x : Int32} (hN : gN g ≤ b) (hn : n < 200) (hi : i = nI n) (hd : decode cc pc = .ok (.iastore, 1)) (k : G g RX7 cc nL ret XT rm Z cells slots (hM g b F (sA A 24 (upd (A 24) n x)) A2 ω0) z (pc + 1) L (rest)) : G g RX7 cc nL ret XT rm Z cells slots (hM g b F A A2 ω0) z (pc) L (.int x :: .int i :: .ref (b + 14) :: rest) := by
  subst hi
  refine g_iast (Nat.le_trans hN (Nat.le_add_right _ _)) hM_held (vp_in_nI hn (by decide)) hd ?_
  rw [nI_clamp (Nat.lt_trans hn (by decide)), hM_s_held]
  exact k
theorem mg_heldMany (hd : decode cc pc = .ok (.getfield 116, 3)) (k : G g RX7 cc nL ret XT rm Z cells slots (hM g b F A A2 ω0) z (pc + 3) L (.int (F 25) :: rest)) : G g RX7 cc nL ret XT rm Z cells slots (hM g b F A A2 ω0) z (pc) L (.ref b :: rest) := g_get (ref := RX7) (T := TX7) (N := 34) 25 in_X7 rfl (by decide) q1469 rfl hM_b rfl hd k
theorem mp_heldMany {v : Int32} (hN : gN g ≤ b) (hd : decode cc pc = .ok (.putfield 116, 3)) (k : G g RX7 cc nL ret XT rm Z cells slots (hM g b (upd F 25 v) A A2 ω0) z (pc + 3) L (rest)) : G g RX7 cc nL ret XT rm Z cells slots (hM g b F A A2 ω0) z (pc) L (.int v :: .ref b :: rest) := g_put (ref := RX7) (T := TX7) (N := 34) (ty := .int) 25 in_X7 rfl tyX7_ok nmX7 (by decide) q1469 rfl rfl rfl hN hM_b (Nat.le_of_ble_eq_true rfl) rfl rfl hd (by rw [hM_setF (k := 25) rfl]; exact k)
theorem mg_opens (hd : decode cc pc = .ok (.getfield 122, 3)) (k : G g RX7 cc nL ret XT rm Z cells slots (hM g b F A A2 ω0) z (pc + 3) L (.int (F 26) :: rest)) : G g RX7 cc nL ret XT rm Z cells slots (hM g b F A A2 ω0) z (pc) L (.ref b :: rest) := g_get (ref := RX7) (T := TX7) (N := 34) 26 in_X7 rfl (by decide) q1470 rfl hM_b rfl hd k
theorem mp_opens {v : Int32} (hN : gN g ≤ b) (hd : decode cc pc = .ok (.putfield 122, 3)) (k : G g RX7 cc nL ret XT rm Z cells slots (hM g b (upd F 26 v) A A2 ω0) z (pc + 3) L (rest)) : G g RX7 cc nL ret XT rm Z cells slots (hM g b F A A2 ω0) z (pc) L (.int v :: .ref b :: rest) := g_put (ref := RX7) (T := TX7) (N := 34) (ty := .int) 26 in_X7 rfl tyX7_ok nmX7 (by decide) q1470 rfl rfl rfl hN hM_b (Nat.le_of_ble_eq_true rfl) rfl rfl hd (by rw [hM_setF (k := 26) rfl]; exact k)
theorem mg_out (hd : decode cc pc = .ok (.getfield 113, 3)) (k : G g RX7 cc nL ret XT rm Z cells slots (hM g b F A A2 ω0) z (pc + 3) L (.int (F 27) :: rest)) : G g RX7 cc nL ret XT rm Z cells slots (hM g b F A A2 ω0) z (pc) L (.ref b :: rest) := g_get (ref := RX7) (T := TX7) (N := 34) 27 in_X7 rfl (by decide) q1471 rfl hM_b rfl hd k
theorem mp_out {v : Int32} (hN : gN g ≤ b) (hd : decode cc pc = .ok (.putfield 113, 3)) (k : G g RX7 cc nL ret XT rm Z cells slots (hM g b (upd F 27 v) A A2 ω0) z (pc + 3) L (rest)) : G g RX7 cc nL ret XT rm Z cells slots (hM g b F A A2 ω0) z (pc) L (.int v :: .ref b :: rest) := g_put (ref := RX7) (T := TX7) (N := 34) (ty := .int) 27 in_X7 rfl tyX7_ok nmX7 (by decide) q1471 rfl rfl rfl hN hM_b (Nat.le_of_ble_eq_true rfl) rfl rfl hd (by rw [hM_setF (k := 27) rfl]; exact k)
theorem mg_stack (hd : decode cc pc = .ok (.getfield 52, 3)) (k : G g RX7 cc nL ret XT rm Z cells slots (hM g b F A A2 ω0) z (pc + 3) L (.ref (b + 15) :: rest)) : G g RX7 cc nL ret XT rm Z cells slots (hM g b F A A2 ω0) z (pc) L (.ref b :: rest) := g_get (ref := RX7) (T := TX7) (N := 34) 28 in_X7 rfl (by decide) q1472 rfl hM_b rfl hd k
theorem ml_stack (n : Nat) {i : Int32} (hn : n < 200) (hi : i = nI n) (hd : decode cc pc = .ok (.iaload, 1)) (k : G g RX7 cc nL ret XT rm Z cells slots (hM g b F A A2 ω0) z (pc + 1) L (.int ((A2 28) n) :: rest)) : G g RX7 cc nL ret XT rm Z cells slots (hM g b F A A2 ω0) z (pc) L (.int i :: .ref (b + 15) :: rest) := by
  subst hi
  refine g_iald hM_stack (vp_in_nI hn (by decide)) hd ?_
  rw [nI_clamp (Nat.lt_trans hn (by decide))]
  exact k
theorem ms_stack (n : Nat) {i x : Int32} (hN : gN g ≤ b) (hn : n < 200) (hi : i = nI n) (hd : decode cc pc = .ok (.iastore, 1)) (k : G g RX7 cc nL ret XT rm Z cells slots (hM g b F A (sA A2 28 (upd (A2 28) n x)) ω0) z (pc + 1) L (rest)) : G g RX7 cc nL ret XT rm Z cells slots (hM g b F A A2 ω0) z (pc) L (.int x :: .int i :: .ref (b + 15) :: rest) := by
  subst hi
  refine g_iast (Nat.le_trans hN (Nat.le_add_right _ _)) hM_stack (vp_in_nI hn (by decide)) hd ?_
  rw [nI_clamp (Nat.lt_trans hn (by decide)), hM_s_stack]
  exact k
theorem mg_named (hd : decode cc pc = .ok (.getfield 55, 3)) (k : G g RX7 cc nL ret XT rm Z cells slots (hM g b F A A2 ω0) z (pc + 3) L (.ref (b + 16) :: rest)) : G g RX7 cc nL ret XT rm Z cells slots (hM g b F A A2 ω0) z (pc) L (.ref b :: rest) := g_get (ref := RX7) (T := TX7) (N := 34) 29 in_X7 rfl (by decide) q1473 rfl hM_b rfl hd k
theorem ml_named (n : Nat) {i : Int32} (hn : n < 6) (hi : i = nI n) (hd : decode cc pc = .ok (.iaload, 1)) (k : G g RX7 cc nL ret XT rm Z cells slots (hM g b F A A2 ω0) z (pc + 1) L (.int ((A2 29) n) :: rest)) : G g RX7 cc nL ret XT rm Z cells slots (hM g b F A A2 ω0) z (pc) L (.int i :: .ref (b + 16) :: rest) := by
  subst hi
  refine g_iald hM_named (vp_in_nI hn (by decide)) hd ?_
  rw [nI_clamp (Nat.lt_trans hn (by decide))]
  exact k
theorem ms_named (n : Nat) {i x : Int32} (hN : gN g ≤ b) (hn : n < 6) (hi : i = nI n) (hd : decode cc pc = .ok (.iastore, 1)) (k : G g RX7 cc nL ret XT rm Z cells slots (hM g b F A (sA A2 29 (upd (A2 29) n x)) ω0) z (pc + 1) L (rest)) : G g RX7 cc nL ret XT rm Z cells slots (hM g b F A A2 ω0) z (pc) L (.int x :: .int i :: .ref (b + 16) :: rest) := by
  subst hi
  refine g_iast (Nat.le_trans hN (Nat.le_add_right _ _)) hM_named (vp_in_nI hn (by decide)) hd ?_
  rw [nI_clamp (Nat.lt_trans hn (by decide)), hM_s_named]
  exact k
theorem mg_kept (hd : decode cc pc = .ok (.getfield 58, 3)) (k : G g RX7 cc nL ret XT rm Z cells slots (hM g b F A A2 ω0) z (pc + 3) L (.ref (b + 17) :: rest)) : G g RX7 cc nL ret XT rm Z cells slots (hM g b F A A2 ω0) z (pc) L (.ref b :: rest) := g_get (ref := RX7) (T := TX7) (N := 34) 30 in_X7 rfl (by decide) q1474 rfl hM_b rfl hd k
theorem ml_kept (n : Nat) {i : Int32} (hn : n < 20) (hi : i = nI n) (hd : decode cc pc = .ok (.iaload, 1)) (k : G g RX7 cc nL ret XT rm Z cells slots (hM g b F A A2 ω0) z (pc + 1) L (.int ((A 30) n) :: rest)) : G g RX7 cc nL ret XT rm Z cells slots (hM g b F A A2 ω0) z (pc) L (.int i :: .ref (b + 17) :: rest) := by
  subst hi
  refine g_iald hM_kept (vp_in_nI hn (by decide)) hd ?_
  rw [nI_clamp (Nat.lt_trans hn (by decide))]
  exact k
theorem ms_kept (n : Nat) {i x : Int32} (hN : gN g ≤ b) (hn : n < 20) (hi : i = nI n) (hd : decode cc pc = .ok (.iastore, 1)) (k : G g RX7 cc nL ret XT rm Z cells slots (hM g b F (sA A 30 (upd (A 30) n x)) A2 ω0) z (pc + 1) L (rest)) : G g RX7 cc nL ret XT rm Z cells slots (hM g b F A A2 ω0) z (pc) L (.int x :: .int i :: .ref (b + 17) :: rest) := by
  subst hi
  refine g_iast (Nat.le_trans hN (Nat.le_add_right _ _)) hM_kept (vp_in_nI hn (by decide)) hd ?_
  rw [nI_clamp (Nat.lt_trans hn (by decide)), hM_s_kept]
  exact k
theorem mg_nothings (hd : decode cc pc = .ok (.getfield 195, 3)) (k : G g RX7 cc nL ret XT rm Z cells slots (hM g b F A A2 ω0) z (pc + 3) L (.int (F 31) :: rest)) : G g RX7 cc nL ret XT rm Z cells slots (hM g b F A A2 ω0) z (pc) L (.ref b :: rest) := g_get (ref := RX7) (T := TX7) (N := 34) 31 in_X7 rfl (by decide) q1475 rfl hM_b rfl hd k
theorem mp_nothings {v : Int32} (hN : gN g ≤ b) (hd : decode cc pc = .ok (.putfield 195, 3)) (k : G g RX7 cc nL ret XT rm Z cells slots (hM g b (upd F 31 v) A A2 ω0) z (pc + 3) L (rest)) : G g RX7 cc nL ret XT rm Z cells slots (hM g b F A A2 ω0) z (pc) L (.int v :: .ref b :: rest) := g_put (ref := RX7) (T := TX7) (N := 34) (ty := .int) 31 in_X7 rfl tyX7_ok nmX7 (by decide) q1475 rfl rfl rfl hN hM_b (Nat.le_of_ble_eq_true rfl) rfl rfl hd (by rw [hM_setF (k := 31) rfl]; exact k)
theorem mg_lessonNumber (hd : decode cc pc = .ok (.getfield 211, 3)) (k : G g RX7 cc nL ret XT rm Z cells slots (hM g b F A A2 ω0) z (pc + 3) L (.int (F 32) :: rest)) : G g RX7 cc nL ret XT rm Z cells slots (hM g b F A A2 ω0) z (pc) L (.ref b :: rest) := g_get (ref := RX7) (T := TX7) (N := 34) 32 in_X7 rfl (by decide) q1476 rfl hM_b rfl hd k
theorem mp_lessonNumber {v : Int32} (hN : gN g ≤ b) (hd : decode cc pc = .ok (.putfield 211, 3)) (k : G g RX7 cc nL ret XT rm Z cells slots (hM g b (upd F 32 v) A A2 ω0) z (pc + 3) L (rest)) : G g RX7 cc nL ret XT rm Z cells slots (hM g b F A A2 ω0) z (pc) L (.int v :: .ref b :: rest) := g_put (ref := RX7) (T := TX7) (N := 34) (ty := .int) 32 in_X7 rfl tyX7_ok nmX7 (by decide) q1476 rfl rfl rfl hN hM_b (Nat.le_of_ble_eq_true rfl) rfl rfl hd (by rw [hM_setF (k := 32) rfl]; exact k)
theorem mg_seaThen (hd : decode cc pc = .ok (.getfield 247, 3)) (k : G g RX7 cc nL ret XT rm Z cells slots (hM g b F A A2 ω0) z (pc + 3) L (.int (F 33) :: rest)) : G g RX7 cc nL ret XT rm Z cells slots (hM g b F A A2 ω0) z (pc) L (.ref b :: rest) := g_get (ref := RX7) (T := TX7) (N := 34) 33 in_X7 rfl (by decide) q1477 rfl hM_b rfl hd k
theorem mp_seaThen {v : Int32} (hN : gN g ≤ b) (hd : decode cc pc = .ok (.putfield 247, 3)) (k : G g RX7 cc nL ret XT rm Z cells slots (hM g b (upd F 33 v) A A2 ω0) z (pc + 3) L (rest)) : G g RX7 cc nL ret XT rm Z cells slots (hM g b F A A2 ω0) z (pc) L (.int v :: .ref b :: rest) := g_put (ref := RX7) (T := TX7) (N := 34) (ty := .int) 33 in_X7 rfl tyX7_ok nmX7 (by decide) q1477 rfl rfl rfl hN hM_b (Nat.le_of_ble_eq_true rfl) rfl rfl hd (by rw [hM_setF (k := 33) rfl]; exact k)
/-- calls of the reference's own methods; Q: what is known behind it -/
theorem gm_call {index : Nat} {y : MethodName} {b2 : ByteArray} {maxL : Nat} {r2 : Option FieldType} {d d2 mc ms n : Nat} {As st0 : List Value} {v : Option Value} {F' : Nat → Int32} {A' : Nat → Nat → Int32} (hM' : Ct g y b2 maxL r2 d2 0 0 (.ref b :: As) (hM g b F A A2 ω0) z (mQ g b ω0 z v F' A'))
    (hw : GoodIn lw_all (wsV RX7 index RX7 y (ws_ y b2 maxL r2))) (hy : y.cls = RX7 ∧ y.cls ≠ "java/lang/invoke/MethodHandle" ∧ y.cls ≠ "java/lang/invoke/VarHandle" ∧ (parseMethodDescriptor y.desc).map (fun d => d.parameters.length) = some n) (hn : As.length = n) (hst : st0 = As.reverse ++ .ref b :: rest) (hdd : d2 + 1 ≤ d ∧ maxL ≤ 40) (hf : cells ≤ mc ∧ slots ≤ ms) (hro : (rest.map fun v => v.category).sum ≤ 8) (hd : decode cc pc = .ok (.invokevirtual index, 3))
    (k : ∀ A2', G g RX7 cc nL ret XT (rmD d mc ms) Z cells slots (hM g b F' A' A2' ω0) z (pc + 3) L (v.toList ++ rest)) : G g RX7 cc nL ret XT (rmD d mc ms) Z cells slots (hM g b F A A2 ω0) z pc L st0 :=
  g_callV (ci := 7) (T := TX7) (N := 34) hM' hw hy rfl hM_b hn hst rfl hdd hf hro hd (fun v' ω1 z1 h => by
    obtain ⟨rfl, rfl, A2', rfl⟩ := h
    exact k A2')
theorem gm_calli {index : Nat} {y : MethodName} {b2 : ByteArray} {maxL : Nat} {r2 : Option FieldType} {d d2 mc ms n : Nat} {As st0 : List Value} {r : Int32} {F' : Nat → Int32} {A' : Nat → Nat → Int32} (hM' : Ct g y b2 maxL r2 d2 0 0 (.ref b :: As) (hM g b F A A2 ω0) z (mQ g b ω0 z (some (.int r)) F' A'))
    (hw : GoodIn lw_all (wsV RX7 index RX7 y (ws_ y b2 maxL r2))) (hy : y.cls = RX7 ∧ y.cls ≠ "java/lang/invoke/MethodHandle" ∧ y.cls ≠ "java/lang/invoke/VarHandle" ∧ (parseMethodDescriptor y.desc).map (fun d => d.parameters.length) = some n) (hn : As.length = n) (hst : st0 = As.reverse ++ .ref b :: rest) (hdd : d2 + 1 ≤ d ∧ maxL ≤ 40) (hf : cells ≤ mc ∧ slots ≤ ms) (hro : (rest.map fun v => v.category).sum ≤ 8) (hd : decode cc pc = .ok (.invokevirtual index, 3))
    (k : ∀ A2', G g RX7 cc nL ret XT (rmD d mc ms) Z cells slots (hM g b F' A' A2' ω0) z (pc + 3) L (.int r :: rest)) : G g RX7 cc nL ret XT (rmD d mc ms) Z cells slots (hM g b F A A2 ω0) z pc L st0 := gm_call hM' hw hy hn hst hdd hf hro hd k
theorem gm_calll {index : Nat} {y : MethodName} {b2 : ByteArray} {maxL : Nat} {r2 : Option FieldType} {d d2 mc ms n : Nat} {As st0 : List Value} {r : Int64} {F' : Nat → Int32} {A' : Nat → Nat → Int32} (hM' : Ct g y b2 maxL r2 d2 0 0 (.ref b :: As) (hM g b F A A2 ω0) z (mQ g b ω0 z (some (.long r)) F' A'))
    (hw : GoodIn lw_all (wsV RX7 index RX7 y (ws_ y b2 maxL r2))) (hy : y.cls = RX7 ∧ y.cls ≠ "java/lang/invoke/MethodHandle" ∧ y.cls ≠ "java/lang/invoke/VarHandle" ∧ (parseMethodDescriptor y.desc).map (fun d => d.parameters.length) = some n) (hn : As.length = n) (hst : st0 = As.reverse ++ .ref b :: rest) (hdd : d2 + 1 ≤ d ∧ maxL ≤ 40) (hf : cells ≤ mc ∧ slots ≤ ms) (hro : (rest.map fun v => v.category).sum ≤ 8) (hd : decode cc pc = .ok (.invokevirtual index, 3))
    (k : ∀ A2', G g RX7 cc nL ret XT (rmD d mc ms) Z cells slots (hM g b F' A' A2' ω0) z (pc + 3) L (.long r :: rest)) : G g RX7 cc nL ret XT (rmD d mc ms) Z cells slots (hM g b F A A2 ω0) z pc L st0 := gm_call hM' hw hy hn hst hdd hf hro hd k
theorem gm_callv {index : Nat} {y : MethodName} {b2 : ByteArray} {maxL : Nat} {r2 : Option FieldType} {d d2 mc ms n : Nat} {As st0 : List Value} {F' : Nat → Int32} {A' : Nat → Nat → Int32} (hM' : Ct g y b2 maxL r2 d2 0 0 (.ref b :: As) (hM g b F A A2 ω0) z (mQ g b ω0 z (none) F' A'))
    (hw : GoodIn lw_all (wsV RX7 index RX7 y (ws_ y b2 maxL r2))) (hy : y.cls = RX7 ∧ y.cls ≠ "java/lang/invoke/MethodHandle" ∧ y.cls ≠ "java/lang/invoke/VarHandle" ∧ (parseMethodDescriptor y.desc).map (fun d => d.parameters.length) = some n) (hn : As.length = n) (hst : st0 = As.reverse ++ .ref b :: rest) (hdd : d2 + 1 ≤ d ∧ maxL ≤ 40) (hf : cells ≤ mc ∧ slots ≤ ms) (hro : (rest.map fun v => v.category).sum ≤ 8) (hd : decode cc pc = .ok (.invokevirtual index, 3))
    (k : ∀ A2', G g RX7 cc nL ret XT (rmD d mc ms) Z cells slots (hM g b F' A' A2' ω0) z (pc + 3) L (rest)) : G g RX7 cc nL ret XT (rmD d mc ms) Z cells slots (hM g b F A A2 ω0) z pc L st0 := gm_call hM' hw hy hn hst hdd hf hro hd k
end MW
section SC
variable {g : GE} {own : String} {cc : ByteArray} {nL : Nat} {ret : Option FieldType} {XT : Method → Code → Prop} {Z : ZT} {cells slots : Nat} {ω : Om} {z pc : Nat} {L : List (Nat × Value)} {rest : List Value}
/-- a static method's call that leaves the world as it is -/
theorem gs_call {index : Nat} {y : MethodName} {b2 : ByteArray} {maxL : Nat} {r2 : Option FieldType} {d d2 mc ms n : Nat} {As st0 : List Value} {v : Option Value} (hM' : Ct g y b2 maxL r2 d2 0 0 As ω z (dQ v ω z))
    (hw : GoodIn lw_all (va_wsS own index y (ws_ y b2 maxL r2))) (hy : y.cls ≠ "java/lang/invoke/MethodHandle" ∧ y.cls ≠ "java/lang/invoke/VarHandle" ∧ (parseMethodDescriptor y.desc).map (fun d => d.parameters.length) = some n) (hn : As.length = n) (hst : st0 = As.reverse ++ rest) (hdd : d2 + 1 ≤ d ∧ maxL ≤ 40) (hf : cells ≤ mc ∧ slots ≤ ms) (hro : (rest.map fun v => v.category).sum ≤ 8) (hd : decode cc pc = .ok (.invokestatic index, 3))
    (k : G g own cc nL ret XT (rmD d mc ms) Z cells slots ω z (pc + 3) L (v.toList ++ rest)) : G g own cc nL ret XT (rmD d mc ms) Z cells slots ω z pc L st0 :=
  g_callS hM' hw hy hn hst rfl hdd hf hro hd (fun v' ω1 z1 h => by
    obtain ⟨rfl, rfl, rfl⟩ := h
    exact k)
theorem gs_calli {index : Nat} {y : MethodName} {b2 : ByteArray} {maxL : Nat} {r2 : Option FieldType} {d d2 mc ms n : Nat} {As st0 : List Value} {r : Int32} (hM' : Ct g y b2 maxL r2 d2 0 0 As ω z (dQ (some (.int r)) ω z))
    (hw : GoodIn lw_all (va_wsS own index y (ws_ y b2 maxL r2))) (hy : y.cls ≠ "java/lang/invoke/MethodHandle" ∧ y.cls ≠ "java/lang/invoke/VarHandle" ∧ (parseMethodDescriptor y.desc).map (fun d => d.parameters.length) = some n) (hn : As.length = n) (hst : st0 = As.reverse ++ rest) (hdd : d2 + 1 ≤ d ∧ maxL ≤ 40) (hf : cells ≤ mc ∧ slots ≤ ms) (hro : (rest.map fun v => v.category).sum ≤ 8) (hd : decode cc pc = .ok (.invokestatic index, 3))
    (k : G g own cc nL ret XT (rmD d mc ms) Z cells slots ω z (pc + 3) L (.int r :: rest)) : G g own cc nL ret XT (rmD d mc ms) Z cells slots ω z pc L st0 := gs_call hM' hw hy hn hst hdd hf hro hd k
theorem gs_calll {index : Nat} {y : MethodName} {b2 : ByteArray} {maxL : Nat} {r2 : Option FieldType} {d d2 mc ms n : Nat} {As st0 : List Value} {r : Int64} (hM' : Ct g y b2 maxL r2 d2 0 0 As ω z (dQ (some (.long r)) ω z))
    (hw : GoodIn lw_all (va_wsS own index y (ws_ y b2 maxL r2))) (hy : y.cls ≠ "java/lang/invoke/MethodHandle" ∧ y.cls ≠ "java/lang/invoke/VarHandle" ∧ (parseMethodDescriptor y.desc).map (fun d => d.parameters.length) = some n) (hn : As.length = n) (hst : st0 = As.reverse ++ rest) (hdd : d2 + 1 ≤ d ∧ maxL ≤ 40) (hf : cells ≤ mc ∧ slots ≤ ms) (hro : (rest.map fun v => v.category).sum ≤ 8) (hd : decode cc pc = .ok (.invokestatic index, 3))
    (k : G g own cc nL ret XT (rmD d mc ms) Z cells slots ω z (pc + 3) L (.long r :: rest)) : G g own cc nL ret XT (rmD d mc ms) Z cells slots ω z pc L st0 := gs_call hM' hw hy hn hst hdd hf hro hd k
theorem gs_callv {index : Nat} {y : MethodName} {b2 : ByteArray} {maxL : Nat} {r2 : Option FieldType} {d d2 mc ms n : Nat} {As st0 : List Value} (hM' : Ct g y b2 maxL r2 d2 0 0 As ω z (dQ (none) ω z))
    (hw : GoodIn lw_all (va_wsS own index y (ws_ y b2 maxL r2))) (hy : y.cls ≠ "java/lang/invoke/MethodHandle" ∧ y.cls ≠ "java/lang/invoke/VarHandle" ∧ (parseMethodDescriptor y.desc).map (fun d => d.parameters.length) = some n) (hn : As.length = n) (hst : st0 = As.reverse ++ rest) (hdd : d2 + 1 ≤ d ∧ maxL ≤ 40) (hf : cells ≤ mc ∧ slots ≤ ms) (hro : (rest.map fun v => v.category).sum ≤ 8) (hd : decode cc pc = .ok (.invokestatic index, 3))
    (k : G g own cc nL ret XT (rmD d mc ms) Z cells slots ω z (pc + 3) L (rest)) : G g own cc nL ret XT (rmD d mc ms) Z cells slots ω z pc L st0 := gs_call hM' hw hy hn hst hdd hf hro hd k
/-- a table of jumps -/
theorem g_tsw {dflt lo hi : Int} {offs : Array Int} {len : Nat} {x : Int32} (tg : List Nat) (td : Nat) (hd : decode cc pc = .ok (.tableswitch dflt lo hi offs, len)) (htg : offs.toList.map (fun o => (pc : Int) + o) = tg.map Int.ofNat) (htd : (pc : Int) + dflt = (td : Int)) (hlen : hi = lo + offs.size - 1) {rm : Room}
    (k : ∀ (j t : Nat), tg[j]? = some t → x = Int32.ofInt (lo + j) → G g own cc nL ret XT rm Z cells slots ω z t L rest) (kd : x.toInt < lo ∨ hi < x.toInt → G g own cc nL ret XT rm Z cells slots ω z td L rest) : G g own cc nL ret XT rm Z cells slots ω z pc L (.int x :: rest) := by
  by_cases h : x.toInt < lo ∨ hi < x.toInt
  · exact g_tableOut td hd h htd (kd h)
  · have h1 : ¬ x.toInt < lo := fun q => h (Or.inl q)
    have h2 : ¬ hi < x.toInt := fun q => h (Or.inr q)
    have hl : (x.toInt - lo).toNat < offs.size := by omega
    have hl2 : tg.length = offs.size := by have := congrArg List.length htg; simpa using this.symm
    obtain ⟨t, ht⟩ : ∃ t, tg[(x.toInt - lo).toNat]? = some t := ⟨_, List.getElem?_eq_getElem (by omega)⟩
    have hj : x = Int32.ofInt (lo + (x.toInt - lo).toNat) := by
      rw [show lo + ((x.toInt - lo).toNat : Int) = x.toInt by omega, Int32.ofInt_toInt]
    have ho : offs[(x.toInt - lo).toNat]? = some offs[(x.toInt - lo).toNat] := Array.getElem?_eq_getElem hl
    have hq := congrArg (fun l => l[(x.toInt - lo).toNat]?) htg
    simp only [List.getElem?_map, ht, Array.getElem?_toList, ho, Option.map_some] at hq
    exact g_tableIn t hd h1 h2 ho (Option.some.inj hq) (k _ t ht hj)
end SC
