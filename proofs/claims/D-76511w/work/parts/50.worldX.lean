/-! THE COMPONENT's WORLD: the object at b, what it made behind it; what is made later lies in ω0 -/
set_option maxRecDepth 100000
def kn (c : Cr) : Nat → Int32 := fun p => c.1 (3 * p)
def ke (c : Cr) : Nat → Int32 := fun p => c.1 (3 * p + 1)
def lu (c : Cr) : Nat → Int32 := fun p => c.1 (3 * p + 2)
def shr (b : Nat) : Nat → Option Nat := fun s => some (b + (15 + 2 * s))
def xfs (b : Nat) (F : Nat → Int32) (c : Cr) : List Value := [.int c.2.2, .int c.2.1, .ref (b + 1), .int (F 3), .ref (b + 2), .ref (b + 3), .ref (b + 4), .ref (b + 5), .ref (b + 6), .ref (b + 7), .int (F 10), .ref (b + 8), .ref (b + 9), .ref (b + 10), .int (F 14), .ref (b + 11), .int (F 16), .int (F 17), .ref (b + 12), .int (F 19), .ref (b + 13), .int (F 21), .ref (b + 14)]
def hX (g : GE) (b : Nat) (F : Nat → Int32) (A : Nat → Nat → Int32) (c : Cr) (ea : Nat) (tx : Nat → Option Nat) (nm : Nat → Int32) (ω0 : Om) : Om := fun q => if q = b + 0 then some (.inr (0, xfs b F c)) else if q = b + 1 then some (.inl (g.2.2.1 0, 6, .inl nm)) else if q = b + 2 then some (.inr (16, [.int (F 30), .ref ea, .int (F 31)])) else if q = b + 3 then some (.inl (g.2.2.1 0, 6, .inl (kn c))) else if q = b + 4 then some (.inl (g.2.2.1 0, 6, .inl (ke c))) else if q = b + 5 then some (.inl (g.2.2.1 0, 6, .inl (lu c))) else if q = b + 6 then some (.inl (g.2.2.1 0, 20, .inl (A 8))) else if q = b + 7 then some (.inl (g.2.2.1 0, 20, .inl (A 9))) else if q = b + 8 then some (.inl (g.2.2.1 0, 20, .inl (A 11))) else if q = b + 9 then some (.inl (g.2.2.1 0, 20, .inl (A 12))) else if q = b + 10 then some (.inl (g.2.2.1 0, 20, .inl (A 13))) else if q = b + 11 then some (.inl (g.2.2.1 0, 20, .inl (A 15))) else if q = b + 12 then some (.inl (g.2.2.1 4, 6, .inr (.inr (.inr (.inr tx))))) else if q = b + 13 then some (.inl (g.2.2.1 1, 160, .inl (A 20))) else if q = b + 14 then some (.inl (g.2.2.1 5, 4, .inr (.inr (.inr (.inr (shr b)))))) else if q = b + 15 then some (.inr (1, [.int (F 40), .int (F 50), .ref (b + 16)])) else if q = b + 16 then some (.inl (g.2.2.1 0, 40, .inl (A 60))) else if q = b + 17 then some (.inr (1, [.int (F 41), .int (F 51), .ref (b + 18)])) else if q = b + 18 then some (.inl (g.2.2.1 0, 40, .inl (A 61))) else if q = b + 19 then some (.inr (1, [.int (F 42), .int (F 52), .ref (b + 20)])) else if q = b + 20 then some (.inl (g.2.2.1 0, 40, .inl (A 62))) else if q = b + 21 then some (.inr (1, [.int (F 43), .int (F 53), .ref (b + 22)])) else if q = b + 22 then some (.inl (g.2.2.1 0, 40, .inl (A 63))) else ω0 q
section XW
variable {g : GE} {b : Nat} {F : Nat → Int32} {A : Nat → Nat → Int32} {c : Cr} {ea : Nat} {tx : Nat → Option Nat} {nm : Nat → Int32} {ω0 : Om}
abbrev hW (g : GE) (b : Nat) (F : Nat → Int32) (A : Nat → Nat → Int32) (c : Cr) (ea : Nat) (tx : Nat → Option Nat) (nm : Nat → Int32) (ω0 : Om) : Om := hX g b F A c ea tx nm ω0
theorem hX_0 : hX g b F A c ea tx nm ω0 (b + 0) = some (.inr (0, xfs b F c)) := by
  unfold hX
  rw [if_pos rfl]
theorem hX_1 : hX g b F A c ea tx nm ω0 (b + 1) = some (.inl (g.2.2.1 0, 6, .inl nm)) := by
  unfold hX
  rw [if_neg (by omega), if_pos rfl]
theorem hX_2 : hX g b F A c ea tx nm ω0 (b + 2) = some (.inr (16, [.int (F 30), .ref ea, .int (F 31)])) := by
  unfold hX
  rw [if_neg (by omega), if_neg (by omega), if_pos rfl]
theorem hX_3 : hX g b F A c ea tx nm ω0 (b + 3) = some (.inl (g.2.2.1 0, 6, .inl (kn c))) := by
  unfold hX
  rw [if_neg (by omega), if_neg (by omega), if_neg (by omega), if_pos rfl]
theorem hX_4 : hX g b F A c ea tx nm ω0 (b + 4) = some (.inl (g.2.2.1 0, 6, .inl (ke c))) := by
  unfold hX
  rw [if_neg (by omega), if_neg (by omega), if_neg (by omega), if_neg (by omega), if_pos rfl]
theorem hX_5 : hX g b F A c ea tx nm ω0 (b + 5) = some (.inl (g.2.2.1 0, 6, .inl (lu c))) := by
  unfold hX
  rw [if_neg (by omega), if_neg (by omega), if_neg (by omega), if_neg (by omega), if_neg (by omega), if_pos rfl]
theorem hX_6 : hX g b F A c ea tx nm ω0 (b + 6) = some (.inl (g.2.2.1 0, 20, .inl (A 8))) := by
  unfold hX
  rw [if_neg (by omega), if_neg (by omega), if_neg (by omega), if_neg (by omega), if_neg (by omega), if_neg (by omega), if_pos rfl]
theorem hX_7 : hX g b F A c ea tx nm ω0 (b + 7) = some (.inl (g.2.2.1 0, 20, .inl (A 9))) := by
  unfold hX
  rw [if_neg (by omega), if_neg (by omega), if_neg (by omega), if_neg (by omega), if_neg (by omega), if_neg (by omega), if_neg (by omega), if_pos rfl]
theorem hX_8 : hX g b F A c ea tx nm ω0 (b + 8) = some (.inl (g.2.2.1 0, 20, .inl (A 11))) := by
  unfold hX
  rw [if_neg (by omega), if_neg (by omega), if_neg (by omega), if_neg (by omega), if_neg (by omega), if_neg (by omega), if_neg (by omega), if_neg (by omega), if_pos rfl]
theorem hX_9 : hX g b F A c ea tx nm ω0 (b + 9) = some (.inl (g.2.2.1 0, 20, .inl (A 12))) := by
  unfold hX
  rw [if_neg (by omega), if_neg (by omega), if_neg (by omega), if_neg (by omega), if_neg (by omega), if_neg (by omega), if_neg (by omega), if_neg (by omega), if_neg (by omega), if_pos rfl]
theorem hX_10 : hX g b F A c ea tx nm ω0 (b + 10) = some (.inl (g.2.2.1 0, 20, .inl (A 13))) := by
  unfold hX
  rw [if_neg (by omega), if_neg (by omega), if_neg (by omega), if_neg (by omega), if_neg (by omega), if_neg (by omega), if_neg (by omega), if_neg (by omega), if_neg (by omega), if_neg (by omega), if_pos rfl]
theorem hX_11 : hX g b F A c ea tx nm ω0 (b + 11) = some (.inl (g.2.2.1 0, 20, .inl (A 15))) := by
  unfold hX
  rw [if_neg (by omega), if_neg (by omega), if_neg (by omega), if_neg (by omega), if_neg (by omega), if_neg (by omega), if_neg (by omega), if_neg (by omega), if_neg (by omega), if_neg (by omega), if_neg (by omega), if_pos rfl]
theorem hX_12 : hX g b F A c ea tx nm ω0 (b + 12) = some (.inl (g.2.2.1 4, 6, .inr (.inr (.inr (.inr tx))))) := by
  unfold hX
  rw [if_neg (by omega), if_neg (by omega), if_neg (by omega), if_neg (by omega), if_neg (by omega), if_neg (by omega), if_neg (by omega), if_neg (by omega), if_neg (by omega), if_neg (by omega), if_neg (by omega), if_neg (by omega), if_pos rfl]
theorem hX_13 : hX g b F A c ea tx nm ω0 (b + 13) = some (.inl (g.2.2.1 1, 160, .inl (A 20))) := by
  unfold hX
  rw [if_neg (by omega), if_neg (by omega), if_neg (by omega), if_neg (by omega), if_neg (by omega), if_neg (by omega), if_neg (by omega), if_neg (by omega), if_neg (by omega), if_neg (by omega), if_neg (by omega), if_neg (by omega), if_neg (by omega), if_pos rfl]
theorem hX_14 : hX g b F A c ea tx nm ω0 (b + 14) = some (.inl (g.2.2.1 5, 4, .inr (.inr (.inr (.inr (shr b)))))) := by
  unfold hX
  rw [if_neg (by omega), if_neg (by omega), if_neg (by omega), if_neg (by omega), if_neg (by omega), if_neg (by omega), if_neg (by omega), if_neg (by omega), if_neg (by omega), if_neg (by omega), if_neg (by omega), if_neg (by omega), if_neg (by omega), if_neg (by omega), if_pos rfl]
theorem hX_15 : hX g b F A c ea tx nm ω0 (b + 15) = some (.inr (1, [.int (F 40), .int (F 50), .ref (b + 16)])) := by
  unfold hX
  rw [if_neg (by omega), if_neg (by omega), if_neg (by omega), if_neg (by omega), if_neg (by omega), if_neg (by omega), if_neg (by omega), if_neg (by omega), if_neg (by omega), if_neg (by omega), if_neg (by omega), if_neg (by omega), if_neg (by omega), if_neg (by omega), if_neg (by omega), if_pos rfl]
theorem hX_16 : hX g b F A c ea tx nm ω0 (b + 16) = some (.inl (g.2.2.1 0, 40, .inl (A 60))) := by
  unfold hX
  rw [if_neg (by omega), if_neg (by omega), if_neg (by omega), if_neg (by omega), if_neg (by omega), if_neg (by omega), if_neg (by omega), if_neg (by omega), if_neg (by omega), if_neg (by omega), if_neg (by omega), if_neg (by omega), if_neg (by omega), if_neg (by omega), if_neg (by omega), if_neg (by omega), if_pos rfl]
theorem hX_17 : hX g b F A c ea tx nm ω0 (b + 17) = some (.inr (1, [.int (F 41), .int (F 51), .ref (b + 18)])) := by
  unfold hX
  rw [if_neg (by omega), if_neg (by omega), if_neg (by omega), if_neg (by omega), if_neg (by omega), if_neg (by omega), if_neg (by omega), if_neg (by omega), if_neg (by omega), if_neg (by omega), if_neg (by omega), if_neg (by omega), if_neg (by omega), if_neg (by omega), if_neg (by omega), if_neg (by omega), if_neg (by omega), if_pos rfl]
theorem hX_18 : hX g b F A c ea tx nm ω0 (b + 18) = some (.inl (g.2.2.1 0, 40, .inl (A 61))) := by
  unfold hX
  rw [if_neg (by omega), if_neg (by omega), if_neg (by omega), if_neg (by omega), if_neg (by omega), if_neg (by omega), if_neg (by omega), if_neg (by omega), if_neg (by omega), if_neg (by omega), if_neg (by omega), if_neg (by omega), if_neg (by omega), if_neg (by omega), if_neg (by omega), if_neg (by omega), if_neg (by omega), if_neg (by omega), if_pos rfl]
theorem hX_19 : hX g b F A c ea tx nm ω0 (b + 19) = some (.inr (1, [.int (F 42), .int (F 52), .ref (b + 20)])) := by
  unfold hX
  rw [if_neg (by omega), if_neg (by omega), if_neg (by omega), if_neg (by omega), if_neg (by omega), if_neg (by omega), if_neg (by omega), if_neg (by omega), if_neg (by omega), if_neg (by omega), if_neg (by omega), if_neg (by omega), if_neg (by omega), if_neg (by omega), if_neg (by omega), if_neg (by omega), if_neg (by omega), if_neg (by omega), if_neg (by omega), if_pos rfl]
theorem hX_20 : hX g b F A c ea tx nm ω0 (b + 20) = some (.inl (g.2.2.1 0, 40, .inl (A 62))) := by
  unfold hX
  rw [if_neg (by omega), if_neg (by omega), if_neg (by omega), if_neg (by omega), if_neg (by omega), if_neg (by omega), if_neg (by omega), if_neg (by omega), if_neg (by omega), if_neg (by omega), if_neg (by omega), if_neg (by omega), if_neg (by omega), if_neg (by omega), if_neg (by omega), if_neg (by omega), if_neg (by omega), if_neg (by omega), if_neg (by omega), if_neg (by omega), if_pos rfl]
theorem hX_21 : hX g b F A c ea tx nm ω0 (b + 21) = some (.inr (1, [.int (F 43), .int (F 53), .ref (b + 22)])) := by
  unfold hX
  rw [if_neg (by omega), if_neg (by omega), if_neg (by omega), if_neg (by omega), if_neg (by omega), if_neg (by omega), if_neg (by omega), if_neg (by omega), if_neg (by omega), if_neg (by omega), if_neg (by omega), if_neg (by omega), if_neg (by omega), if_neg (by omega), if_neg (by omega), if_neg (by omega), if_neg (by omega), if_neg (by omega), if_neg (by omega), if_neg (by omega), if_neg (by omega), if_pos rfl]
theorem hX_22 : hX g b F A c ea tx nm ω0 (b + 22) = some (.inl (g.2.2.1 0, 40, .inl (A 63))) := by
  unfold hX
  rw [if_neg (by omega), if_neg (by omega), if_neg (by omega), if_neg (by omega), if_neg (by omega), if_neg (by omega), if_neg (by omega), if_neg (by omega), if_neg (by omega), if_neg (by omega), if_neg (by omega), if_neg (by omega), if_neg (by omega), if_neg (by omega), if_neg (by omega), if_neg (by omega), if_neg (by omega), if_neg (by omega), if_neg (by omega), if_neg (by omega), if_neg (by omega), if_neg (by omega), if_pos rfl]
theorem hX_out {q : Nat} (h : q < b ∨ b + 22 < q) : hX g b F A c ea tx nm ω0 q = ω0 q := by
  unfold hX
  rw [if_neg (by omega), if_neg (by omega), if_neg (by omega), if_neg (by omega), if_neg (by omega), if_neg (by omega), if_neg (by omega), if_neg (by omega), if_neg (by omega), if_neg (by omega), if_neg (by omega), if_neg (by omega), if_neg (by omega), if_neg (by omega), if_neg (by omega), if_neg (by omega), if_neg (by omega), if_neg (by omega), if_neg (by omega), if_neg (by omega), if_neg (by omega), if_neg (by omega), if_neg (by omega)]
theorem hX_s_tide {v : Int32} : oset (hX g b F A c ea tx nm ω0) (b + 0) (.inr (0, (xfs b F c).set 0 (.int v))) = hX g b F A (c.1, c.2.1, v) ea tx nm ω0 := by
  funext q
  by_cases h : q = b + 0
  · rw [h, hX_0]
    exact if_pos rfl
  · unfold oset
    rw [if_neg h]
    unfold hX
    simp only [if_neg h]
    try rfl
theorem hX_s_sea {v : Int32} : oset (hX g b F A c ea tx nm ω0) (b + 0) (.inr (0, (xfs b F c).set 1 (.int v))) = hX g b F A (c.1, v, c.2.2) ea tx nm ω0 := by
  funext q
  by_cases h : q = b + 0
  · rw [h, hX_0]
    exact if_pos rfl
  · unfold oset
    rw [if_neg h]
    unfold hX
    simp only [if_neg h]
    try rfl
theorem hX_s_law {v : Int32} : oset (hX g b F A c ea tx nm ω0) (b + 0) (.inr (0, (xfs b F c).set 3 (.int v))) = hX g b (upd F 3 v) A c ea tx nm ω0 := by
  funext q
  by_cases h : q = b + 0
  · rw [h, hX_0]
    exact if_pos rfl
  · unfold oset
    rw [if_neg h]
    unfold hX
    simp only [if_neg h]
    try rfl
theorem hX_s_bestRow {v : Int32} : oset (hX g b F A c ea tx nm ω0) (b + 0) (.inr (0, (xfs b F c).set 10 (.int v))) = hX g b (upd F 10 v) A c ea tx nm ω0 := by
  funext q
  by_cases h : q = b + 0
  · rw [h, hX_0]
    exact if_pos rfl
  · unfold oset
    rw [if_neg h]
    unfold hX
    simp only [if_neg h]
    try rfl
theorem hX_s_drawnSea {v : Int32} : oset (hX g b F A c ea tx nm ω0) (b + 0) (.inr (0, (xfs b F c).set 14 (.int v))) = hX g b (upd F 14 v) A c ea tx nm ω0 := by
  funext q
  by_cases h : q = b + 0
  · rw [h, hX_0]
    exact if_pos rfl
  · unfold oset
    rw [if_neg h]
    unfold hX
    simp only [if_neg h]
    try rfl
theorem hX_s_keptMany {v : Int32} : oset (hX g b F A c ea tx nm ω0) (b + 0) (.inr (0, (xfs b F c).set 16 (.int v))) = hX g b (upd F 16 v) A c ea tx nm ω0 := by
  funext q
  by_cases h : q = b + 0
  · rw [h, hX_0]
    exact if_pos rfl
  · unfold oset
    rw [if_neg h]
    unfold hX
    simp only [if_neg h]
    try rfl
theorem hX_s_keptLaw {v : Int32} : oset (hX g b F A c ea tx nm ω0) (b + 0) (.inr (0, (xfs b F c).set 17 (.int v))) = hX g b (upd F 17 v) A c ea tx nm ω0 := by
  funext q
  by_cases h : q = b + 0
  · rw [h, hX_0]
    exact if_pos rfl
  · unfold oset
    rw [if_neg h]
    unfold hX
    simp only [if_neg h]
    try rfl
theorem hX_s_textCount {v : Int32} : oset (hX g b F A c ea tx nm ω0) (b + 0) (.inr (0, (xfs b F c).set 19 (.int v))) = hX g b (upd F 19 v) A c ea tx nm ω0 := by
  funext q
  by_cases h : q = b + 0
  · rw [h, hX_0]
    exact if_pos rfl
  · unfold oset
    rw [if_neg h]
    unfold hX
    simp only [if_neg h]
    try rfl
theorem hX_s_taped {v : Int32} : oset (hX g b F A c ea tx nm ω0) (b + 0) (.inr (0, (xfs b F c).set 21 (.int v))) = hX g b (upd F 21 v) A c ea tx nm ω0 := by
  funext q
  by_cases h : q = b + 0
  · rw [h, hX_0]
    exact if_pos rfl
  · unfold oset
    rw [if_neg h]
    unfold hX
    simp only [if_neg h]
    try rfl
theorem hX_s_names {f : Nat → Int32} : oset (hX g b F A c ea tx nm ω0) (b + 1) (.inl (g.2.2.1 0, 6, .inl f)) = hX g b F A c ea tx f ω0 := by
  funext q
  by_cases h : q = b + 1
  · rw [h, hX_1]
    exact if_pos rfl
  · unfold oset
    rw [if_neg h]
    unfold hX
    simp only [if_neg h]
    try rfl
theorem hX_s_aside {f : Nat → Int32} : oset (hX g b F A c ea tx nm ω0) (b + 6) (.inl (g.2.2.1 0, 20, .inl f)) = hX g b F (sA A 8 f) c ea tx nm ω0 := by
  funext q
  by_cases h : q = b + 6
  · rw [h, hX_6]
    exact if_pos rfl
  · unfold oset
    rw [if_neg h]
    unfold hX
    simp only [if_neg h]
    try rfl
theorem hX_s_tried {f : Nat → Int32} : oset (hX g b F A c ea tx nm ω0) (b + 7) (.inl (g.2.2.1 0, 20, .inl f)) = hX g b F (sA A 9 f) c ea tx nm ω0 := by
  funext q
  by_cases h : q = b + 7
  · rw [h, hX_7]
    exact if_pos rfl
  · unfold oset
    rw [if_neg h]
    unfold hX
    simp only [if_neg h]
    try rfl
theorem hX_s_wasOne {f : Nat → Int32} : oset (hX g b F A c ea tx nm ω0) (b + 8) (.inl (g.2.2.1 0, 20, .inl f)) = hX g b F (sA A 11 f) c ea tx nm ω0 := by
  funext q
  by_cases h : q = b + 8
  · rw [h, hX_8]
    exact if_pos rfl
  · unfold oset
    rw [if_neg h]
    unfold hX
    simp only [if_neg h]
    try rfl
theorem hX_s_wasTwo {f : Nat → Int32} : oset (hX g b F A c ea tx nm ω0) (b + 9) (.inl (g.2.2.1 0, 20, .inl f)) = hX g b F (sA A 12 f) c ea tx nm ω0 := by
  funext q
  by_cases h : q = b + 9
  · rw [h, hX_9]
    exact if_pos rfl
  · unfold oset
    rw [if_neg h]
    unfold hX
    simp only [if_neg h]
    try rfl
theorem hX_s_wasThree {f : Nat → Int32} : oset (hX g b F A c ea tx nm ω0) (b + 10) (.inl (g.2.2.1 0, 20, .inl f)) = hX g b F (sA A 13 f) c ea tx nm ω0 := by
  funext q
  by_cases h : q = b + 10
  · rw [h, hX_10]
    exact if_pos rfl
  · unfold oset
    rw [if_neg h]
    unfold hX
    simp only [if_neg h]
    try rfl
theorem hX_s_kept {f : Nat → Int32} : oset (hX g b F A c ea tx nm ω0) (b + 11) (.inl (g.2.2.1 0, 20, .inl f)) = hX g b F (sA A 15 f) c ea tx nm ω0 := by
  funext q
  by_cases h : q = b + 11
  · rw [h, hX_11]
    exact if_pos rfl
  · unfold oset
    rw [if_neg h]
    unfold hX
    simp only [if_neg h]
    try rfl
theorem hX_s_tape {f : Nat → Int32} : oset (hX g b F A c ea tx nm ω0) (b + 13) (.inl (g.2.2.1 1, 160, .inl f)) = hX g b F (sA A 20 f) c ea tx nm ω0 := by
  funext q
  by_cases h : q = b + 13
  · rw [h, hX_13]
    exact if_pos rfl
  · unfold oset
    rw [if_neg h]
    unfold hX
    simp only [if_neg h]
    try rfl
theorem hX_s_texts {f : Nat → Option Nat} : oset (hX g b F A c ea tx nm ω0) (b + 12) (.inl (g.2.2.1 4, 6, .inr (.inr (.inr (.inr f))))) = hX g b F A c ea f nm ω0 := by
  funext q
  by_cases h : q = b + 12
  · rw [h, hX_12]
    exact if_pos rfl
  · unfold oset
    rw [if_neg h]
    unfold hX
    simp only [if_neg h]
    try rfl
theorem hX_s_lmod {v : Int32} : oset (hX g b F A c ea tx nm ω0) (b + 2) (.inr (16, [.int v, .ref ea, .int (F 31)])) = hX g b (upd F 30 v) A c ea tx nm ω0 := by
  funext q
  by_cases h : q = b + 2
  · rw [h, hX_2]
    exact if_pos rfl
  · unfold oset
    rw [if_neg h]
    unfold hX
    simp only [if_neg h]
    try rfl
theorem hX_s_lsize {v : Int32} : oset (hX g b F A c ea tx nm ω0) (b + 2) (.inr (16, [.int (F 30), .ref ea, .int v])) = hX g b (upd F 31 v) A c ea tx nm ω0 := by
  funext q
  by_cases h : q = b + 2
  · rw [h, hX_2]
    exact if_pos rfl
  · unfold oset
    rw [if_neg h]
    unfold hX
    simp only [if_neg h]
    try rfl
theorem hX_s_ldata {v : Nat} : oset (hX g b F A c ea tx nm ω0) (b + 2) (.inr (16, [.int (F 30), .ref v, .int (F 31)])) = hX g b F A c v tx nm ω0 := by
  funext q
  by_cases h : q = b + 2
  · rw [h, hX_2]
    exact if_pos rfl
  · unfold oset
    rw [if_neg h]
    unfold hX
    simp only [if_neg h]
    try rfl
theorem hX_s_sort0 {v : Int32} : oset (hX g b F A c ea tx nm ω0) (b + 15) (.inr (1, [.int v, .int (F 50), .ref (b + 16)])) = hX g b (upd F 40 v) A c ea tx nm ω0 := by
  funext q
  by_cases h : q = b + 15
  · rw [h, hX_15]
    exact if_pos rfl
  · unfold oset
    rw [if_neg h]
    unfold hX
    simp only [if_neg h]
    try rfl
theorem hX_s_size0 {v : Int32} : oset (hX g b F A c ea tx nm ω0) (b + 15) (.inr (1, [.int (F 40), .int v, .ref (b + 16)])) = hX g b (upd F 50 v) A c ea tx nm ω0 := by
  funext q
  by_cases h : q = b + 15
  · rw [h, hX_15]
    exact if_pos rfl
  · unfold oset
    rw [if_neg h]
    unfold hX
    simp only [if_neg h]
    try rfl
theorem hX_s_cells0 {f : Nat → Int32} : oset (hX g b F A c ea tx nm ω0) (b + 16) (.inl (g.2.2.1 0, 40, .inl f)) = hX g b F (sA A 60 f) c ea tx nm ω0 := by
  funext q
  by_cases h : q = b + 16
  · rw [h, hX_16]
    exact if_pos rfl
  · unfold oset
    rw [if_neg h]
    unfold hX
    simp only [if_neg h]
    try rfl
theorem hX_s_sort1 {v : Int32} : oset (hX g b F A c ea tx nm ω0) (b + 17) (.inr (1, [.int v, .int (F 51), .ref (b + 18)])) = hX g b (upd F 41 v) A c ea tx nm ω0 := by
  funext q
  by_cases h : q = b + 17
  · rw [h, hX_17]
    exact if_pos rfl
  · unfold oset
    rw [if_neg h]
    unfold hX
    simp only [if_neg h]
    try rfl
theorem hX_s_size1 {v : Int32} : oset (hX g b F A c ea tx nm ω0) (b + 17) (.inr (1, [.int (F 41), .int v, .ref (b + 18)])) = hX g b (upd F 51 v) A c ea tx nm ω0 := by
  funext q
  by_cases h : q = b + 17
  · rw [h, hX_17]
    exact if_pos rfl
  · unfold oset
    rw [if_neg h]
    unfold hX
    simp only [if_neg h]
    try rfl
theorem hX_s_cells1 {f : Nat → Int32} : oset (hX g b F A c ea tx nm ω0) (b + 18) (.inl (g.2.2.1 0, 40, .inl f)) = hX g b F (sA A 61 f) c ea tx nm ω0 := by
  funext q
  by_cases h : q = b + 18
  · rw [h, hX_18]
    exact if_pos rfl
  · unfold oset
    rw [if_neg h]
    unfold hX
    simp only [if_neg h]
    try rfl
theorem hX_s_sort2 {v : Int32} : oset (hX g b F A c ea tx nm ω0) (b + 19) (.inr (1, [.int v, .int (F 52), .ref (b + 20)])) = hX g b (upd F 42 v) A c ea tx nm ω0 := by
  funext q
  by_cases h : q = b + 19
  · rw [h, hX_19]
    exact if_pos rfl
  · unfold oset
    rw [if_neg h]
    unfold hX
    simp only [if_neg h]
    try rfl
theorem hX_s_size2 {v : Int32} : oset (hX g b F A c ea tx nm ω0) (b + 19) (.inr (1, [.int (F 42), .int v, .ref (b + 20)])) = hX g b (upd F 52 v) A c ea tx nm ω0 := by
  funext q
  by_cases h : q = b + 19
  · rw [h, hX_19]
    exact if_pos rfl
  · unfold oset
    rw [if_neg h]
    unfold hX
    simp only [if_neg h]
    try rfl
theorem hX_s_cells2 {f : Nat → Int32} : oset (hX g b F A c ea tx nm ω0) (b + 20) (.inl (g.2.2.1 0, 40, .inl f)) = hX g b F (sA A 62 f) c ea tx nm ω0 := by
  funext q
  by_cases h : q = b + 20
  · rw [h, hX_20]
    exact if_pos rfl
  · unfold oset
    rw [if_neg h]
    unfold hX
    simp only [if_neg h]
    try rfl
theorem hX_s_sort3 {v : Int32} : oset (hX g b F A c ea tx nm ω0) (b + 21) (.inr (1, [.int v, .int (F 53), .ref (b + 22)])) = hX g b (upd F 43 v) A c ea tx nm ω0 := by
  funext q
  by_cases h : q = b + 21
  · rw [h, hX_21]
    exact if_pos rfl
  · unfold oset
    rw [if_neg h]
    unfold hX
    simp only [if_neg h]
    try rfl
theorem hX_s_size3 {v : Int32} : oset (hX g b F A c ea tx nm ω0) (b + 21) (.inr (1, [.int (F 43), .int v, .ref (b + 22)])) = hX g b (upd F 53 v) A c ea tx nm ω0 := by
  funext q
  by_cases h : q = b + 21
  · rw [h, hX_21]
    exact if_pos rfl
  · unfold oset
    rw [if_neg h]
    unfold hX
    simp only [if_neg h]
    try rfl
theorem hX_s_cells3 {f : Nat → Int32} : oset (hX g b F A c ea tx nm ω0) (b + 22) (.inl (g.2.2.1 0, 40, .inl f)) = hX g b F (sA A 63 f) c ea tx nm ω0 := by
  funext q
  by_cases h : q = b + 22
  · rw [h, hX_22]
    exact if_pos rfl
  · unfold oset
    rw [if_neg h]
    unfold hX
    simp only [if_neg h]
    try rfl
theorem kn_s0 (c : Cr) (p : Nat) (v : Int32) : kn (upd c.1 (3 * p) v, c.2.1, c.2.2) = upd (kn c) p v := by
  funext q; unfold kn upd; dsimp only
  by_cases h : q = p
  · rw [if_pos (by omega), if_pos h]
  · rw [if_neg (by omega), if_neg h]
theorem ke_s1 (c : Cr) (p : Nat) (v : Int32) : ke (upd c.1 (3 * p + 1) v, c.2.1, c.2.2) = upd (ke c) p v := by
  funext q; unfold ke upd; dsimp only
  by_cases h : q = p
  · rw [if_pos (by omega), if_pos h]
  · rw [if_neg (by omega), if_neg h]
theorem lu_s2 (c : Cr) (p : Nat) (v : Int32) : lu (upd c.1 (3 * p + 2) v, c.2.1, c.2.2) = upd (lu c) p v := by
  funext q; unfold lu upd; dsimp only
  by_cases h : q = p
  · rw [if_pos (by omega), if_pos h]
  · rw [if_neg (by omega), if_neg h]
theorem kn_n1 (c : Cr) (p : Nat) (v : Int32) : kn (upd c.1 (3 * p + 1) v, c.2.1, c.2.2) = kn c := by
  funext q; unfold kn upd; dsimp only; rw [if_neg (by omega)]
theorem kn_n2 (c : Cr) (p : Nat) (v : Int32) : kn (upd c.1 (3 * p + 2) v, c.2.1, c.2.2) = kn c := by
  funext q; unfold kn upd; dsimp only; rw [if_neg (by omega)]
theorem ke_n0 (c : Cr) (p : Nat) (v : Int32) : ke (upd c.1 (3 * p) v, c.2.1, c.2.2) = ke c := by
  funext q; unfold ke upd; dsimp only; rw [if_neg (by omega)]
theorem ke_n2 (c : Cr) (p : Nat) (v : Int32) : ke (upd c.1 (3 * p + 2) v, c.2.1, c.2.2) = ke c := by
  funext q; unfold ke upd; dsimp only; rw [if_neg (by omega)]
theorem lu_n0 (c : Cr) (p : Nat) (v : Int32) : lu (upd c.1 (3 * p) v, c.2.1, c.2.2) = lu c := by
  funext q; unfold lu upd; dsimp only; rw [if_neg (by omega)]
theorem lu_n1 (c : Cr) (p : Nat) (v : Int32) : lu (upd c.1 (3 * p + 1) v, c.2.1, c.2.2) = lu c := by
  funext q; unfold lu upd; dsimp only; rw [if_neg (by omega)]
theorem hX_s_knows (p : Nat) {v : Int32} : oset (hX g b F A c ea tx nm ω0) (b + 3) (.inl (g.2.2.1 0, 6, .inl (upd (kn c) p v))) = hX g b F A (upd c.1 (3 * p) v, c.2.1, c.2.2) ea tx nm ω0 := by
  funext q
  by_cases h : q = b + 3
  · subst h
    rw [hX_3, kn_s0]
    exact if_pos rfl
  · unfold oset
    rw [if_neg h]
    unfold hX
    simp only [if_neg h]
    rw [ke_n0, lu_n0]
    rfl
theorem hX_s_keeps (p : Nat) {v : Int32} : oset (hX g b F A c ea tx nm ω0) (b + 4) (.inl (g.2.2.1 0, 6, .inl (upd (ke c) p v))) = hX g b F A (upd c.1 (3 * p + 1) v, c.2.1, c.2.2) ea tx nm ω0 := by
  funext q
  by_cases h : q = b + 4
  · subst h
    rw [hX_4, ke_s1]
    exact if_pos rfl
  · unfold oset
    rw [if_neg h]
    unfold hX
    simp only [if_neg h]
    rw [kn_n1, lu_n1]
    rfl
theorem hX_s_luck (p : Nat) {v : Int32} : oset (hX g b F A c ea tx nm ω0) (b + 5) (.inl (g.2.2.1 0, 6, .inl (upd (lu c) p v))) = hX g b F A (upd c.1 (3 * p + 2) v, c.2.1, c.2.2) ea tx nm ω0 := by
  funext q
  by_cases h : q = b + 5
  · subst h
    rw [hX_5, lu_s2]
    exact if_pos rfl
  · unfold oset
    rw [if_neg h]
    unfold hX
    simp only [if_neg h]
    rw [kn_n2, ke_n2]
    rfl
variable {cc : ByteArray} {nL : Nat} {ret : Option FieldType} {XT : Method → Code → Prop} {rm : Room} {Z : ZT} {cells slots : Nat} {z pc : Nat} {L : List (Nat × Value)} {rest : List Value}
theorem xg_tide (hd : decode cc pc = .ok (.getfield 99, 3)) (k : G g RX0 cc nL ret XT rm Z cells slots (hX g b F A c ea tx nm ω0) z (pc + 3) L (.int c.2.2 :: rest)) : G g RX0 cc nL ret XT rm Z cells slots (hX g b F A c ea tx nm ω0) z (pc) L (.ref b :: rest) := g_get (ref := RX0) (T := TX0) (N := 23) 0 in_X0 rfl (by decide) q665 rfl hX_0 rfl hd k
theorem xp_tide {v : Int32} (hN : gN g ≤ b) (hd : decode cc pc = .ok (.putfield 99, 3)) (k : G g RX0 cc nL ret XT rm Z cells slots (hX g b F A (c.1, c.2.1, v) ea tx nm ω0) z (pc + 3) L (rest)) : G g RX0 cc nL ret XT rm Z cells slots (hX g b F A c ea tx nm ω0) z (pc) L (.int v :: .ref b :: rest) := g_put (ref := RX0) (T := TX0) (N := 23) (ty := .int) 0 in_X0 rfl tyX0_ok nmX0 (by decide) q665 rfl rfl rfl hN hX_0 (Nat.le_of_ble_eq_true rfl) rfl rfl hd (by rw [show b = b + 0 from rfl, hX_s_tide]; exact k)
theorem xg_sea (hd : decode cc pc = .ok (.getfield 90, 3)) (k : G g RX0 cc nL ret XT rm Z cells slots (hX g b F A c ea tx nm ω0) z (pc + 3) L (.int c.2.1 :: rest)) : G g RX0 cc nL ret XT rm Z cells slots (hX g b F A c ea tx nm ω0) z (pc) L (.ref b :: rest) := g_get (ref := RX0) (T := TX0) (N := 23) 1 in_X0 rfl (by decide) q666 rfl hX_0 rfl hd k
theorem xp_sea {v : Int32} (hN : gN g ≤ b) (hd : decode cc pc = .ok (.putfield 90, 3)) (k : G g RX0 cc nL ret XT rm Z cells slots (hX g b F A (c.1, v, c.2.2) ea tx nm ω0) z (pc + 3) L (rest)) : G g RX0 cc nL ret XT rm Z cells slots (hX g b F A c ea tx nm ω0) z (pc) L (.int v :: .ref b :: rest) := g_put (ref := RX0) (T := TX0) (N := 23) (ty := .int) 1 in_X0 rfl tyX0_ok nmX0 (by decide) q666 rfl rfl rfl hN hX_0 (Nat.le_of_ble_eq_true rfl) rfl rfl hd (by rw [show b = b + 0 from rfl, hX_s_sea]; exact k)
theorem xg_names (hd : decode cc pc = .ok (.getfield 16, 3)) (k : G g RX0 cc nL ret XT rm Z cells slots (hX g b F A c ea tx nm ω0) z (pc + 3) L (.ref (b + 1) :: rest)) : G g RX0 cc nL ret XT rm Z cells slots (hX g b F A c ea tx nm ω0) z (pc) L (.ref b :: rest) := g_get (ref := RX0) (T := TX0) (N := 23) 2 in_X0 rfl (by decide) q667 rfl hX_0 rfl hd k
theorem xg_law (hd : decode cc pc = .ok (.getfield 102, 3)) (k : G g RX0 cc nL ret XT rm Z cells slots (hX g b F A c ea tx nm ω0) z (pc + 3) L (.int (F 3) :: rest)) : G g RX0 cc nL ret XT rm Z cells slots (hX g b F A c ea tx nm ω0) z (pc) L (.ref b :: rest) := g_get (ref := RX0) (T := TX0) (N := 23) 3 in_X0 rfl (by decide) q668 rfl hX_0 rfl hd k
theorem xp_law {v : Int32} (hN : gN g ≤ b) (hd : decode cc pc = .ok (.putfield 102, 3)) (k : G g RX0 cc nL ret XT rm Z cells slots (hX g b (upd F 3 v) A c ea tx nm ω0) z (pc + 3) L (rest)) : G g RX0 cc nL ret XT rm Z cells slots (hX g b F A c ea tx nm ω0) z (pc) L (.int v :: .ref b :: rest) := g_put (ref := RX0) (T := TX0) (N := 23) (ty := .int) 3 in_X0 rfl tyX0_ok nmX0 (by decide) q668 rfl rfl rfl hN hX_0 (Nat.le_of_ble_eq_true rfl) rfl rfl hd (by rw [show b = b + 0 from rfl, hX_s_law]; exact k)
theorem xg_fishers (hd : decode cc pc = .ok (.getfield 25, 3)) (k : G g RX0 cc nL ret XT rm Z cells slots (hX g b F A c ea tx nm ω0) z (pc + 3) L (.ref (b + 2) :: rest)) : G g RX0 cc nL ret XT rm Z cells slots (hX g b F A c ea tx nm ω0) z (pc) L (.ref b :: rest) := g_get (ref := RX0) (T := TX0) (N := 23) 4 in_X0 rfl (by decide) q669 rfl hX_0 rfl hd k
theorem xg_knows (hd : decode cc pc = .ok (.getfield 29, 3)) (k : G g RX0 cc nL ret XT rm Z cells slots (hX g b F A c ea tx nm ω0) z (pc + 3) L (.ref (b + 3) :: rest)) : G g RX0 cc nL ret XT rm Z cells slots (hX g b F A c ea tx nm ω0) z (pc) L (.ref b :: rest) := g_get (ref := RX0) (T := TX0) (N := 23) 5 in_X0 rfl (by decide) q670 rfl hX_0 rfl hd k
theorem xg_keeps (hd : decode cc pc = .ok (.getfield 32, 3)) (k : G g RX0 cc nL ret XT rm Z cells slots (hX g b F A c ea tx nm ω0) z (pc + 3) L (.ref (b + 4) :: rest)) : G g RX0 cc nL ret XT rm Z cells slots (hX g b F A c ea tx nm ω0) z (pc) L (.ref b :: rest) := g_get (ref := RX0) (T := TX0) (N := 23) 6 in_X0 rfl (by decide) q671 rfl hX_0 rfl hd k
theorem xg_luck (hd : decode cc pc = .ok (.getfield 35, 3)) (k : G g RX0 cc nL ret XT rm Z cells slots (hX g b F A c ea tx nm ω0) z (pc + 3) L (.ref (b + 5) :: rest)) : G g RX0 cc nL ret XT rm Z cells slots (hX g b F A c ea tx nm ω0) z (pc) L (.ref b :: rest) := g_get (ref := RX0) (T := TX0) (N := 23) 7 in_X0 rfl (by decide) q672 rfl hX_0 rfl hd k
theorem xg_aside (hd : decode cc pc = .ok (.getfield 38, 3)) (k : G g RX0 cc nL ret XT rm Z cells slots (hX g b F A c ea tx nm ω0) z (pc + 3) L (.ref (b + 6) :: rest)) : G g RX0 cc nL ret XT rm Z cells slots (hX g b F A c ea tx nm ω0) z (pc) L (.ref b :: rest) := g_get (ref := RX0) (T := TX0) (N := 23) 8 in_X0 rfl (by decide) q673 rfl hX_0 rfl hd k
theorem xg_tried (hd : decode cc pc = .ok (.getfield 41, 3)) (k : G g RX0 cc nL ret XT rm Z cells slots (hX g b F A c ea tx nm ω0) z (pc + 3) L (.ref (b + 7) :: rest)) : G g RX0 cc nL ret XT rm Z cells slots (hX g b F A c ea tx nm ω0) z (pc) L (.ref b :: rest) := g_get (ref := RX0) (T := TX0) (N := 23) 9 in_X0 rfl (by decide) q674 rfl hX_0 rfl hd k
theorem xg_bestRow (hd : decode cc pc = .ok (.getfield 269, 3)) (k : G g RX0 cc nL ret XT rm Z cells slots (hX g b F A c ea tx nm ω0) z (pc + 3) L (.int (F 10) :: rest)) : G g RX0 cc nL ret XT rm Z cells slots (hX g b F A c ea tx nm ω0) z (pc) L (.ref b :: rest) := g_get (ref := RX0) (T := TX0) (N := 23) 10 in_X0 rfl (by decide) q675 rfl hX_0 rfl hd k
theorem xp_bestRow {v : Int32} (hN : gN g ≤ b) (hd : decode cc pc = .ok (.putfield 269, 3)) (k : G g RX0 cc nL ret XT rm Z cells slots (hX g b (upd F 10 v) A c ea tx nm ω0) z (pc + 3) L (rest)) : G g RX0 cc nL ret XT rm Z cells slots (hX g b F A c ea tx nm ω0) z (pc) L (.int v :: .ref b :: rest) := g_put (ref := RX0) (T := TX0) (N := 23) (ty := .int) 10 in_X0 rfl tyX0_ok nmX0 (by decide) q675 rfl rfl rfl hN hX_0 (Nat.le_of_ble_eq_true rfl) rfl rfl hd (by rw [show b = b + 0 from rfl, hX_s_bestRow]; exact k)
theorem xg_wasOne (hd : decode cc pc = .ok (.getfield 44, 3)) (k : G g RX0 cc nL ret XT rm Z cells slots (hX g b F A c ea tx nm ω0) z (pc + 3) L (.ref (b + 8) :: rest)) : G g RX0 cc nL ret XT rm Z cells slots (hX g b F A c ea tx nm ω0) z (pc) L (.ref b :: rest) := g_get (ref := RX0) (T := TX0) (N := 23) 11 in_X0 rfl (by decide) q676 rfl hX_0 rfl hd k
theorem xg_wasTwo (hd : decode cc pc = .ok (.getfield 47, 3)) (k : G g RX0 cc nL ret XT rm Z cells slots (hX g b F A c ea tx nm ω0) z (pc + 3) L (.ref (b + 9) :: rest)) : G g RX0 cc nL ret XT rm Z cells slots (hX g b F A c ea tx nm ω0) z (pc) L (.ref b :: rest) := g_get (ref := RX0) (T := TX0) (N := 23) 12 in_X0 rfl (by decide) q677 rfl hX_0 rfl hd k
theorem xg_wasThree (hd : decode cc pc = .ok (.getfield 50, 3)) (k : G g RX0 cc nL ret XT rm Z cells slots (hX g b F A c ea tx nm ω0) z (pc + 3) L (.ref (b + 10) :: rest)) : G g RX0 cc nL ret XT rm Z cells slots (hX g b F A c ea tx nm ω0) z (pc) L (.ref b :: rest) := g_get (ref := RX0) (T := TX0) (N := 23) 13 in_X0 rfl (by decide) q678 rfl hX_0 rfl hd k
theorem xg_drawnSea (hd : decode cc pc = .ok (.getfield 310, 3)) (k : G g RX0 cc nL ret XT rm Z cells slots (hX g b F A c ea tx nm ω0) z (pc + 3) L (.int (F 14) :: rest)) : G g RX0 cc nL ret XT rm Z cells slots (hX g b F A c ea tx nm ω0) z (pc) L (.ref b :: rest) := g_get (ref := RX0) (T := TX0) (N := 23) 14 in_X0 rfl (by decide) q679 rfl hX_0 rfl hd k
theorem xp_drawnSea {v : Int32} (hN : gN g ≤ b) (hd : decode cc pc = .ok (.putfield 310, 3)) (k : G g RX0 cc nL ret XT rm Z cells slots (hX g b (upd F 14 v) A c ea tx nm ω0) z (pc + 3) L (rest)) : G g RX0 cc nL ret XT rm Z cells slots (hX g b F A c ea tx nm ω0) z (pc) L (.int v :: .ref b :: rest) := g_put (ref := RX0) (T := TX0) (N := 23) (ty := .int) 14 in_X0 rfl tyX0_ok nmX0 (by decide) q679 rfl rfl rfl hN hX_0 (Nat.le_of_ble_eq_true rfl) rfl rfl hd (by rw [show b = b + 0 from rfl, hX_s_drawnSea]; exact k)
theorem xg_kept (hd : decode cc pc = .ok (.getfield 53, 3)) (k : G g RX0 cc nL ret XT rm Z cells slots (hX g b F A c ea tx nm ω0) z (pc + 3) L (.ref (b + 11) :: rest)) : G g RX0 cc nL ret XT rm Z cells slots (hX g b F A c ea tx nm ω0) z (pc) L (.ref b :: rest) := g_get (ref := RX0) (T := TX0) (N := 23) 15 in_X0 rfl (by decide) q680 rfl hX_0 rfl hd k
theorem xg_keptMany (hd : decode cc pc = .ok (.getfield 56, 3)) (k : G g RX0 cc nL ret XT rm Z cells slots (hX g b F A c ea tx nm ω0) z (pc + 3) L (.int (F 16) :: rest)) : G g RX0 cc nL ret XT rm Z cells slots (hX g b F A c ea tx nm ω0) z (pc) L (.ref b :: rest) := g_get (ref := RX0) (T := TX0) (N := 23) 16 in_X0 rfl (by decide) q681 rfl hX_0 rfl hd k
theorem xp_keptMany {v : Int32} (hN : gN g ≤ b) (hd : decode cc pc = .ok (.putfield 56, 3)) (k : G g RX0 cc nL ret XT rm Z cells slots (hX g b (upd F 16 v) A c ea tx nm ω0) z (pc + 3) L (rest)) : G g RX0 cc nL ret XT rm Z cells slots (hX g b F A c ea tx nm ω0) z (pc) L (.int v :: .ref b :: rest) := g_put (ref := RX0) (T := TX0) (N := 23) (ty := .int) 16 in_X0 rfl tyX0_ok nmX0 (by decide) q681 rfl rfl rfl hN hX_0 (Nat.le_of_ble_eq_true rfl) rfl rfl hd (by rw [show b = b + 0 from rfl, hX_s_keptMany]; exact k)
theorem xg_keptLaw (hd : decode cc pc = .ok (.getfield 322, 3)) (k : G g RX0 cc nL ret XT rm Z cells slots (hX g b F A c ea tx nm ω0) z (pc + 3) L (.int (F 17) :: rest)) : G g RX0 cc nL ret XT rm Z cells slots (hX g b F A c ea tx nm ω0) z (pc) L (.ref b :: rest) := g_get (ref := RX0) (T := TX0) (N := 23) 17 in_X0 rfl (by decide) q682 rfl hX_0 rfl hd k
theorem xp_keptLaw {v : Int32} (hN : gN g ≤ b) (hd : decode cc pc = .ok (.putfield 322, 3)) (k : G g RX0 cc nL ret XT rm Z cells slots (hX g b (upd F 17 v) A c ea tx nm ω0) z (pc + 3) L (rest)) : G g RX0 cc nL ret XT rm Z cells slots (hX g b F A c ea tx nm ω0) z (pc) L (.int v :: .ref b :: rest) := g_put (ref := RX0) (T := TX0) (N := 23) (ty := .int) 17 in_X0 rfl tyX0_ok nmX0 (by decide) q682 rfl rfl rfl hN hX_0 (Nat.le_of_ble_eq_true rfl) rfl rfl hd (by rw [show b = b + 0 from rfl, hX_s_keptLaw]; exact k)
theorem xg_texts (hd : decode cc pc = .ok (.getfield 62, 3)) (k : G g RX0 cc nL ret XT rm Z cells slots (hX g b F A c ea tx nm ω0) z (pc + 3) L (.ref (b + 12) :: rest)) : G g RX0 cc nL ret XT rm Z cells slots (hX g b F A c ea tx nm ω0) z (pc) L (.ref b :: rest) := g_get (ref := RX0) (T := TX0) (N := 23) 18 in_X0 rfl (by decide) q683 rfl hX_0 rfl hd k
theorem xg_textCount (hd : decode cc pc = .ok (.getfield 83, 3)) (k : G g RX0 cc nL ret XT rm Z cells slots (hX g b F A c ea tx nm ω0) z (pc + 3) L (.int (F 19) :: rest)) : G g RX0 cc nL ret XT rm Z cells slots (hX g b F A c ea tx nm ω0) z (pc) L (.ref b :: rest) := g_get (ref := RX0) (T := TX0) (N := 23) 19 in_X0 rfl (by decide) q684 rfl hX_0 rfl hd k
theorem xp_textCount {v : Int32} (hN : gN g ≤ b) (hd : decode cc pc = .ok (.putfield 83, 3)) (k : G g RX0 cc nL ret XT rm Z cells slots (hX g b (upd F 19 v) A c ea tx nm ω0) z (pc + 3) L (rest)) : G g RX0 cc nL ret XT rm Z cells slots (hX g b F A c ea tx nm ω0) z (pc) L (.int v :: .ref b :: rest) := g_put (ref := RX0) (T := TX0) (N := 23) (ty := .int) 19 in_X0 rfl tyX0_ok nmX0 (by decide) q684 rfl rfl rfl hN hX_0 (Nat.le_of_ble_eq_true rfl) rfl rfl hd (by rw [show b = b + 0 from rfl, hX_s_textCount]; exact k)
theorem xg_tape (hd : decode cc pc = .ok (.getfield 66, 3)) (k : G g RX0 cc nL ret XT rm Z cells slots (hX g b F A c ea tx nm ω0) z (pc + 3) L (.ref (b + 13) :: rest)) : G g RX0 cc nL ret XT rm Z cells slots (hX g b F A c ea tx nm ω0) z (pc) L (.ref b :: rest) := g_get (ref := RX0) (T := TX0) (N := 23) 20 in_X0 rfl (by decide) q685 rfl hX_0 rfl hd k
theorem xg_taped (hd : decode cc pc = .ok (.getfield 105, 3)) (k : G g RX0 cc nL ret XT rm Z cells slots (hX g b F A c ea tx nm ω0) z (pc + 3) L (.int (F 21) :: rest)) : G g RX0 cc nL ret XT rm Z cells slots (hX g b F A c ea tx nm ω0) z (pc) L (.ref b :: rest) := g_get (ref := RX0) (T := TX0) (N := 23) 21 in_X0 rfl (by decide) q686 rfl hX_0 rfl hd k
theorem xp_taped {v : Int32} (hN : gN g ≤ b) (hd : decode cc pc = .ok (.putfield 105, 3)) (k : G g RX0 cc nL ret XT rm Z cells slots (hX g b (upd F 21 v) A c ea tx nm ω0) z (pc + 3) L (rest)) : G g RX0 cc nL ret XT rm Z cells slots (hX g b F A c ea tx nm ω0) z (pc) L (.int v :: .ref b :: rest) := g_put (ref := RX0) (T := TX0) (N := 23) (ty := .int) 21 in_X0 rfl tyX0_ok nmX0 (by decide) q686 rfl rfl rfl hN hX_0 (Nat.le_of_ble_eq_true rfl) rfl rfl hd (by rw [show b = b + 0 from rfl, hX_s_taped]; exact k)
theorem xg_sheets (hd : decode cc pc = .ok (.getfield 73, 3)) (k : G g RX0 cc nL ret XT rm Z cells slots (hX g b F A c ea tx nm ω0) z (pc + 3) L (.ref (b + 14) :: rest)) : G g RX0 cc nL ret XT rm Z cells slots (hX g b F A c ea tx nm ω0) z (pc) L (.ref b :: rest) := g_get (ref := RX0) (T := TX0) (N := 23) 22 in_X0 rfl (by decide) q687 rfl hX_0 rfl hd k
theorem xl_names (n : Nat) {i : Int32} (hn : n < 6) (hi : i = nI n) (hd : decode cc pc = .ok (.iaload, 1)) (k : G g RX0 cc nL ret XT rm Z cells slots (hX g b F A c ea tx nm ω0) z (pc + 1) L (.int (nm n) :: rest)) : G g RX0 cc nL ret XT rm Z cells slots (hX g b F A c ea tx nm ω0) z (pc) L (.int i :: .ref (b + 1) :: rest) := by
  subst hi
  refine g_iald hX_1 (vp_in_nI hn (by decide)) hd ?_
  rw [nI_clamp (Nat.lt_trans hn (by decide))]
  exact k
theorem xs_names (n : Nat) {i x : Int32} (hN : gN g ≤ b) (hn : n < 6) (hi : i = nI n) (hd : decode cc pc = .ok (.iastore, 1)) (k : G g RX0 cc nL ret XT rm Z cells slots (hX g b F A c ea tx (upd nm n x) ω0) z (pc + 1) L (rest)) : G g RX0 cc nL ret XT rm Z cells slots (hX g b F A c ea tx nm ω0) z (pc) L (.int x :: .int i :: .ref (b + 1) :: rest) := by
  subst hi
  refine g_iast (Nat.le_trans hN (Nat.le_add_right _ _)) hX_1 (vp_in_nI hn (by decide)) hd ?_
  rw [nI_clamp (Nat.lt_trans hn (by decide)), hX_s_names]
  exact k
theorem xl_knows (n : Nat) {i : Int32} (hn : n < 6) (hi : i = nI n) (hd : decode cc pc = .ok (.iaload, 1)) (k : G g RX0 cc nL ret XT rm Z cells slots (hX g b F A c ea tx nm ω0) z (pc + 1) L (.int (c.1 (3 * n)) :: rest)) : G g RX0 cc nL ret XT rm Z cells slots (hX g b F A c ea tx nm ω0) z (pc) L (.int i :: .ref (b + 3) :: rest) := by
  subst hi
  refine g_iald hX_3 (vp_in_nI hn (by decide)) hd ?_
  rw [nI_clamp (Nat.lt_trans hn (by decide))]
  exact k
theorem xs_knows (n : Nat) {i x : Int32} (hN : gN g ≤ b) (hn : n < 6) (hi : i = nI n) (hd : decode cc pc = .ok (.iastore, 1)) (k : G g RX0 cc nL ret XT rm Z cells slots (hX g b F A (upd c.1 (3 * n) x, c.2.1, c.2.2) ea tx nm ω0) z (pc + 1) L (rest)) : G g RX0 cc nL ret XT rm Z cells slots (hX g b F A c ea tx nm ω0) z (pc) L (.int x :: .int i :: .ref (b + 3) :: rest) := by
  subst hi
  refine g_iast (Nat.le_trans hN (Nat.le_add_right _ _)) hX_3 (vp_in_nI hn (by decide)) hd ?_
  rw [nI_clamp (Nat.lt_trans hn (by decide)), hX_s_knows]
  exact k
theorem xl_keeps (n : Nat) {i : Int32} (hn : n < 6) (hi : i = nI n) (hd : decode cc pc = .ok (.iaload, 1)) (k : G g RX0 cc nL ret XT rm Z cells slots (hX g b F A c ea tx nm ω0) z (pc + 1) L (.int (c.1 (3 * n + 1)) :: rest)) : G g RX0 cc nL ret XT rm Z cells slots (hX g b F A c ea tx nm ω0) z (pc) L (.int i :: .ref (b + 4) :: rest) := by
  subst hi
  refine g_iald hX_4 (vp_in_nI hn (by decide)) hd ?_
  rw [nI_clamp (Nat.lt_trans hn (by decide))]
  exact k
theorem xs_keeps (n : Nat) {i x : Int32} (hN : gN g ≤ b) (hn : n < 6) (hi : i = nI n) (hd : decode cc pc = .ok (.iastore, 1)) (k : G g RX0 cc nL ret XT rm Z cells slots (hX g b F A (upd c.1 (3 * n + 1) x, c.2.1, c.2.2) ea tx nm ω0) z (pc + 1) L (rest)) : G g RX0 cc nL ret XT rm Z cells slots (hX g b F A c ea tx nm ω0) z (pc) L (.int x :: .int i :: .ref (b + 4) :: rest) := by
  subst hi
  refine g_iast (Nat.le_trans hN (Nat.le_add_right _ _)) hX_4 (vp_in_nI hn (by decide)) hd ?_
  rw [nI_clamp (Nat.lt_trans hn (by decide)), hX_s_keeps]
  exact k
theorem xl_luck (n : Nat) {i : Int32} (hn : n < 6) (hi : i = nI n) (hd : decode cc pc = .ok (.iaload, 1)) (k : G g RX0 cc nL ret XT rm Z cells slots (hX g b F A c ea tx nm ω0) z (pc + 1) L (.int (c.1 (3 * n + 2)) :: rest)) : G g RX0 cc nL ret XT rm Z cells slots (hX g b F A c ea tx nm ω0) z (pc) L (.int i :: .ref (b + 5) :: rest) := by
  subst hi
  refine g_iald hX_5 (vp_in_nI hn (by decide)) hd ?_
  rw [nI_clamp (Nat.lt_trans hn (by decide))]
  exact k
theorem xs_luck (n : Nat) {i x : Int32} (hN : gN g ≤ b) (hn : n < 6) (hi : i = nI n) (hd : decode cc pc = .ok (.iastore, 1)) (k : G g RX0 cc nL ret XT rm Z cells slots (hX g b F A (upd c.1 (3 * n + 2) x, c.2.1, c.2.2) ea tx nm ω0) z (pc + 1) L (rest)) : G g RX0 cc nL ret XT rm Z cells slots (hX g b F A c ea tx nm ω0) z (pc) L (.int x :: .int i :: .ref (b + 5) :: rest) := by
  subst hi
  refine g_iast (Nat.le_trans hN (Nat.le_add_right _ _)) hX_5 (vp_in_nI hn (by decide)) hd ?_
  rw [nI_clamp (Nat.lt_trans hn (by decide)), hX_s_luck]
  exact k
theorem xl_aside (n : Nat) {i : Int32} (hn : n < 20) (hi : i = nI n) (hd : decode cc pc = .ok (.iaload, 1)) (k : G g RX0 cc nL ret XT rm Z cells slots (hX g b F A c ea tx nm ω0) z (pc + 1) L (.int (A 8 n) :: rest)) : G g RX0 cc nL ret XT rm Z cells slots (hX g b F A c ea tx nm ω0) z (pc) L (.int i :: .ref (b + 6) :: rest) := by
  subst hi
  refine g_iald hX_6 (vp_in_nI hn (by decide)) hd ?_
  rw [nI_clamp (Nat.lt_trans hn (by decide))]
  exact k
theorem xs_aside (n : Nat) {i x : Int32} (hN : gN g ≤ b) (hn : n < 20) (hi : i = nI n) (hd : decode cc pc = .ok (.iastore, 1)) (k : G g RX0 cc nL ret XT rm Z cells slots (hX g b F (sA A 8 (upd (A 8) n x)) c ea tx nm ω0) z (pc + 1) L (rest)) : G g RX0 cc nL ret XT rm Z cells slots (hX g b F A c ea tx nm ω0) z (pc) L (.int x :: .int i :: .ref (b + 6) :: rest) := by
  subst hi
  refine g_iast (Nat.le_trans hN (Nat.le_add_right _ _)) hX_6 (vp_in_nI hn (by decide)) hd ?_
  rw [nI_clamp (Nat.lt_trans hn (by decide)), hX_s_aside]
  exact k
theorem xl_tried (n : Nat) {i : Int32} (hn : n < 20) (hi : i = nI n) (hd : decode cc pc = .ok (.iaload, 1)) (k : G g RX0 cc nL ret XT rm Z cells slots (hX g b F A c ea tx nm ω0) z (pc + 1) L (.int (A 9 n) :: rest)) : G g RX0 cc nL ret XT rm Z cells slots (hX g b F A c ea tx nm ω0) z (pc) L (.int i :: .ref (b + 7) :: rest) := by
  subst hi
  refine g_iald hX_7 (vp_in_nI hn (by decide)) hd ?_
  rw [nI_clamp (Nat.lt_trans hn (by decide))]
  exact k
theorem xs_tried (n : Nat) {i x : Int32} (hN : gN g ≤ b) (hn : n < 20) (hi : i = nI n) (hd : decode cc pc = .ok (.iastore, 1)) (k : G g RX0 cc nL ret XT rm Z cells slots (hX g b F (sA A 9 (upd (A 9) n x)) c ea tx nm ω0) z (pc + 1) L (rest)) : G g RX0 cc nL ret XT rm Z cells slots (hX g b F A c ea tx nm ω0) z (pc) L (.int x :: .int i :: .ref (b + 7) :: rest) := by
  subst hi
  refine g_iast (Nat.le_trans hN (Nat.le_add_right _ _)) hX_7 (vp_in_nI hn (by decide)) hd ?_
  rw [nI_clamp (Nat.lt_trans hn (by decide)), hX_s_tried]
  exact k
theorem xl_wasOne (n : Nat) {i : Int32} (hn : n < 20) (hi : i = nI n) (hd : decode cc pc = .ok (.iaload, 1)) (k : G g RX0 cc nL ret XT rm Z cells slots (hX g b F A c ea tx nm ω0) z (pc + 1) L (.int (A 11 n) :: rest)) : G g RX0 cc nL ret XT rm Z cells slots (hX g b F A c ea tx nm ω0) z (pc) L (.int i :: .ref (b + 8) :: rest) := by
  subst hi
  refine g_iald hX_8 (vp_in_nI hn (by decide)) hd ?_
  rw [nI_clamp (Nat.lt_trans hn (by decide))]
  exact k
theorem xs_wasOne (n : Nat) {i x : Int32} (hN : gN g ≤ b) (hn : n < 20) (hi : i = nI n) (hd : decode cc pc = .ok (.iastore, 1)) (k : G g RX0 cc nL ret XT rm Z cells slots (hX g b F (sA A 11 (upd (A 11) n x)) c ea tx nm ω0) z (pc + 1) L (rest)) : G g RX0 cc nL ret XT rm Z cells slots (hX g b F A c ea tx nm ω0) z (pc) L (.int x :: .int i :: .ref (b + 8) :: rest) := by
  subst hi
  refine g_iast (Nat.le_trans hN (Nat.le_add_right _ _)) hX_8 (vp_in_nI hn (by decide)) hd ?_
  rw [nI_clamp (Nat.lt_trans hn (by decide)), hX_s_wasOne]
  exact k
theorem xl_wasTwo (n : Nat) {i : Int32} (hn : n < 20) (hi : i = nI n) (hd : decode cc pc = .ok (.iaload, 1)) (k : G g RX0 cc nL ret XT rm Z cells slots (hX g b F A c ea tx nm ω0) z (pc + 1) L (.int (A 12 n) :: rest)) : G g RX0 cc nL ret XT rm Z cells slots (hX g b F A c ea tx nm ω0) z (pc) L (.int i :: .ref (b + 9) :: rest) := by
  subst hi
  refine g_iald hX_9 (vp_in_nI hn (by decide)) hd ?_
  rw [nI_clamp (Nat.lt_trans hn (by decide))]
  exact k
theorem xs_wasTwo (n : Nat) {i x : Int32} (hN : gN g ≤ b) (hn : n < 20) (hi : i = nI n) (hd : decode cc pc = .ok (.iastore, 1)) (k : G g RX0 cc nL ret XT rm Z cells slots (hX g b F (sA A 12 (upd (A 12) n x)) c ea tx nm ω0) z (pc + 1) L (rest)) : G g RX0 cc nL ret XT rm Z cells slots (hX g b F A c ea tx nm ω0) z (pc) L (.int x :: .int i :: .ref (b + 9) :: rest) := by
  subst hi
  refine g_iast (Nat.le_trans hN (Nat.le_add_right _ _)) hX_9 (vp_in_nI hn (by decide)) hd ?_
  rw [nI_clamp (Nat.lt_trans hn (by decide)), hX_s_wasTwo]
  exact k
theorem xl_wasThree (n : Nat) {i : Int32} (hn : n < 20) (hi : i = nI n) (hd : decode cc pc = .ok (.iaload, 1)) (k : G g RX0 cc nL ret XT rm Z cells slots (hX g b F A c ea tx nm ω0) z (pc + 1) L (.int (A 13 n) :: rest)) : G g RX0 cc nL ret XT rm Z cells slots (hX g b F A c ea tx nm ω0) z (pc) L (.int i :: .ref (b + 10) :: rest) := by
  subst hi
  refine g_iald hX_10 (vp_in_nI hn (by decide)) hd ?_
  rw [nI_clamp (Nat.lt_trans hn (by decide))]
  exact k
theorem xs_wasThree (n : Nat) {i x : Int32} (hN : gN g ≤ b) (hn : n < 20) (hi : i = nI n) (hd : decode cc pc = .ok (.iastore, 1)) (k : G g RX0 cc nL ret XT rm Z cells slots (hX g b F (sA A 13 (upd (A 13) n x)) c ea tx nm ω0) z (pc + 1) L (rest)) : G g RX0 cc nL ret XT rm Z cells slots (hX g b F A c ea tx nm ω0) z (pc) L (.int x :: .int i :: .ref (b + 10) :: rest) := by
  subst hi
  refine g_iast (Nat.le_trans hN (Nat.le_add_right _ _)) hX_10 (vp_in_nI hn (by decide)) hd ?_
  rw [nI_clamp (Nat.lt_trans hn (by decide)), hX_s_wasThree]
  exact k
theorem xl_kept (n : Nat) {i : Int32} (hn : n < 20) (hi : i = nI n) (hd : decode cc pc = .ok (.iaload, 1)) (k : G g RX0 cc nL ret XT rm Z cells slots (hX g b F A c ea tx nm ω0) z (pc + 1) L (.int (A 15 n) :: rest)) : G g RX0 cc nL ret XT rm Z cells slots (hX g b F A c ea tx nm ω0) z (pc) L (.int i :: .ref (b + 11) :: rest) := by
  subst hi
  refine g_iald hX_11 (vp_in_nI hn (by decide)) hd ?_
  rw [nI_clamp (Nat.lt_trans hn (by decide))]
  exact k
theorem xs_kept (n : Nat) {i x : Int32} (hN : gN g ≤ b) (hn : n < 20) (hi : i = nI n) (hd : decode cc pc = .ok (.iastore, 1)) (k : G g RX0 cc nL ret XT rm Z cells slots (hX g b F (sA A 15 (upd (A 15) n x)) c ea tx nm ω0) z (pc + 1) L (rest)) : G g RX0 cc nL ret XT rm Z cells slots (hX g b F A c ea tx nm ω0) z (pc) L (.int x :: .int i :: .ref (b + 11) :: rest) := by
  subst hi
  refine g_iast (Nat.le_trans hN (Nat.le_add_right _ _)) hX_11 (vp_in_nI hn (by decide)) hd ?_
  rw [nI_clamp (Nat.lt_trans hn (by decide)), hX_s_kept]
  exact k
end XW
