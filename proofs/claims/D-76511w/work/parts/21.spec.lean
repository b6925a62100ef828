/-! what the law's texts say: a row of codes, read with a stack -/
set_option maxRecDepth 100000
def two (sign a b : Int32) : Int32 :=
  if sign = 11 then (if ¬ a = 0 ∨ ¬ b = 0 then 1 else 0) else
  if sign = 12 then (if ¬ a = 0 ∧ ¬ b = 0 then 1 else 0) else
  if sign = 14 then (if a < b then 1 else 0) else
  if sign = 15 then (if a = b then 1 else 0) else
  if sign = 16 then a + b else if sign = 17 then a - b else a * b
def isOp (c : Int32) : Prop := (∃ j : Nat, j < 6 ∧ c = nI j) ∨ 100000 ≤ c
def isUn (c : Int32) : Prop := c = 13 ∨ c = 19
def isBi (c : Int32) : Prop := c = 11 ∨ c = 12 ∨ c = 14 ∨ c = 15 ∨ c = 16 ∨ c = 17 ∨ c = 18
def rpn1 (nm : Nat → Int32) (c : Int32) (st : List Int32) : List Int32 :=
  if 100000 ≤ c then (c - 100000) :: st else if c < 11 then nm c.toNatClampNeg :: st else
  if c = 13 then (match st with | x :: r => (if x = 0 then 1 else 0) :: r | [] => []) else
  if c = 19 then (match st with | x :: r => (-x) :: r | [] => []) else
  match st with | y :: x :: r => two c x y :: r | s => s
def rpn (nm : Nat → Int32) : List Int32 → List Int32 → List Int32
  | [], st => st
  | c :: cs, st => rpn nm cs (rpn1 nm c st)
def okc : List Int32 → Nat → Nat → Prop
  | [], n, m => n = m
  | c :: cs, n, m => (isOp c ∧ okc cs (n + 1) m) ∨ (isUn c ∧ 1 ≤ n ∧ okc cs n m) ∨ (isBi c ∧ 2 ≤ n ∧ okc cs (n - 1) m)
def sval (nm : Nat → Int32) (cs : List Int32) : Int32 := (rpn nm cs []).headD 0
def StkA (f : Nat → Int32) (st : List Int32) : Prop := ∀ j v, st.reverse[j]? = some v → f j = v
theorem StkA.push {f : Nat → Int32} {st : List Int32} (h : StkA f st) (v : Int32) : StkA (upd f st.length v) (v :: st) := by
  intro j w hj
  rw [List.reverse_cons] at hj
  by_cases hl : j < st.reverse.length
  · rw [List.getElem?_append_left hl] at hj
    rw [upd_ne _ _ (by rw [List.length_reverse] at hl; omega)]
    exact h j w hj
  · rw [List.getElem?_append_right (by omega)] at hj
    have hz : j - st.reverse.length < 1 := (List.getElem?_eq_some_iff.mp hj).1
    rw [List.length_reverse] at hz hl
    have hj0 : j = st.length := by omega
    subst hj0
    rw [List.length_reverse, Nat.sub_self] at hj
    cases hj
    exact upd_same _ _ _
theorem StkA.pop {f : Nat → Int32} {x : Int32} {st : List Int32} (h : StkA f (x :: st)) : StkA f st := by
  intro j w hj
  refine h j w ?_
  rw [List.reverse_cons, List.getElem?_append_left (List.getElem?_eq_some_iff.mp hj).1]
  exact hj
theorem StkA.top {f : Nat → Int32} {x : Int32} {st : List Int32} (h : StkA f (x :: st)) : f st.length = x := by
  refine h _ _ ?_
  rw [List.reverse_cons, List.getElem?_append_right (by simp)]
  simp
/-- the texts' rows in the reference's two arrays, text r -/
def TXr (A : Nat → Nat → Int32) (r : Nat) (ts : Nat → List Int32) : Prop := ∀ part, part < 3 → ∃ o : Nat, A 9 (4 * r + part) = nI o ∧ A 9 (4 * r + part + 1) = nI (o + (ts part).length) ∧ o + (ts part).length ≤ 200 ∧ (∀ i v, (ts part)[i]? = some v → A 8 (200 * r + (o + i)) = v) ∧ okc (ts part) 0 1
theorem op_small {j : Nat} (h : j < 6) : ¬ (100000 : Int32) ≤ nI j ∧ nI j < 11 := by
  match j, h with
  | 0, _ => decide
  | 1, _ => decide
  | 2, _ => decide
  | 3, _ => decide
  | 4, _ => decide
  | 5, _ => decide
theorem op_big {c : Int32} (h : 100000 ≤ c) : ¬ c < 11 := by
  simp only [Int32.le_iff_toInt_le, Int32.lt_iff_toInt_lt] at *
  have e1 : (100000 : Int32).toInt = 100000 := by decide
  have e2 : (11 : Int32).toInt = 11 := by decide
  omega
theorem nrb_in {v lo hi : Int32} : narrow .boolean (.int (inI v lo hi)) = .int (inI v lo hi) := by unfold inI; split <;> rfl
section A
variable {g : GE} {ω : Om} {z : Nat}
theorem c_two {s a b : Int32} : Ct g yX7_two cX7_two 3 (some .int) 1 0 0 [.int s, .int a, .int b] ω z (dQ (some (.int (two s a b))) ω z) := by
  refine Ct.at (own := RX7) (by decide) rfl (Nat.le_of_ble_eq_true rfl) rfl ?_
  refine g_iload_n dX7_two_0 rfl ?_
  refine g_tsw [44, 58, 102, 72, 83, 94, 98] 102 dX7_two_1 (by decide) (by decide) (by decide) (fun j t => ?_) (fun hx => ?_)
  · match j with
    | 0 =>
      intro ht hx; cases ht
      replace hx := hx.trans (show Int32.ofInt ((11) + ((0 : Nat) : Int)) = 11 by decide)
      refine g_iload_n dX7_two_44 rfl ?_
      refine g_if_ne 52 dX7_two_45 (by decide) (fun c2 => ?_) (fun c2 => ?_)
      · refine g_iconst (1) dX7_two_52 rfl ?_
        refine g_goto 57 dX7_two_53 (by decide) ?_
        refine g_iret rfl (Nat.le_refl _) (Nat.le_refl _) ?_ dX7_two_57
        refine dQ.of ?_; first | (subst hx; simp_all [two]; done) | (have e : s = 18 ∨ True := Or.inr trivial; unfold two; rw [if_neg (by rintro rfl; revert hx; decide), if_neg (by rintro rfl; revert hx; decide), if_neg (by rintro rfl; revert hx; decide), if_neg (by rintro rfl; revert hx; decide), if_neg (by rintro rfl; revert hx; decide), if_neg (by rintro rfl; revert hx; decide)])
      · refine g_iload_n dX7_two_48 rfl ?_
        refine g_if_eq 56 dX7_two_49 (by decide) (fun c3 => ?_) (fun c3 => ?_)
        · refine g_iconst (0) dX7_two_56 rfl ?_
          refine g_iret rfl (Nat.le_refl _) (Nat.le_refl _) ?_ dX7_two_57
          refine dQ.of ?_; first | (subst hx; simp_all [two]; done) | (have e : s = 18 ∨ True := Or.inr trivial; unfold two; rw [if_neg (by rintro rfl; revert hx; decide), if_neg (by rintro rfl; revert hx; decide), if_neg (by rintro rfl; revert hx; decide), if_neg (by rintro rfl; revert hx; decide), if_neg (by rintro rfl; revert hx; decide), if_neg (by rintro rfl; revert hx; decide)])
        · refine g_iconst (1) dX7_two_52 rfl ?_
          refine g_goto 57 dX7_two_53 (by decide) ?_
          refine g_iret rfl (Nat.le_refl _) (Nat.le_refl _) ?_ dX7_two_57
          refine dQ.of ?_; first | (subst hx; simp_all [two]; done) | (have e : s = 18 ∨ True := Or.inr trivial; unfold two; rw [if_neg (by rintro rfl; revert hx; decide), if_neg (by rintro rfl; revert hx; decide), if_neg (by rintro rfl; revert hx; decide), if_neg (by rintro rfl; revert hx; decide), if_neg (by rintro rfl; revert hx; decide), if_neg (by rintro rfl; revert hx; decide)])
    | 1 =>
      intro ht hx; cases ht
      replace hx := hx.trans (show Int32.ofInt ((11) + ((1 : Nat) : Int)) = 12 by decide)
      refine g_iload_n dX7_two_58 rfl ?_
      refine g_if_eq 70 dX7_two_59 (by decide) (fun c2 => ?_) (fun c2 => ?_)
      · refine g_iconst (0) dX7_two_70 rfl ?_
        refine g_iret rfl (Nat.le_refl _) (Nat.le_refl _) ?_ dX7_two_71
        refine dQ.of ?_; first | (subst hx; simp_all [two]; done) | (have e : s = 18 ∨ True := Or.inr trivial; unfold two; rw [if_neg (by rintro rfl; revert hx; decide), if_neg (by rintro rfl; revert hx; decide), if_neg (by rintro rfl; revert hx; decide), if_neg (by rintro rfl; revert hx; decide), if_neg (by rintro rfl; revert hx; decide), if_neg (by rintro rfl; revert hx; decide)])
      · refine g_iload_n dX7_two_62 rfl ?_
        refine g_if_eq 70 dX7_two_63 (by decide) (fun c3 => ?_) (fun c3 => ?_)
        · refine g_iconst (0) dX7_two_70 rfl ?_
          refine g_iret rfl (Nat.le_refl _) (Nat.le_refl _) ?_ dX7_two_71
          refine dQ.of ?_; first | (subst hx; simp_all [two]; done) | (have e : s = 18 ∨ True := Or.inr trivial; unfold two; rw [if_neg (by rintro rfl; revert hx; decide), if_neg (by rintro rfl; revert hx; decide), if_neg (by rintro rfl; revert hx; decide), if_neg (by rintro rfl; revert hx; decide), if_neg (by rintro rfl; revert hx; decide), if_neg (by rintro rfl; revert hx; decide)])
        · refine g_iconst (1) dX7_two_66 rfl ?_
          refine g_goto 71 dX7_two_67 (by decide) ?_
          refine g_iret rfl (Nat.le_refl _) (Nat.le_refl _) ?_ dX7_two_71
          refine dQ.of ?_; first | (subst hx; simp_all [two]; done) | (have e : s = 18 ∨ True := Or.inr trivial; unfold two; rw [if_neg (by rintro rfl; revert hx; decide), if_neg (by rintro rfl; revert hx; decide), if_neg (by rintro rfl; revert hx; decide), if_neg (by rintro rfl; revert hx; decide), if_neg (by rintro rfl; revert hx; decide), if_neg (by rintro rfl; revert hx; decide)])
    | 2 =>
      intro ht hx; cases ht
      replace hx := hx.trans (show Int32.ofInt ((11) + ((2 : Nat) : Int)) = 13 by decide)
      refine g_iload_n dX7_two_102 rfl ?_
      refine g_iload_n dX7_two_103 rfl ?_
      refine g_imul dX7_two_104 ?_
      refine g_iret rfl (Nat.le_refl _) (Nat.le_refl _) ?_ dX7_two_105
      refine dQ.of ?_; first | (subst hx; simp_all [two]; done) | (have e : s = 18 ∨ True := Or.inr trivial; unfold two; rw [if_neg (by rintro rfl; revert hx; decide), if_neg (by rintro rfl; revert hx; decide), if_neg (by rintro rfl; revert hx; decide), if_neg (by rintro rfl; revert hx; decide), if_neg (by rintro rfl; revert hx; decide), if_neg (by rintro rfl; revert hx; decide)])
    | 3 =>
      intro ht hx; cases ht
      replace hx := hx.trans (show Int32.ofInt ((11) + ((3 : Nat) : Int)) = 14 by decide)
      refine g_iload_n dX7_two_72 rfl ?_
      refine g_iload_n dX7_two_73 rfl ?_
      refine g_icmp_ge 81 dX7_two_74 (by decide) (fun c2 => ?_) (fun c2 => ?_)
      · refine g_iconst (0) dX7_two_81 rfl ?_
        refine g_iret rfl (Nat.le_refl _) (Nat.le_refl _) ?_ dX7_two_82
        refine dQ.of ?_; first | (subst hx; simp_all [two]; done) | (have e : s = 18 ∨ True := Or.inr trivial; unfold two; rw [if_neg (by rintro rfl; revert hx; decide), if_neg (by rintro rfl; revert hx; decide), if_neg (by rintro rfl; revert hx; decide), if_neg (by rintro rfl; revert hx; decide), if_neg (by rintro rfl; revert hx; decide), if_neg (by rintro rfl; revert hx; decide)])
      · refine g_iconst (1) dX7_two_77 rfl ?_
        refine g_goto 82 dX7_two_78 (by decide) ?_
        refine g_iret rfl (Nat.le_refl _) (Nat.le_refl _) ?_ dX7_two_82
        refine dQ.of ?_; first | (subst hx; simp_all [two]; done) | (have e : s = 18 ∨ True := Or.inr trivial; unfold two; rw [if_neg (by rintro rfl; revert hx; decide), if_neg (by rintro rfl; revert hx; decide), if_neg (by rintro rfl; revert hx; decide), if_neg (by rintro rfl; revert hx; decide), if_neg (by rintro rfl; revert hx; decide), if_neg (by rintro rfl; revert hx; decide)])
    | 4 =>
      intro ht hx; cases ht
      replace hx := hx.trans (show Int32.ofInt ((11) + ((4 : Nat) : Int)) = 15 by decide)
      refine g_iload_n dX7_two_83 rfl ?_
      refine g_iload_n dX7_two_84 rfl ?_
      refine g_icmp_ne 92 dX7_two_85 (by decide) (fun c2 => ?_) (fun c2 => ?_)
      · refine g_iconst (0) dX7_two_92 rfl ?_
        refine g_iret rfl (Nat.le_refl _) (Nat.le_refl _) ?_ dX7_two_93
        refine dQ.of ?_; first | (subst hx; simp_all [two]; done) | (have e : s = 18 ∨ True := Or.inr trivial; unfold two; rw [if_neg (by rintro rfl; revert hx; decide), if_neg (by rintro rfl; revert hx; decide), if_neg (by rintro rfl; revert hx; decide), if_neg (by rintro rfl; revert hx; decide), if_neg (by rintro rfl; revert hx; decide), if_neg (by rintro rfl; revert hx; decide)])
      · refine g_iconst (1) dX7_two_88 rfl ?_
        refine g_goto 93 dX7_two_89 (by decide) ?_
        refine g_iret rfl (Nat.le_refl _) (Nat.le_refl _) ?_ dX7_two_93
        refine dQ.of ?_; first | (subst hx; simp_all [two]; done) | (have e : s = 18 ∨ True := Or.inr trivial; unfold two; rw [if_neg (by rintro rfl; revert hx; decide), if_neg (by rintro rfl; revert hx; decide), if_neg (by rintro rfl; revert hx; decide), if_neg (by rintro rfl; revert hx; decide), if_neg (by rintro rfl; revert hx; decide), if_neg (by rintro rfl; revert hx; decide)])
    | 5 =>
      intro ht hx; cases ht
      replace hx := hx.trans (show Int32.ofInt ((11) + ((5 : Nat) : Int)) = 16 by decide)
      refine g_iload_n dX7_two_94 rfl ?_
      refine g_iload_n dX7_two_95 rfl ?_
      refine g_iadd dX7_two_96 ?_
      refine g_iret rfl (Nat.le_refl _) (Nat.le_refl _) ?_ dX7_two_97
      refine dQ.of ?_; first | (subst hx; simp_all [two]; done) | (have e : s = 18 ∨ True := Or.inr trivial; unfold two; rw [if_neg (by rintro rfl; revert hx; decide), if_neg (by rintro rfl; revert hx; decide), if_neg (by rintro rfl; revert hx; decide), if_neg (by rintro rfl; revert hx; decide), if_neg (by rintro rfl; revert hx; decide), if_neg (by rintro rfl; revert hx; decide)])
    | 6 =>
      intro ht hx; cases ht
      replace hx := hx.trans (show Int32.ofInt ((11) + ((6 : Nat) : Int)) = 17 by decide)
      refine g_iload_n dX7_two_98 rfl ?_
      refine g_iload_n dX7_two_99 rfl ?_
      refine g_isub dX7_two_100 ?_
      refine g_iret rfl (Nat.le_refl _) (Nat.le_refl _) ?_ dX7_two_101
      refine dQ.of ?_; first | (subst hx; simp_all [two]; done) | (have e : s = 18 ∨ True := Or.inr trivial; unfold two; rw [if_neg (by rintro rfl; revert hx; decide), if_neg (by rintro rfl; revert hx; decide), if_neg (by rintro rfl; revert hx; decide), if_neg (by rintro rfl; revert hx; decide), if_neg (by rintro rfl; revert hx; decide), if_neg (by rintro rfl; revert hx; decide)])
    | j + 7 => intro ht hx; simp at ht
  · refine g_iload_n dX7_two_102 rfl ?_
    refine g_iload_n dX7_two_103 rfl ?_
    refine g_imul dX7_two_104 ?_
    refine g_iret rfl (Nat.le_refl _) (Nat.le_refl _) ?_ dX7_two_105
    refine dQ.of ?_; first | (subst hx; simp_all [two]; done) | (have e : s = 18 ∨ True := Or.inr trivial; unfold two; rw [if_neg (by rintro rfl; revert hx; decide), if_neg (by rintro rfl; revert hx; decide), if_neg (by rintro rfl; revert hx; decide), if_neg (by rintro rfl; revert hx; decide), if_neg (by rintro rfl; revert hx; decide), if_neg (by rintro rfl; revert hx; decide)])
theorem c_isThing {t : Int32} : Ct g yX7_isThing cX7_isThing 1 (some .boolean) 2 0 0 [.int t] ω z (dQ (some (.int (inI t 0 15))) ω z) := by
  refine Ct.at (own := RX7) (by decide) rfl (Nat.le_of_ble_eq_true rfl) rfl ?_
  refine g_iload_n dX7_isThing_0 rfl ?_
  refine g_iconst (0) dX7_isThing_1 rfl ?_
  refine g_bipush (15) dX7_isThing_2 rfl ?_
  refine gs_calli (n := 3) (c_in ) (lw_S q1405 q1406 q92 q1407) (by decide +kernel) rfl rfl (by decide) ⟨Nat.le_refl _, Nat.le_refl _⟩ (Nat.le_of_ble_eq_true rfl) dX7_isThing_4 ?_
  refine g_zret rfl (by first | rfl | exact nrb_in) (Nat.le_refl _) (Nat.le_refl _) ?_ dX7_isThing_7
  exact dQ.mk
theorem c_isByte {t : Int32} : Ct g yX7_isByte cX7_isByte 1 (some .boolean) 2 0 0 [.int t] ω z (dQ (some (.int (inI t 0 255))) ω z) := by
  refine Ct.at (own := RX7) (by decide) rfl (Nat.le_of_ble_eq_true rfl) rfl ?_
  refine g_iload_n dX7_isByte_0 rfl ?_
  refine g_iconst (0) dX7_isByte_1 rfl ?_
  refine g_sipush (255) dX7_isByte_2 rfl ?_
  refine gs_calli (n := 3) (c_in ) (lw_S q1405 q1406 q92 q1407) (by decide +kernel) rfl rfl (by decide) ⟨Nat.le_refl _, Nat.le_refl _⟩ (Nat.le_of_ble_eq_true rfl) dX7_isByte_5 ?_
  refine g_zret rfl (by first | rfl | exact nrb_in) (Nat.le_refl _) (Nat.le_refl _) ?_ dX7_isByte_8
  exact dQ.mk
end A
