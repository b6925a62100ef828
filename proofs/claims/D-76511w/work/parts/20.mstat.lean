/-! the reference's static methods -/
set_option maxRecDepth 100000
def inI (v lo hi : Int32) : Int32 := if lo ≤ v ∧ v ≤ hi then 1 else 0
def wthn (v lo hi : Int32) : Int32 := if v < lo then lo else if hi < v then hi else v
def sb (x : Int32) (t : Nat) : Int32 := (x >>> (nI t &&& 31)) &&& 1
def bcnt (x : Int32) : Nat → Int32
  | 0 => 0
  | t + 1 => bcnt x t + sb x t
def bits (x : Int32) : Int32 := bcnt x 16
def nthL (x nth : Int32) : Nat → Nat → Int32 → Int32
  | 0, _, _ => -1
  | f + 1, t, n => if sb x t = 1 then (if n = nth then nI t else nthL x nth f (t + 1) (n + 1)) else nthL x nth f (t + 1) n
def nth (x n : Int32) : Int32 := nthL x n 16 0 0
section A
variable {g : GE} {ω : Om} {z : Nat}
theorem c_in {v lo hi : Int32} : Ct g yX7_in cX7_in 3 (some .boolean) 1 0 0 [.int v, .int lo, .int hi] ω z (dQ (some (.int (inI v lo hi))) ω z) := by
  refine Ct.at (own := RX7) (by decide) rfl (Nat.le_of_ble_eq_true rfl) rfl ?_
  refine g_iload_n dX7_in_0 rfl ?_
  refine g_iload_n dX7_in_1 rfl ?_
  refine g_icmp_lt 14 dX7_in_2 (by decide) (fun c1 => ?_) (fun c1 => ?_)
  · refine g_iconst (0) dX7_in_14 rfl ?_
    refine g_zret rfl (by first | rfl | exact nrb_in) (Nat.le_refl _) (Nat.le_refl _) ?_ dX7_in_15
    refine dQ.of ?_; unfold inI; simp only [Int32.le_iff_toInt_le, Int32.lt_iff_toInt_lt] at *; split <;> first | rfl | (exfalso; omega)
  · refine g_iload_n dX7_in_5 rfl ?_
    refine g_iload_n dX7_in_6 rfl ?_
    refine g_icmp_gt 14 dX7_in_7 (by decide) (fun c2 => ?_) (fun c2 => ?_)
    · refine g_iconst (0) dX7_in_14 rfl ?_
      refine g_zret rfl (by first | rfl | exact nrb_in) (Nat.le_refl _) (Nat.le_refl _) ?_ dX7_in_15
      refine dQ.of ?_; unfold inI; simp only [Int32.le_iff_toInt_le, Int32.lt_iff_toInt_lt] at *; split <;> first | rfl | (exfalso; omega)
    · refine g_iconst (1) dX7_in_10 rfl ?_
      refine g_goto 15 dX7_in_11 (by decide) ?_
      refine g_zret rfl (by first | rfl | exact nrb_in) (Nat.le_refl _) (Nat.le_refl _) ?_ dX7_in_15
      refine dQ.of ?_; unfold inI; simp only [Int32.le_iff_toInt_le, Int32.lt_iff_toInt_lt] at *; split <;> first | rfl | (exfalso; omega)
theorem c_within {v lo hi : Int32} : Ct g yX7_within cX7_within 3 (some .int) 1 0 0 [.int v, .int lo, .int hi] ω z (dQ (some (.int (wthn v lo hi))) ω z) := by
  refine Ct.at (own := RX7) (by decide) rfl (Nat.le_of_ble_eq_true rfl) rfl ?_
  refine g_iload_n dX7_within_0 rfl ?_
  refine g_iload_n dX7_within_1 rfl ?_
  refine g_icmp_ge 9 dX7_within_2 (by decide) (fun c1 => ?_) (fun c1 => ?_)
  · refine g_iload_n dX7_within_9 rfl ?_
    refine g_iload_n dX7_within_10 rfl ?_
    refine g_icmp_le 18 dX7_within_11 (by decide) (fun c2 => ?_) (fun c2 => ?_)
    · refine g_iload_n dX7_within_18 rfl ?_
      refine g_iret rfl (Nat.le_refl _) (Nat.le_refl _) ?_ dX7_within_19
      refine dQ.of ?_; unfold wthn; simp only [Int32.le_iff_toInt_le, Int32.lt_iff_toInt_lt] at *; split <;> first | rfl | (exfalso; omega) | (split <;> first | rfl | (exfalso; omega))
    · refine g_iload_n dX7_within_14 rfl ?_
      refine g_goto 19 dX7_within_15 (by decide) ?_
      refine g_iret rfl (Nat.le_refl _) (Nat.le_refl _) ?_ dX7_within_19
      refine dQ.of ?_; unfold wthn; simp only [Int32.le_iff_toInt_le, Int32.lt_iff_toInt_lt] at *; split <;> first | rfl | (exfalso; omega) | (split <;> first | rfl | (exfalso; omega))
  · refine g_iload_n dX7_within_5 rfl ?_
    refine g_goto 19 dX7_within_6 (by decide) ?_
    refine g_iret rfl (Nat.le_refl _) (Nat.le_refl _) ?_ dX7_within_19
    refine dQ.of ?_; unfold wthn; simp only [Int32.le_iff_toInt_le, Int32.lt_iff_toInt_lt] at *; split <;> first | rfl | (exfalso; omega) | (split <;> first | rfl | (exfalso; omega))
theorem l_bitsOf {x : Int32} : ∀ (n t : Nat), t ≤ 16 → 16 - t = n → GN g RX7 cX7_bitsOf 3 (some .int) 1 (dQ (some (.int (bits x))) ω z) ω z 4 [(2, .int (nI t)), (1, .int (bcnt x t)), (0, .int x)] [] := by
  intro n
  induction n using Nat.strongRecOn with
  | _ n ih =>
  intro t h1 h2
  refine g_iload_n dX7_bitsOf_4 rfl ?_
  refine g_bipush (16) dX7_bitsOf_5 rfl ?_
  refine g_icmp_ge 24 dX7_bitsOf_7 (by decide) (fun c1 => ?_) (fun c1 => ?_)
  · have ht : t = 16 := by have := (nI_leI (a := 16) (b := t) (by decide) (by omega)).mp c1; omega
    subst ht
    refine g_iload_n dX7_bitsOf_24 rfl ?_
    refine g_iret rfl (Nat.le_refl _) (Nat.le_refl _) ?_ dX7_bitsOf_25
    exact dQ.mk
  · have ht : t < 16 := Nat.lt_of_not_le fun h => c1 (nI_le (a := 16) h (by omega))
    refine g_iload_n dX7_bitsOf_10 rfl ?_
    refine g_iload_n dX7_bitsOf_11 rfl ?_
    refine g_iload_n dX7_bitsOf_12 rfl ?_
    refine g_ishr dX7_bitsOf_13 ?_
    refine g_iconst (1) dX7_bitsOf_14 rfl ?_
    refine g_iand dX7_bitsOf_15 ?_
    refine g_iadd dX7_bitsOf_16 ?_
    refine g_istore_n (L' := [(1, _), (2, _), (0, _)]) dX7_bitsOf_17 (by decide) rfl ?_
    refine g_iinc (nI (t + 1)) (L' := [(2, _), (1, _), (0, _)]) dX7_bitsOf_18 rfl (nI_1 _) (by decide) rfl ?_
    refine g_goto 4 dX7_bitsOf_21 (by decide) ?_
    exact ih _ (by omega) (t + 1) (by omega) rfl
theorem c_bitsOf {x : Int32} : Ct g yX7_bitsOf cX7_bitsOf 3 (some .int) 1 0 0 [.int x] ω z (dQ (some (.int (bits x))) ω z) := by
  refine Ct.at (own := RX7) (by decide) rfl (Nat.le_of_ble_eq_true rfl) rfl ?_
  refine g_iconst (0) dX7_bitsOf_0 rfl ?_
  refine g_istore_n (L' := [(1, _), (0, _)]) dX7_bitsOf_1 (by decide) rfl ?_
  refine g_iconst (0) dX7_bitsOf_2 rfl ?_
  refine g_istore_n (L' := [(2, _), (1, _), (0, _)]) dX7_bitsOf_3 (by decide) rfl ?_
  exact l_bitsOf _ 0 (by omega) rfl
theorem l_nthOf {x k : Int32} : ∀ (f t : Nat) (n r : Int32), t ≤ 16 → 16 - t = f → nthL x k f t n = r → GN g RX7 cX7_nthOf 4 (some .int) 1 (dQ (some (.int r)) ω z) ω z 4 [(3, .int (nI t)), (2, .int n), (0, .int x), (1, .int k)] [] := by
  intro f
  induction f with
  | zero =>
    intro t n r h1 h2 hr
    have ht : t = 16 := by omega
    subst ht
    subst hr
    refine g_iload_n dX7_nthOf_4 rfl ?_
    refine g_bipush (16) dX7_nthOf_5 rfl ?_
    refine g_icmp_ge 35 dX7_nthOf_7 (by decide) (fun c1 => ?_) (fun c1 => ?_)
    · refine g_iconst (-1) dX7_nthOf_35 rfl ?_
      refine g_iret rfl (Nat.le_refl _) (Nat.le_refl _) ?_ dX7_nthOf_36
      exact dQ.mk
    · exact absurd (by decide) c1
  | succ f ih =>
    intro t n r h1 h2 hr
    refine g_iload_n dX7_nthOf_4 rfl ?_
    refine g_bipush (16) dX7_nthOf_5 rfl ?_
    refine g_icmp_ge 35 dX7_nthOf_7 (by decide) (fun c1 => ?_) (fun c1 => ?_)
    · exact absurd c1 (nI_ge (b := 16) (by omega) (by decide))
    · unfold nthL sb at hr
      refine g_iload_n dX7_nthOf_10 rfl ?_
      refine g_iload_n dX7_nthOf_11 rfl ?_
      refine g_ishr dX7_nthOf_12 ?_
      refine g_iconst (1) dX7_nthOf_13 rfl ?_
      refine g_iand dX7_nthOf_14 ?_
      refine g_iconst (1) dX7_nthOf_15 rfl ?_
      refine g_icmp_ne 29 dX7_nthOf_16 (by decide) (fun c2 => ?_) (fun c2 => ?_)
      · rw [if_neg c2] at hr
        refine g_iinc (nI (t + 1)) (L' := [(3, _), (2, _), (0, _), (1, _)]) dX7_nthOf_29 rfl (nI_1 _) (by decide) rfl ?_
        refine g_goto 4 dX7_nthOf_32 (by decide) ?_
        exact ih (t + 1) n r (by omega) (by omega) hr
      · rw [if_pos c2] at hr
        refine g_iload_n dX7_nthOf_19 rfl ?_
        refine g_iload_n dX7_nthOf_20 rfl ?_
        refine g_icmp_ne 26 dX7_nthOf_21 (by decide) (fun c3 => ?_) (fun c3 => ?_)
        · rw [if_neg c3] at hr
          refine g_iinc _ (L' := [(2, _), (3, _), (0, _), (1, _)]) dX7_nthOf_26 rfl rfl (by decide) rfl ?_
          refine g_iinc (nI (t + 1)) (L' := [(3, _), (2, _), (0, _), (1, _)]) dX7_nthOf_29 rfl (nI_1 _) (by decide) rfl ?_
          refine g_goto 4 dX7_nthOf_32 (by decide) ?_
          refine g_pick [0, 1, 2, 3] rfl ?_
          exact ih (t + 1) (n + 1) r (by omega) (by omega) hr
        · rw [if_pos c3] at hr
          subst hr
          refine g_iload_n dX7_nthOf_24 rfl ?_
          refine g_iret rfl (Nat.le_refl _) (Nat.le_refl _) ?_ dX7_nthOf_25
          exact dQ.mk
theorem c_nthOf {x k : Int32} : Ct g yX7_nthOf cX7_nthOf 4 (some .int) 1 0 0 [.int x, .int k] ω z (dQ (some (.int (nth x k))) ω z) := by
  refine Ct.at (own := RX7) (by decide) rfl (Nat.le_of_ble_eq_true rfl) rfl ?_
  refine g_iconst (0) dX7_nthOf_0 rfl ?_
  refine g_istore_n (L' := [(2, _), (0, _), (1, _)]) dX7_nthOf_1 (by decide) rfl ?_
  refine g_iconst (0) dX7_nthOf_2 rfl ?_
  refine g_istore_n (L' := [(3, _), (2, _), (0, _), (1, _)]) dX7_nthOf_3 (by decide) rfl ?_
  exact l_nthOf 16 0 0 _ (by omega) rfl rfl
end A
