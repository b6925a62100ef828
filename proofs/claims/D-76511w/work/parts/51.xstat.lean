/-! the component's methods that read no field -/
set_option maxRecDepth 100000
def inJ (v lo hi : Int64) : Int32 := if lo ≤ v ∧ v ≤ hi then 1 else 0
theorem wthn_mx {v lo hi : Int32} (h : lo ≤ hi) : mxI lo (mnI hi v) = wthn v lo hi := by
  unfold mxI mnI wthn
  simp only [Int32.le_iff_toInt_le, Int32.lt_iff_toInt_lt] at *
  repeat' split
  all_goals first | rfl | (exfalso; omega) | (apply Int32.toInt_inj.mp; omega)
theorem inJ_inI {v lo hi : Int32} : inJ v.toInt64 lo.toInt64 hi.toInt64 = inI v lo hi := by
  unfold inJ inI
  simp only [Int32.le_iff_toInt_le, Int64.le_iff_toInt_le, Int32.toInt_toInt64]
theorem nrb_inJ {v lo hi : Int64} : narrow .boolean (.int (inJ v lo hi)) = .int (inJ v lo hi) := by
  unfold inJ; split <;> rfl
theorem inJ_c {v lo hi : Int32} {l h : Int64} (e1 : lo.toInt64 = l) (e2 : hi.toInt64 = h) : inJ v.toInt64 l h = inI v lo hi := by
  subst e1; subst e2; exact inJ_inI
theorem lg_lt {x y : Int64} : lg_cmp x y < 0 ↔ x < y := by
  unfold lg_cmp
  simp only [Int64.lt_iff_toInt_lt, gt_iff_lt, ← Int64.toInt_inj]
  repeat' split
  all_goals first | (constructor <;> intro h <;> first | omega | (exfalso; revert h; decide)) | skip
  · constructor
    · intro _; omega
    · intro _; decide
theorem lg_gt {x y : Int64} : 0 < lg_cmp x y ↔ y < x := by
  unfold lg_cmp
  simp only [Int64.lt_iff_toInt_lt, gt_iff_lt, ← Int64.toInt_inj]
  repeat' split
  all_goals first | (constructor <;> intro h <;> first | omega | (exfalso; revert h; decide)) | skip
  · constructor
    · intro _; omega
    · intro _; decide
theorem sub_dn {k n : Int32} : k - n + Int32.ofInt (-1) = k - (n + 1) := by
  rw [show (Int32.ofInt (-1)) = -1 by decide, Int32.sub_eq_add_neg, Int32.sub_eq_add_neg, Int32.neg_add, Int32.add_assoc, Int32.sub_eq_add_neg]
theorem sub_z {k n : Int32} (h : k - n = 0) : n = k := by
  have := Int32.sub_add_cancel k n
  rw [h, Int32.zero_add] at this
  exact this
theorem and1 (y : Int32) : y &&& 1 = 0 ∨ y &&& 1 = 1 := by
  have h : (y &&& 1).toBitVec = BitVec.setWidth 32 (BitVec.ofBool (y.toBitVec.getLsbD 0)) := by
    rw [Int32.toBitVec_and]; exact BitVec.and_one_eq_setWidth_ofBool_getLsbD
  cases hb : y.toBitVec.getLsbD 0 <;> rw [hb] at h
  · exact .inl (Int32.toBitVec_inj.mp (h.trans (by decide)))
  · exact .inr (Int32.toBitVec_inj.mp (h.trans (by decide)))
theorem and1_n {y : Int32} (h : ¬ y &&& 1 = 0) : y &&& 1 = 1 := (and1 y).resolve_left h
section A
variable {g : GE} {ω : Om} {z : Nat}
theorem x_in {v lo hi : Int64} : Ct g yX0_in cX0_in 6 (some .boolean) 1 0 0 [.long v, .long lo, .long hi] ω z (dQ (some (.int (inJ v lo hi))) ω z) := by
  refine Ct.at (own := RX0) (by decide) rfl (Nat.le_of_ble_eq_true rfl) rfl ?_
  refine g_lload_n dX0_in_0 rfl ?_
  refine g_lload_n dX0_in_1 rfl ?_
  refine g_lcmp dX0_in_2 ?_
  refine g_if_lt 17 dX0_in_3 (by decide) (fun c1 => ?_) (fun c1 => ?_)
  · refine g_iconst (0) dX0_in_17 rfl ?_
    refine g_zret rfl (by first | rfl | exact nrb_in) (Nat.le_refl _) (Nat.le_refl _) ?_ dX0_in_18
    refine dQ.of ?_; unfold inJ; simp only [lg_lt, lg_gt, Int64.le_iff_toInt_le, Int64.lt_iff_toInt_lt] at *; split <;> first | rfl | (exfalso; omega)
  · refine g_lload_n dX0_in_6 rfl ?_
    refine g_lload dX0_in_7 rfl ?_
    refine g_lcmp dX0_in_9 ?_
    refine g_if_gt 17 dX0_in_10 (by decide) (fun c2 => ?_) (fun c2 => ?_)
    · refine g_iconst (0) dX0_in_17 rfl ?_
      refine g_zret rfl (by first | rfl | exact nrb_in) (Nat.le_refl _) (Nat.le_refl _) ?_ dX0_in_18
      refine dQ.of ?_; unfold inJ; simp only [lg_lt, lg_gt, Int64.le_iff_toInt_le, Int64.lt_iff_toInt_lt] at *; split <;> first | rfl | (exfalso; omega)
    · refine g_iconst (1) dX0_in_13 rfl ?_
      refine g_goto 18 dX0_in_14 (by decide) ?_
      refine g_zret rfl (by first | rfl | exact nrb_in) (Nat.le_refl _) (Nat.le_refl _) ?_ dX0_in_18
      refine dQ.of ?_; unfold inJ; simp only [lg_lt, lg_gt, Int64.le_iff_toInt_le, Int64.lt_iff_toInt_lt] at *; split <;> first | rfl | (exfalso; omega)
theorem x_within {v lo hi : Int32} : Ct g yX0_within cX0_within 3 (some .int) 2 0 0 [.int v, .int lo, .int hi] ω z (dQ (some (.int (mxI lo (mnI hi v)))) ω z) := by
  refine Ct.at (own := RX0) (by decide) rfl (Nat.le_of_ble_eq_true rfl) rfl ?_
  refine g_iload_n dX0_within_0 rfl ?_
  refine g_iload_n dX0_within_1 rfl ?_
  refine g_iload_n dX0_within_2 rfl ?_
  refine gs_calli (n := 2) (j_min ) (lw_S q815 q356 q81 q357) (by decide +kernel) rfl rfl (by decide) ⟨Nat.le_refl _, Nat.le_refl _⟩ (Nat.le_of_ble_eq_true rfl) dX0_within_3 ?_
  refine gs_calli (n := 2) (j_max ) (lw_S q816 q338 q81 q339) (by decide +kernel) rfl rfl (by decide) ⟨Nat.le_refl _, Nat.le_refl _⟩ (Nat.le_of_ble_eq_true rfl) dX0_within_6 ?_
  refine g_iret rfl (Nat.le_refl _) (Nat.le_refl _) ?_ dX0_within_9
  exact dQ.mk
theorem x_isThing {t : Int32} : Ct g yX0_isThing cX0_isThing 1 (some .boolean) 2 0 0 [.int t] ω z (dQ (some (.int (inI t 0 15))) ω z) := by
  refine Ct.at (own := RX0) (by decide) rfl (Nat.le_of_ble_eq_true rfl) rfl ?_
  refine g_iload_n dX0_isThing_0 rfl ?_
  refine g_i2l dX0_isThing_1 ?_
  refine g_lconst 0 dX0_isThing_2 rfl ?_
  refine g_ldc2 q768 dX0_isThing_3 ?_
  refine gs_calli (n := 3) (x_in ) (lw_S q753 q280 q68 q281) (by decide +kernel) rfl rfl (by decide) ⟨Nat.le_refl _, Nat.le_refl _⟩ (Nat.le_of_ble_eq_true rfl) dX0_isThing_6 ?_
  refine g_zret rfl nrb_inJ (Nat.le_refl _) (Nat.le_refl _) ?_ dX0_isThing_9
  exact dQ.of (by rw [inJ_c (lo := 0) (hi := 15) (by decide) (by decide)])
theorem xl_nth {x k : Int32} : ∀ (f t : Nat) (n r : Int32), t ≤ 16 → 16 - t = f → nthL x k f t n = r → GN g RX0 cX0_nth 4 (some .int) 1 (dQ (some (.int r)) ω z) ω z 4 [(3, .int (nI t)), (2, .int (k - n)), (0, .int x), (1, .int k)] [] := by
  intro f
  induction f with
  | zero =>
    intro t n r h1 h2 hr
    have ht : t = 16 := by omega
    subst ht
    subst hr
    refine g_iload_n dX0_nth_4 rfl ?_
    refine g_bipush (16) dX0_nth_5 rfl ?_
    refine g_icmp_ge 36 dX0_nth_7 (by decide) (fun c1 => ?_) (fun c1 => ?_)
    · refine g_iconst (-1) dX0_nth_36 rfl ?_
      refine g_iret rfl (Nat.le_refl _) (Nat.le_refl _) ?_ dX0_nth_37
      exact dQ.mk
    · exact absurd (by decide) c1
  | succ f ih =>
    intro t n r h1 h2 hr
    refine g_iload_n dX0_nth_4 rfl ?_
    refine g_bipush (16) dX0_nth_5 rfl ?_
    refine g_icmp_ge 36 dX0_nth_7 (by decide) (fun c1 => ?_) (fun c1 => ?_)
    · exact absurd c1 (nI_ge (b := 16) (by omega) (by decide))
    · unfold nthL sb at hr
      refine g_iload_n dX0_nth_10 rfl ?_
      refine g_iload_n dX0_nth_11 rfl ?_
      refine g_ishr dX0_nth_12 ?_
      refine g_iconst (1) dX0_nth_13 rfl ?_
      refine g_iand dX0_nth_14 ?_
      refine g_if_ne 21 dX0_nth_15 (by decide) (fun c2 => ?_) (fun c2 => ?_)
      · rw [if_pos (and1_n c2)] at hr
        refine g_iload_n dX0_nth_21 rfl ?_
        refine g_if_ne 27 dX0_nth_22 (by decide) (fun c3 => ?_) (fun c3 => ?_)
        · rw [if_neg (fun h => c3 (by rw [h, Int32.sub_self]))] at hr
          refine g_iinc _ (L' := [(2, _), (3, _), (0, _), (1, _)]) dX0_nth_27 rfl rfl (by decide) rfl ?_
          refine g_iinc (nI (t + 1)) (L' := [(3, _), (2, _), (0, _), (1, _)]) dX0_nth_30 rfl (nI_1 _) (by decide) rfl ?_
          refine g_goto 4 dX0_nth_33 (by decide) ?_
          refine g_pick [0, 1, 2, 3] rfl ?_
          rw [sub_dn]
          exact ih (t + 1) (n + 1) r (by omega) (by omega) hr
        · rw [if_pos (sub_z c3)] at hr
          refine g_iload_n dX0_nth_25 rfl ?_
          refine g_iret rfl (Nat.le_refl _) (Nat.le_refl _) ?_ dX0_nth_26
          exact dQ.of (by rw [hr])
      · rw [if_neg (by rw [c2]; decide)] at hr
        refine g_goto 30 dX0_nth_18 (by decide) ?_
        refine g_iinc (nI (t + 1)) (L' := [(3, _), (2, _), (0, _), (1, _)]) dX0_nth_30 rfl (nI_1 _) (by decide) rfl ?_
        refine g_goto 4 dX0_nth_33 (by decide) ?_
        exact ih (t + 1) n r (by omega) (by omega) hr
theorem x_nth {x k : Int32} : Ct g yX0_nth cX0_nth 4 (some .int) 1 0 0 [.int x, .int k] ω z (dQ (some (.int (nth x k))) ω z) := by
  refine Ct.at (own := RX0) (by decide) rfl (Nat.le_of_ble_eq_true rfl) rfl ?_
  refine g_iload_n dX0_nth_0 rfl ?_
  refine g_istore_n (L' := [(2, _), (0, _), (1, _)]) dX0_nth_1 (by decide) rfl ?_
  refine g_iconst (0) dX0_nth_2 rfl ?_
  refine g_istore_n (L' := [(3, _), (2, _), (0, _), (1, _)]) dX0_nth_3 (by decide) rfl ?_
  have := xl_nth (g := g) (ω := ω) (z := z) (x := x) (k := k) 16 0 0 _ (by omega) rfl rfl
  rw [Int32.sub_zero] at this
  exact this
end A
