/-! the component's questions after its fishers' number -/
set_option maxRecDepth 100000
theorem one_l {n : Nat} (h : n ≤ 6) : (nI n).toInt64 - 1 = (nI n - 1).toInt64 := by
  match n, h with
  | 0, _ => decide
  | 1, _ => decide
  | 2, _ => decide
  | 3, _ => decide
  | 4, _ => decide
  | 5, _ => decide
  | 6, _ => decide
section A
variable {g : GE} {b z n : Nat} {F : Nat → Int32} {A : Nat → Nat → Int32} {c : Cr} {ea : Nat} {tx : Nat → Option Nat} {nm : Nat → Int32} {ω0 : Om}
theorem x_isOne {p : Int32} (hn : F 31 = nI n) (hn6 : n ≤ 6) : Ct g yX0_isOne cX0_isOne 2 (some .boolean) 2 0 0 [.ref b, .int p] (hX g b F A c ea tx nm ω0) z (dQ (some (.int (inI p 0 (F 31 - 1)))) (hX g b F A c ea tx nm ω0) z) := by
  refine Ct.at (own := RX0) (by decide) rfl (Nat.le_of_ble_eq_true rfl) rfl ?_
  refine g_iload_n dX0_isOne_0 rfl ?_
  refine g_i2l dX0_isOne_1 ?_
  refine g_lconst 0 dX0_isOne_2 rfl ?_
  refine g_aload_n dX0_isOne_3 rfl ?_
  refine xg_fishers dX0_isOne_4 ?_
  refine gd_callr (n := 0) (j_size hX_2) (lw_V q739 q740 q741 q71 q742) (by decide +kernel) (ci := 16) rfl hX_2 rfl rfl (by decide) ⟨Nat.le_refl _, Nat.le_refl _⟩ (Nat.le_of_ble_eq_true rfl) dX0_isOne_7 ?_
  refine g_i2l dX0_isOne_10 ?_
  refine g_lconst 1 dX0_isOne_11 rfl ?_
  refine g_lsub dX0_isOne_12 ?_
  refine gs_calli (n := 3) (x_in ) (lw_S q753 q280 q68 q281) (by decide +kernel) rfl rfl (by decide) ⟨Nat.le_refl _, Nat.le_refl _⟩ (Nat.le_of_ble_eq_true rfl) dX0_isOne_13 ?_
  refine g_zret rfl nrb_inJ (Nat.le_refl _) (Nat.le_refl _) ?_ dX0_isOne_16
  exact dQ.of (by rw [hn, one_l hn6, inJ_c (lo := 0) (by decide) rfl])
theorem x_areTwo {p q : Int32} (hn : F 31 = nI n) (hn6 : n ≤ 6) : Ct g yX0_areTwo cX0_areTwo 3 (some .boolean) 3 0 0 [.ref b, .int p, .int q] (hX g b F A c ea tx nm ω0) z (dQ (some (.int (if inI p 0 (F 31 - 1) = 0 ∨ inI q 0 (F 31 - 1) = 0 ∨ p = q then 0 else 1))) (hX g b F A c ea tx nm ω0) z) := by
  refine Ct.at (own := RX0) (by decide) rfl (Nat.le_of_ble_eq_true rfl) rfl ?_
  refine g_aload_n dX0_areTwo_0 rfl ?_
  refine g_iload_n dX0_areTwo_1 rfl ?_
  refine gd_callr (n := 1) (x_isOne hn hn6) (lw_V q761 q763 qs13 q68 q764) (by decide +kernel) (ci := 0) rfl hX_0 rfl rfl (by decide) ⟨Nat.le_refl _, Nat.le_refl _⟩ (Nat.le_of_ble_eq_true rfl) dX0_areTwo_2 ?_
  refine g_if_eq 25 dX0_areTwo_5 (by decide) (fun c1 => ?_) (fun c1 => ?_)
  · refine g_iconst (0) dX0_areTwo_25 rfl ?_
    refine g_zret rfl (by first | rfl | exact nrb_in) (Nat.le_refl _) (Nat.le_refl _) ?_ dX0_areTwo_26
    refine dQ.of ?_; split <;> first | rfl | (exfalso; simp_all)
  · refine g_aload_n dX0_areTwo_8 rfl ?_
    refine g_iload_n dX0_areTwo_9 rfl ?_
    refine gd_callr (n := 1) (x_isOne hn hn6) (lw_V q761 q763 qs13 q68 q764) (by decide +kernel) (ci := 0) rfl hX_0 rfl rfl (by decide) ⟨Nat.le_refl _, Nat.le_refl _⟩ (Nat.le_of_ble_eq_true rfl) dX0_areTwo_10 ?_
    refine g_if_eq 25 dX0_areTwo_13 (by decide) (fun c2 => ?_) (fun c2 => ?_)
    · refine g_iconst (0) dX0_areTwo_25 rfl ?_
      refine g_zret rfl (by first | rfl | exact nrb_in) (Nat.le_refl _) (Nat.le_refl _) ?_ dX0_areTwo_26
      refine dQ.of ?_; split <;> first | rfl | (exfalso; simp_all)
    · refine g_iload_n dX0_areTwo_16 rfl ?_
      refine g_iload_n dX0_areTwo_17 rfl ?_
      refine g_icmp_eq 25 dX0_areTwo_18 (by decide) (fun c3 => ?_) (fun c3 => ?_)
      · refine g_iconst (0) dX0_areTwo_25 rfl ?_
        refine g_zret rfl (by first | rfl | exact nrb_in) (Nat.le_refl _) (Nat.le_refl _) ?_ dX0_areTwo_26
        refine dQ.of ?_; split <;> first | rfl | (exfalso; simp_all)
      · refine g_iconst (1) dX0_areTwo_21 rfl ?_
        refine g_goto 26 dX0_areTwo_22 (by decide) ?_
        refine g_zret rfl (by first | rfl | exact nrb_in) (Nat.le_refl _) (Nat.le_refl _) ?_ dX0_areTwo_26
        refine dQ.of ?_; split <;> first | rfl | (exfalso; simp_all)
end A
