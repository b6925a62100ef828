/-! the parts of a text: leaves -/
set_option maxRecDepth 100000
section LF
variable {g : GE} {ω : Om} {z a r d : Nat} {nu : Int32} {f : Nat → Int32}
theorem n5_num (hq : ω a = some (.inr (5, [.int nu, .int (-1)]))) : Ct g yX5_worth cX5_worth 2 (some .int) (d + 1) 0 0 [.ref a, .ref r] ω z (dQ (some (.int nu)) ω z) := by
  refine Ct.at (own := RX5) (by decide) rfl (Nat.le_of_ble_eq_true rfl) rfl ?_
  refine g_aload_n dX5_worth_0 rfl ?_
  refine g_get (ref := RX5) (T := TX5) (N := 2) 1 in_X5 rfl (by decide) q636 rfl hq rfl dX5_worth_1 ?_
  refine g_iconst (-1) dX5_worth_4 rfl ?_
  refine g_icmp_ne 15 dX5_worth_5 (by decide) (fun h => absurd rfl h) (fun _ => ?_)
  refine g_aload_n dX5_worth_8 rfl ?_
  refine g_get (ref := RX5) (T := TX5) (N := 2) 0 in_X5 rfl (by decide) q635 rfl hq rfl dX5_worth_9 ?_
  refine g_goto 21 dX5_worth_12 (by decide) ?_
  refine g_iret rfl (Nat.le_refl _) (Nat.le_refl _) ?_ dX5_worth_21
  exact dQ.mk
theorem n5_name {j : Nat} (hj : j < 6) (hq : ω a = some (.inr (5, [.int nu, .int (nI j)]))) (hr : ω r = some (.inl (g.2.2.1 0, 6, .inl f))) : Ct g yX5_worth cX5_worth 2 (some .int) (d + 1) 0 0 [.ref a, .ref r] ω z (dQ (some (.int (f j))) ω z) := by
  refine Ct.at (own := RX5) (by decide) rfl (Nat.le_of_ble_eq_true rfl) rfl ?_
  refine g_aload_n dX5_worth_0 rfl ?_
  refine g_get (ref := RX5) (T := TX5) (N := 2) 1 in_X5 rfl (by decide) q636 rfl hq rfl dX5_worth_1 ?_
  refine g_iconst (-1) dX5_worth_4 rfl ?_
  refine g_icmp_ne 15 dX5_worth_5 (by decide) (fun _ => ?_) (fun h => absurd h ?_)
  · refine g_aload_n dX5_worth_15 rfl ?_
    refine g_aload_n dX5_worth_16 rfl ?_
    refine g_get (ref := RX5) (T := TX5) (N := 2) 1 in_X5 rfl (by decide) q636 rfl hq rfl dX5_worth_17 ?_
    refine g_iald hr (vp_in_nI hj (by decide)) dX5_worth_20 ?_
    rw [nI_clamp (by omega)]
    refine g_iret rfl (Nat.le_refl _) (Nat.le_refl _) ?_ dX5_worth_21
    exact dQ.mk
  · match j, hj with
    | 0, _ => decide
    | 1, _ => decide
    | 2, _ => decide
    | 3, _ => decide
    | 4, _ => decide
    | 5, _ => decide
end LF
