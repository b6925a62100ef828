/-! One.worth -/
set_option maxRecDepth 100000
section ON
variable {g : GE} {ω : Om} {z a r p d : Nat} {v i : Int32}
theorem n4_worth (hF : gF g) (hq : ω a = some (.inr (4, [.int i, .ref p]))) (hp : WoAt g ω z r p d v) : Ct g yX4_worth cX4_worth 3 (some .int) (d + 1) 0 0 [.ref a, .ref r] ω z (dQ (some (.int (if i = 0 then -v else if v = 0 then 1 else 0))) ω z) := by
  refine Ct.at (own := RX4) (by decide) rfl (Nat.le_of_ble_eq_true rfl) rfl ?_
  refine g_aload_n dX4_worth_0 rfl ?_
  refine g_get (ref := RX4) (T := TX4) (N := 2) 1 in_X4 rfl (by decide) q611 rfl hq rfl dX4_worth_1 ?_
  refine g_aload_n dX4_worth_4 rfl ?_
  refine gn_worthX4 hF hp (Nat.le_refl _) ⟨Nat.le_refl _, Nat.le_refl _⟩ (Nat.le_of_ble_eq_true rfl) dX4_worth_5 ?_
  refine g_istore_n (L' := [(2, _), (0, _), (1, _)]) dX4_worth_10 (by decide) rfl ?_
  refine g_aload_n dX4_worth_11 rfl ?_
  refine g_get (ref := RX4) (T := TX4) (N := 2) 0 in_X4 rfl (by decide) q610 rfl hq rfl dX4_worth_12 ?_
  refine g_if_ne 23 dX4_worth_15 (by decide) (fun c1 => ?_) (fun c1 => ?_)
  · refine g_iload_n dX4_worth_23 rfl ?_
    refine g_if_ne 31 dX4_worth_24 (by decide) (fun c2 => ?_) (fun c2 => ?_)
    · refine g_iconst 0 dX4_worth_31 rfl ?_
      refine g_iret rfl (Nat.le_refl _) (Nat.le_refl _) ?_ dX4_worth_32
      exact dQ.of (by rw [if_neg c1, if_neg c2])
    · refine g_iconst 1 dX4_worth_27 rfl ?_
      refine g_goto 32 dX4_worth_28 (by decide) ?_
      refine g_iret rfl (Nat.le_refl _) (Nat.le_refl _) ?_ dX4_worth_32
      exact dQ.of (by rw [if_neg c1, if_pos c2])
  · refine g_iload_n dX4_worth_18 rfl ?_
    refine g_ineg dX4_worth_19 ?_
    refine g_goto 32 dX4_worth_20 (by decide) ?_
    refine g_iret rfl (Nat.le_refl _) (Nat.le_refl _) ?_ dX4_worth_32
    exact dQ.of (by rw [if_pos c1])
end ON
