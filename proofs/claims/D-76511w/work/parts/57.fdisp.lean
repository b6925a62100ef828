/-! Old.takes; the component's calls on a fisher of any kind -/
set_option maxRecDepth 100000
section OT
variable {g : GE} {ω : Om} {z a b : Nat} {nu mo : Int32} {F : Nat → Int32} {c : Cr}
theorem f11_takes {v : Int32} (hg : gW g) (hq : ω a = some (.inr (11, fshV 3 nu mo b))) (hb : ω b = some (.inr (0, xfs b F c))) : Ct g yX11_takes cX11_takes 2 (some .int) 2 0 0 [.ref a, .int v] ω z (dQ (some (.int (if rem c.2.2 3 = 0 then v else 0))) ω z) := by
  refine Ct.at (own := RX11) (by decide) rfl (Nat.le_of_ble_eq_true rfl) rfl ?_
  refine g_aload_n dX11_takes_0 rfl ?_
  refine g_get (ref := RX11) (T := TX11) (N := 5) 4 in_X11 rfl (by decide) q883 rfl hq rfl dX11_takes_1 ?_
  refine g_getN (ref := RX0) (T := TX0) (N := 23) hg 0 in_X0 rfl (by decide) q664 rfl hb rfl dX11_takes_4 ?_
  refine g_iconst (3) dX11_takes_7 rfl ?_
  refine g_irem dX11_takes_8 (by decide) ?_
  refine g_if_ne 20 dX11_takes_9 (by decide) (fun c1 => ?_) (fun c1 => ?_)
  · refine g_iconst (0) dX11_takes_20 rfl ?_
    refine g_iret rfl (Nat.le_refl _) (Nat.le_refl _) ?_ dX11_takes_21
    refine dQ.of ?_
    split <;> first | rfl | contradiction
  · refine g_aload_n dX11_takes_12 rfl ?_
    refine g_iload_n dX11_takes_13 rfl ?_
    refine g_callU2 (n := 1) (f8_takes) rfl q1024 q1025 q890 q863 q1007 q96 q1028 (by decide) (by decide +kernel) (ci := 11) rfl hq rfl rfl (by decide) ⟨Nat.le_refl _, Nat.le_refl _⟩ (Nat.le_of_ble_eq_true rfl) dX11_takes_14 ?_
    refine g_goto 21 dX11_takes_17 (by decide) ?_
    refine g_iret rfl (Nat.le_refl _) (Nat.le_refl _) ?_ dX11_takes_21
    refine dQ.of ?_
    split <;> first | rfl | contradiction
end OT
