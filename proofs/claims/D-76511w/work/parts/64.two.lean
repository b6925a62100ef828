/-! Two.worth -/
set_option maxRecDepth 100000
def twoF (s v w : Int32) : Int32 := if s = 43 then v + w else if s = 45 then v - w else if s = 42 then v * w else if s = 60 then (if v < w then 1 else 0) else if s = 61 then (if v = w then 1 else 0) else if s = 38 then (if v = 0 ∨ w = 0 then 0 else 1) else (if v = 0 ∧ w = 0 then 0 else 1)
section TW
variable {g : GE} {ω : Om} {z a r p q d : Nat} {v w s : Int32}
theorem n6_worth (hF : gF g) (hs : s = 43 ∨ s = 45 ∨ s = 42 ∨ s = 60 ∨ s = 61 ∨ s = 38 ∨ s = 124) (hq : ω a = some (.inr (6, [.int s, .ref p, .ref q]))) (hp : WoAt g ω z r p d v) (hp2 : WoAt g ω z r q d w) : Ct g yX6_worth cX6_worth 4 (some .int) (d + 1) 0 0 [.ref a, .ref r] ω z (dQ (some (.int (twoF s v w))) ω z) := by
  refine Ct.at (own := RX6) (by decide) rfl (Nat.le_of_ble_eq_true rfl) rfl ?_
  refine g_aload_n dX6_worth_0 rfl ?_
  refine g_get (ref := RX6) (T := TX6) (N := 3) 1 in_X6 rfl (by decide) q653 rfl hq rfl dX6_worth_1 ?_
  refine g_aload_n dX6_worth_4 rfl ?_
  refine gn_worthX6 hF hp (Nat.le_refl _) ⟨Nat.le_refl _, Nat.le_refl _⟩ (Nat.le_of_ble_eq_true rfl) dX6_worth_5 ?_
  refine g_istore_n (L' := [(2, _), (0, _), (1, _)]) dX6_worth_10 (by decide) rfl ?_
  refine g_aload_n dX6_worth_11 rfl ?_
  refine g_get (ref := RX6) (T := TX6) (N := 3) 2 in_X6 rfl (by decide) q654 rfl hq rfl dX6_worth_12 ?_
  refine g_aload_n dX6_worth_15 rfl ?_
  refine gn_worthX6 hF hp2 (Nat.le_refl _) ⟨Nat.le_refl _, Nat.le_refl _⟩ (Nat.le_of_ble_eq_true rfl) dX6_worth_16 ?_
  refine g_istore_n (L' := [(3, _), (2, _), (0, _), (1, _)]) dX6_worth_21 (by decide) rfl ?_
  refine g_aload_n dX6_worth_22 rfl ?_
  refine g_get (ref := RX6) (T := TX6) (N := 3) 0 in_X6 rfl (by decide) q652 rfl hq rfl dX6_worth_23 ?_
  rcases hs with rfl | rfl | rfl | rfl | rfl | rfl | rfl
  · refine g_lookup (off := 58) 84 dX6_worth_26 (by decide) (by decide) (by decide) ?_
    refine g_iload_n dX6_worth_84 rfl ?_
    refine g_iload_n dX6_worth_85 rfl ?_
    refine g_iadd dX6_worth_86 ?_
    refine g_iret rfl (Nat.le_refl _) (Nat.le_refl _) ?_ dX6_worth_87
    exact dQ.of rfl
  · refine g_lookup (off := 62) 88 dX6_worth_26 (by decide) (by decide) (by decide) ?_
    refine g_iload_n dX6_worth_88 rfl ?_
    refine g_iload_n dX6_worth_89 rfl ?_
    refine g_isub dX6_worth_90 ?_
    refine g_iret rfl (Nat.le_refl _) (Nat.le_refl _) ?_ dX6_worth_91
    exact dQ.of rfl
  · refine g_lookup (off := 66) 92 dX6_worth_26 (by decide) (by decide) (by decide) ?_
    refine g_iload_n dX6_worth_92 rfl ?_
    refine g_iload_n dX6_worth_93 rfl ?_
    refine g_imul dX6_worth_94 ?_
    refine g_iret rfl (Nat.le_refl _) (Nat.le_refl _) ?_ dX6_worth_95
    exact dQ.of rfl
  · refine g_lookup (off := 70) 96 dX6_worth_26 (by decide) (by decide) (by decide) ?_
    refine g_iload_n dX6_worth_96 rfl ?_
    refine g_iload_n dX6_worth_97 rfl ?_
    refine g_icmp_ge 105 dX6_worth_98 (by decide) (fun c1 => ?_) (fun c1 => ?_)
    · refine g_iconst 0 dX6_worth_105 rfl ?_
      refine g_iret rfl (Nat.le_refl _) (Nat.le_refl _) ?_ dX6_worth_106
      exact dQ.of (congrArg (fun x => some (Value.int x)) (if_neg (Int32.not_lt.mpr c1)).symm)
    · refine g_iconst 1 dX6_worth_101 rfl ?_
      refine g_goto 106 dX6_worth_102 (by decide) ?_
      refine g_iret rfl (Nat.le_refl _) (Nat.le_refl _) ?_ dX6_worth_106
      exact dQ.of (congrArg (fun x => some (Value.int x)) (if_pos (Int32.not_le.mp c1)).symm)
  · refine g_lookup (off := 81) 107 dX6_worth_26 (by decide) (by decide) (by decide) ?_
    refine g_iload_n dX6_worth_107 rfl ?_
    refine g_iload_n dX6_worth_108 rfl ?_
    refine g_icmp_ne 116 dX6_worth_109 (by decide) (fun c1 => ?_) (fun c1 => ?_)
    · refine g_iconst 0 dX6_worth_116 rfl ?_
      refine g_iret rfl (Nat.le_refl _) (Nat.le_refl _) ?_ dX6_worth_117
      exact dQ.of (congrArg (fun x => some (Value.int x)) (if_neg c1).symm)
    · refine g_iconst 1 dX6_worth_112 rfl ?_
      refine g_goto 117 dX6_worth_113 (by decide) ?_
      refine g_iret rfl (Nat.le_refl _) (Nat.le_refl _) ?_ dX6_worth_117
      exact dQ.of (congrArg (fun x => some (Value.int x)) (if_pos c1).symm)
  · refine g_lookup (off := 92) 118 dX6_worth_26 (by decide) (by decide) (by decide) ?_
    refine g_iload_n dX6_worth_118 rfl ?_
    refine g_if_eq 130 dX6_worth_119 (by decide) (fun c1 => ?_) (fun c1 => ?_)
    · refine g_iconst 0 dX6_worth_130 rfl ?_
      refine g_iret rfl (Nat.le_refl _) (Nat.le_refl _) ?_ dX6_worth_131
      exact dQ.of (congrArg (fun x => some (Value.int x)) (if_pos (.inl c1)).symm)
    · refine g_iload_n dX6_worth_122 rfl ?_
      refine g_if_eq 130 dX6_worth_123 (by decide) (fun c2 => ?_) (fun c2 => ?_)
      · refine g_iconst 0 dX6_worth_130 rfl ?_
        refine g_iret rfl (Nat.le_refl _) (Nat.le_refl _) ?_ dX6_worth_131
        exact dQ.of (congrArg (fun x => some (Value.int x)) (if_pos (.inr c2)).symm)
      · refine g_iconst 1 dX6_worth_126 rfl ?_
        refine g_goto 131 dX6_worth_127 (by decide) ?_
        refine g_iret rfl (Nat.le_refl _) (Nat.le_refl _) ?_ dX6_worth_131
        exact dQ.of (congrArg (fun x => some (Value.int x)) (if_neg (fun h => h.elim c1 c2)).symm)
  · refine g_lookup (off := 106) 132 dX6_worth_26 (by decide) (by decide) (by decide) ?_
    refine g_iload_n dX6_worth_132 rfl ?_
    refine g_if_ne 140 dX6_worth_133 (by decide) (fun c1 => ?_) (fun c1 => ?_)
    · refine g_iconst 1 dX6_worth_140 rfl ?_
      refine g_goto 145 dX6_worth_141 (by decide) ?_
      refine g_iret rfl (Nat.le_refl _) (Nat.le_refl _) ?_ dX6_worth_145
      exact dQ.of (congrArg (fun x => some (Value.int x)) (if_neg (fun h => c1 h.1)).symm)
    · refine g_iload_n dX6_worth_136 rfl ?_
      refine g_if_eq 144 dX6_worth_137 (by decide) (fun c2 => ?_) (fun c2 => ?_)
      · refine g_iconst 0 dX6_worth_144 rfl ?_
        refine g_iret rfl (Nat.le_refl _) (Nat.le_refl _) ?_ dX6_worth_145
        exact dQ.of (congrArg (fun x => some (Value.int x)) (if_pos ⟨c1, c2⟩).symm)
      · refine g_iconst 1 dX6_worth_140 rfl ?_
        refine g_goto 145 dX6_worth_141 (by decide) ?_
        refine g_iret rfl (Nat.le_refl _) (Nat.le_refl _) ?_ dX6_worth_145
        exact dQ.of (congrArg (fun x => some (Value.int x)) (if_neg (fun h => c2 h.2)).symm)
end TW
