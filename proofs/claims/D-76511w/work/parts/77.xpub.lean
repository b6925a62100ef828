/-! the component's public methods without loops, against the reference's answers -/
set_option maxRecDepth 100000
def xP (g : GE) (b : Nat) (ω0 : Om) (z : Nat) (o : R4) (Fx : Nat → Int32) (Ax : Nat → Nat → Int32) (ea : Nat) (tx : Nat → Option Nat) : Option Value → Om → Nat → Prop := xQ g b ω0 z (some (.int o.1)) Fx Ax o.2.2.2 ea tx
theorem xP.of {g : GE} {b : Nat} {ω0 : Om} {z : Nat} {o : R4} {r : Int32} {F Fx : Nat → Int32} {A Ax : Nat → Nat → Int32} {c : Cr} {ea : Nat} {tx : Nat → Option Nat} {nm : Nat → Int32} (h : o = (r, F, A, c)) : xP g b ω0 z o Fx Ax ea tx (some (.int r)) (hX g b Fx Ax c ea tx nm ω0) z := by
  subst h; exact xQ.mk
theorem xP.ofF {g : GE} {b : Nat} {ω0 : Om} {z : Nat} {o : R4} {r : Int32} {F Fx Fx' : Nat → Int32} {A Ax : Nat → Nat → Int32} {c : Cr} {ea : Nat} {tx : Nat → Option Nat} {nm : Nat → Int32} (h : o = (r, F, A, c)) (h2 : Fx' = Fx) : xP g b ω0 z o Fx Ax ea tx (some (.int r)) (hX g b Fx' Ax c ea tx nm ω0) z := by
  subst h; subst h2; exact xQ.mk
section A
variable {g : GE} {ω : Om} {z : Nat}
theorem x_inI {v lo hi : Int32} {l h : Int64} (e1 : lo.toInt64 = l) (e2 : hi.toInt64 = h) : Ct g yX0_in cX0_in 6 (some .boolean) 1 0 0 [.long v.toInt64, .long l, .long h] ω z (dQ (some (.int (inI v lo hi))) ω z) := by
  have := x_in (g := g) (ω := ω) (z := z) (v := v.toInt64) (lo := l) (hi := h)
  rw [inJ_c e1 e2] at this
  exact this
theorem x_isSheet {s : Int32} : Ct g yX0_isSheet cX0_isSheet 1 (some .boolean) 2 0 0 [.int s] ω z (dQ (some (.int (inI s 0 3))) ω z) := by
  refine Ct.at (own := RX0) (by decide) rfl (Nat.le_of_ble_eq_true rfl) rfl ?_
  refine g_iload_n dX0_isSheet_0 rfl ?_
  refine g_i2l dX0_isSheet_1 ?_
  refine g_lconst 0 dX0_isSheet_2 rfl ?_
  refine g_ldc2 q1133 dX0_isSheet_3 ?_
  refine gs_calli (n := 3) (x_inI (lo := 0) (hi := 3) (by decide) (by decide)) (lw_S q753 q280 q68 q281) (by decide +kernel) rfl rfl (by decide) ⟨Nat.le_refl _, Nat.le_refl _⟩ (Nat.le_of_ble_eq_true rfl) dX0_isSheet_6 ?_
  refine g_zret rfl (by first | rfl | exact nrb_in) (Nat.le_refl _) (Nat.le_refl _) ?_ dX0_isSheet_9
  exact dQ.mk
end A
section B
variable {g : GE} {b z n : Nat} {F Fx : Nat → Int32} {A Ax : Nat → Nat → Int32} {c : Cr} {ea : Nat} {tx : Nat → Option Nat} {nm : Nat → Int32} {ω0 : Om} {ts : Nat → List Int32}
theorem x_count {w : Int32} (hC : CO c) (h31 : Fx 31 = F 0) (h19 : Fx 19 = F 10) (h3 : Fx 3 = F 11) (h21 : Fx 21 = F 7) : Ct g yX0_count cX0_count 2 (some .int) 2 0 0 [.ref b, .int w] (hX g b Fx Ax c ea tx nm ω0) z (xP g b ω0 z (countF F A c w) Fx Ax ea tx) := by
  refine Ct.at (own := RX0) (by decide) rfl (Nat.le_of_ble_eq_true rfl) rfl ?_
  refine g_iload_n dX0_count_0 rfl ?_
  refine g_tsw [40, 48, 56, 61, 66, 71] 76 dX0_count_1 (by decide) (by decide) (by decide) (fun j t => ?_) (fun hx => ?_)
  · match j with
    | 0 =>
      intro ht hx; cases ht
      replace hx := hx.trans (show Int32.ofInt ((0) + ((0 : Nat) : Int)) = 0 by decide)
      refine g_aload_n dX0_count_40 rfl ?_
      refine xg_fishers dX0_count_41 ?_
      refine gd_callr (n := 0) (j_size hX_2) (lw_V q739 q740 q741 q71 q742) (by decide +kernel) (ci := 16) rfl hX_2 rfl rfl (by decide) ⟨Nat.le_refl _, Nat.le_refl _⟩ (Nat.le_of_ble_eq_true rfl) dX0_count_44 ?_
      refine g_iret rfl (Nat.le_refl _) (Nat.le_refl _) ?_ dX0_count_47
      first | (subst hx; refine xP.of (F := F) (A := A) ?_; first | (show countF F A c _ = _; rw [h31]; rfl) | (show countF F A c _ = _; rw [bc16 hC.2.2]; rfl) | rfl | (rw [h19]; rfl) | (rw [h3]; rfl) | (rw [h21]; rfl)) | exact xP.of (F := F) (A := A) (by unfold countF; rw [if_neg (tsw_ne hx 0 (by decide)), if_neg (tsw_ne hx 1 (by decide)), if_neg (tsw_ne hx 2 (by decide)), if_neg (tsw_ne hx 3 (by decide)), if_neg (tsw_ne hx 4 (by decide)), if_neg (tsw_ne hx 5 (by decide))])
    | 1 =>
      intro ht hx; cases ht
      replace hx := hx.trans (show Int32.ofInt ((0) + ((1 : Nat) : Int)) = 1 by decide)
      refine g_aload_n dX0_count_48 rfl ?_
      refine xg_sea dX0_count_49 ?_
      refine gs_calli (n := 1) (j_bitCount ) (lw_S q743 q744 q94 q745) (by decide +kernel) rfl rfl (by decide) ⟨Nat.le_refl _, Nat.le_refl _⟩ (Nat.le_of_ble_eq_true rfl) dX0_count_52 ?_
      refine g_iret rfl (Nat.le_refl _) (Nat.le_refl _) ?_ dX0_count_55
      first | (subst hx; refine xP.of (F := F) (A := A) ?_; first | (show countF F A c _ = _; rw [h31]; rfl) | (show countF F A c _ = _; rw [bc16 hC.2.2]; rfl) | rfl | (rw [h19]; rfl) | (rw [h3]; rfl) | (rw [h21]; rfl)) | exact xP.of (F := F) (A := A) (by unfold countF; rw [if_neg (tsw_ne hx 0 (by decide)), if_neg (tsw_ne hx 1 (by decide)), if_neg (tsw_ne hx 2 (by decide)), if_neg (tsw_ne hx 3 (by decide)), if_neg (tsw_ne hx 4 (by decide)), if_neg (tsw_ne hx 5 (by decide))])
    | 2 =>
      intro ht hx; cases ht
      replace hx := hx.trans (show Int32.ofInt ((0) + ((2 : Nat) : Int)) = 2 by decide)
      refine g_aload_n dX0_count_56 rfl ?_
      refine xg_tide dX0_count_57 ?_
      refine g_iret rfl (Nat.le_refl _) (Nat.le_refl _) ?_ dX0_count_60
      first | (subst hx; refine xP.of (F := F) (A := A) ?_; first | (show countF F A c _ = _; rw [h31]; rfl) | (show countF F A c _ = _; rw [bc16 hC.2.2]; rfl) | rfl | (rw [h19]; rfl) | (rw [h3]; rfl) | (rw [h21]; rfl)) | exact xP.of (F := F) (A := A) (by unfold countF; rw [if_neg (tsw_ne hx 0 (by decide)), if_neg (tsw_ne hx 1 (by decide)), if_neg (tsw_ne hx 2 (by decide)), if_neg (tsw_ne hx 3 (by decide)), if_neg (tsw_ne hx 4 (by decide)), if_neg (tsw_ne hx 5 (by decide))])
    | 3 =>
      intro ht hx; cases ht
      replace hx := hx.trans (show Int32.ofInt ((0) + ((3 : Nat) : Int)) = 3 by decide)
      refine g_aload_n dX0_count_61 rfl ?_
      refine xg_textCount dX0_count_62 ?_
      refine g_iret rfl (Nat.le_refl _) (Nat.le_refl _) ?_ dX0_count_65
      first | (subst hx; refine xP.of (F := F) (A := A) ?_; first | (show countF F A c _ = _; rw [h31]; rfl) | (show countF F A c _ = _; rw [bc16 hC.2.2]; rfl) | rfl | (rw [h19]; rfl) | (rw [h3]; rfl) | (rw [h21]; rfl)) | exact xP.of (F := F) (A := A) (by unfold countF; rw [if_neg (tsw_ne hx 0 (by decide)), if_neg (tsw_ne hx 1 (by decide)), if_neg (tsw_ne hx 2 (by decide)), if_neg (tsw_ne hx 3 (by decide)), if_neg (tsw_ne hx 4 (by decide)), if_neg (tsw_ne hx 5 (by decide))])
    | 4 =>
      intro ht hx; cases ht
      replace hx := hx.trans (show Int32.ofInt ((0) + ((4 : Nat) : Int)) = 4 by decide)
      refine g_aload_n dX0_count_66 rfl ?_
      refine xg_law dX0_count_67 ?_
      refine g_iret rfl (Nat.le_refl _) (Nat.le_refl _) ?_ dX0_count_70
      first | (subst hx; refine xP.of (F := F) (A := A) ?_; first | (show countF F A c _ = _; rw [h31]; rfl) | (show countF F A c _ = _; rw [bc16 hC.2.2]; rfl) | rfl | (rw [h19]; rfl) | (rw [h3]; rfl) | (rw [h21]; rfl)) | exact xP.of (F := F) (A := A) (by unfold countF; rw [if_neg (tsw_ne hx 0 (by decide)), if_neg (tsw_ne hx 1 (by decide)), if_neg (tsw_ne hx 2 (by decide)), if_neg (tsw_ne hx 3 (by decide)), if_neg (tsw_ne hx 4 (by decide)), if_neg (tsw_ne hx 5 (by decide))])
    | 5 =>
      intro ht hx; cases ht
      replace hx := hx.trans (show Int32.ofInt ((0) + ((5 : Nat) : Int)) = 5 by decide)
      refine g_aload_n dX0_count_71 rfl ?_
      refine xg_taped dX0_count_72 ?_
      refine g_iret rfl (Nat.le_refl _) (Nat.le_refl _) ?_ dX0_count_75
      first | (subst hx; refine xP.of (F := F) (A := A) ?_; first | (show countF F A c _ = _; rw [h31]; rfl) | (show countF F A c _ = _; rw [bc16 hC.2.2]; rfl) | rfl | (rw [h19]; rfl) | (rw [h3]; rfl) | (rw [h21]; rfl)) | exact xP.of (F := F) (A := A) (by unfold countF; rw [if_neg (tsw_ne hx 0 (by decide)), if_neg (tsw_ne hx 1 (by decide)), if_neg (tsw_ne hx 2 (by decide)), if_neg (tsw_ne hx 3 (by decide)), if_neg (tsw_ne hx 4 (by decide)), if_neg (tsw_ne hx 5 (by decide))])
    | j + 6 => intro ht hx; simp at ht
  · refine g_bipush (-2) dX0_count_76 rfl ?_
    refine g_iret rfl (Nat.le_refl _) (Nat.le_refl _) ?_ dX0_count_78
    first | (subst hx; refine xP.of (F := F) (A := A) ?_; first | (show countF F A c _ = _; rw [h31]; rfl) | (show countF F A c _ = _; rw [bc16 hC.2.2]; rfl) | rfl | (rw [h19]; rfl) | (rw [h3]; rfl) | (rw [h21]; rfl)) | exact xP.of (F := F) (A := A) (by unfold countF; rw [if_neg (tsw_ne hx 0 (by decide)), if_neg (tsw_ne hx 1 (by decide)), if_neg (tsw_ne hx 2 (by decide)), if_neg (tsw_ne hx 3 (by decide)), if_neg (tsw_ne hx 4 (by decide)), if_neg (tsw_ne hx 5 (by decide))])
theorem x_shore {w v : Int32} (hN : gN g ≤ b) : Ct g yX0_shore cX0_shore 4 (some .int) 2 0 0 [.ref b, .int w, .int v] (hX g b Fx Ax c ea tx nm ω0) z (xP g b ω0 z (shoreF F A c w v) Fx Ax ea tx) := by
  refine Ct.at (own := RX0) (by decide) rfl (Nat.le_of_ble_eq_true rfl) rfl ?_
  by_cases hw : w = 0
  · subst hw
    have h0 : inI 0 0 1 = 1 := by decide
    refine g_iload_n dX0_shore_0 rfl ?_
    refine g_i2l dX0_shore_1 ?_
    refine g_lconst 0 dX0_shore_2 rfl ?_
    refine g_lconst 1 dX0_shore_3 rfl ?_
    refine gs_calli (n := 3) (x_inI (lo := 0) (hi := 1) (by decide) (by decide)) (lw_S q753 q280 q68 q281) (by decide +kernel) rfl rfl (by decide) ⟨Nat.le_refl _, Nat.le_refl _⟩ (Nat.le_of_ble_eq_true rfl) dX0_shore_4 ?_
    refine g_if_eq 32 dX0_shore_7 (by decide) (fun h9 => absurd h9 (by decide)) (fun _ => ?_)
    refine g_iload_n dX0_shore_10 rfl ?_
    refine g_i2l dX0_shore_11 ?_
    refine g_lconst 0 dX0_shore_12 rfl ?_
    refine g_iload_n dX0_shore_13 rfl ?_
    refine g_if_ne 23 dX0_shore_14 (by decide) (fun h9 => absurd rfl h9) (fun _ => ?_)
    refine g_ldc2 q754 dX0_shore_17 ?_
    refine g_goto 26 dX0_shore_20 (by decide) ?_
    refine gs_calli (n := 3) (x_inI (lo := 0) (hi := 999) (by decide) (by decide)) (lw_S q753 q280 q68 q281) (by decide +kernel) rfl rfl (by decide) ⟨Nat.le_refl _, Nat.le_refl _⟩ (Nat.le_of_ble_eq_true rfl) dX0_shore_26 ?_
    refine g_if_ne 35 dX0_shore_29 (by decide) (fun c1 => ?_) (fun c1 => ?_)
    · refine g_iload_n dX0_shore_35 rfl ?_
      refine g_if_ne 46 dX0_shore_36 (by decide) (fun h9 => absurd rfl h9) (fun _ => ?_)
      refine g_aload_n dX0_shore_39 rfl ?_
      refine xg_tide dX0_shore_40 ?_
      refine g_goto 50 dX0_shore_43 (by decide) ?_
      refine g_istore_n (L' := [(3, _), (0, _), (1, _), (2, _)]) dX0_shore_50 (by decide) rfl ?_
      refine g_iload_n dX0_shore_51 rfl ?_
      refine g_if_ne 63 dX0_shore_52 (by decide) (fun h9 => absurd rfl h9) (fun _ => ?_)
      refine g_aload_n dX0_shore_55 rfl ?_
      refine g_iload_n dX0_shore_56 rfl ?_
      refine xp_tide hN  dX0_shore_57 ?_
      refine g_goto 68 dX0_shore_60 (by decide) ?_
      refine g_iload_n dX0_shore_68 rfl ?_
      refine g_iret rfl (Nat.le_refl _) (Nat.le_refl _) ?_ dX0_shore_69
      exact xP.of (F := F) (A := A) (by simp_all [shoreF])
    · refine g_bipush (-2) dX0_shore_32 rfl ?_
      refine g_iret rfl (Nat.le_refl _) (Nat.le_refl _) ?_ dX0_shore_34
      exact xP.of (F := F) (A := A) (by simp_all [shoreF])
  · refine g_iload_n dX0_shore_0 rfl ?_
    refine g_i2l dX0_shore_1 ?_
    refine g_lconst 0 dX0_shore_2 rfl ?_
    refine g_lconst 1 dX0_shore_3 rfl ?_
    refine gs_calli (n := 3) (x_inI (lo := 0) (hi := 1) (by decide) (by decide)) (lw_S q753 q280 q68 q281) (by decide +kernel) rfl rfl (by decide) ⟨Nat.le_refl _, Nat.le_refl _⟩ (Nat.le_of_ble_eq_true rfl) dX0_shore_4 ?_
    refine g_if_eq 32 dX0_shore_7 (by decide) (fun c1 => ?_) (fun c1 => ?_)
    · refine g_bipush (-2) dX0_shore_32 rfl ?_
      refine g_iret rfl (Nat.le_refl _) (Nat.le_refl _) ?_ dX0_shore_34
      exact xP.of (F := F) (A := A) (by simp_all [shoreF])
    · refine g_iload_n dX0_shore_10 rfl ?_
      refine g_i2l dX0_shore_11 ?_
      refine g_lconst 0 dX0_shore_12 rfl ?_
      refine g_iload_n dX0_shore_13 rfl ?_
      refine g_if_ne 23 dX0_shore_14 (by decide) (fun _ => ?_) (fun h9 => absurd h9 hw)
      refine g_ldc2 q755 dX0_shore_23 ?_
      refine gs_calli (n := 3) (x_inI (lo := 0) (hi := 65535) (by decide) (by decide)) (lw_S q753 q280 q68 q281) (by decide +kernel) rfl rfl (by decide) ⟨Nat.le_refl _, Nat.le_refl _⟩ (Nat.le_of_ble_eq_true rfl) dX0_shore_26 ?_
      refine g_if_ne 35 dX0_shore_29 (by decide) (fun c2 => ?_) (fun c2 => ?_)
      · refine g_iload_n dX0_shore_35 rfl ?_
        refine g_if_ne 46 dX0_shore_36 (by decide) (fun _ => ?_) (fun h9 => absurd h9 hw)
        refine g_aload_n dX0_shore_46 rfl ?_
        refine xg_sea dX0_shore_47 ?_
        refine g_istore_n (L' := [(3, _), (0, _), (1, _), (2, _)]) dX0_shore_50 (by decide) rfl ?_
        refine g_iload_n dX0_shore_51 rfl ?_
        refine g_if_ne 63 dX0_shore_52 (by decide) (fun _ => ?_) (fun h9 => absurd h9 hw)
        refine g_aload_n dX0_shore_63 rfl ?_
        refine g_iload_n dX0_shore_64 rfl ?_
        refine xp_sea hN  dX0_shore_65 ?_
        refine g_iload_n dX0_shore_68 rfl ?_
        refine g_iret rfl (Nat.le_refl _) (Nat.le_refl _) ?_ dX0_shore_69
        exact xP.of (F := F) (A := A) (by simp_all [shoreF])
      · refine g_bipush (-2) dX0_shore_32 rfl ?_
        refine g_iret rfl (Nat.le_refl _) (Nat.le_refl _) ?_ dX0_shore_34
        exact xP.of (F := F) (A := A) (by simp_all [shoreF])
theorem x_force {t : Int32} {tn : Nat} (hN : gN g ≤ b) (h19 : Fx 19 = nI tn) (htn : tn ≤ 6) (h10 : F 10 = nI tn) (h3 : Fx 3 = F 11) : Ct g yX0_force cX0_force 3 (some .int) 2 0 0 [.ref b, .int t] (hX g b Fx Ax c ea tx nm ω0) z (xP g b ω0 z (forceF F A c t) (if inI t 0 (F 10 - 1) = 0 then Fx else upd Fx 3 t) Ax ea tx) := by
  refine Ct.at (own := RX0) (by decide) rfl (Nat.le_of_ble_eq_true rfl) rfl ?_
  rw [h10]
  refine g_iload_n dX0_force_0 rfl ?_
  refine g_i2l dX0_force_1 ?_
  refine g_lconst 0 dX0_force_2 rfl ?_
  refine g_aload_n dX0_force_3 rfl ?_
  refine xg_textCount dX0_force_4 ?_
  refine g_i2l dX0_force_7 ?_
  refine g_lconst 1 dX0_force_8 rfl ?_
  refine g_lsub dX0_force_9 ?_
  rw [h19, one_l htn]
  refine gs_calli (n := 3) (x_inI (lo := 0) (hi := nI tn - 1) (by decide) rfl) (lw_S q753 q280 q68 q281) (by decide +kernel) rfl rfl (by decide) ⟨Nat.le_refl _, Nat.le_refl _⟩ (Nat.le_of_ble_eq_true rfl) dX0_force_10 ?_
  refine g_if_ne 19 dX0_force_13 (by decide) (fun c1 => ?_) (fun c1 => ?_)
  · refine g_aload_n dX0_force_19 rfl ?_
    refine xg_law dX0_force_20 ?_
    refine g_istore_n (L' := [(2, _), (0, _), (1, _)]) dX0_force_23 (by decide) rfl ?_
    refine g_aload_n dX0_force_24 rfl ?_
    refine g_iload_n dX0_force_25 rfl ?_
    refine xp_law hN  dX0_force_26 ?_
    refine g_iload_n dX0_force_29 rfl ?_
    refine g_iret rfl (Nat.le_refl _) (Nat.le_refl _) ?_ dX0_force_30
    first | exact xP.ofF (F := upd F 11 t) (A := A) (by unfold forceF; rw [h10, if_neg c1, ← h3]) (by rw [if_neg c1]) | exact xP.ofF (F := F) (A := A) (by unfold forceF; rw [h10, if_pos c1]) (by rw [if_pos c1])
  · refine g_bipush (-2) dX0_force_16 rfl ?_
    refine g_iret rfl (Nat.le_refl _) (Nat.le_refl _) ?_ dX0_force_18
    first | exact xP.ofF (F := upd F 11 t) (A := A) (by unfold forceF; rw [h10, if_neg c1, ← h3]) (by rw [if_neg c1]) | exact xP.ofF (F := F) (A := A) (by unfold forceF; rw [h10, if_pos c1]) (by rw [if_pos c1])
theorem x_asks {k p t : Int32} (hN : gN g ≤ b) (hg : gW g) (hF : gF g) (h0 : F 0 = nI n) (hE : XE g b Fx ea tx ω0 (eM A n ts)) (hC : CO c) : Ct g yX0_asks cX0_asks 4 (some .int) 211 0 0 [.ref b, .int k, .int p, .int t] (hX g b Fx Ax c ea tx nm ω0) z (xP g b ω0 z (asksP F A n ts c k p t) Fx Ax ea tx) := by
  have hn : Fx 31 = nI n := hE.1
  have hn6 : n ≤ 6 := hE.2.1
  have h31 : Fx 31 = F 0 := hn.trans h0.symm
  refine Ct.at (own := RX0) (by decide) rfl (Nat.le_of_ble_eq_true rfl) rfl ?_
  rcases in_or k (hi := 2) (m := 2) (by decide) with h0' | ⟨k, hk, rfl, h0'⟩
  · refine g_iload_n dX0_asks_0 rfl ?_
    refine g_i2l dX0_asks_1 ?_
    refine g_lconst 0 dX0_asks_2 rfl ?_
    refine g_ldc2 q760 dX0_asks_3 ?_
    refine gs_calli (n := 3) (x_inI (lo := 0) (hi := 2) (by decide) (by decide)) (lw_S q753 q280 q68 q281) (by decide +kernel) rfl rfl (by decide) ⟨Nat.le_refl _, Nat.le_refl _⟩ (Nat.le_of_ble_eq_true rfl) dX0_asks_6 ?_
    refine g_if_eq 37 dX0_asks_9 (by decide) (fun _ => ?_) (fun h9 => absurd h0' h9)
    refine g_sipush (-1000) dX0_asks_37 rfl ?_
    refine g_iret rfl (Nat.le_refl _) (Nat.le_refl _) ?_ dX0_asks_40
    exact xP.of (F := F) (A := A) (by simp [asksP, h0'])
  · rcases one_or p hn hn6 with h1 | ⟨p, hp, rfl, h1⟩
    · refine g_iload_n dX0_asks_0 rfl ?_
      refine g_i2l dX0_asks_1 ?_
      refine g_lconst 0 dX0_asks_2 rfl ?_
      refine g_ldc2 q760 dX0_asks_3 ?_
      refine gs_calli (n := 3) (x_inI (lo := 0) (hi := 2) (by decide) (by decide)) (lw_S q753 q280 q68 q281) (by decide +kernel) rfl rfl (by decide) ⟨Nat.le_refl _, Nat.le_refl _⟩ (Nat.le_of_ble_eq_true rfl) dX0_asks_6 ?_
      refine g_if_eq 37 dX0_asks_9 (by decide) (fun h9 => absurd h9 (by rw [h0']; decide)) (fun _ => ?_)
      refine g_aload_n dX0_asks_12 rfl ?_
      refine g_iload_n dX0_asks_13 rfl ?_
      refine gd_callr (n := 1) (x_isOne hn hn6) (lw_V q761 q763 qs13 q68 q764) (by decide +kernel) (ci := 0) rfl hX_0 rfl rfl (by decide) ⟨Nat.le_refl _, Nat.le_refl _⟩ (Nat.le_of_ble_eq_true rfl) dX0_asks_14 ?_
      refine g_if_eq 37 dX0_asks_17 (by decide) (fun _ => ?_) (fun h9 => absurd h1 h9)
      refine g_sipush (-1000) dX0_asks_37 rfl ?_
      refine g_iret rfl (Nat.le_refl _) (Nat.le_refl _) ?_ dX0_asks_40
      exact xP.of (F := F) (A := A) (by rw [h31] at h1; simp [asksP, h0', h1])
    · have h1' : inI (nI p) 0 (F 0 - 1) = 1 := by rw [← h31]; exact h1
      refine g_iload_n dX0_asks_0 rfl ?_
      refine g_i2l dX0_asks_1 ?_
      refine g_lconst 0 dX0_asks_2 rfl ?_
      refine g_ldc2 q760 dX0_asks_3 ?_
      refine gs_calli (n := 3) (x_inI (lo := 0) (hi := 2) (by decide) (by decide)) (lw_S q753 q280 q68 q281) (by decide +kernel) rfl rfl (by decide) ⟨Nat.le_refl _, Nat.le_refl _⟩ (Nat.le_of_ble_eq_true rfl) dX0_asks_6 ?_
      refine g_if_eq 37 dX0_asks_9 (by decide) (fun h9 => absurd h9 (by rw [h0']; decide)) (fun _ => ?_)
      refine g_aload_n dX0_asks_12 rfl ?_
      refine g_iload_n dX0_asks_13 rfl ?_
      refine gd_callr (n := 1) (x_isOne hn hn6) (lw_V q761 q763 qs13 q68 q764) (by decide +kernel) (ci := 0) rfl hX_0 rfl rfl (by decide) ⟨Nat.le_refl _, Nat.le_refl _⟩ (Nat.le_of_ble_eq_true rfl) dX0_asks_14 ?_
      refine g_if_eq 37 dX0_asks_17 (by decide) (fun h9 => absurd h9 (by rw [h1]; decide)) (fun _ => ?_)
      refine g_iload_n dX0_asks_20 rfl ?_
      refine gs_calli (n := 1) (x_isThing ) (lw_S q765 q766 q68 q767) (by decide +kernel) rfl rfl (by decide) ⟨Nat.le_refl _, Nat.le_refl _⟩ (Nat.le_of_ble_eq_true rfl) dX0_asks_21 ?_
      refine g_if_eq 37 dX0_asks_24 (by decide) (fun c1 => ?_) (fun c1 => ?_)
      · refine g_sipush (-1000) dX0_asks_37 rfl ?_
        refine g_iret rfl (Nat.le_refl _) (Nat.le_refl _) ?_ dX0_asks_40
        exact xP.of (F := F) (A := A) (by simp_all [asksP, nI_clamp (show k < 2 ^ 31 by omega), nI_clamp (show p < 2 ^ 31 by omega)])
      · refine g_aload_n dX0_asks_27 rfl ?_
        refine g_iload_n dX0_asks_28 rfl ?_
        refine g_iload_n dX0_asks_29 rfl ?_
        refine g_iload_n dX0_asks_30 rfl ?_
        refine gx_calli (n := 3) (x_says (part := k) (e := eM A n ts) hN hg hF hE hC hp (by omega)) (lw_V q769 q771 qs14 q68 q772) (by decide +kernel) rfl rfl (by decide) ⟨Nat.le_refl _, Nat.le_refl _⟩ (Nat.le_of_ble_eq_true rfl) dX0_asks_31 (fun nm => ?_)
        refine g_goto 40 dX0_asks_34 (by decide) ?_
        refine g_iret rfl (Nat.le_refl _) (Nat.le_refl _) ?_ dX0_asks_40
        exact xP.of (F := F) (A := A) (by simp_all [asksP, nI_clamp (show k < 2 ^ 31 by omega), nI_clamp (show p < 2 ^ 31 by omega)])
theorem x_tide (hN : gN g ≤ b) (hn : Fx 31 = nI n) (hn6 : n ≤ 6) (hC : CO c) : Ct g yX0_tide cX0_tide 1 (some .int) 3 0 0 [.ref b] (hX g b Fx Ax c ea tx nm ω0) z (xP g b ω0 z (tideP F A n c) Fx Ax ea tx) := by
  refine Ct.at (own := RX0) (by decide) rfl (Nat.le_of_ble_eq_true rfl) rfl ?_
  refine g_aload_n dX0_tide_0 rfl ?_
  refine xg_tide dX0_tide_1 ?_
  refine g_sipush (999) dX0_tide_4 rfl ?_
  refine g_icmp_ne 15 dX0_tide_7 (by decide) (fun c1 => ?_) (fun c1 => ?_)
  · refine g_aload_n dX0_tide_15 rfl ?_
    refine gx_calli (n := 0) (x_washes (n := n) hN hn hn6 hC) (lw_V q1117 q1119 qs26 q68 q1120) (by decide +kernel) rfl rfl (by decide) ⟨Nat.le_refl _, Nat.le_refl _⟩ (Nat.le_of_ble_eq_true rfl) dX0_tide_16 (fun nm => ?_)
    refine g_iret rfl (Nat.le_refl _) (Nat.le_refl _) ?_ dX0_tide_19
    exact xP.of (F := F) (A := A) (by simp_all [tideP])
  · refine g_bipush (-3) dX0_tide_10 rfl ?_
    refine g_goto 19 dX0_tide_12 (by decide) ?_
    refine g_iret rfl (Nat.le_refl _) (Nat.le_refl _) ?_ dX0_tide_19
    exact xP.of (F := F) (A := A) (by simp_all [tideP])
theorem x_told {p w : Int32} (hN : gN g ≤ b) (hg : gW g) (hF : gF g) (h0 : F 0 = nI n) (hE : XE g b Fx ea tx ω0 (eM A n ts)) (hC : CO c) : Ct g yX0_told cX0_told 3 (some .int) 212 0 0 [.ref b, .int p, .int w] (hX g b Fx Ax c ea tx nm ω0) z (xP g b ω0 z (toldF F A n ts c p w) Fx Ax ea tx) := by
  have hn : Fx 31 = nI n := hE.1
  have hn6 : n ≤ 6 := hE.2.1
  have h31 : Fx 31 = F 0 := hn.trans h0.symm
  refine Ct.at (own := RX0) (by decide) rfl (Nat.le_of_ble_eq_true rfl) rfl ?_
  rcases one_or p hn hn6 with h1 | ⟨p, hp, rfl, h1⟩
  · refine g_aload_n dX0_told_0 rfl ?_
    refine g_iload_n dX0_told_1 rfl ?_
    refine gd_callr (n := 1) (x_isOne hn hn6) (lw_V q761 q763 qs13 q68 q764) (by decide +kernel) (ci := 0) rfl hX_0 rfl rfl (by decide) ⟨Nat.le_refl _, Nat.le_refl _⟩ (Nat.le_of_ble_eq_true rfl) dX0_told_2 ?_
    refine g_if_ne 11 dX0_told_5 (by decide) (fun h9 => absurd h1 h9) (fun _ => ?_)
    refine g_bipush (-5) dX0_told_8 rfl ?_
    refine g_iret rfl (Nat.le_refl _) (Nat.le_refl _) ?_ dX0_told_10
    exact xP.of (F := F) (A := A) (by rw [h31] at h1; simp [toldF, h1])
  · have hcp : (nI p).toNatClampNeg = p := nI_clamp (by omega)
    obtain ⟨a, k, mm, hA, hkd, hmo, hm10⟩ := hE.2.2.1 p hp
    have hk := hA.2.1
    have ha := hA.2.2
    obtain ⟨T, hT, eT⟩ := takes_b (c := c) (e := eM A n ts) hmo hm10
    have h1' : inI (nI p) 0 (F 0 - 1) = 1 := by rw [← h31]; exact h1
    have hA1 : A 1 p = nI k := hkd
    refine g_aload_n dX0_told_0 rfl ?_
    refine g_iload_n dX0_told_1 rfl ?_
    refine gd_callr (n := 1) (x_isOne hn hn6) (lw_V q761 q763 qs13 q68 q764) (by decide +kernel) (ci := 0) rfl hX_0 rfl rfl (by decide) ⟨Nat.le_refl _, Nat.le_refl _⟩ (Nat.le_of_ble_eq_true rfl) dX0_told_2 ?_
    refine g_if_ne 11 dX0_told_5 (by decide) (fun _ => ?_) (fun h9 => absurd h9 (by rw [h1]; decide))
    refine g_iload_n dX0_told_11 rfl ?_
    refine g_tsw [56, 63, 70, 77, 92, 107, 123] 129 dX0_told_12 (by decide) (by decide) (by decide) (fun j t => ?_) (fun hx => ?_)
    · match j with
      | 0 =>
        intro ht hx; cases ht
        replace hx := hx.trans (show Int32.ofInt ((0) + ((0 : Nat) : Int)) = 0 by decide)
        refine g_aload_n dX0_told_56 rfl ?_
        refine xg_knows dX0_told_57 ?_
        refine g_iload_n dX0_told_60 rfl ?_
        refine xl_knows (p) (by omega) (by first | rfl | (simp only [nI, Int32.ofNat_add, Int32.ofNat_mul]; rfl) | (simp only [nI, Int32.ofNat_add, Int32.ofNat_mul]; done)) dX0_told_61 ?_
        refine g_iret rfl (Nat.le_refl _) (Nat.le_refl _) ?_ dX0_told_62
        first | (subst hx; refine xP.of (F := F) (A := A) ?_; unfold toldF; rw [if_neg (by rw [h1']; decide)]; unfold cn; rw [hcp]; first | rfl | (rw [kindJ_eq hk, ← hA1]; rfl) | (rw [eT, mx_N T hT, ← eT]; rfl)) | exact xP.of (F := F) (A := A) (by unfold toldF; rw [if_neg (by rw [h1']; decide), if_neg (fun h => by rcases h with h | h | h <;> exact absurd h (tsw_ne hx _ (by decide))), if_neg (tsw_ne hx 3 (by decide)), if_neg (tsw_ne hx 4 (by decide)), if_neg (tsw_ne hx 5 (by decide)), if_neg (tsw_ne hx 6 (by decide))])
      | 1 =>
        intro ht hx; cases ht
        replace hx := hx.trans (show Int32.ofInt ((0) + ((1 : Nat) : Int)) = 1 by decide)
        refine g_aload_n dX0_told_63 rfl ?_
        refine xg_keeps dX0_told_64 ?_
        refine g_iload_n dX0_told_67 rfl ?_
        refine xl_keeps (p) (by omega) (by first | rfl | (simp only [nI, Int32.ofNat_add, Int32.ofNat_mul]; rfl) | (simp only [nI, Int32.ofNat_add, Int32.ofNat_mul]; done)) dX0_told_68 ?_
        refine g_iret rfl (Nat.le_refl _) (Nat.le_refl _) ?_ dX0_told_69
        first | (subst hx; refine xP.of (F := F) (A := A) ?_; unfold toldF; rw [if_neg (by rw [h1']; decide)]; unfold cn; rw [hcp]; first | rfl | (rw [kindJ_eq hk, ← hA1]; rfl) | (rw [eT, mx_N T hT, ← eT]; rfl)) | exact xP.of (F := F) (A := A) (by unfold toldF; rw [if_neg (by rw [h1']; decide), if_neg (fun h => by rcases h with h | h | h <;> exact absurd h (tsw_ne hx _ (by decide))), if_neg (tsw_ne hx 3 (by decide)), if_neg (tsw_ne hx 4 (by decide)), if_neg (tsw_ne hx 5 (by decide)), if_neg (tsw_ne hx 6 (by decide))])
      | 2 =>
        intro ht hx; cases ht
        replace hx := hx.trans (show Int32.ofInt ((0) + ((2 : Nat) : Int)) = 2 by decide)
        refine g_aload_n dX0_told_70 rfl ?_
        refine xg_luck dX0_told_71 ?_
        refine g_iload_n dX0_told_74 rfl ?_
        refine xl_luck (p) (by omega) (by first | rfl | (simp only [nI, Int32.ofNat_add, Int32.ofNat_mul]; rfl) | (simp only [nI, Int32.ofNat_add, Int32.ofNat_mul]; done)) dX0_told_75 ?_
        refine g_iret rfl (Nat.le_refl _) (Nat.le_refl _) ?_ dX0_told_76
        first | (subst hx; refine xP.of (F := F) (A := A) ?_; unfold toldF; rw [if_neg (by rw [h1']; decide)]; unfold cn; rw [hcp]; first | rfl | (rw [kindJ_eq hk, ← hA1]; rfl) | (rw [eT, mx_N T hT, ← eT]; rfl)) | exact xP.of (F := F) (A := A) (by unfold toldF; rw [if_neg (by rw [h1']; decide), if_neg (fun h => by rcases h with h | h | h <;> exact absurd h (tsw_ne hx _ (by decide))), if_neg (tsw_ne hx 3 (by decide)), if_neg (tsw_ne hx 4 (by decide)), if_neg (tsw_ne hx 5 (by decide)), if_neg (tsw_ne hx 6 (by decide))])
      | 3 =>
        intro ht hx; cases ht
        replace hx := hx.trans (show Int32.ofInt ((0) + ((3 : Nat) : Int)) = 3 by decide)
        refine g_aload_n dX0_told_77 rfl ?_
        refine xg_fishers dX0_told_78 ?_
        refine g_iload_n dX0_told_81 rfl ?_
        refine gd_callr (n := 1) (x_get hA hn hp) (lw_V q773 q774 q775 q71 q776) (by decide +kernel) (ci := 16) rfl hX_2 rfl rfl (by decide) ⟨Nat.le_refl _, Nat.le_refl _⟩ (Nat.le_of_ble_eq_true rfl) dX0_told_82 ?_
        refine gf_cast hg hk (xO_le ha) dX0_told_85 ?_
        refine gf_kind hk (xO_le ha) (by decide) ⟨Nat.le_refl _, Nat.le_refl _⟩ (Nat.le_of_ble_eq_true rfl) dX0_told_88 ?_
        refine g_iret rfl (Nat.le_refl _) (Nat.le_refl _) ?_ dX0_told_91
        first | (subst hx; refine xP.of (F := F) (A := A) ?_; unfold toldF; rw [if_neg (by rw [h1']; decide)]; unfold cn; rw [hcp]; first | rfl | (rw [kindJ_eq hk, ← hA1]; rfl) | (rw [eT, mx_N T hT, ← eT]; rfl)) | exact xP.of (F := F) (A := A) (by unfold toldF; rw [if_neg (by rw [h1']; decide), if_neg (fun h => by rcases h with h | h | h <;> exact absurd h (tsw_ne hx _ (by decide))), if_neg (tsw_ne hx 3 (by decide)), if_neg (tsw_ne hx 4 (by decide)), if_neg (tsw_ne hx 5 (by decide)), if_neg (tsw_ne hx 6 (by decide))])
      | 4 =>
        intro ht hx; cases ht
        replace hx := hx.trans (show Int32.ofInt ((0) + ((4 : Nat) : Int)) = 4 by decide)
        refine g_aload_n dX0_told_92 rfl ?_
        refine xg_fishers dX0_told_93 ?_
        refine g_iload_n dX0_told_96 rfl ?_
        refine gd_callr (n := 1) (x_get hA hn hp) (lw_V q773 q774 q775 q71 q776) (by decide +kernel) (ci := 16) rfl hX_2 rfl rfl (by decide) ⟨Nat.le_refl _, Nat.le_refl _⟩ (Nat.le_of_ble_eq_true rfl) dX0_told_97 ?_
        refine gf_cast hg hk (xO_le ha) dX0_told_100 ?_
        refine gf_more hk (xO_le ha) dX0_told_103 ?_
        refine g_iret rfl (Nat.le_refl _) (Nat.le_refl _) ?_ dX0_told_106
        first | (subst hx; refine xP.of (F := F) (A := A) ?_; unfold toldF; rw [if_neg (by rw [h1']; decide)]; unfold cn; rw [hcp]; first | rfl | (rw [kindJ_eq hk, ← hA1]; rfl) | (rw [eT, mx_N T hT, ← eT]; rfl)) | exact xP.of (F := F) (A := A) (by unfold toldF; rw [if_neg (by rw [h1']; decide), if_neg (fun h => by rcases h with h | h | h <;> exact absurd h (tsw_ne hx _ (by decide))), if_neg (tsw_ne hx 3 (by decide)), if_neg (tsw_ne hx 4 (by decide)), if_neg (tsw_ne hx 5 (by decide)), if_neg (tsw_ne hx 6 (by decide))])
      | 5 =>
        intro ht hx; cases ht
        replace hx := hx.trans (show Int32.ofInt ((0) + ((5 : Nat) : Int)) = 5 by decide)
        refine g_aload_n dX0_told_107 rfl ?_
        refine xg_keeps dX0_told_108 ?_
        refine g_iload_n dX0_told_111 rfl ?_
        refine xl_keeps (p) (by omega) (by first | rfl | (simp only [nI, Int32.ofNat_add, Int32.ofNat_mul]; rfl) | (simp only [nI, Int32.ofNat_add, Int32.ofNat_mul]; done)) dX0_told_112 ?_
        refine g_aload_n dX0_told_113 rfl ?_
        refine xg_knows dX0_told_114 ?_
        refine g_iload_n dX0_told_117 rfl ?_
        refine xl_knows (p) (by omega) (by first | rfl | (simp only [nI, Int32.ofNat_add, Int32.ofNat_mul]; rfl) | (simp only [nI, Int32.ofNat_add, Int32.ofNat_mul]; done)) dX0_told_118 ?_
        refine g_iconst (-1) dX0_told_119 rfl ?_
        refine g_ixor dX0_told_120 ?_
        refine g_iand dX0_told_121 ?_
        refine g_iret rfl (Nat.le_refl _) (Nat.le_refl _) ?_ dX0_told_122
        first | (subst hx; refine xP.of (F := F) (A := A) ?_; unfold toldF; rw [if_neg (by rw [h1']; decide)]; unfold cn; rw [hcp]; first | rfl | (rw [kindJ_eq hk, ← hA1]; rfl) | (rw [eT, mx_N T hT, ← eT]; rfl)) | exact xP.of (F := F) (A := A) (by unfold toldF; rw [if_neg (by rw [h1']; decide), if_neg (fun h => by rcases h with h | h | h <;> exact absurd h (tsw_ne hx _ (by decide))), if_neg (tsw_ne hx 3 (by decide)), if_neg (tsw_ne hx 4 (by decide)), if_neg (tsw_ne hx 5 (by decide)), if_neg (tsw_ne hx 6 (by decide))])
      | 6 =>
        intro ht hx; cases ht
        replace hx := hx.trans (show Int32.ofInt ((0) + ((6 : Nat) : Int)) = 6 by decide)
        refine g_aload_n dX0_told_123 rfl ?_
        refine g_iload_n dX0_told_124 rfl ?_
        refine gx_calli (n := 1) (x_takesOf (e := eM A n ts) hN hg hF hE hC hp) (lw_V q1002 q1004 qs19 q68 q1005) (by decide +kernel) rfl rfl (by decide) ⟨Nat.le_refl _, Nat.le_refl _⟩ (Nat.le_of_ble_eq_true rfl) dX0_told_125 (fun nm => ?_)
        refine g_iret rfl (Nat.le_refl _) (Nat.le_refl _) ?_ dX0_told_128
        first | (subst hx; refine xP.of (F := F) (A := A) ?_; unfold toldF; rw [if_neg (by rw [h1']; decide)]; unfold cn; rw [hcp]; first | rfl | (rw [kindJ_eq hk, ← hA1]; rfl) | (rw [eT, mx_N T hT, ← eT]; rfl)) | exact xP.of (F := F) (A := A) (by unfold toldF; rw [if_neg (by rw [h1']; decide), if_neg (fun h => by rcases h with h | h | h <;> exact absurd h (tsw_ne hx _ (by decide))), if_neg (tsw_ne hx 3 (by decide)), if_neg (tsw_ne hx 4 (by decide)), if_neg (tsw_ne hx 5 (by decide)), if_neg (tsw_ne hx 6 (by decide))])
      | j + 7 => intro ht hx; simp at ht
    · refine g_bipush (-7) dX0_told_129 rfl ?_
      refine g_iret rfl (Nat.le_refl _) (Nat.le_refl _) ?_ dX0_told_131
      first | (subst hx; refine xP.of (F := F) (A := A) ?_; unfold toldF; rw [if_neg (by rw [h1']; decide)]; unfold cn; rw [hcp]; first | rfl | (rw [kindJ_eq hk, ← hA1]; rfl) | (rw [eT, mx_N T hT, ← eT]; rfl)) | exact xP.of (F := F) (A := A) (by unfold toldF; rw [if_neg (by rw [h1']; decide), if_neg (fun h => by rcases h with h | h | h <;> exact absurd h (tsw_ne hx _ (by decide))), if_neg (tsw_ne hx 3 (by decide)), if_neg (tsw_ne hx 4 (by decide)), if_neg (tsw_ne hx 5 (by decide)), if_neg (tsw_ne hx 6 (by decide))])
theorem x_lays {p w : Nat} {v : Int32} (hN : gN g ≤ b) (hp : p < 6) (hw : w < 3) : Ct g yX0_lays cX0_lays 4 none 1 0 0 [.ref b, .int (nI p), .int (nI w), .int v] (hX g b Fx Ax c ea tx nm ω0) z (xQ g b ω0 z none Fx Ax (upd c.1 (3 * p + w) v, c.2.1, c.2.2) ea tx) := by
  refine Ct.at (own := RX0) (by decide) rfl (Nat.le_of_ble_eq_true rfl) rfl ?_
  match w, hw with
  | 0, _ =>
    refine g_iload_n dX0_lays_0 rfl ?_
    refine g_if_ne 14 dX0_lays_1 (by decide) (fun h9 => absurd rfl h9) (fun _ => ?_)
    refine g_aload_n dX0_lays_4 rfl ?_
    refine xg_knows dX0_lays_5 ?_
    refine g_iload_n dX0_lays_8 rfl ?_
    refine g_iload_n dX0_lays_9 rfl ?_
    refine xs_knows (p) hN (by omega) (by first | rfl | (simp only [nI, Int32.ofNat_add, Int32.ofNat_mul]; rfl) | (simp only [nI, Int32.ofNat_add, Int32.ofNat_mul]; done)) dX0_lays_10 ?_
    refine g_goto 36 dX0_lays_11 (by decide) ?_
    refine g_vret rfl (Nat.le_refl _) (Nat.le_refl _) ?_ dX0_lays_36
    exact xQ.mk
  | 1, _ =>
    refine g_iload_n dX0_lays_0 rfl ?_
    refine g_if_ne 14 dX0_lays_1 (by decide) (fun _ => ?_) (fun h9 => absurd h9 (by decide))
    refine g_iload_n dX0_lays_14 rfl ?_
    refine g_iconst (1) dX0_lays_15 rfl ?_
    refine g_icmp_ne 29 dX0_lays_16 (by decide) (fun h9 => absurd rfl h9) (fun _ => ?_)
    refine g_aload_n dX0_lays_19 rfl ?_
    refine xg_keeps dX0_lays_20 ?_
    refine g_iload_n dX0_lays_23 rfl ?_
    refine g_iload_n dX0_lays_24 rfl ?_
    refine xs_keeps (p) hN (by omega) (by first | rfl | (simp only [nI, Int32.ofNat_add, Int32.ofNat_mul]; rfl) | (simp only [nI, Int32.ofNat_add, Int32.ofNat_mul]; done)) dX0_lays_25 ?_
    refine g_goto 36 dX0_lays_26 (by decide) ?_
    refine g_vret rfl (Nat.le_refl _) (Nat.le_refl _) ?_ dX0_lays_36
    exact xQ.mk
  | 2, _ =>
    refine g_iload_n dX0_lays_0 rfl ?_
    refine g_if_ne 14 dX0_lays_1 (by decide) (fun _ => ?_) (fun h9 => absurd h9 (by decide))
    refine g_iload_n dX0_lays_14 rfl ?_
    refine g_iconst (1) dX0_lays_15 rfl ?_
    refine g_icmp_ne 29 dX0_lays_16 (by decide) (fun _ => ?_) (fun h9 => absurd h9 (by decide))
    refine g_aload_n dX0_lays_29 rfl ?_
    refine xg_luck dX0_lays_30 ?_
    refine g_iload_n dX0_lays_33 rfl ?_
    refine g_iload_n dX0_lays_34 rfl ?_
    refine xs_luck (p) hN (by omega) (by first | rfl | (simp only [nI, Int32.ofNat_add, Int32.ofNat_mul]; rfl) | (simp only [nI, Int32.ofNat_add, Int32.ofNat_mul]; done)) dX0_lays_35 ?_
    refine g_vret rfl (Nat.le_refl _) (Nat.le_refl _) ?_ dX0_lays_36
    exact xQ.mk
theorem x_put {p w v : Int32} (hN : gN g ≤ b) (hg : gW g) (hF : gF g) (h0 : F 0 = nI n) (hE : XE g b Fx ea tx ω0 (eM A n ts)) (hC : CO c) : Ct g yX0_put cX0_put 5 (some .int) 213 0 0 [.ref b, .int p, .int w, .int v] (hX g b Fx Ax c ea tx nm ω0) z (xP g b ω0 z (putF F A c p w v) Fx Ax ea tx) := by
  have hn : Fx 31 = nI n := hE.1
  have hn6 : n ≤ 6 := hE.2.1
  have h31 : Fx 31 = F 0 := hn.trans h0.symm
  refine Ct.at (own := RX0) (by decide) rfl (Nat.le_of_ble_eq_true rfl) rfl ?_
  rcases one_or p hn hn6 with h1 | ⟨p, hp, rfl, h1⟩
  · refine g_aload_n dX0_put_0 rfl ?_
    refine g_iload_n dX0_put_1 rfl ?_
    refine gd_callr (n := 1) (x_isOne hn hn6) (lw_V q761 q763 qs13 q68 q764) (by decide +kernel) (ci := 0) rfl hX_0 rfl rfl (by decide) ⟨Nat.le_refl _, Nat.le_refl _⟩ (Nat.le_of_ble_eq_true rfl) dX0_put_2 ?_
    refine g_if_ne 11 dX0_put_5 (by decide) (fun h9 => absurd h1 h9) (fun _ => ?_)
    refine g_bipush (-5) dX0_put_8 rfl ?_
    refine g_iret rfl (Nat.le_refl _) (Nat.le_refl _) ?_ dX0_put_10
    exact xP.of (F := F) (A := A) (by rw [h31] at h1; simp [putF, h1])
  · have hcp : (nI p).toNatClampNeg = p := nI_clamp (by omega)
    have h1' : inI (nI p) 0 (F 0 - 1) = 1 := by rw [← h31]; exact h1
    rcases in_or w (hi := 2) (m := 2) (by decide) with h2 | ⟨w, hw, rfl, h2⟩
    · refine g_aload_n dX0_put_0 rfl ?_
      refine g_iload_n dX0_put_1 rfl ?_
      refine gd_callr (n := 1) (x_isOne hn hn6) (lw_V q761 q763 qs13 q68 q764) (by decide +kernel) (ci := 0) rfl hX_0 rfl rfl (by decide) ⟨Nat.le_refl _, Nat.le_refl _⟩ (Nat.le_of_ble_eq_true rfl) dX0_put_2 ?_
      refine g_if_ne 11 dX0_put_5 (by decide) (fun _ => ?_) (fun h9 => absurd h9 (by rw [h1]; decide))
      refine g_iload_n dX0_put_11 rfl ?_
      refine g_i2l dX0_put_12 ?_
      refine g_lconst 0 dX0_put_13 rfl ?_
      refine g_ldc2 q760 dX0_put_14 ?_
      refine gs_calli (n := 3) (x_inI (lo := 0) (hi := 2) (by decide) (by decide)) (lw_S q753 q280 q68 q281) (by decide +kernel) rfl rfl (by decide) ⟨Nat.le_refl _, Nat.le_refl _⟩ (Nat.le_of_ble_eq_true rfl) dX0_put_17 ?_
      refine g_if_eq 46 dX0_put_20 (by decide) (fun _ => ?_) (fun h9 => absurd h2 h9)
      refine g_bipush (-7) dX0_put_46 rfl ?_
      refine g_iret rfl (Nat.le_refl _) (Nat.le_refl _) ?_ dX0_put_48
      exact xP.of (F := F) (A := A) (by simp [putF, h1', h2])
    · have hcw : (nI w).toNatClampNeg = w := nI_clamp (by omega)
      have he : putF F A c (nI p) (nI w) v = if inI v 0 (if nI w = 2 then 99 else 65535) = 0 then (-7, F, A, c) else (c.1 (3 * p + w), F, A, (upd c.1 (3 * p + w) v, c.2.1, c.2.2)) := by
        unfold putF cn; rw [hcp, hcw]; simp [h1', h2]
      rw [he]
      have ht : (toldF F A n ts c (nI p) (nI w)).1 = c.1 (3 * p + w) := by
        unfold toldF cn; rw [hcp, hcw]
        have : nI w = 0 ∨ nI w = 1 ∨ nI w = 2 := by
          match w, hw with
          | 0, _ => exact .inl rfl
          | 1, _ => exact .inr (.inl rfl)
          | 2, _ => exact .inr (.inr rfl)
        simp [h1', this]
      by_cases hw2 : nI w = 2
      · refine g_aload_n dX0_put_0 rfl ?_
        refine g_iload_n dX0_put_1 rfl ?_
        refine gd_callr (n := 1) (x_isOne hn hn6) (lw_V q761 q763 qs13 q68 q764) (by decide +kernel) (ci := 0) rfl hX_0 rfl rfl (by decide) ⟨Nat.le_refl _, Nat.le_refl _⟩ (Nat.le_of_ble_eq_true rfl) dX0_put_2 ?_
        refine g_if_ne 11 dX0_put_5 (by decide) (fun _ => ?_) (fun h9 => absurd h9 (by rw [h1]; decide))
        refine g_iload_n dX0_put_11 rfl ?_
        refine g_i2l dX0_put_12 ?_
        refine g_lconst 0 dX0_put_13 rfl ?_
        refine g_ldc2 q760 dX0_put_14 ?_
        refine gs_calli (n := 3) (x_inI (lo := 0) (hi := 2) (by decide) (by decide)) (lw_S q753 q280 q68 q281) (by decide +kernel) rfl rfl (by decide) ⟨Nat.le_refl _, Nat.le_refl _⟩ (Nat.le_of_ble_eq_true rfl) dX0_put_17 ?_
        refine g_if_eq 46 dX0_put_20 (by decide) (fun h9 => absurd h9 (by rw [h2]; decide)) (fun _ => ?_)
        refine g_iload_n dX0_put_23 rfl ?_
        refine g_i2l dX0_put_24 ?_
        refine g_lconst 0 dX0_put_25 rfl ?_
        refine g_iload_n dX0_put_26 rfl ?_
        refine g_iconst (2) dX0_put_27 rfl ?_
        refine g_icmp_ne 37 dX0_put_28 (by decide) (fun h9 => absurd hw2 h9) (fun _ => ?_)
        refine g_ldc2 q974 dX0_put_31 ?_
        refine g_goto 40 dX0_put_34 (by decide) ?_
        refine gs_calli (n := 3) (x_inI (lo := 0) (hi := 99) (by decide) (by decide)) (lw_S q753 q280 q68 q281) (by decide +kernel) rfl rfl (by decide) ⟨Nat.le_refl _, Nat.le_refl _⟩ (Nat.le_of_ble_eq_true rfl) dX0_put_40 ?_
        refine g_if_ne 49 dX0_put_43 (by decide) (fun c1 => ?_) (fun c1 => ?_)
        · refine g_aload_n dX0_put_49 rfl ?_
          refine g_iload_n dX0_put_50 rfl ?_
          refine g_iload_n dX0_put_51 rfl ?_
          refine gx_calli (n := 2) (x_told (F := F) (A := A) (n := n) (ts := ts) hN hg hF h0 hE hC) (lw_V q975 q976 q977 q68 q978) (by decide +kernel) rfl rfl (by decide) ⟨Nat.le_refl _, Nat.le_refl _⟩ (Nat.le_of_ble_eq_true rfl) dX0_put_52 (fun nm => ?_)
          refine g_istore (L' := [(4, _), (0, _), (1, _), (2, _), (3, _)]) dX0_put_55 (by decide) rfl ?_
          refine g_aload_n dX0_put_57 rfl ?_
          refine g_iload_n dX0_put_58 rfl ?_
          refine g_iload_n dX0_put_59 rfl ?_
          refine g_iload_n dX0_put_60 rfl ?_
          refine gx_callv (n := 3) (x_lays hN (by omega) (by omega)) (lw_V q1029 q1031 qs20 q68 q1032) (by decide +kernel) rfl rfl (by decide) ⟨Nat.le_refl _, Nat.le_refl _⟩ (Nat.le_of_ble_eq_true rfl) dX0_put_61 (fun nm => ?_)
          refine g_iload dX0_put_64 rfl ?_
          refine g_iret rfl (Nat.le_refl _) (Nat.le_refl _) ?_ dX0_put_66
          first | exact xP.of (F := F) (A := A) (by rw [if_pos hw2, if_pos c1]) | exact xP.of (F := F) (A := A) (by rw [if_pos hw2, if_neg c1, ht] <;> rfl)
        · refine g_bipush (-7) dX0_put_46 rfl ?_
          refine g_iret rfl (Nat.le_refl _) (Nat.le_refl _) ?_ dX0_put_48
          first | exact xP.of (F := F) (A := A) (by rw [if_pos hw2, if_pos c1]) | exact xP.of (F := F) (A := A) (by rw [if_pos hw2, if_neg c1, ht] <;> rfl)
      · refine g_aload_n dX0_put_0 rfl ?_
        refine g_iload_n dX0_put_1 rfl ?_
        refine gd_callr (n := 1) (x_isOne hn hn6) (lw_V q761 q763 qs13 q68 q764) (by decide +kernel) (ci := 0) rfl hX_0 rfl rfl (by decide) ⟨Nat.le_refl _, Nat.le_refl _⟩ (Nat.le_of_ble_eq_true rfl) dX0_put_2 ?_
        refine g_if_ne 11 dX0_put_5 (by decide) (fun _ => ?_) (fun h9 => absurd h9 (by rw [h1]; decide))
        refine g_iload_n dX0_put_11 rfl ?_
        refine g_i2l dX0_put_12 ?_
        refine g_lconst 0 dX0_put_13 rfl ?_
        refine g_ldc2 q760 dX0_put_14 ?_
        refine gs_calli (n := 3) (x_inI (lo := 0) (hi := 2) (by decide) (by decide)) (lw_S q753 q280 q68 q281) (by decide +kernel) rfl rfl (by decide) ⟨Nat.le_refl _, Nat.le_refl _⟩ (Nat.le_of_ble_eq_true rfl) dX0_put_17 ?_
        refine g_if_eq 46 dX0_put_20 (by decide) (fun h9 => absurd h9 (by rw [h2]; decide)) (fun _ => ?_)
        refine g_iload_n dX0_put_23 rfl ?_
        refine g_i2l dX0_put_24 ?_
        refine g_lconst 0 dX0_put_25 rfl ?_
        refine g_iload_n dX0_put_26 rfl ?_
        refine g_iconst (2) dX0_put_27 rfl ?_
        refine g_icmp_ne 37 dX0_put_28 (by decide) (fun _ => ?_) (fun h9 => absurd h9 hw2)
        refine g_ldc2 q755 dX0_put_37 ?_
        refine gs_calli (n := 3) (x_inI (lo := 0) (hi := 65535) (by decide) (by decide)) (lw_S q753 q280 q68 q281) (by decide +kernel) rfl rfl (by decide) ⟨Nat.le_refl _, Nat.le_refl _⟩ (Nat.le_of_ble_eq_true rfl) dX0_put_40 ?_
        refine g_if_ne 49 dX0_put_43 (by decide) (fun c1 => ?_) (fun c1 => ?_)
        · refine g_aload_n dX0_put_49 rfl ?_
          refine g_iload_n dX0_put_50 rfl ?_
          refine g_iload_n dX0_put_51 rfl ?_
          refine gx_calli (n := 2) (x_told (F := F) (A := A) (n := n) (ts := ts) hN hg hF h0 hE hC) (lw_V q975 q976 q977 q68 q978) (by decide +kernel) rfl rfl (by decide) ⟨Nat.le_refl _, Nat.le_refl _⟩ (Nat.le_of_ble_eq_true rfl) dX0_put_52 (fun nm => ?_)
          refine g_istore (L' := [(4, _), (0, _), (1, _), (2, _), (3, _)]) dX0_put_55 (by decide) rfl ?_
          refine g_aload_n dX0_put_57 rfl ?_
          refine g_iload_n dX0_put_58 rfl ?_
          refine g_iload_n dX0_put_59 rfl ?_
          refine g_iload_n dX0_put_60 rfl ?_
          refine gx_callv (n := 3) (x_lays hN (by omega) (by omega)) (lw_V q1029 q1031 qs20 q68 q1032) (by decide +kernel) rfl rfl (by decide) ⟨Nat.le_refl _, Nat.le_refl _⟩ (Nat.le_of_ble_eq_true rfl) dX0_put_61 (fun nm => ?_)
          refine g_iload dX0_put_64 rfl ?_
          refine g_iret rfl (Nat.le_refl _) (Nat.le_refl _) ?_ dX0_put_66
          first | exact xP.of (F := F) (A := A) (by rw [if_neg hw2, if_pos c1]) | exact xP.of (F := F) (A := A) (by rw [if_neg hw2, if_neg c1, ht] <;> rfl)
        · refine g_bipush (-7) dX0_put_46 rfl ?_
          refine g_iret rfl (Nat.le_refl _) (Nat.le_refl _) ?_ dX0_put_48
          first | exact xP.of (F := F) (A := A) (by rw [if_neg hw2, if_pos c1]) | exact xP.of (F := F) (A := A) (by rw [if_neg hw2, if_neg c1, ht] <;> rfl)
theorem x_lands {p t w : Int32} (hN : gN g ≤ b) (hg : gW g) (hF : gF g) (h0 : F 0 = nI n) (hE : XE g b Fx ea tx ω0 (eM A n ts)) (hC : CO c) : Ct g yX0_lands cX0_lands 4 (some .int) 212 0 0 [.ref b, .int p, .int t, .int w] (hX g b Fx Ax c ea tx nm ω0) z (xP g b ω0 z (landsF F A n ts c p t w) Fx Ax ea tx) := by
  have hn : Fx 31 = nI n := hE.1
  have hn6 : n ≤ 6 := hE.2.1
  have h31 : Fx 31 = F 0 := hn.trans h0.symm
  refine Ct.at (own := RX0) (by decide) rfl (Nat.le_of_ble_eq_true rfl) rfl ?_
  rcases one_or p hn hn6 with h1 | ⟨p, hp, rfl, h1⟩
  · refine g_aload_n dX0_lands_0 rfl ?_
    refine g_iload_n dX0_lands_1 rfl ?_
    refine gd_callr (n := 1) (x_isOne hn hn6) (lw_V q761 q763 qs13 q68 q764) (by decide +kernel) (ci := 0) rfl hX_0 rfl rfl (by decide) ⟨Nat.le_refl _, Nat.le_refl _⟩ (Nat.le_of_ble_eq_true rfl) dX0_lands_2 ?_
    refine g_if_eq 15 dX0_lands_5 (by decide) (fun _ => ?_) (fun h9 => absurd h1 h9)
    refine g_sipush (-5000) dX0_lands_15 rfl ?_
    refine g_iret rfl (Nat.le_refl _) (Nat.le_refl _) ?_ dX0_lands_18
    exact xP.of (F := F) (A := A) (by rw [h31] at h1; simp [landsF, h1])
  · have hcp : (nI p).toNatClampNeg = p := nI_clamp (by omega)
    have h1' : inI (nI p) 0 (F 0 - 1) = 1 := by rw [← h31]; exact h1
    refine g_aload_n dX0_lands_0 rfl ?_
    refine g_iload_n dX0_lands_1 rfl ?_
    refine gd_callr (n := 1) (x_isOne hn hn6) (lw_V q761 q763 qs13 q68 q764) (by decide +kernel) (ci := 0) rfl hX_0 rfl rfl (by decide) ⟨Nat.le_refl _, Nat.le_refl _⟩ (Nat.le_of_ble_eq_true rfl) dX0_lands_2 ?_
    refine g_if_eq 15 dX0_lands_5 (by decide) (fun h9 => absurd h9 (by rw [h1]; decide)) (fun _ => ?_)
    refine g_iload_n dX0_lands_8 rfl ?_
    refine gs_calli (n := 1) (x_isThing ) (lw_S q765 q766 q68 q767) (by decide +kernel) rfl rfl (by decide) ⟨Nat.le_refl _, Nat.le_refl _⟩ (Nat.le_of_ble_eq_true rfl) dX0_lands_9 ?_
    refine g_if_ne 19 dX0_lands_12 (by decide) (fun c1 => ?_) (fun c1 => ?_)
    · refine g_iload_n dX0_lands_19 rfl ?_
      refine g_i2l dX0_lands_20 ?_
      refine g_lconst 0 dX0_lands_21 rfl ?_
      refine g_lconst 1 dX0_lands_22 rfl ?_
      refine gs_calli (n := 3) (x_inI (lo := 0) (hi := 1) (by decide) (by decide)) (lw_S q753 q280 q68 q281) (by decide +kernel) rfl rfl (by decide) ⟨Nat.le_refl _, Nat.le_refl _⟩ (Nat.le_of_ble_eq_true rfl) dX0_lands_23 ?_
      refine g_if_ne 33 dX0_lands_26 (by decide) (fun c2 => ?_) (fun c2 => ?_)
      · refine g_iload_n dX0_lands_33 rfl ?_
        refine g_if_ne 46 dX0_lands_34 (by decide) (fun c3 => ?_) (fun c3 => ?_)
        · refine g_aload_n dX0_lands_46 rfl ?_
          refine g_iload_n dX0_lands_47 rfl ?_
          refine g_iload_n dX0_lands_48 rfl ?_
          refine gx_calli (n := 2) (x_lucksOf (e := eM A n ts) hN hg hF hE hC hp) (lw_V q1067 q1069 qs22 q68 q1070) (by decide +kernel) rfl rfl (by decide) ⟨Nat.le_refl _, Nat.le_refl _⟩ (Nat.le_of_ble_eq_true rfl) dX0_lands_49 (fun nm => ?_)
          refine g_iret rfl (Nat.le_refl _) (Nat.le_refl _) ?_ dX0_lands_52
          exact xP.of (F := F) (A := A) (by simp_all [landsF])
        · refine g_aload_n dX0_lands_37 rfl ?_
          refine g_iload_n dX0_lands_38 rfl ?_
          refine g_iload_n dX0_lands_39 rfl ?_
          refine gx_calli (n := 2) (x_letsOf (e := eM A n ts) hN hg hF hE hC hp) (lw_V q1038 q1040 qs21 q68 q1041) (by decide +kernel) rfl rfl (by decide) ⟨Nat.le_refl _, Nat.le_refl _⟩ (Nat.le_of_ble_eq_true rfl) dX0_lands_40 (fun nm => ?_)
          refine g_goto 52 dX0_lands_43 (by decide) ?_
          refine g_iret rfl (Nat.le_refl _) (Nat.le_refl _) ?_ dX0_lands_52
          exact xP.of (F := F) (A := A) (by simp_all [landsF])
      · refine g_sipush (-7000) dX0_lands_29 rfl ?_
        refine g_iret rfl (Nat.le_refl _) (Nat.le_refl _) ?_ dX0_lands_32
        exact xP.of (F := F) (A := A) (by simp_all [landsF])
    · refine g_sipush (-5000) dX0_lands_15 rfl ?_
      refine g_iret rfl (Nat.le_refl _) (Nat.le_refl _) ?_ dX0_lands_18
      exact xP.of (F := F) (A := A) (by simp_all [landsF])
theorem x_land {p t : Int32} (hN : gN g ≤ b) (hg : gW g) (hF : gF g) (h0 : F 0 = nI n) (hE : XE g b Fx ea tx ω0 (eM A n ts)) (hC : CO c) : Ct g yX0_land cX0_land 3 (some .int) 213 0 0 [.ref b, .int p, .int t] (hX g b Fx Ax c ea tx nm ω0) z (xP g b ω0 z (landP F A n ts c p t) Fx Ax ea tx) := by
  have hn : Fx 31 = nI n := hE.1
  have hn6 : n ≤ 6 := hE.2.1
  have h31 : Fx 31 = F 0 := hn.trans h0.symm
  refine Ct.at (own := RX0) (by decide) rfl (Nat.le_of_ble_eq_true rfl) rfl ?_
  rcases one_or p hn hn6 with h1 | ⟨p, hp, rfl, h1⟩
  · refine g_aload_n dX0_land_0 rfl ?_
    refine g_iload_n dX0_land_1 rfl ?_
    refine gd_callr (n := 1) (x_isOne hn hn6) (lw_V q761 q763 qs13 q68 q764) (by decide +kernel) (ci := 0) rfl hX_0 rfl rfl (by decide) ⟨Nat.le_refl _, Nat.le_refl _⟩ (Nat.le_of_ble_eq_true rfl) dX0_land_2 ?_
    refine g_if_ne 13 dX0_land_5 (by decide) (fun h9 => absurd h1 h9) (fun _ => ?_)
    refine g_bipush (-5) dX0_land_8 rfl ?_
    refine g_goto 31 dX0_land_10 (by decide) ?_
    refine g_iret rfl (Nat.le_refl _) (Nat.le_refl _) ?_ dX0_land_31
    exact xP.of (F := F) (A := A) (by rw [h31] at h1; simp [landP, h1])
  · have hcp : (nI p).toNatClampNeg = p := nI_clamp (by omega)
    have h1' : inI (nI p) 0 (F 0 - 1) = 1 := by rw [← h31]; exact h1
    refine g_aload_n dX0_land_0 rfl ?_
    refine g_iload_n dX0_land_1 rfl ?_
    refine gd_callr (n := 1) (x_isOne hn hn6) (lw_V q761 q763 qs13 q68 q764) (by decide +kernel) (ci := 0) rfl hX_0 rfl rfl (by decide) ⟨Nat.le_refl _, Nat.le_refl _⟩ (Nat.le_of_ble_eq_true rfl) dX0_land_2 ?_
    refine g_if_ne 13 dX0_land_5 (by decide) (fun _ => ?_) (fun h9 => absurd h9 (by rw [h1]; decide))
    refine g_iload_n dX0_land_13 rfl ?_
    refine gs_calli (n := 1) (x_isThing ) (lw_S q765 q766 q68 q767) (by decide +kernel) rfl rfl (by decide) ⟨Nat.le_refl _, Nat.le_refl _⟩ (Nat.le_of_ble_eq_true rfl) dX0_land_14 ?_
    refine g_if_ne 25 dX0_land_17 (by decide) (fun c1 => ?_) (fun c1 => ?_)
    · refine g_aload_n dX0_land_25 rfl ?_
      refine g_iload_n dX0_land_26 rfl ?_
      refine g_iload_n dX0_land_27 rfl ?_
      refine gx_calli (n := 2) (x_landed (e := eM A n ts) hN hg hF hE hC hp) (lw_V q1094 q1096 qs23 q68 q1097) (by decide +kernel) rfl rfl (by decide) ⟨Nat.le_refl _, Nat.le_refl _⟩ (Nat.le_of_ble_eq_true rfl) dX0_land_28 (fun nm => ?_)
      refine g_iret rfl (Nat.le_refl _) (Nat.le_refl _) ?_ dX0_land_31
      exact xP.of (F := F) (A := A) (by simp_all [landP])
    · refine g_bipush (-6) dX0_land_20 rfl ?_
      refine g_goto 31 dX0_land_22 (by decide) ?_
      refine g_iret rfl (Nat.le_refl _) (Nat.le_refl _) ?_ dX0_land_31
      exact xP.of (F := F) (A := A) (by simp_all [landP])
theorem x_teach {p q : Int32} (hN : gN g ≤ b) (hg : gW g) (hF : gF g) (h0 : F 0 = nI n) (hE : XE g b Fx ea tx ω0 (eM A n ts)) (hC : CO c) : Ct g yX0_teach cX0_teach 4 (some .int) 213 0 0 [.ref b, .int p, .int q] (hX g b Fx Ax c ea tx nm ω0) z (xP g b ω0 z (teachP F A n ts c p q) Fx Ax ea tx) := by
  have hn : Fx 31 = nI n := hE.1
  have hn6 : n ≤ 6 := hE.2.1
  have h31 : Fx 31 = F 0 := hn.trans h0.symm
  refine Ct.at (own := RX0) (by decide) rfl (Nat.le_of_ble_eq_true rfl) rfl ?_
  by_cases hb : inI p 0 (Fx 31 - 1) = 0 ∨ inI q 0 (Fx 31 - 1) = 0 ∨ p = q
  · have hb' : inI p 0 (F 0 - 1) = 0 ∨ inI q 0 (F 0 - 1) = 0 ∨ p = q := by rw [← h31]; exact hb
    refine g_aload_n dX0_teach_0 rfl ?_
    refine g_iload_n dX0_teach_1 rfl ?_
    refine g_iload_n dX0_teach_2 rfl ?_
    refine gd_callr (n := 2) (x_areTwo hn hn6) (lw_V q1102 q1104 qs24 q68 q1105) (by decide +kernel) (ci := 0) rfl hX_0 rfl rfl (by decide) ⟨Nat.le_refl _, Nat.le_refl _⟩ (Nat.le_of_ble_eq_true rfl) dX0_teach_3 ?_
    refine g_if_ne 12 dX0_teach_6 (by decide) (fun h9 => absurd (if_pos hb) h9) (fun _ => ?_)
    refine g_bipush (-5) dX0_teach_9 rfl ?_
    refine g_iret rfl (Nat.le_refl _) (Nat.le_refl _) ?_ dX0_teach_11
    exact xP.of (F := F) (A := A) (by unfold teachP; rw [if_pos hb'])
  · have hb' : ¬ (inI p 0 (F 0 - 1) = 0 ∨ inI q 0 (F 0 - 1) = 0 ∨ p = q) := by rw [← h31]; exact hb
    obtain ⟨p, hp, rfl⟩ := one_ix hn hn6 (fun h => hb (.inl h))
    obtain ⟨q, hq, rfl⟩ := one_ix hn hn6 (fun h => hb (.inr (.inl h)))
    have hcp : (nI p).toNatClampNeg = p := nI_clamp (by omega)
    have hcq : (nI q).toNatClampNeg = q := nI_clamp (by omega)
    refine g_aload_n dX0_teach_0 rfl ?_
    refine g_iload_n dX0_teach_1 rfl ?_
    refine g_iload_n dX0_teach_2 rfl ?_
    refine gd_callr (n := 2) (x_areTwo hn hn6) (lw_V q1102 q1104 qs24 q68 q1105) (by decide +kernel) (ci := 0) rfl hX_0 rfl rfl (by decide) ⟨Nat.le_refl _, Nat.le_refl _⟩ (Nat.le_of_ble_eq_true rfl) dX0_teach_3 ?_
    refine g_if_ne 12 dX0_teach_6 (by decide) (fun _ => ?_) (fun h9 => absurd h9 (by rw [if_neg hb]; decide))
    refine g_aload_n dX0_teach_12 rfl ?_
    refine g_iload_n dX0_teach_13 rfl ?_
    refine g_iload_n dX0_teach_14 rfl ?_
    refine gx_calli (n := 2) (x_lesson (e := eM A n ts) hN hg hF hE hC hp hq) (lw_V q1106 q1108 qs25 q68 q1109) (by decide +kernel) rfl rfl (by decide) ⟨Nat.le_refl _, Nat.le_refl _⟩ (Nat.le_of_ble_eq_true rfl) dX0_teach_15 (fun nm => ?_)
    refine g_istore_n (L' := [(3, _), (0, _), (1, _), (2, _)]) dX0_teach_18 (by decide) rfl ?_
    refine g_aload_n dX0_teach_19 rfl ?_
    refine xg_knows dX0_teach_20 ?_
    refine g_iload_n dX0_teach_23 rfl ?_
    refine g_dup2_11 dX0_teach_24 rfl rfl ?_
    refine xl_knows (q) (by omega) (by first | rfl | (simp only [nI, Int32.ofNat_add, Int32.ofNat_mul]; rfl) | (simp only [nI, Int32.ofNat_add, Int32.ofNat_mul]; done)) dX0_teach_25 ?_
    refine g_iload_n dX0_teach_26 rfl ?_
    refine g_ior dX0_teach_27 ?_
    refine xs_knows (q) hN (by omega) (by first | rfl | (simp only [nI, Int32.ofNat_add, Int32.ofNat_mul]; rfl) | (simp only [nI, Int32.ofNat_add, Int32.ofNat_mul]; done)) dX0_teach_28 ?_
    refine g_iload_n dX0_teach_29 rfl ?_
    refine g_iret rfl (Nat.le_refl _) (Nat.le_refl _) ?_ dX0_teach_30
    exact xP.of (F := F) (A := A) (by unfold teachP cn; rw [if_neg hb', hcp, hcq]; rfl)
end B
