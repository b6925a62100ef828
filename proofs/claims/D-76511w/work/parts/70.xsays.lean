/-! the component's says -/
set_option maxRecDepth 100000
section XS
variable {g : GE} {b z p : Nat} {F : Nat → Int32} {A : Nat → Nat → Int32} {c : Cr} {ea : Nat} {tx : Nat → Option Nat} {nm : Nat → Int32} {ω0 : Om} {e : En} {thing : Int32}
theorem x_says0 (hN : gN g ≤ b) (hg : gW g) (hF : gF g) (hE : XE g b F ea tx ω0 e) (hC : CO c) (hp : p < e.1) : Ct g yX0_says cX0_says 4 (some .int) 210 0 0 [.ref b, .int (nI 0), .int (nI p), .int thing] (hX g b F A c ea tx nm ω0) z (xQ g b ω0 z (some (.int (asksF e c 0 p thing))) F A c ea tx) := by
  obtain ⟨hn, hn6, hfi, r, hr6, hr, htx⟩ := hE
  obtain ⟨a, k, mm, hA, -, -, -⟩ := hfi p hp
  have hk := hA.2.1
  have ha := hA.2.2
  obtain ⟨tr, f3, htr, htr2, htp⟩ := htx
  obtain ⟨pt, h, W, hpt, hh, hT, hW⟩ := htp 0 (by decide)
  refine Ct.at (own := RX0) (by decide) rfl (Nat.le_of_ble_eq_true rfl) rfl ?_
  refine g_aload_n dX0_says_0 rfl ?_
  refine xg_names dX0_says_1 ?_
  refine g_iconst (0) dX0_says_4 rfl ?_
  refine g_iload_n dX0_says_5 rfl ?_
  refine g_iconst (2) dX0_says_6 rfl ?_
  refine g_icmp_ne 14 dX0_says_7 (by decide) (fun _ => ?_) (fun h9 => absurd h9 (by decide))
  refine g_iload_n dX0_says_14 rfl ?_
  refine xs_names (0) hN (by omega) (by first | rfl | (simp only [nI, Int32.ofNat_add, Int32.ofNat_mul]; rfl) | (simp only [nI, Int32.ofNat_add, Int32.ofNat_mul]; done)) dX0_says_15 ?_
  refine g_pc 16 rfl ?_
  refine g_aload_n dX0_says_16 rfl ?_
  refine xg_names dX0_says_17 ?_
  refine g_iconst (1) dX0_says_20 rfl ?_
  refine g_aload_n dX0_says_21 rfl ?_
  refine xg_knows dX0_says_22 ?_
  refine g_iload_n dX0_says_25 rfl ?_
  refine xl_knows (p) (by omega) (by first | rfl | (simp only [nI, Int32.ofNat_add, Int32.ofNat_mul]; rfl) | (simp only [nI, Int32.ofNat_add, Int32.ofNat_mul]; done)) dX0_says_26 ?_
  refine gs_calli (n := 1) (j_bitCount ) (lw_S q743 q744 q94 q745) (by decide +kernel) rfl rfl (by decide) ⟨Nat.le_refl _, Nat.le_refl _⟩ (Nat.le_of_ble_eq_true rfl) dX0_says_27 ?_
  refine xs_names (1) hN (by omega) (by first | rfl | (simp only [nI, Int32.ofNat_add, Int32.ofNat_mul]; rfl) | (simp only [nI, Int32.ofNat_add, Int32.ofNat_mul]; done)) dX0_says_30 ?_
  refine g_aload_n dX0_says_31 rfl ?_
  refine xg_names dX0_says_32 ?_
  refine g_iconst (2) dX0_says_35 rfl ?_
  refine g_aload_n dX0_says_36 rfl ?_
  refine xg_keeps dX0_says_37 ?_
  refine g_iload_n dX0_says_40 rfl ?_
  refine xl_keeps (p) (by omega) (by first | rfl | (simp only [nI, Int32.ofNat_add, Int32.ofNat_mul]; rfl) | (simp only [nI, Int32.ofNat_add, Int32.ofNat_mul]; done)) dX0_says_41 ?_
  refine gs_calli (n := 1) (j_bitCount ) (lw_S q743 q744 q94 q745) (by decide +kernel) rfl rfl (by decide) ⟨Nat.le_refl _, Nat.le_refl _⟩ (Nat.le_of_ble_eq_true rfl) dX0_says_42 ?_
  refine xs_names (2) hN (by omega) (by first | rfl | (simp only [nI, Int32.ofNat_add, Int32.ofNat_mul]; rfl) | (simp only [nI, Int32.ofNat_add, Int32.ofNat_mul]; done)) dX0_says_45 ?_
  refine g_aload_n dX0_says_46 rfl ?_
  refine xg_names dX0_says_47 ?_
  refine g_iconst (3) dX0_says_50 rfl ?_
  refine g_aload_n dX0_says_51 rfl ?_
  refine xg_tide dX0_says_52 ?_
  refine xs_names (3) hN (by omega) (by first | rfl | (simp only [nI, Int32.ofNat_add, Int32.ofNat_mul]; rfl) | (simp only [nI, Int32.ofNat_add, Int32.ofNat_mul]; done)) dX0_says_55 ?_
  refine g_pc 56 rfl ?_
  refine g_aload_n dX0_says_56 rfl ?_
  refine xg_names dX0_says_57 ?_
  refine g_iconst (4) dX0_says_60 rfl ?_
  refine g_aload_n dX0_says_61 rfl ?_
  refine xg_luck dX0_says_62 ?_
  refine g_iload_n dX0_says_65 rfl ?_
  refine xl_luck (p) (by omega) (by first | rfl | (simp only [nI, Int32.ofNat_add, Int32.ofNat_mul]; rfl) | (simp only [nI, Int32.ofNat_add, Int32.ofNat_mul]; done)) dX0_says_66 ?_
  refine xs_names (4) hN (by omega) (by first | rfl | (simp only [nI, Int32.ofNat_add, Int32.ofNat_mul]; rfl) | (simp only [nI, Int32.ofNat_add, Int32.ofNat_mul]; done)) dX0_says_67 ?_
  refine g_aload_n dX0_says_68 rfl ?_
  refine xg_names dX0_says_69 ?_
  refine g_iconst (5) dX0_says_72 rfl ?_
  refine g_aload_n dX0_says_73 rfl ?_
  refine xg_fishers dX0_says_74 ?_
  refine g_iload_n dX0_says_77 rfl ?_
  refine gd_callr (n := 1) (x_get hA hn hp) (lw_V q773 q774 q775 q71 q776) (by decide +kernel) (ci := 16) rfl hX_2 rfl rfl (by decide) ⟨Nat.le_refl _, Nat.le_refl _⟩ (Nat.le_of_ble_eq_true rfl) dX0_says_78 ?_
  refine gf_cast hg hk (xO_le ha) dX0_says_81 ?_
  refine gf_more hk (xO_le ha) dX0_says_84 ?_
  refine xs_names (5) hN (by omega) (by first | rfl | (simp only [nI, Int32.ofNat_add, Int32.ofNat_mul]; rfl) | (simp only [nI, Int32.ofNat_add, Int32.ofNat_mul]; done)) dX0_says_87 ?_
  refine g_pc 88 rfl ?_
  refine g_aload_n dX0_says_88 rfl ?_
  refine xg_texts dX0_says_89 ?_
  refine g_aload_n dX0_says_92 rfl ?_
  refine xg_law dX0_says_93 ?_
  rw [hr]
  refine g_aaldA (t0 := 4) rfl hX_12 (vp_in_nI hr6 (by decide)) dX0_says_96 ?_
  rw [nI_clamp (by omega), htr]
  refine g_iload_n dX0_says_97 rfl ?_
  refine g_aald (t0 := 3) rfl (xO_le htr2) (vp_in_nI (by decide) (by decide)) dX0_says_98 ?_
  rw [nI_clamp (by decide), hpt]
  refine g_aload_n dX0_says_99 rfl ?_
  refine xg_names dX0_says_100 ?_
  refine gn_worthX0 hF (Tr.wo hF hX_1 h W pt 208 (Tr.mono (fun q e => xO_le) h W pt hT) (by omega)) (by decide) ⟨Nat.le_refl _, Nat.le_refl _⟩ (Nat.le_of_ble_eq_true rfl) dX0_says_103 ?_
  refine g_pc 108 rfl ?_
  refine g_iload_n dX0_says_108 rfl ?_
  refine g_iconst (2) dX0_says_109 rfl ?_
  refine g_icmp_ne 117 dX0_says_110 (by decide) (fun _ => ?_) (fun h9 => absurd h9 (by decide))
  refine g_bipush (-99) dX0_says_117 rfl ?_
  refine g_iload_n dX0_says_119 rfl ?_
  refine g_iconst (2) dX0_says_120 rfl ?_
  refine g_icmp_ne 129 dX0_says_121 (by decide) (fun _ => ?_) (fun h9 => absurd h9 (by decide))
  refine g_bipush (99) dX0_says_129 rfl ?_
  refine gs_calli (n := 3) (x_within ) (lw_S q812 q813 q68 q814) (by decide +kernel) rfl rfl (by decide) ⟨Nat.le_refl _, Nat.le_refl _⟩ (Nat.le_of_ble_eq_true rfl) dX0_says_131 ?_
  refine g_iret rfl (Nat.le_refl _) (Nat.le_refl _) ?_ dX0_says_134
  refine xQ.of ?_ rfl
  rw [wthn_mx (by decide), hW _ (nmF e c 0 p thing) ?_]
  · rfl
  · intro j hj
    match j, hj with
    | 0, _ => rfl
    | 1, _ => exact bc16 (hC.1 p (by omega))
    | 2, _ => exact bc16 (hC.2.1 p (by omega))
    | 3, _ => rfl
    | 4, _ => rfl
    | 5, _ => rfl
theorem x_says1 (hN : gN g ≤ b) (hg : gW g) (hF : gF g) (hE : XE g b F ea tx ω0 e) (hC : CO c) (hp : p < e.1) : Ct g yX0_says cX0_says 4 (some .int) 210 0 0 [.ref b, .int (nI 1), .int (nI p), .int thing] (hX g b F A c ea tx nm ω0) z (xQ g b ω0 z (some (.int (asksF e c 1 p thing))) F A c ea tx) := by
  obtain ⟨hn, hn6, hfi, r, hr6, hr, htx⟩ := hE
  obtain ⟨a, k, mm, hA, -, -, -⟩ := hfi p hp
  have hk := hA.2.1
  have ha := hA.2.2
  obtain ⟨tr, f3, htr, htr2, htp⟩ := htx
  obtain ⟨pt, h, W, hpt, hh, hT, hW⟩ := htp 1 (by decide)
  refine Ct.at (own := RX0) (by decide) rfl (Nat.le_of_ble_eq_true rfl) rfl ?_
  refine g_aload_n dX0_says_0 rfl ?_
  refine xg_names dX0_says_1 ?_
  refine g_iconst (0) dX0_says_4 rfl ?_
  refine g_iload_n dX0_says_5 rfl ?_
  refine g_iconst (2) dX0_says_6 rfl ?_
  refine g_icmp_ne 14 dX0_says_7 (by decide) (fun _ => ?_) (fun h9 => absurd h9 (by decide))
  refine g_iload_n dX0_says_14 rfl ?_
  refine xs_names (0) hN (by omega) (by first | rfl | (simp only [nI, Int32.ofNat_add, Int32.ofNat_mul]; rfl) | (simp only [nI, Int32.ofNat_add, Int32.ofNat_mul]; done)) dX0_says_15 ?_
  refine g_pc 16 rfl ?_
  refine g_aload_n dX0_says_16 rfl ?_
  refine xg_names dX0_says_17 ?_
  refine g_iconst (1) dX0_says_20 rfl ?_
  refine g_aload_n dX0_says_21 rfl ?_
  refine xg_knows dX0_says_22 ?_
  refine g_iload_n dX0_says_25 rfl ?_
  refine xl_knows (p) (by omega) (by first | rfl | (simp only [nI, Int32.ofNat_add, Int32.ofNat_mul]; rfl) | (simp only [nI, Int32.ofNat_add, Int32.ofNat_mul]; done)) dX0_says_26 ?_
  refine gs_calli (n := 1) (j_bitCount ) (lw_S q743 q744 q94 q745) (by decide +kernel) rfl rfl (by decide) ⟨Nat.le_refl _, Nat.le_refl _⟩ (Nat.le_of_ble_eq_true rfl) dX0_says_27 ?_
  refine xs_names (1) hN (by omega) (by first | rfl | (simp only [nI, Int32.ofNat_add, Int32.ofNat_mul]; rfl) | (simp only [nI, Int32.ofNat_add, Int32.ofNat_mul]; done)) dX0_says_30 ?_
  refine g_aload_n dX0_says_31 rfl ?_
  refine xg_names dX0_says_32 ?_
  refine g_iconst (2) dX0_says_35 rfl ?_
  refine g_aload_n dX0_says_36 rfl ?_
  refine xg_keeps dX0_says_37 ?_
  refine g_iload_n dX0_says_40 rfl ?_
  refine xl_keeps (p) (by omega) (by first | rfl | (simp only [nI, Int32.ofNat_add, Int32.ofNat_mul]; rfl) | (simp only [nI, Int32.ofNat_add, Int32.ofNat_mul]; done)) dX0_says_41 ?_
  refine gs_calli (n := 1) (j_bitCount ) (lw_S q743 q744 q94 q745) (by decide +kernel) rfl rfl (by decide) ⟨Nat.le_refl _, Nat.le_refl _⟩ (Nat.le_of_ble_eq_true rfl) dX0_says_42 ?_
  refine xs_names (2) hN (by omega) (by first | rfl | (simp only [nI, Int32.ofNat_add, Int32.ofNat_mul]; rfl) | (simp only [nI, Int32.ofNat_add, Int32.ofNat_mul]; done)) dX0_says_45 ?_
  refine g_aload_n dX0_says_46 rfl ?_
  refine xg_names dX0_says_47 ?_
  refine g_iconst (3) dX0_says_50 rfl ?_
  refine g_aload_n dX0_says_51 rfl ?_
  refine xg_tide dX0_says_52 ?_
  refine xs_names (3) hN (by omega) (by first | rfl | (simp only [nI, Int32.ofNat_add, Int32.ofNat_mul]; rfl) | (simp only [nI, Int32.ofNat_add, Int32.ofNat_mul]; done)) dX0_says_55 ?_
  refine g_pc 56 rfl ?_
  refine g_aload_n dX0_says_56 rfl ?_
  refine xg_names dX0_says_57 ?_
  refine g_iconst (4) dX0_says_60 rfl ?_
  refine g_aload_n dX0_says_61 rfl ?_
  refine xg_luck dX0_says_62 ?_
  refine g_iload_n dX0_says_65 rfl ?_
  refine xl_luck (p) (by omega) (by first | rfl | (simp only [nI, Int32.ofNat_add, Int32.ofNat_mul]; rfl) | (simp only [nI, Int32.ofNat_add, Int32.ofNat_mul]; done)) dX0_says_66 ?_
  refine xs_names (4) hN (by omega) (by first | rfl | (simp only [nI, Int32.ofNat_add, Int32.ofNat_mul]; rfl) | (simp only [nI, Int32.ofNat_add, Int32.ofNat_mul]; done)) dX0_says_67 ?_
  refine g_aload_n dX0_says_68 rfl ?_
  refine xg_names dX0_says_69 ?_
  refine g_iconst (5) dX0_says_72 rfl ?_
  refine g_aload_n dX0_says_73 rfl ?_
  refine xg_fishers dX0_says_74 ?_
  refine g_iload_n dX0_says_77 rfl ?_
  refine gd_callr (n := 1) (x_get hA hn hp) (lw_V q773 q774 q775 q71 q776) (by decide +kernel) (ci := 16) rfl hX_2 rfl rfl (by decide) ⟨Nat.le_refl _, Nat.le_refl _⟩ (Nat.le_of_ble_eq_true rfl) dX0_says_78 ?_
  refine gf_cast hg hk (xO_le ha) dX0_says_81 ?_
  refine gf_more hk (xO_le ha) dX0_says_84 ?_
  refine xs_names (5) hN (by omega) (by first | rfl | (simp only [nI, Int32.ofNat_add, Int32.ofNat_mul]; rfl) | (simp only [nI, Int32.ofNat_add, Int32.ofNat_mul]; done)) dX0_says_87 ?_
  refine g_pc 88 rfl ?_
  refine g_aload_n dX0_says_88 rfl ?_
  refine xg_texts dX0_says_89 ?_
  refine g_aload_n dX0_says_92 rfl ?_
  refine xg_law dX0_says_93 ?_
  rw [hr]
  refine g_aaldA (t0 := 4) rfl hX_12 (vp_in_nI hr6 (by decide)) dX0_says_96 ?_
  rw [nI_clamp (by omega), htr]
  refine g_iload_n dX0_says_97 rfl ?_
  refine g_aald (t0 := 3) rfl (xO_le htr2) (vp_in_nI (by decide) (by decide)) dX0_says_98 ?_
  rw [nI_clamp (by decide), hpt]
  refine g_aload_n dX0_says_99 rfl ?_
  refine xg_names dX0_says_100 ?_
  refine gn_worthX0 hF (Tr.wo hF hX_1 h W pt 208 (Tr.mono (fun q e => xO_le) h W pt hT) (by omega)) (by decide) ⟨Nat.le_refl _, Nat.le_refl _⟩ (Nat.le_of_ble_eq_true rfl) dX0_says_103 ?_
  refine g_pc 108 rfl ?_
  refine g_iload_n dX0_says_108 rfl ?_
  refine g_iconst (2) dX0_says_109 rfl ?_
  refine g_icmp_ne 117 dX0_says_110 (by decide) (fun _ => ?_) (fun h9 => absurd h9 (by decide))
  refine g_bipush (-99) dX0_says_117 rfl ?_
  refine g_iload_n dX0_says_119 rfl ?_
  refine g_iconst (2) dX0_says_120 rfl ?_
  refine g_icmp_ne 129 dX0_says_121 (by decide) (fun _ => ?_) (fun h9 => absurd h9 (by decide))
  refine g_bipush (99) dX0_says_129 rfl ?_
  refine gs_calli (n := 3) (x_within ) (lw_S q812 q813 q68 q814) (by decide +kernel) rfl rfl (by decide) ⟨Nat.le_refl _, Nat.le_refl _⟩ (Nat.le_of_ble_eq_true rfl) dX0_says_131 ?_
  refine g_iret rfl (Nat.le_refl _) (Nat.le_refl _) ?_ dX0_says_134
  refine xQ.of ?_ rfl
  rw [wthn_mx (by decide), hW _ (nmF e c 1 p thing) ?_]
  · rfl
  · intro j hj
    match j, hj with
    | 0, _ => rfl
    | 1, _ => exact bc16 (hC.1 p (by omega))
    | 2, _ => exact bc16 (hC.2.1 p (by omega))
    | 3, _ => rfl
    | 4, _ => rfl
    | 5, _ => rfl
theorem x_says2 (hN : gN g ≤ b) (hg : gW g) (hF : gF g) (hE : XE g b F ea tx ω0 e) (hC : CO c) (hp : p < e.1) : Ct g yX0_says cX0_says 4 (some .int) 210 0 0 [.ref b, .int (nI 2), .int (nI p), .int thing] (hX g b F A c ea tx nm ω0) z (xQ g b ω0 z (some (.int (asksF e c 2 p thing))) F A c ea tx) := by
  obtain ⟨hn, hn6, hfi, r, hr6, hr, htx⟩ := hE
  obtain ⟨a, k, mm, hA, -, -, -⟩ := hfi p hp
  have hk := hA.2.1
  have ha := hA.2.2
  obtain ⟨tr, f3, htr, htr2, htp⟩ := htx
  obtain ⟨pt, h, W, hpt, hh, hT, hW⟩ := htp 2 (by decide)
  refine Ct.at (own := RX0) (by decide) rfl (Nat.le_of_ble_eq_true rfl) rfl ?_
  refine g_aload_n dX0_says_0 rfl ?_
  refine xg_names dX0_says_1 ?_
  refine g_iconst (0) dX0_says_4 rfl ?_
  refine g_iload_n dX0_says_5 rfl ?_
  refine g_iconst (2) dX0_says_6 rfl ?_
  refine g_icmp_ne 14 dX0_says_7 (by decide) (fun h9 => absurd (by decide) h9) (fun _ => ?_)
  refine g_iconst (0) dX0_says_10 rfl ?_
  refine g_goto 15 dX0_says_11 (by decide) ?_
  refine xs_names (0) hN (by omega) (by first | rfl | (simp only [nI, Int32.ofNat_add, Int32.ofNat_mul]; rfl) | (simp only [nI, Int32.ofNat_add, Int32.ofNat_mul]; done)) dX0_says_15 ?_
  refine g_pc 16 rfl ?_
  refine g_aload_n dX0_says_16 rfl ?_
  refine xg_names dX0_says_17 ?_
  refine g_iconst (1) dX0_says_20 rfl ?_
  refine g_aload_n dX0_says_21 rfl ?_
  refine xg_knows dX0_says_22 ?_
  refine g_iload_n dX0_says_25 rfl ?_
  refine xl_knows (p) (by omega) (by first | rfl | (simp only [nI, Int32.ofNat_add, Int32.ofNat_mul]; rfl) | (simp only [nI, Int32.ofNat_add, Int32.ofNat_mul]; done)) dX0_says_26 ?_
  refine gs_calli (n := 1) (j_bitCount ) (lw_S q743 q744 q94 q745) (by decide +kernel) rfl rfl (by decide) ⟨Nat.le_refl _, Nat.le_refl _⟩ (Nat.le_of_ble_eq_true rfl) dX0_says_27 ?_
  refine xs_names (1) hN (by omega) (by first | rfl | (simp only [nI, Int32.ofNat_add, Int32.ofNat_mul]; rfl) | (simp only [nI, Int32.ofNat_add, Int32.ofNat_mul]; done)) dX0_says_30 ?_
  refine g_aload_n dX0_says_31 rfl ?_
  refine xg_names dX0_says_32 ?_
  refine g_iconst (2) dX0_says_35 rfl ?_
  refine g_aload_n dX0_says_36 rfl ?_
  refine xg_keeps dX0_says_37 ?_
  refine g_iload_n dX0_says_40 rfl ?_
  refine xl_keeps (p) (by omega) (by first | rfl | (simp only [nI, Int32.ofNat_add, Int32.ofNat_mul]; rfl) | (simp only [nI, Int32.ofNat_add, Int32.ofNat_mul]; done)) dX0_says_41 ?_
  refine gs_calli (n := 1) (j_bitCount ) (lw_S q743 q744 q94 q745) (by decide +kernel) rfl rfl (by decide) ⟨Nat.le_refl _, Nat.le_refl _⟩ (Nat.le_of_ble_eq_true rfl) dX0_says_42 ?_
  refine xs_names (2) hN (by omega) (by first | rfl | (simp only [nI, Int32.ofNat_add, Int32.ofNat_mul]; rfl) | (simp only [nI, Int32.ofNat_add, Int32.ofNat_mul]; done)) dX0_says_45 ?_
  refine g_aload_n dX0_says_46 rfl ?_
  refine xg_names dX0_says_47 ?_
  refine g_iconst (3) dX0_says_50 rfl ?_
  refine g_aload_n dX0_says_51 rfl ?_
  refine xg_tide dX0_says_52 ?_
  refine xs_names (3) hN (by omega) (by first | rfl | (simp only [nI, Int32.ofNat_add, Int32.ofNat_mul]; rfl) | (simp only [nI, Int32.ofNat_add, Int32.ofNat_mul]; done)) dX0_says_55 ?_
  refine g_pc 56 rfl ?_
  refine g_aload_n dX0_says_56 rfl ?_
  refine xg_names dX0_says_57 ?_
  refine g_iconst (4) dX0_says_60 rfl ?_
  refine g_aload_n dX0_says_61 rfl ?_
  refine xg_luck dX0_says_62 ?_
  refine g_iload_n dX0_says_65 rfl ?_
  refine xl_luck (p) (by omega) (by first | rfl | (simp only [nI, Int32.ofNat_add, Int32.ofNat_mul]; rfl) | (simp only [nI, Int32.ofNat_add, Int32.ofNat_mul]; done)) dX0_says_66 ?_
  refine xs_names (4) hN (by omega) (by first | rfl | (simp only [nI, Int32.ofNat_add, Int32.ofNat_mul]; rfl) | (simp only [nI, Int32.ofNat_add, Int32.ofNat_mul]; done)) dX0_says_67 ?_
  refine g_aload_n dX0_says_68 rfl ?_
  refine xg_names dX0_says_69 ?_
  refine g_iconst (5) dX0_says_72 rfl ?_
  refine g_aload_n dX0_says_73 rfl ?_
  refine xg_fishers dX0_says_74 ?_
  refine g_iload_n dX0_says_77 rfl ?_
  refine gd_callr (n := 1) (x_get hA hn hp) (lw_V q773 q774 q775 q71 q776) (by decide +kernel) (ci := 16) rfl hX_2 rfl rfl (by decide) ⟨Nat.le_refl _, Nat.le_refl _⟩ (Nat.le_of_ble_eq_true rfl) dX0_says_78 ?_
  refine gf_cast hg hk (xO_le ha) dX0_says_81 ?_
  refine gf_more hk (xO_le ha) dX0_says_84 ?_
  refine xs_names (5) hN (by omega) (by first | rfl | (simp only [nI, Int32.ofNat_add, Int32.ofNat_mul]; rfl) | (simp only [nI, Int32.ofNat_add, Int32.ofNat_mul]; done)) dX0_says_87 ?_
  refine g_pc 88 rfl ?_
  refine g_aload_n dX0_says_88 rfl ?_
  refine xg_texts dX0_says_89 ?_
  refine g_aload_n dX0_says_92 rfl ?_
  refine xg_law dX0_says_93 ?_
  rw [hr]
  refine g_aaldA (t0 := 4) rfl hX_12 (vp_in_nI hr6 (by decide)) dX0_says_96 ?_
  rw [nI_clamp (by omega), htr]
  refine g_iload_n dX0_says_97 rfl ?_
  refine g_aald (t0 := 3) rfl (xO_le htr2) (vp_in_nI (by decide) (by decide)) dX0_says_98 ?_
  rw [nI_clamp (by decide), hpt]
  refine g_aload_n dX0_says_99 rfl ?_
  refine xg_names dX0_says_100 ?_
  refine gn_worthX0 hF (Tr.wo hF hX_1 h W pt 208 (Tr.mono (fun q e => xO_le) h W pt hT) (by omega)) (by decide) ⟨Nat.le_refl _, Nat.le_refl _⟩ (Nat.le_of_ble_eq_true rfl) dX0_says_103 ?_
  refine g_pc 108 rfl ?_
  refine g_iload_n dX0_says_108 rfl ?_
  refine g_iconst (2) dX0_says_109 rfl ?_
  refine g_icmp_ne 117 dX0_says_110 (by decide) (fun h9 => absurd (by decide) h9) (fun _ => ?_)
  refine g_iconst (0) dX0_says_113 rfl ?_
  refine g_goto 119 dX0_says_114 (by decide) ?_
  refine g_iload_n dX0_says_119 rfl ?_
  refine g_iconst (2) dX0_says_120 rfl ?_
  refine g_icmp_ne 129 dX0_says_121 (by decide) (fun h9 => absurd (by decide) h9) (fun _ => ?_)
  refine g_bipush (16) dX0_says_124 rfl ?_
  refine g_goto 131 dX0_says_126 (by decide) ?_
  refine gs_calli (n := 3) (x_within ) (lw_S q812 q813 q68 q814) (by decide +kernel) rfl rfl (by decide) ⟨Nat.le_refl _, Nat.le_refl _⟩ (Nat.le_of_ble_eq_true rfl) dX0_says_131 ?_
  refine g_iret rfl (Nat.le_refl _) (Nat.le_refl _) ?_ dX0_says_134
  refine xQ.of ?_ rfl
  rw [wthn_mx (by decide), hW _ (nmF e c 2 p thing) ?_]
  · rfl
  · intro j hj
    match j, hj with
    | 0, _ => rfl
    | 1, _ => exact bc16 (hC.1 p (by omega))
    | 2, _ => exact bc16 (hC.2.1 p (by omega))
    | 3, _ => rfl
    | 4, _ => rfl
    | 5, _ => rfl
theorem x_says {part : Nat} (hN : gN g ≤ b) (hg : gW g) (hF : gF g) (hE : XE g b F ea tx ω0 e) (hC : CO c) (hp : p < e.1) (hk : part < 3) : Ct g yX0_says cX0_says 4 (some .int) 210 0 0 [.ref b, .int (nI part), .int (nI p), .int thing] (hX g b F A c ea tx nm ω0) z (xQ g b ω0 z (some (.int (asksF e c part p thing))) F A c ea tx) := by
  match part, hk with
  | 0, _ => exact x_says0 hN hg hF hE hC hp
  | 1, _ => exact x_says1 hN hg hF hE hC hp
  | 2, _ => exact x_says2 hN hg hF hE hC hp
end XS
