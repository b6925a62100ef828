/-! the component: which name one lets go, luck, lessons' names, landing -/
set_option maxRecDepth 100000
theorem bits_b {x : Int32} (h : lt16 x) : 0 ≤ (bits x).toInt ∧ (bits x).toInt ≤ 16 := by
  obtain ⟨j, hj, rfl⟩ := h
  have e : bits (nI j) = nI (pcN 16 j) := bcnt_pc (by omega) 16 (by omega)
  have hle : ∀ t x, pcN t x ≤ t := by
    intro t
    induction t with
    | zero => intro x; exact Nat.le_refl _
    | succ t ih => intro x; have := ih x; unfold pcN; omega
  have := hle 16 j
  rw [e, nI_toInt (by omega)]
  omega
section XL
variable {g : GE} {b z p : Nat} {F : Nat → Int32} {A : Nat → Nat → Int32} {c : Cr} {ea : Nat} {tx : Nat → Option Nat} {nm : Nat → Int32} {ω0 : Om} {e : En} {t : Int32}
theorem x_takesOf (hN : gN g ≤ b) (hg : gW g) (hF : gF g) (hE : XE g b F ea tx ω0 e) (hC : CO c) (hp : p < e.1) : Ct g yX0_takesOf cX0_takesOf 2 (some .int) 211 0 0 [.ref b, .int (nI p)] (hX g b F A c ea tx nm ω0) z (xQ g b ω0 z (some (.int (mxI 0 (takesF e c p)))) F A c ea tx) := by
  have hn := hE.1
  obtain ⟨a, k, mm, hA, hkd, -, -⟩ := hE.2.2.1 p hp
  have hk := hA.2.1
  have ha := hA.2.2
  refine Ct.at (own := RX0) (by decide) rfl (Nat.le_of_ble_eq_true rfl) rfl ?_
  refine g_iconst (0) dX0_takesOf_0 rfl ?_
  refine g_aload_n dX0_takesOf_1 rfl ?_
  refine xg_fishers dX0_takesOf_2 ?_
  refine g_iload_n dX0_takesOf_5 rfl ?_
  refine gd_callr (n := 1) (x_get hA hn hp) (lw_V q773 q774 q775 q71 q776) (by decide +kernel) (ci := 16) rfl hX_2 rfl rfl (by decide) ⟨Nat.le_refl _, Nat.le_refl _⟩ (Nat.le_of_ble_eq_true rfl) dX0_takesOf_6 ?_
  refine gf_cast hg hk (xO_le ha) dX0_takesOf_9 ?_
  refine g_aload_n dX0_takesOf_12 rfl ?_
  refine g_iconst (2) dX0_takesOf_13 rfl ?_
  refine g_iload_n dX0_takesOf_14 rfl ?_
  refine g_iconst (0) dX0_takesOf_15 rfl ?_
  refine gx_calli (n := 3) (x_says (part := 2) (e := e) hN hg hF hE hC hp (by decide)) (lw_V q769 q771 qs14 q68 q772) (by decide +kernel) rfl rfl (by decide) ⟨Nat.le_refl _, Nat.le_refl _⟩ (Nat.le_of_ble_eq_true rfl) dX0_takesOf_16 (fun nm => ?_)
  refine gf_takes hg hX_0 hk (xO_le ha) (by decide) ⟨Nat.le_refl _, Nat.le_refl _⟩ (Nat.le_of_ble_eq_true rfl) dX0_takesOf_19 ?_
  refine gs_calli (n := 2) (j_max ) (lw_S q816 q338 q81 q339) (by decide +kernel) rfl rfl (by decide) ⟨Nat.le_refl _, Nat.le_refl _⟩ (Nat.le_of_ble_eq_true rfl) dX0_takesOf_22 ?_
  refine g_iret rfl (Nat.le_refl _) (Nat.le_refl _) ?_ dX0_takesOf_25
  exact xQ.of (by rw [takesJ_eq hk, ← hkd]; rfl) rfl
theorem x_lucksOf (hN : gN g ≤ b) (hg : gW g) (hF : gF g) (hE : XE g b F ea tx ω0 e) (hC : CO c) (hp : p < e.1) : Ct g yX0_lucksOf cX0_lucksOf 3 (some .int) 211 0 0 [.ref b, .int (nI p), .int t] (hX g b F A c ea tx nm ω0) z (xQ g b ω0 z (some (.int (lucksF e c p t))) F A c ea tx) := by
  have hn := hE.1
  have hn6 := hE.2.1
  obtain ⟨a, k, mm, hA, hkd, -, -⟩ := hE.2.2.1 p hp
  have hk := hA.2.1
  have ha := hA.2.2
  refine Ct.at (own := RX0) (by decide) rfl (Nat.le_of_ble_eq_true rfl) rfl ?_
  have hL : lucksF e c p t = lucksJ k (e.2.2.1 p) (asksF e c 1 p t) (if (c.1 (3 * p) >>> (t &&& 31)) &&& 1 = 1 then 1 else 0) := by
    rw [lucksJ_eq hk, ← hkd]; rfl
  rw [hL]
  refine g_aload_n dX0_lucksOf_0 rfl ?_
  refine xg_fishers dX0_lucksOf_1 ?_
  refine g_iload_n dX0_lucksOf_4 rfl ?_
  refine gd_callr (n := 1) (x_get hA hn hp) (lw_V q773 q774 q775 q71 q776) (by decide +kernel) (ci := 16) rfl hX_2 rfl rfl (by decide) ⟨Nat.le_refl _, Nat.le_refl _⟩ (Nat.le_of_ble_eq_true rfl) dX0_lucksOf_5 ?_
  refine gf_cast hg hk (xO_le ha) dX0_lucksOf_8 ?_
  refine g_aload_n dX0_lucksOf_11 rfl ?_
  refine g_iconst (1) dX0_lucksOf_12 rfl ?_
  refine g_iload_n dX0_lucksOf_13 rfl ?_
  refine g_iload_n dX0_lucksOf_14 rfl ?_
  refine gx_calli (n := 3) (x_says (part := 1) (e := e) hN hg hF hE hC hp (by decide)) (lw_V q769 q771 qs14 q68 q772) (by decide +kernel) rfl rfl (by decide) ⟨Nat.le_refl _, Nat.le_refl _⟩ (Nat.le_of_ble_eq_true rfl) dX0_lucksOf_15 (fun nm => ?_)
  refine g_aload_n dX0_lucksOf_18 rfl ?_
  refine xg_knows dX0_lucksOf_19 ?_
  refine g_iload_n dX0_lucksOf_22 rfl ?_
  refine xl_knows (p) (by omega) (by first | rfl | (simp only [nI, Int32.ofNat_add, Int32.ofNat_mul]; rfl) | (simp only [nI, Int32.ofNat_add, Int32.ofNat_mul]; done)) dX0_lucksOf_23 ?_
  refine g_iload_n dX0_lucksOf_24 rfl ?_
  refine g_ishr dX0_lucksOf_25 ?_
  refine g_iconst (1) dX0_lucksOf_26 rfl ?_
  refine g_iand dX0_lucksOf_27 ?_
  refine g_iconst (1) dX0_lucksOf_28 rfl ?_
  refine g_icmp_ne 36 dX0_lucksOf_29 (by decide) (fun c1 => ?_) (fun c1 => ?_)
  · rw [if_neg c1]
    refine g_iconst (0) dX0_lucksOf_36 rfl ?_
    refine gf_lucks hk (xO_le ha) (by decide) ⟨Nat.le_refl _, Nat.le_refl _⟩ (Nat.le_of_ble_eq_true rfl) dX0_lucksOf_37 ?_
    refine g_iret rfl (Nat.le_refl _) (Nat.le_refl _) ?_ dX0_lucksOf_40
    exact xQ.mk
  · rw [if_pos c1]
    refine g_iconst (1) dX0_lucksOf_32 rfl ?_
    refine g_goto 37 dX0_lucksOf_33 (by decide) ?_
    refine gf_lucks hk (xO_le ha) (by decide) ⟨Nat.le_refl _, Nat.le_refl _⟩ (Nat.le_of_ble_eq_true rfl) dX0_lucksOf_37 ?_
    refine g_iret rfl (Nat.le_refl _) (Nat.le_refl _) ?_ dX0_lucksOf_40
    exact xQ.mk
theorem x_letsOf (hN : gN g ≤ b) (hg : gW g) (hF : gF g) (hE : XE g b F ea tx ω0 e) (hC : CO c) (hp : p < e.1) : Ct g yX0_letsOf cX0_letsOf 4 (some .int) 211 0 0 [.ref b, .int (nI p), .int t] (hX g b F A c ea tx nm ω0) z (xQ g b ω0 z (some (.int (letsF e c p t))) F A c ea tx) := by
  have hn := hE.1
  have hn6 := hE.2.1
  obtain ⟨a, k, mm, hA, hkd, hmo, hm10⟩ := hE.2.2.1 p hp
  have hk := hA.2.1
  have ha := hA.2.2
  have hb := hC.1 p (by omega)
  have h1 := bits_b hb
  refine Ct.at (own := RX0) (by decide) rfl (Nat.le_of_ble_eq_true rfl) rfl ?_
  refine g_aload_n dX0_letsOf_0 rfl ?_
  refine xg_knows dX0_letsOf_1 ?_
  refine g_iload_n dX0_letsOf_4 rfl ?_
  refine xl_knows (p) (by omega) (by first | rfl | (simp only [nI, Int32.ofNat_add, Int32.ofNat_mul]; rfl) | (simp only [nI, Int32.ofNat_add, Int32.ofNat_mul]; done)) dX0_letsOf_5 ?_
  refine gs_calli (n := 1) (j_bitCount ) (lw_S q743 q744 q94 q745) (by decide +kernel) rfl rfl (by decide) ⟨Nat.le_refl _, Nat.le_refl _⟩ (Nat.le_of_ble_eq_true rfl) dX0_letsOf_6 ?_
  refine g_istore_n (L' := [(3, _), (0, _), (1, _), (2, _)]) dX0_letsOf_9 (by decide) rfl ?_
  rw [bc16 hb]
  refine g_iload_n dX0_letsOf_10 rfl ?_
  refine g_if_ne 18 dX0_letsOf_11 (by decide) (fun c1 => ?_) (fun c1 => ?_)
  · refine g_aload_n dX0_letsOf_18 rfl ?_
    refine xg_knows dX0_letsOf_19 ?_
    refine g_iload_n dX0_letsOf_22 rfl ?_
    refine xl_knows (p) (by omega) (by first | rfl | (simp only [nI, Int32.ofNat_add, Int32.ofNat_mul]; rfl) | (simp only [nI, Int32.ofNat_add, Int32.ofNat_mul]; done)) dX0_letsOf_23 ?_
    refine g_aload_n dX0_letsOf_24 rfl ?_
    refine xg_fishers dX0_letsOf_25 ?_
    refine g_iload_n dX0_letsOf_28 rfl ?_
    refine gd_callr (n := 1) (x_get hA hn hp) (lw_V q773 q774 q775 q71 q776) (by decide +kernel) (ci := 16) rfl hX_2 rfl rfl (by decide) ⟨Nat.le_refl _, Nat.le_refl _⟩ (Nat.le_of_ble_eq_true rfl) dX0_letsOf_29 ?_
    refine gf_cast hg hk (xO_le ha) dX0_letsOf_32 ?_
    refine g_aload_n dX0_letsOf_35 rfl ?_
    refine g_iconst (0) dX0_letsOf_36 rfl ?_
    refine g_iload_n dX0_letsOf_37 rfl ?_
    refine g_iload_n dX0_letsOf_38 rfl ?_
    refine gx_calli (n := 3) (x_says (part := 0) (e := e) hN hg hF hE hC hp (by decide)) (lw_V q769 q771 qs14 q68 q772) (by decide +kernel) rfl rfl (by decide) ⟨Nat.le_refl _, Nat.le_refl _⟩ (Nat.le_of_ble_eq_true rfl) dX0_letsOf_39 (fun nm => ?_)
    refine g_iload_n dX0_letsOf_42 rfl ?_
    refine gf_lets c1 hk (xO_le ha) (by decide) ⟨Nat.le_refl _, Nat.le_refl _⟩ (Nat.le_of_ble_eq_true rfl) dX0_letsOf_43 ?_
    refine g_iconst (0) dX0_letsOf_46 rfl ?_
    refine g_iload_n dX0_letsOf_47 rfl ?_
    refine g_iconst (1) dX0_letsOf_48 rfl ?_
    refine g_isub dX0_letsOf_49 ?_
    refine gs_calli (n := 3) (x_within ) (lw_S q812 q813 q68 q814) (by decide +kernel) rfl rfl (by decide) ⟨Nat.le_refl _, Nat.le_refl _⟩ (Nat.le_of_ble_eq_true rfl) dX0_letsOf_50 ?_
    refine gs_calli (n := 2) (x_nth ) (lw_S q1064 q1065 q68 q1066) (by decide +kernel) rfl rfl (by decide) ⟨Nat.le_refl _, Nat.le_refl _⟩ (Nat.le_of_ble_eq_true rfl) dX0_letsOf_53 ?_
    refine g_iret rfl (Nat.le_refl _) (Nat.le_refl _) ?_ dX0_letsOf_56
    have h0 : (bits (c.1 (3 * p))).toInt ≠ 0 := fun q => c1 (Int32.toInt_inj.mp (q.trans (by decide)))
    exact xQ.of (by rw [letsF, if_neg c1, wthn_mx (by rw [Int32.le_iff_toInt_le, Jvm.Kit.i32_sub (by rw [show (1 : Int32).toInt = 1 by decide]; omega) (by rw [show (1 : Int32).toInt = 1 by decide]; omega)]; show (0 : Int) ≤ _ - 1; omega), letsJ_eq hk (by omega) (by omega) (by rw [hmo, nI_toInt (by omega)]; omega), ← hkd]) rfl
  · refine g_iconst (-1) dX0_letsOf_14 rfl ?_
    refine g_goto 56 dX0_letsOf_15 (by decide) ?_
    refine g_iret rfl (Nat.le_refl _) (Nat.le_refl _) ?_ dX0_letsOf_56
    exact xQ.of (by rw [letsF, if_pos c1]) rfl
theorem x_landed (hN : gN g ≤ b) (hg : gW g) (hF : gF g) (hE : XE g b F ea tx ω0 e) (hC : CO c) (hp : p < e.1) : Ct g yX0_landed cX0_landed 5 (some .int) 212 0 0 [.ref b, .int (nI p), .int t] (hX g b F A c ea tx nm ω0) z (xQ g b ω0 z (some (.int (letsF e c p t))) F A (landF e c p t) ea tx) := by
  have hn6 := hE.2.1
  refine Ct.at (own := RX0) (by decide) rfl (Nat.le_of_ble_eq_true rfl) rfl ?_
  unfold landF
  refine g_aload_n dX0_landed_0 rfl ?_
  refine g_iload_n dX0_landed_1 rfl ?_
  refine g_iload_n dX0_landed_2 rfl ?_
  refine gx_calli (n := 2) (x_letsOf (e := e) hN hg hF hE hC hp) (lw_V q1038 q1040 qs21 q68 q1041) (by decide +kernel) rfl rfl (by decide) ⟨Nat.le_refl _, Nat.le_refl _⟩ (Nat.le_of_ble_eq_true rfl) dX0_landed_3 (fun nm => ?_)
  refine g_istore_n (L' := [(3, _), (0, _), (1, _), (2, _)]) dX0_landed_6 (by decide) rfl ?_
  refine g_aload_n dX0_landed_7 rfl ?_
  refine g_iload_n dX0_landed_8 rfl ?_
  refine g_iload_n dX0_landed_9 rfl ?_
  refine gx_calli (n := 2) (x_lucksOf (e := e) hN hg hF hE hC hp) (lw_V q1067 q1069 qs22 q68 q1070) (by decide +kernel) rfl rfl (by decide) ⟨Nat.le_refl _, Nat.le_refl _⟩ (Nat.le_of_ble_eq_true rfl) dX0_landed_10 (fun nm => ?_)
  refine g_istore (L' := [(4, _), (3, _), (0, _), (1, _), (2, _)]) dX0_landed_13 (by decide) rfl ?_
  refine g_aload_n dX0_landed_15 rfl ?_
  refine xg_keeps dX0_landed_16 ?_
  refine g_iload_n dX0_landed_19 rfl ?_
  refine g_dup2_11 dX0_landed_20 rfl rfl ?_
  refine xl_keeps (p) (by omega) (by first | rfl | (simp only [nI, Int32.ofNat_add, Int32.ofNat_mul]; rfl) | (simp only [nI, Int32.ofNat_add, Int32.ofNat_mul]; done)) dX0_landed_21 ?_
  refine g_iconst (1) dX0_landed_22 rfl ?_
  refine g_iload_n dX0_landed_23 rfl ?_
  refine g_ishl dX0_landed_24 ?_
  refine g_ior dX0_landed_25 ?_
  refine xs_keeps (p) hN (by omega) (by first | rfl | (simp only [nI, Int32.ofNat_add, Int32.ofNat_mul]; rfl) | (simp only [nI, Int32.ofNat_add, Int32.ofNat_mul]; done)) dX0_landed_26 ?_
  refine g_iload_n dX0_landed_27 rfl ?_
  refine g_iconst (-1) dX0_landed_28 rfl ?_
  refine g_icmp_eq 58 dX0_landed_29 (by decide) (fun c1 => ?_) (fun c1 => ?_)
  · refine g_aload_n dX0_landed_58 rfl ?_
    refine xg_luck dX0_landed_59 ?_
    refine g_iload_n dX0_landed_62 rfl ?_
    refine g_aload_n dX0_landed_63 rfl ?_
    refine xg_luck dX0_landed_64 ?_
    refine g_iload_n dX0_landed_67 rfl ?_
    refine xl_luck (p) (by omega) (by first | rfl | (simp only [nI, Int32.ofNat_add, Int32.ofNat_mul]; rfl) | (simp only [nI, Int32.ofNat_add, Int32.ofNat_mul]; done)) dX0_landed_68 ?_
    refine g_iload dX0_landed_69 rfl ?_
    refine g_iadd dX0_landed_71 ?_
    refine g_iconst (0) dX0_landed_72 rfl ?_
    refine g_bipush (99) dX0_landed_73 rfl ?_
    refine gs_calli (n := 3) (x_within ) (lw_S q812 q813 q68 q814) (by decide +kernel) rfl rfl (by decide) ⟨Nat.le_refl _, Nat.le_refl _⟩ (Nat.le_of_ble_eq_true rfl) dX0_landed_75 ?_
    rw [wthn_mx (by decide)]
    refine xs_luck (p) hN (by omega) (by first | rfl | (simp only [nI, Int32.ofNat_add, Int32.ofNat_mul]; rfl) | (simp only [nI, Int32.ofNat_add, Int32.ofNat_mul]; done)) dX0_landed_78 ?_
    refine g_iload_n dX0_landed_79 rfl ?_
    refine g_iret rfl (Nat.le_refl _) (Nat.le_refl _) ?_ dX0_landed_80
    rw [show landC c p t (letsF e c p t) (lucksF e c p t) = _ from if_pos c1]
    exact xQ.mk
  · refine g_aload_n dX0_landed_32 rfl ?_
    refine xg_knows dX0_landed_33 ?_
    refine g_iload_n dX0_landed_36 rfl ?_
    refine g_dup2_11 dX0_landed_37 rfl rfl ?_
    refine xl_knows (p) (by omega) (by first | rfl | (simp only [nI, Int32.ofNat_add, Int32.ofNat_mul]; rfl) | (simp only [nI, Int32.ofNat_add, Int32.ofNat_mul]; done)) dX0_landed_38 ?_
    refine g_iconst (1) dX0_landed_39 rfl ?_
    refine g_iload_n dX0_landed_40 rfl ?_
    refine g_ishl dX0_landed_41 ?_
    refine g_iconst (-1) dX0_landed_42 rfl ?_
    refine g_ixor dX0_landed_43 ?_
    refine g_iand dX0_landed_44 ?_
    refine xs_knows (p) hN (by omega) (by first | rfl | (simp only [nI, Int32.ofNat_add, Int32.ofNat_mul]; rfl) | (simp only [nI, Int32.ofNat_add, Int32.ofNat_mul]; done)) dX0_landed_45 ?_
    refine g_aload_n dX0_landed_46 rfl ?_
    refine g_dup dX0_landed_47 rfl ?_
    refine xg_sea dX0_landed_48 ?_
    refine g_iconst (1) dX0_landed_51 rfl ?_
    refine g_iload_n dX0_landed_52 rfl ?_
    refine g_ishl dX0_landed_53 ?_
    refine g_ior dX0_landed_54 ?_
    refine xp_sea hN  dX0_landed_55 ?_
    refine g_aload_n dX0_landed_58 rfl ?_
    refine xg_luck dX0_landed_59 ?_
    refine g_iload_n dX0_landed_62 rfl ?_
    refine g_aload_n dX0_landed_63 rfl ?_
    refine xg_luck dX0_landed_64 ?_
    refine g_iload_n dX0_landed_67 rfl ?_
    refine xl_luck (p) (by omega) (by first | rfl | (simp only [nI, Int32.ofNat_add, Int32.ofNat_mul]; rfl) | (simp only [nI, Int32.ofNat_add, Int32.ofNat_mul]; done)) dX0_landed_68 ?_
    refine g_iload dX0_landed_69 rfl ?_
    refine g_iadd dX0_landed_71 ?_
    refine g_iconst (0) dX0_landed_72 rfl ?_
    refine g_bipush (99) dX0_landed_73 rfl ?_
    refine gs_calli (n := 3) (x_within ) (lw_S q812 q813 q68 q814) (by decide +kernel) rfl rfl (by decide) ⟨Nat.le_refl _, Nat.le_refl _⟩ (Nat.le_of_ble_eq_true rfl) dX0_landed_75 ?_
    rw [wthn_mx (by decide)]
    refine xs_luck (p) hN (by omega) (by first | rfl | (simp only [nI, Int32.ofNat_add, Int32.ofNat_mul]; rfl) | (simp only [nI, Int32.ofNat_add, Int32.ofNat_mul]; done)) dX0_landed_78 ?_
    refine g_iload_n dX0_landed_79 rfl ?_
    refine g_iret rfl (Nat.le_refl _) (Nat.le_refl _) ?_ dX0_landed_80
    rw [show landC c p t (letsF e c p t) (lucksF e c p t) = _ from if_neg c1]
    exact xQ.mk
end XL
