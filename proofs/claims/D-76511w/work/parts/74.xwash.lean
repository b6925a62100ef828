/-! the component: lessons and tides -/
set_option maxRecDepth 100000
theorem wash_sea {s : Int32} (h : lt16 s) (h0 : ¬ s = 0) : ntzF s = nth s 0 ∧ s &&& (s - 1) = s &&& (one (nth s 0) ^^^ -1) ∧ ¬ nth s 0 = -1 := by
  obtain ⟨x, hx, rfl⟩ := h
  have hx0 : x ≠ 0 := fun q => h0 (by rw [q]; rfl)
  obtain ⟨t, k, ht, e⟩ := tz_split 16 x hx0 hx
  have hp := Nat.two_pow_pos t
  have hpt : 2 ^ t < 2 ^ 16 := Nat.pow_lt_pow_right (by omega) ht
  rw [nth_N e hx ht]
  refine ⟨ntz_N e hx ht, ?_, fun q => ?_⟩
  · have e1 : nI x - 1 = nI (x - 1) := pk_sub (b := 1) (by omega)
    rw [e1, ni_and (by omega) (by omega), tz_pred e, one_N (by omega), ni_not (by omega), ni_and (by omega) (by omega), tz_sub e (by omega)]
  · have := congrArg Int32.toInt q
    rw [nI_toInt (by omega), show (-1 : Int32).toInt = -1 by decide] at this
    omega
theorem hi_one {X t : Nat} (hb : X / 2 ^ t % 2 = 1) : X / 2 ^ t * 2 ^ t = 2 ^ (t + 1) * (X / 2 ^ (t + 1)) + 2 ^ t := by
  have h1 : X / 2 ^ (t + 1) = X / 2 ^ t / 2 := by rw [Nat.pow_succ, Nat.div_div_eq_div_mul]
  rw [h1, Nat.pow_succ]
  have h2 : X / 2 ^ t = 2 * (X / 2 ^ t / 2) + 1 := by omega
  generalize X / 2 ^ t / 2 = k at *
  rw [h2, Nat.add_mul, Nat.one_mul, Nat.mul_comm 2 k, Nat.mul_assoc, Nat.mul_comm k, Nat.mul_comm 2 (2 ^ t)]
theorem hi_zero {X t : Nat} (hb : ¬ X / 2 ^ t % 2 = 1) : X / 2 ^ t * 2 ^ t = X / 2 ^ (t + 1) * 2 ^ (t + 1) := by
  have h1 : X / 2 ^ (t + 1) = X / 2 ^ t / 2 := by rw [Nat.pow_succ, Nat.div_div_eq_div_mul]
  rw [h1, Nat.pow_succ]
  have h2 : X / 2 ^ t = 2 * (X / 2 ^ t / 2) := by omega
  generalize X / 2 ^ t / 2 = k at *
  rw [h2, Nat.mul_comm 2 k, Nat.mul_assoc, Nat.mul_comm 2 (2 ^ t)]
theorem hi_le (X t : Nat) : X / 2 ^ t * 2 ^ t ≤ X := Nat.div_mul_le_self X (2 ^ t)
theorem asks2_b (e : En) (c : Cr) (p : Nat) (t : Int32) : 0 ≤ (asksF e c 2 p t).toInt ∧ (asksF e c 2 p t).toInt ≤ 16 := by
  show 0 ≤ (wthn _ 0 16).toInt ∧ (wthn _ 0 16).toInt ≤ 16
  unfold wthn
  simp only [Int32.lt_iff_toInt_lt]
  have e0 : (0 : Int32).toInt = 0 := by decide
  have e1 : (16 : Int32).toInt = 16 := by decide
  split
  · omega
  · split <;> omega
theorem takes_b {e : En} {c : Cr} {p m : Nat} (hm : e.2.2.1 p = nI m) (h : m < 10) : ∃ T, T ≤ 100 ∧ takesF e c p = nI T := by
  obtain ⟨h1, h2⟩ := asks2_b e c p 0
  have hv : ∃ v, v ≤ 16 ∧ asksF e c 2 p 0 = nI v := by
    refine ⟨(asksF e c 2 p 0).toInt.toNat, by omega, Int32.toInt_inj.mp ?_⟩
    rw [nI_toInt (by omega)]; omega
  obtain ⟨v, hv, ev⟩ := hv
  unfold takesF takesI
  rw [ev, hm]
  split
  · exact ⟨v + m, by omega, nI_add _ _⟩
  · split
    · split
      · exact ⟨v, by omega, rfl⟩
      · exact ⟨0, by omega, rfl⟩
    · split
      · exact ⟨2 * (v + m), by omega, by rw [nI_add, show (2 : Int32) = nI 2 from rfl, pk_mul]⟩
      · split
        · exact ⟨1, by omega, rfl⟩
        · exact ⟨v, by omega, rfl⟩
theorem mx_N (T : Nat) (h : T ≤ 100) : mxI 0 (nI T) = nI T := by
  unfold mxI
  by_cases h0 : T = 0
  · subst h0; decide
  · rw [if_pos (show (0 : Int32) < nI T from nI_lt (a := 0) (by omega) (by omega))]
section XW
variable {g : GE} {b z p q n : Nat} {F : Nat → Int32} {A : Nat → Nat → Int32} {c : Cr} {ea : Nat} {tx : Nat → Option Nat} {nm : Nat → Int32} {ω0 : Om} {e : En} {t : Int32}
theorem xl_lesson {X T : Nat} {Q : Option Value → Om → Nat → Prop} (hX0 : X < 65536) (hT : T ≤ 100) :
    ∀ (f t m : Nat) (l : Int32), t ≤ 16 → 16 - t = f → m ≤ T → (∀ r, r = lrnL (nI X) (nI T) f t l (nI m) → Q (some (.int r)) (hX g b F A c ea tx nm ω0) z) →
    GN g RX0 cX0_lesson 6 (some .int) 212 Q (hX g b F A c ea tx nm ω0) z 26 [(5, .int (nI (T - m))), (4, .int l), (3, .int (nI (X / 2 ^ t * 2 ^ t))), (0, .ref b), (1, .int (nI p)), (2, .int (nI q))] [] := by
  intro f
  induction f with
  | zero =>
    intro t m l h1 h2 hm hQ
    have ht : t = 16 := by omega
    subst ht
    have hz : X / 2 ^ 16 * 2 ^ 16 = 0 := by rw [Nat.div_eq_of_lt hX0, Nat.zero_mul]
    rw [hz]
    refine g_iload dX0_lesson_26 rfl ?_
    refine g_if_le 56 dX0_lesson_28 (by decide) (fun c1 => ?_) (fun c1 => ?_)
    · refine g_iload dX0_lesson_56 rfl ?_
      refine g_iret rfl (Nat.le_refl _) (Nat.le_refl _) ?_ dX0_lesson_58
      exact hQ _ rfl
    · refine g_iload_n dX0_lesson_31 rfl ?_
      refine g_if_eq 56 dX0_lesson_32 (by decide) (fun _ => ?_) (fun h9 => absurd rfl h9)
      refine g_iload dX0_lesson_56 rfl ?_
      refine g_iret rfl (Nat.le_refl _) (Nat.le_refl _) ?_ dX0_lesson_58
      exact hQ _ rfl
  | succ f ih =>
    intro t m l h1 h2 hm hQ
    unfold lrnL at hQ
    by_cases hb : X / 2 ^ t % 2 = 1
    · have hs : sb (nI X) t = 1 := by rw [sb_N (by omega) (by omega), hb]; rfl
      have hx := hi_le X t
      have e1 := hi_one hb
      have hp2 := Nat.two_pow_pos t
      rw [if_pos hs] at hQ
      refine g_iload dX0_lesson_26 rfl ?_
      refine g_if_le 56 dX0_lesson_28 (by decide) (fun c1 => ?_) (fun c1 => ?_)
      · refine g_iload dX0_lesson_56 rfl ?_
        refine g_iret rfl (Nat.le_refl _) (Nat.le_refl _) ?_ dX0_lesson_58
        have hTm : T ≤ m := Nat.le_of_not_lt fun h => absurd c1 (nI_nle (by omega) (by omega))
        exact hQ _ (if_pos (nI_le hTm (by omega))).symm
      · have hlt : m < T := by
          rcases Nat.lt_or_ge m T with h | h
          · exact h
          · exact absurd (by rw [show T - m = 0 by omega]; decide) c1
        refine g_iload_n dX0_lesson_31 rfl ?_
        refine g_if_eq 56 dX0_lesson_32 (by decide) (fun h9 => absurd h9 (nI_ne0 (by omega) (by omega))) (fun _ => ?_)
        refine g_iload dX0_lesson_35 rfl ?_
        refine g_iload_n dX0_lesson_37 rfl ?_
        refine gs_calli (n := 1) (j_lowestOneBit ) (lw_S q1110 q1111 q94 q1112) (by decide +kernel) rfl rfl (by decide) ⟨Nat.le_refl _, Nat.le_refl _⟩ (Nat.le_of_ble_eq_true rfl) dX0_lesson_38 ?_
        refine g_ior dX0_lesson_41 ?_
        refine g_istore (L' := [(4, _), (5, _), (3, _), (0, _), (1, _), (2, _)]) dX0_lesson_42 (by decide) rfl ?_
        refine g_iload_n dX0_lesson_44 rfl ?_
        refine g_iload_n dX0_lesson_45 rfl ?_
        refine g_iconst (1) dX0_lesson_46 rfl ?_
        refine g_isub dX0_lesson_47 ?_
        refine g_iand dX0_lesson_48 ?_
        refine g_istore_n (L' := [(3, _), (4, _), (5, _), (0, _), (1, _), (2, _)]) dX0_lesson_49 (by decide) rfl ?_
        refine g_iinc _ (L' := [(5, _), (3, _), (4, _), (0, _), (1, _), (2, _)]) dX0_lesson_50 rfl rfl (by decide) rfl ?_
        refine g_goto 26 dX0_lesson_53 (by decide) ?_
        refine g_pick [0, 2, 1, 3, 4, 5] rfl ?_
        have e2 : nI (X / 2 ^ t * 2 ^ t) &&& -nI (X / 2 ^ t * 2 ^ t) = one (nI t) := by
          rw [ni_neg (by omega) (by omega), ni_and (by omega) (by omega), tz_low e1 (by omega), one_N (by omega)]
        have e3 : nI (X / 2 ^ t * 2 ^ t) &&& (nI (X / 2 ^ t * 2 ^ t) - 1) = nI (X / 2 ^ (t + 1) * 2 ^ (t + 1)) := by
          rw [show nI (X / 2 ^ t * 2 ^ t) - 1 = nI (X / 2 ^ t * 2 ^ t - 1) from pk_sub (b := 1) (by omega), ni_and (by omega) (by omega), tz_pred e1, Nat.mul_comm]
        have e4 : nI (T - m) + Int32.ofInt (-1) = nI (T - (m + 1)) := by
          rw [show T - m = (T - (m + 1)) + 1 by omega]; exact pk_m1 _
        rw [e2, e3, e4]
        exact ih (t + 1) (m + 1) _ (by omega) (by omega) (by omega) (fun r hr => hQ r (by rw [if_neg (nI_ge hlt (by omega)), nI_1]; exact hr))
    · have hs : ¬ sb (nI X) t = 1 := by
        rw [sb_N (by omega) (by omega), show X / 2 ^ t % 2 = 0 by omega]; decide
      rw [if_neg hs] at hQ
      rw [hi_zero hb]
      by_cases hTm : T ≤ m
      · rw [if_pos (nI_le hTm (by omega))] at hQ
        refine ih (t + 1) m l (by omega) (by omega) hm (fun r hr => hQ r ?_)
        rw [hr]
        match f with
        | 0 => rfl
        | f + 1 => unfold lrnL; rw [if_pos (nI_le hTm (by omega))]
      · exact ih (t + 1) m l (by omega) (by omega) hm (fun r hr => hQ r (by rw [if_neg (nI_ge (by omega) (by omega))]; exact hr))
theorem x_lesson (hN : gN g ≤ b) (hg : gW g) (hF : gF g) (hE : XE g b F ea tx ω0 e) (hC : CO c) (hp : p < e.1) (hq : q < e.1) : Ct g yX0_lesson cX0_lesson 6 (some .int) 212 0 0 [.ref b, .int (nI p), .int (nI q)] (hX g b F A c ea tx nm ω0) z (xQ g b ω0 z (some (.int (lesF e c p q))) F A c ea tx) := by
  have hn6 := hE.2.1
  obtain ⟨a, k, mm, hA, hkd, hmo, hm10⟩ := hE.2.2.1 q hq
  obtain ⟨T, hT, eT⟩ := takes_b (c := c) hmo hm10
  obtain ⟨X, hX0, eX⟩ := (hC.1 p (by omega)).and (y := c.1 (3 * q) ^^^ -1)
  refine Ct.at (own := RX0) (by decide) rfl (Nat.le_of_ble_eq_true rfl) rfl ?_
  have hL : lesF e c p q = lrnL (nI X) (nI T) 16 0 0 (nI 0) := by unfold lesF; rw [eX, eT]; rfl
  rw [hL]
  refine g_aload_n dX0_lesson_0 rfl ?_
  refine xg_knows dX0_lesson_1 ?_
  refine g_iload_n dX0_lesson_4 rfl ?_
  refine xl_knows (p) (by omega) (by first | rfl | (simp only [nI, Int32.ofNat_add, Int32.ofNat_mul]; rfl) | (simp only [nI, Int32.ofNat_add, Int32.ofNat_mul]; done)) dX0_lesson_5 ?_
  refine g_aload_n dX0_lesson_6 rfl ?_
  refine xg_knows dX0_lesson_7 ?_
  refine g_iload_n dX0_lesson_10 rfl ?_
  refine xl_knows (q) (by omega) (by first | rfl | (simp only [nI, Int32.ofNat_add, Int32.ofNat_mul]; rfl) | (simp only [nI, Int32.ofNat_add, Int32.ofNat_mul]; done)) dX0_lesson_11 ?_
  refine g_iconst (-1) dX0_lesson_12 rfl ?_
  refine g_ixor dX0_lesson_13 ?_
  refine g_iand dX0_lesson_14 ?_
  refine g_istore_n (L' := [(3, _), (0, _), (1, _), (2, _)]) dX0_lesson_15 (by decide) rfl ?_
  refine g_iconst (0) dX0_lesson_16 rfl ?_
  refine g_istore (L' := [(4, _), (3, _), (0, _), (1, _), (2, _)]) dX0_lesson_17 (by decide) rfl ?_
  refine g_aload_n dX0_lesson_19 rfl ?_
  refine g_iload_n dX0_lesson_20 rfl ?_
  refine gx_calli (n := 1) (x_takesOf (e := e) hN hg hF hE hC hq) (lw_V q1002 q1004 qs19 q68 q1005) (by decide +kernel) rfl rfl (by decide) ⟨Nat.le_refl _, Nat.le_refl _⟩ (Nat.le_of_ble_eq_true rfl) dX0_lesson_21 (fun nm => ?_)
  refine g_istore (L' := [(5, _), (4, _), (3, _), (0, _), (1, _), (2, _)]) dX0_lesson_24 (by decide) rfl ?_
  rw [eX, eT, mx_N T hT]
  have := xl_lesson (g := g) (b := b) (z := z) (p := p) (q := q) (F := F) (A := A) (c := c) (ea := ea) (tx := tx) (nm := nm) (ω0 := ω0) (Q := xQ g b ω0 z (some (.int (lrnL (nI X) (nI T) 16 0 0 (nI 0)))) F A c ea tx) hX0 hT 16 0 0 0 (by omega) rfl (by omega) (fun r hr => by subst hr; exact xQ.mk)
  rw [Nat.pow_zero, Nat.div_one, Nat.mul_one, Nat.sub_zero] at this
  exact this
theorem xl_washes {name : Int32} {Q : Option Value → Om → Nat → Prop} (hN : gN g ≤ b) (hn : F 31 = nI n) (hn6 : n ≤ 6) (hC : CO c) :
    ∀ (f p to : Nat), p ≤ n → n - p = f → to < n →
    (∀ to', to' = toL c.1 f p to → Q (some (.int name)) (hX g b F A (upd c.1 (3 * to') (c.1 (3 * to') ||| one name), c.2.1, c.2.2) ea tx nm ω0) z) →
    GN g RX0 cX0_washes 4 (some .int) 2 Q (hX g b F A c ea tx nm ω0) z 56 [(3, .int (nI p)), (2, .int (nI to)), (1, .int name), (0, .ref b)] [] := by
  intro f
  induction f with
  | zero =>
    intro p to h1 h2 h3 hQ
    have ht : p = n := by omega
    subst ht
    refine g_iload_n dX0_washes_56 rfl ?_
    refine g_aload_n dX0_washes_57 rfl ?_
    refine xg_fishers dX0_washes_58 ?_
    refine gd_callr (n := 0) (j_size hX_2) (lw_V q739 q740 q741 q71 q742) (by decide +kernel) (ci := 16) rfl hX_2 rfl rfl (by decide) ⟨Nat.le_refl _, Nat.le_refl _⟩ (Nat.le_of_ble_eq_true rfl) dX0_washes_61 ?_
    refine g_icmp_ge 96 dX0_washes_64 (by decide) (fun _ => ?_) (fun h9 => absurd (by rw [hn]; exact nI_le (Nat.le_refl _) (by omega)) h9)
    refine g_aload_n dX0_washes_96 rfl ?_
    refine xg_knows dX0_washes_97 ?_
    refine g_iload_n dX0_washes_100 rfl ?_
    refine g_dup2_11 dX0_washes_101 rfl rfl ?_
    refine xl_knows (to) (by omega) (by first | rfl | (simp only [nI, Int32.ofNat_add, Int32.ofNat_mul]; rfl) | (simp only [nI, Int32.ofNat_add, Int32.ofNat_mul]; done)) dX0_washes_102 ?_
    refine g_iconst (1) dX0_washes_103 rfl ?_
    refine g_iload_n dX0_washes_104 rfl ?_
    refine g_ishl dX0_washes_105 ?_
    refine g_ior dX0_washes_106 ?_
    refine xs_knows (to) hN (by omega) (by first | rfl | (simp only [nI, Int32.ofNat_add, Int32.ofNat_mul]; rfl) | (simp only [nI, Int32.ofNat_add, Int32.ofNat_mul]; done)) dX0_washes_107 ?_
    refine g_iload_n dX0_washes_108 rfl ?_
    refine g_iret rfl (Nat.le_refl _) (Nat.le_refl _) ?_ dX0_washes_109
    exact hQ _ rfl
  | succ f ih =>
    intro p to h1 h2 h3 hQ
    unfold toL at hQ
    refine g_iload_n dX0_washes_56 rfl ?_
    refine g_aload_n dX0_washes_57 rfl ?_
    refine xg_fishers dX0_washes_58 ?_
    refine gd_callr (n := 0) (j_size hX_2) (lw_V q739 q740 q741 q71 q742) (by decide +kernel) (ci := 16) rfl hX_2 rfl rfl (by decide) ⟨Nat.le_refl _, Nat.le_refl _⟩ (Nat.le_of_ble_eq_true rfl) dX0_washes_61 ?_
    refine g_icmp_ge 96 dX0_washes_64 (by decide) (fun h9 => absurd h9 (by rw [hn]; exact nI_ge (by omega) (by omega))) (fun _ => ?_)
    refine g_aload_n dX0_washes_67 rfl ?_
    refine xg_knows dX0_washes_68 ?_
    refine g_iload_n dX0_washes_71 rfl ?_
    refine xl_knows (p) (by omega) (by first | rfl | (simp only [nI, Int32.ofNat_add, Int32.ofNat_mul]; rfl) | (simp only [nI, Int32.ofNat_add, Int32.ofNat_mul]; done)) dX0_washes_72 ?_
    refine gs_calli (n := 1) (j_bitCount ) (lw_S q743 q744 q94 q745) (by decide +kernel) rfl rfl (by decide) ⟨Nat.le_refl _, Nat.le_refl _⟩ (Nat.le_of_ble_eq_true rfl) dX0_washes_73 ?_
    refine g_aload_n dX0_washes_76 rfl ?_
    refine xg_knows dX0_washes_77 ?_
    refine g_iload_n dX0_washes_80 rfl ?_
    refine xl_knows (to) (by omega) (by first | rfl | (simp only [nI, Int32.ofNat_add, Int32.ofNat_mul]; rfl) | (simp only [nI, Int32.ofNat_add, Int32.ofNat_mul]; done)) dX0_washes_81 ?_
    refine gs_calli (n := 1) (j_bitCount ) (lw_S q743 q744 q94 q745) (by decide +kernel) rfl rfl (by decide) ⟨Nat.le_refl _, Nat.le_refl _⟩ (Nat.le_of_ble_eq_true rfl) dX0_washes_82 ?_
    refine g_icmp_ge 90 dX0_washes_85 (by decide) (fun c1 => ?_) (fun c1 => ?_)
    · rw [bc16 (hC.1 to (by omega)), bc16 (hC.1 p (by omega))] at c1
      refine g_iinc (nI (p + 1)) (L' := [(3, _), (2, _), (1, _), (0, _)]) dX0_washes_90 rfl (nI_1 _) (by decide) rfl ?_
      refine g_goto 56 dX0_washes_93 (by decide) ?_
      exact ih (p + 1) to (by omega) (by omega) h3 (fun r hr => hQ r (by rw [if_neg (Int32.not_lt.mpr c1)]; exact hr))
    · rw [bc16 (hC.1 to (by omega)), bc16 (hC.1 p (by omega))] at c1
      refine g_iload_n dX0_washes_88 rfl ?_
      refine g_istore_n (L' := [(2, _), (3, _), (1, _), (0, _)]) dX0_washes_89 (by decide) rfl ?_
      refine g_iinc (nI (p + 1)) (L' := [(3, _), (2, _), (1, _), (0, _)]) dX0_washes_90 rfl (nI_1 _) (by decide) rfl ?_
      refine g_goto 56 dX0_washes_93 (by decide) ?_
      exact ih (p + 1) p (by omega) (by omega) (by omega) (fun r hr => hQ r (by rw [if_pos (Int32.not_le.mp c1)]; exact hr))
theorem x_washes (hN : gN g ≤ b) (hn : F 31 = nI n) (hn6 : n ≤ 6) (hC : CO c) : Ct g yX0_washes cX0_washes 4 (some .int) 2 0 0 [.ref b] (hX g b F A c ea tx nm ω0) z (xQ g b ω0 z (some (.int (tideN n c))) F A (tideC n c) ea tx) := by
  refine Ct.at (own := RX0) (by decide) rfl (Nat.le_of_ble_eq_true rfl) rfl ?_
  refine g_aload_n dX0_washes_0 rfl ?_
  refine g_dup dX0_washes_1 rfl ?_
  refine xg_tide dX0_washes_2 ?_
  refine g_iconst (1) dX0_washes_5 rfl ?_
  refine g_iadd dX0_washes_6 ?_
  refine xp_tide hN  dX0_washes_7 ?_
  refine g_aload_n dX0_washes_10 rfl ?_
  refine xg_sea dX0_washes_11 ?_
  refine g_if_eq 27 dX0_washes_14 (by decide) (fun c1 => ?_) (fun c1 => ?_)
  · have c1' : c.2.1 = 0 := c1
    have h1 : nth c.2.1 0 = -1 := by rw [c1']; exact nth_0
    refine g_iconst (-1) dX0_washes_27 rfl ?_
    refine g_iret rfl (Nat.le_refl _) (Nat.le_refl _) ?_ dX0_washes_28
    exact xQ.of (by rw [tideN, h1]; split <;> rfl) (by rw [tideC, if_pos (Or.inr h1)])
  · have c1' : ¬ c.2.1 = 0 := c1
    obtain ⟨w1, w2, w3⟩ := wash_sea hC.2.2 c1'
    refine g_aload_n dX0_washes_17 rfl ?_
    refine xg_fishers dX0_washes_18 ?_
    refine gd_callr (n := 0) (j_isEmpty hX_2) (lw_V q1121 q1122 q1123 q71 q1124) (by decide +kernel) (ci := 16) rfl hX_2 rfl rfl (by decide) ⟨Nat.le_refl _, Nat.le_refl _⟩ (Nat.le_of_ble_eq_true rfl) dX0_washes_21 ?_
    refine g_if_eq 29 dX0_washes_24 (by decide) (fun c2 => ?_) (fun c2 => ?_)
    · have h0 : ¬ n = 0 := by
        rintro rfl
        rw [hn] at c2
        exact absurd c2 (by decide)
      refine g_aload_n dX0_washes_29 rfl ?_
      refine xg_sea dX0_washes_30 ?_
      refine gs_calli (n := 1) (j_ntz ) (lw_S q1125 q1126 q94 q1127) (by decide +kernel) rfl rfl (by decide) ⟨Nat.le_refl _, Nat.le_refl _⟩ (Nat.le_of_ble_eq_true rfl) dX0_washes_33 ?_
      refine g_pc 36 rfl ?_
      rw [show ntzF (c.1, c.2.1, c.2.2 + 1).2.1 = nth c.2.1 0 from w1]
      refine g_istore_n (L' := [(1, _), (0, _)]) dX0_washes_36 (by decide) rfl ?_
      refine g_aload_n dX0_washes_37 rfl ?_
      refine g_dup dX0_washes_38 rfl ?_
      refine xg_sea dX0_washes_39 ?_
      refine g_aload_n dX0_washes_42 rfl ?_
      refine xg_sea dX0_washes_43 ?_
      refine g_iconst (1) dX0_washes_46 rfl ?_
      refine g_isub dX0_washes_47 ?_
      refine g_iand dX0_washes_48 ?_
      refine g_pc 49 rfl ?_
      rw [show (c.1, c.2.1, c.2.2 + 1).2.1 &&& ((c.1, c.2.1, c.2.2 + 1).2.1 - 1) = c.2.1 &&& (one (nth c.2.1 0) ^^^ -1) from w2]
      refine xp_sea hN  dX0_washes_49 ?_
      refine g_iconst (0) dX0_washes_52 rfl ?_
      refine g_istore_n (L' := [(2, _), (1, _), (0, _)]) dX0_washes_53 (by decide) rfl ?_
      refine g_iconst (1) dX0_washes_54 rfl ?_
      refine g_istore_n (L' := [(3, _), (2, _), (1, _), (0, _)]) dX0_washes_55 (by decide) rfl ?_
      refine xl_washes (c := (c.1, c.2.1 &&& (one (nth c.2.1 0) ^^^ -1), c.2.2 + 1)) hN hn hn6 ⟨hC.1, hC.2.1, hC.2.2.and⟩ (n - 1) 1 0 (by omega) rfl (by omega) (fun r hr => ?_)
      subst hr
      exact xQ.of (by rw [tideN, if_neg h0]) (by rw [tideC, if_neg (fun h => h.elim h0 w3)]; rfl)
    · have h0 : n = 0 := by
        rw [hn] at c2
        by_cases hh : nI n = 0
        · exact (nI_eq (a := n) (b := 0) (by omega) (by decide)).mp hh
        · rw [if_neg hh] at c2; exact absurd rfl c2
      refine g_iconst (-1) dX0_washes_27 rfl ?_
      refine g_iret rfl (Nat.le_refl _) (Nat.le_refl _) ?_ dX0_washes_28
      exact xQ.of (by rw [tideN, if_pos h0]) (by rw [tideC, if_pos (Or.inl h0)])
end XW
