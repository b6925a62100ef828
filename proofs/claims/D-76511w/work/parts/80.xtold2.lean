/-! the component: by what a told season is so -/
set_option maxRecDepth 100000
theorem told_st {F : Nat → Int32} {A Ax : Nat → Nat → Int32} {Fx : Nat → Int32} {s t : Int32} (hS : ShR A Fx Ax) (hb : twoW A s t = 0) : ∃ s' t' m, s' < 4 ∧ t' < 4 ∧ s = nI s' ∧ t = nI t' ∧ m ≤ 40 ∧ A 16 t' = nI m ∧ (∀ k, k < m → ∃ x, x < 16 ∧ shf A s' k = nI x) := by
  have ht0 : ¬ inI t 0 3 = 0 := fun h => by unfold twoW at hb; rw [if_pos h] at hb; exact absurd hb (by decide)
  obtain ⟨t, ht, rfl⟩ := in_ix (hi := 3) (m := 3) (by decide) ht0
  have hct : cn (nI t) = t := nI_clamp (by omega)
  have hsb : seasF A s = 0 := by
    unfold twoW at hb
    rw [if_neg ht0] at hb
    by_cases h : seasF A s = 0
    · exact h
    · rw [if_neg h] at hb; exact absurd hb h
  obtain ⟨s, m, hs, rfl, hm, h16, h50, hsw⟩ := seas_s hS hsb
  have hcs : cn (nI s) = s := nI_clamp (by omega)
  obtain ⟨b1, b2, b3, ⟨m2, hm2, b4⟩, b5, b6⟩ := hS t (by omega)
  refine ⟨s, t, m2, hs, by omega, rfl, rfl, hm2, b4, fun k hk => ?_⟩
  have hle : m2 ≤ m := by
    unfold twoW at hb
    rw [if_neg ht0, if_pos hsb, hct, hcs] at hb
    by_cases h1 : A 15 t = -1
    · rw [if_pos h1] at hb; exact absurd hb (by decide)
    · rw [if_neg h1] at hb
      by_cases h2 : A 16 t ≤ A 16 s
      · rw [b4, h16] at h2; exact (nI_leI (by omega) (by omega)).mp h2
      · rw [if_neg h2] at hb; exact absurd hb (by decide)
  exact sw_ok m 0 hsw k (by omega) (by omega)
theorem toldW_0 {F : Nat → Int32} {A : Nat → Nat → Int32} {s t p : Int32} (hb : toldW F A s t p = 0) : twoW A s t = 0 ∧ ¬ inI p 0 (F 0 - 1) = 0 := by
  unfold toldW at hb
  by_cases h : twoW A s t = 0
  · rw [if_pos h] at hb
    refine ⟨h, fun h2 => ?_⟩
    rw [if_pos h2] at hb; exact absurd hb (by decide)
  · rw [if_neg h] at hb; exact absurd hb h
section A
variable {g : GE} {b z n : Nat} {F Fx : Nat → Int32} {A Ax : Nat → Nat → Int32} {c : Cr} {ea : Nat} {tx : Nat → Option Nat} {nm : Nat → Int32} {ω0 : Om} {ts : Nat → List Int32}
theorem x_judge {s t p : Int32} (hN : gN g ≤ b) (hg : gW g) (hF : gF g) (h0 : F 0 = nI n) (hE : XE g b Fx ea tx ω0 (eM A n ts)) (hC : CO c) (hS : ShR A Fx Ax) : Ct g yX0_judge cX0_judge 5 (some .int) 214 0 0 [.ref b, .int s, .int t, .int p] (hX g b Fx Ax c ea tx nm ω0) z (xA8 g b ω0 z (some (.int (judgeF F A n ts c s t p).1)) Fx Ax c ea tx) := by
  have hn : Fx 31 = nI n := hE.1
  have hn6 : n ≤ 6 := hE.2.1
  refine Ct.at (own := RX0) (by decide) rfl (Nat.le_of_ble_eq_true rfl) rfl ?_
  by_cases hb : toldW F A s t p = 0
  · obtain ⟨h2, hp0⟩ := toldW_0 hb
    obtain ⟨s, t, m, hs, ht, rfl, rfl, hm, h16, hfc⟩ := told_st (F := F) hS h2
    obtain ⟨p, hp, rfl⟩ := one_ix h0 hn6 hp0
    have hcs : cn (nI s) = s := nI_clamp (by omega)
    have hct : cn (nI t) = t := nI_clamp (by omega)
    have hcp : cn (nI p) = p := nI_clamp (by omega)
    have hV : (judgeF F A n ts c (nI s) (nI t) (nI p)).1 = unF A n ts c s t p := by unfold judgeF; rw [if_pos hb, hcs, hct, hcp]
    rw [hV]
    refine g_aload_n dX0_judge_0 rfl ?_
    refine g_iload_n dX0_judge_1 rfl ?_
    refine g_iload_n dX0_judge_2 rfl ?_
    refine g_iload_n dX0_judge_3 rfl ?_
    refine gx_calli (n := 3) (x_toldBad h0 hn hn6 hS) (lw_V q1199 q1201 qs32 q68 q1202) (by decide +kernel) rfl rfl (by decide) ⟨Nat.le_refl _, Nat.le_refl _⟩ (Nat.le_of_ble_eq_true rfl) dX0_judge_4 (fun nm => ?_)
    refine g_istore (L' := [(4, _), (0, _), (1, _), (2, _), (3, _)]) dX0_judge_7 (by decide) rfl ?_
    refine g_iload dX0_judge_9 rfl ?_
    refine g_if_ne 24 dX0_judge_11 (by decide) (fun h9 => absurd hb h9) (fun _ => ?_)
    refine g_aload_n dX0_judge_14 rfl ?_
    refine g_iload_n dX0_judge_15 rfl ?_
    refine g_iload_n dX0_judge_16 rfl ?_
    refine g_iload_n dX0_judge_17 rfl ?_
    rw [← sA_self Ax 8]
    refine gx_callU (A := A) (n := n) (ts := ts) (m := m) (k8 := Ax 8) hN hg hF hE hC hS hs ht hp hm h16 hfc (by decide) ⟨Nat.le_refl _, Nat.le_refl _⟩ (Nat.le_of_ble_eq_true rfl) dX0_judge_18 (fun nm k8 => ?_)
    refine g_goto 26 dX0_judge_21 (by decide) ?_
    refine g_iret rfl (Nat.le_refl _) (Nat.le_refl _) ?_ dX0_judge_26
    rw [sA_sA]
    exact xA8.mk
  · have hV : (judgeF F A n ts c s t p).1 = toldW F A s t p := by unfold judgeF; rw [if_neg hb]
    rw [hV]
    refine g_aload_n dX0_judge_0 rfl ?_
    refine g_iload_n dX0_judge_1 rfl ?_
    refine g_iload_n dX0_judge_2 rfl ?_
    refine g_iload_n dX0_judge_3 rfl ?_
    refine gx_calli (n := 3) (x_toldBad h0 hn hn6 hS) (lw_V q1199 q1201 qs32 q68 q1202) (by decide +kernel) rfl rfl (by decide) ⟨Nat.le_refl _, Nat.le_refl _⟩ (Nat.le_of_ble_eq_true rfl) dX0_judge_4 (fun nm => ?_)
    refine g_istore (L' := [(4, _), (0, _), (1, _), (2, _), (3, _)]) dX0_judge_7 (by decide) rfl ?_
    refine g_iload dX0_judge_9 rfl ?_
    refine g_if_ne 24 dX0_judge_11 (by decide) (fun _ => ?_) (fun h9 => absurd h9 hb)
    refine g_iload dX0_judge_24 rfl ?_
    refine g_iret rfl (Nat.le_refl _) (Nat.le_refl _) ?_ dX0_judge_26
    exact xA8.of0 rfl
abbrev hhT : List (Nat × Nat × Nat × Nat) := [(28, 81, 92, 0), (92, 94, 92, 0)]
theorem xl_turned {s t p m : Nat} {r bad : Int32} {Q : Option Value → Om → Nat → Prop} (hN : gN g ≤ b) (hg : gW g) (hF : gF g) (hE : XE g b Fx ea tx ω0 (eM A n ts)) (hC : CO c) (hS : ShR A Fx Ax) (hs : s < 4) (ht : t < 4) (hp : p < n) (hm : m ≤ 40) (h16 : A 16 t = nI m) (hfc : ∀ k, k < m → ∃ x, x < 16 ∧ shf A s k = nI x)
    (hQ : ∀ nm k8, Q (some (.int r)) (hX g b Fx (sA Ax 8 k8) c ea tx nm ω0) z) :
    ∀ (f v : Nat) (x y : Int32) (nm k8 : Nat → Int32), v + f = 16 → turL A n ts c s t p f v x = r →
    GW g RX0 cX0_turned 9 (some .int) hhT 214 Q (hX g b Fx (sA Ax 8 k8) (upd c.1 (3 * p) y, c.2.1, c.2.2) ea tx nm ω0) z 31 [(7, .int (nI v)), (6, .int x), (5, .int (c.1 (3 * p))), (4, .int bad), (0, .ref b), (1, .int (nI s)), (2, .int (nI t)), (3, .int (nI p))] [] := by
  have hn6 := hE.2.1
  have hn6' : n ≤ 6 := hn6
  intro f
  induction f with
  | zero =>
    intro v x y nm k8 hv hr
    have : v = 16 := by omega
    subst this; subst hr
    refine g_iload dX0_turned_31 rfl ?_
    refine g_bipush (16) dX0_turned_33 rfl ?_
    refine g_icmp_ge 77 dX0_turned_35 (by decide) (fun _ => ?_) (fun h9 => absurd (by decide) h9)
    refine g_iload dX0_turned_77 rfl ?_
    refine g_istore (L' := [(7, _), (6, _), (5, _), (4, _), (0, _), (1, _), (2, _), (3, _)]) dX0_turned_79 (by decide) rfl ?_
    refine g_aload_n dX0_turned_81 rfl ?_
    refine xg_knows dX0_turned_82 ?_
    refine g_iload_n dX0_turned_85 rfl ?_
    refine g_iload dX0_turned_86 rfl ?_
    refine xs_knows (p) hN (by omega) (by first | rfl | (simp only [nI, Int32.ofNat_add, Int32.ofNat_mul]; rfl) | (simp only [nI, Int32.ofNat_add, Int32.ofNat_mul]; done)) dX0_turned_88 ?_
    refine g_iload dX0_turned_89 rfl ?_
    refine g_iret rfl (Nat.le_refl _) (Nat.le_refl _) ?_ dX0_turned_91
    rw [upd_upd, upd_self]
    exact hQ _ _
  | succ f ih =>
    intro v x y nm k8 hv hr
    unfold turL at hr
    refine g_iload dX0_turned_31 rfl ?_
    refine g_bipush (16) dX0_turned_33 rfl ?_
    refine g_icmp_ge 77 dX0_turned_35 (by decide) (fun h9 => absurd h9 (nI_ge (b := 16) (by omega) (by decide))) (fun _ => ?_)
    refine g_aload_n dX0_turned_38 rfl ?_
    refine xg_knows dX0_turned_39 ?_
    refine g_iload_n dX0_turned_42 rfl ?_
    refine g_iload dX0_turned_43 rfl ?_
    refine g_iconst (1) dX0_turned_45 rfl ?_
    refine g_iload dX0_turned_46 rfl ?_
    refine g_ishl dX0_turned_48 ?_
    refine g_ixor dX0_turned_49 ?_
    refine xs_knows (p) hN (by omega) (by first | rfl | (simp only [nI, Int32.ofNat_add, Int32.ofNat_mul]; rfl) | (simp only [nI, Int32.ofNat_add, Int32.ofNat_mul]; done)) dX0_turned_50 ?_
    rw [upd_upd, show c.1 (3 * p) ^^^ 1 <<< (nI v &&& 31) = c.1 (3 * p) ^^^ one (nI v) from rfl]
    refine g_aload_n dX0_turned_51 rfl ?_
    refine g_iload_n dX0_turned_52 rfl ?_
    refine g_iload_n dX0_turned_53 rfl ?_
    refine g_iload_n dX0_turned_54 rfl ?_
    refine gx_callU (A := A) (n := n) (ts := ts) (m := m) (c := (upd c.1 (3 * p) (c.1 (3 * p) ^^^ one (nI v)), c.2.1, c.2.2)) hN hg hF hE (hC.upd0 ((hC.1 p (by omega)).xor (lt16.one (by omega))) hC.2.2) hS hs ht hp hm h16 hfc (by decide) ⟨Nat.le_refl _, Nat.le_refl _⟩ (Nat.le_of_ble_eq_true rfl) dX0_turned_55 (fun nm k8 => ?_)
    refine g_iconst (-1) dX0_turned_58 rfl ?_
    refine g_icmp_ne 71 dX0_turned_59 (by decide) (fun c1 => ?_) (fun c1 => ?_)
    · rw [if_neg c1, Int32.or_zero] at hr
      refine g_iinc (nI (v + 1)) (L' := [(7, _), (6, _), (5, _), (4, _), (0, _), (1, _), (2, _), (3, _)]) dX0_turned_71 rfl (nI_1 _) (by decide) rfl ?_
      refine g_goto 31 dX0_turned_74 (by decide) ?_
      exact ih (v + 1) _ _ _ _ (by omega) hr
    · rw [if_pos c1] at hr
      refine g_iload dX0_turned_62 rfl ?_
      refine g_iconst (1) dX0_turned_64 rfl ?_
      refine g_iload dX0_turned_65 rfl ?_
      refine g_ishl dX0_turned_67 ?_
      refine g_ior dX0_turned_68 ?_
      refine g_istore (L' := [(6, _), (7, _), (5, _), (4, _), (0, _), (1, _), (2, _), (3, _)]) dX0_turned_69 (by decide) rfl ?_
      refine g_iinc (nI (v + 1)) (L' := [(7, _), (6, _), (5, _), (4, _), (0, _), (1, _), (2, _), (3, _)]) dX0_turned_71 rfl (nI_1 _) (by decide) rfl ?_
      refine g_goto 31 dX0_turned_74 (by decide) ?_
      exact ih (v + 1) _ _ _ _ (by omega) hr
theorem x_turned {s t p : Int32} (hN : gN g ≤ b) (hg : gW g) (hF : gF g) (h0 : F 0 = nI n) (hE : XE g b Fx ea tx ω0 (eM A n ts)) (hC : CO c) (hS : ShR A Fx Ax) : CtW g yX0_turned cX0_turned 9 (some .int) hhT 214 0 0 [.ref b, .int s, .int t, .int p] (hX g b Fx Ax c ea tx nm ω0) z (xA8 g b ω0 z (some (.int (turnedF F A n ts c s t p).1)) Fx Ax c ea tx) := by
  have hn : Fx 31 = nI n := hE.1
  have hn6 : n ≤ 6 := hE.2.1
  refine CtW.at (own := RX0) (by decide) rfl (Nat.le_of_ble_eq_true rfl) rfl ?_
  by_cases hb : toldW F A s t p = 0
  · obtain ⟨h2, hp0⟩ := toldW_0 hb
    obtain ⟨s, t, m, hs, ht, rfl, rfl, hm, h16, hfc⟩ := told_st (F := F) hS h2
    obtain ⟨p, hp, rfl⟩ := one_ix h0 hn6 hp0
    have hcs : cn (nI s) = s := nI_clamp (by omega)
    have hct : cn (nI t) = t := nI_clamp (by omega)
    have hcp : cn (nI p) = p := nI_clamp (by omega)
    have hV : (turnedF F A n ts c (nI s) (nI t) (nI p)).1 = turL A n ts c s t p 16 0 0 := by unfold turnedF; rw [if_pos hb, hcs, hct, hcp]
    rw [hV]
    refine g_aload_n dX0_turned_0 rfl ?_
    refine g_iload_n dX0_turned_1 rfl ?_
    refine g_iload_n dX0_turned_2 rfl ?_
    refine g_iload_n dX0_turned_3 rfl ?_
    refine gx_calli (n := 3) (x_toldBad h0 hn hn6 hS) (lw_V q1199 q1201 qs32 q68 q1202) (by decide +kernel) rfl rfl (by decide) ⟨Nat.le_refl _, Nat.le_refl _⟩ (Nat.le_of_ble_eq_true rfl) dX0_turned_4 (fun nm => ?_)
    refine g_istore (L' := [(4, _), (0, _), (1, _), (2, _), (3, _)]) dX0_turned_7 (by decide) rfl ?_
    refine g_iload dX0_turned_9 rfl ?_
    refine g_if_eq 17 dX0_turned_11 (by decide) (fun _ => ?_) (fun h9 => absurd hb h9)
    refine g_aload_n dX0_turned_17 rfl ?_
    refine xg_knows dX0_turned_18 ?_
    refine g_iload_n dX0_turned_21 rfl ?_
    refine xl_knows (p) (by omega) (by first | rfl | (simp only [nI, Int32.ofNat_add, Int32.ofNat_mul]; rfl) | (simp only [nI, Int32.ofNat_add, Int32.ofNat_mul]; done)) dX0_turned_22 ?_
    refine g_istore (L' := [(5, _), (4, _), (0, _), (1, _), (2, _), (3, _)]) dX0_turned_23 (by decide) rfl ?_
    refine g_iconst (0) dX0_turned_25 rfl ?_
    refine g_istore (L' := [(6, _), (5, _), (4, _), (0, _), (1, _), (2, _), (3, _)]) dX0_turned_26 (by decide) rfl ?_
    refine g_iconst (0) dX0_turned_28 rfl ?_
    refine g_istore (L' := [(7, _), (6, _), (5, _), (4, _), (0, _), (1, _), (2, _), (3, _)]) dX0_turned_29 (by decide) rfl ?_
    have h := xl_turned (g := g) (b := b) (z := z) (Fx := Fx) (Ax := Ax) (c := c) (ea := ea) (tx := tx) (ω0 := ω0) (s := s) (t := t) (p := p) (m := m) (r := turL A n ts c s t p 16 0 0) (bad := toldW F A (nI s) (nI t) (nI p)) (Q := xA8 g b ω0 z (some (.int (turL A n ts c s t p 16 0 0))) Fx Ax c ea tx) hN hg hF hE hC hS hs ht hp hm h16 hfc (fun nm k8 => xA8.mk) 16 0 0 (c.1 (3 * p)) nm (Ax 8) (by omega) rfl
    rw [sA_self, upd_self] at h
    exact h
  · have hV : (turnedF F A n ts c s t p).1 = toldW F A s t p := by unfold turnedF; rw [if_neg hb]
    rw [hV]
    refine g_aload_n dX0_turned_0 rfl ?_
    refine g_iload_n dX0_turned_1 rfl ?_
    refine g_iload_n dX0_turned_2 rfl ?_
    refine g_iload_n dX0_turned_3 rfl ?_
    refine gx_calli (n := 3) (x_toldBad h0 hn hn6 hS) (lw_V q1199 q1201 qs32 q68 q1202) (by decide +kernel) rfl rfl (by decide) ⟨Nat.le_refl _, Nat.le_refl _⟩ (Nat.le_of_ble_eq_true rfl) dX0_turned_4 (fun nm => ?_)
    refine g_istore (L' := [(4, _), (0, _), (1, _), (2, _), (3, _)]) dX0_turned_7 (by decide) rfl ?_
    refine g_iload dX0_turned_9 rfl ?_
    refine g_if_eq 17 dX0_turned_11 (by decide) (fun h9 => absurd h9 hb) (fun _ => ?_)
    refine g_iload dX0_turned_14 rfl ?_
    refine g_iret rfl (Nat.le_refl _) (Nat.le_refl _) ?_ dX0_turned_16
    exact xA8.of0 rfl
theorem xl_lucks {s t p m : Nat} {rx ry bad w : Int32} {Q : Option Value → Om → Nat → Prop} (hN : gN g ≤ b) (hg : gW g) (hF : gF g) (hE : XE g b Fx ea tx ω0 (eM A n ts)) (hC : CO c) (hS : ShR A Fx Ax) (hs : s < 4) (ht : t < 4) (hp : p < n) (hm : m ≤ 40) (h16 : A 16 t = nI m) (hfc : ∀ k, k < m → ∃ x, x < 16 ∧ shf A s k = nI x)
    (hQ : ∀ nm k8, Q (some (.int (if w = 0 then rx else ry))) (hX g b Fx (sA Ax 8 k8) c ea tx nm ω0) z) :
    ∀ (f v : Nat) (x y : Int32) (L0 : List (Nat × Value)) (nm k8 : Nat → Int32), v + f = 100 → lucL A n ts c s t p f v x y = (rx, ry) →
    GN g RX0 cX0_lucks 11 (some .int) 214 Q (hX g b Fx (sA Ax 8 k8) c ea tx nm ω0) z 48 [(9, .int (nI v)), (8, .int y), (7, .int x), (6, .int (c.1 (3 * p + 2))), (5, .int bad), (0, .ref b), (1, .int (nI s)), (2, .int (nI t)), (3, .int (nI p)), (4, .int w)] [] := by
  have hn6 : n ≤ 6 := hE.2.1
  intro f
  induction f with
  | zero =>
    intro v x y L0 nm k8 hv hr
    have : v = 100 := by omega
    subst this; cases hr
    refine g_iload dX0_lucks_48 rfl ?_
    refine g_bipush (99) dX0_lucks_50 rfl ?_
    refine g_icmp_gt 116 dX0_lucks_52 (by decide) (fun _ => ?_) (fun h9 => absurd (by decide) h9)
    refine g_iload dX0_lucks_116 rfl ?_
    refine g_if_ne 126 dX0_lucks_118 (by decide) (fun c1 => ?_) (fun c1 => ?_)
    · have := hQ nm k8
      rw [if_neg c1] at this
      refine g_iload dX0_lucks_126 rfl ?_
      refine g_iret rfl (Nat.le_refl _) (Nat.le_refl _) ?_ dX0_lucks_128
      exact this
    · have := hQ nm k8
      rw [if_pos c1] at this
      refine g_iload dX0_lucks_121 rfl ?_
      refine g_goto 128 dX0_lucks_123 (by decide) ?_
      refine g_iret rfl (Nat.le_refl _) (Nat.le_refl _) ?_ dX0_lucks_128
      exact this
  | succ f ih =>
    intro v x y L0 nm k8 hv hr
    unfold lucL at hr
    refine g_iload dX0_lucks_48 rfl ?_
    refine g_bipush (99) dX0_lucks_50 rfl ?_
    refine g_icmp_gt 116 dX0_lucks_52 (by decide) (fun h9 => absurd h9 (nI_nlt (a := 99) (b := v) (by omega) (by omega))) (fun _ => ?_)
    refine g_aload_n dX0_lucks_55 rfl ?_
    refine g_iload_n dX0_lucks_56 rfl ?_
    refine g_iconst (2) dX0_lucks_57 rfl ?_
    refine g_iload dX0_lucks_58 rfl ?_
    refine gx_callv (n := 3) (x_lays (p := p) (w := 2) hN (by omega) (by decide)) (lw_V q1029 q1031 qs20 q68 q1032) (by decide +kernel) rfl rfl (by decide) ⟨Nat.le_refl _, Nat.le_refl _⟩ (Nat.le_of_ble_eq_true rfl) dX0_lucks_60 (fun nm => ?_)
    refine g_pc 63 rfl ?_
    refine g_aload_n dX0_lucks_63 rfl ?_
    refine g_iload_n dX0_lucks_64 rfl ?_
    refine g_iload_n dX0_lucks_65 rfl ?_
    refine g_iload_n dX0_lucks_66 rfl ?_
    refine gx_callU (A := A) (n := n) (ts := ts) (m := m) (c := (upd c.1 (3 * p + 2) (nI v), c.2.1, c.2.2)) hN hg hF hE (hC.upd2 hC.2.2) hS hs ht hp hm h16 hfc (by decide) ⟨Nat.le_refl _, Nat.le_refl _⟩ (Nat.le_of_ble_eq_true rfl) dX0_lucks_67 (fun nm k8 => ?_)
    refine g_iconst (-1) dX0_lucks_70 rfl ?_
    refine g_icmp_ne 78 dX0_lucks_71 (by decide) (fun c1 => ?_) (fun c1 => ?_)
    · refine g_iconst (0) dX0_lucks_78 rfl ?_
      refine g_istore (L' := [(10, _), (9, _), (8, _), (7, _), (6, _), (5, _), (0, _), (1, _), (2, _), (3, _), (4, _)]) dX0_lucks_79 (by decide) rfl ?_
      refine g_aload_n dX0_lucks_81 rfl ?_
      refine g_iload_n dX0_lucks_82 rfl ?_
      refine g_iconst (2) dX0_lucks_83 rfl ?_
      refine g_iload dX0_lucks_84 rfl ?_
      refine gx_callv (n := 3) (x_lays (p := p) (w := 2) hN (by omega) (by decide)) (lw_V q1029 q1031 qs20 q68 q1032) (by decide +kernel) rfl rfl (by decide) ⟨Nat.le_refl _, Nat.le_refl _⟩ (Nat.le_of_ble_eq_true rfl) dX0_lucks_86 (fun nm => ?_)
      rw [if_neg c1, Int32.add_zero] at hr
      rw [upd_upd, upd_self]
      refine g_iload dX0_lucks_89 rfl ?_
      refine g_if_ne 97 dX0_lucks_91 (by decide) (fun h9 => absurd rfl h9) (fun _ => ?_)
      refine g_goto 110 dX0_lucks_94 (by decide) ?_
      refine g_iinc (nI (v + 1)) (L' := [(9, _), (10, _), (8, _), (7, _), (6, _), (5, _), (0, _), (1, _), (2, _), (3, _), (4, _)]) dX0_lucks_110 rfl (nI_1 _) (by decide) rfl ?_
      refine g_goto 48 dX0_lucks_113 (by decide) ?_
      refine g_pick [0, 2, 3, 4, 5, 6, 7, 8, 9, 10] rfl ?_
      exact ih (v + 1) _ _ L0 _ _ (by omega) hr
    · refine g_iconst (1) dX0_lucks_74 rfl ?_
      refine g_goto 79 dX0_lucks_75 (by decide) ?_
      refine g_istore (L' := [(10, _), (9, _), (8, _), (7, _), (6, _), (5, _), (0, _), (1, _), (2, _), (3, _), (4, _)]) dX0_lucks_79 (by decide) rfl ?_
      refine g_aload_n dX0_lucks_81 rfl ?_
      refine g_iload_n dX0_lucks_82 rfl ?_
      refine g_iconst (2) dX0_lucks_83 rfl ?_
      refine g_iload dX0_lucks_84 rfl ?_
      refine gx_callv (n := 3) (x_lays (p := p) (w := 2) hN (by omega) (by decide)) (lw_V q1029 q1031 qs20 q68 q1032) (by decide +kernel) rfl rfl (by decide) ⟨Nat.le_refl _, Nat.le_refl _⟩ (Nat.le_of_ble_eq_true rfl) dX0_lucks_86 (fun nm => ?_)
      rw [if_pos c1] at hr
      rw [upd_upd, upd_self]
      refine g_iload dX0_lucks_89 rfl ?_
      refine g_if_ne 97 dX0_lucks_91 (by decide) (fun _ => ?_) (fun h9 => absurd h9 (by decide))
      refine g_iinc _ (L' := [(7, _), (10, _), (9, _), (8, _), (6, _), (5, _), (0, _), (1, _), (2, _), (3, _), (4, _)]) dX0_lucks_97 rfl rfl (by decide) rfl ?_
      refine g_iload dX0_lucks_100 rfl ?_
      refine g_iconst (-1) dX0_lucks_102 rfl ?_
      refine g_icmp_ne 110 dX0_lucks_103 (by decide) (fun c2 => ?_) (fun c2 => ?_)
      · rw [if_neg c2] at hr
        refine g_iinc (nI (v + 1)) (L' := [(9, _), (7, _), (10, _), (8, _), (6, _), (5, _), (0, _), (1, _), (2, _), (3, _), (4, _)]) dX0_lucks_110 rfl (nI_1 _) (by decide) rfl ?_
        refine g_goto 48 dX0_lucks_113 (by decide) ?_
        refine g_pick [0, 3, 1, 4, 5, 6, 7, 8, 9, 10] rfl ?_
        exact ih (v + 1) _ _ L0 _ _ (by omega) hr
      · rw [if_pos c2] at hr
        refine g_iload dX0_lucks_106 rfl ?_
        refine g_istore (L' := [(8, _), (7, _), (10, _), (9, _), (6, _), (5, _), (0, _), (1, _), (2, _), (3, _), (4, _)]) dX0_lucks_108 (by decide) rfl ?_
        refine g_iinc (nI (v + 1)) (L' := [(9, _), (8, _), (7, _), (10, _), (6, _), (5, _), (0, _), (1, _), (2, _), (3, _), (4, _)]) dX0_lucks_110 rfl (nI_1 _) (by decide) rfl ?_
        refine g_goto 48 dX0_lucks_113 (by decide) ?_
        refine g_pick [0, 1, 2, 4, 5, 6, 7, 8, 9, 10] rfl ?_
        exact ih (v + 1) _ _ L0 _ _ (by omega) hr
end A
