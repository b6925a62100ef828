/-! the component: seasons truly fished, told seasons -/
set_option maxRecDepth 100000
theorem tide_lu {n : Nat} {c : Cr} {p : Nat} : (tideC n c).1 (3 * p + 2) = c.1 (3 * p + 2) := by
  unfold tideC
  split
  · rfl
  · show upd _ _ _ _ = _; rw [pk_un (by omega)]
/-- an answer and a core, what lies aside being anything -/
def xA8 (g : GE) (b : Nat) (ω0 : Om) (z : Nat) (v : Option Value) (Fx : Nat → Int32) (Ax : Nat → Nat → Int32) (c : Cr) (ea : Nat) (tx : Nat → Option Nat) : Option Value → Om → Nat → Prop := fun v' ω' z' => v' = v ∧ z' = z ∧ ∃ nm k, ω' = hX g b Fx (sA Ax 8 k) c ea tx nm ω0
abbrev hhU : List (Nat × Nat × Nat × Nat) := [(8, 73, 104, 0), (84, 93, 104, 0), (104, 106, 104, 0)]
abbrev GW (g : GE) (own : String) (cc : ByteArray) (nL : Nat) (ret : Option FieldType) (hh : List (Nat × Nat × Nat × Nat)) (d : Nat) (Q : Option Value → Om → Nat → Prop) (ω : Om) (z pc : Nat) (L : List (Nat × Value)) (S : List Value) : Prop := G g own cc nL ret (hasT hh) (rmD d 0 0) (zN g Q 0 0) 0 0 ω z pc L S
section A
variable {g : GE} {b z n : Nat} {F Fx : Nat → Int32} {A Ax : Nat → Nat → Int32} {c : Cr} {ea : Nat} {tx : Nat → Option Nat} {nm : Nat → Int32} {ω0 : Om} {ts : Nat → List Int32}
theorem xA8.mk {v : Option Value} {k : Nat → Int32} : xA8 g b ω0 z v Fx Ax c ea tx v (hX g b Fx (sA Ax 8 k) c ea tx nm ω0) z := ⟨rfl, rfl, nm, k, rfl⟩
theorem xA8.of {v v' : Option Value} {k : Nat → Int32} (h : v' = v) : xA8 g b ω0 z v Fx Ax c ea tx v' (hX g b Fx (sA Ax 8 k) c ea tx nm ω0) z := ⟨h, rfl, nm, k, rfl⟩
theorem xA8.of0 {v v' : Option Value} (h : v' = v) : xA8 g b ω0 z v Fx Ax c ea tx v' (hX g b Fx Ax c ea tx nm ω0) z := ⟨h, rfl, nm, Ax 8, by rw [sA_self]⟩
theorem xl_fish {s p m : Nat} {fc : Nat → Int32} {bad : Int32} {Q : Option Value → Om → Nat → Prop} {cE : Cr} {e : En} (hN : gN g ≤ b) (hg : gW g) (hF : gF g) (hE : XE g b Fx ea tx ω0 e) (hp : p < e.1) (hs : s < 4) (hm : m ≤ 40) (h50 : Fx (50 + s) = nI m) (hfc : ∀ k, k < m → ∃ t, t < 16 ∧ fc k = nI t ∧ Ax (60 + s) k = nI t)
    (K : ∀ nm, CO cE → GN g RX0 cX0_fish 5 (some .int) 213 Q (hX g b Fx Ax cE ea tx nm ω0) z 92 [(4, .int (nI m)), (3, .int bad), (0, .ref b), (1, .int (nI s)), (2, .int (nI p))] []) :
    ∀ (f k : Nat) (c : Cr) (x : Int32) (nm : Nat → Int32), k + f = m → CO c → (goL e p fc f k c x).1 = cE →
    GN g RX0 cX0_fish 5 (some .int) 213 Q (hX g b Fx Ax c ea tx nm ω0) z 49 [(4, .int (nI k)), (3, .int bad), (0, .ref b), (1, .int (nI s)), (2, .int (nI p))] [] := by
  have hn6 := hE.2.1
  intro f
  induction f with
  | zero =>
    intro k c x nm hk hC hr
    have : k = m := by omega
    subst this
    subst hr
    refine g_iload dX0_fish_49 rfl ?_
    refine g_aload_n dX0_fish_51 rfl ?_
    refine xg_sheets dX0_fish_52 ?_
    refine g_iload_n dX0_fish_55 rfl ?_
    refine xh_ld (s) (by omega) (by first | rfl | (simp only [nI, Int32.ofNat_add, Int32.ofNat_mul]; rfl) | (simp only [nI, Int32.ofNat_add, Int32.ofNat_mul]; done)) dX0_fish_56 ?_
    refine xh_size (s := s) (by omega) dX0_fish_57 ?_
    refine g_icmp_ge 92 dX0_fish_60 (by decide) (fun _ => ?_) (fun h9 => absurd (by rw [h50]; exact nI_le (Nat.le_refl _) (by omega)) h9)
    exact K _ hC
  | succ f ih =>
    intro k c x nm hk hC hr
    unfold goL at hr
    obtain ⟨t, ht, ef, ea'⟩ := hfc k (by omega)
    rw [ef, wth_15 ht] at hr
    refine g_iload dX0_fish_49 rfl ?_
    refine g_aload_n dX0_fish_51 rfl ?_
    refine xg_sheets dX0_fish_52 ?_
    refine g_iload_n dX0_fish_55 rfl ?_
    refine xh_ld (s) (by omega) (by first | rfl | (simp only [nI, Int32.ofNat_add, Int32.ofNat_mul]; rfl) | (simp only [nI, Int32.ofNat_add, Int32.ofNat_mul]; done)) dX0_fish_56 ?_
    refine xh_size (s := s) (by omega) dX0_fish_57 ?_
    refine g_icmp_ge 92 dX0_fish_60 (by decide) (fun h9 => absurd h9 (by rw [h50]; exact nI_ge (by omega) (by omega))) (fun _ => ?_)
    refine g_aload_n dX0_fish_63 rfl ?_
    refine g_iload_n dX0_fish_64 rfl ?_
    refine g_aload_n dX0_fish_65 rfl ?_
    refine xg_sheets dX0_fish_66 ?_
    refine g_iload_n dX0_fish_69 rfl ?_
    refine xh_ld (s) (by omega) (by first | rfl | (simp only [nI, Int32.ofNat_add, Int32.ofNat_mul]; rfl) | (simp only [nI, Int32.ofNat_add, Int32.ofNat_mul]; done)) dX0_fish_70 ?_
    refine xh_cells (s := s) (by omega) dX0_fish_71 ?_
    refine g_iload dX0_fish_74 rfl ?_
    refine xh_get (s := s) (k) (by omega) (by omega) (by first | rfl | (simp only [nI, Int32.ofNat_add, Int32.ofNat_mul]; rfl) | (simp only [nI, Int32.ofNat_add, Int32.ofNat_mul]; done)) dX0_fish_76 ?_
    rw [ea']
    refine gx_calli (n := 2) (x_landed (e := e) hN hg hF hE hC hp) (lw_V q1094 q1096 qs23 q68 q1097) (by decide +kernel) rfl rfl (by decide) ⟨Nat.le_refl _, Nat.le_refl _⟩ (Nat.le_of_ble_eq_true rfl) dX0_fish_77 (fun nm => ?_)
    refine g_pop dX0_fish_80 rfl ?_
    refine g_aload_n dX0_fish_81 rfl ?_
    refine gx_calli (n := 0) (x_washes (n := e.1) hN hE.1 hn6 (hC.land (by omega) ht)) (lw_V q1117 q1119 qs26 q68 q1120) (by decide +kernel) rfl rfl (by decide) ⟨Nat.le_refl _, Nat.le_refl _⟩ (Nat.le_of_ble_eq_true rfl) dX0_fish_82 (fun nm => ?_)
    refine g_pop dX0_fish_85 rfl ?_
    refine g_iinc (nI (k + 1)) (L' := [(4, _), (3, _), (0, _), (1, _), (2, _)]) dX0_fish_86 rfl (nI_1 _) (by decide) rfl ?_
    refine g_goto 49 dX0_fish_89 (by decide) ?_
    exact ih (k + 1) _ _ _ (by omega) (hC.go (by omega) ht hn6) hr
theorem x_fish {s p : Int32} (hN : gN g ≤ b) (hg : gW g) (hF : gF g) (h0 : F 0 = nI n) (hE : XE g b Fx ea tx ω0 (eM A n ts)) (hC : CO c) (hS : ShR A Fx Ax) : Ct g yX0_fish cX0_fish 5 (some .int) 213 0 0 [.ref b, .int s, .int p] (hX g b Fx Ax c ea tx nm ω0) z (xP g b ω0 z (fishF F A n ts c s p) Fx Ax ea tx) := by
  have hn : Fx 31 = nI n := hE.1
  have hn6 : n ≤ 6 := hE.2.1
  have h31 : Fx 31 = F 0 := hn.trans h0.symm
  refine Ct.at (own := RX0) (by decide) rfl (Nat.le_of_ble_eq_true rfl) rfl ?_
  by_cases hb : seasF A s = 0
  · obtain ⟨s, m, hs, rfl, hm, h16, h50, hsw⟩ := seas_s hS hb
    have hcs : cn (nI s) = s := nI_clamp (by omega)
    rcases one_or p hn hn6 with h1 | ⟨p, hp, rfl, h1⟩
    · have h1' : inI p 0 (F 0 - 1) = 0 := by rw [← h31]; exact h1
      refine g_aload_n dX0_fish_0 rfl ?_
      refine g_iload_n dX0_fish_1 rfl ?_
      refine gx_calli (n := 1) (x_seasonBad hS) (lw_V q1143 q1145 qs28 q68 q1146) (by decide +kernel) rfl rfl (by decide) ⟨Nat.le_refl _, Nat.le_refl _⟩ (Nat.le_of_ble_eq_true rfl) dX0_fish_2 (fun nm => ?_)
      refine g_istore_n (L' := [(3, _), (0, _), (1, _), (2, _)]) dX0_fish_5 (by decide) rfl ?_
      refine g_iload_n dX0_fish_6 rfl ?_
      refine g_if_eq 12 dX0_fish_7 (by decide) (fun _ => ?_) (fun h9 => absurd hb h9)
      refine g_aload_n dX0_fish_12 rfl ?_
      refine g_iload_n dX0_fish_13 rfl ?_
      refine gd_callr (n := 1) (x_isOne hn hn6) (lw_V q761 q763 qs13 q68 q764) (by decide +kernel) (ci := 0) rfl hX_0 rfl rfl (by decide) ⟨Nat.le_refl _, Nat.le_refl _⟩ (Nat.le_of_ble_eq_true rfl) dX0_fish_14 ?_
      refine g_if_ne 23 dX0_fish_17 (by decide) (fun h9 => absurd h1 h9) (fun _ => ?_)
      refine g_bipush (-5) dX0_fish_20 rfl ?_
      refine g_iret rfl (Nat.le_refl _) (Nat.le_refl _) ?_ dX0_fish_22
      exact xP.of (F := F) (A := A) (by unfold fishF oneW; rw [if_pos hb, if_pos h1', if_neg (by decide)])
    · have h1' : ¬ inI (nI p) 0 (F 0 - 1) = 0 := by rw [← h31, h1]; decide
      have hcp : cn (nI p) = p := nI_clamp (by omega)
      have hoW : oneW F A (nI s) (nI p) = 0 := by unfold oneW; rw [if_pos hb, if_neg h1']
      have hV : fishF F A n ts c (nI s) (nI p) = if c.2.2 + nI m ≤ 999 then (bits ((goL (eM A n ts) p (shf A s) m 0 c 0).1.1 (3 * p)), upd F 31 (goL (eM A n ts) p (shf A s) m 0 c 0).2, A, (goL (eM A n ts) p (shf A s) m 0 c 0).1) else (-3, F, A, c) := by
        unfold fishF goF
        rw [if_pos hoW, hcs, hcp, h16, show cn (nI m) = m from nI_clamp (by omega)]
      rw [hV]
      refine g_aload_n dX0_fish_0 rfl ?_
      refine g_iload_n dX0_fish_1 rfl ?_
      refine gx_calli (n := 1) (x_seasonBad hS) (lw_V q1143 q1145 qs28 q68 q1146) (by decide +kernel) rfl rfl (by decide) ⟨Nat.le_refl _, Nat.le_refl _⟩ (Nat.le_of_ble_eq_true rfl) dX0_fish_2 (fun nm => ?_)
      refine g_istore_n (L' := [(3, _), (0, _), (1, _), (2, _)]) dX0_fish_5 (by decide) rfl ?_
      refine g_iload_n dX0_fish_6 rfl ?_
      refine g_if_eq 12 dX0_fish_7 (by decide) (fun _ => ?_) (fun h9 => absurd hb h9)
      refine g_aload_n dX0_fish_12 rfl ?_
      refine g_iload_n dX0_fish_13 rfl ?_
      refine gd_callr (n := 1) (x_isOne hn hn6) (lw_V q761 q763 qs13 q68 q764) (by decide +kernel) (ci := 0) rfl hX_0 rfl rfl (by decide) ⟨Nat.le_refl _, Nat.le_refl _⟩ (Nat.le_of_ble_eq_true rfl) dX0_fish_14 ?_
      refine g_if_ne 23 dX0_fish_17 (by decide) (fun _ => ?_) (fun h9 => absurd h9 (by rw [h1]; decide))
      refine g_aload_n dX0_fish_23 rfl ?_
      refine xg_tide dX0_fish_24 ?_
      refine g_aload_n dX0_fish_27 rfl ?_
      refine xg_sheets dX0_fish_28 ?_
      refine g_iload_n dX0_fish_31 rfl ?_
      refine xh_ld (s) (by omega) (by first | rfl | (simp only [nI, Int32.ofNat_add, Int32.ofNat_mul]; rfl) | (simp only [nI, Int32.ofNat_add, Int32.ofNat_mul]; done)) dX0_fish_32 ?_
      refine xh_size (s := s) (by omega) dX0_fish_33 ?_
      rw [h50]
      refine g_iadd dX0_fish_36 ?_
      refine g_sipush (999) dX0_fish_37 rfl ?_
      refine g_icmp_le 46 dX0_fish_40 (by decide) (fun c1 => ?_) (fun c1 => ?_)
      · rw [if_pos c1]
        refine g_iconst (0) dX0_fish_46 rfl ?_
        refine g_istore (L' := [(4, _), (3, _), (0, _), (1, _), (2, _)]) dX0_fish_47 (by decide) rfl ?_
        refine xl_fish (s := s) (p := p) (m := m) (fc := shf A s) (e := eM A n ts) hN hg hF hE hp hs hm h50 (fun k hk => go_eq (e := eM A n ts) (p := p) (w := 0) hS hs hm h16 hsw k hk) (fun nm hCE => ?_) m 0 c 0 _ (by omega) hC rfl
        refine g_aload_n dX0_fish_92 rfl ?_
        refine xg_knows dX0_fish_93 ?_
        refine g_iload_n dX0_fish_96 rfl ?_
        refine xl_knows (p) (by omega) (by first | rfl | (simp only [nI, Int32.ofNat_add, Int32.ofNat_mul]; rfl) | (simp only [nI, Int32.ofNat_add, Int32.ofNat_mul]; done)) dX0_fish_97 ?_
        refine gs_calli (n := 1) (j_bitCount ) (lw_S q743 q744 q94 q745) (by decide +kernel) rfl rfl (by decide) ⟨Nat.le_refl _, Nat.le_refl _⟩ (Nat.le_of_ble_eq_true rfl) dX0_fish_98 ?_
        refine g_iret rfl (Nat.le_refl _) (Nat.le_refl _) ?_ dX0_fish_101
        exact xP.of (F := upd F 31 (goL (eM A n ts) p (shf A s) m 0 c 0).2) (A := A) (by rw [bc16 (hCE.1 p (by omega))])
      · rw [if_neg c1]
        refine g_bipush (-3) dX0_fish_43 rfl ?_
        refine g_iret rfl (Nat.le_refl _) (Nat.le_refl _) ?_ dX0_fish_45
        exact xP.of (F := F) (A := A) rfl
  · refine g_aload_n dX0_fish_0 rfl ?_
    refine g_iload_n dX0_fish_1 rfl ?_
    refine gx_calli (n := 1) (x_seasonBad hS) (lw_V q1143 q1145 qs28 q68 q1146) (by decide +kernel) rfl rfl (by decide) ⟨Nat.le_refl _, Nat.le_refl _⟩ (Nat.le_of_ble_eq_true rfl) dX0_fish_2 (fun nm => ?_)
    refine g_istore_n (L' := [(3, _), (0, _), (1, _), (2, _)]) dX0_fish_5 (by decide) rfl ?_
    refine g_iload_n dX0_fish_6 rfl ?_
    refine g_if_eq 12 dX0_fish_7 (by decide) (fun h9 => absurd h9 hb) (fun _ => ?_)
    refine g_iload_n dX0_fish_10 rfl ?_
    refine g_iret rfl (Nat.le_refl _) (Nat.le_refl _) ?_ dX0_fish_11
    exact xP.of (F := F) (A := A) (by unfold fishF oneW; rw [if_neg hb, if_neg hb])
theorem xl_unlike {s t p m : Nat} {fc fh f0 : Nat → Int32} {Q : Option Value → Om → Nat → Prop} {r : Int32} {c0 : Cr} {e : En} (hN : gN g ≤ b) (hg : gW g) (hF : gF g) (hE : XE g b Fx ea tx ω0 e) (hp : p < e.1) (hs : s < 4) (ht4 : t < 4) (hm : m ≤ 40) (h50 : Fx (50 + t) = nI m) (hfc : ∀ k, k < m → ∃ t', t' < 16 ∧ fc k = nI t' ∧ Ax (60 + s) k = nI t') (hfh : ∀ k, k < m → Ax (60 + t) k = fh k)
    (hQ : ∀ nm, Q (some (.int r)) (hX g b Fx (sA Ax 8 (xkp f0 c0)) c0 ea tx nm ω0) z) :
    ∀ (f k : Nat) (c : Cr) (nm : Nat → Int32), k + f = m → CO c → hiEq c0 c → unL e p fc fh f k c = r →
    GW g RX0 cX0_unlike 7 (some .int) hhU 213 Q (hX g b Fx (sA Ax 8 (xkp f0 c0)) c ea tx nm ω0) z 11 [(4, .int (nI k)), (0, .ref b), (1, .int (nI s)), (2, .int (nI t)), (3, .int (nI p))] [] := by
  have hn6 := hE.2.1
  have h8s : sA Ax 8 (xkp f0 c0) (60 + s) = Ax (60 + s) := sA_ne _ _ (by omega)
  have h8t : sA Ax 8 (xkp f0 c0) (60 + t) = Ax (60 + t) := sA_ne _ _ (by omega)
  intro f
  induction f with
  | zero =>
    intro k c nm hk hC hh hr
    have : k = m := by omega
    subst this
    subst hr
    refine g_iload dX0_unlike_11 rfl ?_
    refine g_aload_n dX0_unlike_13 rfl ?_
    refine xg_sheets dX0_unlike_14 ?_
    refine g_iload_n dX0_unlike_17 rfl ?_
    refine xh_ld (t) (by omega) (by first | rfl | (simp only [nI, Int32.ofNat_add, Int32.ofNat_mul]; rfl) | (simp only [nI, Int32.ofNat_add, Int32.ofNat_mul]; done)) dX0_unlike_18 ?_
    refine xh_size (s := t) (by omega) dX0_unlike_19 ?_
    refine g_icmp_ge 90 dX0_unlike_22 (by decide) (fun _ => ?_) (fun h9 => absurd (by rw [h50]; exact nI_le (Nat.le_refl _) (by omega)) h9)
    refine g_iconst (-1) dX0_unlike_90 rfl ?_
    refine g_istore (L' := [(4, _), (0, _), (1, _), (2, _), (3, _)]) dX0_unlike_91 (by decide) rfl ?_
    refine g_aload_n dX0_unlike_93 rfl ?_
    refine g_aload_n dX0_unlike_94 rfl ?_
    refine xg_aside dX0_unlike_95 ?_
    refine gx_callv (n := 1) (x_copiesBack (ra := 6) (fi := 8) (f0 := f0) (c0 := c0) row_aside hN (sA_same _ _ _) hh) (lw_V q1156 q1158 qs30 q68 q1159) (by decide +kernel) rfl rfl (by decide) ⟨Nat.le_refl _, Nat.le_refl _⟩ (Nat.le_of_ble_eq_true rfl) dX0_unlike_98 (fun nm => ?_)
    refine g_iload dX0_unlike_101 rfl ?_
    refine g_iret rfl (Nat.le_refl _) (Nat.le_refl _) ?_ dX0_unlike_103
    exact hQ _
  | succ f ih =>
    intro k c nm hk hC hh hr
    unfold unL at hr
    obtain ⟨t', ht, ef, ea'⟩ := hfc k (by omega)
    rw [ef, wth_15 ht] at hr
    refine g_iload dX0_unlike_11 rfl ?_
    refine g_aload_n dX0_unlike_13 rfl ?_
    refine xg_sheets dX0_unlike_14 ?_
    refine g_iload_n dX0_unlike_17 rfl ?_
    refine xh_ld (t) (by omega) (by first | rfl | (simp only [nI, Int32.ofNat_add, Int32.ofNat_mul]; rfl) | (simp only [nI, Int32.ofNat_add, Int32.ofNat_mul]; done)) dX0_unlike_18 ?_
    refine xh_size (s := t) (by omega) dX0_unlike_19 ?_
    refine g_icmp_ge 90 dX0_unlike_22 (by decide) (fun h9 => absurd h9 (by rw [h50]; exact nI_ge (by omega) (by omega))) (fun _ => ?_)
    refine g_aload_n dX0_unlike_25 rfl ?_
    refine g_iload_n dX0_unlike_26 rfl ?_
    refine g_aload_n dX0_unlike_27 rfl ?_
    refine xg_sheets dX0_unlike_28 ?_
    refine g_iload_n dX0_unlike_31 rfl ?_
    refine xh_ld (s) (by omega) (by first | rfl | (simp only [nI, Int32.ofNat_add, Int32.ofNat_mul]; rfl) | (simp only [nI, Int32.ofNat_add, Int32.ofNat_mul]; done)) dX0_unlike_32 ?_
    refine xh_cells (s := s) (by omega) dX0_unlike_33 ?_
    refine g_iload dX0_unlike_36 rfl ?_
    refine xh_get (s := s) (k) (by omega) (by omega) (by first | rfl | (simp only [nI, Int32.ofNat_add, Int32.ofNat_mul]; rfl) | (simp only [nI, Int32.ofNat_add, Int32.ofNat_mul]; done)) dX0_unlike_38 ?_
    rw [h8s, ea']
    refine gx_calli (n := 2) (x_landed (e := e) hN hg hF hE hC hp) (lw_V q1094 q1096 qs23 q68 q1097) (by decide +kernel) rfl rfl (by decide) ⟨Nat.le_refl _, Nat.le_refl _⟩ (Nat.le_of_ble_eq_true rfl) dX0_unlike_39 (fun nm => ?_)
    refine g_pop dX0_unlike_42 rfl ?_
    refine g_aload_n dX0_unlike_43 rfl ?_
    refine gx_calli (n := 0) (x_washes (n := e.1) hN hE.1 hn6 (hC.land (by omega) ht)) (lw_V q1117 q1119 qs26 q68 q1120) (by decide +kernel) rfl rfl (by decide) ⟨Nat.le_refl _, Nat.le_refl _⟩ (Nat.le_of_ble_eq_true rfl) dX0_unlike_44 (fun nm => ?_)
    refine g_pop dX0_unlike_47 rfl ?_
    refine g_aload_n dX0_unlike_48 rfl ?_
    refine xg_luck dX0_unlike_49 ?_
    refine g_iload_n dX0_unlike_52 rfl ?_
    refine xl_luck (p) (by omega) (by first | rfl | (simp only [nI, Int32.ofNat_add, Int32.ofNat_mul]; rfl) | (simp only [nI, Int32.ofNat_add, Int32.ofNat_mul]; done)) dX0_unlike_53 ?_
    refine g_aload_n dX0_unlike_54 rfl ?_
    refine xg_sheets dX0_unlike_55 ?_
    refine g_iload_n dX0_unlike_58 rfl ?_
    refine xh_ld (t) (by omega) (by first | rfl | (simp only [nI, Int32.ofNat_add, Int32.ofNat_mul]; rfl) | (simp only [nI, Int32.ofNat_add, Int32.ofNat_mul]; done)) dX0_unlike_59 ?_
    refine xh_cells (s := t) (by omega) dX0_unlike_60 ?_
    refine g_iload dX0_unlike_63 rfl ?_
    refine xh_get (s := t) (k) (by omega) (by omega) (by first | rfl | (simp only [nI, Int32.ofNat_add, Int32.ofNat_mul]; rfl) | (simp only [nI, Int32.ofNat_add, Int32.ofNat_mul]; done)) dX0_unlike_65 ?_
    rw [h8t, hfh k (by omega), tide_lu]
    refine g_icmp_eq 84 dX0_unlike_66 (by decide) (fun c1 => ?_) (fun c1 => ?_)
    · rw [if_pos c1.symm] at hr
      refine g_iinc (nI (k + 1)) (L' := [(4, _), (0, _), (1, _), (2, _), (3, _)]) dX0_unlike_84 rfl (nI_1 _) (by decide) rfl ?_
      refine g_goto 11 dX0_unlike_87 (by decide) ?_
      exact ih (k + 1) _ _ (by omega) (hC.go (by omega) ht hn6) (hh.tr (hi_go (by omega) hn6)) hr
    · rw [if_neg (fun h => c1 h.symm)] at hr
      subst hr
      refine g_iload dX0_unlike_69 rfl ?_
      refine g_istore (L' := [(5, _), (4, _), (0, _), (1, _), (2, _), (3, _)]) dX0_unlike_71 (by decide) rfl ?_
      refine g_aload_n dX0_unlike_73 rfl ?_
      refine g_aload_n dX0_unlike_74 rfl ?_
      refine xg_aside dX0_unlike_75 ?_
      refine gx_callv (n := 1) (x_copiesBack (ra := 6) (fi := 8) (f0 := f0) (c0 := c0) row_aside hN (sA_same _ _ _) (hh.tr (hi_go (by omega) hn6))) (lw_V q1156 q1158 qs30 q68 q1159) (by decide +kernel) rfl rfl (by decide) ⟨Nat.le_refl _, Nat.le_refl _⟩ (Nat.le_of_ble_eq_true rfl) dX0_unlike_78 (fun nm => ?_)
      refine g_iload dX0_unlike_81 rfl ?_
      refine g_iret rfl (Nat.le_refl _) (Nat.le_refl _) ?_ dX0_unlike_83
      exact hQ _
theorem x_unlike {s t p m : Nat} (hN : gN g ≤ b) (hg : gW g) (hF : gF g) (hE : XE g b Fx ea tx ω0 (eM A n ts)) (hC : CO c) (hS : ShR A Fx Ax) (hs : s < 4) (ht : t < 4) (hp : p < n) (hm : m ≤ 40) (h16 : A 16 t = nI m) (hfc : ∀ k, k < m → ∃ t', t' < 16 ∧ shf A s k = nI t') : CtW g yX0_unlike cX0_unlike 7 (some .int) hhU 213 0 0 [.ref b, .int (nI s), .int (nI t), .int (nI p)] (hX g b Fx Ax c ea tx nm ω0) z (xA8 g b ω0 z (some (.int (unF A n ts c s t p))) Fx Ax c ea tx) := by
  refine CtW.at (own := RX0) (by decide) rfl (Nat.le_of_ble_eq_true rfl) rfl ?_
  refine g_aload_n dX0_unlike_0 rfl ?_
  refine g_aload_n dX0_unlike_1 rfl ?_
  refine xg_aside dX0_unlike_2 ?_
  refine gx_callv (n := 1) (x_copies (ra := 6) (fi := 8) row_aside hN) (lw_V q1151 q1153 qs29 q68 q1154) (by decide +kernel) rfl rfl (by decide) ⟨Nat.le_refl _, Nat.le_refl _⟩ (Nat.le_of_ble_eq_true rfl) dX0_unlike_5 (fun nm => ?_)
  refine g_iconst (0) dX0_unlike_8 rfl ?_
  refine g_istore (L' := [(4, _), (0, _), (1, _), (2, _), (3, _)]) dX0_unlike_9 (by decide) rfl ?_
  refine xl_unlike (s := s) (t := t) (p := p) (m := m) (fc := shf A s) (fh := shf A t) (f0 := Ax 8) (c0 := c) (e := eM A n ts) hN hg hF hE hp hs ht hm ((hS t ht).2.1.trans h16) (fun k hk => ?_) (fun k hk => (hS t ht).2.2.1 k (by omega)) (fun nm => xA8.of (by unfold unF; rw [h16, show cn (nI m) = m from nI_clamp (by omega)])) m 0 c _ (by omega) hC hiEq.rf rfl
  obtain ⟨t', ht', e1⟩ := hfc k hk
  exact ⟨t', ht', e1, by rw [(hS s hs).2.2.1 k (by omega)]; exact e1⟩
/-- a call of unlike -/
theorem gx_callU {s t p m : Nat} {cc : ByteArray} {nL : Nat} {ret : Option FieldType} {XT : Method → Code → Prop} {Z : ZT} {cells slots pc d mc ms : Nat} {L : List (Nat × Value)} {rest : List Value} {k8 : Nat → Int32} (hN : gN g ≤ b) (hg : gW g) (hF : gF g) (hE : XE g b Fx ea tx ω0 (eM A n ts)) (hC : CO c) (hS : ShR A Fx Ax) (hs : s < 4) (ht : t < 4) (hp : p < n) (hm : m ≤ 40) (h16 : A 16 t = nI m) (hfc : ∀ k, k < m → ∃ t', t' < 16 ∧ shf A s k = nI t') (hdd : 214 ≤ d) (hf : cells ≤ mc ∧ slots ≤ ms) (hro : (rest.map fun v => v.category).sum ≤ 8) (hd : decode cc pc = .ok (.invokevirtual 289, 3))
    (k : ∀ nm k8, G g RX0 cc nL ret XT (rmD d mc ms) Z cells slots (hX g b Fx (sA Ax 8 k8) c ea tx nm ω0) z (pc + 3) L (.int (unF A n ts c s t p) :: rest)) : G g RX0 cc nL ret XT (rmD d mc ms) Z cells slots (hX g b Fx (sA Ax 8 k8) c ea tx nm ω0) z pc L (.int (nI p) :: .int (nI t) :: .int (nI s) :: .ref b :: rest) :=
  g_callVW (C := RX0) (n := 3) (As := [.int (nI s), .int (nI t), .int (nI p)]) (x_unlike hN hg hF hE hC (hS.congr (fun _ _ => rfl) (fun j hj => sA_ne _ _ (by omega))) hs ht hp hm h16 hfc) (lw_VW q1203 q1205 qs33 q68 q1206) (by decide +kernel) (ci := 0) rfl hX_0 rfl rfl ⟨hdd, by decide⟩ hf hro hd (fun v' ω1 z1 h => by
    obtain ⟨rfl, rfl, nm', k', rfl⟩ := h
    rw [sA_sA]
    exact k nm' k')
end A
