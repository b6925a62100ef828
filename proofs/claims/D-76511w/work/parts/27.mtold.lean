/-! the reference: seasons in thought, told seasons -/
set_option maxRecDepth 100000
section D
variable (F : Nat → Int32) (A : Nat → Nat → Int32) (n : Nat) (ts : Nat → List Int32) (c : Cr)
abbrev kA : Nat → Nat → Int32 := sA A 30 (kpf (A 30) c)
def goF (s p : Int32) : Cr × Int32 := goL (eM A n ts) (cn p) (shf A (cn s)) (cn (A 16 (cn s))) 0 c 0
def seasV (o : Cr × Int32) (p : Nat) (w : Int32) : Int32 := if w = 0 then bits (o.1.1 (3 * p)) else if w = 1 then o.1.1 (3 * p + 2) else if w = 2 then o.1.2.1 else if w = 3 then o.2 else o.1.1 (3 * p + 1) &&& (o.1.1 (3 * p) ^^^ -1)
def seasonF (s p w : Int32) : R4 := if oneW F A s p = 0 then (if inI w 0 4 = 0 then (-7, F, A, c) else (seasV (goF A n ts c s p) (cn p) w, upd F 31 (goF A n ts c s p).2, kA A c, c)) else (oneW F A s p, F, A, c)
def fishF (s p : Int32) : R4 := if oneW F A s p = 0 then (if c.2.2 + A 16 (cn s) ≤ 999 then (bits ((goF A n ts c s p).1.1 (3 * cn p)), upd F 31 (goF A n ts c s p).2, A, (goF A n ts c s p).1) else (-3, F, A, c)) else (oneW F A s p, F, A, c)
/-- the first landing that is otherwise, sheets s, t -/
def unF (s t p : Nat) : Int32 := unL (eM A n ts) p (shf A s) (shf A t) (cn (A 16 t)) 0 c
def judgeF (s t p : Int32) : R4 := if toldW F A s t p = 0 then (unF A n ts c (cn s) (cn t) (cn p), F, kA A c, c) else (toldW F A s t p, F, A, c)
end D
section A
variable {g : GE} {b z n : Nat} {F : Nat → Int32} {A A2 : Nat → Nat → Int32} {ω0 : Om} {ts : Nat → List Int32} {c c0 : Cr} {f0 : Nat → Int32}
theorem c_season {s p w : Int32} (hN : gN g ≤ b) (hE : EnM F A n ts) (hS : ShM A) : Ct g yX7_season cX7_season 6 (some .int) 7 0 0 [.ref b, .int s, .int p, .int w] (hM g b (mF F c) (mA A c) A2 ω0) z (mP g b ω0 z (seasonF F A n ts c s p w)) := by
  refine Ct.at (own := RX7) (by decide) rfl (Nat.le_of_ble_eq_true rfl) rfl ?_
  by_cases h1 : oneW F A s p = 0
  · obtain ⟨h2, h3⟩ := one_0 h1
    obtain ⟨s, m, hs, rfl, hm, hm2, hcs, hcm, -, -⟩ := seas_0 hS h2
    obtain ⟨p, hp, rfl⟩ := one_ix hE.1 hE.2.1 h3
    have hn6 := hE.2.1
    have hcp : cn (nI p) = p := nI_clamp (by omega)
    by_cases h4 : inI w 0 4 = 0
    · refine g_aload_n dX7_season_0 rfl ?_
      refine g_iload_n dX7_season_1 rfl ?_
      refine g_iload_n dX7_season_2 rfl ?_
      refine gm_calli (n := 2) (c_oneWrong hS) (lw_V q1659 q1661 qs55 q92 q1662) (by decide +kernel) rfl rfl (by decide) ⟨Nat.le_refl _, Nat.le_refl _⟩ (Nat.le_of_ble_eq_true rfl) dX7_season_3 (fun A2 => ?_)
      refine g_istore (L' := [(4, _), (0, _), (1, _), (2, _), (3, _)]) dX7_season_6 (by decide) rfl ?_
      refine g_iload dX7_season_8 rfl ?_
      refine g_if_eq 16 dX7_season_10 (by decide) (fun _ => ?_) (fun h9 => absurd h1 h9)
      refine g_iload_n dX7_season_16 rfl ?_
      refine g_iconst (0) dX7_season_17 rfl ?_
      refine g_iconst (4) dX7_season_18 rfl ?_
      refine gs_calli (n := 3) (c_in ) (lw_S q1405 q1406 q92 q1407) (by decide +kernel) rfl rfl (by decide) ⟨Nat.le_refl _, Nat.le_refl _⟩ (Nat.le_of_ble_eq_true rfl) dX7_season_19 ?_
      refine g_if_ne 28 dX7_season_22 (by decide) (fun h9 => absurd h4 h9) (fun _ => ?_)
      refine g_bipush (-7) dX7_season_25 rfl ?_
      refine g_iret rfl (Nat.le_refl _) (Nat.le_refl _) ?_ dX7_season_27
      exact mP.of (by rw [seasonF, if_pos h1, if_pos h4])
    · have he : seasonF F A n ts c (nI s) (nI p) w = (seasV (goF A n ts c (nI s) (nI p)) p w, upd F 31 (goF A n ts c (nI s) (nI p)).2, kA A c, c) := by
        rw [seasonF, if_pos h1, if_neg h4, hcp]
      have ho : goF A n ts c (nI s) (nI p) = goL (eM (kA A c) n ts) p (shf (kA A c) s) m 0 c 0 := by
        unfold goF; rw [hcp, hcs, hcm]; rfl
      rw [he, ho]
      refine g_aload_n dX7_season_0 rfl ?_
      refine g_iload_n dX7_season_1 rfl ?_
      refine g_iload_n dX7_season_2 rfl ?_
      refine gm_calli (n := 2) (c_oneWrong hS) (lw_V q1659 q1661 qs55 q92 q1662) (by decide +kernel) rfl rfl (by decide) ⟨Nat.le_refl _, Nat.le_refl _⟩ (Nat.le_of_ble_eq_true rfl) dX7_season_3 (fun A2 => ?_)
      refine g_istore (L' := [(4, _), (0, _), (1, _), (2, _), (3, _)]) dX7_season_6 (by decide) rfl ?_
      refine g_iload dX7_season_8 rfl ?_
      refine g_if_eq 16 dX7_season_10 (by decide) (fun _ => ?_) (fun h9 => absurd h1 h9)
      refine g_iload_n dX7_season_16 rfl ?_
      refine g_iconst (0) dX7_season_17 rfl ?_
      refine g_iconst (4) dX7_season_18 rfl ?_
      refine gs_calli (n := 3) (c_in ) (lw_S q1405 q1406 q92 q1407) (by decide +kernel) rfl rfl (by decide) ⟨Nat.le_refl _, Nat.le_refl _⟩ (Nat.le_of_ble_eq_true rfl) dX7_season_19 ?_
      refine g_if_ne 28 dX7_season_22 (by decide) (fun _ => ?_) (fun h9 => absurd h9 h4)
      refine g_aload_n dX7_season_28 rfl ?_
      refine gm_callv (n := 0) (c_keeps hN) (lw_V q1667 q1669 qs57 q92 q1670) (by decide +kernel) rfl rfl (by decide) ⟨Nat.le_refl _, Nat.le_refl _⟩ (Nat.le_of_ble_eq_true rfl) dX7_season_29 (fun A2 => ?_)
      refine g_aload_n dX7_season_32 rfl ?_
      refine g_iload_n dX7_season_33 rfl ?_
      refine g_iload_n dX7_season_34 rfl ?_
      refine gm_callv (n := 2) (c_goes (m := m) (n := n) (ts := ts) hN hE hs (by omega) hm hm2) (lw_V q1671 q1673 qs58 q92 q1674) (by decide +kernel) rfl rfl (by decide) ⟨Nat.le_refl _, Nat.le_refl _⟩ (Nat.le_of_ble_eq_true rfl) dX7_season_35 (fun A2 => ?_)
      refine g_iconst (0) dX7_season_38 rfl ?_
      refine g_istore (L' := [(5, _), (4, _), (0, _), (1, _), (2, _), (3, _)]) dX7_season_39 (by decide) rfl ?_
      refine g_iload_n dX7_season_41 rfl ?_
      refine g_tsw [72, 88, 103, 112] 121 dX7_season_42 (by decide) (by decide) (by decide) (fun j t => ?_) (fun hx => ?_)
      · match j with
        | 0 =>
          intro ht hx; cases ht
          replace hx := hx.trans (show Int32.ofInt ((0) + ((0 : Nat) : Int)) = 0 by decide)
          refine g_aload_n dX7_season_72 rfl ?_
          refine mg_rows dX7_season_73 ?_
          refine g_iconst (3) dX7_season_76 rfl ?_
          refine g_iload_n dX7_season_77 rfl ?_
          refine g_imul dX7_season_78 ?_
          refine mlc_rows ((3 * p)) (by omega) (by first | rfl | (simp only [nI, Int32.ofNat_add, Int32.ofNat_mul]; rfl) | (simp only [nI, Int32.ofNat_add, Int32.ofNat_mul]; done)) dX7_season_79 ?_
          refine gs_calli (n := 1) (c_bitsOf ) (lw_S q1551 q1552 q92 q1553) (by decide +kernel) rfl rfl (by decide) ⟨Nat.le_refl _, Nat.le_refl _⟩ (Nat.le_of_ble_eq_true rfl) dX7_season_80 ?_
          refine g_istore (L' := [(5, _), (4, _), (0, _), (1, _), (2, _), (3, _)]) dX7_season_83 (by decide) rfl ?_
          refine g_goto 144 dX7_season_85 (by decide) ?_
          refine g_aload_n dX7_season_144 rfl ?_
          refine gm_callv (n := 0) (c_lays (f0 := A 30) (c0 := c) hN (sA_same _ _ _) (hi_goL (by omega) hn6 _ _ _ _)) (lw_V q1675 q1677 qs59 q92 q1678) (by decide +kernel) rfl rfl (by decide) ⟨Nat.le_refl _, Nat.le_refl _⟩ (Nat.le_of_ble_eq_true rfl) dX7_season_145 (fun A2 => ?_)
          refine g_iload dX7_season_148 rfl ?_
          refine g_iret rfl (Nat.le_refl _) (Nat.le_refl _) ?_ dX7_season_150
          first | (subst hx; exact mP.of rfl) | exact mP.of (by unfold seasV; rw [if_neg (tsw_ne hx 0 (by decide)), if_neg (tsw_ne hx 1 (by decide)), if_neg (tsw_ne hx 2 (by decide)), if_neg (tsw_ne hx 3 (by decide))])
        | 1 =>
          intro ht hx; cases ht
          replace hx := hx.trans (show Int32.ofInt ((0) + ((1 : Nat) : Int)) = 1 by decide)
          refine g_aload_n dX7_season_88 rfl ?_
          refine mg_rows dX7_season_89 ?_
          refine g_iconst (3) dX7_season_92 rfl ?_
          refine g_iload_n dX7_season_93 rfl ?_
          refine g_imul dX7_season_94 ?_
          refine g_iconst (2) dX7_season_95 rfl ?_
          refine g_iadd dX7_season_96 ?_
          refine mlc_rows (((3 * p) + 2)) (by omega) (by first | rfl | (simp only [nI, Int32.ofNat_add, Int32.ofNat_mul]; rfl) | (simp only [nI, Int32.ofNat_add, Int32.ofNat_mul]; done)) dX7_season_97 ?_
          refine g_istore (L' := [(5, _), (4, _), (0, _), (1, _), (2, _), (3, _)]) dX7_season_98 (by decide) rfl ?_
          refine g_goto 144 dX7_season_100 (by decide) ?_
          refine g_aload_n dX7_season_144 rfl ?_
          refine gm_callv (n := 0) (c_lays (f0 := A 30) (c0 := c) hN (sA_same _ _ _) (hi_goL (by omega) hn6 _ _ _ _)) (lw_V q1675 q1677 qs59 q92 q1678) (by decide +kernel) rfl rfl (by decide) ⟨Nat.le_refl _, Nat.le_refl _⟩ (Nat.le_of_ble_eq_true rfl) dX7_season_145 (fun A2 => ?_)
          refine g_iload dX7_season_148 rfl ?_
          refine g_iret rfl (Nat.le_refl _) (Nat.le_refl _) ?_ dX7_season_150
          first | (subst hx; exact mP.of rfl) | exact mP.of (by unfold seasV; rw [if_neg (tsw_ne hx 0 (by decide)), if_neg (tsw_ne hx 1 (by decide)), if_neg (tsw_ne hx 2 (by decide)), if_neg (tsw_ne hx 3 (by decide))])
        | 2 =>
          intro ht hx; cases ht
          replace hx := hx.trans (show Int32.ofInt ((0) + ((2 : Nat) : Int)) = 2 by decide)
          refine g_aload_n dX7_season_103 rfl ?_
          refine mgc_sea dX7_season_104 ?_
          refine g_istore (L' := [(5, _), (4, _), (0, _), (1, _), (2, _), (3, _)]) dX7_season_107 (by decide) rfl ?_
          refine g_goto 144 dX7_season_109 (by decide) ?_
          refine g_aload_n dX7_season_144 rfl ?_
          refine gm_callv (n := 0) (c_lays (f0 := A 30) (c0 := c) hN (sA_same _ _ _) (hi_goL (by omega) hn6 _ _ _ _)) (lw_V q1675 q1677 qs59 q92 q1678) (by decide +kernel) rfl rfl (by decide) ⟨Nat.le_refl _, Nat.le_refl _⟩ (Nat.le_of_ble_eq_true rfl) dX7_season_145 (fun A2 => ?_)
          refine g_iload dX7_season_148 rfl ?_
          refine g_iret rfl (Nat.le_refl _) (Nat.le_refl _) ?_ dX7_season_150
          first | (subst hx; exact mP.of rfl) | exact mP.of (by unfold seasV; rw [if_neg (tsw_ne hx 0 (by decide)), if_neg (tsw_ne hx 1 (by decide)), if_neg (tsw_ne hx 2 (by decide)), if_neg (tsw_ne hx 3 (by decide))])
        | 3 =>
          intro ht hx; cases ht
          replace hx := hx.trans (show Int32.ofInt ((0) + ((3 : Nat) : Int)) = 3 by decide)
          refine g_aload_n dX7_season_112 rfl ?_
          refine mgc_nothings dX7_season_113 ?_
          refine g_istore (L' := [(5, _), (4, _), (0, _), (1, _), (2, _), (3, _)]) dX7_season_116 (by decide) rfl ?_
          refine g_goto 144 dX7_season_118 (by decide) ?_
          refine g_aload_n dX7_season_144 rfl ?_
          refine gm_callv (n := 0) (c_lays (f0 := A 30) (c0 := c) hN (sA_same _ _ _) (hi_goL (by omega) hn6 _ _ _ _)) (lw_V q1675 q1677 qs59 q92 q1678) (by decide +kernel) rfl rfl (by decide) ⟨Nat.le_refl _, Nat.le_refl _⟩ (Nat.le_of_ble_eq_true rfl) dX7_season_145 (fun A2 => ?_)
          refine g_iload dX7_season_148 rfl ?_
          refine g_iret rfl (Nat.le_refl _) (Nat.le_refl _) ?_ dX7_season_150
          first | (subst hx; exact mP.of rfl) | exact mP.of (by unfold seasV; rw [if_neg (tsw_ne hx 0 (by decide)), if_neg (tsw_ne hx 1 (by decide)), if_neg (tsw_ne hx 2 (by decide)), if_neg (tsw_ne hx 3 (by decide))])
        | j + 4 => intro ht hx; simp at ht
      · refine g_aload_n dX7_season_121 rfl ?_
        refine mg_rows dX7_season_122 ?_
        refine g_iconst (3) dX7_season_125 rfl ?_
        refine g_iload_n dX7_season_126 rfl ?_
        refine g_imul dX7_season_127 ?_
        refine g_iconst (1) dX7_season_128 rfl ?_
        refine g_iadd dX7_season_129 ?_
        refine mlc_rows (((3 * p) + 1)) (by omega) (by first | rfl | (simp only [nI, Int32.ofNat_add, Int32.ofNat_mul]; rfl) | (simp only [nI, Int32.ofNat_add, Int32.ofNat_mul]; done)) dX7_season_130 ?_
        refine g_aload_n dX7_season_131 rfl ?_
        refine mg_rows dX7_season_132 ?_
        refine g_iconst (3) dX7_season_135 rfl ?_
        refine g_iload_n dX7_season_136 rfl ?_
        refine g_imul dX7_season_137 ?_
        refine mlc_rows ((3 * p)) (by omega) (by first | rfl | (simp only [nI, Int32.ofNat_add, Int32.ofNat_mul]; rfl) | (simp only [nI, Int32.ofNat_add, Int32.ofNat_mul]; done)) dX7_season_138 ?_
        refine g_iconst (-1) dX7_season_139 rfl ?_
        refine g_ixor dX7_season_140 ?_
        refine g_iand dX7_season_141 ?_
        refine g_istore (L' := [(5, _), (4, _), (0, _), (1, _), (2, _), (3, _)]) dX7_season_142 (by decide) rfl ?_
        refine g_aload_n dX7_season_144 rfl ?_
        refine gm_callv (n := 0) (c_lays (f0 := A 30) (c0 := c) hN (sA_same _ _ _) (hi_goL (by omega) hn6 _ _ _ _)) (lw_V q1675 q1677 qs59 q92 q1678) (by decide +kernel) rfl rfl (by decide) ⟨Nat.le_refl _, Nat.le_refl _⟩ (Nat.le_of_ble_eq_true rfl) dX7_season_145 (fun A2 => ?_)
        refine g_iload dX7_season_148 rfl ?_
        refine g_iret rfl (Nat.le_refl _) (Nat.le_refl _) ?_ dX7_season_150
        first | (subst hx; exact mP.of rfl) | exact mP.of (by unfold seasV; rw [if_neg (tsw_ne hx 0 (by decide)), if_neg (tsw_ne hx 1 (by decide)), if_neg (tsw_ne hx 2 (by decide)), if_neg (tsw_ne hx 3 (by decide))])
  · have he : seasonF F A n ts c s p w = (oneW F A s p, F, A, c) := by rw [seasonF, if_neg h1]
    rw [he]
    refine g_aload_n dX7_season_0 rfl ?_
    refine g_iload_n dX7_season_1 rfl ?_
    refine g_iload_n dX7_season_2 rfl ?_
    refine gm_calli (n := 2) (c_oneWrong hS) (lw_V q1659 q1661 qs55 q92 q1662) (by decide +kernel) rfl rfl (by decide) ⟨Nat.le_refl _, Nat.le_refl _⟩ (Nat.le_of_ble_eq_true rfl) dX7_season_3 (fun A2 => ?_)
    refine g_istore (L' := [(4, _), (0, _), (1, _), (2, _), (3, _)]) dX7_season_6 (by decide) rfl ?_
    refine g_iload dX7_season_8 rfl ?_
    refine g_if_eq 16 dX7_season_10 (by decide) (fun h9 => absurd h9 h1) (fun _ => ?_)
    refine g_iload dX7_season_13 rfl ?_
    refine g_iret rfl (Nat.le_refl _) (Nat.le_refl _) ?_ dX7_season_15
    exact mP.of rfl
theorem c_fish {s p : Int32} (hN : gN g ≤ b) (hE : EnM F A n ts) (hS : ShM A) : Ct g yX7_fish cX7_fish 4 (some .int) 7 0 0 [.ref b, .int s, .int p] (hM g b (mF F c) (mA A c) A2 ω0) z (mP g b ω0 z (fishF F A n ts c s p)) := by
  refine Ct.at (own := RX7) (by decide) rfl (Nat.le_of_ble_eq_true rfl) rfl ?_
  by_cases h1 : oneW F A s p = 0
  · obtain ⟨h2, h3⟩ := one_0 h1
    obtain ⟨s, m, hs, rfl, hm, hm2, hcs, hcm, -, -⟩ := seas_0 hS h2
    obtain ⟨p, hp, rfl⟩ := one_ix hE.1 hE.2.1 h3
    have hn6 := hE.2.1
    have hcp : cn (nI p) = p := nI_clamp (by omega)
    have he : fishF F A n ts c (nI s) (nI p) = if c.2.2 + A 16 s ≤ 999 then (bits ((goF A n ts c (nI s) (nI p)).1.1 (3 * p)), upd F 31 (goF A n ts c (nI s) (nI p)).2, A, (goF A n ts c (nI s) (nI p)).1) else (-3, F, A, c) := by
      rw [fishF, if_pos h1, hcp, hcs]
    have ho : goF A n ts c (nI s) (nI p) = goL (eM A n ts) p (shf A s) m 0 c 0 := by
      unfold goF; rw [hcp, hcs, hcm]
    rw [he, ho]
    refine g_aload_n dX7_fish_0 rfl ?_
    refine g_iload_n dX7_fish_1 rfl ?_
    refine g_iload_n dX7_fish_2 rfl ?_
    refine gm_calli (n := 2) (c_oneWrong hS) (lw_V q1659 q1661 qs55 q92 q1662) (by decide +kernel) rfl rfl (by decide) ⟨Nat.le_refl _, Nat.le_refl _⟩ (Nat.le_of_ble_eq_true rfl) dX7_fish_3 (fun A2 => ?_)
    refine g_istore_n (L' := [(3, _), (0, _), (1, _), (2, _)]) dX7_fish_6 (by decide) rfl ?_
    refine g_iload_n dX7_fish_7 rfl ?_
    refine g_if_eq 13 dX7_fish_8 (by decide) (fun _ => ?_) (fun h9 => absurd h1 h9)
    refine g_aload_n dX7_fish_13 rfl ?_
    refine mgc_tides dX7_fish_14 ?_
    refine g_aload_n dX7_fish_17 rfl ?_
    refine mg_sheetSize dX7_fish_18 ?_
    refine g_iload_n dX7_fish_21 rfl ?_
    refine mlc_sheetSize (s) (by omega) (by first | rfl | (simp only [nI, Int32.ofNat_add, Int32.ofNat_mul]; rfl) | (simp only [nI, Int32.ofNat_add, Int32.ofNat_mul]; done)) dX7_fish_22 ?_
    refine g_iadd dX7_fish_23 ?_
    refine g_sipush (999) dX7_fish_24 rfl ?_
    refine g_icmp_le 33 dX7_fish_27 (by decide) (fun c1 => ?_) (fun c1 => ?_)
    · rw [if_pos c1]
      refine g_aload_n dX7_fish_33 rfl ?_
      refine g_iload_n dX7_fish_34 rfl ?_
      refine g_iload_n dX7_fish_35 rfl ?_
      refine gm_callv (n := 2) (c_goes (m := m) (n := n) (ts := ts) hN hE hs (by omega) hm hm2) (lw_V q1671 q1673 qs58 q92 q1674) (by decide +kernel) rfl rfl (by decide) ⟨Nat.le_refl _, Nat.le_refl _⟩ (Nat.le_of_ble_eq_true rfl) dX7_fish_36 (fun A2 => ?_)
      refine g_aload_n dX7_fish_39 rfl ?_
      refine mg_rows dX7_fish_40 ?_
      refine g_iconst (3) dX7_fish_43 rfl ?_
      refine g_iload_n dX7_fish_44 rfl ?_
      refine g_imul dX7_fish_45 ?_
      refine mlc_rows ((3 * p)) (by omega) (by first | rfl | (simp only [nI, Int32.ofNat_add, Int32.ofNat_mul]; rfl) | (simp only [nI, Int32.ofNat_add, Int32.ofNat_mul]; done)) dX7_fish_46 ?_
      refine gs_calli (n := 1) (c_bitsOf ) (lw_S q1551 q1552 q92 q1553) (by decide +kernel) rfl rfl (by decide) ⟨Nat.le_refl _, Nat.le_refl _⟩ (Nat.le_of_ble_eq_true rfl) dX7_fish_47 ?_
      refine g_iret rfl (Nat.le_refl _) (Nat.le_refl _) ?_ dX7_fish_50
      exact mP.of rfl
    · rw [if_neg c1]
      refine g_bipush (-3) dX7_fish_30 rfl ?_
      refine g_iret rfl (Nat.le_refl _) (Nat.le_refl _) ?_ dX7_fish_32
      exact mP.of rfl
  · have he : fishF F A n ts c s p = (oneW F A s p, F, A, c) := by rw [fishF, if_neg h1]
    rw [he]
    refine g_aload_n dX7_fish_0 rfl ?_
    refine g_iload_n dX7_fish_1 rfl ?_
    refine g_iload_n dX7_fish_2 rfl ?_
    refine gm_calli (n := 2) (c_oneWrong hS) (lw_V q1659 q1661 qs55 q92 q1662) (by decide +kernel) rfl rfl (by decide) ⟨Nat.le_refl _, Nat.le_refl _⟩ (Nat.le_of_ble_eq_true rfl) dX7_fish_3 (fun A2 => ?_)
    refine g_istore_n (L' := [(3, _), (0, _), (1, _), (2, _)]) dX7_fish_6 (by decide) rfl ?_
    refine g_iload_n dX7_fish_7 rfl ?_
    refine g_if_eq 13 dX7_fish_8 (by decide) (fun h9 => absurd h9 h1) (fun _ => ?_)
    refine g_iload_n dX7_fish_11 rfl ?_
    refine g_iret rfl (Nat.le_refl _) (Nat.le_refl _) ?_ dX7_fish_12
    exact mP.of rfl
theorem x_unlike {s t p : Nat} {k r : Int32} (hN : gN g ≤ b) (hk : A 30 = kpf f0 c0) (hh : hiEq c0 c) : GN g RX7 cX7_unlike 6 (some .int) 6 (mQ g b ω0 z (some (.int r)) (mF F c0) (mA A c0)) (hM g b (mF F c) (mA A c) A2 ω0) z 95 [(5, .int k), (4, .int r), (0, .ref b), (1, .int (nI s)), (2, .int (nI t)), (3, .int (nI p))] [] := by
  refine g_aload_n dX7_unlike_95 rfl ?_
  refine gm_callv (n := 0) (c_lays hN hk hh) (lw_V q1675 q1677 qs59 q92 q1678) (by decide +kernel) rfl rfl (by decide) ⟨Nat.le_refl _, Nat.le_refl _⟩ (Nat.le_of_ble_eq_true rfl) dX7_unlike_96 (fun A2 => ?_)
  refine g_iload dX7_unlike_99 rfl ?_
  refine g_iret rfl (Nat.le_refl _) (Nat.le_refl _) ?_ dX7_unlike_101
  exact mQ.mk
theorem l_unlike {s t p m : Nat} {r : Int32} (hN : gN g ≤ b) (hE : EnM F A n ts) (hs : s < 4) (ht : t < 4) (hp : p < 6) (hm : m ≤ 40) (hS : A 16 t = nI m) (hk : A 30 = kpf f0 c0) :
    ∀ (f k : Nat) (c : Cr) (A2 : Nat → Nat → Int32), k + f = m → hiEq c0 c → unL (eM A n ts) p (shf A s) (shf A t) f k c = r → GN g RX7 cX7_unlike 6 (some .int) 6 (mQ g b ω0 z (some (.int r)) (mF F c0) (mA A c0)) (hM g b (mF F c) (mA A c) A2 ω0) z 10 [(5, .int (nI k)), (4, .int (-1)), (0, .ref b), (1, .int (nI s)), (2, .int (nI t)), (3, .int (nI p))] [] := by
  intro f
  induction f with
  | zero =>
    intro k c A2 hkf hh hr
    subst hr
    refine g_iload dX7_unlike_10 rfl ?_
    refine g_aload_n dX7_unlike_12 rfl ?_
    refine mg_sheetSize dX7_unlike_13 ?_
    refine g_iload_n dX7_unlike_16 rfl ?_
    refine mlc_sheetSize (t) (by omega) (by first | rfl | (simp only [nI, Int32.ofNat_add, Int32.ofNat_mul]; rfl) | (simp only [nI, Int32.ofNat_add, Int32.ofNat_mul]; done)) dX7_unlike_17 ?_
    refine g_icmp_ge 95 dX7_unlike_18 (by decide) (fun _ => ?_) (fun h9 => absurd (by rw [hS]; exact nI_le (by omega) (by omega)) h9)
    exact x_unlike hN hk hh
  | succ f ih =>
    intro k c A2 hkf hh hr
    unfold unL shf at hr
    have hg := hi_go (e := eM A n ts) (c := c) (p := p) (t := wthn (A 17 (40 * s + k)) 0 15) hp hE.2.1
    refine g_iload dX7_unlike_10 rfl ?_
    refine g_aload_n dX7_unlike_12 rfl ?_
    refine mg_sheetSize dX7_unlike_13 ?_
    refine g_iload_n dX7_unlike_16 rfl ?_
    refine mlc_sheetSize (t) (by omega) (by first | rfl | (simp only [nI, Int32.ofNat_add, Int32.ofNat_mul]; rfl) | (simp only [nI, Int32.ofNat_add, Int32.ofNat_mul]; done)) dX7_unlike_17 ?_
    refine g_icmp_ge 95 dX7_unlike_18 (by decide) (fun h9 => absurd h9 (by rw [hS]; exact nI_ge (by omega) (by omega))) (fun _ => ?_)
    refine g_iload dX7_unlike_21 rfl ?_
    refine g_iconst (-1) dX7_unlike_23 rfl ?_
    refine g_icmp_ne 95 dX7_unlike_24 (by decide) (fun h9 => absurd rfl h9) (fun _ => ?_)
    refine g_aload_n dX7_unlike_27 rfl ?_
    refine g_iload_n dX7_unlike_28 rfl ?_
    refine g_aload_n dX7_unlike_29 rfl ?_
    refine mg_cells dX7_unlike_30 ?_
    refine g_bipush (40) dX7_unlike_33 rfl ?_
    refine g_iload_n dX7_unlike_35 rfl ?_
    refine g_imul dX7_unlike_36 ?_
    refine g_iload dX7_unlike_37 rfl ?_
    refine g_iadd dX7_unlike_39 ?_
    refine mlc_cells (((40 * s) + k)) (by omega) (by first | rfl | (simp only [nI, Int32.ofNat_add, Int32.ofNat_mul]; rfl) | (simp only [nI, Int32.ofNat_add, Int32.ofNat_mul]; done)) dX7_unlike_40 ?_
    refine g_iconst (0) dX7_unlike_41 rfl ?_
    refine g_bipush (15) dX7_unlike_42 rfl ?_
    refine gs_calli (n := 3) (c_within ) (lw_S q1593 q1594 q92 q1595) (by decide +kernel) rfl rfl (by decide) ⟨Nat.le_refl _, Nat.le_refl _⟩ (Nat.le_of_ble_eq_true rfl) dX7_unlike_44 ?_
    refine gm_calli (n := 2) (c_landOf (n := n) (ts := ts) hN hE hp) (lw_V q1631 q1633 qs52 q92 q1634) (by decide +kernel) rfl rfl (by decide) ⟨Nat.le_refl _, Nat.le_refl _⟩ (Nat.le_of_ble_eq_true rfl) dX7_unlike_47 (fun A2 => ?_)
    refine g_pop dX7_unlike_50 rfl ?_
    refine g_aload_n dX7_unlike_51 rfl ?_
    refine mg_cells dX7_unlike_52 ?_
    refine g_bipush (40) dX7_unlike_55 rfl ?_
    refine g_iload_n dX7_unlike_57 rfl ?_
    refine g_imul dX7_unlike_58 ?_
    refine g_iload dX7_unlike_59 rfl ?_
    refine g_iadd dX7_unlike_61 ?_
    refine mlc_cells (((40 * t) + k)) (by omega) (by first | rfl | (simp only [nI, Int32.ofNat_add, Int32.ofNat_mul]; rfl) | (simp only [nI, Int32.ofNat_add, Int32.ofNat_mul]; done)) dX7_unlike_62 ?_
    refine g_aload_n dX7_unlike_63 rfl ?_
    refine mg_rows dX7_unlike_64 ?_
    refine g_iconst (3) dX7_unlike_67 rfl ?_
    refine g_iload_n dX7_unlike_68 rfl ?_
    refine g_imul dX7_unlike_69 ?_
    refine g_iconst (2) dX7_unlike_70 rfl ?_
    refine g_iadd dX7_unlike_71 ?_
    refine mlc_rows (((3 * p) + 2)) (by omega) (by first | rfl | (simp only [nI, Int32.ofNat_add, Int32.ofNat_mul]; rfl) | (simp only [nI, Int32.ofNat_add, Int32.ofNat_mul]; done)) dX7_unlike_72 ?_
    refine g_icmp_ne 80 dX7_unlike_73 (by decide) (fun c1 => ?_) (fun c1 => ?_)
    · rw [if_neg c1] at hr
      subst hr
      refine g_iload dX7_unlike_80 rfl ?_
      refine g_istore (L' := [(4, _), (5, _), (0, _), (1, _), (2, _), (3, _)]) dX7_unlike_82 (by decide) rfl ?_
      refine g_aload_n dX7_unlike_84 rfl ?_
      refine gm_calli (n := 0) (c_tideOf (n := n) hN hE.1 hE.2.1) (lw_V q1647 q1649 qs54 q92 q1650) (by decide +kernel) rfl rfl (by decide) ⟨Nat.le_refl _, Nat.le_refl _⟩ (Nat.le_of_ble_eq_true rfl) dX7_unlike_85 (fun A2 => ?_)
      refine g_pop dX7_unlike_88 rfl ?_
      refine g_iinc (nI (k + 1)) (L' := [(5, _), (4, _), (0, _), (1, _), (2, _), (3, _)]) dX7_unlike_89 rfl (nI_1 _) (by decide) rfl ?_
      refine g_goto 10 dX7_unlike_92 (by decide) ?_
      have hne : ¬ nI k = -1 := fun h => absurd (nI_pos' (n := k) (by omega)) (by rw [h]; decide)
      refine g_iload dX7_unlike_10 rfl ?_
      refine g_aload_n dX7_unlike_12 rfl ?_
      refine mg_sheetSize dX7_unlike_13 ?_
      refine g_iload_n dX7_unlike_16 rfl ?_
      refine mlc_sheetSize (t) (by omega) (by first | rfl | (simp only [nI, Int32.ofNat_add, Int32.ofNat_mul]; rfl) | (simp only [nI, Int32.ofNat_add, Int32.ofNat_mul]; done)) dX7_unlike_17 ?_
      refine g_icmp_ge 95 dX7_unlike_18 (by decide) (fun c2 => ?_) (fun c2 => ?_)
      ·
        exact x_unlike hN hk (hh.tr hg)
      · refine g_iload dX7_unlike_21 rfl ?_
        refine g_iconst (-1) dX7_unlike_23 rfl ?_
        refine g_icmp_ne 95 dX7_unlike_24 (by decide) (fun _ => ?_) (fun h9 => absurd h9 hne)
        exact x_unlike hN hk (hh.tr hg)
    · rw [if_pos c1] at hr
      refine g_iconst (-1) dX7_unlike_76 rfl ?_
      refine g_goto 82 dX7_unlike_77 (by decide) ?_
      refine g_istore (L' := [(4, _), (5, _), (0, _), (1, _), (2, _), (3, _)]) dX7_unlike_82 (by decide) rfl ?_
      refine g_aload_n dX7_unlike_84 rfl ?_
      refine gm_calli (n := 0) (c_tideOf (n := n) hN hE.1 hE.2.1) (lw_V q1647 q1649 qs54 q92 q1650) (by decide +kernel) rfl rfl (by decide) ⟨Nat.le_refl _, Nat.le_refl _⟩ (Nat.le_of_ble_eq_true rfl) dX7_unlike_85 (fun A2 => ?_)
      refine g_pop dX7_unlike_88 rfl ?_
      refine g_iinc (nI (k + 1)) (L' := [(5, _), (4, _), (0, _), (1, _), (2, _), (3, _)]) dX7_unlike_89 rfl (nI_1 _) (by decide) rfl ?_
      refine g_goto 10 dX7_unlike_92 (by decide) ?_
      exact ih (k + 1) _ _ (by omega) (hh.tr hg) hr
theorem c_unlike {s t p m : Nat} (hN : gN g ≤ b) (hE : EnM F A n ts) (hs : s < 4) (ht : t < 4) (hp : p < 6) (hm : m ≤ 40) (hS : A 16 t = nI m) : Ct g yX7_unlike cX7_unlike 6 (some .int) 6 0 0 [.ref b, .int (nI s), .int (nI t), .int (nI p)] (hM g b (mF F c) (mA A c) A2 ω0) z (mQ g b ω0 z (some (.int (unF A n ts c s t p))) (mF F c) (mA (kA A c) c)) := by
  refine Ct.at (own := RX7) (by decide) rfl (Nat.le_of_ble_eq_true rfl) rfl ?_
  have hcm : cn (A 16 t) = m := by rw [hS]; exact nI_clamp (by omega)
  refine g_iconst (-1) dX7_unlike_0 rfl ?_
  refine g_istore (L' := [(4, _), (0, _), (1, _), (2, _), (3, _)]) dX7_unlike_1 (by decide) rfl ?_
  refine g_aload_n dX7_unlike_3 rfl ?_
  refine gm_callv (n := 0) (c_keeps hN) (lw_V q1667 q1669 qs57 q92 q1670) (by decide +kernel) rfl rfl (by decide) ⟨Nat.le_refl _, Nat.le_refl _⟩ (Nat.le_of_ble_eq_true rfl) dX7_unlike_4 (fun A2 => ?_)
  refine g_iconst (0) dX7_unlike_7 rfl ?_
  refine g_istore (L' := [(5, _), (4, _), (0, _), (1, _), (2, _), (3, _)]) dX7_unlike_8 (by decide) rfl ?_
  refine l_unlike (F := F) (A := kA A c) (c0 := c) (f0 := A 30) (n := n) (ts := ts) (m := m) hN hE hs ht hp hm hS (sA_same _ _ _) m 0 c _ (by omega) hiEq.rf ?_
  unfold unF
  rw [hcm]
  rfl
theorem two_0 {s t : Int32} (h : twoW A s t = 0) : ¬ inI t 0 3 = 0 ∧ seasF A s = 0 ∧ ¬ A 15 (cn t) = -1 ∧ A 16 (cn t) ≤ A 16 (cn s) := by
  unfold twoW at h
  by_cases h1 : inI t 0 3 = 0
  · rw [if_pos h1] at h; exact absurd h (by decide)
  · rw [if_neg h1] at h
    by_cases h2 : seasF A s = 0
    · rw [if_pos h2] at h
      by_cases h3 : A 15 (cn t) = -1
      · rw [if_pos h3] at h; exact absurd h (by decide)
      · rw [if_neg h3] at h
        by_cases h4 : A 16 (cn t) ≤ A 16 (cn s)
        · exact ⟨h1, h2, h3, h4⟩
        · rw [if_neg h4] at h; exact absurd h (by decide)
    · rw [if_neg h2] at h; exact absurd h h2
theorem two_ix {s t : Int32} (hS : ShM A) (h : twoW A s t = 0) : ∃ (k l m : Nat), k < 4 ∧ s = nI k ∧ l < 4 ∧ t = nI l ∧ m ≤ 40 ∧ A 16 l = nI m ∧ cn s = k ∧ cn t = l := by
  obtain ⟨h1, h2, -, -⟩ := two_0 h
  obtain ⟨s, -, hs, rfl, -, -, hcs, -⟩ := seas_0 hS h2
  obtain ⟨t, ht, rfl⟩ := in_ix (m := 3) (by decide) h1
  obtain ⟨m, hm, hm2⟩ := hS t (by omega)
  exact ⟨s, t, m, hs, rfl, by omega, rfl, hm, hm2, hcs, nI_clamp (by omega)⟩
theorem told_0 {s t p : Int32} (h : toldW F A s t p = 0) : twoW A s t = 0 ∧ ¬ inI p 0 (F 0 - 1) = 0 := by
  unfold toldW at h
  by_cases h1 : twoW A s t = 0
  · rw [if_pos h1] at h
    by_cases h2 : inI p 0 (F 0 - 1) = 0
    · rw [if_pos h2] at h; exact absurd h (by decide)
    · exact ⟨h1, h2⟩
  · rw [if_neg h1] at h; exact absurd h h1
theorem told_ix {s t p : Int32} (hn : F 0 = nI n) (hn6 : n ≤ 6) (hS : ShM A) (h : toldW F A s t p = 0) : ∃ (k l q m : Nat), k < 4 ∧ s = nI k ∧ l < 4 ∧ t = nI l ∧ q < n ∧ p = nI q ∧ m ≤ 40 ∧ A 16 l = nI m ∧ cn s = k ∧ cn t = l ∧ cn p = q := by
  obtain ⟨h1, h2⟩ := told_0 h
  obtain ⟨k, l, m, a1, a2, a3, a4, a5, a6, a7, a8⟩ := two_ix hS h1
  obtain ⟨q, hq, rfl⟩ := one_ix hn hn6 h2
  exact ⟨k, l, q, m, a1, a2, a3, a4, hq, rfl, a5, a6, a7, a8, nI_clamp (by omega)⟩
theorem c_judge {s t p : Int32} (hN : gN g ≤ b) (hE : EnM F A n ts) (hS : ShM A) : Ct g yX7_judge cX7_judge 5 (some .int) 7 0 0 [.ref b, .int s, .int t, .int p] (hM g b (mF F c) (mA A c) A2 ω0) z (mP g b ω0 z (judgeF F A n ts c s t p)) := by
  refine Ct.at (own := RX7) (by decide) rfl (Nat.le_of_ble_eq_true rfl) rfl ?_
  have hn6 := hE.2.1
  by_cases h1 : toldW F A s t p = 0
  · obtain ⟨s, t, p, m, hs, rfl, ht, rfl, hp, rfl, hm, hm2, hcs, hct, hcp⟩ := told_ix hE.1 hn6 hS h1
    refine g_aload_n dX7_judge_0 rfl ?_
    refine g_iload_n dX7_judge_1 rfl ?_
    refine g_iload_n dX7_judge_2 rfl ?_
    refine g_iload_n dX7_judge_3 rfl ?_
    refine gm_calli (n := 3) (c_toldWrong hS) (lw_V q1723 q1725 qs63 q92 q1726) (by decide +kernel) rfl rfl (by decide) ⟨Nat.le_refl _, Nat.le_refl _⟩ (Nat.le_of_ble_eq_true rfl) dX7_judge_4 (fun A2 => ?_)
    refine g_istore (L' := [(4, _), (0, _), (1, _), (2, _), (3, _)]) dX7_judge_7 (by decide) rfl ?_
    refine g_iload dX7_judge_9 rfl ?_
    refine g_if_ne 24 dX7_judge_11 (by decide) (fun h9 => absurd h1 h9) (fun _ => ?_)
    refine g_aload_n dX7_judge_14 rfl ?_
    refine g_iload_n dX7_judge_15 rfl ?_
    refine g_iload_n dX7_judge_16 rfl ?_
    refine g_iload_n dX7_judge_17 rfl ?_
    refine gm_calli (n := 3) (c_unlike (m := m) (n := n) (ts := ts) hN hE hs ht (by omega) hm hm2) (lw_V q1731 q1733 qs65 q92 q1734) (by decide +kernel) rfl rfl (by decide) ⟨Nat.le_refl _, Nat.le_refl _⟩ (Nat.le_of_ble_eq_true rfl) dX7_judge_18 (fun A2 => ?_)
    refine g_goto 26 dX7_judge_21 (by decide) ?_
    refine g_iret rfl (Nat.le_refl _) (Nat.le_refl _) ?_ dX7_judge_26
    exact mP.of (by rw [judgeF, if_pos h1, hcs, hct, hcp])
  · refine g_aload_n dX7_judge_0 rfl ?_
    refine g_iload_n dX7_judge_1 rfl ?_
    refine g_iload_n dX7_judge_2 rfl ?_
    refine g_iload_n dX7_judge_3 rfl ?_
    refine gm_calli (n := 3) (c_toldWrong hS) (lw_V q1723 q1725 qs63 q92 q1726) (by decide +kernel) rfl rfl (by decide) ⟨Nat.le_refl _, Nat.le_refl _⟩ (Nat.le_of_ble_eq_true rfl) dX7_judge_4 (fun A2 => ?_)
    refine g_istore (L' := [(4, _), (0, _), (1, _), (2, _), (3, _)]) dX7_judge_7 (by decide) rfl ?_
    refine g_iload dX7_judge_9 rfl ?_
    refine g_if_ne 24 dX7_judge_11 (by decide) (fun _ => ?_) (fun h9 => absurd h9 h1)
    refine g_iload dX7_judge_24 rfl ?_
    refine g_iret rfl (Nat.le_refl _) (Nat.le_refl _) ?_ dX7_judge_26
    exact mP.of (by rw [judgeF, if_neg h1])
end A
