/-! the reference: fishers by a sheet, films -/
set_option maxRecDepth 100000
section D
variable (F : Nat → Int32) (A : Nat → Nat → Int32) (n : Nat) (ts : Nat → List Int32) (c : Cr)
def fbL (s : Nat) (fr : Int32) : Nat → Nat → R4 → R4
  | 0, _, o => o
  | m + 1, k, o => if fr < 0 ∨ fr + 2 * nI k < fr ∨ ¬ fr + 2 * nI k ≤ o.2.2.1 16 s - 2 then (-12, o.2) else
    let q := fisherF o.2.1 o.2.2.1 o.2.2.2 (o.2.2.1 17 (40 * s + cn (fr + 2 * nI k))) (o.2.2.1 17 (40 * s + cn (fr + 2 * nI k) + 1))
    fbL s fr m (k + 1) (o.1 + (if q.1 < 0 then 0 else 1), q.2)
def fbF (s so fr m : Int32) : R4 := if inI s 0 3 = 0 ∨ inI so 0 2 = 0 ∨ inI m 0 6 = 0 then (-2, F, A, c) else if A 15 (cn s) = -1 then (-11, F, A, c) else if A 15 (cn s) = so then fbL (cn s) fr (cn m) 0 (0, F, A, c) else (-13, F, A, c)
def flL (e : En) (p s t m : Nat) : Nat → Nat → Cr → (Nat → Int32) → Nat → Int32
  | 0, _, _, f => f
  | q + 1, k, c, f => if k < m then flL e p s t m q (k + 1) (goS e p (wthn (upd f (40 * t + k) 0 (40 * s + k)) 0 15) c) (upd f (40 * t + k) ((landF e c p (wthn (upd f (40 * t + k) 0 (40 * s + k)) 0 15)).1 (3 * p + 2))) else flL e p s t m q (k + 1) c (upd f (40 * t + k) 0)
def filmF (s t p : Int32) : R4 := if inI t 0 3 = 0 ∨ s = t then (-2, F, A, c) else if oneW F A s p = 0 then (A 16 (cn s), F, sA (sA (sA A 15 (upd (A 15) (cn t) 0)) 16 (upd (A 16) (cn t) (A 16 (cn s)))) 17 (flL (eM A n ts) (cn p) (cn s) (cn t) (cn (A 16 (cn s))) 40 0 c (A 17)), c) else (oneW F A s p, F, A, c)
end D
section A
variable {g : GE} {b z n : Nat} {F : Nat → Int32} {A A2 : Nat → Nat → Int32} {ω0 ω : Om} {ts : Nat → List Int32} {c c0 : Cr} {f0 : Nat → Int32}
theorem c_fisherQ {km kn : Int32} (hN : gN g ≤ b) (hn : F 0 = nI n) (hn6 : n ≤ 6) : Ct g yX7_fisher cX7_fisher 3 (some .int) 2 0 0 [.ref b, .int km, .int kn] (hM g b (mF F c) (mA A c) A2 ω0) z (mQ g b ω0 z (some (.int (fisherF F A c km kn).1)) (mF (fisherF F A c km kn).2.1 (fisherF F A c km kn).2.2.2) (mA (fisherF F A c km kn).2.2.1 (fisherF F A c km kn).2.2.2)) := c_fisher hN hn hn6
theorem fisher_n {km kn : Int32} (hn : F 0 = nI n) (hn6 : n ≤ 6) : ∃ n', n' ≤ 6 ∧ (fisherF F A c km kn).2.1 0 = nI n' := by
  unfold fisherF
  split
  · exact ⟨n, hn6, hn⟩
  · split
    · exact ⟨n, hn6, hn⟩
    · rename_i h
      refine ⟨n + 1, ?_, ?_⟩
      · have : n ≠ 6 := fun q => h (by rw [hn, q]; rfl)
        omega
      · show F 0 + 1 = _
        rw [hn]; exact nI_1 n
theorem fisher_A {km kn : Int32} {k : Nat} (h1 : k ≠ 1) (h2 : k ≠ 2) : (fisherF F A c km kn).2.2.1 k = A k := by
  unfold fisherF
  split
  · rfl
  · split
    · rfl
    · show sA (sA A 1 _) 2 _ k = A k
      rw [sA_ne _ _ h2, sA_ne _ _ h1]
theorem l_fb {s m sz : Nat} {so fr : Int32} {r : R4} (hN : gN g ≤ b) (hs : s < 4) (hm : m ≤ 6) (hsz : sz ≤ 40) :
    ∀ (f k : Nat) (o : R4) (A2 : Nat → Nat → Int32) (n : Nat), k + f = m → n ≤ 6 → o.2.1 0 = nI n → o.2.2.1 16 s = nI sz → fbL s fr f k o = r → GN g RX7 cX7_fishersBy 9 (some .int) 3 (mP g b ω0 z r) (hM g b (mF o.2.1 o.2.2.2) (mA o.2.2.1 o.2.2.2) A2 ω0) z 64 [(6, .int (nI k)), (5, .int o.1), (0, .ref b), (1, .int (nI s)), (2, .int so), (3, .int fr), (4, .int (nI m))] [] := by
  intro f
  induction f with
  | zero =>
    intro k o A2 n hk hn6 hn hz hr
    subst hr
    refine g_iload dX7_fishersBy_64 rfl ?_
    refine g_iload dX7_fishersBy_66 rfl ?_
    refine g_icmp_ge 153 dX7_fishersBy_68 (by decide) (fun _ => ?_) (fun h9 => absurd (nI_le (by omega) (by omega)) h9)
    refine g_iload dX7_fishersBy_153 rfl ?_
    refine g_iret rfl (Nat.le_refl _) (Nat.le_refl _) ?_ dX7_fishersBy_155
    exact mP.of rfl
  | succ f ih =>
    intro k o A2 n hk hn6 hn hz hr
    obtain ⟨came, F, A, c⟩ := o
    unfold fbL at hr
    dsimp only at hn hz hr ⊢
    by_cases hbad : fr < 0 ∨ fr + 2 * nI k < fr ∨ ¬ fr + 2 * nI k ≤ A 16 s - 2
    · rw [if_pos hbad] at hr
      subst hr
      refine g_iload dX7_fishersBy_64 rfl ?_
      refine g_iload dX7_fishersBy_66 rfl ?_
      refine g_icmp_ge 153 dX7_fishersBy_68 (by decide) (fun h9 => absurd h9 (nI_ge (by omega) (by omega))) (fun _ => ?_)
      refine g_iload_n dX7_fishersBy_71 rfl ?_
      refine g_iconst (2) dX7_fishersBy_72 rfl ?_
      refine g_iload dX7_fishersBy_73 rfl ?_
      refine g_imul dX7_fishersBy_75 ?_
      refine g_iadd dX7_fishersBy_76 ?_
      refine g_istore (L' := [(7, _), (6, _), (5, _), (0, _), (1, _), (2, _), (3, _), (4, _)]) dX7_fishersBy_77 (by decide) rfl ?_
      refine g_iload_n dX7_fishersBy_79 rfl ?_
      refine g_if_lt 102 dX7_fishersBy_80 (by decide) (fun c1 => ?_) (fun c1 => ?_)
      · refine g_bipush (-12) dX7_fishersBy_102 rfl ?_
        refine g_iret rfl (Nat.le_refl _) (Nat.le_refl _) ?_ dX7_fishersBy_104
        exact mP.of rfl
      · refine g_iload dX7_fishersBy_83 rfl ?_
        refine g_iload_n dX7_fishersBy_85 rfl ?_
        refine g_icmp_lt 102 dX7_fishersBy_86 (by decide) (fun c2 => ?_) (fun c2 => ?_)
        · refine g_bipush (-12) dX7_fishersBy_102 rfl ?_
          refine g_iret rfl (Nat.le_refl _) (Nat.le_refl _) ?_ dX7_fishersBy_104
          exact mP.of rfl
        · refine g_iload dX7_fishersBy_89 rfl ?_
          refine g_aload_n dX7_fishersBy_91 rfl ?_
          refine mg_sheetSize dX7_fishersBy_92 ?_
          refine g_iload_n dX7_fishersBy_95 rfl ?_
          refine mlc_sheetSize (s) (by omega) (by first | rfl | (simp only [nI, Int32.ofNat_add, Int32.ofNat_mul]; rfl) | (simp only [nI, Int32.ofNat_add, Int32.ofNat_mul]; done)) dX7_fishersBy_96 ?_
          refine g_iconst (2) dX7_fishersBy_97 rfl ?_
          refine g_isub dX7_fishersBy_98 ?_
          refine g_icmp_le 105 dX7_fishersBy_99 (by decide) (fun c3 => ?_) (fun c3 => ?_)
          · exact absurd hbad (fun h => by rcases h with h | h | h; exact c1 h; exact c2 h; exact h c3)
          · refine g_bipush (-12) dX7_fishersBy_102 rfl ?_
            refine g_iret rfl (Nat.le_refl _) (Nat.le_refl _) ?_ dX7_fishersBy_104
            exact mP.of rfl
    · rw [if_neg hbad] at hr
      have g1 : ¬ fr < 0 := fun h => hbad (Or.inl h)
      have g2 : ¬ fr + 2 * nI k < fr := fun h => hbad (Or.inr (Or.inl h))
      have g3 : fr + 2 * nI k ≤ A 16 s - 2 := Classical.not_not.mp fun h => hbad (Or.inr (Or.inr h))
      have g4 : ¬ fr + 2 * nI k < 0 := by
        have h00 : (0 : Int32).toInt = 0 := by decide
        simp only [Int32.lt_iff_toInt_lt] at *
        omega
      obtain ⟨ii, hii, he⟩ := nI_of g4
      rw [he] at g2 g3 hr
      have hci : cn (nI ii) = ii := nI_clamp hii
      rw [hci] at hr
      have hsz2 : ii + 2 ≤ sz := by
        rw [hz] at g3
        by_cases h2 : 2 ≤ sz
        · rw [show nI sz - 2 = nI (sz - 2) from pk_sub (b := 2) h2] at g3
          have := (nI_leI hii (by omega)).mp g3
          omega
        · have h3 : nI sz - 2 < 0 := pk_sneg (b := 2) (by decide) (by omega)
          exact absurd (Int32.lt_of_le_of_lt g3 h3) (nI_pos hii)
      refine g_iload dX7_fishersBy_64 rfl ?_
      refine g_iload dX7_fishersBy_66 rfl ?_
      refine g_icmp_ge 153 dX7_fishersBy_68 (by decide) (fun h9 => absurd h9 (nI_ge (by omega) (by omega))) (fun _ => ?_)
      refine g_iload_n dX7_fishersBy_71 rfl ?_
      refine g_iconst (2) dX7_fishersBy_72 rfl ?_
      refine g_iload dX7_fishersBy_73 rfl ?_
      refine g_imul dX7_fishersBy_75 ?_
      refine g_iadd dX7_fishersBy_76 ?_
      rw [he]
      refine g_istore (L' := [(7, _), (6, _), (5, _), (0, _), (1, _), (2, _), (3, _), (4, _)]) dX7_fishersBy_77 (by decide) rfl ?_
      refine g_iload_n dX7_fishersBy_79 rfl ?_
      refine g_if_lt 102 dX7_fishersBy_80 (by decide) (fun h9 => absurd h9 g1) (fun _ => ?_)
      refine g_iload dX7_fishersBy_83 rfl ?_
      refine g_iload_n dX7_fishersBy_85 rfl ?_
      refine g_icmp_lt 102 dX7_fishersBy_86 (by decide) (fun h9 => absurd h9 g2) (fun _ => ?_)
      refine g_iload dX7_fishersBy_89 rfl ?_
      refine g_aload_n dX7_fishersBy_91 rfl ?_
      refine mg_sheetSize dX7_fishersBy_92 ?_
      refine g_iload_n dX7_fishersBy_95 rfl ?_
      refine mlc_sheetSize (s) (by omega) (by first | rfl | (simp only [nI, Int32.ofNat_add, Int32.ofNat_mul]; rfl) | (simp only [nI, Int32.ofNat_add, Int32.ofNat_mul]; done)) dX7_fishersBy_96 ?_
      refine g_iconst (2) dX7_fishersBy_97 rfl ?_
      refine g_isub dX7_fishersBy_98 ?_
      refine g_icmp_le 105 dX7_fishersBy_99 (by decide) (fun _ => ?_) (fun h9 => absurd g3 h9)
      refine g_bipush (40) dX7_fishersBy_105 rfl ?_
      refine g_iload_n dX7_fishersBy_107 rfl ?_
      refine g_imul dX7_fishersBy_108 ?_
      refine g_iload dX7_fishersBy_109 rfl ?_
      refine g_iadd dX7_fishersBy_111 ?_
      refine g_istore (L' := [(8, _), (7, _), (6, _), (5, _), (0, _), (1, _), (2, _), (3, _), (4, _)]) dX7_fishersBy_112 (by decide) rfl ?_
      refine g_iload dX7_fishersBy_114 rfl ?_
      refine g_aload_n dX7_fishersBy_116 rfl ?_
      refine g_aload_n dX7_fishersBy_117 rfl ?_
      refine mg_cells dX7_fishersBy_118 ?_
      refine g_iload dX7_fishersBy_121 rfl ?_
      refine mlc_cells (((40 * s) + ii)) (by omega) (by first | rfl | (simp only [nI, Int32.ofNat_add, Int32.ofNat_mul]; rfl) | (simp only [nI, Int32.ofNat_add, Int32.ofNat_mul]; done)) dX7_fishersBy_123 ?_
      refine g_aload_n dX7_fishersBy_124 rfl ?_
      refine mg_cells dX7_fishersBy_125 ?_
      refine g_iload dX7_fishersBy_128 rfl ?_
      refine g_iconst (1) dX7_fishersBy_130 rfl ?_
      refine g_iadd dX7_fishersBy_131 ?_
      refine mlc_cells ((((40 * s) + ii) + 1)) (by omega) (by first | rfl | (simp only [nI, Int32.ofNat_add, Int32.ofNat_mul]; rfl) | (simp only [nI, Int32.ofNat_add, Int32.ofNat_mul]; done)) dX7_fishersBy_132 ?_
      refine gm_calli (n := 2) (c_fisherQ (n := n) hN hn hn6) (lw_V q1800 q1597 q1598 q92 q1599) (by decide +kernel) rfl rfl (by decide) ⟨Nat.le_refl _, Nat.le_refl _⟩ (Nat.le_of_ble_eq_true rfl) dX7_fishersBy_133 (fun A2 => ?_)
      refine g_if_lt 143 dX7_fishersBy_136 (by decide) (fun c1 => ?_) (fun c1 => ?_)
      · rw [if_pos (show (fisherF F A c (A 17 (40 * s + ii)) (A 17 (40 * s + ii + 1))).1 < 0 from c1)] at hr
        refine g_iconst (0) dX7_fishersBy_143 rfl ?_
        refine g_iadd dX7_fishersBy_144 ?_
        refine g_istore (L' := [(5, _), (8, _), (7, _), (6, _), (0, _), (1, _), (2, _), (3, _), (4, _)]) dX7_fishersBy_145 (by decide) rfl ?_
        refine g_iinc (nI (k + 1)) (L' := [(6, _), (5, _), (8, _), (7, _), (0, _), (1, _), (2, _), (3, _), (4, _)]) dX7_fishersBy_147 rfl (nI_1 _) (by decide) rfl ?_
        refine g_goto 64 dX7_fishersBy_150 (by decide) ?_
        refine g_pick [0, 1, 4, 5, 6, 7, 8] rfl ?_
        obtain ⟨n', hn', hn2⟩ := fisher_n (A := A) (c := c) (km := A 17 (40 * s + ii)) (kn := A 17 (40 * s + ii + 1)) hn hn6
        exact ih (k + 1) (came + 0, (fisherF F A c (A 17 (40 * s + ii)) (A 17 (40 * s + ii + 1))).2) _ n' (by omega) hn' hn2 (by rw [show (came + 0, (fisherF F A c (A 17 (40 * s + ii)) (A 17 (40 * s + ii + 1))).2).2.2.1 16 = A 16 from fisher_A (by decide) (by decide)]; exact hz) hr
      · rw [if_neg (show ¬ (fisherF F A c (A 17 (40 * s + ii)) (A 17 (40 * s + ii + 1))).1 < 0 from c1)] at hr
        refine g_iconst (1) dX7_fishersBy_139 rfl ?_
        refine g_goto 144 dX7_fishersBy_140 (by decide) ?_
        refine g_iadd dX7_fishersBy_144 ?_
        refine g_istore (L' := [(5, _), (8, _), (7, _), (6, _), (0, _), (1, _), (2, _), (3, _), (4, _)]) dX7_fishersBy_145 (by decide) rfl ?_
        refine g_iinc (nI (k + 1)) (L' := [(6, _), (5, _), (8, _), (7, _), (0, _), (1, _), (2, _), (3, _), (4, _)]) dX7_fishersBy_147 rfl (nI_1 _) (by decide) rfl ?_
        refine g_goto 64 dX7_fishersBy_150 (by decide) ?_
        refine g_pick [0, 1, 4, 5, 6, 7, 8] rfl ?_
        obtain ⟨n', hn', hn2⟩ := fisher_n (A := A) (c := c) (km := A 17 (40 * s + ii)) (kn := A 17 (40 * s + ii + 1)) hn hn6
        exact ih (k + 1) (came + 1, (fisherF F A c (A 17 (40 * s + ii)) (A 17 (40 * s + ii + 1))).2) _ n' (by omega) hn' hn2 (by rw [show (came + 1, (fisherF F A c (A 17 (40 * s + ii)) (A 17 (40 * s + ii + 1))).2).2.2.1 16 = A 16 from fisher_A (by decide) (by decide)]; exact hz) hr
theorem c_fishersBy {s so fr m : Int32} (hN : gN g ≤ b) (hn : F 0 = nI n) (hn6 : n ≤ 6) (hS : ShM A) : Ct g yX7_fishersBy cX7_fishersBy 9 (some .int) 3 0 0 [.ref b, .int s, .int so, .int fr, .int m] (hM g b (mF F c) (mA A c) A2 ω0) z (mP g b ω0 z (fbF F A c s so fr m)) := by
  refine Ct.at (own := RX7) (by decide) rfl (Nat.le_of_ble_eq_true rfl) rfl ?_
  rcases in_or s (hi := 3) (m := 3) (by decide) with h1 | ⟨s, hs, rfl, h1⟩
  · refine g_iload_n dX7_fishersBy_0 rfl ?_
    refine g_iconst (0) dX7_fishersBy_1 rfl ?_
    refine g_iconst (3) dX7_fishersBy_2 rfl ?_
    refine gs_calli (n := 3) (c_in ) (lw_S q1405 q1406 q92 q1407) (by decide +kernel) rfl rfl (by decide) ⟨Nat.le_refl _, Nat.le_refl _⟩ (Nat.le_of_ble_eq_true rfl) dX7_fishersBy_3 ?_
    refine g_if_eq 29 dX7_fishersBy_6 (by decide) (fun _ => ?_) (fun h9 => absurd h1 h9)
    refine g_bipush (-2) dX7_fishersBy_29 rfl ?_
    refine g_iret rfl (Nat.le_refl _) (Nat.le_refl _) ?_ dX7_fishersBy_31
    exact mP.of (by rw [fbF, if_pos (Or.inl h1)])
  by_cases h2 : inI so 0 2 = 0
  · refine g_iload_n dX7_fishersBy_0 rfl ?_
    refine g_iconst (0) dX7_fishersBy_1 rfl ?_
    refine g_iconst (3) dX7_fishersBy_2 rfl ?_
    refine gs_calli (n := 3) (c_in ) (lw_S q1405 q1406 q92 q1407) (by decide +kernel) rfl rfl (by decide) ⟨Nat.le_refl _, Nat.le_refl _⟩ (Nat.le_of_ble_eq_true rfl) dX7_fishersBy_3 ?_
    refine g_if_eq 29 dX7_fishersBy_6 (by decide) (fun h9 => absurd h9 (by rw [h1]; decide)) (fun _ => ?_)
    refine g_iload_n dX7_fishersBy_9 rfl ?_
    refine g_iconst (0) dX7_fishersBy_10 rfl ?_
    refine g_iconst (2) dX7_fishersBy_11 rfl ?_
    refine gs_calli (n := 3) (c_in ) (lw_S q1405 q1406 q92 q1407) (by decide +kernel) rfl rfl (by decide) ⟨Nat.le_refl _, Nat.le_refl _⟩ (Nat.le_of_ble_eq_true rfl) dX7_fishersBy_12 ?_
    refine g_if_eq 29 dX7_fishersBy_15 (by decide) (fun _ => ?_) (fun h9 => absurd h2 h9)
    refine g_bipush (-2) dX7_fishersBy_29 rfl ?_
    refine g_iret rfl (Nat.le_refl _) (Nat.le_refl _) ?_ dX7_fishersBy_31
    exact mP.of (by rw [fbF, if_pos (Or.inr (Or.inl h2))])
  rcases in_or m (hi := 6) (m := 6) (by decide) with h3 | ⟨m, hm, rfl, h3⟩
  · refine g_iload_n dX7_fishersBy_0 rfl ?_
    refine g_iconst (0) dX7_fishersBy_1 rfl ?_
    refine g_iconst (3) dX7_fishersBy_2 rfl ?_
    refine gs_calli (n := 3) (c_in ) (lw_S q1405 q1406 q92 q1407) (by decide +kernel) rfl rfl (by decide) ⟨Nat.le_refl _, Nat.le_refl _⟩ (Nat.le_of_ble_eq_true rfl) dX7_fishersBy_3 ?_
    refine g_if_eq 29 dX7_fishersBy_6 (by decide) (fun h9 => absurd h9 (by rw [h1]; decide)) (fun _ => ?_)
    refine g_iload_n dX7_fishersBy_9 rfl ?_
    refine g_iconst (0) dX7_fishersBy_10 rfl ?_
    refine g_iconst (2) dX7_fishersBy_11 rfl ?_
    refine gs_calli (n := 3) (c_in ) (lw_S q1405 q1406 q92 q1407) (by decide +kernel) rfl rfl (by decide) ⟨Nat.le_refl _, Nat.le_refl _⟩ (Nat.le_of_ble_eq_true rfl) dX7_fishersBy_12 ?_
    refine g_if_eq 29 dX7_fishersBy_15 (by decide) (fun h9 => absurd h9 h2) (fun _ => ?_)
    refine g_iload dX7_fishersBy_18 rfl ?_
    refine g_iconst (0) dX7_fishersBy_20 rfl ?_
    refine g_bipush (6) dX7_fishersBy_21 rfl ?_
    refine gs_calli (n := 3) (c_in ) (lw_S q1405 q1406 q92 q1407) (by decide +kernel) rfl rfl (by decide) ⟨Nat.le_refl _, Nat.le_refl _⟩ (Nat.le_of_ble_eq_true rfl) dX7_fishersBy_23 ?_
    refine g_if_ne 32 dX7_fishersBy_26 (by decide) (fun h9 => absurd h3 h9) (fun _ => ?_)
    refine g_bipush (-2) dX7_fishersBy_29 rfl ?_
    refine g_iret rfl (Nat.le_refl _) (Nat.le_refl _) ?_ dX7_fishersBy_31
    exact mP.of (by rw [fbF, if_pos (Or.inr (Or.inr h3))])
  obtain ⟨sz, hsz, hsz2⟩ := hS s (by omega)
  rw [fbF, if_neg (fun h => by rcases h with h | h | h; (rw [h1] at h; exact absurd h (by decide)); exact h2 h; (rw [h3] at h; exact absurd h (by decide))), show cn (nI s) = s from nI_clamp (by omega), show cn (nI m) = m from nI_clamp (by omega)]
  refine g_iload_n dX7_fishersBy_0 rfl ?_
  refine g_iconst (0) dX7_fishersBy_1 rfl ?_
  refine g_iconst (3) dX7_fishersBy_2 rfl ?_
  refine gs_calli (n := 3) (c_in ) (lw_S q1405 q1406 q92 q1407) (by decide +kernel) rfl rfl (by decide) ⟨Nat.le_refl _, Nat.le_refl _⟩ (Nat.le_of_ble_eq_true rfl) dX7_fishersBy_3 ?_
  refine g_if_eq 29 dX7_fishersBy_6 (by decide) (fun h9 => absurd h9 (by rw [h1]; decide)) (fun _ => ?_)
  refine g_iload_n dX7_fishersBy_9 rfl ?_
  refine g_iconst (0) dX7_fishersBy_10 rfl ?_
  refine g_iconst (2) dX7_fishersBy_11 rfl ?_
  refine gs_calli (n := 3) (c_in ) (lw_S q1405 q1406 q92 q1407) (by decide +kernel) rfl rfl (by decide) ⟨Nat.le_refl _, Nat.le_refl _⟩ (Nat.le_of_ble_eq_true rfl) dX7_fishersBy_12 ?_
  refine g_if_eq 29 dX7_fishersBy_15 (by decide) (fun h9 => absurd h9 h2) (fun _ => ?_)
  refine g_iload dX7_fishersBy_18 rfl ?_
  refine g_iconst (0) dX7_fishersBy_20 rfl ?_
  refine g_bipush (6) dX7_fishersBy_21 rfl ?_
  refine gs_calli (n := 3) (c_in ) (lw_S q1405 q1406 q92 q1407) (by decide +kernel) rfl rfl (by decide) ⟨Nat.le_refl _, Nat.le_refl _⟩ (Nat.le_of_ble_eq_true rfl) dX7_fishersBy_23 ?_
  refine g_if_ne 32 dX7_fishersBy_26 (by decide) (fun _ => ?_) (fun h9 => absurd h9 (by rw [h3]; decide))
  refine g_aload_n dX7_fishersBy_32 rfl ?_
  refine mg_sheetSort dX7_fishersBy_33 ?_
  refine g_iload_n dX7_fishersBy_36 rfl ?_
  refine mlc_sheetSort (s) (by omega) (by first | rfl | (simp only [nI, Int32.ofNat_add, Int32.ofNat_mul]; rfl) | (simp only [nI, Int32.ofNat_add, Int32.ofNat_mul]; done)) dX7_fishersBy_37 ?_
  refine g_iconst (-1) dX7_fishersBy_38 rfl ?_
  refine g_icmp_ne 45 dX7_fishersBy_39 (by decide) (fun c1 => ?_) (fun c1 => ?_)
  · rw [if_neg c1]
    refine g_aload_n dX7_fishersBy_45 rfl ?_
    refine mg_sheetSort dX7_fishersBy_46 ?_
    refine g_iload_n dX7_fishersBy_49 rfl ?_
    refine mlc_sheetSort (s) (by omega) (by first | rfl | (simp only [nI, Int32.ofNat_add, Int32.ofNat_mul]; rfl) | (simp only [nI, Int32.ofNat_add, Int32.ofNat_mul]; done)) dX7_fishersBy_50 ?_
    refine g_iload_n dX7_fishersBy_51 rfl ?_
    refine g_icmp_eq 58 dX7_fishersBy_52 (by decide) (fun c2 => ?_) (fun c2 => ?_)
    · rw [if_pos c2]
      refine g_iconst (0) dX7_fishersBy_58 rfl ?_
      refine g_istore (L' := [(5, _), (0, _), (1, _), (2, _), (3, _), (4, _)]) dX7_fishersBy_59 (by decide) rfl ?_
      refine g_iconst (0) dX7_fishersBy_61 rfl ?_
      refine g_istore (L' := [(6, _), (5, _), (0, _), (1, _), (2, _), (3, _), (4, _)]) dX7_fishersBy_62 (by decide) rfl ?_
      exact l_fb hN (by omega) hm hsz m 0 (0, F, A, c) A2 n (by omega) hn6 hn hsz2 rfl
    · rw [if_neg c2]
      refine g_bipush (-13) dX7_fishersBy_55 rfl ?_
      refine g_iret rfl (Nat.le_refl _) (Nat.le_refl _) ?_ dX7_fishersBy_57
      exact mP.of rfl
  · rw [if_pos c1]
    refine g_bipush (-11) dX7_fishersBy_42 rfl ?_
    refine g_iret rfl (Nat.le_refl _) (Nat.le_refl _) ?_ dX7_fishersBy_44
    exact mP.of rfl
theorem l_film {s t p m : Nat} {w : Int32} {o : R4} {cE : Cr} (hN : gN g ≤ b) (hE : EnM F A n ts) (hs : s < 4) (ht : t < 4) (hp : p < 6) (hm : m ≤ 40) (hS : A 16 s = nI m) (hk : A 30 = kpf f0 c0) (fE : Nat → Int32)
    (ho : ∀ (A2 : Nat → Nat → Int32), mK g b ω0 z o (some (.int (nI m))) (hM g b (mF F c0) (mA (sA A 17 fE) c0) A2 ω0) z) :
    ∀ (q k : Nat) (c : Cr) (f : Nat → Int32) (A2 : Nat → Nat → Int32), k + q = 40 → hiEq c0 c → flL (eM A n ts) p s t m q k c f = fE → GN g RX7 cX7_film 6 (some .int) 6 (mK g b ω0 z o) (hM g b (mF F c) (mA (sA A 17 f) c) A2 ω0) z 59 [(5, .int (nI k)), (4, .int w), (0, .ref b), (1, .int (nI s)), (2, .int (nI t)), (3, .int (nI p))] [] := by
  intro q
  induction q with
  | zero =>
    intro k c f A2 hkq hh hr
    subst hr
    have hkq : k = 40 := by omega
    subst hkq
    refine g_iload dX7_film_59 rfl ?_
    refine g_bipush (40) dX7_film_61 rfl ?_
    refine g_icmp_ge 147 dX7_film_63 (by decide) (fun _ => ?_) (fun h9 => absurd (by decide) h9)
    refine g_aload_n dX7_film_147 rfl ?_
    refine gm_callv (n := 0) (c_lays (f0 := f0) (c0 := c0) hN hk hh) (lw_V q1675 q1677 qs59 q92 q1678) (by decide +kernel) rfl rfl (by decide) ⟨Nat.le_refl _, Nat.le_refl _⟩ (Nat.le_of_ble_eq_true rfl) dX7_film_148 (fun A2 => ?_)
    refine g_aload_n dX7_film_151 rfl ?_
    refine mg_sheetSize dX7_film_152 ?_
    refine g_iload_n dX7_film_155 rfl ?_
    refine mlc_sheetSize (s) (by omega) (by first | rfl | (simp only [nI, Int32.ofNat_add, Int32.ofNat_mul]; rfl) | (simp only [nI, Int32.ofNat_add, Int32.ofNat_mul]; done)) dX7_film_156 ?_
    refine g_iret rfl (Nat.le_refl _) (Nat.le_refl _) ?_ dX7_film_157
    rw [show sA A 17 f 16 s = A 16 s from rfl, hS]
    exact ho _
  | succ q ih =>
    intro k c f A2 hkq hh hr
    unfold flL at hr
    refine g_iload dX7_film_59 rfl ?_
    refine g_bipush (40) dX7_film_61 rfl ?_
    refine g_icmp_ge 147 dX7_film_63 (by decide) (fun h9 => absurd h9 (nI_ge (b := 40) (by omega) (by decide))) (fun _ => ?_)
    refine g_aload_n dX7_film_66 rfl ?_
    refine mg_cells dX7_film_67 ?_
    refine g_bipush (40) dX7_film_70 rfl ?_
    refine g_iload_n dX7_film_72 rfl ?_
    refine g_imul dX7_film_73 ?_
    refine g_iload dX7_film_74 rfl ?_
    refine g_iadd dX7_film_76 ?_
    refine g_iconst (0) dX7_film_77 rfl ?_
    refine msc_cells (((40 * t) + k)) hN (by omega) (by first | rfl | (simp only [nI, Int32.ofNat_add, Int32.ofNat_mul]; rfl) | (simp only [nI, Int32.ofNat_add, Int32.ofNat_mul]; done)) dX7_film_78 ?_
    refine g_iload dX7_film_79 rfl ?_
    refine g_aload_n dX7_film_81 rfl ?_
    refine mg_sheetSize dX7_film_82 ?_
    refine g_iload_n dX7_film_85 rfl ?_
    refine mlc_sheetSize (s) (by omega) (by first | rfl | (simp only [nI, Int32.ofNat_add, Int32.ofNat_mul]; rfl) | (simp only [nI, Int32.ofNat_add, Int32.ofNat_mul]; done)) dX7_film_86 ?_
    refine g_icmp_ge 141 dX7_film_87 (by decide) (fun c1 => ?_) (fun c1 => ?_)
    · have hkm : ¬ k < m := fun h => absurd (show nI m ≤ nI k by rw [← hS]; exact c1) (nI_ge h (by omega))
      rw [if_neg hkm] at hr
      refine g_iinc (nI (k + 1)) (L' := [(5, _), (4, _), (0, _), (1, _), (2, _), (3, _)]) dX7_film_141 rfl (nI_1 _) (by decide) rfl ?_
      refine g_goto 59 dX7_film_144 (by decide) ?_
      rw [sA_sA, sA_same]
      exact ih (k + 1) _ _ _ (by omega) hh hr
    · have hkm : k < m := Nat.lt_of_not_le fun h => c1 (show A 16 s ≤ nI k by rw [hS]; exact nI_le h (by omega))
      rw [if_pos hkm] at hr
      refine g_aload_n dX7_film_90 rfl ?_
      refine g_iload_n dX7_film_91 rfl ?_
      refine g_aload_n dX7_film_92 rfl ?_
      refine mg_cells dX7_film_93 ?_
      refine g_bipush (40) dX7_film_96 rfl ?_
      refine g_iload_n dX7_film_98 rfl ?_
      refine g_imul dX7_film_99 ?_
      refine g_iload dX7_film_100 rfl ?_
      refine g_iadd dX7_film_102 ?_
      refine mlc_cells (((40 * s) + k)) (by omega) (by first | rfl | (simp only [nI, Int32.ofNat_add, Int32.ofNat_mul]; rfl) | (simp only [nI, Int32.ofNat_add, Int32.ofNat_mul]; done)) dX7_film_103 ?_
      refine g_iconst (0) dX7_film_104 rfl ?_
      refine g_bipush (15) dX7_film_105 rfl ?_
      refine gs_calli (n := 3) (c_within ) (lw_S q1593 q1594 q92 q1595) (by decide +kernel) rfl rfl (by decide) ⟨Nat.le_refl _, Nat.le_refl _⟩ (Nat.le_of_ble_eq_true rfl) dX7_film_107 ?_
      refine gm_calli (n := 2) (c_landOf (n := n) (ts := ts) hN hE hp) (lw_V q1631 q1633 qs52 q92 q1634) (by decide +kernel) rfl rfl (by decide) ⟨Nat.le_refl _, Nat.le_refl _⟩ (Nat.le_of_ble_eq_true rfl) dX7_film_110 (fun A2 => ?_)
      refine g_pop dX7_film_113 rfl ?_
      refine g_aload_n dX7_film_114 rfl ?_
      refine mg_cells dX7_film_115 ?_
      refine g_bipush (40) dX7_film_118 rfl ?_
      refine g_iload_n dX7_film_120 rfl ?_
      refine g_imul dX7_film_121 ?_
      refine g_iload dX7_film_122 rfl ?_
      refine g_iadd dX7_film_124 ?_
      refine g_aload_n dX7_film_125 rfl ?_
      refine mg_rows dX7_film_126 ?_
      refine g_iconst (3) dX7_film_129 rfl ?_
      refine g_iload_n dX7_film_130 rfl ?_
      refine g_imul dX7_film_131 ?_
      refine g_iconst (2) dX7_film_132 rfl ?_
      refine g_iadd dX7_film_133 ?_
      refine mlc_rows (((3 * p) + 2)) (by omega) (by first | rfl | (simp only [nI, Int32.ofNat_add, Int32.ofNat_mul]; rfl) | (simp only [nI, Int32.ofNat_add, Int32.ofNat_mul]; done)) dX7_film_134 ?_
      refine msc_cells (((40 * t) + k)) hN (by omega) (by first | rfl | (simp only [nI, Int32.ofNat_add, Int32.ofNat_mul]; rfl) | (simp only [nI, Int32.ofNat_add, Int32.ofNat_mul]; done)) dX7_film_135 ?_
      refine g_aload_n dX7_film_136 rfl ?_
      refine gm_calli (n := 0) (c_tideOf (n := n) hN hE.1 hE.2.1) (lw_V q1647 q1649 qs54 q92 q1650) (by decide +kernel) rfl rfl (by decide) ⟨Nat.le_refl _, Nat.le_refl _⟩ (Nat.le_of_ble_eq_true rfl) dX7_film_137 (fun A2 => ?_)
      refine g_pop dX7_film_140 rfl ?_
      refine g_iinc (nI (k + 1)) (L' := [(5, _), (4, _), (0, _), (1, _), (2, _), (3, _)]) dX7_film_141 rfl (nI_1 _) (by decide) rfl ?_
      refine g_goto 59 dX7_film_144 (by decide) ?_
      rw [sA_sA, sA_sA, sA_same, sA_same, upd_upd]
      exact ih (k + 1) _ _ _ (by omega) (hh.tr ((hi_land hp).tr (hi_tide hE.2.1))) hr
theorem c_film {s t p : Int32} (hN : gN g ≤ b) (hE : EnM F A n ts) (hS : ShM A) : Ct g yX7_film cX7_film 6 (some .int) 6 0 0 [.ref b, .int s, .int t, .int p] (hM g b (mF F c) (mA A c) A2 ω0) z (mK g b ω0 z (filmF F A n ts c s t p)) := by
  refine Ct.at (own := RX7) (by decide) rfl (Nat.le_of_ble_eq_true rfl) rfl ?_
  have hn6 := hE.2.1
  rcases in_or t (hi := 3) (m := 3) (by decide) with h1 | ⟨t, ht, rfl, h1⟩
  · refine g_iload_n dX7_film_0 rfl ?_
    refine g_iconst (0) dX7_film_1 rfl ?_
    refine g_iconst (3) dX7_film_2 rfl ?_
    refine gs_calli (n := 3) (c_in ) (lw_S q1405 q1406 q92 q1407) (by decide +kernel) rfl rfl (by decide) ⟨Nat.le_refl _, Nat.le_refl _⟩ (Nat.le_of_ble_eq_true rfl) dX7_film_3 ?_
    refine g_if_eq 14 dX7_film_6 (by decide) (fun _ => ?_) (fun h9 => absurd h1 h9)
    refine g_bipush (-2) dX7_film_14 rfl ?_
    refine g_iret rfl (Nat.le_refl _) (Nat.le_refl _) ?_ dX7_film_16
    exact mK.of0 (by rw [filmF, if_pos (Or.inl h1)])
  by_cases hst : s = nI t
  · refine g_iload_n dX7_film_0 rfl ?_
    refine g_iconst (0) dX7_film_1 rfl ?_
    refine g_iconst (3) dX7_film_2 rfl ?_
    refine gs_calli (n := 3) (c_in ) (lw_S q1405 q1406 q92 q1407) (by decide +kernel) rfl rfl (by decide) ⟨Nat.le_refl _, Nat.le_refl _⟩ (Nat.le_of_ble_eq_true rfl) dX7_film_3 ?_
    refine g_if_eq 14 dX7_film_6 (by decide) (fun h9 => absurd h9 (by rw [h1]; decide)) (fun _ => ?_)
    refine g_iload_n dX7_film_9 rfl ?_
    refine g_iload_n dX7_film_10 rfl ?_
    refine g_icmp_ne 17 dX7_film_11 (by decide) (fun h9 => absurd hst h9) (fun _ => ?_)
    refine g_bipush (-2) dX7_film_14 rfl ?_
    refine g_iret rfl (Nat.le_refl _) (Nat.le_refl _) ?_ dX7_film_16
    exact mK.of0 (by rw [filmF, if_pos (Or.inr hst)])
  have hct : cn (nI t) = t := nI_clamp (by omega)
  rw [filmF, if_neg (fun h => h.elim (by rw [h1]; decide) hst), hct]
  by_cases h2 : oneW F A s p = 0
  · obtain ⟨h3, h4⟩ := one_0 h2
    obtain ⟨s, m, hs, rfl, hm, hm2, hcs, hcm, -, -⟩ := seas_0 hS h3
    obtain ⟨p, hp, rfl⟩ := one_ix hE.1 hn6 h4
    rw [if_pos h2, hcs, hcm, show cn (nI p) = p from nI_clamp (by omega)]
    have hne : ¬ s = t := fun h => hst (by rw [h])
    refine g_iload_n dX7_film_0 rfl ?_
    refine g_iconst (0) dX7_film_1 rfl ?_
    refine g_iconst (3) dX7_film_2 rfl ?_
    refine gs_calli (n := 3) (c_in ) (lw_S q1405 q1406 q92 q1407) (by decide +kernel) rfl rfl (by decide) ⟨Nat.le_refl _, Nat.le_refl _⟩ (Nat.le_of_ble_eq_true rfl) dX7_film_3 ?_
    refine g_if_eq 14 dX7_film_6 (by decide) (fun h9 => absurd h9 (by rw [h1]; decide)) (fun _ => ?_)
    refine g_iload_n dX7_film_9 rfl ?_
    refine g_iload_n dX7_film_10 rfl ?_
    refine g_icmp_ne 17 dX7_film_11 (by decide) (fun _ => ?_) (fun h9 => absurd h9 hst)
    refine g_aload_n dX7_film_17 rfl ?_
    refine g_iload_n dX7_film_18 rfl ?_
    refine g_iload_n dX7_film_19 rfl ?_
    refine gm_calli (n := 2) (c_oneWrong hS) (lw_V q1659 q1661 qs55 q92 q1662) (by decide +kernel) rfl rfl (by decide) ⟨Nat.le_refl _, Nat.le_refl _⟩ (Nat.le_of_ble_eq_true rfl) dX7_film_20 (fun A2 => ?_)
    refine g_istore (L' := [(4, _), (0, _), (1, _), (2, _), (3, _)]) dX7_film_23 (by decide) rfl ?_
    refine g_iload dX7_film_25 rfl ?_
    refine g_if_eq 33 dX7_film_27 (by decide) (fun _ => ?_) (fun h9 => absurd h2 h9)
    refine g_aload_n dX7_film_33 rfl ?_
    refine mg_sheetSort dX7_film_34 ?_
    refine g_iload_n dX7_film_37 rfl ?_
    refine g_iconst (0) dX7_film_38 rfl ?_
    refine msc_sheetSort (t) hN (by omega) (by first | rfl | (simp only [nI, Int32.ofNat_add, Int32.ofNat_mul]; rfl) | (simp only [nI, Int32.ofNat_add, Int32.ofNat_mul]; done)) dX7_film_39 ?_
    refine g_aload_n dX7_film_40 rfl ?_
    refine mg_sheetSize dX7_film_41 ?_
    refine g_iload_n dX7_film_44 rfl ?_
    refine g_aload_n dX7_film_45 rfl ?_
    refine mg_sheetSize dX7_film_46 ?_
    refine g_iload_n dX7_film_49 rfl ?_
    refine mlc_sheetSize (s) (by omega) (by first | rfl | (simp only [nI, Int32.ofNat_add, Int32.ofNat_mul]; rfl) | (simp only [nI, Int32.ofNat_add, Int32.ofNat_mul]; done)) dX7_film_50 ?_
    refine msc_sheetSize (t) hN (by omega) (by first | rfl | (simp only [nI, Int32.ofNat_add, Int32.ofNat_mul]; rfl) | (simp only [nI, Int32.ofNat_add, Int32.ofNat_mul]; done)) dX7_film_51 ?_
    refine g_aload_n dX7_film_52 rfl ?_
    refine gm_callv (n := 0) (c_keeps hN) (lw_V q1667 q1669 qs57 q92 q1670) (by decide +kernel) rfl rfl (by decide) ⟨Nat.le_refl _, Nat.le_refl _⟩ (Nat.le_of_ble_eq_true rfl) dX7_film_53 (fun A2 => ?_)
    refine g_iconst (0) dX7_film_56 rfl ?_
    refine g_istore (L' := [(5, _), (4, _), (0, _), (1, _), (2, _), (3, _)]) dX7_film_57 (by decide) rfl ?_
    have h := l_film (g := g) (b := b) (z := z) (F := F) (ω0 := ω0) (n := n) (ts := ts) (s := s) (t := t) (p := p) (m := m) (w := oneW F A (nI s) (nI p)) (A := kA (sA (sA A 15 (upd (A 15) t 0)) 16 (upd (A 16) t (A 16 s))) c) (f0 := A 30) (c0 := c) (o := (A 16 s, F, sA (sA (sA A 15 (upd (A 15) t 0)) 16 (upd (A 16) t (A 16 s))) 17 (flL (eM A n ts) p s t m 40 0 c (A 17)), c)) (cE := c) hN hE hs (by omega) (by omega) hm (by show upd (A 16) t (A 16 s) s = _; rw [upd_ne _ _ hne]; exact hm2) (sA_same _ _ _) (flL (eM A n ts) p s t m 40 0 c (A 17)) (fun A2 => ?_) 40 0 c (A 17) A2 (by omega) hiEq.rf rfl
    · rw [show A 17 = kA (sA (sA A 15 (upd (A 15) t 0)) 16 (upd (A 16) t (A 16 s))) c 17 from rfl, sA_self] at h
      exact h
    · refine ⟨by rw [hm2], rfl, A2, kpf (A 30) c, ?_⟩
      dsimp only
      congr 2
      funext i
      unfold sA
      by_cases h30 : i = 30
      · subst h30; rfl
      · by_cases h17 : i = 17
        · subst h17; rfl
        · simp [h30, h17, kA, sA]
  · rw [if_neg h2]
    refine g_iload_n dX7_film_0 rfl ?_
    refine g_iconst (0) dX7_film_1 rfl ?_
    refine g_iconst (3) dX7_film_2 rfl ?_
    refine gs_calli (n := 3) (c_in ) (lw_S q1405 q1406 q92 q1407) (by decide +kernel) rfl rfl (by decide) ⟨Nat.le_refl _, Nat.le_refl _⟩ (Nat.le_of_ble_eq_true rfl) dX7_film_3 ?_
    refine g_if_eq 14 dX7_film_6 (by decide) (fun h9 => absurd h9 (by rw [h1]; decide)) (fun _ => ?_)
    refine g_iload_n dX7_film_9 rfl ?_
    refine g_iload_n dX7_film_10 rfl ?_
    refine g_icmp_ne 17 dX7_film_11 (by decide) (fun _ => ?_) (fun h9 => absurd h9 hst)
    refine g_aload_n dX7_film_17 rfl ?_
    refine g_iload_n dX7_film_18 rfl ?_
    refine g_iload_n dX7_film_19 rfl ?_
    refine gm_calli (n := 2) (c_oneWrong hS) (lw_V q1659 q1661 qs55 q92 q1662) (by decide +kernel) rfl rfl (by decide) ⟨Nat.le_refl _, Nat.le_refl _⟩ (Nat.le_of_ble_eq_true rfl) dX7_film_20 (fun A2 => ?_)
    refine g_istore (L' := [(4, _), (0, _), (1, _), (2, _), (3, _)]) dX7_film_23 (by decide) rfl ?_
    refine g_iload dX7_film_25 rfl ?_
    refine g_if_eq 33 dX7_film_27 (by decide) (fun h9 => absurd h9 h2) (fun _ => ?_)
    refine g_iload dX7_film_30 rfl ?_
    refine g_iret rfl (Nat.le_refl _) (Nat.le_refl _) ?_ dX7_film_32
    exact mK.of0 rfl
end A
