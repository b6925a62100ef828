/-! the reference: fractions, seasons by lots -/
set_option maxRecDepth 100000
def lowN (x y : Nat) (w : Int32) : Int64 := if x = 0 then w.toInt64 else lN ((if w = 0 then x else y) / Nat.gcd x y)
def lot1 (l : Nat) : Nat := l * 48271 % 2147483647
def drS (e : En) (k l : Nat) (c : Cr) : Cr := let c1 := if lot1 l % 6 < e.1 then landF e c (lot1 l % 6) (nI (lot1 (lot1 l) % 16)) else c; if k % 3 = 2 then tideC e.1 c1 else c1
def drL (e : En) : Nat → Nat → Nat → Cr → Cr
  | 0, _, _, c => c
  | m + 1, k, l, c => drL e m (k + 1) (lot1 (lot1 l)) (drS e k l c)
def anyL (R : Nat → Int32) : Nat → Nat → Int32 → Int32
  | 0, _, x => x
  | m + 1, p, x => anyL R m (p + 1) (x ||| R (3 * p))
def drV (e : En) (sd m : Nat) (c : Cr) : Int32 := bits (anyL (drL e m 0 (sd + 1) c).1 e.1 0 0)
theorem hi_dr {e : En} {k l : Nat} {c : Cr} (hn : e.1 ≤ 6) : hiEq c (drS e k l c) := by
  have h1 : hiEq c (if lot1 l % 6 < e.1 then landF e c (lot1 l % 6) (nI (lot1 (lot1 l) % 16)) else c) := by
    split
    · exact hi_land (by omega)
    · exact hiEq.rf
  unfold drS
  dsimp only
  by_cases hk : k % 3 = 2
  · rw [if_pos hk]; exact h1.tr (hi_tide hn)
  · rw [if_neg hk]; exact h1
theorem lot_lt (l : Nat) : lot1 l < 2147483647 := Nat.mod_lt _ (by decide)
theorem lot_eq {l : Nat} (h : l < 2147483647) : lN l * 48271 - lN l * 48271 / 2147483647 * 2147483647 = lN (lot1 l) := by
  show lN l * lN 48271 - lN l * lN 48271 / lN 2147483647 * lN 2147483647 = _
  rw [lN_mul]
  exact pk_lRem (by omega) (by decide) (by decide)
theorem lot_6 {l : Nat} (h : l < 2147483647) : (lN l - lN l / 6 * 6).toInt32 = nI (l % 6) := by
  rw [show lN l - lN l / 6 * 6 = lN (l % 6) from pk_lRem (b := 6) (by omega) (by decide) (by decide)]
  exact lN_i _
theorem lot_16 {l : Nat} (h : l < 2147483647) : (lN l - lN l / 16 * 16).toInt32 = nI (l % 16) := by
  rw [show lN l - lN l / 16 * 16 = lN (l % 16) from pk_lRem (b := 16) (by omega) (by decide) (by decide)]
  exact lN_i _
theorem wth_5 {j : Nat} (h : j < 6) : wthn (nI j) 0 5 = nI j := by
  unfold wthn
  rw [if_neg (nI_pos (by omega)), if_neg (show ¬ (5 : Int32) < nI j from nI_nlt (a := 5) (by omega) (by omega))]
theorem sb_01 (x : Int32) (t : Nat) : sb x t = 0 ∨ sb x t = 1 := by
  unfold sb
  obtain ⟨j, hj, he⟩ := pk_andE (x >>> (nI t &&& 31)) (m := 1) 1 (by decide)
  rw [he]
  match j, hj with
  | 0, _ => exact Or.inl rfl
  | 1, _ => exact Or.inr rfl
theorem bcnt_N (x : Int32) : ∀ t, ∃ k : Nat, k ≤ t ∧ bcnt x t = nI k
  | 0 => ⟨0, Nat.le_refl _, rfl⟩
  | t + 1 => by
    obtain ⟨k, hk, he⟩ := bcnt_N x t
    unfold bcnt
    rcases sb_01 x t with h | h
    · exact ⟨k, by omega, by rw [h, he]; exact nI_add k 0⟩
    · exact ⟨k + 1, by omega, by rw [h, he]; exact nI_1 k⟩
theorem bits_N (x : Int32) : ∃ k : Nat, k ≤ 16 ∧ bits x = nI k := bcnt_N x 16
def bitN (x : Int32) : Nat := cn (bits x)
theorem bits_eq (x : Int32) : bits x = nI (bitN x) ∧ bitN x ≤ 16 := by
  obtain ⟨k, hk, he⟩ := bits_N x
  have : bitN x = k := by unfold bitN cn; rw [he]; exact nI_clamp (by omega)
  rw [this]; exact ⟨he, hk⟩
section D
variable (F : Nat → Int32) (A : Nat → Nat → Int32) (n : Nat) (ts : Nat → List Int32) (c : Cr)
def drawnF (sd m w : Int32) : R4 := if inI sd 0 99999 = 0 ∨ inI m 0 60 = 0 ∨ inI w 0 1 = 0 then (-2, F, A, c) else (if w = 0 then drV (eM A n ts) (cn sd) (cn m) c else (drL (eM A n ts) (cn m) 0 (cn sd + 1) c).2.1, F, A, c)
def oddL (e : En) (sd : Nat) (le : Int32) (c : Cr) : Nat → Nat → Nat → Nat
  | 0, _, x => x
  | m + 1, k, x => oddL e sd le c m (k + 1) (if drV e (sd + k) 20 c < le then x + 0 else x + 1)
def oddsF (sd m le w : Int32) : Int64 := if inI sd 0 99999 = 0 ∨ inI m 1 40 = 0 ∨ inI le 0 16 = 0 ∨ inI w 0 1 = 0 then -4611686018427387904 else lowN (oddL (eM A n ts) (cn sd) le c (cn m) 0 0) (cn m) w
def shareF (p w : Int32) : Int64 := if inI p 0 (F 0 - 1) = 0 ∨ inI w 0 1 = 0 ∨ c.1 (3 * cn p + 1) = 0 then -4611686018427387904 else lowN (bitN (c.1 (3 * cn p + 1) &&& c.1 (3 * cn p))) (bitN (c.1 (3 * cn p + 1))) w
end D
section A
variable {g : GE} {b z n : Nat} {F : Nat → Int32} {A A2 : Nat → Nat → Int32} {ω0 ω : Om} {ts : Nat → List Int32} {c c0 : Cr} {f0 : Nat → Int32}
theorem l_lowest {x y : Nat} {w : Int32} {V : List (Nat × Value)} {q : Value} (hx : x < 2 ^ 31) (hx0 : 0 < x) (hy : y < 2 ^ 31) :
    ∀ (m u v : Nat), v ≤ m → u < 2 ^ 31 → v < 2 ^ 31 → 0 < u + v → Nat.gcd u v = Nat.gcd x y → GN g RX7 cX7_lowest 11 (some .long) 1 (dQ (some (.long (lN ((if w = 0 then x else y) / Nat.gcd x y)))) ω z) ω z 16 [(7, .long (lN v)), (5, .long (lN u)), (0, .long (lN x)), (2, .long (lN y)), (4, .int w)] [] := by
  intro m
  induction m with
  | zero =>
    intro u v hv hu hv2 h0 hg
    have hv : v = 0 := by omega
    subst hv
    rw [Nat.gcd_zero_right] at hg
    have hu1 : 0 < u := by omega
    rw [← hg]
    have hu0 : ¬ lN u = 0 := fun h => absurd ((pk_lEQ (a := u) (b := 0) (by omega) (by decide)).mp h) (by omega)
    refine g_lload dX7_lowest_16 rfl ?_
    refine g_lconst 0 dX7_lowest_18 rfl ?_
    refine g_lcmp dX7_lowest_19 ?_
    refine g_if_eq 41 dX7_lowest_20 (by decide) (fun _ => ?_) (fun h9 => absurd ((lg_cmp_eq _ _).mpr rfl) h9)
    refine g_iload dX7_lowest_41 rfl ?_
    refine g_if_ne 50 dX7_lowest_43 (by decide) (fun c1 => ?_) (fun c1 => ?_)
    · refine g_lload_n dX7_lowest_50 rfl ?_
      refine g_lload dX7_lowest_51 rfl ?_
      refine g_ldiv dX7_lowest_53 hu0 ?_
      refine g_lret rfl (Nat.le_refl _) (Nat.le_refl _) ?_ dX7_lowest_54
      first | exact dQ.of (by rw [if_pos c1]; exact congrArg (fun v => some (Value.long v)) (pk_lDiv (by omega) (by omega) (by omega))) | exact dQ.of (by rw [if_neg c1]; exact congrArg (fun v => some (Value.long v)) (pk_lDiv (by omega) (by omega) (by omega)))
    · refine g_lload_n dX7_lowest_46 rfl ?_
      refine g_goto 51 dX7_lowest_47 (by decide) ?_
      refine g_lload dX7_lowest_51 rfl ?_
      refine g_ldiv dX7_lowest_53 hu0 ?_
      refine g_lret rfl (Nat.le_refl _) (Nat.le_refl _) ?_ dX7_lowest_54
      first | exact dQ.of (by rw [if_pos c1]; exact congrArg (fun v => some (Value.long v)) (pk_lDiv (by omega) (by omega) (by omega))) | exact dQ.of (by rw [if_neg c1]; exact congrArg (fun v => some (Value.long v)) (pk_lDiv (by omega) (by omega) (by omega)))
  | succ m ih =>
    intro u v hv hu hv2 h0 hg
    by_cases hv0 : v = 0
    · subst hv0
      exact ih u 0 (by omega) hu hv2 h0 hg
    · have hvne : ¬ lN v = 0 := fun h => absurd ((pk_lEQ (a := v) (b := 0) (by omega) (by decide)).mp h) hv0
      refine g_lload dX7_lowest_16 rfl ?_
      refine g_lconst 0 dX7_lowest_18 rfl ?_
      refine g_lcmp dX7_lowest_19 ?_
      refine g_if_eq 41 dX7_lowest_20 (by decide) (fun h9 => absurd h9 (fun h => hvne ((lg_cmp_eq _ _).mp h))) (fun _ => ?_)
      refine g_lload dX7_lowest_23 rfl ?_
      refine g_lload dX7_lowest_25 rfl ?_
      refine g_lrem dX7_lowest_27 hvne ?_
      refine g_lstore (L' := [(9, _), (7, _), (5, _), (0, _), (2, _), (4, _)]) dX7_lowest_28 (by decide) rfl ?_
      refine g_lload dX7_lowest_30 rfl ?_
      refine g_lstore (L' := [(5, _), (9, _), (7, _), (0, _), (2, _), (4, _)]) dX7_lowest_32 (by decide) rfl ?_
      refine g_lload dX7_lowest_34 rfl ?_
      refine g_lstore (L' := [(7, _), (5, _), (9, _), (0, _), (2, _), (4, _)]) dX7_lowest_36 (by decide) rfl ?_
      refine g_goto 16 dX7_lowest_38 (by decide) ?_
      refine g_pick [0, 1, 3, 4, 5] rfl ?_
      rw [pk_lRem (by omega) (by omega) (by omega)]
      have hlt : u % v < v := Nat.mod_lt _ (by omega)
      exact ih v (u % v) (by omega) hv2 (by omega) (by omega) (by rw [← hg, Nat.gcd_comm u v, Nat.gcd_rec v u, Nat.gcd_comm])
theorem c_lowest {x y : Nat} {w : Int32} (hx : x < 2 ^ 31) (hy : y < 2 ^ 31) : Ct g yX7_lowest cX7_lowest 11 (some .long) 1 0 0 [.long (lN x), .long (lN y), .int w] ω z (dQ (some (.long (lowN x y w))) ω z) := by
  refine Ct.at (own := RX7) (by decide) rfl (Nat.le_of_ble_eq_true rfl) rfl ?_
  unfold lowN
  by_cases h0 : x = 0
  · subst h0
    rw [if_pos rfl]
    refine g_lload_n dX7_lowest_0 rfl ?_
    refine g_lconst 0 dX7_lowest_1 rfl ?_
    refine g_lcmp dX7_lowest_2 ?_
    refine g_if_ne 10 dX7_lowest_3 (by decide) (fun h9 => absurd ((lg_cmp_eq _ _).mpr rfl) h9) (fun _ => ?_)
    refine g_iload dX7_lowest_6 rfl ?_
    refine g_i2l dX7_lowest_8 ?_
    refine g_lret rfl (Nat.le_refl _) (Nat.le_refl _) ?_ dX7_lowest_9
    exact dQ.mk
  · rw [if_neg h0]
    refine g_lload_n dX7_lowest_0 rfl ?_
    refine g_lconst 0 dX7_lowest_1 rfl ?_
    refine g_lcmp dX7_lowest_2 ?_
    refine g_if_ne 10 dX7_lowest_3 (by decide) (fun _ => ?_) (fun h9 => absurd h9 (fun h => absurd ((pk_lEQ (a := x) (b := 0) (by omega) (by decide)).mp ((lg_cmp_eq _ _).mp h)) h0))
    refine g_lload_n dX7_lowest_10 rfl ?_
    refine g_lstore (L' := [(5, _), (0, _), (2, _), (4, _)]) dX7_lowest_11 (by decide) rfl ?_
    refine g_lload_n dX7_lowest_13 rfl ?_
    refine g_lstore (L' := [(7, _), (5, _), (0, _), (2, _), (4, _)]) dX7_lowest_14 (by decide) rfl ?_
    exact l_lowest (q := .null) (V := []) hx (by omega) hy y x y (Nat.le_refl _) hx hy (by omega) rfl
theorem c_share {p w : Int32} (hN : gN g ≤ b) (hn : F 0 = nI n) (hn6 : n ≤ 6) : Ct g yX7_share cX7_share 3 (some .long) 3 0 0 [.ref b, .int p, .int w] (hM g b (mF F c) (mA A c) A2 ω0) z (mQ g b ω0 z (some (.long (shareF F c p w))) (mF F c) (mA A c)) := by
  refine Ct.at (own := RX7) (by decide) rfl (Nat.le_of_ble_eq_true rfl) rfl ?_
  rcases one_or p hn hn6 with h1 | ⟨p, hp, rfl, h1⟩
  · refine g_aload_n dX7_share_0 rfl ?_
    refine g_iload_n dX7_share_1 rfl ?_
    refine gm_calli (n := 1) (c_isOne ) (lw_V q1575 q1577 qs46 q92 q1578) (by decide +kernel) rfl rfl (by decide) ⟨Nat.le_refl _, Nat.le_refl _⟩ (Nat.le_of_ble_eq_true rfl) dX7_share_2 (fun A2 => ?_)
    refine g_if_eq 30 dX7_share_5 (by decide) (fun _ => ?_) (fun h9 => absurd h1 h9)
    refine g_ldc2 q1715 dX7_share_30 ?_
    refine g_lret rfl (Nat.le_refl _) (Nat.le_refl _) ?_ dX7_share_33
    exact mQ.of (by rw [shareF, if_pos (Or.inl h1)]) rfl rfl
  · have hcp : cn (nI p) = p := nI_clamp (by omega)
    unfold shareF
    rw [hcp]
    obtain ⟨e1, l1⟩ := bits_eq (c.1 (3 * p + 1) &&& c.1 (3 * p))
    obtain ⟨e2, l2⟩ := bits_eq (c.1 (3 * p + 1))
    by_cases h2 : inI w 0 1 = 0
    · refine g_aload_n dX7_share_0 rfl ?_
      refine g_iload_n dX7_share_1 rfl ?_
      refine gm_calli (n := 1) (c_isOne ) (lw_V q1575 q1577 qs46 q92 q1578) (by decide +kernel) rfl rfl (by decide) ⟨Nat.le_refl _, Nat.le_refl _⟩ (Nat.le_of_ble_eq_true rfl) dX7_share_2 (fun A2 => ?_)
      refine g_if_eq 30 dX7_share_5 (by decide) (fun h9 => absurd h9 (by rw [h1]; decide)) (fun _ => ?_)
      refine g_iload_n dX7_share_8 rfl ?_
      refine g_iconst (0) dX7_share_9 rfl ?_
      refine g_iconst (1) dX7_share_10 rfl ?_
      refine gs_calli (n := 3) (c_in ) (lw_S q1405 q1406 q92 q1407) (by decide +kernel) rfl rfl (by decide) ⟨Nat.le_refl _, Nat.le_refl _⟩ (Nat.le_of_ble_eq_true rfl) dX7_share_11 ?_
      refine g_if_eq 30 dX7_share_14 (by decide) (fun _ => ?_) (fun h9 => absurd h2 h9)
      refine g_ldc2 q1715 dX7_share_30 ?_
      refine g_lret rfl (Nat.le_refl _) (Nat.le_refl _) ?_ dX7_share_33
      exact mQ.of (by rw [if_pos (Or.inr (Or.inl h2))]) rfl rfl
    · refine g_aload_n dX7_share_0 rfl ?_
      refine g_iload_n dX7_share_1 rfl ?_
      refine gm_calli (n := 1) (c_isOne ) (lw_V q1575 q1577 qs46 q92 q1578) (by decide +kernel) rfl rfl (by decide) ⟨Nat.le_refl _, Nat.le_refl _⟩ (Nat.le_of_ble_eq_true rfl) dX7_share_2 (fun A2 => ?_)
      refine g_if_eq 30 dX7_share_5 (by decide) (fun h9 => absurd h9 (by rw [h1]; decide)) (fun _ => ?_)
      refine g_iload_n dX7_share_8 rfl ?_
      refine g_iconst (0) dX7_share_9 rfl ?_
      refine g_iconst (1) dX7_share_10 rfl ?_
      refine gs_calli (n := 3) (c_in ) (lw_S q1405 q1406 q92 q1407) (by decide +kernel) rfl rfl (by decide) ⟨Nat.le_refl _, Nat.le_refl _⟩ (Nat.le_of_ble_eq_true rfl) dX7_share_11 ?_
      refine g_if_eq 30 dX7_share_14 (by decide) (fun h9 => absurd h9 h2) (fun _ => ?_)
      refine g_aload_n dX7_share_17 rfl ?_
      refine mg_rows dX7_share_18 ?_
      refine g_iconst (3) dX7_share_21 rfl ?_
      refine g_iload_n dX7_share_22 rfl ?_
      refine g_imul dX7_share_23 ?_
      refine g_iconst (1) dX7_share_24 rfl ?_
      refine g_iadd dX7_share_25 ?_
      refine mlc_rows (((3 * p) + 1)) (by omega) (by first | rfl | (simp only [nI, Int32.ofNat_add, Int32.ofNat_mul]; rfl) | (simp only [nI, Int32.ofNat_add, Int32.ofNat_mul]; done)) dX7_share_26 ?_
      refine g_if_ne 34 dX7_share_27 (by decide) (fun c1 => ?_) (fun c1 => ?_)
      · rw [if_neg (fun h => h.elim (by rw [h1]; decide) (fun h => h.elim h2 c1))]
        refine g_aload_n dX7_share_34 rfl ?_
        refine mg_rows dX7_share_35 ?_
        refine g_iconst (3) dX7_share_38 rfl ?_
        refine g_iload_n dX7_share_39 rfl ?_
        refine g_imul dX7_share_40 ?_
        refine g_iconst (1) dX7_share_41 rfl ?_
        refine g_iadd dX7_share_42 ?_
        refine mlc_rows (((3 * p) + 1)) (by omega) (by first | rfl | (simp only [nI, Int32.ofNat_add, Int32.ofNat_mul]; rfl) | (simp only [nI, Int32.ofNat_add, Int32.ofNat_mul]; done)) dX7_share_43 ?_
        refine g_aload_n dX7_share_44 rfl ?_
        refine mg_rows dX7_share_45 ?_
        refine g_iconst (3) dX7_share_48 rfl ?_
        refine g_iload_n dX7_share_49 rfl ?_
        refine g_imul dX7_share_50 ?_
        refine mlc_rows ((3 * p)) (by omega) (by first | rfl | (simp only [nI, Int32.ofNat_add, Int32.ofNat_mul]; rfl) | (simp only [nI, Int32.ofNat_add, Int32.ofNat_mul]; done)) dX7_share_51 ?_
        refine g_iand dX7_share_52 ?_
        refine gs_calli (n := 1) (c_bitsOf ) (lw_S q1551 q1552 q92 q1553) (by decide +kernel) rfl rfl (by decide) ⟨Nat.le_refl _, Nat.le_refl _⟩ (Nat.le_of_ble_eq_true rfl) dX7_share_53 ?_
        refine g_i2l dX7_share_56 ?_
        refine g_aload_n dX7_share_57 rfl ?_
        refine mg_rows dX7_share_58 ?_
        refine g_iconst (3) dX7_share_61 rfl ?_
        refine g_iload_n dX7_share_62 rfl ?_
        refine g_imul dX7_share_63 ?_
        refine g_iconst (1) dX7_share_64 rfl ?_
        refine g_iadd dX7_share_65 ?_
        refine mlc_rows (((3 * p) + 1)) (by omega) (by first | rfl | (simp only [nI, Int32.ofNat_add, Int32.ofNat_mul]; rfl) | (simp only [nI, Int32.ofNat_add, Int32.ofNat_mul]; done)) dX7_share_66 ?_
        refine gs_calli (n := 1) (c_bitsOf ) (lw_S q1551 q1552 q92 q1553) (by decide +kernel) rfl rfl (by decide) ⟨Nat.le_refl _, Nat.le_refl _⟩ (Nat.le_of_ble_eq_true rfl) dX7_share_67 ?_
        refine g_i2l dX7_share_70 ?_
        rw [e1, e2, nI_l (by omega), nI_l (by omega)]
        refine g_iload_n dX7_share_71 rfl ?_
        refine gs_calll (n := 3) (c_lowest (x := bitN (c.1 (3 * p + 1) &&& c.1 (3 * p))) (y := bitN (c.1 (3 * p + 1))) (by omega) (by omega)) (lw_S q1716 q1717 q92 q1718) (by decide +kernel) rfl rfl (by decide) ⟨Nat.le_refl _, Nat.le_refl _⟩ (Nat.le_of_ble_eq_true rfl) dX7_share_72 ?_
        refine g_lret rfl (Nat.le_refl _) (Nat.le_refl _) ?_ dX7_share_75
        exact mQ.mk
      · rw [if_pos (Or.inr (Or.inr c1))]
        refine g_ldc2 q1715 dX7_share_30 ?_
        refine g_lret rfl (Nat.le_refl _) (Nat.le_refl _) ?_ dX7_share_33
        exact mQ.mk
theorem l_any {sd m r : Int32} {V : Int64} {Q : Option Value → Om → Nat → Prop} (hN : gN g ≤ b) (hn : F 0 = nI n) (hn6 : n ≤ 6) (hk : A 30 = kpf f0 c0) (hh : hiEq c0 c) (hQ : ∀ A2, Q (some (.int (bits r))) (hM g b (mF (upd F 33 c.2.1) c0) (mA A c0) A2 ω0) z) :
    ∀ (f p : Nat) (x : Int32), p + f = n → anyL c.1 f p x = r → GN g RX7 cX7_lotSeasons 7 (some .int) 6 Q (hM g b (mF F c) (mA A c) A2 ω0) z 98 [(6, .int (nI p)), (5, .int x), (3, .long V), (0, .ref b), (1, .int sd), (2, .int m)] [] := by
  intro f
  induction f with
  | zero =>
    intro p x hp hr
    subst hr
    refine g_iload dX7_lotSeasons_98 rfl ?_
    refine g_aload_n dX7_lotSeasons_100 rfl ?_
    refine mgc_fishers dX7_lotSeasons_101 ?_
    refine g_icmp_ge 127 dX7_lotSeasons_104 (by decide) (fun _ => ?_) (fun h9 => absurd (by rw [hn]; exact nI_le (by omega) (by omega)) h9)
    refine g_aload_n dX7_lotSeasons_127 rfl ?_
    refine g_aload_n dX7_lotSeasons_128 rfl ?_
    refine mgc_sea dX7_lotSeasons_129 ?_
    refine mpc_seaThen hN  dX7_lotSeasons_132 ?_
    refine g_aload_n dX7_lotSeasons_135 rfl ?_
    refine gm_callv (n := 0) (c_lays hN hk hh) (lw_V q1675 q1677 qs59 q92 q1678) (by decide +kernel) rfl rfl (by decide) ⟨Nat.le_refl _, Nat.le_refl _⟩ (Nat.le_of_ble_eq_true rfl) dX7_lotSeasons_136 (fun A2 => ?_)
    refine g_iload dX7_lotSeasons_139 rfl ?_
    refine gs_calli (n := 1) (c_bitsOf ) (lw_S q1551 q1552 q92 q1553) (by decide +kernel) rfl rfl (by decide) ⟨Nat.le_refl _, Nat.le_refl _⟩ (Nat.le_of_ble_eq_true rfl) dX7_lotSeasons_141 ?_
    refine g_iret rfl (Nat.le_refl _) (Nat.le_refl _) ?_ dX7_lotSeasons_144
    exact hQ _
  | succ f ih =>
    intro p x hp hr
    unfold anyL at hr
    refine g_iload dX7_lotSeasons_98 rfl ?_
    refine g_aload_n dX7_lotSeasons_100 rfl ?_
    refine mgc_fishers dX7_lotSeasons_101 ?_
    refine g_icmp_ge 127 dX7_lotSeasons_104 (by decide) (fun h9 => absurd h9 (by rw [hn]; exact nI_ge (by omega) (by omega))) (fun _ => ?_)
    refine g_iload dX7_lotSeasons_107 rfl ?_
    refine g_aload_n dX7_lotSeasons_109 rfl ?_
    refine mg_rows dX7_lotSeasons_110 ?_
    refine g_iconst (3) dX7_lotSeasons_113 rfl ?_
    refine g_iload dX7_lotSeasons_114 rfl ?_
    refine g_imul dX7_lotSeasons_116 ?_
    refine mlc_rows ((3 * p)) (by omega) (by first | rfl | (simp only [nI, Int32.ofNat_add, Int32.ofNat_mul]; rfl) | (simp only [nI, Int32.ofNat_add, Int32.ofNat_mul]; done)) dX7_lotSeasons_117 ?_
    refine g_ior dX7_lotSeasons_118 ?_
    refine g_istore (L' := [(5, _), (6, _), (3, _), (0, _), (1, _), (2, _)]) dX7_lotSeasons_119 (by decide) rfl ?_
    refine g_iinc (nI (p + 1)) (L' := [(6, _), (5, _), (3, _), (0, _), (1, _), (2, _)]) dX7_lotSeasons_121 rfl (nI_1 _) (by decide) rfl ?_
    refine g_goto 98 dX7_lotSeasons_124 (by decide) ?_
    exact ih (p + 1) _ (by omega) hr
theorem l_lots {sd m : Nat} {cE : Cr} {Q : Option Value → Om → Nat → Prop} (hN : gN g ≤ b) (hE : EnM F A n ts) (hm : m ≤ 60) (hk : A 30 = kpf f0 c0) (hQ : ∀ A2, Q (some (.int (bits (anyL cE.1 n 0 0)))) (hM g b (mF (upd F 33 cE.2.1) c0) (mA A c0) A2 ω0) z) :
    ∀ (f k l : Nat) (c : Cr) (A2 : Nat → Nat → Int32), k + f = m → l < 2147483647 → hiEq c0 c → drL (eM A n ts) f k l c = cE → GN g RX7 cX7_lotSeasons 7 (some .int) 6 Q (hM g b (mF F c) (mA A c) A2 ω0) z 12 [(5, .int (nI k)), (3, .long (lN l)), (0, .ref b), (1, .int (nI sd)), (2, .int (nI m))] [] := by
  have hn6 := hE.2.1
  intro f
  induction f with
  | zero =>
    intro k l c A2 hkf hl hh hr
    subst hr
    refine g_iload dX7_lotSeasons_12 rfl ?_
    refine g_iload_n dX7_lotSeasons_14 rfl ?_
    refine g_icmp_ge 92 dX7_lotSeasons_15 (by decide) (fun _ => ?_) (fun h9 => absurd (nI_le (by omega) (by omega)) h9)
    refine g_iconst (0) dX7_lotSeasons_92 rfl ?_
    refine g_istore (L' := [(5, _), (3, _), (0, _), (1, _), (2, _)]) dX7_lotSeasons_93 (by decide) rfl ?_
    refine g_iconst (0) dX7_lotSeasons_95 rfl ?_
    refine g_istore (L' := [(6, _), (5, _), (3, _), (0, _), (1, _), (2, _)]) dX7_lotSeasons_96 (by decide) rfl ?_
    exact l_any hN hE.1 hn6 hk hh hQ n 0 0 (by omega) rfl
  | succ f ih =>
    intro k l c A2 hkf hl hh hr
    unfold drL at hr
    have hg := hi_dr (e := eM A n ts) (k := k) (l := l) (c := c) hn6
    have hl1 := lot_lt l
    have hj : lot1 l % 6 < 6 := Nat.mod_lt _ (by decide)
    have hk3 : nI k - nI k / 3 * 3 = nI (k % 3) := pk_rem (d := 3) (by omega) (by decide) (by decide)
    have hk2 : nI (k % 3) = 2 ↔ k % 3 = 2 := nI_eq (b := 2) (by omega) (by decide)
    refine g_iload dX7_lotSeasons_12 rfl ?_
    refine g_iload_n dX7_lotSeasons_14 rfl ?_
    refine g_icmp_ge 92 dX7_lotSeasons_15 (by decide) (fun h9 => absurd h9 (nI_ge (by omega) (by omega))) (fun _ => ?_)
    refine g_lload_n dX7_lotSeasons_18 rfl ?_
    refine g_ldc2 q1768 dX7_lotSeasons_19 ?_
    refine g_lmul dX7_lotSeasons_22 ?_
    refine g_ldc2 q1769 dX7_lotSeasons_23 ?_
    refine g_lrem dX7_lotSeasons_26 (by decide) ?_
    rw [lot_eq hl]
    refine g_lstore_n (L' := [(3, _), (5, _), (0, _), (1, _), (2, _)]) dX7_lotSeasons_27 (by decide) rfl ?_
    refine g_lload_n dX7_lotSeasons_28 rfl ?_
    refine g_ldc2 q1770 dX7_lotSeasons_29 ?_
    refine g_lrem dX7_lotSeasons_32 (by decide) ?_
    refine g_l2i dX7_lotSeasons_33 ?_
    rw [lot_6 hl1]
    refine g_iconst (0) dX7_lotSeasons_34 rfl ?_
    refine g_iconst (5) dX7_lotSeasons_35 rfl ?_
    refine gs_calli (n := 3) (c_within ) (lw_S q1593 q1594 q92 q1595) (by decide +kernel) rfl rfl (by decide) ⟨Nat.le_refl _, Nat.le_refl _⟩ (Nat.le_of_ble_eq_true rfl) dX7_lotSeasons_36 ?_
    rw [wth_5 hj]
    refine g_istore (L' := [(6, _), (3, _), (5, _), (0, _), (1, _), (2, _)]) dX7_lotSeasons_39 (by decide) rfl ?_
    refine g_lload_n dX7_lotSeasons_41 rfl ?_
    refine g_ldc2 q1768 dX7_lotSeasons_42 ?_
    refine g_lmul dX7_lotSeasons_45 ?_
    refine g_ldc2 q1769 dX7_lotSeasons_46 ?_
    refine g_lrem dX7_lotSeasons_49 (by decide) ?_
    rw [lot_eq hl1]
    refine g_lstore_n (L' := [(3, _), (6, _), (5, _), (0, _), (1, _), (2, _)]) dX7_lotSeasons_50 (by decide) rfl ?_
    refine g_iload dX7_lotSeasons_51 rfl ?_
    refine g_aload_n dX7_lotSeasons_53 rfl ?_
    refine mgc_fishers dX7_lotSeasons_54 ?_
    refine g_icmp_ge 73 dX7_lotSeasons_57 (by decide) (fun c1 => ?_) (fun c1 => ?_)
    · have hj2 : ¬ lot1 l % 6 < n := by rw [hE.1] at c1; have := (nI_leI (by omega) (by omega)).mp c1; omega
      have hs : drS (eM A n ts) k l c = if k % 3 = 2 then tideC n c else c := by unfold drS; dsimp only; rw [if_neg hj2]
      refine g_iload dX7_lotSeasons_73 rfl ?_
      refine g_iconst (3) dX7_lotSeasons_75 rfl ?_
      refine g_irem dX7_lotSeasons_76 (by decide) ?_
      refine g_iconst (2) dX7_lotSeasons_77 rfl ?_
      refine g_icmp_ne 86 dX7_lotSeasons_78 (by decide) (fun c2 => ?_) (fun c2 => ?_)
      · rw [hk3, hk2] at c2
        rw [if_neg c2] at hs
        rw [hs] at hr hg
        refine g_iinc (nI (k + 1)) (L' := [(5, _), (3, _), (6, _), (0, _), (1, _), (2, _)]) dX7_lotSeasons_86 rfl (nI_1 _) (by decide) rfl ?_
        refine g_goto 12 dX7_lotSeasons_89 (by decide) ?_
        refine g_pick [0, 1, 3, 4, 5] rfl ?_
        exact ih (k + 1) _ _ _ (by omega) (lot_lt _) (hh.tr hg) hr
      · rw [hk3, hk2] at c2
        rw [if_pos c2] at hs
        rw [hs] at hr hg
        refine g_aload_n dX7_lotSeasons_81 rfl ?_
        refine gm_calli (n := 0) (c_tideOf (n := n) hN hE.1 hn6) (lw_V q1647 q1649 qs54 q92 q1650) (by decide +kernel) rfl rfl (by decide) ⟨Nat.le_refl _, Nat.le_refl _⟩ (Nat.le_of_ble_eq_true rfl) dX7_lotSeasons_82 (fun A2 => ?_)
        refine g_pop dX7_lotSeasons_85 rfl ?_
        refine g_iinc (nI (k + 1)) (L' := [(5, _), (3, _), (6, _), (0, _), (1, _), (2, _)]) dX7_lotSeasons_86 rfl (nI_1 _) (by decide) rfl ?_
        refine g_goto 12 dX7_lotSeasons_89 (by decide) ?_
        refine g_pick [0, 1, 3, 4, 5] rfl ?_
        exact ih (k + 1) _ _ _ (by omega) (lot_lt _) (hh.tr hg) hr
    · have hj2 : lot1 l % 6 < n := Nat.lt_of_not_le fun h => c1 (by rw [hE.1]; exact nI_le h (by omega))
      have hs : drS (eM A n ts) k l c = if k % 3 = 2 then tideC n (landF (eM A n ts) c (lot1 l % 6) (nI (lot1 (lot1 l) % 16))) else landF (eM A n ts) c (lot1 l % 6) (nI (lot1 (lot1 l) % 16)) := by unfold drS; dsimp only; rw [if_pos hj2]
      refine g_aload_n dX7_lotSeasons_60 rfl ?_
      refine g_iload dX7_lotSeasons_61 rfl ?_
      refine g_lload_n dX7_lotSeasons_63 rfl ?_
      refine g_ldc2 q1771 dX7_lotSeasons_64 ?_
      refine g_lrem dX7_lotSeasons_67 (by decide) ?_
      refine g_l2i dX7_lotSeasons_68 ?_
      rw [lot_16 (lot_lt _)]
      refine gm_calli (n := 2) (c_landOf (n := n) (ts := ts) hN hE hj) (lw_V q1631 q1633 qs52 q92 q1634) (by decide +kernel) rfl rfl (by decide) ⟨Nat.le_refl _, Nat.le_refl _⟩ (Nat.le_of_ble_eq_true rfl) dX7_lotSeasons_69 (fun A2 => ?_)
      refine g_pop dX7_lotSeasons_72 rfl ?_
      refine g_iload dX7_lotSeasons_73 rfl ?_
      refine g_iconst (3) dX7_lotSeasons_75 rfl ?_
      refine g_irem dX7_lotSeasons_76 (by decide) ?_
      refine g_iconst (2) dX7_lotSeasons_77 rfl ?_
      refine g_icmp_ne 86 dX7_lotSeasons_78 (by decide) (fun c2 => ?_) (fun c2 => ?_)
      · rw [hk3, hk2] at c2
        rw [if_neg c2] at hs
        rw [hs] at hr hg
        refine g_iinc (nI (k + 1)) (L' := [(5, _), (3, _), (6, _), (0, _), (1, _), (2, _)]) dX7_lotSeasons_86 rfl (nI_1 _) (by decide) rfl ?_
        refine g_goto 12 dX7_lotSeasons_89 (by decide) ?_
        refine g_pick [0, 1, 3, 4, 5] rfl ?_
        exact ih (k + 1) _ _ _ (by omega) (lot_lt _) (hh.tr hg) hr
      · rw [hk3, hk2] at c2
        rw [if_pos c2] at hs
        rw [hs] at hr hg
        refine g_aload_n dX7_lotSeasons_81 rfl ?_
        refine gm_calli (n := 0) (c_tideOf (n := n) hN hE.1 hn6) (lw_V q1647 q1649 qs54 q92 q1650) (by decide +kernel) rfl rfl (by decide) ⟨Nat.le_refl _, Nat.le_refl _⟩ (Nat.le_of_ble_eq_true rfl) dX7_lotSeasons_82 (fun A2 => ?_)
        refine g_pop dX7_lotSeasons_85 rfl ?_
        refine g_iinc (nI (k + 1)) (L' := [(5, _), (3, _), (6, _), (0, _), (1, _), (2, _)]) dX7_lotSeasons_86 rfl (nI_1 _) (by decide) rfl ?_
        refine g_goto 12 dX7_lotSeasons_89 (by decide) ?_
        refine g_pick [0, 1, 3, 4, 5] rfl ?_
        exact ih (k + 1) _ _ _ (by omega) (lot_lt _) (hh.tr hg) hr
theorem c_lots {sd m : Nat} (hN : gN g ≤ b) (hE : EnM F A n ts) (hsd : sd < 200000) (hm : m ≤ 60) : Ct g yX7_lotSeasons cX7_lotSeasons 7 (some .int) 6 0 0 [.ref b, .int (nI sd), .int (nI m)] (hM g b (mF F c) (mA A c) A2 ω0) z (mQ g b ω0 z (some (.int (drV (eM A n ts) sd m c))) (mF (upd F 33 (drL (eM A n ts) m 0 (sd + 1) c).2.1) c) (mA (kA A c) c)) := by
  refine Ct.at (own := RX7) (by decide) rfl (Nat.le_of_ble_eq_true rfl) rfl ?_
  refine g_iload_n dX7_lotSeasons_0 rfl ?_
  refine g_i2l dX7_lotSeasons_1 ?_
  refine g_lconst 1 dX7_lotSeasons_2 rfl ?_
  refine g_ladd dX7_lotSeasons_3 ?_
  rw [nI_l (by omega), show lN sd + 1 = lN (sd + 1) from lN_1 sd]
  refine g_lstore_n (L' := [(3, _), (0, _), (1, _), (2, _)]) dX7_lotSeasons_4 (by decide) rfl ?_
  refine g_aload_n dX7_lotSeasons_5 rfl ?_
  refine gm_callv (n := 0) (c_keeps hN) (lw_V q1667 q1669 qs57 q92 q1670) (by decide +kernel) rfl rfl (by decide) ⟨Nat.le_refl _, Nat.le_refl _⟩ (Nat.le_of_ble_eq_true rfl) dX7_lotSeasons_6 (fun A2 => ?_)
  refine g_iconst (0) dX7_lotSeasons_9 rfl ?_
  refine g_istore (L' := [(5, _), (3, _), (0, _), (1, _), (2, _)]) dX7_lotSeasons_10 (by decide) rfl ?_
  exact l_lots (F := F) (A := kA A c) (c0 := c) (f0 := A 30) (ts := ts) (cE := drL (eM A n ts) m 0 (sd + 1) c) hN hE hm (sA_same _ _ _) (fun A2 => mQ.mk) m 0 (sd + 1) c A2 (by omega) (by omega) hiEq.rf rfl
theorem c_drawn {sd m w : Int32} (hN : gN g ≤ b) (hE : EnM F A n ts) : Ct g yX7_drawn cX7_drawn 5 (some .int) 7 0 0 [.ref b, .int sd, .int m, .int w] (hM g b (mF F c) (mA A c) A2 ω0) z (fun v' ω' z' => v' = some (.int (drawnF F A n ts c sd m w).1) ∧ z' = z ∧ ∃ A2 k x, ω' = hM g b (mF (upd F 33 x) c) (mA (sA A 30 k) c) A2 ω0) := by
  refine Ct.at (own := RX7) (by decide) rfl (Nat.le_of_ble_eq_true rfl) rfl ?_
  have same : ∀ {r : Int32} {A2 : Nat → Nat → Int32}, r = (drawnF F A n ts c sd m w).1 → (some (Value.int r) = some (.int (drawnF F A n ts c sd m w).1) ∧ z = z ∧ ∃ A2' k x, hM g b (mF F c) (mA A c) A2 ω0 = hM g b (mF (upd F 33 x) c) (mA (sA A 30 k) c) A2' ω0) := fun {r A2} h => ⟨by rw [h], rfl, A2, A 30, F 33, by rw [upd_self, sA_self]⟩
  rcases in_or sd (hi := 99999) (m := 99999) (by decide) with h1 | ⟨sd, hsd, rfl, h1⟩
  · refine g_iload_n dX7_drawn_0 rfl ?_
    refine g_iconst (0) dX7_drawn_1 rfl ?_
    refine g_ldc q1763 dX7_drawn_2 ?_
    refine gs_calli (n := 3) (c_in ) (lw_S q1405 q1406 q92 q1407) (by decide +kernel) rfl rfl (by decide) ⟨Nat.le_refl _, Nat.le_refl _⟩ (Nat.le_of_ble_eq_true rfl) dX7_drawn_4 ?_
    refine g_if_eq 29 dX7_drawn_7 (by decide) (fun _ => ?_) (fun h9 => absurd h1 h9)
    refine g_bipush (-2) dX7_drawn_29 rfl ?_
    refine g_iret rfl (Nat.le_refl _) (Nat.le_refl _) ?_ dX7_drawn_31
    exact same (by rw [drawnF, if_pos (Or.inl h1)])
  · rcases in_or m (hi := 60) (m := 60) (by decide) with h2 | ⟨m, hm, rfl, h2⟩
    · refine g_iload_n dX7_drawn_0 rfl ?_
      refine g_iconst (0) dX7_drawn_1 rfl ?_
      refine g_ldc q1763 dX7_drawn_2 ?_
      refine gs_calli (n := 3) (c_in ) (lw_S q1405 q1406 q92 q1407) (by decide +kernel) rfl rfl (by decide) ⟨Nat.le_refl _, Nat.le_refl _⟩ (Nat.le_of_ble_eq_true rfl) dX7_drawn_4 ?_
      refine g_if_eq 29 dX7_drawn_7 (by decide) (fun h9 => absurd h9 (by rw [h1]; decide)) (fun _ => ?_)
      refine g_iload_n dX7_drawn_10 rfl ?_
      refine g_iconst (0) dX7_drawn_11 rfl ?_
      refine g_bipush (60) dX7_drawn_12 rfl ?_
      refine gs_calli (n := 3) (c_in ) (lw_S q1405 q1406 q92 q1407) (by decide +kernel) rfl rfl (by decide) ⟨Nat.le_refl _, Nat.le_refl _⟩ (Nat.le_of_ble_eq_true rfl) dX7_drawn_14 ?_
      refine g_if_eq 29 dX7_drawn_17 (by decide) (fun _ => ?_) (fun h9 => absurd h2 h9)
      refine g_bipush (-2) dX7_drawn_29 rfl ?_
      refine g_iret rfl (Nat.le_refl _) (Nat.le_refl _) ?_ dX7_drawn_31
      exact same (by rw [drawnF, if_pos (Or.inr (Or.inl h2))])
    · by_cases h3 : inI w 0 1 = 0
      · refine g_iload_n dX7_drawn_0 rfl ?_
        refine g_iconst (0) dX7_drawn_1 rfl ?_
        refine g_ldc q1763 dX7_drawn_2 ?_
        refine gs_calli (n := 3) (c_in ) (lw_S q1405 q1406 q92 q1407) (by decide +kernel) rfl rfl (by decide) ⟨Nat.le_refl _, Nat.le_refl _⟩ (Nat.le_of_ble_eq_true rfl) dX7_drawn_4 ?_
        refine g_if_eq 29 dX7_drawn_7 (by decide) (fun h9 => absurd h9 (by rw [h1]; decide)) (fun _ => ?_)
        refine g_iload_n dX7_drawn_10 rfl ?_
        refine g_iconst (0) dX7_drawn_11 rfl ?_
        refine g_bipush (60) dX7_drawn_12 rfl ?_
        refine gs_calli (n := 3) (c_in ) (lw_S q1405 q1406 q92 q1407) (by decide +kernel) rfl rfl (by decide) ⟨Nat.le_refl _, Nat.le_refl _⟩ (Nat.le_of_ble_eq_true rfl) dX7_drawn_14 ?_
        refine g_if_eq 29 dX7_drawn_17 (by decide) (fun h9 => absurd h9 (by rw [h2]; decide)) (fun _ => ?_)
        refine g_iload_n dX7_drawn_20 rfl ?_
        refine g_iconst (0) dX7_drawn_21 rfl ?_
        refine g_iconst (1) dX7_drawn_22 rfl ?_
        refine gs_calli (n := 3) (c_in ) (lw_S q1405 q1406 q92 q1407) (by decide +kernel) rfl rfl (by decide) ⟨Nat.le_refl _, Nat.le_refl _⟩ (Nat.le_of_ble_eq_true rfl) dX7_drawn_23 ?_
        refine g_if_ne 32 dX7_drawn_26 (by decide) (fun h9 => absurd h3 h9) (fun _ => ?_)
        refine g_bipush (-2) dX7_drawn_29 rfl ?_
        refine g_iret rfl (Nat.le_refl _) (Nat.le_refl _) ?_ dX7_drawn_31
        exact same (by rw [drawnF, if_pos (Or.inr (Or.inr h3))])
      · have he : (drawnF F A n ts c (nI sd) (nI m) w).1 = if w = 0 then drV (eM A n ts) sd m c else (drL (eM A n ts) m 0 (sd + 1) c).2.1 := by
          rw [drawnF, if_neg (fun h => h.elim (by rw [h1]; decide) (fun h => h.elim (by rw [h2]; decide) h3)), show cn (nI sd) = sd from nI_clamp (by omega), show cn (nI m) = m from nI_clamp (by omega)]
        rw [he]
        refine g_iload_n dX7_drawn_0 rfl ?_
        refine g_iconst (0) dX7_drawn_1 rfl ?_
        refine g_ldc q1763 dX7_drawn_2 ?_
        refine gs_calli (n := 3) (c_in ) (lw_S q1405 q1406 q92 q1407) (by decide +kernel) rfl rfl (by decide) ⟨Nat.le_refl _, Nat.le_refl _⟩ (Nat.le_of_ble_eq_true rfl) dX7_drawn_4 ?_
        refine g_if_eq 29 dX7_drawn_7 (by decide) (fun h9 => absurd h9 (by rw [h1]; decide)) (fun _ => ?_)
        refine g_iload_n dX7_drawn_10 rfl ?_
        refine g_iconst (0) dX7_drawn_11 rfl ?_
        refine g_bipush (60) dX7_drawn_12 rfl ?_
        refine gs_calli (n := 3) (c_in ) (lw_S q1405 q1406 q92 q1407) (by decide +kernel) rfl rfl (by decide) ⟨Nat.le_refl _, Nat.le_refl _⟩ (Nat.le_of_ble_eq_true rfl) dX7_drawn_14 ?_
        refine g_if_eq 29 dX7_drawn_17 (by decide) (fun h9 => absurd h9 (by rw [h2]; decide)) (fun _ => ?_)
        refine g_iload_n dX7_drawn_20 rfl ?_
        refine g_iconst (0) dX7_drawn_21 rfl ?_
        refine g_iconst (1) dX7_drawn_22 rfl ?_
        refine gs_calli (n := 3) (c_in ) (lw_S q1405 q1406 q92 q1407) (by decide +kernel) rfl rfl (by decide) ⟨Nat.le_refl _, Nat.le_refl _⟩ (Nat.le_of_ble_eq_true rfl) dX7_drawn_23 ?_
        refine g_if_ne 32 dX7_drawn_26 (by decide) (fun _ => ?_) (fun h9 => absurd h9 h3)
        refine g_aload_n dX7_drawn_32 rfl ?_
        refine g_iload_n dX7_drawn_33 rfl ?_
        refine g_iload_n dX7_drawn_34 rfl ?_
        refine gm_calli (n := 2) (c_lots (n := n) (ts := ts) hN hE (by omega) hm) (lw_V q1764 q1766 qs66 q92 q1767) (by decide +kernel) rfl rfl (by decide) ⟨Nat.le_refl _, Nat.le_refl _⟩ (Nat.le_of_ble_eq_true rfl) dX7_drawn_35 (fun A2 => ?_)
        refine g_istore (L' := [(4, _), (0, _), (1, _), (2, _), (3, _)]) dX7_drawn_38 (by decide) rfl ?_
        refine g_iload_n dX7_drawn_40 rfl ?_
        refine g_if_ne 49 dX7_drawn_41 (by decide) (fun c1 => ?_) (fun c1 => ?_)
        · rw [if_neg c1]
          refine g_aload_n dX7_drawn_49 rfl ?_
          refine mgc_seaThen dX7_drawn_50 ?_
          refine g_iret rfl (Nat.le_refl _) (Nat.le_refl _) ?_ dX7_drawn_53
          exact ⟨rfl, rfl, _, _, _, rfl⟩
        · rw [if_pos c1]
          refine g_iload dX7_drawn_44 rfl ?_
          refine g_goto 53 dX7_drawn_46 (by decide) ?_
          refine g_iret rfl (Nat.le_refl _) (Nat.le_refl _) ?_ dX7_drawn_53
          exact ⟨rfl, rfl, _, _, _, rfl⟩
theorem lN_0 : lN 0 = 0 := rfl
theorem l_odds {sd m : Nat} {le w : Int32} {r : Int64} (hN : gN g ≤ b) (hE : EnM F A n ts) (hsd : sd < 100000) (hm : m ≤ 40) :
    ∀ (f k x : Nat) (y : Int32) (kk : Nat → Int32) (A2 : Nat → Nat → Int32), k + f = m → x ≤ k → lowN (oddL (eM A n ts) sd le c f k x) m w = r → GN g RX7 cX7_odds 8 (some .long) 7 (mL g b ω0 z r F A c) (hM g b (mF (upd F 33 y) c) (mA (sA A 30 kk) c) A2 ω0) z 50 [(7, .int (nI k)), (5, .long (lN x)), (0, .ref b), (1, .int (nI sd)), (2, .int (nI m)), (3, .int le), (4, .int w)] [] := by
  intro f
  induction f with
  | zero =>
    intro k x y kk A2 hk hx hr
    subst hr
    refine g_iload dX7_odds_50 rfl ?_
    refine g_iload_n dX7_odds_52 rfl ?_
    refine g_icmp_ge 86 dX7_odds_53 (by decide) (fun _ => ?_) (fun h9 => absurd (nI_le (by omega) (by omega)) h9)
    refine g_lload dX7_odds_86 rfl ?_
    refine g_iload_n dX7_odds_88 rfl ?_
    refine g_i2l dX7_odds_89 ?_
    rw [nI_l (by omega)]
    refine g_iload dX7_odds_90 rfl ?_
    refine gs_calll (n := 3) (c_lowest (x := x) (y := m) (by omega) (by omega)) (lw_S q1716 q1717 q92 q1718) (by decide +kernel) rfl rfl (by decide) ⟨Nat.le_refl _, Nat.le_refl _⟩ (Nat.le_of_ble_eq_true rfl) dX7_odds_92 ?_
    refine g_lret rfl (Nat.le_refl _) (Nat.le_refl _) ?_ dX7_odds_95
    exact ⟨rfl, rfl, _, _, _, rfl⟩
  | succ f ih =>
    intro k x y kk A2 hk hx hr
    unfold oddL at hr
    refine g_iload dX7_odds_50 rfl ?_
    refine g_iload_n dX7_odds_52 rfl ?_
    refine g_icmp_ge 86 dX7_odds_53 (by decide) (fun h9 => absurd h9 (nI_ge (by omega) (by omega))) (fun _ => ?_)
    refine g_lload dX7_odds_56 rfl ?_
    refine g_aload_n dX7_odds_58 rfl ?_
    refine g_iload_n dX7_odds_59 rfl ?_
    refine g_iload dX7_odds_60 rfl ?_
    refine g_iadd dX7_odds_62 ?_
    refine g_bipush (20) dX7_odds_63 rfl ?_
    rw [show nI sd + nI k = nI (sd + k) from nI_add _ _]
    refine gm_calli (n := 2) (c_lots (m := 20) (n := n) (ts := ts) hN hE (by omega) (by decide)) (lw_V q1764 q1766 qs66 q92 q1767) (by decide +kernel) rfl rfl (by decide) ⟨Nat.le_refl _, Nat.le_refl _⟩ (Nat.le_of_ble_eq_true rfl) dX7_odds_65 (fun A2 => ?_)
    refine g_iload_n dX7_odds_68 rfl ?_
    refine g_icmp_lt 76 dX7_odds_69 (by decide) (fun c1 => ?_) (fun c1 => ?_)
    · rw [if_pos (show drV (eM A n ts) (sd + k) 20 c < le from c1)] at hr
      refine g_lconst 0 dX7_odds_76 rfl ?_
      refine g_ladd dX7_odds_77 ?_
      refine g_lstore (L' := [(5, _), (7, _), (0, _), (1, _), (2, _), (3, _), (4, _)]) dX7_odds_78 (by decide) rfl ?_
      refine g_iinc (nI (k + 1)) (L' := [(7, _), (5, _), (0, _), (1, _), (2, _), (3, _), (4, _)]) dX7_odds_80 rfl (nI_1 _) (by decide) rfl ?_
      refine g_goto 50 dX7_odds_83 (by decide) ?_
      rw [kA_s, upd_upd, show lN x + 0 = lN (x + 0) from lN_add x 0]
      exact ih (k + 1) _ _ _ _ (by omega) (by omega) hr
    · rw [if_neg (show ¬ drV (eM A n ts) (sd + k) 20 c < le from c1)] at hr
      refine g_lconst 1 dX7_odds_72 rfl ?_
      refine g_goto 77 dX7_odds_73 (by decide) ?_
      refine g_ladd dX7_odds_77 ?_
      refine g_lstore (L' := [(5, _), (7, _), (0, _), (1, _), (2, _), (3, _), (4, _)]) dX7_odds_78 (by decide) rfl ?_
      refine g_iinc (nI (k + 1)) (L' := [(7, _), (5, _), (0, _), (1, _), (2, _), (3, _), (4, _)]) dX7_odds_80 rfl (nI_1 _) (by decide) rfl ?_
      refine g_goto 50 dX7_odds_83 (by decide) ?_
      rw [kA_s, upd_upd, show lN x + 1 = lN (x + 1) from lN_1 x]
      exact ih (k + 1) _ _ _ _ (by omega) (by omega) hr
theorem c_odds {sd m le w : Int32} (hN : gN g ≤ b) (hE : EnM F A n ts) : Ct g yX7_odds cX7_odds 8 (some .long) 7 0 0 [.ref b, .int sd, .int m, .int le, .int w] (hM g b (mF F c) (mA A c) A2 ω0) z (mL g b ω0 z (oddsF A n ts c sd m le w) F A c) := by
  refine Ct.at (own := RX7) (by decide) rfl (Nat.le_of_ble_eq_true rfl) rfl ?_
  have same : ∀ {r : Int64} {A2 : Nat → Nat → Int32}, r = oddsF A n ts c sd m le w → mL g b ω0 z (oddsF A n ts c sd m le w) F A c (some (.long r)) (hM g b (mF F c) (mA A c) A2 ω0) z := fun {r A2} h => ⟨by rw [h], rfl, A2, A 30, F 33, by rw [upd_self, sA_self]⟩
  by_cases h1 : inI sd 0 99999 = 0
  · refine g_iload_n dX7_odds_0 rfl ?_
    refine g_iconst (0) dX7_odds_1 rfl ?_
    refine g_ldc q1763 dX7_odds_2 ?_
    refine gs_calli (n := 3) (c_in ) (lw_S q1405 q1406 q92 q1407) (by decide +kernel) rfl rfl (by decide) ⟨Nat.le_refl _, Nat.le_refl _⟩ (Nat.le_of_ble_eq_true rfl) dX7_odds_4 ?_
    refine g_if_eq 40 dX7_odds_7 (by decide) (fun _ => ?_) (fun h9 => absurd h1 h9)
    refine g_ldc2 q1715 dX7_odds_40 ?_
    refine g_lret rfl (Nat.le_refl _) (Nat.le_refl _) ?_ dX7_odds_43
    exact same (by rw [oddsF, if_pos (Or.inl h1)])
  by_cases h2 : inI m 1 40 = 0
  · refine g_iload_n dX7_odds_0 rfl ?_
    refine g_iconst (0) dX7_odds_1 rfl ?_
    refine g_ldc q1763 dX7_odds_2 ?_
    refine gs_calli (n := 3) (c_in ) (lw_S q1405 q1406 q92 q1407) (by decide +kernel) rfl rfl (by decide) ⟨Nat.le_refl _, Nat.le_refl _⟩ (Nat.le_of_ble_eq_true rfl) dX7_odds_4 ?_
    refine g_if_eq 40 dX7_odds_7 (by decide) (fun h9 => absurd h9 h1) (fun _ => ?_)
    refine g_iload_n dX7_odds_10 rfl ?_
    refine g_iconst (1) dX7_odds_11 rfl ?_
    refine g_bipush (40) dX7_odds_12 rfl ?_
    refine gs_calli (n := 3) (c_in ) (lw_S q1405 q1406 q92 q1407) (by decide +kernel) rfl rfl (by decide) ⟨Nat.le_refl _, Nat.le_refl _⟩ (Nat.le_of_ble_eq_true rfl) dX7_odds_14 ?_
    refine g_if_eq 40 dX7_odds_17 (by decide) (fun _ => ?_) (fun h9 => absurd h2 h9)
    refine g_ldc2 q1715 dX7_odds_40 ?_
    refine g_lret rfl (Nat.le_refl _) (Nat.le_refl _) ?_ dX7_odds_43
    exact same (by rw [oddsF, if_pos (Or.inr (Or.inl h2))])
  by_cases h3 : inI le 0 16 = 0
  · refine g_iload_n dX7_odds_0 rfl ?_
    refine g_iconst (0) dX7_odds_1 rfl ?_
    refine g_ldc q1763 dX7_odds_2 ?_
    refine gs_calli (n := 3) (c_in ) (lw_S q1405 q1406 q92 q1407) (by decide +kernel) rfl rfl (by decide) ⟨Nat.le_refl _, Nat.le_refl _⟩ (Nat.le_of_ble_eq_true rfl) dX7_odds_4 ?_
    refine g_if_eq 40 dX7_odds_7 (by decide) (fun h9 => absurd h9 h1) (fun _ => ?_)
    refine g_iload_n dX7_odds_10 rfl ?_
    refine g_iconst (1) dX7_odds_11 rfl ?_
    refine g_bipush (40) dX7_odds_12 rfl ?_
    refine gs_calli (n := 3) (c_in ) (lw_S q1405 q1406 q92 q1407) (by decide +kernel) rfl rfl (by decide) ⟨Nat.le_refl _, Nat.le_refl _⟩ (Nat.le_of_ble_eq_true rfl) dX7_odds_14 ?_
    refine g_if_eq 40 dX7_odds_17 (by decide) (fun h9 => absurd h9 h2) (fun _ => ?_)
    refine g_iload_n dX7_odds_20 rfl ?_
    refine g_iconst (0) dX7_odds_21 rfl ?_
    refine g_bipush (16) dX7_odds_22 rfl ?_
    refine gs_calli (n := 3) (c_in ) (lw_S q1405 q1406 q92 q1407) (by decide +kernel) rfl rfl (by decide) ⟨Nat.le_refl _, Nat.le_refl _⟩ (Nat.le_of_ble_eq_true rfl) dX7_odds_24 ?_
    refine g_if_eq 40 dX7_odds_27 (by decide) (fun _ => ?_) (fun h9 => absurd h3 h9)
    refine g_ldc2 q1715 dX7_odds_40 ?_
    refine g_lret rfl (Nat.le_refl _) (Nat.le_refl _) ?_ dX7_odds_43
    exact same (by rw [oddsF, if_pos (Or.inr (Or.inr (Or.inl h3)))])
  by_cases h4 : inI w 0 1 = 0
  · refine g_iload_n dX7_odds_0 rfl ?_
    refine g_iconst (0) dX7_odds_1 rfl ?_
    refine g_ldc q1763 dX7_odds_2 ?_
    refine gs_calli (n := 3) (c_in ) (lw_S q1405 q1406 q92 q1407) (by decide +kernel) rfl rfl (by decide) ⟨Nat.le_refl _, Nat.le_refl _⟩ (Nat.le_of_ble_eq_true rfl) dX7_odds_4 ?_
    refine g_if_eq 40 dX7_odds_7 (by decide) (fun h9 => absurd h9 h1) (fun _ => ?_)
    refine g_iload_n dX7_odds_10 rfl ?_
    refine g_iconst (1) dX7_odds_11 rfl ?_
    refine g_bipush (40) dX7_odds_12 rfl ?_
    refine gs_calli (n := 3) (c_in ) (lw_S q1405 q1406 q92 q1407) (by decide +kernel) rfl rfl (by decide) ⟨Nat.le_refl _, Nat.le_refl _⟩ (Nat.le_of_ble_eq_true rfl) dX7_odds_14 ?_
    refine g_if_eq 40 dX7_odds_17 (by decide) (fun h9 => absurd h9 h2) (fun _ => ?_)
    refine g_iload_n dX7_odds_20 rfl ?_
    refine g_iconst (0) dX7_odds_21 rfl ?_
    refine g_bipush (16) dX7_odds_22 rfl ?_
    refine gs_calli (n := 3) (c_in ) (lw_S q1405 q1406 q92 q1407) (by decide +kernel) rfl rfl (by decide) ⟨Nat.le_refl _, Nat.le_refl _⟩ (Nat.le_of_ble_eq_true rfl) dX7_odds_24 ?_
    refine g_if_eq 40 dX7_odds_27 (by decide) (fun h9 => absurd h9 h3) (fun _ => ?_)
    refine g_iload dX7_odds_30 rfl ?_
    refine g_iconst (0) dX7_odds_32 rfl ?_
    refine g_iconst (1) dX7_odds_33 rfl ?_
    refine gs_calli (n := 3) (c_in ) (lw_S q1405 q1406 q92 q1407) (by decide +kernel) rfl rfl (by decide) ⟨Nat.le_refl _, Nat.le_refl _⟩ (Nat.le_of_ble_eq_true rfl) dX7_odds_34 ?_
    refine g_if_ne 44 dX7_odds_37 (by decide) (fun h9 => absurd h4 h9) (fun _ => ?_)
    refine g_ldc2 q1715 dX7_odds_40 ?_
    refine g_lret rfl (Nat.le_refl _) (Nat.le_refl _) ?_ dX7_odds_43
    exact same (by rw [oddsF, if_pos (Or.inr (Or.inr (Or.inr h4)))])
  obtain ⟨sd, hsd, rfl⟩ := in_ix (m := 99999) (by decide) h1
  have h2' : ¬ inI m 0 40 = 0 := by
    unfold inI at *
    by_cases hq : 1 ≤ m ∧ m ≤ 40
    · rw [if_pos ⟨Int32.le_trans (by decide) hq.1, hq.2⟩]; decide
    · rw [if_neg hq] at h2; exact absurd rfl h2
  obtain ⟨m, hm, rfl⟩ := in_ix (m := 40) (by decide) h2'
  rw [oddsF, if_neg (fun h => h.elim h1 (fun h => h.elim h2 (fun h => h.elim h3 h4))), show cn (nI sd) = sd from nI_clamp (by omega), show cn (nI m) = m from nI_clamp (by omega)]
  refine g_iload_n dX7_odds_0 rfl ?_
  refine g_iconst (0) dX7_odds_1 rfl ?_
  refine g_ldc q1763 dX7_odds_2 ?_
  refine gs_calli (n := 3) (c_in ) (lw_S q1405 q1406 q92 q1407) (by decide +kernel) rfl rfl (by decide) ⟨Nat.le_refl _, Nat.le_refl _⟩ (Nat.le_of_ble_eq_true rfl) dX7_odds_4 ?_
  refine g_if_eq 40 dX7_odds_7 (by decide) (fun h9 => absurd h9 h1) (fun _ => ?_)
  refine g_iload_n dX7_odds_10 rfl ?_
  refine g_iconst (1) dX7_odds_11 rfl ?_
  refine g_bipush (40) dX7_odds_12 rfl ?_
  refine gs_calli (n := 3) (c_in ) (lw_S q1405 q1406 q92 q1407) (by decide +kernel) rfl rfl (by decide) ⟨Nat.le_refl _, Nat.le_refl _⟩ (Nat.le_of_ble_eq_true rfl) dX7_odds_14 ?_
  refine g_if_eq 40 dX7_odds_17 (by decide) (fun h9 => absurd h9 h2) (fun _ => ?_)
  refine g_iload_n dX7_odds_20 rfl ?_
  refine g_iconst (0) dX7_odds_21 rfl ?_
  refine g_bipush (16) dX7_odds_22 rfl ?_
  refine gs_calli (n := 3) (c_in ) (lw_S q1405 q1406 q92 q1407) (by decide +kernel) rfl rfl (by decide) ⟨Nat.le_refl _, Nat.le_refl _⟩ (Nat.le_of_ble_eq_true rfl) dX7_odds_24 ?_
  refine g_if_eq 40 dX7_odds_27 (by decide) (fun h9 => absurd h9 h3) (fun _ => ?_)
  refine g_iload dX7_odds_30 rfl ?_
  refine g_iconst (0) dX7_odds_32 rfl ?_
  refine g_iconst (1) dX7_odds_33 rfl ?_
  refine gs_calli (n := 3) (c_in ) (lw_S q1405 q1406 q92 q1407) (by decide +kernel) rfl rfl (by decide) ⟨Nat.le_refl _, Nat.le_refl _⟩ (Nat.le_of_ble_eq_true rfl) dX7_odds_34 ?_
  refine g_if_ne 44 dX7_odds_37 (by decide) (fun _ => ?_) (fun h9 => absurd h9 h4)
  refine g_lconst 0 dX7_odds_44 rfl ?_
  refine g_lstore (L' := [(5, _), (0, _), (1, _), (2, _), (3, _), (4, _)]) dX7_odds_45 (by decide) rfl ?_
  refine g_iconst (0) dX7_odds_47 rfl ?_
  refine g_istore (L' := [(7, _), (5, _), (0, _), (1, _), (2, _), (3, _), (4, _)]) dX7_odds_48 (by decide) rfl ?_
  have h := l_odds (g := g) (b := b) (z := z) (F := F) (A := A) (ω0 := ω0) (c := c) (sd := sd) (le := le) (w := w) hN hE (by omega) hm m 0 0 (F 33) (A 30) A2 (by omega) (by omega) rfl
  rw [upd_self, sA_self] at h
  exact h
end A
