/-! the reference's public methods, those without a loop -/
set_option maxRecDepth 100000
abbrev R4 : Type := Int32 × (Nat → Int32) × (Nat → Nat → Int32) × Cr
def mP (g : GE) (b : Nat) (ω0 : Om) (z : Nat) (o : R4) : Option Value → Om → Nat → Prop := mQ g b ω0 z (some (.int o.1)) (mF o.2.1 o.2.2.2) (mA o.2.2.1 o.2.2.2)
theorem mP.of {g : GE} {b : Nat} {ω0 : Om} {z : Nat} {o : R4} {r : Int32} {F : Nat → Int32} {A A2 : Nat → Nat → Int32} {c : Cr} (h : o = (r, F, A, c)) : mP g b ω0 z o (some (.int r)) (hM g b (mF F c) (mA A c) A2 ω0) z := by
  subst h; exact mQ.mk
abbrev cn (x : Int32) : Nat := x.toNatClampNeg
theorem in_yes {v lo hi : Int32} (h : lo ≤ v ∧ v ≤ hi) : inI v lo hi = 1 := if_pos h
theorem in_1 {v lo hi : Int32} (h : ¬ inI v lo hi = 0) : inI v lo hi = 1 := by
  unfold inI at *; split <;> rename_i h2
  · rfl
  · rw [if_neg h2] at h; exact absurd rfl h
theorem in_ix {v hi : Int32} {m : Nat} (hm : hi.toInt = m) (h : ¬ inI v 0 hi = 0) : ∃ k : Nat, k ≤ m ∧ v = nI k := by
  have h1 : 0 ≤ v ∧ v ≤ hi := by
    unfold inI at h; split at h
    · assumption
    · exact absurd rfl h
  exact nI_of2 hm (Int32.not_lt.mpr h1.1) h1.2
theorem in_no {k m : Nat} {hi : Int32} (hm : hi.toInt = m) (hk : k ≤ m) (hm2 : m < 2 ^ 31) : inI (nI k) 0 hi = 1 := by
  refine if_pos ⟨nI_pos' (by omega), ?_⟩
  rw [Int32.le_iff_toInt_le, nI_toInt (by omega), hm]
  omega
theorem one_ix {p f : Int32} {n : Nat} (hn : f = nI n) (hn6 : n ≤ 6) (h : ¬ inI p 0 (f - 1) = 0) : ∃ k : Nat, k < n ∧ p = nI k := by
  have h1 : 0 ≤ p ∧ p ≤ f - 1 := by
    unfold inI at h; split at h
    · assumption
    · exact absurd rfl h
  subst hn
  match n, hn6 with
  | 0, _ => exact absurd (Int32.le_trans h1.1 h1.2) (by decide)
  | m + 1, h6 =>
    rw [nI_pred] at h1
    obtain ⟨k, hk, rfl⟩ := nI_of2 (M := nI m) (n := m) (nI_toInt (by omega)) (Int32.not_lt.mpr h1.1) h1.2
    exact ⟨k, by omega, rfl⟩
theorem one_yes {f : Int32} {n k : Nat} (hn : f = nI n) (hn6 : n ≤ 6) (hk : k < n) : inI (nI k) 0 (f - 1) = 1 := by
  subst hn
  match n, hk, hn6 with
  | m + 1, hk, h6 =>
    rw [nI_pred]
    exact if_pos ⟨nI_pos' (by omega), nI_le (by omega) (by omega)⟩
/-- of a number: one of them, by its place, or none -/
theorem one_or (p : Int32) {f : Int32} {n : Nat} (hn : f = nI n) (hn6 : n ≤ 6) : inI p 0 (f - 1) = 0 ∨ ∃ k : Nat, k < n ∧ p = nI k ∧ inI p 0 (f - 1) = 1 := by
  by_cases h : inI p 0 (f - 1) = 0
  · exact Or.inl h
  · obtain ⟨k, hk, he⟩ := one_ix hn hn6 h
    exact Or.inr ⟨k, hk, he, in_1 h⟩
theorem in_or (p : Int32) {hi : Int32} {m : Nat} (hm : hi.toInt = m) : inI p 0 hi = 0 ∨ ∃ k : Nat, k ≤ m ∧ p = nI k ∧ inI p 0 hi = 1 := by
  by_cases h : inI p 0 hi = 0
  · exact Or.inl h
  · obtain ⟨k, hk, he⟩ := in_ix hm h
    exact Or.inr ⟨k, hk, he, in_1 h⟩
section D
variable (F : Nat → Int32) (A : Nat → Nat → Int32) (n : Nat) (ts : Nat → List Int32) (c : Cr)
def countF (w : Int32) : R4 := (if w = 0 then F 0 else if w = 1 then bits c.2.1 else if w = 2 then c.2.2 else if w = 3 then F 10 else if w = 4 then F 11 else if w = 5 then F 7 else -2, F, A, c)
def shoreF (w v : Int32) : R4 := if inI w 0 1 = 0 ∨ inI v 0 (if w = 0 then 999 else 65535) = 0 then (-2, F, A, c) else if w = 0 then (c.2.2, F, A, (c.1, c.2.1, v)) else (c.2.1, F, A, (c.1, v, c.2.2))
def forceF (t : Int32) : R4 := if inI t 0 (F 10 - 1) = 0 then (-2, F, A, c) else (F 11, upd F 11 t, A, c)
def asksP (k p t : Int32) : R4 := (if inI k 0 2 = 0 ∨ inI p 0 (F 0 - 1) = 0 ∨ inI t 0 15 = 0 then -1000 else asksF (eM A n ts) c (cn k) (cn p) t, F, A, c)
def fisherF (km kn : Int32) : R4 := if inI km 0 59 = 0 ∨ inI kn 0 65535 = 0 then (-2, F, A, c) else if F 0 = 6 then (-4, F, A, c) else
  (F 0 + 1 - 1, upd F 0 (F 0 + 1), sA (sA A 1 (upd (A 1) (cn (F 0)) (km / 10))) 2 (upd (A 2) (cn (F 0)) (rem km 10)), (upd (upd (upd c.1 (3 * cn (F 0)) kn) (3 * cn (F 0) + 1) 0) (3 * cn (F 0) + 2) 50, c.2.1, c.2.2))
def putF (p w v : Int32) : R4 := if inI p 0 (F 0 - 1) = 0 then (-5, F, A, c) else if inI w 0 2 = 0 ∨ inI v 0 (if w = 2 then 99 else 65535) = 0 then (-7, F, A, c) else (c.1 (3 * cn p + cn w), F, A, (upd c.1 (3 * cn p + cn w) v, c.2.1, c.2.2))
def toldF (p w : Int32) : R4 := (if inI p 0 (F 0 - 1) = 0 then -5 else if w = 0 ∨ w = 1 ∨ w = 2 then c.1 (3 * cn p + cn w) else if w = 3 then A 1 (cn p) else if w = 4 then A 2 (cn p) else if w = 5 then c.1 (3 * cn p + 1) &&& (c.1 (3 * cn p) ^^^ -1) else if w = 6 then takesF (eM A n ts) c (cn p) else -7, F, A, c)
def landsF (p t w : Int32) : R4 := (if inI p 0 (F 0 - 1) = 0 ∨ inI t 0 15 = 0 then -5000 else if inI w 0 1 = 0 then -7000 else if w = 0 then letsF (eM A n ts) c (cn p) t else lucksF (eM A n ts) c (cn p) t, F, A, c)
def landP (p t : Int32) : R4 := if inI p 0 (F 0 - 1) = 0 then (-5, F, A, c) else if inI t 0 15 = 0 then (-6, F, A, c) else (letsF (eM A n ts) c (cn p) t, F, A, landF (eM A n ts) c (cn p) t)
def teachP (p q : Int32) : R4 := if inI p 0 (F 0 - 1) = 0 ∨ inI q 0 (F 0 - 1) = 0 ∨ p = q then (-5, F, A, c) else (lesF (eM A n ts) c (cn p) (cn q), F, A, lesC (eM A n ts) c (cn p) (cn q))
def tideP : R4 := if c.2.2 = 999 then (-3, F, A, c) else (tideN n c, F, A, tideC n c)
def isUnd (k o : Int32) : Int32 := if o = 0 ∨ k = o ∨ (o = 1 ∧ k = 3) ∨ (o = 2 ∧ k = 4) then 1 else 0
def takenF (i k : Int32) : R4 := (if inI k 0 6 = 0 then -2 else if inI i 0 11 = 0 then -12 else if rem i 6 < F 0 then (if i < 6 then (if 6 ≤ k then -13 else if isUnd (A 1 (cn i)) k = 0 then -13 else i) else (if k = 6 then c.1 (3 * cn (i - 6)) else -13)) else -11, F, A, c)
end D
section A
variable {g : GE} {b z n : Nat} {F : Nat → Int32} {A A2 : Nat → Nat → Int32} {ω0 : Om} {ts : Nat → List Int32} {c : Cr}
theorem c_count {w : Int32} : Ct g yX7_count cX7_count 2 (some .int) 2 0 0 [.ref b, .int w] (hM g b (mF F c) (mA A c) A2 ω0) z (mP g b ω0 z (countF F A c w)) := by
  refine Ct.at (own := RX7) (by decide) rfl (Nat.le_of_ble_eq_true rfl) rfl ?_
  refine g_iload_n dX7_count_0 rfl ?_
  refine g_tsw [40, 45, 53, 58, 63, 68] 73 dX7_count_1 (by decide) (by decide) (by decide) (fun j t => ?_) (fun hx => ?_)
  · match j with
    | 0 =>
      intro ht hx; cases ht
      replace hx := hx.trans (show Int32.ofInt ((0) + ((0 : Nat) : Int)) = 0 by decide)
      refine g_aload_n dX7_count_40 rfl ?_
      refine mgc_fishers dX7_count_41 ?_
      refine g_iret rfl (Nat.le_refl _) (Nat.le_refl _) ?_ dX7_count_44
      first | (subst hx; exact mP.of rfl) | exact mP.of (by unfold countF; rw [if_neg (tsw_ne hx 0 (by decide)), if_neg (tsw_ne hx 1 (by decide)), if_neg (tsw_ne hx 2 (by decide)), if_neg (tsw_ne hx 3 (by decide)), if_neg (tsw_ne hx 4 (by decide)), if_neg (tsw_ne hx 5 (by decide))])
    | 1 =>
      intro ht hx; cases ht
      replace hx := hx.trans (show Int32.ofInt ((0) + ((1 : Nat) : Int)) = 1 by decide)
      refine g_aload_n dX7_count_45 rfl ?_
      refine mgc_sea dX7_count_46 ?_
      refine gs_calli (n := 1) (c_bitsOf ) (lw_S q1551 q1552 q92 q1553) (by decide +kernel) rfl rfl (by decide) ⟨Nat.le_refl _, Nat.le_refl _⟩ (Nat.le_of_ble_eq_true rfl) dX7_count_49 ?_
      refine g_iret rfl (Nat.le_refl _) (Nat.le_refl _) ?_ dX7_count_52
      first | (subst hx; exact mP.of rfl) | exact mP.of (by unfold countF; rw [if_neg (tsw_ne hx 0 (by decide)), if_neg (tsw_ne hx 1 (by decide)), if_neg (tsw_ne hx 2 (by decide)), if_neg (tsw_ne hx 3 (by decide)), if_neg (tsw_ne hx 4 (by decide)), if_neg (tsw_ne hx 5 (by decide))])
    | 2 =>
      intro ht hx; cases ht
      replace hx := hx.trans (show Int32.ofInt ((0) + ((2 : Nat) : Int)) = 2 by decide)
      refine g_aload_n dX7_count_53 rfl ?_
      refine mgc_tides dX7_count_54 ?_
      refine g_iret rfl (Nat.le_refl _) (Nat.le_refl _) ?_ dX7_count_57
      first | (subst hx; exact mP.of rfl) | exact mP.of (by unfold countF; rw [if_neg (tsw_ne hx 0 (by decide)), if_neg (tsw_ne hx 1 (by decide)), if_neg (tsw_ne hx 2 (by decide)), if_neg (tsw_ne hx 3 (by decide)), if_neg (tsw_ne hx 4 (by decide)), if_neg (tsw_ne hx 5 (by decide))])
    | 3 =>
      intro ht hx; cases ht
      replace hx := hx.trans (show Int32.ofInt ((0) + ((3 : Nat) : Int)) = 3 by decide)
      refine g_aload_n dX7_count_58 rfl ?_
      refine mgc_texts dX7_count_59 ?_
      refine g_iret rfl (Nat.le_refl _) (Nat.le_refl _) ?_ dX7_count_62
      first | (subst hx; exact mP.of rfl) | exact mP.of (by unfold countF; rw [if_neg (tsw_ne hx 0 (by decide)), if_neg (tsw_ne hx 1 (by decide)), if_neg (tsw_ne hx 2 (by decide)), if_neg (tsw_ne hx 3 (by decide)), if_neg (tsw_ne hx 4 (by decide)), if_neg (tsw_ne hx 5 (by decide))])
    | 4 =>
      intro ht hx; cases ht
      replace hx := hx.trans (show Int32.ofInt ((0) + ((4 : Nat) : Int)) = 4 by decide)
      refine g_aload_n dX7_count_63 rfl ?_
      refine mgc_rule dX7_count_64 ?_
      refine g_iret rfl (Nat.le_refl _) (Nat.le_refl _) ?_ dX7_count_67
      first | (subst hx; exact mP.of rfl) | exact mP.of (by unfold countF; rw [if_neg (tsw_ne hx 0 (by decide)), if_neg (tsw_ne hx 1 (by decide)), if_neg (tsw_ne hx 2 (by decide)), if_neg (tsw_ne hx 3 (by decide)), if_neg (tsw_ne hx 4 (by decide)), if_neg (tsw_ne hx 5 (by decide))])
    | 5 =>
      intro ht hx; cases ht
      replace hx := hx.trans (show Int32.ofInt ((0) + ((5 : Nat) : Int)) = 5 by decide)
      refine g_aload_n dX7_count_68 rfl ?_
      refine mgc_taped dX7_count_69 ?_
      refine g_iret rfl (Nat.le_refl _) (Nat.le_refl _) ?_ dX7_count_72
      first | (subst hx; exact mP.of rfl) | exact mP.of (by unfold countF; rw [if_neg (tsw_ne hx 0 (by decide)), if_neg (tsw_ne hx 1 (by decide)), if_neg (tsw_ne hx 2 (by decide)), if_neg (tsw_ne hx 3 (by decide)), if_neg (tsw_ne hx 4 (by decide)), if_neg (tsw_ne hx 5 (by decide))])
    | j + 6 => intro ht hx; simp at ht
  · refine g_bipush (-2) dX7_count_73 rfl ?_
    refine g_iret rfl (Nat.le_refl _) (Nat.le_refl _) ?_ dX7_count_75
    first | (subst hx; exact mP.of rfl) | exact mP.of (by unfold countF; rw [if_neg (tsw_ne hx 0 (by decide)), if_neg (tsw_ne hx 1 (by decide)), if_neg (tsw_ne hx 2 (by decide)), if_neg (tsw_ne hx 3 (by decide)), if_neg (tsw_ne hx 4 (by decide)), if_neg (tsw_ne hx 5 (by decide))])
theorem c_shore {w v : Int32} (hN : gN g ≤ b) : Ct g yX7_shore cX7_shore 4 (some .int) 2 0 0 [.ref b, .int w, .int v] (hM g b (mF F c) (mA A c) A2 ω0) z (mP g b ω0 z (shoreF F A c w v)) := by
  refine Ct.at (own := RX7) (by decide) rfl (Nat.le_of_ble_eq_true rfl) rfl ?_
  refine g_iload_n dX7_shore_0 rfl ?_
  refine g_iconst (0) dX7_shore_1 rfl ?_
  refine g_iconst (1) dX7_shore_2 rfl ?_
  refine gs_calli (n := 3) (c_in ) (lw_S q1405 q1406 q92 q1407) (by decide +kernel) rfl rfl (by decide) ⟨Nat.le_refl _, Nat.le_refl _⟩ (Nat.le_of_ble_eq_true rfl) dX7_shore_3 ?_
  refine g_if_eq 29 dX7_shore_6 (by decide) (fun c1 => ?_) (fun c1 => ?_)
  · refine g_bipush (-2) dX7_shore_29 rfl ?_
    refine g_iret rfl (Nat.le_refl _) (Nat.le_refl _) ?_ dX7_shore_31
    first | exact mP.of (by simp_all [shoreF]) | (exfalso; simp_all; done)
  · refine g_iload_n dX7_shore_9 rfl ?_
    refine g_iconst (0) dX7_shore_10 rfl ?_
    refine g_iload_n dX7_shore_11 rfl ?_
    refine g_if_ne 21 dX7_shore_12 (by decide) (fun c2 => ?_) (fun c2 => ?_)
    · refine g_ldc q1558 dX7_shore_21 ?_
      refine gs_calli (n := 3) (c_in ) (lw_S q1405 q1406 q92 q1407) (by decide +kernel) rfl rfl (by decide) ⟨Nat.le_refl _, Nat.le_refl _⟩ (Nat.le_of_ble_eq_true rfl) dX7_shore_23 ?_
      refine g_if_ne 32 dX7_shore_26 (by decide) (fun c3 => ?_) (fun c3 => ?_)
      · refine g_iload_n dX7_shore_32 rfl ?_
        refine g_if_ne 43 dX7_shore_33 (by decide) (fun c4 => ?_) (fun c4 => ?_)
        · refine g_aload_n dX7_shore_43 rfl ?_
          refine mgc_sea dX7_shore_44 ?_
          refine g_istore_n (L' := [(3, _), (0, _), (1, _), (2, _)]) dX7_shore_47 (by decide) rfl ?_
          refine g_iload_n dX7_shore_48 rfl ?_
          refine g_if_ne 60 dX7_shore_49 (by decide) (fun c5 => ?_) (fun c5 => ?_)
          · refine g_aload_n dX7_shore_60 rfl ?_
            refine g_iload_n dX7_shore_61 rfl ?_
            refine mpc_sea hN  dX7_shore_62 ?_
            refine g_iload_n dX7_shore_65 rfl ?_
            refine g_iret rfl (Nat.le_refl _) (Nat.le_refl _) ?_ dX7_shore_66
            first | exact mP.of (by simp_all [shoreF]) | (exfalso; simp_all; done)
          · refine g_aload_n dX7_shore_52 rfl ?_
            refine g_iload_n dX7_shore_53 rfl ?_
            refine mpc_tides hN  dX7_shore_54 ?_
            refine g_goto 65 dX7_shore_57 (by decide) ?_
            refine g_iload_n dX7_shore_65 rfl ?_
            refine g_iret rfl (Nat.le_refl _) (Nat.le_refl _) ?_ dX7_shore_66
            first | exact mP.of (by simp_all [shoreF]) | (exfalso; simp_all; done)
        · refine g_aload_n dX7_shore_36 rfl ?_
          refine mgc_tides dX7_shore_37 ?_
          refine g_goto 47 dX7_shore_40 (by decide) ?_
          refine g_istore_n (L' := [(3, _), (0, _), (1, _), (2, _)]) dX7_shore_47 (by decide) rfl ?_
          refine g_iload_n dX7_shore_48 rfl ?_
          refine g_if_ne 60 dX7_shore_49 (by decide) (fun c5 => ?_) (fun c5 => ?_)
          · refine g_aload_n dX7_shore_60 rfl ?_
            refine g_iload_n dX7_shore_61 rfl ?_
            refine mpc_sea hN  dX7_shore_62 ?_
            refine g_iload_n dX7_shore_65 rfl ?_
            refine g_iret rfl (Nat.le_refl _) (Nat.le_refl _) ?_ dX7_shore_66
            first | exact mP.of (by simp_all [shoreF]) | (exfalso; simp_all; done)
          · refine g_aload_n dX7_shore_52 rfl ?_
            refine g_iload_n dX7_shore_53 rfl ?_
            refine mpc_tides hN  dX7_shore_54 ?_
            refine g_goto 65 dX7_shore_57 (by decide) ?_
            refine g_iload_n dX7_shore_65 rfl ?_
            refine g_iret rfl (Nat.le_refl _) (Nat.le_refl _) ?_ dX7_shore_66
            first | exact mP.of (by simp_all [shoreF]) | (exfalso; simp_all; done)
      · refine g_bipush (-2) dX7_shore_29 rfl ?_
        refine g_iret rfl (Nat.le_refl _) (Nat.le_refl _) ?_ dX7_shore_31
        first | exact mP.of (by simp_all [shoreF]) | (exfalso; simp_all; done)
    · refine g_sipush (999) dX7_shore_15 rfl ?_
      refine g_goto 23 dX7_shore_18 (by decide) ?_
      refine gs_calli (n := 3) (c_in ) (lw_S q1405 q1406 q92 q1407) (by decide +kernel) rfl rfl (by decide) ⟨Nat.le_refl _, Nat.le_refl _⟩ (Nat.le_of_ble_eq_true rfl) dX7_shore_23 ?_
      refine g_if_ne 32 dX7_shore_26 (by decide) (fun c3 => ?_) (fun c3 => ?_)
      · refine g_iload_n dX7_shore_32 rfl ?_
        refine g_if_ne 43 dX7_shore_33 (by decide) (fun c4 => ?_) (fun c4 => ?_)
        · refine g_aload_n dX7_shore_43 rfl ?_
          refine mgc_sea dX7_shore_44 ?_
          refine g_istore_n (L' := [(3, _), (0, _), (1, _), (2, _)]) dX7_shore_47 (by decide) rfl ?_
          refine g_iload_n dX7_shore_48 rfl ?_
          refine g_if_ne 60 dX7_shore_49 (by decide) (fun c5 => ?_) (fun c5 => ?_)
          · refine g_aload_n dX7_shore_60 rfl ?_
            refine g_iload_n dX7_shore_61 rfl ?_
            refine mpc_sea hN  dX7_shore_62 ?_
            refine g_iload_n dX7_shore_65 rfl ?_
            refine g_iret rfl (Nat.le_refl _) (Nat.le_refl _) ?_ dX7_shore_66
            first | exact mP.of (by simp_all [shoreF]) | (exfalso; simp_all; done)
          · refine g_aload_n dX7_shore_52 rfl ?_
            refine g_iload_n dX7_shore_53 rfl ?_
            refine mpc_tides hN  dX7_shore_54 ?_
            refine g_goto 65 dX7_shore_57 (by decide) ?_
            refine g_iload_n dX7_shore_65 rfl ?_
            refine g_iret rfl (Nat.le_refl _) (Nat.le_refl _) ?_ dX7_shore_66
            first | exact mP.of (by simp_all [shoreF]) | (exfalso; simp_all; done)
        · refine g_aload_n dX7_shore_36 rfl ?_
          refine mgc_tides dX7_shore_37 ?_
          refine g_goto 47 dX7_shore_40 (by decide) ?_
          refine g_istore_n (L' := [(3, _), (0, _), (1, _), (2, _)]) dX7_shore_47 (by decide) rfl ?_
          refine g_iload_n dX7_shore_48 rfl ?_
          refine g_if_ne 60 dX7_shore_49 (by decide) (fun c5 => ?_) (fun c5 => ?_)
          · refine g_aload_n dX7_shore_60 rfl ?_
            refine g_iload_n dX7_shore_61 rfl ?_
            refine mpc_sea hN  dX7_shore_62 ?_
            refine g_iload_n dX7_shore_65 rfl ?_
            refine g_iret rfl (Nat.le_refl _) (Nat.le_refl _) ?_ dX7_shore_66
            first | exact mP.of (by simp_all [shoreF]) | (exfalso; simp_all; done)
          · refine g_aload_n dX7_shore_52 rfl ?_
            refine g_iload_n dX7_shore_53 rfl ?_
            refine mpc_tides hN  dX7_shore_54 ?_
            refine g_goto 65 dX7_shore_57 (by decide) ?_
            refine g_iload_n dX7_shore_65 rfl ?_
            refine g_iret rfl (Nat.le_refl _) (Nat.le_refl _) ?_ dX7_shore_66
            first | exact mP.of (by simp_all [shoreF]) | (exfalso; simp_all; done)
      · refine g_bipush (-2) dX7_shore_29 rfl ?_
        refine g_iret rfl (Nat.le_refl _) (Nat.le_refl _) ?_ dX7_shore_31
        first | exact mP.of (by simp_all [shoreF]) | (exfalso; simp_all; done)
theorem c_force {t : Int32} (hN : gN g ≤ b) : Ct g yX7_force cX7_force 3 (some .int) 2 0 0 [.ref b, .int t] (hM g b (mF F c) (mA A c) A2 ω0) z (mP g b ω0 z (forceF F A c t)) := by
  refine Ct.at (own := RX7) (by decide) rfl (Nat.le_of_ble_eq_true rfl) rfl ?_
  refine g_iload_n dX7_force_0 rfl ?_
  refine g_iconst (0) dX7_force_1 rfl ?_
  refine g_aload_n dX7_force_2 rfl ?_
  refine mgc_texts dX7_force_3 ?_
  refine g_iconst (1) dX7_force_6 rfl ?_
  refine g_isub dX7_force_7 ?_
  refine gs_calli (n := 3) (c_in ) (lw_S q1405 q1406 q92 q1407) (by decide +kernel) rfl rfl (by decide) ⟨Nat.le_refl _, Nat.le_refl _⟩ (Nat.le_of_ble_eq_true rfl) dX7_force_8 ?_
  refine g_if_ne 17 dX7_force_11 (by decide) (fun c1 => ?_) (fun c1 => ?_)
  · refine g_aload_n dX7_force_17 rfl ?_
    refine mgc_rule dX7_force_18 ?_
    refine g_istore_n (L' := [(2, _), (0, _), (1, _)]) dX7_force_21 (by decide) rfl ?_
    refine g_aload_n dX7_force_22 rfl ?_
    refine g_iload_n dX7_force_23 rfl ?_
    refine mpc_rule hN  dX7_force_24 ?_
    refine g_iload_n dX7_force_27 rfl ?_
    refine g_iret rfl (Nat.le_refl _) (Nat.le_refl _) ?_ dX7_force_28
    exact mP.of (by simp_all [forceF])
  · refine g_bipush (-2) dX7_force_14 rfl ?_
    refine g_iret rfl (Nat.le_refl _) (Nat.le_refl _) ?_ dX7_force_16
    exact mP.of (by simp_all [forceF])
theorem c_asks {k p t : Int32} (hN : gN g ≤ b) (hE : EnM F A n ts) : Ct g yX7_asks cX7_asks 4 (some .int) 4 0 0 [.ref b, .int k, .int p, .int t] (hM g b (mF F c) (mA A c) A2 ω0) z (mP g b ω0 z (asksP F A n ts c k p t)) := by
  refine Ct.at (own := RX7) (by decide) rfl (Nat.le_of_ble_eq_true rfl) rfl ?_
  rcases in_or k (hi := 2) (m := 2) (by decide) with h0 | ⟨k, hk, rfl, h0⟩
  · refine g_iload_n dX7_asks_0 rfl ?_
    refine g_iconst (0) dX7_asks_1 rfl ?_
    refine g_iconst (2) dX7_asks_2 rfl ?_
    refine gs_calli (n := 3) (c_in ) (lw_S q1405 q1406 q92 q1407) (by decide +kernel) rfl rfl (by decide) ⟨Nat.le_refl _, Nat.le_refl _⟩ (Nat.le_of_ble_eq_true rfl) dX7_asks_3 ?_
    refine g_if_eq 34 dX7_asks_6 (by decide) (fun _ => ?_) (fun h9 => absurd h0 h9)
    refine g_sipush (-1000) dX7_asks_34 rfl ?_
    refine g_iret rfl (Nat.le_refl _) (Nat.le_refl _) ?_ dX7_asks_37
    exact mP.of (by simp [asksP, h0])
  · rcases one_or p hE.1 hE.2.1 with h1 | ⟨p, hp, rfl, h1⟩
    · refine g_iload_n dX7_asks_0 rfl ?_
      refine g_iconst (0) dX7_asks_1 rfl ?_
      refine g_iconst (2) dX7_asks_2 rfl ?_
      refine gs_calli (n := 3) (c_in ) (lw_S q1405 q1406 q92 q1407) (by decide +kernel) rfl rfl (by decide) ⟨Nat.le_refl _, Nat.le_refl _⟩ (Nat.le_of_ble_eq_true rfl) dX7_asks_3 ?_
      refine g_if_eq 34 dX7_asks_6 (by decide) (fun h9 => absurd h9 (by rw [h0]; decide)) (fun _ => ?_)
      refine g_aload_n dX7_asks_9 rfl ?_
      refine g_iload_n dX7_asks_10 rfl ?_
      refine gm_calli (n := 1) (c_isOne ) (lw_V q1575 q1577 qs46 q92 q1578) (by decide +kernel) rfl rfl (by decide) ⟨Nat.le_refl _, Nat.le_refl _⟩ (Nat.le_of_ble_eq_true rfl) dX7_asks_11 (fun A2 => ?_)
      refine g_if_eq 34 dX7_asks_14 (by decide) (fun _ => ?_) (fun h9 => absurd h1 h9)
      refine g_sipush (-1000) dX7_asks_34 rfl ?_
      refine g_iret rfl (Nat.le_refl _) (Nat.le_refl _) ?_ dX7_asks_37
      exact mP.of (by simp [asksP, h0, h1])
    · refine g_iload_n dX7_asks_0 rfl ?_
      refine g_iconst (0) dX7_asks_1 rfl ?_
      refine g_iconst (2) dX7_asks_2 rfl ?_
      refine gs_calli (n := 3) (c_in ) (lw_S q1405 q1406 q92 q1407) (by decide +kernel) rfl rfl (by decide) ⟨Nat.le_refl _, Nat.le_refl _⟩ (Nat.le_of_ble_eq_true rfl) dX7_asks_3 ?_
      refine g_if_eq 34 dX7_asks_6 (by decide) (fun h9 => absurd h9 (by rw [h0]; decide)) (fun _ => ?_)
      refine g_aload_n dX7_asks_9 rfl ?_
      refine g_iload_n dX7_asks_10 rfl ?_
      refine gm_calli (n := 1) (c_isOne ) (lw_V q1575 q1577 qs46 q92 q1578) (by decide +kernel) rfl rfl (by decide) ⟨Nat.le_refl _, Nat.le_refl _⟩ (Nat.le_of_ble_eq_true rfl) dX7_asks_11 (fun A2 => ?_)
      refine g_if_eq 34 dX7_asks_14 (by decide) (fun h9 => absurd h9 (by rw [h1]; decide)) (fun _ => ?_)
      refine g_iload_n dX7_asks_17 rfl ?_
      refine gs_calli (n := 1) (c_isThing ) (lw_S q1579 q1580 q92 q1581) (by decide +kernel) rfl rfl (by decide) ⟨Nat.le_refl _, Nat.le_refl _⟩ (Nat.le_of_ble_eq_true rfl) dX7_asks_18 ?_
      refine g_if_eq 34 dX7_asks_21 (by decide) (fun c1 => ?_) (fun c1 => ?_)
      · refine g_sipush (-1000) dX7_asks_34 rfl ?_
        refine g_iret rfl (Nat.le_refl _) (Nat.le_refl _) ?_ dX7_asks_37
        exact mP.of (by simp_all [asksP, nI_clamp (show k < 2 ^ 31 by omega), nI_clamp (show p < 2 ^ 31 by have := hE.2.1; omega)])
      · refine g_aload_n dX7_asks_24 rfl ?_
        refine g_iload_n dX7_asks_25 rfl ?_
        refine g_iload_n dX7_asks_26 rfl ?_
        refine g_iload_n dX7_asks_27 rfl ?_
        refine gm_calli (n := 3) (c_asksOf (n := n) (ts := ts) hN hE (by omega) (by have := hE.2.1; omega)) (lw_V q1582 q1584 qs47 q92 q1585) (by decide +kernel) rfl rfl (by decide) ⟨Nat.le_refl _, Nat.le_refl _⟩ (Nat.le_of_ble_eq_true rfl) dX7_asks_28 (fun A2 => ?_)
        refine g_goto 37 dX7_asks_31 (by decide) ?_
        refine g_iret rfl (Nat.le_refl _) (Nat.le_refl _) ?_ dX7_asks_37
        exact mP.of (by simp_all [asksP, nI_clamp (show k < 2 ^ 31 by omega), nI_clamp (show p < 2 ^ 31 by have := hE.2.1; omega)])
theorem c_fisher {km kn : Int32} (hN : gN g ≤ b) (hn : F 0 = nI n) (hn6 : n ≤ 6) : Ct g yX7_fisher cX7_fisher 3 (some .int) 2 0 0 [.ref b, .int km, .int kn] (hM g b (mF F c) (mA A c) A2 ω0) z (mP g b ω0 z (fisherF F A c km kn)) := by
  refine Ct.at (own := RX7) (by decide) rfl (Nat.le_of_ble_eq_true rfl) rfl ?_
  have hcn : cn (F 0) = n := by rw [hn]; exact nI_clamp (by omega)
  by_cases h6 : n = 6
  · subst h6
    refine g_iload_n dX7_fisher_0 rfl ?_
    refine g_iconst (0) dX7_fisher_1 rfl ?_
    refine g_bipush (59) dX7_fisher_2 rfl ?_
    refine gs_calli (n := 3) (c_in ) (lw_S q1405 q1406 q92 q1407) (by decide +kernel) rfl rfl (by decide) ⟨Nat.le_refl _, Nat.le_refl _⟩ (Nat.le_of_ble_eq_true rfl) dX7_fisher_4 ?_
    refine g_if_eq 20 dX7_fisher_7 (by decide) (fun c1 => ?_) (fun c1 => ?_)
    · refine g_bipush (-2) dX7_fisher_20 rfl ?_
      refine g_iret rfl (Nat.le_refl _) (Nat.le_refl _) ?_ dX7_fisher_22
      exact mP.of (by simp_all [fisherF])
    · refine g_iload_n dX7_fisher_10 rfl ?_
      refine g_iconst (0) dX7_fisher_11 rfl ?_
      refine g_ldc q1558 dX7_fisher_12 ?_
      refine gs_calli (n := 3) (c_in ) (lw_S q1405 q1406 q92 q1407) (by decide +kernel) rfl rfl (by decide) ⟨Nat.le_refl _, Nat.le_refl _⟩ (Nat.le_of_ble_eq_true rfl) dX7_fisher_14 ?_
      refine g_if_ne 23 dX7_fisher_17 (by decide) (fun c2 => ?_) (fun c2 => ?_)
      · refine g_aload_n dX7_fisher_23 rfl ?_
        refine mgc_fishers dX7_fisher_24 ?_
        refine g_bipush (6) dX7_fisher_27 rfl ?_
        refine g_icmp_ne 35 dX7_fisher_29 (by decide) (fun c3 => ?_) (fun c3 => ?_)
        · exact absurd hn c3
        · refine g_bipush (-4) dX7_fisher_32 rfl ?_
          refine g_iret rfl (Nat.le_refl _) (Nat.le_refl _) ?_ dX7_fisher_34
          exact mP.of (by simp_all [fisherF])
      · refine g_bipush (-2) dX7_fisher_20 rfl ?_
        refine g_iret rfl (Nat.le_refl _) (Nat.le_refl _) ?_ dX7_fisher_22
        exact mP.of (by simp_all [fisherF])
  · have h6' : ¬ F 0 = 6 := fun h => h6 ((nI_eq (a := n) (b := 6) (by omega) (by decide)).mp (hn.symm.trans h))
    refine g_iload_n dX7_fisher_0 rfl ?_
    refine g_iconst (0) dX7_fisher_1 rfl ?_
    refine g_bipush (59) dX7_fisher_2 rfl ?_
    refine gs_calli (n := 3) (c_in ) (lw_S q1405 q1406 q92 q1407) (by decide +kernel) rfl rfl (by decide) ⟨Nat.le_refl _, Nat.le_refl _⟩ (Nat.le_of_ble_eq_true rfl) dX7_fisher_4 ?_
    refine g_if_eq 20 dX7_fisher_7 (by decide) (fun c1 => ?_) (fun c1 => ?_)
    · refine g_bipush (-2) dX7_fisher_20 rfl ?_
      refine g_iret rfl (Nat.le_refl _) (Nat.le_refl _) ?_ dX7_fisher_22
      first | (exfalso; exact h6' c3; done) | exact mP.of (by simp_all [fisherF, rem, sA, upd_same]; done) | exact mP.of (by simp_all [fisherF]; rfl)
    · refine g_iload_n dX7_fisher_10 rfl ?_
      refine g_iconst (0) dX7_fisher_11 rfl ?_
      refine g_ldc q1558 dX7_fisher_12 ?_
      refine gs_calli (n := 3) (c_in ) (lw_S q1405 q1406 q92 q1407) (by decide +kernel) rfl rfl (by decide) ⟨Nat.le_refl _, Nat.le_refl _⟩ (Nat.le_of_ble_eq_true rfl) dX7_fisher_14 ?_
      refine g_if_ne 23 dX7_fisher_17 (by decide) (fun c2 => ?_) (fun c2 => ?_)
      · refine g_aload_n dX7_fisher_23 rfl ?_
        refine mgc_fishers dX7_fisher_24 ?_
        refine g_bipush (6) dX7_fisher_27 rfl ?_
        refine g_icmp_ne 35 dX7_fisher_29 (by decide) (fun c3 => ?_) (fun c3 => ?_)
        · refine g_aload_n dX7_fisher_35 rfl ?_
          refine mg_kind dX7_fisher_36 ?_
          refine g_aload_n dX7_fisher_39 rfl ?_
          refine mgc_fishers dX7_fisher_40 ?_
          refine g_iload_n dX7_fisher_43 rfl ?_
          refine g_bipush (10) dX7_fisher_44 rfl ?_
          refine g_idiv dX7_fisher_46 (by decide) ?_
          refine msc_kind (n) hN (by omega) (by first | rfl | (simp only [nI, Int32.ofNat_add, Int32.ofNat_mul, hn]; rfl) | (simp only [nI, Int32.ofNat_add, Int32.ofNat_mul, hn]; done)) dX7_fisher_47 ?_
          refine g_aload_n dX7_fisher_48 rfl ?_
          refine mg_moreOf dX7_fisher_49 ?_
          refine g_aload_n dX7_fisher_52 rfl ?_
          refine mgc_fishers dX7_fisher_53 ?_
          refine g_iload_n dX7_fisher_56 rfl ?_
          refine g_bipush (10) dX7_fisher_57 rfl ?_
          refine g_irem dX7_fisher_59 (by decide) ?_
          refine msc_moreOf (n) hN (by omega) (by first | rfl | (simp only [nI, Int32.ofNat_add, Int32.ofNat_mul, hn]; rfl) | (simp only [nI, Int32.ofNat_add, Int32.ofNat_mul, hn]; done)) dX7_fisher_60 ?_
          refine g_aload_n dX7_fisher_61 rfl ?_
          refine mg_rows dX7_fisher_62 ?_
          refine g_iconst (3) dX7_fisher_65 rfl ?_
          refine g_aload_n dX7_fisher_66 rfl ?_
          refine mgc_fishers dX7_fisher_67 ?_
          refine g_imul dX7_fisher_70 ?_
          refine g_iload_n dX7_fisher_71 rfl ?_
          refine msc_rows ((3 * n)) hN (by omega) (by first | rfl | (simp only [nI, Int32.ofNat_add, Int32.ofNat_mul, hn]; rfl) | (simp only [nI, Int32.ofNat_add, Int32.ofNat_mul, hn]; done)) dX7_fisher_72 ?_
          refine g_aload_n dX7_fisher_73 rfl ?_
          refine mg_rows dX7_fisher_74 ?_
          refine g_iconst (3) dX7_fisher_77 rfl ?_
          refine g_aload_n dX7_fisher_78 rfl ?_
          refine mgc_fishers dX7_fisher_79 ?_
          refine g_imul dX7_fisher_82 ?_
          refine g_iconst (1) dX7_fisher_83 rfl ?_
          refine g_iadd dX7_fisher_84 ?_
          refine g_iconst (0) dX7_fisher_85 rfl ?_
          refine msc_rows (((3 * n) + 1)) hN (by omega) (by first | rfl | (simp only [nI, Int32.ofNat_add, Int32.ofNat_mul, hn]; rfl) | (simp only [nI, Int32.ofNat_add, Int32.ofNat_mul, hn]; done)) dX7_fisher_86 ?_
          refine g_aload_n dX7_fisher_87 rfl ?_
          refine mg_rows dX7_fisher_88 ?_
          refine g_iconst (3) dX7_fisher_91 rfl ?_
          refine g_aload_n dX7_fisher_92 rfl ?_
          refine mgc_fishers dX7_fisher_93 ?_
          refine g_imul dX7_fisher_96 ?_
          refine g_iconst (2) dX7_fisher_97 rfl ?_
          refine g_iadd dX7_fisher_98 ?_
          refine g_bipush (50) dX7_fisher_99 rfl ?_
          refine msc_rows (((3 * n) + 2)) hN (by omega) (by first | rfl | (simp only [nI, Int32.ofNat_add, Int32.ofNat_mul, hn]; rfl) | (simp only [nI, Int32.ofNat_add, Int32.ofNat_mul, hn]; done)) dX7_fisher_101 ?_
          refine g_aload_n dX7_fisher_102 rfl ?_
          refine g_dup dX7_fisher_103 rfl ?_
          refine mgc_fishers dX7_fisher_104 ?_
          refine g_iconst (1) dX7_fisher_107 rfl ?_
          refine g_iadd dX7_fisher_108 ?_
          refine mpc_fishers hN  dX7_fisher_109 ?_
          refine g_aload_n dX7_fisher_112 rfl ?_
          refine mgc_fishers dX7_fisher_113 ?_
          refine g_iconst (1) dX7_fisher_116 rfl ?_
          refine g_isub dX7_fisher_117 ?_
          refine g_iret rfl (Nat.le_refl _) (Nat.le_refl _) ?_ dX7_fisher_118
          first | (exfalso; exact h6' c3; done) | exact mP.of (by simp_all [fisherF, rem, sA, upd_same]; done) | exact mP.of (by simp_all [fisherF]; rfl)
        · refine g_bipush (-4) dX7_fisher_32 rfl ?_
          refine g_iret rfl (Nat.le_refl _) (Nat.le_refl _) ?_ dX7_fisher_34
          first | (exfalso; exact h6' c3; done) | exact mP.of (by simp_all [fisherF, rem, sA, upd_same]; done) | exact mP.of (by simp_all [fisherF]; rfl)
      · refine g_bipush (-2) dX7_fisher_20 rfl ?_
        refine g_iret rfl (Nat.le_refl _) (Nat.le_refl _) ?_ dX7_fisher_22
        first | (exfalso; exact h6' c3; done) | exact mP.of (by simp_all [fisherF, rem, sA, upd_same]; done) | exact mP.of (by simp_all [fisherF]; rfl)
theorem c_tide (hN : gN g ≤ b) (hn : F 0 = nI n) (hn6 : n ≤ 6) : Ct g yX7_tide cX7_tide 1 (some .int) 3 0 0 [.ref b] (hM g b (mF F c) (mA A c) A2 ω0) z (mP g b ω0 z (tideP F A n c)) := by
  refine Ct.at (own := RX7) (by decide) rfl (Nat.le_of_ble_eq_true rfl) rfl ?_
  refine g_aload_n dX7_tide_0 rfl ?_
  refine mgc_tides dX7_tide_1 ?_
  refine g_sipush (999) dX7_tide_4 rfl ?_
  refine g_icmp_ne 15 dX7_tide_7 (by decide) (fun c1 => ?_) (fun c1 => ?_)
  · refine g_aload_n dX7_tide_15 rfl ?_
    refine gm_calli (n := 0) (c_tideOf (n := n) hN hn hn6) (lw_V q1647 q1649 qs54 q92 q1650) (by decide +kernel) rfl rfl (by decide) ⟨Nat.le_refl _, Nat.le_refl _⟩ (Nat.le_of_ble_eq_true rfl) dX7_tide_16 (fun A2 => ?_)
    refine g_iret rfl (Nat.le_refl _) (Nat.le_refl _) ?_ dX7_tide_19
    exact mP.of (by simp_all [tideP])
  · refine g_bipush (-3) dX7_tide_10 rfl ?_
    refine g_goto 19 dX7_tide_12 (by decide) ?_
    refine g_iret rfl (Nat.le_refl _) (Nat.le_refl _) ?_ dX7_tide_19
    exact mP.of (by simp_all [tideP])
theorem c_put {p w v : Int32} (hN : gN g ≤ b) (hn : F 0 = nI n) (hn6 : n ≤ 6) : Ct g yX7_put cX7_put 5 (some .int) 3 0 0 [.ref b, .int p, .int w, .int v] (hM g b (mF F c) (mA A c) A2 ω0) z (mP g b ω0 z (putF F A c p w v)) := by
  refine Ct.at (own := RX7) (by decide) rfl (Nat.le_of_ble_eq_true rfl) rfl ?_
  rcases one_or p hn hn6 with h1 | ⟨p, hp, rfl, h1⟩
  · refine g_aload_n dX7_put_0 rfl ?_
    refine g_iload_n dX7_put_1 rfl ?_
    refine gm_calli (n := 1) (c_isOne ) (lw_V q1575 q1577 qs46 q92 q1578) (by decide +kernel) rfl rfl (by decide) ⟨Nat.le_refl _, Nat.le_refl _⟩ (Nat.le_of_ble_eq_true rfl) dX7_put_2 (fun A2 => ?_)
    refine g_if_ne 11 dX7_put_5 (by decide) (fun h9 => absurd h1 h9) (fun _ => ?_)
    refine g_bipush (-5) dX7_put_8 rfl ?_
    refine g_iret rfl (Nat.le_refl _) (Nat.le_refl _) ?_ dX7_put_10
    exact mP.of (by simp [putF, h1])
  · have hcp : (nI p).toNatClampNeg = p := nI_clamp (by omega)
    rcases in_or w (hi := 2) (m := 2) (by decide) with h2 | ⟨w, hw, rfl, h2⟩
    · refine g_aload_n dX7_put_0 rfl ?_
      refine g_iload_n dX7_put_1 rfl ?_
      refine gm_calli (n := 1) (c_isOne ) (lw_V q1575 q1577 qs46 q92 q1578) (by decide +kernel) rfl rfl (by decide) ⟨Nat.le_refl _, Nat.le_refl _⟩ (Nat.le_of_ble_eq_true rfl) dX7_put_2 (fun A2 => ?_)
      refine g_if_ne 11 dX7_put_5 (by decide) (fun _ => ?_) (fun h9 => absurd h9 (by rw [h1]; decide))
      refine g_iload_n dX7_put_11 rfl ?_
      refine g_iconst (0) dX7_put_12 rfl ?_
      refine g_iconst (2) dX7_put_13 rfl ?_
      refine gs_calli (n := 3) (c_in ) (lw_S q1405 q1406 q92 q1407) (by decide +kernel) rfl rfl (by decide) ⟨Nat.le_refl _, Nat.le_refl _⟩ (Nat.le_of_ble_eq_true rfl) dX7_put_14 ?_
      refine g_if_eq 40 dX7_put_17 (by decide) (fun _ => ?_) (fun h9 => absurd h2 h9)
      refine g_bipush (-7) dX7_put_40 rfl ?_
      refine g_iret rfl (Nat.le_refl _) (Nat.le_refl _) ?_ dX7_put_42
      exact mP.of (by simp [putF, h1, h2])
    · have hcw : (nI w).toNatClampNeg = w := nI_clamp (by omega)
      have he : putF F A c (nI p) (nI w) v = if inI v 0 (if nI w = 2 then 99 else 65535) = 0 then (-7, F, A, c) else (c.1 (3 * p + w), F, A, (upd c.1 (3 * p + w) v, c.2.1, c.2.2)) := by
        unfold putF cn; rw [hcp, hcw]; simp [h1, h2]
      rw [he]
      refine g_aload_n dX7_put_0 rfl ?_
      refine g_iload_n dX7_put_1 rfl ?_
      refine gm_calli (n := 1) (c_isOne ) (lw_V q1575 q1577 qs46 q92 q1578) (by decide +kernel) rfl rfl (by decide) ⟨Nat.le_refl _, Nat.le_refl _⟩ (Nat.le_of_ble_eq_true rfl) dX7_put_2 (fun A2 => ?_)
      refine g_if_ne 11 dX7_put_5 (by decide) (fun _ => ?_) (fun h9 => absurd h9 (by rw [h1]; decide))
      refine g_iload_n dX7_put_11 rfl ?_
      refine g_iconst (0) dX7_put_12 rfl ?_
      refine g_iconst (2) dX7_put_13 rfl ?_
      refine gs_calli (n := 3) (c_in ) (lw_S q1405 q1406 q92 q1407) (by decide +kernel) rfl rfl (by decide) ⟨Nat.le_refl _, Nat.le_refl _⟩ (Nat.le_of_ble_eq_true rfl) dX7_put_14 ?_
      refine g_if_eq 40 dX7_put_17 (by decide) (fun h9 => absurd h9 (by rw [h2]; decide)) (fun _ => ?_)
      refine g_iload_n dX7_put_20 rfl ?_
      refine g_iconst (0) dX7_put_21 rfl ?_
      refine g_iload_n dX7_put_22 rfl ?_
      refine g_iconst (2) dX7_put_23 rfl ?_
      refine g_icmp_ne 32 dX7_put_24 (by decide) (fun c1 => ?_) (fun c1 => ?_)
      · refine g_ldc q1558 dX7_put_32 ?_
        refine gs_calli (n := 3) (c_in ) (lw_S q1405 q1406 q92 q1407) (by decide +kernel) rfl rfl (by decide) ⟨Nat.le_refl _, Nat.le_refl _⟩ (Nat.le_of_ble_eq_true rfl) dX7_put_34 ?_
        refine g_if_ne 43 dX7_put_37 (by decide) (fun c2 => ?_) (fun c2 => ?_)
        · refine g_aload_n dX7_put_43 rfl ?_
          refine mg_rows dX7_put_44 ?_
          refine g_iconst (3) dX7_put_47 rfl ?_
          refine g_iload_n dX7_put_48 rfl ?_
          refine g_imul dX7_put_49 ?_
          refine g_iload_n dX7_put_50 rfl ?_
          refine g_iadd dX7_put_51 ?_
          refine mlc_rows (((3 * p) + w)) (by omega) (by first | rfl | (simp only [nI, Int32.ofNat_add, Int32.ofNat_mul]; rfl) | (simp only [nI, Int32.ofNat_add, Int32.ofNat_mul]; done)) dX7_put_52 ?_
          refine g_istore (L' := [(4, _), (0, _), (1, _), (2, _), (3, _)]) dX7_put_53 (by decide) rfl ?_
          refine g_aload_n dX7_put_55 rfl ?_
          refine mg_rows dX7_put_56 ?_
          refine g_iconst (3) dX7_put_59 rfl ?_
          refine g_iload_n dX7_put_60 rfl ?_
          refine g_imul dX7_put_61 ?_
          refine g_iload_n dX7_put_62 rfl ?_
          refine g_iadd dX7_put_63 ?_
          refine g_iload_n dX7_put_64 rfl ?_
          refine msc_rows (((3 * p) + w)) hN (by omega) (by first | rfl | (simp only [nI, Int32.ofNat_add, Int32.ofNat_mul]; rfl) | (simp only [nI, Int32.ofNat_add, Int32.ofNat_mul]; done)) dX7_put_65 ?_
          refine g_iload dX7_put_66 rfl ?_
          refine g_iret rfl (Nat.le_refl _) (Nat.le_refl _) ?_ dX7_put_68
          exact mP.of (by simp [c1, c2])
        · refine g_bipush (-7) dX7_put_40 rfl ?_
          refine g_iret rfl (Nat.le_refl _) (Nat.le_refl _) ?_ dX7_put_42
          exact mP.of (by simp [c1, c2])
      · refine g_bipush (99) dX7_put_27 rfl ?_
        refine g_goto 34 dX7_put_29 (by decide) ?_
        refine gs_calli (n := 3) (c_in ) (lw_S q1405 q1406 q92 q1407) (by decide +kernel) rfl rfl (by decide) ⟨Nat.le_refl _, Nat.le_refl _⟩ (Nat.le_of_ble_eq_true rfl) dX7_put_34 ?_
        refine g_if_ne 43 dX7_put_37 (by decide) (fun c2 => ?_) (fun c2 => ?_)
        · refine g_aload_n dX7_put_43 rfl ?_
          refine mg_rows dX7_put_44 ?_
          refine g_iconst (3) dX7_put_47 rfl ?_
          refine g_iload_n dX7_put_48 rfl ?_
          refine g_imul dX7_put_49 ?_
          refine g_iload_n dX7_put_50 rfl ?_
          refine g_iadd dX7_put_51 ?_
          refine mlc_rows (((3 * p) + w)) (by omega) (by first | rfl | (simp only [nI, Int32.ofNat_add, Int32.ofNat_mul]; rfl) | (simp only [nI, Int32.ofNat_add, Int32.ofNat_mul]; done)) dX7_put_52 ?_
          refine g_istore (L' := [(4, _), (0, _), (1, _), (2, _), (3, _)]) dX7_put_53 (by decide) rfl ?_
          refine g_aload_n dX7_put_55 rfl ?_
          refine mg_rows dX7_put_56 ?_
          refine g_iconst (3) dX7_put_59 rfl ?_
          refine g_iload_n dX7_put_60 rfl ?_
          refine g_imul dX7_put_61 ?_
          refine g_iload_n dX7_put_62 rfl ?_
          refine g_iadd dX7_put_63 ?_
          refine g_iload_n dX7_put_64 rfl ?_
          refine msc_rows (((3 * p) + w)) hN (by omega) (by first | rfl | (simp only [nI, Int32.ofNat_add, Int32.ofNat_mul]; rfl) | (simp only [nI, Int32.ofNat_add, Int32.ofNat_mul]; done)) dX7_put_65 ?_
          refine g_iload dX7_put_66 rfl ?_
          refine g_iret rfl (Nat.le_refl _) (Nat.le_refl _) ?_ dX7_put_68
          exact mP.of (by simp [c1, c2])
        · refine g_bipush (-7) dX7_put_40 rfl ?_
          refine g_iret rfl (Nat.le_refl _) (Nat.le_refl _) ?_ dX7_put_42
          exact mP.of (by simp [c1, c2])
theorem c_told {p w : Int32} (hN : gN g ≤ b) (hE : EnM F A n ts) : Ct g yX7_told cX7_told 3 (some .int) 5 0 0 [.ref b, .int p, .int w] (hM g b (mF F c) (mA A c) A2 ω0) z (mP g b ω0 z (toldF F A n ts c p w)) := by
  refine Ct.at (own := RX7) (by decide) rfl (Nat.le_of_ble_eq_true rfl) rfl ?_
  have hn6 := hE.2.1
  rcases one_or p hE.1 hn6 with h1 | ⟨p, hp, rfl, h1⟩
  · refine g_aload_n dX7_told_0 rfl ?_
    refine g_iload_n dX7_told_1 rfl ?_
    refine gm_calli (n := 1) (c_isOne ) (lw_V q1575 q1577 qs46 q92 q1578) (by decide +kernel) rfl rfl (by decide) ⟨Nat.le_refl _, Nat.le_refl _⟩ (Nat.le_of_ble_eq_true rfl) dX7_told_2 (fun A2 => ?_)
    refine g_if_ne 11 dX7_told_5 (by decide) (fun h9 => absurd h1 h9) (fun _ => ?_)
    refine g_bipush (-5) dX7_told_8 rfl ?_
    refine g_iret rfl (Nat.le_refl _) (Nat.le_refl _) ?_ dX7_told_10
    exact mP.of (by simp [toldF, h1])
  · have hcp : (nI p).toNatClampNeg = p := nI_clamp (by omega)
    refine g_aload_n dX7_told_0 rfl ?_
    refine g_iload_n dX7_told_1 rfl ?_
    refine gm_calli (n := 1) (c_isOne ) (lw_V q1575 q1577 qs46 q92 q1578) (by decide +kernel) rfl rfl (by decide) ⟨Nat.le_refl _, Nat.le_refl _⟩ (Nat.le_of_ble_eq_true rfl) dX7_told_2 (fun A2 => ?_)
    refine g_if_ne 11 dX7_told_5 (by decide) (fun _ => ?_) (fun h9 => absurd h9 (by rw [h1]; decide))
    refine g_iload_n dX7_told_11 rfl ?_
    refine g_tsw [56, 56, 56, 67, 74, 81, 103] 109 dX7_told_12 (by decide) (by decide) (by decide) (fun j t => ?_) (fun hx => ?_)
    · match j with
      | 0 =>
        intro ht hx; cases ht
        replace hx := hx.trans (show Int32.ofInt ((0) + ((0 : Nat) : Int)) = 0 by decide)
        refine g_aload_n dX7_told_56 rfl ?_
        refine mg_rows dX7_told_57 ?_
        refine g_iconst (3) dX7_told_60 rfl ?_
        refine g_iload_n dX7_told_61 rfl ?_
        refine g_imul dX7_told_62 ?_
        refine g_iload_n dX7_told_63 rfl ?_
        refine g_iadd dX7_told_64 ?_
        refine mlc_rows (3 * p + cn w) (by rw [hx]; first | (show 3 * p + 0 < 18; omega) | (show 3 * p + 1 < 18; omega) | (show 3 * p + 2 < 18; omega)) (by rw [hx]; first | (show _ = nI (3 * p + 0); simp only [nI, Int32.ofNat_add, Int32.ofNat_mul]; rfl) | (show _ = nI (3 * p + 1); simp only [nI, Int32.ofNat_add, Int32.ofNat_mul]; rfl) | (show _ = nI (3 * p + 2); simp only [nI, Int32.ofNat_add, Int32.ofNat_mul]; rfl)) dX7_told_65 ?_
        refine g_iret rfl (Nat.le_refl _) (Nat.le_refl _) ?_ dX7_told_66
        first | (subst hx; exact mP.of (by unfold toldF; rw [if_neg (by rw [h1]; decide)]; unfold cn; rw [hcp]; rfl)) | exact mP.of (by unfold toldF; rw [if_neg (by rw [h1]; decide), if_neg (fun h => by rcases h with h | h | h <;> exact absurd h (tsw_ne hx _ (by decide))), if_neg (tsw_ne hx 3 (by decide)), if_neg (tsw_ne hx 4 (by decide)), if_neg (tsw_ne hx 5 (by decide)), if_neg (tsw_ne hx 6 (by decide))])
      | 1 =>
        intro ht hx; cases ht
        replace hx := hx.trans (show Int32.ofInt ((0) + ((1 : Nat) : Int)) = 1 by decide)
        refine g_aload_n dX7_told_56 rfl ?_
        refine mg_rows dX7_told_57 ?_
        refine g_iconst (3) dX7_told_60 rfl ?_
        refine g_iload_n dX7_told_61 rfl ?_
        refine g_imul dX7_told_62 ?_
        refine g_iload_n dX7_told_63 rfl ?_
        refine g_iadd dX7_told_64 ?_
        refine mlc_rows (3 * p + cn w) (by rw [hx]; first | (show 3 * p + 0 < 18; omega) | (show 3 * p + 1 < 18; omega) | (show 3 * p + 2 < 18; omega)) (by rw [hx]; first | (show _ = nI (3 * p + 0); simp only [nI, Int32.ofNat_add, Int32.ofNat_mul]; rfl) | (show _ = nI (3 * p + 1); simp only [nI, Int32.ofNat_add, Int32.ofNat_mul]; rfl) | (show _ = nI (3 * p + 2); simp only [nI, Int32.ofNat_add, Int32.ofNat_mul]; rfl)) dX7_told_65 ?_
        refine g_iret rfl (Nat.le_refl _) (Nat.le_refl _) ?_ dX7_told_66
        first | (subst hx; exact mP.of (by unfold toldF; rw [if_neg (by rw [h1]; decide)]; unfold cn; rw [hcp]; rfl)) | exact mP.of (by unfold toldF; rw [if_neg (by rw [h1]; decide), if_neg (fun h => by rcases h with h | h | h <;> exact absurd h (tsw_ne hx _ (by decide))), if_neg (tsw_ne hx 3 (by decide)), if_neg (tsw_ne hx 4 (by decide)), if_neg (tsw_ne hx 5 (by decide)), if_neg (tsw_ne hx 6 (by decide))])
      | 2 =>
        intro ht hx; cases ht
        replace hx := hx.trans (show Int32.ofInt ((0) + ((2 : Nat) : Int)) = 2 by decide)
        refine g_aload_n dX7_told_56 rfl ?_
        refine mg_rows dX7_told_57 ?_
        refine g_iconst (3) dX7_told_60 rfl ?_
        refine g_iload_n dX7_told_61 rfl ?_
        refine g_imul dX7_told_62 ?_
        refine g_iload_n dX7_told_63 rfl ?_
        refine g_iadd dX7_told_64 ?_
        refine mlc_rows (3 * p + cn w) (by rw [hx]; first | (show 3 * p + 0 < 18; omega) | (show 3 * p + 1 < 18; omega) | (show 3 * p + 2 < 18; omega)) (by rw [hx]; first | (show _ = nI (3 * p + 0); simp only [nI, Int32.ofNat_add, Int32.ofNat_mul]; rfl) | (show _ = nI (3 * p + 1); simp only [nI, Int32.ofNat_add, Int32.ofNat_mul]; rfl) | (show _ = nI (3 * p + 2); simp only [nI, Int32.ofNat_add, Int32.ofNat_mul]; rfl)) dX7_told_65 ?_
        refine g_iret rfl (Nat.le_refl _) (Nat.le_refl _) ?_ dX7_told_66
        first | (subst hx; exact mP.of (by unfold toldF; rw [if_neg (by rw [h1]; decide)]; unfold cn; rw [hcp]; rfl)) | exact mP.of (by unfold toldF; rw [if_neg (by rw [h1]; decide), if_neg (fun h => by rcases h with h | h | h <;> exact absurd h (tsw_ne hx _ (by decide))), if_neg (tsw_ne hx 3 (by decide)), if_neg (tsw_ne hx 4 (by decide)), if_neg (tsw_ne hx 5 (by decide)), if_neg (tsw_ne hx 6 (by decide))])
      | 3 =>
        intro ht hx; cases ht
        replace hx := hx.trans (show Int32.ofInt ((0) + ((3 : Nat) : Int)) = 3 by decide)
        refine g_aload_n dX7_told_67 rfl ?_
        refine mg_kind dX7_told_68 ?_
        refine g_iload_n dX7_told_71 rfl ?_
        refine mlc_kind (p) (by omega) (by first | rfl | (simp only [nI, Int32.ofNat_add, Int32.ofNat_mul]; rfl) | (simp only [nI, Int32.ofNat_add, Int32.ofNat_mul]; done)) dX7_told_72 ?_
        refine g_iret rfl (Nat.le_refl _) (Nat.le_refl _) ?_ dX7_told_73
        first | (subst hx; exact mP.of (by unfold toldF; rw [if_neg (by rw [h1]; decide)]; unfold cn; rw [hcp]; rfl)) | exact mP.of (by unfold toldF; rw [if_neg (by rw [h1]; decide), if_neg (fun h => by rcases h with h | h | h <;> exact absurd h (tsw_ne hx _ (by decide))), if_neg (tsw_ne hx 3 (by decide)), if_neg (tsw_ne hx 4 (by decide)), if_neg (tsw_ne hx 5 (by decide)), if_neg (tsw_ne hx 6 (by decide))])
      | 4 =>
        intro ht hx; cases ht
        replace hx := hx.trans (show Int32.ofInt ((0) + ((4 : Nat) : Int)) = 4 by decide)
        refine g_aload_n dX7_told_74 rfl ?_
        refine mg_moreOf dX7_told_75 ?_
        refine g_iload_n dX7_told_78 rfl ?_
        refine mlc_moreOf (p) (by omega) (by first | rfl | (simp only [nI, Int32.ofNat_add, Int32.ofNat_mul]; rfl) | (simp only [nI, Int32.ofNat_add, Int32.ofNat_mul]; done)) dX7_told_79 ?_
        refine g_iret rfl (Nat.le_refl _) (Nat.le_refl _) ?_ dX7_told_80
        first | (subst hx; exact mP.of (by unfold toldF; rw [if_neg (by rw [h1]; decide)]; unfold cn; rw [hcp]; rfl)) | exact mP.of (by unfold toldF; rw [if_neg (by rw [h1]; decide), if_neg (fun h => by rcases h with h | h | h <;> exact absurd h (tsw_ne hx _ (by decide))), if_neg (tsw_ne hx 3 (by decide)), if_neg (tsw_ne hx 4 (by decide)), if_neg (tsw_ne hx 5 (by decide)), if_neg (tsw_ne hx 6 (by decide))])
      | 5 =>
        intro ht hx; cases ht
        replace hx := hx.trans (show Int32.ofInt ((0) + ((5 : Nat) : Int)) = 5 by decide)
        refine g_aload_n dX7_told_81 rfl ?_
        refine mg_rows dX7_told_82 ?_
        refine g_iconst (3) dX7_told_85 rfl ?_
        refine g_iload_n dX7_told_86 rfl ?_
        refine g_imul dX7_told_87 ?_
        refine g_iconst (1) dX7_told_88 rfl ?_
        refine g_iadd dX7_told_89 ?_
        refine mlc_rows (((3 * p) + 1)) (by omega) (by first | rfl | (simp only [nI, Int32.ofNat_add, Int32.ofNat_mul]; rfl) | (simp only [nI, Int32.ofNat_add, Int32.ofNat_mul]; done)) dX7_told_90 ?_
        refine g_aload_n dX7_told_91 rfl ?_
        refine mg_rows dX7_told_92 ?_
        refine g_iconst (3) dX7_told_95 rfl ?_
        refine g_iload_n dX7_told_96 rfl ?_
        refine g_imul dX7_told_97 ?_
        refine mlc_rows ((3 * p)) (by omega) (by first | rfl | (simp only [nI, Int32.ofNat_add, Int32.ofNat_mul]; rfl) | (simp only [nI, Int32.ofNat_add, Int32.ofNat_mul]; done)) dX7_told_98 ?_
        refine g_iconst (-1) dX7_told_99 rfl ?_
        refine g_ixor dX7_told_100 ?_
        refine g_iand dX7_told_101 ?_
        refine g_iret rfl (Nat.le_refl _) (Nat.le_refl _) ?_ dX7_told_102
        first | (subst hx; exact mP.of (by unfold toldF; rw [if_neg (by rw [h1]; decide)]; unfold cn; rw [hcp]; rfl)) | exact mP.of (by unfold toldF; rw [if_neg (by rw [h1]; decide), if_neg (fun h => by rcases h with h | h | h <;> exact absurd h (tsw_ne hx _ (by decide))), if_neg (tsw_ne hx 3 (by decide)), if_neg (tsw_ne hx 4 (by decide)), if_neg (tsw_ne hx 5 (by decide)), if_neg (tsw_ne hx 6 (by decide))])
      | 6 =>
        intro ht hx; cases ht
        replace hx := hx.trans (show Int32.ofInt ((0) + ((6 : Nat) : Int)) = 6 by decide)
        refine g_aload_n dX7_told_103 rfl ?_
        refine g_iload_n dX7_told_104 rfl ?_
        refine gm_calli (n := 1) (c_takesOf (n := n) (ts := ts) hN hE (by omega)) (lw_V q1608 q1610 qs49 q92 q1611) (by decide +kernel) rfl rfl (by decide) ⟨Nat.le_refl _, Nat.le_refl _⟩ (Nat.le_of_ble_eq_true rfl) dX7_told_105 (fun A2 => ?_)
        refine g_iret rfl (Nat.le_refl _) (Nat.le_refl _) ?_ dX7_told_108
        first | (subst hx; exact mP.of (by unfold toldF; rw [if_neg (by rw [h1]; decide)]; unfold cn; rw [hcp]; rfl)) | exact mP.of (by unfold toldF; rw [if_neg (by rw [h1]; decide), if_neg (fun h => by rcases h with h | h | h <;> exact absurd h (tsw_ne hx _ (by decide))), if_neg (tsw_ne hx 3 (by decide)), if_neg (tsw_ne hx 4 (by decide)), if_neg (tsw_ne hx 5 (by decide)), if_neg (tsw_ne hx 6 (by decide))])
      | j + 7 => intro ht hx; simp at ht
    · refine g_bipush (-7) dX7_told_109 rfl ?_
      refine g_iret rfl (Nat.le_refl _) (Nat.le_refl _) ?_ dX7_told_111
      first | (subst hx; exact mP.of (by unfold toldF; rw [if_neg (by rw [h1]; decide)]; unfold cn; rw [hcp]; rfl)) | exact mP.of (by unfold toldF; rw [if_neg (by rw [h1]; decide), if_neg (fun h => by rcases h with h | h | h <;> exact absurd h (tsw_ne hx _ (by decide))), if_neg (tsw_ne hx 3 (by decide)), if_neg (tsw_ne hx 4 (by decide)), if_neg (tsw_ne hx 5 (by decide)), if_neg (tsw_ne hx 6 (by decide))])
theorem c_lands {p t w : Int32} (hN : gN g ≤ b) (hE : EnM F A n ts) : Ct g yX7_lands cX7_lands 4 (some .int) 5 0 0 [.ref b, .int p, .int t, .int w] (hM g b (mF F c) (mA A c) A2 ω0) z (mP g b ω0 z (landsF F A n ts c p t w)) := by
  refine Ct.at (own := RX7) (by decide) rfl (Nat.le_of_ble_eq_true rfl) rfl ?_
  have hn6 := hE.2.1
  rcases one_or p hE.1 hn6 with h1 | ⟨p, hp, rfl, h1⟩
  · refine g_aload_n dX7_lands_0 rfl ?_
    refine g_iload_n dX7_lands_1 rfl ?_
    refine gm_calli (n := 1) (c_isOne ) (lw_V q1575 q1577 qs46 q92 q1578) (by decide +kernel) rfl rfl (by decide) ⟨Nat.le_refl _, Nat.le_refl _⟩ (Nat.le_of_ble_eq_true rfl) dX7_lands_2 (fun A2 => ?_)
    refine g_if_eq 15 dX7_lands_5 (by decide) (fun _ => ?_) (fun h9 => absurd h1 h9)
    refine g_sipush (-5000) dX7_lands_15 rfl ?_
    refine g_iret rfl (Nat.le_refl _) (Nat.le_refl _) ?_ dX7_lands_18
    exact mP.of (by simp [landsF, h1])
  · have hcp : (nI p).toNatClampNeg = p := nI_clamp (by omega)
    refine g_aload_n dX7_lands_0 rfl ?_
    refine g_iload_n dX7_lands_1 rfl ?_
    refine gm_calli (n := 1) (c_isOne ) (lw_V q1575 q1577 qs46 q92 q1578) (by decide +kernel) rfl rfl (by decide) ⟨Nat.le_refl _, Nat.le_refl _⟩ (Nat.le_of_ble_eq_true rfl) dX7_lands_2 (fun A2 => ?_)
    refine g_if_eq 15 dX7_lands_5 (by decide) (fun h9 => absurd h9 (by rw [h1]; decide)) (fun _ => ?_)
    refine g_iload_n dX7_lands_8 rfl ?_
    refine gs_calli (n := 1) (c_isThing ) (lw_S q1579 q1580 q92 q1581) (by decide +kernel) rfl rfl (by decide) ⟨Nat.le_refl _, Nat.le_refl _⟩ (Nat.le_of_ble_eq_true rfl) dX7_lands_9 ?_
    refine g_if_ne 19 dX7_lands_12 (by decide) (fun c1 => ?_) (fun c1 => ?_)
    · refine g_iload_n dX7_lands_19 rfl ?_
      refine g_iconst (0) dX7_lands_20 rfl ?_
      refine g_iconst (1) dX7_lands_21 rfl ?_
      refine gs_calli (n := 3) (c_in ) (lw_S q1405 q1406 q92 q1407) (by decide +kernel) rfl rfl (by decide) ⟨Nat.le_refl _, Nat.le_refl _⟩ (Nat.le_of_ble_eq_true rfl) dX7_lands_22 ?_
      refine g_if_ne 32 dX7_lands_25 (by decide) (fun c2 => ?_) (fun c2 => ?_)
      · refine g_iload_n dX7_lands_32 rfl ?_
        refine g_if_ne 45 dX7_lands_33 (by decide) (fun c3 => ?_) (fun c3 => ?_)
        · refine g_aload_n dX7_lands_45 rfl ?_
          refine g_iload_n dX7_lands_46 rfl ?_
          refine g_iload_n dX7_lands_47 rfl ?_
          refine gm_calli (n := 2) (c_lucksOf (n := n) (ts := ts) hN hE (by omega)) (lw_V q1623 q1625 qs51 q92 q1626) (by decide +kernel) rfl rfl (by decide) ⟨Nat.le_refl _, Nat.le_refl _⟩ (Nat.le_of_ble_eq_true rfl) dX7_lands_48 (fun A2 => ?_)
          refine g_iret rfl (Nat.le_refl _) (Nat.le_refl _) ?_ dX7_lands_51
          exact mP.of (by simp_all [landsF])
        · refine g_aload_n dX7_lands_36 rfl ?_
          refine g_iload_n dX7_lands_37 rfl ?_
          refine g_iload_n dX7_lands_38 rfl ?_
          refine gm_calli (n := 2) (c_letsOf (n := n) (ts := ts) hN hE (by omega)) (lw_V q1616 q1618 qs50 q92 q1619) (by decide +kernel) rfl rfl (by decide) ⟨Nat.le_refl _, Nat.le_refl _⟩ (Nat.le_of_ble_eq_true rfl) dX7_lands_39 (fun A2 => ?_)
          refine g_goto 51 dX7_lands_42 (by decide) ?_
          refine g_iret rfl (Nat.le_refl _) (Nat.le_refl _) ?_ dX7_lands_51
          exact mP.of (by simp_all [landsF])
      · refine g_sipush (-7000) dX7_lands_28 rfl ?_
        refine g_iret rfl (Nat.le_refl _) (Nat.le_refl _) ?_ dX7_lands_31
        exact mP.of (by simp_all [landsF])
    · refine g_sipush (-5000) dX7_lands_15 rfl ?_
      refine g_iret rfl (Nat.le_refl _) (Nat.le_refl _) ?_ dX7_lands_18
      exact mP.of (by simp_all [landsF])
theorem c_land {p t : Int32} (hN : gN g ≤ b) (hE : EnM F A n ts) : Ct g yX7_land cX7_land 3 (some .int) 6 0 0 [.ref b, .int p, .int t] (hM g b (mF F c) (mA A c) A2 ω0) z (mP g b ω0 z (landP F A n ts c p t)) := by
  refine Ct.at (own := RX7) (by decide) rfl (Nat.le_of_ble_eq_true rfl) rfl ?_
  have hn6 := hE.2.1
  rcases one_or p hE.1 hn6 with h1 | ⟨p, hp, rfl, h1⟩
  · refine g_aload_n dX7_land_0 rfl ?_
    refine g_iload_n dX7_land_1 rfl ?_
    refine gm_calli (n := 1) (c_isOne ) (lw_V q1575 q1577 qs46 q92 q1578) (by decide +kernel) rfl rfl (by decide) ⟨Nat.le_refl _, Nat.le_refl _⟩ (Nat.le_of_ble_eq_true rfl) dX7_land_2 (fun A2 => ?_)
    refine g_if_ne 11 dX7_land_5 (by decide) (fun h9 => absurd h1 h9) (fun _ => ?_)
    refine g_bipush (-5) dX7_land_8 rfl ?_
    refine g_iret rfl (Nat.le_refl _) (Nat.le_refl _) ?_ dX7_land_10
    exact mP.of (by simp [landP, h1])
  · have hcp : (nI p).toNatClampNeg = p := nI_clamp (by omega)
    refine g_aload_n dX7_land_0 rfl ?_
    refine g_iload_n dX7_land_1 rfl ?_
    refine gm_calli (n := 1) (c_isOne ) (lw_V q1575 q1577 qs46 q92 q1578) (by decide +kernel) rfl rfl (by decide) ⟨Nat.le_refl _, Nat.le_refl _⟩ (Nat.le_of_ble_eq_true rfl) dX7_land_2 (fun A2 => ?_)
    refine g_if_ne 11 dX7_land_5 (by decide) (fun _ => ?_) (fun h9 => absurd h9 (by rw [h1]; decide))
    refine g_iload_n dX7_land_11 rfl ?_
    refine gs_calli (n := 1) (c_isThing ) (lw_S q1579 q1580 q92 q1581) (by decide +kernel) rfl rfl (by decide) ⟨Nat.le_refl _, Nat.le_refl _⟩ (Nat.le_of_ble_eq_true rfl) dX7_land_12 ?_
    refine g_if_eq 27 dX7_land_15 (by decide) (fun c1 => ?_) (fun c1 => ?_)
    · refine g_bipush (-6) dX7_land_27 rfl ?_
      refine g_iret rfl (Nat.le_refl _) (Nat.le_refl _) ?_ dX7_land_29
      exact mP.of (by simp_all [landP])
    · refine g_aload_n dX7_land_18 rfl ?_
      refine g_iload_n dX7_land_19 rfl ?_
      refine g_iload_n dX7_land_20 rfl ?_
      refine gm_calli (n := 2) (c_landOf (n := n) (ts := ts) hN hE (by omega)) (lw_V q1631 q1633 qs52 q92 q1634) (by decide +kernel) rfl rfl (by decide) ⟨Nat.le_refl _, Nat.le_refl _⟩ (Nat.le_of_ble_eq_true rfl) dX7_land_21 (fun A2 => ?_)
      refine g_goto 29 dX7_land_24 (by decide) ?_
      refine g_iret rfl (Nat.le_refl _) (Nat.le_refl _) ?_ dX7_land_29
      exact mP.of (by simp_all [landP])
theorem c_teach {p q : Int32} (hN : gN g ≤ b) (hE : EnM F A n ts) : Ct g yX7_teach cX7_teach 3 (some .int) 6 0 0 [.ref b, .int p, .int q] (hM g b (mF F c) (mA A c) A2 ω0) z (mP g b ω0 z (teachP F A n ts c p q)) := by
  refine Ct.at (own := RX7) (by decide) rfl (Nat.le_of_ble_eq_true rfl) rfl ?_
  have hn6 := hE.2.1
  rcases one_or p hE.1 hn6 with h1 | ⟨p, hp, rfl, h1⟩
  · refine g_aload_n dX7_teach_0 rfl ?_
    refine g_iload_n dX7_teach_1 rfl ?_
    refine gm_calli (n := 1) (c_isOne ) (lw_V q1575 q1577 qs46 q92 q1578) (by decide +kernel) rfl rfl (by decide) ⟨Nat.le_refl _, Nat.le_refl _⟩ (Nat.le_of_ble_eq_true rfl) dX7_teach_2 (fun A2 => ?_)
    refine g_if_eq 30 dX7_teach_5 (by decide) (fun _ => ?_) (fun h9 => absurd h1 h9)
    refine g_bipush (-5) dX7_teach_30 rfl ?_
    refine g_iret rfl (Nat.le_refl _) (Nat.le_refl _) ?_ dX7_teach_32
    exact mP.of (by simp [teachP, h1])
  · have hcp : (nI p).toNatClampNeg = p := nI_clamp (by omega)
    rcases one_or q hE.1 hn6 with h2 | ⟨q, hq, rfl, h2⟩
    · refine g_aload_n dX7_teach_0 rfl ?_
      refine g_iload_n dX7_teach_1 rfl ?_
      refine gm_calli (n := 1) (c_isOne ) (lw_V q1575 q1577 qs46 q92 q1578) (by decide +kernel) rfl rfl (by decide) ⟨Nat.le_refl _, Nat.le_refl _⟩ (Nat.le_of_ble_eq_true rfl) dX7_teach_2 (fun A2 => ?_)
      refine g_if_eq 30 dX7_teach_5 (by decide) (fun h9 => absurd h9 (by rw [h1]; decide)) (fun _ => ?_)
      refine g_aload_n dX7_teach_8 rfl ?_
      refine g_iload_n dX7_teach_9 rfl ?_
      refine gm_calli (n := 1) (c_isOne ) (lw_V q1575 q1577 qs46 q92 q1578) (by decide +kernel) rfl rfl (by decide) ⟨Nat.le_refl _, Nat.le_refl _⟩ (Nat.le_of_ble_eq_true rfl) dX7_teach_10 (fun A2 => ?_)
      refine g_if_eq 30 dX7_teach_13 (by decide) (fun _ => ?_) (fun h9 => absurd h2 h9)
      refine g_bipush (-5) dX7_teach_30 rfl ?_
      refine g_iret rfl (Nat.le_refl _) (Nat.le_refl _) ?_ dX7_teach_32
      exact mP.of (by simp [teachP, h2])
    · have hcq : (nI q).toNatClampNeg = q := nI_clamp (by omega)
      refine g_aload_n dX7_teach_0 rfl ?_
      refine g_iload_n dX7_teach_1 rfl ?_
      refine gm_calli (n := 1) (c_isOne ) (lw_V q1575 q1577 qs46 q92 q1578) (by decide +kernel) rfl rfl (by decide) ⟨Nat.le_refl _, Nat.le_refl _⟩ (Nat.le_of_ble_eq_true rfl) dX7_teach_2 (fun A2 => ?_)
      refine g_if_eq 30 dX7_teach_5 (by decide) (fun h9 => absurd h9 (by rw [h1]; decide)) (fun _ => ?_)
      refine g_aload_n dX7_teach_8 rfl ?_
      refine g_iload_n dX7_teach_9 rfl ?_
      refine gm_calli (n := 1) (c_isOne ) (lw_V q1575 q1577 qs46 q92 q1578) (by decide +kernel) rfl rfl (by decide) ⟨Nat.le_refl _, Nat.le_refl _⟩ (Nat.le_of_ble_eq_true rfl) dX7_teach_10 (fun A2 => ?_)
      refine g_if_eq 30 dX7_teach_13 (by decide) (fun h9 => absurd h9 (by rw [h2]; decide)) (fun _ => ?_)
      refine g_iload_n dX7_teach_16 rfl ?_
      refine g_iload_n dX7_teach_17 rfl ?_
      refine g_icmp_eq 30 dX7_teach_18 (by decide) (fun c1 => ?_) (fun c1 => ?_)
      · refine g_bipush (-5) dX7_teach_30 rfl ?_
        refine g_iret rfl (Nat.le_refl _) (Nat.le_refl _) ?_ dX7_teach_32
        exact mP.of (by simp_all [teachP])
      · refine g_aload_n dX7_teach_21 rfl ?_
        refine g_iload_n dX7_teach_22 rfl ?_
        refine g_iload_n dX7_teach_23 rfl ?_
        refine gm_calli (n := 2) (c_lessonOf (n := n) (ts := ts) hN hE (by omega) (by omega)) (lw_V q1639 q1641 qs53 q92 q1642) (by decide +kernel) rfl rfl (by decide) ⟨Nat.le_refl _, Nat.le_refl _⟩ (Nat.le_of_ble_eq_true rfl) dX7_teach_24 (fun A2 => ?_)
        refine g_goto 32 dX7_teach_27 (by decide) ?_
        refine g_iret rfl (Nat.le_refl _) (Nat.le_refl _) ?_ dX7_teach_32
        exact mP.of (by simp_all [teachP])
theorem c_isUnder {k o : Int32} {ω : Om} : Ct g yX7_isUnder cX7_isUnder 2 (some .boolean) 1 0 0 [.int k, .int o] ω z (dQ (some (.int (isUnd k o))) ω z) := by
  refine Ct.at (own := RX7) (by decide) rfl (Nat.le_of_ble_eq_true rfl) rfl ?_
  refine g_iload_n dX7_isUnder_0 rfl ?_
  refine g_if_eq 29 dX7_isUnder_1 (by decide) (fun c1 => ?_) (fun c1 => ?_)
  · refine g_iconst (1) dX7_isUnder_29 rfl ?_
    refine g_goto 34 dX7_isUnder_30 (by decide) ?_
    refine g_zret rfl (by first | rfl | exact nrb_in) (Nat.le_refl _) (Nat.le_refl _) ?_ dX7_isUnder_34
    exact dQ.of (by simp_all [isUnd])
  · refine g_iload_n dX7_isUnder_4 rfl ?_
    refine g_iload_n dX7_isUnder_5 rfl ?_
    refine g_icmp_eq 29 dX7_isUnder_6 (by decide) (fun c2 => ?_) (fun c2 => ?_)
    · refine g_iconst (1) dX7_isUnder_29 rfl ?_
      refine g_goto 34 dX7_isUnder_30 (by decide) ?_
      refine g_zret rfl (by first | rfl | exact nrb_in) (Nat.le_refl _) (Nat.le_refl _) ?_ dX7_isUnder_34
      exact dQ.of (by simp_all [isUnd])
    · refine g_iload_n dX7_isUnder_9 rfl ?_
      refine g_iconst (1) dX7_isUnder_10 rfl ?_
      refine g_icmp_ne 19 dX7_isUnder_11 (by decide) (fun c3 => ?_) (fun c3 => ?_)
      · refine g_iload_n dX7_isUnder_19 rfl ?_
        refine g_iconst (2) dX7_isUnder_20 rfl ?_
        refine g_icmp_ne 33 dX7_isUnder_21 (by decide) (fun c4 => ?_) (fun c4 => ?_)
        · refine g_iconst (0) dX7_isUnder_33 rfl ?_
          refine g_zret rfl (by first | rfl | exact nrb_in) (Nat.le_refl _) (Nat.le_refl _) ?_ dX7_isUnder_34
          exact dQ.of (by simp_all [isUnd])
        · refine g_iload_n dX7_isUnder_24 rfl ?_
          refine g_iconst (4) dX7_isUnder_25 rfl ?_
          refine g_icmp_ne 33 dX7_isUnder_26 (by decide) (fun c5 => ?_) (fun c5 => ?_)
          · refine g_iconst (0) dX7_isUnder_33 rfl ?_
            refine g_zret rfl (by first | rfl | exact nrb_in) (Nat.le_refl _) (Nat.le_refl _) ?_ dX7_isUnder_34
            exact dQ.of (by simp_all [isUnd])
          · refine g_iconst (1) dX7_isUnder_29 rfl ?_
            refine g_goto 34 dX7_isUnder_30 (by decide) ?_
            refine g_zret rfl (by first | rfl | exact nrb_in) (Nat.le_refl _) (Nat.le_refl _) ?_ dX7_isUnder_34
            exact dQ.of (by simp_all [isUnd])
      · refine g_iload_n dX7_isUnder_14 rfl ?_
        refine g_iconst (3) dX7_isUnder_15 rfl ?_
        refine g_icmp_eq 29 dX7_isUnder_16 (by decide) (fun c4 => ?_) (fun c4 => ?_)
        · refine g_iconst (1) dX7_isUnder_29 rfl ?_
          refine g_goto 34 dX7_isUnder_30 (by decide) ?_
          refine g_zret rfl (by first | rfl | exact nrb_in) (Nat.le_refl _) (Nat.le_refl _) ?_ dX7_isUnder_34
          exact dQ.of (by simp_all [isUnd])
        · refine g_iload_n dX7_isUnder_19 rfl ?_
          refine g_iconst (2) dX7_isUnder_20 rfl ?_
          refine g_icmp_ne 33 dX7_isUnder_21 (by decide) (fun c5 => ?_) (fun c5 => ?_)
          · refine g_iconst (0) dX7_isUnder_33 rfl ?_
            refine g_zret rfl (by first | rfl | exact nrb_in) (Nat.le_refl _) (Nat.le_refl _) ?_ dX7_isUnder_34
            exact dQ.of (by simp_all [isUnd])
          · refine g_iload_n dX7_isUnder_24 rfl ?_
            refine g_iconst (4) dX7_isUnder_25 rfl ?_
            refine g_icmp_ne 33 dX7_isUnder_26 (by decide) (fun c6 => ?_) (fun c6 => ?_)
            · refine g_iconst (0) dX7_isUnder_33 rfl ?_
              refine g_zret rfl (by first | rfl | exact nrb_in) (Nat.le_refl _) (Nat.le_refl _) ?_ dX7_isUnder_34
              exact dQ.of (by simp_all [isUnd])
            · refine g_iconst (1) dX7_isUnder_29 rfl ?_
              refine g_goto 34 dX7_isUnder_30 (by decide) ?_
              refine g_zret rfl (by first | rfl | exact nrb_in) (Nat.le_refl _) (Nat.le_refl _) ?_ dX7_isUnder_34
              exact dQ.of (by simp_all [isUnd])
theorem c_taken {i k : Int32} (hN : gN g ≤ b) (hn : F 0 = nI n) (hn6 : n ≤ 6) : Ct g yX7_taken cX7_taken 3 (some .int) 2 0 0 [.ref b, .int i, .int k] (hM g b (mF F c) (mA A c) A2 ω0) z (mP g b ω0 z (takenF F A c i k)) := by
  refine Ct.at (own := RX7) (by decide) rfl (Nat.le_of_ble_eq_true rfl) rfl ?_
  rcases in_or i (hi := 11) (m := 11) (by decide) with h1 | ⟨i, hi, rfl, h1⟩
  · refine g_iload_n dX7_taken_0 rfl ?_
    refine g_iconst (0) dX7_taken_1 rfl ?_
    refine g_bipush (6) dX7_taken_2 rfl ?_
    refine gs_calli (n := 3) (c_in ) (lw_S q1405 q1406 q92 q1407) (by decide +kernel) rfl rfl (by decide) ⟨Nat.le_refl _, Nat.le_refl _⟩ (Nat.le_of_ble_eq_true rfl) dX7_taken_4 ?_
    refine g_if_ne 13 dX7_taken_7 (by decide) (fun c1 => ?_) (fun c1 => ?_)
    · refine g_iload_n dX7_taken_13 rfl ?_
      refine g_iconst (0) dX7_taken_14 rfl ?_
      refine g_bipush (11) dX7_taken_15 rfl ?_
      refine gs_calli (n := 3) (c_in ) (lw_S q1405 q1406 q92 q1407) (by decide +kernel) rfl rfl (by decide) ⟨Nat.le_refl _, Nat.le_refl _⟩ (Nat.le_of_ble_eq_true rfl) dX7_taken_17 ?_
      refine g_if_ne 26 dX7_taken_20 (by decide) (fun h9 => absurd h1 h9) (fun _ => ?_)
      refine g_bipush (-12) dX7_taken_23 rfl ?_
      refine g_iret rfl (Nat.le_refl _) (Nat.le_refl _) ?_ dX7_taken_25
      exact mP.of (by simp_all [takenF])
    · refine g_bipush (-2) dX7_taken_10 rfl ?_
      refine g_iret rfl (Nat.le_refl _) (Nat.le_refl _) ?_ dX7_taken_12
      exact mP.of (by simp_all [takenF])
  · have hci : (nI i).toNatClampNeg = i := nI_clamp (by omega)
    by_cases h6 : i < 6
    · have h6' : nI i < 6 := nI_lt (b := 6) h6 (by decide)
      refine g_iload_n dX7_taken_0 rfl ?_
      refine g_iconst (0) dX7_taken_1 rfl ?_
      refine g_bipush (6) dX7_taken_2 rfl ?_
      refine gs_calli (n := 3) (c_in ) (lw_S q1405 q1406 q92 q1407) (by decide +kernel) rfl rfl (by decide) ⟨Nat.le_refl _, Nat.le_refl _⟩ (Nat.le_of_ble_eq_true rfl) dX7_taken_4 ?_
      refine g_if_ne 13 dX7_taken_7 (by decide) (fun c1 => ?_) (fun c1 => ?_)
      · refine g_iload_n dX7_taken_13 rfl ?_
        refine g_iconst (0) dX7_taken_14 rfl ?_
        refine g_bipush (11) dX7_taken_15 rfl ?_
        refine gs_calli (n := 3) (c_in ) (lw_S q1405 q1406 q92 q1407) (by decide +kernel) rfl rfl (by decide) ⟨Nat.le_refl _, Nat.le_refl _⟩ (Nat.le_of_ble_eq_true rfl) dX7_taken_17 ?_
        refine g_if_ne 26 dX7_taken_20 (by decide) (fun _ => ?_) (fun h9 => absurd h9 (by rw [h1]; decide))
        refine g_iload_n dX7_taken_26 rfl ?_
        refine g_bipush (6) dX7_taken_27 rfl ?_
        refine g_irem dX7_taken_29 (by decide) ?_
        refine g_aload_n dX7_taken_30 rfl ?_
        refine mgc_fishers dX7_taken_31 ?_
        refine g_icmp_lt 40 dX7_taken_34 (by decide) (fun c2 => ?_) (fun c2 => ?_)
        · refine g_iload_n dX7_taken_40 rfl ?_
          refine g_bipush (6) dX7_taken_41 rfl ?_
          refine g_icmp_lt 69 dX7_taken_43 (by decide) (fun _ => ?_) (fun h9 => absurd h6' h9)
          refine g_iload_n dX7_taken_69 rfl ?_
          refine g_bipush (6) dX7_taken_70 rfl ?_
          refine g_icmp_ge 92 dX7_taken_72 (by decide) (fun c3 => ?_) (fun c3 => ?_)
          · refine g_bipush (-13) dX7_taken_92 rfl ?_
            refine g_iret rfl (Nat.le_refl _) (Nat.le_refl _) ?_ dX7_taken_94
            exact mP.of (by simp_all [takenF, rem, -Int32.not_le, -Int32.not_lt])
          · refine g_aload_n dX7_taken_75 rfl ?_
            refine mg_kind dX7_taken_76 ?_
            refine g_iload_n dX7_taken_79 rfl ?_
            refine mlc_kind (i) (by omega) (by first | rfl | (simp only [nI, Int32.ofNat_add, Int32.ofNat_mul]; rfl) | (simp only [nI, Int32.ofNat_add, Int32.ofNat_mul]; done)) dX7_taken_80 ?_
            refine g_iload_n dX7_taken_81 rfl ?_
            refine gs_calli (n := 2) (c_isUnder ) (lw_S q1805 q1806 q92 q1807) (by decide +kernel) rfl rfl (by decide) ⟨Nat.le_refl _, Nat.le_refl _⟩ (Nat.le_of_ble_eq_true rfl) dX7_taken_82 ?_
            refine g_if_eq 92 dX7_taken_85 (by decide) (fun c4 => ?_) (fun c4 => ?_)
            · refine g_bipush (-13) dX7_taken_92 rfl ?_
              refine g_iret rfl (Nat.le_refl _) (Nat.le_refl _) ?_ dX7_taken_94
              exact mP.of (by simp_all [takenF, rem, -Int32.not_le, -Int32.not_lt])
            · refine g_iload_n dX7_taken_88 rfl ?_
              refine g_goto 94 dX7_taken_89 (by decide) ?_
              refine g_iret rfl (Nat.le_refl _) (Nat.le_refl _) ?_ dX7_taken_94
              exact mP.of (by simp_all [takenF, rem, -Int32.not_le, -Int32.not_lt])
        · refine g_bipush (-11) dX7_taken_37 rfl ?_
          refine g_iret rfl (Nat.le_refl _) (Nat.le_refl _) ?_ dX7_taken_39
          exact mP.of (by simp_all [takenF, rem, -Int32.not_le, -Int32.not_lt])
      · refine g_bipush (-2) dX7_taken_10 rfl ?_
        refine g_iret rfl (Nat.le_refl _) (Nat.le_refl _) ?_ dX7_taken_12
        exact mP.of (by simp_all [takenF, rem, -Int32.not_le, -Int32.not_lt])
    · have h6' : ¬ nI i < 6 := nI_nlt (b := 6) (by omega) (by omega)
      have hsub : nI i - 6 = nI (i - 6) := pk_sub (b := 6) (by omega)
      have hcs : (nI i - 6).toNatClampNeg = i - 6 := by rw [hsub]; exact nI_clamp (by omega)
      refine g_iload_n dX7_taken_0 rfl ?_
      refine g_iconst (0) dX7_taken_1 rfl ?_
      refine g_bipush (6) dX7_taken_2 rfl ?_
      refine gs_calli (n := 3) (c_in ) (lw_S q1405 q1406 q92 q1407) (by decide +kernel) rfl rfl (by decide) ⟨Nat.le_refl _, Nat.le_refl _⟩ (Nat.le_of_ble_eq_true rfl) dX7_taken_4 ?_
      refine g_if_ne 13 dX7_taken_7 (by decide) (fun c1 => ?_) (fun c1 => ?_)
      · refine g_iload_n dX7_taken_13 rfl ?_
        refine g_iconst (0) dX7_taken_14 rfl ?_
        refine g_bipush (11) dX7_taken_15 rfl ?_
        refine gs_calli (n := 3) (c_in ) (lw_S q1405 q1406 q92 q1407) (by decide +kernel) rfl rfl (by decide) ⟨Nat.le_refl _, Nat.le_refl _⟩ (Nat.le_of_ble_eq_true rfl) dX7_taken_17 ?_
        refine g_if_ne 26 dX7_taken_20 (by decide) (fun _ => ?_) (fun h9 => absurd h9 (by rw [h1]; decide))
        refine g_iload_n dX7_taken_26 rfl ?_
        refine g_bipush (6) dX7_taken_27 rfl ?_
        refine g_irem dX7_taken_29 (by decide) ?_
        refine g_aload_n dX7_taken_30 rfl ?_
        refine mgc_fishers dX7_taken_31 ?_
        refine g_icmp_lt 40 dX7_taken_34 (by decide) (fun c2 => ?_) (fun c2 => ?_)
        · refine g_iload_n dX7_taken_40 rfl ?_
          refine g_bipush (6) dX7_taken_41 rfl ?_
          refine g_icmp_lt 69 dX7_taken_43 (by decide) (fun h9 => absurd h9 h6') (fun _ => ?_)
          refine g_iload_n dX7_taken_46 rfl ?_
          refine g_bipush (6) dX7_taken_47 rfl ?_
          refine g_icmp_ne 66 dX7_taken_49 (by decide) (fun c3 => ?_) (fun c3 => ?_)
          · refine g_bipush (-13) dX7_taken_66 rfl ?_
            refine g_iret rfl (Nat.le_refl _) (Nat.le_refl _) ?_ dX7_taken_68
            exact mP.of (by simp_all [takenF, rem, -Int32.not_le, -Int32.not_lt])
          · refine g_aload_n dX7_taken_52 rfl ?_
            refine mg_rows dX7_taken_53 ?_
            refine g_iconst (3) dX7_taken_56 rfl ?_
            refine g_iload_n dX7_taken_57 rfl ?_
            refine g_bipush (6) dX7_taken_58 rfl ?_
            refine g_isub dX7_taken_60 ?_
            refine g_imul dX7_taken_61 ?_
            refine mlc_rows (3 * (i - 6)) (by omega) (by rw [hsub]; simp only [nI, Int32.ofNat_add, Int32.ofNat_mul]; rfl) dX7_taken_62 ?_
            refine g_goto 68 dX7_taken_63 (by decide) ?_
            refine g_iret rfl (Nat.le_refl _) (Nat.le_refl _) ?_ dX7_taken_68
            exact mP.of (by simp_all [takenF, rem, -Int32.not_le, -Int32.not_lt])
        · refine g_bipush (-11) dX7_taken_37 rfl ?_
          refine g_iret rfl (Nat.le_refl _) (Nat.le_refl _) ?_ dX7_taken_39
          exact mP.of (by simp_all [takenF, rem, -Int32.not_le, -Int32.not_lt])
      · refine g_bipush (-2) dX7_taken_10 rfl ?_
        refine g_iret rfl (Nat.le_refl _) (Nat.le_refl _) ?_ dX7_taken_12
        exact mP.of (by simp_all [takenF, rem, -Int32.not_le, -Int32.not_lt])
end A
