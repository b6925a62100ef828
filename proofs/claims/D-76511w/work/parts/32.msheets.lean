/-! the reference: images, sheets, what is fed -/
set_option maxRecDepth 100000
theorem lt_ix {p f : Int32} {n : Nat} (hn : f = nI n) (hn6 : n < 2 ^ 30) (h : ¬ inI p 0 (f - 1) = 0) : ∃ k : Nat, k < n ∧ p = nI k := by
  have h1 : 0 ≤ p ∧ p ≤ f - 1 := by
    unfold inI at h; split at h
    · assumption
    · exact absurd rfl h
  subst hn
  match n, hn6 with
  | 0, _ => exact absurd (Int32.le_trans h1.1 h1.2) (by decide)
  | m + 1, h6 =>
    rw [nI_pred] at h1
    obtain ⟨k, hk, rfl⟩ := nI_of2 (M := nI m) (n := m) (nI_toInt (by omega)) (Int32.not_lt.mpr h1.1) h1.2
    exact ⟨k, by omega, rfl⟩
theorem lt_or (p : Int32) {f : Int32} {n : Nat} (hn : f = nI n) (hn6 : n < 2 ^ 30) : inI p 0 (f - 1) = 0 ∨ ∃ k : Nat, k < n ∧ p = nI k ∧ inI p 0 (f - 1) = 1 := by
  by_cases h : inI p 0 (f - 1) = 0
  · exact Or.inl h
  · obtain ⟨k, hk, he⟩ := lt_ix hn hn6 h
    exact Or.inr ⟨k, hk, he, in_1 h⟩
def zr (f : Nat → Int32) (s i : Nat) : Nat → Int32 := fun j => if 40 * s ≤ j ∧ j < 40 * s + i then 0 else f j
theorem zr_0 (f : Nat → Int32) (s : Nat) : zr f s 0 = f := by funext j; unfold zr; rw [if_neg (by omega)]
theorem zr_s (f : Nat → Int32) (s i : Nat) : upd (zr f s i) (40 * s + i) 0 = zr f s (i + 1) := by
  funext j
  by_cases h : j = 40 * s + i
  · subst h; rw [upd_same]; unfold zr; rw [if_pos (by omega)]
  · rw [upd_ne _ _ h]; unfold zr
    by_cases h2 : 40 * s ≤ j ∧ j < 40 * s + i
    · rw [if_pos h2, if_pos (by omega)]
    · rw [if_neg h2, if_neg (by omega)]
def cvS (so v : Int32) : Int32 := if so = 0 then v.toInt8.toInt32 else if so = 1 then v.toInt16.toInt32 else v
def pk5 (a b c d e : Int32) (k : Nat) : Int32 := if k = 0 then a else if k = 1 then b else if k = 2 then c else if k = 3 then d else e
def fdf (f : Nat → Int32) (q : Nat → Int32) (t i : Nat) : Nat → Int32 := fun j => if t ≤ j ∧ j < t + i then q (j - t) else f j
theorem fdf_0 (f q : Nat → Int32) (t : Nat) : fdf f q t 0 = f := by funext j; unfold fdf; rw [if_neg (by omega)]
theorem fdf_s (f q : Nat → Int32) (t i : Nat) : upd (fdf f q t i) (t + i) (q i) = fdf f q t (i + 1) := by
  funext j
  by_cases h : j = t + i
  · subst h; rw [upd_same]; unfold fdf; rw [if_pos (by omega)]; congr 1; omega
  · rw [upd_ne _ _ h]; unfold fdf
    by_cases h2 : t ≤ j ∧ j < t + i
    · rw [if_pos h2, if_pos (by omega)]
    · rw [if_neg h2, if_neg (by omega)]
def cpf (f : Nat → Int32) (a b n : Nat) : Nat → Int32 := fun q => if b ≤ q ∧ q < b + n then f (a + (q - b)) else f q
def cpd (f : Nat → Int32) (a b n k : Nat) : Nat → Int32 := fun q => if b + n - k ≤ q ∧ q < b + n then f (a + (q - b)) else f q
theorem cpf_0 (f : Nat → Int32) (a b : Nat) : cpf f a b 0 = f := by funext j; unfold cpf; rw [if_neg (by omega)]
theorem cpf_s (f : Nat → Int32) {a b : Nat} (k : Nat) (h : b ≤ a) : upd (cpf f a b k) (b + k) (cpf f a b k (a + k)) = cpf f a b (k + 1) := by
  have e : cpf f a b k (a + k) = f (a + k) := by unfold cpf; rw [if_neg (by omega)]
  rw [e]
  funext j
  by_cases h : j = b + k
  · subst h; rw [upd_same]; unfold cpf; rw [if_pos (by omega)]; congr 1; omega
  · rw [upd_ne _ _ h]; unfold cpf
    by_cases h2 : b ≤ j ∧ j < b + k
    · rw [if_pos h2, if_pos (by omega)]
    · rw [if_neg h2, if_neg (by omega)]
theorem cpd_0 (f : Nat → Int32) (a b n : Nat) : cpd f a b n 0 = f := by funext j; unfold cpd; rw [if_neg (by omega)]
theorem cpd_n (f : Nat → Int32) (a b n : Nat) : cpd f a b n n = cpf f a b n := by funext j; unfold cpd cpf; rw [show b + n - n = b by omega]
theorem cpd_s (f : Nat → Int32) {a b n : Nat} (k : Nat) (h : a < b) (hk : k < n) : upd (cpd f a b n k) (b + (n - 1 - k)) (cpd f a b n k (a + (n - 1 - k))) = cpd f a b n (k + 1) := by
  have e : cpd f a b n k (a + (n - 1 - k)) = f (a + (n - 1 - k)) := by unfold cpd; rw [if_neg (by omega)]
  rw [e]
  funext j
  by_cases h : j = b + (n - 1 - k)
  · subst h; rw [upd_same]; unfold cpd; rw [if_pos (by omega)]; congr 1; omega
  · rw [upd_ne _ _ h]; unfold cpd
    by_cases h2 : b + n - k ≤ j ∧ j < b + n
    · rw [if_pos h2, if_pos (by omega)]
    · rw [if_neg h2, if_neg (by omega)]
section D
variable (F : Nat → Int32) (A : Nat → Nat → Int32) (n : Nat) (ts : Nat → List Int32) (c : Cr)
def imageF : R4 := (F 0, upd F 12 1, sA (sA A 13 (kpi (A 13) c 18)) 14 (upd (upd (upd (upd (A 14) 0 (F 0)) 1 c.2.1) 2 c.2.2) 3 (F 11)), c)
def backF : R4 := if F 12 = 0 then (-3, F, A, c) else (A 14 0, upd (upd F 0 (A 14 0)) 11 (A 14 3), A, (kpi c.1 (A 13, 0, 0) 18, A 14 1, A 14 2))
def sheetF (s so m : Int32) : R4 := if inI s 0 3 = 0 ∨ inI so (-1) 2 = 0 ∨ (¬ so = -1 ∧ ¬ m ≤ 40) then (-2, F, A, c) else if ¬ so = -1 ∧ ¬ 0 ≤ m then (-14, F, A, c) else (1, F, sA (sA (sA A 15 (upd (A 15) (cn s) so)) 16 (upd (A 16) (cn s) (if so = -1 then 0 else m))) 17 (zr (A 17) (cn s) 40), c)
def cellF (s i v : Int32) : R4 := if inI s 0 3 = 0 then (-2, F, A, c) else if A 15 (cn s) = -1 then (-11, F, A, c) else if inI i 0 (A 16 (cn s) - 1) = 0 then (-12, F, A, c) else (1, F, sA A 17 (upd (A 17) (40 * cn s + cn i) (cvS (A 15 (cn s)) v)), c)
def feedF (m x1 x2 x3 x4 x5 : Int32) : R4 := if inI m 1 5 = 0 ∨ inI x1 0 255 = 0 ∨ inI x2 0 255 = 0 ∨ inI x3 0 255 = 0 ∨ inI x4 0 255 = 0 ∨ inI x5 0 255 = 0 then (-2, F, A, c) else if F 7 + m ≤ 160 then (F 7 + m, upd F 7 (F 7 + m), sA A 6 (fdf (A 6) (pk5 x1 x2 x3 x4 x5) (cn (F 7)) (cn m)), c) else (-4, F, A, c)
def copyF (s i o j m : Int32) : R4 := if inI s 0 3 = 0 ∨ inI o 0 3 = 0 then (-2, F, A, c) else if A 15 (cn s) = -1 ∨ A 15 (cn o) = -1 then (-11, F, A, c) else if ¬ A 15 (cn s) = A 15 (cn o) then (-13, F, A, c) else
  if m < 0 ∨ i < 0 ∨ j < 0 ∨ A 16 (cn s) < i ∨ A 16 (cn o) < j ∨ A 16 (cn s) - i < m ∨ ¬ m ≤ A 16 (cn o) - j then (-12, F, A, c) else (m, F, sA A 17 (cpf (A 17) (40 * cn s + cn i) (40 * cn o + cn j) (cn m)), c)
end D
section A
variable {g : GE} {b z n : Nat} {F : Nat → Int32} {A A2 : Nat → Nat → Int32} {ω0 ω : Om} {ts : Nat → List Int32} {c c0 : Cr} {f0 : Nat → Int32}
theorem l_image (hN : gN g ≤ b) : ∀ (m i : Nat), i ≤ 18 → 18 - i = m → GN g RX7 cX7_image 2 (some .int) 1 (mP g b ω0 z (imageF F A c)) (hM g b (mF (upd F 12 1) c) (mA (sA A 13 (kpi (A 13) c i)) c) A2 ω0) z 7 [(1, .int (nI i)), (0, .ref b)] [] := by
  intro m
  induction m using Nat.strongRecOn with
  | _ m ih =>
  intro i h1 h2
  refine g_iload_n dX7_image_7 rfl ?_
  refine g_bipush (18) dX7_image_8 rfl ?_
  refine g_icmp_ge 31 dX7_image_10 (by decide) (fun c1 => ?_) (fun c1 => ?_)
  · have ht : i = 18 := by have := (nI_leI (a := 18) (b := i) (by decide) (by omega)).mp c1; omega
    subst ht
    refine g_aload_n dX7_image_31 rfl ?_
    refine mg_imageHeld dX7_image_32 ?_
    refine g_iconst (0) dX7_image_35 rfl ?_
    refine g_aload_n dX7_image_36 rfl ?_
    refine mgc_fishers dX7_image_37 ?_
    refine msc_imageHeld (0) hN (by omega) (by first | rfl | (simp only [nI, Int32.ofNat_add, Int32.ofNat_mul]; rfl) | (simp only [nI, Int32.ofNat_add, Int32.ofNat_mul]; done)) dX7_image_40 ?_
    refine g_aload_n dX7_image_41 rfl ?_
    refine mg_imageHeld dX7_image_42 ?_
    refine g_iconst (1) dX7_image_45 rfl ?_
    refine g_aload_n dX7_image_46 rfl ?_
    refine mgc_sea dX7_image_47 ?_
    refine msc_imageHeld (1) hN (by omega) (by first | rfl | (simp only [nI, Int32.ofNat_add, Int32.ofNat_mul]; rfl) | (simp only [nI, Int32.ofNat_add, Int32.ofNat_mul]; done)) dX7_image_50 ?_
    refine g_aload_n dX7_image_51 rfl ?_
    refine mg_imageHeld dX7_image_52 ?_
    refine g_iconst (2) dX7_image_55 rfl ?_
    refine g_aload_n dX7_image_56 rfl ?_
    refine mgc_tides dX7_image_57 ?_
    refine msc_imageHeld (2) hN (by omega) (by first | rfl | (simp only [nI, Int32.ofNat_add, Int32.ofNat_mul]; rfl) | (simp only [nI, Int32.ofNat_add, Int32.ofNat_mul]; done)) dX7_image_60 ?_
    refine g_aload_n dX7_image_61 rfl ?_
    refine mg_imageHeld dX7_image_62 ?_
    refine g_iconst (3) dX7_image_65 rfl ?_
    refine g_aload_n dX7_image_66 rfl ?_
    refine mgc_rule dX7_image_67 ?_
    refine msc_imageHeld (3) hN (by omega) (by first | rfl | (simp only [nI, Int32.ofNat_add, Int32.ofNat_mul]; rfl) | (simp only [nI, Int32.ofNat_add, Int32.ofNat_mul]; done)) dX7_image_70 ?_
    refine g_aload_n dX7_image_71 rfl ?_
    refine mgc_fishers dX7_image_72 ?_
    refine g_iret rfl (Nat.le_refl _) (Nat.le_refl _) ?_ dX7_image_75
    refine mP.of ?_
    rw [sA_sA, sA_sA, sA_sA, sA_same, sA_same, sA_same]
    rfl
  · have ht : i < 18 := Nat.lt_of_not_le fun h => c1 (nI_le (a := 18) h (by omega))
    refine g_aload_n dX7_image_13 rfl ?_
    refine mg_imageRows dX7_image_14 ?_
    refine g_iload_n dX7_image_17 rfl ?_
    refine g_aload_n dX7_image_18 rfl ?_
    refine mg_rows dX7_image_19 ?_
    refine g_iload_n dX7_image_22 rfl ?_
    refine mlc_rows (i) (by omega) (by first | rfl | (simp only [nI, Int32.ofNat_add, Int32.ofNat_mul]; rfl) | (simp only [nI, Int32.ofNat_add, Int32.ofNat_mul]; done)) dX7_image_23 ?_
    refine msc_imageRows (i) hN (by omega) (by first | rfl | (simp only [nI, Int32.ofNat_add, Int32.ofNat_mul]; rfl) | (simp only [nI, Int32.ofNat_add, Int32.ofNat_mul]; done)) dX7_image_24 ?_
    refine g_iinc (nI (i + 1)) (L' := [(1, _), (0, _)]) dX7_image_25 rfl (nI_1 _) (by decide) rfl ?_
    refine g_goto 7 dX7_image_28 (by decide) ?_
    rw [sA_sA, sA_same, kpi_s]
    exact ih _ (by omega) (i + 1) (by omega) rfl
theorem c_image (hN : gN g ≤ b) : Ct g yX7_image cX7_image 2 (some .int) 1 0 0 [.ref b] (hM g b (mF F c) (mA A c) A2 ω0) z (mP g b ω0 z (imageF F A c)) := by
  refine Ct.at (own := RX7) (by decide) rfl (Nat.le_of_ble_eq_true rfl) rfl ?_
  refine g_aload_n dX7_image_0 rfl ?_
  refine g_iconst (1) dX7_image_1 rfl ?_
  refine mpc_hasImage hN rfl rfl dX7_image_2 ?_
  refine g_iconst (0) dX7_image_5 rfl ?_
  refine g_istore_n (L' := [(1, _), (0, _)]) dX7_image_6 (by decide) rfl ?_
  have h := l_image (g := g) (b := b) (z := z) (F := F) (A := A) (A2 := A2) (ω0 := ω0) (c := c) hN 18 0 (by omega) rfl
  rw [show kpi (A 13) c 0 = A 13 from rfl, sA_self] at h
  exact h
theorem l_back (hN : gN g ≤ b) (hF : ¬ F 12 = 0) : ∀ (m i : Nat), i ≤ 18 → 18 - i = m → GN g RX7 cX7_back 2 (some .int) 1 (mP g b ω0 z (backF F A c)) (hM g b (mF F (kpi c.1 (A 13, 0, 0) i, c.2.1, c.2.2)) (mA A (kpi c.1 (A 13, 0, 0) i, c.2.1, c.2.2)) A2 ω0) z 12 [(1, .int (nI i)), (0, .ref b)] [] := by
  intro m
  induction m using Nat.strongRecOn with
  | _ m ih =>
  intro i h1 h2
  refine g_iload_n dX7_back_12 rfl ?_
  refine g_bipush (18) dX7_back_13 rfl ?_
  refine g_icmp_ge 36 dX7_back_15 (by decide) (fun c1 => ?_) (fun c1 => ?_)
  · have ht : i = 18 := by have := (nI_leI (a := 18) (b := i) (by decide) (by omega)).mp c1; omega
    subst ht
    refine g_aload_n dX7_back_36 rfl ?_
    refine g_aload_n dX7_back_37 rfl ?_
    refine mg_imageHeld dX7_back_38 ?_
    refine g_iconst (0) dX7_back_41 rfl ?_
    refine mlc_imageHeld (0) (by omega) (by first | rfl | (simp only [nI, Int32.ofNat_add, Int32.ofNat_mul]; rfl) | (simp only [nI, Int32.ofNat_add, Int32.ofNat_mul]; done)) dX7_back_42 ?_
    refine mpc_fishers hN  dX7_back_43 ?_
    refine g_aload_n dX7_back_46 rfl ?_
    refine g_aload_n dX7_back_47 rfl ?_
    refine mg_imageHeld dX7_back_48 ?_
    refine g_iconst (1) dX7_back_51 rfl ?_
    refine mlc_imageHeld (1) (by omega) (by first | rfl | (simp only [nI, Int32.ofNat_add, Int32.ofNat_mul]; rfl) | (simp only [nI, Int32.ofNat_add, Int32.ofNat_mul]; done)) dX7_back_52 ?_
    refine mpc_sea hN  dX7_back_53 ?_
    refine g_aload_n dX7_back_56 rfl ?_
    refine g_aload_n dX7_back_57 rfl ?_
    refine mg_imageHeld dX7_back_58 ?_
    refine g_iconst (2) dX7_back_61 rfl ?_
    refine mlc_imageHeld (2) (by omega) (by first | rfl | (simp only [nI, Int32.ofNat_add, Int32.ofNat_mul]; rfl) | (simp only [nI, Int32.ofNat_add, Int32.ofNat_mul]; done)) dX7_back_62 ?_
    refine mpc_tides hN  dX7_back_63 ?_
    refine g_aload_n dX7_back_66 rfl ?_
    refine g_aload_n dX7_back_67 rfl ?_
    refine mg_imageHeld dX7_back_68 ?_
    refine g_iconst (3) dX7_back_71 rfl ?_
    refine mlc_imageHeld (3) (by omega) (by first | rfl | (simp only [nI, Int32.ofNat_add, Int32.ofNat_mul]; rfl) | (simp only [nI, Int32.ofNat_add, Int32.ofNat_mul]; done)) dX7_back_72 ?_
    refine mpc_rule hN  dX7_back_73 ?_
    refine g_aload_n dX7_back_76 rfl ?_
    refine mgc_fishers dX7_back_77 ?_
    refine g_iret rfl (Nat.le_refl _) (Nat.le_refl _) ?_ dX7_back_80
    exact mP.of (by rw [backF, if_neg hF]; rfl)
  · have ht : i < 18 := Nat.lt_of_not_le fun h => c1 (nI_le (a := 18) h (by omega))
    refine g_aload_n dX7_back_18 rfl ?_
    refine mg_rows dX7_back_19 ?_
    refine g_iload_n dX7_back_22 rfl ?_
    refine g_aload_n dX7_back_23 rfl ?_
    refine mg_imageRows dX7_back_24 ?_
    refine g_iload_n dX7_back_27 rfl ?_
    refine mlc_imageRows (i) (by omega) (by first | rfl | (simp only [nI, Int32.ofNat_add, Int32.ofNat_mul]; rfl) | (simp only [nI, Int32.ofNat_add, Int32.ofNat_mul]; done)) dX7_back_28 ?_
    refine msc_rows (i) hN (by omega) (by first | rfl | (simp only [nI, Int32.ofNat_add, Int32.ofNat_mul]; rfl) | (simp only [nI, Int32.ofNat_add, Int32.ofNat_mul]; done)) dX7_back_29 ?_
    refine g_iinc (nI (i + 1)) (L' := [(1, _), (0, _)]) dX7_back_30 rfl (nI_1 _) (by decide) rfl ?_
    refine g_goto 12 dX7_back_33 (by decide) ?_
    have e := kpi_s c.1 (A 13, 0, 0) i
    dsimp only at e ⊢
    rw [e]
    exact ih _ (by omega) (i + 1) (by omega) rfl
theorem c_back (hN : gN g ≤ b) : Ct g yX7_back cX7_back 2 (some .int) 1 0 0 [.ref b] (hM g b (mF F c) (mA A c) A2 ω0) z (mP g b ω0 z (backF F A c)) := by
  refine Ct.at (own := RX7) (by decide) rfl (Nat.le_of_ble_eq_true rfl) rfl ?_
  by_cases h : F 12 = 0
  · refine g_aload_n dX7_back_0 rfl ?_
    refine mgc_hasImage dX7_back_1 ?_
    refine g_if_ne 10 dX7_back_4 (by decide) (fun h9 => absurd h h9) (fun _ => ?_)
    refine g_bipush (-3) dX7_back_7 rfl ?_
    refine g_iret rfl (Nat.le_refl _) (Nat.le_refl _) ?_ dX7_back_9
    exact mP.of (by rw [backF, if_pos h])
  · refine g_aload_n dX7_back_0 rfl ?_
    refine mgc_hasImage dX7_back_1 ?_
    refine g_if_ne 10 dX7_back_4 (by decide) (fun _ => ?_) (fun h9 => absurd h9 h)
    refine g_iconst (0) dX7_back_10 rfl ?_
    refine g_istore_n (L' := [(1, _), (0, _)]) dX7_back_11 (by decide) rfl ?_
    exact l_back hN h 18 0 (by omega) rfl
theorem l_sheet {s : Nat} {so m : Int32} (hN : gN g ≤ b) (hs : s < 4) {o : R4} (ho : o = (1, F, sA A 17 (zr f0 s 40), c)) : ∀ (m' i : Nat), i ≤ 40 → 40 - i = m' → GN g RX7 cX7_sheet 5 (some .int) 2 (mP g b ω0 z o) (hM g b (mF F c) (mA (sA A 17 (zr f0 s i)) c) A2 ω0) z 70 [(4, .int (nI i)), (0, .ref b), (1, .int (nI s)), (2, .int so), (3, .int m)] [] := by
  subst ho
  intro m'
  induction m' using Nat.strongRecOn with
  | _ m' ih =>
  intro i h1 h2
  refine g_iload dX7_sheet_70 rfl ?_
  refine g_bipush (40) dX7_sheet_72 rfl ?_
  refine g_icmp_ge 96 dX7_sheet_74 (by decide) (fun c1 => ?_) (fun c1 => ?_)
  · have ht : i = 40 := by have := (nI_leI (a := 40) (b := i) (by decide) (by omega)).mp c1; omega
    subst ht
    refine g_iconst (1) dX7_sheet_96 rfl ?_
    refine g_iret rfl (Nat.le_refl _) (Nat.le_refl _) ?_ dX7_sheet_97
    exact mP.of rfl
  · have ht : i < 40 := Nat.lt_of_not_le fun h => c1 (nI_le (a := 40) h (by omega))
    refine g_aload_n dX7_sheet_77 rfl ?_
    refine mg_cells dX7_sheet_78 ?_
    refine g_bipush (40) dX7_sheet_81 rfl ?_
    refine g_iload_n dX7_sheet_83 rfl ?_
    refine g_imul dX7_sheet_84 ?_
    refine g_iload dX7_sheet_85 rfl ?_
    refine g_iadd dX7_sheet_87 ?_
    refine g_iconst (0) dX7_sheet_88 rfl ?_
    refine msc_cells (((40 * s) + i)) hN (by omega) (by first | rfl | (simp only [nI, Int32.ofNat_add, Int32.ofNat_mul]; rfl) | (simp only [nI, Int32.ofNat_add, Int32.ofNat_mul]; done)) dX7_sheet_89 ?_
    refine g_iinc (nI (i + 1)) (L' := [(4, _), (0, _), (1, _), (2, _), (3, _)]) dX7_sheet_90 rfl (nI_1 _) (by decide) rfl ?_
    refine g_goto 70 dX7_sheet_93 (by decide) ?_
    rw [sA_sA, sA_same, zr_s]
    exact ih _ (by omega) (i + 1) (by omega) rfl
theorem c_sheet {s so m : Int32} (hN : gN g ≤ b) : Ct g yX7_sheet cX7_sheet 5 (some .int) 2 0 0 [.ref b, .int s, .int so, .int m] (hM g b (mF F c) (mA A c) A2 ω0) z (mP g b ω0 z (sheetF F A c s so m)) := by
  refine Ct.at (own := RX7) (by decide) rfl (Nat.le_of_ble_eq_true rfl) rfl ?_
  rcases in_or s (hi := 3) (m := 3) (by decide) with h1 | ⟨s, hs, rfl, h1⟩
  · refine g_iload_n dX7_sheet_0 rfl ?_
    refine g_iconst (0) dX7_sheet_1 rfl ?_
    refine g_iconst (3) dX7_sheet_2 rfl ?_
    refine gs_calli (n := 3) (c_in ) (lw_S q1405 q1406 q92 q1407) (by decide +kernel) rfl rfl (by decide) ⟨Nat.le_refl _, Nat.le_refl _⟩ (Nat.le_of_ble_eq_true rfl) dX7_sheet_3 ?_
    refine g_if_eq 29 dX7_sheet_6 (by decide) (fun _ => ?_) (fun h9 => absurd h1 h9)
    refine g_bipush (-2) dX7_sheet_29 rfl ?_
    refine g_iret rfl (Nat.le_refl _) (Nat.le_refl _) ?_ dX7_sheet_31
    exact mP.of (by rw [sheetF, if_pos (Or.inl h1)])
  · have hcs : cn (nI s) = s := nI_clamp (by omega)
    have fin : ∀ (x : Int32) (A2 : Nat → Nat → Int32), ¬ (inI (nI s) 0 3 = 0 ∨ inI so (-1) 2 = 0 ∨ (¬ so = -1 ∧ ¬ m ≤ 40)) → ¬ (¬ so = -1 ∧ ¬ 0 ≤ m) → x = (if so = -1 then 0 else m) → GN g RX7 cX7_sheet 5 (some .int) 2 (mP g b ω0 z (sheetF F A c (nI s) so m)) (hM g b (mF F c) (mA (sA (sA A 15 (upd (A 15) s so)) 16 (upd (A 16) s x)) c) A2 ω0) z 70 [(4, .int (nI 0)), (0, .ref b), (1, .int (nI s)), (2, .int so), (3, .int m)] [] := by
      intro x A2 q1 q2 hx
      have h := l_sheet (s := s) (g := g) (b := b) (z := z) (F := F) (A := sA (sA A 15 (upd (A 15) s so)) 16 (upd (A 16) s x)) (A2 := A2) (ω0 := ω0) (c := c) (f0 := A 17) (so := so) (m := m) (o := sheetF F A c (nI s) so m) hN (by omega) (by rw [sheetF, if_neg q1, if_neg q2, hcs, hx]) 40 0 (by omega) rfl
      rw [zr_0, show A 17 = sA (sA A 15 (upd (A 15) s so)) 16 (upd (A 16) s x) 17 from rfl, sA_self] at h
      exact h
    by_cases hso : so = -1
    · subst hso
      refine g_iload_n dX7_sheet_0 rfl ?_
      refine g_iconst (0) dX7_sheet_1 rfl ?_
      refine g_iconst (3) dX7_sheet_2 rfl ?_
      refine gs_calli (n := 3) (c_in ) (lw_S q1405 q1406 q92 q1407) (by decide +kernel) rfl rfl (by decide) ⟨Nat.le_refl _, Nat.le_refl _⟩ (Nat.le_of_ble_eq_true rfl) dX7_sheet_3 ?_
      refine g_if_eq 29 dX7_sheet_6 (by decide) (fun h9 => absurd h9 (by rw [h1]; decide)) (fun _ => ?_)
      refine g_iload_n dX7_sheet_9 rfl ?_
      refine g_iconst (-1) dX7_sheet_10 rfl ?_
      refine g_iconst (2) dX7_sheet_11 rfl ?_
      refine gs_calli (n := 3) (c_in ) (lw_S q1405 q1406 q92 q1407) (by decide +kernel) rfl rfl (by decide) ⟨Nat.le_refl _, Nat.le_refl _⟩ (Nat.le_of_ble_eq_true rfl) dX7_sheet_12 ?_
      refine g_if_eq 29 dX7_sheet_15 (by decide) (fun h9 => absurd h9 (by decide)) (fun _ => ?_)
      refine g_iload_n dX7_sheet_18 rfl ?_
      refine g_iconst (-1) dX7_sheet_19 rfl ?_
      refine g_icmp_eq 32 dX7_sheet_20 (by decide) (fun _ => ?_) (fun h9 => absurd rfl h9)
      refine g_iload_n dX7_sheet_32 rfl ?_
      refine g_iconst (-1) dX7_sheet_33 rfl ?_
      refine g_icmp_eq 44 dX7_sheet_34 (by decide) (fun _ => ?_) (fun h9 => absurd rfl h9)
      refine g_aload_n dX7_sheet_44 rfl ?_
      refine mg_sheetSort dX7_sheet_45 ?_
      refine g_iload_n dX7_sheet_48 rfl ?_
      refine g_iload_n dX7_sheet_49 rfl ?_
      refine msc_sheetSort (s) hN (by omega) (by first | rfl | (simp only [nI, Int32.ofNat_add, Int32.ofNat_mul]; rfl) | (simp only [nI, Int32.ofNat_add, Int32.ofNat_mul]; done)) dX7_sheet_50 ?_
      refine g_aload_n dX7_sheet_51 rfl ?_
      refine mg_sheetSize dX7_sheet_52 ?_
      refine g_iload_n dX7_sheet_55 rfl ?_
      refine g_iload_n dX7_sheet_56 rfl ?_
      refine g_iconst (-1) dX7_sheet_57 rfl ?_
      refine g_icmp_ne 65 dX7_sheet_58 (by decide) (fun h9 => absurd rfl h9) (fun _ => ?_)
      refine g_iconst (0) dX7_sheet_61 rfl ?_
      refine g_goto 66 dX7_sheet_62 (by decide) ?_
      refine msc_sheetSize (s) hN (by omega) (by first | rfl | (simp only [nI, Int32.ofNat_add, Int32.ofNat_mul]; rfl) | (simp only [nI, Int32.ofNat_add, Int32.ofNat_mul]; done)) dX7_sheet_66 ?_
      refine g_iconst (0) dX7_sheet_67 rfl ?_
      refine g_istore (L' := [(4, _), (0, _), (1, _), (2, _), (3, _)]) dX7_sheet_68 (by decide) rfl ?_
      exact fin 0 _ (fun h => by rcases h with h | h | h; (rw [h1] at h; exact absurd h (by decide)); exact absurd h (by decide); exact h.1 rfl) (fun h => h.1 rfl) rfl
    · by_cases h2 : inI so (-1) 2 = 0
      · refine g_iload_n dX7_sheet_0 rfl ?_
        refine g_iconst (0) dX7_sheet_1 rfl ?_
        refine g_iconst (3) dX7_sheet_2 rfl ?_
        refine gs_calli (n := 3) (c_in ) (lw_S q1405 q1406 q92 q1407) (by decide +kernel) rfl rfl (by decide) ⟨Nat.le_refl _, Nat.le_refl _⟩ (Nat.le_of_ble_eq_true rfl) dX7_sheet_3 ?_
        refine g_if_eq 29 dX7_sheet_6 (by decide) (fun h9 => absurd h9 (by rw [h1]; decide)) (fun _ => ?_)
        refine g_iload_n dX7_sheet_9 rfl ?_
        refine g_iconst (-1) dX7_sheet_10 rfl ?_
        refine g_iconst (2) dX7_sheet_11 rfl ?_
        refine gs_calli (n := 3) (c_in ) (lw_S q1405 q1406 q92 q1407) (by decide +kernel) rfl rfl (by decide) ⟨Nat.le_refl _, Nat.le_refl _⟩ (Nat.le_of_ble_eq_true rfl) dX7_sheet_12 ?_
        refine g_if_eq 29 dX7_sheet_15 (by decide) (fun _ => ?_) (fun h9 => absurd h2 h9)
        refine g_bipush (-2) dX7_sheet_29 rfl ?_
        refine g_iret rfl (Nat.le_refl _) (Nat.le_refl _) ?_ dX7_sheet_31
        exact mP.of (by rw [sheetF, if_pos (Or.inr (Or.inl h2))])
      · refine g_iload_n dX7_sheet_0 rfl ?_
        refine g_iconst (0) dX7_sheet_1 rfl ?_
        refine g_iconst (3) dX7_sheet_2 rfl ?_
        refine gs_calli (n := 3) (c_in ) (lw_S q1405 q1406 q92 q1407) (by decide +kernel) rfl rfl (by decide) ⟨Nat.le_refl _, Nat.le_refl _⟩ (Nat.le_of_ble_eq_true rfl) dX7_sheet_3 ?_
        refine g_if_eq 29 dX7_sheet_6 (by decide) (fun h9 => absurd h9 (by rw [h1]; decide)) (fun _ => ?_)
        refine g_iload_n dX7_sheet_9 rfl ?_
        refine g_iconst (-1) dX7_sheet_10 rfl ?_
        refine g_iconst (2) dX7_sheet_11 rfl ?_
        refine gs_calli (n := 3) (c_in ) (lw_S q1405 q1406 q92 q1407) (by decide +kernel) rfl rfl (by decide) ⟨Nat.le_refl _, Nat.le_refl _⟩ (Nat.le_of_ble_eq_true rfl) dX7_sheet_12 ?_
        refine g_if_eq 29 dX7_sheet_15 (by decide) (fun h9 => absurd h9 h2) (fun _ => ?_)
        refine g_iload_n dX7_sheet_18 rfl ?_
        refine g_iconst (-1) dX7_sheet_19 rfl ?_
        refine g_icmp_eq 32 dX7_sheet_20 (by decide) (fun h9 => absurd h9 hso) (fun _ => ?_)
        refine g_iload_n dX7_sheet_23 rfl ?_
        refine g_bipush (40) dX7_sheet_24 rfl ?_
        refine g_icmp_le 32 dX7_sheet_26 (by decide) (fun c1 => ?_) (fun c1 => ?_)
        · refine g_iload_n dX7_sheet_32 rfl ?_
          refine g_iconst (-1) dX7_sheet_33 rfl ?_
          refine g_icmp_eq 44 dX7_sheet_34 (by decide) (fun h9 => absurd h9 hso) (fun _ => ?_)
          refine g_iload_n dX7_sheet_37 rfl ?_
          refine g_if_ge 44 dX7_sheet_38 (by decide) (fun c2 => ?_) (fun c2 => ?_)
          · refine g_aload_n dX7_sheet_44 rfl ?_
            refine mg_sheetSort dX7_sheet_45 ?_
            refine g_iload_n dX7_sheet_48 rfl ?_
            refine g_iload_n dX7_sheet_49 rfl ?_
            refine msc_sheetSort (s) hN (by omega) (by first | rfl | (simp only [nI, Int32.ofNat_add, Int32.ofNat_mul]; rfl) | (simp only [nI, Int32.ofNat_add, Int32.ofNat_mul]; done)) dX7_sheet_50 ?_
            refine g_aload_n dX7_sheet_51 rfl ?_
            refine mg_sheetSize dX7_sheet_52 ?_
            refine g_iload_n dX7_sheet_55 rfl ?_
            refine g_iload_n dX7_sheet_56 rfl ?_
            refine g_iconst (-1) dX7_sheet_57 rfl ?_
            refine g_icmp_ne 65 dX7_sheet_58 (by decide) (fun _ => ?_) (fun h9 => absurd h9 hso)
            refine g_iload_n dX7_sheet_65 rfl ?_
            refine msc_sheetSize (s) hN (by omega) (by first | rfl | (simp only [nI, Int32.ofNat_add, Int32.ofNat_mul]; rfl) | (simp only [nI, Int32.ofNat_add, Int32.ofNat_mul]; done)) dX7_sheet_66 ?_
            refine g_iconst (0) dX7_sheet_67 rfl ?_
            refine g_istore (L' := [(4, _), (0, _), (1, _), (2, _), (3, _)]) dX7_sheet_68 (by decide) rfl ?_
            exact fin m _ (fun h => by rcases h with h | h | h; (rw [h1] at h; exact absurd h (by decide)); exact h2 h; exact h.2 c1) (fun h => h.2 c2) (if_neg hso).symm
          · refine g_bipush (-14) dX7_sheet_41 rfl ?_
            refine g_iret rfl (Nat.le_refl _) (Nat.le_refl _) ?_ dX7_sheet_43
            exact mP.of (by rw [sheetF, if_neg (fun h => by rcases h with h | h | h; (rw [h1] at h; exact absurd h (by decide)); exact h2 h; exact h.2 c1), if_pos ⟨hso, c2⟩])
        · refine g_bipush (-2) dX7_sheet_29 rfl ?_
          refine g_iret rfl (Nat.le_refl _) (Nat.le_refl _) ?_ dX7_sheet_31
          exact mP.of (by rw [sheetF, if_pos (Or.inr (Or.inr ⟨hso, c1⟩))])
theorem c_cell {s i v : Int32} (hN : gN g ≤ b) (hS : ShM A) : Ct g yX7_cell cX7_cell 4 (some .int) 2 0 0 [.ref b, .int s, .int i, .int v] (hM g b (mF F c) (mA A c) A2 ω0) z (mP g b ω0 z (cellF F A c s i v)) := by
  refine Ct.at (own := RX7) (by decide) rfl (Nat.le_of_ble_eq_true rfl) rfl ?_
  rcases in_or s (hi := 3) (m := 3) (by decide) with h1 | ⟨s, hs, rfl, h1⟩
  · refine g_iload_n dX7_cell_0 rfl ?_
    refine g_iconst (0) dX7_cell_1 rfl ?_
    refine g_iconst (3) dX7_cell_2 rfl ?_
    refine gs_calli (n := 3) (c_in ) (lw_S q1405 q1406 q92 q1407) (by decide +kernel) rfl rfl (by decide) ⟨Nat.le_refl _, Nat.le_refl _⟩ (Nat.le_of_ble_eq_true rfl) dX7_cell_3 ?_
    refine g_if_ne 12 dX7_cell_6 (by decide) (fun h9 => absurd h1 h9) (fun _ => ?_)
    refine g_bipush (-2) dX7_cell_9 rfl ?_
    refine g_iret rfl (Nat.le_refl _) (Nat.le_refl _) ?_ dX7_cell_11
    exact mP.of (by rw [cellF, if_pos h1])
  · have hcs : cn (nI s) = s := nI_clamp (by omega)
    obtain ⟨m, hm, hm2⟩ := hS s (by omega)
    rw [cellF, if_neg (by rw [h1]; decide), hcs]
    rcases lt_or i hm2 (by omega) with h2 | ⟨i, hi, rfl, h2⟩
    · refine g_iload_n dX7_cell_0 rfl ?_
      refine g_iconst (0) dX7_cell_1 rfl ?_
      refine g_iconst (3) dX7_cell_2 rfl ?_
      refine gs_calli (n := 3) (c_in ) (lw_S q1405 q1406 q92 q1407) (by decide +kernel) rfl rfl (by decide) ⟨Nat.le_refl _, Nat.le_refl _⟩ (Nat.le_of_ble_eq_true rfl) dX7_cell_3 ?_
      refine g_if_ne 12 dX7_cell_6 (by decide) (fun _ => ?_) (fun h9 => absurd h9 (by rw [h1]; decide))
      refine g_aload_n dX7_cell_12 rfl ?_
      refine mg_sheetSort dX7_cell_13 ?_
      refine g_iload_n dX7_cell_16 rfl ?_
      refine mlc_sheetSort (s) (by omega) (by first | rfl | (simp only [nI, Int32.ofNat_add, Int32.ofNat_mul]; rfl) | (simp only [nI, Int32.ofNat_add, Int32.ofNat_mul]; done)) dX7_cell_17 ?_
      refine g_iconst (-1) dX7_cell_18 rfl ?_
      refine g_icmp_ne 25 dX7_cell_19 (by decide) (fun c1 => ?_) (fun c1 => ?_)
      · rw [if_neg c1, if_pos h2]
        refine g_iload_n dX7_cell_25 rfl ?_
        refine g_iconst (0) dX7_cell_26 rfl ?_
        refine g_aload_n dX7_cell_27 rfl ?_
        refine mg_sheetSize dX7_cell_28 ?_
        refine g_iload_n dX7_cell_31 rfl ?_
        refine mlc_sheetSize (s) (by omega) (by first | rfl | (simp only [nI, Int32.ofNat_add, Int32.ofNat_mul]; rfl) | (simp only [nI, Int32.ofNat_add, Int32.ofNat_mul]; done)) dX7_cell_32 ?_
        refine g_iconst (1) dX7_cell_33 rfl ?_
        refine g_isub dX7_cell_34 ?_
        refine gs_calli (n := 3) (c_in ) (lw_S q1405 q1406 q92 q1407) (by decide +kernel) rfl rfl (by decide) ⟨Nat.le_refl _, Nat.le_refl _⟩ (Nat.le_of_ble_eq_true rfl) dX7_cell_35 ?_
        refine g_if_ne 44 dX7_cell_38 (by decide) (fun h9 => absurd h2 h9) (fun _ => ?_)
        refine g_bipush (-12) dX7_cell_41 rfl ?_
        refine g_iret rfl (Nat.le_refl _) (Nat.le_refl _) ?_ dX7_cell_43
        exact mP.of rfl
      · rw [if_pos c1]
        refine g_bipush (-11) dX7_cell_22 rfl ?_
        refine g_iret rfl (Nat.le_refl _) (Nat.le_refl _) ?_ dX7_cell_24
        exact mP.of rfl
    · have hci : cn (nI i) = i := nI_clamp (by omega)
      rw [if_neg (show ¬ inI (nI i) 0 (A 16 s - 1) = 0 by rw [h2]; decide), hci]
      refine g_iload_n dX7_cell_0 rfl ?_
      refine g_iconst (0) dX7_cell_1 rfl ?_
      refine g_iconst (3) dX7_cell_2 rfl ?_
      refine gs_calli (n := 3) (c_in ) (lw_S q1405 q1406 q92 q1407) (by decide +kernel) rfl rfl (by decide) ⟨Nat.le_refl _, Nat.le_refl _⟩ (Nat.le_of_ble_eq_true rfl) dX7_cell_3 ?_
      refine g_if_ne 12 dX7_cell_6 (by decide) (fun _ => ?_) (fun h9 => absurd h9 (by rw [h1]; decide))
      refine g_aload_n dX7_cell_12 rfl ?_
      refine mg_sheetSort dX7_cell_13 ?_
      refine g_iload_n dX7_cell_16 rfl ?_
      refine mlc_sheetSort (s) (by omega) (by first | rfl | (simp only [nI, Int32.ofNat_add, Int32.ofNat_mul]; rfl) | (simp only [nI, Int32.ofNat_add, Int32.ofNat_mul]; done)) dX7_cell_17 ?_
      refine g_iconst (-1) dX7_cell_18 rfl ?_
      refine g_icmp_ne 25 dX7_cell_19 (by decide) (fun c1 => ?_) (fun c1 => ?_)
      · rw [if_neg c1]
        refine g_iload_n dX7_cell_25 rfl ?_
        refine g_iconst (0) dX7_cell_26 rfl ?_
        refine g_aload_n dX7_cell_27 rfl ?_
        refine mg_sheetSize dX7_cell_28 ?_
        refine g_iload_n dX7_cell_31 rfl ?_
        refine mlc_sheetSize (s) (by omega) (by first | rfl | (simp only [nI, Int32.ofNat_add, Int32.ofNat_mul]; rfl) | (simp only [nI, Int32.ofNat_add, Int32.ofNat_mul]; done)) dX7_cell_32 ?_
        refine g_iconst (1) dX7_cell_33 rfl ?_
        refine g_isub dX7_cell_34 ?_
        refine gs_calli (n := 3) (c_in ) (lw_S q1405 q1406 q92 q1407) (by decide +kernel) rfl rfl (by decide) ⟨Nat.le_refl _, Nat.le_refl _⟩ (Nat.le_of_ble_eq_true rfl) dX7_cell_35 ?_
        refine g_if_ne 44 dX7_cell_38 (by decide) (fun _ => ?_) (fun h9 => absurd h9 (by rw [h2]; decide))
        refine g_aload_n dX7_cell_44 rfl ?_
        refine mg_cells dX7_cell_45 ?_
        refine g_bipush (40) dX7_cell_48 rfl ?_
        refine g_iload_n dX7_cell_50 rfl ?_
        refine g_imul dX7_cell_51 ?_
        refine g_iload_n dX7_cell_52 rfl ?_
        refine g_iadd dX7_cell_53 ?_
        refine g_aload_n dX7_cell_54 rfl ?_
        refine mg_sheetSort dX7_cell_55 ?_
        refine g_iload_n dX7_cell_58 rfl ?_
        refine mlc_sheetSort (s) (by omega) (by first | rfl | (simp only [nI, Int32.ofNat_add, Int32.ofNat_mul]; rfl) | (simp only [nI, Int32.ofNat_add, Int32.ofNat_mul]; done)) dX7_cell_59 ?_
        refine g_if_ne 68 dX7_cell_60 (by decide) (fun c2 => ?_) (fun c2 => ?_)
        · refine g_aload_n dX7_cell_68 rfl ?_
          refine mg_sheetSort dX7_cell_69 ?_
          refine g_iload_n dX7_cell_72 rfl ?_
          refine mlc_sheetSort (s) (by omega) (by first | rfl | (simp only [nI, Int32.ofNat_add, Int32.ofNat_mul]; rfl) | (simp only [nI, Int32.ofNat_add, Int32.ofNat_mul]; done)) dX7_cell_73 ?_
          refine g_iconst (1) dX7_cell_74 rfl ?_
          refine g_icmp_ne 83 dX7_cell_75 (by decide) (fun c3 => ?_) (fun c3 => ?_)
          · refine g_iload_n dX7_cell_83 rfl ?_
            refine msc_cells (((40 * s) + i)) hN (by omega) (by first | rfl | (simp only [nI, Int32.ofNat_add, Int32.ofNat_mul]; rfl) | (simp only [nI, Int32.ofNat_add, Int32.ofNat_mul]; done)) dX7_cell_84 ?_
            refine g_iconst (1) dX7_cell_85 rfl ?_
            refine g_iret rfl (Nat.le_refl _) (Nat.le_refl _) ?_ dX7_cell_86
            exact mP.of (by simp_all [cvS])
          · refine g_iload_n dX7_cell_78 rfl ?_
            refine g_i2s dX7_cell_79 ?_
            refine g_goto 84 dX7_cell_80 (by decide) ?_
            refine msc_cells (((40 * s) + i)) hN (by omega) (by first | rfl | (simp only [nI, Int32.ofNat_add, Int32.ofNat_mul]; rfl) | (simp only [nI, Int32.ofNat_add, Int32.ofNat_mul]; done)) dX7_cell_84 ?_
            refine g_iconst (1) dX7_cell_85 rfl ?_
            refine g_iret rfl (Nat.le_refl _) (Nat.le_refl _) ?_ dX7_cell_86
            exact mP.of (by simp_all [cvS])
        · refine g_iload_n dX7_cell_63 rfl ?_
          refine g_i2b dX7_cell_64 ?_
          refine g_goto 84 dX7_cell_65 (by decide) ?_
          refine msc_cells (((40 * s) + i)) hN (by omega) (by first | rfl | (simp only [nI, Int32.ofNat_add, Int32.ofNat_mul]; rfl) | (simp only [nI, Int32.ofNat_add, Int32.ofNat_mul]; done)) dX7_cell_84 ?_
          refine g_iconst (1) dX7_cell_85 rfl ?_
          refine g_iret rfl (Nat.le_refl _) (Nat.le_refl _) ?_ dX7_cell_86
          exact mP.of (by simp_all [cvS])
      · rw [if_pos c1]
        refine g_bipush (-11) dX7_cell_22 rfl ?_
        refine g_iret rfl (Nat.le_refl _) (Nat.le_refl _) ?_ dX7_cell_24
        exact mP.of rfl
theorem l_feed {m tp : Nat} {x1 x2 x3 x4 x5 : Int32} (hN : gN g ≤ b) (hm : m ≤ 5) (htp : tp + m ≤ 160) {o : R4} (ho : o = (nI (tp + m), upd F 7 (nI (tp + m)), sA A 6 (fdf f0 (pk5 x1 x2 x3 x4 x5) tp m), c)) :
    ∀ (f k : Nat), k + f = m → GN g RX7 cX7_feed 8 (some .int) 3 (mP g b ω0 z o) (hM g b (mF (upd F 7 (nI (tp + k))) c) (mA (sA A 6 (fdf f0 (pk5 x1 x2 x3 x4 x5) tp k)) c) A2 ω0) z 68 [(7, .int (nI k)), (0, .ref b), (1, .int (nI m)), (2, .int x1), (3, .int x2), (4, .int x3), (5, .int x4), (6, .int x5)] [] := by
  intro f
  induction f with
  | zero =>
    intro k hk
    have hk : k = m := by omega
    subst hk; subst ho
    refine g_iload dX7_feed_68 rfl ?_
    refine g_iload_n dX7_feed_70 rfl ?_
    refine g_icmp_ge 142 dX7_feed_71 (by decide) (fun _ => ?_) (fun h9 => absurd (Int32.le_refl _) h9)
    refine g_aload_n dX7_feed_142 rfl ?_
    refine mgc_taped dX7_feed_143 ?_
    refine g_iret rfl (Nat.le_refl _) (Nat.le_refl _) ?_ dX7_feed_146
    exact mP.of rfl
  | succ f ih =>
    intro k hk
    refine g_iload dX7_feed_68 rfl ?_
    refine g_iload_n dX7_feed_70 rfl ?_
    refine g_icmp_ge 142 dX7_feed_71 (by decide) (fun h9 => absurd h9 (nI_ge (by omega) (by omega))) (fun _ => ?_)
    refine g_aload_n dX7_feed_74 rfl ?_
    refine mg_tape dX7_feed_75 ?_
    refine g_aload_n dX7_feed_78 rfl ?_
    refine mgc_taped dX7_feed_79 ?_
    refine g_join 125 (fun v => v = pk5 x1 x2 x3 x4 x5 k) (fun v hv => ?_) (fun K => ?_)
    · subst hv
      refine msc_tape (tp + k) hN (by omega) (upd_same _ _ _) dX7_feed_125 ?_
      refine g_aload_n dX7_feed_126 rfl ?_
      refine g_dup dX7_feed_127 rfl ?_
      refine mgc_taped dX7_feed_128 ?_
      refine g_iconst (1) dX7_feed_131 rfl ?_
      refine g_iadd dX7_feed_132 ?_
      refine mpc_taped hN  dX7_feed_133 ?_
      refine g_iinc (nI (k + 1)) (L' := [(7, _), (0, _), (1, _), (2, _), (3, _), (4, _), (5, _), (6, _)]) dX7_feed_136 rfl (nI_1 _) (by decide) rfl ?_
      refine g_goto 68 dX7_feed_139 (by decide) ?_
      rw [upd_same, upd_upd, sA_sA, sA_same, fdf_s, nI_1]
      exact ih (k + 1) (by omega)
    · refine g_iload dX7_feed_82 rfl ?_
      refine g_if_ne 91 dX7_feed_84 (by decide) (fun c1 => ?_) (fun c1 => ?_)
      · refine g_iload dX7_feed_91 rfl ?_
        refine g_iconst (1) dX7_feed_93 rfl ?_
        refine g_icmp_ne 101 dX7_feed_94 (by decide) (fun c2 => ?_) (fun c2 => ?_)
        · refine g_iload dX7_feed_101 rfl ?_
          refine g_iconst (2) dX7_feed_103 rfl ?_
          refine g_icmp_ne 112 dX7_feed_104 (by decide) (fun c3 => ?_) (fun c3 => ?_)
          · refine g_iload dX7_feed_112 rfl ?_
            refine g_iconst (3) dX7_feed_114 rfl ?_
            refine g_icmp_ne 123 dX7_feed_115 (by decide) (fun c4 => ?_) (fun c4 => ?_)
            · refine g_iload dX7_feed_123 rfl ?_
              exact K _ (by first | (have hk0 : k = 0 := (nI_eq (b := 0) (by omega) (by decide)).mp c1; subst hk0; rfl) | (have hk0 : k = 1 := (nI_eq (b := 1) (by omega) (by decide)).mp c2; subst hk0; rfl) | (have hk0 : k = 2 := (nI_eq (b := 2) (by omega) (by decide)).mp c3; subst hk0; rfl) | (have hk0 : k = 3 := (nI_eq (b := 3) (by omega) (by decide)).mp c4; subst hk0; rfl) | (have d0 : ¬ k = 0 := fun h => c1 (by rw [h]; rfl); have d1 : ¬ k = 1 := fun h => c2 (by rw [h]; rfl); have d2 : ¬ k = 2 := fun h => c3 (by rw [h]; rfl); have d3 : ¬ k = 3 := fun h => c4 (by rw [h]; rfl); unfold pk5; rw [if_neg d0, if_neg d1, if_neg d2, if_neg d3]))
            · refine g_iload dX7_feed_118 rfl ?_
              refine g_goto 125 dX7_feed_120 (by decide) ?_
              exact K _ (by first | (have hk0 : k = 0 := (nI_eq (b := 0) (by omega) (by decide)).mp c1; subst hk0; rfl) | (have hk0 : k = 1 := (nI_eq (b := 1) (by omega) (by decide)).mp c2; subst hk0; rfl) | (have hk0 : k = 2 := (nI_eq (b := 2) (by omega) (by decide)).mp c3; subst hk0; rfl) | (have hk0 : k = 3 := (nI_eq (b := 3) (by omega) (by decide)).mp c4; subst hk0; rfl) | (have d0 : ¬ k = 0 := fun h => c1 (by rw [h]; rfl); have d1 : ¬ k = 1 := fun h => c2 (by rw [h]; rfl); have d2 : ¬ k = 2 := fun h => c3 (by rw [h]; rfl); have d3 : ¬ k = 3 := fun h => c4 (by rw [h]; rfl); unfold pk5; rw [if_neg d0, if_neg d1, if_neg d2, if_neg d3]))
          · refine g_iload dX7_feed_107 rfl ?_
            refine g_goto 125 dX7_feed_109 (by decide) ?_
            exact K _ (by first | (have hk0 : k = 0 := (nI_eq (b := 0) (by omega) (by decide)).mp c1; subst hk0; rfl) | (have hk0 : k = 1 := (nI_eq (b := 1) (by omega) (by decide)).mp c2; subst hk0; rfl) | (have hk0 : k = 2 := (nI_eq (b := 2) (by omega) (by decide)).mp c3; subst hk0; rfl) | (have hk0 : k = 3 := (nI_eq (b := 3) (by omega) (by decide)).mp c4; subst hk0; rfl) | (have d0 : ¬ k = 0 := fun h => c1 (by rw [h]; rfl); have d1 : ¬ k = 1 := fun h => c2 (by rw [h]; rfl); have d2 : ¬ k = 2 := fun h => c3 (by rw [h]; rfl); have d3 : ¬ k = 3 := fun h => c4 (by rw [h]; rfl); unfold pk5; rw [if_neg d0, if_neg d1, if_neg d2, if_neg d3]))
        · refine g_iload_n dX7_feed_97 rfl ?_
          refine g_goto 125 dX7_feed_98 (by decide) ?_
          exact K _ (by first | (have hk0 : k = 0 := (nI_eq (b := 0) (by omega) (by decide)).mp c1; subst hk0; rfl) | (have hk0 : k = 1 := (nI_eq (b := 1) (by omega) (by decide)).mp c2; subst hk0; rfl) | (have hk0 : k = 2 := (nI_eq (b := 2) (by omega) (by decide)).mp c3; subst hk0; rfl) | (have hk0 : k = 3 := (nI_eq (b := 3) (by omega) (by decide)).mp c4; subst hk0; rfl) | (have d0 : ¬ k = 0 := fun h => c1 (by rw [h]; rfl); have d1 : ¬ k = 1 := fun h => c2 (by rw [h]; rfl); have d2 : ¬ k = 2 := fun h => c3 (by rw [h]; rfl); have d3 : ¬ k = 3 := fun h => c4 (by rw [h]; rfl); unfold pk5; rw [if_neg d0, if_neg d1, if_neg d2, if_neg d3]))
      · refine g_iload_n dX7_feed_87 rfl ?_
        refine g_goto 125 dX7_feed_88 (by decide) ?_
        exact K _ (by first | (have hk0 : k = 0 := (nI_eq (b := 0) (by omega) (by decide)).mp c1; subst hk0; rfl) | (have hk0 : k = 1 := (nI_eq (b := 1) (by omega) (by decide)).mp c2; subst hk0; rfl) | (have hk0 : k = 2 := (nI_eq (b := 2) (by omega) (by decide)).mp c3; subst hk0; rfl) | (have hk0 : k = 3 := (nI_eq (b := 3) (by omega) (by decide)).mp c4; subst hk0; rfl) | (have d0 : ¬ k = 0 := fun h => c1 (by rw [h]; rfl); have d1 : ¬ k = 1 := fun h => c2 (by rw [h]; rfl); have d2 : ¬ k = 2 := fun h => c3 (by rw [h]; rfl); have d3 : ¬ k = 3 := fun h => c4 (by rw [h]; rfl); unfold pk5; rw [if_neg d0, if_neg d1, if_neg d2, if_neg d3]))
theorem c_feed {m x1 x2 x3 x4 x5 : Int32} {tp : Nat} (hN : gN g ≤ b) (htp : F 7 = nI tp) (htp2 : tp ≤ 160) : Ct g yX7_feed cX7_feed 8 (some .int) 3 0 0 [.ref b, .int m, .int x1, .int x2, .int x3, .int x4, .int x5] (hM g b (mF F c) (mA A c) A2 ω0) z (mP g b ω0 z (feedF F A c m x1 x2 x3 x4 x5)) := by
  refine Ct.at (own := RX7) (by decide) rfl (Nat.le_of_ble_eq_true rfl) rfl ?_
  have hctp : cn (F 7) = tp := by rw [htp]; exact nI_clamp (by omega)
  by_cases h1 : inI m 1 5 = 0
  · refine g_iload_n dX7_feed_0 rfl ?_
    refine g_iconst (1) dX7_feed_1 rfl ?_
    refine g_iconst (5) dX7_feed_2 rfl ?_
    refine gs_calli (n := 3) (c_in ) (lw_S q1405 q1406 q92 q1407) (by decide +kernel) rfl rfl (by decide) ⟨Nat.le_refl _, Nat.le_refl _⟩ (Nat.le_of_ble_eq_true rfl) dX7_feed_3 ?_
    refine g_if_eq 47 dX7_feed_6 (by decide) (fun _ => ?_) (fun h9 => absurd h1 h9)
    refine g_bipush (-2) dX7_feed_47 rfl ?_
    refine g_iret rfl (Nat.le_refl _) (Nat.le_refl _) ?_ dX7_feed_49
    exact mP.of (by rw [feedF, if_pos (Or.inl h1)])
  · have h1' : ¬ inI m 0 5 = 0 := by
      unfold inI at *
      by_cases hq : 1 ≤ m ∧ m ≤ 5
      · rw [if_pos ⟨Int32.le_trans (by decide) hq.1, hq.2⟩]; decide
      · rw [if_neg hq] at h1; exact absurd rfl h1
    obtain ⟨m, hm, rfl⟩ := in_ix (m := 5) (by decide) h1'
    have hcm : cn (nI m) = m := nI_clamp (by omega)
    have hadd : F 7 + nI m = nI (tp + m) := by rw [htp]; exact nI_add _ _
    by_cases h160 : tp + m ≤ 160
    · have hle : F 7 + nI m ≤ 160 := by rw [hadd]; exact nI_le (b := 160) h160 (by decide)
      refine g_iload_n dX7_feed_0 rfl ?_
      refine g_iconst (1) dX7_feed_1 rfl ?_
      refine g_iconst (5) dX7_feed_2 rfl ?_
      refine gs_calli (n := 3) (c_in ) (lw_S q1405 q1406 q92 q1407) (by decide +kernel) rfl rfl (by decide) ⟨Nat.le_refl _, Nat.le_refl _⟩ (Nat.le_of_ble_eq_true rfl) dX7_feed_3 ?_
      refine g_if_eq 47 dX7_feed_6 (by decide) (fun h9 => absurd h9 h1) (fun _ => ?_)
      refine g_iload_n dX7_feed_9 rfl ?_
      refine gs_calli (n := 1) (c_isByte ) (lw_S q1563 q1564 q92 q1565) (by decide +kernel) rfl rfl (by decide) ⟨Nat.le_refl _, Nat.le_refl _⟩ (Nat.le_of_ble_eq_true rfl) dX7_feed_10 ?_
      refine g_if_eq 47 dX7_feed_13 (by decide) (fun c1 => ?_) (fun c1 => ?_)
      · refine g_bipush (-2) dX7_feed_47 rfl ?_
        refine g_iret rfl (Nat.le_refl _) (Nat.le_refl _) ?_ dX7_feed_49
        first | exact mP.of (by rw [feedF, if_pos (Or.inr (Or.inl c1))]) | exact mP.of (by rw [feedF, if_pos (Or.inr (Or.inr (Or.inl c2)))]) | exact mP.of (by rw [feedF, if_pos (Or.inr (Or.inr (Or.inr (Or.inl c3))))]) | exact mP.of (by rw [feedF, if_pos (Or.inr (Or.inr (Or.inr (Or.inr (Or.inl c4)))))]) | exact mP.of (by rw [feedF, if_pos (Or.inr (Or.inr (Or.inr (Or.inr (Or.inr c5)))))])
      · refine g_iload_n dX7_feed_16 rfl ?_
        refine gs_calli (n := 1) (c_isByte ) (lw_S q1563 q1564 q92 q1565) (by decide +kernel) rfl rfl (by decide) ⟨Nat.le_refl _, Nat.le_refl _⟩ (Nat.le_of_ble_eq_true rfl) dX7_feed_17 ?_
        refine g_if_eq 47 dX7_feed_20 (by decide) (fun c2 => ?_) (fun c2 => ?_)
        · refine g_bipush (-2) dX7_feed_47 rfl ?_
          refine g_iret rfl (Nat.le_refl _) (Nat.le_refl _) ?_ dX7_feed_49
          first | exact mP.of (by rw [feedF, if_pos (Or.inr (Or.inl c1))]) | exact mP.of (by rw [feedF, if_pos (Or.inr (Or.inr (Or.inl c2)))]) | exact mP.of (by rw [feedF, if_pos (Or.inr (Or.inr (Or.inr (Or.inl c3))))]) | exact mP.of (by rw [feedF, if_pos (Or.inr (Or.inr (Or.inr (Or.inr (Or.inl c4)))))]) | exact mP.of (by rw [feedF, if_pos (Or.inr (Or.inr (Or.inr (Or.inr (Or.inr c5)))))])
        · refine g_iload dX7_feed_23 rfl ?_
          refine gs_calli (n := 1) (c_isByte ) (lw_S q1563 q1564 q92 q1565) (by decide +kernel) rfl rfl (by decide) ⟨Nat.le_refl _, Nat.le_refl _⟩ (Nat.le_of_ble_eq_true rfl) dX7_feed_25 ?_
          refine g_if_eq 47 dX7_feed_28 (by decide) (fun c3 => ?_) (fun c3 => ?_)
          · refine g_bipush (-2) dX7_feed_47 rfl ?_
            refine g_iret rfl (Nat.le_refl _) (Nat.le_refl _) ?_ dX7_feed_49
            first | exact mP.of (by rw [feedF, if_pos (Or.inr (Or.inl c1))]) | exact mP.of (by rw [feedF, if_pos (Or.inr (Or.inr (Or.inl c2)))]) | exact mP.of (by rw [feedF, if_pos (Or.inr (Or.inr (Or.inr (Or.inl c3))))]) | exact mP.of (by rw [feedF, if_pos (Or.inr (Or.inr (Or.inr (Or.inr (Or.inl c4)))))]) | exact mP.of (by rw [feedF, if_pos (Or.inr (Or.inr (Or.inr (Or.inr (Or.inr c5)))))])
          · refine g_iload dX7_feed_31 rfl ?_
            refine gs_calli (n := 1) (c_isByte ) (lw_S q1563 q1564 q92 q1565) (by decide +kernel) rfl rfl (by decide) ⟨Nat.le_refl _, Nat.le_refl _⟩ (Nat.le_of_ble_eq_true rfl) dX7_feed_33 ?_
            refine g_if_eq 47 dX7_feed_36 (by decide) (fun c4 => ?_) (fun c4 => ?_)
            · refine g_bipush (-2) dX7_feed_47 rfl ?_
              refine g_iret rfl (Nat.le_refl _) (Nat.le_refl _) ?_ dX7_feed_49
              first | exact mP.of (by rw [feedF, if_pos (Or.inr (Or.inl c1))]) | exact mP.of (by rw [feedF, if_pos (Or.inr (Or.inr (Or.inl c2)))]) | exact mP.of (by rw [feedF, if_pos (Or.inr (Or.inr (Or.inr (Or.inl c3))))]) | exact mP.of (by rw [feedF, if_pos (Or.inr (Or.inr (Or.inr (Or.inr (Or.inl c4)))))]) | exact mP.of (by rw [feedF, if_pos (Or.inr (Or.inr (Or.inr (Or.inr (Or.inr c5)))))])
            · refine g_iload dX7_feed_39 rfl ?_
              refine gs_calli (n := 1) (c_isByte ) (lw_S q1563 q1564 q92 q1565) (by decide +kernel) rfl rfl (by decide) ⟨Nat.le_refl _, Nat.le_refl _⟩ (Nat.le_of_ble_eq_true rfl) dX7_feed_41 ?_
              refine g_if_ne 50 dX7_feed_44 (by decide) (fun c5 => ?_) (fun c5 => ?_)
              · refine g_aload_n dX7_feed_50 rfl ?_
                refine mgc_taped dX7_feed_51 ?_
                refine g_iload_n dX7_feed_54 rfl ?_
                refine g_iadd dX7_feed_55 ?_
                refine g_sipush (160) dX7_feed_56 rfl ?_
                refine g_icmp_le 65 dX7_feed_59 (by decide) (fun _ => ?_) (fun h9 => absurd hle h9)
                refine g_iconst (0) dX7_feed_65 rfl ?_
                refine g_istore (L' := [(7, _), (0, _), (1, _), (2, _), (3, _), (4, _), (5, _), (6, _)]) dX7_feed_66 (by decide) rfl ?_
                have h := l_feed (g := g) (b := b) (z := z) (F := F) (A := A) (A2 := A2) (ω0 := ω0) (c := c) (f0 := A 6) (tp := tp) (x1 := x1) (x2 := x2) (x3 := x3) (x4 := x4) (x5 := x5) (o := feedF F A c (nI m) x1 x2 x3 x4 x5) hN hm h160 (by rw [feedF, if_neg (fun h => h.elim h1 (fun h => h.elim c1 (fun h => h.elim c2 (fun h => h.elim c3 (fun h => h.elim c4 c5))))), if_pos hle, hctp, hcm, hadd]) m 0 (by omega); rw [fdf_0, sA_self, show nI (tp + 0) = F 7 from htp.symm, upd_self] at h; exact h
              · refine g_bipush (-2) dX7_feed_47 rfl ?_
                refine g_iret rfl (Nat.le_refl _) (Nat.le_refl _) ?_ dX7_feed_49
                first | exact mP.of (by rw [feedF, if_pos (Or.inr (Or.inl c1))]) | exact mP.of (by rw [feedF, if_pos (Or.inr (Or.inr (Or.inl c2)))]) | exact mP.of (by rw [feedF, if_pos (Or.inr (Or.inr (Or.inr (Or.inl c3))))]) | exact mP.of (by rw [feedF, if_pos (Or.inr (Or.inr (Or.inr (Or.inr (Or.inl c4)))))]) | exact mP.of (by rw [feedF, if_pos (Or.inr (Or.inr (Or.inr (Or.inr (Or.inr c5)))))])
    · have hle : ¬ F 7 + nI m ≤ 160 := by rw [hadd]; exact nI_ge (a := 160) (by omega) (by omega)
      refine g_iload_n dX7_feed_0 rfl ?_
      refine g_iconst (1) dX7_feed_1 rfl ?_
      refine g_iconst (5) dX7_feed_2 rfl ?_
      refine gs_calli (n := 3) (c_in ) (lw_S q1405 q1406 q92 q1407) (by decide +kernel) rfl rfl (by decide) ⟨Nat.le_refl _, Nat.le_refl _⟩ (Nat.le_of_ble_eq_true rfl) dX7_feed_3 ?_
      refine g_if_eq 47 dX7_feed_6 (by decide) (fun h9 => absurd h9 h1) (fun _ => ?_)
      refine g_iload_n dX7_feed_9 rfl ?_
      refine gs_calli (n := 1) (c_isByte ) (lw_S q1563 q1564 q92 q1565) (by decide +kernel) rfl rfl (by decide) ⟨Nat.le_refl _, Nat.le_refl _⟩ (Nat.le_of_ble_eq_true rfl) dX7_feed_10 ?_
      refine g_if_eq 47 dX7_feed_13 (by decide) (fun c1 => ?_) (fun c1 => ?_)
      · refine g_bipush (-2) dX7_feed_47 rfl ?_
        refine g_iret rfl (Nat.le_refl _) (Nat.le_refl _) ?_ dX7_feed_49
        first | exact mP.of (by rw [feedF, if_pos (Or.inr (Or.inl c1))]) | exact mP.of (by rw [feedF, if_pos (Or.inr (Or.inr (Or.inl c2)))]) | exact mP.of (by rw [feedF, if_pos (Or.inr (Or.inr (Or.inr (Or.inl c3))))]) | exact mP.of (by rw [feedF, if_pos (Or.inr (Or.inr (Or.inr (Or.inr (Or.inl c4)))))]) | (clear hctp hcm hadd htp; exact mP.of (by simp_all [feedF, -Int32.not_le, -Int32.not_lt]))
      · refine g_iload_n dX7_feed_16 rfl ?_
        refine gs_calli (n := 1) (c_isByte ) (lw_S q1563 q1564 q92 q1565) (by decide +kernel) rfl rfl (by decide) ⟨Nat.le_refl _, Nat.le_refl _⟩ (Nat.le_of_ble_eq_true rfl) dX7_feed_17 ?_
        refine g_if_eq 47 dX7_feed_20 (by decide) (fun c2 => ?_) (fun c2 => ?_)
        · refine g_bipush (-2) dX7_feed_47 rfl ?_
          refine g_iret rfl (Nat.le_refl _) (Nat.le_refl _) ?_ dX7_feed_49
          first | exact mP.of (by rw [feedF, if_pos (Or.inr (Or.inl c1))]) | exact mP.of (by rw [feedF, if_pos (Or.inr (Or.inr (Or.inl c2)))]) | exact mP.of (by rw [feedF, if_pos (Or.inr (Or.inr (Or.inr (Or.inl c3))))]) | exact mP.of (by rw [feedF, if_pos (Or.inr (Or.inr (Or.inr (Or.inr (Or.inl c4)))))]) | (clear hctp hcm hadd htp; exact mP.of (by simp_all [feedF, -Int32.not_le, -Int32.not_lt]))
        · refine g_iload dX7_feed_23 rfl ?_
          refine gs_calli (n := 1) (c_isByte ) (lw_S q1563 q1564 q92 q1565) (by decide +kernel) rfl rfl (by decide) ⟨Nat.le_refl _, Nat.le_refl _⟩ (Nat.le_of_ble_eq_true rfl) dX7_feed_25 ?_
          refine g_if_eq 47 dX7_feed_28 (by decide) (fun c3 => ?_) (fun c3 => ?_)
          · refine g_bipush (-2) dX7_feed_47 rfl ?_
            refine g_iret rfl (Nat.le_refl _) (Nat.le_refl _) ?_ dX7_feed_49
            first | exact mP.of (by rw [feedF, if_pos (Or.inr (Or.inl c1))]) | exact mP.of (by rw [feedF, if_pos (Or.inr (Or.inr (Or.inl c2)))]) | exact mP.of (by rw [feedF, if_pos (Or.inr (Or.inr (Or.inr (Or.inl c3))))]) | exact mP.of (by rw [feedF, if_pos (Or.inr (Or.inr (Or.inr (Or.inr (Or.inl c4)))))]) | (clear hctp hcm hadd htp; exact mP.of (by simp_all [feedF, -Int32.not_le, -Int32.not_lt]))
          · refine g_iload dX7_feed_31 rfl ?_
            refine gs_calli (n := 1) (c_isByte ) (lw_S q1563 q1564 q92 q1565) (by decide +kernel) rfl rfl (by decide) ⟨Nat.le_refl _, Nat.le_refl _⟩ (Nat.le_of_ble_eq_true rfl) dX7_feed_33 ?_
            refine g_if_eq 47 dX7_feed_36 (by decide) (fun c4 => ?_) (fun c4 => ?_)
            · refine g_bipush (-2) dX7_feed_47 rfl ?_
              refine g_iret rfl (Nat.le_refl _) (Nat.le_refl _) ?_ dX7_feed_49
              first | exact mP.of (by rw [feedF, if_pos (Or.inr (Or.inl c1))]) | exact mP.of (by rw [feedF, if_pos (Or.inr (Or.inr (Or.inl c2)))]) | exact mP.of (by rw [feedF, if_pos (Or.inr (Or.inr (Or.inr (Or.inl c3))))]) | exact mP.of (by rw [feedF, if_pos (Or.inr (Or.inr (Or.inr (Or.inr (Or.inl c4)))))]) | (clear hctp hcm hadd htp; exact mP.of (by simp_all [feedF, -Int32.not_le, -Int32.not_lt]))
            · refine g_iload dX7_feed_39 rfl ?_
              refine gs_calli (n := 1) (c_isByte ) (lw_S q1563 q1564 q92 q1565) (by decide +kernel) rfl rfl (by decide) ⟨Nat.le_refl _, Nat.le_refl _⟩ (Nat.le_of_ble_eq_true rfl) dX7_feed_41 ?_
              refine g_if_ne 50 dX7_feed_44 (by decide) (fun c5 => ?_) (fun c5 => ?_)
              · refine g_aload_n dX7_feed_50 rfl ?_
                refine mgc_taped dX7_feed_51 ?_
                refine g_iload_n dX7_feed_54 rfl ?_
                refine g_iadd dX7_feed_55 ?_
                refine g_sipush (160) dX7_feed_56 rfl ?_
                refine g_icmp_le 65 dX7_feed_59 (by decide) (fun h9 => absurd h9 hle) (fun _ => ?_)
                refine g_bipush (-4) dX7_feed_62 rfl ?_
                refine g_iret rfl (Nat.le_refl _) (Nat.le_refl _) ?_ dX7_feed_64
                first | exact mP.of (by rw [feedF, if_pos (Or.inr (Or.inl c1))]) | exact mP.of (by rw [feedF, if_pos (Or.inr (Or.inr (Or.inl c2)))]) | exact mP.of (by rw [feedF, if_pos (Or.inr (Or.inr (Or.inr (Or.inl c3))))]) | exact mP.of (by rw [feedF, if_pos (Or.inr (Or.inr (Or.inr (Or.inr (Or.inl c4)))))]) | (clear hctp hcm hadd htp; exact mP.of (by simp_all [feedF, -Int32.not_le, -Int32.not_lt]))
              · refine g_bipush (-2) dX7_feed_47 rfl ?_
                refine g_iret rfl (Nat.le_refl _) (Nat.le_refl _) ?_ dX7_feed_49
                first | exact mP.of (by rw [feedF, if_pos (Or.inr (Or.inl c1))]) | exact mP.of (by rw [feedF, if_pos (Or.inr (Or.inr (Or.inl c2)))]) | exact mP.of (by rw [feedF, if_pos (Or.inr (Or.inr (Or.inr (Or.inl c3))))]) | exact mP.of (by rw [feedF, if_pos (Or.inr (Or.inr (Or.inr (Or.inr (Or.inl c4)))))]) | (clear hctp hcm hadd htp; exact mP.of (by simp_all [feedF, -Int32.not_le, -Int32.not_lt]))
theorem l_copyU {s o i j m : Nat} {bb aa : Nat} (hN : gN g ≤ b) (haa : aa + m ≤ 160) (hbb : bb + m ≤ 160) (hle : bb ≤ aa) {r : R4} (hr : r = (nI m, F, sA A 17 (cpf f0 aa bb m), c)) :
    ∀ (f k : Nat) (q : Nat), k + f = m → GN g RX7 cX7_copy 10 (some .int) 2 (mP g b ω0 z r) (hM g b (mF F c) (mA (sA A 17 (cpf f0 aa bb k)) c) A2 ω0) z 147 [(8, .int (nI k)), (7, .int (nI bb)), (6, .int (nI aa)), (0, .ref b), (1, .int (nI s)), (2, .int (nI i)), (3, .int (nI o)), (4, .int (nI j)), (5, .int (nI m))] [] := by
  subst hr
  intro f
  induction f with
  | zero =>
    intro k q hk
    have hk : k = m := by omega
    subst hk
    refine g_iload dX7_copy_147 rfl ?_
    refine g_iload dX7_copy_149 rfl ?_
    refine g_icmp_ge 201 dX7_copy_151 (by decide) (fun _ => ?_) (fun h9 => absurd (Int32.le_refl _) h9)
    refine g_iload dX7_copy_201 rfl ?_
    refine g_iret rfl (Nat.le_refl _) (Nat.le_refl _) ?_ dX7_copy_203
    exact mP.of rfl
  | succ f ih =>
    intro k q hk
    refine g_iload dX7_copy_147 rfl ?_
    refine g_iload dX7_copy_149 rfl ?_
    refine g_icmp_ge 201 dX7_copy_151 (by decide) (fun h9 => absurd h9 (nI_ge (by omega) (by omega))) (fun _ => ?_)
    refine g_iload dX7_copy_154 rfl ?_
    refine g_iload dX7_copy_156 rfl ?_
    refine g_icmp_ge 171 dX7_copy_158 (by decide) (fun _ => ?_) (fun h9 => absurd (nI_le hle (by omega)) h9)
    refine g_iload dX7_copy_171 rfl ?_
    refine g_istore (L' := [(9, _), (8, _), (7, _), (6, _), (0, _), (1, _), (2, _), (3, _), (4, _), (5, _)]) dX7_copy_173 (by decide) rfl ?_
    refine g_aload_n dX7_copy_175 rfl ?_
    refine mg_cells dX7_copy_176 ?_
    refine g_iload dX7_copy_179 rfl ?_
    refine g_iload dX7_copy_181 rfl ?_
    refine g_iadd dX7_copy_183 ?_
    refine g_aload_n dX7_copy_184 rfl ?_
    refine mg_cells dX7_copy_185 ?_
    refine g_iload dX7_copy_188 rfl ?_
    refine g_iload dX7_copy_190 rfl ?_
    refine g_iadd dX7_copy_192 ?_
    refine mlc_cells ((aa + k)) (by omega) (by first | rfl | (simp only [nI, Int32.ofNat_add, Int32.ofNat_mul]; rfl) | (simp only [nI, Int32.ofNat_add, Int32.ofNat_mul]; done)) dX7_copy_193 ?_
    refine msc_cells ((bb + k)) hN (by omega) (by first | rfl | (simp only [nI, Int32.ofNat_add, Int32.ofNat_mul]; rfl) | (simp only [nI, Int32.ofNat_add, Int32.ofNat_mul]; done)) dX7_copy_194 ?_
    refine g_iinc (nI (k + 1)) (L' := [(8, _), (9, _), (7, _), (6, _), (0, _), (1, _), (2, _), (3, _), (4, _), (5, _)]) dX7_copy_195 rfl (nI_1 _) (by decide) rfl ?_
    refine g_goto 147 dX7_copy_198 (by decide) ?_
    refine g_pick [0, 2, 3, 4, 5, 6, 7, 8, 9] rfl ?_
    rw [sA_sA, sA_same, cpf_s _ _ hle]
    exact ih (k + 1) q (by omega)
theorem l_copyD {s o i j m : Nat} {bb aa : Nat} (hN : gN g ≤ b) (haa : aa + m ≤ 160) (hbb : bb + m ≤ 160) (hlt : aa < bb) {r : R4} (hr : r = (nI m, F, sA A 17 (cpf f0 aa bb m), c)) :
    ∀ (f k : Nat) (q : Nat), k + f = m → GN g RX7 cX7_copy 10 (some .int) 2 (mP g b ω0 z r) (hM g b (mF F c) (mA (sA A 17 (cpd f0 aa bb m k)) c) A2 ω0) z 147 [(8, .int (nI k)), (7, .int (nI bb)), (6, .int (nI aa)), (0, .ref b), (1, .int (nI s)), (2, .int (nI i)), (3, .int (nI o)), (4, .int (nI j)), (5, .int (nI m))] [] := by
  subst hr
  intro f
  induction f with
  | zero =>
    intro k q hk
    have hk : k = m := by omega
    subst hk
    rw [cpd_n]
    refine g_iload dX7_copy_147 rfl ?_
    refine g_iload dX7_copy_149 rfl ?_
    refine g_icmp_ge 201 dX7_copy_151 (by decide) (fun _ => ?_) (fun h9 => absurd (Int32.le_refl _) h9)
    refine g_iload dX7_copy_201 rfl ?_
    refine g_iret rfl (Nat.le_refl _) (Nat.le_refl _) ?_ dX7_copy_203
    exact mP.of rfl
  | succ f ih =>
    intro k q hk
    have hx : nI m - 1 - nI k = nI (m - 1 - k) := by
      rw [show nI m - 1 = nI (m - 1) from pk_sub (b := 1) (by omega)]; exact pk_sub (by omega)
    refine g_iload dX7_copy_147 rfl ?_
    refine g_iload dX7_copy_149 rfl ?_
    refine g_icmp_ge 201 dX7_copy_151 (by decide) (fun h9 => absurd h9 (nI_ge (by omega) (by omega))) (fun _ => ?_)
    refine g_iload dX7_copy_154 rfl ?_
    refine g_iload dX7_copy_156 rfl ?_
    refine g_icmp_ge 171 dX7_copy_158 (by decide) (fun h9 => absurd h9 (nI_ge hlt (by omega))) (fun _ => ?_)
    refine g_iload dX7_copy_161 rfl ?_
    refine g_iconst (1) dX7_copy_163 rfl ?_
    refine g_isub dX7_copy_164 ?_
    refine g_iload dX7_copy_165 rfl ?_
    refine g_isub dX7_copy_167 ?_
    refine g_goto 173 dX7_copy_168 (by decide) ?_
    refine g_istore (L' := [(9, _), (8, _), (7, _), (6, _), (0, _), (1, _), (2, _), (3, _), (4, _), (5, _)]) dX7_copy_173 (by decide) rfl ?_
    refine g_aload_n dX7_copy_175 rfl ?_
    refine mg_cells dX7_copy_176 ?_
    refine g_iload dX7_copy_179 rfl ?_
    refine g_iload dX7_copy_181 rfl ?_
    refine g_iadd dX7_copy_183 ?_
    refine g_aload_n dX7_copy_184 rfl ?_
    refine mg_cells dX7_copy_185 ?_
    refine g_iload dX7_copy_188 rfl ?_
    refine g_iload dX7_copy_190 rfl ?_
    refine g_iadd dX7_copy_192 ?_
    refine mlc_cells (aa + (m - 1 - k)) (by omega) (by rw [hx]; exact nI_add _ _) dX7_copy_193 ?_
    refine msc_cells (bb + (m - 1 - k)) hN (by omega) (by rw [hx]; exact nI_add _ _) dX7_copy_194 ?_
    refine g_iinc (nI (k + 1)) (L' := [(8, _), (9, _), (7, _), (6, _), (0, _), (1, _), (2, _), (3, _), (4, _), (5, _)]) dX7_copy_195 rfl (nI_1 _) (by decide) rfl ?_
    refine g_goto 147 dX7_copy_198 (by decide) ?_
    refine g_pick [0, 2, 3, 4, 5, 6, 7, 8, 9] rfl ?_
    rw [sA_sA, sA_same, cpd_s _ _ hlt (by omega)]
    exact ih (k + 1) q (by omega)
theorem c_copy {s i o j m : Int32} (hN : gN g ≤ b) (hS : ShM A) : Ct g yX7_copy cX7_copy 10 (some .int) 2 0 0 [.ref b, .int s, .int i, .int o, .int j, .int m] (hM g b (mF F c) (mA A c) A2 ω0) z (mP g b ω0 z (copyF F A c s i o j m)) := by
  refine Ct.at (own := RX7) (by decide) rfl (Nat.le_of_ble_eq_true rfl) rfl ?_
  rcases in_or s (hi := 3) (m := 3) (by decide) with h1 | ⟨s, hs, rfl, h1⟩
  · refine g_iload_n dX7_copy_0 rfl ?_
    refine g_iconst (0) dX7_copy_1 rfl ?_
    refine g_iconst (3) dX7_copy_2 rfl ?_
    refine gs_calli (n := 3) (c_in ) (lw_S q1405 q1406 q92 q1407) (by decide +kernel) rfl rfl (by decide) ⟨Nat.le_refl _, Nat.le_refl _⟩ (Nat.le_of_ble_eq_true rfl) dX7_copy_3 ?_
    refine g_if_eq 18 dX7_copy_6 (by decide) (fun _ => ?_) (fun h9 => absurd h1 h9)
    refine g_bipush (-2) dX7_copy_18 rfl ?_
    refine g_iret rfl (Nat.le_refl _) (Nat.le_refl _) ?_ dX7_copy_20
    exact mP.of (by rw [copyF, if_pos (Or.inl h1)])
  rcases in_or o (hi := 3) (m := 3) (by decide) with h2 | ⟨o, ho, rfl, h2⟩
  · refine g_iload_n dX7_copy_0 rfl ?_
    refine g_iconst (0) dX7_copy_1 rfl ?_
    refine g_iconst (3) dX7_copy_2 rfl ?_
    refine gs_calli (n := 3) (c_in ) (lw_S q1405 q1406 q92 q1407) (by decide +kernel) rfl rfl (by decide) ⟨Nat.le_refl _, Nat.le_refl _⟩ (Nat.le_of_ble_eq_true rfl) dX7_copy_3 ?_
    refine g_if_eq 18 dX7_copy_6 (by decide) (fun h9 => absurd h9 (by rw [h1]; decide)) (fun _ => ?_)
    refine g_iload_n dX7_copy_9 rfl ?_
    refine g_iconst (0) dX7_copy_10 rfl ?_
    refine g_iconst (3) dX7_copy_11 rfl ?_
    refine gs_calli (n := 3) (c_in ) (lw_S q1405 q1406 q92 q1407) (by decide +kernel) rfl rfl (by decide) ⟨Nat.le_refl _, Nat.le_refl _⟩ (Nat.le_of_ble_eq_true rfl) dX7_copy_12 ?_
    refine g_if_ne 21 dX7_copy_15 (by decide) (fun h9 => absurd h2 h9) (fun _ => ?_)
    refine g_bipush (-2) dX7_copy_18 rfl ?_
    refine g_iret rfl (Nat.le_refl _) (Nat.le_refl _) ?_ dX7_copy_20
    exact mP.of (by rw [copyF, if_pos (Or.inr h2)])
  have hcs : cn (nI s) = s := nI_clamp (by omega)
  have hco : cn (nI o) = o := nI_clamp (by omega)
  obtain ⟨ms, hms, hms2⟩ := hS s (by omega)
  obtain ⟨mo, hmo, hmo2⟩ := hS o (by omega)
  rw [copyF, if_neg (fun h => by rcases h with h | h; (rw [h1] at h; exact absurd h (by decide)); (rw [h2] at h; exact absurd h (by decide))), hcs, hco]
  by_cases h3 : A 15 s = -1 ∨ A 15 o = -1
  · rw [if_pos h3]
    rcases h3 with h3 | h3
    · refine g_iload_n dX7_copy_0 rfl ?_
      refine g_iconst (0) dX7_copy_1 rfl ?_
      refine g_iconst (3) dX7_copy_2 rfl ?_
      refine gs_calli (n := 3) (c_in ) (lw_S q1405 q1406 q92 q1407) (by decide +kernel) rfl rfl (by decide) ⟨Nat.le_refl _, Nat.le_refl _⟩ (Nat.le_of_ble_eq_true rfl) dX7_copy_3 ?_
      refine g_if_eq 18 dX7_copy_6 (by decide) (fun h9 => absurd h9 (by rw [h1]; decide)) (fun _ => ?_)
      refine g_iload_n dX7_copy_9 rfl ?_
      refine g_iconst (0) dX7_copy_10 rfl ?_
      refine g_iconst (3) dX7_copy_11 rfl ?_
      refine gs_calli (n := 3) (c_in ) (lw_S q1405 q1406 q92 q1407) (by decide +kernel) rfl rfl (by decide) ⟨Nat.le_refl _, Nat.le_refl _⟩ (Nat.le_of_ble_eq_true rfl) dX7_copy_12 ?_
      refine g_if_ne 21 dX7_copy_15 (by decide) (fun _ => ?_) (fun h9 => absurd h9 (by rw [h2]; decide))
      refine g_aload_n dX7_copy_21 rfl ?_
      refine mg_sheetSort dX7_copy_22 ?_
      refine g_iload_n dX7_copy_25 rfl ?_
      refine mlc_sheetSort (s) (by omega) (by first | rfl | (simp only [nI, Int32.ofNat_add, Int32.ofNat_mul]; rfl) | (simp only [nI, Int32.ofNat_add, Int32.ofNat_mul]; done)) dX7_copy_26 ?_
      refine g_iconst (-1) dX7_copy_27 rfl ?_
      refine g_icmp_eq 41 dX7_copy_28 (by decide) (fun _ => ?_) (fun h9 => absurd h3 h9)
      refine g_bipush (-11) dX7_copy_41 rfl ?_
      refine g_iret rfl (Nat.le_refl _) (Nat.le_refl _) ?_ dX7_copy_43
      exact mP.of rfl
    · refine g_iload_n dX7_copy_0 rfl ?_
      refine g_iconst (0) dX7_copy_1 rfl ?_
      refine g_iconst (3) dX7_copy_2 rfl ?_
      refine gs_calli (n := 3) (c_in ) (lw_S q1405 q1406 q92 q1407) (by decide +kernel) rfl rfl (by decide) ⟨Nat.le_refl _, Nat.le_refl _⟩ (Nat.le_of_ble_eq_true rfl) dX7_copy_3 ?_
      refine g_if_eq 18 dX7_copy_6 (by decide) (fun h9 => absurd h9 (by rw [h1]; decide)) (fun _ => ?_)
      refine g_iload_n dX7_copy_9 rfl ?_
      refine g_iconst (0) dX7_copy_10 rfl ?_
      refine g_iconst (3) dX7_copy_11 rfl ?_
      refine gs_calli (n := 3) (c_in ) (lw_S q1405 q1406 q92 q1407) (by decide +kernel) rfl rfl (by decide) ⟨Nat.le_refl _, Nat.le_refl _⟩ (Nat.le_of_ble_eq_true rfl) dX7_copy_12 ?_
      refine g_if_ne 21 dX7_copy_15 (by decide) (fun _ => ?_) (fun h9 => absurd h9 (by rw [h2]; decide))
      refine g_aload_n dX7_copy_21 rfl ?_
      refine mg_sheetSort dX7_copy_22 ?_
      refine g_iload_n dX7_copy_25 rfl ?_
      refine mlc_sheetSort (s) (by omega) (by first | rfl | (simp only [nI, Int32.ofNat_add, Int32.ofNat_mul]; rfl) | (simp only [nI, Int32.ofNat_add, Int32.ofNat_mul]; done)) dX7_copy_26 ?_
      refine g_iconst (-1) dX7_copy_27 rfl ?_
      refine g_icmp_eq 41 dX7_copy_28 (by decide) (fun c1 => ?_) (fun c1 => ?_)
      · refine g_bipush (-11) dX7_copy_41 rfl ?_
        refine g_iret rfl (Nat.le_refl _) (Nat.le_refl _) ?_ dX7_copy_43
        exact mP.of rfl
      · refine g_aload_n dX7_copy_31 rfl ?_
        refine mg_sheetSort dX7_copy_32 ?_
        refine g_iload_n dX7_copy_35 rfl ?_
        refine mlc_sheetSort (o) (by omega) (by first | rfl | (simp only [nI, Int32.ofNat_add, Int32.ofNat_mul]; rfl) | (simp only [nI, Int32.ofNat_add, Int32.ofNat_mul]; done)) dX7_copy_36 ?_
        refine g_iconst (-1) dX7_copy_37 rfl ?_
        refine g_icmp_ne 44 dX7_copy_38 (by decide) (fun h9 => absurd h3 h9) (fun _ => ?_)
        refine g_bipush (-11) dX7_copy_41 rfl ?_
        refine g_iret rfl (Nat.le_refl _) (Nat.le_refl _) ?_ dX7_copy_43
        exact mP.of rfl
  rw [if_neg h3]
  by_cases h4 : A 15 s = A 15 o
  · rw [if_neg (fun h => h h4)]
    by_cases h5 : m < 0 ∨ i < 0 ∨ j < 0 ∨ A 16 s < i ∨ A 16 o < j ∨ A 16 s - i < m ∨ ¬ m ≤ A 16 o - j
    · rw [if_pos h5]
      refine g_iload_n dX7_copy_0 rfl ?_
      refine g_iconst (0) dX7_copy_1 rfl ?_
      refine g_iconst (3) dX7_copy_2 rfl ?_
      refine gs_calli (n := 3) (c_in ) (lw_S q1405 q1406 q92 q1407) (by decide +kernel) rfl rfl (by decide) ⟨Nat.le_refl _, Nat.le_refl _⟩ (Nat.le_of_ble_eq_true rfl) dX7_copy_3 ?_
      refine g_if_eq 18 dX7_copy_6 (by decide) (fun h9 => absurd h9 (by rw [h1]; decide)) (fun _ => ?_)
      refine g_iload_n dX7_copy_9 rfl ?_
      refine g_iconst (0) dX7_copy_10 rfl ?_
      refine g_iconst (3) dX7_copy_11 rfl ?_
      refine gs_calli (n := 3) (c_in ) (lw_S q1405 q1406 q92 q1407) (by decide +kernel) rfl rfl (by decide) ⟨Nat.le_refl _, Nat.le_refl _⟩ (Nat.le_of_ble_eq_true rfl) dX7_copy_12 ?_
      refine g_if_ne 21 dX7_copy_15 (by decide) (fun _ => ?_) (fun h9 => absurd h9 (by rw [h2]; decide))
      refine g_aload_n dX7_copy_21 rfl ?_
      refine mg_sheetSort dX7_copy_22 ?_
      refine g_iload_n dX7_copy_25 rfl ?_
      refine mlc_sheetSort (s) (by omega) (by first | rfl | (simp only [nI, Int32.ofNat_add, Int32.ofNat_mul]; rfl) | (simp only [nI, Int32.ofNat_add, Int32.ofNat_mul]; done)) dX7_copy_26 ?_
      refine g_iconst (-1) dX7_copy_27 rfl ?_
      refine g_icmp_eq 41 dX7_copy_28 (by decide) (fun h9 => absurd h9 (fun h => h3 (Or.inl h))) (fun _ => ?_)
      refine g_aload_n dX7_copy_31 rfl ?_
      refine mg_sheetSort dX7_copy_32 ?_
      refine g_iload_n dX7_copy_35 rfl ?_
      refine mlc_sheetSort (o) (by omega) (by first | rfl | (simp only [nI, Int32.ofNat_add, Int32.ofNat_mul]; rfl) | (simp only [nI, Int32.ofNat_add, Int32.ofNat_mul]; done)) dX7_copy_36 ?_
      refine g_iconst (-1) dX7_copy_37 rfl ?_
      refine g_icmp_ne 44 dX7_copy_38 (by decide) (fun _ => ?_) (fun h9 => absurd h9 (fun h => h3 (Or.inr h)))
      refine g_aload_n dX7_copy_44 rfl ?_
      refine mg_sheetSort dX7_copy_45 ?_
      refine g_iload_n dX7_copy_48 rfl ?_
      refine mlc_sheetSort (s) (by omega) (by first | rfl | (simp only [nI, Int32.ofNat_add, Int32.ofNat_mul]; rfl) | (simp only [nI, Int32.ofNat_add, Int32.ofNat_mul]; done)) dX7_copy_49 ?_
      refine g_aload_n dX7_copy_50 rfl ?_
      refine mg_sheetSort dX7_copy_51 ?_
      refine g_iload_n dX7_copy_54 rfl ?_
      refine mlc_sheetSort (o) (by omega) (by first | rfl | (simp only [nI, Int32.ofNat_add, Int32.ofNat_mul]; rfl) | (simp only [nI, Int32.ofNat_add, Int32.ofNat_mul]; done)) dX7_copy_55 ?_
      refine g_icmp_eq 62 dX7_copy_56 (by decide) (fun _ => ?_) (fun h9 => absurd h4 h9)
      refine g_iload dX7_copy_62 rfl ?_
      refine g_if_lt 124 dX7_copy_64 (by decide) (fun c1 => ?_) (fun c1 => ?_)
      · refine g_bipush (-12) dX7_copy_124 rfl ?_
        refine g_iret rfl (Nat.le_refl _) (Nat.le_refl _) ?_ dX7_copy_126
        exact mP.of rfl
      · refine g_iload_n dX7_copy_67 rfl ?_
        refine g_if_lt 124 dX7_copy_68 (by decide) (fun c2 => ?_) (fun c2 => ?_)
        · refine g_bipush (-12) dX7_copy_124 rfl ?_
          refine g_iret rfl (Nat.le_refl _) (Nat.le_refl _) ?_ dX7_copy_126
          exact mP.of rfl
        · refine g_iload dX7_copy_71 rfl ?_
          refine g_if_lt 124 dX7_copy_73 (by decide) (fun c3 => ?_) (fun c3 => ?_)
          · refine g_bipush (-12) dX7_copy_124 rfl ?_
            refine g_iret rfl (Nat.le_refl _) (Nat.le_refl _) ?_ dX7_copy_126
            exact mP.of rfl
          · refine g_iload_n dX7_copy_76 rfl ?_
            refine g_aload_n dX7_copy_77 rfl ?_
            refine mg_sheetSize dX7_copy_78 ?_
            refine g_iload_n dX7_copy_81 rfl ?_
            refine mlc_sheetSize (s) (by omega) (by first | rfl | (simp only [nI, Int32.ofNat_add, Int32.ofNat_mul]; rfl) | (simp only [nI, Int32.ofNat_add, Int32.ofNat_mul]; done)) dX7_copy_82 ?_
            refine g_icmp_gt 124 dX7_copy_83 (by decide) (fun c4 => ?_) (fun c4 => ?_)
            · refine g_bipush (-12) dX7_copy_124 rfl ?_
              refine g_iret rfl (Nat.le_refl _) (Nat.le_refl _) ?_ dX7_copy_126
              exact mP.of rfl
            · refine g_iload dX7_copy_86 rfl ?_
              refine g_aload_n dX7_copy_88 rfl ?_
              refine mg_sheetSize dX7_copy_89 ?_
              refine g_iload_n dX7_copy_92 rfl ?_
              refine mlc_sheetSize (o) (by omega) (by first | rfl | (simp only [nI, Int32.ofNat_add, Int32.ofNat_mul]; rfl) | (simp only [nI, Int32.ofNat_add, Int32.ofNat_mul]; done)) dX7_copy_93 ?_
              refine g_icmp_gt 124 dX7_copy_94 (by decide) (fun c5 => ?_) (fun c5 => ?_)
              · refine g_bipush (-12) dX7_copy_124 rfl ?_
                refine g_iret rfl (Nat.le_refl _) (Nat.le_refl _) ?_ dX7_copy_126
                exact mP.of rfl
              · refine g_iload dX7_copy_97 rfl ?_
                refine g_aload_n dX7_copy_99 rfl ?_
                refine mg_sheetSize dX7_copy_100 ?_
                refine g_iload_n dX7_copy_103 rfl ?_
                refine mlc_sheetSize (s) (by omega) (by first | rfl | (simp only [nI, Int32.ofNat_add, Int32.ofNat_mul]; rfl) | (simp only [nI, Int32.ofNat_add, Int32.ofNat_mul]; done)) dX7_copy_104 ?_
                refine g_iload_n dX7_copy_105 rfl ?_
                refine g_isub dX7_copy_106 ?_
                refine g_icmp_gt 124 dX7_copy_107 (by decide) (fun c6 => ?_) (fun c6 => ?_)
                · refine g_bipush (-12) dX7_copy_124 rfl ?_
                  refine g_iret rfl (Nat.le_refl _) (Nat.le_refl _) ?_ dX7_copy_126
                  exact mP.of rfl
                · refine g_iload dX7_copy_110 rfl ?_
                  refine g_aload_n dX7_copy_112 rfl ?_
                  refine mg_sheetSize dX7_copy_113 ?_
                  refine g_iload_n dX7_copy_116 rfl ?_
                  refine mlc_sheetSize (o) (by omega) (by first | rfl | (simp only [nI, Int32.ofNat_add, Int32.ofNat_mul]; rfl) | (simp only [nI, Int32.ofNat_add, Int32.ofNat_mul]; done)) dX7_copy_117 ?_
                  refine g_iload dX7_copy_118 rfl ?_
                  refine g_isub dX7_copy_120 ?_
                  refine g_icmp_le 127 dX7_copy_121 (by decide) (fun c7 => ?_) (fun c7 => ?_)
                  · exact absurd h5 (fun h => by rcases h with h | h | h | h | h | h | h; exact c1 h; exact c2 h; exact c3 h; exact c4 h; exact c5 h; exact c6 h; exact h c7)
                  · refine g_bipush (-12) dX7_copy_124 rfl ?_
                    refine g_iret rfl (Nat.le_refl _) (Nat.le_refl _) ?_ dX7_copy_126
                    exact mP.of rfl
    · rw [if_neg h5]
      have g1 : ¬ m < 0 := fun h => h5 (Or.inl h)
      have g2 : ¬ i < 0 := fun h => h5 (Or.inr (Or.inl h))
      have g3 : ¬ j < 0 := fun h => h5 (Or.inr (Or.inr (Or.inl h)))
      have g4 : ¬ A 16 s < i := fun h => h5 (Or.inr (Or.inr (Or.inr (Or.inl h))))
      have g5 : ¬ A 16 o < j := fun h => h5 (Or.inr (Or.inr (Or.inr (Or.inr (Or.inl h)))))
      have g6 : ¬ A 16 s - i < m := fun h => h5 (Or.inr (Or.inr (Or.inr (Or.inr (Or.inr (Or.inl h))))))
      have g7 : m ≤ A 16 o - j := Classical.not_not.mp fun h => h5 (Or.inr (Or.inr (Or.inr (Or.inr (Or.inr (Or.inr h))))))
      obtain ⟨m, hm31, rfl⟩ := nI_of g1
      obtain ⟨i, hi31, rfl⟩ := nI_of g2
      obtain ⟨j, hj31, rfl⟩ := nI_of g3
      have hi : i ≤ ms := Nat.le_of_not_lt fun h => g4 (by rw [hms2]; exact nI_lt h hi31)
      have hj : j ≤ mo := Nat.le_of_not_lt fun h => g5 (by rw [hmo2]; exact nI_lt h hj31)
      have hmi : m ≤ ms - i := Nat.le_of_not_lt fun h => g6 (by rw [hms2, pk_sub hi]; exact nI_lt h hm31)
      have hmj : m ≤ mo - j := by rw [hmo2, pk_sub hj] at g7; exact (nI_leI hm31 (by omega)).mp g7
      rw [show cn (nI m) = m from nI_clamp hm31, show cn (nI i) = i from nI_clamp hi31, show cn (nI j) = j from nI_clamp hj31]
      have e1 : 40 * nI s + nI i = nI (40 * s + i) := by rw [show (40 : Int32) = nI 40 from rfl, pk_mul, nI_add]
      have e2 : 40 * nI o + nI j = nI (40 * o + j) := by rw [show (40 : Int32) = nI 40 from rfl, pk_mul, nI_add]
      refine g_iload_n dX7_copy_0 rfl ?_
      refine g_iconst (0) dX7_copy_1 rfl ?_
      refine g_iconst (3) dX7_copy_2 rfl ?_
      refine gs_calli (n := 3) (c_in ) (lw_S q1405 q1406 q92 q1407) (by decide +kernel) rfl rfl (by decide) ⟨Nat.le_refl _, Nat.le_refl _⟩ (Nat.le_of_ble_eq_true rfl) dX7_copy_3 ?_
      refine g_if_eq 18 dX7_copy_6 (by decide) (fun h9 => absurd h9 (by rw [h1]; decide)) (fun _ => ?_)
      refine g_iload_n dX7_copy_9 rfl ?_
      refine g_iconst (0) dX7_copy_10 rfl ?_
      refine g_iconst (3) dX7_copy_11 rfl ?_
      refine gs_calli (n := 3) (c_in ) (lw_S q1405 q1406 q92 q1407) (by decide +kernel) rfl rfl (by decide) ⟨Nat.le_refl _, Nat.le_refl _⟩ (Nat.le_of_ble_eq_true rfl) dX7_copy_12 ?_
      refine g_if_ne 21 dX7_copy_15 (by decide) (fun _ => ?_) (fun h9 => absurd h9 (by rw [h2]; decide))
      refine g_aload_n dX7_copy_21 rfl ?_
      refine mg_sheetSort dX7_copy_22 ?_
      refine g_iload_n dX7_copy_25 rfl ?_
      refine mlc_sheetSort (s) (by omega) (by first | rfl | (simp only [nI, Int32.ofNat_add, Int32.ofNat_mul]; rfl) | (simp only [nI, Int32.ofNat_add, Int32.ofNat_mul]; done)) dX7_copy_26 ?_
      refine g_iconst (-1) dX7_copy_27 rfl ?_
      refine g_icmp_eq 41 dX7_copy_28 (by decide) (fun h9 => absurd h9 (fun h => h3 (Or.inl h))) (fun _ => ?_)
      refine g_aload_n dX7_copy_31 rfl ?_
      refine mg_sheetSort dX7_copy_32 ?_
      refine g_iload_n dX7_copy_35 rfl ?_
      refine mlc_sheetSort (o) (by omega) (by first | rfl | (simp only [nI, Int32.ofNat_add, Int32.ofNat_mul]; rfl) | (simp only [nI, Int32.ofNat_add, Int32.ofNat_mul]; done)) dX7_copy_36 ?_
      refine g_iconst (-1) dX7_copy_37 rfl ?_
      refine g_icmp_ne 44 dX7_copy_38 (by decide) (fun _ => ?_) (fun h9 => absurd h9 (fun h => h3 (Or.inr h)))
      refine g_aload_n dX7_copy_44 rfl ?_
      refine mg_sheetSort dX7_copy_45 ?_
      refine g_iload_n dX7_copy_48 rfl ?_
      refine mlc_sheetSort (s) (by omega) (by first | rfl | (simp only [nI, Int32.ofNat_add, Int32.ofNat_mul]; rfl) | (simp only [nI, Int32.ofNat_add, Int32.ofNat_mul]; done)) dX7_copy_49 ?_
      refine g_aload_n dX7_copy_50 rfl ?_
      refine mg_sheetSort dX7_copy_51 ?_
      refine g_iload_n dX7_copy_54 rfl ?_
      refine mlc_sheetSort (o) (by omega) (by first | rfl | (simp only [nI, Int32.ofNat_add, Int32.ofNat_mul]; rfl) | (simp only [nI, Int32.ofNat_add, Int32.ofNat_mul]; done)) dX7_copy_55 ?_
      refine g_icmp_eq 62 dX7_copy_56 (by decide) (fun _ => ?_) (fun h9 => absurd h4 h9)
      refine g_iload dX7_copy_62 rfl ?_
      refine g_if_lt 124 dX7_copy_64 (by decide) (fun h9 => absurd h9 g1) (fun _ => ?_)
      refine g_iload_n dX7_copy_67 rfl ?_
      refine g_if_lt 124 dX7_copy_68 (by decide) (fun h9 => absurd h9 g2) (fun _ => ?_)
      refine g_iload dX7_copy_71 rfl ?_
      refine g_if_lt 124 dX7_copy_73 (by decide) (fun h9 => absurd h9 g3) (fun _ => ?_)
      refine g_iload_n dX7_copy_76 rfl ?_
      refine g_aload_n dX7_copy_77 rfl ?_
      refine mg_sheetSize dX7_copy_78 ?_
      refine g_iload_n dX7_copy_81 rfl ?_
      refine mlc_sheetSize (s) (by omega) (by first | rfl | (simp only [nI, Int32.ofNat_add, Int32.ofNat_mul]; rfl) | (simp only [nI, Int32.ofNat_add, Int32.ofNat_mul]; done)) dX7_copy_82 ?_
      refine g_icmp_gt 124 dX7_copy_83 (by decide) (fun h9 => absurd h9 g4) (fun _ => ?_)
      refine g_iload dX7_copy_86 rfl ?_
      refine g_aload_n dX7_copy_88 rfl ?_
      refine mg_sheetSize dX7_copy_89 ?_
      refine g_iload_n dX7_copy_92 rfl ?_
      refine mlc_sheetSize (o) (by omega) (by first | rfl | (simp only [nI, Int32.ofNat_add, Int32.ofNat_mul]; rfl) | (simp only [nI, Int32.ofNat_add, Int32.ofNat_mul]; done)) dX7_copy_93 ?_
      refine g_icmp_gt 124 dX7_copy_94 (by decide) (fun h9 => absurd h9 g5) (fun _ => ?_)
      refine g_iload dX7_copy_97 rfl ?_
      refine g_aload_n dX7_copy_99 rfl ?_
      refine mg_sheetSize dX7_copy_100 ?_
      refine g_iload_n dX7_copy_103 rfl ?_
      refine mlc_sheetSize (s) (by omega) (by first | rfl | (simp only [nI, Int32.ofNat_add, Int32.ofNat_mul]; rfl) | (simp only [nI, Int32.ofNat_add, Int32.ofNat_mul]; done)) dX7_copy_104 ?_
      refine g_iload_n dX7_copy_105 rfl ?_
      refine g_isub dX7_copy_106 ?_
      refine g_icmp_gt 124 dX7_copy_107 (by decide) (fun h9 => absurd h9 g6) (fun _ => ?_)
      refine g_iload dX7_copy_110 rfl ?_
      refine g_aload_n dX7_copy_112 rfl ?_
      refine mg_sheetSize dX7_copy_113 ?_
      refine g_iload_n dX7_copy_116 rfl ?_
      refine mlc_sheetSize (o) (by omega) (by first | rfl | (simp only [nI, Int32.ofNat_add, Int32.ofNat_mul]; rfl) | (simp only [nI, Int32.ofNat_add, Int32.ofNat_mul]; done)) dX7_copy_117 ?_
      refine g_iload dX7_copy_118 rfl ?_
      refine g_isub dX7_copy_120 ?_
      refine g_icmp_le 127 dX7_copy_121 (by decide) (fun _ => ?_) (fun h9 => absurd g7 h9)
      refine g_bipush (40) dX7_copy_127 rfl ?_
      refine g_iload_n dX7_copy_129 rfl ?_
      refine g_imul dX7_copy_130 ?_
      refine g_iload_n dX7_copy_131 rfl ?_
      refine g_iadd dX7_copy_132 ?_
      rw [e1]
      refine g_istore (L' := [(6, _), (0, _), (1, _), (2, _), (3, _), (4, _), (5, _)]) dX7_copy_133 (by decide) rfl ?_
      refine g_bipush (40) dX7_copy_135 rfl ?_
      refine g_iload_n dX7_copy_137 rfl ?_
      refine g_imul dX7_copy_138 ?_
      refine g_iload dX7_copy_139 rfl ?_
      refine g_iadd dX7_copy_141 ?_
      rw [e2]
      refine g_istore (L' := [(7, _), (6, _), (0, _), (1, _), (2, _), (3, _), (4, _), (5, _)]) dX7_copy_142 (by decide) rfl ?_
      refine g_iconst (0) dX7_copy_144 rfl ?_
      refine g_istore (L' := [(8, _), (7, _), (6, _), (0, _), (1, _), (2, _), (3, _), (4, _), (5, _)]) dX7_copy_145 (by decide) rfl ?_
      by_cases hab : 40 * o + j ≤ 40 * s + i
      · have h := l_copyU (g := g) (b := b) (z := z) (F := F) (A := A) (A2 := A2) (ω0 := ω0) (c := c) (f0 := A 17) (s := s) (o := o) (i := i) (j := j) (m := m) hN (by omega) (by omega) hab rfl m 0 0 (by omega)
        rw [cpf_0, sA_self] at h
        exact h
      · have h := l_copyD (g := g) (b := b) (z := z) (F := F) (A := A) (A2 := A2) (ω0 := ω0) (c := c) (f0 := A 17) (s := s) (o := o) (i := i) (j := j) (m := m) hN (by omega) (by omega) (Nat.lt_of_not_le hab) rfl m 0 0 (by omega)
        rw [cpd_0, sA_self] at h
        exact h
  · rw [if_pos h4]
    refine g_iload_n dX7_copy_0 rfl ?_
    refine g_iconst (0) dX7_copy_1 rfl ?_
    refine g_iconst (3) dX7_copy_2 rfl ?_
    refine gs_calli (n := 3) (c_in ) (lw_S q1405 q1406 q92 q1407) (by decide +kernel) rfl rfl (by decide) ⟨Nat.le_refl _, Nat.le_refl _⟩ (Nat.le_of_ble_eq_true rfl) dX7_copy_3 ?_
    refine g_if_eq 18 dX7_copy_6 (by decide) (fun h9 => absurd h9 (by rw [h1]; decide)) (fun _ => ?_)
    refine g_iload_n dX7_copy_9 rfl ?_
    refine g_iconst (0) dX7_copy_10 rfl ?_
    refine g_iconst (3) dX7_copy_11 rfl ?_
    refine gs_calli (n := 3) (c_in ) (lw_S q1405 q1406 q92 q1407) (by decide +kernel) rfl rfl (by decide) ⟨Nat.le_refl _, Nat.le_refl _⟩ (Nat.le_of_ble_eq_true rfl) dX7_copy_12 ?_
    refine g_if_ne 21 dX7_copy_15 (by decide) (fun _ => ?_) (fun h9 => absurd h9 (by rw [h2]; decide))
    refine g_aload_n dX7_copy_21 rfl ?_
    refine mg_sheetSort dX7_copy_22 ?_
    refine g_iload_n dX7_copy_25 rfl ?_
    refine mlc_sheetSort (s) (by omega) (by first | rfl | (simp only [nI, Int32.ofNat_add, Int32.ofNat_mul]; rfl) | (simp only [nI, Int32.ofNat_add, Int32.ofNat_mul]; done)) dX7_copy_26 ?_
    refine g_iconst (-1) dX7_copy_27 rfl ?_
    refine g_icmp_eq 41 dX7_copy_28 (by decide) (fun h9 => absurd h9 (fun h => h3 (Or.inl h))) (fun _ => ?_)
    refine g_aload_n dX7_copy_31 rfl ?_
    refine mg_sheetSort dX7_copy_32 ?_
    refine g_iload_n dX7_copy_35 rfl ?_
    refine mlc_sheetSort (o) (by omega) (by first | rfl | (simp only [nI, Int32.ofNat_add, Int32.ofNat_mul]; rfl) | (simp only [nI, Int32.ofNat_add, Int32.ofNat_mul]; done)) dX7_copy_36 ?_
    refine g_iconst (-1) dX7_copy_37 rfl ?_
    refine g_icmp_ne 44 dX7_copy_38 (by decide) (fun _ => ?_) (fun h9 => absurd h9 (fun h => h3 (Or.inr h)))
    refine g_aload_n dX7_copy_44 rfl ?_
    refine mg_sheetSort dX7_copy_45 ?_
    refine g_iload_n dX7_copy_48 rfl ?_
    refine mlc_sheetSort (s) (by omega) (by first | rfl | (simp only [nI, Int32.ofNat_add, Int32.ofNat_mul]; rfl) | (simp only [nI, Int32.ofNat_add, Int32.ofNat_mul]; done)) dX7_copy_49 ?_
    refine g_aload_n dX7_copy_50 rfl ?_
    refine mg_sheetSort dX7_copy_51 ?_
    refine g_iload_n dX7_copy_54 rfl ?_
    refine mlc_sheetSort (o) (by omega) (by first | rfl | (simp only [nI, Int32.ofNat_add, Int32.ofNat_mul]; rfl) | (simp only [nI, Int32.ofNat_add, Int32.ofNat_mul]; done)) dX7_copy_55 ?_
    refine g_icmp_eq 62 dX7_copy_56 (by decide) (fun h9 => absurd h9 h4) (fun _ => ?_)
    refine g_bipush (-13) dX7_copy_59 rfl ?_
    refine g_iret rfl (Nat.le_refl _) (Nat.le_refl _) ?_ dX7_copy_61
    exact mP.of rfl
end A
