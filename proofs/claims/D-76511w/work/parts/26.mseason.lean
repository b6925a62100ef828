/-! the reference: seasons -/
set_option maxRecDepth 100000
def ShM (A : Nat → Nat → Int32) : Prop := ∀ s, s < 4 → ∃ m, m ≤ 40 ∧ A 16 s = nI m
def swL (f : Nat → Int32) : Nat → Nat → Int32
  | 0, _ => 0
  | m + 1, k => if inI (f k) 0 15 = 0 then -2 else swL f m (k + 1)
def shf (A : Nat → Nat → Int32) (s k : Nat) : Int32 := A 17 (40 * s + k)
def seasF (A : Nat → Nat → Int32) (s : Int32) : Int32 := if inI s 0 3 = 0 then -2 else if A 15 (cn s) = -1 then -11 else swL (shf A (cn s)) (cn (A 16 (cn s))) 0
def oneW (F : Nat → Int32) (A : Nat → Nat → Int32) (s p : Int32) : Int32 := if seasF A s = 0 then (if inI p 0 (F 0 - 1) = 0 then -5 else 0) else seasF A s
def twoW (A : Nat → Nat → Int32) (s t : Int32) : Int32 := if inI t 0 3 = 0 then -2 else if seasF A s = 0 then (if A 15 (cn t) = -1 then -11 else if A 16 (cn t) ≤ A 16 (cn s) then 0 else -2) else seasF A s
def toldW (F : Nat → Int32) (A : Nat → Nat → Int32) (s t p : Int32) : Int32 := if twoW A s t = 0 then (if inI p 0 (F 0 - 1) = 0 then -5 else 0) else twoW A s t
def goS (e : En) (p : Nat) (t : Int32) (c : Cr) : Cr := tideC e.1 (landF e c p t)
def goL (e : En) (p : Nat) (f : Nat → Int32) : Nat → Nat → Cr → Int32 → Cr × Int32
  | 0, _, c, x => (c, x)
  | m + 1, k, c, x => goL e p f m (k + 1) (goS e p (wthn (f k) 0 15) c) (x + if letsF e c p (wthn (f k) 0 15) = -1 then 1 else 0)
def unL (e : En) (p : Nat) (f h : Nat → Int32) : Nat → Nat → Cr → Int32
  | 0, _, _ => -1
  | m + 1, k, c => if h k = (landF e c p (wthn (f k) 0 15)).1 (3 * p + 2) then unL e p f h m (k + 1) (goS e p (wthn (f k) 0 15) c) else nI k
theorem hi_go {e : En} {c : Cr} {p : Nat} {t : Int32} (hp : p < 6) (hn : e.1 ≤ 6) : hiEq c (goS e p t c) := (hi_land hp).tr (hi_tide hn)
theorem hi_goL {e : En} {p : Nat} {f : Nat → Int32} (hp : p < 6) (hn : e.1 ≤ 6) : ∀ (m k : Nat) (c : Cr) (x : Int32), hiEq c (goL e p f m k c x).1 := by
  intro m
  induction m with
  | zero => intro k c x; exact hiEq.rf
  | succ m ih => intro k c x; exact (hi_go hp hn).tr (ih _ _ _)
section A
variable {g : GE} {b z n : Nat} {F : Nat → Int32} {A A2 : Nat → Nat → Int32} {ω0 : Om} {ts : Nat → List Int32} {c c0 : Cr}
theorem l_seasonWrong {s m : Nat} {r : Int32} (hs : s < 4) (hm : m ≤ 40) (hS : A 16 s = nI m) :
    ∀ (f k : Nat), k + f = m → r = swL (shf A s) f k → GN g RX7 cX7_seasonWrong 3 (some .int) 3 (mQ g b ω0 z (some (.int r)) (mF F c) (mA A c)) (hM g b (mF F c) (mA A c) A2 ω0) z 27 [(2, .int (nI k)), (0, .ref b), (1, .int (nI s))] [] := by
  intro f
  induction f with
  | zero =>
    intro k hk hr
    refine g_iload_n dX7_seasonWrong_27 rfl ?_
    refine g_aload_n dX7_seasonWrong_28 rfl ?_
    refine mg_sheetSize dX7_seasonWrong_29 ?_
    refine g_iload_n dX7_seasonWrong_32 rfl ?_
    refine mlc_sheetSize (s) (by omega) (by first | rfl | (simp only [nI, Int32.ofNat_add, Int32.ofNat_mul]; rfl) | (simp only [nI, Int32.ofNat_add, Int32.ofNat_mul]; done)) dX7_seasonWrong_33 ?_
    refine g_icmp_ge 63 dX7_seasonWrong_34 (by decide) (fun _ => ?_) (fun h9 => absurd (by rw [hS]; exact nI_le (by omega) (by omega)) h9)
    refine g_iconst (0) dX7_seasonWrong_63 rfl ?_
    refine g_iret rfl (Nat.le_refl _) (Nat.le_refl _) ?_ dX7_seasonWrong_64
    exact mQ.of (by rw [hr]; rfl) rfl rfl
  | succ f ih =>
    intro k hk hr
    unfold swL shf at hr
    refine g_iload_n dX7_seasonWrong_27 rfl ?_
    refine g_aload_n dX7_seasonWrong_28 rfl ?_
    refine mg_sheetSize dX7_seasonWrong_29 ?_
    refine g_iload_n dX7_seasonWrong_32 rfl ?_
    refine mlc_sheetSize (s) (by omega) (by first | rfl | (simp only [nI, Int32.ofNat_add, Int32.ofNat_mul]; rfl) | (simp only [nI, Int32.ofNat_add, Int32.ofNat_mul]; done)) dX7_seasonWrong_33 ?_
    refine g_icmp_ge 63 dX7_seasonWrong_34 (by decide) (fun h9 => absurd h9 (by rw [hS]; exact nI_ge (by omega) (by omega))) (fun _ => ?_)
    refine g_aload_n dX7_seasonWrong_37 rfl ?_
    refine mg_cells dX7_seasonWrong_38 ?_
    refine g_bipush (40) dX7_seasonWrong_41 rfl ?_
    refine g_iload_n dX7_seasonWrong_43 rfl ?_
    refine g_imul dX7_seasonWrong_44 ?_
    refine g_iload_n dX7_seasonWrong_45 rfl ?_
    refine g_iadd dX7_seasonWrong_46 ?_
    refine mlc_cells (((40 * s) + k)) (by omega) (by first | rfl | (simp only [nI, Int32.ofNat_add, Int32.ofNat_mul]; rfl) | (simp only [nI, Int32.ofNat_add, Int32.ofNat_mul]; done)) dX7_seasonWrong_47 ?_
    refine gs_calli (n := 1) (c_isThing ) (lw_S q1579 q1580 q92 q1581) (by decide +kernel) rfl rfl (by decide) ⟨Nat.le_refl _, Nat.le_refl _⟩ (Nat.le_of_ble_eq_true rfl) dX7_seasonWrong_48 ?_
    refine g_if_ne 57 dX7_seasonWrong_51 (by decide) (fun c1 => ?_) (fun c1 => ?_)
    · rw [if_neg c1] at hr
      refine g_iinc (nI (k + 1)) (L' := [(2, _), (0, _), (1, _)]) dX7_seasonWrong_57 rfl (nI_1 _) (by decide) rfl ?_
      refine g_goto 27 dX7_seasonWrong_60 (by decide) ?_
      exact ih (k + 1) (by omega) hr
    · rw [if_pos c1] at hr
      refine g_bipush (-2) dX7_seasonWrong_54 rfl ?_
      refine g_iret rfl (Nat.le_refl _) (Nat.le_refl _) ?_ dX7_seasonWrong_56
      exact mQ.of (by rw [hr]) rfl rfl
theorem c_seasonWrong {s : Int32} (hS : ShM A) : Ct g yX7_seasonWrong cX7_seasonWrong 3 (some .int) 3 0 0 [.ref b, .int s] (hM g b (mF F c) (mA A c) A2 ω0) z (mQ g b ω0 z (some (.int (seasF A s))) (mF F c) (mA A c)) := by
  refine Ct.at (own := RX7) (by decide) rfl (Nat.le_of_ble_eq_true rfl) rfl ?_
  rcases in_or s (hi := 3) (m := 3) (by decide) with h1 | ⟨s, hs, rfl, h1⟩
  · refine g_iload_n dX7_seasonWrong_0 rfl ?_
    refine g_iconst (0) dX7_seasonWrong_1 rfl ?_
    refine g_iconst (3) dX7_seasonWrong_2 rfl ?_
    refine gs_calli (n := 3) (c_in ) (lw_S q1405 q1406 q92 q1407) (by decide +kernel) rfl rfl (by decide) ⟨Nat.le_refl _, Nat.le_refl _⟩ (Nat.le_of_ble_eq_true rfl) dX7_seasonWrong_3 ?_
    refine g_if_ne 12 dX7_seasonWrong_6 (by decide) (fun h9 => absurd h1 h9) (fun _ => ?_)
    refine g_bipush (-2) dX7_seasonWrong_9 rfl ?_
    refine g_iret rfl (Nat.le_refl _) (Nat.le_refl _) ?_ dX7_seasonWrong_11
    exact mQ.of (by rw [seasF, if_pos h1]) rfl rfl
  · have hcs : cn (nI s) = s := nI_clamp (by omega)
    obtain ⟨m, hm, hm2⟩ := hS s (by omega)
    have hcm : cn (A 16 s) = m := by rw [hm2]; exact nI_clamp (by omega)
    have he : seasF A (nI s) = if A 15 s = -1 then -11 else swL (shf A s) m 0 := by
      unfold seasF; rw [hcs, hcm, if_neg (by rw [h1]; decide)]
    rw [he]
    refine g_iload_n dX7_seasonWrong_0 rfl ?_
    refine g_iconst (0) dX7_seasonWrong_1 rfl ?_
    refine g_iconst (3) dX7_seasonWrong_2 rfl ?_
    refine gs_calli (n := 3) (c_in ) (lw_S q1405 q1406 q92 q1407) (by decide +kernel) rfl rfl (by decide) ⟨Nat.le_refl _, Nat.le_refl _⟩ (Nat.le_of_ble_eq_true rfl) dX7_seasonWrong_3 ?_
    refine g_if_ne 12 dX7_seasonWrong_6 (by decide) (fun _ => ?_) (fun h9 => absurd h9 (by rw [h1]; decide))
    refine g_aload_n dX7_seasonWrong_12 rfl ?_
    refine mg_sheetSort dX7_seasonWrong_13 ?_
    refine g_iload_n dX7_seasonWrong_16 rfl ?_
    refine mlc_sheetSort (s) (by omega) (by first | rfl | (simp only [nI, Int32.ofNat_add, Int32.ofNat_mul]; rfl) | (simp only [nI, Int32.ofNat_add, Int32.ofNat_mul]; done)) dX7_seasonWrong_17 ?_
    refine g_iconst (-1) dX7_seasonWrong_18 rfl ?_
    refine g_icmp_ne 25 dX7_seasonWrong_19 (by decide) (fun c1 => ?_) (fun c1 => ?_)
    · rw [if_neg c1]
      refine g_iconst (0) dX7_seasonWrong_25 rfl ?_
      refine g_istore_n (L' := [(2, _), (0, _), (1, _)]) dX7_seasonWrong_26 (by decide) rfl ?_
      exact l_seasonWrong (by omega) hm hm2 m 0 (by omega) rfl
    · rw [if_pos c1]
      refine g_bipush (-11) dX7_seasonWrong_22 rfl ?_
      refine g_iret rfl (Nat.le_refl _) (Nat.le_refl _) ?_ dX7_seasonWrong_24
      exact mQ.mk
theorem c_oneWrong {s p : Int32} (hS : ShM A) : Ct g yX7_oneWrong cX7_oneWrong 4 (some .int) 4 0 0 [.ref b, .int s, .int p] (hM g b (mF F c) (mA A c) A2 ω0) z (mQ g b ω0 z (some (.int (oneW F A s p))) (mF F c) (mA A c)) := by
  refine Ct.at (own := RX7) (by decide) rfl (Nat.le_of_ble_eq_true rfl) rfl ?_
  refine g_aload_n dX7_oneWrong_0 rfl ?_
  refine g_iload_n dX7_oneWrong_1 rfl ?_
  refine gm_calli (n := 1) (c_seasonWrong hS) (lw_V q1663 q1665 qs56 q92 q1666) (by decide +kernel) rfl rfl (by decide) ⟨Nat.le_refl _, Nat.le_refl _⟩ (Nat.le_of_ble_eq_true rfl) dX7_oneWrong_2 (fun A2 => ?_)
  refine g_istore_n (L' := [(3, _), (0, _), (1, _), (2, _)]) dX7_oneWrong_5 (by decide) rfl ?_
  refine g_iload_n dX7_oneWrong_6 rfl ?_
  refine g_if_eq 14 dX7_oneWrong_7 (by decide) (fun c1 => ?_) (fun c1 => ?_)
  · refine g_aload_n dX7_oneWrong_14 rfl ?_
    refine g_iload_n dX7_oneWrong_15 rfl ?_
    refine gm_calli (n := 1) (c_isOne ) (lw_V q1575 q1577 qs46 q92 q1578) (by decide +kernel) rfl rfl (by decide) ⟨Nat.le_refl _, Nat.le_refl _⟩ (Nat.le_of_ble_eq_true rfl) dX7_oneWrong_16 (fun A2 => ?_)
    refine g_if_eq 26 dX7_oneWrong_19 (by decide) (fun c2 => ?_) (fun c2 => ?_)
    · refine g_bipush (-5) dX7_oneWrong_26 rfl ?_
      refine g_iret rfl (Nat.le_refl _) (Nat.le_refl _) ?_ dX7_oneWrong_28
      exact mQ.of (by simp_all [oneW]) rfl rfl
    · refine g_iconst (0) dX7_oneWrong_22 rfl ?_
      refine g_goto 28 dX7_oneWrong_23 (by decide) ?_
      refine g_iret rfl (Nat.le_refl _) (Nat.le_refl _) ?_ dX7_oneWrong_28
      exact mQ.of (by simp_all [oneW]) rfl rfl
  · refine g_iload_n dX7_oneWrong_10 rfl ?_
    refine g_goto 28 dX7_oneWrong_11 (by decide) ?_
    refine g_iret rfl (Nat.le_refl _) (Nat.le_refl _) ?_ dX7_oneWrong_28
    exact mQ.of (by simp_all [oneW]) rfl rfl
theorem c_twoWrong {s t : Int32} (hS : ShM A) : Ct g yX7_twoWrong cX7_twoWrong 4 (some .int) 4 0 0 [.ref b, .int s, .int t] (hM g b (mF F c) (mA A c) A2 ω0) z (mQ g b ω0 z (some (.int (twoW A s t))) (mF F c) (mA A c)) := by
  refine Ct.at (own := RX7) (by decide) rfl (Nat.le_of_ble_eq_true rfl) rfl ?_
  rcases in_or t (hi := 3) (m := 3) (by decide) with h1 | ⟨t, ht, rfl, h1⟩
  · refine g_iload_n dX7_twoWrong_0 rfl ?_
    refine g_iconst (0) dX7_twoWrong_1 rfl ?_
    refine g_iconst (3) dX7_twoWrong_2 rfl ?_
    refine gs_calli (n := 3) (c_in ) (lw_S q1405 q1406 q92 q1407) (by decide +kernel) rfl rfl (by decide) ⟨Nat.le_refl _, Nat.le_refl _⟩ (Nat.le_of_ble_eq_true rfl) dX7_twoWrong_3 ?_
    refine g_if_ne 12 dX7_twoWrong_6 (by decide) (fun h9 => absurd h1 h9) (fun _ => ?_)
    refine g_bipush (-2) dX7_twoWrong_9 rfl ?_
    refine g_iret rfl (Nat.le_refl _) (Nat.le_refl _) ?_ dX7_twoWrong_11
    exact mQ.of (by rw [twoW, if_pos h1]) rfl rfl
  · have hct : cn (nI t) = t := nI_clamp (by omega)
    by_cases hs0 : seasF A s = 0
    · have hsx : ¬ inI s 0 3 = 0 := fun h => by rw [seasF, if_pos h] at hs0; exact absurd hs0 (by decide)
      obtain ⟨s, hs, rfl⟩ := in_ix (m := 3) (by decide) hsx
      have hcs : cn (nI s) = s := nI_clamp (by omega)
      have he : twoW A (nI s) (nI t) = if A 15 t = -1 then -11 else if A 16 t ≤ A 16 s then 0 else -2 := by
        unfold twoW; rw [hct, hcs, if_neg (by rw [h1]; decide), if_pos hs0]
      rw [he]
      refine g_iload_n dX7_twoWrong_0 rfl ?_
      refine g_iconst (0) dX7_twoWrong_1 rfl ?_
      refine g_iconst (3) dX7_twoWrong_2 rfl ?_
      refine gs_calli (n := 3) (c_in ) (lw_S q1405 q1406 q92 q1407) (by decide +kernel) rfl rfl (by decide) ⟨Nat.le_refl _, Nat.le_refl _⟩ (Nat.le_of_ble_eq_true rfl) dX7_twoWrong_3 ?_
      refine g_if_ne 12 dX7_twoWrong_6 (by decide) (fun _ => ?_) (fun h9 => absurd h9 (by rw [h1]; decide))
      refine g_aload_n dX7_twoWrong_12 rfl ?_
      refine g_iload_n dX7_twoWrong_13 rfl ?_
      refine gm_calli (n := 1) (c_seasonWrong hS) (lw_V q1663 q1665 qs56 q92 q1666) (by decide +kernel) rfl rfl (by decide) ⟨Nat.le_refl _, Nat.le_refl _⟩ (Nat.le_of_ble_eq_true rfl) dX7_twoWrong_14 (fun A2 => ?_)
      refine g_istore_n (L' := [(3, _), (0, _), (1, _), (2, _)]) dX7_twoWrong_17 (by decide) rfl ?_
      refine g_iload_n dX7_twoWrong_18 rfl ?_
      refine g_if_eq 24 dX7_twoWrong_19 (by decide) (fun _ => ?_) (fun h9 => absurd hs0 h9)
      refine g_aload_n dX7_twoWrong_24 rfl ?_
      refine mg_sheetSort dX7_twoWrong_25 ?_
      refine g_iload_n dX7_twoWrong_28 rfl ?_
      refine mlc_sheetSort (t) (by omega) (by first | rfl | (simp only [nI, Int32.ofNat_add, Int32.ofNat_mul]; rfl) | (simp only [nI, Int32.ofNat_add, Int32.ofNat_mul]; done)) dX7_twoWrong_29 ?_
      refine g_iconst (-1) dX7_twoWrong_30 rfl ?_
      refine g_icmp_ne 37 dX7_twoWrong_31 (by decide) (fun c1 => ?_) (fun c1 => ?_)
      · refine g_aload_n dX7_twoWrong_37 rfl ?_
        refine mg_sheetSize dX7_twoWrong_38 ?_
        refine g_iload_n dX7_twoWrong_41 rfl ?_
        refine mlc_sheetSize (t) (by omega) (by first | rfl | (simp only [nI, Int32.ofNat_add, Int32.ofNat_mul]; rfl) | (simp only [nI, Int32.ofNat_add, Int32.ofNat_mul]; done)) dX7_twoWrong_42 ?_
        refine g_aload_n dX7_twoWrong_43 rfl ?_
        refine mg_sheetSize dX7_twoWrong_44 ?_
        refine g_iload_n dX7_twoWrong_47 rfl ?_
        refine mlc_sheetSize (s) (by omega) (by first | rfl | (simp only [nI, Int32.ofNat_add, Int32.ofNat_mul]; rfl) | (simp only [nI, Int32.ofNat_add, Int32.ofNat_mul]; done)) dX7_twoWrong_48 ?_
        refine g_icmp_le 57 dX7_twoWrong_49 (by decide) (fun c2 => ?_) (fun c2 => ?_)
        · refine g_iconst (0) dX7_twoWrong_57 rfl ?_
          refine g_iret rfl (Nat.le_refl _) (Nat.le_refl _) ?_ dX7_twoWrong_58
          exact mQ.of (by simp_all [-Int32.not_le, -Int32.not_lt]) rfl rfl
        · refine g_bipush (-2) dX7_twoWrong_52 rfl ?_
          refine g_goto 58 dX7_twoWrong_54 (by decide) ?_
          refine g_iret rfl (Nat.le_refl _) (Nat.le_refl _) ?_ dX7_twoWrong_58
          exact mQ.of (by simp_all [-Int32.not_le, -Int32.not_lt]) rfl rfl
      · refine g_bipush (-11) dX7_twoWrong_34 rfl ?_
        refine g_iret rfl (Nat.le_refl _) (Nat.le_refl _) ?_ dX7_twoWrong_36
        exact mQ.of (by simp_all [-Int32.not_le, -Int32.not_lt]) rfl rfl
    · have he : twoW A s (nI t) = seasF A s := by
        unfold twoW; rw [if_neg (by rw [h1]; decide), if_neg hs0]
      rw [he]
      refine g_iload_n dX7_twoWrong_0 rfl ?_
      refine g_iconst (0) dX7_twoWrong_1 rfl ?_
      refine g_iconst (3) dX7_twoWrong_2 rfl ?_
      refine gs_calli (n := 3) (c_in ) (lw_S q1405 q1406 q92 q1407) (by decide +kernel) rfl rfl (by decide) ⟨Nat.le_refl _, Nat.le_refl _⟩ (Nat.le_of_ble_eq_true rfl) dX7_twoWrong_3 ?_
      refine g_if_ne 12 dX7_twoWrong_6 (by decide) (fun _ => ?_) (fun h9 => absurd h9 (by rw [h1]; decide))
      refine g_aload_n dX7_twoWrong_12 rfl ?_
      refine g_iload_n dX7_twoWrong_13 rfl ?_
      refine gm_calli (n := 1) (c_seasonWrong hS) (lw_V q1663 q1665 qs56 q92 q1666) (by decide +kernel) rfl rfl (by decide) ⟨Nat.le_refl _, Nat.le_refl _⟩ (Nat.le_of_ble_eq_true rfl) dX7_twoWrong_14 (fun A2 => ?_)
      refine g_istore_n (L' := [(3, _), (0, _), (1, _), (2, _)]) dX7_twoWrong_17 (by decide) rfl ?_
      refine g_iload_n dX7_twoWrong_18 rfl ?_
      refine g_if_eq 24 dX7_twoWrong_19 (by decide) (fun h9 => absurd h9 hs0) (fun _ => ?_)
      refine g_iload_n dX7_twoWrong_22 rfl ?_
      refine g_iret rfl (Nat.le_refl _) (Nat.le_refl _) ?_ dX7_twoWrong_23
      exact mQ.mk
theorem c_toldWrong {s t p : Int32} (hS : ShM A) : Ct g yX7_toldWrong cX7_toldWrong 5 (some .int) 5 0 0 [.ref b, .int s, .int t, .int p] (hM g b (mF F c) (mA A c) A2 ω0) z (mQ g b ω0 z (some (.int (toldW F A s t p))) (mF F c) (mA A c)) := by
  refine Ct.at (own := RX7) (by decide) rfl (Nat.le_of_ble_eq_true rfl) rfl ?_
  refine g_aload_n dX7_toldWrong_0 rfl ?_
  refine g_iload_n dX7_toldWrong_1 rfl ?_
  refine g_iload_n dX7_toldWrong_2 rfl ?_
  refine gm_calli (n := 2) (c_twoWrong hS) (lw_V q1727 q1729 qs64 q92 q1730) (by decide +kernel) rfl rfl (by decide) ⟨Nat.le_refl _, Nat.le_refl _⟩ (Nat.le_of_ble_eq_true rfl) dX7_toldWrong_3 (fun A2 => ?_)
  refine g_istore (L' := [(4, _), (0, _), (1, _), (2, _), (3, _)]) dX7_toldWrong_6 (by decide) rfl ?_
  refine g_iload dX7_toldWrong_8 rfl ?_
  refine g_if_eq 18 dX7_toldWrong_10 (by decide) (fun c1 => ?_) (fun c1 => ?_)
  · refine g_aload_n dX7_toldWrong_18 rfl ?_
    refine g_iload_n dX7_toldWrong_19 rfl ?_
    refine gm_calli (n := 1) (c_isOne ) (lw_V q1575 q1577 qs46 q92 q1578) (by decide +kernel) rfl rfl (by decide) ⟨Nat.le_refl _, Nat.le_refl _⟩ (Nat.le_of_ble_eq_true rfl) dX7_toldWrong_20 (fun A2 => ?_)
    refine g_if_eq 30 dX7_toldWrong_23 (by decide) (fun c2 => ?_) (fun c2 => ?_)
    · refine g_bipush (-5) dX7_toldWrong_30 rfl ?_
      refine g_iret rfl (Nat.le_refl _) (Nat.le_refl _) ?_ dX7_toldWrong_32
      exact mQ.of (by simp_all [toldW]) rfl rfl
    · refine g_iconst (0) dX7_toldWrong_26 rfl ?_
      refine g_goto 32 dX7_toldWrong_27 (by decide) ?_
      refine g_iret rfl (Nat.le_refl _) (Nat.le_refl _) ?_ dX7_toldWrong_32
      exact mQ.of (by simp_all [toldW]) rfl rfl
  · refine g_iload dX7_toldWrong_13 rfl ?_
    refine g_goto 32 dX7_toldWrong_15 (by decide) ?_
    refine g_iret rfl (Nat.le_refl _) (Nat.le_refl _) ?_ dX7_toldWrong_32
    exact mQ.of (by simp_all [toldW]) rfl rfl
theorem l_goes {s p m : Nat} {cE : Cr} {xE : Int32} (hN : gN g ≤ b) (hE : EnM F A n ts) (hs : s < 4) (hp : p < 6) (hm : m ≤ 40) (hS : A 16 s = nI m) :
    ∀ (f k : Nat) (c : Cr) (x : Int32) (A2 : Nat → Nat → Int32), k + f = m → goL (eM A n ts) p (shf A s) f k c x = (cE, xE) → GN g RX7 cX7_goes 5 none 6 (mQ g b ω0 z none (mF (upd F 31 xE) cE) (mA A cE)) (hM g b (mF (upd F 31 x) c) (mA A c) A2 ω0) z 7 [(3, .int (nI k)), (0, .ref b), (1, .int (nI s)), (2, .int (nI p))] [] := by
  intro f
  induction f with
  | zero =>
    intro k c x A2 hk hr
    cases hr
    refine g_iload_n dX7_goes_7 rfl ?_
    refine g_aload_n dX7_goes_8 rfl ?_
    refine mg_sheetSize dX7_goes_9 ?_
    refine g_iload_n dX7_goes_12 rfl ?_
    refine mlc_sheetSize (s) (by omega) (by first | rfl | (simp only [nI, Int32.ofNat_add, Int32.ofNat_mul]; rfl) | (simp only [nI, Int32.ofNat_add, Int32.ofNat_mul]; done)) dX7_goes_13 ?_
    refine g_icmp_ge 72 dX7_goes_14 (by decide) (fun _ => ?_) (fun h9 => absurd (by rw [hS]; exact nI_le (by omega) (by omega)) h9)
    refine g_vret rfl (Nat.le_refl _) (Nat.le_refl _) ?_ dX7_goes_72
    exact mQ.mk
  | succ f ih =>
    intro k c x A2 hk hr
    unfold goL shf at hr
    refine g_iload_n dX7_goes_7 rfl ?_
    refine g_aload_n dX7_goes_8 rfl ?_
    refine mg_sheetSize dX7_goes_9 ?_
    refine g_iload_n dX7_goes_12 rfl ?_
    refine mlc_sheetSize (s) (by omega) (by first | rfl | (simp only [nI, Int32.ofNat_add, Int32.ofNat_mul]; rfl) | (simp only [nI, Int32.ofNat_add, Int32.ofNat_mul]; done)) dX7_goes_13 ?_
    refine g_icmp_ge 72 dX7_goes_14 (by decide) (fun h9 => absurd h9 (by rw [hS]; exact nI_ge (by omega) (by omega))) (fun _ => ?_)
    refine g_aload_n dX7_goes_17 rfl ?_
    refine g_iload_n dX7_goes_18 rfl ?_
    refine g_aload_n dX7_goes_19 rfl ?_
    refine mg_cells dX7_goes_20 ?_
    refine g_bipush (40) dX7_goes_23 rfl ?_
    refine g_iload_n dX7_goes_25 rfl ?_
    refine g_imul dX7_goes_26 ?_
    refine g_iload_n dX7_goes_27 rfl ?_
    refine g_iadd dX7_goes_28 ?_
    refine mlc_cells (((40 * s) + k)) (by omega) (by first | rfl | (simp only [nI, Int32.ofNat_add, Int32.ofNat_mul]; rfl) | (simp only [nI, Int32.ofNat_add, Int32.ofNat_mul]; done)) dX7_goes_29 ?_
    refine g_iconst (0) dX7_goes_30 rfl ?_
    refine g_bipush (15) dX7_goes_31 rfl ?_
    refine gs_calli (n := 3) (c_within ) (lw_S q1593 q1594 q92 q1595) (by decide +kernel) rfl rfl (by decide) ⟨Nat.le_refl _, Nat.le_refl _⟩ (Nat.le_of_ble_eq_true rfl) dX7_goes_33 ?_
    refine gm_calli (n := 2) (c_landOf (n := n) (ts := ts) hN hE hp) (lw_V q1631 q1633 qs52 q92 q1634) (by decide +kernel) rfl rfl (by decide) ⟨Nat.le_refl _, Nat.le_refl _⟩ (Nat.le_of_ble_eq_true rfl) dX7_goes_36 (fun A2 => ?_)
    refine g_istore (L' := [(4, _), (3, _), (0, _), (1, _), (2, _)]) dX7_goes_39 (by decide) rfl ?_
    refine g_aload_n dX7_goes_41 rfl ?_
    refine g_dup dX7_goes_42 rfl ?_
    refine mgc_nothings dX7_goes_43 ?_
    refine g_iload dX7_goes_46 rfl ?_
    refine g_iconst (-1) dX7_goes_48 rfl ?_
    refine g_icmp_ne 56 dX7_goes_49 (by decide) (fun c1 => ?_) (fun c1 => ?_)
    · rw [if_neg c1] at hr
      refine g_iconst (0) dX7_goes_56 rfl ?_
      refine g_iadd dX7_goes_57 ?_
      refine mpc_nothings hN  dX7_goes_58 ?_
      refine g_aload_n dX7_goes_61 rfl ?_
      refine gm_calli (n := 0) (c_tideOf (n := n) hN hE.1 hE.2.1) (lw_V q1647 q1649 qs54 q92 q1650) (by decide +kernel) rfl rfl (by decide) ⟨Nat.le_refl _, Nat.le_refl _⟩ (Nat.le_of_ble_eq_true rfl) dX7_goes_62 (fun A2 => ?_)
      refine g_pop dX7_goes_65 rfl ?_
      refine g_iinc (nI (k + 1)) (L' := [(3, _), (4, _), (0, _), (1, _), (2, _)]) dX7_goes_66 rfl (nI_1 _) (by decide) rfl ?_
      refine g_goto 7 dX7_goes_69 (by decide) ?_
      refine g_pick [0, 2, 3, 4] rfl ?_
      rw [upd_same, upd_upd]
      exact ih (k + 1) _ _ _ (by omega) hr
    · rw [if_pos c1] at hr
      refine g_iconst (1) dX7_goes_52 rfl ?_
      refine g_goto 57 dX7_goes_53 (by decide) ?_
      refine g_iadd dX7_goes_57 ?_
      refine mpc_nothings hN  dX7_goes_58 ?_
      refine g_aload_n dX7_goes_61 rfl ?_
      refine gm_calli (n := 0) (c_tideOf (n := n) hN hE.1 hE.2.1) (lw_V q1647 q1649 qs54 q92 q1650) (by decide +kernel) rfl rfl (by decide) ⟨Nat.le_refl _, Nat.le_refl _⟩ (Nat.le_of_ble_eq_true rfl) dX7_goes_62 (fun A2 => ?_)
      refine g_pop dX7_goes_65 rfl ?_
      refine g_iinc (nI (k + 1)) (L' := [(3, _), (4, _), (0, _), (1, _), (2, _)]) dX7_goes_66 rfl (nI_1 _) (by decide) rfl ?_
      refine g_goto 7 dX7_goes_69 (by decide) ?_
      refine g_pick [0, 2, 3, 4] rfl ?_
      rw [upd_same, upd_upd]
      exact ih (k + 1) _ _ _ (by omega) hr
theorem c_goes {s p m : Nat} (hN : gN g ≤ b) (hE : EnM F A n ts) (hs : s < 4) (hp : p < 6) (hm : m ≤ 40) (hS : A 16 s = nI m) : Ct g yX7_goes cX7_goes 5 none 6 0 0 [.ref b, .int (nI s), .int (nI p)] (hM g b (mF F c) (mA A c) A2 ω0) z (mQ g b ω0 z none (mF (upd F 31 (goL (eM A n ts) p (shf A s) m 0 c 0).2) (goL (eM A n ts) p (shf A s) m 0 c 0).1) (mA A (goL (eM A n ts) p (shf A s) m 0 c 0).1)) := by
  refine Ct.at (own := RX7) (by decide) rfl (Nat.le_of_ble_eq_true rfl) rfl ?_
  refine g_aload_n dX7_goes_0 rfl ?_
  refine g_iconst (0) dX7_goes_1 rfl ?_
  refine mpc_nothings hN  dX7_goes_2 ?_
  refine g_iconst (0) dX7_goes_5 rfl ?_
  refine g_istore_n (L' := [(3, _), (0, _), (1, _), (2, _)]) dX7_goes_6 (by decide) rfl ?_
  exact l_goes hN hE hs hp hm hS m 0 c 0 _ (by omega) rfl
theorem seas_0 {s : Int32} (hS : ShM A) (h : seasF A s = 0) : ∃ (k m : Nat), k < 4 ∧ s = nI k ∧ m ≤ 40 ∧ A 16 k = nI m ∧ cn s = k ∧ cn (A 16 k) = m ∧ ¬ A 15 k = -1 ∧ swL (shf A k) m 0 = 0 := by
  have hsx : ¬ inI s 0 3 = 0 := fun q => by rw [seasF, if_pos q] at h; exact absurd h (by decide)
  obtain ⟨s, hs, rfl⟩ := in_ix (m := 3) (by decide) hsx
  obtain ⟨m, hm, hm2⟩ := hS s (by omega)
  have hcs : cn (nI s) = s := nI_clamp (by omega)
  have hcm : cn (A 16 s) = m := by rw [hm2]; exact nI_clamp (by omega)
  rw [seasF, if_neg hsx, hcs, hcm] at h
  by_cases h2 : A 15 s = -1
  · rw [if_pos h2] at h; exact absurd h (by decide)
  · rw [if_neg h2] at h
    exact ⟨s, m, by omega, rfl, hm, hm2, hcs, hcm, h2, h⟩
theorem one_0 {s p : Int32} (h : oneW F A s p = 0) : seasF A s = 0 ∧ ¬ inI p 0 (F 0 - 1) = 0 := by
  unfold oneW at h
  by_cases h1 : seasF A s = 0
  · rw [if_pos h1] at h
    by_cases h2 : inI p 0 (F 0 - 1) = 0
    · rw [if_pos h2] at h; exact absurd h (by decide)
    · exact ⟨h1, h2⟩
  · rw [if_neg h1] at h; exact absurd h h1
end A
