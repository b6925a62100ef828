/-! the fishers' answers are the reference's -/
set_option maxRecDepth 100000
theorem kindJ_eq {k : Nat} (hk : k < 6) : kindJ k = nI k := by
  match k, hk with
  | 0, _ => rfl
  | 1, _ => rfl
  | 2, _ => rfl
  | 3, _ => rfl
  | 4, _ => rfl
  | 5, _ => rfl
theorem takesJ_eq {k : Nat} (hk : k < 6) (mo v t : Int32) : takesJ k mo v t = takesI (nI k) mo v t := by
  match k, hk with
  | 0, _ => rfl
  | 1, _ => rfl
  | 2, _ => rfl
  | 3, _ => rfl
  | 4, _ => rfl
  | 5, _ => rfl
theorem lucksJ_eq {k : Nat} (hk : k < 6) (mo v : Int32) (kn : Prop) [Decidable kn] : lucksJ k mo v (if kn then 1 else 0) = lucksI (nI k) mo v kn := by
  by_cases h : kn
  · simp only [if_pos h]
    match k, hk with
    | 0, _ => rfl
    | 1, _ => exact (if_pos h).symm
    | 2, _ => rfl
    | 3, _ => exact (if_pos h).symm
    | 4, _ => exact (if_pos h).symm
    | 5, _ => rfl
  · simp only [if_neg h]
    match k, hk with
    | 0, _ => rfl
    | 1, _ => exact (if_neg h).symm
    | 2, _ => rfl
    | 3, _ => exact (if_neg h).symm
    | 4, _ => exact (if_neg h).symm
    | 5, _ => rfl
theorem xor_sgn {a b : Int32} (hb : 0 ≤ b) : 0 ≤ a ^^^ b ↔ 0 ≤ a := by
  have h1 : ∀ x : Int32, 0 ≤ x ↔ x.toBitVec.msb = false := fun x => by
    rw [Int32.le_iff_toInt_le, show (0 : Int32).toInt = 0 by decide]
    show (0 : Int) ≤ x.toBitVec.toInt ↔ _
    rw [BitVec.toInt_eq_msb_cond]
    have := x.toBitVec.isLt
    cases x.toBitVec.msb
    · simp
    · simp; omega
  rw [h1] at hb ⊢
  rw [h1, Int32.toBitVec_xor, BitVec.msb_xor, hb, Bool.xor_false]
theorem remI (v m : Int32) : (rem v m).toInt = v.toInt.tmod m.toInt := rem_toInt v m
theorem remI_b {v m : Int32} (hm : 0 < m.toInt) : -m.toInt < (rem v m).toInt ∧ (rem v m).toInt < m.toInt := by rw [remI]; exact tmod_bounds hm
theorem remI_pos {v m : Int32} (hv : 0 ≤ v.toInt) : 0 ≤ (rem v m).toInt := by rw [remI]; exact Int.tmod_nonneg _ hv
theorem remI_neg {v m : Int32} (hv : v.toInt ≤ 0) : (rem v m).toInt ≤ 0 := by
  rw [remI]
  have h := Int.tmod_nonneg (a := -v.toInt) m.toInt (by omega)
  rw [Int.neg_tmod] at h
  omega
theorem fmJ_fmd {v m : Int32} (hm : 0 < m.toInt) : fmJ v m = fmd v m := by
  have hm0 : (0 : Int32) ≤ m := by rw [Int32.le_iff_toInt_le, show (0 : Int32).toInt = 0 by decide]; omega
  unfold fmJ fmd
  simp only [xor_sgn hm0]
  have e0 : (0 : Int32).toInt = 0 := by decide
  by_cases h : (0 : Int32) ≤ v
  · have h1 := remI_pos (m := m) (by rw [Int32.le_iff_toInt_le, e0] at h; exact h)
    rw [if_pos h, if_neg (by rw [Int32.lt_iff_toInt_lt, e0]; omega)]
  · have h1 := remI_neg (v := v) (m := m) (by rw [Int32.le_iff_toInt_le, e0] at h; omega)
    rw [if_neg h]
    by_cases h2 : rem v m = 0
    · rw [if_pos h2, if_neg (by rw [h2]; decide)]
    · rw [if_neg h2, if_pos]
      rw [Int32.lt_iff_toInt_lt, e0]
      have : (rem v m).toInt ≠ 0 := fun q => h2 (Int32.toInt_inj.mp (q.trans e0.symm))
      omega
theorem fmd_b {v m : Int32} (hm : 0 < m.toInt) : 0 ≤ (fmd v m).toInt ∧ (fmd v m).toInt < m.toInt := by
  have h := remI_b (v := v) hm
  have e0 : (0 : Int32).toInt = 0 := by decide
  unfold fmd
  split
  · rename_i h1
    rw [Int32.lt_iff_toInt_lt, e0] at h1
    have hb := m.toInt_lt
    rw [Jvm.Kit.i32_add (by omega) (by omega)]
    omega
  · rename_i h1
    rw [Int32.lt_iff_toInt_lt, e0] at h1
    omega
theorem wthn_id {v lo hi : Int32} (h1 : lo.toInt ≤ v.toInt) (h2 : v.toInt ≤ hi.toInt) : wthn v lo hi = v := by
  unfold wthn
  rw [if_neg (by rw [Int32.lt_iff_toInt_lt]; omega), if_neg (by rw [Int32.lt_iff_toInt_lt]; omega)]
theorem letsJ_eq {k : Nat} (hk : k < 6) {mo v m : Int32} (h1 : 1 ≤ m.toInt) (h2 : m.toInt ≤ 16) (hmo : 0 ≤ mo.toInt) : wthn (letsJ k mo v m) 0 (m - 1) = letsI (nI k) mo m (fmd v m) := by
  have hb := fmd_b (v := v) (m := m) (by omega)
  have e0 : (0 : Int32).toInt = 0 := by decide
  have e1 : (1 : Int32).toInt = 1 := by decide
  have em : (m - 1).toInt = m.toInt - 1 := by rw [Jvm.Kit.i32_sub (by rw [e1]; omega) (by rw [e1]; omega), e1]
  have ef : (m - 1 - fmd v m).toInt = m.toInt - 1 - (fmd v m).toInt := by rw [Jvm.Kit.i32_sub (by rw [em]; omega) (by rw [em]; omega), em]
  have hf : fmJ v m = fmd v m := fmJ_fmd (by omega)
  match k, hk with
  | 0, _ => show wthn (fmJ v m) 0 (m - 1) = fmd v m; rw [hf]; exact wthn_id (by omega) (by omega)
  | 1, _ => show wthn (m - 1 - fmJ v m) 0 (m - 1) = m - 1 - fmd v m; rw [hf]; exact wthn_id (by omega) (by omega)
  | 2, _ => show wthn (fmJ v m) 0 (m - 1) = fmd v m; rw [hf]; exact wthn_id (by omega) (by omega)
  | 3, _ =>
    show wthn (if m = 1 then 0 else mxI 1 (m - 1 - fmJ v m)) 0 (m - 1) = if 1 < m ∧ m - 1 - fmd v m < 1 then 1 else m - 1 - fmd v m
    rw [hf]
    by_cases hm : m = 1
    · subst hm
      rw [if_pos rfl, if_neg (fun q => absurd q.1 (by decide)), wthn_id (by decide) (by decide)]
      exact Int32.toInt_inj.mp (by rw [ef, e0]; omega)
    · have hm1 : m.toInt ≠ 1 := fun q => hm (Int32.toInt_inj.mp (q.trans e1.symm))
      rw [if_neg hm]
      unfold mxI
      simp only [Int32.lt_iff_toInt_lt, ef, e1]
      by_cases h3 : 1 < m.toInt - 1 - (fmd v m).toInt
      · rw [if_pos h3, if_neg (by omega)]; exact wthn_id (by omega) (by omega)
      · rw [if_neg h3]
        by_cases h4 : m.toInt - 1 - (fmd v m).toInt < 1
        · rw [if_pos ⟨by omega, h4⟩]; exact wthn_id (by omega) (by omega)
        · rw [if_neg (by omega), wthn_id (by omega) (by omega)]
          exact Int32.toInt_inj.mp (by rw [ef, e1]; omega)
  | 4, _ => show wthn (fmJ v m) 0 (m - 1) = fmd v m; rw [hf]; exact wthn_id (by omega) (by omega)
  | 5, _ =>
    show wthn (rem mo m) 0 (m - 1) = rem mo m
    have h3 := remI_b (v := mo) (m := m) (by omega)
    have h4 := remI_pos (m := m) hmo
    exact wthn_id (by omega) (by omega)
