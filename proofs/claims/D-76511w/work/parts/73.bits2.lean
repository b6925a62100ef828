/-! bits of sets of sixteen names: the least one, sets without it -/
set_option maxRecDepth 100000
theorem ni_or {a b : Nat} (ha : a < 2 ^ 32) (hb : b < 2 ^ 32) : nI a ||| nI b = nI (a ||| b) := by
  apply Int32.toBitVec_inj.mp
  apply BitVec.eq_of_toNat_eq
  rw [Int32.toBitVec_or, BitVec.toNat_or, pk_tn ha, pk_tn hb, pk_tn (Nat.or_lt_two_pow ha hb)]
theorem ni_not {a : Nat} (ha : a < 2 ^ 32) : nI a ^^^ (-1) = nI (2 ^ 32 - (a + 1)) := by
  apply Int32.toBitVec_inj.mp
  apply BitVec.eq_of_toNat_eq
  rw [Int32.toBitVec_xor, show (-1 : Int32).toBitVec = BitVec.allOnes 32 by decide, BitVec.xor_allOnes, BitVec.toNat_not, pk_tn ha, pk_tn (by omega)]
  omega
theorem ni_neg {a : Nat} (h0 : 0 < a) (ha : a < 2 ^ 32) : - nI a = nI (2 ^ 32 - a) := by
  apply Int32.toBitVec_inj.mp
  apply BitVec.eq_of_toNat_eq
  rw [Int32.toBitVec_neg, BitVec.toNat_neg, pk_tn ha, pk_tn (by omega)]
  omega
theorem one_N {t : Nat} (ht : t < 31) : one (nI t) = nI (2 ^ t) := by
  have h : 1 * 2 ^ t < 2 ^ 32 := by
    have := Nat.pow_lt_pow_right (a := 2) (by omega) (show t < 32 by omega)
    omega
  have := pk_shlN (n := 1) (nI t &&& 31) t (sh_amt t (by omega)) h
  rw [Nat.one_mul] at this
  exact this
/-- x is 2^t, and what lies above it -/
theorem tz_split : ∀ (n x : Nat), x ≠ 0 → x < 2 ^ n → ∃ t k, t < n ∧ x = 2 ^ (t + 1) * k + 2 ^ t := by
  intro n
  induction n with
  | zero => intro x h0 h; simp at h; omega
  | succ n ih =>
    intro x h0 h
    by_cases h2 : x % 2 = 1
    · exact ⟨0, x / 2, by omega, by simp; omega⟩
    · obtain ⟨t, k, ht, e⟩ := ih (x / 2) (by omega) (by rw [Nat.pow_succ] at h; omega)
      refine ⟨t + 1, k, by omega, ?_⟩
      have : x = 2 * (x / 2) := by omega
      rw [this, e, Nat.pow_succ 2 (t + 1), Nat.pow_succ 2 t, Nat.mul_add]
      rw [show 2 ^ t * 2 * 2 * k = 2 * (2 ^ t * 2 * k) by rw [Nat.mul_comm (2 ^ t * 2) 2, Nat.mul_assoc]]
      omega
theorem two_lt (t : Nat) : 2 ^ t < 2 ^ (t + 1) := Nat.pow_lt_pow_right (by omega) (by omega)
theorem tz_pred {t k x : Nat} (e : x = 2 ^ (t + 1) * k + 2 ^ t) : x &&& (x - 1) = 2 ^ (t + 1) * k := by
  have h1 : x - 1 = 2 ^ (t + 1) * k + (2 ^ t - 1) := by have := Nat.two_pow_pos t; omega
  have h2 := two_lt t
  apply Nat.eq_of_testBit_eq
  intro j
  rw [Nat.testBit_and, h1, e, Nat.testBit_two_pow_mul_add _ h2, Nat.testBit_two_pow_mul_add _ (by omega)]
  have := Nat.testBit_two_pow_mul_add k (Nat.two_pow_pos (t + 1)) j
  rw [Nat.add_zero] at this
  rw [this]
  by_cases h : j < t + 1
  · rw [if_pos h, if_pos h, if_pos h, Nat.testBit_two_pow, Nat.testBit_two_pow_sub_one, Nat.zero_testBit]
    by_cases h3 : t = j
    · subst h3; simp
    · simp [h3]
  · rw [if_neg h, if_neg h, if_neg h, Bool.and_self]
theorem tz_low {t k x : Nat} (e : x = 2 ^ (t + 1) * k + 2 ^ t) (hx : x < 2 ^ 32) : x &&& (2 ^ 32 - x) = 2 ^ t := by
  have h2 := two_lt t
  have ht : t < 32 := by
    refine Nat.lt_of_not_le fun h => ?_
    have := Nat.pow_le_pow_right (n := 2) (by omega) h
    omega
  have hp : 2 ^ 32 = 2 ^ (t + 1) * 2 ^ (31 - t) := by rw [← Nat.pow_add]; congr 1; omega
  have hk : k < 2 ^ (31 - t) := by
    refine Nat.lt_of_not_le fun h => ?_
    have := Nat.mul_le_mul_left (2 ^ (t + 1)) h
    have := Nat.two_pow_pos t
    omega
  have h3 : 2 ^ 32 - x = 2 ^ (t + 1) * (2 ^ (31 - t) - (k + 1)) + 2 ^ t := by
    rw [Nat.mul_sub, ← hp, Nat.mul_add, Nat.mul_one, e]
    have : 2 ^ (t + 1) = 2 ^ t + 2 ^ t := by rw [Nat.pow_succ]; omega
    have := Nat.mul_le_mul_left (2 ^ (t + 1)) (show k + 1 ≤ 2 ^ (31 - t) by omega)
    rw [← hp, Nat.mul_add, Nat.mul_one] at this
    omega
  apply Nat.eq_of_testBit_eq
  intro j
  rw [Nat.testBit_and, h3]
  conv => lhs; rw [e]
  rw [Nat.testBit_two_pow_mul_add _ h2, Nat.testBit_two_pow_mul_add _ h2, Nat.testBit_two_pow]
  by_cases h : j < t + 1
  · rw [if_pos h, if_pos h, Bool.and_self]
  · rw [if_neg h, if_neg h, Nat.testBit_two_pow_sub_succ hk]
    have h5 : ¬ t = j := by omega
    cases k.testBit (j - (t + 1)) <;> simp [h5]
theorem tz_below {t k x : Nat} (e : x = 2 ^ (t + 1) * k + 2 ^ t) (hx : x < 2 ^ 32) : (2 ^ 32 - (x + 1)) &&& (x - 1) = 2 ^ t - 1 := by
  have h1 : x - 1 = 2 ^ (t + 1) * k + (2 ^ t - 1) := by have := Nat.two_pow_pos t; omega
  have h2 := two_lt t
  have h3 : x - 1 < 2 ^ 32 := by omega
  apply Nat.eq_of_testBit_eq
  intro j
  rw [Nat.testBit_and, Nat.testBit_two_pow_sub_succ hx, h1]
  conv => lhs; rw [e]
  rw [Nat.testBit_two_pow_mul_add _ h2, Nat.testBit_two_pow_mul_add _ (by omega), Nat.testBit_two_pow_sub_one]
  have ht : t < 32 := by
    refine Nat.lt_of_not_le fun h => ?_
    have := Nat.pow_le_pow_right (n := 2) (by omega) h
    omega
  by_cases h : j < t + 1
  · rw [if_pos h, if_pos h, Nat.testBit_two_pow]
    by_cases h4 : t = j
    · subst h4; simp
    · have : j < t := by omega
      simp [h4, this]; omega
  · rw [if_neg h, if_neg h]
    have h5 : ¬ j < t := by omega
    cases k.testBit (j - (t + 1)) <;> simp [h5]
theorem tz_sub {t k x : Nat} (e : x = 2 ^ (t + 1) * k + 2 ^ t) (hx : x < 2 ^ 32) : x &&& (2 ^ 32 - (2 ^ t + 1)) = 2 ^ (t + 1) * k := by
  have h2 := two_lt t
  have ht : 2 ^ t < 2 ^ 32 := by omega
  apply Nat.eq_of_testBit_eq
  intro j
  rw [Nat.testBit_and, Nat.testBit_two_pow_sub_succ ht, Nat.testBit_two_pow]
  have h6 : x.testBit j = true → j < 32 := fun h => Nat.lt_of_not_le fun q => by
    rw [Nat.testBit_lt_two_pow (Nat.lt_of_lt_of_le hx (Nat.pow_le_pow_right (by omega) q))] at h
    cases h
  have := Nat.testBit_two_pow_mul_add k (Nat.two_pow_pos (t + 1)) j
  rw [Nat.add_zero] at this
  rw [this]
  have hxj : x.testBit j = if j < t + 1 then (2 ^ t).testBit j else k.testBit (j - (t + 1)) := by rw [e, Nat.testBit_two_pow_mul_add _ h2]
  by_cases h : j < t + 1
  · rw [if_pos h, Nat.testBit_two_pow] at hxj
    rw [if_pos h, Nat.zero_testBit, hxj]
    by_cases h3 : t = j
    · subst h3; simp
    · simp [h3]
  · rw [if_neg h] at hxj
    rw [if_neg h, ← hxj]
    have h5 : ¬ t = j := by omega
    cases hb : x.testBit j
    · simp
    · simp [h5, h6 hb]
theorem tz_bit {t k x : Nat} (e : x = 2 ^ (t + 1) * k + 2 ^ t) : x / 2 ^ t % 2 = 1 := by
  have : x = 2 ^ t * (2 * k + 1) := by rw [e, Nat.pow_succ, Nat.mul_add, Nat.mul_one, Nat.mul_assoc]
  rw [this, Nat.mul_div_cancel_left _ (Nat.two_pow_pos t)]
  omega
theorem tz_bit0 {t k x j : Nat} (e : x = 2 ^ (t + 1) * k + 2 ^ t) (hj : j < t) : x / 2 ^ j % 2 = 0 := by
  have h1 : x = 2 ^ j * (2 ^ (t - j) * (2 * k + 1)) := by
    rw [← Nat.mul_assoc, ← Nat.pow_add, show j + (t - j) = t by omega, e, Nat.pow_succ, Nat.mul_add, Nat.mul_one, Nat.mul_assoc]
  rw [h1, Nat.mul_div_cancel_left _ (Nat.two_pow_pos j), show t - j = (t - j - 1) + 1 by omega, Nat.pow_succ, Nat.mul_comm (2 ^ _) 2, Nat.mul_assoc]
  omega
theorem ntz_t : ∀ t, t < 16 → (if 0 < nI (2 ^ t - 1) then ntz0 (nI (2 ^ t - 1)) 1 else nI (2 ^ t - 1) &&& 32) = nI t := by decide +kernel
theorem ntz_N {t k x : Nat} (e : x = 2 ^ (t + 1) * k + 2 ^ t) (hx : x < 65536) (ht : t < 16) : ntzF (nI x) = nI t := by
  have h0 := Nat.two_pow_pos t
  have hi : (nI x ^^^ -1) &&& (nI x - 1) = nI (2 ^ t - 1) := by
    rw [ni_not (by omega), show (1 : Int32) = nI 1 from rfl, pk_sub (by omega), ni_and (by omega) (by omega), tz_below e (by omega)]
  show (if 0 < (nI x ^^^ -1) &&& (nI x - 1) then ntz0 ((nI x ^^^ -1) &&& (nI x - 1)) 1 else ((nI x ^^^ -1) &&& (nI x - 1)) &&& 32) = nI t
  rw [hi]
  exact ntz_t t ht
theorem nthL_skip {x : Int32} {t : Nat} (h0 : ∀ j, j < t → sb x j = 0) (h1 : sb x t = 1) : ∀ (d f j : Nat), t - j = d → j ≤ t → t < j + f → nthL x 0 f j 0 = nI t := by
  intro d
  induction d with
  | zero =>
    intro f j hd hj hf
    have : j = t := by omega
    subst this
    cases f with
    | zero => omega
    | succ f => unfold nthL; rw [if_pos h1, if_pos rfl]
  | succ d ih =>
    intro f j hd hj hf
    cases f with
    | zero => omega
    | succ f => unfold nthL; rw [if_neg (by rw [h0 j (by omega)]; decide)]; exact ih f (j + 1) (by omega) (by omega) (by omega)
theorem nth_N {t k x : Nat} (e : x = 2 ^ (t + 1) * k + 2 ^ t) (hx : x < 65536) (ht : t < 16) : nth (nI x) 0 = nI t := by
  refine nthL_skip (fun j hj => ?_) ?_ t 16 0 (by omega) (by omega) (by omega)
  · rw [sb_N (by omega) (by omega), tz_bit0 e hj]; rfl
  · rw [sb_N (by omega) (by omega), tz_bit e]; rfl
theorem nth_0 : nth 0 0 = -1 := by decide +kernel
theorem lt16.and {x y : Int32} (h : lt16 x) : lt16 (x &&& y) := by
  obtain ⟨j, hj, rfl⟩ := h
  have hy : y = nI y.toBitVec.toNat := by
    apply Int32.toBitVec_inj.mp
    apply BitVec.eq_of_toNat_eq
    rw [pk_tn y.toBitVec.isLt]
  rw [hy, ni_and (by omega) y.toBitVec.isLt]
  exact ⟨_, Nat.lt_of_le_of_lt Nat.and_le_left hj, rfl⟩
theorem lt16.or {x y : Int32} (h : lt16 x) (h2 : lt16 y) : lt16 (x ||| y) := by
  obtain ⟨j, hj, rfl⟩ := h
  obtain ⟨k, hk, rfl⟩ := h2
  rw [ni_or (by omega) (by omega)]
  exact ⟨_, Nat.or_lt_two_pow (n := 16) hj hk, rfl⟩
theorem ni_xor {a b : Nat} (ha : a < 2 ^ 32) (hb : b < 2 ^ 32) : nI a ^^^ nI b = nI (a ^^^ b) := by
  apply Int32.toBitVec_inj.mp
  apply BitVec.eq_of_toNat_eq
  rw [Int32.toBitVec_xor, BitVec.toNat_xor, pk_tn ha, pk_tn hb, pk_tn (Nat.xor_lt_two_pow ha hb)]
theorem lt16.xor {x y : Int32} (h : lt16 x) (h2 : lt16 y) : lt16 (x ^^^ y) := by
  obtain ⟨j, hj, rfl⟩ := h
  obtain ⟨k, hk, rfl⟩ := h2
  rw [ni_xor (by omega) (by omega)]
  exact ⟨_, Nat.xor_lt_two_pow (n := 16) hj hk, rfl⟩
theorem lt16.one {t : Nat} (h : t < 16) : lt16 (one (nI t)) := by
  rw [one_N (by omega)]
  exact ⟨_, Nat.pow_lt_pow_right (a := 2) (n := 16) (by omega) h, rfl⟩
theorem nth_in (x k : Int32) : nth x k = -1 ∨ ∃ t, t < 16 ∧ nth x k = nI t := by
  have : ∀ (f t : Nat) (n : Int32), t + f ≤ 16 → nthL x k f t n = -1 ∨ ∃ t', t' < 16 ∧ nthL x k f t n = nI t' := by
    intro f
    induction f with
    | zero => intro t n _; exact .inl rfl
    | succ f ih =>
      intro t n h
      unfold nthL
      split
      · split
        · exact .inr ⟨t, by omega, rfl⟩
        · exact ih _ _ (by omega)
      · exact ih _ _ (by omega)
  exact this 16 0 0 (by omega)
theorem lets_in (e : En) (c : Cr) (p : Nat) (t : Int32) : letsF e c p t = -1 ∨ ∃ t', t' < 16 ∧ letsF e c p t = nI t' := by
  unfold letsF
  split
  · exact .inl rfl
  · exact nth_in _ _
theorem CO.upd0 {c : Cr} (h : CO c) {p : Nat} {x s t : Int32} (hx : lt16 x) (hs : lt16 s) : CO (upd c.1 (3 * p) x, s, t) := by
  refine ⟨fun q hq => ?_, fun q hq => ?_, hs⟩
  · by_cases hqp : q = p
    · subst hqp; show lt16 (upd _ _ _ _); rw [pk_us]; exact hx
    · show lt16 (upd _ _ _ _); rw [pk_un (by omega)]; exact h.1 q hq
  · show lt16 (upd _ _ _ _); rw [pk_un (by omega)]; exact h.2.1 q hq
theorem CO.upd1 {c : Cr} (h : CO c) {p : Nat} {x s t : Int32} (hx : lt16 x) (hs : lt16 s) : CO (upd c.1 (3 * p + 1) x, s, t) := by
  refine ⟨fun q hq => ?_, fun q hq => ?_, hs⟩
  · show lt16 (upd _ _ _ _); rw [pk_un (by omega)]; exact h.1 q hq
  · by_cases hqp : q = p
    · subst hqp; show lt16 (upd _ _ _ _); rw [pk_us]; exact hx
    · show lt16 (upd _ _ _ _); rw [pk_un (by omega)]; exact h.2.1 q hq
theorem CO.upd2 {c : Cr} (h : CO c) {p : Nat} {x s t : Int32} (hs : lt16 s) : CO (upd c.1 (3 * p + 2) x, s, t) := by
  refine ⟨fun q hq => ?_, fun q hq => ?_, hs⟩
  · show lt16 (upd _ _ _ _); rw [pk_un (by omega)]; exact h.1 q hq
  · show lt16 (upd _ _ _ _); rw [pk_un (by omega)]; exact h.2.1 q hq
theorem CO.land {e : En} {c : Cr} (h : CO c) {p t : Nat} (hp : p < 6) (ht : t < 16) : CO (landF e c p (nI t)) := by
  have h1 : CO (upd c.1 (3 * p + 1) (c.1 (3 * p + 1) ||| one (nI t)), c.2.1, c.2.2) := h.upd1 ((h.2.1 p hp).or (lt16.one ht)) h.2.2
  unfold landF
  by_cases hn : letsF e c p (nI t) = -1
  · rw [show landC c p (nI t) (letsF e c p (nI t)) (lucksF e c p (nI t)) = _ from if_pos hn]
    exact h1.upd2 h.2.2
  · rw [show landC c p (nI t) (letsF e c p (nI t)) (lucksF e c p (nI t)) = _ from if_neg hn]
    obtain ⟨t', ht', e'⟩ := (lets_in e c p (nI t)).resolve_left hn
    have hs : lt16 (c.2.1 ||| one (letsF e c p (nI t))) := by rw [e']; exact h.2.2.or (lt16.one ht')
    exact (h1.upd0 (s := c.2.1 ||| one (letsF e c p (nI t))) (t := c.2.2) (h1.1 p hp).and hs).upd2 hs
theorem lt16.lrn {all tk : Int32} : ∀ (f t : Nat) (l n : Int32), t + f ≤ 16 → lt16 l → lt16 (lrnL all tk f t l n) := by
  intro f
  induction f with
  | zero => intro t l n _ h; exact h
  | succ f ih =>
    intro t l n h1 h
    unfold lrnL
    split
    · exact h
    · split
      · exact ih _ _ _ (by omega) (h.or (lt16.one (by omega)))
      · exact ih _ _ _ (by omega) h
theorem lt16.z : lt16 0 := ⟨0, by decide, rfl⟩
theorem CO.les {e : En} {c : Cr} (h : CO c) {a p : Nat} (hp : p < 6) : CO (lesC e c a p) := h.upd0 ((h.1 p hp).or (lt16.lrn 16 0 0 0 (by omega) lt16.z)) h.2.2
theorem CO.tide {n : Nat} {c : Cr} (h : CO c) (hn : n ≤ 6) : CO (tideC n c) := by
  unfold tideC
  split
  · exact h
  · rename_i hc
    have h0 : ¬ n = 0 := fun q => hc (.inl q)
    have h1 : ¬ nth c.2.1 0 = -1 := fun q => hc (.inr q)
    obtain ⟨t', ht', e'⟩ := (nth_in c.2.1 0).resolve_left h1
    have hto : toF c.1 n < n := toL_lt (n - 1) 1 0 (by omega) (by omega)
    exact h.upd0 ((h.1 _ (by omega)).or (by rw [e']; exact lt16.one ht')) h.2.2.and
