/-! bits counted -/
set_option maxRecDepth 100000
theorem ni_and {a b : Nat} (ha : a < 2 ^ 32) (hb : b < 2 ^ 32) : nI a &&& nI b = nI (a &&& b) := by
  apply Int32.toBitVec_inj.mp
  apply BitVec.eq_of_toNat_eq
  rw [Int32.toBitVec_and, BitVec.toNat_and, pk_tn ha, pk_tn hb, pk_tn (Nat.and_lt_two_pow _ hb)]
theorem sh_amt : ∀ t, t < 32 → ((nI t &&& 31).toBitVec.smod 32).toNat = t := by decide +kernel
theorem ush_amt : ∀ t, t < 32 → (((nI t).toUInt32 &&& Int32.toUInt32 31).toBitVec % 32).toNat = t := by decide +kernel
theorem sb_N {k t : Nat} (hk : k < 2 ^ 31) (ht : t < 32) : sb (nI k) t = nI (k / 2 ^ t % 2) := by
  unfold sb
  rw [pk_shrN hk (nI t &&& 31) t (sh_amt t ht)]
  have : k / 2 ^ t < 2 ^ 32 := Nat.lt_of_le_of_lt (Nat.div_le_self _ _) (by omega)
  exact pk_andN this (m := 1) 1 (by decide)
theorem bcnt_pc {k : Nat} (hk : k < 2 ^ 31) : ∀ t, t ≤ 32 → bcnt (nI k) t = nI (pcN t k)
  | 0, _ => rfl
  | t + 1, h => by
    unfold bcnt pcN
    rw [bcnt_pc hk t (by omega), sb_N hk (by omega), nI_add]
theorem us_N {k t : Nat} (hk : k < 2 ^ 32) (ht : t < 32) : us (nI k) (nI t) = nI (k / 2 ^ t) := pk_ushrN hk (nI t) t (ush_amt t ht)
def bc32 (x : Nat) : Nat :=
  let a := x - (x / 2 &&& 1431655765)
  let b := (a &&& 858993459) + (a / 4 &&& 858993459)
  let c := (b + b / 16) &&& 252645135
  let d := c + c / 256
  let e := d + d / 65536
  e &&& 63
theorem bc_eq {k : Nat} (hk : k < 65536) : bcF (nI k) = nI (bc32 k) := by
  have ha : k / 2 &&& 1431655765 ≤ k := Nat.le_trans Nat.and_le_left (Nat.div_le_self _ _)
  unfold bcF bc32
  dsimp only
  rw [show us (nI k) 1 = nI (k / 2) from us_N (t := 1) (by omega) (by decide), show (1431655765 : Int32) = nI 1431655765 from rfl, ni_and (by omega) (by decide), pk_sub ha]
  obtain ⟨a, hae⟩ : ∃ a, k - (k / 2 &&& 1431655765) = a := ⟨_, rfl⟩
  have hal : a < 65536 := by omega
  rw [hae, show us (nI a) 2 = nI (a / 4) from us_N (t := 2) (by omega) (by decide), show (858993459 : Int32) = nI 858993459 from rfl, ni_and (by omega) (by decide), ni_and (by omega) (by decide), nI_add]
  obtain ⟨b, hbe⟩ : ∃ b, (a &&& 858993459) + (a / 4 &&& 858993459) = b := ⟨_, rfl⟩
  have hbl : b < 131072 := by
    have h1 : a &&& 858993459 ≤ a := Nat.and_le_left
    have h2 : a / 4 &&& 858993459 ≤ a / 4 := Nat.and_le_left
    omega
  rw [hbe, show us (nI b) 4 = nI (b / 16) from us_N (t := 4) (by omega) (by decide), nI_add, show (252645135 : Int32) = nI 252645135 from rfl, ni_and (by omega) (by decide)]
  obtain ⟨c, hce⟩ : ∃ c, (b + b / 16) &&& 252645135 = c := ⟨_, rfl⟩
  have hcl : c < 262144 := by
    have h1 : (b + b / 16) &&& 252645135 ≤ b + b / 16 := Nat.and_le_left
    omega
  rw [hce, show us (nI c) 8 = nI (c / 256) from us_N (t := 8) (by omega) (by decide), nI_add]
  obtain ⟨d, hde⟩ : ∃ d, c + c / 256 = d := ⟨_, rfl⟩
  rw [hde, show us (nI d) 16 = nI (d / 65536) from us_N (t := 16) (by omega) (by decide), nI_add, show (63 : Int32) = nI 63 from rfl, ni_and (by omega) (by decide)]
def pc16 (x : Nat) : Nat := x % 2 + x / 2 % 2 + x / 4 % 2 + x / 8 % 2 + x / 16 % 2 + x / 32 % 2 + x / 64 % 2 + x / 128 % 2 + x / 256 % 2 + x / 512 % 2 + x / 1024 % 2 + x / 2048 % 2 + x / 4096 % 2 + x / 8192 % 2 + x / 16384 % 2 + x / 32768 % 2
theorem pc_16 (x : Nat) : pcN 16 x = pc16 x := by
  show 0 + x / 1 % 2 + x / 2 % 2 + x / 4 % 2 + x / 8 % 2 + x / 16 % 2 + x / 32 % 2 + x / 64 % 2 + x / 128 % 2 + x / 256 % 2 + x / 512 % 2 + x / 1024 % 2 + x / 2048 % 2 + x / 4096 % 2 + x / 8192 % 2 + x / 16384 % 2 + x / 32768 % 2 = _
  unfold pc16
  rw [Nat.zero_add, Nat.div_one]
def ckB (a : Nat) : Nat → Bool
  | 0 => true
  | b + 1 => Nat.beq (bc32 (a * 256 + b)) (pc16 (a * 256 + b)) && ckB a b
def ckA : Nat → Bool
  | 0 => true
  | a + 1 => ckB a 256 && ckA a
theorem ckB_ok {a : Nat} : ∀ m, ckB a m = true → ∀ b, b < m → bc32 (a * 256 + b) = pc16 (a * 256 + b)
  | 0, _, b, hb => absurd hb (by omega)
  | m + 1, h, b, hb => by
    unfold ckB at h
    rw [Bool.and_eq_true] at h
    by_cases hm : b = m
    · subst hm; exact Nat.eq_of_beq_eq_true h.1
    · exact ckB_ok m h.2 b (by omega)
theorem ckA_ok : ∀ m, ckA m = true → ∀ a, a < m → ckB a 256 = true
  | 0, _, a, ha => absurd ha (by omega)
  | m + 1, h, a, ha => by
    unfold ckA at h
    rw [Bool.and_eq_true] at h
    by_cases hm : a = m
    · subst hm; exact h.1
    · exact ckA_ok m h.2 a (by omega)
theorem ck_all : ckA 256 = true := by decide +kernel
theorem bc_bits {k : Nat} (hk : k < 65536) : bcF (nI k) = bits (nI k) := by
  rw [bc_eq hk, bits, bcnt_pc (by omega) 16 (by omega), pc_16]
  have h := ckB_ok 256 (ckA_ok 256 ck_all (k / 256) (by omega)) (k % 256) (Nat.mod_lt _ (by decide))
  rw [show k / 256 * 256 + k % 256 = k by omega] at h
  rw [h]
