/-! the reference's reader: the next token -/
set_option maxRecDepth 100000
def skW (tp : Nat → Int32) (n : Nat) : Nat → Nat → Nat
  | 0, a => a
  | m + 1, a => if a < n ∧ (tp a = 32 ∨ tp a = 10) then skW tp n m (a + 1) else a
def skR (tp : Nat → Int32) (n : Nat) (lo hi : Int32) : Nat → Nat → Nat
  | 0, a => a
  | m + 1, a => if a < n ∧ ¬ inI (tp a) lo hi = 0 then skR tp n lo hi m (a + 1) else a
def numL (tp : Nat → Int32) (n : Nat) : Nat → Nat → Nat → Int32 → Nat × Nat × Int32
  | 0, a, k, v => (a, k, v)
  | m + 1, a, k, v => if a < n ∧ ¬ inI (tp a) 48 57 = 0 then numL tp n m (a + 1) (k + 1) (if k < 4 then 10 * v + tp a - 48 else 0) else (a, k, v)
def isSg (c : Int32) : Prop := c = 40 ∨ c = 41 ∨ c = 59 ∨ c = 43 ∨ c = 45 ∨ c = 42 ∨ c = 60 ∨ c = 61
def tkW (k : Nat) : Int32 := if k < 3 then 3 else if k < 9 then 2 else if k = 12 then -1 else 4 + nI k - 9
def vaW (k : Nat) : Int32 := if k < 3 then nI k else nI k - 3
def sgT (c : Int32) : Int32 := if c = 40 ∨ c = 41 ∨ c = 59 ∨ c = 43 ∨ c = 45 ∨ c = 42 ∨ c = 60 ∨ c = 61 then c else -1
/-- from a: behind it, its begin, what it is, its value -/
def lexF (tp wd : Nat → Int32) (n a : Nat) : Nat × Nat × Int32 × Int32 :=
  let be := skW tp n (n - a) a
  if be = n then (be, be, 0, 0) else
  if ¬ inI (tp be) 97 122 = 0 then (skR tp n 97 122 (n - be) be, be, tkW (wdF tp wd be (skR tp n 97 122 (n - be) be)), vaW (wdF tp wd be (skR tp n 97 122 (n - be) be))) else
  if ¬ inI (tp be) 48 57 = 0 then ((numL tp n (n - be) be 0 0).1, be, if 4 < (numL tp n (n - be) be 0 0).2.1 then -1 else 1, (numL tp n (n - be) be 0 0).2.2) else
  (be + 1, be, sgT (tp be), 0)
theorem skW_le {tp : Nat → Int32} {n : Nat} : ∀ m a, a + m ≤ n → a ≤ skW tp n m a ∧ skW tp n m a ≤ a + m
  | 0, a, _ => ⟨Nat.le_refl _, Nat.le_refl _⟩
  | m + 1, a, h => by
    unfold skW; split
    · have := skW_le (tp := tp) (n := n) m (a + 1) (by omega); omega
    · omega
theorem skR_le {tp : Nat → Int32} {n : Nat} {lo hi : Int32} : ∀ m a, a + m ≤ n → a ≤ skR tp n lo hi m a ∧ skR tp n lo hi m a ≤ a + m
  | 0, a, _ => ⟨Nat.le_refl _, Nat.le_refl _⟩
  | m + 1, a, h => by
    unfold skR; split
    · have := skR_le (tp := tp) (n := n) (lo := lo) (hi := hi) m (a + 1) (by omega); omega
    · omega
theorem numL_le {tp : Nat → Int32} {n : Nat} : ∀ m a k v, a + m ≤ n → a ≤ (numL tp n m a k v).1 ∧ (numL tp n m a k v).1 ≤ a + m ∧ (numL tp n m a k v).2.1 ≤ k + m
  | 0, a, k, v, _ => ⟨Nat.le_refl _, Nat.le_refl _, Nat.le_refl _⟩
  | m + 1, a, k, v, h => by
    unfold numL; split
    · have := numL_le (tp := tp) (n := n) m (a + 1) (k + 1) (if k < 4 then 10 * v + tp a - 48 else 0) (by omega); omega
    · dsimp only; omega
theorem lex_le {tp wd : Nat → Int32} {n a : Nat} (h : a ≤ n) : a ≤ (lexF tp wd n a).2.1 ∧ (lexF tp wd n a).2.1 ≤ (lexF tp wd n a).1 ∧ (lexF tp wd n a).1 ≤ n := by
  have h1 := skW_le (tp := tp) (n := n) (n - a) a (by omega)
  unfold lexF
  dsimp only
  split
  · dsimp only; omega
  · split
    · have := skR_le (tp := tp) (n := n) (lo := 97) (hi := 122) (n - skW tp n (n - a) a) (skW tp n (n - a) a) (by omega)
      dsimp only; omega
    · split
      · have := numL_le (tp := tp) (n := n) (n - skW tp n (n - a) a) (skW tp n (n - a) a) 0 0 (by omega)
        dsimp only; omega
      · dsimp only; omega
section A
variable {g : GE} {b z n : Nat} {F0 : Nat → Int32} {A0 A2 : Nat → Nat → Int32} {ω0 ω : Om} {c : Cr} {pa pb pt pv ph po pu : Int32} {f24 f8 : Nat → Int32} {Q : Option Value → Om → Nat → Prop}
theorem l_skip (hN : gN g ≤ b) (hn : F0 7 = nI n) (hn2 : n ≤ 160) {e : Nat} (hK : GN g RX7 cX7_next 3 none 2 Q (pW g b F0 A0 c (nI e) pb pt pv ph po pu f24 f8 A2 ω0) z 52 [(0, .ref b)] []) :
    ∀ (m a : Nat), a + m = n → skW (A0 6) n m a = e → GN g RX7 cX7_next 3 none 2 Q (pW g b F0 A0 c (nI a) pb pt pv ph po pu f24 f8 A2 ω0) z 0 [(0, .ref b)] [] := by
  intro m
  induction m with
  | zero =>
    intro a ha hr
    subst hr
    refine g_aload_n dX7_next_0 rfl ?_
    refine mgp_at dX7_next_1 ?_
    refine g_aload_n dX7_next_4 rfl ?_
    refine mgp_taped dX7_next_5 ?_
    refine g_icmp_ge 52 dX7_next_8 (by decide) (fun _ => ?_) (fun h9 => absurd (by rw [hn]; exact nI_le (by omega) (by omega)) h9)
    exact hK
  | succ m ih =>
    intro a ha hr
    unfold skW at hr
    refine g_aload_n dX7_next_0 rfl ?_
    refine mgp_at dX7_next_1 ?_
    refine g_aload_n dX7_next_4 rfl ?_
    refine mgp_taped dX7_next_5 ?_
    refine g_icmp_ge 52 dX7_next_8 (by decide) (fun h9 => absurd h9 (by rw [hn]; exact nI_ge (by omega) (by omega))) (fun _ => ?_)
    refine g_aload_n dX7_next_11 rfl ?_
    refine mg_tape dX7_next_12 ?_
    refine g_aload_n dX7_next_15 rfl ?_
    refine mgp_at dX7_next_16 ?_
    refine mlp_tape (a) (by omega) (by first | rfl | (simp only [nI, Int32.ofNat_add, Int32.ofNat_mul, rfl]; rfl) | (simp only [nI, Int32.ofNat_add, Int32.ofNat_mul, rfl]; done)) dX7_next_19 ?_
    refine g_bipush (32) dX7_next_20 rfl ?_
    refine g_icmp_eq 39 dX7_next_22 (by decide) (fun c1 => ?_) (fun c1 => ?_)
    · rw [if_pos ⟨by omega, Or.inl c1⟩] at hr
      refine g_aload_n dX7_next_39 rfl ?_
      refine g_dup dX7_next_40 rfl ?_
      refine mgp_at dX7_next_41 ?_
      refine g_iconst (1) dX7_next_44 rfl ?_
      refine g_iadd dX7_next_45 ?_
      refine mpp_at hN  dX7_next_46 ?_
      refine g_goto 0 dX7_next_49 (by decide) ?_
      rw [nI_1]
      exact ih (a + 1) (by omega) hr
    · refine g_aload_n dX7_next_25 rfl ?_
      refine mg_tape dX7_next_26 ?_
      refine g_aload_n dX7_next_29 rfl ?_
      refine mgp_at dX7_next_30 ?_
      refine mlp_tape (a) (by omega) (by first | rfl | (simp only [nI, Int32.ofNat_add, Int32.ofNat_mul, rfl]; rfl) | (simp only [nI, Int32.ofNat_add, Int32.ofNat_mul, rfl]; done)) dX7_next_33 ?_
      refine g_bipush (10) dX7_next_34 rfl ?_
      refine g_icmp_ne 52 dX7_next_36 (by decide) (fun c2 => ?_) (fun c2 => ?_)
      · rw [if_neg (fun h => h.2.elim c1 c2)] at hr
        subst hr
        exact hK
      · rw [if_pos ⟨by omega, Or.inr c2⟩] at hr
        refine g_aload_n dX7_next_39 rfl ?_
        refine g_dup dX7_next_40 rfl ?_
        refine mgp_at dX7_next_41 ?_
        refine g_iconst (1) dX7_next_44 rfl ?_
        refine g_iadd dX7_next_45 ?_
        refine mpp_at hN  dX7_next_46 ?_
        refine g_goto 0 dX7_next_49 (by decide) ?_
        rw [nI_1]
        exact ih (a + 1) (by omega) hr
theorem l_letters (hN : gN g ≤ b) (hn : F0 7 = nI n) (hn2 : n ≤ 160) {e : Nat} {ch : Int32} (hK : GN g RX7 cX7_next 3 none 2 Q (pW g b F0 A0 c (nI e) pb pt pv ph po pu f24 f8 A2 ω0) z 146 [(1, .int ch), (0, .ref b)] []) :
    ∀ (m a : Nat), a + m = n → skR (A0 6) n 97 122 m a = e → GN g RX7 cX7_next 3 none 2 Q (pW g b F0 A0 c (nI a) pb pt pv ph po pu f24 f8 A2 ω0) z 103 [(1, .int ch), (0, .ref b)] [] := by
  intro m
  induction m with
  | zero =>
    intro a ha hr
    subst hr
    refine g_aload_n dX7_next_103 rfl ?_
    refine mgp_at dX7_next_104 ?_
    refine g_aload_n dX7_next_107 rfl ?_
    refine mgp_taped dX7_next_108 ?_
    refine g_icmp_ge 146 dX7_next_111 (by decide) (fun _ => ?_) (fun h9 => absurd (by rw [hn]; exact nI_le (by omega) (by omega)) h9)
    exact hK
  | succ m ih =>
    intro a ha hr
    unfold skR at hr
    refine g_aload_n dX7_next_103 rfl ?_
    refine mgp_at dX7_next_104 ?_
    refine g_aload_n dX7_next_107 rfl ?_
    refine mgp_taped dX7_next_108 ?_
    refine g_icmp_ge 146 dX7_next_111 (by decide) (fun h9 => absurd h9 (by rw [hn]; exact nI_ge (by omega) (by omega))) (fun _ => ?_)
    refine g_aload_n dX7_next_114 rfl ?_
    refine mg_tape dX7_next_115 ?_
    refine g_aload_n dX7_next_118 rfl ?_
    refine mgp_at dX7_next_119 ?_
    refine mlp_tape (a) (by omega) (by first | rfl | (simp only [nI, Int32.ofNat_add, Int32.ofNat_mul, rfl]; rfl) | (simp only [nI, Int32.ofNat_add, Int32.ofNat_mul, rfl]; done)) dX7_next_122 ?_
    refine g_bipush (97) dX7_next_123 rfl ?_
    refine g_bipush (122) dX7_next_125 rfl ?_
    refine gs_calli (n := 3) (c_in ) (lw_S q1405 q1406 q92 q1407) (by decide +kernel) rfl rfl (by decide) ⟨Nat.le_refl _, Nat.le_refl _⟩ (Nat.le_of_ble_eq_true rfl) dX7_next_127 ?_
    refine g_if_eq 146 dX7_next_130 (by decide) (fun c1 => ?_) (fun c1 => ?_)
    · rw [if_neg (fun h => h.2 c1)] at hr
      subst hr
      exact hK
    · rw [if_pos ⟨by omega, c1⟩] at hr
      refine g_aload_n dX7_next_133 rfl ?_
      refine g_dup dX7_next_134 rfl ?_
      refine mgp_at dX7_next_135 ?_
      refine g_iconst (1) dX7_next_138 rfl ?_
      refine g_iadd dX7_next_139 ?_
      refine mpp_at hN  dX7_next_140 ?_
      refine g_goto 103 dX7_next_143 (by decide) ?_
      rw [nI_1]
      exact ih (a + 1) (by omega) hr
theorem l_digits (hN : gN g ≤ b) (hn : F0 7 = nI n) (hn2 : n ≤ 160) {e ke : Nat} {ve : Int32} {ch : Int32} (hK : GN g RX7 cX7_next 3 none 2 Q (pW g b F0 A0 c (nI e) pb pt ve ph po pu f24 f8 A2 ω0) z 309 [(2, .int (nI ke)), (1, .int ch), (0, .ref b)] []) :
    ∀ (m a k : Nat) (pv : Int32), a + m = n → k ≤ a → numL (A0 6) n m a k pv = (e, ke, ve) → GN g RX7 cX7_next 3 none 2 Q (pW g b F0 A0 c (nI a) pb pt pv ph po pu f24 f8 A2 ω0) z 230 [(2, .int (nI k)), (1, .int ch), (0, .ref b)] [] := by
  intro m
  induction m with
  | zero =>
    intro a k pv ha hka hr
    cases hr
    refine g_aload_n dX7_next_230 rfl ?_
    refine mgp_at dX7_next_231 ?_
    refine g_aload_n dX7_next_234 rfl ?_
    refine mgp_taped dX7_next_235 ?_
    refine g_icmp_ge 309 dX7_next_238 (by decide) (fun _ => ?_) (fun h9 => absurd (by rw [hn]; exact nI_le (by omega) (by omega)) h9)
    exact hK
  | succ m ih =>
    intro a k pv ha hka hr
    unfold numL at hr
    refine g_aload_n dX7_next_230 rfl ?_
    refine mgp_at dX7_next_231 ?_
    refine g_aload_n dX7_next_234 rfl ?_
    refine mgp_taped dX7_next_235 ?_
    refine g_icmp_ge 309 dX7_next_238 (by decide) (fun h9 => absurd h9 (by rw [hn]; exact nI_ge (by omega) (by omega))) (fun _ => ?_)
    refine g_aload_n dX7_next_241 rfl ?_
    refine mg_tape dX7_next_242 ?_
    refine g_aload_n dX7_next_245 rfl ?_
    refine mgp_at dX7_next_246 ?_
    refine mlp_tape (a) (by omega) (by first | rfl | (simp only [nI, Int32.ofNat_add, Int32.ofNat_mul, rfl]; rfl) | (simp only [nI, Int32.ofNat_add, Int32.ofNat_mul, rfl]; done)) dX7_next_249 ?_
    refine g_bipush (48) dX7_next_250 rfl ?_
    refine g_bipush (57) dX7_next_252 rfl ?_
    refine gs_calli (n := 3) (c_in ) (lw_S q1405 q1406 q92 q1407) (by decide +kernel) rfl rfl (by decide) ⟨Nat.le_refl _, Nat.le_refl _⟩ (Nat.le_of_ble_eq_true rfl) dX7_next_254 ?_
    refine g_if_eq 309 dX7_next_257 (by decide) (fun c1 => ?_) (fun c1 => ?_)
    · rw [if_neg (fun h => h.2 c1)] at hr
      cases hr
      exact hK
    · rw [if_pos ⟨by omega, c1⟩] at hr
      refine g_aload_n dX7_next_260 rfl ?_
      refine g_iload_n dX7_next_261 rfl ?_
      refine g_iconst (4) dX7_next_262 rfl ?_
      refine g_icmp_ge 289 dX7_next_263 (by decide) (fun c2 => ?_) (fun c2 => ?_)
      · rw [if_neg (by have := (nI_leI (a := 4) (by decide) (by omega)).mp c2; omega)] at hr
        refine g_iconst (0) dX7_next_289 rfl ?_
        refine mpp_value hN  dX7_next_290 ?_
        refine g_iinc (nI (k + 1)) (L' := [(2, _), (1, _), (0, _)]) dX7_next_293 rfl (nI_1 _) (by decide) rfl ?_
        refine g_aload_n dX7_next_296 rfl ?_
        refine g_dup dX7_next_297 rfl ?_
        refine mgp_at dX7_next_298 ?_
        refine g_iconst (1) dX7_next_301 rfl ?_
        refine g_iadd dX7_next_302 ?_
        refine mpp_at hN  dX7_next_303 ?_
        refine g_goto 230 dX7_next_306 (by decide) ?_
        rw [nI_1]
        exact ih (a + 1) (k + 1) _ (by omega) (by omega) hr
      · rw [if_pos (Nat.lt_of_not_le fun h => c2 (nI_le (a := 4) h (by omega)))] at hr
        refine g_bipush (10) dX7_next_266 rfl ?_
        refine g_aload_n dX7_next_268 rfl ?_
        refine mgp_value dX7_next_269 ?_
        refine g_imul dX7_next_272 ?_
        refine g_aload_n dX7_next_273 rfl ?_
        refine mg_tape dX7_next_274 ?_
        refine g_aload_n dX7_next_277 rfl ?_
        refine mgp_at dX7_next_278 ?_
        refine mlp_tape (a) (by omega) (by first | rfl | (simp only [nI, Int32.ofNat_add, Int32.ofNat_mul, rfl]; rfl) | (simp only [nI, Int32.ofNat_add, Int32.ofNat_mul, rfl]; done)) dX7_next_281 ?_
        refine g_iadd dX7_next_282 ?_
        refine g_bipush (48) dX7_next_283 rfl ?_
        refine g_isub dX7_next_285 ?_
        refine g_goto 290 dX7_next_286 (by decide) ?_
        refine mpp_value hN  dX7_next_290 ?_
        refine g_iinc (nI (k + 1)) (L' := [(2, _), (1, _), (0, _)]) dX7_next_293 rfl (nI_1 _) (by decide) rfl ?_
        refine g_aload_n dX7_next_296 rfl ?_
        refine g_dup dX7_next_297 rfl ?_
        refine mgp_at dX7_next_298 ?_
        refine g_iconst (1) dX7_next_301 rfl ?_
        refine g_iadd dX7_next_302 ?_
        refine mpp_at hN  dX7_next_303 ?_
        refine g_goto 230 dX7_next_306 (by decide) ?_
        rw [nI_1]
        exact ih (a + 1) (k + 1) _ (by omega) (by omega) hr
theorem c_next {a : Nat} (hN : gN g ≤ b) (hn : F0 7 = nI n) (hn2 : n ≤ 160) (ha : a ≤ n) : Ct g yX7_next cX7_next 3 none 2 0 0 [.ref b] (pW g b F0 A0 c (nI a) pb pt pv ph po pu f24 f8 A2 ω0) z (mQ g b ω0 z none (mF (pF F0 (nI (lexF (A0 6) (A0 23) n a).1) (nI (lexF (A0 6) (A0 23) n a).2.1) (lexF (A0 6) (A0 23) n a).2.2.1 (lexF (A0 6) (A0 23) n a).2.2.2 ph po pu) c) (mA (pA A0 f24 f8) c)) := by
  refine Ct.at (own := RX7) (by decide) rfl (Nat.le_of_ble_eq_true rfl) rfl ?_
  obtain ⟨be, hbe⟩ : ∃ be, be = skW (A0 6) n (n - a) a := ⟨_, rfl⟩
  have hb2 : be ≤ n := by have := skW_le (tp := A0 6) (n := n) (n - a) a (by omega); omega
  refine l_skip hN hn hn2 (e := be) ?_ (n - a) a (by omega) hbe.symm
  by_cases h0 : be = n
  · have hl : lexF (A0 6) (A0 23) n a = (be, be, 0, 0) := by unfold lexF; dsimp only; rw [← hbe, if_pos h0]
    rw [hl]
    refine g_aload_n dX7_next_52 rfl ?_
    refine g_aload_n dX7_next_53 rfl ?_
    refine mgp_at dX7_next_54 ?_
    refine mpp_begun hN  dX7_next_57 ?_
    refine g_aload_n dX7_next_60 rfl ?_
    refine g_iconst (0) dX7_next_61 rfl ?_
    refine mpp_token hN  dX7_next_62 ?_
    refine g_aload_n dX7_next_65 rfl ?_
    refine g_iconst (0) dX7_next_66 rfl ?_
    refine mpp_value hN  dX7_next_67 ?_
    refine g_aload_n dX7_next_70 rfl ?_
    refine mgp_at dX7_next_71 ?_
    refine g_aload_n dX7_next_74 rfl ?_
    refine mgp_taped dX7_next_75 ?_
    refine g_icmp_ne 82 dX7_next_78 (by decide) (fun h9 => absurd (by rw [hn, h0]) h9) (fun _ => ?_)
    refine g_vret rfl (Nat.le_refl _) (Nat.le_refl _) ?_ dX7_next_81
    exact mQ.mk
  · have h0' : ¬ nI be = F0 7 := fun h => h0 ((nI_eq (by omega) (by omega)).mp (h.trans hn))
    by_cases h1 : inI (A0 6 be) 97 122 = 0
    · by_cases h2 : inI (A0 6 be) 48 57 = 0
      · have hl : lexF (A0 6) (A0 23) n a = (be + 1, be, sgT (A0 6 be), 0) := by unfold lexF; dsimp only; rw [← hbe, if_neg h0, if_neg (fun h => h h1), if_neg (fun h => h h2)]
        rw [hl]
        by_cases hs : isSg (A0 6 be)
        · have hsg : sgT (A0 6 be) = A0 6 be := if_pos hs
          rw [hsg]
          refine g_aload_n dX7_next_52 rfl ?_
          refine g_aload_n dX7_next_53 rfl ?_
          refine mgp_at dX7_next_54 ?_
          refine mpp_begun hN  dX7_next_57 ?_
          refine g_aload_n dX7_next_60 rfl ?_
          refine g_iconst (0) dX7_next_61 rfl ?_
          refine mpp_token hN  dX7_next_62 ?_
          refine g_aload_n dX7_next_65 rfl ?_
          refine g_iconst (0) dX7_next_66 rfl ?_
          refine mpp_value hN  dX7_next_67 ?_
          refine g_aload_n dX7_next_70 rfl ?_
          refine mgp_at dX7_next_71 ?_
          refine g_aload_n dX7_next_74 rfl ?_
          refine mgp_taped dX7_next_75 ?_
          refine g_icmp_ne 82 dX7_next_78 (by decide) (fun _ => ?_) (fun h9 => absurd h9 h0')
          refine g_aload_n dX7_next_82 rfl ?_
          refine mg_tape dX7_next_83 ?_
          refine g_aload_n dX7_next_86 rfl ?_
          refine mgp_at dX7_next_87 ?_
          refine mlp_tape (be) (by omega) (by first | rfl | (simp only [nI, Int32.ofNat_add, Int32.ofNat_mul, rfl]; rfl) | (simp only [nI, Int32.ofNat_add, Int32.ofNat_mul, rfl]; done)) dX7_next_90 ?_
          refine g_istore_n (L' := [(1, _), (0, _)]) dX7_next_91 (by decide) rfl ?_
          refine g_iload_n dX7_next_92 rfl ?_
          refine g_bipush (97) dX7_next_93 rfl ?_
          refine g_bipush (122) dX7_next_95 rfl ?_
          refine gs_calli (n := 3) (c_in ) (lw_S q1405 q1406 q92 q1407) (by decide +kernel) rfl rfl (by decide) ⟨Nat.le_refl _, Nat.le_refl _⟩ (Nat.le_of_ble_eq_true rfl) dX7_next_97 ?_
          refine g_if_eq 217 dX7_next_100 (by decide) (fun _ => ?_) (fun h9 => absurd h1 h9)
          refine g_iload_n dX7_next_217 rfl ?_
          refine g_bipush (48) dX7_next_218 rfl ?_
          refine g_bipush (57) dX7_next_220 rfl ?_
          refine gs_calli (n := 3) (c_in ) (lw_S q1405 q1406 q92 q1407) (by decide +kernel) rfl rfl (by decide) ⟨Nat.le_refl _, Nat.le_refl _⟩ (Nat.le_of_ble_eq_true rfl) dX7_next_222 ?_
          refine g_if_eq 326 dX7_next_225 (by decide) (fun _ => ?_) (fun h9 => absurd h2 h9)
          have fin : ∀ (A2 : Nat → Nat → Int32) (v : Int32), v = 1 → GN g RX7 cX7_next 3 none 2 (mQ g b ω0 z none (mF (pF F0 (nI (be + 1)) (nI be) (A0 6 be) 0 ph po pu) c) (mA (pA A0 f24 f8) c)) (pW g b F0 A0 c (nI be) (nI be) 0 0 ph po pu f24 f8 A2 ω0) z 380 [(2, .int v), (1, .int (A0 6 be)), (0, .ref b)] [] := by
            intro A2 v hv
            subst hv
            refine g_aload_n dX7_next_380 rfl ?_
            refine g_iload_n dX7_next_381 rfl ?_
            refine g_if_eq 389 dX7_next_382 (by decide) (fun h9 => absurd h9 (by decide)) (fun _ => ?_)
            refine g_iload_n dX7_next_385 rfl ?_
            refine g_goto 390 dX7_next_386 (by decide) ?_
            refine mpp_token hN  dX7_next_390 ?_
            refine g_aload_n dX7_next_393 rfl ?_
            refine g_dup dX7_next_394 rfl ?_
            refine mgp_at dX7_next_395 ?_
            refine g_iconst (1) dX7_next_398 rfl ?_
            refine g_iadd dX7_next_399 ?_
            refine mpp_at hN  dX7_next_400 ?_
            refine g_vret rfl (Nat.le_refl _) (Nat.le_refl _) ?_ dX7_next_403
            rw [nI_1]
            exact mQ.mk
          refine g_iload_n dX7_next_326 rfl ?_
          refine g_bipush (40) dX7_next_327 rfl ?_
          refine g_icmp_eq 374 dX7_next_329 (by decide) (fun c1 => ?_) (fun c1 => ?_)
          · refine g_iconst (1) dX7_next_374 rfl ?_
            refine g_goto 379 dX7_next_375 (by decide) ?_
            refine g_istore_n (L' := [(2, _), (1, _), (0, _)]) dX7_next_379 (by decide) rfl ?_
            first | exact fin _ _ rfl | exact absurd hs (fun h => by rcases h with h | h | h | h | h | h | h | h; exact c1 h; exact c2 h; exact c3 h; exact c4 h; exact c5 h; exact c6 h; exact c7 h; exact c8 h)
          · refine g_iload_n dX7_next_332 rfl ?_
            refine g_bipush (41) dX7_next_333 rfl ?_
            refine g_icmp_eq 374 dX7_next_335 (by decide) (fun c2 => ?_) (fun c2 => ?_)
            · refine g_iconst (1) dX7_next_374 rfl ?_
              refine g_goto 379 dX7_next_375 (by decide) ?_
              refine g_istore_n (L' := [(2, _), (1, _), (0, _)]) dX7_next_379 (by decide) rfl ?_
              first | exact fin _ _ rfl | exact absurd hs (fun h => by rcases h with h | h | h | h | h | h | h | h; exact c1 h; exact c2 h; exact c3 h; exact c4 h; exact c5 h; exact c6 h; exact c7 h; exact c8 h)
            · refine g_iload_n dX7_next_338 rfl ?_
              refine g_bipush (59) dX7_next_339 rfl ?_
              refine g_icmp_eq 374 dX7_next_341 (by decide) (fun c3 => ?_) (fun c3 => ?_)
              · refine g_iconst (1) dX7_next_374 rfl ?_
                refine g_goto 379 dX7_next_375 (by decide) ?_
                refine g_istore_n (L' := [(2, _), (1, _), (0, _)]) dX7_next_379 (by decide) rfl ?_
                first | exact fin _ _ rfl | exact absurd hs (fun h => by rcases h with h | h | h | h | h | h | h | h; exact c1 h; exact c2 h; exact c3 h; exact c4 h; exact c5 h; exact c6 h; exact c7 h; exact c8 h)
              · refine g_iload_n dX7_next_344 rfl ?_
                refine g_bipush (43) dX7_next_345 rfl ?_
                refine g_icmp_eq 374 dX7_next_347 (by decide) (fun c4 => ?_) (fun c4 => ?_)
                · refine g_iconst (1) dX7_next_374 rfl ?_
                  refine g_goto 379 dX7_next_375 (by decide) ?_
                  refine g_istore_n (L' := [(2, _), (1, _), (0, _)]) dX7_next_379 (by decide) rfl ?_
                  first | exact fin _ _ rfl | exact absurd hs (fun h => by rcases h with h | h | h | h | h | h | h | h; exact c1 h; exact c2 h; exact c3 h; exact c4 h; exact c5 h; exact c6 h; exact c7 h; exact c8 h)
                · refine g_iload_n dX7_next_350 rfl ?_
                  refine g_bipush (45) dX7_next_351 rfl ?_
                  refine g_icmp_eq 374 dX7_next_353 (by decide) (fun c5 => ?_) (fun c5 => ?_)
                  · refine g_iconst (1) dX7_next_374 rfl ?_
                    refine g_goto 379 dX7_next_375 (by decide) ?_
                    refine g_istore_n (L' := [(2, _), (1, _), (0, _)]) dX7_next_379 (by decide) rfl ?_
                    first | exact fin _ _ rfl | exact absurd hs (fun h => by rcases h with h | h | h | h | h | h | h | h; exact c1 h; exact c2 h; exact c3 h; exact c4 h; exact c5 h; exact c6 h; exact c7 h; exact c8 h)
                  · refine g_iload_n dX7_next_356 rfl ?_
                    refine g_bipush (42) dX7_next_357 rfl ?_
                    refine g_icmp_eq 374 dX7_next_359 (by decide) (fun c6 => ?_) (fun c6 => ?_)
                    · refine g_iconst (1) dX7_next_374 rfl ?_
                      refine g_goto 379 dX7_next_375 (by decide) ?_
                      refine g_istore_n (L' := [(2, _), (1, _), (0, _)]) dX7_next_379 (by decide) rfl ?_
                      first | exact fin _ _ rfl | exact absurd hs (fun h => by rcases h with h | h | h | h | h | h | h | h; exact c1 h; exact c2 h; exact c3 h; exact c4 h; exact c5 h; exact c6 h; exact c7 h; exact c8 h)
                    · refine g_iload_n dX7_next_362 rfl ?_
                      refine g_bipush (60) dX7_next_363 rfl ?_
                      refine g_icmp_eq 374 dX7_next_365 (by decide) (fun c7 => ?_) (fun c7 => ?_)
                      · refine g_iconst (1) dX7_next_374 rfl ?_
                        refine g_goto 379 dX7_next_375 (by decide) ?_
                        refine g_istore_n (L' := [(2, _), (1, _), (0, _)]) dX7_next_379 (by decide) rfl ?_
                        first | exact fin _ _ rfl | exact absurd hs (fun h => by rcases h with h | h | h | h | h | h | h | h; exact c1 h; exact c2 h; exact c3 h; exact c4 h; exact c5 h; exact c6 h; exact c7 h; exact c8 h)
                      · refine g_iload_n dX7_next_368 rfl ?_
                        refine g_bipush (61) dX7_next_369 rfl ?_
                        refine g_icmp_ne 378 dX7_next_371 (by decide) (fun c8 => ?_) (fun c8 => ?_)
                        · refine g_iconst (0) dX7_next_378 rfl ?_
                          refine g_istore_n (L' := [(2, _), (1, _), (0, _)]) dX7_next_379 (by decide) rfl ?_
                          first | exact fin _ _ rfl | exact absurd hs (fun h => by rcases h with h | h | h | h | h | h | h | h; exact c1 h; exact c2 h; exact c3 h; exact c4 h; exact c5 h; exact c6 h; exact c7 h; exact c8 h)
                        · refine g_iconst (1) dX7_next_374 rfl ?_
                          refine g_goto 379 dX7_next_375 (by decide) ?_
                          refine g_istore_n (L' := [(2, _), (1, _), (0, _)]) dX7_next_379 (by decide) rfl ?_
                          first | exact fin _ _ rfl | exact absurd hs (fun h => by rcases h with h | h | h | h | h | h | h | h; exact c1 h; exact c2 h; exact c3 h; exact c4 h; exact c5 h; exact c6 h; exact c7 h; exact c8 h)
        · have hsg : sgT (A0 6 be) = -1 := if_neg hs
          rw [hsg]
          refine g_aload_n dX7_next_52 rfl ?_
          refine g_aload_n dX7_next_53 rfl ?_
          refine mgp_at dX7_next_54 ?_
          refine mpp_begun hN  dX7_next_57 ?_
          refine g_aload_n dX7_next_60 rfl ?_
          refine g_iconst (0) dX7_next_61 rfl ?_
          refine mpp_token hN  dX7_next_62 ?_
          refine g_aload_n dX7_next_65 rfl ?_
          refine g_iconst (0) dX7_next_66 rfl ?_
          refine mpp_value hN  dX7_next_67 ?_
          refine g_aload_n dX7_next_70 rfl ?_
          refine mgp_at dX7_next_71 ?_
          refine g_aload_n dX7_next_74 rfl ?_
          refine mgp_taped dX7_next_75 ?_
          refine g_icmp_ne 82 dX7_next_78 (by decide) (fun _ => ?_) (fun h9 => absurd h9 h0')
          refine g_aload_n dX7_next_82 rfl ?_
          refine mg_tape dX7_next_83 ?_
          refine g_aload_n dX7_next_86 rfl ?_
          refine mgp_at dX7_next_87 ?_
          refine mlp_tape (be) (by omega) (by first | rfl | (simp only [nI, Int32.ofNat_add, Int32.ofNat_mul, rfl]; rfl) | (simp only [nI, Int32.ofNat_add, Int32.ofNat_mul, rfl]; done)) dX7_next_90 ?_
          refine g_istore_n (L' := [(1, _), (0, _)]) dX7_next_91 (by decide) rfl ?_
          refine g_iload_n dX7_next_92 rfl ?_
          refine g_bipush (97) dX7_next_93 rfl ?_
          refine g_bipush (122) dX7_next_95 rfl ?_
          refine gs_calli (n := 3) (c_in ) (lw_S q1405 q1406 q92 q1407) (by decide +kernel) rfl rfl (by decide) ⟨Nat.le_refl _, Nat.le_refl _⟩ (Nat.le_of_ble_eq_true rfl) dX7_next_97 ?_
          refine g_if_eq 217 dX7_next_100 (by decide) (fun _ => ?_) (fun h9 => absurd h1 h9)
          refine g_iload_n dX7_next_217 rfl ?_
          refine g_bipush (48) dX7_next_218 rfl ?_
          refine g_bipush (57) dX7_next_220 rfl ?_
          refine gs_calli (n := 3) (c_in ) (lw_S q1405 q1406 q92 q1407) (by decide +kernel) rfl rfl (by decide) ⟨Nat.le_refl _, Nat.le_refl _⟩ (Nat.le_of_ble_eq_true rfl) dX7_next_222 ?_
          refine g_if_eq 326 dX7_next_225 (by decide) (fun _ => ?_) (fun h9 => absurd h2 h9)
          refine g_iload_n dX7_next_326 rfl ?_
          refine g_bipush (40) dX7_next_327 rfl ?_
          refine g_icmp_eq 374 dX7_next_329 (by decide) (fun h9 => absurd h9 (fun h => hs (Or.inl h))) (fun _ => ?_)
          refine g_iload_n dX7_next_332 rfl ?_
          refine g_bipush (41) dX7_next_333 rfl ?_
          refine g_icmp_eq 374 dX7_next_335 (by decide) (fun h9 => absurd h9 (fun h => hs (Or.inr (Or.inl h)))) (fun _ => ?_)
          refine g_iload_n dX7_next_338 rfl ?_
          refine g_bipush (59) dX7_next_339 rfl ?_
          refine g_icmp_eq 374 dX7_next_341 (by decide) (fun h9 => absurd h9 (fun h => hs (Or.inr (Or.inr (Or.inl h))))) (fun _ => ?_)
          refine g_iload_n dX7_next_344 rfl ?_
          refine g_bipush (43) dX7_next_345 rfl ?_
          refine g_icmp_eq 374 dX7_next_347 (by decide) (fun h9 => absurd h9 (fun h => hs (Or.inr (Or.inr (Or.inr (Or.inl h)))))) (fun _ => ?_)
          refine g_iload_n dX7_next_350 rfl ?_
          refine g_bipush (45) dX7_next_351 rfl ?_
          refine g_icmp_eq 374 dX7_next_353 (by decide) (fun h9 => absurd h9 (fun h => hs (Or.inr (Or.inr (Or.inr (Or.inr (Or.inl h))))))) (fun _ => ?_)
          refine g_iload_n dX7_next_356 rfl ?_
          refine g_bipush (42) dX7_next_357 rfl ?_
          refine g_icmp_eq 374 dX7_next_359 (by decide) (fun h9 => absurd h9 (fun h => hs (Or.inr (Or.inr (Or.inr (Or.inr (Or.inr (Or.inl h)))))))) (fun _ => ?_)
          refine g_iload_n dX7_next_362 rfl ?_
          refine g_bipush (60) dX7_next_363 rfl ?_
          refine g_icmp_eq 374 dX7_next_365 (by decide) (fun h9 => absurd h9 (fun h => hs (Or.inr (Or.inr (Or.inr (Or.inr (Or.inr (Or.inr (Or.inl h))))))))) (fun _ => ?_)
          refine g_iload_n dX7_next_368 rfl ?_
          refine g_bipush (61) dX7_next_369 rfl ?_
          refine g_icmp_ne 378 dX7_next_371 (by decide) (fun _ => ?_) (fun h9 => absurd h9 (fun h => hs (Or.inr (Or.inr (Or.inr (Or.inr (Or.inr (Or.inr (Or.inr h)))))))))
          refine g_iconst (0) dX7_next_378 rfl ?_
          refine g_istore_n (L' := [(2, _), (1, _), (0, _)]) dX7_next_379 (by decide) rfl ?_
          refine g_aload_n dX7_next_380 rfl ?_
          refine g_iload_n dX7_next_381 rfl ?_
          refine g_if_eq 389 dX7_next_382 (by decide) (fun _ => ?_) (fun h9 => absurd rfl h9)
          refine g_iconst (-1) dX7_next_389 rfl ?_
          refine mpp_token hN  dX7_next_390 ?_
          refine g_aload_n dX7_next_393 rfl ?_
          refine g_dup dX7_next_394 rfl ?_
          refine mgp_at dX7_next_395 ?_
          refine g_iconst (1) dX7_next_398 rfl ?_
          refine g_iadd dX7_next_399 ?_
          refine mpp_at hN  dX7_next_400 ?_
          refine g_vret rfl (Nat.le_refl _) (Nat.le_refl _) ?_ dX7_next_403
          rw [nI_1]
          exact mQ.mk
      · obtain ⟨e, ke, ve, hnum⟩ : ∃ e ke ve, numL (A0 6) n (n - be) be 0 0 = (e, ke, ve) := ⟨_, _, _, rfl⟩
        have hl : lexF (A0 6) (A0 23) n a = (e, be, if 4 < ke then -1 else 1, ve) := by unfold lexF; dsimp only; rw [← hbe, if_neg h0, if_neg (fun h => h h1), if_pos h2, hnum]
        have hke : ke ≤ 160 := by have := numL_le (tp := A0 6) (n := n) (n - be) be 0 0 (by omega); rw [hnum] at this; dsimp only at this; omega
        rw [hl]
        refine g_aload_n dX7_next_52 rfl ?_
        refine g_aload_n dX7_next_53 rfl ?_
        refine mgp_at dX7_next_54 ?_
        refine mpp_begun hN  dX7_next_57 ?_
        refine g_aload_n dX7_next_60 rfl ?_
        refine g_iconst (0) dX7_next_61 rfl ?_
        refine mpp_token hN  dX7_next_62 ?_
        refine g_aload_n dX7_next_65 rfl ?_
        refine g_iconst (0) dX7_next_66 rfl ?_
        refine mpp_value hN  dX7_next_67 ?_
        refine g_aload_n dX7_next_70 rfl ?_
        refine mgp_at dX7_next_71 ?_
        refine g_aload_n dX7_next_74 rfl ?_
        refine mgp_taped dX7_next_75 ?_
        refine g_icmp_ne 82 dX7_next_78 (by decide) (fun _ => ?_) (fun h9 => absurd h9 h0')
        refine g_aload_n dX7_next_82 rfl ?_
        refine mg_tape dX7_next_83 ?_
        refine g_aload_n dX7_next_86 rfl ?_
        refine mgp_at dX7_next_87 ?_
        refine mlp_tape (be) (by omega) (by first | rfl | (simp only [nI, Int32.ofNat_add, Int32.ofNat_mul, rfl]; rfl) | (simp only [nI, Int32.ofNat_add, Int32.ofNat_mul, rfl]; done)) dX7_next_90 ?_
        refine g_istore_n (L' := [(1, _), (0, _)]) dX7_next_91 (by decide) rfl ?_
        refine g_iload_n dX7_next_92 rfl ?_
        refine g_bipush (97) dX7_next_93 rfl ?_
        refine g_bipush (122) dX7_next_95 rfl ?_
        refine gs_calli (n := 3) (c_in ) (lw_S q1405 q1406 q92 q1407) (by decide +kernel) rfl rfl (by decide) ⟨Nat.le_refl _, Nat.le_refl _⟩ (Nat.le_of_ble_eq_true rfl) dX7_next_97 ?_
        refine g_if_eq 217 dX7_next_100 (by decide) (fun _ => ?_) (fun h9 => absurd h1 h9)
        refine g_iload_n dX7_next_217 rfl ?_
        refine g_bipush (48) dX7_next_218 rfl ?_
        refine g_bipush (57) dX7_next_220 rfl ?_
        refine gs_calli (n := 3) (c_in ) (lw_S q1405 q1406 q92 q1407) (by decide +kernel) rfl rfl (by decide) ⟨Nat.le_refl _, Nat.le_refl _⟩ (Nat.le_of_ble_eq_true rfl) dX7_next_222 ?_
        refine g_if_eq 326 dX7_next_225 (by decide) (fun h9 => absurd h9 h2) (fun _ => ?_)
        refine g_iconst (0) dX7_next_228 rfl ?_
        refine g_istore_n (L' := [(2, _), (1, _), (0, _)]) dX7_next_229 (by decide) rfl ?_
        refine l_digits (e := e) (ke := ke) (ve := ve) hN hn hn2 ?_ (n - be) be 0 0 (by omega) (by omega) hnum
        refine g_aload_n dX7_next_309 rfl ?_
        refine g_iload_n dX7_next_310 rfl ?_
        refine g_iconst (4) dX7_next_311 rfl ?_
        refine g_icmp_le 319 dX7_next_312 (by decide) (fun c1 => ?_) (fun c1 => ?_)
        · rw [if_neg (by have := (nI_leI (b := 4) (by omega) (by decide)).mp c1; omega)]
          refine g_iconst (1) dX7_next_319 rfl ?_
          refine mpp_token hN  dX7_next_320 ?_
          refine g_goto 403 dX7_next_323 (by decide) ?_
          refine g_vret rfl (Nat.le_refl _) (Nat.le_refl _) ?_ dX7_next_403
          exact mQ.mk
        · rw [if_pos (Nat.lt_of_not_le fun h => c1 (nI_le (b := 4) h (by decide)))]
          refine g_iconst (-1) dX7_next_315 rfl ?_
          refine g_goto 320 dX7_next_316 (by decide) ?_
          refine mpp_token hN  dX7_next_320 ?_
          refine g_goto 403 dX7_next_323 (by decide) ?_
          refine g_vret rfl (Nat.le_refl _) (Nat.le_refl _) ?_ dX7_next_403
          exact mQ.mk
    · obtain ⟨e, he⟩ : ∃ e, skR (A0 6) n 97 122 (n - be) be = e := ⟨_, rfl⟩
      have he2 := skR_le (tp := A0 6) (n := n) (lo := 97) (hi := 122) (n - be) be (by omega)
      rw [he] at he2
      obtain ⟨k, hk⟩ : ∃ k, wdF (A0 6) (A0 23) be e = k := ⟨_, rfl⟩
      have hk2 : k ≤ 12 := by rw [← hk]; exact wdL_le _ _ _ _ _ _
      have hl : lexF (A0 6) (A0 23) n a = (e, be, tkW k, vaW k) := by unfold lexF; dsimp only; rw [← hbe, if_neg h0, if_pos h1, he, hk]
      rw [hl]
      refine g_aload_n dX7_next_52 rfl ?_
      refine g_aload_n dX7_next_53 rfl ?_
      refine mgp_at dX7_next_54 ?_
      refine mpp_begun hN  dX7_next_57 ?_
      refine g_aload_n dX7_next_60 rfl ?_
      refine g_iconst (0) dX7_next_61 rfl ?_
      refine mpp_token hN  dX7_next_62 ?_
      refine g_aload_n dX7_next_65 rfl ?_
      refine g_iconst (0) dX7_next_66 rfl ?_
      refine mpp_value hN  dX7_next_67 ?_
      refine g_aload_n dX7_next_70 rfl ?_
      refine mgp_at dX7_next_71 ?_
      refine g_aload_n dX7_next_74 rfl ?_
      refine mgp_taped dX7_next_75 ?_
      refine g_icmp_ne 82 dX7_next_78 (by decide) (fun _ => ?_) (fun h9 => absurd h9 h0')
      refine g_aload_n dX7_next_82 rfl ?_
      refine mg_tape dX7_next_83 ?_
      refine g_aload_n dX7_next_86 rfl ?_
      refine mgp_at dX7_next_87 ?_
      refine mlp_tape (be) (by omega) (by first | rfl | (simp only [nI, Int32.ofNat_add, Int32.ofNat_mul, rfl]; rfl) | (simp only [nI, Int32.ofNat_add, Int32.ofNat_mul, rfl]; done)) dX7_next_90 ?_
      refine g_istore_n (L' := [(1, _), (0, _)]) dX7_next_91 (by decide) rfl ?_
      refine g_iload_n dX7_next_92 rfl ?_
      refine g_bipush (97) dX7_next_93 rfl ?_
      refine g_bipush (122) dX7_next_95 rfl ?_
      refine gs_calli (n := 3) (c_in ) (lw_S q1405 q1406 q92 q1407) (by decide +kernel) rfl rfl (by decide) ⟨Nat.le_refl _, Nat.le_refl _⟩ (Nat.le_of_ble_eq_true rfl) dX7_next_97 ?_
      refine g_if_eq 217 dX7_next_100 (by decide) (fun h9 => absurd h9 h1) (fun _ => ?_)
      refine l_letters (e := e) hN hn hn2 ?_ (n - be) be (by omega) he
      refine g_aload_n dX7_next_146 rfl ?_
      refine g_aload_n dX7_next_147 rfl ?_
      refine mgp_begun dX7_next_148 ?_
      refine g_aload_n dX7_next_151 rfl ?_
      refine mgp_at dX7_next_152 ?_
      refine gm_calli (n := 2) (c_wordFrom (fr := be) (to := e) (by omega) (by omega)) (lw_V q1408 q1410 qs38 q92 q1411) (by decide +kernel) rfl rfl (by decide) ⟨Nat.le_refl _, Nat.le_refl _⟩ (Nat.le_of_ble_eq_true rfl) dX7_next_155 (fun A2 => ?_)
      refine g_istore_n (L' := [(2, _), (1, _), (0, _)]) dX7_next_158 (by decide) rfl ?_
      rw [hk]
      refine g_aload_n dX7_next_159 rfl ?_
      refine g_join 195 (fun v => v = tkW k) (fun v hv => ?_) (fun K => ?_)
      · subst hv
        refine mpp_token hN  dX7_next_195 ?_
        refine g_aload_n dX7_next_198 rfl ?_
        refine g_join 211 (fun v => v = vaW k) (fun v hv => ?_) (fun K => ?_)
        · subst hv
          refine mpp_value hN  dX7_next_211 ?_
          refine g_goto 403 dX7_next_214 (by decide) ?_
          refine g_vret rfl (Nat.le_refl _) (Nat.le_refl _) ?_ dX7_next_403
          exact mQ.mk
        · refine g_iload_n dX7_next_199 rfl ?_
          refine g_iconst (3) dX7_next_200 rfl ?_
          refine g_icmp_ge 208 dX7_next_201 (by decide) (fun c1 => ?_) (fun c1 => ?_)
          · refine g_iload_n dX7_next_208 rfl ?_
            refine g_iconst (3) dX7_next_209 rfl ?_
            refine g_isub dX7_next_210 ?_
            exact K _ (by rw [vaW, if_neg (by have := (nI_leI (a := 3) (by decide) (by omega)).mp c1; omega)])
          · refine g_iload_n dX7_next_204 rfl ?_
            refine g_goto 211 dX7_next_205 (by decide) ?_
            exact K _ (by rw [vaW, if_pos (Nat.lt_of_not_le fun h => c1 (nI_le (a := 3) h (by omega)))])
      · refine g_iload_n dX7_next_160 rfl ?_
        refine g_iconst (3) dX7_next_161 rfl ?_
        refine g_icmp_ge 169 dX7_next_162 (by decide) (fun c1 => ?_) (fun c1 => ?_)
        · have d1 : ¬ k < 3 := by have := (nI_leI (a := 3) (by decide) (by omega)).mp c1; omega
          refine g_iload_n dX7_next_169 rfl ?_
          refine g_bipush (9) dX7_next_170 rfl ?_
          refine g_icmp_ge 179 dX7_next_172 (by decide) (fun c2 => ?_) (fun c2 => ?_)
          · have d2 : ¬ k < 9 := by have := (nI_leI (a := 9) (by decide) (by omega)).mp c2; omega
            refine g_iload_n dX7_next_179 rfl ?_
            refine g_bipush (12) dX7_next_180 rfl ?_
            refine g_icmp_ne 189 dX7_next_182 (by decide) (fun c3 => ?_) (fun c3 => ?_)
            · have d3 : ¬ k = 12 := fun h => c3 (by rw [h]; rfl)
              refine g_iconst (4) dX7_next_189 rfl ?_
              refine g_iload_n dX7_next_190 rfl ?_
              refine g_iadd dX7_next_191 ?_
              refine g_bipush (9) dX7_next_192 rfl ?_
              refine g_isub dX7_next_194 ?_
              exact K _ (by rw [tkW, if_neg d1, if_neg d2, if_neg d3])
            · have d3 : k = 12 := (nI_eq (b := 12) (by omega) (by decide)).mp c3
              refine g_iconst (-1) dX7_next_185 rfl ?_
              refine g_goto 195 dX7_next_186 (by decide) ?_
              exact K _ (by rw [tkW, if_neg d1, if_neg d2, if_pos d3])
          · have d2 : k < 9 := Nat.lt_of_not_le fun h => c2 (nI_le (a := 9) h (by omega))
            refine g_iconst (2) dX7_next_175 rfl ?_
            refine g_goto 195 dX7_next_176 (by decide) ?_
            exact K _ (by rw [tkW, if_neg d1, if_pos d2])
        · have d1 : k < 3 := Nat.lt_of_not_le fun h => c1 (nI_le (a := 3) h (by omega))
          refine g_iconst (3) dX7_next_165 rfl ?_
          refine g_goto 195 dX7_next_166 (by decide) ?_
          exact K _ (by rw [tkW, if_pos d1])
end A
