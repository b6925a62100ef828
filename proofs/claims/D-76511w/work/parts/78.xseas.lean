/-! the component: what is talked of, seasons -/
set_option maxRecDepth 100000
def kbyL (R : Nat → Int32) (so : Int32) : Nat → Nat → Int32 → Int32
  | 0, _, x => x
  | m + 1, p, x => kbyL R so m (p + 1) (if sb so p = 1 then x ||| R (3 * p) else x)
theorem talL_any (R : Nat → Int32) (so : Int32) : ∀ (m p : Nat) (a o t : Int32), (talL R so m p a o t).2.1 = kbyL R so m p o := by
  intro m
  induction m with
  | zero => intro p a o t; rfl
  | succ m ih =>
    intro p a o t
    unfold talL kbyL
    split
    · exact ih _ _ _ _
    · exact ih _ _ _ _
theorem one_l2 {n : Nat} (h : n ≤ 6) : (one (nI n)).toInt64 - 1 = (one (nI n) - 1).toInt64 := by
  match n, h with
  | 0, _ => decide
  | 1, _ => decide
  | 2, _ => decide
  | 3, _ => decide
  | 4, _ => decide
  | 5, _ => decide
  | 6, _ => decide
/-- the sheets, as the reference has them -/
def ShR (A : Nat → Nat → Int32) (Fx : Nat → Int32) (Ax : Nat → Nat → Int32) : Prop := ∀ s, s < 4 → Fx (40 + s) = A 15 s ∧ Fx (50 + s) = A 16 s ∧ (∀ k, k < 40 → Ax (60 + s) k = A 17 (40 * s + k)) ∧ (∃ m, m ≤ 40 ∧ A 16 s = nI m) ∧ -1 ≤ (A 15 s).toInt ∧ (A 15 s).toInt ≤ 2
theorem ShR.sh {A : Nat → Nat → Int32} {Fx : Nat → Int32} {Ax : Nat → Nat → Int32} (h : ShR A Fx Ax) : ShM A := fun s hs => (h s hs).2.2.2.1
theorem ShR.congr {A : Nat → Nat → Int32} {Fx Fx' : Nat → Int32} {Ax Ax' : Nat → Nat → Int32} (h : ShR A Fx Ax) (h1 : ∀ k, 40 ≤ k → Fx' k = Fx k) (h2 : ∀ k, 60 ≤ k → Ax' k = Ax k) : ShR A Fx' Ax' := fun s hs => by
  obtain ⟨a1, a2, a3, a4⟩ := h s hs
  exact ⟨by rw [h1 _ (by omega)]; exact a1, by rw [h1 _ (by omega)]; exact a2, fun k hk => by rw [h2 _ (by omega)]; exact a3 k hk, a4⟩
theorem sort_neg {x : Int32} (h1 : -1 ≤ x.toInt) : x < 0 ↔ x = -1 := by
  rw [Int32.lt_iff_toInt_lt, show (0 : Int32).toInt = 0 by decide]
  constructor
  · intro h; exact Int32.toInt_inj.mp (by rw [show (-1 : Int32).toInt = -1 by decide]; omega)
  · rintro rfl; decide
theorem sw_ok {f : Nat → Int32} : ∀ (m k : Nat), swL f m k = 0 → ∀ j, k ≤ j → j < k + m → ∃ t, t < 16 ∧ f j = nI t := by
  intro m
  induction m with
  | zero => intro k _ j h1 h2; omega
  | succ m ih =>
    intro k h j h1 h2
    unfold swL at h
    by_cases hi : inI (f k) 0 15 = 0
    · rw [if_pos hi] at h; exact absurd h (by decide)
    · rw [if_neg hi] at h
      by_cases hj : j = k
      · subst hj
        obtain ⟨t, ht, e⟩ := in_ix (hi := 15) (m := 15) (by decide) hi
        exact ⟨t, by omega, e⟩
      · exact ih (k + 1) h j (by omega) (by omega)
theorem swL_in {f : Nat → Int32} : ∀ (m k : Nat), swL f m k = 0 ∨ swL f m k = -2 := by
  intro m
  induction m with
  | zero => intro k; exact .inl rfl
  | succ m ih =>
    intro k
    unfold swL
    split
    · exact .inr rfl
    · exact ih _
theorem wth_15 {t : Nat} (h : t < 16) : wthn (nI t) 0 15 = nI t := wthn_id (by rw [nI_toInt (by omega), show (0 : Int32).toInt = 0 by decide]; omega) (by rw [nI_toInt (by omega), show (15 : Int32).toInt = 15 by decide]; omega)
theorem CO.go {e : En} {c : Cr} (h : CO c) {p t : Nat} (hp : p < 6) (ht : t < 16) (hn : e.1 ≤ 6) : CO (goS e p (nI t) c) := (h.land hp ht).tide hn
theorem CO.goA {e : En} {c : Cr} {p : Nat} {f : Nat → Int32} {m : Nat} {x : Int32} (h : CO c) (hp : p < 6) (hn : e.1 ≤ 6) (hf : ∀ k, k < m → ∃ t, t < 16 ∧ f k = nI t) : CO (goL e p f m 0 c x).1 := by
  have : ∀ (q k : Nat) (c : Cr) (x : Int32), k + q ≤ m → CO c → CO (goL e p f q k c x).1 := by
    intro q
    induction q with
    | zero => intro k c x _ h; exact h
    | succ q ih =>
      intro k c x hk h
      obtain ⟨t, ht, e1⟩ := hf k (by omega)
      unfold goL
      rw [e1, wth_15 ht]
      exact ih (k + 1) _ _ (by omega) (h.go hp ht hn)
  exact this m 0 c x (by omega) h
section A
variable {g : GE} {b z n : Nat} {F Fx : Nat → Int32} {A Ax : Nat → Nat → Int32} {c : Cr} {ea : Nat} {tx : Nat → Option Nat} {nm : Nat → Int32} {ω0 : Om} {ts : Nat → List Int32}
theorem xl_knownBy {so : Int32} {Q : Option Value → Om → Nat → Prop} (hn : Fx 31 = nI n) (hn6 : n ≤ 6) :
    ∀ (f p : Nat) (x : Int32), p + f = n → (∀ r, r = kbyL c.1 so f p x → Q (some (.int r)) (hX g b Fx Ax c ea tx nm ω0) z) →
    GN g RX0 cX0_knownBy 4 (some .int) 2 Q (hX g b Fx Ax c ea tx nm ω0) z 4 [(3, .int (nI p)), (2, .int x), (0, .ref b), (1, .int so)] [] := by
  intro f
  induction f with
  | zero =>
    intro p x hp hQ
    have : p = n := by omega
    subst this
    refine g_iload_n dX0_knownBy_4 rfl ?_
    refine g_aload_n dX0_knownBy_5 rfl ?_
    refine xg_fishers dX0_knownBy_6 ?_
    refine gd_callr (n := 0) (j_size hX_2) (lw_V q739 q740 q741 q71 q742) (by decide +kernel) (ci := 16) rfl hX_2 rfl rfl (by decide) ⟨Nat.le_refl _, Nat.le_refl _⟩ (Nat.le_of_ble_eq_true rfl) dX0_knownBy_9 ?_
    refine g_icmp_ge 39 dX0_knownBy_12 (by decide) (fun _ => ?_) (fun h9 => absurd (by rw [hn]; exact nI_le (Nat.le_refl _) (by omega)) h9)
    refine g_iload_n dX0_knownBy_39 rfl ?_
    refine g_iret rfl (Nat.le_refl _) (Nat.le_refl _) ?_ dX0_knownBy_40
    exact hQ _ rfl
  | succ f ih =>
    intro p x hp hQ
    unfold kbyL at hQ
    refine g_iload_n dX0_knownBy_4 rfl ?_
    refine g_aload_n dX0_knownBy_5 rfl ?_
    refine xg_fishers dX0_knownBy_6 ?_
    refine gd_callr (n := 0) (j_size hX_2) (lw_V q739 q740 q741 q71 q742) (by decide +kernel) (ci := 16) rfl hX_2 rfl rfl (by decide) ⟨Nat.le_refl _, Nat.le_refl _⟩ (Nat.le_of_ble_eq_true rfl) dX0_knownBy_9 ?_
    refine g_icmp_ge 39 dX0_knownBy_12 (by decide) (fun h9 => absurd h9 (by rw [hn]; exact nI_ge (by omega) (by omega))) (fun _ => ?_)
    refine g_iload_n dX0_knownBy_15 rfl ?_
    refine g_iload_n dX0_knownBy_16 rfl ?_
    refine g_ishr dX0_knownBy_17 ?_
    refine g_iconst (1) dX0_knownBy_18 rfl ?_
    refine g_iand dX0_knownBy_19 ?_
    refine g_iconst (1) dX0_knownBy_20 rfl ?_
    refine g_icmp_ne 33 dX0_knownBy_21 (by decide) (fun c1 => ?_) (fun c1 => ?_)
    · have c1' : ¬ sb so p = 1 := c1
      rw [if_neg c1'] at hQ
      refine g_iinc (nI (p + 1)) (L' := [(3, _), (2, _), (0, _), (1, _)]) dX0_knownBy_33 rfl (nI_1 _) (by decide) rfl ?_
      refine g_goto 4 dX0_knownBy_36 (by decide) ?_
      exact ih (p + 1) x (by omega) hQ
    · have c1' : sb so p = 1 := c1
      rw [if_pos c1'] at hQ
      refine g_iload_n dX0_knownBy_24 rfl ?_
      refine g_aload_n dX0_knownBy_25 rfl ?_
      refine xg_knows dX0_knownBy_26 ?_
      refine g_iload_n dX0_knownBy_29 rfl ?_
      refine xl_knows (p) (by omega) (by first | rfl | (simp only [nI, Int32.ofNat_add, Int32.ofNat_mul]; rfl) | (simp only [nI, Int32.ofNat_add, Int32.ofNat_mul]; done)) dX0_knownBy_30 ?_
      refine g_ior dX0_knownBy_31 ?_
      refine g_istore_n (L' := [(2, _), (3, _), (0, _), (1, _)]) dX0_knownBy_32 (by decide) rfl ?_
      refine g_iinc (nI (p + 1)) (L' := [(3, _), (2, _), (0, _), (1, _)]) dX0_knownBy_33 rfl (nI_1 _) (by decide) rfl ?_
      refine g_goto 4 dX0_knownBy_36 (by decide) ?_
      exact ih (p + 1) _ (by omega) hQ
theorem x_knownBy {so : Int32} (hn : Fx 31 = nI n) (hn6 : n ≤ 6) : Ct g yX0_knownBy cX0_knownBy 4 (some .int) 2 0 0 [.ref b, .int so] (hX g b Fx Ax c ea tx nm ω0) z (xQ g b ω0 z (some (.int (kbyL c.1 so n 0 0))) Fx Ax c ea tx) := by
  refine Ct.at (own := RX0) (by decide) rfl (Nat.le_of_ble_eq_true rfl) rfl ?_
  refine g_iconst (0) dX0_knownBy_0 rfl ?_
  refine g_istore_n (L' := [(2, _), (0, _), (1, _)]) dX0_knownBy_1 (by decide) rfl ?_
  refine g_iconst (0) dX0_knownBy_2 rfl ?_
  refine g_istore_n (L' := [(3, _), (2, _), (0, _), (1, _)]) dX0_knownBy_3 (by decide) rfl ?_
  exact xl_knownBy hn hn6 n 0 0 (by omega) (fun r hr => by subst hr; exact xQ.mk)
theorem xl_talk {so w : Int32} {Q : Option Value → Om → Nat → Prop} (hn : Fx 31 = nI n) (hn6 : n ≤ 6) (h1 : ¬ w = 1) (h2 : ¬ w = 2) :
    ∀ (f p : Nat) (a o t : Int32), p + f = n → (∀ r, r = talV w (talL c.1 so f p a o t) → Q (some (.int r)) (hX g b Fx Ax c ea tx nm ω0) z) →
    GN g RX0 cX0_talk 7 (some .int) 3 Q (hX g b Fx Ax c ea tx nm ω0) z 82 [(6, .int (nI p)), (5, .int t), (4, .int o), (3, .int a), (0, .ref b), (1, .int so), (2, .int w)] [] := by
  intro f
  induction f with
  | zero =>
    intro p a o t hp hQ
    have : p = n := by omega
    subst this
    refine g_iload dX0_talk_82 rfl ?_
    refine g_aload_n dX0_talk_84 rfl ?_
    refine xg_fishers dX0_talk_85 ?_
    refine gd_callr (n := 0) (j_size hX_2) (lw_V q739 q740 q741 q71 q742) (by decide +kernel) (ci := 16) rfl hX_2 rfl rfl (by decide) ⟨Nat.le_refl _, Nat.le_refl _⟩ (Nat.le_of_ble_eq_true rfl) dX0_talk_88 ?_
    refine g_icmp_ge 149 dX0_talk_91 (by decide) (fun _ => ?_) (fun h9 => absurd (by rw [hn]; exact nI_le (Nat.le_refl _) (by omega)) h9)
    refine g_iload_n dX0_talk_149 rfl ?_
    refine g_if_ne 157 dX0_talk_150 (by decide) (fun c1 => ?_) (fun c1 => ?_)
    · refine g_iload dX0_talk_157 rfl ?_
      refine g_iload dX0_talk_159 rfl ?_
      refine g_iconst (-1) dX0_talk_161 rfl ?_
      refine g_ixor dX0_talk_162 ?_
      refine g_iand dX0_talk_163 ?_
      refine g_iret rfl (Nat.le_refl _) (Nat.le_refl _) ?_ dX0_talk_164
      exact hQ _ (by unfold talV talL; rw [if_neg c1, if_neg h1, if_neg h2])
    · refine g_iload_n dX0_talk_153 rfl ?_
      refine g_goto 164 dX0_talk_154 (by decide) ?_
      refine g_iret rfl (Nat.le_refl _) (Nat.le_refl _) ?_ dX0_talk_164
      exact hQ _ (by unfold talV talL; rw [if_pos c1])
  | succ f ih =>
    intro p a o t hp hQ
    unfold talL at hQ
    refine g_iload dX0_talk_82 rfl ?_
    refine g_aload_n dX0_talk_84 rfl ?_
    refine xg_fishers dX0_talk_85 ?_
    refine gd_callr (n := 0) (j_size hX_2) (lw_V q739 q740 q741 q71 q742) (by decide +kernel) (ci := 16) rfl hX_2 rfl rfl (by decide) ⟨Nat.le_refl _, Nat.le_refl _⟩ (Nat.le_of_ble_eq_true rfl) dX0_talk_88 ?_
    refine g_icmp_ge 149 dX0_talk_91 (by decide) (fun h9 => absurd h9 (by rw [hn]; exact nI_ge (by omega) (by omega))) (fun _ => ?_)
    refine g_iload_n dX0_talk_94 rfl ?_
    refine g_iload dX0_talk_95 rfl ?_
    refine g_ishr dX0_talk_97 ?_
    refine g_iconst (1) dX0_talk_98 rfl ?_
    refine g_iand dX0_talk_99 ?_
    refine g_if_ne 106 dX0_talk_100 (by decide) (fun c1 => ?_) (fun c1 => ?_)
    · have c1' : sb so p = 1 := and1_n c1
      rw [if_pos c1'] at hQ
      refine g_iload_n dX0_talk_106 rfl ?_
      refine g_aload_n dX0_talk_107 rfl ?_
      refine xg_knows dX0_talk_108 ?_
      refine g_iload dX0_talk_111 rfl ?_
      refine xl_knows (p) (by omega) (by first | rfl | (simp only [nI, Int32.ofNat_add, Int32.ofNat_mul]; rfl) | (simp only [nI, Int32.ofNat_add, Int32.ofNat_mul]; done)) dX0_talk_113 ?_
      refine g_iand dX0_talk_114 ?_
      refine g_istore_n (L' := [(3, _), (6, _), (5, _), (4, _), (0, _), (1, _), (2, _)]) dX0_talk_115 (by decide) rfl ?_
      refine g_iload dX0_talk_116 rfl ?_
      refine g_iload dX0_talk_118 rfl ?_
      refine g_aload_n dX0_talk_120 rfl ?_
      refine xg_knows dX0_talk_121 ?_
      refine g_iload dX0_talk_124 rfl ?_
      refine xl_knows (p) (by omega) (by first | rfl | (simp only [nI, Int32.ofNat_add, Int32.ofNat_mul]; rfl) | (simp only [nI, Int32.ofNat_add, Int32.ofNat_mul]; done)) dX0_talk_126 ?_
      refine g_iand dX0_talk_127 ?_
      refine g_ior dX0_talk_128 ?_
      refine g_istore (L' := [(5, _), (3, _), (6, _), (4, _), (0, _), (1, _), (2, _)]) dX0_talk_129 (by decide) rfl ?_
      refine g_iload dX0_talk_131 rfl ?_
      refine g_aload_n dX0_talk_133 rfl ?_
      refine xg_knows dX0_talk_134 ?_
      refine g_iload dX0_talk_137 rfl ?_
      refine xl_knows (p) (by omega) (by first | rfl | (simp only [nI, Int32.ofNat_add, Int32.ofNat_mul]; rfl) | (simp only [nI, Int32.ofNat_add, Int32.ofNat_mul]; done)) dX0_talk_139 ?_
      refine g_ior dX0_talk_140 ?_
      refine g_istore (L' := [(4, _), (5, _), (3, _), (6, _), (0, _), (1, _), (2, _)]) dX0_talk_141 (by decide) rfl ?_
      refine g_iinc (nI (p + 1)) (L' := [(6, _), (4, _), (5, _), (3, _), (0, _), (1, _), (2, _)]) dX0_talk_143 rfl (nI_1 _) (by decide) rfl ?_
      refine g_goto 82 dX0_talk_146 (by decide) ?_
      refine g_pick [0, 2, 1, 3, 4, 5, 6] rfl ?_
      exact ih (p + 1) _ _ _ (by omega) hQ
    · have c1' : ¬ sb so p = 1 := fun h => by
        have c1'' : sb so p = 0 := c1
        rw [h] at c1''; exact absurd c1'' (by decide)
      rw [if_neg c1'] at hQ
      refine g_goto 143 dX0_talk_103 (by decide) ?_
      refine g_iinc (nI (p + 1)) (L' := [(6, _), (5, _), (4, _), (3, _), (0, _), (1, _), (2, _)]) dX0_talk_143 rfl (nI_1 _) (by decide) rfl ?_
      refine g_goto 82 dX0_talk_146 (by decide) ?_
      exact ih (p + 1) a o t (by omega) hQ
theorem x_talk {so w : Int32} (h0 : F 0 = nI n) (hn : Fx 31 = nI n) (hn6 : n ≤ 6) : Ct g yX0_talk cX0_talk 7 (some .int) 3 0 0 [.ref b, .int so, .int w] (hX g b Fx Ax c ea tx nm ω0) z (xP g b ω0 z (talkF F A n c so w) Fx Ax ea tx) := by
  refine Ct.at (own := RX0) (by decide) rfl (Nat.le_of_ble_eq_true rfl) rfl ?_
  refine g_iload_n dX0_talk_0 rfl ?_
  refine g_i2l dX0_talk_1 ?_
  refine g_lconst 0 dX0_talk_2 rfl ?_
  refine g_iconst (1) dX0_talk_3 rfl ?_
  refine g_aload_n dX0_talk_4 rfl ?_
  refine xg_fishers dX0_talk_5 ?_
  refine gd_callr (n := 0) (j_size hX_2) (lw_V q739 q740 q741 q71 q742) (by decide +kernel) (ci := 16) rfl hX_2 rfl rfl (by decide) ⟨Nat.le_refl _, Nat.le_refl _⟩ (Nat.le_of_ble_eq_true rfl) dX0_talk_8 ?_
  refine g_ishl dX0_talk_11 ?_
  refine g_i2l dX0_talk_12 ?_
  refine g_lconst 1 dX0_talk_13 rfl ?_
  refine g_lsub dX0_talk_14 ?_
  rw [hn, show (1 : Int32) <<< (nI n &&& 31) = one (nI n) from rfl, one_l2 hn6]
  have hT : talkF F A n c so w = (if inI so 0 (one (nI n) - 1) = 0 ∨ inI w 0 3 = 0 then -2 else talV w (talL c.1 so n 0 65535 0 0), F, A, c) := by unfold talkF; rw [h0]
  rw [hT]
  refine gs_calli (n := 3) (x_inI (lo := 0) (hi := one (nI n) - 1) (by decide) rfl) (lw_S q753 q280 q68 q281) (by decide +kernel) rfl rfl (by decide) ⟨Nat.le_refl _, Nat.le_refl _⟩ (Nat.le_of_ble_eq_true rfl) dX0_talk_15 ?_
  refine g_if_eq 33 dX0_talk_18 (by decide) (fun c1 => ?_) (fun c1 => ?_)
  · refine g_bipush (-2) dX0_talk_33 rfl ?_
    refine g_iret rfl (Nat.le_refl _) (Nat.le_refl _) ?_ dX0_talk_35
    first | exact absurd c3 c4 | (refine xP.of (F := F) (A := A) ?_; first | (rw [if_pos (.inl c1)]; done) | (rw [if_pos (.inr c2)]; done) | (rw [if_neg (fun h => h.elim c1 c2)]; unfold talV; rw [talL_any]; simp_all; done))
  · refine g_iload_n dX0_talk_21 rfl ?_
    refine g_i2l dX0_talk_22 ?_
    refine g_lconst 0 dX0_talk_23 rfl ?_
    refine g_ldc2 q1133 dX0_talk_24 ?_
    refine gs_calli (n := 3) (x_inI (lo := 0) (hi := 3) (by decide) (by decide)) (lw_S q753 q280 q68 q281) (by decide +kernel) rfl rfl (by decide) ⟨Nat.le_refl _, Nat.le_refl _⟩ (Nat.le_of_ble_eq_true rfl) dX0_talk_27 ?_
    refine g_if_ne 36 dX0_talk_30 (by decide) (fun c2 => ?_) (fun c2 => ?_)
    · refine g_iload_n dX0_talk_36 rfl ?_
      refine g_iconst (1) dX0_talk_37 rfl ?_
      refine g_icmp_eq 46 dX0_talk_38 (by decide) (fun c3 => ?_) (fun c3 => ?_)
      · refine g_iload_n dX0_talk_46 rfl ?_
        refine g_iconst (1) dX0_talk_47 rfl ?_
        refine g_icmp_ne 59 dX0_talk_48 (by decide) (fun c4 => ?_) (fun c4 => ?_)
        · refine g_ldc q1138 dX0_talk_59 ?_
          refine g_aload_n dX0_talk_61 rfl ?_
          refine g_iload_n dX0_talk_62 rfl ?_
          refine gx_calli (n := 1) (x_knownBy hn hn6) (lw_V q1134 q1136 qs27 q68 q1137) (by decide +kernel) rfl rfl (by decide) ⟨Nat.le_refl _, Nat.le_refl _⟩ (Nat.le_of_ble_eq_true rfl) dX0_talk_63 (fun nm => ?_)
          refine g_iconst (-1) dX0_talk_66 rfl ?_
          refine g_ixor dX0_talk_67 ?_
          refine g_iand dX0_talk_68 ?_
          refine g_iret rfl (Nat.le_refl _) (Nat.le_refl _) ?_ dX0_talk_69
          first | exact absurd c3 c4 | (refine xP.of (F := F) (A := A) ?_; first | (rw [if_pos (.inl c1)]; done) | (rw [if_pos (.inr c2)]; done) | (rw [if_neg (fun h => h.elim c1 c2)]; unfold talV; rw [talL_any]; simp_all; done))
        · refine g_aload_n dX0_talk_51 rfl ?_
          refine g_iload_n dX0_talk_52 rfl ?_
          refine gx_calli (n := 1) (x_knownBy hn hn6) (lw_V q1134 q1136 qs27 q68 q1137) (by decide +kernel) rfl rfl (by decide) ⟨Nat.le_refl _, Nat.le_refl _⟩ (Nat.le_of_ble_eq_true rfl) dX0_talk_53 (fun nm => ?_)
          refine g_goto 69 dX0_talk_56 (by decide) ?_
          refine g_iret rfl (Nat.le_refl _) (Nat.le_refl _) ?_ dX0_talk_69
          first | exact absurd c3 c4 | (refine xP.of (F := F) (A := A) ?_; first | (rw [if_pos (.inl c1)]; done) | (rw [if_pos (.inr c2)]; done) | (rw [if_neg (fun h => h.elim c1 c2)]; unfold talV; rw [talL_any]; simp_all; done))
      · refine g_iload_n dX0_talk_41 rfl ?_
        refine g_iconst (2) dX0_talk_42 rfl ?_
        refine g_icmp_ne 70 dX0_talk_43 (by decide) (fun c4 => ?_) (fun c4 => ?_)
        · refine g_ldc q1138 dX0_talk_70 ?_
          refine g_istore_n (L' := [(3, _), (0, _), (1, _), (2, _)]) dX0_talk_72 (by decide) rfl ?_
          refine g_iconst (0) dX0_talk_73 rfl ?_
          refine g_istore (L' := [(4, _), (3, _), (0, _), (1, _), (2, _)]) dX0_talk_74 (by decide) rfl ?_
          refine g_iconst (0) dX0_talk_76 rfl ?_
          refine g_istore (L' := [(5, _), (4, _), (3, _), (0, _), (1, _), (2, _)]) dX0_talk_77 (by decide) rfl ?_
          refine g_iconst (0) dX0_talk_79 rfl ?_
          refine g_istore (L' := [(6, _), (5, _), (4, _), (3, _), (0, _), (1, _), (2, _)]) dX0_talk_80 (by decide) rfl ?_
          (refine xl_talk hn hn6 c3 c4 n 0 65535 0 0 (by omega) (fun r hr => ?_); subst hr; exact xP.of (F := F) (A := A) (by rw [if_neg (fun h => h.elim c1 c2)]))
        · refine g_iload_n dX0_talk_46 rfl ?_
          refine g_iconst (1) dX0_talk_47 rfl ?_
          refine g_icmp_ne 59 dX0_talk_48 (by decide) (fun c5 => ?_) (fun c5 => ?_)
          · refine g_ldc q1138 dX0_talk_59 ?_
            refine g_aload_n dX0_talk_61 rfl ?_
            refine g_iload_n dX0_talk_62 rfl ?_
            refine gx_calli (n := 1) (x_knownBy hn hn6) (lw_V q1134 q1136 qs27 q68 q1137) (by decide +kernel) rfl rfl (by decide) ⟨Nat.le_refl _, Nat.le_refl _⟩ (Nat.le_of_ble_eq_true rfl) dX0_talk_63 (fun nm => ?_)
            refine g_iconst (-1) dX0_talk_66 rfl ?_
            refine g_ixor dX0_talk_67 ?_
            refine g_iand dX0_talk_68 ?_
            refine g_iret rfl (Nat.le_refl _) (Nat.le_refl _) ?_ dX0_talk_69
            first | exact absurd c3 c4 | (refine xP.of (F := F) (A := A) ?_; first | (rw [if_pos (.inl c1)]; done) | (rw [if_pos (.inr c2)]; done) | (rw [if_neg (fun h => h.elim c1 c2)]; unfold talV; rw [talL_any]; simp_all; done))
          · refine g_aload_n dX0_talk_51 rfl ?_
            refine g_iload_n dX0_talk_52 rfl ?_
            refine gx_calli (n := 1) (x_knownBy hn hn6) (lw_V q1134 q1136 qs27 q68 q1137) (by decide +kernel) rfl rfl (by decide) ⟨Nat.le_refl _, Nat.le_refl _⟩ (Nat.le_of_ble_eq_true rfl) dX0_talk_53 (fun nm => ?_)
            refine g_goto 69 dX0_talk_56 (by decide) ?_
            refine g_iret rfl (Nat.le_refl _) (Nat.le_refl _) ?_ dX0_talk_69
            first | exact absurd c3 c4 | (refine xP.of (F := F) (A := A) ?_; first | (rw [if_pos (.inl c1)]; done) | (rw [if_pos (.inr c2)]; done) | (rw [if_neg (fun h => h.elim c1 c2)]; unfold talV; rw [talL_any]; simp_all; done))
    · refine g_bipush (-2) dX0_talk_33 rfl ?_
      refine g_iret rfl (Nat.le_refl _) (Nat.le_refl _) ?_ dX0_talk_35
      first | exact absurd c3 c4 | (refine xP.of (F := F) (A := A) ?_; first | (rw [if_pos (.inl c1)]; done) | (rw [if_pos (.inr c2)]; done) | (rw [if_neg (fun h => h.elim c1 c2)]; unfold talV; rw [talL_any]; simp_all; done))
theorem xl_seasonBad {s m : Nat} {Q : Option Value → Om → Nat → Prop} (hs : s < 4) (hm : m ≤ 40) (h50 : Fx (50 + s) = nI m) :
    ∀ (f k : Nat), k + f = m → (∀ r, r = swL (fun j => Ax (60 + s) j) f k → Q (some (.int r)) (hX g b Fx Ax c ea tx nm ω0) z) →
    GN g RX0 cX0_seasonBad 4 (some .int) 3 Q (hX g b Fx Ax c ea tx nm ω0) z 29 [(3, .int (nI k)), (2, .ref (b + (15 + 2 * s))), (0, .ref b), (1, .int (nI s))] [] := by
  intro f
  induction f with
  | zero =>
    intro k hk hQ
    have : k = m := by omega
    subst this
    refine g_iload_n dX0_seasonBad_29 rfl ?_
    refine g_aload_n dX0_seasonBad_30 rfl ?_
    refine xh_size (s := s) (by omega) dX0_seasonBad_31 ?_
    refine g_icmp_ge 58 dX0_seasonBad_34 (by decide) (fun _ => ?_) (fun h9 => absurd (by rw [h50]; exact nI_le (Nat.le_refl _) (by omega)) h9)
    refine g_iconst (0) dX0_seasonBad_58 rfl ?_
    refine g_iret rfl (Nat.le_refl _) (Nat.le_refl _) ?_ dX0_seasonBad_59
    exact hQ _ rfl
  | succ f ih =>
    intro k hk hQ
    unfold swL at hQ
    refine g_iload_n dX0_seasonBad_29 rfl ?_
    refine g_aload_n dX0_seasonBad_30 rfl ?_
    refine xh_size (s := s) (by omega) dX0_seasonBad_31 ?_
    refine g_icmp_ge 58 dX0_seasonBad_34 (by decide) (fun h9 => absurd h9 (by rw [h50]; exact nI_ge (by omega) (by omega))) (fun _ => ?_)
    refine g_aload_n dX0_seasonBad_37 rfl ?_
    refine xh_cells (s := s) (by omega) dX0_seasonBad_38 ?_
    refine g_iload_n dX0_seasonBad_41 rfl ?_
    refine xh_get (s := s) (k) (by omega) (by omega) (by first | rfl | (simp only [nI, Int32.ofNat_add, Int32.ofNat_mul]; rfl) | (simp only [nI, Int32.ofNat_add, Int32.ofNat_mul]; done)) dX0_seasonBad_42 ?_
    refine gs_calli (n := 1) (x_isThing ) (lw_S q765 q766 q68 q767) (by decide +kernel) rfl rfl (by decide) ⟨Nat.le_refl _, Nat.le_refl _⟩ (Nat.le_of_ble_eq_true rfl) dX0_seasonBad_43 ?_
    refine g_if_ne 52 dX0_seasonBad_46 (by decide) (fun c1 => ?_) (fun c1 => ?_)
    · rw [if_neg c1] at hQ
      refine g_iinc (nI (k + 1)) (L' := [(3, _), (2, _), (0, _), (1, _)]) dX0_seasonBad_52 rfl (nI_1 _) (by decide) rfl ?_
      refine g_goto 29 dX0_seasonBad_55 (by decide) ?_
      exact ih (k + 1) (by omega) hQ
    · rw [if_pos c1] at hQ
      refine g_bipush (-2) dX0_seasonBad_49 rfl ?_
      refine g_iret rfl (Nat.le_refl _) (Nat.le_refl _) ?_ dX0_seasonBad_51
      exact hQ _ rfl
theorem x_seasonBad {s : Int32} (hS : ShR A Fx Ax) : Ct g yX0_seasonBad cX0_seasonBad 4 (some .int) 3 0 0 [.ref b, .int s] (hX g b Fx Ax c ea tx nm ω0) z (xQ g b ω0 z (some (.int (seasF A s))) Fx Ax c ea tx) := by
  refine Ct.at (own := RX0) (by decide) rfl (Nat.le_of_ble_eq_true rfl) rfl ?_
  rcases in_or s (hi := 3) (m := 3) (by decide) with h0 | ⟨s, hs, rfl, h0⟩
  · refine g_iload_n dX0_seasonBad_0 rfl ?_
    refine gs_calli (n := 1) (x_isSheet ) (lw_S q1147 q1148 q68 q1149) (by decide +kernel) rfl rfl (by decide) ⟨Nat.le_refl _, Nat.le_refl _⟩ (Nat.le_of_ble_eq_true rfl) dX0_seasonBad_1 ?_
    refine g_if_ne 10 dX0_seasonBad_4 (by decide) (fun h9 => absurd h0 h9) (fun _ => ?_)
    refine g_bipush (-2) dX0_seasonBad_7 rfl ?_
    refine g_iret rfl (Nat.le_refl _) (Nat.le_refl _) ?_ dX0_seasonBad_9
    exact xQ.of (by unfold seasF; rw [if_pos h0]) rfl
  · have hc : cn (nI s) = s := nI_clamp (by omega)
    obtain ⟨a1, a2, a3, ⟨m, hm, a4⟩, a5, a6⟩ := hS s (by omega)
    have hsw : ∀ (f k : Nat), k + f ≤ 40 → swL (fun j => Ax (60 + s) j) f k = swL (shf A s) f k := by
      intro f
      induction f with
      | zero => intro k _; rfl
      | succ f ih => intro k hk; unfold swL; rw [ih (k + 1) (by omega)]; show (if inI (Ax (60 + s) k) 0 15 = 0 then _ else _) = _; rw [a3 k (by omega)]; rfl
    have hE : seasF A (nI s) = if A 15 s = -1 then -11 else swL (fun j => Ax (60 + s) j) m 0 := by
      unfold seasF; rw [if_neg (by rw [h0]; decide), hc, a4, hsw m 0 (by omega), show cn (nI m) = m from nI_clamp (by omega)]
    rw [hE]
    refine g_iload_n dX0_seasonBad_0 rfl ?_
    refine gs_calli (n := 1) (x_isSheet ) (lw_S q1147 q1148 q68 q1149) (by decide +kernel) rfl rfl (by decide) ⟨Nat.le_refl _, Nat.le_refl _⟩ (Nat.le_of_ble_eq_true rfl) dX0_seasonBad_1 ?_
    refine g_if_ne 10 dX0_seasonBad_4 (by decide) (fun _ => ?_) (fun h9 => absurd h9 (by rw [h0]; decide))
    refine g_aload_n dX0_seasonBad_10 rfl ?_
    refine xg_sheets dX0_seasonBad_11 ?_
    refine g_iload_n dX0_seasonBad_14 rfl ?_
    refine xh_ld (s) (by omega) (by first | rfl | (simp only [nI, Int32.ofNat_add, Int32.ofNat_mul]; rfl) | (simp only [nI, Int32.ofNat_add, Int32.ofNat_mul]; done)) dX0_seasonBad_15 ?_
    refine g_astore_n (L' := [(2, _), (0, _), (1, _)]) dX0_seasonBad_16 (by decide) rfl ?_
    refine g_aload_n dX0_seasonBad_17 rfl ?_
    refine xh_sort (s := s) (by omega) dX0_seasonBad_18 ?_
    refine g_if_ge 27 dX0_seasonBad_21 (by decide) (fun c1 => ?_) (fun c1 => ?_)
    · have h1 : ¬ A 15 s = -1 := fun h => absurd ((sort_neg a5).mpr h) (by rw [← a1]; exact Int32.not_lt.mpr c1)
      refine g_iconst (0) dX0_seasonBad_27 rfl ?_
      refine g_istore_n (L' := [(3, _), (2, _), (0, _), (1, _)]) dX0_seasonBad_28 (by decide) rfl ?_
      rw [if_neg h1]
      exact xl_seasonBad (by omega) hm (a2.trans a4) m 0 (by omega) (fun r hr => by subst hr; exact xQ.mk)
    · have h1 : A 15 s = -1 := (sort_neg a5).mp (by rw [← a1]; exact Int32.not_le.mp c1)
      refine g_bipush (-11) dX0_seasonBad_24 rfl ?_
      refine g_iret rfl (Nat.le_refl _) (Nat.le_refl _) ?_ dX0_seasonBad_26
      exact xQ.of (by rw [if_pos h1]) rfl
theorem x_toldBad {s t p : Int32} (h0 : F 0 = nI n) (hn : Fx 31 = nI n) (hn6 : n ≤ 6) (hS : ShR A Fx Ax) : Ct g yX0_toldBad cX0_toldBad 5 (some .int) 4 0 0 [.ref b, .int s, .int t, .int p] (hX g b Fx Ax c ea tx nm ω0) z (xQ g b ω0 z (some (.int (toldW F A s t p))) Fx Ax c ea tx) := by
  refine Ct.at (own := RX0) (by decide) rfl (Nat.le_of_ble_eq_true rfl) rfl ?_
  have h31 : Fx 31 = F 0 := hn.trans h0.symm
  rcases in_or t (hi := 3) (m := 3) (by decide) with h1 | ⟨t, ht, rfl, h1⟩
  · refine g_iload_n dX0_toldBad_0 rfl ?_
    refine gs_calli (n := 1) (x_isSheet ) (lw_S q1147 q1148 q68 q1149) (by decide +kernel) rfl rfl (by decide) ⟨Nat.le_refl _, Nat.le_refl _⟩ (Nat.le_of_ble_eq_true rfl) dX0_toldBad_1 ?_
    refine g_if_ne 10 dX0_toldBad_4 (by decide) (fun h9 => absurd h1 h9) (fun _ => ?_)
    refine g_bipush (-2) dX0_toldBad_7 rfl ?_
    refine g_iret rfl (Nat.le_refl _) (Nat.le_refl _) ?_ dX0_toldBad_9
    exact xQ.of (by unfold toldW twoW; rw [if_pos h1, if_neg (by decide)]) rfl
  · have hct : cn (nI t) = t := nI_clamp (by omega)
    obtain ⟨b1, b2, b3, ⟨m2, hm2, b4⟩, b5, b6⟩ := hS t (by omega)
    by_cases hb : seasF A s = 0
    · have hs0 : ¬ inI s 0 3 = 0 := fun h => by unfold seasF at hb; rw [if_pos h] at hb; exact absurd hb (by decide)
      obtain ⟨s, hs, rfl⟩ := in_ix (hi := 3) (m := 3) (by decide) hs0
      have hcs : cn (nI s) = s := nI_clamp (by omega)
      obtain ⟨a1, a2, a3, ⟨m, hm, a4⟩, a5, a6⟩ := hS s (by omega)
      have hW : twoW A (nI s) (nI t) = if A 15 t = -1 then -11 else if A 16 t ≤ A 16 s then 0 else -2 := by
        unfold twoW; rw [if_neg (by rw [h1]; decide), if_pos hb, hct, hcs]
      refine g_iload_n dX0_toldBad_0 rfl ?_
      refine gs_calli (n := 1) (x_isSheet ) (lw_S q1147 q1148 q68 q1149) (by decide +kernel) rfl rfl (by decide) ⟨Nat.le_refl _, Nat.le_refl _⟩ (Nat.le_of_ble_eq_true rfl) dX0_toldBad_1 ?_
      refine g_if_ne 10 dX0_toldBad_4 (by decide) (fun _ => ?_) (fun h9 => absurd h9 (by rw [h1]; decide))
      refine g_aload_n dX0_toldBad_10 rfl ?_
      refine g_iload_n dX0_toldBad_11 rfl ?_
      refine gx_calli (n := 1) (x_seasonBad hS) (lw_V q1143 q1145 qs28 q68 q1146) (by decide +kernel) rfl rfl (by decide) ⟨Nat.le_refl _, Nat.le_refl _⟩ (Nat.le_of_ble_eq_true rfl) dX0_toldBad_12 (fun nm => ?_)
      refine g_istore (L' := [(4, _), (0, _), (1, _), (2, _), (3, _)]) dX0_toldBad_15 (by decide) rfl ?_
      refine g_iload dX0_toldBad_17 rfl ?_
      refine g_if_eq 25 dX0_toldBad_19 (by decide) (fun _ => ?_) (fun h9 => absurd hb h9)
      refine g_aload_n dX0_toldBad_25 rfl ?_
      refine xg_sheets dX0_toldBad_26 ?_
      refine g_iload_n dX0_toldBad_29 rfl ?_
      refine xh_ld (t) (by omega) (by first | rfl | (simp only [nI, Int32.ofNat_add, Int32.ofNat_mul]; rfl) | (simp only [nI, Int32.ofNat_add, Int32.ofNat_mul]; done)) dX0_toldBad_30 ?_
      refine xh_sort (s := t) (by omega) dX0_toldBad_31 ?_
      refine g_if_ge 40 dX0_toldBad_34 (by decide) (fun c1 => ?_) (fun c1 => ?_)
      · have h2 : ¬ A 15 t = -1 := fun h => absurd ((sort_neg b5).mpr h) (by rw [← b1]; exact Int32.not_lt.mpr c1)
        refine g_aload_n dX0_toldBad_40 rfl ?_
        refine xg_sheets dX0_toldBad_41 ?_
        refine g_iload_n dX0_toldBad_44 rfl ?_
        refine xh_ld (t) (by omega) (by first | rfl | (simp only [nI, Int32.ofNat_add, Int32.ofNat_mul]; rfl) | (simp only [nI, Int32.ofNat_add, Int32.ofNat_mul]; done)) dX0_toldBad_45 ?_
        refine xh_size (s := t) (by omega) dX0_toldBad_46 ?_
        refine g_aload_n dX0_toldBad_49 rfl ?_
        refine xg_sheets dX0_toldBad_50 ?_
        refine g_iload_n dX0_toldBad_53 rfl ?_
        refine xh_ld (s) (by omega) (by first | rfl | (simp only [nI, Int32.ofNat_add, Int32.ofNat_mul]; rfl) | (simp only [nI, Int32.ofNat_add, Int32.ofNat_mul]; done)) dX0_toldBad_54 ?_
        refine xh_size (s := s) (by omega) dX0_toldBad_55 ?_
        refine g_icmp_le 64 dX0_toldBad_58 (by decide) (fun c2 => ?_) (fun c2 => ?_)
        · have h3 : A 16 t ≤ A 16 s := by rw [← b2, ← a2]; exact c2
          refine g_aload_n dX0_toldBad_64 rfl ?_
          refine g_iload_n dX0_toldBad_65 rfl ?_
          refine gd_callr (n := 1) (x_isOne hn hn6) (lw_V q761 q763 qs13 q68 q764) (by decide +kernel) (ci := 0) rfl hX_0 rfl rfl (by decide) ⟨Nat.le_refl _, Nat.le_refl _⟩ (Nat.le_of_ble_eq_true rfl) dX0_toldBad_66 ?_
          refine g_if_eq 76 dX0_toldBad_69 (by decide) (fun c3 => ?_) (fun c3 => ?_)
          · refine g_bipush (-5) dX0_toldBad_76 rfl ?_
            refine g_iret rfl (Nat.le_refl _) (Nat.le_refl _) ?_ dX0_toldBad_78
            exact xQ.of (by unfold toldW; rw [hW, if_neg h2, if_pos h3, if_pos rfl, if_pos (by rw [← h31]; exact c3)]) rfl
          · refine g_iconst (0) dX0_toldBad_72 rfl ?_
            refine g_goto 78 dX0_toldBad_73 (by decide) ?_
            refine g_iret rfl (Nat.le_refl _) (Nat.le_refl _) ?_ dX0_toldBad_78
            exact xQ.of (by unfold toldW; rw [hW, if_neg h2, if_pos h3, if_pos rfl, if_neg (by rw [← h31]; exact c3)]) rfl
        · have h3 : ¬ A 16 t ≤ A 16 s := by rw [← b2, ← a2]; exact c2
          refine g_bipush (-2) dX0_toldBad_61 rfl ?_
          refine g_iret rfl (Nat.le_refl _) (Nat.le_refl _) ?_ dX0_toldBad_63
          exact xQ.of (by unfold toldW; rw [hW, if_neg h2, if_neg h3, if_neg (by decide)]) rfl
      · have h2 : A 15 t = -1 := (sort_neg b5).mp (by rw [← b1]; exact Int32.not_le.mp c1)
        refine g_bipush (-11) dX0_toldBad_37 rfl ?_
        refine g_iret rfl (Nat.le_refl _) (Nat.le_refl _) ?_ dX0_toldBad_39
        exact xQ.of (by unfold toldW; rw [hW, if_pos h2, if_neg (by decide)]) rfl
    · have hW : twoW A s (nI t) = seasF A s := by unfold twoW; rw [if_neg (by rw [h1]; decide), if_neg hb]
      refine g_iload_n dX0_toldBad_0 rfl ?_
      refine gs_calli (n := 1) (x_isSheet ) (lw_S q1147 q1148 q68 q1149) (by decide +kernel) rfl rfl (by decide) ⟨Nat.le_refl _, Nat.le_refl _⟩ (Nat.le_of_ble_eq_true rfl) dX0_toldBad_1 ?_
      refine g_if_ne 10 dX0_toldBad_4 (by decide) (fun _ => ?_) (fun h9 => absurd h9 (by rw [h1]; decide))
      refine g_aload_n dX0_toldBad_10 rfl ?_
      refine g_iload_n dX0_toldBad_11 rfl ?_
      refine gx_calli (n := 1) (x_seasonBad hS) (lw_V q1143 q1145 qs28 q68 q1146) (by decide +kernel) rfl rfl (by decide) ⟨Nat.le_refl _, Nat.le_refl _⟩ (Nat.le_of_ble_eq_true rfl) dX0_toldBad_12 (fun nm => ?_)
      refine g_istore (L' := [(4, _), (0, _), (1, _), (2, _), (3, _)]) dX0_toldBad_15 (by decide) rfl ?_
      refine g_iload dX0_toldBad_17 rfl ?_
      refine g_if_eq 25 dX0_toldBad_19 (by decide) (fun h9 => absurd h9 hb) (fun _ => ?_)
      refine g_iload dX0_toldBad_22 rfl ?_
      refine g_iret rfl (Nat.le_refl _) (Nat.le_refl _) ?_ dX0_toldBad_24
      exact xQ.of (by unfold toldW; rw [hW, if_neg hb]) rfl
theorem xl_season {s p m : Nat} {fc : Nat → Int32} {bad w : Int32} {Q : Option Value → Om → Nat → Prop} {cE : Cr} {xE : Int32} {e : En} (hN : gN g ≤ b) (hg : gW g) (hF : gF g) (hE : XE g b Fx ea tx ω0 e) (hp : p < e.1) (hs : s < 4) (hm : m ≤ 40) (h50 : Fx (50 + s) = nI m) (hfc : ∀ k, k < m → ∃ t, t < 16 ∧ fc k = nI t ∧ Ax (60 + s) k = nI t)
    (K : ∀ nm, GN g RX0 cX0_season 7 (some .int) 213 Q (hX g b Fx Ax cE ea tx nm ω0) z 104 [(6, .int (nI m)), (5, .int xE), (4, .int bad), (0, .ref b), (1, .int (nI s)), (2, .int (nI p)), (3, .int w)] []) :
    ∀ (f k : Nat) (c : Cr) (x : Int32) (nm : Nat → Int32), k + f = m → CO c → goL e p fc f k c x = (cE, xE) →
    GN g RX0 cX0_season 7 (some .int) 213 Q (hX g b Fx Ax c ea tx nm ω0) z 55 [(6, .int (nI k)), (5, .int x), (4, .int bad), (0, .ref b), (1, .int (nI s)), (2, .int (nI p)), (3, .int w)] [] := by
  have hn6 := hE.2.1
  intro f
  induction f with
  | zero =>
    intro k c x nm hk hC hr
    have : k = m := by omega
    subst this
    cases hr
    refine g_iload dX0_season_55 rfl ?_
    refine g_aload_n dX0_season_57 rfl ?_
    refine xg_sheets dX0_season_58 ?_
    refine g_iload_n dX0_season_61 rfl ?_
    refine xh_ld (s) (by omega) (by first | rfl | (simp only [nI, Int32.ofNat_add, Int32.ofNat_mul]; rfl) | (simp only [nI, Int32.ofNat_add, Int32.ofNat_mul]; done)) dX0_season_62 ?_
    refine xh_size (s := s) (by omega) dX0_season_63 ?_
    refine g_icmp_ge 104 dX0_season_66 (by decide) (fun _ => ?_) (fun h9 => absurd (by rw [h50]; exact nI_le (Nat.le_refl _) (by omega)) h9)
    exact K _
  | succ f ih =>
    intro k c x nm hk hC hr
    unfold goL at hr
    obtain ⟨t, ht, ef, ea'⟩ := hfc k (by omega)
    rw [ef, wth_15 ht] at hr
    refine g_iload dX0_season_55 rfl ?_
    refine g_aload_n dX0_season_57 rfl ?_
    refine xg_sheets dX0_season_58 ?_
    refine g_iload_n dX0_season_61 rfl ?_
    refine xh_ld (s) (by omega) (by first | rfl | (simp only [nI, Int32.ofNat_add, Int32.ofNat_mul]; rfl) | (simp only [nI, Int32.ofNat_add, Int32.ofNat_mul]; done)) dX0_season_62 ?_
    refine xh_size (s := s) (by omega) dX0_season_63 ?_
    refine g_icmp_ge 104 dX0_season_66 (by decide) (fun h9 => absurd h9 (by rw [h50]; exact nI_ge (by omega) (by omega))) (fun _ => ?_)
    refine g_aload_n dX0_season_69 rfl ?_
    refine g_iload_n dX0_season_70 rfl ?_
    refine g_aload_n dX0_season_71 rfl ?_
    refine xg_sheets dX0_season_72 ?_
    refine g_iload_n dX0_season_75 rfl ?_
    refine xh_ld (s) (by omega) (by first | rfl | (simp only [nI, Int32.ofNat_add, Int32.ofNat_mul]; rfl) | (simp only [nI, Int32.ofNat_add, Int32.ofNat_mul]; done)) dX0_season_76 ?_
    refine xh_cells (s := s) (by omega) dX0_season_77 ?_
    refine g_iload dX0_season_80 rfl ?_
    refine xh_get (s := s) (k) (by omega) (by omega) (by first | rfl | (simp only [nI, Int32.ofNat_add, Int32.ofNat_mul]; rfl) | (simp only [nI, Int32.ofNat_add, Int32.ofNat_mul]; done)) dX0_season_82 ?_
    rw [ea']
    refine gx_calli (n := 2) (x_landed (e := e) hN hg hF hE hC hp) (lw_V q1094 q1096 qs23 q68 q1097) (by decide +kernel) rfl rfl (by decide) ⟨Nat.le_refl _, Nat.le_refl _⟩ (Nat.le_of_ble_eq_true rfl) dX0_season_83 (fun nm => ?_)
    refine g_iconst (-1) dX0_season_86 rfl ?_
    refine g_icmp_ne 93 dX0_season_87 (by decide) (fun c1 => ?_) (fun c1 => ?_)
    · rw [if_neg c1, Int32.add_zero] at hr
      refine g_aload_n dX0_season_93 rfl ?_
      refine gx_calli (n := 0) (x_washes (n := e.1) hN hE.1 hn6 (hC.land (by omega) ht)) (lw_V q1117 q1119 qs26 q68 q1120) (by decide +kernel) rfl rfl (by decide) ⟨Nat.le_refl _, Nat.le_refl _⟩ (Nat.le_of_ble_eq_true rfl) dX0_season_94 (fun nm => ?_)
      refine g_pop dX0_season_97 rfl ?_
      refine g_iinc (nI (k + 1)) (L' := [(6, _), (5, _), (4, _), (0, _), (1, _), (2, _), (3, _)]) dX0_season_98 rfl (nI_1 _) (by decide) rfl ?_
      refine g_goto 55 dX0_season_101 (by decide) ?_
      exact ih (k + 1) _ _ _ (by omega) (hC.go (by omega) ht hn6) hr
    · rw [if_pos c1] at hr
      refine g_iinc _ (L' := [(5, _), (6, _), (4, _), (0, _), (1, _), (2, _), (3, _)]) dX0_season_90 rfl rfl (by decide) rfl ?_
      refine g_aload_n dX0_season_93 rfl ?_
      refine gx_calli (n := 0) (x_washes (n := e.1) hN hE.1 hn6 (hC.land (by omega) ht)) (lw_V q1117 q1119 qs26 q68 q1120) (by decide +kernel) rfl rfl (by decide) ⟨Nat.le_refl _, Nat.le_refl _⟩ (Nat.le_of_ble_eq_true rfl) dX0_season_94 (fun nm => ?_)
      refine g_pop dX0_season_97 rfl ?_
      refine g_iinc (nI (k + 1)) (L' := [(6, _), (5, _), (4, _), (0, _), (1, _), (2, _), (3, _)]) dX0_season_98 rfl (nI_1 _) (by decide) rfl ?_
      refine g_goto 55 dX0_season_101 (by decide) ?_
      exact ih (k + 1) _ _ _ (by omega) (hC.go (by omega) ht hn6) hr
theorem go_eq {e : En} {p m s : Nat} {w : Int32} (hS : ShR A Fx Ax) (hs : s < 4) (hm : m ≤ 40) (h16 : A 16 s = nI m) (hb : swL (shf A s) m 0 = 0) : ∀ k, k < m → ∃ t, t < 16 ∧ shf A s k = nI t ∧ Ax (60 + s) k = nI t := by
  intro k hk
  obtain ⟨t, ht, e⟩ := sw_ok m 0 hb k (by omega) (by omega)
  obtain ⟨-, -, a3, -⟩ := hS s hs
  exact ⟨t, ht, e, by rw [a3 k (by omega)]; exact e⟩
theorem seas_s {s : Int32} (hS : ShR A Fx Ax) (hb : seasF A s = 0) : ∃ s' m, s' < 4 ∧ s = nI s' ∧ m ≤ 40 ∧ A 16 s' = nI m ∧ Fx (50 + s') = nI m ∧ swL (shf A s') m 0 = 0 := by
  have hs0 : ¬ inI s 0 3 = 0 := fun h => by unfold seasF at hb; rw [if_pos h] at hb; exact absurd hb (by decide)
  obtain ⟨s, hs, rfl⟩ := in_ix (hi := 3) (m := 3) (by decide) hs0
  obtain ⟨a1, a2, a3, ⟨m, hm, a4⟩, a5, a6⟩ := hS s (by omega)
  refine ⟨s, m, by omega, rfl, hm, a4, a2.trans a4, ?_⟩
  unfold seasF at hb
  rw [if_neg hs0, show cn (nI s) = s from nI_clamp (by omega), a4, show cn (nI m) = m from nI_clamp (by omega)] at hb
  by_cases h : A 15 s = -1
  · rw [if_pos h] at hb; exact absurd hb (by decide)
  · rw [if_neg h] at hb; exact hb
theorem x_season {s p w : Int32} (hN : gN g ≤ b) (hg : gW g) (hF : gF g) (h0 : F 0 = nI n) (hE : XE g b Fx ea tx ω0 (eM A n ts)) (hC : CO c) (hS : ShR A Fx Ax) : Ct g yX0_season cX0_season 7 (some .int) 213 0 0 [.ref b, .int s, .int p, .int w] (hX g b Fx Ax c ea tx nm ω0) z (fun v' ω' z' => v' = some (.int (seasonF F A n ts c s p w).1) ∧ z' = z ∧ ∃ nm k8, ω' = hX g b Fx (sA Ax 8 k8) c ea tx nm ω0) := by
  have hn : Fx 31 = nI n := hE.1
  have hn6 : n ≤ 6 := hE.2.1
  have h31 : Fx 31 = F 0 := hn.trans h0.symm
  refine Ct.at (own := RX0) (by decide) rfl (Nat.le_of_ble_eq_true rfl) rfl ?_
  by_cases hb : seasF A s = 0
  · obtain ⟨s, m, hs, rfl, hm, h16, h50, hsw⟩ := seas_s hS hb
    have hcs : cn (nI s) = s := nI_clamp (by omega)
    rcases one_or p hn hn6 with h1 | ⟨p, hp, rfl, h1⟩
    · refine g_aload_n dX0_season_0 rfl ?_
      refine g_iload_n dX0_season_1 rfl ?_
      refine gx_calli (n := 1) (x_seasonBad hS) (lw_V q1143 q1145 qs28 q68 q1146) (by decide +kernel) rfl rfl (by decide) ⟨Nat.le_refl _, Nat.le_refl _⟩ (Nat.le_of_ble_eq_true rfl) dX0_season_2 (fun nm => ?_)
      refine g_istore (L' := [(4, _), (0, _), (1, _), (2, _), (3, _)]) dX0_season_5 (by decide) rfl ?_
      refine g_iload dX0_season_7 rfl ?_
      refine g_if_eq 15 dX0_season_9 (by decide) (fun _ => ?_) (fun h9 => absurd hb h9)
      refine g_aload_n dX0_season_15 rfl ?_
      refine g_iload_n dX0_season_16 rfl ?_
      refine gd_callr (n := 1) (x_isOne hn hn6) (lw_V q761 q763 qs13 q68 q764) (by decide +kernel) (ci := 0) rfl hX_0 rfl rfl (by decide) ⟨Nat.le_refl _, Nat.le_refl _⟩ (Nat.le_of_ble_eq_true rfl) dX0_season_17 ?_
      refine g_if_ne 26 dX0_season_20 (by decide) (fun h9 => absurd h1 h9) (fun _ => ?_)
      refine g_bipush (-5) dX0_season_23 rfl ?_
      refine g_iret rfl (Nat.le_refl _) (Nat.le_refl _) ?_ dX0_season_25
      have h1' : inI p 0 (F 0 - 1) = 0 := by rw [← h31]; exact h1
      refine ⟨?_, rfl, _, Ax 8, by rw [sA_self]⟩
      unfold seasonF oneW
      rw [if_pos hb, if_pos h1', if_neg (by decide)]
    · have h1' : ¬ inI (nI p) 0 (F 0 - 1) = 0 := by rw [← h31, h1]; decide
      have hcp : cn (nI p) = p := nI_clamp (by omega)
      have hoW : oneW F A (nI s) (nI p) = 0 := by unfold oneW; rw [if_pos hb, if_neg h1']
      by_cases h2 : inI w 0 4 = 0
      · refine g_aload_n dX0_season_0 rfl ?_
        refine g_iload_n dX0_season_1 rfl ?_
        refine gx_calli (n := 1) (x_seasonBad hS) (lw_V q1143 q1145 qs28 q68 q1146) (by decide +kernel) rfl rfl (by decide) ⟨Nat.le_refl _, Nat.le_refl _⟩ (Nat.le_of_ble_eq_true rfl) dX0_season_2 (fun nm => ?_)
        refine g_istore (L' := [(4, _), (0, _), (1, _), (2, _), (3, _)]) dX0_season_5 (by decide) rfl ?_
        refine g_iload dX0_season_7 rfl ?_
        refine g_if_eq 15 dX0_season_9 (by decide) (fun _ => ?_) (fun h9 => absurd hb h9)
        refine g_aload_n dX0_season_15 rfl ?_
        refine g_iload_n dX0_season_16 rfl ?_
        refine gd_callr (n := 1) (x_isOne hn hn6) (lw_V q761 q763 qs13 q68 q764) (by decide +kernel) (ci := 0) rfl hX_0 rfl rfl (by decide) ⟨Nat.le_refl _, Nat.le_refl _⟩ (Nat.le_of_ble_eq_true rfl) dX0_season_17 ?_
        refine g_if_ne 26 dX0_season_20 (by decide) (fun _ => ?_) (fun h9 => absurd h9 (by rw [h1]; decide))
        refine g_iload_n dX0_season_26 rfl ?_
        refine g_i2l dX0_season_27 ?_
        refine g_lconst 0 dX0_season_28 rfl ?_
        refine g_ldc2 q1150 dX0_season_29 ?_
        refine gs_calli (n := 3) (x_inI (lo := 0) (hi := 4) (by decide) (by decide)) (lw_S q753 q280 q68 q281) (by decide +kernel) rfl rfl (by decide) ⟨Nat.le_refl _, Nat.le_refl _⟩ (Nat.le_of_ble_eq_true rfl) dX0_season_32 ?_
        refine g_if_ne 41 dX0_season_35 (by decide) (fun h9 => absurd h2 h9) (fun _ => ?_)
        refine g_bipush (-7) dX0_season_38 rfl ?_
        refine g_iret rfl (Nat.le_refl _) (Nat.le_refl _) ?_ dX0_season_40
        refine ⟨?_, rfl, _, Ax 8, by rw [sA_self]⟩
        unfold seasonF
        rw [if_pos hoW, if_pos h2]
      · have hV : (seasonF F A n ts c (nI s) (nI p) w).1 = seasV (goL (eM A n ts) p (shf A s) m 0 c 0) p w := by
          unfold seasonF goF
          rw [if_pos hoW, if_neg h2, hcs, hcp, h16, show cn (nI m) = m from nI_clamp (by omega)]
        rw [hV]
        refine g_aload_n dX0_season_0 rfl ?_
        refine g_iload_n dX0_season_1 rfl ?_
        refine gx_calli (n := 1) (x_seasonBad hS) (lw_V q1143 q1145 qs28 q68 q1146) (by decide +kernel) rfl rfl (by decide) ⟨Nat.le_refl _, Nat.le_refl _⟩ (Nat.le_of_ble_eq_true rfl) dX0_season_2 (fun nm => ?_)
        refine g_istore (L' := [(4, _), (0, _), (1, _), (2, _), (3, _)]) dX0_season_5 (by decide) rfl ?_
        refine g_iload dX0_season_7 rfl ?_
        refine g_if_eq 15 dX0_season_9 (by decide) (fun _ => ?_) (fun h9 => absurd hb h9)
        refine g_aload_n dX0_season_15 rfl ?_
        refine g_iload_n dX0_season_16 rfl ?_
        refine gd_callr (n := 1) (x_isOne hn hn6) (lw_V q761 q763 qs13 q68 q764) (by decide +kernel) (ci := 0) rfl hX_0 rfl rfl (by decide) ⟨Nat.le_refl _, Nat.le_refl _⟩ (Nat.le_of_ble_eq_true rfl) dX0_season_17 ?_
        refine g_if_ne 26 dX0_season_20 (by decide) (fun _ => ?_) (fun h9 => absurd h9 (by rw [h1]; decide))
        refine g_iload_n dX0_season_26 rfl ?_
        refine g_i2l dX0_season_27 ?_
        refine g_lconst 0 dX0_season_28 rfl ?_
        refine g_ldc2 q1150 dX0_season_29 ?_
        refine gs_calli (n := 3) (x_inI (lo := 0) (hi := 4) (by decide) (by decide)) (lw_S q753 q280 q68 q281) (by decide +kernel) rfl rfl (by decide) ⟨Nat.le_refl _, Nat.le_refl _⟩ (Nat.le_of_ble_eq_true rfl) dX0_season_32 ?_
        refine g_if_ne 41 dX0_season_35 (by decide) (fun _ => ?_) (fun h9 => absurd h9 h2)
        refine g_aload_n dX0_season_41 rfl ?_
        refine g_aload_n dX0_season_42 rfl ?_
        refine xg_aside dX0_season_43 ?_
        refine gx_callv (n := 1) (x_copies (ra := 6) (fi := 8) row_aside hN) (lw_V q1151 q1153 qs29 q68 q1154) (by decide +kernel) rfl rfl (by decide) ⟨Nat.le_refl _, Nat.le_refl _⟩ (Nat.le_of_ble_eq_true rfl) dX0_season_46 (fun nm => ?_)
        refine g_iconst (0) dX0_season_49 rfl ?_
        refine g_istore (L' := [(5, _), (4, _), (0, _), (1, _), (2, _), (3, _)]) dX0_season_50 (by decide) rfl ?_
        refine g_iconst (0) dX0_season_52 rfl ?_
        refine g_istore (L' := [(6, _), (5, _), (4, _), (0, _), (1, _), (2, _), (3, _)]) dX0_season_53 (by decide) rfl ?_
        refine xl_season (s := s) (p := p) (m := m) (fc := shf A s) (e := eM A n ts) hN hg hF hE hp hs hm h50 (fun k hk => ?_) (fun nm => ?_) m 0 c 0 _ (by omega) hC rfl
        · obtain ⟨t, ht, e1, e2⟩ := go_eq (e := eM A n ts) (p := p) (w := w) hS hs hm h16 hsw k hk
          exact ⟨t, ht, e1, by rw [sA_ne _ _ (by omega)]; exact e2⟩
        · have hCE : CO (goL (eM A n ts) p (shf A s) m 0 c 0).1 := CO.goA hC (by omega) hn6 (fun k hk => by obtain ⟨t, ht, e1, e2⟩ := go_eq (e := eM A n ts) (p := p) (w := w) hS hs hm h16 hsw k (by omega); exact ⟨t, ht, e1⟩) 
          refine g_iload_n dX0_season_104 rfl ?_
          refine g_if_ne 120 dX0_season_105 (by decide) (fun c1 => ?_) (fun c1 => ?_)
          · refine g_iload_n dX0_season_120 rfl ?_
            refine g_iconst (1) dX0_season_121 rfl ?_
            refine g_icmp_ne 134 dX0_season_122 (by decide) (fun c2 => ?_) (fun c2 => ?_)
            · refine g_iload_n dX0_season_134 rfl ?_
              refine g_iconst (2) dX0_season_135 rfl ?_
              refine g_icmp_ne 146 dX0_season_136 (by decide) (fun c3 => ?_) (fun c3 => ?_)
              · refine g_iload_n dX0_season_146 rfl ?_
                refine g_iconst (3) dX0_season_147 rfl ?_
                refine g_icmp_ne 156 dX0_season_148 (by decide) (fun c4 => ?_) (fun c4 => ?_)
                · refine g_aload_n dX0_season_156 rfl ?_
                  refine xg_keeps dX0_season_157 ?_
                  refine g_iload_n dX0_season_160 rfl ?_
                  refine xl_keeps (p) (by omega) (by first | rfl | (simp only [nI, Int32.ofNat_add, Int32.ofNat_mul]; rfl) | (simp only [nI, Int32.ofNat_add, Int32.ofNat_mul]; done)) dX0_season_161 ?_
                  refine g_aload_n dX0_season_162 rfl ?_
                  refine xg_knows dX0_season_163 ?_
                  refine g_iload_n dX0_season_166 rfl ?_
                  refine xl_knows (p) (by omega) (by first | rfl | (simp only [nI, Int32.ofNat_add, Int32.ofNat_mul]; rfl) | (simp only [nI, Int32.ofNat_add, Int32.ofNat_mul]; done)) dX0_season_167 ?_
                  refine g_iconst (-1) dX0_season_168 rfl ?_
                  refine g_ixor dX0_season_169 ?_
                  refine g_iand dX0_season_170 ?_
                  refine g_istore (L' := [(6, _), (5, _), (4, _), (0, _), (1, _), (2, _), (3, _)]) dX0_season_171 (by decide) rfl ?_
                  refine g_aload_n dX0_season_173 rfl ?_
                  refine g_aload_n dX0_season_174 rfl ?_
                  refine xg_aside dX0_season_175 ?_
                  refine gx_callv (n := 1) (x_copiesBack (ra := 6) (fi := 8) (f0 := Ax 8) (c0 := c) row_aside hN (sA_same _ _ _) (hi_goL (by omega) hn6 _ _ _ _)) (lw_V q1156 q1158 qs30 q68 q1159) (by decide +kernel) rfl rfl (by decide) ⟨Nat.le_refl _, Nat.le_refl _⟩ (Nat.le_of_ble_eq_true rfl) dX0_season_178 (fun nm => ?_)
                  refine g_iload dX0_season_181 rfl ?_
                  refine g_iret rfl (Nat.le_refl _) (Nat.le_refl _) ?_ dX0_season_183
                  refine ⟨congrArg (fun x => some (Value.int x)) ?_, rfl, _, _, rfl⟩; unfold seasV; first | (rw [if_pos (by assumption), bc16 (hCE.1 p (by omega))]; done) | (simp_all; done)
                · refine g_iload dX0_season_151 rfl ?_
                  refine g_goto 171 dX0_season_153 (by decide) ?_
                  refine g_istore (L' := [(6, _), (5, _), (4, _), (0, _), (1, _), (2, _), (3, _)]) dX0_season_171 (by decide) rfl ?_
                  refine g_aload_n dX0_season_173 rfl ?_
                  refine g_aload_n dX0_season_174 rfl ?_
                  refine xg_aside dX0_season_175 ?_
                  refine gx_callv (n := 1) (x_copiesBack (ra := 6) (fi := 8) (f0 := Ax 8) (c0 := c) row_aside hN (sA_same _ _ _) (hi_goL (by omega) hn6 _ _ _ _)) (lw_V q1156 q1158 qs30 q68 q1159) (by decide +kernel) rfl rfl (by decide) ⟨Nat.le_refl _, Nat.le_refl _⟩ (Nat.le_of_ble_eq_true rfl) dX0_season_178 (fun nm => ?_)
                  refine g_iload dX0_season_181 rfl ?_
                  refine g_iret rfl (Nat.le_refl _) (Nat.le_refl _) ?_ dX0_season_183
                  refine ⟨congrArg (fun x => some (Value.int x)) ?_, rfl, _, _, rfl⟩; unfold seasV; first | (rw [if_pos (by assumption), bc16 (hCE.1 p (by omega))]; done) | (simp_all; done)
              · refine g_aload_n dX0_season_139 rfl ?_
                refine xg_sea dX0_season_140 ?_
                refine g_goto 171 dX0_season_143 (by decide) ?_
                refine g_istore (L' := [(6, _), (5, _), (4, _), (0, _), (1, _), (2, _), (3, _)]) dX0_season_171 (by decide) rfl ?_
                refine g_aload_n dX0_season_173 rfl ?_
                refine g_aload_n dX0_season_174 rfl ?_
                refine xg_aside dX0_season_175 ?_
                refine gx_callv (n := 1) (x_copiesBack (ra := 6) (fi := 8) (f0 := Ax 8) (c0 := c) row_aside hN (sA_same _ _ _) (hi_goL (by omega) hn6 _ _ _ _)) (lw_V q1156 q1158 qs30 q68 q1159) (by decide +kernel) rfl rfl (by decide) ⟨Nat.le_refl _, Nat.le_refl _⟩ (Nat.le_of_ble_eq_true rfl) dX0_season_178 (fun nm => ?_)
                refine g_iload dX0_season_181 rfl ?_
                refine g_iret rfl (Nat.le_refl _) (Nat.le_refl _) ?_ dX0_season_183
                refine ⟨congrArg (fun x => some (Value.int x)) ?_, rfl, _, _, rfl⟩; unfold seasV; first | (rw [if_pos (by assumption), bc16 (hCE.1 p (by omega))]; done) | (simp_all; done)
            · refine g_aload_n dX0_season_125 rfl ?_
              refine xg_luck dX0_season_126 ?_
              refine g_iload_n dX0_season_129 rfl ?_
              refine xl_luck (p) (by omega) (by first | rfl | (simp only [nI, Int32.ofNat_add, Int32.ofNat_mul]; rfl) | (simp only [nI, Int32.ofNat_add, Int32.ofNat_mul]; done)) dX0_season_130 ?_
              refine g_goto 171 dX0_season_131 (by decide) ?_
              refine g_istore (L' := [(6, _), (5, _), (4, _), (0, _), (1, _), (2, _), (3, _)]) dX0_season_171 (by decide) rfl ?_
              refine g_aload_n dX0_season_173 rfl ?_
              refine g_aload_n dX0_season_174 rfl ?_
              refine xg_aside dX0_season_175 ?_
              refine gx_callv (n := 1) (x_copiesBack (ra := 6) (fi := 8) (f0 := Ax 8) (c0 := c) row_aside hN (sA_same _ _ _) (hi_goL (by omega) hn6 _ _ _ _)) (lw_V q1156 q1158 qs30 q68 q1159) (by decide +kernel) rfl rfl (by decide) ⟨Nat.le_refl _, Nat.le_refl _⟩ (Nat.le_of_ble_eq_true rfl) dX0_season_178 (fun nm => ?_)
              refine g_iload dX0_season_181 rfl ?_
              refine g_iret rfl (Nat.le_refl _) (Nat.le_refl _) ?_ dX0_season_183
              refine ⟨congrArg (fun x => some (Value.int x)) ?_, rfl, _, _, rfl⟩; unfold seasV; first | (rw [if_pos (by assumption), bc16 (hCE.1 p (by omega))]; done) | (simp_all; done)
          · refine g_aload_n dX0_season_108 rfl ?_
            refine xg_knows dX0_season_109 ?_
            refine g_iload_n dX0_season_112 rfl ?_
            refine xl_knows (p) (by omega) (by first | rfl | (simp only [nI, Int32.ofNat_add, Int32.ofNat_mul]; rfl) | (simp only [nI, Int32.ofNat_add, Int32.ofNat_mul]; done)) dX0_season_113 ?_
            refine gs_calli (n := 1) (j_bitCount ) (lw_S q743 q744 q94 q745) (by decide +kernel) rfl rfl (by decide) ⟨Nat.le_refl _, Nat.le_refl _⟩ (Nat.le_of_ble_eq_true rfl) dX0_season_114 ?_
            refine g_goto 171 dX0_season_117 (by decide) ?_
            refine g_istore (L' := [(6, _), (5, _), (4, _), (0, _), (1, _), (2, _), (3, _)]) dX0_season_171 (by decide) rfl ?_
            refine g_aload_n dX0_season_173 rfl ?_
            refine g_aload_n dX0_season_174 rfl ?_
            refine xg_aside dX0_season_175 ?_
            refine gx_callv (n := 1) (x_copiesBack (ra := 6) (fi := 8) (f0 := Ax 8) (c0 := c) row_aside hN (sA_same _ _ _) (hi_goL (by omega) hn6 _ _ _ _)) (lw_V q1156 q1158 qs30 q68 q1159) (by decide +kernel) rfl rfl (by decide) ⟨Nat.le_refl _, Nat.le_refl _⟩ (Nat.le_of_ble_eq_true rfl) dX0_season_178 (fun nm => ?_)
            refine g_iload dX0_season_181 rfl ?_
            refine g_iret rfl (Nat.le_refl _) (Nat.le_refl _) ?_ dX0_season_183
            refine ⟨congrArg (fun x => some (Value.int x)) ?_, rfl, _, _, rfl⟩; unfold seasV; first | (rw [if_pos (by assumption), bc16 (hCE.1 p (by omega))]; done) | (simp_all; done)
  · have hs' : (seasonF F A n ts c s p w).1 = seasF A s := by unfold seasonF oneW; rw [if_neg hb, if_neg hb]
    rw [hs']
    refine g_aload_n dX0_season_0 rfl ?_
    refine g_iload_n dX0_season_1 rfl ?_
    refine gx_calli (n := 1) (x_seasonBad hS) (lw_V q1143 q1145 qs28 q68 q1146) (by decide +kernel) rfl rfl (by decide) ⟨Nat.le_refl _, Nat.le_refl _⟩ (Nat.le_of_ble_eq_true rfl) dX0_season_2 (fun nm => ?_)
    refine g_istore (L' := [(4, _), (0, _), (1, _), (2, _), (3, _)]) dX0_season_5 (by decide) rfl ?_
    refine g_iload dX0_season_7 rfl ?_
    refine g_if_eq 15 dX0_season_9 (by decide) (fun h9 => absurd h9 hb) (fun _ => ?_)
    refine g_iload dX0_season_12 rfl ?_
    refine g_iret rfl (Nat.le_refl _) (Nat.le_refl _) ?_ dX0_season_14
    exact ⟨rfl, rfl, _, Ax 8, by rw [sA_self]⟩
end A
