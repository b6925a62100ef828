/-! the reference: what is best, when, shares, talk -/
set_option maxRecDepth 100000
theorem G.mono {g : GE} {own : String} {cc : ByteArray} {nL : Nat} {ret : Option FieldType} {XT : Method → Code → Prop} {rm : Room} {cells slots mc ms : Nat} {ω : Om} {z pc : Nat} {L : List (Nat × Value)} {S : List Value} {Q Q' : Option Value → Om → Nat → Prop} (h : ∀ v ω z, Q v ω z → Q' v ω z) (hG : G g own cc nL ret XT rm (zN g Q mc ms) cells slots ω z pc L S) : G g own cc nL ret XT rm (zN g Q' mc ms) cells slots ω z pc L S := by
  intro p e s m args below meth c H locs ls a1 a2 a3 a4 a5 a6 T hT X
  obtain ⟨t, s1, o, b1, b2, b3, b4⟩ := hG p e s m args below meth c H locs ls a1 a2 a3 a4 a5 a6 T hT X
  obtain ⟨v, ω', z', e1, q, r⟩ := b3
  exact ⟨t, s1, o, b1, b2, ⟨v, ω', z', e1, h _ _ _ q, r⟩, b4⟩
theorem mQ.toK {g : GE} {b : Nat} {ω0 : Om} {z : Nat} {r : Int32} {F : Nat → Int32} {A : Nat → Nat → Int32} {c : Cr} {k : Nat → Int32} : ∀ v ω z', mQ g b ω0 z (some (.int r)) (mF F c) (mA (sA A 30 k) c) v ω z' → mK g b ω0 z (r, F, A, c) v ω z' := by
  rintro v ω z' ⟨h1, h2, A2, h3⟩
  exact ⟨h1, h2, A2, k, h3⟩
section D
variable (F : Nat → Int32) (A : Nat → Nat → Int32) (n : Nat) (ts : Nat → List Int32) (c : Cr)
def whiL (e : En) (c : Cr) (p : Nat) : Nat → Nat → Int32 → Int32 → Int32 × Int32
  | 0, _, x, y => (x, y)
  | m + 1, t, x, y => if sb (c.1 (3 * p + 1)) t = 0 then (if x = -1 ∨ ¬ wthn (c.1 (3 * p + 2) + lucksF e c p (nI t)) 0 99 ≤ y then whiL e c p m (t + 1) (nI t) (wthn (c.1 (3 * p + 2) + lucksF e c p (nI t)) 0 99) else whiL e c p m (t + 1) x y) else whiL e c p m (t + 1) x y
def whichF (p w : Int32) : R4 := (if inI p 0 (F 0 - 1) = 0 then -5 else if inI w 0 1 = 0 then -7 else if w = 0 then (whiL (eM A n ts) c (cn p) 16 0 (-1) (c.1 (3 * cn p + 2))).1 else (whiL (eM A n ts) c (cn p) 16 0 (-1) (c.1 (3 * cn p + 2))).2, F, A, c)
def tauX (c : Cr) (p : Nat) (tk : Int32) (q : Nat) : Int32 := let x := if nI q = nI p then 0 else bits (c.1 (3 * q) &&& (c.1 (3 * p) ^^^ -1)); if tk ≤ x then tk else x
def tauL (c : Cr) (p : Nat) (tk : Int32) : Nat → Nat → Int32 → Int32 → Int32 × Int32
  | 0, _, x, y => (x, y)
  | m + 1, q, x, y => if tauX c p tk q ≤ y then tauL c p tk m (q + 1) x y else tauL c p tk m (q + 1) (nI q) (tauX c p tk q)
def taughtF (p w : Int32) : R4 := (if inI p 0 (F 0 - 1) = 0 then -5 else if inI w 0 1 = 0 then -7 else if w = 0 then (tauL c (cn p) (takesF (eM A n ts) c (cn p)) n 0 (-1) 0).1 else (tauL c (cn p) (takesF (eM A n ts) c (cn p)) n 0 (-1) 0).2, F, A, c)
def nowL (R : Nat → Int32) (w : Int32) : Nat → Nat → Int32
  | 0, _ => 0
  | m + 1, p => if (R (3 * p) >>> (w &&& 31)) &&& 1 = 1 then 1 else nowL R w m (p + 1)
def nowF (n : Nat) (c : Cr) (w : Int32) : Int32 := if w = -1 then (if c.2.1 = 0 then 1 else 0) else nowL c.1 w n 0
def whnL (n : Nat) (w : Int32) : Nat → Nat → Cr → Int32
  | 0, _, _ => -1
  | m + 1, k, c => if nowF n c w = 0 then whnL n w m (k + 1) (tideC n c) else nI k
def whenF (w : Int32) : R4 := if inI w (-1) 15 = 0 then (-2, F, A, c) else (whnL n w 61 0 c, F, A, c)
def talL (R : Nat → Int32) (so : Int32) : Nat → Nat → Int32 → Int32 → Int32 → Int32 × Int32 × Int32
  | 0, _, a, o, t => (a, o, t)
  | m + 1, p, a, o, t => if sb so p = 1 then talL R so m (p + 1) (a &&& R (3 * p)) (o ||| R (3 * p)) (t ||| (o &&& R (3 * p))) else talL R so m (p + 1) a o t
def talV (w : Int32) (x : Int32 × Int32 × Int32) : Int32 := if w = 0 then x.1 else if w = 1 then x.2.1 else if w = 2 then 65535 &&& (x.2.1 ^^^ -1) else x.2.1 &&& (x.2.2 ^^^ -1)
def talkF (so w : Int32) : R4 := (if inI so 0 (one (F 0) - 1) = 0 ∨ inI w 0 3 = 0 then -2 else talV w (talL c.1 so n 0 65535 0 0), F, A, c)
end D
section A
variable {g : GE} {b z n : Nat} {F : Nat → Int32} {A A2 : Nat → Nat → Int32} {ω0 : Om} {ts : Nat → List Int32} {c c0 : Cr} {f0 : Nat → Int32}
theorem l_which {p : Nat} {rx ry w : Int32} (hN : gN g ≤ b) (hE : EnM F A n ts) (hp : p < 6) :
    ∀ (f t : Nat) (x y : Int32) (A2 : Nat → Nat → Int32), t + f = 16 → whiL (eM A n ts) c p f t x y = (rx, ry) → GN g RX7 cX7_which 8 (some .int) 5 (mP g b ω0 z (if w = 0 then rx else ry, F, A, c)) (hM g b (mF F c) (mA A c) A2 ω0) z 40 [(5, .int (nI t)), (4, .int y), (3, .int x), (0, .ref b), (1, .int (nI p)), (2, .int w)] [] := by
  intro f
  induction f with
  | zero =>
    intro t x y A2 ht hr
    have ht : t = 16 := by omega
    subst ht; cases hr
    refine g_iload dX7_which_40 rfl ?_
    refine g_bipush (16) dX7_which_42 rfl ?_
    refine g_icmp_ge 142 dX7_which_44 (by decide) (fun _ => ?_) (fun h9 => absurd (by decide) h9)
    refine g_iload_n dX7_which_142 rfl ?_
    refine g_if_ne 150 dX7_which_143 (by decide) (fun c1 => ?_) (fun c1 => ?_)
    · refine g_iload dX7_which_150 rfl ?_
      refine g_iret rfl (Nat.le_refl _) (Nat.le_refl _) ?_ dX7_which_152
      first | exact mP.of (by rw [if_pos c1]) | exact mP.of (by rw [if_neg c1])
    · refine g_iload_n dX7_which_146 rfl ?_
      refine g_goto 152 dX7_which_147 (by decide) ?_
      refine g_iret rfl (Nat.le_refl _) (Nat.le_refl _) ?_ dX7_which_152
      first | exact mP.of (by rw [if_pos c1]) | exact mP.of (by rw [if_neg c1])
  | succ f ih =>
    intro t x y A2 ht hr
    unfold whiL sb at hr
    refine g_iload dX7_which_40 rfl ?_
    refine g_bipush (16) dX7_which_42 rfl ?_
    refine g_icmp_ge 142 dX7_which_44 (by decide) (fun h9 => absurd h9 (nI_ge (b := 16) (by omega) (by decide))) (fun _ => ?_)
    refine g_aload_n dX7_which_47 rfl ?_
    refine mg_rows dX7_which_48 ?_
    refine g_iconst (3) dX7_which_51 rfl ?_
    refine g_iload_n dX7_which_52 rfl ?_
    refine g_imul dX7_which_53 ?_
    refine g_iconst (1) dX7_which_54 rfl ?_
    refine g_iadd dX7_which_55 ?_
    refine mlc_rows (((3 * p) + 1)) (by omega) (by first | rfl | (simp only [nI, Int32.ofNat_add, Int32.ofNat_mul]; rfl) | (simp only [nI, Int32.ofNat_add, Int32.ofNat_mul]; done)) dX7_which_56 ?_
    refine g_iload dX7_which_57 rfl ?_
    refine g_ishr dX7_which_59 ?_
    refine g_iconst (1) dX7_which_60 rfl ?_
    refine g_iand dX7_which_61 ?_
    refine g_if_ne 136 dX7_which_62 (by decide) (fun c1 => ?_) (fun c1 => ?_)
    · rw [if_neg c1] at hr
      refine g_iinc (nI (t + 1)) (L' := [(5, _), (4, _), (3, _), (0, _), (1, _), (2, _)]) dX7_which_136 rfl (nI_1 _) (by decide) rfl ?_
      refine g_goto 40 dX7_which_139 (by decide) ?_
      exact ih (t + 1) _ _ _ (by omega) hr
    · rw [if_pos c1] at hr
      refine g_aload_n dX7_which_65 rfl ?_
      refine mg_rows dX7_which_66 ?_
      refine g_iconst (3) dX7_which_69 rfl ?_
      refine g_iload_n dX7_which_70 rfl ?_
      refine g_imul dX7_which_71 ?_
      refine g_iconst (2) dX7_which_72 rfl ?_
      refine g_iadd dX7_which_73 ?_
      refine mlc_rows (((3 * p) + 2)) (by omega) (by first | rfl | (simp only [nI, Int32.ofNat_add, Int32.ofNat_mul]; rfl) | (simp only [nI, Int32.ofNat_add, Int32.ofNat_mul]; done)) dX7_which_74 ?_
      refine g_aload_n dX7_which_75 rfl ?_
      refine g_iload_n dX7_which_76 rfl ?_
      refine g_iload dX7_which_77 rfl ?_
      refine gm_calli (n := 2) (c_lucksOf (n := n) (ts := ts) hN hE hp) (lw_V q1623 q1625 qs51 q92 q1626) (by decide +kernel) rfl rfl (by decide) ⟨Nat.le_refl _, Nat.le_refl _⟩ (Nat.le_of_ble_eq_true rfl) dX7_which_79 (fun A2 => ?_)
      refine g_iadd dX7_which_82 ?_
      refine g_iconst (0) dX7_which_83 rfl ?_
      refine g_bipush (99) dX7_which_84 rfl ?_
      refine gs_calli (n := 3) (c_within ) (lw_S q1593 q1594 q92 q1595) (by decide +kernel) rfl rfl (by decide) ⟨Nat.le_refl _, Nat.le_refl _⟩ (Nat.le_of_ble_eq_true rfl) dX7_which_86 ?_
      refine g_istore (L' := [(6, _), (5, _), (4, _), (3, _), (0, _), (1, _), (2, _)]) dX7_which_89 (by decide) rfl ?_
      refine g_iload_n dX7_which_91 rfl ?_
      refine g_iconst (-1) dX7_which_92 rfl ?_
      refine g_icmp_eq 103 dX7_which_93 (by decide) (fun c2 => ?_) (fun c2 => ?_)
      · rw [if_pos (Or.inl c2)] at hr
        refine g_iconst (1) dX7_which_103 rfl ?_
        refine g_goto 108 dX7_which_104 (by decide) ?_
        refine g_istore (L' := [(7, _), (6, _), (5, _), (4, _), (3, _), (0, _), (1, _), (2, _)]) dX7_which_108 (by decide) rfl ?_
        refine g_iload dX7_which_110 rfl ?_
        refine g_if_eq 120 dX7_which_112 (by decide) (fun h9 => absurd h9 (by decide)) (fun _ => ?_)
        refine g_iload dX7_which_115 rfl ?_
        refine g_goto 121 dX7_which_117 (by decide) ?_
        refine g_istore_n (L' := [(3, _), (7, _), (6, _), (5, _), (4, _), (0, _), (1, _), (2, _)]) dX7_which_121 (by decide) rfl ?_
        refine g_iload dX7_which_122 rfl ?_
        refine g_if_eq 132 dX7_which_124 (by decide) (fun h9 => absurd h9 (by decide)) (fun _ => ?_)
        refine g_iload dX7_which_127 rfl ?_
        refine g_goto 134 dX7_which_129 (by decide) ?_
        refine g_istore (L' := [(4, _), (3, _), (7, _), (6, _), (5, _), (0, _), (1, _), (2, _)]) dX7_which_134 (by decide) rfl ?_
        refine g_iinc (nI (t + 1)) (L' := [(5, _), (4, _), (3, _), (7, _), (6, _), (0, _), (1, _), (2, _)]) dX7_which_136 rfl (nI_1 _) (by decide) rfl ?_
        refine g_goto 40 dX7_which_139 (by decide) ?_
        refine g_pick [0, 1, 2, 5, 6, 7] rfl ?_
        exact ih (t + 1) _ _ _ (by omega) hr
      · refine g_iload dX7_which_96 rfl ?_
        refine g_iload dX7_which_98 rfl ?_
        refine g_icmp_le 107 dX7_which_100 (by decide) (fun c3 => ?_) (fun c3 => ?_)
        · rw [if_neg (fun h => h.elim c2 (fun h => h c3))] at hr
          refine g_iconst (0) dX7_which_107 rfl ?_
          refine g_istore (L' := [(7, _), (6, _), (5, _), (4, _), (3, _), (0, _), (1, _), (2, _)]) dX7_which_108 (by decide) rfl ?_
          refine g_iload dX7_which_110 rfl ?_
          refine g_if_eq 120 dX7_which_112 (by decide) (fun _ => ?_) (fun h9 => absurd rfl h9)
          refine g_iload_n dX7_which_120 rfl ?_
          refine g_istore_n (L' := [(3, _), (7, _), (6, _), (5, _), (4, _), (0, _), (1, _), (2, _)]) dX7_which_121 (by decide) rfl ?_
          refine g_iload dX7_which_122 rfl ?_
          refine g_if_eq 132 dX7_which_124 (by decide) (fun _ => ?_) (fun h9 => absurd rfl h9)
          refine g_iload dX7_which_132 rfl ?_
          refine g_istore (L' := [(4, _), (3, _), (7, _), (6, _), (5, _), (0, _), (1, _), (2, _)]) dX7_which_134 (by decide) rfl ?_
          refine g_iinc (nI (t + 1)) (L' := [(5, _), (4, _), (3, _), (7, _), (6, _), (0, _), (1, _), (2, _)]) dX7_which_136 rfl (nI_1 _) (by decide) rfl ?_
          refine g_goto 40 dX7_which_139 (by decide) ?_
          refine g_pick [0, 1, 2, 5, 6, 7] rfl ?_
          exact ih (t + 1) _ _ _ (by omega) hr
        · rw [if_pos (Or.inr c3)] at hr
          refine g_iconst (1) dX7_which_103 rfl ?_
          refine g_goto 108 dX7_which_104 (by decide) ?_
          refine g_istore (L' := [(7, _), (6, _), (5, _), (4, _), (3, _), (0, _), (1, _), (2, _)]) dX7_which_108 (by decide) rfl ?_
          refine g_iload dX7_which_110 rfl ?_
          refine g_if_eq 120 dX7_which_112 (by decide) (fun h9 => absurd h9 (by decide)) (fun _ => ?_)
          refine g_iload dX7_which_115 rfl ?_
          refine g_goto 121 dX7_which_117 (by decide) ?_
          refine g_istore_n (L' := [(3, _), (7, _), (6, _), (5, _), (4, _), (0, _), (1, _), (2, _)]) dX7_which_121 (by decide) rfl ?_
          refine g_iload dX7_which_122 rfl ?_
          refine g_if_eq 132 dX7_which_124 (by decide) (fun h9 => absurd h9 (by decide)) (fun _ => ?_)
          refine g_iload dX7_which_127 rfl ?_
          refine g_goto 134 dX7_which_129 (by decide) ?_
          refine g_istore (L' := [(4, _), (3, _), (7, _), (6, _), (5, _), (0, _), (1, _), (2, _)]) dX7_which_134 (by decide) rfl ?_
          refine g_iinc (nI (t + 1)) (L' := [(5, _), (4, _), (3, _), (7, _), (6, _), (0, _), (1, _), (2, _)]) dX7_which_136 rfl (nI_1 _) (by decide) rfl ?_
          refine g_goto 40 dX7_which_139 (by decide) ?_
          refine g_pick [0, 1, 2, 5, 6, 7] rfl ?_
          exact ih (t + 1) _ _ _ (by omega) hr
theorem c_which {p w : Int32} (hN : gN g ≤ b) (hE : EnM F A n ts) : Ct g yX7_which cX7_which 8 (some .int) 5 0 0 [.ref b, .int p, .int w] (hM g b (mF F c) (mA A c) A2 ω0) z (mP g b ω0 z (whichF F A n ts c p w)) := by
  refine Ct.at (own := RX7) (by decide) rfl (Nat.le_of_ble_eq_true rfl) rfl ?_
  have hn6 := hE.2.1
  rcases one_or p hE.1 hn6 with h1 | ⟨p, hp, rfl, h1⟩
  · refine g_aload_n dX7_which_0 rfl ?_
    refine g_iload_n dX7_which_1 rfl ?_
    refine gm_calli (n := 1) (c_isOne ) (lw_V q1575 q1577 qs46 q92 q1578) (by decide +kernel) rfl rfl (by decide) ⟨Nat.le_refl _, Nat.le_refl _⟩ (Nat.le_of_ble_eq_true rfl) dX7_which_2 (fun A2 => ?_)
    refine g_if_ne 11 dX7_which_5 (by decide) (fun h9 => absurd h1 h9) (fun _ => ?_)
    refine g_bipush (-5) dX7_which_8 rfl ?_
    refine g_iret rfl (Nat.le_refl _) (Nat.le_refl _) ?_ dX7_which_10
    exact mP.of (by rw [whichF, if_pos h1])
  · have hcp : cn (nI p) = p := nI_clamp (by omega)
    by_cases h2 : inI w 0 1 = 0
    · refine g_aload_n dX7_which_0 rfl ?_
      refine g_iload_n dX7_which_1 rfl ?_
      refine gm_calli (n := 1) (c_isOne ) (lw_V q1575 q1577 qs46 q92 q1578) (by decide +kernel) rfl rfl (by decide) ⟨Nat.le_refl _, Nat.le_refl _⟩ (Nat.le_of_ble_eq_true rfl) dX7_which_2 (fun A2 => ?_)
      refine g_if_ne 11 dX7_which_5 (by decide) (fun _ => ?_) (fun h9 => absurd h9 (by rw [h1]; decide))
      refine g_iload_n dX7_which_11 rfl ?_
      refine g_iconst (0) dX7_which_12 rfl ?_
      refine g_iconst (1) dX7_which_13 rfl ?_
      refine gs_calli (n := 3) (c_in ) (lw_S q1405 q1406 q92 q1407) (by decide +kernel) rfl rfl (by decide) ⟨Nat.le_refl _, Nat.le_refl _⟩ (Nat.le_of_ble_eq_true rfl) dX7_which_14 ?_
      refine g_if_ne 23 dX7_which_17 (by decide) (fun h9 => absurd h2 h9) (fun _ => ?_)
      refine g_bipush (-7) dX7_which_20 rfl ?_
      refine g_iret rfl (Nat.le_refl _) (Nat.le_refl _) ?_ dX7_which_22
      exact mP.of (by rw [whichF, if_neg (by rw [h1]; decide), if_pos h2])
    · rw [whichF, if_neg (by rw [h1]; decide), if_neg h2, hcp]
      refine g_aload_n dX7_which_0 rfl ?_
      refine g_iload_n dX7_which_1 rfl ?_
      refine gm_calli (n := 1) (c_isOne ) (lw_V q1575 q1577 qs46 q92 q1578) (by decide +kernel) rfl rfl (by decide) ⟨Nat.le_refl _, Nat.le_refl _⟩ (Nat.le_of_ble_eq_true rfl) dX7_which_2 (fun A2 => ?_)
      refine g_if_ne 11 dX7_which_5 (by decide) (fun _ => ?_) (fun h9 => absurd h9 (by rw [h1]; decide))
      refine g_iload_n dX7_which_11 rfl ?_
      refine g_iconst (0) dX7_which_12 rfl ?_
      refine g_iconst (1) dX7_which_13 rfl ?_
      refine gs_calli (n := 3) (c_in ) (lw_S q1405 q1406 q92 q1407) (by decide +kernel) rfl rfl (by decide) ⟨Nat.le_refl _, Nat.le_refl _⟩ (Nat.le_of_ble_eq_true rfl) dX7_which_14 ?_
      refine g_if_ne 23 dX7_which_17 (by decide) (fun _ => ?_) (fun h9 => absurd h9 h2)
      refine g_iconst (-1) dX7_which_23 rfl ?_
      refine g_istore_n (L' := [(3, _), (0, _), (1, _), (2, _)]) dX7_which_24 (by decide) rfl ?_
      refine g_aload_n dX7_which_25 rfl ?_
      refine mg_rows dX7_which_26 ?_
      refine g_iconst (3) dX7_which_29 rfl ?_
      refine g_iload_n dX7_which_30 rfl ?_
      refine g_imul dX7_which_31 ?_
      refine g_iconst (2) dX7_which_32 rfl ?_
      refine g_iadd dX7_which_33 ?_
      refine mlc_rows (((3 * p) + 2)) (by omega) (by first | rfl | (simp only [nI, Int32.ofNat_add, Int32.ofNat_mul]; rfl) | (simp only [nI, Int32.ofNat_add, Int32.ofNat_mul]; done)) dX7_which_34 ?_
      refine g_istore (L' := [(4, _), (3, _), (0, _), (1, _), (2, _)]) dX7_which_35 (by decide) rfl ?_
      refine g_iconst (0) dX7_which_37 rfl ?_
      refine g_istore (L' := [(5, _), (4, _), (3, _), (0, _), (1, _), (2, _)]) dX7_which_38 (by decide) rfl ?_
      exact l_which hN hE (by omega) 16 0 _ _ _ (by omega) rfl
theorem l_taught {p : Nat} {rx ry w tk : Int32} (hN : gN g ≤ b) (hn : F 0 = nI n) (hn6 : n ≤ 6) (hp : p < 6) :
    ∀ (f q : Nat) (x y : Int32), q + f = n → tauL c p tk f q x y = (rx, ry) → GN g RX7 cX7_taught 8 (some .int) 5 (mP g b ω0 z (if w = 0 then rx else ry, F, A, c)) (hM g b (mF F c) (mA A c) A2 ω0) z 38 [(6, .int (nI q)), (5, .int y), (4, .int x), (3, .int tk), (0, .ref b), (1, .int (nI p)), (2, .int w)] [] := by
  intro f
  induction f with
  | zero =>
    intro q x y hq hr
    cases hr
    refine g_iload dX7_taught_38 rfl ?_
    refine g_aload_n dX7_taught_40 rfl ?_
    refine mgc_fishers dX7_taught_41 ?_
    refine g_icmp_ge 134 dX7_taught_44 (by decide) (fun _ => ?_) (fun h9 => absurd (by rw [hn]; exact nI_le (by omega) (by omega)) h9)
    refine g_iload_n dX7_taught_134 rfl ?_
    refine g_if_ne 143 dX7_taught_135 (by decide) (fun c1 => ?_) (fun c1 => ?_)
    · refine g_iload dX7_taught_143 rfl ?_
      refine g_iret rfl (Nat.le_refl _) (Nat.le_refl _) ?_ dX7_taught_145
      first | exact mP.of (by rw [if_pos c1]) | exact mP.of (by rw [if_neg c1])
    · refine g_iload dX7_taught_138 rfl ?_
      refine g_goto 145 dX7_taught_140 (by decide) ?_
      refine g_iret rfl (Nat.le_refl _) (Nat.le_refl _) ?_ dX7_taught_145
      first | exact mP.of (by rw [if_pos c1]) | exact mP.of (by rw [if_neg c1])
  | succ f ih =>
    intro q x y hq hr
    unfold tauL at hr
    refine g_iload dX7_taught_38 rfl ?_
    refine g_aload_n dX7_taught_40 rfl ?_
    refine mgc_fishers dX7_taught_41 ?_
    refine g_icmp_ge 134 dX7_taught_44 (by decide) (fun h9 => absurd h9 (by rw [hn]; exact nI_ge (by omega) (by omega))) (fun _ => ?_)
    refine g_join 80 (fun v => v = if nI q = nI p then 0 else bits (c.1 (3 * q) &&& (c.1 (3 * p) ^^^ -1))) (fun u hu => ?_) (fun K => ?_)
    · refine g_istore (L' := [(7, _), (6, _), (5, _), (4, _), (3, _), (0, _), (1, _), (2, _)]) dX7_taught_80 (by decide) rfl ?_
      refine g_join 94 (fun v => v = tauX c p tk q) (fun v hv => ?_) (fun K => ?_)
      · refine g_istore (L' := [(7, _), (6, _), (5, _), (4, _), (3, _), (0, _), (1, _), (2, _)]) dX7_taught_94 (by decide) rfl ?_
        refine g_iload dX7_taught_96 rfl ?_
        refine g_iload dX7_taught_98 rfl ?_
        refine g_icmp_le 108 dX7_taught_100 (by decide) (fun c1 => ?_) (fun c1 => ?_)
        · rw [← hv, if_pos c1] at hr
          refine g_iload dX7_taught_108 rfl ?_
          refine g_istore (L' := [(4, _), (7, _), (6, _), (5, _), (3, _), (0, _), (1, _), (2, _)]) dX7_taught_110 (by decide) rfl ?_
          refine g_iload dX7_taught_112 rfl ?_
          refine g_iload dX7_taught_114 rfl ?_
          refine g_icmp_le 124 dX7_taught_116 (by decide) (fun _ => ?_) (fun h9 => absurd c1 h9)
          refine g_iload dX7_taught_124 rfl ?_
          refine g_istore (L' := [(5, _), (4, _), (7, _), (6, _), (3, _), (0, _), (1, _), (2, _)]) dX7_taught_126 (by decide) rfl ?_
          refine g_iinc (nI (q + 1)) (L' := [(6, _), (5, _), (4, _), (7, _), (3, _), (0, _), (1, _), (2, _)]) dX7_taught_128 rfl (nI_1 _) (by decide) rfl ?_
          refine g_goto 38 dX7_taught_131 (by decide) ?_
          refine g_pick [0, 1, 2, 4, 5, 6, 7] rfl ?_
          exact ih (q + 1) _ _ (by omega) hr
        · rw [← hv, if_neg c1] at hr
          refine g_iload dX7_taught_103 rfl ?_
          refine g_goto 110 dX7_taught_105 (by decide) ?_
          refine g_istore (L' := [(4, _), (7, _), (6, _), (5, _), (3, _), (0, _), (1, _), (2, _)]) dX7_taught_110 (by decide) rfl ?_
          refine g_iload dX7_taught_112 rfl ?_
          refine g_iload dX7_taught_114 rfl ?_
          refine g_icmp_le 124 dX7_taught_116 (by decide) (fun h9 => absurd h9 c1) (fun _ => ?_)
          refine g_iload dX7_taught_119 rfl ?_
          refine g_goto 126 dX7_taught_121 (by decide) ?_
          refine g_istore (L' := [(5, _), (4, _), (7, _), (6, _), (3, _), (0, _), (1, _), (2, _)]) dX7_taught_126 (by decide) rfl ?_
          refine g_iinc (nI (q + 1)) (L' := [(6, _), (5, _), (4, _), (7, _), (3, _), (0, _), (1, _), (2, _)]) dX7_taught_128 rfl (nI_1 _) (by decide) rfl ?_
          refine g_goto 38 dX7_taught_131 (by decide) ?_
          refine g_pick [0, 1, 2, 4, 5, 6, 7] rfl ?_
          exact ih (q + 1) _ _ (by omega) hr
      · refine g_iload dX7_taught_82 rfl ?_
        refine g_iload_n dX7_taught_84 rfl ?_
        refine g_icmp_ge 93 dX7_taught_85 (by decide) (fun c1 => ?_) (fun c1 => ?_)
        · refine g_iload_n dX7_taught_93 rfl ?_
          exact K _ (by unfold tauX; dsimp only; rw [← hu, if_pos c1])
        · refine g_iload dX7_taught_88 rfl ?_
          refine g_goto 94 dX7_taught_90 (by decide) ?_
          exact K _ (by unfold tauX; dsimp only; rw [← hu, if_neg c1])
    · refine g_iload dX7_taught_47 rfl ?_
      refine g_iload_n dX7_taught_49 rfl ?_
      refine g_icmp_ne 57 dX7_taught_50 (by decide) (fun c1 => ?_) (fun c1 => ?_)
      · refine g_aload_n dX7_taught_57 rfl ?_
        refine mg_rows dX7_taught_58 ?_
        refine g_iconst (3) dX7_taught_61 rfl ?_
        refine g_iload dX7_taught_62 rfl ?_
        refine g_imul dX7_taught_64 ?_
        refine mlc_rows ((3 * q)) (by omega) (by first | rfl | (simp only [nI, Int32.ofNat_add, Int32.ofNat_mul]; rfl) | (simp only [nI, Int32.ofNat_add, Int32.ofNat_mul]; done)) dX7_taught_65 ?_
        refine g_aload_n dX7_taught_66 rfl ?_
        refine mg_rows dX7_taught_67 ?_
        refine g_iconst (3) dX7_taught_70 rfl ?_
        refine g_iload_n dX7_taught_71 rfl ?_
        refine g_imul dX7_taught_72 ?_
        refine mlc_rows ((3 * p)) (by omega) (by first | rfl | (simp only [nI, Int32.ofNat_add, Int32.ofNat_mul]; rfl) | (simp only [nI, Int32.ofNat_add, Int32.ofNat_mul]; done)) dX7_taught_73 ?_
        refine g_iconst (-1) dX7_taught_74 rfl ?_
        refine g_ixor dX7_taught_75 ?_
        refine g_iand dX7_taught_76 ?_
        refine gs_calli (n := 1) (c_bitsOf ) (lw_S q1551 q1552 q92 q1553) (by decide +kernel) rfl rfl (by decide) ⟨Nat.le_refl _, Nat.le_refl _⟩ (Nat.le_of_ble_eq_true rfl) dX7_taught_77 ?_
        exact K _ (by rw [if_neg c1])
      · refine g_iconst (0) dX7_taught_53 rfl ?_
        refine g_goto 80 dX7_taught_54 (by decide) ?_
        exact K _ (by rw [if_pos c1])
theorem c_taught {p w : Int32} (hN : gN g ≤ b) (hE : EnM F A n ts) : Ct g yX7_taught cX7_taught 8 (some .int) 5 0 0 [.ref b, .int p, .int w] (hM g b (mF F c) (mA A c) A2 ω0) z (mP g b ω0 z (taughtF F A n ts c p w)) := by
  refine Ct.at (own := RX7) (by decide) rfl (Nat.le_of_ble_eq_true rfl) rfl ?_
  have hn6 := hE.2.1
  rcases one_or p hE.1 hn6 with h1 | ⟨p, hp, rfl, h1⟩
  · refine g_aload_n dX7_taught_0 rfl ?_
    refine g_iload_n dX7_taught_1 rfl ?_
    refine gm_calli (n := 1) (c_isOne ) (lw_V q1575 q1577 qs46 q92 q1578) (by decide +kernel) rfl rfl (by decide) ⟨Nat.le_refl _, Nat.le_refl _⟩ (Nat.le_of_ble_eq_true rfl) dX7_taught_2 (fun A2 => ?_)
    refine g_if_ne 11 dX7_taught_5 (by decide) (fun h9 => absurd h1 h9) (fun _ => ?_)
    refine g_bipush (-5) dX7_taught_8 rfl ?_
    refine g_iret rfl (Nat.le_refl _) (Nat.le_refl _) ?_ dX7_taught_10
    exact mP.of (by rw [taughtF, if_pos h1])
  · have hcp : cn (nI p) = p := nI_clamp (by omega)
    by_cases h2 : inI w 0 1 = 0
    · refine g_aload_n dX7_taught_0 rfl ?_
      refine g_iload_n dX7_taught_1 rfl ?_
      refine gm_calli (n := 1) (c_isOne ) (lw_V q1575 q1577 qs46 q92 q1578) (by decide +kernel) rfl rfl (by decide) ⟨Nat.le_refl _, Nat.le_refl _⟩ (Nat.le_of_ble_eq_true rfl) dX7_taught_2 (fun A2 => ?_)
      refine g_if_ne 11 dX7_taught_5 (by decide) (fun _ => ?_) (fun h9 => absurd h9 (by rw [h1]; decide))
      refine g_iload_n dX7_taught_11 rfl ?_
      refine g_iconst (0) dX7_taught_12 rfl ?_
      refine g_iconst (1) dX7_taught_13 rfl ?_
      refine gs_calli (n := 3) (c_in ) (lw_S q1405 q1406 q92 q1407) (by decide +kernel) rfl rfl (by decide) ⟨Nat.le_refl _, Nat.le_refl _⟩ (Nat.le_of_ble_eq_true rfl) dX7_taught_14 ?_
      refine g_if_ne 23 dX7_taught_17 (by decide) (fun h9 => absurd h2 h9) (fun _ => ?_)
      refine g_bipush (-7) dX7_taught_20 rfl ?_
      refine g_iret rfl (Nat.le_refl _) (Nat.le_refl _) ?_ dX7_taught_22
      exact mP.of (by rw [taughtF, if_neg (by rw [h1]; decide), if_pos h2])
    · rw [taughtF, if_neg (by rw [h1]; decide), if_neg h2, hcp]
      refine g_aload_n dX7_taught_0 rfl ?_
      refine g_iload_n dX7_taught_1 rfl ?_
      refine gm_calli (n := 1) (c_isOne ) (lw_V q1575 q1577 qs46 q92 q1578) (by decide +kernel) rfl rfl (by decide) ⟨Nat.le_refl _, Nat.le_refl _⟩ (Nat.le_of_ble_eq_true rfl) dX7_taught_2 (fun A2 => ?_)
      refine g_if_ne 11 dX7_taught_5 (by decide) (fun _ => ?_) (fun h9 => absurd h9 (by rw [h1]; decide))
      refine g_iload_n dX7_taught_11 rfl ?_
      refine g_iconst (0) dX7_taught_12 rfl ?_
      refine g_iconst (1) dX7_taught_13 rfl ?_
      refine gs_calli (n := 3) (c_in ) (lw_S q1405 q1406 q92 q1407) (by decide +kernel) rfl rfl (by decide) ⟨Nat.le_refl _, Nat.le_refl _⟩ (Nat.le_of_ble_eq_true rfl) dX7_taught_14 ?_
      refine g_if_ne 23 dX7_taught_17 (by decide) (fun _ => ?_) (fun h9 => absurd h9 h2)
      refine g_aload_n dX7_taught_23 rfl ?_
      refine g_iload_n dX7_taught_24 rfl ?_
      refine gm_calli (n := 1) (c_takesOf (n := n) (ts := ts) hN hE (by omega)) (lw_V q1608 q1610 qs49 q92 q1611) (by decide +kernel) rfl rfl (by decide) ⟨Nat.le_refl _, Nat.le_refl _⟩ (Nat.le_of_ble_eq_true rfl) dX7_taught_25 (fun A2 => ?_)
      refine g_istore_n (L' := [(3, _), (0, _), (1, _), (2, _)]) dX7_taught_28 (by decide) rfl ?_
      refine g_iconst (-1) dX7_taught_29 rfl ?_
      refine g_istore (L' := [(4, _), (3, _), (0, _), (1, _), (2, _)]) dX7_taught_30 (by decide) rfl ?_
      refine g_iconst (0) dX7_taught_32 rfl ?_
      refine g_istore (L' := [(5, _), (4, _), (3, _), (0, _), (1, _), (2, _)]) dX7_taught_33 (by decide) rfl ?_
      refine g_iconst (0) dX7_taught_35 rfl ?_
      refine g_istore (L' := [(6, _), (5, _), (4, _), (3, _), (0, _), (1, _), (2, _)]) dX7_taught_36 (by decide) rfl ?_
      exact l_taught hN hE.1 hn6 (by omega) n 0 _ _ (by omega) rfl
theorem l_isNow {w r : Int32} (hn : F 0 = nI n) (hn6 : n ≤ 6) :
    ∀ (f p : Nat), p + f = n → nowL c.1 w f p = r → GN g RX7 cX7_isNow 3 (some .boolean) 1 (mQ g b ω0 z (some (.int r)) (mF F c) (mA A c)) (hM g b (mF F c) (mA A c) A2 ω0) z 20 [(2, .int (nI p)), (0, .ref b), (1, .int w)] [] := by
  intro f
  induction f with
  | zero =>
    intro p hp hr
    subst hr
    refine g_iload_n dX7_isNow_20 rfl ?_
    refine g_aload_n dX7_isNow_21 rfl ?_
    refine mgc_fishers dX7_isNow_22 ?_
    refine g_icmp_ge 52 dX7_isNow_25 (by decide) (fun _ => ?_) (fun h9 => absurd (by rw [hn]; exact nI_le (by omega) (by omega)) h9)
    refine g_iconst (0) dX7_isNow_52 rfl ?_
    refine g_zret rfl (by first | rfl | exact nrb_in) (Nat.le_refl _) (Nat.le_refl _) ?_ dX7_isNow_53
    exact mQ.mk
  | succ f ih =>
    intro p hp hr
    unfold nowL at hr
    refine g_iload_n dX7_isNow_20 rfl ?_
    refine g_aload_n dX7_isNow_21 rfl ?_
    refine mgc_fishers dX7_isNow_22 ?_
    refine g_icmp_ge 52 dX7_isNow_25 (by decide) (fun h9 => absurd h9 (by rw [hn]; exact nI_ge (by omega) (by omega))) (fun _ => ?_)
    refine g_aload_n dX7_isNow_28 rfl ?_
    refine mg_rows dX7_isNow_29 ?_
    refine g_iconst (3) dX7_isNow_32 rfl ?_
    refine g_iload_n dX7_isNow_33 rfl ?_
    refine g_imul dX7_isNow_34 ?_
    refine mlc_rows ((3 * p)) (by omega) (by first | rfl | (simp only [nI, Int32.ofNat_add, Int32.ofNat_mul]; rfl) | (simp only [nI, Int32.ofNat_add, Int32.ofNat_mul]; done)) dX7_isNow_35 ?_
    refine g_iload_n dX7_isNow_36 rfl ?_
    refine g_ishr dX7_isNow_37 ?_
    refine g_iconst (1) dX7_isNow_38 rfl ?_
    refine g_iand dX7_isNow_39 ?_
    refine g_iconst (1) dX7_isNow_40 rfl ?_
    refine g_icmp_ne 46 dX7_isNow_41 (by decide) (fun c1 => ?_) (fun c1 => ?_)
    · rw [if_neg c1] at hr
      refine g_iinc (nI (p + 1)) (L' := [(2, _), (0, _), (1, _)]) dX7_isNow_46 rfl (nI_1 _) (by decide) rfl ?_
      refine g_goto 20 dX7_isNow_49 (by decide) ?_
      exact ih (p + 1) (by omega) hr
    · rw [if_pos c1] at hr
      subst hr
      refine g_iconst (1) dX7_isNow_44 rfl ?_
      refine g_zret rfl (by first | rfl | exact nrb_in) (Nat.le_refl _) (Nat.le_refl _) ?_ dX7_isNow_45
      exact mQ.mk
theorem c_isNow {w : Int32} (hn : F 0 = nI n) (hn6 : n ≤ 6) : Ct g yX7_isNow cX7_isNow 3 (some .boolean) 1 0 0 [.ref b, .int w] (hM g b (mF F c) (mA A c) A2 ω0) z (mQ g b ω0 z (some (.int (nowF n c w))) (mF F c) (mA A c)) := by
  refine Ct.at (own := RX7) (by decide) rfl (Nat.le_of_ble_eq_true rfl) rfl ?_
  unfold nowF
  refine g_iload_n dX7_isNow_0 rfl ?_
  refine g_iconst (-1) dX7_isNow_1 rfl ?_
  refine g_icmp_ne 18 dX7_isNow_2 (by decide) (fun c1 => ?_) (fun c1 => ?_)
  · rw [if_neg c1]
    refine g_iconst (0) dX7_isNow_18 rfl ?_
    refine g_istore_n (L' := [(2, _), (0, _), (1, _)]) dX7_isNow_19 (by decide) rfl ?_
    exact l_isNow hn hn6 n 0 (by omega) rfl
  · rw [if_pos c1]
    refine g_aload_n dX7_isNow_5 rfl ?_
    refine mgc_sea dX7_isNow_6 ?_
    refine g_if_ne 16 dX7_isNow_9 (by decide) (fun c2 => ?_) (fun c2 => ?_)
    · refine g_iconst (0) dX7_isNow_16 rfl ?_
      refine g_zret rfl (by first | rfl | exact nrb_in) (Nat.le_refl _) (Nat.le_refl _) ?_ dX7_isNow_17
      first | exact mQ.of (by rw [if_pos c2]) rfl rfl | exact mQ.of (by rw [if_neg c2]) rfl rfl
    · refine g_iconst (1) dX7_isNow_12 rfl ?_
      refine g_goto 17 dX7_isNow_13 (by decide) ?_
      refine g_zret rfl (by first | rfl | exact nrb_in) (Nat.le_refl _) (Nat.le_refl _) ?_ dX7_isNow_17
      first | exact mQ.of (by rw [if_pos c2]) rfl rfl | exact mQ.of (by rw [if_neg c2]) rfl rfl
theorem x_when {w k r : Int32} (hN : gN g ≤ b) (hk : A 30 = kpf f0 c0) (hh : hiEq c0 c) : GN g RX7 cX7_when 4 (some .int) 3 (mQ g b ω0 z (some (.int r)) (mF F c0) (mA A c0)) (hM g b (mF F c) (mA A c) A2 ω0) z 57 [(3, .int k), (2, .int r), (0, .ref b), (1, .int w)] [] := by
  refine g_aload_n dX7_when_57 rfl ?_
  refine gm_callv (n := 0) (c_lays hN hk hh) (lw_V q1675 q1677 qs59 q92 q1678) (by decide +kernel) rfl rfl (by decide) ⟨Nat.le_refl _, Nat.le_refl _⟩ (Nat.le_of_ble_eq_true rfl) dX7_when_58 (fun A2 => ?_)
  refine g_iload_n dX7_when_61 rfl ?_
  refine g_iret rfl (Nat.le_refl _) (Nat.le_refl _) ?_ dX7_when_62
  exact mQ.mk
theorem l_when {w r : Int32} (hN : gN g ≤ b) (hn : F 0 = nI n) (hn6 : n ≤ 6) (hk : A 30 = kpf f0 c0) :
    ∀ (f k : Nat) (c : Cr) (A2 : Nat → Nat → Int32), k + f = 61 → hiEq c0 c → whnL n w f k c = r → GN g RX7 cX7_when 4 (some .int) 3 (mQ g b ω0 z (some (.int r)) (mF F c0) (mA A c0)) (hM g b (mF F c) (mA A c) A2 ω0) z 21 [(3, .int (nI k)), (2, .int (-1)), (0, .ref b), (1, .int w)] [] := by
  intro f
  induction f with
  | zero =>
    intro k c A2 hkf hh hr
    subst hr
    have hkf : k = 61 := by omega
    subst hkf
    refine g_iload_n dX7_when_21 rfl ?_
    refine g_bipush (60) dX7_when_22 rfl ?_
    refine g_icmp_gt 57 dX7_when_24 (by decide) (fun _ => ?_) (fun h9 => absurd (by decide) h9)
    exact x_when hN hk hh
  | succ f ih =>
    intro k c A2 hkf hh hr
    unfold whnL at hr
    have hg := hi_tide (c := c) hn6
    refine g_iload_n dX7_when_21 rfl ?_
    refine g_bipush (60) dX7_when_22 rfl ?_
    refine g_icmp_gt 57 dX7_when_24 (by decide) (fun h9 => absurd h9 (nI_nlt (a := 60) (by omega) (by omega))) (fun _ => ?_)
    refine g_iload_n dX7_when_27 rfl ?_
    refine g_iconst (-1) dX7_when_28 rfl ?_
    refine g_icmp_ne 57 dX7_when_29 (by decide) (fun h9 => absurd rfl h9) (fun _ => ?_)
    refine g_aload_n dX7_when_32 rfl ?_
    refine g_iload_n dX7_when_33 rfl ?_
    refine gm_calli (n := 1) (c_isNow (n := n) hn hn6) (lw_V q1707 q1709 qs62 q92 q1710) (by decide +kernel) rfl rfl (by decide) ⟨Nat.le_refl _, Nat.le_refl _⟩ (Nat.le_of_ble_eq_true rfl) dX7_when_34 (fun A2 => ?_)
    refine g_if_eq 44 dX7_when_37 (by decide) (fun c1 => ?_) (fun c1 => ?_)
    · rw [if_pos c1] at hr
      refine g_iconst (-1) dX7_when_44 rfl ?_
      refine g_istore_n (L' := [(2, _), (3, _), (0, _), (1, _)]) dX7_when_45 (by decide) rfl ?_
      refine g_aload_n dX7_when_46 rfl ?_
      refine gm_calli (n := 0) (c_tideOf (n := n) hN hn hn6) (lw_V q1647 q1649 qs54 q92 q1650) (by decide +kernel) rfl rfl (by decide) ⟨Nat.le_refl _, Nat.le_refl _⟩ (Nat.le_of_ble_eq_true rfl) dX7_when_47 (fun A2 => ?_)
      refine g_pop dX7_when_50 rfl ?_
      refine g_iinc (nI (k + 1)) (L' := [(3, _), (2, _), (0, _), (1, _)]) dX7_when_51 rfl (nI_1 _) (by decide) rfl ?_
      refine g_goto 21 dX7_when_54 (by decide) ?_
      exact ih (k + 1) _ _ (by omega) (hh.tr hg) hr
    · rw [if_neg c1] at hr
      subst hr
      refine g_iload_n dX7_when_40 rfl ?_
      refine g_goto 45 dX7_when_41 (by decide) ?_
      refine g_istore_n (L' := [(2, _), (3, _), (0, _), (1, _)]) dX7_when_45 (by decide) rfl ?_
      refine g_aload_n dX7_when_46 rfl ?_
      refine gm_calli (n := 0) (c_tideOf (n := n) hN hn hn6) (lw_V q1647 q1649 qs54 q92 q1650) (by decide +kernel) rfl rfl (by decide) ⟨Nat.le_refl _, Nat.le_refl _⟩ (Nat.le_of_ble_eq_true rfl) dX7_when_47 (fun A2 => ?_)
      refine g_pop dX7_when_50 rfl ?_
      refine g_iinc (nI (k + 1)) (L' := [(3, _), (2, _), (0, _), (1, _)]) dX7_when_51 rfl (nI_1 _) (by decide) rfl ?_
      refine g_goto 21 dX7_when_54 (by decide) ?_
      have hne : ¬ nI k = -1 := fun h => absurd (nI_pos' (n := k) (by omega)) (by rw [h]; decide)
      refine g_iload_n dX7_when_21 rfl ?_
      refine g_bipush (60) dX7_when_22 rfl ?_
      refine g_icmp_gt 57 dX7_when_24 (by decide) (fun c2 => ?_) (fun c2 => ?_)
      ·
        exact x_when hN hk (hh.tr hg)
      · refine g_iload_n dX7_when_27 rfl ?_
        refine g_iconst (-1) dX7_when_28 rfl ?_
        refine g_icmp_ne 57 dX7_when_29 (by decide) (fun _ => ?_) (fun h9 => absurd h9 hne)
        exact x_when hN hk (hh.tr hg)
theorem c_when {w : Int32} (hN : gN g ≤ b) (hn : F 0 = nI n) (hn6 : n ≤ 6) : Ct g yX7_when cX7_when 4 (some .int) 3 0 0 [.ref b, .int w] (hM g b (mF F c) (mA A c) A2 ω0) z (mK g b ω0 z (whenF F A n c w)) := by
  refine Ct.at (own := RX7) (by decide) rfl (Nat.le_of_ble_eq_true rfl) rfl ?_
  by_cases h1 : inI w (-1) 15 = 0
  · refine g_iload_n dX7_when_0 rfl ?_
    refine g_iconst (-1) dX7_when_1 rfl ?_
    refine g_bipush (15) dX7_when_2 rfl ?_
    refine gs_calli (n := 3) (c_in ) (lw_S q1405 q1406 q92 q1407) (by decide +kernel) rfl rfl (by decide) ⟨Nat.le_refl _, Nat.le_refl _⟩ (Nat.le_of_ble_eq_true rfl) dX7_when_4 ?_
    refine g_if_ne 13 dX7_when_7 (by decide) (fun h9 => absurd h1 h9) (fun _ => ?_)
    refine g_bipush (-2) dX7_when_10 rfl ?_
    refine g_iret rfl (Nat.le_refl _) (Nat.le_refl _) ?_ dX7_when_12
    exact mK.of0 (by rw [whenF, if_pos h1])
  · rw [whenF, if_neg h1]
    refine g_iload_n dX7_when_0 rfl ?_
    refine g_iconst (-1) dX7_when_1 rfl ?_
    refine g_bipush (15) dX7_when_2 rfl ?_
    refine gs_calli (n := 3) (c_in ) (lw_S q1405 q1406 q92 q1407) (by decide +kernel) rfl rfl (by decide) ⟨Nat.le_refl _, Nat.le_refl _⟩ (Nat.le_of_ble_eq_true rfl) dX7_when_4 ?_
    refine g_if_ne 13 dX7_when_7 (by decide) (fun _ => ?_) (fun h9 => absurd h9 h1)
    refine g_iconst (-1) dX7_when_13 rfl ?_
    refine g_istore_n (L' := [(2, _), (0, _), (1, _)]) dX7_when_14 (by decide) rfl ?_
    refine g_aload_n dX7_when_15 rfl ?_
    refine gm_callv (n := 0) (c_keeps hN) (lw_V q1667 q1669 qs57 q92 q1670) (by decide +kernel) rfl rfl (by decide) ⟨Nat.le_refl _, Nat.le_refl _⟩ (Nat.le_of_ble_eq_true rfl) dX7_when_16 (fun A2 => ?_)
    refine g_iconst (0) dX7_when_19 rfl ?_
    refine g_istore_n (L' := [(3, _), (2, _), (0, _), (1, _)]) dX7_when_20 (by decide) rfl ?_
    have h := l_when (g := g) (b := b) (z := z) (F := F) (ω0 := ω0) (A := kA A c) (c0 := c) (f0 := A 30) (w := w) hN hn hn6 (sA_same _ _ _) 61 0 c A2 (by omega) hiEq.rf rfl
    exact G.mono mQ.toK h
def lcm1 (x y : Int64) : Int64 := x - x / y * y
def gcL : Nat → Int64 → Int64 → Int64
  | 0, a, _ => a
  | m + 1, a, b => if b = 0 then a else gcL m b (lcm1 a b)
def lowF (a b : Int64) (w : Int32) : Int64 := if a = 0 then w.toInt64 else (if w = 0 then a else b) / gcL 70 a b
def mL (g : GE) (b : Nat) (ω0 : Om) (z : Nat) (r : Int64) (F : Nat → Int32) (A : Nat → Nat → Int32) (c : Cr) : Option Value → Om → Nat → Prop := fun v' ω' z' => v' = some (.long r) ∧ z' = z ∧ ∃ A2 k x, ω' = hM g b (mF (upd F 33 x) c) (mA (sA A 30 k) c) A2 ω0
theorem l_talk {so w : Int32} {r : Int32 × Int32 × Int32} (hn : F 0 = nI n) (hn6 : n ≤ 6) :
    ∀ (f p : Nat) (a o t : Int32), p + f = n → talL c.1 so f p a o t = r → GN g RX7 cX7_talk 7 (some .int) 2 (mP g b ω0 z (talV w r, F, A, c)) (hM g b (mF F c) (mA A c) A2 ω0) z 40 [(6, .int (nI p)), (5, .int t), (4, .int o), (3, .int a), (0, .ref b), (1, .int so), (2, .int w)] [] := by
  intro f
  induction f with
  | zero =>
    intro p a o t hp hr
    subst hr
    refine g_iload dX7_talk_40 rfl ?_
    refine g_aload_n dX7_talk_42 rfl ?_
    refine mgc_fishers dX7_talk_43 ?_
    refine g_icmp_ge 108 dX7_talk_46 (by decide) (fun _ => ?_) (fun h9 => absurd (by rw [hn]; exact nI_le (by omega) (by omega)) h9)
    refine g_iload_n dX7_talk_108 rfl ?_
    refine g_if_ne 116 dX7_talk_109 (by decide) (fun c1 => ?_) (fun c1 => ?_)
    · refine g_iload_n dX7_talk_116 rfl ?_
      refine g_iconst (1) dX7_talk_117 rfl ?_
      refine g_icmp_ne 126 dX7_talk_118 (by decide) (fun c2 => ?_) (fun c2 => ?_)
      · refine g_iload_n dX7_talk_126 rfl ?_
        refine g_iconst (2) dX7_talk_127 rfl ?_
        refine g_icmp_ne 141 dX7_talk_128 (by decide) (fun c3 => ?_) (fun c3 => ?_)
        · refine g_iload dX7_talk_141 rfl ?_
          refine g_iload dX7_talk_143 rfl ?_
          refine g_iconst (-1) dX7_talk_145 rfl ?_
          refine g_ixor dX7_talk_146 ?_
          refine g_iand dX7_talk_147 ?_
          refine g_iret rfl (Nat.le_refl _) (Nat.le_refl _) ?_ dX7_talk_148
          exact mP.of (by simp_all [talV, talL])
        · refine g_ldc q1558 dX7_talk_131 ?_
          refine g_iload dX7_talk_133 rfl ?_
          refine g_iconst (-1) dX7_talk_135 rfl ?_
          refine g_ixor dX7_talk_136 ?_
          refine g_iand dX7_talk_137 ?_
          refine g_goto 148 dX7_talk_138 (by decide) ?_
          refine g_iret rfl (Nat.le_refl _) (Nat.le_refl _) ?_ dX7_talk_148
          exact mP.of (by simp_all [talV, talL])
      · refine g_iload dX7_talk_121 rfl ?_
        refine g_goto 148 dX7_talk_123 (by decide) ?_
        refine g_iret rfl (Nat.le_refl _) (Nat.le_refl _) ?_ dX7_talk_148
        exact mP.of (by simp_all [talV, talL])
    · refine g_iload_n dX7_talk_112 rfl ?_
      refine g_goto 148 dX7_talk_113 (by decide) ?_
      refine g_iret rfl (Nat.le_refl _) (Nat.le_refl _) ?_ dX7_talk_148
      exact mP.of (by simp_all [talV, talL])
  | succ f ih =>
    intro p a o t hp hr
    unfold talL sb at hr
    refine g_iload dX7_talk_40 rfl ?_
    refine g_aload_n dX7_talk_42 rfl ?_
    refine mgc_fishers dX7_talk_43 ?_
    refine g_icmp_ge 108 dX7_talk_46 (by decide) (fun h9 => absurd h9 (by rw [hn]; exact nI_ge (by omega) (by omega))) (fun _ => ?_)
    refine g_iload_n dX7_talk_49 rfl ?_
    refine g_iload dX7_talk_50 rfl ?_
    refine g_ishr dX7_talk_52 ?_
    refine g_iconst (1) dX7_talk_53 rfl ?_
    refine g_iand dX7_talk_54 ?_
    refine g_iconst (1) dX7_talk_55 rfl ?_
    refine g_icmp_ne 102 dX7_talk_56 (by decide) (fun c1 => ?_) (fun c1 => ?_)
    · rw [if_neg c1] at hr
      refine g_iinc (nI (p + 1)) (L' := [(6, _), (5, _), (4, _), (3, _), (0, _), (1, _), (2, _)]) dX7_talk_102 rfl (nI_1 _) (by decide) rfl ?_
      refine g_goto 40 dX7_talk_105 (by decide) ?_
      exact ih (p + 1) _ _ _ (by omega) hr
    · rw [if_pos c1] at hr
      refine g_iload_n dX7_talk_59 rfl ?_
      refine g_aload_n dX7_talk_60 rfl ?_
      refine mg_rows dX7_talk_61 ?_
      refine g_iconst (3) dX7_talk_64 rfl ?_
      refine g_iload dX7_talk_65 rfl ?_
      refine g_imul dX7_talk_67 ?_
      refine mlc_rows ((3 * p)) (by omega) (by first | rfl | (simp only [nI, Int32.ofNat_add, Int32.ofNat_mul]; rfl) | (simp only [nI, Int32.ofNat_add, Int32.ofNat_mul]; done)) dX7_talk_68 ?_
      refine g_iand dX7_talk_69 ?_
      refine g_istore_n (L' := [(3, _), (6, _), (5, _), (4, _), (0, _), (1, _), (2, _)]) dX7_talk_70 (by decide) rfl ?_
      refine g_iload dX7_talk_71 rfl ?_
      refine g_iload dX7_talk_73 rfl ?_
      refine g_aload_n dX7_talk_75 rfl ?_
      refine mg_rows dX7_talk_76 ?_
      refine g_iconst (3) dX7_talk_79 rfl ?_
      refine g_iload dX7_talk_80 rfl ?_
      refine g_imul dX7_talk_82 ?_
      refine mlc_rows ((3 * p)) (by omega) (by first | rfl | (simp only [nI, Int32.ofNat_add, Int32.ofNat_mul]; rfl) | (simp only [nI, Int32.ofNat_add, Int32.ofNat_mul]; done)) dX7_talk_83 ?_
      refine g_iand dX7_talk_84 ?_
      refine g_ior dX7_talk_85 ?_
      refine g_istore (L' := [(5, _), (3, _), (6, _), (4, _), (0, _), (1, _), (2, _)]) dX7_talk_86 (by decide) rfl ?_
      refine g_iload dX7_talk_88 rfl ?_
      refine g_aload_n dX7_talk_90 rfl ?_
      refine mg_rows dX7_talk_91 ?_
      refine g_iconst (3) dX7_talk_94 rfl ?_
      refine g_iload dX7_talk_95 rfl ?_
      refine g_imul dX7_talk_97 ?_
      refine mlc_rows ((3 * p)) (by omega) (by first | rfl | (simp only [nI, Int32.ofNat_add, Int32.ofNat_mul]; rfl) | (simp only [nI, Int32.ofNat_add, Int32.ofNat_mul]; done)) dX7_talk_98 ?_
      refine g_ior dX7_talk_99 ?_
      refine g_istore (L' := [(4, _), (5, _), (3, _), (6, _), (0, _), (1, _), (2, _)]) dX7_talk_100 (by decide) rfl ?_
      refine g_iinc (nI (p + 1)) (L' := [(6, _), (4, _), (5, _), (3, _), (0, _), (1, _), (2, _)]) dX7_talk_102 rfl (nI_1 _) (by decide) rfl ?_
      refine g_goto 40 dX7_talk_105 (by decide) ?_
      refine g_pick [0, 2, 1, 3, 4, 5, 6] rfl ?_
      exact ih (p + 1) _ _ _ (by omega) hr
theorem c_talk {so w : Int32} (hn : F 0 = nI n) (hn6 : n ≤ 6) : Ct g yX7_talk cX7_talk 7 (some .int) 2 0 0 [.ref b, .int so, .int w] (hM g b (mF F c) (mA A c) A2 ω0) z (mP g b ω0 z (talkF F A n c so w)) := by
  refine Ct.at (own := RX7) (by decide) rfl (Nat.le_of_ble_eq_true rfl) rfl ?_
  unfold talkF one
  refine g_iload_n dX7_talk_0 rfl ?_
  refine g_iconst (0) dX7_talk_1 rfl ?_
  refine g_iconst (1) dX7_talk_2 rfl ?_
  refine g_aload_n dX7_talk_3 rfl ?_
  refine mgc_fishers dX7_talk_4 ?_
  refine g_ishl dX7_talk_7 ?_
  refine g_iconst (1) dX7_talk_8 rfl ?_
  refine g_isub dX7_talk_9 ?_
  refine gs_calli (n := 3) (c_in ) (lw_S q1405 q1406 q92 q1407) (by decide +kernel) rfl rfl (by decide) ⟨Nat.le_refl _, Nat.le_refl _⟩ (Nat.le_of_ble_eq_true rfl) dX7_talk_10 ?_
  refine g_if_eq 25 dX7_talk_13 (by decide) (fun c1 => ?_) (fun c1 => ?_)
  · refine g_bipush (-2) dX7_talk_25 rfl ?_
    refine g_iret rfl (Nat.le_refl _) (Nat.le_refl _) ?_ dX7_talk_27
    first | exact mP.of (by rw [if_pos (Or.inl c1)]) | exact mP.of (by rw [if_pos (Or.inr c2)])
  · refine g_iload_n dX7_talk_16 rfl ?_
    refine g_iconst (0) dX7_talk_17 rfl ?_
    refine g_iconst (3) dX7_talk_18 rfl ?_
    refine gs_calli (n := 3) (c_in ) (lw_S q1405 q1406 q92 q1407) (by decide +kernel) rfl rfl (by decide) ⟨Nat.le_refl _, Nat.le_refl _⟩ (Nat.le_of_ble_eq_true rfl) dX7_talk_19 ?_
    refine g_if_ne 28 dX7_talk_22 (by decide) (fun c2 => ?_) (fun c2 => ?_)
    · refine g_ldc q1558 dX7_talk_28 ?_
      refine g_istore_n (L' := [(3, _), (0, _), (1, _), (2, _)]) dX7_talk_30 (by decide) rfl ?_
      refine g_iconst (0) dX7_talk_31 rfl ?_
      refine g_istore (L' := [(4, _), (3, _), (0, _), (1, _), (2, _)]) dX7_talk_32 (by decide) rfl ?_
      refine g_iconst (0) dX7_talk_34 rfl ?_
      refine g_istore (L' := [(5, _), (4, _), (3, _), (0, _), (1, _), (2, _)]) dX7_talk_35 (by decide) rfl ?_
      refine g_iconst (0) dX7_talk_37 rfl ?_
      refine g_istore (L' := [(6, _), (5, _), (4, _), (3, _), (0, _), (1, _), (2, _)]) dX7_talk_38 (by decide) rfl ?_
      rw [if_neg (fun h => h.elim c1 c2)]; exact l_talk hn hn6 n 0 _ _ _ (by omega) rfl
    · refine g_bipush (-2) dX7_talk_25 rfl ?_
      refine g_iret rfl (Nat.le_refl _) (Nat.le_refl _) ?_ dX7_talk_27
      first | exact mP.of (by rw [if_pos (Or.inl c1)]) | exact mP.of (by rw [if_pos (Or.inr c2)])
end A
