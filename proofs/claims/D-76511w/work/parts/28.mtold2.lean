/-! the reference: kinds, numbers, names, luck, whose, laws by which a told season is so -/
set_option maxRecDepth 100000
/-- an answer and a core, the row of what is kept for a while being anything -/
def mK (g : GE) (b : Nat) (ω0 : Om) (z : Nat) (o : R4) : Option Value → Om → Nat → Prop := fun v' ω' z' => v' = some (.int o.1) ∧ z' = z ∧ ∃ A2 k, ω' = hM g b (mF o.2.1 o.2.2.2) (mA (sA o.2.2.1 30 k) o.2.2.2) A2 ω0
theorem mK.of {g : GE} {b : Nat} {ω0 : Om} {z : Nat} {o : R4} {r : Int32} {F : Nat → Int32} {A A2 : Nat → Nat → Int32} {c : Cr} {k : Nat → Int32} (h : o = (r, F, A, c)) : mK g b ω0 z o (some (.int r)) (hM g b (mF F c) (mA (sA A 30 k) c) A2 ω0) z := by
  subst h; exact ⟨rfl, rfl, A2, k, rfl⟩
theorem mK.of0 {g : GE} {b : Nat} {ω0 : Om} {z : Nat} {o : R4} {r : Int32} {F : Nat → Int32} {A A2 : Nat → Nat → Int32} {c : Cr} (h : o = (r, F, A, c)) : mK g b ω0 z o (some (.int r)) (hM g b (mF F c) (mA A c) A2 ω0) z := by
  subst h; exact ⟨rfl, rfl, A2, A 30, by dsimp only; rw [sA_self]⟩
theorem kA_s (A : Nat → Nat → Int32) (c : Cr) (k : Nat → Int32) : kA (sA A 30 k) c = sA A 30 (kpf k c) := by unfold kA; rw [sA_sA, sA_same]
def knA (A : Nat → Nat → Int32) (p : Nat) (x y : Int32) : Nat → Nat → Int32 := sA (sA A 1 (upd (A 1) p x)) 2 (upd (A 2) p y)
theorem knA_1 (A : Nat → Nat → Int32) (p : Nat) (x y v : Int32) (k : Nat → Int32) : sA (sA (knA A p x y) 30 k) 1 (upd (sA (knA A p x y) 30 k 1) p v) = sA (knA A p v y) 30 k := by
  funext i; unfold knA sA
  by_cases h30 : i = 30
  · subst h30; rfl
  · by_cases h2 : i = 2
    · subst h2; rfl
    · by_cases h1 : i = 1
      · subst h1; exact upd_upd _ _ _ _
      · simp [h30, h2, h1]
theorem knA_2 (A : Nat → Nat → Int32) (p : Nat) (x y v : Int32) (k : Nat → Int32) : sA (sA (knA A p x y) 30 k) 2 (upd (sA (knA A p x y) 30 k 2) p v) = sA (knA A p x v) 30 k := by
  funext i; unfold knA sA
  by_cases h30 : i = 30
  · subst h30; rfl
  · by_cases h2 : i = 2
    · subst h2; exact upd_upd _ _ _ _
    · simp [h30, h2]
theorem knA_0 (A : Nat → Nat → Int32) (p : Nat) : knA A p (A 1 p) (A 2 p) = A := by unfold knA; rw [upd_self, upd_self, sA_self, sA_self]
section D
variable (F : Nat → Int32) (A : Nat → Nat → Int32) (n : Nat) (ts : Nat → List Int32) (c : Cr)
def kinL (s t p : Nat) (so : Int32) : Nat → Nat → Int32 → Int32
  | 0, _, x => x
  | m + 1, v, x => kinL s t p so m (v + 1) (x ||| if unF (knA A p (if so = 0 then nI v else A 1 p) (if so = 1 then nI v else A 2 p)) n ts c s t p = -1 then one (nI v) else 0)
def kindsF (s t p so : Int32) : R4 := if toldW F A s t p = 0 then (if inI so 0 1 = 0 then (-7, F, A, c) else (kinL A n ts c (cn s) (cn t) (cn p) so (if so = 0 then 6 else 10) 0 0, F, A, c)) else (toldW F A s t p, F, A, c)
def turL (s t p : Nat) : Nat → Nat → Int32 → Int32
  | 0, _, x => x
  | m + 1, v, x => turL s t p m (v + 1) (x ||| if unF A n ts (upd c.1 (3 * p) (c.1 (3 * p) ^^^ one (nI v)), c.2.1, c.2.2) s t p = -1 then one (nI v) else 0)
def turnedF (s t p : Int32) : R4 := if toldW F A s t p = 0 then (turL A n ts c (cn s) (cn t) (cn p) 16 0 0, F, A, c) else (toldW F A s t p, F, A, c)
def lucL (s t p : Nat) : Nat → Nat → Int32 → Int32 → Int32 × Int32
  | 0, _, x, y => (x, y)
  | m + 1, v, x, y => if unF A n ts (upd c.1 (3 * p + 2) (nI v), c.2.1, c.2.2) s t p = -1 then lucL s t p m (v + 1) (x + 1) (if y = -1 then nI v else y) else lucL s t p m (v + 1) (x + 0) y
def lucksP (s t p w : Int32) : R4 := if toldW F A s t p = 0 then (if inI w 0 1 = 0 then (-7, F, A, c) else (if w = 0 then (lucL A n ts c (cn s) (cn t) (cn p) 100 0 0 (-1)).1 else (lucL A n ts c (cn s) (cn t) (cn p) 100 0 0 (-1)).2, F, A, c)) else (toldW F A s t p, F, A, c)
def whoL (s t : Nat) : Nat → Nat → Int32 → Int32
  | 0, _, x => x
  | m + 1, p, x => whoL s t m (p + 1) (x ||| if unF A n ts c s t p = -1 then one (nI p) else 0)
def whoseF (s t : Int32) : R4 := if twoW A s t = 0 then (whoL A n ts c (cn s) (cn t) n 0 0, F, A, c) else (twoW A s t, F, A, c)
def lawL (T : Nat → Nat → List Int32) (s t p : Nat) : Nat → Nat → Int32 → Int32
  | 0, _, x => x
  | m + 1, j, x => lawL T s t p m (j + 1) (x ||| if unF A n (T j) c s t p = -1 then one (nI j) else 0)
def lawsF (T : Nat → Nat → List Int32) (s t p : Int32) : R4 := if toldW F A s t p = 0 then (lawL A n c T (cn s) (cn t) (cn p) (cn (F 10)) 0 0, F, A, c) else (toldW F A s t p, F, A, c)
end D
section A
variable {g : GE} {b z n : Nat} {F : Nat → Int32} {A A2 : Nat → Nat → Int32} {ω0 : Om} {ts : Nat → List Int32} {c c0 : Cr} {f0 : Nat → Int32}
theorem l_kinds0 {s t p m : Nat} {r w : Int32} (hN : gN g ≤ b) (hE : EnM F A n ts) (hs : s < 4) (ht : t < 4) (hp : p < 6) (hm : m ≤ 40) (hS : A 16 t = nI m) :
    ∀ (f v : Nat) (x y u : Int32) (k : Nat → Int32) (A2 : Nat → Nat → Int32), v + f = 6 → kinL A n ts c s t p 0 f v u = r → GN g RX7 cX7_kinds 10 (some .int) 7 (mK g b ω0 z (r, F, A, c)) (hM g b (mF F c) (mA (sA (knA A p x y) 30 k) c) A2 ω0) z 52 [(9, .int (nI v)), (8, .int u), (7, .int (A 2 p)), (6, .int (A 1 p)), (5, .int w), (0, .ref b), (1, .int (nI s)), (2, .int (nI t)), (3, .int (nI p)), (4, .int 0)] [] := by
  intro f
  induction f with
  | zero =>
    intro v x y u k A2 hv hr
    have hv : v = 6 := by omega
    subst hv; subst hr
    refine g_iload dX7_kinds_52 rfl ?_
    refine g_iload dX7_kinds_54 rfl ?_
    refine g_if_ne 64 dX7_kinds_56 (by decide) (fun h9 => absurd rfl h9) (fun _ => ?_)
    refine g_bipush (6) dX7_kinds_59 rfl ?_
    refine g_goto 66 dX7_kinds_61 (by decide) ?_
    refine g_icmp_ge 136 dX7_kinds_66 (by decide) (fun _ => ?_) (fun h9 => absurd (by decide) h9)
    refine g_aload_n dX7_kinds_136 rfl ?_
    refine mg_kind dX7_kinds_137 ?_
    refine g_iload_n dX7_kinds_140 rfl ?_
    refine g_iload dX7_kinds_141 rfl ?_
    refine msc_kind (p) hN (by omega) (by first | rfl | (simp only [nI, Int32.ofNat_add, Int32.ofNat_mul]; rfl) | (simp only [nI, Int32.ofNat_add, Int32.ofNat_mul]; done)) dX7_kinds_143 ?_
    rw [knA_1]
    refine g_aload_n dX7_kinds_144 rfl ?_
    refine mg_moreOf dX7_kinds_145 ?_
    refine g_iload_n dX7_kinds_148 rfl ?_
    refine g_iload dX7_kinds_149 rfl ?_
    refine msc_moreOf (p) hN (by omega) (by first | rfl | (simp only [nI, Int32.ofNat_add, Int32.ofNat_mul]; rfl) | (simp only [nI, Int32.ofNat_add, Int32.ofNat_mul]; done)) dX7_kinds_151 ?_
    rw [knA_2, knA_0]
    refine g_iload dX7_kinds_152 rfl ?_
    refine g_iret rfl (Nat.le_refl _) (Nat.le_refl _) ?_ dX7_kinds_154
    exact mK.of rfl
  | succ f ih =>
    intro v x y u k A2 hv hr
    unfold kinL at hr
    refine g_iload dX7_kinds_52 rfl ?_
    refine g_iload dX7_kinds_54 rfl ?_
    refine g_if_ne 64 dX7_kinds_56 (by decide) (fun h9 => absurd rfl h9) (fun _ => ?_)
    refine g_bipush (6) dX7_kinds_59 rfl ?_
    refine g_goto 66 dX7_kinds_61 (by decide) ?_
    refine g_icmp_ge 136 dX7_kinds_66 (by decide) (fun h9 => absurd h9 (nI_ge (b := 6) (by omega) (by decide))) (fun _ => ?_)
    refine g_aload_n dX7_kinds_69 rfl ?_
    refine mg_kind dX7_kinds_70 ?_
    refine g_iload_n dX7_kinds_73 rfl ?_
    refine g_iload dX7_kinds_74 rfl ?_
    refine g_if_ne 84 dX7_kinds_76 (by decide) (fun h9 => absurd rfl h9) (fun _ => ?_)
    refine g_iload dX7_kinds_79 rfl ?_
    refine g_goto 86 dX7_kinds_81 (by decide) ?_
    refine msc_kind (p) hN (by omega) (by first | rfl | (simp only [nI, Int32.ofNat_add, Int32.ofNat_mul]; rfl) | (simp only [nI, Int32.ofNat_add, Int32.ofNat_mul]; done)) dX7_kinds_86 ?_
    rw [knA_1]
    refine g_aload_n dX7_kinds_87 rfl ?_
    refine mg_moreOf dX7_kinds_88 ?_
    refine g_iload_n dX7_kinds_91 rfl ?_
    refine g_iload dX7_kinds_92 rfl ?_
    refine g_iconst (1) dX7_kinds_94 rfl ?_
    refine g_icmp_ne 103 dX7_kinds_95 (by decide) (fun _ => ?_) (fun h9 => absurd h9 (by decide))
    refine g_iload dX7_kinds_103 rfl ?_
    refine msc_moreOf (p) hN (by omega) (by first | rfl | (simp only [nI, Int32.ofNat_add, Int32.ofNat_mul]; rfl) | (simp only [nI, Int32.ofNat_add, Int32.ofNat_mul]; done)) dX7_kinds_105 ?_
    rw [knA_2]
    refine g_iload dX7_kinds_106 rfl ?_
    refine g_aload_n dX7_kinds_108 rfl ?_
    refine g_iload_n dX7_kinds_109 rfl ?_
    refine g_iload_n dX7_kinds_110 rfl ?_
    refine g_iload_n dX7_kinds_111 rfl ?_
    refine gm_calli (n := 3) (c_unlike (m := m) (n := n) (ts := ts) hN hE hs ht hp hm hS) (lw_V q1731 q1733 qs65 q92 q1734) (by decide +kernel) rfl rfl (by decide) ⟨Nat.le_refl _, Nat.le_refl _⟩ (Nat.le_of_ble_eq_true rfl) dX7_kinds_112 (fun A2 => ?_)
    refine g_iconst (-1) dX7_kinds_115 rfl ?_
    refine g_icmp_ne 126 dX7_kinds_116 (by decide) (fun c1 => ?_) (fun c1 => ?_)
    · rw [if_neg (show ¬ unF (knA A p (if (0 : Int32) = 0 then nI v else A 1 p) (if (0 : Int32) = 1 then nI v else A 2 p)) n ts c s t p = -1 from c1)] at hr
      refine g_iconst (0) dX7_kinds_126 rfl ?_
      refine g_ior dX7_kinds_127 ?_
      refine g_istore (L' := [(8, _), (9, _), (7, _), (6, _), (5, _), (0, _), (1, _), (2, _), (3, _), (4, _)]) dX7_kinds_128 (by decide) rfl ?_
      refine g_iinc (nI (v + 1)) (L' := [(9, _), (8, _), (7, _), (6, _), (5, _), (0, _), (1, _), (2, _), (3, _), (4, _)]) dX7_kinds_130 rfl (nI_1 _) (by decide) rfl ?_
      refine g_goto 52 dX7_kinds_133 (by decide) ?_
      rw [kA_s]
      exact ih (v + 1) _ _ _ _ _ (by omega) hr
    · rw [if_pos (show unF (knA A p (if (0 : Int32) = 0 then nI v else A 1 p) (if (0 : Int32) = 1 then nI v else A 2 p)) n ts c s t p = -1 from c1)] at hr
      refine g_iconst (1) dX7_kinds_119 rfl ?_
      refine g_iload dX7_kinds_120 rfl ?_
      refine g_ishl dX7_kinds_122 ?_
      refine g_goto 127 dX7_kinds_123 (by decide) ?_
      refine g_ior dX7_kinds_127 ?_
      refine g_istore (L' := [(8, _), (9, _), (7, _), (6, _), (5, _), (0, _), (1, _), (2, _), (3, _), (4, _)]) dX7_kinds_128 (by decide) rfl ?_
      refine g_iinc (nI (v + 1)) (L' := [(9, _), (8, _), (7, _), (6, _), (5, _), (0, _), (1, _), (2, _), (3, _), (4, _)]) dX7_kinds_130 rfl (nI_1 _) (by decide) rfl ?_
      refine g_goto 52 dX7_kinds_133 (by decide) ?_
      rw [kA_s]
      exact ih (v + 1) _ _ _ _ _ (by omega) hr
theorem l_kinds1 {s t p m : Nat} {r w : Int32} (hN : gN g ≤ b) (hE : EnM F A n ts) (hs : s < 4) (ht : t < 4) (hp : p < 6) (hm : m ≤ 40) (hS : A 16 t = nI m) :
    ∀ (f v : Nat) (x y u : Int32) (k : Nat → Int32) (A2 : Nat → Nat → Int32), v + f = 10 → kinL A n ts c s t p 1 f v u = r → GN g RX7 cX7_kinds 10 (some .int) 7 (mK g b ω0 z (r, F, A, c)) (hM g b (mF F c) (mA (sA (knA A p x y) 30 k) c) A2 ω0) z 52 [(9, .int (nI v)), (8, .int u), (7, .int (A 2 p)), (6, .int (A 1 p)), (5, .int w), (0, .ref b), (1, .int (nI s)), (2, .int (nI t)), (3, .int (nI p)), (4, .int 1)] [] := by
  intro f
  induction f with
  | zero =>
    intro v x y u k A2 hv hr
    have hv : v = 10 := by omega
    subst hv; subst hr
    refine g_iload dX7_kinds_52 rfl ?_
    refine g_iload dX7_kinds_54 rfl ?_
    refine g_if_ne 64 dX7_kinds_56 (by decide) (fun _ => ?_) (fun h9 => absurd h9 (by decide))
    refine g_bipush (10) dX7_kinds_64 rfl ?_
    refine g_icmp_ge 136 dX7_kinds_66 (by decide) (fun _ => ?_) (fun h9 => absurd (by decide) h9)
    refine g_aload_n dX7_kinds_136 rfl ?_
    refine mg_kind dX7_kinds_137 ?_
    refine g_iload_n dX7_kinds_140 rfl ?_
    refine g_iload dX7_kinds_141 rfl ?_
    refine msc_kind (p) hN (by omega) (by first | rfl | (simp only [nI, Int32.ofNat_add, Int32.ofNat_mul]; rfl) | (simp only [nI, Int32.ofNat_add, Int32.ofNat_mul]; done)) dX7_kinds_143 ?_
    rw [knA_1]
    refine g_aload_n dX7_kinds_144 rfl ?_
    refine mg_moreOf dX7_kinds_145 ?_
    refine g_iload_n dX7_kinds_148 rfl ?_
    refine g_iload dX7_kinds_149 rfl ?_
    refine msc_moreOf (p) hN (by omega) (by first | rfl | (simp only [nI, Int32.ofNat_add, Int32.ofNat_mul]; rfl) | (simp only [nI, Int32.ofNat_add, Int32.ofNat_mul]; done)) dX7_kinds_151 ?_
    rw [knA_2, knA_0]
    refine g_iload dX7_kinds_152 rfl ?_
    refine g_iret rfl (Nat.le_refl _) (Nat.le_refl _) ?_ dX7_kinds_154
    exact mK.of rfl
  | succ f ih =>
    intro v x y u k A2 hv hr
    unfold kinL at hr
    refine g_iload dX7_kinds_52 rfl ?_
    refine g_iload dX7_kinds_54 rfl ?_
    refine g_if_ne 64 dX7_kinds_56 (by decide) (fun _ => ?_) (fun h9 => absurd h9 (by decide))
    refine g_bipush (10) dX7_kinds_64 rfl ?_
    refine g_icmp_ge 136 dX7_kinds_66 (by decide) (fun h9 => absurd h9 (nI_ge (b := 10) (by omega) (by decide))) (fun _ => ?_)
    refine g_aload_n dX7_kinds_69 rfl ?_
    refine mg_kind dX7_kinds_70 ?_
    refine g_iload_n dX7_kinds_73 rfl ?_
    refine g_iload dX7_kinds_74 rfl ?_
    refine g_if_ne 84 dX7_kinds_76 (by decide) (fun _ => ?_) (fun h9 => absurd h9 (by decide))
    refine g_iload dX7_kinds_84 rfl ?_
    refine msc_kind (p) hN (by omega) (by first | rfl | (simp only [nI, Int32.ofNat_add, Int32.ofNat_mul]; rfl) | (simp only [nI, Int32.ofNat_add, Int32.ofNat_mul]; done)) dX7_kinds_86 ?_
    rw [knA_1]
    refine g_aload_n dX7_kinds_87 rfl ?_
    refine mg_moreOf dX7_kinds_88 ?_
    refine g_iload_n dX7_kinds_91 rfl ?_
    refine g_iload dX7_kinds_92 rfl ?_
    refine g_iconst (1) dX7_kinds_94 rfl ?_
    refine g_icmp_ne 103 dX7_kinds_95 (by decide) (fun h9 => absurd rfl h9) (fun _ => ?_)
    refine g_iload dX7_kinds_98 rfl ?_
    refine g_goto 105 dX7_kinds_100 (by decide) ?_
    refine msc_moreOf (p) hN (by omega) (by first | rfl | (simp only [nI, Int32.ofNat_add, Int32.ofNat_mul]; rfl) | (simp only [nI, Int32.ofNat_add, Int32.ofNat_mul]; done)) dX7_kinds_105 ?_
    rw [knA_2]
    refine g_iload dX7_kinds_106 rfl ?_
    refine g_aload_n dX7_kinds_108 rfl ?_
    refine g_iload_n dX7_kinds_109 rfl ?_
    refine g_iload_n dX7_kinds_110 rfl ?_
    refine g_iload_n dX7_kinds_111 rfl ?_
    refine gm_calli (n := 3) (c_unlike (m := m) (n := n) (ts := ts) hN hE hs ht hp hm hS) (lw_V q1731 q1733 qs65 q92 q1734) (by decide +kernel) rfl rfl (by decide) ⟨Nat.le_refl _, Nat.le_refl _⟩ (Nat.le_of_ble_eq_true rfl) dX7_kinds_112 (fun A2 => ?_)
    refine g_iconst (-1) dX7_kinds_115 rfl ?_
    refine g_icmp_ne 126 dX7_kinds_116 (by decide) (fun c1 => ?_) (fun c1 => ?_)
    · rw [if_neg (show ¬ unF (knA A p (if (1 : Int32) = 0 then nI v else A 1 p) (if (1 : Int32) = 1 then nI v else A 2 p)) n ts c s t p = -1 from c1)] at hr
      refine g_iconst (0) dX7_kinds_126 rfl ?_
      refine g_ior dX7_kinds_127 ?_
      refine g_istore (L' := [(8, _), (9, _), (7, _), (6, _), (5, _), (0, _), (1, _), (2, _), (3, _), (4, _)]) dX7_kinds_128 (by decide) rfl ?_
      refine g_iinc (nI (v + 1)) (L' := [(9, _), (8, _), (7, _), (6, _), (5, _), (0, _), (1, _), (2, _), (3, _), (4, _)]) dX7_kinds_130 rfl (nI_1 _) (by decide) rfl ?_
      refine g_goto 52 dX7_kinds_133 (by decide) ?_
      rw [kA_s]
      exact ih (v + 1) _ _ _ _ _ (by omega) hr
    · rw [if_pos (show unF (knA A p (if (1 : Int32) = 0 then nI v else A 1 p) (if (1 : Int32) = 1 then nI v else A 2 p)) n ts c s t p = -1 from c1)] at hr
      refine g_iconst (1) dX7_kinds_119 rfl ?_
      refine g_iload dX7_kinds_120 rfl ?_
      refine g_ishl dX7_kinds_122 ?_
      refine g_goto 127 dX7_kinds_123 (by decide) ?_
      refine g_ior dX7_kinds_127 ?_
      refine g_istore (L' := [(8, _), (9, _), (7, _), (6, _), (5, _), (0, _), (1, _), (2, _), (3, _), (4, _)]) dX7_kinds_128 (by decide) rfl ?_
      refine g_iinc (nI (v + 1)) (L' := [(9, _), (8, _), (7, _), (6, _), (5, _), (0, _), (1, _), (2, _), (3, _), (4, _)]) dX7_kinds_130 rfl (nI_1 _) (by decide) rfl ?_
      refine g_goto 52 dX7_kinds_133 (by decide) ?_
      rw [kA_s]
      exact ih (v + 1) _ _ _ _ _ (by omega) hr
theorem c_kinds {s t p so : Int32} (hN : gN g ≤ b) (hE : EnM F A n ts) (hS : ShM A) : Ct g yX7_kinds cX7_kinds 10 (some .int) 7 0 0 [.ref b, .int s, .int t, .int p, .int so] (hM g b (mF F c) (mA A c) A2 ω0) z (mK g b ω0 z (kindsF F A n ts c s t p so)) := by
  refine Ct.at (own := RX7) (by decide) rfl (Nat.le_of_ble_eq_true rfl) rfl ?_
  have hn6 := hE.2.1
  by_cases h1 : toldW F A s t p = 0
  · obtain ⟨s, t, p, m, hs, rfl, ht, rfl, hp, rfl, hm, hm2, hcs, hct, hcp⟩ := told_ix hE.1 hn6 hS h1
    rcases in_or so (hi := 1) (m := 1) (by decide) with h2 | ⟨so, hso, rfl, h2⟩
    · refine g_aload_n dX7_kinds_0 rfl ?_
      refine g_iload_n dX7_kinds_1 rfl ?_
      refine g_iload_n dX7_kinds_2 rfl ?_
      refine g_iload_n dX7_kinds_3 rfl ?_
      refine gm_calli (n := 3) (c_toldWrong hS) (lw_V q1723 q1725 qs63 q92 q1726) (by decide +kernel) rfl rfl (by decide) ⟨Nat.le_refl _, Nat.le_refl _⟩ (Nat.le_of_ble_eq_true rfl) dX7_kinds_4 (fun A2 => ?_)
      refine g_istore (L' := [(5, _), (0, _), (1, _), (2, _), (3, _), (4, _)]) dX7_kinds_7 (by decide) rfl ?_
      refine g_iload dX7_kinds_9 rfl ?_
      refine g_if_eq 17 dX7_kinds_11 (by decide) (fun _ => ?_) (fun h9 => absurd h1 h9)
      refine g_iload dX7_kinds_17 rfl ?_
      refine g_iconst (0) dX7_kinds_19 rfl ?_
      refine g_iconst (1) dX7_kinds_20 rfl ?_
      refine gs_calli (n := 3) (c_in ) (lw_S q1405 q1406 q92 q1407) (by decide +kernel) rfl rfl (by decide) ⟨Nat.le_refl _, Nat.le_refl _⟩ (Nat.le_of_ble_eq_true rfl) dX7_kinds_21 ?_
      refine g_if_ne 30 dX7_kinds_24 (by decide) (fun h9 => absurd h2 h9) (fun _ => ?_)
      refine g_bipush (-7) dX7_kinds_27 rfl ?_
      refine g_iret rfl (Nat.le_refl _) (Nat.le_refl _) ?_ dX7_kinds_29
      exact mK.of0 (by rw [kindsF, if_pos h1, if_pos h2])
    · have hso : so = 0 ∨ so = 1 := by omega
      rw [kindsF, if_pos h1, if_neg (by rw [h2]; decide), hcs, hct, hcp]
      refine g_aload_n dX7_kinds_0 rfl ?_
      refine g_iload_n dX7_kinds_1 rfl ?_
      refine g_iload_n dX7_kinds_2 rfl ?_
      refine g_iload_n dX7_kinds_3 rfl ?_
      refine gm_calli (n := 3) (c_toldWrong hS) (lw_V q1723 q1725 qs63 q92 q1726) (by decide +kernel) rfl rfl (by decide) ⟨Nat.le_refl _, Nat.le_refl _⟩ (Nat.le_of_ble_eq_true rfl) dX7_kinds_4 (fun A2 => ?_)
      refine g_istore (L' := [(5, _), (0, _), (1, _), (2, _), (3, _), (4, _)]) dX7_kinds_7 (by decide) rfl ?_
      refine g_iload dX7_kinds_9 rfl ?_
      refine g_if_eq 17 dX7_kinds_11 (by decide) (fun _ => ?_) (fun h9 => absurd h1 h9)
      refine g_iload dX7_kinds_17 rfl ?_
      refine g_iconst (0) dX7_kinds_19 rfl ?_
      refine g_iconst (1) dX7_kinds_20 rfl ?_
      refine gs_calli (n := 3) (c_in ) (lw_S q1405 q1406 q92 q1407) (by decide +kernel) rfl rfl (by decide) ⟨Nat.le_refl _, Nat.le_refl _⟩ (Nat.le_of_ble_eq_true rfl) dX7_kinds_21 ?_
      refine g_if_ne 30 dX7_kinds_24 (by decide) (fun _ => ?_) (fun h9 => absurd h9 (by rw [h2]; decide))
      refine g_aload_n dX7_kinds_30 rfl ?_
      refine mg_kind dX7_kinds_31 ?_
      refine g_iload_n dX7_kinds_34 rfl ?_
      refine mlc_kind (p) (by omega) (by first | rfl | (simp only [nI, Int32.ofNat_add, Int32.ofNat_mul]; rfl) | (simp only [nI, Int32.ofNat_add, Int32.ofNat_mul]; done)) dX7_kinds_35 ?_
      refine g_istore (L' := [(6, _), (5, _), (0, _), (1, _), (2, _), (3, _), (4, _)]) dX7_kinds_36 (by decide) rfl ?_
      refine g_aload_n dX7_kinds_38 rfl ?_
      refine mg_moreOf dX7_kinds_39 ?_
      refine g_iload_n dX7_kinds_42 rfl ?_
      refine mlc_moreOf (p) (by omega) (by first | rfl | (simp only [nI, Int32.ofNat_add, Int32.ofNat_mul]; rfl) | (simp only [nI, Int32.ofNat_add, Int32.ofNat_mul]; done)) dX7_kinds_43 ?_
      refine g_istore (L' := [(7, _), (6, _), (5, _), (0, _), (1, _), (2, _), (3, _), (4, _)]) dX7_kinds_44 (by decide) rfl ?_
      refine g_iconst (0) dX7_kinds_46 rfl ?_
      refine g_istore (L' := [(8, _), (7, _), (6, _), (5, _), (0, _), (1, _), (2, _), (3, _), (4, _)]) dX7_kinds_47 (by decide) rfl ?_
      refine g_iconst (0) dX7_kinds_49 rfl ?_
      refine g_istore (L' := [(9, _), (8, _), (7, _), (6, _), (5, _), (0, _), (1, _), (2, _), (3, _), (4, _)]) dX7_kinds_50 (by decide) rfl ?_
      rcases hso with rfl | rfl
      · have h := l_kinds0 (g := g) (p := p) (b := b) (z := z) (F := F) (ω0 := ω0) (c := c) (w := toldW F A (nI s) (nI t) (nI p)) hN hE hs ht (by omega) hm hm2 6 0 (A 1 p) (A 2 p) 0 (A 30) A2 (by omega) rfl
        rw [knA_0, sA_self] at h
        exact h
      · have h := l_kinds1 (g := g) (p := p) (b := b) (z := z) (F := F) (ω0 := ω0) (c := c) (w := toldW F A (nI s) (nI t) (nI p)) hN hE hs ht (by omega) hm hm2 10 0 (A 1 p) (A 2 p) 0 (A 30) A2 (by omega) rfl
        rw [knA_0, sA_self] at h
        exact h
  · refine g_aload_n dX7_kinds_0 rfl ?_
    refine g_iload_n dX7_kinds_1 rfl ?_
    refine g_iload_n dX7_kinds_2 rfl ?_
    refine g_iload_n dX7_kinds_3 rfl ?_
    refine gm_calli (n := 3) (c_toldWrong hS) (lw_V q1723 q1725 qs63 q92 q1726) (by decide +kernel) rfl rfl (by decide) ⟨Nat.le_refl _, Nat.le_refl _⟩ (Nat.le_of_ble_eq_true rfl) dX7_kinds_4 (fun A2 => ?_)
    refine g_istore (L' := [(5, _), (0, _), (1, _), (2, _), (3, _), (4, _)]) dX7_kinds_7 (by decide) rfl ?_
    refine g_iload dX7_kinds_9 rfl ?_
    refine g_if_eq 17 dX7_kinds_11 (by decide) (fun h9 => absurd h9 h1) (fun _ => ?_)
    refine g_iload dX7_kinds_14 rfl ?_
    refine g_iret rfl (Nat.le_refl _) (Nat.le_refl _) ?_ dX7_kinds_16
    exact mK.of0 (by rw [kindsF, if_neg h1])
theorem l_turned {s t p m : Nat} {r w : Int32} (hN : gN g ≤ b) (hE : EnM F A n ts) (hs : s < 4) (ht : t < 4) (hp : p < 6) (hm : m ≤ 40) (hS : A 16 t = nI m) :
    ∀ (f v : Nat) (x u : Int32) (k : Nat → Int32) (A2 : Nat → Nat → Int32), v + f = 16 → turL A n ts c s t p f v u = r → GN g RX7 cX7_turned 8 (some .int) 7 (mK g b ω0 z (r, F, A, c)) (hM g b (mF F (upd c.1 (3 * p) x, c.2.1, c.2.2)) (mA (sA A 30 k) (upd c.1 (3 * p) x, c.2.1, c.2.2)) A2 ω0) z 33 [(7, .int (nI v)), (6, .int u), (5, .int (c.1 (3 * p))), (4, .int w), (0, .ref b), (1, .int (nI s)), (2, .int (nI t)), (3, .int (nI p))] [] := by
  intro f
  induction f with
  | zero =>
    intro v x u k A2 hv hr
    have hv : v = 16 := by omega
    subst hv; subst hr
    refine g_iload dX7_turned_33 rfl ?_
    refine g_bipush (16) dX7_turned_35 rfl ?_
    refine g_icmp_ge 85 dX7_turned_37 (by decide) (fun _ => ?_) (fun h9 => absurd (by decide) h9)
    refine g_aload_n dX7_turned_85 rfl ?_
    refine mg_rows dX7_turned_86 ?_
    refine g_iconst (3) dX7_turned_89 rfl ?_
    refine g_iload_n dX7_turned_90 rfl ?_
    refine g_imul dX7_turned_91 ?_
    refine g_iload dX7_turned_92 rfl ?_
    refine msc_rows ((3 * p)) hN (by omega) (by first | rfl | (simp only [nI, Int32.ofNat_add, Int32.ofNat_mul]; rfl) | (simp only [nI, Int32.ofNat_add, Int32.ofNat_mul]; done)) dX7_turned_94 ?_
    refine g_iload dX7_turned_95 rfl ?_
    refine g_iret rfl (Nat.le_refl _) (Nat.le_refl _) ?_ dX7_turned_97
    dsimp only
    rw [upd_upd, upd_self]
    exact mK.of rfl
  | succ f ih =>
    intro v x u k A2 hv hr
    unfold turL at hr
    refine g_iload dX7_turned_33 rfl ?_
    refine g_bipush (16) dX7_turned_35 rfl ?_
    refine g_icmp_ge 85 dX7_turned_37 (by decide) (fun h9 => absurd h9 (nI_ge (b := 16) (by omega) (by decide))) (fun _ => ?_)
    refine g_aload_n dX7_turned_40 rfl ?_
    refine mg_rows dX7_turned_41 ?_
    refine g_iconst (3) dX7_turned_44 rfl ?_
    refine g_iload_n dX7_turned_45 rfl ?_
    refine g_imul dX7_turned_46 ?_
    refine g_iload dX7_turned_47 rfl ?_
    refine g_iconst (1) dX7_turned_49 rfl ?_
    refine g_iload dX7_turned_50 rfl ?_
    refine g_ishl dX7_turned_52 ?_
    refine g_ixor dX7_turned_53 ?_
    refine msc_rows ((3 * p)) hN (by omega) (by first | rfl | (simp only [nI, Int32.ofNat_add, Int32.ofNat_mul]; rfl) | (simp only [nI, Int32.ofNat_add, Int32.ofNat_mul]; done)) dX7_turned_54 ?_
    dsimp only
    rw [upd_upd]
    refine g_iload dX7_turned_55 rfl ?_
    refine g_aload_n dX7_turned_57 rfl ?_
    refine g_iload_n dX7_turned_58 rfl ?_
    refine g_iload_n dX7_turned_59 rfl ?_
    refine g_iload_n dX7_turned_60 rfl ?_
    refine gm_calli (n := 3) (c_unlike (m := m) (n := n) (ts := ts) hN hE hs ht hp hm hS) (lw_V q1731 q1733 qs65 q92 q1734) (by decide +kernel) rfl rfl (by decide) ⟨Nat.le_refl _, Nat.le_refl _⟩ (Nat.le_of_ble_eq_true rfl) dX7_turned_61 (fun A2 => ?_)
    refine g_iconst (-1) dX7_turned_64 rfl ?_
    refine g_icmp_ne 75 dX7_turned_65 (by decide) (fun c1 => ?_) (fun c1 => ?_)
    · rw [if_neg (show ¬ unF A n ts (upd c.1 (3 * p) (c.1 (3 * p) ^^^ one (nI v)), c.2.1, c.2.2) s t p = -1 from c1)] at hr
      refine g_iconst (0) dX7_turned_75 rfl ?_
      refine g_ior dX7_turned_76 ?_
      refine g_istore (L' := [(6, _), (7, _), (5, _), (4, _), (0, _), (1, _), (2, _), (3, _)]) dX7_turned_77 (by decide) rfl ?_
      refine g_iinc (nI (v + 1)) (L' := [(7, _), (6, _), (5, _), (4, _), (0, _), (1, _), (2, _), (3, _)]) dX7_turned_79 rfl (nI_1 _) (by decide) rfl ?_
      refine g_goto 33 dX7_turned_82 (by decide) ?_
      rw [kA_s]
      exact ih (v + 1) _ _ _ _ (by omega) hr
    · rw [if_pos (show unF A n ts (upd c.1 (3 * p) (c.1 (3 * p) ^^^ one (nI v)), c.2.1, c.2.2) s t p = -1 from c1)] at hr
      refine g_iconst (1) dX7_turned_68 rfl ?_
      refine g_iload dX7_turned_69 rfl ?_
      refine g_ishl dX7_turned_71 ?_
      refine g_goto 76 dX7_turned_72 (by decide) ?_
      refine g_ior dX7_turned_76 ?_
      refine g_istore (L' := [(6, _), (7, _), (5, _), (4, _), (0, _), (1, _), (2, _), (3, _)]) dX7_turned_77 (by decide) rfl ?_
      refine g_iinc (nI (v + 1)) (L' := [(7, _), (6, _), (5, _), (4, _), (0, _), (1, _), (2, _), (3, _)]) dX7_turned_79 rfl (nI_1 _) (by decide) rfl ?_
      refine g_goto 33 dX7_turned_82 (by decide) ?_
      rw [kA_s]
      exact ih (v + 1) _ _ _ _ (by omega) hr
theorem c_turned {s t p : Int32} (hN : gN g ≤ b) (hE : EnM F A n ts) (hS : ShM A) : Ct g yX7_turned cX7_turned 8 (some .int) 7 0 0 [.ref b, .int s, .int t, .int p] (hM g b (mF F c) (mA A c) A2 ω0) z (mK g b ω0 z (turnedF F A n ts c s t p)) := by
  refine Ct.at (own := RX7) (by decide) rfl (Nat.le_of_ble_eq_true rfl) rfl ?_
  have hn6 := hE.2.1
  by_cases h1 : toldW F A s t p = 0
  · obtain ⟨s, t, p, m, hs, rfl, ht, rfl, hp, rfl, hm, hm2, hcs, hct, hcp⟩ := told_ix hE.1 hn6 hS h1
    rw [turnedF, if_pos h1, hcs, hct, hcp]
    refine g_aload_n dX7_turned_0 rfl ?_
    refine g_iload_n dX7_turned_1 rfl ?_
    refine g_iload_n dX7_turned_2 rfl ?_
    refine g_iload_n dX7_turned_3 rfl ?_
    refine gm_calli (n := 3) (c_toldWrong hS) (lw_V q1723 q1725 qs63 q92 q1726) (by decide +kernel) rfl rfl (by decide) ⟨Nat.le_refl _, Nat.le_refl _⟩ (Nat.le_of_ble_eq_true rfl) dX7_turned_4 (fun A2 => ?_)
    refine g_istore (L' := [(4, _), (0, _), (1, _), (2, _), (3, _)]) dX7_turned_7 (by decide) rfl ?_
    refine g_iload dX7_turned_9 rfl ?_
    refine g_if_eq 17 dX7_turned_11 (by decide) (fun _ => ?_) (fun h9 => absurd h1 h9)
    refine g_aload_n dX7_turned_17 rfl ?_
    refine mg_rows dX7_turned_18 ?_
    refine g_iconst (3) dX7_turned_21 rfl ?_
    refine g_iload_n dX7_turned_22 rfl ?_
    refine g_imul dX7_turned_23 ?_
    refine mlc_rows ((3 * p)) (by omega) (by first | rfl | (simp only [nI, Int32.ofNat_add, Int32.ofNat_mul]; rfl) | (simp only [nI, Int32.ofNat_add, Int32.ofNat_mul]; done)) dX7_turned_24 ?_
    refine g_istore (L' := [(5, _), (4, _), (0, _), (1, _), (2, _), (3, _)]) dX7_turned_25 (by decide) rfl ?_
    refine g_iconst (0) dX7_turned_27 rfl ?_
    refine g_istore (L' := [(6, _), (5, _), (4, _), (0, _), (1, _), (2, _), (3, _)]) dX7_turned_28 (by decide) rfl ?_
    refine g_iconst (0) dX7_turned_30 rfl ?_
    refine g_istore (L' := [(7, _), (6, _), (5, _), (4, _), (0, _), (1, _), (2, _), (3, _)]) dX7_turned_31 (by decide) rfl ?_
    have h := l_turned (g := g) (p := p) (b := b) (z := z) (F := F) (ω0 := ω0) (c := c) (w := toldW F A (nI s) (nI t) (nI p)) hN hE hs ht (by omega) hm hm2 16 0 (c.1 (3 * p)) 0 (A 30) A2 (by omega) rfl
    rw [upd_self, sA_self] at h
    exact h
  · refine g_aload_n dX7_turned_0 rfl ?_
    refine g_iload_n dX7_turned_1 rfl ?_
    refine g_iload_n dX7_turned_2 rfl ?_
    refine g_iload_n dX7_turned_3 rfl ?_
    refine gm_calli (n := 3) (c_toldWrong hS) (lw_V q1723 q1725 qs63 q92 q1726) (by decide +kernel) rfl rfl (by decide) ⟨Nat.le_refl _, Nat.le_refl _⟩ (Nat.le_of_ble_eq_true rfl) dX7_turned_4 (fun A2 => ?_)
    refine g_istore (L' := [(4, _), (0, _), (1, _), (2, _), (3, _)]) dX7_turned_7 (by decide) rfl ?_
    refine g_iload dX7_turned_9 rfl ?_
    refine g_if_eq 17 dX7_turned_11 (by decide) (fun h9 => absurd h9 h1) (fun _ => ?_)
    refine g_iload dX7_turned_14 rfl ?_
    refine g_iret rfl (Nat.le_refl _) (Nat.le_refl _) ?_ dX7_turned_16
    exact mK.of0 (by rw [turnedF, if_neg h1])
theorem l_lucks {s t p m : Nat} {rx ry w wh : Int32} (hN : gN g ≤ b) (hE : EnM F A n ts) (hs : s < 4) (ht : t < 4) (hp : p < 6) (hm : m ≤ 40) (hS : A 16 t = nI m) :
    ∀ (f v : Nat) (x u y : Int32) (k : Nat → Int32) (A2 : Nat → Nat → Int32) (q : List (Nat × Value)), v + f = 100 → lucL A n ts c s t p f v u y = (rx, ry) → GN g RX7 cX7_lucks 11 (some .int) 7 (mK g b ω0 z (if wh = 0 then rx else ry, F, A, c)) (hM g b (mF F (upd c.1 (3 * p + 2) x, c.2.1, c.2.2)) (mA (sA A 30 k) (upd c.1 (3 * p + 2) x, c.2.1, c.2.2)) A2 ω0) z 51 [(9, .int (nI v)), (8, .int y), (7, .int u), (6, .int (c.1 (3 * p + 2))), (5, .int w), (0, .ref b), (1, .int (nI s)), (2, .int (nI t)), (3, .int (nI p)), (4, .int wh)] [] := by
  intro f
  induction f with
  | zero =>
    intro v x u y k A2 q hv hr
    have hv : v = 100 := by omega
    subst hv; cases hr
    refine g_iload dX7_lucks_51 rfl ?_
    refine g_bipush (99) dX7_lucks_53 rfl ?_
    refine g_icmp_gt 129 dX7_lucks_55 (by decide) (fun _ => ?_) (fun h9 => absurd (by decide) h9)
    refine g_aload_n dX7_lucks_129 rfl ?_
    refine mg_rows dX7_lucks_130 ?_
    refine g_iconst (3) dX7_lucks_133 rfl ?_
    refine g_iload_n dX7_lucks_134 rfl ?_
    refine g_imul dX7_lucks_135 ?_
    refine g_iconst (2) dX7_lucks_136 rfl ?_
    refine g_iadd dX7_lucks_137 ?_
    refine g_iload dX7_lucks_138 rfl ?_
    refine msc_rows (((3 * p) + 2)) hN (by omega) (by first | rfl | (simp only [nI, Int32.ofNat_add, Int32.ofNat_mul]; rfl) | (simp only [nI, Int32.ofNat_add, Int32.ofNat_mul]; done)) dX7_lucks_140 ?_
    refine g_iload dX7_lucks_141 rfl ?_
    refine g_if_ne 151 dX7_lucks_143 (by decide) (fun c1 => ?_) (fun c1 => ?_)
    · rw [if_neg c1]
      refine g_iload dX7_lucks_151 rfl ?_
      refine g_iret rfl (Nat.le_refl _) (Nat.le_refl _) ?_ dX7_lucks_153
      dsimp only
      rw [upd_upd, upd_self]
      exact mK.of rfl
    · rw [if_pos c1]
      refine g_iload dX7_lucks_146 rfl ?_
      refine g_goto 153 dX7_lucks_148 (by decide) ?_
      refine g_iret rfl (Nat.le_refl _) (Nat.le_refl _) ?_ dX7_lucks_153
      dsimp only
      rw [upd_upd, upd_self]
      exact mK.of rfl
  | succ f ih =>
    intro v x u y k A2 q hv hr
    unfold lucL at hr
    refine g_iload dX7_lucks_51 rfl ?_
    refine g_bipush (99) dX7_lucks_53 rfl ?_
    refine g_icmp_gt 129 dX7_lucks_55 (by decide) (fun h9 => absurd h9 (nI_nlt (a := 99) (by omega) (by omega))) (fun _ => ?_)
    refine g_aload_n dX7_lucks_58 rfl ?_
    refine mg_rows dX7_lucks_59 ?_
    refine g_iconst (3) dX7_lucks_62 rfl ?_
    refine g_iload_n dX7_lucks_63 rfl ?_
    refine g_imul dX7_lucks_64 ?_
    refine g_iconst (2) dX7_lucks_65 rfl ?_
    refine g_iadd dX7_lucks_66 ?_
    refine g_iload dX7_lucks_67 rfl ?_
    refine msc_rows (((3 * p) + 2)) hN (by omega) (by first | rfl | (simp only [nI, Int32.ofNat_add, Int32.ofNat_mul]; rfl) | (simp only [nI, Int32.ofNat_add, Int32.ofNat_mul]; done)) dX7_lucks_69 ?_
    dsimp only
    rw [upd_upd]
    refine g_aload_n dX7_lucks_70 rfl ?_
    refine g_iload_n dX7_lucks_71 rfl ?_
    refine g_iload_n dX7_lucks_72 rfl ?_
    refine g_iload_n dX7_lucks_73 rfl ?_
    refine gm_calli (n := 3) (c_unlike (m := m) (n := n) (ts := ts) hN hE hs ht hp hm hS) (lw_V q1731 q1733 qs65 q92 q1734) (by decide +kernel) rfl rfl (by decide) ⟨Nat.le_refl _, Nat.le_refl _⟩ (Nat.le_of_ble_eq_true rfl) dX7_lucks_74 (fun A2 => ?_)
    refine g_iconst (-1) dX7_lucks_77 rfl ?_
    refine g_icmp_ne 85 dX7_lucks_78 (by decide) (fun c1 => ?_) (fun c1 => ?_)
    · rw [if_neg (show ¬ unF A n ts (upd c.1 (3 * p + 2) (nI v), c.2.1, c.2.2) s t p = -1 from c1)] at hr
      refine g_iconst (0) dX7_lucks_85 rfl ?_
      refine g_istore (L' := [(10, _), (9, _), (8, _), (7, _), (6, _), (5, _), (0, _), (1, _), (2, _), (3, _), (4, _)]) dX7_lucks_86 (by decide) rfl ?_
      refine g_iload dX7_lucks_88 rfl ?_
      refine g_iload dX7_lucks_90 rfl ?_
      refine g_if_eq 99 dX7_lucks_92 (by decide) (fun _ => ?_) (fun h9 => absurd rfl h9)
      refine g_iconst (0) dX7_lucks_99 rfl ?_
      refine g_iadd dX7_lucks_100 ?_
      refine g_istore (L' := [(7, _), (10, _), (9, _), (8, _), (6, _), (5, _), (0, _), (1, _), (2, _), (3, _), (4, _)]) dX7_lucks_101 (by decide) rfl ?_
      refine g_iload dX7_lucks_103 rfl ?_
      refine g_if_eq 119 dX7_lucks_105 (by decide) (fun _ => ?_) (fun h9 => absurd rfl h9)
      refine g_iload dX7_lucks_119 rfl ?_
      refine g_istore (L' := [(8, _), (7, _), (10, _), (9, _), (6, _), (5, _), (0, _), (1, _), (2, _), (3, _), (4, _)]) dX7_lucks_121 (by decide) rfl ?_
      refine g_iinc (nI (v + 1)) (L' := [(9, _), (8, _), (7, _), (10, _), (6, _), (5, _), (0, _), (1, _), (2, _), (3, _), (4, _)]) dX7_lucks_123 rfl (nI_1 _) (by decide) rfl ?_
      refine g_goto 51 dX7_lucks_126 (by decide) ?_
      refine g_pick [0, 1, 2, 4, 5, 6, 7, 8, 9, 10] rfl ?_
      rw [kA_s]
      exact ih (v + 1) _ _ _ _ _ q (by omega) hr
    · rw [if_pos (show unF A n ts (upd c.1 (3 * p + 2) (nI v), c.2.1, c.2.2) s t p = -1 from c1)] at hr
      refine g_iconst (1) dX7_lucks_81 rfl ?_
      refine g_goto 86 dX7_lucks_82 (by decide) ?_
      refine g_istore (L' := [(10, _), (9, _), (8, _), (7, _), (6, _), (5, _), (0, _), (1, _), (2, _), (3, _), (4, _)]) dX7_lucks_86 (by decide) rfl ?_
      refine g_iload dX7_lucks_88 rfl ?_
      refine g_iload dX7_lucks_90 rfl ?_
      refine g_if_eq 99 dX7_lucks_92 (by decide) (fun h9 => absurd h9 (by decide)) (fun _ => ?_)
      refine g_iconst (1) dX7_lucks_95 rfl ?_
      refine g_goto 100 dX7_lucks_96 (by decide) ?_
      refine g_iadd dX7_lucks_100 ?_
      refine g_istore (L' := [(7, _), (10, _), (9, _), (8, _), (6, _), (5, _), (0, _), (1, _), (2, _), (3, _), (4, _)]) dX7_lucks_101 (by decide) rfl ?_
      refine g_iload dX7_lucks_103 rfl ?_
      refine g_if_eq 119 dX7_lucks_105 (by decide) (fun h9 => absurd h9 (by decide)) (fun _ => ?_)
      refine g_iload dX7_lucks_108 rfl ?_
      refine g_iconst (-1) dX7_lucks_110 rfl ?_
      refine g_icmp_ne 119 dX7_lucks_111 (by decide) (fun c2 => ?_) (fun c2 => ?_)
      · rw [if_neg c2] at hr
        refine g_iload dX7_lucks_119 rfl ?_
        refine g_istore (L' := [(8, _), (7, _), (10, _), (9, _), (6, _), (5, _), (0, _), (1, _), (2, _), (3, _), (4, _)]) dX7_lucks_121 (by decide) rfl ?_
        refine g_iinc (nI (v + 1)) (L' := [(9, _), (8, _), (7, _), (10, _), (6, _), (5, _), (0, _), (1, _), (2, _), (3, _), (4, _)]) dX7_lucks_123 rfl (nI_1 _) (by decide) rfl ?_
        refine g_goto 51 dX7_lucks_126 (by decide) ?_
        refine g_pick [0, 1, 2, 4, 5, 6, 7, 8, 9, 10] rfl ?_
        rw [kA_s]
        exact ih (v + 1) _ _ _ _ _ q (by omega) hr
      · rw [if_pos c2] at hr
        refine g_iload dX7_lucks_114 rfl ?_
        refine g_goto 121 dX7_lucks_116 (by decide) ?_
        refine g_istore (L' := [(8, _), (7, _), (10, _), (9, _), (6, _), (5, _), (0, _), (1, _), (2, _), (3, _), (4, _)]) dX7_lucks_121 (by decide) rfl ?_
        refine g_iinc (nI (v + 1)) (L' := [(9, _), (8, _), (7, _), (10, _), (6, _), (5, _), (0, _), (1, _), (2, _), (3, _), (4, _)]) dX7_lucks_123 rfl (nI_1 _) (by decide) rfl ?_
        refine g_goto 51 dX7_lucks_126 (by decide) ?_
        refine g_pick [0, 1, 2, 4, 5, 6, 7, 8, 9, 10] rfl ?_
        rw [kA_s]
        exact ih (v + 1) _ _ _ _ _ q (by omega) hr
theorem c_lucks {s t p w : Int32} (hN : gN g ≤ b) (hE : EnM F A n ts) (hS : ShM A) : Ct g yX7_lucks cX7_lucks 11 (some .int) 7 0 0 [.ref b, .int s, .int t, .int p, .int w] (hM g b (mF F c) (mA A c) A2 ω0) z (mK g b ω0 z (lucksP F A n ts c s t p w)) := by
  refine Ct.at (own := RX7) (by decide) rfl (Nat.le_of_ble_eq_true rfl) rfl ?_
  have hn6 := hE.2.1
  by_cases h1 : toldW F A s t p = 0
  · obtain ⟨s, t, p, m, hs, rfl, ht, rfl, hp, rfl, hm, hm2, hcs, hct, hcp⟩ := told_ix hE.1 hn6 hS h1
    by_cases h2 : inI w 0 1 = 0
    · refine g_aload_n dX7_lucks_0 rfl ?_
      refine g_iload_n dX7_lucks_1 rfl ?_
      refine g_iload_n dX7_lucks_2 rfl ?_
      refine g_iload_n dX7_lucks_3 rfl ?_
      refine gm_calli (n := 3) (c_toldWrong hS) (lw_V q1723 q1725 qs63 q92 q1726) (by decide +kernel) rfl rfl (by decide) ⟨Nat.le_refl _, Nat.le_refl _⟩ (Nat.le_of_ble_eq_true rfl) dX7_lucks_4 (fun A2 => ?_)
      refine g_istore (L' := [(5, _), (0, _), (1, _), (2, _), (3, _), (4, _)]) dX7_lucks_7 (by decide) rfl ?_
      refine g_iload dX7_lucks_9 rfl ?_
      refine g_if_eq 17 dX7_lucks_11 (by decide) (fun _ => ?_) (fun h9 => absurd h1 h9)
      refine g_iload dX7_lucks_17 rfl ?_
      refine g_iconst (0) dX7_lucks_19 rfl ?_
      refine g_iconst (1) dX7_lucks_20 rfl ?_
      refine gs_calli (n := 3) (c_in ) (lw_S q1405 q1406 q92 q1407) (by decide +kernel) rfl rfl (by decide) ⟨Nat.le_refl _, Nat.le_refl _⟩ (Nat.le_of_ble_eq_true rfl) dX7_lucks_21 ?_
      refine g_if_ne 30 dX7_lucks_24 (by decide) (fun h9 => absurd h2 h9) (fun _ => ?_)
      refine g_bipush (-7) dX7_lucks_27 rfl ?_
      refine g_iret rfl (Nat.le_refl _) (Nat.le_refl _) ?_ dX7_lucks_29
      exact mK.of0 (by rw [lucksP, if_pos h1, if_pos h2])
    · rw [lucksP, if_pos h1, if_neg h2, hcs, hct, hcp]
      refine g_aload_n dX7_lucks_0 rfl ?_
      refine g_iload_n dX7_lucks_1 rfl ?_
      refine g_iload_n dX7_lucks_2 rfl ?_
      refine g_iload_n dX7_lucks_3 rfl ?_
      refine gm_calli (n := 3) (c_toldWrong hS) (lw_V q1723 q1725 qs63 q92 q1726) (by decide +kernel) rfl rfl (by decide) ⟨Nat.le_refl _, Nat.le_refl _⟩ (Nat.le_of_ble_eq_true rfl) dX7_lucks_4 (fun A2 => ?_)
      refine g_istore (L' := [(5, _), (0, _), (1, _), (2, _), (3, _), (4, _)]) dX7_lucks_7 (by decide) rfl ?_
      refine g_iload dX7_lucks_9 rfl ?_
      refine g_if_eq 17 dX7_lucks_11 (by decide) (fun _ => ?_) (fun h9 => absurd h1 h9)
      refine g_iload dX7_lucks_17 rfl ?_
      refine g_iconst (0) dX7_lucks_19 rfl ?_
      refine g_iconst (1) dX7_lucks_20 rfl ?_
      refine gs_calli (n := 3) (c_in ) (lw_S q1405 q1406 q92 q1407) (by decide +kernel) rfl rfl (by decide) ⟨Nat.le_refl _, Nat.le_refl _⟩ (Nat.le_of_ble_eq_true rfl) dX7_lucks_21 ?_
      refine g_if_ne 30 dX7_lucks_24 (by decide) (fun _ => ?_) (fun h9 => absurd h9 h2)
      refine g_aload_n dX7_lucks_30 rfl ?_
      refine mg_rows dX7_lucks_31 ?_
      refine g_iconst (3) dX7_lucks_34 rfl ?_
      refine g_iload_n dX7_lucks_35 rfl ?_
      refine g_imul dX7_lucks_36 ?_
      refine g_iconst (2) dX7_lucks_37 rfl ?_
      refine g_iadd dX7_lucks_38 ?_
      refine mlc_rows (((3 * p) + 2)) (by omega) (by first | rfl | (simp only [nI, Int32.ofNat_add, Int32.ofNat_mul]; rfl) | (simp only [nI, Int32.ofNat_add, Int32.ofNat_mul]; done)) dX7_lucks_39 ?_
      refine g_istore (L' := [(6, _), (5, _), (0, _), (1, _), (2, _), (3, _), (4, _)]) dX7_lucks_40 (by decide) rfl ?_
      refine g_iconst (0) dX7_lucks_42 rfl ?_
      refine g_istore (L' := [(7, _), (6, _), (5, _), (0, _), (1, _), (2, _), (3, _), (4, _)]) dX7_lucks_43 (by decide) rfl ?_
      refine g_iconst (-1) dX7_lucks_45 rfl ?_
      refine g_istore (L' := [(8, _), (7, _), (6, _), (5, _), (0, _), (1, _), (2, _), (3, _), (4, _)]) dX7_lucks_46 (by decide) rfl ?_
      refine g_iconst (0) dX7_lucks_48 rfl ?_
      refine g_istore (L' := [(9, _), (8, _), (7, _), (6, _), (5, _), (0, _), (1, _), (2, _), (3, _), (4, _)]) dX7_lucks_49 (by decide) rfl ?_
      have h := l_lucks (g := g) (p := p) (b := b) (z := z) (F := F) (ω0 := ω0) (c := c) (wh := w) (w := toldW F A (nI s) (nI t) (nI p)) hN hE hs ht (by omega) hm hm2 100 0 (c.1 (3 * p + 2)) 0 (-1) (A 30) A2 [] (by omega) rfl
      rw [upd_self, sA_self] at h
      exact h
  · refine g_aload_n dX7_lucks_0 rfl ?_
    refine g_iload_n dX7_lucks_1 rfl ?_
    refine g_iload_n dX7_lucks_2 rfl ?_
    refine g_iload_n dX7_lucks_3 rfl ?_
    refine gm_calli (n := 3) (c_toldWrong hS) (lw_V q1723 q1725 qs63 q92 q1726) (by decide +kernel) rfl rfl (by decide) ⟨Nat.le_refl _, Nat.le_refl _⟩ (Nat.le_of_ble_eq_true rfl) dX7_lucks_4 (fun A2 => ?_)
    refine g_istore (L' := [(5, _), (0, _), (1, _), (2, _), (3, _), (4, _)]) dX7_lucks_7 (by decide) rfl ?_
    refine g_iload dX7_lucks_9 rfl ?_
    refine g_if_eq 17 dX7_lucks_11 (by decide) (fun h9 => absurd h9 h1) (fun _ => ?_)
    refine g_iload dX7_lucks_14 rfl ?_
    refine g_iret rfl (Nat.le_refl _) (Nat.le_refl _) ?_ dX7_lucks_16
    exact mK.of0 (by rw [lucksP, if_neg h1])
theorem l_whose {s t m : Nat} {r w : Int32} (hN : gN g ≤ b) (hE : EnM F A n ts) (hs : s < 4) (ht : t < 4) (hm : m ≤ 40) (hS : A 16 t = nI m) :
    ∀ (f p : Nat) (u : Int32) (k : Nat → Int32) (A2 : Nat → Nat → Int32), p + f = n → whoL A n ts c s t f p u = r → GN g RX7 cX7_whose 6 (some .int) 7 (mK g b ω0 z (r, F, A, c)) (hM g b (mF F c) (mA (sA A 30 k) c) A2 ω0) z 19 [(5, .int (nI p)), (4, .int u), (3, .int w), (0, .ref b), (1, .int (nI s)), (2, .int (nI t))] [] := by
  have hn6 := hE.2.1
  intro f
  induction f with
  | zero =>
    intro p u k A2 hv hr
    subst hr
    refine g_iload dX7_whose_19 rfl ?_
    refine g_aload_n dX7_whose_21 rfl ?_
    refine mgc_fishers dX7_whose_22 ?_
    refine g_icmp_ge 59 dX7_whose_25 (by decide) (fun _ => ?_) (fun h9 => absurd (by rw [hE.1]; exact nI_le (by omega) (by omega)) h9)
    refine g_iload dX7_whose_59 rfl ?_
    refine g_iret rfl (Nat.le_refl _) (Nat.le_refl _) ?_ dX7_whose_61
    exact mK.of rfl
  | succ f ih =>
    intro p u k A2 hv hr
    unfold whoL at hr
    refine g_iload dX7_whose_19 rfl ?_
    refine g_aload_n dX7_whose_21 rfl ?_
    refine mgc_fishers dX7_whose_22 ?_
    refine g_icmp_ge 59 dX7_whose_25 (by decide) (fun h9 => absurd h9 (by rw [hE.1]; exact nI_ge (by omega) (by omega))) (fun _ => ?_)
    refine g_iload dX7_whose_28 rfl ?_
    refine g_aload_n dX7_whose_30 rfl ?_
    refine g_iload_n dX7_whose_31 rfl ?_
    refine g_iload_n dX7_whose_32 rfl ?_
    refine g_iload dX7_whose_33 rfl ?_
    refine gm_calli (n := 3) (c_unlike (m := m) (n := n) (ts := ts) hN hE hs ht (by omega) hm hS) (lw_V q1731 q1733 qs65 q92 q1734) (by decide +kernel) rfl rfl (by decide) ⟨Nat.le_refl _, Nat.le_refl _⟩ (Nat.le_of_ble_eq_true rfl) dX7_whose_35 (fun A2 => ?_)
    refine g_iconst (-1) dX7_whose_38 rfl ?_
    refine g_icmp_ne 49 dX7_whose_39 (by decide) (fun c1 => ?_) (fun c1 => ?_)
    · rw [if_neg (show ¬ unF A n ts c s t p = -1 from c1)] at hr
      refine g_iconst (0) dX7_whose_49 rfl ?_
      refine g_ior dX7_whose_50 ?_
      refine g_istore (L' := [(4, _), (5, _), (3, _), (0, _), (1, _), (2, _)]) dX7_whose_51 (by decide) rfl ?_
      refine g_iinc (nI (p + 1)) (L' := [(5, _), (4, _), (3, _), (0, _), (1, _), (2, _)]) dX7_whose_53 rfl (nI_1 _) (by decide) rfl ?_
      refine g_goto 19 dX7_whose_56 (by decide) ?_
      rw [kA_s]
      exact ih (p + 1) _ _ _ (by omega) hr
    · rw [if_pos (show unF A n ts c s t p = -1 from c1)] at hr
      refine g_iconst (1) dX7_whose_42 rfl ?_
      refine g_iload dX7_whose_43 rfl ?_
      refine g_ishl dX7_whose_45 ?_
      refine g_goto 50 dX7_whose_46 (by decide) ?_
      refine g_ior dX7_whose_50 ?_
      refine g_istore (L' := [(4, _), (5, _), (3, _), (0, _), (1, _), (2, _)]) dX7_whose_51 (by decide) rfl ?_
      refine g_iinc (nI (p + 1)) (L' := [(5, _), (4, _), (3, _), (0, _), (1, _), (2, _)]) dX7_whose_53 rfl (nI_1 _) (by decide) rfl ?_
      refine g_goto 19 dX7_whose_56 (by decide) ?_
      rw [kA_s]
      exact ih (p + 1) _ _ _ (by omega) hr
theorem c_whose {s t : Int32} (hN : gN g ≤ b) (hE : EnM F A n ts) (hS : ShM A) : Ct g yX7_whose cX7_whose 6 (some .int) 7 0 0 [.ref b, .int s, .int t] (hM g b (mF F c) (mA A c) A2 ω0) z (mK g b ω0 z (whoseF F A n ts c s t)) := by
  refine Ct.at (own := RX7) (by decide) rfl (Nat.le_of_ble_eq_true rfl) rfl ?_
  have hn6 := hE.2.1
  by_cases h1 : twoW A s t = 0
  · obtain ⟨s, t, m, hs, rfl, ht, rfl, hm, hm2, hcs, hct⟩ := two_ix hS h1
    rw [whoseF, if_pos h1, hcs, hct]
    refine g_aload_n dX7_whose_0 rfl ?_
    refine g_iload_n dX7_whose_1 rfl ?_
    refine g_iload_n dX7_whose_2 rfl ?_
    refine gm_calli (n := 2) (c_twoWrong hS) (lw_V q1727 q1729 qs64 q92 q1730) (by decide +kernel) rfl rfl (by decide) ⟨Nat.le_refl _, Nat.le_refl _⟩ (Nat.le_of_ble_eq_true rfl) dX7_whose_3 (fun A2 => ?_)
    refine g_istore_n (L' := [(3, _), (0, _), (1, _), (2, _)]) dX7_whose_6 (by decide) rfl ?_
    refine g_iload_n dX7_whose_7 rfl ?_
    refine g_if_eq 13 dX7_whose_8 (by decide) (fun _ => ?_) (fun h9 => absurd h1 h9)
    refine g_iconst (0) dX7_whose_13 rfl ?_
    refine g_istore (L' := [(4, _), (3, _), (0, _), (1, _), (2, _)]) dX7_whose_14 (by decide) rfl ?_
    refine g_iconst (0) dX7_whose_16 rfl ?_
    refine g_istore (L' := [(5, _), (4, _), (3, _), (0, _), (1, _), (2, _)]) dX7_whose_17 (by decide) rfl ?_
    have h := l_whose (g := g) (b := b) (z := z) (F := F) (ω0 := ω0) (c := c) (w := twoW A (nI s) (nI t)) hN hE hs ht hm hm2 n 0 0 (A 30) A2 (by omega) rfl
    rw [sA_self] at h
    exact h
  · refine g_aload_n dX7_whose_0 rfl ?_
    refine g_iload_n dX7_whose_1 rfl ?_
    refine g_iload_n dX7_whose_2 rfl ?_
    refine gm_calli (n := 2) (c_twoWrong hS) (lw_V q1727 q1729 qs64 q92 q1730) (by decide +kernel) rfl rfl (by decide) ⟨Nat.le_refl _, Nat.le_refl _⟩ (Nat.le_of_ble_eq_true rfl) dX7_whose_3 (fun A2 => ?_)
    refine g_istore_n (L' := [(3, _), (0, _), (1, _), (2, _)]) dX7_whose_6 (by decide) rfl ?_
    refine g_iload_n dX7_whose_7 rfl ?_
    refine g_if_eq 13 dX7_whose_8 (by decide) (fun h9 => absurd h9 h1) (fun _ => ?_)
    refine g_iload_n dX7_whose_11 rfl ?_
    refine g_iret rfl (Nat.le_refl _) (Nat.le_refl _) ?_ dX7_whose_12
    exact mK.of0 (by rw [whoseF, if_neg h1])
theorem l_laws {s t p m tn : Nat} {T : Nat → Nat → List Int32} {r w : Int32} (hN : gN g ≤ b) (hn : F 0 = nI n) (hn6 : n ≤ 6) (htn : F 10 = nI tn) (htn6 : tn ≤ 6) (hT : ∀ j, j < tn → TXr A j (T j)) (hs : s < 4) (ht : t < 4) (hp : p < 6) (hm : m ≤ 40) (hS : A 16 t = nI m) :
    ∀ (f j : Nat) (x u : Int32) (k : Nat → Int32) (A2 : Nat → Nat → Int32), j + f = tn → lawL A n c T s t p f j u = r → GN g RX7 cX7_laws 8 (some .int) 7 (mK g b ω0 z (r, F, A, c)) (hM g b (mF (upd F 11 x) c) (mA (sA A 30 k) c) A2 ω0) z 29 [(7, .int (nI j)), (6, .int u), (5, .int (F 11)), (4, .int w), (0, .ref b), (1, .int (nI s)), (2, .int (nI t)), (3, .int (nI p))] [] := by
  intro f
  induction f with
  | zero =>
    intro j x u k A2 hv hr
    subst hr
    refine g_iload dX7_laws_29 rfl ?_
    refine g_aload_n dX7_laws_31 rfl ?_
    refine mgc_texts dX7_laws_32 ?_
    refine g_icmp_ge 74 dX7_laws_35 (by decide) (fun _ => ?_) (fun h9 => absurd (by show F 10 ≤ _; rw [htn]; exact nI_le (by omega) (by omega)) h9)
    refine g_aload_n dX7_laws_74 rfl ?_
    refine g_iload dX7_laws_75 rfl ?_
    refine mpc_rule hN  dX7_laws_77 ?_
    refine g_iload dX7_laws_80 rfl ?_
    refine g_iret rfl (Nat.le_refl _) (Nat.le_refl _) ?_ dX7_laws_82
    rw [upd_upd, upd_self]
    exact mK.of rfl
  | succ f ih =>
    intro j x u k A2 hv hr
    unfold lawL at hr
    have hE : EnM (upd F 11 (nI j)) (sA A 30 k) n (T j) := ⟨hn, hn6, j, by omega, upd_same _ _ _, hT j (by omega)⟩
    refine g_iload dX7_laws_29 rfl ?_
    refine g_aload_n dX7_laws_31 rfl ?_
    refine mgc_texts dX7_laws_32 ?_
    refine g_icmp_ge 74 dX7_laws_35 (by decide) (fun h9 => absurd h9 (by show ¬ F 10 ≤ _; rw [htn]; exact nI_ge (by omega) (by omega))) (fun _ => ?_)
    refine g_aload_n dX7_laws_38 rfl ?_
    refine g_iload dX7_laws_39 rfl ?_
    refine mpc_rule hN  dX7_laws_41 ?_
    rw [upd_upd]
    refine g_iload dX7_laws_44 rfl ?_
    refine g_aload_n dX7_laws_46 rfl ?_
    refine g_iload_n dX7_laws_47 rfl ?_
    refine g_iload_n dX7_laws_48 rfl ?_
    refine g_iload_n dX7_laws_49 rfl ?_
    refine gm_calli (n := 3) (c_unlike (m := m) (n := n) (ts := T j) hN hE hs ht hp hm hS) (lw_V q1731 q1733 qs65 q92 q1734) (by decide +kernel) rfl rfl (by decide) ⟨Nat.le_refl _, Nat.le_refl _⟩ (Nat.le_of_ble_eq_true rfl) dX7_laws_50 (fun A2 => ?_)
    refine g_iconst (-1) dX7_laws_53 rfl ?_
    refine g_icmp_ne 64 dX7_laws_54 (by decide) (fun c1 => ?_) (fun c1 => ?_)
    · rw [if_neg (show ¬ unF A n (T j) c s t p = -1 from c1)] at hr
      refine g_iconst (0) dX7_laws_64 rfl ?_
      refine g_ior dX7_laws_65 ?_
      refine g_istore (L' := [(6, _), (7, _), (5, _), (4, _), (0, _), (1, _), (2, _), (3, _)]) dX7_laws_66 (by decide) rfl ?_
      refine g_iinc (nI (j + 1)) (L' := [(7, _), (6, _), (5, _), (4, _), (0, _), (1, _), (2, _), (3, _)]) dX7_laws_68 rfl (nI_1 _) (by decide) rfl ?_
      refine g_goto 29 dX7_laws_71 (by decide) ?_
      rw [kA_s]
      exact ih (j + 1) _ _ _ _ (by omega) hr
    · rw [if_pos (show unF A n (T j) c s t p = -1 from c1)] at hr
      refine g_iconst (1) dX7_laws_57 rfl ?_
      refine g_iload dX7_laws_58 rfl ?_
      refine g_ishl dX7_laws_60 ?_
      refine g_goto 65 dX7_laws_61 (by decide) ?_
      refine g_ior dX7_laws_65 ?_
      refine g_istore (L' := [(6, _), (7, _), (5, _), (4, _), (0, _), (1, _), (2, _), (3, _)]) dX7_laws_66 (by decide) rfl ?_
      refine g_iinc (nI (j + 1)) (L' := [(7, _), (6, _), (5, _), (4, _), (0, _), (1, _), (2, _), (3, _)]) dX7_laws_68 rfl (nI_1 _) (by decide) rfl ?_
      refine g_goto 29 dX7_laws_71 (by decide) ?_
      rw [kA_s]
      exact ih (j + 1) _ _ _ _ (by omega) hr
theorem c_laws {s t p : Int32} {tn : Nat} {T : Nat → Nat → List Int32} (htn : F 10 = nI tn) (htn6 : tn ≤ 6) (hT : ∀ j, j < tn → TXr A j (T j)) (hN : gN g ≤ b) (hE : EnM F A n ts) (hS : ShM A) : Ct g yX7_laws cX7_laws 8 (some .int) 7 0 0 [.ref b, .int s, .int t, .int p] (hM g b (mF F c) (mA A c) A2 ω0) z (mK g b ω0 z (lawsF F A n c T s t p)) := by
  refine Ct.at (own := RX7) (by decide) rfl (Nat.le_of_ble_eq_true rfl) rfl ?_
  have hn6 := hE.2.1
  by_cases h1 : toldW F A s t p = 0
  · obtain ⟨s, t, p, m, hs, rfl, ht, rfl, hp, rfl, hm, hm2, hcs, hct, hcp⟩ := told_ix hE.1 hn6 hS h1
    have hctn : cn (F 10) = tn := by rw [htn]; exact nI_clamp (by omega)
    rw [lawsF, if_pos h1, hcs, hct, hcp, hctn]
    refine g_aload_n dX7_laws_0 rfl ?_
    refine g_iload_n dX7_laws_1 rfl ?_
    refine g_iload_n dX7_laws_2 rfl ?_
    refine g_iload_n dX7_laws_3 rfl ?_
    refine gm_calli (n := 3) (c_toldWrong hS) (lw_V q1723 q1725 qs63 q92 q1726) (by decide +kernel) rfl rfl (by decide) ⟨Nat.le_refl _, Nat.le_refl _⟩ (Nat.le_of_ble_eq_true rfl) dX7_laws_4 (fun A2 => ?_)
    refine g_istore (L' := [(4, _), (0, _), (1, _), (2, _), (3, _)]) dX7_laws_7 (by decide) rfl ?_
    refine g_iload dX7_laws_9 rfl ?_
    refine g_if_eq 17 dX7_laws_11 (by decide) (fun _ => ?_) (fun h9 => absurd h1 h9)
    refine g_aload_n dX7_laws_17 rfl ?_
    refine mgc_rule dX7_laws_18 ?_
    refine g_istore (L' := [(5, _), (4, _), (0, _), (1, _), (2, _), (3, _)]) dX7_laws_21 (by decide) rfl ?_
    refine g_iconst (0) dX7_laws_23 rfl ?_
    refine g_istore (L' := [(6, _), (5, _), (4, _), (0, _), (1, _), (2, _), (3, _)]) dX7_laws_24 (by decide) rfl ?_
    refine g_iconst (0) dX7_laws_26 rfl ?_
    refine g_istore (L' := [(7, _), (6, _), (5, _), (4, _), (0, _), (1, _), (2, _), (3, _)]) dX7_laws_27 (by decide) rfl ?_
    have h := l_laws (g := g) (p := p) (b := b) (z := z) (F := F) (ω0 := ω0) (c := c) (w := toldW F A (nI s) (nI t) (nI p)) hN hE.1 hn6 htn htn6 hT hs ht (by omega) hm hm2 tn 0 (F 11) 0 (A 30) A2 (by omega) rfl
    rw [sA_self, upd_self] at h
    exact h
  · refine g_aload_n dX7_laws_0 rfl ?_
    refine g_iload_n dX7_laws_1 rfl ?_
    refine g_iload_n dX7_laws_2 rfl ?_
    refine g_iload_n dX7_laws_3 rfl ?_
    refine gm_calli (n := 3) (c_toldWrong hS) (lw_V q1723 q1725 qs63 q92 q1726) (by decide +kernel) rfl rfl (by decide) ⟨Nat.le_refl _, Nat.le_refl _⟩ (Nat.le_of_ble_eq_true rfl) dX7_laws_4 (fun A2 => ?_)
    refine g_istore (L' := [(4, _), (0, _), (1, _), (2, _), (3, _)]) dX7_laws_7 (by decide) rfl ?_
    refine g_iload dX7_laws_9 rfl ?_
    refine g_if_eq 17 dX7_laws_11 (by decide) (fun h9 => absurd h9 h1) (fun _ => ?_)
    refine g_iload dX7_laws_14 rfl ?_
    refine g_iret rfl (Nat.le_refl _) (Nat.le_refl _) ?_ dX7_laws_16
    exact mK.of0 (by rw [lawsF, if_neg h1])
end A
