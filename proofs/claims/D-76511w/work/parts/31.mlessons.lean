/-! the reference: by how few lessons -/
set_option maxRecDepth 100000
def kbL (e : En) : Nat → Nat → Nat → Cr → Int32 → Bool × Cr × Int32
  | 0, _, _, c, x => (true, c, x)
  | m + 1, tens, left, c, x => if left / tens / 6 < e.1 ∧ left / tens % 6 < e.1 ∧ left / tens / 6 ≠ left / tens % 6 then kbL e m (if 1 < tens then tens / 36 else 1) (left % tens) (lesC e c (left / tens / 6) (left / tens % 6)) (100 * x + 10 * nI (left / tens / 6) + nI (left / tens % 6) + 1) else (false, c, x)
def kbF (e : En) (my no : Nat) (c : Cr) : Bool × Cr × Int32 := kbL e my (36 ^ (my - 1)) no c 0
def kbV (e : En) (p : Nat) (nm : Int32) (my no : Nat) (c : Cr) : Int32 := if (kbF e my no c).1 = true ∧ ((kbF e my no c).2.1.1 (3 * p) >>> (nm &&& 31)) &&& 1 = 1 then 1 else 0
def fwI (e : En) (p : Nat) (nm : Int32) (my : Nat) (c : Cr) : Nat → Nat → Int32 → Bool × Int32
  | 0, _, x => (false, x)
  | m + 1, no, _ => if kbV e p nm my no c = 0 then fwI e p nm my c m (no + 1) (kbF e my no c).2.2 else (true, (kbF e my no c).2.2)
def fwO (e : En) (p : Nat) (nm : Int32) (c : Cr) : Nat → Nat → Int32 → Int32 × Int32
  | 0, _, x => (-1, x)
  | m + 1, my, x => if (fwI e p nm my c (36 ^ my) 0 x).1 = true then (nI my, (fwI e p nm my c (36 ^ my) 0 x).2) else fwO e p nm c m (my + 1) (fwI e p nm my c (36 ^ my) 0 x).2
section D
variable (F : Nat → Int32) (A : Nat → Nat → Int32) (n : Nat) (ts : Nat → List Int32) (c : Cr)
def lessF (p nm w : Int32) : Int32 := if inI p 0 (F 0 - 1) = 0 then -5 else if inI nm 0 15 = 0 ∨ inI w 0 1 = 0 then -7 else if w = 0 ∨ (fwO (eM A n ts) (cn p) nm c 4 0 (F 32)).1 = -1 then (fwO (eM A n ts) (cn p) nm c 4 0 (F 32)).1 else (fwO (eM A n ts) (cn p) nm c 4 0 (F 32)).2
end D
theorem hi_kb {e : En} : ∀ (m tens left : Nat) (c : Cr) (x : Int32), hiEq c (kbL e m tens left c x).2.1 := by
  intro m
  induction m with
  | zero => intro t l c x; exact hiEq.rf
  | succ m ih =>
    intro t l c x
    unfold kbL
    split
    · exact (hi_les (Nat.mod_lt _ (by decide))).tr (ih _ _ _ _)
    · exact hiEq.rf
theorem nI_div {a d : Nat} (ha : a < 2 ^ 31) (h0 : 0 < d) (hd : d < 2 ^ 31) : nI a / nI d = nI (a / d) := pk_div ha h0 hd
theorem nI_remn {a d : Nat} (ha : a < 2 ^ 31) (h0 : 0 < d) (hd : d < 2 ^ 31) : nI a - nI a / nI d * nI d = nI (a % d) := pk_rem ha h0 hd
section A
variable {g : GE} {b z n : Nat} {F : Nat → Int32} {A A2 : Nat → Nat → Int32} {ω0 ω : Om} {ts : Nat → List Int32} {c c0 : Cr} {f0 : Nat → Int32}
theorem gm_callQ {cc : ByteArray} {nL : Nat} {ret : Option FieldType} {XT : Method → Code → Prop} {Z : ZT} {cells slots : Nat} {pc : Nat} {L : List (Nat × Value)} {rest : List Value} {index : Nat} {y : MethodName} {b2 : ByteArray} {maxL : Nat} {r2 : Option FieldType} {d d2 mc ms n : Nat} {As st0 : List Value} {Q : Option Value → Om → Nat → Prop} (hM' : Ct g y b2 maxL r2 d2 0 0 (.ref b :: As) (hM g b F A A2 ω0) z Q)
    (hw : GoodIn lw_all (wsV RX7 index RX7 y (ws_ y b2 maxL r2))) (hy : y.cls = RX7 ∧ y.cls ≠ "java/lang/invoke/MethodHandle" ∧ y.cls ≠ "java/lang/invoke/VarHandle" ∧ (parseMethodDescriptor y.desc).map (fun d => d.parameters.length) = some n) (hn : As.length = n) (hst : st0 = As.reverse ++ .ref b :: rest) (hdd : d2 + 1 ≤ d ∧ maxL ≤ 40) (hf : cells ≤ mc ∧ slots ≤ ms) (hro : (rest.map fun v => v.category).sum ≤ 8) (hd : decode cc pc = .ok (.invokevirtual index, 3))
    (k : ∀ v ω1 z1, Q v ω1 z1 → G g RX7 cc nL ret XT (rmD d mc ms) Z cells slots ω1 z1 (pc + 3) L (v.toList ++ rest)) : G g RX7 cc nL ret XT (rmD d mc ms) Z cells slots (hM g b F A A2 ω0) z pc L st0 :=
  g_callV (ci := 7) (T := TX7) (N := 34) hM' hw hy rfl hM_b hn hst rfl hdd hf hro hd k
theorem l_kb1 {p my no : Nat} {nm : Int32} {Q : Option Value → Om → Nat → Prop} (hmy : my ≤ 3) (hK : ∀ u, GN g RX7 cX7_knowsBy 12 (some .boolean) 6 Q (hM g b (mF F c) (mA A c) A2 ω0) z 26 [(6, .int u), (5, .int (nI (36 ^ (my - 1)))), (0, .ref b), (1, .int (nI p)), (2, .int nm), (3, .int (nI no)), (4, .int (nI my))] []) :
    ∀ (f k : Nat), 1 ≤ k → my - k = f → (my ≤ 1 → k = 1) → (1 < my → k ≤ my) → GN g RX7 cX7_knowsBy 12 (some .boolean) 6 Q (hM g b (mF F c) (mA A c) A2 ω0) z 6 [(6, .int (nI k)), (5, .int (nI (36 ^ (k - 1)))), (0, .ref b), (1, .int (nI p)), (2, .int nm), (3, .int (nI no)), (4, .int (nI my))] [] := by
  intro f
  induction f with
  | zero =>
    intro k h1 h2 h3 h4
    have hk : 36 ^ (k - 1) = 36 ^ (my - 1) := by
      by_cases h : my ≤ 1
      · rw [h3 h]; congr 1; omega
      · congr 1; have := h4 (by omega); omega
    rw [hk]
    refine g_iload dX7_knowsBy_6 rfl ?_
    refine g_iload dX7_knowsBy_8 rfl ?_
    refine g_icmp_ge 26 dX7_knowsBy_10 (by decide) (fun _ => ?_) (fun h9 => absurd (nI_le (by omega) (by omega)) h9)
    exact hK _
  | succ f ih =>
    intro k h1 h2 h3 h4
    have hpw : nI (36 ^ (k - 1)) * 36 = nI (36 ^ (k + 1 - 1)) := by
      rw [show (36 : Int32) = nI 36 from rfl, pk_mul, show k + 1 - 1 = (k - 1) + 1 by omega, Nat.pow_succ]
    refine g_iload dX7_knowsBy_6 rfl ?_
    refine g_iload dX7_knowsBy_8 rfl ?_
    refine g_icmp_ge 26 dX7_knowsBy_10 (by decide) (fun h9 => absurd h9 (nI_ge (by omega) (by omega))) (fun _ => ?_)
    refine g_iload dX7_knowsBy_13 rfl ?_
    refine g_bipush (36) dX7_knowsBy_15 rfl ?_
    refine g_imul dX7_knowsBy_17 ?_
    rw [hpw]
    refine g_istore (L' := [(5, _), (6, _), (0, _), (1, _), (2, _), (3, _), (4, _)]) dX7_knowsBy_18 (by decide) rfl ?_
    refine g_iinc (nI (k + 1)) (L' := [(6, _), (5, _), (0, _), (1, _), (2, _), (3, _), (4, _)]) dX7_knowsBy_20 rfl (nI_1 _) (by decide) rfl ?_
    refine g_goto 6 dX7_knowsBy_23 (by decide) ?_
    exact ih (k + 1) (by omega) (by omega) (by omega) (by omega)
theorem x_kb {p my no : Nat} {nm r u tn : Int32} {gd : Bool} {k : Int32} {Q : Option Value → Om → Nat → Prop} (hN : gN g ≤ b) (hp : p < 6) (hk : A 30 = kpf f0 c0) (hh : hiEq c0 c) (hr : r = if gd = true ∧ (c.1 (3 * p) >>> (nm &&& 31)) &&& 1 = 1 then 1 else 0) (hQ : ∀ A2, Q (some (.int r)) (hM g b (mF F c0) (mA A c0) A2 ω0) z) :
    GN g RX7 cX7_knowsBy 12 (some .boolean) 6 Q (hM g b (mF F c) (mA A c) A2 ω0) z 185 [(8, .int k), (7, .int (if gd = true then 1 else 0)), (6, .int u), (5, .int tn), (0, .ref b), (1, .int (nI p)), (2, .int nm), (3, .int (nI no)), (4, .int (nI my))] [] := by
  cases gd with
  | false =>
    refine g_iload dX7_knowsBy_185 rfl ?_
    refine g_if_eq 210 dX7_knowsBy_187 (by decide) (fun _ => ?_) (fun h9 => absurd rfl h9)
    refine g_iconst (0) dX7_knowsBy_210 rfl ?_
    refine g_istore (L' := [(7, _), (8, _), (6, _), (5, _), (0, _), (1, _), (2, _), (3, _), (4, _)]) dX7_knowsBy_211 (by decide) rfl ?_
    refine g_aload_n dX7_knowsBy_213 rfl ?_
    refine gm_callv (n := 0) (c_lays hN hk hh) (lw_V q1675 q1677 qs59 q92 q1678) (by decide +kernel) rfl rfl (by decide) ⟨Nat.le_refl _, Nat.le_refl _⟩ (Nat.le_of_ble_eq_true rfl) dX7_knowsBy_214 (fun A2 => ?_)
    refine g_iload dX7_knowsBy_217 rfl ?_
    refine g_zret rfl (by first | rfl | exact nrb_in) (Nat.le_refl _) (Nat.le_refl _) ?_ dX7_knowsBy_219
    have hr : r = 0 := hr
    subst hr
    exact hQ _
  | true =>
    refine g_iload dX7_knowsBy_185 rfl ?_
    refine g_if_eq 210 dX7_knowsBy_187 (by decide) (fun h9 => absurd h9 (by decide)) (fun _ => ?_)
    refine g_aload_n dX7_knowsBy_190 rfl ?_
    refine mg_rows dX7_knowsBy_191 ?_
    refine g_iconst (3) dX7_knowsBy_194 rfl ?_
    refine g_iload_n dX7_knowsBy_195 rfl ?_
    refine g_imul dX7_knowsBy_196 ?_
    refine mlc_rows ((3 * p)) (by omega) (by first | rfl | (simp only [nI, Int32.ofNat_add, Int32.ofNat_mul]; rfl) | (simp only [nI, Int32.ofNat_add, Int32.ofNat_mul]; done)) dX7_knowsBy_197 ?_
    refine g_iload_n dX7_knowsBy_198 rfl ?_
    refine g_ishr dX7_knowsBy_199 ?_
    refine g_iconst (1) dX7_knowsBy_200 rfl ?_
    refine g_iand dX7_knowsBy_201 ?_
    refine g_iconst (1) dX7_knowsBy_202 rfl ?_
    refine g_icmp_ne 210 dX7_knowsBy_203 (by decide) (fun c1 => ?_) (fun c1 => ?_)
    · rw [if_neg (fun h => c1 h.2)] at hr
      subst hr
      refine g_iconst (0) dX7_knowsBy_210 rfl ?_
      refine g_istore (L' := [(7, _), (8, _), (6, _), (5, _), (0, _), (1, _), (2, _), (3, _), (4, _)]) dX7_knowsBy_211 (by decide) rfl ?_
      refine g_aload_n dX7_knowsBy_213 rfl ?_
      refine gm_callv (n := 0) (c_lays hN hk hh) (lw_V q1675 q1677 qs59 q92 q1678) (by decide +kernel) rfl rfl (by decide) ⟨Nat.le_refl _, Nat.le_refl _⟩ (Nat.le_of_ble_eq_true rfl) dX7_knowsBy_214 (fun A2 => ?_)
      refine g_iload dX7_knowsBy_217 rfl ?_
      refine g_zret rfl (by first | rfl | exact nrb_in) (Nat.le_refl _) (Nat.le_refl _) ?_ dX7_knowsBy_219
      exact hQ _
    · rw [if_pos ⟨rfl, c1⟩] at hr
      subst hr
      refine g_iconst (1) dX7_knowsBy_206 rfl ?_
      refine g_goto 211 dX7_knowsBy_207 (by decide) ?_
      refine g_istore (L' := [(7, _), (8, _), (6, _), (5, _), (0, _), (1, _), (2, _), (3, _), (4, _)]) dX7_knowsBy_211 (by decide) rfl ?_
      refine g_aload_n dX7_knowsBy_213 rfl ?_
      refine gm_callv (n := 0) (c_lays hN hk hh) (lw_V q1675 q1677 qs59 q92 q1678) (by decide +kernel) rfl rfl (by decide) ⟨Nat.le_refl _, Nat.le_refl _⟩ (Nat.le_of_ble_eq_true rfl) dX7_knowsBy_214 (fun A2 => ?_)
      refine g_iload dX7_knowsBy_217 rfl ?_
      refine g_zret rfl (by first | rfl | exact nrb_in) (Nat.le_refl _) (Nat.le_refl _) ?_ dX7_knowsBy_219
      exact hQ _
theorem l_kb2 {p my no : Nat} {nm r : Int32} {cE : Cr} {xE : Int32} {gE : Bool} {Q : Option Value → Om → Nat → Prop} (hN : gN g ≤ b) (hE : EnM F A n ts) (hp : p < 6) (hmy : my ≤ 3) (hk : A 30 = kpf f0 c0) (hr : r = if gE = true ∧ (cE.1 (3 * p) >>> (nm &&& 31)) &&& 1 = 1 then 1 else 0) (hQ : ∀ A2, Q (some (.int r)) (hM g b (mF (upd F 32 xE) c0) (mA A c0) A2 ω0) z) :
    ∀ (f k tens left : Nat) (c : Cr) (x : Int32) (A2 : Nat → Nat → Int32), k + f = my → (tens = 1 ∨ tens = 36 ∨ tens = 1296) → left < 36 * tens → hiEq c0 c → kbL (eM A n ts) f tens left c x = (gE, cE, xE) → GN g RX7 cX7_knowsBy 12 (some .boolean) 6 Q (hM g b (mF (upd F 32 x) c) (mA A c) A2 ω0) z 44 [(8, .int (nI k)), (7, .int 1), (6, .int (nI left)), (5, .int (nI tens)), (0, .ref b), (1, .int (nI p)), (2, .int nm), (3, .int (nI no)), (4, .int (nI my))] [] := by
  have hn6 := hE.2.1
  intro f
  induction f with
  | zero =>
    intro k tens left c x A2 hkf ht hl hh hr2
    cases hr2
    refine g_iload dX7_knowsBy_44 rfl ?_
    refine g_iload dX7_knowsBy_46 rfl ?_
    refine g_icmp_ge 185 dX7_knowsBy_48 (by decide) (fun _ => ?_) (fun h9 => absurd (nI_le (by omega) (by omega)) h9)
    exact x_kb (gd := true) hN hp hk hh hr hQ
  | succ f ih =>
    intro k tens left c x A2 hkf ht hl hh hr2
    unfold kbL at hr2
    have ht0 : 0 < tens := by omega
    have ht1 : tens ≤ 1296 := by omega
    have hq : left / tens < 36 := Nat.div_lt_of_lt_mul (by rw [Nat.mul_comm]; exact hl)
    have ha : left / tens / 6 < 6 := by omega
    have hb : left / tens % 6 < 6 := Nat.mod_lt _ (by decide)
    have hlm : left % tens < tens := Nat.mod_lt _ ht0
    have e1 : nI left / nI tens = nI (left / tens) := nI_div (by omega) ht0 (by omega)
    have e2 : nI left - nI left / nI tens * nI tens = nI (left % tens) := nI_remn (by omega) ht0 (by omega)
    have e3 : wthn (nI (left / tens) / 6) 0 5 = nI (left / tens / 6) := by
      rw [show nI (left / tens) / 6 = nI (left / tens / 6) from nI_div (d := 6) (by omega) (by decide) (by decide)]; exact wth_5 ha
    have e4 : wthn (nI (left / tens) - nI (left / tens) / 6 * 6) 0 5 = nI (left / tens % 6) := by
      rw [show nI (left / tens) - nI (left / tens) / 6 * 6 = nI (left / tens % 6) from nI_remn (d := 6) (by omega) (by decide) (by decide)]; exact wth_5 hb
    have hne0 : ¬ nI tens = 0 := nI_ne0 ht0 (by omega)
    refine g_iload dX7_knowsBy_44 rfl ?_
    refine g_iload dX7_knowsBy_46 rfl ?_
    refine g_icmp_ge 185 dX7_knowsBy_48 (by decide) (fun h9 => absurd h9 (nI_ge (by omega) (by omega))) (fun _ => ?_)
    refine g_iload dX7_knowsBy_51 rfl ?_
    refine g_if_eq 185 dX7_knowsBy_53 (by decide) (fun h9 => absurd h9 (by decide)) (fun _ => ?_)
    refine g_iload dX7_knowsBy_56 rfl ?_
    refine g_iload dX7_knowsBy_58 rfl ?_
    refine g_idiv dX7_knowsBy_60 hne0 ?_
    rw [e1]
    refine g_istore (L' := [(9, _), (8, _), (7, _), (6, _), (5, _), (0, _), (1, _), (2, _), (3, _), (4, _)]) dX7_knowsBy_61 (by decide) rfl ?_
    refine g_iload dX7_knowsBy_63 rfl ?_
    refine g_iload dX7_knowsBy_65 rfl ?_
    refine g_irem dX7_knowsBy_67 hne0 ?_
    rw [e2]
    refine g_istore (L' := [(6, _), (9, _), (8, _), (7, _), (5, _), (0, _), (1, _), (2, _), (3, _), (4, _)]) dX7_knowsBy_68 (by decide) rfl ?_
    refine g_join 85 (fun v => v = nI (if 1 < tens then tens / 36 else 1)) (fun v hv => ?_) (fun K => ?_)
    · subst hv
      refine g_istore (L' := [(5, _), (6, _), (9, _), (8, _), (7, _), (0, _), (1, _), (2, _), (3, _), (4, _)]) dX7_knowsBy_85 (by decide) rfl ?_
      refine g_iload dX7_knowsBy_87 rfl ?_
      refine g_bipush (6) dX7_knowsBy_89 rfl ?_
      refine g_idiv dX7_knowsBy_91 (by decide) ?_
      refine g_iconst (0) dX7_knowsBy_92 rfl ?_
      refine g_iconst (5) dX7_knowsBy_93 rfl ?_
      refine gs_calli (n := 3) (c_within ) (lw_S q1593 q1594 q92 q1595) (by decide +kernel) rfl rfl (by decide) ⟨Nat.le_refl _, Nat.le_refl _⟩ (Nat.le_of_ble_eq_true rfl) dX7_knowsBy_94 ?_
      rw [e3]
      refine g_istore (L' := [(10, _), (5, _), (6, _), (9, _), (8, _), (7, _), (0, _), (1, _), (2, _), (3, _), (4, _)]) dX7_knowsBy_97 (by decide) rfl ?_
      refine g_iload dX7_knowsBy_99 rfl ?_
      refine g_bipush (6) dX7_knowsBy_101 rfl ?_
      refine g_irem dX7_knowsBy_103 (by decide) ?_
      refine g_iconst (0) dX7_knowsBy_104 rfl ?_
      refine g_iconst (5) dX7_knowsBy_105 rfl ?_
      refine gs_calli (n := 3) (c_within ) (lw_S q1593 q1594 q92 q1595) (by decide +kernel) rfl rfl (by decide) ⟨Nat.le_refl _, Nat.le_refl _⟩ (Nat.le_of_ble_eq_true rfl) dX7_knowsBy_106 ?_
      rw [e4]
      refine g_istore (L' := [(11, _), (10, _), (5, _), (6, _), (9, _), (8, _), (7, _), (0, _), (1, _), (2, _), (3, _), (4, _)]) dX7_knowsBy_109 (by decide) rfl ?_
      by_cases hgood : left / tens / 6 < n ∧ left / tens % 6 < n ∧ left / tens / 6 ≠ left / tens % 6
      · rw [if_pos hgood] at hr2
        refine g_iload dX7_knowsBy_111 rfl ?_
        refine g_aload_n dX7_knowsBy_113 rfl ?_
        refine mgc_fishers dX7_knowsBy_114 ?_
        refine g_icmp_ge 140 dX7_knowsBy_117 (by decide) (fun h9 => absurd h9 (by rw [show upd F 32 x 0 = F 0 from rfl, hE.1]; exact nI_ge hgood.1 (by omega))) (fun _ => ?_)
        refine g_iload dX7_knowsBy_120 rfl ?_
        refine g_aload_n dX7_knowsBy_122 rfl ?_
        refine mgc_fishers dX7_knowsBy_123 ?_
        refine g_icmp_ge 140 dX7_knowsBy_126 (by decide) (fun h9 => absurd h9 (by rw [show upd F 32 x 0 = F 0 from rfl, hE.1]; exact nI_ge hgood.2.1 (by omega))) (fun _ => ?_)
        refine g_iload dX7_knowsBy_129 rfl ?_
        refine g_iload dX7_knowsBy_131 rfl ?_
        refine g_icmp_eq 140 dX7_knowsBy_133 (by decide) (fun h9 => absurd h9 (fun h => hgood.2.2 ((nI_eq (by omega) (by omega)).mp h))) (fun _ => ?_)
        refine g_iconst (1) dX7_knowsBy_136 rfl ?_
        refine g_goto 141 dX7_knowsBy_137 (by decide) ?_
        refine g_istore (L' := [(7, _), (11, _), (10, _), (5, _), (6, _), (9, _), (8, _), (0, _), (1, _), (2, _), (3, _), (4, _)]) dX7_knowsBy_141 (by decide) rfl ?_
        refine g_iload dX7_knowsBy_143 rfl ?_
        refine g_if_eq 179 dX7_knowsBy_145 (by decide) (fun h9 => absurd h9 (by decide)) (fun _ => ?_)
        refine g_aload_n dX7_knowsBy_148 rfl ?_
        refine g_iload dX7_knowsBy_149 rfl ?_
        refine g_iload dX7_knowsBy_151 rfl ?_
        refine gm_calli (n := 2) (c_lessonOf (p := left / tens / 6) (q := left / tens % 6) (n := n) (ts := ts) hN hE ha hb) (lw_V q1639 q1641 qs53 q92 q1642) (by decide +kernel) rfl rfl (by decide) ⟨Nat.le_refl _, Nat.le_refl _⟩ (Nat.le_of_ble_eq_true rfl) dX7_knowsBy_153 (fun A2 => ?_)
        refine g_pop dX7_knowsBy_156 rfl ?_
        refine g_aload_n dX7_knowsBy_157 rfl ?_
        refine g_bipush (100) dX7_knowsBy_158 rfl ?_
        refine g_aload_n dX7_knowsBy_160 rfl ?_
        refine mgc_lessonNumber dX7_knowsBy_161 ?_
        refine g_imul dX7_knowsBy_164 ?_
        refine g_bipush (10) dX7_knowsBy_165 rfl ?_
        refine g_iload dX7_knowsBy_167 rfl ?_
        refine g_imul dX7_knowsBy_169 ?_
        refine g_iadd dX7_knowsBy_170 ?_
        refine g_iload dX7_knowsBy_171 rfl ?_
        refine g_iadd dX7_knowsBy_173 ?_
        refine g_iconst (1) dX7_knowsBy_174 rfl ?_
        refine g_iadd dX7_knowsBy_175 ?_
        refine mpc_lessonNumber hN  dX7_knowsBy_176 ?_
        refine g_iinc (nI (k + 1)) (L' := [(8, _), (7, _), (11, _), (10, _), (5, _), (6, _), (9, _), (0, _), (1, _), (2, _), (3, _), (4, _)]) dX7_knowsBy_179 rfl (nI_1 _) (by decide) rfl ?_
        refine g_goto 44 dX7_knowsBy_182 (by decide) ?_
        refine g_pick [0, 1, 5, 4, 7, 8, 9, 10, 11] rfl ?_
        rw [upd_same, upd_upd]
        have hst : hiEq c (lesC (eM A n ts) c (left / tens / 6) (left / tens % 6)) := hi_les hb
        rcases ht with rfl | rfl | rfl
        · exact ih (k + 1) 1 _ _ _ _ (by omega) (by omega) (by omega) (hh.tr hst) hr2
        · exact ih (k + 1) 1 _ _ _ _ (by omega) (by omega) (by omega) (hh.tr hst) hr2
        · exact ih (k + 1) 36 _ _ _ _ (by omega) (by omega) (by omega) (hh.tr hst) hr2
      · rw [if_neg hgood] at hr2
        cases hr2
        refine g_join 141 (fun v => v = 0) (fun v hv => ?_) (fun K => ?_)
        · subst hv
          refine g_istore (L' := [(7, _), (11, _), (10, _), (5, _), (6, _), (9, _), (8, _), (0, _), (1, _), (2, _), (3, _), (4, _)]) dX7_knowsBy_141 (by decide) rfl ?_
          refine g_iload dX7_knowsBy_143 rfl ?_
          refine g_if_eq 179 dX7_knowsBy_145 (by decide) (fun _ => ?_) (fun h9 => absurd rfl h9)
          refine g_iinc (nI (k + 1)) (L' := [(8, _), (7, _), (11, _), (10, _), (5, _), (6, _), (9, _), (0, _), (1, _), (2, _), (3, _), (4, _)]) dX7_knowsBy_179 rfl (nI_1 _) (by decide) rfl ?_
          refine g_goto 44 dX7_knowsBy_182 (by decide) ?_
          refine g_pick [0, 1, 5, 4, 7, 8, 9, 10, 11] rfl ?_
          refine g_iload dX7_knowsBy_44 rfl ?_
          refine g_iload dX7_knowsBy_46 rfl ?_
          refine g_icmp_ge 185 dX7_knowsBy_48 (by decide) (fun c1 => ?_) (fun c1 => ?_)
          ·
            exact x_kb (gd := false) hN hp hk hh hr hQ
          · refine g_iload dX7_knowsBy_51 rfl ?_
            refine g_if_eq 185 dX7_knowsBy_53 (by decide) (fun _ => ?_) (fun h9 => absurd rfl h9)
            exact x_kb (gd := false) hN hp hk hh hr hQ
        · refine g_iload dX7_knowsBy_111 rfl ?_
          refine g_aload_n dX7_knowsBy_113 rfl ?_
          refine mgc_fishers dX7_knowsBy_114 ?_
          refine g_icmp_ge 140 dX7_knowsBy_117 (by decide) (fun c1 => ?_) (fun c1 => ?_)
          · refine g_iconst (0) dX7_knowsBy_140 rfl ?_
            exact K _ rfl
          · refine g_iload dX7_knowsBy_120 rfl ?_
            refine g_aload_n dX7_knowsBy_122 rfl ?_
            refine mgc_fishers dX7_knowsBy_123 ?_
            refine g_icmp_ge 140 dX7_knowsBy_126 (by decide) (fun c2 => ?_) (fun c2 => ?_)
            · refine g_iconst (0) dX7_knowsBy_140 rfl ?_
              exact K _ rfl
            · refine g_iload dX7_knowsBy_129 rfl ?_
              refine g_iload dX7_knowsBy_131 rfl ?_
              refine g_icmp_eq 140 dX7_knowsBy_133 (by decide) (fun c3 => ?_) (fun c3 => ?_)
              · refine g_iconst (0) dX7_knowsBy_140 rfl ?_
                exact K _ rfl
              · rw [show upd F 32 xE 0 = F 0 from rfl, hE.1] at c1 c2
                exact absurd ⟨Nat.lt_of_not_le fun h => c1 (nI_le h (by omega)), Nat.lt_of_not_le fun h => c2 (nI_le h (by omega)), fun h => c3 (by rw [h])⟩ hgood
    · refine g_iload dX7_knowsBy_70 rfl ?_
      refine g_iconst (1) dX7_knowsBy_72 rfl ?_
      refine g_icmp_le 84 dX7_knowsBy_73 (by decide) (fun c1 => ?_) (fun c1 => ?_)
      · refine g_iconst (1) dX7_knowsBy_84 rfl ?_
        exact K _ (by rw [if_neg (by have := (nI_leI (a := tens) (b := 1) (by omega) (by decide)).mp c1; omega)]; rfl)
      · refine g_iload dX7_knowsBy_76 rfl ?_
        refine g_bipush (36) dX7_knowsBy_78 rfl ?_
        refine g_idiv dX7_knowsBy_80 (by decide) ?_
        refine g_goto 85 dX7_knowsBy_81 (by decide) ?_
        exact K _ (by rw [if_pos (Nat.lt_of_not_le fun h => c1 (nI_le (b := 1) h (by decide)))]; exact nI_div (d := 36) (by omega) (by decide) (by decide))
theorem c_knowsBy {p my no : Nat} {nm : Int32} (hN : gN g ≤ b) (hE : EnM F A n ts) (hp : p < 6) (hmy : my ≤ 3) (hno : no < 36 ^ my) : Ct g yX7_knowsBy cX7_knowsBy 12 (some .boolean) 6 0 0 [.ref b, .int (nI p), .int nm, .int (nI no), .int (nI my)] (hM g b (mF F c) (mA A c) A2 ω0) z (mQ g b ω0 z (some (.int (kbV (eM A n ts) p nm my no c))) (mF (upd F 32 (kbF (eM A n ts) my no c).2.2) c) (mA (kA A c) c)) := by
  refine Ct.at (own := RX7) (by decide) rfl (Nat.le_of_ble_eq_true rfl) rfl ?_
  have htn : 36 ^ (my - 1) = 1 ∨ 36 ^ (my - 1) = 36 ∨ 36 ^ (my - 1) = 1296 := by
    match my, hmy with
    | 0, _ => exact Or.inl rfl
    | 1, _ => exact Or.inl rfl
    | 2, _ => exact Or.inr (Or.inl rfl)
    | 3, _ => exact Or.inr (Or.inr rfl)
  have hlt : no < 36 * 36 ^ (my - 1) := by
    match my, hmy, hno with
    | 0, _, h => have h : no < 1 := h; show no < 36; omega
    | 1, _, h => exact h
    | 2, _, h => exact h
    | 3, _, h => exact h
  refine g_iconst (1) dX7_knowsBy_0 rfl ?_
  refine g_istore (L' := [(5, _), (0, _), (1, _), (2, _), (3, _), (4, _)]) dX7_knowsBy_1 (by decide) rfl ?_
  refine g_iconst (1) dX7_knowsBy_3 rfl ?_
  refine g_istore (L' := [(6, _), (5, _), (0, _), (1, _), (2, _), (3, _), (4, _)]) dX7_knowsBy_4 (by decide) rfl ?_
  refine l_kb1 hmy (fun u => ?_) (my - 1) 1 (by omega) rfl (by omega) (by omega)
  refine g_iload_n dX7_knowsBy_26 rfl ?_
  refine g_istore (L' := [(6, _), (5, _), (0, _), (1, _), (2, _), (3, _), (4, _)]) dX7_knowsBy_27 (by decide) rfl ?_
  refine g_iconst (1) dX7_knowsBy_29 rfl ?_
  refine g_istore (L' := [(7, _), (6, _), (5, _), (0, _), (1, _), (2, _), (3, _), (4, _)]) dX7_knowsBy_30 (by decide) rfl ?_
  refine g_aload_n dX7_knowsBy_32 rfl ?_
  refine g_iconst (0) dX7_knowsBy_33 rfl ?_
  refine mpc_lessonNumber hN  dX7_knowsBy_34 ?_
  refine g_aload_n dX7_knowsBy_37 rfl ?_
  refine gm_callv (n := 0) (c_keeps hN) (lw_V q1667 q1669 qs57 q92 q1670) (by decide +kernel) rfl rfl (by decide) ⟨Nat.le_refl _, Nat.le_refl _⟩ (Nat.le_of_ble_eq_true rfl) dX7_knowsBy_38 (fun A2 => ?_)
  refine g_iconst (0) dX7_knowsBy_41 rfl ?_
  refine g_istore (L' := [(8, _), (7, _), (6, _), (5, _), (0, _), (1, _), (2, _), (3, _), (4, _)]) dX7_knowsBy_42 (by decide) rfl ?_
  exact l_kb2 (F := F) (A := kA A c) (c0 := c) (f0 := A 30) (n := n) (ts := ts) (cE := (kbF (eM A n ts) my no c).2.1) (xE := (kbF (eM A n ts) my no c).2.2) (gE := (kbF (eM A n ts) my no c).1) hN hE hp hmy (sA_same _ _ _) rfl (fun A2 => mQ.mk) my 0 (36 ^ (my - 1)) no c 0 A2 (by omega) htn hlt hiEq.rf rfl
def fQ (g : GE) (b : Nat) (ω0 : Om) (z : Nat) (F : Nat → Int32) (A : Nat → Nat → Int32) (c : Cr) (r x : Int32) : Option Value → Om → Nat → Prop := fun v' ω' z' => v' = some (.int r) ∧ z' = z ∧ ∃ A2 k, ω' = hM g b (mF (upd F 32 x) c) (mA (sA A 30 k) c) A2 ω0
theorem l_fewI {p my : Nat} {nm r x0 : Int32} {Q : Option Value → Om → Nat → Prop} (hN : gN g ≤ b) (hE : EnM F A n ts) (hp : p < 6) (hmy : my ≤ 3)
    (hT : ∀ x A2 k, Q (some (.int (nI my))) (hM g b (mF (upd F 32 x) c) (mA (sA A 30 k) c) A2 ω0) z ∨ True) :
    ∀ (f no : Nat) (x : Int32) (k : Nat → Int32) (A2 : Nat → Nat → Int32), no + f = 36 ^ my →
    ((fwI (eM A n ts) p nm my c f no x).1 = true → ∀ A2 k, Q (some (.int (nI my))) (hM g b (mF (upd F 32 (fwI (eM A n ts) p nm my c f no x).2) c) (mA (sA A 30 k) c) A2 ω0) z) →
    ((fwI (eM A n ts) p nm my c f no x).1 = false → ∀ A2 k, GN g RX7 cX7_fewestLessons 6 (some .int) 7 Q (hM g b (mF (upd F 32 (fwI (eM A n ts) p nm my c f no x).2) c) (mA (sA A 30 k) c) A2 ω0) z 42 [(5, .int (nI (36 ^ my))), (4, .int (nI my)), (3, .int (nI (36 ^ my))), (0, .ref b), (1, .int (nI p)), (2, .int nm)] []) →
    GN g RX7 cX7_fewestLessons 6 (some .int) 7 Q (hM g b (mF (upd F 32 x) c) (mA (sA A 30 k) c) A2 ω0) z 14 [(5, .int (nI no)), (4, .int (nI my)), (3, .int (nI (36 ^ my))), (0, .ref b), (1, .int (nI p)), (2, .int nm)] [] := by
  have hpw : 36 ^ my ≤ 46656 := by
    match my, hmy with
    | 0, _ => decide
    | 1, _ => decide
    | 2, _ => decide
    | 3, _ => decide
  intro f
  induction f with
  | zero =>
    intro no x k A2 hno h1 h2
    have hno : no = 36 ^ my := by omega
    subst hno
    refine g_iload dX7_fewestLessons_14 rfl ?_
    refine g_iload_n dX7_fewestLessons_16 rfl ?_
    refine g_icmp_ge 42 dX7_fewestLessons_17 (by decide) (fun _ => ?_) (fun h9 => absurd (Int32.le_refl _) h9)
    exact h2 rfl _ _
  | succ f ih =>
    intro no x k A2 hno h1 h2
    unfold fwI at h1 h2
    refine g_iload dX7_fewestLessons_14 rfl ?_
    refine g_iload_n dX7_fewestLessons_16 rfl ?_
    refine g_icmp_ge 42 dX7_fewestLessons_17 (by decide) (fun h9 => absurd h9 (nI_ge (by omega) (by omega))) (fun _ => ?_)
    refine g_aload_n dX7_fewestLessons_20 rfl ?_
    refine g_iload_n dX7_fewestLessons_21 rfl ?_
    refine g_iload_n dX7_fewestLessons_22 rfl ?_
    refine g_iload dX7_fewestLessons_23 rfl ?_
    refine g_iload dX7_fewestLessons_25 rfl ?_
    refine gm_calli (n := 4) (c_knowsBy (n := n) (ts := ts) (my := my) (no := no) hN hE hp hmy (by omega)) (lw_V q1699 q1701 qs61 q92 q1702) (by decide +kernel) rfl rfl (by decide) ⟨Nat.le_refl _, Nat.le_refl _⟩ (Nat.le_of_ble_eq_true rfl) dX7_fewestLessons_27 (fun A2 => ?_)
    refine g_if_eq 36 dX7_fewestLessons_30 (by decide) (fun c1 => ?_) (fun c1 => ?_)
    · have c1' : kbV (eM A n ts) p nm my no c = 0 := c1
      rw [if_pos c1'] at h1 h2
      refine g_iinc (nI (no + 1)) (L' := [(5, _), (4, _), (3, _), (0, _), (1, _), (2, _)]) dX7_fewestLessons_36 rfl (nI_1 _) (by decide) rfl ?_
      refine g_goto 14 dX7_fewestLessons_39 (by decide) ?_
      rw [kA_s, upd_upd]
      exact ih (no + 1) _ _ _ (by omega) h1 h2
    · have c1' : ¬ kbV (eM A n ts) p nm my no c = 0 := c1
      rw [if_neg c1'] at h1
      refine g_iload dX7_fewestLessons_33 rfl ?_
      refine g_iret rfl (Nat.le_refl _) (Nat.le_refl _) ?_ dX7_fewestLessons_35
      rw [kA_s, upd_upd]
      exact h1 rfl _ _
theorem l_fewO {p : Nat} {nm r xr : Int32} (hN : gN g ≤ b) (hE : EnM F A n ts) (hp : p < 6) :
    ∀ (f my : Nat) (x : Int32) (k : Nat → Int32) (A2 : Nat → Nat → Int32) (V : Int32), my + f = 4 → fwO (eM A n ts) p nm c f my x = (r, xr) → V = nI (36 ^ my) →
    ∀ L0 : List (Nat × Value), (L0 = [] ∨ ∃ u, L0 = [(5, .int u)]) → GN g RX7 cX7_fewestLessons 6 (some .int) 7 (fQ g b ω0 z F A c r xr) (hM g b (mF (upd F 32 x) c) (mA (sA A 30 k) c) A2 ω0) z 5 [(4, .int (nI my)), (3, .int V), (0, .ref b), (1, .int (nI p)), (2, .int nm)] [] := by
  intro f
  induction f with
  | zero =>
    intro my x k A2 V hmy hr hV L0 hL0
    have hmy : my = 4 := by omega
    subst hmy
    cases hr
    refine g_iload dX7_fewestLessons_5 rfl ?_
    refine g_iconst (3) dX7_fewestLessons_7 rfl ?_
    refine g_icmp_gt 53 dX7_fewestLessons_8 (by decide) (fun _ => ?_) (fun h9 => absurd (by decide) h9)
    refine g_iconst (-1) dX7_fewestLessons_53 rfl ?_
    refine g_iret rfl (Nat.le_refl _) (Nat.le_refl _) ?_ dX7_fewestLessons_54
    exact ⟨rfl, rfl, _, _, rfl⟩
  | succ f ih =>
    intro my x k A2 V hmy hr hV L0 hL0
    subst hV
    unfold fwO at hr
    refine g_iload dX7_fewestLessons_5 rfl ?_
    refine g_iconst (3) dX7_fewestLessons_7 rfl ?_
    refine g_icmp_gt 53 dX7_fewestLessons_8 (by decide) (fun h9 => absurd h9 (nI_nlt (a := 3) (by omega) (by omega))) (fun _ => ?_)
    refine g_iconst (0) dX7_fewestLessons_11 rfl ?_
    refine g_istore (L' := [(5, _), (4, _), (3, _), (0, _), (1, _), (2, _)]) dX7_fewestLessons_12 (by decide) rfl ?_
    refine l_fewI (r := r) (x0 := x) hN hE hp (by omega) (fun _ _ _ => Or.inr trivial) (36 ^ my) 0 x k A2 (by omega) (fun h => ?_) (fun h => ?_)
    · rw [if_pos h] at hr
      cases hr
      exact fun A2 k => ⟨rfl, rfl, A2, k, rfl⟩
    · rw [if_neg (by rw [h]; decide)] at hr
      intro A2 k
      refine g_iload_n dX7_fewestLessons_42 rfl ?_
      refine g_bipush (36) dX7_fewestLessons_43 rfl ?_
      refine g_imul dX7_fewestLessons_45 ?_
      refine g_istore_n (L' := [(3, _), (5, _), (4, _), (0, _), (1, _), (2, _)]) dX7_fewestLessons_46 (by decide) rfl ?_
      refine g_iinc (nI (my + 1)) (L' := [(4, _), (3, _), (5, _), (0, _), (1, _), (2, _)]) dX7_fewestLessons_47 rfl (nI_1 _) (by decide) rfl ?_
      refine g_goto 5 dX7_fewestLessons_50 (by decide) ?_
      refine g_pick [0, 1, 3, 4, 5] rfl ?_
      exact ih (my + 1) _ _ _ _ (by omega) hr (by rw [show (36 : Int32) = nI 36 from rfl, pk_mul, Nat.pow_succ]) [] (Or.inl rfl)
theorem c_few {p : Nat} {nm : Int32} (hN : gN g ≤ b) (hE : EnM F A n ts) (hp : p < 6) : Ct g yX7_fewestLessons cX7_fewestLessons 6 (some .int) 7 0 0 [.ref b, .int (nI p), .int nm] (hM g b (mF F c) (mA A c) A2 ω0) z (fQ g b ω0 z F A c (fwO (eM A n ts) p nm c 4 0 (F 32)).1 (fwO (eM A n ts) p nm c 4 0 (F 32)).2) := by
  refine Ct.at (own := RX7) (by decide) rfl (Nat.le_of_ble_eq_true rfl) rfl ?_
  refine g_iconst (1) dX7_fewestLessons_0 rfl ?_
  refine g_istore_n (L' := [(3, _), (0, _), (1, _), (2, _)]) dX7_fewestLessons_1 (by decide) rfl ?_
  refine g_iconst (0) dX7_fewestLessons_2 rfl ?_
  refine g_istore (L' := [(4, _), (3, _), (0, _), (1, _), (2, _)]) dX7_fewestLessons_3 (by decide) rfl ?_
  have h := l_fewO (g := g) (b := b) (z := z) (F := F) (A := A) (ω0 := ω0) (c := c) (p := p) (nm := nm) hN hE hp 4 0 (F 32) (A 30) A2 1 (by omega) rfl rfl [] (Or.inl rfl)
  rw [upd_self, sA_self] at h
  exact h
theorem c_lessons {p nm w : Int32} (hN : gN g ≤ b) (hE : EnM F A n ts) : Ct g yX7_lessons cX7_lessons 5 (some .int) 8 0 0 [.ref b, .int p, .int nm, .int w] (hM g b (mF F c) (mA A c) A2 ω0) z (fun v' ω' z' => v' = some (.int (lessF F A n ts c p nm w)) ∧ z' = z ∧ ∃ A2 k x, ω' = hM g b (mF (upd F 32 x) c) (mA (sA A 30 k) c) A2 ω0) := by
  refine Ct.at (own := RX7) (by decide) rfl (Nat.le_of_ble_eq_true rfl) rfl ?_
  have hn6 := hE.2.1
  have same : ∀ {r : Int32} {A2 : Nat → Nat → Int32}, r = lessF F A n ts c p nm w → (some (Value.int r) = some (.int (lessF F A n ts c p nm w)) ∧ z = z ∧ ∃ A2' k x, hM g b (mF F c) (mA A c) A2 ω0 = hM g b (mF (upd F 32 x) c) (mA (sA A 30 k) c) A2' ω0) := fun {r A2} h => ⟨by rw [h], rfl, A2, A 30, F 32, by rw [upd_self, sA_self]⟩
  rcases one_or p hE.1 hn6 with h1 | ⟨p, hp, rfl, h1⟩
  · refine g_aload_n dX7_lessons_0 rfl ?_
    refine g_iload_n dX7_lessons_1 rfl ?_
    refine gm_calli (n := 1) (c_isOne ) (lw_V q1575 q1577 qs46 q92 q1578) (by decide +kernel) rfl rfl (by decide) ⟨Nat.le_refl _, Nat.le_refl _⟩ (Nat.le_of_ble_eq_true rfl) dX7_lessons_2 (fun A2 => ?_)
    refine g_if_ne 11 dX7_lessons_5 (by decide) (fun h9 => absurd h1 h9) (fun _ => ?_)
    refine g_bipush (-5) dX7_lessons_8 rfl ?_
    refine g_iret rfl (Nat.le_refl _) (Nat.le_refl _) ?_ dX7_lessons_10
    exact same (by rw [lessF, if_pos h1])
  · have hcp : cn (nI p) = p := nI_clamp (by omega)
    by_cases h2 : inI nm 0 15 = 0
    · refine g_aload_n dX7_lessons_0 rfl ?_
      refine g_iload_n dX7_lessons_1 rfl ?_
      refine gm_calli (n := 1) (c_isOne ) (lw_V q1575 q1577 qs46 q92 q1578) (by decide +kernel) rfl rfl (by decide) ⟨Nat.le_refl _, Nat.le_refl _⟩ (Nat.le_of_ble_eq_true rfl) dX7_lessons_2 (fun A2 => ?_)
      refine g_if_ne 11 dX7_lessons_5 (by decide) (fun _ => ?_) (fun h9 => absurd h9 (by rw [h1]; decide))
      refine g_iload_n dX7_lessons_11 rfl ?_
      refine gs_calli (n := 1) (c_isThing ) (lw_S q1579 q1580 q92 q1581) (by decide +kernel) rfl rfl (by decide) ⟨Nat.le_refl _, Nat.le_refl _⟩ (Nat.le_of_ble_eq_true rfl) dX7_lessons_12 ?_
      refine g_if_eq 27 dX7_lessons_15 (by decide) (fun _ => ?_) (fun h9 => absurd h2 h9)
      refine g_bipush (-7) dX7_lessons_27 rfl ?_
      refine g_iret rfl (Nat.le_refl _) (Nat.le_refl _) ?_ dX7_lessons_29
      exact same (by rw [lessF, if_neg (by rw [h1]; decide), if_pos (Or.inl h2)])
    · by_cases h3 : inI w 0 1 = 0
      · refine g_aload_n dX7_lessons_0 rfl ?_
        refine g_iload_n dX7_lessons_1 rfl ?_
        refine gm_calli (n := 1) (c_isOne ) (lw_V q1575 q1577 qs46 q92 q1578) (by decide +kernel) rfl rfl (by decide) ⟨Nat.le_refl _, Nat.le_refl _⟩ (Nat.le_of_ble_eq_true rfl) dX7_lessons_2 (fun A2 => ?_)
        refine g_if_ne 11 dX7_lessons_5 (by decide) (fun _ => ?_) (fun h9 => absurd h9 (by rw [h1]; decide))
        refine g_iload_n dX7_lessons_11 rfl ?_
        refine gs_calli (n := 1) (c_isThing ) (lw_S q1579 q1580 q92 q1581) (by decide +kernel) rfl rfl (by decide) ⟨Nat.le_refl _, Nat.le_refl _⟩ (Nat.le_of_ble_eq_true rfl) dX7_lessons_12 ?_
        refine g_if_eq 27 dX7_lessons_15 (by decide) (fun h9 => absurd h9 h2) (fun _ => ?_)
        refine g_iload_n dX7_lessons_18 rfl ?_
        refine g_iconst (0) dX7_lessons_19 rfl ?_
        refine g_iconst (1) dX7_lessons_20 rfl ?_
        refine gs_calli (n := 3) (c_in ) (lw_S q1405 q1406 q92 q1407) (by decide +kernel) rfl rfl (by decide) ⟨Nat.le_refl _, Nat.le_refl _⟩ (Nat.le_of_ble_eq_true rfl) dX7_lessons_21 ?_
        refine g_if_ne 30 dX7_lessons_24 (by decide) (fun h9 => absurd h3 h9) (fun _ => ?_)
        refine g_bipush (-7) dX7_lessons_27 rfl ?_
        refine g_iret rfl (Nat.le_refl _) (Nat.le_refl _) ?_ dX7_lessons_29
        exact same (by rw [lessF, if_neg (by rw [h1]; decide), if_pos (Or.inr h3)])
      · have he : lessF F A n ts c (nI p) nm w = if w = 0 ∨ (fwO (eM A n ts) p nm c 4 0 (F 32)).1 = -1 then (fwO (eM A n ts) p nm c 4 0 (F 32)).1 else (fwO (eM A n ts) p nm c 4 0 (F 32)).2 := by
          rw [lessF, if_neg (by rw [h1]; decide), if_neg (fun h => h.elim h2 h3), hcp]
        rw [he]
        refine g_aload_n dX7_lessons_0 rfl ?_
        refine g_iload_n dX7_lessons_1 rfl ?_
        refine gm_calli (n := 1) (c_isOne ) (lw_V q1575 q1577 qs46 q92 q1578) (by decide +kernel) rfl rfl (by decide) ⟨Nat.le_refl _, Nat.le_refl _⟩ (Nat.le_of_ble_eq_true rfl) dX7_lessons_2 (fun A2 => ?_)
        refine g_if_ne 11 dX7_lessons_5 (by decide) (fun _ => ?_) (fun h9 => absurd h9 (by rw [h1]; decide))
        refine g_iload_n dX7_lessons_11 rfl ?_
        refine gs_calli (n := 1) (c_isThing ) (lw_S q1579 q1580 q92 q1581) (by decide +kernel) rfl rfl (by decide) ⟨Nat.le_refl _, Nat.le_refl _⟩ (Nat.le_of_ble_eq_true rfl) dX7_lessons_12 ?_
        refine g_if_eq 27 dX7_lessons_15 (by decide) (fun h9 => absurd h9 h2) (fun _ => ?_)
        refine g_iload_n dX7_lessons_18 rfl ?_
        refine g_iconst (0) dX7_lessons_19 rfl ?_
        refine g_iconst (1) dX7_lessons_20 rfl ?_
        refine gs_calli (n := 3) (c_in ) (lw_S q1405 q1406 q92 q1407) (by decide +kernel) rfl rfl (by decide) ⟨Nat.le_refl _, Nat.le_refl _⟩ (Nat.le_of_ble_eq_true rfl) dX7_lessons_21 ?_
        refine g_if_ne 30 dX7_lessons_24 (by decide) (fun _ => ?_) (fun h9 => absurd h9 h3)
        refine g_aload_n dX7_lessons_30 rfl ?_
        refine g_iload_n dX7_lessons_31 rfl ?_
        refine g_iload_n dX7_lessons_32 rfl ?_
        refine gm_callQ (n := 2) (c_few (n := n) (ts := ts) hN hE (by omega)) (lw_V q1695 q1697 qs60 q92 q1698) (by decide +kernel) rfl rfl (by decide) ⟨by decide, by decide⟩ (Nat.le_of_ble_eq_true rfl) dX7_lessons_33 (fun v ω1 z1 hq => ?_)
        obtain ⟨rfl, rfl, A2', k, rfl⟩ := hq
        refine g_istore (L' := [(4, _), (0, _), (1, _), (2, _), (3, _)]) dX7_lessons_36 (by decide) rfl ?_
        refine g_iload_n dX7_lessons_38 rfl ?_
        refine g_if_eq 48 dX7_lessons_39 (by decide) (fun c1 => ?_) (fun c1 => ?_)
        · rw [if_pos (Or.inl c1)]
          refine g_iload dX7_lessons_48 rfl ?_
          refine g_goto 57 dX7_lessons_50 (by decide) ?_
          refine g_iret rfl (Nat.le_refl _) (Nat.le_refl _) ?_ dX7_lessons_57
          exact ⟨rfl, rfl, _, _, _, rfl⟩
        · refine g_iload dX7_lessons_42 rfl ?_
          refine g_iconst (-1) dX7_lessons_44 rfl ?_
          refine g_icmp_ne 53 dX7_lessons_45 (by decide) (fun c2 => ?_) (fun c2 => ?_)
          · rw [if_neg (fun h => h.elim c1 c2)]
            refine g_aload_n dX7_lessons_53 rfl ?_
            refine mgc_lessonNumber dX7_lessons_54 ?_
            refine g_iret rfl (Nat.le_refl _) (Nat.le_refl _) ?_ dX7_lessons_57
            exact ⟨rfl, rfl, _, _, _, rfl⟩
          · rw [if_pos (Or.inr c2)]
            refine g_iload dX7_lessons_48 rfl ?_
            refine g_goto 57 dX7_lessons_50 (by decide) ?_
            refine g_iret rfl (Nat.le_refl _) (Nat.le_refl _) ?_ dX7_lessons_57
            exact ⟨rfl, rfl, _, _, _, rfl⟩
end A
