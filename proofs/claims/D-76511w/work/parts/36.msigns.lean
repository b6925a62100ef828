/-! the reference's reader: signs that wait -/
set_option maxRecDepth 100000
def OutR (f8 f80 : Nat → Int32) (base : Nat) (out : List Int32) : Prop := (∀ i v, out[i]? = some v → f8 (base + i) = v) ∧ ∀ j, j < base → f8 j = f80 j
theorem OutR.push {f8 f80 : Nat → Int32} {base : Nat} {out : List Int32} (h : OutR f8 f80 base out) (x : Int32) : OutR (upd f8 (base + out.length) x) f80 base (out ++ [x]) := by
  refine ⟨fun i v hi => ?_, fun j hj => ?_⟩
  · by_cases hl : i < out.length
    · rw [List.getElem?_append_left hl] at hi
      rw [upd_ne _ _ (by omega)]
      exact h.1 i v hi
    · rw [List.getElem?_append_right (by omega)] at hi
      have hz : i - out.length < 1 := (List.getElem?_eq_some_iff.mp hi).1
      have hi0 : i = out.length := by omega
      subst hi0
      rw [Nat.sub_self] at hi
      cases hi
      exact upd_same _ _ _
  · rw [upd_ne _ _ (by omega)]
    exact h.2 j hj
def unwL (least : Int32) : List Int32 → Int32 → List Int32 → List Int32 × Int32 × List Int32
  | [], op, out => ([], op, out)
  | s :: h, op, out => if rankF s < least then (s :: h, op, out) else unwL least h (op - (if s = 13 ∨ s = 19 then 1 else 0)) (out ++ [s])
def btwL (r : Int32) : Int32 := if r = 4 then 5 else r
def topR : List Int32 → Int32
  | [] => -1
  | s :: _ => rankF s
def btwF (sg : Int32) (h : List Int32) (op : Int32) (out : List Int32) : Int32 × List Int32 × Int32 × List Int32 :=
  let u := unwL (btwL (rankF sg)) h op out
  if rankF sg = 4 ∧ topR u.1 = 4 then (0, u) else (1, sg :: u.1, u.2)
def sgO (t : Int32) : Int32 := if t = 4 then 11 else if t = 5 then 12 else if t = 60 then 14 else if t = 61 then 15 else if t = 43 then 16 else if t = 45 then 17 else if t = 42 then 18 else -1
theorem unwL_len {least : Int32} : ∀ (h : List Int32) (op : Int32) (out : List Int32), (unwL least h op out).1.length + (unwL least h op out).2.2.length = h.length + out.length := by
  intro h
  induction h with
  | nil => intro op out; rfl
  | cons s h ih =>
    intro op out
    unfold unwL
    split
    · rfl
    · rw [ih]; simp; omega
def pQ (g : GE) (b : Nat) (ω0 : Om) (z : Nat) (v : Option Value) (F0 : Nat → Int32) (A0 : Nat → Nat → Int32) (c : Cr) (base : Nat) (pa pb pt pv : Int32) (h : List Int32) (po : Int32) (out : List Int32) : Option Value → Om → Nat → Prop := fun v' ω' z' => v' = v ∧ z' = z ∧ ∃ f24 f8 A2, ω' = pW g b F0 A0 c pa pb pt pv (nI h.length) po (nI out.length) f24 f8 A2 ω0 ∧ StkA f24 h ∧ OutR f8 (A0 8) base out
section A
variable {g : GE} {b z n base tn : Nat} {F0 : Nat → Int32} {A0 A2 : Nat → Nat → Int32} {ω0 ω : Om} {c : Cr} {pa pb pt pv ph po pu : Int32} {f24 f8 : Nat → Int32} {h out : List Int32}
theorem pQ.mk {v : Option Value} (hh : StkA f24 h) (ho : OutR f8 (A0 8) base out) : pQ g b ω0 z v F0 A0 c base pa pb pt pv h po out v (pW g b F0 A0 c pa pb pt pv (nI h.length) po (nI out.length) f24 f8 A2 ω0) z := ⟨rfl, rfl, f24, f8, A2, rfl, hh, ho⟩
theorem gp_calli {cc : ByteArray} {nL : Nat} {ret : Option FieldType} {XT : Method → Code → Prop} {Z : ZT} {cells slots : Nat} {pc : Nat} {L : List (Nat × Value)} {rest : List Value} {index : Nat} {y : MethodName} {b2 : ByteArray} {maxL : Nat} {r2 : Option FieldType} {d d2 mc ms n : Nat} {As st0 : List Value} {pa' pb' pt' pv' po' : Int32} {h' out' : List Int32} {r : Int32} (hM' : Ct g y b2 maxL r2 d2 0 0 (.ref b :: As) (pW g b F0 A0 c pa pb pt pv ph po pu f24 f8 A2 ω0) z (pQ g b ω0 z (some (.int r)) F0 A0 c base pa' pb' pt' pv' h' po' out'))
    (hw : GoodIn lw_all (wsV RX7 index RX7 y (ws_ y b2 maxL r2))) (hy : y.cls = RX7 ∧ y.cls ≠ "java/lang/invoke/MethodHandle" ∧ y.cls ≠ "java/lang/invoke/VarHandle" ∧ (parseMethodDescriptor y.desc).map (fun d => d.parameters.length) = some n) (hn : As.length = n) (hst : st0 = As.reverse ++ .ref b :: rest) (hdd : d2 + 1 ≤ d ∧ maxL ≤ 40) (hf : cells ≤ mc ∧ slots ≤ ms) (hro : (rest.map fun v => v.category).sum ≤ 8) (hd : decode cc pc = .ok (.invokevirtual index, 3))
    (k : ∀ f24 f8 A2, StkA f24 h' → OutR f8 (A0 8) base out' → G g RX7 cc nL ret XT (rmD d mc ms) Z cells slots (pW g b F0 A0 c pa' pb' pt' pv' (nI h'.length) po' (nI out'.length) f24 f8 A2 ω0) z (pc + 3) L (.int r :: rest)) : G g RX7 cc nL ret XT (rmD d mc ms) Z cells slots (pW g b F0 A0 c pa pb pt pv ph po pu f24 f8 A2 ω0) z pc L st0 :=
  gm_callQ hM' hw hy hn hst hdd hf hro hd (fun v ω1 z1 hq => by
    obtain ⟨rfl, rfl, f24', f8', A2', rfl, h1, h2⟩ := hq
    exact k f24' f8' A2' h1 h2)
theorem gp_callv {cc : ByteArray} {nL : Nat} {ret : Option FieldType} {XT : Method → Code → Prop} {Z : ZT} {cells slots : Nat} {pc : Nat} {L : List (Nat × Value)} {rest : List Value} {index : Nat} {y : MethodName} {b2 : ByteArray} {maxL : Nat} {r2 : Option FieldType} {d d2 mc ms n : Nat} {As st0 : List Value} {pa' pb' pt' pv' po' : Int32} {h' out' : List Int32} (hM' : Ct g y b2 maxL r2 d2 0 0 (.ref b :: As) (pW g b F0 A0 c pa pb pt pv ph po pu f24 f8 A2 ω0) z (pQ g b ω0 z (none) F0 A0 c base pa' pb' pt' pv' h' po' out'))
    (hw : GoodIn lw_all (wsV RX7 index RX7 y (ws_ y b2 maxL r2))) (hy : y.cls = RX7 ∧ y.cls ≠ "java/lang/invoke/MethodHandle" ∧ y.cls ≠ "java/lang/invoke/VarHandle" ∧ (parseMethodDescriptor y.desc).map (fun d => d.parameters.length) = some n) (hn : As.length = n) (hst : st0 = As.reverse ++ .ref b :: rest) (hdd : d2 + 1 ≤ d ∧ maxL ≤ 40) (hf : cells ≤ mc ∧ slots ≤ ms) (hro : (rest.map fun v => v.category).sum ≤ 8) (hd : decode cc pc = .ok (.invokevirtual index, 3))
    (k : ∀ f24 f8 A2, StkA f24 h' → OutR f8 (A0 8) base out' → G g RX7 cc nL ret XT (rmD d mc ms) Z cells slots (pW g b F0 A0 c pa' pb' pt' pv' (nI h'.length) po' (nI out'.length) f24 f8 A2 ω0) z (pc + 3) L (rest)) : G g RX7 cc nL ret XT (rmD d mc ms) Z cells slots (pW g b F0 A0 c pa pb pt pv ph po pu f24 f8 A2 ω0) z pc L st0 :=
  gm_callQ hM' hw hy hn hst hdd hf hro hd (fun v ω1 z1 hq => by
    obtain ⟨rfl, rfl, f24', f8', A2', rfl, h1, h2⟩ := hq
    exact k f24' f8' A2' h1 h2)
theorem c_signOf : Ct g yX7_signOf cX7_signOf 1 (some .int) 1 0 0 [.ref b] (pW g b F0 A0 c pa pb pt pv ph po pu f24 f8 A2 ω0) z (mQ g b ω0 z (some (.int (sgO pt))) (mF (pF F0 pa pb pt pv ph po pu) c) (mA (pA A0 f24 f8) c)) := by
  refine Ct.at (own := RX7) (by decide) rfl (Nat.le_of_ble_eq_true rfl) rfl ?_
  refine g_aload_n dX7_signOf_0 rfl ?_
  refine mgp_token dX7_signOf_1 ?_
  refine g_iconst (4) dX7_signOf_4 rfl ?_
  refine g_icmp_ne 13 dX7_signOf_5 (by decide) (fun c1 => ?_) (fun c1 => ?_)
  · refine g_aload_n dX7_signOf_13 rfl ?_
    refine mgp_token dX7_signOf_14 ?_
    refine g_iconst (5) dX7_signOf_17 rfl ?_
    refine g_icmp_ne 26 dX7_signOf_18 (by decide) (fun c2 => ?_) (fun c2 => ?_)
    · refine g_aload_n dX7_signOf_26 rfl ?_
      refine mgp_token dX7_signOf_27 ?_
      refine g_bipush (60) dX7_signOf_30 rfl ?_
      refine g_icmp_ne 40 dX7_signOf_32 (by decide) (fun c3 => ?_) (fun c3 => ?_)
      · refine g_aload_n dX7_signOf_40 rfl ?_
        refine mgp_token dX7_signOf_41 ?_
        refine g_bipush (61) dX7_signOf_44 rfl ?_
        refine g_icmp_ne 54 dX7_signOf_46 (by decide) (fun c4 => ?_) (fun c4 => ?_)
        · refine g_aload_n dX7_signOf_54 rfl ?_
          refine mgp_token dX7_signOf_55 ?_
          refine g_bipush (43) dX7_signOf_58 rfl ?_
          refine g_icmp_ne 68 dX7_signOf_60 (by decide) (fun c5 => ?_) (fun c5 => ?_)
          · refine g_aload_n dX7_signOf_68 rfl ?_
            refine mgp_token dX7_signOf_69 ?_
            refine g_bipush (45) dX7_signOf_72 rfl ?_
            refine g_icmp_ne 82 dX7_signOf_74 (by decide) (fun c6 => ?_) (fun c6 => ?_)
            · refine g_aload_n dX7_signOf_82 rfl ?_
              refine mgp_token dX7_signOf_83 ?_
              refine g_bipush (42) dX7_signOf_86 rfl ?_
              refine g_icmp_ne 96 dX7_signOf_88 (by decide) (fun c7 => ?_) (fun c7 => ?_)
              · refine g_iconst (-1) dX7_signOf_96 rfl ?_
                refine g_iret rfl (Nat.le_refl _) (Nat.le_refl _) ?_ dX7_signOf_97
                exact mQ.of (by simp_all [sgO]) rfl rfl
              · refine g_bipush (18) dX7_signOf_91 rfl ?_
                refine g_goto 97 dX7_signOf_93 (by decide) ?_
                refine g_iret rfl (Nat.le_refl _) (Nat.le_refl _) ?_ dX7_signOf_97
                exact mQ.of (by simp_all [sgO]) rfl rfl
            · refine g_bipush (17) dX7_signOf_77 rfl ?_
              refine g_goto 97 dX7_signOf_79 (by decide) ?_
              refine g_iret rfl (Nat.le_refl _) (Nat.le_refl _) ?_ dX7_signOf_97
              exact mQ.of (by simp_all [sgO]) rfl rfl
          · refine g_bipush (16) dX7_signOf_63 rfl ?_
            refine g_goto 97 dX7_signOf_65 (by decide) ?_
            refine g_iret rfl (Nat.le_refl _) (Nat.le_refl _) ?_ dX7_signOf_97
            exact mQ.of (by simp_all [sgO]) rfl rfl
        · refine g_bipush (15) dX7_signOf_49 rfl ?_
          refine g_goto 97 dX7_signOf_51 (by decide) ?_
          refine g_iret rfl (Nat.le_refl _) (Nat.le_refl _) ?_ dX7_signOf_97
          exact mQ.of (by simp_all [sgO]) rfl rfl
      · refine g_bipush (14) dX7_signOf_35 rfl ?_
        refine g_goto 97 dX7_signOf_37 (by decide) ?_
        refine g_iret rfl (Nat.le_refl _) (Nat.le_refl _) ?_ dX7_signOf_97
        exact mQ.of (by simp_all [sgO]) rfl rfl
    · refine g_bipush (12) dX7_signOf_21 rfl ?_
      refine g_goto 97 dX7_signOf_23 (by decide) ?_
      refine g_iret rfl (Nat.le_refl _) (Nat.le_refl _) ?_ dX7_signOf_97
      exact mQ.of (by simp_all [sgO]) rfl rfl
  · refine g_bipush (11) dX7_signOf_8 rfl ?_
    refine g_goto 97 dX7_signOf_10 (by decide) ?_
    refine g_iret rfl (Nat.le_refl _) (Nat.le_refl _) ?_ dX7_signOf_97
    exact mQ.of (by simp_all [sgO]) rfl rfl
theorem c_holds {s : Int32} (hN : gN g ≤ b) (hh : StkA f24 h) (ho : OutR f8 (A0 8) base out) (hl : h.length < 200) : Ct g yX7_holds cX7_holds 2 none 1 0 0 [.ref b, .int s] (pW g b F0 A0 c pa pb pt pv (nI h.length) po (nI out.length) f24 f8 A2 ω0) z (pQ g b ω0 z none F0 A0 c base pa pb pt pv (s :: h) po out) := by
  refine Ct.at (own := RX7) (by decide) rfl (Nat.le_of_ble_eq_true rfl) rfl ?_
  refine g_aload_n dX7_holds_0 rfl ?_
  refine mg_held dX7_holds_1 ?_
  refine g_aload_n dX7_holds_4 rfl ?_
  refine mgp_heldMany dX7_holds_5 ?_
  refine g_iload_n dX7_holds_8 rfl ?_
  refine msp_held (h.length) hN (by omega) (by first | rfl | (simp only [nI, Int32.ofNat_add, Int32.ofNat_mul, rfl]; rfl) | (simp only [nI, Int32.ofNat_add, Int32.ofNat_mul, rfl]; done)) dX7_holds_9 ?_
  refine g_aload_n dX7_holds_10 rfl ?_
  refine g_dup dX7_holds_11 rfl ?_
  refine mgp_heldMany dX7_holds_12 ?_
  refine g_iconst (1) dX7_holds_15 rfl ?_
  refine g_iadd dX7_holds_16 ?_
  refine mpp_heldMany hN  dX7_holds_17 ?_
  refine g_vret rfl (Nat.le_refl _) (Nat.le_refl _) ?_ dX7_holds_20
  rw [nI_1]
  exact pQ.mk (h := s :: h) (hh.push s) ho
theorem c_opensOne {s : Int32} (hN : gN g ≤ b) (hh : StkA f24 h) (ho : OutR f8 (A0 8) base out) (hl : h.length < 200) : Ct g yX7_opensOne cX7_opensOne 2 (some .boolean) 2 0 0 [.ref b, .int s] (pW g b F0 A0 c pa pb pt pv (nI h.length) po (nI out.length) f24 f8 A2 ω0) z (pQ g b ω0 z (some (.int (if po = 5 then 0 else 1))) F0 A0 c base pa pb pt pv (if po = 5 then h else s :: h) (if po = 5 then po else po + 1) out) := by
  refine Ct.at (own := RX7) (by decide) rfl (Nat.le_of_ble_eq_true rfl) rfl ?_
  refine g_aload_n dX7_opensOne_0 rfl ?_
  refine mgp_opens dX7_opensOne_1 ?_
  refine g_iconst (5) dX7_opensOne_4 rfl ?_
  refine g_icmp_ne 10 dX7_opensOne_5 (by decide) (fun c1 => ?_) (fun c1 => ?_)
  · rw [if_neg c1, if_neg c1, if_neg c1]
    refine g_aload_n dX7_opensOne_10 rfl ?_
    refine g_dup dX7_opensOne_11 rfl ?_
    refine mgp_opens dX7_opensOne_12 ?_
    refine g_iconst (1) dX7_opensOne_15 rfl ?_
    refine g_iadd dX7_opensOne_16 ?_
    refine mpp_opens hN  dX7_opensOne_17 ?_
    refine g_aload_n dX7_opensOne_20 rfl ?_
    refine g_iload_n dX7_opensOne_21 rfl ?_
    refine gp_callv (n := 1) (c_holds hN hh ho hl) (lw_V q1432 q1434 qs43 q92 q1435) (by decide +kernel) rfl rfl (by decide) ⟨Nat.le_refl _, Nat.le_refl _⟩ (Nat.le_of_ble_eq_true rfl) dX7_opensOne_22 (fun f24 f8 A2 hh ho => ?_)
    refine g_iconst (1) dX7_opensOne_25 rfl ?_
    refine g_zret rfl (by first | rfl | exact nrb_in) (Nat.le_refl _) (Nat.le_refl _) ?_ dX7_opensOne_26
    exact pQ.mk hh ho
  · rw [if_pos c1, if_pos c1, if_pos c1]
    refine g_iconst (0) dX7_opensOne_8 rfl ?_
    refine g_zret rfl (by first | rfl | exact nrb_in) (Nat.le_refl _) (Nat.le_refl _) ?_ dX7_opensOne_9
    exact pQ.mk hh ho
theorem c_puts {s : Int32} (hN : gN g ≤ b) (htn : F0 10 = nI tn) (htn6 : tn < 6) (hbase : base = 200 * tn) (hh : StkA f24 h) (ho : OutR f8 (A0 8) base out) (hl : out.length < 200) : Ct g yX7_puts cX7_puts 2 none 1 0 0 [.ref b, .int s] (pW g b F0 A0 c pa pb pt pv (nI h.length) po (nI out.length) f24 f8 A2 ω0) z (pQ g b ω0 z none F0 A0 c base pa pb pt pv h po (out ++ [s])) := by
  refine Ct.at (own := RX7) (by decide) rfl (Nat.le_of_ble_eq_true rfl) rfl ?_
  refine g_aload_n dX7_puts_0 rfl ?_
  refine mg_codes dX7_puts_1 ?_
  refine g_sipush (200) dX7_puts_4 rfl ?_
  refine g_aload_n dX7_puts_7 rfl ?_
  refine mgp_texts dX7_puts_8 ?_
  refine g_imul dX7_puts_11 ?_
  refine g_aload_n dX7_puts_12 rfl ?_
  refine mgp_out dX7_puts_13 ?_
  refine g_iadd dX7_puts_16 ?_
  refine g_iload_n dX7_puts_17 rfl ?_
  refine msp_codes (base + out.length) hN (by omega) (by rw [htn, hbase]; simp only [nI, Int32.ofNat_add, Int32.ofNat_mul]; rfl) dX7_puts_18 ?_
  refine g_aload_n dX7_puts_19 rfl ?_
  refine g_dup dX7_puts_20 rfl ?_
  refine mgp_out dX7_puts_21 ?_
  refine g_iconst (1) dX7_puts_24 rfl ?_
  refine g_iadd dX7_puts_25 ?_
  refine mpp_out hN  dX7_puts_26 ?_
  refine g_vret rfl (Nat.le_refl _) (Nat.le_refl _) ?_ dX7_puts_29
  rw [nI_1]
  have := pQ.mk (g := g) (b := b) (z := z) (base := base) (F0 := F0) (A0 := A0) (A2 := A2) (ω0 := ω0) (c := c) (pa := pa) (pb := pb) (pt := pt) (pv := pv) (po := po) (v := none) hh (ho.push s)
  rw [List.length_append] at this
  exact this
theorem l_unwinds {least : Int32} (hN : gN g ≤ b) (htn : F0 10 = nI tn) (htn6 : tn < 6) (hbase : base = 200 * tn) {h' out' : List Int32} {po' : Int32} :
    ∀ (h : List Int32) (po : Int32) (out : List Int32) (f24 f8 : Nat → Int32) (A2 : Nat → Nat → Int32) (L2 : List (Nat × Value)), StkA f24 h → OutR f8 (A0 8) base out → out.length + h.length ≤ 199 → unwL least h po out = (h', po', out') → GN g RX7 cX7_unwinds 3 none 2 (pQ g b ω0 z none F0 A0 c base pa pb pt pv h' po' out') (pW g b F0 A0 c pa pb pt pv (nI h.length) po (nI out.length) f24 f8 A2 ω0) z 0 [(0, .ref b), (1, .int least)] [] := by
  intro h
  induction h with
  | nil =>
    intro po out f24 f8 A2 L2 hh ho hl hr
    cases hr
    refine g_aload_n dX7_unwinds_0 rfl ?_
    refine mgp_heldMany dX7_unwinds_1 ?_
    refine g_if_le 79 dX7_unwinds_4 (by decide) (fun _ => ?_) (fun h9 => absurd (by decide) h9)
    refine g_vret rfl (Nat.le_refl _) (Nat.le_refl _) ?_ dX7_unwinds_79
    exact pQ.mk hh ho
  | cons s h ih =>
    intro po out f24 f8 A2 L2 hh ho hl hr
    unfold unwL at hr
    have hix : nI (s :: h).length - 1 = nI h.length := nI_pred _
    have htop : f24 h.length = s := hh.top
    simp only [List.length_cons] at hl
    refine g_aload_n dX7_unwinds_0 rfl ?_
    refine mgp_heldMany dX7_unwinds_1 ?_
    refine g_if_le 79 dX7_unwinds_4 (by decide) (fun h9 => absurd h9 (nI_nle (by simp) (by simp only [List.length_cons]; omega))) (fun _ => ?_)
    refine g_aload_n dX7_unwinds_7 rfl ?_
    refine mg_held dX7_unwinds_8 ?_
    refine g_aload_n dX7_unwinds_11 rfl ?_
    refine mgp_heldMany dX7_unwinds_12 ?_
    refine g_iconst (1) dX7_unwinds_15 rfl ?_
    refine g_isub dX7_unwinds_16 ?_
    refine mlp_held h.length (by omega) hix dX7_unwinds_17 ?_
    refine gs_calli (n := 1) (c_rank ) (lw_S q1425 q1426 q92 q1427) (by decide +kernel) rfl rfl (by decide) ⟨Nat.le_refl _, Nat.le_refl _⟩ (Nat.le_of_ble_eq_true rfl) dX7_unwinds_18 ?_
    refine g_iload_n dX7_unwinds_21 rfl ?_
    refine g_icmp_lt 79 dX7_unwinds_22 (by decide) (fun c1 => ?_) (fun c1 => ?_)
    · rw [htop] at c1
      rw [if_pos c1] at hr
      cases hr
      refine g_vret rfl (Nat.le_refl _) (Nat.le_refl _) ?_ dX7_unwinds_79
      exact pQ.mk hh ho
    · rw [htop] at c1
      rw [if_neg c1] at hr
      refine g_aload_n dX7_unwinds_25 rfl ?_
      refine g_dup dX7_unwinds_26 rfl ?_
      refine mgp_heldMany dX7_unwinds_27 ?_
      refine g_iconst (1) dX7_unwinds_30 rfl ?_
      refine g_isub dX7_unwinds_31 ?_
      refine mpp_heldMany hN  dX7_unwinds_32 ?_
      refine g_aload_n dX7_unwinds_35 rfl ?_
      refine mg_held dX7_unwinds_36 ?_
      refine g_aload_n dX7_unwinds_39 rfl ?_
      refine mgp_heldMany dX7_unwinds_40 ?_
      refine mlp_held h.length (by omega) hix dX7_unwinds_43 ?_
      refine g_istore_n (L' := [(2, _), (0, _), (1, _)]) dX7_unwinds_44 (by decide) rfl ?_
      refine g_aload_n dX7_unwinds_45 rfl ?_
      refine g_dup dX7_unwinds_46 rfl ?_
      refine mgp_opens dX7_unwinds_47 ?_
      rw [hix, htop]
      refine g_join 67 (fun v => v = if s = 13 ∨ s = 19 then 1 else 0) (fun v hv => ?_) (fun K => ?_)
      · subst hv
        refine g_isub dX7_unwinds_67 ?_
        refine mpp_opens hN  dX7_unwinds_68 ?_
        refine g_aload_n dX7_unwinds_71 rfl ?_
        refine g_iload_n dX7_unwinds_72 rfl ?_
        refine gp_callv (n := 1) (c_puts hN htn htn6 hbase hh.pop ho (by omega)) (lw_V q1417 q1419 qs40 q92 q1420) (by decide +kernel) rfl rfl (by decide) ⟨Nat.le_refl _, Nat.le_refl _⟩ (Nat.le_of_ble_eq_true rfl) dX7_unwinds_73 (fun f24 f8 A2 hh ho => ?_)
        refine g_goto 0 dX7_unwinds_76 (by decide) ?_
        refine g_pick [1, 2] rfl ?_
        exact ih _ _ _ _ _ L2 hh ho (by simp; omega) hr
      · refine g_iload_n dX7_unwinds_50 rfl ?_
        refine g_bipush (13) dX7_unwinds_51 rfl ?_
        refine g_icmp_eq 62 dX7_unwinds_53 (by decide) (fun c2 => ?_) (fun c2 => ?_)
        · refine g_iconst (1) dX7_unwinds_62 rfl ?_
          refine g_goto 67 dX7_unwinds_63 (by decide) ?_
          exact K _ (by rw [if_pos (Or.inl c2)])
        · refine g_iload_n dX7_unwinds_56 rfl ?_
          refine g_bipush (19) dX7_unwinds_57 rfl ?_
          refine g_icmp_ne 66 dX7_unwinds_59 (by decide) (fun c3 => ?_) (fun c3 => ?_)
          · refine g_iconst (0) dX7_unwinds_66 rfl ?_
            exact K _ (by rw [if_neg (fun h => h.elim c2 c3)])
          · refine g_iconst (1) dX7_unwinds_62 rfl ?_
            refine g_goto 67 dX7_unwinds_63 (by decide) ?_
            exact K _ (by rw [if_pos (Or.inr c3)])
theorem c_unwinds {least : Int32} (hN : gN g ≤ b) (htn : F0 10 = nI tn) (htn6 : tn < 6) (hbase : base = 200 * tn) (hh : StkA f24 h) (ho : OutR f8 (A0 8) base out) (hl : out.length + h.length ≤ 199) : Ct g yX7_unwinds cX7_unwinds 3 none 2 0 0 [.ref b, .int least] (pW g b F0 A0 c pa pb pt pv (nI h.length) po (nI out.length) f24 f8 A2 ω0) z (pQ g b ω0 z none F0 A0 c base pa pb pt pv (unwL least h po out).1 (unwL least h po out).2.1 (unwL least h po out).2.2) :=
  Ct.at (own := RX7) (by decide) rfl (Nat.le_of_ble_eq_true rfl) rfl (l_unwinds hN htn htn6 hbase h po out f24 f8 A2 [] hh ho hl rfl)
theorem c_between {sg : Int32} (hN : gN g ≤ b) (htn : F0 10 = nI tn) (htn6 : tn < 6) (hbase : base = 200 * tn) (hh : StkA f24 h) (ho : OutR f8 (A0 8) base out) (hl : out.length + h.length ≤ 199) : Ct g yX7_between cX7_between 2 (some .boolean) 3 0 0 [.ref b, .int sg] (pW g b F0 A0 c pa pb pt pv (nI h.length) po (nI out.length) f24 f8 A2 ω0) z (pQ g b ω0 z (some (.int (btwF sg h po out).1)) F0 A0 c base pa pb pt pv (btwF sg h po out).2.1 (btwF sg h po out).2.2.1 (btwF sg h po out).2.2.2) := by
  refine Ct.at (own := RX7) (by decide) rfl (Nat.le_of_ble_eq_true rfl) rfl ?_
  have hlen := unwL_len (least := btwL (rankF sg)) h po out
  obtain ⟨u, hu⟩ : ∃ u, unwL (btwL (rankF sg)) h po out = u := ⟨_, rfl⟩
  obtain ⟨h', po', out'⟩ := u
  rw [hu] at hlen
  dsimp only at hlen
  have hun : ∀ {A2 : Nat → Nat → Int32}, Ct g yX7_unwinds cX7_unwinds 3 none 2 0 0 [.ref b, .int (btwL (rankF sg))] (pW g b F0 A0 c pa pb pt pv (nI h.length) po (nI out.length) f24 f8 A2 ω0) z (pQ g b ω0 z none F0 A0 c base pa pb pt pv h' po' out') := fun {A2} => by
    have := c_unwinds (g := g) (b := b) (z := z) (F0 := F0) (A0 := A0) (A2 := A2) (ω0 := ω0) (c := c) (pa := pa) (pb := pb) (pt := pt) (pv := pv) (po := po) (least := btwL (rankF sg)) hN htn htn6 hbase hh ho hl
    rw [hu] at this
    exact this
  have hK : ∀ (A2 : Nat → Nat → Int32) (v : Int32), v = btwL (rankF sg) → GN g RX7 cX7_between 2 (some .boolean) 3 (pQ g b ω0 z (some (.int (btwF sg h po out).1)) F0 A0 c base pa pb pt pv (btwF sg h po out).2.1 (btwF sg h po out).2.2.1 (btwF sg h po out).2.2.2) (pW g b F0 A0 c pa pb pt pv (nI h.length) po (nI out.length) f24 f8 A2 ω0) z 17 [(0, .ref b), (1, .int sg)] [.int v, .ref b] := by
    intro A2 v hv
    subst hv
    refine gp_callv (n := 1) (hun ) (lw_V q1421 q1423 qs41 q92 q1424) (by decide +kernel) rfl rfl (by decide) ⟨Nat.le_refl _, Nat.le_refl _⟩ (Nat.le_of_ble_eq_true rfl) dX7_between_17 (fun f24 f8 A2 hh ho => ?_)
    unfold btwF
    rw [hu]
    dsimp only
    match h', hh with
    | [], hh =>
      rw [if_neg (show ¬ (rankF sg = 4 ∧ topR [] = 4) from fun q => absurd q.2 (by decide))]
      refine g_iload_n dX7_between_20 rfl ?_
      refine gs_calli (n := 1) (c_rank ) (lw_S q1425 q1426 q92 q1427) (by decide +kernel) rfl rfl (by decide) ⟨Nat.le_refl _, Nat.le_refl _⟩ (Nat.le_of_ble_eq_true rfl) dX7_between_21 ?_
      refine g_iconst (4) dX7_between_24 rfl ?_
      refine g_icmp_ne 55 dX7_between_25 (by decide) (fun c1 => ?_) (fun c1 => ?_)
      · refine g_aload_n dX7_between_55 rfl ?_
        refine g_iload_n dX7_between_56 rfl ?_
        refine gp_callv (n := 1) (c_holds hN hh ho (by simp)) (lw_V q1432 q1434 qs43 q92 q1435) (by decide +kernel) rfl rfl (by decide) ⟨Nat.le_refl _, Nat.le_refl _⟩ (Nat.le_of_ble_eq_true rfl) dX7_between_57 (fun f24 f8 A2 hh ho => ?_)
        refine g_iconst (1) dX7_between_60 rfl ?_
        refine g_zret rfl (by first | rfl | exact nrb_in) (Nat.le_refl _) (Nat.le_refl _) ?_ dX7_between_61
        exact pQ.mk hh ho
      · refine g_aload_n dX7_between_28 rfl ?_
        refine mgp_heldMany dX7_between_29 ?_
        refine g_if_le 55 dX7_between_32 (by decide) (fun _ => ?_) (fun h9 => absurd (by decide) h9)
        refine g_aload_n dX7_between_55 rfl ?_
        refine g_iload_n dX7_between_56 rfl ?_
        refine gp_callv (n := 1) (c_holds hN hh ho (by simp)) (lw_V q1432 q1434 qs43 q92 q1435) (by decide +kernel) rfl rfl (by decide) ⟨Nat.le_refl _, Nat.le_refl _⟩ (Nat.le_of_ble_eq_true rfl) dX7_between_57 (fun f24 f8 A2 hh ho => ?_)
        refine g_iconst (1) dX7_between_60 rfl ?_
        refine g_zret rfl (by first | rfl | exact nrb_in) (Nat.le_refl _) (Nat.le_refl _) ?_ dX7_between_61
        exact pQ.mk hh ho
    | s :: h2, hh =>
      have hix : nI (s :: h2).length - 1 = nI h2.length := nI_pred _
      have htop : f24 h2.length = s := hh.top
      simp only [List.length_cons] at hlen
      refine g_iload_n dX7_between_20 rfl ?_
      refine gs_calli (n := 1) (c_rank ) (lw_S q1425 q1426 q92 q1427) (by decide +kernel) rfl rfl (by decide) ⟨Nat.le_refl _, Nat.le_refl _⟩ (Nat.le_of_ble_eq_true rfl) dX7_between_21 ?_
      refine g_iconst (4) dX7_between_24 rfl ?_
      refine g_icmp_ne 55 dX7_between_25 (by decide) (fun c1 => ?_) (fun c1 => ?_)
      · rw [if_neg (show ¬ (rankF sg = 4 ∧ topR (s :: h2) = 4) from fun q => c1 q.1)]
        refine g_aload_n dX7_between_55 rfl ?_
        refine g_iload_n dX7_between_56 rfl ?_
        refine gp_callv (n := 1) (c_holds hN hh ho (by simp only [List.length_cons]; omega)) (lw_V q1432 q1434 qs43 q92 q1435) (by decide +kernel) rfl rfl (by decide) ⟨Nat.le_refl _, Nat.le_refl _⟩ (Nat.le_of_ble_eq_true rfl) dX7_between_57 (fun f24 f8 A2 hh ho => ?_)
        refine g_iconst (1) dX7_between_60 rfl ?_
        refine g_zret rfl (by first | rfl | exact nrb_in) (Nat.le_refl _) (Nat.le_refl _) ?_ dX7_between_61
        exact pQ.mk hh ho
      · refine g_aload_n dX7_between_28 rfl ?_
        refine mgp_heldMany dX7_between_29 ?_
        refine g_if_le 55 dX7_between_32 (by decide) (fun h9 => absurd h9 (nI_nle (by simp) (by simp only [List.length_cons]; omega))) (fun _ => ?_)
        refine g_aload_n dX7_between_35 rfl ?_
        refine mg_held dX7_between_36 ?_
        refine g_aload_n dX7_between_39 rfl ?_
        refine mgp_heldMany dX7_between_40 ?_
        refine g_iconst (1) dX7_between_43 rfl ?_
        refine g_isub dX7_between_44 ?_
        refine mlp_held h2.length (by omega) hix dX7_between_45 ?_
        refine gs_calli (n := 1) (c_rank ) (lw_S q1425 q1426 q92 q1427) (by decide +kernel) rfl rfl (by decide) ⟨Nat.le_refl _, Nat.le_refl _⟩ (Nat.le_of_ble_eq_true rfl) dX7_between_46 ?_
        refine g_iconst (4) dX7_between_49 rfl ?_
        refine g_icmp_ne 55 dX7_between_50 (by decide) (fun c2 => ?_) (fun c2 => ?_)
        · rw [htop] at c2
          rw [if_neg (show ¬ (rankF sg = 4 ∧ topR (s :: h2) = 4) from fun q => c2 q.2)]
          refine g_aload_n dX7_between_55 rfl ?_
          refine g_iload_n dX7_between_56 rfl ?_
          refine gp_callv (n := 1) (c_holds hN hh ho (by simp only [List.length_cons]; omega)) (lw_V q1432 q1434 qs43 q92 q1435) (by decide +kernel) rfl rfl (by decide) ⟨Nat.le_refl _, Nat.le_refl _⟩ (Nat.le_of_ble_eq_true rfl) dX7_between_57 (fun f24 f8 A2 hh ho => ?_)
          refine g_iconst (1) dX7_between_60 rfl ?_
          refine g_zret rfl (by first | rfl | exact nrb_in) (Nat.le_refl _) (Nat.le_refl _) ?_ dX7_between_61
          exact pQ.mk hh ho
        · rw [htop] at c2
          rw [if_pos (show rankF sg = 4 ∧ topR (s :: h2) = 4 from ⟨c1, c2⟩)]
          refine g_iconst (0) dX7_between_53 rfl ?_
          refine g_zret rfl (by first | rfl | exact nrb_in) (Nat.le_refl _) (Nat.le_refl _) ?_ dX7_between_54
          exact pQ.mk hh ho
  refine g_aload_n dX7_between_0 rfl ?_
  refine g_iload_n dX7_between_1 rfl ?_
  refine gs_calli (n := 1) (c_rank ) (lw_S q1425 q1426 q92 q1427) (by decide +kernel) rfl rfl (by decide) ⟨Nat.le_refl _, Nat.le_refl _⟩ (Nat.le_of_ble_eq_true rfl) dX7_between_2 ?_
  refine g_iconst (4) dX7_between_5 rfl ?_
  refine g_icmp_ne 13 dX7_between_6 (by decide) (fun c1 => ?_) (fun c1 => ?_)
  · refine g_iload_n dX7_between_13 rfl ?_
    refine gs_calli (n := 1) (c_rank ) (lw_S q1425 q1426 q92 q1427) (by decide +kernel) rfl rfl (by decide) ⟨Nat.le_refl _, Nat.le_refl _⟩ (Nat.le_of_ble_eq_true rfl) dX7_between_14 ?_
    exact hK _ _ (by simp_all [btwL])
  · refine g_iconst (5) dX7_between_9 rfl ?_
    refine g_goto 17 dX7_between_10 (by decide) ?_
    exact hK _ _ (by simp_all [btwL])
end A
