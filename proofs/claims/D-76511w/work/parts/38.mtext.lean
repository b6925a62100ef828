/-! the reference's reader: a text -/
set_option maxRecDepth 100000
theorem eL_le {tp wd : Nat → Int32} {n : Nat} : ∀ (f a : Nat) (h : List Int32) (op : Int32) (out : List Int32) (wants may : Bool), a ≤ n → n - a < f → out.length + h.length ≤ a →
    (eL tp wd n f a h op out wants may).2.2.2.2.length + (eL tp wd n f a h op out wants may).2.2.1.length ≤ (eL tp wd n f a h op out wants may).2.1.1 ∧ (eL tp wd n f a h op out wants may).2.1.1 ≤ n := by
  intro f
  induction f with
  | zero => intro a h op out wants may ha hf; exact absurd hf (by omega)
  | succ f ih =>
    intro a h op out wants may ha hf hl
    unfold eL
    have hle := lex_le (tp := tp) (wd := wd) ha
    have hgt := lex_gt (tp := tp) (wd := wd) ha
    obtain ⟨t, ht⟩ : ∃ t, lexF tp wd n a = t := ⟨_, rfl⟩
    obtain ⟨a', be, tk, va⟩ := t
    rw [ht] at hle hgt ⊢
    dsimp only at hle hgt ⊢
    have same : out.length + h.length ≤ a' ∧ a' ≤ n := ⟨by omega, hle.2.2⟩
    cases wants with
    | true =>
      rw [if_pos rfl]
      by_cases h12 : tk = 1 ∨ tk = 2
      · rw [if_pos h12]
        have hga : a < a' := hgt (by rcases h12 with rfl | rfl <;> decide)
        have hul := unwL_len (least := 7) h op (out ++ [if tk = 1 then 100000 + va else va])
        rw [List.length_append, List.length_singleton] at hul
        exact ih _ _ _ _ _ _ hle.2.2 (by omega) (by omega)
      · rw [if_neg h12]
        by_cases h6 : tk = 6 ∧ may = true
        · rw [if_pos h6]
          have hga : a < a' := hgt (by rw [h6.1]; decide)
          split
          · exact same
          · exact ih _ _ _ _ _ _ hle.2.2 (by omega) (by simp; omega)
        · rw [if_neg h6]
          by_cases h45 : tk = 45
          · rw [if_pos h45]
            have hga : a < a' := hgt (by rw [h45]; decide)
            split
            · exact same
            · exact ih _ _ _ _ _ _ hle.2.2 (by omega) (by simp; omega)
          · rw [if_neg h45]
            by_cases h40 : tk = 40
            · rw [if_pos h40]
              have hga : a < a' := hgt (by rw [h40]; decide)
              split
              · exact same
              · exact ih _ _ _ _ _ _ hle.2.2 (by omega) (by simp; omega)
            · rw [if_neg h40]; exact same
    | false =>
      rw [if_neg (by decide)]
      have hul := unwL_len (least := 1) h op out
      by_cases h59 : tk = 59
      · rw [if_pos h59]
        dsimp only
        omega
      · rw [if_neg h59]
        by_cases h41 : tk = 41
        · rw [if_pos h41]
          have hga : a < a' := hgt (by rw [h41]; decide)
          obtain ⟨u, hu⟩ : ∃ u, unwL 1 h op out = u := ⟨_, rfl⟩
          obtain ⟨h1, op1, out1⟩ := u
          rw [hu] at hul ⊢
          dsimp only at hul ⊢
          match h1, hul with
          | [], hul => dsimp only; simp at hul; simp; omega
          | s :: h2, hul =>
            have hul2 := unwL_len (least := 7) h2 (op1 - 1) out1
            simp only [List.length_cons] at hul
            exact ih _ _ _ _ _ _ hle.2.2 (by omega) (by omega)
        · rw [if_neg h41]
          by_cases hs : sgO tk = -1
          · rw [if_pos hs]; exact same
          · rw [if_neg hs]
            have hga : a < a' := hgt (fun q => hs (by rw [q]; rfl))
            have hbl := btw_len (sg := sgO tk) (op := op) (h := h) (out := out)
            split
            · dsimp only; omega
            · exact ih _ _ _ _ _ _ hle.2.2 (by omega) (by omega)
theorem eF_le {tp wd : Nat → Int32} {n a : Nat} {out : List Int32} (ha : a ≤ n) (hl : out.length ≤ a) : (eF tp wd n a out).2.2.2.2.length ≤ (eF tp wd n a out).2.1.1 ∧ (eF tp wd n a out).2.1.1 ≤ n := by
  have := eL_le (tp := tp) (wd := wd) (n := n) (n - a + 1) a [] 0 out true true ha (by omega) (by simp; omega)
  unfold eF
  omega
abbrev LX : Type := Nat × Nat × Int32 × Int32
def txL (tp wd : Nat → Int32) (n tn : Nat) : Nat → Nat → LX → List Int32 → (Nat → Int32) → Bool × LX × List Int32 × (Nat → Int32)
  | 0, _, t, out, f9 => (true, t, out, f9)
  | m + 1, k, t, out, f9 =>
    let t1 := lexF tp wd n t.1
    if t1.2.2.1 = 3 ∧ t1.2.2.2 = nI k then
      (if (eF tp wd n t1.1 out).1 = 0 then (false, (eF tp wd n t1.1 out).2.1, (eF tp wd n t1.1 out).2.2.2.2, upd f9 (4 * tn + k) (nI out.length))
      else txL tp wd n tn m (k + 1) (eF tp wd n t1.1 out).2.1 (eF tp wd n t1.1 out).2.2.2.2 (upd f9 (4 * tn + k) (nI out.length)))
    else (false, t1, out, upd f9 (4 * tn + k) (nI out.length))
def txF (tp wd : Nat → Int32) (n tn : Nat) (f9 : Nat → Int32) : Bool × LX × List Int32 × (Nat → Int32) :=
  let r := txL tp wd n tn 3 0 (0, 0, 0, 0) [] f9
  if r.1 = true then (let t := lexF tp wd n r.2.1.1; (decide (t.2.2.1 = 0), t, r.2.2.1, upd r.2.2.2 (4 * tn + 3) (nI r.2.2.1.length))) else (false, r.2.1, r.2.2.1, upd r.2.2.2 (4 * tn + 3) (nI r.2.2.1.length))
section A
variable {g : GE} {b z n base tn : Nat} {F0 : Nat → Int32} {A0 : Nat → Nat → Int32} {ω0 ω : Om} {c : Cr}
theorem l_text {Q : Option Value → Om → Nat → Prop} (hN : gN g ≤ b) (hn : F0 7 = nI n) (hn2 : n ≤ 160) (htn : F0 10 = nI tn) (htn6 : tn < 6) (hbase : base = 200 * tn) {gE : Bool} {tE : LX} {outE : List Int32} {fE : Nat → Int32}
    (hK : ∀ (ph po u : Int32) (f24 f8 : Nat → Int32) (A2 : Nat → Nat → Int32), OutR f8 (A0 8) base outE → tE.1 ≤ n → outE.length ≤ tE.1 → GN g RX7 cX7_text 3 (some .int) 5 Q (pW g b F0 (sA A0 9 fE) c (nI tE.1) (nI tE.2.1) tE.2.2.1 tE.2.2.2 ph po (nI outE.length) f24 f8 A2 ω0) z 101 [(2, .int u), (1, .int (bI gE)), (0, .ref b)] []) :
    ∀ (m k : Nat) (t : LX) (out : List Int32) (f9 : Nat → Int32) (ph po pb pt pv : Int32) (f24 f8 : Nat → Int32) (A2 : Nat → Nat → Int32), k + m = 3 → t.1 ≤ n → out.length ≤ t.1 → OutR f8 (A0 8) base out → (m = 0 → pb = nI t.2.1 ∧ pt = t.2.2.1 ∧ pv = t.2.2.2) → txL (A0 6) (A0 23) n tn m k t out f9 = (gE, tE, outE, fE) →
    GN g RX7 cX7_text 3 (some .int) 5 Q (pW g b F0 (sA A0 9 f9) c (nI t.1) pb pt pv ph po (nI out.length) f24 f8 A2 ω0) z 26 [(2, .int (nI k)), (1, .int 1), (0, .ref b)] [] := by
  intro m
  induction m with
  | zero =>
    intro k t out f9 ph po pb pt pv f24 f8 A2 hk ha hl ho hp hr
    obtain ⟨rfl, rfl, rfl⟩ := hp rfl
    cases hr
    refine g_iload_n dX7_text_26 rfl ?_
    refine g_iconst (3) dX7_text_27 rfl ?_
    refine g_icmp_ge 101 dX7_text_28 (by decide) (fun _ => ?_) (fun h9 => absurd (nI_le (a := 3) (by omega) (by omega)) h9)
    exact hK ph po _ f24 f8 A2 ho ha hl
  | succ m ih =>
    intro k t out f9 ph po pb pt pv f24 f8 A2 hk ha hl ho hp hr
    unfold txL at hr
    have hle := lex_le (tp := A0 6) (wd := A0 23) ha
    obtain ⟨t1, ht1⟩ : ∃ t1, lexF (A0 6) (A0 23) n t.1 = t1 := ⟨_, rfl⟩
    obtain ⟨a', be, tk, va⟩ := t1
    rw [ht1] at hle
    dsimp only at hle
    rw [ht1] at hr
    dsimp only at hr
    have hLoopX : ∀ (v ph po : Int32) (f24 f8 : Nat → Int32) (A2 : Nat → Nat → Int32), gE = false → OutR f8 (A0 8) base outE → tE.1 ≤ n → outE.length ≤ tE.1 → GN g RX7 cX7_text 3 (some .int) 5 Q (pW g b F0 (sA A0 9 fE) c (nI tE.1) (nI tE.2.1) tE.2.2.1 tE.2.2.2 ph po (nI outE.length) f24 f8 A2 ω0) z 94 [(1, .int v), (2, .int (nI k)), (0, .ref b)] [.int 0] := by
      intro v ph po f24 f8 A2 hgE ho q1 q2
      subst hgE
      refine g_istore_n (L' := [(1, _), (2, _), (0, _)]) dX7_text_94 (by decide) rfl ?_
      refine g_iinc (nI (k + 1)) (L' := [(2, _), (1, _), (0, _)]) dX7_text_95 rfl (nI_1 _) (by decide) rfl ?_
      refine g_goto 26 dX7_text_98 (by decide) ?_
      refine g_iload_n dX7_text_26 rfl ?_
      refine g_iconst (3) dX7_text_27 rfl ?_
      refine g_icmp_ge 101 dX7_text_28 (by decide) (fun c1 => ?_) (fun c1 => ?_)
      ·
        exact hK ph po _ f24 f8 A2 ho q1 q2
      · refine g_iload_n dX7_text_31 rfl ?_
        refine g_if_eq 101 dX7_text_32 (by decide) (fun _ => ?_) (fun h9 => absurd rfl h9)
        exact hK ph po _ f24 f8 A2 ho q1 q2
    refine g_iload_n dX7_text_26 rfl ?_
    refine g_iconst (3) dX7_text_27 rfl ?_
    refine g_icmp_ge 101 dX7_text_28 (by decide) (fun h9 => absurd h9 (nI_ge (b := 3) (by omega) (by decide))) (fun _ => ?_)
    refine g_iload_n dX7_text_31 rfl ?_
    refine g_if_eq 101 dX7_text_32 (by decide) (fun h9 => absurd h9 (by decide)) (fun _ => ?_)
    refine g_aload_n dX7_text_35 rfl ?_
    refine gm_callv (n := 0) (c_next (n := n) hN hn hn2 ha) (lw_V q1401 q1403 qs37 q92 q1404) (by decide +kernel) rfl rfl (by decide) ⟨Nat.le_refl _, Nat.le_refl _⟩ (Nat.le_of_ble_eq_true rfl) dX7_text_36 (fun A2 => ?_)
    rw [show lexF (sA A0 9 f9 6) (sA A0 9 f9 23) n t.1 = (a', be, tk, va) from ht1]
    dsimp only
    by_cases hkey : tk = 3 ∧ va = nI k
    · rw [if_pos hkey] at hr
      obtain ⟨rfl, rfl⟩ := hkey
      obtain ⟨e, he⟩ : ∃ e, eF (A0 6) (A0 23) n a' out = e := ⟨_, rfl⟩
      have hel := eF_le (tp := A0 6) (wd := A0 23) (n := n) (a := a') (out := out) hle.2.2 (by omega)
      rw [he] at hr hel
      refine g_aload_n dX7_text_39 rfl ?_
      refine mgp_token dX7_text_40 ?_
      refine g_iconst (3) dX7_text_43 rfl ?_
      refine g_icmp_ne 59 dX7_text_44 (by decide) (fun h9 => absurd rfl h9) (fun _ => ?_)
      refine g_aload_n dX7_text_47 rfl ?_
      refine mgp_value dX7_text_48 ?_
      refine g_iload_n dX7_text_51 rfl ?_
      refine g_icmp_ne 59 dX7_text_52 (by decide) (fun h9 => absurd rfl h9) (fun _ => ?_)
      refine g_iconst (1) dX7_text_55 rfl ?_
      refine g_goto 60 dX7_text_56 (by decide) ?_
      refine g_istore_n (L' := [(1, _), (2, _), (0, _)]) dX7_text_60 (by decide) rfl ?_
      refine g_aload_n dX7_text_61 rfl ?_
      refine mg_starts dX7_text_62 ?_
      refine g_iconst (4) dX7_text_65 rfl ?_
      refine g_aload_n dX7_text_66 rfl ?_
      refine mgp_texts dX7_text_67 ?_
      refine g_imul dX7_text_70 ?_
      refine g_iload_n dX7_text_71 rfl ?_
      refine g_iadd dX7_text_72 ?_
      refine g_aload_n dX7_text_73 rfl ?_
      refine mgp_out dX7_text_74 ?_
      refine msp_starts (4 * tn + k) hN (by omega) (by rw [htn]; simp only [nI, Int32.ofNat_add, Int32.ofNat_mul]; rfl) dX7_text_77 ?_
      rw [show sA (sA A0 9 f9) 9 (upd (sA A0 9 f9 9) (4 * tn + k) (nI out.length)) = sA A0 9 (upd f9 (4 * tn + k) (nI out.length)) by rw [sA_sA, sA_same]]
      refine g_iload_n dX7_text_78 rfl ?_
      refine g_if_eq 93 dX7_text_79 (by decide) (fun h9 => absurd h9 (by decide)) (fun _ => ?_)
      refine g_aload_n dX7_text_82 rfl ?_
      refine gp_calli (n := 0) (c_eRead (A0 := sA A0 9 (upd f9 (4 * tn + k) (nI out.length))) (n := n) (tn := tn) hN hn hn2 htn htn6 hbase hle.2.2 ho (by omega) he) (lw_V q1412 q1414 qs39 q92 q1415) (by decide +kernel) rfl rfl (by decide) ⟨Nat.le_refl _, Nat.le_refl _⟩ (Nat.le_of_ble_eq_true rfl) dX7_text_83 (fun f24 f8 A2 hh ho => ?_)
      by_cases hg : e.1 = 0
      · rw [if_pos hg] at hr
        cases hr
        refine g_if_eq 93 dX7_text_86 (by decide) (fun _ => ?_) (fun h9 => absurd hg h9)
        refine g_iconst (0) dX7_text_93 rfl ?_
        exact hLoopX _ _ _ _ _ _ rfl ho hel.2 hel.1
      · rw [if_neg hg] at hr
        refine g_if_eq 93 dX7_text_86 (by decide) (fun h9 => absurd h9 hg) (fun _ => ?_)
        refine g_iconst (1) dX7_text_89 rfl ?_
        refine g_goto 94 dX7_text_90 (by decide) ?_
        refine g_istore_n (L' := [(1, _), (2, _), (0, _)]) dX7_text_94 (by decide) rfl ?_
        refine g_iinc (nI (k + 1)) (L' := [(2, _), (1, _), (0, _)]) dX7_text_95 rfl (nI_1 _) (by decide) rfl ?_
        refine g_goto 26 dX7_text_98 (by decide) ?_
        exact ih (k + 1) e.2.1 e.2.2.2.2 _ _ _ _ _ _ _ _ _ (by omega) hel.2 hel.1 ho (fun _ => ⟨rfl, rfl, rfl⟩) hr
    · rw [if_neg hkey] at hr
      cases hr
      refine g_join 60 (fun v => v = 0) (fun v hv => ?_) (fun K => ?_)
      · subst hv
        refine g_istore_n (L' := [(1, _), (2, _), (0, _)]) dX7_text_60 (by decide) rfl ?_
        refine g_aload_n dX7_text_61 rfl ?_
        refine mg_starts dX7_text_62 ?_
        refine g_iconst (4) dX7_text_65 rfl ?_
        refine g_aload_n dX7_text_66 rfl ?_
        refine mgp_texts dX7_text_67 ?_
        refine g_imul dX7_text_70 ?_
        refine g_iload_n dX7_text_71 rfl ?_
        refine g_iadd dX7_text_72 ?_
        refine g_aload_n dX7_text_73 rfl ?_
        refine mgp_out dX7_text_74 ?_
        refine msp_starts (4 * tn + k) hN (by omega) (by rw [htn]; simp only [nI, Int32.ofNat_add, Int32.ofNat_mul]; rfl) dX7_text_77 ?_
        rw [show sA (sA A0 9 f9) 9 (upd (sA A0 9 f9 9) (4 * tn + k) (nI outE.length)) = sA A0 9 (upd f9 (4 * tn + k) (nI outE.length)) by rw [sA_sA, sA_same]]
        refine g_iload_n dX7_text_78 rfl ?_
        refine g_if_eq 93 dX7_text_79 (by decide) (fun _ => ?_) (fun h9 => absurd rfl h9)
        refine g_iconst (0) dX7_text_93 rfl ?_
        exact hLoopX _ _ _ _ _ _ rfl ho hle.2.2 (by omega)
      · refine g_aload_n dX7_text_39 rfl ?_
        refine mgp_token dX7_text_40 ?_
        refine g_iconst (3) dX7_text_43 rfl ?_
        refine g_icmp_ne 59 dX7_text_44 (by decide) (fun c1 => ?_) (fun c1 => ?_)
        · refine g_iconst (0) dX7_text_59 rfl ?_
          exact K _ rfl
        · refine g_aload_n dX7_text_47 rfl ?_
          refine mgp_value dX7_text_48 ?_
          refine g_iload_n dX7_text_51 rfl ?_
          refine g_icmp_ne 59 dX7_text_52 (by decide) (fun c2 => ?_) (fun c2 => ?_)
          · refine g_iconst (0) dX7_text_59 rfl ?_
            exact K _ rfl
          · exact absurd ⟨c1, c2⟩ hkey
/-- what a text leaves: fields, arrays -/
def TxP (F0 : Nat → Int32) (A0 : Nat → Nat → Int32) (tn : Nat) (r : Bool × LX × List Int32 × (Nat → Int32)) (F : Nat → Int32) (A : Nat → Nat → Int32) : Prop :=
  (∀ k, k ≠ 7 → k ≠ 10 → (k < 19 ∨ 27 < k ∨ k = 23 ∨ k = 24) → F k = F0 k) ∧ F 7 = 0 ∧ F 10 = nI (if r.1 = true then tn + 1 else tn) ∧ (∀ k, k ≠ 8 → k ≠ 9 → k ≠ 24 → A k = A0 k) ∧ OutR (A 8) (A0 8) (200 * tn) r.2.2.1 ∧ A 9 = r.2.2.2
def tQ (g : GE) (b : Nat) (ω0 : Om) (z : Nat) (F0 : Nat → Int32) (A0 : Nat → Nat → Int32) (c : Cr) (tn : Nat) (r : Bool × LX × List Int32 × (Nat → Int32)) : Option Value → Om → Nat → Prop := fun v' ω' z' => v' = some (.int (if r.1 = true then nI tn else -100 - nI r.2.1.2.1)) ∧ z' = z ∧ ∃ F A A2, ω' = hM g b (mF F c) (mA A c) A2 ω0 ∧ TxP F0 A0 tn r F A
theorem pF_ne (F0 : Nat → Int32) (pa pb pt pv ph po pu : Int32) {k : Nat} (h : k < 19 ∨ 27 < k ∨ k = 23 ∨ k = 24) : pF F0 pa pb pt pv ph po pu k = F0 k := by
  unfold pF; rw [upd_ne _ _ (by omega), upd_ne _ _ (by omega), upd_ne _ _ (by omega), upd_ne _ _ (by omega), upd_ne _ _ (by omega), upd_ne _ _ (by omega), upd_ne _ _ (by omega)]
theorem pA_ne (A0 : Nat → Nat → Int32) (f24 f8 : Nat → Int32) {k : Nat} (h : k ≠ 8) (h2 : k ≠ 24) : pA A0 f24 f8 k = A0 k := by
  unfold pA; rw [sA_ne _ _ h, sA_ne _ _ h2]
theorem tx_end {f9 : Nat → Int32} {pa pb pt pv ph po pu : Int32} {f24 f8 : Nat → Int32} {t : LX} {out : List Int32} (ho : OutR f8 (A0 8) (200 * tn) out) (htn : F0 10 = nI tn) :
    TxP F0 A0 tn (false, t, out, f9) (pF (upd F0 7 0) pa pb pt pv ph po pu) (pA (sA A0 9 f9) f24 f8) ∧ TxP F0 A0 tn (true, t, out, f9) (pF (upd (upd F0 7 0) 10 (nI (tn + 1))) pa pb pt pv ph po pu) (pA (sA A0 9 f9) f24 f8) := by
  refine ⟨⟨fun k h7 h10 hk => ?_, rfl, htn, fun k h8 h9 h24 => ?_, ho, rfl⟩, ⟨fun k h7 h10 hk => ?_, rfl, rfl, fun k h8 h9 h24 => ?_, ho, rfl⟩⟩
  · rw [pF_ne _ _ _ _ _ _ _ _ hk, upd_ne _ _ h7]
  · rw [pA_ne _ _ _ h8 h24, sA_ne _ _ h9]
  · rw [pF_ne _ _ _ _ _ _ _ _ hk, upd_ne _ _ h10, upd_ne _ _ h7]
  · rw [pA_ne _ _ _ h8 h24, sA_ne _ _ h9]
theorem c_textFull {A2 : Nat → Nat → Int32} (h6 : F0 10 = 6) : Ct g yX7_text cX7_text 3 (some .int) 5 0 0 [.ref b] (hM g b (mF F0 c) (mA A0 c) A2 ω0) z (mQ g b ω0 z (some (.int (-4))) (mF F0 c) (mA A0 c)) := by
  refine Ct.at (own := RX7) (by decide) rfl (Nat.le_of_ble_eq_true rfl) rfl ?_
  refine g_aload_n dX7_text_0 rfl ?_
  refine mgc_texts dX7_text_1 ?_
  refine g_bipush (6) dX7_text_4 rfl ?_
  refine g_icmp_ne 12 dX7_text_6 (by decide) (fun h9 => absurd h6 h9) (fun _ => ?_)
  refine g_bipush (-4) dX7_text_9 rfl ?_
  refine g_iret rfl (Nat.le_refl _) (Nat.le_refl _) ?_ dX7_text_11
  exact mQ.mk
theorem c_text {A2 : Nat → Nat → Int32} (hN : gN g ≤ b) (hn : F0 7 = nI n) (hn2 : n ≤ 160) (htn : F0 10 = nI tn) (htn6 : tn < 6) : Ct g yX7_text cX7_text 3 (some .int) 5 0 0 [.ref b] (hM g b (mF F0 c) (mA A0 c) A2 ω0) z (tQ g b ω0 z F0 A0 c tn (txF (A0 6) (A0 23) n tn (A0 9))) := by
  refine Ct.at (own := RX7) (by decide) rfl (Nat.le_of_ble_eq_true rfl) rfl ?_
  have hF : F0 = pF F0 (F0 19) (F0 20) (F0 21) (F0 22) (F0 25) (F0 26) (F0 27) := by unfold pF; rw [upd_self, upd_self, upd_self, upd_self, upd_self, upd_self, upd_self]
  have hA : A0 = pA (sA A0 9 (A0 9)) (A0 24) (A0 8) := by unfold pA; rw [sA_self, sA_self, sA_self]
  have hne6 : ¬ F0 10 = 6 := fun h => absurd ((nI_eq (a := tn) (b := 6) (by omega) (by decide)).mp (htn.symm.trans h)) (by omega)
  obtain ⟨r, hr⟩ : ∃ r, txL (A0 6) (A0 23) n tn 3 0 (0, 0, 0, 0) [] (A0 9) = r := ⟨_, rfl⟩
  obtain ⟨gE, tE, outE, fE⟩ := r
  suffices hs : GN g RX7 cX7_text 3 (some .int) 5 (tQ g b ω0 z F0 A0 c tn (txF (A0 6) (A0 23) n tn (A0 9))) (hM g b (mF (pF F0 (F0 19) (F0 20) (F0 21) (F0 22) (F0 25) (F0 26) (F0 27)) c) (mA (pA (sA A0 9 (A0 9)) (A0 24) (A0 8)) c) A2 ω0) z 0 [(0, .ref b)] [] by
    rw [← hF, ← hA] at hs
    exact hs
  refine g_aload_n dX7_text_0 rfl ?_
  refine mgp_texts dX7_text_1 ?_
  refine g_bipush (6) dX7_text_4 rfl ?_
  refine g_icmp_ne 12 dX7_text_6 (by decide) (fun _ => ?_) (fun h9 => absurd h9 hne6)
  refine g_aload_n dX7_text_12 rfl ?_
  refine g_iconst (0) dX7_text_13 rfl ?_
  refine mpp_at hN  dX7_text_14 ?_
  refine g_aload_n dX7_text_17 rfl ?_
  refine g_iconst (0) dX7_text_18 rfl ?_
  refine mpp_out hN  dX7_text_19 ?_
  refine g_iconst (1) dX7_text_22 rfl ?_
  refine g_istore_n (L' := [(1, _), (0, _)]) dX7_text_23 (by decide) rfl ?_
  refine g_iconst (0) dX7_text_24 rfl ?_
  refine g_istore_n (L' := [(2, _), (1, _), (0, _)]) dX7_text_25 (by decide) rfl ?_
  have fin : ∀ (ph po : Int32) (t : LX) (gd : Bool) (u : Int32) (f24 f8 : Nat → Int32) (A2 : Nat → Nat → Int32), OutR f8 (A0 8) (200 * tn) outE → txF (A0 6) (A0 23) n tn (A0 9) = (gd, t, outE, upd fE (4 * tn + 3) (nI outE.length)) → GN g RX7 cX7_text 3 (some .int) 5 (tQ g b ω0 z F0 A0 c tn (txF (A0 6) (A0 23) n tn (A0 9))) (pW g b F0 (sA A0 9 fE) c (nI t.1) (nI t.2.1) t.2.2.1 t.2.2.2 ph po (nI outE.length) f24 f8 A2 ω0) z 122 [(1, .int (bI gd)), (2, .int u), (0, .ref b)] [] := by
    intro ph po t gd u f24 f8 A2 ho hx
    rw [hx]
    have hen := tx_end (F0 := F0) (A0 := A0) (tn := tn) (f9 := upd fE (4 * tn + 3) (nI outE.length)) (t := t) (pa := nI t.1) (pb := nI t.2.1) (pt := t.2.2.1) (pv := t.2.2.2) (ph := ph) (po := po) (pu := nI outE.length) (f24 := f24) ho htn
    refine g_aload_n dX7_text_122 rfl ?_
    refine mg_starts dX7_text_123 ?_
    refine g_iconst (4) dX7_text_126 rfl ?_
    refine g_aload_n dX7_text_127 rfl ?_
    refine mgp_texts dX7_text_128 ?_
    refine g_imul dX7_text_131 ?_
    refine g_iconst (3) dX7_text_132 rfl ?_
    refine g_iadd dX7_text_133 ?_
    refine g_aload_n dX7_text_134 rfl ?_
    refine mgp_out dX7_text_135 ?_
    refine msp_starts (4 * tn + 3) hN (by omega) (by rw [htn]; simp only [nI, Int32.ofNat_add, Int32.ofNat_mul]; rfl) dX7_text_138 ?_
    rw [show sA (sA A0 9 fE) 9 (upd (sA A0 9 fE 9) (4 * tn + 3) (nI outE.length)) = sA A0 9 (upd fE (4 * tn + 3) (nI outE.length)) by rw [sA_sA, sA_same]]
    cases gd with
    | false =>
      refine g_aload_n dX7_text_139 rfl ?_
      refine g_iconst (0) dX7_text_140 rfl ?_
      refine mpp_taped hN  dX7_text_141 ?_
      refine g_iload_n dX7_text_144 rfl ?_
      refine g_if_ne 156 dX7_text_145 (by decide) (fun h9 => absurd rfl h9) (fun _ => ?_)
      refine g_bipush (-100) dX7_text_148 rfl ?_
      refine g_aload_n dX7_text_150 rfl ?_
      refine mgp_begun dX7_text_151 ?_
      refine g_isub dX7_text_154 ?_
      refine g_iret rfl (Nat.le_refl _) (Nat.le_refl _) ?_ dX7_text_155
      exact ⟨rfl, rfl, _, _, _, rfl, hen.1⟩
    | true =>
      refine g_aload_n dX7_text_139 rfl ?_
      refine g_iconst (0) dX7_text_140 rfl ?_
      refine mpp_taped hN  dX7_text_141 ?_
      refine g_iload_n dX7_text_144 rfl ?_
      refine g_if_ne 156 dX7_text_145 (by decide) (fun _ => ?_) (fun h9 => absurd h9 (by decide))
      refine g_aload_n dX7_text_156 rfl ?_
      refine g_dup dX7_text_157 rfl ?_
      refine mgp_texts dX7_text_158 ?_
      refine g_iconst (1) dX7_text_161 rfl ?_
      refine g_iadd dX7_text_162 ?_
      refine mpp_texts hN  dX7_text_163 ?_
      refine g_aload_n dX7_text_166 rfl ?_
      refine mgp_texts dX7_text_167 ?_
      refine g_iconst (1) dX7_text_170 rfl ?_
      refine g_isub dX7_text_171 ?_
      refine g_iret rfl (Nat.le_refl _) (Nat.le_refl _) ?_ dX7_text_172
      have e1 : upd F0 7 0 10 + 1 = nI (tn + 1) := by show F0 10 + 1 = _; rw [htn, nI_1]
      rw [e1]
      refine ⟨?_, rfl, _, _, _, rfl, hen.2⟩
      show some (Value.int (nI (tn + 1) - 1)) = _
      rw [nI_pred]
      rfl
  refine l_text hN hn hn2 htn htn6 rfl (gE := gE) (tE := tE) (outE := outE) (fE := fE) (fun ph po u f24 f8 A2 ho q1 q2 => ?_) 3 0 (0, 0, 0, 0) [] (A0 9) _ _ _ _ _ _ _ _ (by omega) (by omega) (by simp) ⟨fun i v h => by simp at h, fun _ _ => rfl⟩ (fun h => by omega) hr
  cases gE with
  | false =>
    refine g_iload_n dX7_text_101 rfl ?_
    refine g_if_eq 122 dX7_text_102 (by decide) (fun _ => ?_) (fun h9 => absurd rfl h9)
    refine g_pick [1, 0, 2] rfl ?_
    exact fin ph po tE false u f24 f8 A2 ho (by unfold txF; rw [hr]; rfl)
  | true =>
    obtain ⟨t, ht⟩ : ∃ t, lexF (A0 6) (A0 23) n tE.1 = t := ⟨_, rfl⟩
    refine g_iload_n dX7_text_101 rfl ?_
    refine g_if_eq 122 dX7_text_102 (by decide) (fun h9 => absurd h9 (by decide)) (fun _ => ?_)
    refine g_aload_n dX7_text_105 rfl ?_
    refine gm_callv (n := 0) (c_next (n := n) hN hn hn2 q1) (lw_V q1401 q1403 qs37 q92 q1404) (by decide +kernel) rfl rfl (by decide) ⟨Nat.le_refl _, Nat.le_refl _⟩ (Nat.le_of_ble_eq_true rfl) dX7_text_106 (fun A2 => ?_)
    rw [show lexF (sA A0 9 fE 6) (sA A0 9 fE 23) n tE.1 = t from ht]
    by_cases h0 : t.2.2.1 = 0
    · refine g_aload_n dX7_text_109 rfl ?_
      refine mgp_token dX7_text_110 ?_
      refine g_if_ne 120 dX7_text_113 (by decide) (fun h9 => absurd h0 h9) (fun _ => ?_)
      refine g_iconst (1) dX7_text_116 rfl ?_
      refine g_goto 121 dX7_text_117 (by decide) ?_
      refine g_istore_n (L' := [(1, _), (2, _), (0, _)]) dX7_text_121 (by decide) rfl ?_
      exact fin ph po t true u f24 f8 _ ho (by unfold txF; rw [hr]; dsimp only; rw [if_pos rfl, ht, decide_eq_true h0])
    · refine g_aload_n dX7_text_109 rfl ?_
      refine mgp_token dX7_text_110 ?_
      refine g_if_ne 120 dX7_text_113 (by decide) (fun _ => ?_) (fun h9 => absurd h9 h0)
      refine g_iconst (0) dX7_text_120 rfl ?_
      refine g_istore_n (L' := [(1, _), (2, _), (0, _)]) dX7_text_121 (by decide) rfl ?_
      exact fin ph po t false u f24 f8 _ ho (by unfold txF; rw [hr]; dsimp only; rw [if_pos rfl, ht, decide_eq_false h0])
end A
