/-! the reference's reader: an E up to its sign -/
set_option maxRecDepth 100000
abbrev ER : Type := Int32 × (Nat × Nat × Int32 × Int32) × List Int32 × Int32 × List Int32
def bI (x : Bool) : Int32 := if x = true then 1 else 0
def eL (tp wd : Nat → Int32) (n : Nat) : Nat → Nat → List Int32 → Int32 → List Int32 → Bool → Bool → ER
  | 0, a, h, op, out, _, _ => (0, (a, 0, 0, 0), h, op, out)
  | f + 1, a, h, op, out, wants, may =>
    let t := lexF tp wd n a
    if wants = true then
      (if t.2.2.1 = 1 ∨ t.2.2.1 = 2 then
        let u := unwL 7 h op (out ++ [if t.2.2.1 = 1 then 100000 + t.2.2.2 else t.2.2.2])
        eL tp wd n f t.1 u.1 u.2.1 u.2.2 false may
      else if t.2.2.1 = 6 ∧ may = true then (if op = 5 then (0, t, h, op, out) else eL tp wd n f t.1 (13 :: h) (op + 1) out true may)
      else if t.2.2.1 = 45 then (if op = 5 then (0, t, h, op, out) else eL tp wd n f t.1 (19 :: h) (op + 1) out true false)
      else if t.2.2.1 = 40 then (if op = 5 then (0, t, h, op, out) else eL tp wd n f t.1 (0 :: h) (op + 1) out true true)
      else (0, t, h, op, out))
    else if t.2.2.1 = 59 then
      let u := unwL 1 h op out
      (if u.1.length = 0 then 1 else 0, t, u)
    else if t.2.2.1 = 41 then
      let u := unwL 1 h op out
      (match u.1 with
      | [] => (0, t, u)
      | _ :: h2 => let u2 := unwL 7 h2 (u.2.1 - 1) u.2.2; eL tp wd n f t.1 u2.1 u2.2.1 u2.2.2 false may)
    else if sgO t.2.2.1 = -1 then (0, t, h, op, out)
    else
      let q := btwF (sgO t.2.2.1) h op out
      if q.1 = 0 then (0, t, q.2) else eL tp wd n f t.1 q.2.1 q.2.2.1 q.2.2.2 true (decide (sgO t.2.2.1 ≤ 12))
theorem lex_gt {tp wd : Nat → Int32} {n a : Nat} (h : a ≤ n) (h0 : ¬ (lexF tp wd n a).2.2.1 = 0) : a < (lexF tp wd n a).1 := by
  have h1 := skW_le (tp := tp) (n := n) (n - a) a (by omega)
  unfold lexF at h0 ⊢
  dsimp only at h0 ⊢
  by_cases hb : skW tp n (n - a) a = n
  · rw [if_pos hb] at h0; exact absurd rfl h0
  · rw [if_neg hb]
    have hlt : skW tp n (n - a) a < n := by omega
    split
    · rename_i h2
      dsimp only
      obtain ⟨m, hm⟩ : ∃ m, n - skW tp n (n - a) a = m + 1 := ⟨n - skW tp n (n - a) a - 1, by omega⟩
      rw [hm]
      unfold skR
      rw [if_pos ⟨hlt, h2⟩]
      have := skR_le (tp := tp) (n := n) (lo := 97) (hi := 122) m (skW tp n (n - a) a + 1) (by omega)
      omega
    · split
      · rename_i h3 h2
        dsimp only
        obtain ⟨m, hm⟩ : ∃ m, n - skW tp n (n - a) a = m + 1 := ⟨n - skW tp n (n - a) a - 1, by omega⟩
        rw [hm]
        unfold numL
        rw [if_pos ⟨hlt, h2⟩]
        have := numL_le (tp := tp) (n := n) m (skW tp n (n - a) a + 1) (0 + 1) (if 0 < 4 then 10 * 0 + tp (skW tp n (n - a) a) - 48 else 0) (by omega)
        omega
      · dsimp only; omega
theorem btw_len {sg op : Int32} {h out : List Int32} : (btwF sg h op out).2.1.length + (btwF sg h op out).2.2.2.length ≤ h.length + out.length + 1 := by
  have := unwL_len (least := btwL (rankF sg)) h op out
  unfold btwF
  dsimp only
  split
  · dsimp only; omega
  · dsimp only [List.length_cons]; omega
section A
variable {g : GE} {b z n base tn : Nat} {F0 : Nat → Int32} {A0 : Nat → Nat → Int32} {ω0 ω : Om} {c : Cr}
theorem l_eRead (hN : gN g ≤ b) (hn : F0 7 = nI n) (hn2 : n ≤ 160) (htn : F0 10 = nI tn) (htn6 : tn < 6) (hbase : base = 200 * tn) {gE pbE ptE pvE : Int32} {aE beE : Nat} {hE outE : List Int32} {opE : Int32} :
    ∀ (f a : Nat) (h : List Int32) (op : Int32) (out : List Int32) (wants may : Bool) (pb pt pv : Int32) (f24 f8 : Nat → Int32) (A2 : Nat → Nat → Int32), a ≤ n → n - a < f → StkA f24 h → OutR f8 (A0 8) base out → out.length + h.length ≤ a →
    eL (A0 6) (A0 23) n f a h op out wants may = (gE, (aE, beE, ptE, pvE), hE, opE, outE) →
    GN g RX7 cX7_eRead 4 (some .boolean) 4 (pQ g b ω0 z (some (.int gE)) F0 A0 c base (nI aE) (nI beE) ptE pvE hE opE outE) (pW g b F0 A0 c (nI a) pb pt pv (nI h.length) op (nI out.length) f24 f8 A2 ω0) z 14 [(2, .int (bI may)), (1, .int (bI wants)), (0, .ref b)] [] := by
  intro f
  induction f with
  | zero => intro a h op out wants may pb pt pv f24 f8 A2 ha hf; exact absurd hf (by omega)
  | succ f ih =>
    intro a h op out wants may pb pt pv f24 f8 A2 ha hf hh ho hl hr
    unfold eL at hr
    have hle := lex_le (tp := A0 6) (wd := A0 23) ha
    have hgt := lex_gt (tp := A0 6) (wd := A0 23) ha
    obtain ⟨t, ht⟩ : ∃ t, lexF (A0 6) (A0 23) n a = t := ⟨_, rfl⟩
    obtain ⟨a', be, tk, va⟩ := t
    rw [ht] at hr hle hgt
    dsimp only at hr hle hgt
    refine g_aload_n dX7_eRead_14 rfl ?_
    refine gm_callv (n := 0) (c_next (n := n) hN hn hn2 ha) (lw_V q1401 q1403 qs37 q92 q1404) (by decide +kernel) rfl rfl (by decide) ⟨Nat.le_refl _, Nat.le_refl _⟩ (Nat.le_of_ble_eq_true rfl) dX7_eRead_15 (fun A2 => ?_)
    rw [ht]
    dsimp only
    cases wants with
    | true =>
      rw [if_pos rfl] at hr
      by_cases h12 : tk = 1 ∨ tk = 2
      · rw [if_pos h12] at hr
        have hga : a < a' := hgt (by rcases h12 with rfl | rfl <;> decide)
        have hul := unwL_len (least := 7) h op (out ++ [if tk = 1 then 100000 + va else va])
        simp only [List.length_append, List.length_cons, List.length_nil] at hul
        by_cases h1 : tk = 1
        · subst h1
          rw [if_pos rfl] at hr hul
          refine g_iload_n dX7_eRead_18 rfl ?_
          refine g_if_eq 150 dX7_eRead_19 (by decide) (fun h9 => absurd h9 (by decide)) (fun _ => ?_)
          refine g_aload_n dX7_eRead_22 rfl ?_
          refine mgp_token dX7_eRead_23 ?_
          refine g_iconst (1) dX7_eRead_26 rfl ?_
          refine g_icmp_eq 38 dX7_eRead_27 (by decide) (fun _ => ?_) (fun h9 => absurd rfl h9)
          refine g_aload_n dX7_eRead_38 rfl ?_
          refine g_aload_n dX7_eRead_39 rfl ?_
          refine mgp_token dX7_eRead_40 ?_
          refine g_iconst (1) dX7_eRead_43 rfl ?_
          refine g_icmp_ne 57 dX7_eRead_44 (by decide) (fun h9 => absurd rfl h9) (fun _ => ?_)
          refine g_ldc q1416 dX7_eRead_47 ?_
          refine g_aload_n dX7_eRead_49 rfl ?_
          refine mgp_value dX7_eRead_50 ?_
          refine g_iadd dX7_eRead_53 ?_
          refine g_goto 61 dX7_eRead_54 (by decide) ?_
          refine gp_callv (n := 1) (c_puts hN htn htn6 hbase hh ho (by omega)) (lw_V q1417 q1419 qs40 q92 q1420) (by decide +kernel) rfl rfl (by decide) ⟨Nat.le_refl _, Nat.le_refl _⟩ (Nat.le_of_ble_eq_true rfl) dX7_eRead_61 (fun f24 f8 A2 hh ho => ?_)
          refine g_aload_n dX7_eRead_64 rfl ?_
          refine g_bipush (7) dX7_eRead_65 rfl ?_
          refine gp_callv (n := 1) (c_unwinds hN htn htn6 hbase hh ho (by simp; omega)) (lw_V q1421 q1423 qs41 q92 q1424) (by decide +kernel) rfl rfl (by decide) ⟨Nat.le_refl _, Nat.le_refl _⟩ (Nat.le_of_ble_eq_true rfl) dX7_eRead_67 (fun f24 f8 A2 hh ho => ?_)
          refine g_iconst (0) dX7_eRead_70 rfl ?_
          refine g_istore_n (L' := [(1, _), (2, _), (0, _)]) dX7_eRead_71 (by decide) rfl ?_
          refine g_goto 14 dX7_eRead_72 (by decide) ?_
          refine g_pick [1, 0, 2] rfl ?_
          exact ih a' _ _ _ false may _ _ _ _ _ _ hle.2.2 (by omega) hh ho (by omega) hr
        · have h2 : tk = 2 := h12.resolve_left h1
          subst h2
          rw [if_neg (by decide)] at hr hul
          refine g_iload_n dX7_eRead_18 rfl ?_
          refine g_if_eq 150 dX7_eRead_19 (by decide) (fun h9 => absurd h9 (by decide)) (fun _ => ?_)
          refine g_aload_n dX7_eRead_22 rfl ?_
          refine mgp_token dX7_eRead_23 ?_
          refine g_iconst (1) dX7_eRead_26 rfl ?_
          refine g_icmp_eq 38 dX7_eRead_27 (by decide) (fun h9 => absurd h9 (by decide)) (fun _ => ?_)
          refine g_aload_n dX7_eRead_30 rfl ?_
          refine mgp_token dX7_eRead_31 ?_
          refine g_iconst (2) dX7_eRead_34 rfl ?_
          refine g_icmp_ne 75 dX7_eRead_35 (by decide) (fun h9 => absurd rfl h9) (fun _ => ?_)
          refine g_aload_n dX7_eRead_38 rfl ?_
          refine g_aload_n dX7_eRead_39 rfl ?_
          refine mgp_token dX7_eRead_40 ?_
          refine g_iconst (1) dX7_eRead_43 rfl ?_
          refine g_icmp_ne 57 dX7_eRead_44 (by decide) (fun _ => ?_) (fun h9 => absurd h9 (by decide))
          refine g_aload_n dX7_eRead_57 rfl ?_
          refine mgp_value dX7_eRead_58 ?_
          refine gp_callv (n := 1) (c_puts hN htn htn6 hbase hh ho (by omega)) (lw_V q1417 q1419 qs40 q92 q1420) (by decide +kernel) rfl rfl (by decide) ⟨Nat.le_refl _, Nat.le_refl _⟩ (Nat.le_of_ble_eq_true rfl) dX7_eRead_61 (fun f24 f8 A2 hh ho => ?_)
          refine g_aload_n dX7_eRead_64 rfl ?_
          refine g_bipush (7) dX7_eRead_65 rfl ?_
          refine gp_callv (n := 1) (c_unwinds hN htn htn6 hbase hh ho (by simp; omega)) (lw_V q1421 q1423 qs41 q92 q1424) (by decide +kernel) rfl rfl (by decide) ⟨Nat.le_refl _, Nat.le_refl _⟩ (Nat.le_of_ble_eq_true rfl) dX7_eRead_67 (fun f24 f8 A2 hh ho => ?_)
          refine g_iconst (0) dX7_eRead_70 rfl ?_
          refine g_istore_n (L' := [(1, _), (2, _), (0, _)]) dX7_eRead_71 (by decide) rfl ?_
          refine g_goto 14 dX7_eRead_72 (by decide) ?_
          refine g_pick [1, 0, 2] rfl ?_
          exact ih a' _ _ _ false may _ _ _ _ _ _ hle.2.2 (by omega) hh ho (by omega) hr
      · rw [if_neg h12] at hr
        have d1 : ¬ tk = 1 := fun q => h12 (Or.inl q)
        have d2 : ¬ tk = 2 := fun q => h12 (Or.inr q)
        by_cases h6 : tk = 6 ∧ may = true
        · rw [if_pos h6] at hr
          obtain ⟨rfl, rfl⟩ := h6
          have hga : a < a' := hgt (by decide)
          by_cases h5 : op = 5
          · rw [if_pos h5] at hr
            cases hr
            refine g_iload_n dX7_eRead_18 rfl ?_
            refine g_if_eq 150 dX7_eRead_19 (by decide) (fun h9 => absurd h9 (by decide)) (fun _ => ?_)
            refine g_aload_n dX7_eRead_22 rfl ?_
            refine mgp_token dX7_eRead_23 ?_
            refine g_iconst (1) dX7_eRead_26 rfl ?_
            refine g_icmp_eq 38 dX7_eRead_27 (by decide) (fun h9 => absurd h9 d1) (fun _ => ?_)
            refine g_aload_n dX7_eRead_30 rfl ?_
            refine mgp_token dX7_eRead_31 ?_
            refine g_iconst (2) dX7_eRead_34 rfl ?_
            refine g_icmp_ne 75 dX7_eRead_35 (by decide) (fun _ => ?_) (fun h9 => absurd h9 d2)
            refine g_aload_n dX7_eRead_75 rfl ?_
            refine mgp_token dX7_eRead_76 ?_
            refine g_bipush (6) dX7_eRead_79 rfl ?_
            refine g_icmp_ne 99 dX7_eRead_81 (by decide) (fun h9 => absurd rfl h9) (fun _ => ?_)
            refine g_iload_n dX7_eRead_84 rfl ?_
            refine g_if_eq 99 dX7_eRead_85 (by decide) (fun h9 => absurd h9 (by decide)) (fun _ => ?_)
            refine g_aload_n dX7_eRead_88 rfl ?_
            refine g_bipush (13) dX7_eRead_89 rfl ?_
            refine gp_calli (n := 1) (c_opensOne hN hh ho (by omega)) (lw_V q1428 q1430 qs42 q92 q1431) (by decide +kernel) rfl rfl (by decide) ⟨Nat.le_refl _, Nat.le_refl _⟩ (Nat.le_of_ble_eq_true rfl) dX7_eRead_91 (fun f24 f8 A2 hh ho => ?_)
            refine g_if_ne 14 dX7_eRead_94 (by decide) (fun h9 => absurd (if_pos h5) h9) (fun _ => ?_)
            refine g_iconst (0) dX7_eRead_97 rfl ?_
            refine g_zret rfl (by first | rfl | exact nrb_in) (Nat.le_refl _) (Nat.le_refl _) ?_ dX7_eRead_98
            rw [if_pos h5, if_pos h5] at *
            exact pQ.mk hh ho
          · rw [if_neg h5] at hr
            refine g_iload_n dX7_eRead_18 rfl ?_
            refine g_if_eq 150 dX7_eRead_19 (by decide) (fun h9 => absurd h9 (by decide)) (fun _ => ?_)
            refine g_aload_n dX7_eRead_22 rfl ?_
            refine mgp_token dX7_eRead_23 ?_
            refine g_iconst (1) dX7_eRead_26 rfl ?_
            refine g_icmp_eq 38 dX7_eRead_27 (by decide) (fun h9 => absurd h9 d1) (fun _ => ?_)
            refine g_aload_n dX7_eRead_30 rfl ?_
            refine mgp_token dX7_eRead_31 ?_
            refine g_iconst (2) dX7_eRead_34 rfl ?_
            refine g_icmp_ne 75 dX7_eRead_35 (by decide) (fun _ => ?_) (fun h9 => absurd h9 d2)
            refine g_aload_n dX7_eRead_75 rfl ?_
            refine mgp_token dX7_eRead_76 ?_
            refine g_bipush (6) dX7_eRead_79 rfl ?_
            refine g_icmp_ne 99 dX7_eRead_81 (by decide) (fun h9 => absurd rfl h9) (fun _ => ?_)
            refine g_iload_n dX7_eRead_84 rfl ?_
            refine g_if_eq 99 dX7_eRead_85 (by decide) (fun h9 => absurd h9 (by decide)) (fun _ => ?_)
            refine g_aload_n dX7_eRead_88 rfl ?_
            refine g_bipush (13) dX7_eRead_89 rfl ?_
            refine gp_calli (n := 1) (c_opensOne hN hh ho (by omega)) (lw_V q1428 q1430 qs42 q92 q1431) (by decide +kernel) rfl rfl (by decide) ⟨Nat.le_refl _, Nat.le_refl _⟩ (Nat.le_of_ble_eq_true rfl) dX7_eRead_91 (fun f24 f8 A2 hh ho => ?_)
            refine g_if_ne 14 dX7_eRead_94 (by decide) (fun _ => ?_) (fun h9 => absurd h9 (by rw [if_neg h5]; decide))
            rw [if_neg h5, if_neg h5] at *
            exact ih a' _ _ _ true true _ _ _ _ _ _ hle.2.2 (by omega) hh ho (by simp; omega) hr
        · rw [if_neg h6] at hr
          by_cases h45 : tk = 45
          · rw [if_pos h45] at hr
            subst h45
            have hga : a < a' := hgt (by decide)
            by_cases h5 : op = 5
            · rw [if_pos h5] at hr
              cases hr
              refine g_iload_n dX7_eRead_18 rfl ?_
              refine g_if_eq 150 dX7_eRead_19 (by decide) (fun h9 => absurd h9 (by decide)) (fun _ => ?_)
              refine g_aload_n dX7_eRead_22 rfl ?_
              refine mgp_token dX7_eRead_23 ?_
              refine g_iconst (1) dX7_eRead_26 rfl ?_
              refine g_icmp_eq 38 dX7_eRead_27 (by decide) (fun h9 => absurd h9 d1) (fun _ => ?_)
              refine g_aload_n dX7_eRead_30 rfl ?_
              refine mgp_token dX7_eRead_31 ?_
              refine g_iconst (2) dX7_eRead_34 rfl ?_
              refine g_icmp_ne 75 dX7_eRead_35 (by decide) (fun _ => ?_) (fun h9 => absurd h9 d2)
              refine g_aload_n dX7_eRead_75 rfl ?_
              refine mgp_token dX7_eRead_76 ?_
              refine g_bipush (6) dX7_eRead_79 rfl ?_
              refine g_icmp_ne 99 dX7_eRead_81 (by decide) (fun _ => ?_) (fun h9 => absurd h9 (by decide))
              refine g_aload_n dX7_eRead_99 rfl ?_
              refine mgp_token dX7_eRead_100 ?_
              refine g_bipush (45) dX7_eRead_103 rfl ?_
              refine g_icmp_ne 124 dX7_eRead_105 (by decide) (fun h9 => absurd rfl h9) (fun _ => ?_)
              refine g_aload_n dX7_eRead_108 rfl ?_
              refine g_bipush (19) dX7_eRead_109 rfl ?_
              refine gp_calli (n := 1) (c_opensOne hN hh ho (by omega)) (lw_V q1428 q1430 qs42 q92 q1431) (by decide +kernel) rfl rfl (by decide) ⟨Nat.le_refl _, Nat.le_refl _⟩ (Nat.le_of_ble_eq_true rfl) dX7_eRead_111 (fun f24 f8 A2 hh ho => ?_)
              refine g_if_ne 119 dX7_eRead_114 (by decide) (fun h9 => absurd (if_pos h5) h9) (fun _ => ?_)
              refine g_iconst (0) dX7_eRead_117 rfl ?_
              refine g_zret rfl (by first | rfl | exact nrb_in) (Nat.le_refl _) (Nat.le_refl _) ?_ dX7_eRead_118
              rw [if_pos h5, if_pos h5] at *
              exact pQ.mk hh ho
            · rw [if_neg h5] at hr
              refine g_iload_n dX7_eRead_18 rfl ?_
              refine g_if_eq 150 dX7_eRead_19 (by decide) (fun h9 => absurd h9 (by decide)) (fun _ => ?_)
              refine g_aload_n dX7_eRead_22 rfl ?_
              refine mgp_token dX7_eRead_23 ?_
              refine g_iconst (1) dX7_eRead_26 rfl ?_
              refine g_icmp_eq 38 dX7_eRead_27 (by decide) (fun h9 => absurd h9 d1) (fun _ => ?_)
              refine g_aload_n dX7_eRead_30 rfl ?_
              refine mgp_token dX7_eRead_31 ?_
              refine g_iconst (2) dX7_eRead_34 rfl ?_
              refine g_icmp_ne 75 dX7_eRead_35 (by decide) (fun _ => ?_) (fun h9 => absurd h9 d2)
              refine g_aload_n dX7_eRead_75 rfl ?_
              refine mgp_token dX7_eRead_76 ?_
              refine g_bipush (6) dX7_eRead_79 rfl ?_
              refine g_icmp_ne 99 dX7_eRead_81 (by decide) (fun _ => ?_) (fun h9 => absurd h9 (by decide))
              refine g_aload_n dX7_eRead_99 rfl ?_
              refine mgp_token dX7_eRead_100 ?_
              refine g_bipush (45) dX7_eRead_103 rfl ?_
              refine g_icmp_ne 124 dX7_eRead_105 (by decide) (fun h9 => absurd rfl h9) (fun _ => ?_)
              refine g_aload_n dX7_eRead_108 rfl ?_
              refine g_bipush (19) dX7_eRead_109 rfl ?_
              refine gp_calli (n := 1) (c_opensOne hN hh ho (by omega)) (lw_V q1428 q1430 qs42 q92 q1431) (by decide +kernel) rfl rfl (by decide) ⟨Nat.le_refl _, Nat.le_refl _⟩ (Nat.le_of_ble_eq_true rfl) dX7_eRead_111 (fun f24 f8 A2 hh ho => ?_)
              refine g_if_ne 119 dX7_eRead_114 (by decide) (fun _ => ?_) (fun h9 => absurd h9 (by rw [if_neg h5]; decide))
              refine g_iconst (0) dX7_eRead_119 rfl ?_
              refine g_istore_n (L' := [(2, _), (1, _), (0, _)]) dX7_eRead_120 (by decide) rfl ?_
              refine g_goto 14 dX7_eRead_121 (by decide) ?_
              rw [if_neg h5, if_neg h5] at *
              exact ih a' _ _ _ true false _ _ _ _ _ _ hle.2.2 (by omega) hh ho (by simp; omega) hr
          · rw [if_neg h45] at hr
            by_cases h40 : tk = 40
            · rw [if_pos h40] at hr
              subst h40
              have hga : a < a' := hgt (by decide)
              by_cases h5 : op = 5
              · rw [if_pos h5] at hr
                cases hr
                refine g_iload_n dX7_eRead_18 rfl ?_
                refine g_if_eq 150 dX7_eRead_19 (by decide) (fun h9 => absurd h9 (by decide)) (fun _ => ?_)
                refine g_aload_n dX7_eRead_22 rfl ?_
                refine mgp_token dX7_eRead_23 ?_
                refine g_iconst (1) dX7_eRead_26 rfl ?_
                refine g_icmp_eq 38 dX7_eRead_27 (by decide) (fun h9 => absurd h9 d1) (fun _ => ?_)
                refine g_aload_n dX7_eRead_30 rfl ?_
                refine mgp_token dX7_eRead_31 ?_
                refine g_iconst (2) dX7_eRead_34 rfl ?_
                refine g_icmp_ne 75 dX7_eRead_35 (by decide) (fun _ => ?_) (fun h9 => absurd h9 d2)
                refine g_aload_n dX7_eRead_75 rfl ?_
                refine mgp_token dX7_eRead_76 ?_
                refine g_bipush (6) dX7_eRead_79 rfl ?_
                refine g_icmp_ne 99 dX7_eRead_81 (by decide) (fun _ => ?_) (fun h9 => absurd h9 (by decide))
                refine g_aload_n dX7_eRead_99 rfl ?_
                refine mgp_token dX7_eRead_100 ?_
                refine g_bipush (45) dX7_eRead_103 rfl ?_
                refine g_icmp_ne 124 dX7_eRead_105 (by decide) (fun _ => ?_) (fun h9 => absurd h9 (by decide))
                refine g_aload_n dX7_eRead_124 rfl ?_
                refine mgp_token dX7_eRead_125 ?_
                refine g_bipush (40) dX7_eRead_128 rfl ?_
                refine g_icmp_ne 148 dX7_eRead_130 (by decide) (fun h9 => absurd rfl h9) (fun _ => ?_)
                refine g_aload_n dX7_eRead_133 rfl ?_
                refine g_iconst (0) dX7_eRead_134 rfl ?_
                refine gp_calli (n := 1) (c_opensOne hN hh ho (by omega)) (lw_V q1428 q1430 qs42 q92 q1431) (by decide +kernel) rfl rfl (by decide) ⟨Nat.le_refl _, Nat.le_refl _⟩ (Nat.le_of_ble_eq_true rfl) dX7_eRead_135 (fun f24 f8 A2 hh ho => ?_)
                refine g_if_ne 143 dX7_eRead_138 (by decide) (fun h9 => absurd (if_pos h5) h9) (fun _ => ?_)
                refine g_iconst (0) dX7_eRead_141 rfl ?_
                refine g_zret rfl (by first | rfl | exact nrb_in) (Nat.le_refl _) (Nat.le_refl _) ?_ dX7_eRead_142
                rw [if_pos h5, if_pos h5] at *
                exact pQ.mk hh ho
              · rw [if_neg h5] at hr
                refine g_iload_n dX7_eRead_18 rfl ?_
                refine g_if_eq 150 dX7_eRead_19 (by decide) (fun h9 => absurd h9 (by decide)) (fun _ => ?_)
                refine g_aload_n dX7_eRead_22 rfl ?_
                refine mgp_token dX7_eRead_23 ?_
                refine g_iconst (1) dX7_eRead_26 rfl ?_
                refine g_icmp_eq 38 dX7_eRead_27 (by decide) (fun h9 => absurd h9 d1) (fun _ => ?_)
                refine g_aload_n dX7_eRead_30 rfl ?_
                refine mgp_token dX7_eRead_31 ?_
                refine g_iconst (2) dX7_eRead_34 rfl ?_
                refine g_icmp_ne 75 dX7_eRead_35 (by decide) (fun _ => ?_) (fun h9 => absurd h9 d2)
                refine g_aload_n dX7_eRead_75 rfl ?_
                refine mgp_token dX7_eRead_76 ?_
                refine g_bipush (6) dX7_eRead_79 rfl ?_
                refine g_icmp_ne 99 dX7_eRead_81 (by decide) (fun _ => ?_) (fun h9 => absurd h9 (by decide))
                refine g_aload_n dX7_eRead_99 rfl ?_
                refine mgp_token dX7_eRead_100 ?_
                refine g_bipush (45) dX7_eRead_103 rfl ?_
                refine g_icmp_ne 124 dX7_eRead_105 (by decide) (fun _ => ?_) (fun h9 => absurd h9 (by decide))
                refine g_aload_n dX7_eRead_124 rfl ?_
                refine mgp_token dX7_eRead_125 ?_
                refine g_bipush (40) dX7_eRead_128 rfl ?_
                refine g_icmp_ne 148 dX7_eRead_130 (by decide) (fun h9 => absurd rfl h9) (fun _ => ?_)
                refine g_aload_n dX7_eRead_133 rfl ?_
                refine g_iconst (0) dX7_eRead_134 rfl ?_
                refine gp_calli (n := 1) (c_opensOne hN hh ho (by omega)) (lw_V q1428 q1430 qs42 q92 q1431) (by decide +kernel) rfl rfl (by decide) ⟨Nat.le_refl _, Nat.le_refl _⟩ (Nat.le_of_ble_eq_true rfl) dX7_eRead_135 (fun f24 f8 A2 hh ho => ?_)
                refine g_if_ne 143 dX7_eRead_138 (by decide) (fun _ => ?_) (fun h9 => absurd h9 (by rw [if_neg h5]; decide))
                refine g_iconst (1) dX7_eRead_143 rfl ?_
                refine g_istore_n (L' := [(2, _), (1, _), (0, _)]) dX7_eRead_144 (by decide) rfl ?_
                refine g_goto 14 dX7_eRead_145 (by decide) ?_
                rw [if_neg h5, if_neg h5] at *
                exact ih a' _ _ _ true true _ _ _ _ _ _ hle.2.2 (by omega) hh ho (by simp; omega) hr
            · rw [if_neg h40] at hr
              cases hr
              refine g_iload_n dX7_eRead_18 rfl ?_
              refine g_if_eq 150 dX7_eRead_19 (by decide) (fun h9 => absurd h9 (by decide)) (fun _ => ?_)
              refine g_aload_n dX7_eRead_22 rfl ?_
              refine mgp_token dX7_eRead_23 ?_
              refine g_iconst (1) dX7_eRead_26 rfl ?_
              refine g_icmp_eq 38 dX7_eRead_27 (by decide) (fun h9 => absurd h9 d1) (fun _ => ?_)
              refine g_aload_n dX7_eRead_30 rfl ?_
              refine mgp_token dX7_eRead_31 ?_
              refine g_iconst (2) dX7_eRead_34 rfl ?_
              refine g_icmp_ne 75 dX7_eRead_35 (by decide) (fun _ => ?_) (fun h9 => absurd h9 d2)
              refine g_aload_n dX7_eRead_75 rfl ?_
              refine mgp_token dX7_eRead_76 ?_
              refine g_bipush (6) dX7_eRead_79 rfl ?_
              refine g_icmp_ne 99 dX7_eRead_81 (by decide) (fun c1 => ?_) (fun c1 => ?_)
              · refine g_aload_n dX7_eRead_99 rfl ?_
                refine mgp_token dX7_eRead_100 ?_
                refine g_bipush (45) dX7_eRead_103 rfl ?_
                refine g_icmp_ne 124 dX7_eRead_105 (by decide) (fun _ => ?_) (fun h9 => absurd h9 h45)
                refine g_aload_n dX7_eRead_124 rfl ?_
                refine mgp_token dX7_eRead_125 ?_
                refine g_bipush (40) dX7_eRead_128 rfl ?_
                refine g_icmp_ne 148 dX7_eRead_130 (by decide) (fun _ => ?_) (fun h9 => absurd h9 h40)
                refine g_iconst (0) dX7_eRead_148 rfl ?_
                refine g_zret rfl (by first | rfl | exact nrb_in) (Nat.le_refl _) (Nat.le_refl _) ?_ dX7_eRead_149
                exact pQ.mk hh ho
              · refine g_iload_n dX7_eRead_84 rfl ?_
                refine g_if_eq 99 dX7_eRead_85 (by decide) (fun c2 => ?_) (fun c2 => ?_)
                · refine g_aload_n dX7_eRead_99 rfl ?_
                  refine mgp_token dX7_eRead_100 ?_
                  refine g_bipush (45) dX7_eRead_103 rfl ?_
                  refine g_icmp_ne 124 dX7_eRead_105 (by decide) (fun _ => ?_) (fun h9 => absurd h9 h45)
                  refine g_aload_n dX7_eRead_124 rfl ?_
                  refine mgp_token dX7_eRead_125 ?_
                  refine g_bipush (40) dX7_eRead_128 rfl ?_
                  refine g_icmp_ne 148 dX7_eRead_130 (by decide) (fun _ => ?_) (fun h9 => absurd h9 h40)
                  refine g_iconst (0) dX7_eRead_148 rfl ?_
                  refine g_zret rfl (by first | rfl | exact nrb_in) (Nat.le_refl _) (Nat.le_refl _) ?_ dX7_eRead_149
                  exact pQ.mk hh ho
                · exact absurd ⟨c1, by cases may with | true => rfl | false => exact absurd rfl c2⟩ h6
    | false =>
      rw [if_neg (by decide)] at hr
      by_cases h59 : tk = 59
      · rw [if_pos h59] at hr
        subst h59
        have hul := unwL_len (least := 1) h op out
        obtain ⟨u, hu⟩ : ∃ u, unwL 1 h op out = u := ⟨_, rfl⟩
        obtain ⟨h1, op1, out1⟩ := u
        rw [hu] at hr hul
        dsimp only at hr hul
        refine g_iload_n dX7_eRead_18 rfl ?_
        refine g_if_eq 150 dX7_eRead_19 (by decide) (fun _ => ?_) (fun h9 => absurd rfl h9)
        refine g_aload_n dX7_eRead_150 rfl ?_
        refine mgp_token dX7_eRead_151 ?_
        refine g_bipush (59) dX7_eRead_154 rfl ?_
        refine g_icmp_ne 177 dX7_eRead_156 (by decide) (fun h9 => absurd rfl h9) (fun _ => ?_)
        refine g_aload_n dX7_eRead_159 rfl ?_
        refine g_iconst (1) dX7_eRead_160 rfl ?_
        refine gp_callv (n := 1) (c_unwinds hN htn htn6 hbase hh ho (by omega)) (lw_V q1421 q1423 qs41 q92 q1424) (by decide +kernel) rfl rfl (by decide) ⟨Nat.le_refl _, Nat.le_refl _⟩ (Nat.le_of_ble_eq_true rfl) dX7_eRead_161 (fun f24 f8 A2 hh ho => ?_)
        rw [hu] at hh ho ⊢
        dsimp only at hh ho ⊢
        by_cases he : h1.length = 0
        · rw [if_pos he] at hr
          cases hr
          refine g_aload_n dX7_eRead_164 rfl ?_
          refine mgp_heldMany dX7_eRead_165 ?_
          refine g_if_ne 175 dX7_eRead_168 (by decide) (fun h9 => absurd (by rw [he]; rfl) h9) (fun _ => ?_)
          refine g_iconst (1) dX7_eRead_171 rfl ?_
          refine g_goto 176 dX7_eRead_172 (by decide) ?_
          refine g_zret rfl (by first | rfl | exact nrb_in) (Nat.le_refl _) (Nat.le_refl _) ?_ dX7_eRead_176
          exact pQ.mk hh ho
        · rw [if_neg he] at hr
          cases hr
          refine g_aload_n dX7_eRead_164 rfl ?_
          refine mgp_heldMany dX7_eRead_165 ?_
          refine g_if_ne 175 dX7_eRead_168 (by decide) (fun _ => ?_) (fun h9 => absurd h9 (nI_ne0 (by omega) (by omega)))
          refine g_iconst (0) dX7_eRead_175 rfl ?_
          refine g_zret rfl (by first | rfl | exact nrb_in) (Nat.le_refl _) (Nat.le_refl _) ?_ dX7_eRead_176
          exact pQ.mk hh ho
      · rw [if_neg h59] at hr
        by_cases h41 : tk = 41
        · rw [if_pos h41] at hr
          subst h41
          have hga : a < a' := hgt (by decide)
          have hul := unwL_len (least := 1) h op out
          obtain ⟨u, hu⟩ : ∃ u, unwL 1 h op out = u := ⟨_, rfl⟩
          obtain ⟨h1, op1, out1⟩ := u
          rw [hu] at hr hul
          dsimp only at hr hul
          refine g_iload_n dX7_eRead_18 rfl ?_
          refine g_if_eq 150 dX7_eRead_19 (by decide) (fun _ => ?_) (fun h9 => absurd rfl h9)
          refine g_aload_n dX7_eRead_150 rfl ?_
          refine mgp_token dX7_eRead_151 ?_
          refine g_bipush (59) dX7_eRead_154 rfl ?_
          refine g_icmp_ne 177 dX7_eRead_156 (by decide) (fun _ => ?_) (fun h9 => absurd h9 (by decide))
          refine g_aload_n dX7_eRead_177 rfl ?_
          refine mgp_token dX7_eRead_178 ?_
          refine g_bipush (41) dX7_eRead_181 rfl ?_
          refine g_icmp_ne 229 dX7_eRead_183 (by decide) (fun h9 => absurd rfl h9) (fun _ => ?_)
          refine g_aload_n dX7_eRead_186 rfl ?_
          refine g_iconst (1) dX7_eRead_187 rfl ?_
          refine gp_callv (n := 1) (c_unwinds hN htn htn6 hbase hh ho (by omega)) (lw_V q1421 q1423 qs41 q92 q1424) (by decide +kernel) rfl rfl (by decide) ⟨Nat.le_refl _, Nat.le_refl _⟩ (Nat.le_of_ble_eq_true rfl) dX7_eRead_188 (fun f24 f8 A2 hh ho => ?_)
          rw [hu] at hh ho ⊢
          dsimp only at hh ho ⊢
          match h1, hh, hr, hul with
          | [], hh, hr, hul =>
            cases hr
            refine g_aload_n dX7_eRead_191 rfl ?_
            refine mgp_heldMany dX7_eRead_192 ?_
            refine g_if_ne 200 dX7_eRead_195 (by decide) (fun h9 => absurd rfl h9) (fun _ => ?_)
            refine g_iconst (0) dX7_eRead_198 rfl ?_
            refine g_zret rfl (by first | rfl | exact nrb_in) (Nat.le_refl _) (Nat.le_refl _) ?_ dX7_eRead_199
            exact pQ.mk hh ho
          | s :: h2, hh, hr, hul =>
            have hul2 := unwL_len (least := 7) h2 (op1 - 1) out1
            simp only [List.length_cons] at hul
            have hix : nI (s :: h2).length - 1 = nI h2.length := nI_pred _
            refine g_aload_n dX7_eRead_191 rfl ?_
            refine mgp_heldMany dX7_eRead_192 ?_
            refine g_if_ne 200 dX7_eRead_195 (by decide) (fun _ => ?_) (fun h9 => absurd h9 (nI_ne0 (by simp) (by simp only [List.length_cons]; omega)))
            refine g_aload_n dX7_eRead_200 rfl ?_
            refine g_dup dX7_eRead_201 rfl ?_
            refine mgp_heldMany dX7_eRead_202 ?_
            refine g_iconst (1) dX7_eRead_205 rfl ?_
            refine g_isub dX7_eRead_206 ?_
            refine mpp_heldMany hN  dX7_eRead_207 ?_
            refine g_aload_n dX7_eRead_210 rfl ?_
            refine g_dup dX7_eRead_211 rfl ?_
            refine mgp_opens dX7_eRead_212 ?_
            refine g_iconst (1) dX7_eRead_215 rfl ?_
            refine g_isub dX7_eRead_216 ?_
            refine mpp_opens hN  dX7_eRead_217 ?_
            rw [hix]
            refine g_aload_n dX7_eRead_220 rfl ?_
            refine g_bipush (7) dX7_eRead_221 rfl ?_
            refine gp_callv (n := 1) (c_unwinds hN htn htn6 hbase hh.pop ho (by omega)) (lw_V q1421 q1423 qs41 q92 q1424) (by decide +kernel) rfl rfl (by decide) ⟨Nat.le_refl _, Nat.le_refl _⟩ (Nat.le_of_ble_eq_true rfl) dX7_eRead_223 (fun f24 f8 A2 hh ho => ?_)
            refine g_goto 14 dX7_eRead_226 (by decide) ?_
            exact ih a' _ _ _ false may _ _ _ _ _ _ hle.2.2 (by omega) hh ho (by omega) hr
        · rw [if_neg h41] at hr
          by_cases hs : sgO tk = -1
          · rw [if_pos hs] at hr
            cases hr
            refine g_iload_n dX7_eRead_18 rfl ?_
            refine g_if_eq 150 dX7_eRead_19 (by decide) (fun _ => ?_) (fun h9 => absurd rfl h9)
            refine g_aload_n dX7_eRead_150 rfl ?_
            refine mgp_token dX7_eRead_151 ?_
            refine g_bipush (59) dX7_eRead_154 rfl ?_
            refine g_icmp_ne 177 dX7_eRead_156 (by decide) (fun _ => ?_) (fun h9 => absurd h9 h59)
            refine g_aload_n dX7_eRead_177 rfl ?_
            refine mgp_token dX7_eRead_178 ?_
            refine g_bipush (41) dX7_eRead_181 rfl ?_
            refine g_icmp_ne 229 dX7_eRead_183 (by decide) (fun _ => ?_) (fun h9 => absurd h9 h41)
            refine g_aload_n dX7_eRead_229 rfl ?_
            refine gm_calli (n := 0) (c_signOf ) (lw_V q1436 q1438 qs44 q92 q1439) (by decide +kernel) rfl rfl (by decide) ⟨Nat.le_refl _, Nat.le_refl _⟩ (Nat.le_of_ble_eq_true rfl) dX7_eRead_230 (fun A2 => ?_)
            refine g_istore_n (L' := [(3, _), (2, _), (1, _), (0, _)]) dX7_eRead_233 (by decide) rfl ?_
            refine g_iload_n dX7_eRead_234 rfl ?_
            refine g_iconst (-1) dX7_eRead_235 rfl ?_
            refine g_icmp_eq 247 dX7_eRead_236 (by decide) (fun _ => ?_) (fun h9 => absurd hs h9)
            refine g_iconst (0) dX7_eRead_247 rfl ?_
            refine g_zret rfl (by first | rfl | exact nrb_in) (Nat.le_refl _) (Nat.le_refl _) ?_ dX7_eRead_248
            exact pQ.mk hh ho
          · rw [if_neg hs] at hr
            have hga : a < a' := hgt (fun q => hs (by rw [q]; rfl))
            have hbl := btw_len (sg := sgO tk) (op := op) (h := h) (out := out)
            obtain ⟨u, hu⟩ : ∃ u, btwF (sgO tk) h op out = u := ⟨_, rfl⟩
            obtain ⟨r1, h1, op1, out1⟩ := u
            rw [hu] at hr hbl
            dsimp only at hr hbl
            refine g_iload_n dX7_eRead_18 rfl ?_
            refine g_if_eq 150 dX7_eRead_19 (by decide) (fun _ => ?_) (fun h9 => absurd rfl h9)
            refine g_aload_n dX7_eRead_150 rfl ?_
            refine mgp_token dX7_eRead_151 ?_
            refine g_bipush (59) dX7_eRead_154 rfl ?_
            refine g_icmp_ne 177 dX7_eRead_156 (by decide) (fun _ => ?_) (fun h9 => absurd h9 h59)
            refine g_aload_n dX7_eRead_177 rfl ?_
            refine mgp_token dX7_eRead_178 ?_
            refine g_bipush (41) dX7_eRead_181 rfl ?_
            refine g_icmp_ne 229 dX7_eRead_183 (by decide) (fun _ => ?_) (fun h9 => absurd h9 h41)
            refine g_aload_n dX7_eRead_229 rfl ?_
            refine gm_calli (n := 0) (c_signOf ) (lw_V q1436 q1438 qs44 q92 q1439) (by decide +kernel) rfl rfl (by decide) ⟨Nat.le_refl _, Nat.le_refl _⟩ (Nat.le_of_ble_eq_true rfl) dX7_eRead_230 (fun A2 => ?_)
            refine g_istore_n (L' := [(3, _), (2, _), (1, _), (0, _)]) dX7_eRead_233 (by decide) rfl ?_
            refine g_iload_n dX7_eRead_234 rfl ?_
            refine g_iconst (-1) dX7_eRead_235 rfl ?_
            refine g_icmp_eq 247 dX7_eRead_236 (by decide) (fun h9 => absurd h9 hs) (fun _ => ?_)
            refine g_aload_n dX7_eRead_239 rfl ?_
            refine g_iload_n dX7_eRead_240 rfl ?_
            refine gp_calli (n := 1) (c_between hN htn htn6 hbase hh ho (by omega)) (lw_V q1440 q1442 qs45 q92 q1443) (by decide +kernel) rfl rfl (by decide) ⟨Nat.le_refl _, Nat.le_refl _⟩ (Nat.le_of_ble_eq_true rfl) dX7_eRead_241 (fun f24 f8 A2 hh ho => ?_)
            rw [hu] at hh ho ⊢
            dsimp only at hh ho ⊢
            by_cases hb : r1 = 0
            · rw [if_pos hb] at hr
              cases hr
              refine g_if_ne 249 dX7_eRead_244 (by decide) (fun h9 => absurd hb h9) (fun _ => ?_)
              refine g_iconst (0) dX7_eRead_247 rfl ?_
              refine g_zret rfl (by first | rfl | exact nrb_in) (Nat.le_refl _) (Nat.le_refl _) ?_ dX7_eRead_248
              exact pQ.mk hh ho
            · rw [if_neg hb] at hr
              refine g_if_ne 249 dX7_eRead_244 (by decide) (fun _ => ?_) (fun h9 => absurd h9 hb)
              refine g_iconst (1) dX7_eRead_249 rfl ?_
              refine g_istore_n (L' := [(1, _), (3, _), (2, _), (0, _)]) dX7_eRead_250 (by decide) rfl ?_
              refine g_iload_n dX7_eRead_251 rfl ?_
              refine g_bipush (12) dX7_eRead_252 rfl ?_
              refine g_icmp_gt 261 dX7_eRead_254 (by decide) (fun c1 => ?_) (fun c1 => ?_)
              · have hd : decide (sgO tk ≤ 12) = false := decide_eq_false (Int32.not_le.mpr c1)
                rw [hd] at hr
                refine g_iconst (0) dX7_eRead_261 rfl ?_
                refine g_istore_n (L' := [(2, _), (1, _), (3, _), (0, _)]) dX7_eRead_262 (by decide) rfl ?_
                refine g_goto 14 dX7_eRead_263 (by decide) ?_
                refine g_pick [0, 1, 3] rfl ?_
                exact ih a' _ _ _ true false _ _ _ _ _ _ hle.2.2 (by omega) hh ho (by omega) hr
              · have hd : decide (sgO tk ≤ 12) = true := decide_eq_true (Int32.not_lt.mp c1)
                rw [hd] at hr
                refine g_iconst (1) dX7_eRead_257 rfl ?_
                refine g_goto 262 dX7_eRead_258 (by decide) ?_
                refine g_istore_n (L' := [(2, _), (1, _), (3, _), (0, _)]) dX7_eRead_262 (by decide) rfl ?_
                refine g_goto 14 dX7_eRead_263 (by decide) ?_
                refine g_pick [0, 1, 3] rfl ?_
                exact ih a' _ _ _ true true _ _ _ _ _ _ hle.2.2 (by omega) hh ho (by omega) hr
def eF (tp wd : Nat → Int32) (n a : Nat) (out : List Int32) : ER := eL tp wd n (n - a + 1) a [] 0 out true true
theorem c_eRead {a : Nat} {pb pt pv ph po : Int32} {out : List Int32} {f24 f8 : Nat → Int32} {A2 : Nat → Nat → Int32} (hN : gN g ≤ b) (hn : F0 7 = nI n) (hn2 : n ≤ 160) (htn : F0 10 = nI tn) (htn6 : tn < 6) (hbase : base = 200 * tn) (ha : a ≤ n) (ho : OutR f8 (A0 8) base out) (hl : out.length ≤ a) {e : ER} (he : eF (A0 6) (A0 23) n a out = e) :
    Ct g yX7_eRead cX7_eRead 4 (some .boolean) 4 0 0 [.ref b] (pW g b F0 A0 c (nI a) pb pt pv ph po (nI out.length) f24 f8 A2 ω0) z (pQ g b ω0 z (some (.int e.1)) F0 A0 c base (nI e.2.1.1) (nI e.2.1.2.1) e.2.1.2.2.1 e.2.1.2.2.2 e.2.2.1 e.2.2.2.1 e.2.2.2.2) := by
  refine Ct.at (own := RX7) (by decide) rfl (Nat.le_of_ble_eq_true rfl) rfl ?_
  refine g_aload_n dX7_eRead_0 rfl ?_
  refine g_iconst (0) dX7_eRead_1 rfl ?_
  refine mpp_heldMany hN  dX7_eRead_2 ?_
  refine g_aload_n dX7_eRead_5 rfl ?_
  refine g_iconst (0) dX7_eRead_6 rfl ?_
  refine mpp_opens hN  dX7_eRead_7 ?_
  refine g_iconst (1) dX7_eRead_10 rfl ?_
  refine g_istore_n (L' := [(1, _), (0, _)]) dX7_eRead_11 (by decide) rfl ?_
  refine g_iconst (1) dX7_eRead_12 rfl ?_
  refine g_istore_n (L' := [(2, _), (1, _), (0, _)]) dX7_eRead_13 (by decide) rfl ?_
  obtain ⟨gE, ⟨aE, beE, ptE, pvE⟩, hE, opE, outE⟩ := e
  exact l_eRead (pbE := 0) hN hn hn2 htn htn6 hbase (n - a + 1) a [] 0 out true true _ _ _ f24 f8 A2 ha (by omega) (fun j v q => by simp at q) ho (by simp; omega) he
end A
