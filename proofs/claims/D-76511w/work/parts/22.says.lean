set_option maxRecDepth 100000
theorem isUn_ne {c : Int32} (h : isUn c) : ¬ (100000 : Int32) ≤ c ∧ ¬ c < 11 := by rcases h with rfl | rfl <;> decide
theorem isBi_ne {c : Int32} (h : isBi c) : ¬ (100000 : Int32) ≤ c ∧ ¬ c < 11 ∧ ¬ c = 13 ∧ ¬ c = 19 := by rcases h with rfl | rfl | rfl | rfl | rfl | rfl | rfl <;> decide
section A
variable {g : GE} {b z : Nat} {F : Nat → Int32} {A : Nat → Nat → Int32} {ω0 : Om}
theorem l_says {part r e : Nat} {nm : Nat → Int32} (hN : gN g ≤ b) (hr : F 11 = nI r) (hr6 : r < 6) (hp : part < 3) (he : A 9 (4 * r + part + 1) = nI e) (he2 : e ≤ 200) :
    ∀ (l : List Int32) (k : Nat) (st : List Int32) (A2 : Nat → Nat → Int32), k + l.length = e → okc l st.length 1 → st.length + l.length ≤ 200 → (∀ i v, l[i]? = some v → A 8 (200 * r + (k + i)) = v) → StkA (A2 28) st → (∀ j, j < 6 → A2 29 j = nm j) →
    GN g RX7 cX7_says 5 (some .int) 2 (mQ g b ω0 z (some (.int ((rpn nm l st).headD 0))) F A) (hM g b F A A2 ω0) z 16 [(3, .int (nI k)), (2, .int (nI st.length)), (0, .ref b), (1, .int (nI part))] [] := by
  intro l
  induction l with
  | nil =>
    intro k st A2 hk hok hle hcs hst hnm
    refine g_iload_n dX7_says_16 rfl ?_
    refine g_aload_n dX7_says_17 rfl ?_
    refine mg_starts dX7_says_18 ?_
    refine g_iconst (4) dX7_says_21 rfl ?_
    refine g_aload_n dX7_says_22 rfl ?_
    refine mg_rule dX7_says_23 ?_
    refine g_imul dX7_says_26 ?_
    refine g_iload_n dX7_says_27 rfl ?_
    refine g_iadd dX7_says_28 ?_
    refine g_iconst (1) dX7_says_29 rfl ?_
    refine g_iadd dX7_says_30 ?_
    refine ml_starts (4 * r + part + 1) (by omega) (by simp only [hr, nI, Int32.ofNat_add, Int32.ofNat_mul]; rfl) dX7_says_31 ?_
    refine g_icmp_ge 197 dX7_says_32 (by decide) (fun _ => ?_) (fun h9 => absurd (by rw [he]; exact nI_le (by simp at hk; omega) (by omega)) h9)
    refine g_aload_n dX7_says_197 rfl ?_
    refine mg_stack dX7_says_198 ?_
    refine g_iconst (0) dX7_says_201 rfl ?_
    refine ml_stack (0) (by omega) (by first | rfl | (simp only [nI, Int32.ofNat_add, Int32.ofNat_mul, hr]; rfl) | (simp only [nI, Int32.ofNat_add, Int32.ofNat_mul, hr]; done)) dX7_says_202 ?_
    refine g_iret rfl (Nat.le_refl _) (Nat.le_refl _) ?_ dX7_says_203
    have h1 : st.length = 1 := hok
    match st, h1 with
    | [v], _ => exact mQ.of (by rw [show A2 28 0 = v from hst.top]; rfl) rfl rfl
  | cons c cs ih =>
    intro k st A2 hk hok hle hcs hst hnm
    have hc : A 8 (200 * r + k) = c := hcs 0 c rfl
    have hcs' : ∀ i v, cs[i]? = some v → A 8 (200 * r + (k + 1 + i)) = v := fun i v h => by
      have := hcs (i + 1) v h
      rw [show k + 1 + i = k + (i + 1) by omega]; exact this
    have hk' : k + 1 + cs.length = e := by simp at hk; omega
    have hle' : st.length + cs.length + 1 ≤ 200 := by simp at hle; omega
    refine g_iload_n dX7_says_16 rfl ?_
    refine g_aload_n dX7_says_17 rfl ?_
    refine mg_starts dX7_says_18 ?_
    refine g_iconst (4) dX7_says_21 rfl ?_
    refine g_aload_n dX7_says_22 rfl ?_
    refine mg_rule dX7_says_23 ?_
    refine g_imul dX7_says_26 ?_
    refine g_iload_n dX7_says_27 rfl ?_
    refine g_iadd dX7_says_28 ?_
    refine g_iconst (1) dX7_says_29 rfl ?_
    refine g_iadd dX7_says_30 ?_
    refine ml_starts (4 * r + part + 1) (by omega) (by simp only [hr, nI, Int32.ofNat_add, Int32.ofNat_mul]; rfl) dX7_says_31 ?_
    refine g_icmp_ge 197 dX7_says_32 (by decide) (fun h9 => absurd h9 (by rw [he]; exact nI_ge (by omega) (by omega))) (fun _ => ?_)
    refine g_aload_n dX7_says_35 rfl ?_
    refine mg_codes dX7_says_36 ?_
    refine g_sipush (200) dX7_says_39 rfl ?_
    refine g_aload_n dX7_says_42 rfl ?_
    refine mg_rule dX7_says_43 ?_
    refine g_imul dX7_says_46 ?_
    refine g_iload_n dX7_says_47 rfl ?_
    refine g_iadd dX7_says_48 ?_
    refine ml_codes (((200 * r) + k)) (by omega) (by first | rfl | (simp only [nI, Int32.ofNat_add, Int32.ofNat_mul, hr]; rfl) | (simp only [nI, Int32.ofNat_add, Int32.ofNat_mul, hr]; done)) dX7_says_49 ?_
    refine g_istore (L' := [(4, _), (3, _), (2, _), (0, _), (1, _)]) dX7_says_50 (by decide) rfl ?_
    rw [hc]
    rcases hok with ⟨ho, hok⟩ | ⟨hu, hn, hok⟩ | ⟨hb, hn, hok⟩
    · rcases ho with ⟨j, hj, rfl⟩ | hbig
      · obtain ⟨h1, h2⟩ := op_small hj
        have e1 : rpn nm (nI j :: cs) st = rpn nm cs (nm j :: st) := by
          simp only [rpn, rpn1]; rw [if_neg h1, if_pos h2, nI_clamp (by omega)]
        rw [e1]
        refine g_iload dX7_says_52 rfl ?_
        refine g_ldc q1416 dX7_says_54 ?_
        refine g_icmp_ge 66 dX7_says_56 (by decide) (fun h9 => absurd h9 h1) (fun _ => ?_)
        refine g_iload dX7_says_59 rfl ?_
        refine g_bipush (11) dX7_says_61 rfl ?_
        refine g_icmp_ge 100 dX7_says_63 (by decide) (fun h9 => absurd h9 (fun h => (op_small hj).2 |> fun q => absurd h (by simp only [Int32.le_iff_toInt_le, Int32.lt_iff_toInt_lt] at *; omega))) (fun _ => ?_)
        refine g_aload_n dX7_says_66 rfl ?_
        refine mg_stack dX7_says_67 ?_
        refine g_iload_n dX7_says_70 rfl ?_
        refine g_iload dX7_says_71 rfl ?_
        refine g_bipush (11) dX7_says_73 rfl ?_
        refine g_icmp_ge 88 dX7_says_75 (by decide) (fun h9 => absurd h9 (fun h => (op_small hj).2 |> fun q => absurd h (by simp only [Int32.le_iff_toInt_le, Int32.lt_iff_toInt_lt] at *; omega))) (fun _ => ?_)
        refine g_aload_n dX7_says_78 rfl ?_
        refine mg_named dX7_says_79 ?_
        refine g_iload dX7_says_82 rfl ?_
        refine ml_named j (by omega) rfl dX7_says_84 ?_
        refine g_goto 93 dX7_says_85 (by decide) ?_
        refine ms_stack st.length hN (by omega) rfl dX7_says_93 ?_
        refine g_iinc (nI (st.length + 1)) (L' := [(2, _), (4, _), (3, _), (0, _), (1, _)]) dX7_says_94 rfl (nI_1 _) (by decide) rfl ?_
        refine g_goto 191 dX7_says_97 (by decide) ?_
        refine g_iinc (nI (k + 1)) (L' := [(3, _), (2, _), (4, _), (0, _), (1, _)]) dX7_says_191 rfl (nI_1 _) (by decide) rfl ?_
        refine g_goto 16 dX7_says_194 (by decide) ?_
        refine g_pick [0, 1, 3, 4] rfl ?_
        rw [hnm j hj]
        exact ih (k + 1) (nm j :: st) _ hk' hok (by simp; omega) hcs' (by rw [sA_same]; exact hst.push _) (by rw [sA_ne _ _ (by decide)]; exact hnm)
      · have h2 := op_big hbig
        have e1 : rpn nm (c :: cs) st = rpn nm cs ((c - 100000) :: st) := by
          simp only [rpn, rpn1]; rw [if_pos hbig]
        rw [e1]
        refine g_iload dX7_says_52 rfl ?_
        refine g_ldc q1416 dX7_says_54 ?_
        refine g_icmp_ge 66 dX7_says_56 (by decide) (fun _ => ?_) (fun h9 => absurd hbig h9)
        refine g_aload_n dX7_says_66 rfl ?_
        refine mg_stack dX7_says_67 ?_
        refine g_iload_n dX7_says_70 rfl ?_
        refine g_iload dX7_says_71 rfl ?_
        refine g_bipush (11) dX7_says_73 rfl ?_
        refine g_icmp_ge 88 dX7_says_75 (by decide) (fun _ => ?_) (fun h9 => absurd (by simp only [Int32.le_iff_toInt_le, Int32.lt_iff_toInt_lt] at *; omega) h9)
        refine g_iload dX7_says_88 rfl ?_
        refine g_ldc q1416 dX7_says_90 ?_
        refine g_isub dX7_says_92 ?_
        refine ms_stack st.length hN (by omega) rfl dX7_says_93 ?_
        refine g_iinc (nI (st.length + 1)) (L' := [(2, _), (4, _), (3, _), (0, _), (1, _)]) dX7_says_94 rfl (nI_1 _) (by decide) rfl ?_
        refine g_goto 191 dX7_says_97 (by decide) ?_
        refine g_iinc (nI (k + 1)) (L' := [(3, _), (2, _), (4, _), (0, _), (1, _)]) dX7_says_191 rfl (nI_1 _) (by decide) rfl ?_
        refine g_goto 16 dX7_says_194 (by decide) ?_
        refine g_pick [0, 1, 3, 4] rfl ?_
        exact ih (k + 1) ((c - 100000) :: st) _ hk' hok (by simp; omega) hcs' (by rw [sA_same]; exact hst.push _) (by rw [sA_ne _ _ (by decide)]; exact hnm)
    · obtain ⟨h1, h2⟩ := isUn_ne hu
      match st, hn, hst, hok, hle' with
      | x :: r2, _, hst, hok, hle' =>
      have hx : A2 28 r2.length = x := hst.top
      have hix : nI (x :: r2).length - 1 = nI r2.length := nI_pred _
      rcases hu with rfl | rfl
      · have e1 : rpn nm (13 :: cs) (x :: r2) = rpn nm cs ((if x = 0 then 1 else 0) :: r2) := rfl
        rw [e1]
        refine g_iload dX7_says_52 rfl ?_
        refine g_ldc q1416 dX7_says_54 ?_
        refine g_icmp_ge 66 dX7_says_56 (by decide) (fun h9 => absurd h9 (by decide)) (fun _ => ?_)
        refine g_iload dX7_says_59 rfl ?_
        refine g_bipush (11) dX7_says_61 rfl ?_
        refine g_icmp_ge 100 dX7_says_63 (by decide) (fun _ => ?_) (fun h9 => absurd (by decide) h9)
        refine g_iload dX7_says_100 rfl ?_
        refine g_bipush (13) dX7_says_102 rfl ?_
        refine g_icmp_ne 134 dX7_says_104 (by decide) (fun h9 => absurd (by decide) h9) (fun _ => ?_)
        refine g_aload_n dX7_says_107 rfl ?_
        refine mg_stack dX7_says_108 ?_
        refine g_iload_n dX7_says_111 rfl ?_
        refine g_iconst (1) dX7_says_112 rfl ?_
        refine g_isub dX7_says_113 ?_
        refine g_aload_n dX7_says_114 rfl ?_
        refine mg_stack dX7_says_115 ?_
        refine g_iload_n dX7_says_118 rfl ?_
        refine g_iconst (1) dX7_says_119 rfl ?_
        refine g_isub dX7_says_120 ?_
        refine ml_stack r2.length (by simp at hle'; omega) hix dX7_says_121 ?_
        refine g_if_ne 129 dX7_says_122 (by decide) (fun c1 => ?_) (fun c1 => ?_)
        · rw [hx] at c1
          rw [if_neg c1]
          refine g_iconst (0) dX7_says_129 rfl ?_
          refine ms_stack r2.length hN (by simp at hle'; omega) hix dX7_says_130 ?_
          refine g_goto 191 dX7_says_131 (by decide) ?_
          refine g_iinc (nI (k + 1)) (L' := [(3, _), (4, _), (2, _), (0, _), (1, _)]) dX7_says_191 rfl (nI_1 _) (by decide) rfl ?_
          refine g_goto 16 dX7_says_194 (by decide) ?_
          refine g_pick [0, 2, 3, 4] rfl ?_
          exact ih (k + 1) (0 :: r2) _ hk' hok (by simp at *; omega) hcs' (by rw [sA_same]; exact hst.pop.push _) (by rw [sA_ne _ _ (by decide)]; exact hnm)
        · rw [hx] at c1
          rw [if_pos c1]
          refine g_iconst (1) dX7_says_125 rfl ?_
          refine g_goto 130 dX7_says_126 (by decide) ?_
          refine ms_stack r2.length hN (by simp at hle'; omega) hix dX7_says_130 ?_
          refine g_goto 191 dX7_says_131 (by decide) ?_
          refine g_iinc (nI (k + 1)) (L' := [(3, _), (4, _), (2, _), (0, _), (1, _)]) dX7_says_191 rfl (nI_1 _) (by decide) rfl ?_
          refine g_goto 16 dX7_says_194 (by decide) ?_
          refine g_pick [0, 2, 3, 4] rfl ?_
          exact ih (k + 1) (1 :: r2) _ hk' hok (by simp at *; omega) hcs' (by rw [sA_same]; exact hst.pop.push _) (by rw [sA_ne _ _ (by decide)]; exact hnm)
      · have e1 : rpn nm (19 :: cs) (x :: r2) = rpn nm cs ((-x) :: r2) := rfl
        rw [e1]
        refine g_iload dX7_says_52 rfl ?_
        refine g_ldc q1416 dX7_says_54 ?_
        refine g_icmp_ge 66 dX7_says_56 (by decide) (fun h9 => absurd h9 (by decide)) (fun _ => ?_)
        refine g_iload dX7_says_59 rfl ?_
        refine g_bipush (11) dX7_says_61 rfl ?_
        refine g_icmp_ge 100 dX7_says_63 (by decide) (fun _ => ?_) (fun h9 => absurd (by decide) h9)
        refine g_iload dX7_says_100 rfl ?_
        refine g_bipush (13) dX7_says_102 rfl ?_
        refine g_icmp_ne 134 dX7_says_104 (by decide) (fun _ => ?_) (fun h9 => absurd h9 (by decide))
        refine g_iload dX7_says_134 rfl ?_
        refine g_bipush (19) dX7_says_136 rfl ?_
        refine g_icmp_ne 161 dX7_says_138 (by decide) (fun h9 => absurd (by decide) h9) (fun _ => ?_)
        refine g_aload_n dX7_says_141 rfl ?_
        refine mg_stack dX7_says_142 ?_
        refine g_iload_n dX7_says_145 rfl ?_
        refine g_iconst (1) dX7_says_146 rfl ?_
        refine g_isub dX7_says_147 ?_
        refine g_aload_n dX7_says_148 rfl ?_
        refine mg_stack dX7_says_149 ?_
        refine g_iload_n dX7_says_152 rfl ?_
        refine g_iconst (1) dX7_says_153 rfl ?_
        refine g_isub dX7_says_154 ?_
        refine ml_stack r2.length (by simp at hle'; omega) hix dX7_says_155 ?_
        refine g_ineg dX7_says_156 ?_
        refine ms_stack r2.length hN (by simp at hle'; omega) hix dX7_says_157 ?_
        refine g_goto 191 dX7_says_158 (by decide) ?_
        refine g_iinc (nI (k + 1)) (L' := [(3, _), (4, _), (2, _), (0, _), (1, _)]) dX7_says_191 rfl (nI_1 _) (by decide) rfl ?_
        refine g_goto 16 dX7_says_194 (by decide) ?_
        refine g_pick [0, 2, 3, 4] rfl ?_
        rw [hx]
        exact ih (k + 1) ((-x) :: r2) _ hk' hok (by simp at *; omega) hcs' (by rw [sA_same]; exact hst.pop.push _) (by rw [sA_ne _ _ (by decide)]; exact hnm)
    · obtain ⟨h1, h2, h3, h4⟩ := isBi_ne hb
      match st, hn, hst, hok, hle' with
      | y :: x :: r2, _, hst, hok, hle' =>
      have hy : A2 28 (r2.length + 1) = y := hst.top
      have hx : A2 28 r2.length = x := hst.pop.top
      have hix : nI (r2.length + 1) - 1 = nI r2.length := nI_pred _
      have e1 : rpn nm (c :: cs) (y :: x :: r2) = rpn nm cs (two c x y :: r2) := by
        simp only [rpn, rpn1]; rw [if_neg h1, if_neg h2, if_neg h3, if_neg h4]
      rw [e1]
      have hdec : nI (y :: x :: r2).length + (-1) = nI (r2.length + 1) := pk_m1 (r2.length + 1)
      refine g_iload dX7_says_52 rfl ?_
      refine g_ldc q1416 dX7_says_54 ?_
      refine g_icmp_ge 66 dX7_says_56 (by decide) (fun h9 => absurd h9 h1) (fun _ => ?_)
      refine g_iload dX7_says_59 rfl ?_
      refine g_bipush (11) dX7_says_61 rfl ?_
      refine g_icmp_ge 100 dX7_says_63 (by decide) (fun _ => ?_) (fun h9 => absurd (by simp only [Int32.le_iff_toInt_le, Int32.lt_iff_toInt_lt] at *; omega) h9)
      refine g_iload dX7_says_100 rfl ?_
      refine g_bipush (13) dX7_says_102 rfl ?_
      refine g_icmp_ne 134 dX7_says_104 (by decide) (fun _ => ?_) (fun h9 => absurd h9 h3)
      refine g_iload dX7_says_134 rfl ?_
      refine g_bipush (19) dX7_says_136 rfl ?_
      refine g_icmp_ne 161 dX7_says_138 (by decide) (fun _ => ?_) (fun h9 => absurd h9 h4)
      refine g_iinc (nI (r2.length + 1)) (L' := [(2, _), (4, _), (3, _), (0, _), (1, _)]) dX7_says_161 rfl hdec (by decide) rfl ?_
      refine g_aload_n dX7_says_164 rfl ?_
      refine mg_stack dX7_says_165 ?_
      refine g_iload_n dX7_says_168 rfl ?_
      refine g_iconst (1) dX7_says_169 rfl ?_
      refine g_isub dX7_says_170 ?_
      refine g_iload dX7_says_171 rfl ?_
      refine g_aload_n dX7_says_173 rfl ?_
      refine mg_stack dX7_says_174 ?_
      refine g_iload_n dX7_says_177 rfl ?_
      refine g_iconst (1) dX7_says_178 rfl ?_
      refine g_isub dX7_says_179 ?_
      refine ml_stack r2.length (by simp at hle'; omega) hix dX7_says_180 ?_
      refine g_aload_n dX7_says_181 rfl ?_
      refine mg_stack dX7_says_182 ?_
      refine g_iload_n dX7_says_185 rfl ?_
      refine ml_stack (r2.length + 1) (by simp at hle'; omega) rfl dX7_says_186 ?_
      refine gs_calli (n := 3) (c_two ) (lw_S q1590 q1591 q92 q1592) (by decide +kernel) rfl rfl (by decide) ⟨Nat.le_refl _, Nat.le_refl _⟩ (Nat.le_of_ble_eq_true rfl) dX7_says_187 ?_
      refine ms_stack r2.length hN (by simp at hle'; omega) hix dX7_says_190 ?_
      refine g_iinc (nI (k + 1)) (L' := [(3, _), (2, _), (4, _), (0, _), (1, _)]) dX7_says_191 rfl (nI_1 _) (by decide) rfl ?_
      refine g_goto 16 dX7_says_194 (by decide) ?_
      refine g_pick [0, 1, 3, 4] rfl ?_
      rw [hx, hy]
      exact ih (k + 1) (two c x y :: r2) _ hk' hok (by simp at *; omega) hcs' (by rw [sA_same]; exact hst.pop.pop.push _) (by rw [sA_ne _ _ (by decide)]; exact hnm)
theorem c_says {part r : Nat} {ts : Nat → List Int32} {A2 : Nat → Nat → Int32} {nm : Nat → Int32} (hN : gN g ≤ b) (hr : F 11 = nI r) (hr6 : r < 6) (hp : part < 3) (hT : TXr A r ts) (hnm : ∀ j, j < 6 → A2 29 j = nm j) : Ct g yX7_says cX7_says 5 (some .int) 2 0 0 [.ref b, .int (nI part)] (hM g b F A A2 ω0) z (mQ g b ω0 z (some (.int (sval nm (ts part)))) F A) := by
  obtain ⟨o, h1, h2, h3, h4, h5⟩ := hT part hp
  refine Ct.at (own := RX7) (by decide) rfl (Nat.le_of_ble_eq_true rfl) rfl ?_
  refine g_iconst (0) dX7_says_0 rfl ?_
  refine g_istore_n (L' := [(2, _), (0, _), (1, _)]) dX7_says_1 (by decide) rfl ?_
  refine g_aload_n dX7_says_2 rfl ?_
  refine mg_starts dX7_says_3 ?_
  refine g_iconst (4) dX7_says_6 rfl ?_
  refine g_aload_n dX7_says_7 rfl ?_
  refine mg_rule dX7_says_8 ?_
  refine g_imul dX7_says_11 ?_
  refine g_iload_n dX7_says_12 rfl ?_
  refine g_iadd dX7_says_13 ?_
  refine ml_starts (4 * r + part) (by omega) (by simp only [hr, nI, Int32.ofNat_add, Int32.ofNat_mul]; rfl) dX7_says_14 ?_
  refine g_istore_n (L' := [(3, _), (2, _), (0, _), (1, _)]) dX7_says_15 (by decide) rfl ?_
  rw [h1]
  exact l_says hN hr hr6 hp h2 h3 (ts part) o [] A2 rfl h5 (by simp; omega) h4 (fun j v h => by simp at h) hnm
end A
