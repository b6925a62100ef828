/-! the component: the core laid aside and back -/
set_option maxRecDepth 100000
def ckn (c : Cr) (f : Nat → Int32) : Cr := (fun j => if j % 3 = 0 then f (j / 3) else c.1 j, c.2.1, c.2.2)
def cke (c : Cr) (f : Nat → Int32) : Cr := (fun j => if j % 3 = 1 then f (j / 3) else c.1 j, c.2.1, c.2.2)
def clu (c : Cr) (f : Nat → Int32) : Cr := (fun j => if j % 3 = 2 then f (j / 3) else c.1 j, c.2.1, c.2.2)
theorem kn_ckn (c : Cr) (f : Nat → Int32) : kn (ckn c f) = f := by
  funext q; unfold kn ckn; dsimp only; rw [if_pos (by omega), show 3 * q / 3 = q by omega]
theorem ke_ckn (c : Cr) (f : Nat → Int32) : ke (ckn c f) = ke c := by
  funext q; unfold ke ckn; dsimp only; rw [if_neg (by omega)]
theorem lu_ckn (c : Cr) (f : Nat → Int32) : lu (ckn c f) = lu c := by
  funext q; unfold lu ckn; dsimp only; rw [if_neg (by omega)]
theorem ke_cke (c : Cr) (f : Nat → Int32) : ke (cke c f) = f := by
  funext q; unfold ke cke; dsimp only; rw [if_pos (by omega), show (3 * q + 1) / 3 = q by omega]
theorem kn_cke (c : Cr) (f : Nat → Int32) : kn (cke c f) = kn c := by
  funext q; unfold kn cke; dsimp only; rw [if_neg (by omega)]
theorem lu_cke (c : Cr) (f : Nat → Int32) : lu (cke c f) = lu c := by
  funext q; unfold lu cke; dsimp only; rw [if_neg (by omega)]
theorem lu_clu (c : Cr) (f : Nat → Int32) : lu (clu c f) = f := by
  funext q; unfold lu clu; dsimp only; rw [if_pos (by omega), show (3 * q + 2) / 3 = q by omega]
theorem kn_clu (c : Cr) (f : Nat → Int32) : kn (clu c f) = kn c := by
  funext q; unfold kn clu; dsimp only; rw [if_neg (by omega)]
theorem ke_clu (c : Cr) (f : Nat → Int32) : ke (clu c f) = ke c := by
  funext q; unfold ke clu; dsimp only; rw [if_neg (by omega)]
theorem sA_id (A : Nat → Nat → Int32) (k : Nat) : sA A k (A k) = A := by
  funext j; unfold sA; by_cases h : j = k
  · rw [if_pos h, h]
  · rw [if_neg h]
/-- the row of what is laid aside -/
def xkp (f : Nat → Int32) (c : Cr) : Nat → Int32 := upd (upd (va_cpy (lu c) (va_cpy (ke c) (va_cpy (kn c) f 0 0 6) 0 6 6) 0 12 6) 18 c.2.1) 19 c.2.2
def cB (f : Nat → Int32) (c : Cr) : Cr := (fun j => if j < 18 then f (6 * (j % 3) + j / 3) else c.1 j, f 18, f 19)
theorem cB_eq (f : Nat → Int32) (c : Cr) : clu (cke (ckn c (va_cpy f (kn c) 0 0 6)) (va_cpy f (ke c) 6 0 6)) (va_cpy f (lu c) 12 0 6) = ((cB f c).1, c.2.1, c.2.2) := by
  refine Prod.ext ?_ rfl
  funext j
  unfold clu cke ckn cB va_cpy kn ke lu
  dsimp only
  by_cases h : j < 18
  · rw [if_pos h]
    rcases (show j % 3 = 0 ∨ j % 3 = 1 ∨ j % 3 = 2 by omega) with e | e | e
    · rw [if_neg (by omega), if_neg (by omega), if_pos e, if_pos (by omega)]; congr 1; omega
    · rw [if_neg (by omega), if_pos e, if_pos (by omega)]; congr 1; omega
    · rw [if_pos e, if_pos (by omega)]; congr 1; omega
  · rw [if_neg h]
    rcases (show j % 3 = 0 ∨ j % 3 = 1 ∨ j % 3 = 2 by omega) with e | e | e
    · rw [if_neg (by omega), if_neg (by omega), if_pos e, if_neg (by omega)]; exact congrArg c.1 (by omega)
    · rw [if_neg (by omega), if_pos e, if_neg (by omega)]; exact congrArg c.1 (by omega)
    · rw [if_pos e, if_neg (by omega)]; exact congrArg c.1 (by omega)
theorem xkp_at (f : Nat → Int32) (c : Cr) {j : Nat} (h : j < 18) : xkp f c (6 * (j % 3) + j / 3) = c.1 j := by
  unfold xkp upd va_cpy kn ke lu
  rw [if_neg (by omega), if_neg (by omega)]
  rcases (show j % 3 = 0 ∨ j % 3 = 1 ∨ j % 3 = 2 by omega) with e | e | e
  · rw [if_neg (by omega), if_neg (by omega), if_pos (by omega)]; exact congrArg c.1 (by omega)
  · rw [if_neg (by omega), if_pos (by omega)]; exact congrArg c.1 (by omega)
  · rw [if_pos (by omega)]; exact congrArg c.1 (by omega)
theorem cB_xkp {f : Nat → Int32} {c0 c : Cr} (h : hiEq c0 c) : cB (xkp f c0) c = c0 := by
  refine Prod.ext ?_ (Prod.ext ?_ ?_)
  · funext j
    show (if j < 18 then _ else _) = _
    by_cases hj : j < 18
    · rw [if_pos hj, xkp_at f c0 hj]
    · rw [if_neg hj]; exact h j (by omega)
  · rfl
  · rfl
section CPS
variable {g : GE} {b z ra fi : Nat} {F : Nat → Int32} {A : Nat → Nat → Int32} {c : Cr} {ea : Nat} {tx : Nat → Option Nat} {nm : Nat → Int32} {ω0 : Om} {f : Nat → Int32}
theorem hX_sKn : oset (hX g b F A c ea tx nm ω0) (b + 3) (.inl (g.2.2.1 0, 6, .inl f)) = hX g b F A (ckn c f) ea tx nm ω0 := by
  funext q
  by_cases h : q = b + 3
  · subst h
    rw [hX_3, kn_ckn]
    exact if_pos rfl
  · unfold oset
    rw [if_neg h]
    unfold hX
    simp only [if_neg h]
    rw [ke_ckn, lu_ckn]
    rfl
theorem hX_sKe : oset (hX g b F A c ea tx nm ω0) (b + 4) (.inl (g.2.2.1 0, 6, .inl f)) = hX g b F A (cke c f) ea tx nm ω0 := by
  funext q
  by_cases h : q = b + 4
  · subst h
    rw [hX_4, ke_cke]
    exact if_pos rfl
  · unfold oset
    rw [if_neg h]
    unfold hX
    simp only [if_neg h]
    rw [kn_cke, lu_cke]
    rfl
theorem hX_sLu : oset (hX g b F A c ea tx nm ω0) (b + 5) (.inl (g.2.2.1 0, 6, .inl f)) = hX g b F A (clu c f) ea tx nm ω0 := by
  funext q
  by_cases h : q = b + 5
  · subst h
    rw [hX_5, lu_clu]
    exact if_pos rfl
  · unfold oset
    rw [if_neg h]
    unfold hX
    simp only [if_neg h]
    rw [kn_clu, ke_clu]
    rfl
/-- the array at b + ra is the field fi's, of twenty places -/
def RowAt (g : GE) (b ra fi : Nat) : Prop := (∀ F A c ea tx nm ω0 f, hX g b F (sA A fi f) c ea tx nm ω0 (b + ra) = some (.inl (g.2.2.1 0, 20, .inl f))) ∧ (∀ F A c ea tx nm ω0 f f', oset (hX g b F (sA A fi f) c ea tx nm ω0) (b + ra) (.inl (g.2.2.1 0, 20, .inl f')) = hX g b F (sA A fi f') c ea tx nm ω0)
theorem row_aside : RowAt g b 6 8 := ⟨fun _ _ _ _ _ _ _ _ => by rw [hX_6, sA_same], fun _ _ _ _ _ _ _ _ _ => by rw [hX_s_aside, sA_sA]⟩
theorem row_tried : RowAt g b 7 9 := ⟨fun _ _ _ _ _ _ _ _ => by rw [hX_7, sA_same], fun _ _ _ _ _ _ _ _ _ => by rw [hX_s_tried, sA_sA]⟩
theorem row_one : RowAt g b 8 11 := ⟨fun _ _ _ _ _ _ _ _ => by rw [hX_8, sA_same], fun _ _ _ _ _ _ _ _ _ => by rw [hX_s_wasOne, sA_sA]⟩
theorem row_two : RowAt g b 9 12 := ⟨fun _ _ _ _ _ _ _ _ => by rw [hX_9, sA_same], fun _ _ _ _ _ _ _ _ _ => by rw [hX_s_wasTwo, sA_sA]⟩
theorem row_three : RowAt g b 10 13 := ⟨fun _ _ _ _ _ _ _ _ => by rw [hX_10, sA_same], fun _ _ _ _ _ _ _ _ _ => by rw [hX_s_wasThree, sA_sA]⟩
theorem row_kept : RowAt g b 11 15 := ⟨fun _ _ _ _ _ _ _ _ => by rw [hX_11, sA_same], fun _ _ _ _ _ _ _ _ _ => by rw [hX_s_kept, sA_sA]⟩
theorem c18 : (18 : Int32).toNatClampNeg = 18 := by decide
theorem c19 : (19 : Int32).toNatClampNeg = 19 := by decide
theorem x_copiesF (hR : RowAt g b ra fi) (hN : gN g ≤ b) : Ct g yX0_copies cX0_copies 2 none 2 0 0 [.ref b, .ref (b + ra)] (hX g b F (sA A fi f) c ea tx nm ω0) z (xQ g b ω0 z none F (sA A fi (xkp f c)) c ea tx) := by
  have hN' : ∀ k, gN g ≤ b + k := fun k => Nat.le_trans hN (Nat.le_add_right _ _)
  refine Ct.at (own := RX0) (by decide) rfl (Nat.le_of_ble_eq_true rfl) rfl ?_
  refine g_aload_n dX0_copies_0 rfl ?_
  refine xg_knows dX0_copies_1 ?_
  refine g_iconst (0) dX0_copies_4 rfl ?_
  refine g_aload_n dX0_copies_5 rfl ?_
  refine g_iconst (0) dX0_copies_6 rfl ?_
  refine g_bipush (6) dX0_copies_7 rfl ?_
  refine g_copyi 0 0 6 (hN' _) hX_3 (hR.1 _ _ _ _ _ _ _ _) (by decide) (by decide) (by decide) (by decide) (by decide) (Nat.le_of_ble_eq_true rfl) q1155 dX0_copies_9 ?_
  rw [hR.2]
  refine g_aload_n dX0_copies_12 rfl ?_
  refine xg_keeps dX0_copies_13 ?_
  refine g_iconst (0) dX0_copies_16 rfl ?_
  refine g_aload_n dX0_copies_17 rfl ?_
  refine g_bipush (6) dX0_copies_18 rfl ?_
  refine g_bipush (6) dX0_copies_20 rfl ?_
  refine g_copyi 0 6 6 (hN' _) hX_4 (hR.1 _ _ _ _ _ _ _ _) (by decide) (by decide) (by decide) (by decide) (by decide) (Nat.le_of_ble_eq_true rfl) q1155 dX0_copies_22 ?_
  rw [hR.2]
  refine g_aload_n dX0_copies_25 rfl ?_
  refine xg_luck dX0_copies_26 ?_
  refine g_iconst (0) dX0_copies_29 rfl ?_
  refine g_aload_n dX0_copies_30 rfl ?_
  refine g_bipush (12) dX0_copies_31 rfl ?_
  refine g_bipush (6) dX0_copies_33 rfl ?_
  refine g_copyi 0 12 6 (hN' _) hX_5 (hR.1 _ _ _ _ _ _ _ _) (by decide) (by decide) (by decide) (by decide) (by decide) (Nat.le_of_ble_eq_true rfl) q1155 dX0_copies_35 ?_
  rw [hR.2]
  refine g_aload_n dX0_copies_38 rfl ?_
  refine g_bipush (18) dX0_copies_39 rfl ?_
  refine g_aload_n dX0_copies_41 rfl ?_
  refine xg_sea dX0_copies_42 ?_
  refine g_iast (hN' _) (hR.1 _ _ _ _ _ _ _ _) (vp_in_nI (n := 18) (by decide) (by decide)) dX0_copies_45 ?_
  rw [c18, hR.2]
  refine g_pc 46 rfl ?_
  refine g_aload_n dX0_copies_46 rfl ?_
  refine g_bipush (19) dX0_copies_47 rfl ?_
  refine g_aload_n dX0_copies_49 rfl ?_
  refine xg_tide dX0_copies_50 ?_
  refine g_iast (hN' _) (hR.1 _ _ _ _ _ _ _ _) (vp_in_nI (n := 19) (by decide) (by decide)) dX0_copies_53 ?_
  rw [c19, hR.2]
  refine g_vret rfl (Nat.le_refl _) (Nat.le_refl _) ?_ dX0_copies_54
  exact xQ.mk
theorem x_copies (hR : RowAt g b ra fi) (hN : gN g ≤ b) : Ct g yX0_copies cX0_copies 2 none 2 0 0 [.ref b, .ref (b + ra)] (hX g b F A c ea tx nm ω0) z (xQ g b ω0 z none F (sA A fi (xkp (A fi) c)) c ea tx) := by
  have := x_copiesF (z := z) (F := F) (A := A) (c := c) (ea := ea) (tx := tx) (nm := nm) (ω0 := ω0) (f := A fi) hR hN
  rw [sA_id] at this
  exact this
theorem x_copiesBackF (hR : RowAt g b ra fi) (hN : gN g ≤ b) : Ct g yX0_copiesBack cX0_copiesBack 2 none 2 0 0 [.ref b, .ref (b + ra)] (hX g b F (sA A fi f) c ea tx nm ω0) z (xQ g b ω0 z none F (sA A fi f) (cB f c) ea tx) := by
  have hN' : ∀ k, gN g ≤ b + k := fun k => Nat.le_trans hN (Nat.le_add_right _ _)
  refine Ct.at (own := RX0) (by decide) rfl (Nat.le_of_ble_eq_true rfl) rfl ?_
  refine g_aload_n dX0_copiesBack_0 rfl ?_
  refine g_iconst (0) dX0_copiesBack_1 rfl ?_
  refine g_aload_n dX0_copiesBack_2 rfl ?_
  refine xg_knows dX0_copiesBack_3 ?_
  refine g_iconst (0) dX0_copiesBack_6 rfl ?_
  refine g_bipush (6) dX0_copiesBack_7 rfl ?_
  refine g_copyi 0 0 6 (hN' _) (hR.1 _ _ _ _ _ _ _ _) hX_3 (by decide) (by decide) (by decide) (by decide) (by decide) (Nat.le_of_ble_eq_true rfl) q1155 dX0_copiesBack_9 ?_
  rw [hX_sKn]
  refine g_aload_n dX0_copiesBack_12 rfl ?_
  refine g_bipush (6) dX0_copiesBack_13 rfl ?_
  refine g_aload_n dX0_copiesBack_15 rfl ?_
  refine xg_keeps dX0_copiesBack_16 ?_
  refine g_iconst (0) dX0_copiesBack_19 rfl ?_
  refine g_bipush (6) dX0_copiesBack_20 rfl ?_
  refine g_copyi 6 0 6 (hN' _) (hR.1 _ _ _ _ _ _ _ _) hX_4 (by decide) (by decide) (by decide) (by decide) (by decide) (Nat.le_of_ble_eq_true rfl) q1155 dX0_copiesBack_22 ?_
  rw [hX_sKe, ke_ckn]
  refine g_aload_n dX0_copiesBack_25 rfl ?_
  refine g_bipush (12) dX0_copiesBack_26 rfl ?_
  refine g_aload_n dX0_copiesBack_28 rfl ?_
  refine xg_luck dX0_copiesBack_29 ?_
  refine g_iconst (0) dX0_copiesBack_32 rfl ?_
  refine g_bipush (6) dX0_copiesBack_33 rfl ?_
  refine g_copyi 12 0 6 (hN' _) (hR.1 _ _ _ _ _ _ _ _) hX_5 (by decide) (by decide) (by decide) (by decide) (by decide) (Nat.le_of_ble_eq_true rfl) q1155 dX0_copiesBack_35 ?_
  rw [hX_sLu, lu_cke, lu_ckn, cB_eq]
  refine g_aload_n dX0_copiesBack_38 rfl ?_
  refine g_aload_n dX0_copiesBack_39 rfl ?_
  refine g_bipush (18) dX0_copiesBack_40 rfl ?_
  refine g_iald (hR.1 _ _ _ _ _ _ _ _) (vp_in_nI (n := 18) (by decide) (by decide)) dX0_copiesBack_42 ?_
  rw [c18]
  refine g_pc 43 rfl ?_
  refine xp_sea hN dX0_copiesBack_43 ?_
  refine g_pc 46 rfl ?_
  refine g_aload_n dX0_copiesBack_46 rfl ?_
  refine g_aload_n dX0_copiesBack_47 rfl ?_
  refine g_bipush (19) dX0_copiesBack_48 rfl ?_
  refine g_iald (hR.1 _ _ _ _ _ _ _ _) (vp_in_nI (n := 19) (by decide) (by decide)) dX0_copiesBack_50 ?_
  rw [c19]
  refine g_pc 51 rfl ?_
  refine xp_tide hN dX0_copiesBack_51 ?_
  refine g_vret rfl (Nat.le_refl _) (Nat.le_refl _) ?_ dX0_copiesBack_54
  exact xQ.mk
/-- what was laid aside comes back -/
theorem x_copiesBack {c0 : Cr} {f0 : Nat → Int32} (hR : RowAt g b ra fi) (hN : gN g ≤ b) (hf : A fi = xkp f0 c0) (hh : hiEq c0 c) : Ct g yX0_copiesBack cX0_copiesBack 2 none 2 0 0 [.ref b, .ref (b + ra)] (hX g b F A c ea tx nm ω0) z (xQ g b ω0 z none F A c0 ea tx) := by
  have := x_copiesBackF (z := z) (F := F) (A := A) (c := c) (ea := ea) (tx := tx) (nm := nm) (ω0 := ω0) (f := A fi) hR hN
  rw [sA_id, hf, cB_xkp hh] at this
  exact this
end CPS
