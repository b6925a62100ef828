/-! sheets, copies of arrays, a fisher's number -/
set_option maxRecDepth 100000
section SH
variable {g : GE} {b : Nat} {F : Nat → Int32} {A : Nat → Nat → Int32} {c : Cr} {ea : Nat} {tx : Nat → Option Nat} {nm : Nat → Int32} {ω0 : Om} {s : Nat}
theorem hX_sh (hs : s < 4) : hX g b F A c ea tx nm ω0 (b + (15 + 2 * s)) = some (.inr (1, [.int (F (40 + s)), .int (F (50 + s)), .ref (b + (16 + 2 * s))])) := by
  match s, hs with
  | 0, _ => exact hX_15
  | 1, _ => exact hX_17
  | 2, _ => exact hX_19
  | 3, _ => exact hX_21
theorem hX_shc (hs : s < 4) : hX g b F A c ea tx nm ω0 (b + (16 + 2 * s)) = some (.inl (g.2.2.1 0, 40, .inl (A (60 + s)))) := by
  match s, hs with
  | 0, _ => exact hX_16
  | 1, _ => exact hX_18
  | 2, _ => exact hX_20
  | 3, _ => exact hX_22
theorem hX_ssort {v : Int32} (hs : s < 4) : oset (hX g b F A c ea tx nm ω0) (b + (15 + 2 * s)) (.inr (1, [.int (F (40 + s)), .int (F (50 + s)), .ref (b + (16 + 2 * s))].set 0 (.int v))) = hX g b (upd F (40 + s) v) A c ea tx nm ω0 := by
  match s, hs with
  | 0, _ => exact hX_s_sort0
  | 1, _ => exact hX_s_sort1
  | 2, _ => exact hX_s_sort2
  | 3, _ => exact hX_s_sort3
theorem hX_ssize {v : Int32} (hs : s < 4) : oset (hX g b F A c ea tx nm ω0) (b + (15 + 2 * s)) (.inr (1, [.int (F (40 + s)), .int (F (50 + s)), .ref (b + (16 + 2 * s))].set 1 (.int v))) = hX g b (upd F (50 + s) v) A c ea tx nm ω0 := by
  match s, hs with
  | 0, _ => exact hX_s_size0
  | 1, _ => exact hX_s_size1
  | 2, _ => exact hX_s_size2
  | 3, _ => exact hX_s_size3
theorem hX_scells {f : Nat → Int32} (hs : s < 4) : oset (hX g b F A c ea tx nm ω0) (b + (16 + 2 * s)) (.inl (g.2.2.1 0, 40, .inl f)) = hX g b F (sA A (60 + s) f) c ea tx nm ω0 := by
  match s, hs with
  | 0, _ => exact hX_s_cells0
  | 1, _ => exact hX_s_cells1
  | 2, _ => exact hX_s_cells2
  | 3, _ => exact hX_s_cells3
variable {cc : ByteArray} {nL : Nat} {ret : Option FieldType} {XT : Method → Code → Prop} {rm : Room} {Z : ZT} {cells slots : Nat} {z pc : Nat} {L : List (Nat × Value)} {rest : List Value}
theorem xh_ld (s : Nat) {i : Int32} (hs : s < 4) (hi : i = nI s) (hd : decode cc pc = .ok (.aaload, 1)) (k : G g RX0 cc nL ret XT rm Z cells slots (hX g b F A c ea tx nm ω0) z (pc + 1) L (.ref (b + (15 + 2 * s)) :: rest)) : G g RX0 cc nL ret XT rm Z cells slots (hX g b F A c ea tx nm ω0) z (pc) L (.int i :: .ref (b + 14) :: rest) := by
  subst hi
  refine g_aald (t0 := 5) rfl hX_14 (vp_in_nI hs (by decide)) hd ?_
  rw [nI_clamp (Nat.lt_trans hs (by decide))]
  exact k
theorem xh_sort (hs : s < 4) (hd : decode cc pc = .ok (.getfield 249, 3)) (k : G g RX0 cc nL ret XT rm Z cells slots (hX g b F A c ea tx nm ω0) z (pc + 3) L (.int (F (40 + s)) :: rest)) : G g RX0 cc nL ret XT rm Z cells slots (hX g b F A c ea tx nm ω0) z (pc) L (.ref (b + (15 + 2 * s)) :: rest) := g_get (ref := RX1) (T := TX1) (N := 3) 0 in_X1 rfl (by decide) q151 rfl (hX_sh hs) rfl hd k
theorem xhp_sort {v : Int32} (hN : gN g ≤ b) (hs : s < 4) (hd : decode cc pc = .ok (.putfield 249, 3)) (k : G g RX0 cc nL ret XT rm Z cells slots (hX g b (upd F (40 + s) v) A c ea tx nm ω0) z (pc + 3) L (rest)) : G g RX0 cc nL ret XT rm Z cells slots (hX g b F A c ea tx nm ω0) z (pc) L (.int v :: .ref (b + (15 + 2 * s)) :: rest) := g_put (ref := RX1) (T := TX1) (N := 3) (ty := .int) 0 in_X1 rfl tyX1_ok nmX1 (by decide) q151 rfl rfl rfl (Nat.le_trans hN (Nat.le_add_right _ _)) (hX_sh hs) (Nat.le_of_ble_eq_true rfl) rfl rfl hd (by rw [hX_ssort hs]; exact k)
theorem xh_size (hs : s < 4) (hd : decode cc pc = .ok (.getfield 252, 3)) (k : G g RX0 cc nL ret XT rm Z cells slots (hX g b F A c ea tx nm ω0) z (pc + 3) L (.int (F (50 + s)) :: rest)) : G g RX0 cc nL ret XT rm Z cells slots (hX g b F A c ea tx nm ω0) z (pc) L (.ref (b + (15 + 2 * s)) :: rest) := g_get (ref := RX1) (T := TX1) (N := 3) 1 in_X1 rfl (by decide) q153 rfl (hX_sh hs) rfl hd k
theorem xhp_size {v : Int32} (hN : gN g ≤ b) (hs : s < 4) (hd : decode cc pc = .ok (.putfield 252, 3)) (k : G g RX0 cc nL ret XT rm Z cells slots (hX g b (upd F (50 + s) v) A c ea tx nm ω0) z (pc + 3) L (rest)) : G g RX0 cc nL ret XT rm Z cells slots (hX g b F A c ea tx nm ω0) z (pc) L (.int v :: .ref (b + (15 + 2 * s)) :: rest) := g_put (ref := RX1) (T := TX1) (N := 3) (ty := .int) 1 in_X1 rfl tyX1_ok nmX1 (by decide) q153 rfl rfl rfl (Nat.le_trans hN (Nat.le_add_right _ _)) (hX_sh hs) (Nat.le_of_ble_eq_true rfl) rfl rfl hd (by rw [hX_ssize hs]; exact k)
theorem xh_cells (hs : s < 4) (hd : decode cc pc = .ok (.getfield 254, 3)) (k : G g RX0 cc nL ret XT rm Z cells slots (hX g b F A c ea tx nm ω0) z (pc + 3) L (.ref (b + (16 + 2 * s)) :: rest)) : G g RX0 cc nL ret XT rm Z cells slots (hX g b F A c ea tx nm ω0) z (pc) L (.ref (b + (15 + 2 * s)) :: rest) := g_get (ref := RX1) (T := TX1) (N := 3) 2 in_X1 rfl (by decide) q155 rfl (hX_sh hs) rfl hd k
theorem xh_get (n : Nat) {i : Int32} (hs : s < 4) (hn : n < 40) (hi : i = nI n) (hd : decode cc pc = .ok (.iaload, 1)) (k : G g RX0 cc nL ret XT rm Z cells slots (hX g b F A c ea tx nm ω0) z (pc + 1) L (.int (A (60 + s) n) :: rest)) : G g RX0 cc nL ret XT rm Z cells slots (hX g b F A c ea tx nm ω0) z (pc) L (.int i :: .ref (b + (16 + 2 * s)) :: rest) := by
  subst hi
  refine g_iald (hX_shc hs) (vp_in_nI hn (by decide)) hd ?_
  rw [nI_clamp (Nat.lt_trans hn (by decide))]
  exact k
theorem xh_put (n : Nat) {i x : Int32} (hN : gN g ≤ b) (hs : s < 4) (hn : n < 40) (hi : i = nI n) (hd : decode cc pc = .ok (.iastore, 1)) (k : G g RX0 cc nL ret XT rm Z cells slots (hX g b F (sA A (60 + s) (upd (A (60 + s)) n x)) c ea tx nm ω0) z (pc + 1) L (rest)) : G g RX0 cc nL ret XT rm Z cells slots (hX g b F A c ea tx nm ω0) z (pc) L (.int x :: .int i :: .ref (b + (16 + 2 * s)) :: rest) := by
  subst hi
  refine g_iast (Nat.le_trans hN (Nat.le_add_right _ _)) (hX_shc hs) (vp_in_nI hn (by decide)) hd ?_
  rw [nI_clamp (Nat.lt_trans hn (by decide)), hX_scells hs]
  exact k
end SH
section FN
variable {g : GE} {cc : ByteArray} {nL : Nat} {ret : Option FieldType} {XT : Method → Code → Prop} {rm : Room} {Z : ZT} {cells slots : Nat} {ω : Om} {z pc : Nat} {L : List (Nat × Value)} {rest : List Value} {a b k : Nat} {nu mo : Int32}
theorem gf_number (hk : k < 6) (hq : ω a = some (.inr (8 + k, fshV k nu mo b))) (hd : decode cc pc = .ok (.getfield 404, 3)) (kk : G g RX0 cc nL ret XT rm Z cells slots ω z (pc + 3) L (.int nu :: rest)) : G g RX0 cc nL ret XT rm Z cells slots ω z pc L (.ref a :: rest) := by
  match k, hk with
  | 0, _ => exact g_get (ref := RX8) (T := TX8) (N := 3) 0 in_X8 rfl (by decide) q832 rfl hq rfl hd kk
  | 1, _ => exact g_get (ref := RX8) (T := TX9) (N := 4) 0 in_X9 rfl (by decide) q832 rfl hq rfl hd kk
  | 2, _ => exact g_get (ref := RX8) (T := TX10) (N := 4) 0 in_X10 rfl (by decide) q832 rfl hq rfl hd kk
  | 3, _ => exact g_get (ref := RX8) (T := TX11) (N := 5) 0 in_X11 rfl (by decide) q832 rfl hq rfl hd kk
  | 4, _ => exact g_get (ref := RX8) (T := TX12) (N := 5) 0 in_X12 rfl (by decide) q832 rfl hq rfl hd kk
  | 5, _ => exact g_get (ref := RX8) (T := TX13) (N := 4) 0 in_X13 rfl (by decide) q832 rfl hq rfl hd kk
end FN
section CP
variable {g : GE} {own : String} {cc : ByteArray} {nL : Nat} {ret : Option FieldType} {XT : Method → Code → Prop} {Z : ZT} {cells slots : Nat} {ω : Om} {z pc : Nat} {L : List (Nat × Value)} {rest : List Value} {d mc ms : Nat}
theorem natW : nativeFrameWords "java/lang/System" "arraycopy" 5 + 11 + 8 ≤ 64 := by decide +kernel
/-- System.arraycopy between arrays of one kind of number -/
theorem g_copyp {index a0 a n0 n1 t0 : Nat} {cA : ClassId} {ty : FieldType} {f h : Nat → Int32} {sp dp n : Nat} (ht : (gtys g)[t0]? = some (cA, ty)) (hprim : refKind ty = false) (hN : gN g ≤ a) (hq0 : ω a0 = some (.inl (cA, n0, .inl f))) (hq1 : ω a = some (.inl (cA, n1, .inl h))) (h4 : sp + n ≤ n0) (h5 : dp + n ≤ n1) (hb0 : n0 < 100000) (hb1 : n1 < 100000) (hfit : ∀ i, i < n → fits ty (.int (f (sp + i))) = true) (hd0 : 1 ≤ d) (hro : (rest.map fun v => v.category).sum ≤ 8) (hlink : Cond.methodLink own index arraycopyName ∈ lw_all) (hd : decode cc pc = .ok (.invokestatic index, 3))
    (k : G g own cc nL ret XT (rmD d mc ms) Z cells slots (oset ω a (.inl (cA, n1, .inl (va_cpy f h sp dp n)))) z (pc + 3) L rest) : G g own cc nL ret XT (rmD d mc ms) Z cells slots ω z pc L (.int (nI n) :: .int (nI dp) :: .ref a :: .int (nI sp) :: .ref a0 :: rest) := by
  intro p e s m args below meth c H locs ls C hr hk hx hW hl
  have hts := C.2.2.2.2
  have hK := hW.1
  have hc0 : H[a0]? = some (vp_cell cA (n0, .inl f)) := hW.2.1 a0 _ hq0
  have hc1 : H[a]? = some (vp_cell cA (n1, .inl h)) := hW.2.1 a _ hq1
  have cs : (nI sp).toNatClampNeg = sp := nI_clamp (by omega)
  have cd : (nI dp).toNatClampNeg = dp := nI_clamp (by omega)
  have cn : (nI n).toNatClampNeg = n := nI_clamp (by omega)
  intro T hT X
  obtain ⟨-, k0, hk0, cm0, hkk0⟩ := (hK.2 t0 _ ht).1 n0 (fun j => .int (f j))
  obtain ⟨-, k1, hk1, cm1, hkk1⟩ := (hK.2 t0 _ ht).1 n1 (fun j => .int (h j))
  have hnw := natW
  obtain ⟨vm', X', step⟩ := X.arraycopy C.1 C.2.2.2.1 (hts _ hlink) (hts _ q360) (hts _ q359) (hts _ q83) (src := a0) (dst := a) (cs := vp_cell cA (n0, .inl f)) (cd := vp_cell cA (n1, .inl h)) (srcPos := nI sp) (destPos := nI dp) (n := nI n) (by rw [hT]; exact hc0) (by rw [hT]; exact hc1)
    (fun _ h => by cases h) (fun _ h => by cases h) (fun h => by cases h) (fun h => by cases h) hk0 hk1 hkk0 hkk1 (by simp [hprim]) (nI_pos (by omega)) (nI_pos (by omega)) (nI_pos (by omega))
    (by rw [nI_toInt (by omega), nI_toInt (by omega)]; show ¬ _ > ((arrV cA n0 (fun j => .int (f j))).slots.size : Int); rw [arrV_size]; omega)
    (by rw [nI_toInt (by omega), nI_toInt (by omega)]; show ¬ _ > ((arrV cA n1 (fun j => .int (h j))).slots.size : Int); rw [arrV_size]; omega)
    (fun vm₁ _ i hi => by
      rw [cn] at hi
      have e : (vp_cell cA (n0, .inl f)).slots.getD ((nI sp).toNatClampNeg + i) .null = .int (f (sp + i)) := by
        show (arrV cA n0 (fun j => .int (f j))).slots.getD _ _ = _
        rw [cs, Array.getD_eq_getD_getElem?, arrV_read _ _ (by omega)]
        rfl
      refine ⟨?_, ?_⟩
      · rw [e]
        exact hfit i hi
      · rw [e]
        exact trivial)
    (g := F0 m pc ls (.int (nI n) :: .int (nI dp) :: .ref a :: .int (nI sp) :: .ref a0 :: rest)) rfl (by rw [C.2.2.1]; exact hl.1) (rest := rest) rfl (by rw [C.2.1]; exact hd) hd0 (by show 2 * 0 + _ + _ ≤ 64 * d; omega)
  have e1 : copied (vp_cell cA (n0, .inl f)) (vp_cell cA (n1, .inl h)) (nI sp) (nI dp) (nI n) = vp_cell cA (n1, .inl (va_cpy f h sp dp n)) := by
    have e0 : copied (vp_cell cA (n0, .inl f)) (vp_cell cA (n1, .inl h)) (nI sp) (nI dp) (nI n) = vp_cell cA (n1, .inl (va_cpy f h (nI sp).toNatClampNeg (nI dp).toNatClampNeg (nI n).toNatClampNeg)) := va_copied (fun z => .int z) cA cA f h (by rw [cs, cn]; exact h4)
    rw [cs, cd, cn] at e0
    exact e0
  rw [e1] at X' step
  have hl0 : a < H.size := (Array.getElem?_eq_some_iff.mp hc1).1
  have hheap : ((T.setVm vm').setCell a (vp_cell cA (n1, .inl (va_cpy f h sp dp n)))).heap = H.setIfInBounds a (vp_cell cA (n1, .inl (va_cpy f h sp dp n))) := by rw [← hT]; rfl
  have oq : ∀ q : Nat, q ≠ a → (H.setIfInBounds a (vp_cell cA (n1, .inl (va_cpy f h sp dp n))))[q]? = H[q]? := fun q hq => by simp [Array.getElem?_setIfInBounds, Ne.symm hq]
  have hS := hW.2.2.2.1
  obtain ⟨t, a1, b1⟩ := k p e s m args below meth c _ _ ls C hr hk hx (hW.move (hW.2.1.set (show (H.setIfInBounds a _)[a]? = some _ by simp [Array.getElem?_setIfInBounds, hl0]) oq) (by simp; exact hW.2.2.1) ⟨by simp; exact hS.1, fun q g1 g2 => by
      rw [oq q (fun e => g2 (by rw [e]; exact hN))]
      exact hS.2.1 q g1 g2, fun q hq => by
      rcases List.mem_append.mp hq with h | h
      · exact hS.2.2 q h
      · obtain ⟨z, -, hz⟩ := List.mem_map.mp h
        rw [← hz]
        exact hN⟩) hl _ hheap X'
  exact ⟨t, step t a1, b1⟩
theorem g_copyi {index a0 a n0 n1 : Nat} {f h : Nat → Int32} (sp dp n : Nat) (hN : gN g ≤ a) (hq0 : ω a0 = some (.inl (g.2.2.1 0, n0, .inl f))) (hq1 : ω a = some (.inl (g.2.2.1 0, n1, .inl h))) (h4 : sp + n ≤ n0) (h5 : dp + n ≤ n1) (hb0 : n0 < 100000) (hb1 : n1 < 100000) (hd0 : 1 ≤ d) (hro : (rest.map fun v => v.category).sum ≤ 8) (hlink : Cond.methodLink own index arraycopyName ∈ lw_all) (hd : decode cc pc = .ok (.invokestatic index, 3))
    (k : G g own cc nL ret XT (rmD d mc ms) Z cells slots (oset ω a (.inl (g.2.2.1 0, n1, .inl (va_cpy f h sp dp n)))) z (pc + 3) L rest) : G g own cc nL ret XT (rmD d mc ms) Z cells slots ω z pc L (.int (nI n) :: .int (nI dp) :: .ref a :: .int (nI sp) :: .ref a0 :: rest) :=
  g_copyp (t0 := 0) rfl rfl hN hq0 hq1 h4 h5 hb0 hb1 (fun _ _ => rfl) hd0 hro hlink hd k
end CP
