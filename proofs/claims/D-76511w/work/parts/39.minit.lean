/-! the reference's constructor -/
set_option maxRecDepth 100000
theorem g_pc {g : GE} {own : String} {cc : ByteArray} {nL : Nat} {ret : Option FieldType} {XT : Method → Code → Prop} {rm : Room} {Z : ZT} {cells slots : Nat} {ω : Om} {z pc : Nat} {L : List (Nat × Value)} {S : List Value} (pc' : Nat) (h : pc = pc') (k : G g own cc nL ret XT rm Z cells slots ω z pc' L S) : G g own cc nL ret XT rm Z cells slots ω z pc L S := h ▸ k
theorem g_om {g : GE} {own : String} {cc : ByteArray} {nL : Nat} {ret : Option FieldType} {XT : Method → Code → Prop} {rm : Room} {Z : ZT} {cells slots : Nat} {ω ω' : Om} {z pc : Nat} {L : List (Nat × Value)} {S : List Value} (h : ω = ω') (k : G g own cc nL ret XT rm Z cells slots ω' z pc L S) : G g own cc nL ret XT rm Z cells slots ω z pc L S := h ▸ k
theorem g_cnt {g : GE} {own : String} {cc : ByteArray} {nL : Nat} {ret : Option FieldType} {XT : Method → Code → Prop} {rm : Room} {Z : ZT} {cells slots : Nat} {ω : Om} {z pc : Nat} {L : List (Nat × Value)} {S : List Value} (cells' slots' : Nat) (h : cells = cells') (h2 : slots = slots') (k : G g own cc nL ret XT rm Z cells' slots' ω z pc L S) : G g own cc nL ret XT rm Z cells slots ω z pc L S := h ▸ h2 ▸ k
def lf (l : List Int32) : Nat → Int32 := fun j => l.getD j 0
theorem lf_upd (l : List Int32) (x : Int32) : upd (lf l) l.length x = lf (l ++ [x]) := by
  funext j
  unfold lf
  by_cases h : j = l.length
  · subst h; rw [upd_same]; simp
  · rw [upd_ne _ _ h]
    by_cases h2 : j < l.length
    · simp [List.getD, List.getElem?_append_left h2]
    · simp [List.getD, List.getElem?_append_right (Nat.le_of_not_lt h2)]
      rw [List.getElem?_eq_none (by omega), List.getElem?_eq_none (by simp; omega)]
def lawL0 : List Int32 := [108, 101, 116, 115, 32, 116, 104, 105, 110, 103, 32, 59, 32, 108, 117, 99, 107, 115, 32, 53, 32, 59, 32, 116, 97, 107, 101, 115, 32, 50, 32, 59]
def wordL0 : List Int32 := [108, 101, 116, 115, 32, 32, 32, 32, 108, 117, 99, 107, 115, 32, 32, 32, 116, 97, 107, 101, 115, 32, 32, 32, 116, 104, 105, 110, 103, 32, 32, 32, 107, 110, 111, 119, 110, 32, 32, 32, 107, 101, 112, 116, 32, 32, 32, 32, 116, 105, 100, 101, 32, 32, 32, 32, 108, 117, 99, 107, 32, 32, 32, 32, 109, 111, 114, 101, 32, 32, 32, 32, 111, 114, 32, 32, 32, 32, 32, 32, 97, 110, 100, 32, 32, 32, 32, 32, 110, 111, 116, 32, 32, 32, 32, 32]
def iM (g : GE) (b : Nat) (fs : List Value) (as : List (Nat × (Nat → Int32))) (ω0 : Om) : Om := fun q => if q = b then some (.inr (7, fs)) else if b < q then (match as[q - b - 1]? with | some x => some (.inl (g.2.2.1 0, x.1, .inl x.2)) | none => ω0 q) else ω0 q
section I
variable {g : GE} {b : Nat} {fs : List Value} {as as2 : List (Nat × (Nat → Int32))} {ω0 : Om}
theorem iM_b : iM g b fs as ω0 b = some (.inr (7, fs)) := if_pos rfl
theorem iM_a {j n : Nat} {f : Nat → Int32} (h : as[j]? = some (n, f)) : iM g b fs as ω0 (b + 1 + j) = some (.inl (g.2.2.1 0, n, .inl f)) := by
  unfold iM; rw [if_neg (by omega), if_pos (by omega), show b + 1 + j - b - 1 = j by omega, h]
theorem iM_new {n N : Nat} {f : Nat → Int32} (hn : as.length = n) : oset (iM g b fs as ω0) (b + 1 + n) (.inl (g.2.2.1 0, N, .inl f)) = iM g b fs (as ++ [(N, f)]) ω0 := by
  subst hn
  funext q
  unfold oset iM
  by_cases h : q = b + 1 + as.length
  · subst h
    rw [if_pos rfl, if_neg (by omega), if_pos (by omega), show b + 1 + as.length - b - 1 = as.length by omega]
    simp
  · rw [if_neg h]
    by_cases hb : q = b
    · rw [if_pos hb, if_pos hb]
    · rw [if_neg hb, if_neg hb]
      by_cases hlt : b < q
      · rw [if_pos hlt, if_pos hlt]
        by_cases h2 : q - b - 1 < as.length
        · rw [List.getElem?_append_left h2]
        · rw [List.getElem?_eq_none (by omega), List.getElem?_eq_none (by simp; omega)]
      · rw [if_neg hlt, if_neg hlt]
theorem iM_fs {fs2 : List Value} : oset (iM g b fs as ω0) b (.inr (7, fs2)) = iM g b fs2 as ω0 := by
  funext q
  unfold oset iM
  by_cases h : q = b
  · rw [if_pos h, if_pos h]
  · rw [if_neg h, if_neg h, if_neg h]
theorem iM_set {j n : Nat} {f : Nat → Int32} (hj : j < as.length) : oset (iM g b fs as ω0) (b + 1 + j) (.inl (g.2.2.1 0, n, .inl f)) = iM g b fs (as.set j (n, f)) ω0 := by
  funext q
  unfold oset iM
  by_cases h : q = b + 1 + j
  · subst h
    rw [if_pos rfl, if_neg (by omega), if_pos (by omega), show b + 1 + j - b - 1 = j by omega, List.getElem?_set_self hj]
  · rw [if_neg h]
    by_cases hb : q = b
    · rw [if_pos hb, if_pos hb]
    · rw [if_neg hb, if_neg hb]
      by_cases hlt : b < q
      · rw [if_pos hlt, if_pos hlt, List.getElem?_set_ne (by omega)]
      · rw [if_neg hlt, if_neg hlt]
variable {cc : ByteArray} {nL : Nat} {ret : Option FieldType} {Z : ZT} {d mc ms cells slots : Nat} {z pc : Nat} {L : List (Nat × Value)} {rest : List Value}
theorem i_newI (N n n' : Nat) {i : Int32} (hn : as.length = n) (hn' : n + 1 = n') (has : as ++ [(N, lf [])] = as2) (hi : i = nI N) (hN : N < 100000) (hf : cells + 1 ≤ mc ∧ slots + N ≤ ms) (hw : Cond.arrayClass .int ∈ lw_all) (hd : decode cc pc = .ok (.newarray .int, 2)) (k : G g RX7 cc nL ret isInit (rmD d mc ms) Z (cells + 1) (slots + N) (iM g b fs as2 ω0) (b + 1 + n') (pc + 2) L (.ref (b + 1 + n) :: rest)) : G g RX7 cc nL ret isInit (rmD d mc ms) Z cells slots (iM g b fs as ω0) (b + 1 + n) pc L (.int i :: rest) := by
  refine g_newI N hi hN hf hw hd ?_
  rw [show (fun _ => (0 : Int32)) = lf [] from rfl, iM_new hn, has]
  subst hn'
  exact k
theorem i_put (k0 : Nat) {a index : Nat} (hN : gN g ≤ b) (href : RX7 = (TX7 k0).1) (hk0 : k0 < 34) (hlink : Cond.fieldLink RX7 index RX7 (TX7 k0).2.1 (TX7 k0).2.2.1 ∈ lw_all) (hfin : (TX7 k0).2.2.2 = true) (hty2 : tyX7 k0 = .array .int) {fs2 : List Value} (hfs : fs.set k0 (.ref a) = fs2) (hl0 : k0 < fs.length ↔ True) (hl1 : True) (hd : decode cc pc = .ok (.putfield index, 3)) (k : G g RX7 cc nL ret isInit (rmD d mc ms) Z cells slots (iM g b fs2 as ω0) z (pc + 3) L rest) : G g RX7 cc nL ret isInit (rmD d mc ms) Z cells slots (iM g b fs as ω0) z pc L (.ref a :: .ref b :: rest) := by
  refine g_putF (ref := RX7) (T := TX7) (N := 34) (ty := .array .int) (ty0 := tyX7) (ci := 7) k0 in_X7 rfl tyX7_ok nmX7 hk0 hlink href hfin href.symm hty2 hN iM_b (hl0.mpr trivial) rfl rfl hd ?_
  rw [iM_fs, hfs]
  exact k
theorem i_astL (j : Nat) {n : Nat} {l : List Int32} {i x : Int32} (hN : gN g ≤ b) (ha : as[j]? = some (n, lf l)) (has : as.set j (n, lf (l ++ [x])) = as2) (hln : l.length < n ∧ n < 100000) (hi : i = nI l.length) (hd : decode cc pc = .ok (.iastore, 1)) (k : G g RX7 cc nL ret isInit (rmD d mc ms) Z cells slots (iM g b fs as2 ω0) z (pc + 1) L rest) : G g RX7 cc nL ret isInit (rmD d mc ms) Z cells slots (iM g b fs as ω0) z pc L (.int x :: .int i :: .ref (b + 1 + j) :: rest) := by
  subst hi
  have hj : j < as.length := (List.getElem?_eq_some_iff.mp ha).1
  refine g_iast (by omega) (iM_a ha) (vp_in_nI hln.1 (by omega)) hd ?_
  rw [nI_clamp (by omega), lf_upd, iM_set hj, has]
  exact k
end I
def fs0M (b : Nat) : List Value := [.int 0, .null, .null, .null, .int 0, .int 0, .null, .int 0, .null, .null, .int 0, .int 0, .int 0, .null, .null, .null, .null, .null, .null, .int 0, .int 0, .int 0, .int 0, .null, .null, .int 0, .int 0, .int 0, .null, .null, .null, .int 0, .int 0, .int 0]
def A00 : Nat → Nat → Int32 := fun k => if k = 15 then lf [-1, -1, -1, -1] else if k = 18 then lf lawL0 else if k = 23 then lf wordL0 else lf []
section A
variable {g : GE} {b z : Nat} {ω0 : Om}
theorem iM_hM {fs : List Value} (hfs : fs = mfs b (fun _ => 0)) : iM g b fs [(6, lf []), (6, lf []), (18, lf []), (160, lf []), (1200, lf []), (24, lf []), (18, lf []), (4, lf []), (4, lf [-1, -1, -1, -1]), (4, lf []), (160, lf []), (32, lf [108, 101, 116, 115, 32, 116, 104, 105, 110, 103, 32, 59, 32, 108, 117, 99, 107, 115, 32, 53, 32, 59, 32, 116, 97, 107, 101, 115, 32, 50, 32, 59]), (96, lf [108, 101, 116, 115, 32, 32, 32, 32, 108, 117, 99, 107, 115, 32, 32, 32, 116, 97, 107, 101, 115, 32, 32, 32, 116, 104, 105, 110, 103, 32, 32, 32, 107, 110, 111, 119, 110, 32, 32, 32, 107, 101, 112, 116, 32, 32, 32, 32, 116, 105, 100, 101, 32, 32, 32, 32, 108, 117, 99, 107, 32, 32, 32, 32, 109, 111, 114, 101, 32, 32, 32, 32, 111, 114, 32, 32, 32, 32, 32, 32, 97, 110, 100, 32, 32, 32, 32, 32, 110, 111, 116, 32, 32, 32, 32, 32]), (200, lf []), (200, lf []), (6, lf []), (20, lf [])] ω0 = hM g b (fun _ => 0) A00 A00 ω0 := by
  subst hfs
  funext q
  by_cases hb : q = b
  · subst hb; exact iM_b.trans hM_b.symm
  · by_cases hlt : b < q
    · obtain ⟨j, rfl⟩ : ∃ j, q = b + 1 + j := ⟨q - b - 1, by omega⟩
      match j with
      | 0 => exact (iM_a (j := 0) rfl).trans (hM_kind (A := A00) (A2 := A00)).symm
      | 1 => exact (iM_a (j := 1) rfl).trans (hM_moreOf (A := A00) (A2 := A00)).symm
      | 2 => exact (iM_a (j := 2) rfl).trans (hM_rows (A := A00) (A2 := A00)).symm
      | 3 => exact (iM_a (j := 3) rfl).trans (hM_tape (A := A00) (A2 := A00)).symm
      | 4 => exact (iM_a (j := 4) rfl).trans (hM_codes (A := A00) (A2 := A00)).symm
      | 5 => exact (iM_a (j := 5) rfl).trans (hM_starts (A := A00) (A2 := A00)).symm
      | 6 => exact (iM_a (j := 6) rfl).trans (hM_imageRows (A := A00) (A2 := A00)).symm
      | 7 => exact (iM_a (j := 7) rfl).trans (hM_imageHeld (A := A00) (A2 := A00)).symm
      | 8 => exact (iM_a (j := 8) rfl).trans (hM_sheetSort (A := A00) (A2 := A00)).symm
      | 9 => exact (iM_a (j := 9) rfl).trans (hM_sheetSize (A := A00) (A2 := A00)).symm
      | 10 => exact (iM_a (j := 10) rfl).trans (hM_cells (A := A00) (A2 := A00)).symm
      | 11 => exact (iM_a (j := 11) rfl).trans (hM_law (A := A00) (A2 := A00)).symm
      | 12 => exact (iM_a (j := 12) rfl).trans (hM_words (A := A00) (A2 := A00)).symm
      | 13 => exact (iM_a (j := 13) rfl).trans (hM_held (A := A00) (A2 := A00)).symm
      | 14 => exact (iM_a (j := 14) rfl).trans (hM_stack (A := A00) (A2 := A00)).symm
      | 15 => exact (iM_a (j := 15) rfl).trans (hM_named (A := A00) (A2 := A00)).symm
      | 16 => exact (iM_a (j := 16) rfl).trans (hM_kept (A := A00) (A2 := A00)).symm
      | j + 17 =>
        unfold iM hM
        rw [if_neg (by omega), if_pos (by omega), List.getElem?_eq_none (by simp; omega), if_neg (by omega), if_neg (by omega), if_neg (by omega), if_neg (by omega), if_neg (by omega), if_neg (by omega), if_neg (by omega), if_neg (by omega), if_neg (by omega), if_neg (by omega), if_neg (by omega), if_neg (by omega), if_neg (by omega), if_neg (by omega), if_neg (by omega), if_neg (by omega), if_neg (by omega), if_neg (by omega)]
    · unfold iM hM
      rw [if_neg hb, if_neg hlt, if_neg hb, if_neg (by omega), if_neg (by omega), if_neg (by omega), if_neg (by omega), if_neg (by omega), if_neg (by omega), if_neg (by omega), if_neg (by omega), if_neg (by omega), if_neg (by omega), if_neg (by omega), if_neg (by omega), if_neg (by omega), if_neg (by omega), if_neg (by omega), if_neg (by omega), if_neg (by omega)]
theorem l_init {Q : Option Value → Om → Nat → Prop} (hN : gN g ≤ b) {d mc ms cells slots : Nat} (hK : ∀ u, G g RX7 cX7_init 2 none isInit (rmD d mc ms) (zN g Q mc ms) cells slots (hM g b (mF (fun _ => 0) (lf [], 0, 0)) (mA (sA A00 6 (lf lawL0)) (lf [], 0, 0)) A00 ω0) z 940 [(1, .int u), (0, .ref b)] []) :
    ∀ (m i : Nat), i + m = 32 → G g RX7 cX7_init 2 none isInit (rmD d mc ms) (zN g Q mc ms) cells slots (hM g b (mF (fun _ => 0) (lf [], 0, 0)) (mA (sA A00 6 (lf (lawL0.take i))) (lf [], 0, 0)) A00 ω0) z 916 [(1, .int (nI i)), (0, .ref b)] [] := by
  intro m
  induction m with
  | zero =>
    intro i hi
    have hi : i = 32 := by omega
    subst hi
    refine g_iload_n dX7_init_916 rfl ?_
    refine g_bipush (32) dX7_init_917 rfl ?_
    refine g_icmp_ge 940 dX7_init_919 (by decide) (fun _ => ?_) (fun h9 => absurd (by decide) h9)
    exact hK _
  | succ m ih =>
    intro i hi
    have hlen : (lawL0.take i).length = i := by rw [List.length_take]; show min i 32 = i; omega
    have hx : A00 18 i = lawL0.getD i 0 := rfl
    have hst : upd (lf (lawL0.take i)) i (lawL0.getD i 0) = lf (lawL0.take (i + 1)) := by
      have h := lf_upd (lawL0.take i) (lawL0.getD i 0)
      rw [hlen] at h
      rw [h]
      have hi32 : i < lawL0.length := by show i < 32; omega
      rw [List.take_succ, List.getElem?_eq_getElem hi32]
      simp [List.getD, List.getElem?_eq_getElem hi32]
    refine g_iload_n dX7_init_916 rfl ?_
    refine g_bipush (32) dX7_init_917 rfl ?_
    refine g_icmp_ge 940 dX7_init_919 (by decide) (fun h9 => absurd h9 (nI_ge (b := 32) (by omega) (by decide))) (fun _ => ?_)
    refine g_aload_n dX7_init_922 rfl ?_
    refine mg_tape dX7_init_923 ?_
    refine g_iload_n dX7_init_926 rfl ?_
    refine g_aload_n dX7_init_927 rfl ?_
    refine mg_law dX7_init_928 ?_
    refine g_iload_n dX7_init_931 rfl ?_
    refine mlc_law (i) (by omega) (by first | rfl | (simp only [nI, Int32.ofNat_add, Int32.ofNat_mul]; rfl) | (simp only [nI, Int32.ofNat_add, Int32.ofNat_mul]; done)) dX7_init_932 ?_
    refine msc_tape (i) hN (by omega) (by first | rfl | (simp only [nI, Int32.ofNat_add, Int32.ofNat_mul]; rfl) | (simp only [nI, Int32.ofNat_add, Int32.ofNat_mul]; done)) dX7_init_933 ?_
    refine g_iinc (nI (i + 1)) (L' := [(1, _), (0, _)]) dX7_init_934 rfl (nI_1 _) (by decide) rfl ?_
    refine g_goto 916 dX7_init_937 (by decide) ?_
    rw [sA_sA, sA_same, show sA A00 6 (lf (lawL0.take i)) 18 i = lawL0.getD i 0 from rfl, hst]
    exact ih (i + 1) (by omega)
end A
