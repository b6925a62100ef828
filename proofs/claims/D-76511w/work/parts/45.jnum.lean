/-! numbers' methods of the JDK -/
set_option maxRecDepth 100000
theorem Ct.atF {g : GE} {y : MethodName} {own : String} {cc : ByteArray} {nL : Nat} {ret : Option FieldType} {d mc ms : Nat} {av : List Value} {L : List (Nat × Value)} {ω : Om} {z : Nat} {Q : Option Value → Om → Nat → Prop} (hy : plainFor y = true) (ho : y.cls = own) (hn : (lg_sl av).length ≤ nL) (hL : lv_args 0 av = L)
    (h : G g own cc nL ret noX (rmD d mc ms) (zN g Q mc ms) 0 0 ω z 0 L []) : Ct g y cc nL ret d mc ms av ω z Q := by
  subst hL; subst ho
  unfold Ct Met
  refine MetFree.of_bodySF (code := cc) (maxLocals := nL) (ret := ret) hy ?_ ?_
  · intro args s m h hn
    obtain ⟨meth, c, h1, h2, h3, h4, h5, h6, -, -⟩ := Cond.code_spec hn (atoms_spec (ws := ws_ y cc nL ret) h _ List.mem_cons_self)
    exact ⟨meth, c, h1, h2, h3, h4, h5, h6⟩
  · intro p e s m args below meth c s₁ B hml hv _
    have hh0 : s₁.heap = s.heap := by rw [B.state]; rfl
    obtain ⟨rfl, hW⟩ := hv
    have hts := atoms_spec (ws := ws_ y cc nL ret) B.pre
    have hts : ∀ w ∈ lw_all, w.before _ s = true := fun w h => hts w (List.mem_cons_of_mem _ h)
    have hl := lv_entry av (n := nL) hn
    have K := h p e s m _ below meth c s.heap [] _ ⟨B.exec, B.bytes, hml, findClass_of_methodNamed B.named, hts⟩ B.returns B.notSynchronized trivial (Wd.of hW) hl
    rw [← lg_entry_eq] at K
    obtain ⟨t, a1, o, b1, b2, b3⟩ := K s₁ hh0 (Stand.of_body B)
    exact ⟨t, o, a1, b1, b2, ⟨b3.1, b3.2⟩⟩
def mxI (a b : Int32) : Int32 := if a < b then b else a
def mnI (a b : Int32) : Int32 := if a ≤ b then a else b
def fmJ (a b : Int32) : Int32 := if 0 ≤ a ^^^ b then rem a b else if rem a b = 0 then rem a b else rem a b + b
def us (x k : Int32) : Int32 := (x.toUInt32 >>> (k.toUInt32 &&& Int32.toUInt32 31)).toInt32
def bcF (x : Int32) : Int32 :=
  let a := x - (us x 1 &&& 1431655765)
  let b := (a &&& 858993459) + (us a 2 &&& 858993459)
  let c := (b + us b 4) &&& 252645135
  let d := c + us c 8
  let e := d + us d 16
  e &&& 63
section A
variable {g : GE} {z : Nat} {ω : Om}
theorem j_max {a b : Int32} : Ct g yJ10_max cJ10_max 2 (some .int) 1 0 0 [.int a, .int b] ω z (dQ (some (.int (mxI a b))) ω z) := by
  refine Ct.atF (own := RJ10) (by decide +kernel) rfl (Nat.le_of_ble_eq_true rfl) rfl ?_
  refine g_iload_n dJ10_max_0 rfl ?_
  refine g_iload_n dJ10_max_1 rfl ?_
  refine g_icmp_lt 9 dJ10_max_2 (by decide) (fun c1 => ?_) (fun c1 => ?_)
  · refine g_iload_n dJ10_max_9 rfl ?_
    refine g_iret rfl (Nat.le_refl _) (Nat.le_refl _) ?_ dJ10_max_10
    first | exact dQ.of (by rw [mxI, if_pos c1]) | exact dQ.of (by rw [mxI, if_neg c1])
  · refine g_iload_n dJ10_max_5 rfl ?_
    refine g_goto 10 dJ10_max_6 (by decide) ?_
    refine g_iret rfl (Nat.le_refl _) (Nat.le_refl _) ?_ dJ10_max_10
    first | exact dQ.of (by rw [mxI, if_pos c1]) | exact dQ.of (by rw [mxI, if_neg c1])
theorem j_min {a b : Int32} : Ct g yJ10_min cJ10_min 2 (some .int) 1 0 0 [.int a, .int b] ω z (dQ (some (.int (mnI a b))) ω z) := by
  refine Ct.atF (own := RJ10) (by decide +kernel) rfl (Nat.le_of_ble_eq_true rfl) rfl ?_
  refine g_iload_n dJ10_min_0 rfl ?_
  refine g_iload_n dJ10_min_1 rfl ?_
  refine g_icmp_gt 9 dJ10_min_2 (by decide) (fun c1 => ?_) (fun c1 => ?_)
  · refine g_iload_n dJ10_min_9 rfl ?_
    refine g_iret rfl (Nat.le_refl _) (Nat.le_refl _) ?_ dJ10_min_10
    exact dQ.of (by unfold mnI; simp only [Int32.le_iff_toInt_le, Int32.lt_iff_toInt_lt] at *; split <;> first | rfl | (exfalso; omega))
  · refine g_iload_n dJ10_min_5 rfl ?_
    refine g_goto 10 dJ10_min_6 (by decide) ?_
    refine g_iret rfl (Nat.le_refl _) (Nat.le_refl _) ?_ dJ10_min_10
    exact dQ.of (by unfold mnI; simp only [Int32.le_iff_toInt_le, Int32.lt_iff_toInt_lt] at *; split <;> first | rfl | (exfalso; omega))
theorem j_floorMod {a b : Int32} (hb : ¬ b = 0) : Ct g yJ10_floorMod cJ10_floorMod 3 (some .int) 1 0 0 [.int a, .int b] ω z (dQ (some (.int (fmJ a b))) ω z) := by
  refine Ct.atF (own := RJ10) (by decide +kernel) rfl (Nat.le_of_ble_eq_true rfl) rfl ?_
  refine g_iload_n dJ10_floorMod_0 rfl ?_
  refine g_iload_n dJ10_floorMod_1 rfl ?_
  refine g_irem dJ10_floorMod_2 hb ?_
  refine g_istore_n (L' := [(2, _), (0, _), (1, _)]) dJ10_floorMod_3 (by decide) rfl ?_
  refine g_iload_n dJ10_floorMod_4 rfl ?_
  refine g_iload_n dJ10_floorMod_5 rfl ?_
  refine g_ixor dJ10_floorMod_6 ?_
  refine g_if_ge 18 dJ10_floorMod_7 (by decide) (fun c1 => ?_) (fun c1 => ?_)
  · refine g_iload_n dJ10_floorMod_18 rfl ?_
    refine g_iret rfl (Nat.le_refl _) (Nat.le_refl _) ?_ dJ10_floorMod_19
    exact dQ.of (by simp_all [fmJ, rem, -Int32.not_le, -Int32.not_lt])
  · refine g_iload_n dJ10_floorMod_10 rfl ?_
    refine g_if_eq 18 dJ10_floorMod_11 (by decide) (fun c2 => ?_) (fun c2 => ?_)
    · refine g_iload_n dJ10_floorMod_18 rfl ?_
      refine g_iret rfl (Nat.le_refl _) (Nat.le_refl _) ?_ dJ10_floorMod_19
      exact dQ.of (by simp_all [fmJ, rem, -Int32.not_le, -Int32.not_lt])
    · refine g_iload_n dJ10_floorMod_14 rfl ?_
      refine g_iload_n dJ10_floorMod_15 rfl ?_
      refine g_iadd dJ10_floorMod_16 ?_
      refine g_iret rfl (Nat.le_refl _) (Nat.le_refl _) ?_ dJ10_floorMod_17
      exact dQ.of (by simp_all [fmJ, rem, -Int32.not_le, -Int32.not_lt])
theorem j_bitCount {x : Int32} : Ct g yJ17_bitCount cJ17_bitCount 1 (some .int) 1 0 0 [.int x] ω z (dQ (some (.int (bcF x))) ω z) := by
  refine Ct.at (own := RJ17) (by decide) rfl (Nat.le_of_ble_eq_true rfl) rfl ?_
  refine g_iload_n dJ17_bitCount_0 rfl ?_
  refine g_iload_n dJ17_bitCount_1 rfl ?_
  refine g_iconst (1) dJ17_bitCount_2 rfl ?_
  refine g_iushr dJ17_bitCount_3 ?_
  refine g_ldcw q746 dJ17_bitCount_4 ?_
  refine g_iand dJ17_bitCount_7 ?_
  refine g_isub dJ17_bitCount_8 ?_
  refine g_istore_n (L' := [(0, _)]) dJ17_bitCount_9 (by decide) rfl ?_
  refine g_iload_n dJ17_bitCount_10 rfl ?_
  refine g_ldcw q747 dJ17_bitCount_11 ?_
  refine g_iand dJ17_bitCount_14 ?_
  refine g_iload_n dJ17_bitCount_15 rfl ?_
  refine g_iconst (2) dJ17_bitCount_16 rfl ?_
  refine g_iushr dJ17_bitCount_17 ?_
  refine g_ldcw q747 dJ17_bitCount_18 ?_
  refine g_iand dJ17_bitCount_21 ?_
  refine g_iadd dJ17_bitCount_22 ?_
  refine g_istore_n (L' := [(0, _)]) dJ17_bitCount_23 (by decide) rfl ?_
  refine g_iload_n dJ17_bitCount_24 rfl ?_
  refine g_iload_n dJ17_bitCount_25 rfl ?_
  refine g_iconst (4) dJ17_bitCount_26 rfl ?_
  refine g_iushr dJ17_bitCount_27 ?_
  refine g_iadd dJ17_bitCount_28 ?_
  refine g_ldcw q748 dJ17_bitCount_29 ?_
  refine g_iand dJ17_bitCount_32 ?_
  refine g_istore_n (L' := [(0, _)]) dJ17_bitCount_33 (by decide) rfl ?_
  refine g_iload_n dJ17_bitCount_34 rfl ?_
  refine g_iload_n dJ17_bitCount_35 rfl ?_
  refine g_bipush (8) dJ17_bitCount_36 rfl ?_
  refine g_iushr dJ17_bitCount_38 ?_
  refine g_iadd dJ17_bitCount_39 ?_
  refine g_istore_n (L' := [(0, _)]) dJ17_bitCount_40 (by decide) rfl ?_
  refine g_iload_n dJ17_bitCount_41 rfl ?_
  refine g_iload_n dJ17_bitCount_42 rfl ?_
  refine g_bipush (16) dJ17_bitCount_43 rfl ?_
  refine g_iushr dJ17_bitCount_45 ?_
  refine g_iadd dJ17_bitCount_46 ?_
  refine g_istore_n (L' := [(0, _)]) dJ17_bitCount_47 (by decide) rfl ?_
  refine g_iload_n dJ17_bitCount_48 rfl ?_
  refine g_bipush (63) dJ17_bitCount_49 rfl ?_
  refine g_iand dJ17_bitCount_51 ?_
  refine g_iret rfl (Nat.le_refl _) (Nat.le_refl _) ?_ dJ17_bitCount_52
  exact dQ.mk
theorem j_lowestOneBit {x : Int32} : Ct g yJ17_lowestOneBit cJ17_lowestOneBit 1 (some .int) 1 0 0 [.int x] ω z (dQ (some (.int (x &&& (-x)))) ω z) := by
  refine Ct.at (own := RJ17) (by decide) rfl (Nat.le_of_ble_eq_true rfl) rfl ?_
  refine g_iload_n dJ17_lowestOneBit_0 rfl ?_
  refine g_iload_n dJ17_lowestOneBit_1 rfl ?_
  refine g_ineg dJ17_lowestOneBit_2 ?_
  refine g_iand dJ17_lowestOneBit_3 ?_
  refine g_iret rfl (Nat.le_refl _) (Nat.le_refl _) ?_ dJ17_lowestOneBit_4
  exact dQ.mk
def ntz4 (i n : Int32) : Int32 := n + us i 1
def ntz3 (i n : Int32) : Int32 := if i ≤ 4 then ntz4 i n else ntz4 (us i 2) (n + 2)
def ntz2 (i n : Int32) : Int32 := if i ≤ 16 then ntz3 i n else ntz3 (us i 4) (n + 4)
def ntz1 (i n : Int32) : Int32 := if i ≤ 256 then ntz2 i n else ntz2 (us i 8) (n + 8)
def ntz0 (i n : Int32) : Int32 := if i ≤ 65536 then ntz1 i n else ntz1 (us i 16) (n + 16)
def ntzF (x : Int32) : Int32 := let i := (x ^^^ -1) &&& (x - 1); if 0 < i then ntz0 i 1 else i &&& 32
theorem j_ntz {x : Int32} : Ct g yJ17_numberOfTrailingZeros cJ17_numberOfTrailingZeros 2 (some .int) 1 0 0 [.int x] ω z (dQ (some (.int (ntzF x))) ω z) := by
  refine Ct.at (own := RJ17) (by decide) rfl (Nat.le_of_ble_eq_true rfl) rfl ?_
  unfold ntzF
  dsimp only
  generalize hi : (x ^^^ -1) &&& (x - 1) = i
  have k4 : ∀ (i n : Int32), GN g RJ17 cJ17_numberOfTrailingZeros 2 (some .int) 1 (dQ (some (.int (ntz4 i n))) ω z) ω z 74 [(1, .int n), (0, .int i)] [] := by
    intro i n
    refine g_iload_n dJ17_numberOfTrailingZeros_74 rfl ?_
    refine g_iload_n dJ17_numberOfTrailingZeros_75 rfl ?_
    refine g_iconst (1) dJ17_numberOfTrailingZeros_76 rfl ?_
    refine g_iushr dJ17_numberOfTrailingZeros_77 ?_
    refine g_iadd dJ17_numberOfTrailingZeros_78 ?_
    refine g_iret rfl (Nat.le_refl _) (Nat.le_refl _) ?_ dJ17_numberOfTrailingZeros_79
    exact dQ.mk
  have k3 : ∀ (i n : Int32), GN g RJ17 cJ17_numberOfTrailingZeros 2 (some .int) 1 (dQ (some (.int (ntz3 i n))) ω z) ω z 62 [(1, .int n), (0, .int i)] [] := by
    intro i n
    unfold ntz3
    refine g_iload_n dJ17_numberOfTrailingZeros_62 rfl ?_
    refine g_iconst (4) dJ17_numberOfTrailingZeros_63 rfl ?_
    refine g_icmp_le 74 dJ17_numberOfTrailingZeros_64 (by decide) (fun c1 => ?_) (fun c1 => ?_)
    · rw [if_pos c1]
      exact k4 _ _
    · rw [if_neg c1]
      refine g_iinc _ (L' := [(1, _), (0, _)]) dJ17_numberOfTrailingZeros_67 rfl rfl (by decide) rfl ?_
      refine g_iload_n dJ17_numberOfTrailingZeros_70 rfl ?_
      refine g_iconst (2) dJ17_numberOfTrailingZeros_71 rfl ?_
      refine g_iushr dJ17_numberOfTrailingZeros_72 ?_
      refine g_istore_n (L' := [(0, _), (1, _)]) dJ17_numberOfTrailingZeros_73 (by decide) rfl ?_
      refine g_pick [1, 0] rfl ?_
      exact k4 _ _
  have k2 : ∀ (i n : Int32), GN g RJ17 cJ17_numberOfTrailingZeros 2 (some .int) 1 (dQ (some (.int (ntz2 i n))) ω z) ω z 49 [(1, .int n), (0, .int i)] [] := by
    intro i n
    unfold ntz2
    refine g_iload_n dJ17_numberOfTrailingZeros_49 rfl ?_
    refine g_bipush (16) dJ17_numberOfTrailingZeros_50 rfl ?_
    refine g_icmp_le 62 dJ17_numberOfTrailingZeros_52 (by decide) (fun c1 => ?_) (fun c1 => ?_)
    · rw [if_pos c1]
      exact k3 _ _
    · rw [if_neg c1]
      refine g_iinc _ (L' := [(1, _), (0, _)]) dJ17_numberOfTrailingZeros_55 rfl rfl (by decide) rfl ?_
      refine g_iload_n dJ17_numberOfTrailingZeros_58 rfl ?_
      refine g_iconst (4) dJ17_numberOfTrailingZeros_59 rfl ?_
      refine g_iushr dJ17_numberOfTrailingZeros_60 ?_
      refine g_istore_n (L' := [(0, _), (1, _)]) dJ17_numberOfTrailingZeros_61 (by decide) rfl ?_
      refine g_pick [1, 0] rfl ?_
      exact k3 _ _
  have k1 : ∀ (i n : Int32), GN g RJ17 cJ17_numberOfTrailingZeros 2 (some .int) 1 (dQ (some (.int (ntz1 i n))) ω z) ω z 34 [(1, .int n), (0, .int i)] [] := by
    intro i n
    unfold ntz1
    refine g_iload_n dJ17_numberOfTrailingZeros_34 rfl ?_
    refine g_sipush (256) dJ17_numberOfTrailingZeros_35 rfl ?_
    refine g_icmp_le 49 dJ17_numberOfTrailingZeros_38 (by decide) (fun c1 => ?_) (fun c1 => ?_)
    · rw [if_pos c1]
      exact k2 _ _
    · rw [if_neg c1]
      refine g_iinc _ (L' := [(1, _), (0, _)]) dJ17_numberOfTrailingZeros_41 rfl rfl (by decide) rfl ?_
      refine g_iload_n dJ17_numberOfTrailingZeros_44 rfl ?_
      refine g_bipush (8) dJ17_numberOfTrailingZeros_45 rfl ?_
      refine g_iushr dJ17_numberOfTrailingZeros_47 ?_
      refine g_istore_n (L' := [(0, _), (1, _)]) dJ17_numberOfTrailingZeros_48 (by decide) rfl ?_
      refine g_pick [1, 0] rfl ?_
      exact k2 _ _
  have k0 : ∀ (i n : Int32), GN g RJ17 cJ17_numberOfTrailingZeros 2 (some .int) 1 (dQ (some (.int (ntz0 i n))) ω z) ω z 19 [(1, .int n), (0, .int i)] [] := by
    intro i n
    unfold ntz0
    refine g_iload_n dJ17_numberOfTrailingZeros_19 rfl ?_
    refine g_ldcw q1128 dJ17_numberOfTrailingZeros_20 ?_
    refine g_icmp_le 34 dJ17_numberOfTrailingZeros_23 (by decide) (fun c1 => ?_) (fun c1 => ?_)
    · rw [if_pos c1]
      exact k1 _ _
    · rw [if_neg c1]
      refine g_iinc _ (L' := [(1, _), (0, _)]) dJ17_numberOfTrailingZeros_26 rfl rfl (by decide) rfl ?_
      refine g_iload_n dJ17_numberOfTrailingZeros_29 rfl ?_
      refine g_bipush (16) dJ17_numberOfTrailingZeros_30 rfl ?_
      refine g_iushr dJ17_numberOfTrailingZeros_32 ?_
      refine g_istore_n (L' := [(0, _), (1, _)]) dJ17_numberOfTrailingZeros_33 (by decide) rfl ?_
      refine g_pick [1, 0] rfl ?_
      exact k1 _ _
  refine g_iload_n dJ17_numberOfTrailingZeros_0 rfl ?_
  refine g_iconst (-1) dJ17_numberOfTrailingZeros_1 rfl ?_
  refine g_ixor dJ17_numberOfTrailingZeros_2 ?_
  refine g_iload_n dJ17_numberOfTrailingZeros_3 rfl ?_
  refine g_iconst (1) dJ17_numberOfTrailingZeros_4 rfl ?_
  refine g_isub dJ17_numberOfTrailingZeros_5 ?_
  refine g_iand dJ17_numberOfTrailingZeros_6 ?_
  rw [hi]
  refine g_istore_n (L' := [(0, _)]) dJ17_numberOfTrailingZeros_7 (by decide) rfl ?_
  refine g_iload_n dJ17_numberOfTrailingZeros_8 rfl ?_
  refine g_if_gt 17 dJ17_numberOfTrailingZeros_9 (by decide) (fun c1 => ?_) (fun c1 => ?_)
  · rw [if_pos c1]
    refine g_iconst (1) dJ17_numberOfTrailingZeros_17 rfl ?_
    refine g_istore_n (L' := [(1, _), (0, _)]) dJ17_numberOfTrailingZeros_18 (by decide) rfl ?_
    exact k0 _ _
  · rw [if_neg c1]
    refine g_iload_n dJ17_numberOfTrailingZeros_12 rfl ?_
    refine g_bipush (32) dJ17_numberOfTrailingZeros_13 rfl ?_
    refine g_iand dJ17_numberOfTrailingZeros_15 ?_
    refine g_iret rfl (Nat.le_refl _) (Nat.le_refl _) ?_ dJ17_numberOfTrailingZeros_16
    exact dQ.mk
end A
def bcN (x : Nat) : Nat :=
  let a := x - ((x >>> 1) &&& 21845)
  let b := (a &&& 13107) + ((a >>> 2) &&& 13107)
  let c := (b + (b >>> 4)) &&& 3855
  (c + (c >>> 8)) &&& 63
def pcN : Nat → Nat → Nat
  | 0, _ => 0
  | n + 1, x => pcN n x + x / 2 ^ n % 2
