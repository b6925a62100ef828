/-! arrays of references, calls on an object of any known class, the list's reading methods -/
set_option maxRecDepth 100000
section RA
variable {g : GE} {own : String} {cc : ByteArray} {nL : Nat} {ret : Option FieldType} {XT : Method → Code → Prop} {rm : Room} {Z : ZT} {cells slots : Nat} {ω : Om} {z pc : Nat} {L : List (Nat × Value)} {rest : List Value}
theorem g_aald {a n t0 : Nat} {cA : ClassId} {C : String} {f : Nat → Option Nat} {i : Int32} (ht : (gtys g)[t0]? = some (cA, .object C)) (hq : ω a = some (.inl (cA, n, .inr (.inr (.inr (.inr f)))))) (hin : vp_in i n) (hd : decode cc pc = .ok (.aaload, 1)) (k : G g own cc nL ret XT rm Z cells slots ω z (pc + 1) L (va_rf (f i.toNatClampNeg) :: rest)) : G g own cc nL ret XT rm Z cells slots ω z pc L (.int i :: .ref a :: rest) :=
  fun p e s m args below meth c H locs ls C1 hr hk hx hW hl => va_aldq C1.1 C1.2.1 hW.1 (va_P1 (hW.2.1 a _ hq)) 0 t0 rfl ht hin hd (k p e s m args below meth c H locs ls C1 hr hk hx hW hl)
theorem gd_call {C : String} {T : u_T} {N ci index : Nat} {y : MethodName} {b2 : ByteArray} {maxL : Nat} {r2 : Option FieldType} {d d2 mc ms n : Nat} {As st0 : List Value} {b : Nat} {fs : List Value} {v : Option Value} (hM' : Ct g y b2 maxL r2 d2 0 0 (.ref b :: As) ω z (dQ v ω z))
    (hw : GoodIn lw_all (wsV own index C y (ws_ y b2 maxL r2))) (hy : y.cls = C ∧ y.cls ≠ "java/lang/invoke/MethodHandle" ∧ y.cls ≠ "java/lang/invoke/VarHandle" ∧ (parseMethodDescriptor y.desc).map (fun d => d.parameters.length) = some n)
    (hc : vwCl[ci]? = some (C, T, N)) (hq : ω b = some (.inr (ci, fs))) (hn : As.length = n) (hst : st0 = As.reverse ++ .ref b :: rest) (hdd : d2 + 1 ≤ d ∧ maxL ≤ 40) (hf : cells ≤ mc ∧ slots ≤ ms) (hro : (rest.map fun v => v.category).sum ≤ 8) (hd : decode cc pc = .ok (.invokevirtual index, 3))
    (k : G g own cc nL ret XT (rmD d mc ms) Z cells slots ω z (pc + 3) L (v.toList ++ rest)) : G g own cc nL ret XT (rmD d mc ms) Z cells slots ω z pc L st0 :=
  g_callV hM' hw hy hc hq hn hst rfl hdd hf hro hd (fun v' ω1 z1 h => by
    obtain ⟨rfl, rfl, rfl⟩ := h
    exact k)
theorem gd_callr {C : String} {T : u_T} {N ci index : Nat} {y : MethodName} {b2 : ByteArray} {maxL : Nat} {r2 : Option FieldType} {d d2 mc ms n : Nat} {As st0 : List Value} {b : Nat} {fs : List Value} {v : Value} (hM' : Ct g y b2 maxL r2 d2 0 0 (.ref b :: As) ω z (dQ (some v) ω z))
    (hw : GoodIn lw_all (wsV own index C y (ws_ y b2 maxL r2))) (hy : y.cls = C ∧ y.cls ≠ "java/lang/invoke/MethodHandle" ∧ y.cls ≠ "java/lang/invoke/VarHandle" ∧ (parseMethodDescriptor y.desc).map (fun d => d.parameters.length) = some n)
    (hc : vwCl[ci]? = some (C, T, N)) (hq : ω b = some (.inr (ci, fs))) (hn : As.length = n) (hst : st0 = As.reverse ++ .ref b :: rest) (hdd : d2 + 1 ≤ d ∧ maxL ≤ 40) (hf : cells ≤ mc ∧ slots ≤ ms) (hro : (rest.map fun v => v.category).sum ≤ 8) (hd : decode cc pc = .ok (.invokevirtual index, 3))
    (k : G g own cc nL ret XT (rmD d mc ms) Z cells slots ω z (pc + 3) L (v :: rest)) : G g own cc nL ret XT (rmD d mc ms) Z cells slots ω z pc L st0 := gd_call hM' hw hy hc hq hn hst hdd hf hro hd k
end RA
section AL
variable {g : GE} {cc : ByteArray} {nL : Nat} {ret : Option FieldType} {XT : Method → Code → Prop} {rm : Room} {Z : ZT} {cells slots : Nat} {ω : Om} {z pc : Nat} {L : List (Nat × Value)} {rest : List Value} {q ea : Nat} {mo sz : Int32}
theorem al_modCount (hq : ω q = some (.inr (16, [.int mo, .ref ea, .int sz]))) (hd : decode cc pc = .ok (.getfield 63, 3)) (k : G g RJ2 cc nL ret XT rm Z cells slots ω z (pc + 3) L (.int mo :: rest)) : G g RJ2 cc nL ret XT rm Z cells slots ω z pc L (.ref q :: rest) := g_getI (ref := RJ2) (T := TJ2) (N := 3) 0 in_J2 rfl (by decide) q130 q131 hq rfl hd k
theorem al_elementData (hq : ω q = some (.inr (16, [.int mo, .ref ea, .int sz]))) (hd : decode cc pc = .ok (.getfield 9, 3)) (k : G g RJ2 cc nL ret XT rm Z cells slots ω z (pc + 3) L (.ref ea :: rest)) : G g RJ2 cc nL ret XT rm Z cells slots ω z pc L (.ref q :: rest) := g_get (ref := RJ2) (T := TJ2) (N := 3) 1 in_J2 rfl (by decide) q127 rfl hq rfl hd k
theorem al_size (hq : ω q = some (.inr (16, [.int mo, .ref ea, .int sz]))) (hd : decode cc pc = .ok (.getfield 48, 3)) (k : G g RJ2 cc nL ret XT rm Z cells slots ω z (pc + 3) L (.int sz :: rest)) : G g RJ2 cc nL ret XT rm Z cells slots ω z pc L (.ref q :: rest) := g_get (ref := RJ2) (T := TJ2) (N := 3) 2 in_J2 rfl (by decide) q128 rfl hq rfl hd k
theorem j_size (hq : ω q = some (.inr (16, [.int mo, .ref ea, .int sz]))) : Ct g yJ2_size cJ2_size 1 (some .int) 1 0 0 [.ref q] ω z (dQ (some (.int sz)) ω z) := by
  refine Ct.at (own := RJ2) (by decide) rfl (Nat.le_of_ble_eq_true rfl) rfl ?_
  refine g_aload_n dJ2_size_0 rfl ?_
  refine al_size hq dJ2_size_1 ?_
  refine g_iret rfl (Nat.le_refl _) (Nat.le_refl _) ?_ dJ2_size_4
  exact dQ.mk
theorem j_isEmpty (hq : ω q = some (.inr (16, [.int mo, .ref ea, .int sz]))) : Ct g yJ2_isEmpty cJ2_isEmpty 1 (some .boolean) 1 0 0 [.ref q] ω z (dQ (some (.int (if sz = 0 then 1 else 0))) ω z) := by
  refine Ct.at (own := RJ2) (by decide) rfl (Nat.le_of_ble_eq_true rfl) rfl ?_
  refine g_aload_n dJ2_isEmpty_0 rfl ?_
  refine al_size hq dJ2_isEmpty_1 ?_
  refine g_if_ne 11 dJ2_isEmpty_4 (by decide) (fun c1 => ?_) (fun c1 => ?_)
  · refine g_iconst (0) dJ2_isEmpty_11 rfl ?_
    refine g_zret rfl (by first | rfl | exact nrb_in) (Nat.le_refl _) (Nat.le_refl _) ?_ dJ2_isEmpty_12
    first | exact dQ.of (by rw [if_pos c1]) | exact dQ.of (by rw [if_neg c1])
  · refine g_iconst (1) dJ2_isEmpty_7 rfl ?_
    refine g_goto 12 dJ2_isEmpty_8 (by decide) ?_
    refine g_zret rfl (by first | rfl | exact nrb_in) (Nat.le_refl _) (Nat.le_refl _) ?_ dJ2_isEmpty_12
    first | exact dQ.of (by rw [if_pos c1]) | exact dQ.of (by rw [if_neg c1])
theorem j_pcheck {i n : Nat} (hi : i < n) (hn : n ≤ 1000) : Ct g yJ5_checkIndex cJ5_checkIndex 3 (some .int) 1 0 0 [.int (nI i), .int (nI n), .null] ω z (dQ (some (.int (nI i))) ω z) := by
  refine Ct.at (own := RJ5) (by decide) rfl (Nat.le_of_ble_eq_true rfl) rfl ?_
  refine g_iload_n dJ5_checkIndex_0 rfl ?_
  refine g_if_lt 9 dJ5_checkIndex_1 (by decide) (fun h9 => absurd h9 (nI_pos (by omega))) (fun _ => ?_)
  refine g_iload_n dJ5_checkIndex_4 rfl ?_
  refine g_iload_n dJ5_checkIndex_5 rfl ?_
  refine g_icmp_lt 16 dJ5_checkIndex_6 (by decide) (fun _ => ?_) (fun h9 => absurd (nI_lt hi (by omega)) h9)
  refine g_iload_n dJ5_checkIndex_16 rfl ?_
  refine g_iret rfl (Nat.le_refl _) (Nat.le_refl _) ?_ dJ5_checkIndex_17
  exact dQ.mk
theorem j_check {i n : Nat} (hi : i < n) (hn : n ≤ 1000) : Ct g yJ18_checkIndex cJ18_checkIndex 2 (some .int) 2 0 0 [.int (nI i), .int (nI n)] ω z (dQ (some (.int (nI i))) ω z) := by
  refine Ct.at (own := RJ18) (by decide) rfl (Nat.le_of_ble_eq_true rfl) rfl ?_
  refine g_iload_n dJ18_checkIndex_0 rfl ?_
  refine g_iload_n dJ18_checkIndex_1 rfl ?_
  refine g_null dJ18_checkIndex_2 ?_
  refine gs_calli (n := 3) (j_pcheck hi hn) (lw_S q780 q195 q75 q196) (by decide +kernel) rfl rfl (by decide) ⟨Nat.le_refl _, Nat.le_refl _⟩ (Nat.le_of_ble_eq_true rfl) dJ18_checkIndex_3 ?_
  refine g_iret rfl (Nat.le_refl _) (Nat.le_refl _) ?_ dJ18_checkIndex_6
  exact dQ.mk
variable {cap : Nat} {f : Nat → Option Nat}
theorem j_elementData {i : Nat} (hq : ω q = some (.inr (16, [.int mo, .ref ea, .int sz]))) (he : ω ea = some (.inl (g.2.2.1 2, cap, .inr (.inr (.inr (.inr f)))))) (hi : i < cap) (hc : cap ≤ 1000) : Ct g yJ2_elementData cJ2_elementData 2 (some (.object "java/lang/Object")) 1 0 0 [.ref q, .int (nI i)] ω z (dQ (some (va_rf (f i))) ω z) := by
  refine Ct.at (own := RJ2) (by decide) rfl (Nat.le_of_ble_eq_true rfl) rfl ?_
  refine g_aload_n dJ2_elementData_0 rfl ?_
  refine al_elementData hq dJ2_elementData_1 ?_
  refine g_iload_n dJ2_elementData_4 rfl ?_
  refine g_aald (t0 := 2) rfl he (vp_in_nI hi (by omega)) dJ2_elementData_5 ?_
  rw [nI_clamp (by omega)]
  refine g_aret rfl (.inl ⟨_, rfl⟩) (va_rf_or _) (Nat.le_refl _) (Nat.le_refl _) ?_ dJ2_elementData_6
  exact dQ.mk
theorem j_get {i n : Nat} (hq : ω q = some (.inr (16, [.int mo, .ref ea, .int (nI n)]))) (he : ω ea = some (.inl (g.2.2.1 2, cap, .inr (.inr (.inr (.inr f)))))) (hi : i < n) (hn : n ≤ cap) (hc : cap ≤ 1000) : Ct g yJ2_get cJ2_get 2 (some (.object "java/lang/Object")) 3 0 0 [.ref q, .int (nI i)] ω z (dQ (some (va_rf (f i))) ω z) := by
  refine Ct.at (own := RJ2) (by decide) rfl (Nat.le_of_ble_eq_true rfl) rfl ?_
  refine g_iload_n dJ2_get_0 rfl ?_
  refine g_aload_n dJ2_get_1 rfl ?_
  refine al_size hq dJ2_get_2 ?_
  refine gs_calli (n := 2) (j_check hi (by omega)) (lw_S q777 q778 q95 q779) (by decide +kernel) rfl rfl (by decide) ⟨Nat.le_refl _, Nat.le_refl _⟩ (Nat.le_of_ble_eq_true rfl) dJ2_get_5 ?_
  refine g_pop dJ2_get_8 rfl ?_
  refine g_aload_n dJ2_get_9 rfl ?_
  refine g_iload_n dJ2_get_10 rfl ?_
  refine gd_callr (n := 1) (j_elementData hq he (by omega) hc) (lw_V q781 q782 q783 q71 q784) (by decide +kernel) (ci := 16) rfl hq rfl rfl (by decide) ⟨Nat.le_refl _, Nat.le_refl _⟩ (Nat.le_of_ble_eq_true rfl) dJ2_get_11 ?_
  refine g_aret rfl (.inl ⟨_, rfl⟩) (va_rf_or _) (Nat.le_refl _) (Nat.le_refl _) ?_ dJ2_get_14
  exact dQ.mk
end AL
