/-! the fishers: calls of the class above, what each kind answers -/
set_option maxRecDepth 100000
theorem lw_U {own : String} {idx : Nat} {y : MethodName} {b : ByteArray} {L : Nat} {r : Option FieldType} (h1 : Cond.methodLink own idx y ∈ lw_all) (h2 : Cond.sameMethod y.cls y.cls y.name y.desc ∈ lw_all) (h3 : Cond.superclass own y.cls ∈ lw_all) (h4 : Cond.instanceMethod y ∈ lw_all) (h5 : Cond.initialized y.cls ∈ lw_all) (h6 : Cond.code y b L r ∈ lw_all) : GoodIn lw_all (va_wsSU own idx y (ws_ y b L r)) := by
  refine lw_app ?_ (lw_meth h6)
  intro w hw
  simp only [List.mem_cons, List.not_mem_nil, or_false] at hw
  rcases hw with e | e | e | e | e
  · rw [e]; exact h1
  · rw [e]; exact h2
  · rw [e]; exact h3
  · rw [e]; exact h4
  · rw [e]; exact h5
section RU
variable {g : GE} {own : String} {cc : ByteArray} {nL : Nat} {ret : Option FieldType} {XT : Method → Code → Prop} {Z : ZT} {cells slots : Nat} {ω : Om} {z pc : Nat} {L : List (Nat × Value)} {rest : List Value}
/-- a call of the class above -/
theorem g_callU {C : String} {T : u_T} {N ci index : Nat} {y : MethodName} {b2 : ByteArray} {maxL : Nat} {r2 : Option FieldType} {d d2 mc ms n : Nat} {As : List Value} {b : Nat} {fs : List Value} {v : Value} (hM : Ct g y b2 maxL r2 d2 0 0 (.ref b :: As) ω z (dQ (some v) ω z))
    (hw : GoodIn lw_all (va_wsSU own index y (ws_ y b2 maxL r2))) (hy : y.name ≠ "<init>" ∧ (parseMethodDescriptor y.desc).map (fun d => d.parameters.length) = some n)
    (hc : vwCl[ci]? = some (C, T, N)) (hq : ω b = some (.inr (ci, fs))) (hn : As.length = n) {st0 : List Value} (hst : st0 = As.reverse ++ .ref b :: rest) (hdd : d2 + 1 ≤ d ∧ maxL ≤ 40) (hf : cells ≤ mc ∧ slots ≤ ms) (hro : (rest.map fun v => v.category).sum ≤ 8) (hd : decode cc pc = .ok (.invokespecial index, 3))
    (k : G g own cc nL ret XT (rmD d mc ms) Z cells slots ω z (pc + 3) L (v :: rest)) : G g own cc nL ret XT (rmD d mc ms) Z cells slots ω z pc L st0 := by
  intro p e s m args below meth c H locs ls C1 hr hk hx hW hl
  subst hst
  have hrec : ∃ cell : Cell, H[b]? = some cell ∧ cell.vm.isStatics = false ∧ s.vm.findClass C = some cell.cls := va_recv (q := (C, T, N)) (q0 := 0) hW.1 (va_P1 (hW.2.1 b _ hq)) hc rfl
  refine g_behind C1 hr hk hx hW hl (va_runSU (As := As) (rest := rest) (hW.1.1 ci _ hc).2 C1 hM (va_cwSU n C1.2.2.2.2 hw rfl rfl rfl hy ⟨hdd.1, by show 8 + (maxL + 11) + 64 * d2 ≤ 64 * d; omega⟩) ⟨Wt.blind, hrec, fun U hU hw => ⟨rfl, hW.to hU hw⟩⟩ rfl hn hl.1 rfl (lv_room hro) hd hf) ?_
  rintro v' ω1 z1 ⟨rfl, rfl, rfl⟩
  exact k
end RU
def fshV (k : Nat) (nu mo : Int32) (b : Nat) : List Value := .int nu :: .int mo :: List.replicate (if k = 0 then 1 else if k = 3 ∨ k = 4 then 3 else 2) (.ref b)
section FM
variable {g : GE} {cc : ByteArray} {nL : Nat} {ret : Option FieldType} {XT : Method → Code → Prop} {rm : Room} {Z : ZT} {cells slots : Nat} {ω : Om} {z pc : Nat} {L : List (Nat × Value)} {rest : List Value} {a b k : Nat} {nu mo : Int32}
theorem fm_9 (hk : k = 1 ∨ k = 3) (hq : ω a = some (.inr (8 + k, fshV k nu mo b))) (hd : decode cc pc = .ok (.getfield 21, 3)) (kk : G g RX9 cc nL ret XT rm Z cells slots ω z (pc + 3) L (.int mo :: rest)) : G g RX9 cc nL ret XT rm Z cells slots ω z pc L (.ref a :: rest) := by
  rcases hk with rfl | rfl
  · exact g_getI (ref := RX9) (T := TX9) (N := 4) 1 in_X9 rfl (by decide) q840 q841 hq rfl hd kk
  · exact g_getI (ref := RX9) (T := TX11) (N := 5) 1 in_X11 rfl (by decide) q840 q841 hq rfl hd kk
theorem fm_10 (hk : k = 2 ∨ k = 4) (hq : ω a = some (.inr (8 + k, fshV k nu mo b))) (hd : decode cc pc = .ok (.getfield 17, 3)) (kk : G g RX10 cc nL ret XT rm Z cells slots ω z (pc + 3) L (.int mo :: rest)) : G g RX10 cc nL ret XT rm Z cells slots ω z pc L (.ref a :: rest) := by
  rcases hk with rfl | rfl
  · exact g_getI (ref := RX10) (T := TX10) (N := 4) 1 in_X10 rfl (by decide) q836 q837 hq rfl hd kk
  · exact g_getI (ref := RX10) (T := TX12) (N := 5) 1 in_X12 rfl (by decide) q836 q837 hq rfl hd kk
theorem fm_12 (hk : k = 4) (hq : ω a = some (.inr (8 + k, fshV k nu mo b))) (hd : decode cc pc = .ok (.getfield 21, 3)) (kk : G g RX12 cc nL ret XT rm Z cells slots ω z (pc + 3) L (.int mo :: rest)) : G g RX12 cc nL ret XT rm Z cells slots ω z pc L (.ref a :: rest) := by
  rcases hk with rfl
  · exact g_getI (ref := RX12) (T := TX12) (N := 5) 1 in_X12 rfl (by decide) q838 q839 hq rfl hd kk
theorem fm_13 (hk : k = 5) (hq : ω a = some (.inr (8 + k, fshV k nu mo b))) (hd : decode cc pc = .ok (.getfield 17, 3)) (kk : G g RX13 cc nL ret XT rm Z cells slots ω z (pc + 3) L (.int mo :: rest)) : G g RX13 cc nL ret XT rm Z cells slots ω z pc L (.ref a :: rest) := by
  rcases hk with rfl
  · exact g_getI (ref := RX13) (T := TX13) (N := 4) 1 in_X13 rfl (by decide) q834 q835 hq rfl hd kk
end FM
section FK
variable {g : GE} {ω : Om} {z a b k : Nat} {nu mo : Int32}
theorem f8_kind : Ct g yX8_kind cX8_kind 1 (some .int) 1 0 0 [.ref a] ω z (dQ (some (.int 0)) ω z) := by
  refine Ct.at (own := RX8) (by decide) rfl (Nat.le_of_ble_eq_true rfl) rfl ?_
  refine g_iconst (0) dX8_kind_0 rfl ?_
  refine g_iret rfl (Nat.le_refl _) (Nat.le_refl _) ?_ dX8_kind_1
  exact dQ.mk
theorem f8_takes {v : Int32} : Ct g yX8_takes cX8_takes 2 (some .int) 1 0 0 [.ref a, .int v] ω z (dQ (some (.int v)) ω z) := by
  refine Ct.at (own := RX8) (by decide) rfl (Nat.le_of_ble_eq_true rfl) rfl ?_
  refine g_iload_n dX8_takes_0 rfl ?_
  refine g_iret rfl (Nat.le_refl _) (Nat.le_refl _) ?_ dX8_takes_1
  exact dQ.mk
theorem f8_lucks {v n : Int32} : Ct g yX8_lucks cX8_lucks 3 (some .int) 1 0 0 [.ref a, .int v, .int n] ω z (dQ (some (.int v)) ω z) := by
  refine Ct.at (own := RX8) (by decide) rfl (Nat.le_of_ble_eq_true rfl) rfl ?_
  refine g_iload_n dX8_lucks_0 rfl ?_
  refine g_iret rfl (Nat.le_refl _) (Nat.le_refl _) ?_ dX8_lucks_1
  exact dQ.mk
theorem f8_lets {v m : Int32} (hm : ¬ m = 0) : Ct g yX8_lets cX8_lets 3 (some .int) 2 0 0 [.ref a, .int v, .int m] ω z (dQ (some (.int (fmJ v m))) ω z) := by
  refine Ct.at (own := RX8) (by decide) rfl (Nat.le_of_ble_eq_true rfl) rfl ?_
  refine g_iload_n dX8_lets_0 rfl ?_
  refine g_iload_n dX8_lets_1 rfl ?_
  refine gs_calli (n := 2) (j_floorMod hm) (lw_S q1061 q1062 q81 q1063) (by decide +kernel) rfl rfl (by decide) ⟨Nat.le_refl _, Nat.le_refl _⟩ (Nat.le_of_ble_eq_true rfl) dX8_lets_2 ?_
  refine g_iret rfl (Nat.le_refl _) (Nat.le_refl _) ?_ dX8_lets_5
  exact dQ.mk
theorem fcl {k : Nat} (hk : k < 6) : ∃ C T N, vwCl[8 + k]? = some (C, T, N) := by
  match k, hk with
  | 0, _ => exact ⟨_, _, _, rfl⟩
  | 1, _ => exact ⟨_, _, _, rfl⟩
  | 2, _ => exact ⟨_, _, _, rfl⟩
  | 3, _ => exact ⟨_, _, _, rfl⟩
  | 4, _ => exact ⟨_, _, _, rfl⟩
  | 5, _ => exact ⟨_, _, _, rfl⟩
theorem f9_lets {v m : Int32} (hk : k = 1 ∨ k = 3) (hq : ω a = some (.inr (8 + k, fshV k nu mo b))) (hm : ¬ m = 0) : Ct g yX9_lets cX9_lets 3 (some .int) 3 0 0 [.ref a, .int v, .int m] ω z (dQ (some (.int (m - 1 - fmJ v m))) ω z) := by
  obtain ⟨C0, T0, N0, hc⟩ := fcl (k := k) (by rcases hk with rfl | rfl <;> decide)
  refine Ct.at (own := RX9) (by decide) rfl (Nat.le_of_ble_eq_true rfl) rfl ?_
  refine g_iload_n dX9_lets_0 rfl ?_
  refine g_iconst (1) dX9_lets_1 rfl ?_
  refine g_isub dX9_lets_2 ?_
  refine g_aload_n dX9_lets_3 rfl ?_
  refine g_iload_n dX9_lets_4 rfl ?_
  refine g_iload_n dX9_lets_5 rfl ?_
  refine g_callU (n := 2) (f8_lets hm) (lw_U q1057 q1045 q863 q1043 q96 q1060) (by decide +kernel) hc hq rfl rfl (by decide) ⟨Nat.le_refl _, Nat.le_refl _⟩ (Nat.le_of_ble_eq_true rfl) dX9_lets_6 ?_
  refine g_isub dX9_lets_9 ?_
  refine g_iret rfl (Nat.le_refl _) (Nat.le_refl _) ?_ dX9_lets_10
  exact dQ.mk
theorem f9_lucks {v n : Int32} (hk : k = 1 ∨ k = 3) (hq : ω a = some (.inr (8 + k, fshV k nu mo b))) : Ct g yX9_lucks cX9_lucks 3 (some .int) 2 0 0 [.ref a, .int v, .int n] ω z (dQ (some (.int (if n = 0 then v - mo else v))) ω z) := by
  obtain ⟨C0, T0, N0, hc⟩ := fcl (k := k) (by rcases hk with rfl | rfl <;> decide)
  refine Ct.at (own := RX9) (by decide) rfl (Nat.le_of_ble_eq_true rfl) rfl ?_
  refine g_iload_n dX9_lucks_0 rfl ?_
  refine g_if_eq 13 dX9_lucks_1 (by decide) (fun c1 => ?_) (fun c1 => ?_)
  · refine g_aload_n dX9_lucks_13 rfl ?_
    refine g_iload_n dX9_lucks_14 rfl ?_
    refine g_iload_n dX9_lucks_15 rfl ?_
    refine g_callU (n := 2) (f8_lucks ) (lw_U q1087 q1074 q863 q1072 q96 q1089) (by decide +kernel) hc hq rfl rfl (by decide) ⟨Nat.le_refl _, Nat.le_refl _⟩ (Nat.le_of_ble_eq_true rfl) dX9_lucks_16 ?_
    refine g_aload_n dX9_lucks_19 rfl ?_
    refine fm_9 hk hq dX9_lucks_20 ?_
    refine g_isub dX9_lucks_23 ?_
    refine g_iret rfl (Nat.le_refl _) (Nat.le_refl _) ?_ dX9_lucks_24
    refine dQ.of ?_; split <;> first | rfl | contradiction
  · refine g_aload_n dX9_lucks_4 rfl ?_
    refine g_iload_n dX9_lucks_5 rfl ?_
    refine g_iload_n dX9_lucks_6 rfl ?_
    refine g_callU (n := 2) (f8_lucks ) (lw_U q1087 q1074 q863 q1072 q96 q1089) (by decide +kernel) hc hq rfl rfl (by decide) ⟨Nat.le_refl _, Nat.le_refl _⟩ (Nat.le_of_ble_eq_true rfl) dX9_lucks_7 ?_
    refine g_goto 24 dX9_lucks_10 (by decide) ?_
    refine g_iret rfl (Nat.le_refl _) (Nat.le_refl _) ?_ dX9_lucks_24
    refine dQ.of ?_; split <;> first | rfl | contradiction
theorem f10_takes {v : Int32} (hk : k = 2 ∨ k = 4) (hq : ω a = some (.inr (8 + k, fshV k nu mo b))) : Ct g yX10_takes cX10_takes 2 (some .int) 2 0 0 [.ref a, .int v] ω z (dQ (some (.int (v + mo))) ω z) := by
  obtain ⟨C0, T0, N0, hc⟩ := fcl (k := k) (by rcases hk with rfl | rfl <;> decide)
  refine Ct.at (own := RX10) (by decide) rfl (Nat.le_of_ble_eq_true rfl) rfl ?_
  refine g_aload_n dX10_takes_0 rfl ?_
  refine g_iload_n dX10_takes_1 rfl ?_
  refine g_callU (n := 1) (f8_takes ) (lw_U q1016 q1009 q876 q1007 q96 q1028) (by decide +kernel) hc hq rfl rfl (by decide) ⟨Nat.le_refl _, Nat.le_refl _⟩ (Nat.le_of_ble_eq_true rfl) dX10_takes_2 ?_
  refine g_aload_n dX10_takes_5 rfl ?_
  refine fm_10 hk hq dX10_takes_6 ?_
  refine g_iadd dX10_takes_9 ?_
  refine g_iret rfl (Nat.le_refl _) (Nat.le_refl _) ?_ dX10_takes_10
  exact dQ.mk
theorem f10_lucks {v n : Int32} (hk : k = 2 ∨ k = 4) (hq : ω a = some (.inr (8 + k, fshV k nu mo b))) : Ct g yX10_lucks cX10_lucks 3 (some .int) 2 0 0 [.ref a, .int v, .int n] ω z (dQ (some (.int (v / 2))) ω z) := by
  obtain ⟨C0, T0, N0, hc⟩ := fcl (k := k) (by rcases hk with rfl | rfl <;> decide)
  refine Ct.at (own := RX10) (by decide) rfl (Nat.le_of_ble_eq_true rfl) rfl ?_
  refine g_aload_n dX10_lucks_0 rfl ?_
  refine g_iload_n dX10_lucks_1 rfl ?_
  refine g_iload_n dX10_lucks_2 rfl ?_
  refine g_callU (n := 2) (f8_lucks ) (lw_U q1081 q1074 q876 q1072 q96 q1089) (by decide +kernel) hc hq rfl rfl (by decide) ⟨Nat.le_refl _, Nat.le_refl _⟩ (Nat.le_of_ble_eq_true rfl) dX10_lucks_3 ?_
  refine g_iconst (2) dX10_lucks_6 rfl ?_
  refine g_idiv dX10_lucks_7 (by decide) ?_
  refine g_iret rfl (Nat.le_refl _) (Nat.le_refl _) ?_ dX10_lucks_8
  exact dQ.mk
theorem f11_lets {v m : Int32} (hk : k = 3) (hq : ω a = some (.inr (8 + k, fshV k nu mo b))) (hm : ¬ m = 0) : Ct g yX11_lets cX11_lets 3 (some .int) 4 0 0 [.ref a, .int v, .int m] ω z (dQ (some (.int (if m = 1 then 0 else mxI 1 (m - 1 - fmJ v m)))) ω z) := by
  obtain ⟨C0, T0, N0, hc⟩ := fcl (k := k) (by rcases hk with rfl <;> decide)
  refine Ct.at (own := RX11) (by decide) rfl (Nat.le_of_ble_eq_true rfl) rfl ?_
  refine g_iload_n dX11_lets_0 rfl ?_
  refine g_iconst (1) dX11_lets_1 rfl ?_
  refine g_icmp_ne 9 dX11_lets_2 (by decide) (fun c1 => ?_) (fun c1 => ?_)
  · refine g_iconst (1) dX11_lets_9 rfl ?_
    refine g_aload_n dX11_lets_10 rfl ?_
    refine g_iload_n dX11_lets_11 rfl ?_
    refine g_iload_n dX11_lets_12 rfl ?_
    refine g_callU (n := 2) (f9_lets (.inr (by omega)) hq hm) (lw_U q1054 q1818 q890 q1055 q97 q1056) (by decide +kernel) hc hq rfl rfl (by decide) ⟨Nat.le_refl _, Nat.le_refl _⟩ (Nat.le_of_ble_eq_true rfl) dX11_lets_13 ?_
    refine gs_calli (n := 2) (j_max ) (lw_S q1058 q338 q81 q339) (by decide +kernel) rfl rfl (by decide) ⟨Nat.le_refl _, Nat.le_refl _⟩ (Nat.le_of_ble_eq_true rfl) dX11_lets_16 ?_
    refine g_iret rfl (Nat.le_refl _) (Nat.le_refl _) ?_ dX11_lets_19
    refine dQ.of ?_; split <;> first | rfl | contradiction
  · refine g_iconst (0) dX11_lets_5 rfl ?_
    refine g_goto 19 dX11_lets_6 (by decide) ?_
    refine g_iret rfl (Nat.le_refl _) (Nat.le_refl _) ?_ dX11_lets_19
    refine dQ.of ?_; split <;> first | rfl | contradiction
theorem f12_takes {v : Int32} (hk : k = 4) (hq : ω a = some (.inr (8 + k, fshV k nu mo b))) : Ct g yX12_takes cX12_takes 2 (some .int) 3 0 0 [.ref a, .int v] ω z (dQ (some (.int (2 * (v + mo)))) ω z) := by
  obtain ⟨C0, T0, N0, hc⟩ := fcl (k := k) (by rcases hk with rfl <;> decide)
  refine Ct.at (own := RX12) (by decide) rfl (Nat.le_of_ble_eq_true rfl) rfl ?_
  refine g_iconst (2) dX12_takes_0 rfl ?_
  refine g_aload_n dX12_takes_1 rfl ?_
  refine g_iload_n dX12_takes_2 rfl ?_
  refine g_callU (n := 1) (f10_takes (.inr (by omega)) hq) (lw_U q1013 q1817 q904 q1014 q98 q1015) (by decide +kernel) hc hq rfl rfl (by decide) ⟨Nat.le_refl _, Nat.le_refl _⟩ (Nat.le_of_ble_eq_true rfl) dX12_takes_3 ?_
  refine g_imul dX12_takes_6 ?_
  refine g_iret rfl (Nat.le_refl _) (Nat.le_refl _) ?_ dX12_takes_7
  exact dQ.mk
theorem f12_lucks {v n : Int32} (hk : k = 4) (hq : ω a = some (.inr (8 + k, fshV k nu mo b))) : Ct g yX12_lucks cX12_lucks 3 (some .int) 3 0 0 [.ref a, .int v, .int n] ω z (dQ (some (.int (if n = 0 then v / 2 else mo))) ω z) := by
  obtain ⟨C0, T0, N0, hc⟩ := fcl (k := k) (by rcases hk with rfl <;> decide)
  refine Ct.at (own := RX12) (by decide) rfl (Nat.le_of_ble_eq_true rfl) rfl ?_
  refine g_iload_n dX12_lucks_0 rfl ?_
  refine g_if_eq 11 dX12_lucks_1 (by decide) (fun c1 => ?_) (fun c1 => ?_)
  · refine g_aload_n dX12_lucks_11 rfl ?_
    refine g_iload_n dX12_lucks_12 rfl ?_
    refine g_iload_n dX12_lucks_13 rfl ?_
    refine g_callU (n := 2) (f10_lucks (.inr (by omega)) hq) (lw_U q1078 q1819 q904 q1079 q98 q1080) (by decide +kernel) hc hq rfl rfl (by decide) ⟨Nat.le_refl _, Nat.le_refl _⟩ (Nat.le_of_ble_eq_true rfl) dX12_lucks_14 ?_
    refine g_iret rfl (Nat.le_refl _) (Nat.le_refl _) ?_ dX12_lucks_17
    refine dQ.of ?_; split <;> first | rfl | contradiction
  · refine g_aload_n dX12_lucks_4 rfl ?_
    refine fm_12 hk hq dX12_lucks_5 ?_
    refine g_goto 17 dX12_lucks_8 (by decide) ?_
    refine g_iret rfl (Nat.le_refl _) (Nat.le_refl _) ?_ dX12_lucks_17
    refine dQ.of ?_; split <;> first | rfl | contradiction
theorem f13_takes {v : Int32} (hk : k = 5) (hq : ω a = some (.inr (8 + k, fshV k nu mo b))) : Ct g yX13_takes cX13_takes 2 (some .int) 1 0 0 [.ref a, .int v] ω z (dQ (some (.int (1))) ω z) := by
  obtain ⟨C0, T0, N0, hc⟩ := fcl (k := k) (by rcases hk with rfl <;> decide)
  refine Ct.at (own := RX13) (by decide) rfl (Nat.le_of_ble_eq_true rfl) rfl ?_
  refine g_iconst (1) dX13_takes_0 rfl ?_
  refine g_iret rfl (Nat.le_refl _) (Nat.le_refl _) ?_ dX13_takes_1
  exact dQ.mk
theorem f13_lets {v m : Int32} (hk : k = 5) (hq : ω a = some (.inr (8 + k, fshV k nu mo b))) (hm : ¬ m = 0) : Ct g yX13_lets cX13_lets 3 (some .int) 1 0 0 [.ref a, .int v, .int m] ω z (dQ (some (.int (rem mo m))) ω z) := by
  obtain ⟨C0, T0, N0, hc⟩ := fcl (k := k) (by rcases hk with rfl <;> decide)
  refine Ct.at (own := RX13) (by decide) rfl (Nat.le_of_ble_eq_true rfl) rfl ?_
  refine g_aload_n dX13_lets_0 rfl ?_
  refine fm_13 hk hq dX13_lets_1 ?_
  refine g_iload_n dX13_lets_4 rfl ?_
  refine g_irem dX13_lets_5 hm ?_
  refine g_iret rfl (Nat.le_refl _) (Nat.le_refl _) ?_ dX13_lets_6
  exact dQ.mk
theorem f9_kind (hk : k = 1 ∨ k = 3) (hq : ω a = some (.inr (8 + k, fshV k nu mo b))) : Ct g yX9_kind cX9_kind 1 (some .int) 1 0 0 [.ref a] ω z (dQ (some (.int (1))) ω z) := by
  obtain ⟨C0, T0, N0, hc⟩ := fcl (k := k) (by rcases hk with rfl | rfl <;> decide)
  refine Ct.at (own := RX9) (by decide) rfl (Nat.le_of_ble_eq_true rfl) rfl ?_
  refine g_iconst (1) dX9_kind_0 rfl ?_
  refine g_iret rfl (Nat.le_refl _) (Nat.le_refl _) ?_ dX9_kind_1
  exact dQ.mk
theorem f10_kind (hk : k = 2 ∨ k = 4) (hq : ω a = some (.inr (8 + k, fshV k nu mo b))) : Ct g yX10_kind cX10_kind 1 (some .int) 1 0 0 [.ref a] ω z (dQ (some (.int (2))) ω z) := by
  obtain ⟨C0, T0, N0, hc⟩ := fcl (k := k) (by rcases hk with rfl | rfl <;> decide)
  refine Ct.at (own := RX10) (by decide) rfl (Nat.le_of_ble_eq_true rfl) rfl ?_
  refine g_iconst (2) dX10_kind_0 rfl ?_
  refine g_iret rfl (Nat.le_refl _) (Nat.le_refl _) ?_ dX10_kind_1
  exact dQ.mk
theorem f11_kind (hk : k = 3) (hq : ω a = some (.inr (8 + k, fshV k nu mo b))) : Ct g yX11_kind cX11_kind 1 (some .int) 2 0 0 [.ref a] ω z (dQ (some (.int (3))) ω z) := by
  obtain ⟨C0, T0, N0, hc⟩ := fcl (k := k) (by rcases hk with rfl <;> decide)
  refine Ct.at (own := RX11) (by decide) rfl (Nat.le_of_ble_eq_true rfl) rfl ?_
  refine g_aload_n dX11_kind_0 rfl ?_
  refine g_callU (n := 0) (f9_kind (.inr (by omega)) hq) (lw_U q997 q1816 q890 q998 q97 q999) (by decide +kernel) hc hq rfl rfl (by decide) ⟨Nat.le_refl _, Nat.le_refl _⟩ (Nat.le_of_ble_eq_true rfl) dX11_kind_1 ?_
  refine g_iconst (2) dX11_kind_4 rfl ?_
  refine g_iadd dX11_kind_5 ?_
  refine g_iret rfl (Nat.le_refl _) (Nat.le_refl _) ?_ dX11_kind_6
  exact dQ.mk
theorem f12_kind (hk : k = 4) (hq : ω a = some (.inr (8 + k, fshV k nu mo b))) : Ct g yX12_kind cX12_kind 1 (some .int) 2 0 0 [.ref a] ω z (dQ (some (.int (4))) ω z) := by
  obtain ⟨C0, T0, N0, hc⟩ := fcl (k := k) (by rcases hk with rfl <;> decide)
  refine Ct.at (own := RX12) (by decide) rfl (Nat.le_of_ble_eq_true rfl) rfl ?_
  refine g_aload_n dX12_kind_0 rfl ?_
  refine g_callU (n := 0) (f10_kind (.inr (by omega)) hq) (lw_U q986 q1815 q904 q987 q98 q988) (by decide +kernel) hc hq rfl rfl (by decide) ⟨Nat.le_refl _, Nat.le_refl _⟩ (Nat.le_of_ble_eq_true rfl) dX12_kind_1 ?_
  refine g_iconst (2) dX12_kind_4 rfl ?_
  refine g_iadd dX12_kind_5 ?_
  refine g_iret rfl (Nat.le_refl _) (Nat.le_refl _) ?_ dX12_kind_6
  exact dQ.mk
theorem f13_kind (hk : k = 5) (hq : ω a = some (.inr (8 + k, fshV k nu mo b))) : Ct g yX13_kind cX13_kind 1 (some .int) 2 0 0 [.ref a] ω z (dQ (some (.int (5))) ω z) := by
  obtain ⟨C0, T0, N0, hc⟩ := fcl (k := k) (by rcases hk with rfl <;> decide)
  refine Ct.at (own := RX13) (by decide) rfl (Nat.le_of_ble_eq_true rfl) rfl ?_
  refine g_aload_n dX13_kind_0 rfl ?_
  refine g_callU (n := 0) (f8_kind ) (lw_U q993 q982 q917 q980 q96 q1001) (by decide +kernel) hc hq rfl rfl (by decide) ⟨Nat.le_refl _, Nat.le_refl _⟩ (Nat.le_of_ble_eq_true rfl) dX13_kind_1 ?_
  refine g_iconst (5) dX13_kind_4 rfl ?_
  refine g_iadd dX13_kind_5 ?_
  refine g_iret rfl (Nat.le_refl _) (Nat.le_refl _) ?_ dX13_kind_6
  exact dQ.mk
end FK
