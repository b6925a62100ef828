/-! what is thrown: contracts of methods that may throw, of methods with handlers; the judgement behind a throw -/
set_option maxRecDepth 100000
def xr (g : GE) (E0 : String) (QX : Nat → Om → Nat → Prop) : Addr → String → State → State → Prop := fun q E st t => E = E0 ∧ ∃ ω z, QX q ω z ∧ Wt g ω z t ∧ va_F (gA g) st t
def CtX (g : GE) (y : MethodName) (cc : ByteArray) (nL : Nat) (ret : Option FieldType) (d mc ms : Nat) (av : List Value) (ω : Om) (z : Nat) (Q : Option Value → Om → Nat → Prop) (E0 : String) (QX : Nat → Om → Nat → Prop) : Prop :=
  vx_Met g.1 y (ws_ y cc nL ret) (rmD d mc ms) (va_Pc av (fun U => Wt g ω z U)) (QR g Q) (xr g E0 QX) mc ms (gA g)
def CtW (g : GE) (y : MethodName) (cc : ByteArray) (nL : Nat) (ret : Option FieldType) (hh : List (Nat × Nat × Nat × Nat)) (d mc ms : Nat) (av : List Value) (ω : Om) (z : Nat) (Q : Option Value → Om → Nat → Prop) : Prop :=
  Met g.1 y (wsW_ y cc nL ret hh) (rmD d mc ms) (va_Pc av (fun U => Wt g ω z U)) (QR g Q) mc ms (gA g)
def zX (g : GE) (Q : Option Value → Om → Nat → Prop) (E0 : String) (QX : Nat → Om → Nat → Prop) (mc ms : Nat) : ZT := fun below args s => vx_MQ below (QR g Q) (xr g E0 QX) args s mc ms (gA g)
def noT : Method → Code → Prop := fun _ c => ∀ x ∈ c.exceptionTable.toList, False
def hasT (hh : List (Nat × Nat × Nat × Nat)) : Method → Code → Prop := fun _ c => c.exceptionTable.toList = tableOf hh
/-- q is thrown over the frame at pc -/
def GT (g : GE) (own : String) (cc : ByteArray) (nL : Nat) (ret : Option FieldType) (XT : Method → Code → Prop) (rm : Room) (Z : ZT) (cells slots : Nat) (ω : Om) (z pc : Nat) (L : List (Nat × Value)) (q : Nat) : Prop :=
  ∀ (p : Program) (e : Env) (s : State) (m : MethodId) (args : Array Value) (below : List Frame) (meth : Method) (c : Code) (H : Heap) (locs : List Loc) (ls : Array Slot) (rest : List Value),
    CallFix p m c cc nL s args lw_all own → meth.sig.returnType = ret → meth.locks = false → XT meth c → Wd g ω z s H locs → lv_has ls nL L →
    vx_W p g.1 e rm s m args below meth c H locs cells slots (Z below args s) (F0 m pc ls rest) q
theorem CtX.at {g : GE} {y : MethodName} {own : String} {cc : ByteArray} {nL : Nat} {ret : Option FieldType} {d mc ms : Nat} {av : List Value} {L : List (Nat × Value)} {ω : Om} {z : Nat} {Q : Option Value → Om → Nat → Prop} {E0 : String} {QX : Nat → Om → Nat → Prop} (hy : plainName y.cls = true) (ho : y.cls = own) (hn : (lg_sl av).length ≤ nL) (hL : lv_args 0 av = L)
    (h : G g own cc nL ret noT (rmD d mc ms) (zX g Q E0 QX mc ms) 0 0 ω z 0 L []) : CtX g y cc nL ret d mc ms av ω z Q E0 QX := by
  subst hL; subst ho
  refine vx_ofW (cc := cc) (maxL := nL) (ret := ret) hy rfl ?_
  intro p e s m args below meth c s₁ B hml hT hv
  obtain ⟨rfl, hW⟩ := hv
  have hts := atoms_spec (ws := ws_ y cc nL ret) B.pre
  have hts : ∀ w ∈ lw_all, w.before _ s = true := fun w h => hts w (List.mem_cons_of_mem _ h)
  have hl := lv_entry av (n := nL) hn
  rw [lg_entry_eq]
  exact h p e s m _ below meth c s.heap [] _ ⟨B.exec, B.bytes, hml, findClass_of_methodNamed B.named, hts⟩ B.returns B.notSynchronized hT (Wd.of hW) hl
theorem CtW.at {g : GE} {y : MethodName} {own : String} {cc : ByteArray} {nL : Nat} {ret : Option FieldType} {hh : List (Nat × Nat × Nat × Nat)} {d mc ms : Nat} {av : List Value} {L : List (Nat × Value)} {ω : Om} {z : Nat} {Q : Option Value → Om → Nat → Prop} (hy : plainName y.cls = true) (ho : y.cls = own) (hn : (lg_sl av).length ≤ nL) (hL : lv_args 0 av = L)
    (h : G g own cc nL ret (hasT hh) (rmD d mc ms) (zN g Q mc ms) 0 0 ω z 0 L []) : CtW g y cc nL ret hh d mc ms av ω z Q := by
  subst hL; subst ho
  refine va_MetW (cc := cc) (maxL := nL) (ret := ret) (hh := hh) hy rfl ?_
  intro p e s m args below meth c s₁ B hml hv
  obtain ⟨rfl, hW⟩ := hv
  have hts := atoms_spec (ws := wsW_ y cc nL ret hh) B.pre
  have hT := vx_table (x := y) B (hts _ List.mem_cons_self)
  have hts : ∀ w ∈ lw_all, w.before _ s = true := fun w h => hts w (List.mem_cons_of_mem _ h)
  have hl := lv_entry av (n := nL) hn
  rw [lg_entry_eq]
  exact h p e s m _ below meth c s.heap [] _ ⟨B.exec, B.bytes, hml, findClass_of_methodNamed B.named, hts⟩ B.returns B.notSynchronized hT (Wd.of hW) hl
section GX
variable {g : GE} {own : String} {cc : ByteArray} {nL : Nat} {ret : Option FieldType} {XT : Method → Code → Prop} {rm : Room} {Z : ZT} {cells slots : Nat} {ω : Om} {z pc : Nat} {L : List (Nat × Value)} {rest : List Value}
theorem g_toX {S : List Value} {Q : Option Value → Om → Nat → Prop} {E0 : String} {QX : Nat → Om → Nat → Prop} {mc ms : Nat} (h : G g own cc nL ret XT rm (zN g Q mc ms) cells slots ω z pc L S) : G g own cc nL ret XT rm (zX g Q E0 QX mc ms) cells slots ω z pc L S := fun p e s m args below meth c H locs ls C hr hk hx hW hl => vx_ret (h p e s m args below meth c H locs ls C hr hk hx hW hl)
theorem gt_out {Q : Option Value → Om → Nat → Prop} {E0 : String} {QX : Nat → Om → Nat → Prop} {mc ms q ci N : Nat} {T : u_T} {fs : List Value} (hc : vwCl[ci]? = some (E0, T, N)) (hq : ω q = some (.inr (ci, fs))) (hQ : QX q ω z) (h1 : cells ≤ mc) (h2 : slots ≤ ms) : GT g own cc nL ret noT rm (zX g Q E0 QX mc ms) cells slots ω z pc L q := by
  intro p e s m args below meth c H locs ls rest C1 hr hk hx hW hl
  obtain ⟨r, -, cell, q1, q2, q3, q4⟩ := hW.2.1 q _ hq
  obtain ⟨cell', r1, r2, r3⟩ := va_recv (q := (E0, T, N)) (q0 := 0) hW.1 (va_P1 (hW.2.1 q _ hq)) hc rfl
  cases Option.some.inj (q1.symm.trans r1)
  exact vx_out (fun x h => (hx x h).elim) hk q1 q3 r3 (fun t ht hw => ⟨rfl, ω, z, hQ, (hW.end ht hw).1, (hW.end ht hw).2⟩) hW.2.2.2.1.2.2 h1 h2
theorem g_athrow {q : Nat} (hd : decode cc pc = .ok (.athrow, 1)) (k : GT g own cc nL ret XT rm Z cells slots ω z pc L q) : G g own cc nL ret XT rm Z cells slots ω z pc L (.ref q :: rest) := fun p e s m args below meth c H locs ls C hr hk hx hW hl => vx_athrow C.1 C.2.1 hd (k p e s m args below meth c H locs ls rest C hr hk hx hW hl)
/-- caught by a handler of the method's table -/
theorem gt_catch {hh : List (Nat × Nat × Nat × Nat)} {E0 : String} {q ci N : Nat} {T : u_T} {fs : List Value} (hg : gW g) (pre : List ExceptionTableEntry) (x : ExceptionTableEntry) (suf : List ExceptionTableEntry) (hsplit : tableOf hh = pre ++ x :: suf) (hpass : ∀ z ∈ pre, covers z pc = false) (hcov : covers x pc = true) (h0 : x.catchType ≠ 0)
    (hlink : Cond.classLink own x.catchType E0 ∈ lw_all) (hcast : Cond.castable E0 E0 ∈ lw_tbl) (hc : vwCl[ci]? = some (E0, T, N)) (hq : ω q = some (.inr (ci, fs))) (k : G g own cc nL ret (hasT hh) rm Z cells slots ω z x.handlerPc L [.ref q]) : GT g own cc nL ret (hasT hh) rm Z cells slots ω z pc L q := by
  intro p e s m args below meth c H locs ls rest C1 hr hk hx hW hl
  obtain ⟨r, -, cell, q1, q2, q3, q4⟩ := hW.2.1 q _ hq
  obtain ⟨cell', r1, r2, r3⟩ := va_recv (q := (E0, T, N)) (q0 := 0) hW.1 (va_P1 (hW.2.1 q _ hq)) hc rfl
  cases Option.some.inj (q1.symm.trans r1)
  exact vx_catch C1.2.2.2.1 pre x suf (by rw [show c.exceptionTable.toList = tableOf hh from hx]; exact hsplit) (fun z hz => .inl (hpass z hz)) hcov h0 (C1.2.2.2.2 _ hlink) (va_Nw.use rfl (hg s hW.2.2.2.2.2.2 _ hcast rfl)) q1 q3 r3 (k p e s m args below meth c H locs ls C1 hr hk hx hW hl)
/-- behind a call of a method that may throw -/
theorem gx_behind {p : Program} {e : Env} {s : State} {m : MethodId} {args : Array Value} {below : List Frame} {meth : Method} {c : Code} {H : Heap} {locs : List Loc} {ls : Array Slot} {mc ms : Nat} {st0 : List Value} {a : Array Value} {Q : Option Value → Om → Nat → Prop} {E0 : String} {QX : Nat → Om → Nat → Prop}
    (C : CallFix p m c cc nL s args lw_all own) (hr : meth.sig.returnType = ret) (hk : meth.locks = false) (hx : XT meth c) (hW : Wd g ω z s H locs) (hl : lv_has ls nL L)
    (hrun : vx_Run p g.1 e rm s m args below meth c H locs cells slots mc ms (F0 m pc ls st0) rest (QR g Q a) (xr g E0 QX) (gA g))
    (kx : ∀ q ω1 z1, QX q ω1 z1 → GT g own cc nL ret XT rm Z (cells + mc) (slots + ms) ω1 z1 pc L q)
    (k : ∀ v ω1 z1, Q v ω1 z1 → G g own cc nL ret XT rm Z (cells + mc) (slots + ms) ω1 z1 (pc + 3) L (v.toList ++ rest)) : W p g.1 e rm s m args below meth c H locs cells slots (Z below args s) (F0 m pc ls st0) := by
  intro T hT X
  have hS := hW.2.2.2.1
  rcases hrun T hT X with ⟨v, st₀, t, T', Lc, h0, X', hL, e1, e2, ⟨v', ω1, z1, hv, hQ, hWt, hF⟩, st⟩ | ⟨q, st₀, t, T', Lc, E, ce, h0, X', hL, e1, e2, ⟨-, ω1, z1, hQ, hWt, hF⟩, hce, hcv, hcl, st⟩
  · cases hv
    rw [va_F, h0] at hF
    obtain ⟨t2, a1, b1⟩ := k v ω1 z1 hQ p e s m args below meth c t.heap (locs ++ Lc) ls C hr hk hx (hW.move hWt.2.1 hWt.2.2.1 ⟨Nat.le_trans hS.1 hF.1, fun q h1 h2 => by rw [hF.2 q (Nat.lt_of_lt_of_le h1 hS.1) h2]; exact hS.2.1 q h1 h2, fun q hq => by
        rcases List.mem_append.mp hq with h | h
        · exact hS.2.2 q h
        · exact hL q h⟩) hl T' e1 X'
    exact ⟨t2, st t2 a1, b1⟩
  · rw [va_F, h0] at hF
    obtain ⟨t2, a1, b1⟩ := kx q ω1 z1 hQ p e s m args below meth c t.heap (locs ++ Lc) ls rest C hr hk hx (hW.move hWt.2.1 hWt.2.2.1 ⟨Nat.le_trans hS.1 hF.1, fun q h1 h2 => by rw [hF.2 q (Nat.lt_of_lt_of_le h1 hS.1) h2]; exact hS.2.1 q h1 h2, fun q hq => by
        rcases List.mem_append.mp hq with h | h
        · exact hS.2.2 q h
        · exact hL q h⟩) hl T' e1 X'
    exact ⟨t2, st.trans a1, b1⟩
/-- a call of an instance method that may throw -/
theorem gx_callVX {C : String} {T : u_T} {N ci index : Nat} {y : MethodName} {b2 : ByteArray} {maxL : Nat} {r2 : Option FieldType} {d d2 mc ms mc2 ms2 n : Nat} {As : List Value} {b : Nat} {fs : List Value} {Q : Option Value → Om → Nat → Prop} {E0 : String} {QX : Nat → Om → Nat → Prop} (hM : CtX g y b2 maxL r2 d2 mc2 ms2 (.ref b :: As) ω z Q E0 QX)
    (hw : GoodIn lw_all (wsV own index C y (ws_ y b2 maxL r2))) (hy : y.cls = C ∧ y.cls ≠ "java/lang/invoke/MethodHandle" ∧ y.cls ≠ "java/lang/invoke/VarHandle" ∧ (parseMethodDescriptor y.desc).map (fun d => d.parameters.length) = some n)
    (hc : vwCl[ci]? = some (C, T, N)) (hq : ω b = some (.inr (ci, fs))) (hn : As.length = n) {st0 : List Value} (hst : st0 = As.reverse ++ .ref b :: rest) (hdd : d2 + 1 ≤ d ∧ maxL ≤ 40) (hf : cells + mc2 ≤ mc ∧ slots + ms2 ≤ ms) (hro : (rest.map fun v => v.category).sum ≤ 8) (hd : decode cc pc = .ok (.invokevirtual index, 3))
    (kx : ∀ q ω1 z1, QX q ω1 z1 → GT g own cc nL ret XT (rmD d mc ms) Z (cells + mc2) (slots + ms2) ω1 z1 pc L q)
    (k : ∀ v ω1 z1, Q v ω1 z1 → G g own cc nL ret XT (rmD d mc ms) Z (cells + mc2) (slots + ms2) ω1 z1 (pc + 3) L (v.toList ++ rest)) : G g own cc nL ret XT (rmD d mc ms) Z cells slots ω z pc L st0 := by
  intro p e s m args below meth c H locs ls C1 hr hk hx hW hl
  subst hst
  have hrec : ∃ cell : Cell, H[b]? = some cell ∧ cell.vm.isStatics = false ∧ s.vm.findClass C = some cell.cls := va_recv (q := (C, T, N)) (q0 := 0) hW.1 (va_P1 (hW.2.1 b _ hq)) hc rfl
  exact gx_behind C1 hr hk hx hW hl (vx_runV (As := As) (rest := rest) C1 hM (cwV n C1.2.2.2.2 hw rfl rfl rfl hy ⟨hdd.1, by show 8 + (maxL + 11) + 64 * d2 ≤ 64 * d; omega⟩) ⟨Wt.blind, hrec, fun U hU hw => ⟨rfl, hW.to hU hw⟩⟩ rfl hn hl.1 rfl (lv_room hro) hd hf) kx k
theorem gx_callSX {index : Nat} {y : MethodName} {b2 : ByteArray} {maxL : Nat} {r2 : Option FieldType} {d d2 mc ms mc2 ms2 n : Nat} {As : List Value} {Q : Option Value → Om → Nat → Prop} {E0 : String} {QX : Nat → Om → Nat → Prop} (hM : CtX g y b2 maxL r2 d2 mc2 ms2 As ω z Q E0 QX)
    (hw : GoodIn lw_all (va_wsS own index y (ws_ y b2 maxL r2))) (hy : y.cls ≠ "java/lang/invoke/MethodHandle" ∧ y.cls ≠ "java/lang/invoke/VarHandle" ∧ (parseMethodDescriptor y.desc).map (fun d => d.parameters.length) = some n)
    (hn : As.length = n) {st0 : List Value} (hst : st0 = As.reverse ++ rest) (hdd : d2 + 1 ≤ d ∧ maxL ≤ 40) (hf : cells + mc2 ≤ mc ∧ slots + ms2 ≤ ms) (hro : (rest.map fun v => v.category).sum ≤ 8) (hd : decode cc pc = .ok (.invokestatic index, 3))
    (kx : ∀ q ω1 z1, QX q ω1 z1 → GT g own cc nL ret XT (rmD d mc ms) Z (cells + mc2) (slots + ms2) ω1 z1 pc L q)
    (k : ∀ v ω1 z1, Q v ω1 z1 → G g own cc nL ret XT (rmD d mc ms) Z (cells + mc2) (slots + ms2) ω1 z1 (pc + 3) L (v.toList ++ rest)) : G g own cc nL ret XT (rmD d mc ms) Z cells slots ω z pc L st0 := by
  intro p e s m args below meth c H locs ls C1 hr hk hx hW hl
  subst hst
  exact gx_behind C1 hr hk hx hW hl (vx_runS (As := As) (rest := rest) C1 hM (va_cwS n C1.2.2.2.2 hw rfl rfl rfl hy ⟨hdd.1, by show 8 + (maxL + 11) + 64 * d2 ≤ 64 * d; omega⟩) ⟨Wt.blind, fun U hU hw => ⟨rfl, hW.to hU hw⟩⟩ rfl hn hl.1 rfl (lv_room hro) hd hf) kx k
/-- a call of an instance method with handlers that returns -/
theorem g_callVW {C : String} {T : u_T} {N ci index : Nat} {y : MethodName} {b2 : ByteArray} {maxL : Nat} {r2 : Option FieldType} {hh : List (Nat × Nat × Nat × Nat)} {d d2 mc ms mc2 ms2 n : Nat} {As : List Value} {b : Nat} {fs : List Value} {Q : Option Value → Om → Nat → Prop} (hM : CtW g y b2 maxL r2 hh d2 mc2 ms2 (.ref b :: As) ω z Q)
    (hw : GoodIn lw_all (wsV own index C y (wsW_ y b2 maxL r2 hh))) (hy : y.cls = C ∧ y.cls ≠ "java/lang/invoke/MethodHandle" ∧ y.cls ≠ "java/lang/invoke/VarHandle" ∧ (parseMethodDescriptor y.desc).map (fun d => d.parameters.length) = some n)
    (hc : vwCl[ci]? = some (C, T, N)) (hq : ω b = some (.inr (ci, fs))) (hn : As.length = n) {st0 : List Value} (hst : st0 = As.reverse ++ .ref b :: rest) (hdd : d2 + 1 ≤ d ∧ maxL ≤ 40) (hf : cells + mc2 ≤ mc ∧ slots + ms2 ≤ ms) (hro : (rest.map fun v => v.category).sum ≤ 8) (hd : decode cc pc = .ok (.invokevirtual index, 3))
    (k : ∀ v ω1 z1, Q v ω1 z1 → G g own cc nL ret XT (rmD d mc ms) Z (cells + mc2) (slots + ms2) ω1 z1 (pc + 3) L (v.toList ++ rest)) : G g own cc nL ret XT (rmD d mc ms) Z cells slots ω z pc L st0 := by
  intro p e s m args below meth c H locs ls C1 hr hk hx hW hl
  subst hst
  have hrec : ∃ cell : Cell, H[b]? = some cell ∧ cell.vm.isStatics = false ∧ s.vm.findClass C = some cell.cls := va_recv (q := (C, T, N)) (q0 := 0) hW.1 (va_P1 (hW.2.1 b _ hq)) hc rfl
  exact g_behind C1 hr hk hx hW hl (vx_runVW (As := As) (rest := rest) C1 hM (vx_cwVW n C1.2.2.2.2 hw rfl rfl rfl hy ⟨hdd.1, by show 8 + (maxL + 11) + 64 * d2 ≤ 64 * d; omega⟩) ⟨Wt.blind, hrec, fun U hU hw => ⟨rfl, hW.to hU hw⟩⟩ rfl hn hl.1 rfl (lv_room hro) hd hf) k
end GX
