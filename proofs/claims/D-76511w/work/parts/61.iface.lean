/-! calls through an interface -/
set_option maxRecDepth 100000
section RI
variable {g : GE} {own : String} {cc : ByteArray} {nL : Nat} {ret : Option FieldType} {XT : Method → Code → Prop} {rm : Room} {Z : ZT} {cells slots : Nat} {ω : Om} {z pc : Nat} {L : List (Nat × Value)} {rest : List Value}
theorem g_behind5 {p : Program} {e : Env} {s : State} {m : MethodId} {args : Array Value} {below : List Frame} {meth : Method} {c : Code} {H : Heap} {locs : List Loc} {ls : Array Slot} {mc ms : Nat} {st0 : List Value} {a : Array Value} {Q : Option Value → Om → Nat → Prop}
    (C : CallFix p m c cc nL s args lw_all own) (hr : meth.sig.returnType = ret) (hk : meth.locks = false) (hx : XT meth c) (hW : Wd g ω z s H locs) (hl : lv_has ls nL L)
    (hrun : va_Run5 p g.1 e rm s m args below meth c H locs cells slots mc ms (F0 m pc ls st0) rest (QR g Q a) (gA g))
    (k : ∀ v ω1 z1, Q v ω1 z1 → G g own cc nL ret XT rm Z (cells + mc) (slots + ms) ω1 z1 (pc + 5) L (v.toList ++ rest)) : W p g.1 e rm s m args below meth c H locs cells slots (Z below args s) (F0 m pc ls st0) := by
  intro T hT X
  obtain ⟨v, st₀, t, T', Lc, h0, X', hL, e1, e2, ⟨v', ω1, z1, hv, hQ, hWt, hF⟩, st⟩ := hrun T hT X
  cases hv
  rw [va_F, h0] at hF
  have hS := hW.2.2.2.1
  obtain ⟨t2, a1, b1⟩ := k v ω1 z1 hQ p e s m args below meth c t.heap (locs ++ Lc) ls C hr hk hx (hW.move hWt.2.1 hWt.2.2.1 ⟨Nat.le_trans hS.1 hF.1, fun q h1 h2 => by rw [hF.2 q (Nat.lt_of_lt_of_le h1 hS.1) h2]; exact hS.2.1 q h1 h2, fun q hq => by
      rcases List.mem_append.mp hq with h | h
      · exact hS.2.2 q h
      · exact hL q h⟩) hl T' e1 X'
  exact ⟨t2, st t2 a1, b1⟩
/-- a call through an interface; the world stays -/
theorem gd_callF {C : String} {T : u_T} {N ci index count : Nat} {x y : MethodName} {b2 : ByteArray} {maxL : Nat} {r2 : Option FieldType} {d d2 mc ms n : Nat} {As : List Value} {b : Nat} {fs : List Value} {v : Value} (hM : Ct g y b2 maxL r2 d2 0 0 (.ref b :: As) ω z (dQ (some v) ω z))
    (hw : GoodIn lw_all (va_wsF own index C x y (ws_ y b2 maxL r2))) (hF : ∀ s, gX g s → va_Fw C x y s) (hy : x.cls ≠ "java/lang/invoke/MethodHandle" ∧ x.cls ≠ "java/lang/invoke/VarHandle" ∧ (parseMethodDescriptor x.desc).map (fun d => d.parameters.length) = some n)
    (hc : vwCl[ci]? = some (C, T, N)) (hq : ω b = some (.inr (ci, fs))) (hn : As.length = n) {st0 : List Value} (hst : st0 = As.reverse ++ .ref b :: rest) (hdd : d2 + 1 ≤ d ∧ maxL ≤ 40) (hf : cells ≤ mc ∧ slots ≤ ms) (hro : (rest.map fun v => v.category).sum ≤ 8) (hd : decode cc pc = .ok (.invokeinterface index count, 5))
    (k : G g own cc nL ret XT (rmD d mc ms) Z cells slots ω z (pc + 5) L (v :: rest)) : G g own cc nL ret XT (rmD d mc ms) Z cells slots ω z pc L st0 := by
  intro p e s m args below meth c H locs ls C1 hr hk hx hW hl
  subst hst
  have hrec : ∃ cell : Cell, H[b]? = some cell ∧ cell.vm.isStatics = false ∧ s.vm.findClass C = some cell.cls := va_recv (q := (C, T, N)) (q0 := 0) hW.1 (va_P1 (hW.2.1 b _ hq)) hc rfl
  refine g_behind5 C1 hr hk hx hW hl (va_runF (As := As) (rest := rest) (hW.1.1 ci _ hc).2 C1 hM (va_cwF n C1.2.2.2.2 hw rfl rfl rfl (hF s hW.2.2.2.2.2.2) hy ⟨hdd.1, by show 8 + (maxL + 11) + 64 * d2 ≤ 64 * d; omega⟩) ⟨Wt.blind, hrec, fun U hU hw => ⟨rfl, hW.to hU hw⟩⟩ rfl hn hl.1 rfl (lv_room hro) hd hf) ?_
  rintro v' ω1 z1 ⟨rfl, rfl, rfl⟩
  exact k
end RI
