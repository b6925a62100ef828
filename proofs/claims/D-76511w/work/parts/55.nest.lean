/-! rows that need words outside lw_all: they come from gX (gW g); dispatch on an override -/
set_option maxRecDepth 100000
def nwk : Cond → Bool
  | .castable _ _ => true
  | .fieldLinkNest _ _ _ _ _ _ => true
  | .methodLinkNest _ _ _ _ => true
  | .declares _ => true
  | _ => false
/-- the words outside lw_all are at hand wherever gX holds -/
def gW (g : GE) : Prop := ∀ s, gX g s → ∀ w ∈ lw_tbl, nwk w = true → va_Nw w s
section RN
variable {g : GE} {own : String} {cc : ByteArray} {nL : Nat} {ret : Option FieldType} {XT : Method → Code → Prop} {rm : Room} {Z : ZT} {cells slots : Nat} {ω : Om} {z pc : Nat} {L : List (Nat × Value)} {rest : List Value}
theorem g_getN {a : Nat} {ref C host : String} {T : u_T} {N ci index : Nat} {fs : List Value} {v : Value} (hg : gW g) (k0 : Nat) (hin : ∀ w ∈ u_ws C T N, w ∈ lw_all) (hc : vwCl[ci]? = some (C, T, N)) (hk0 : k0 < N) (hlink : Cond.fieldLinkNest own index ref (T k0).2.1 (T k0).2.2.1 host ∈ lw_tbl) (href : ref = (T k0).1) (hq : ω a = some (.inr (ci, fs))) (hv : fs[k0]? = some v) (hd : decode cc pc = .ok (.getfield index, 3)) (k : G g own cc nL ret XT rm Z cells slots ω z (pc + 3) L (v :: rest)) : G g own cc nL ret XT rm Z cells slots ω z pc L (.ref a :: rest) :=
  fun p e s m args below meth c H locs ls C1 hr hk hx hW hl => va_getN (q0 := 0) C1.1 C1.2.1 C1.2.2.2.2 hin C1.2.2.2.1 hW.1 (va_P1 (hW.2.1 a _ hq)) rfl hc k0 hk0 (va_Nw.use rfl (hg s hW.2.2.2.2.2.2 _ hlink rfl)) (fun x hx => by rw [href]; exact hx) hv hd (k p e s m args below meth c H locs ls C1 hr hk hx hW hl)
theorem g_cast {a : Nat} {C nm : String} {T : u_T} {N ci index : Nat} {fs : List Value} (hg : gW g) (hlink : Cond.classLink own index nm ∈ lw_all) (hca : Cond.castable C nm ∈ lw_tbl) (hc : vwCl[ci]? = some (C, T, N)) (hq : ω a = some (.inr (ci, fs))) (hd : decode cc pc = .ok (.checkcast index, 3)) (k : G g own cc nL ret XT rm Z cells slots ω z (pc + 3) L (.ref a :: rest)) : G g own cc nL ret XT rm Z cells slots ω z pc L (.ref a :: rest) :=
  fun p e s m args below meth c H locs ls C1 hr hk hx hW hl => va_castY C1.1 C1.2.1 C1.2.2.2.1 (C1.2.2.2.2 _ hlink) (hg s hW.2.2.2.2.2.2 _ hca rfl) (va_recv (q := (C, T, N)) (q0 := 0) hW.1 (va_P1 (hW.2.1 a _ hq)) hc rfl) hd (k p e s m args below meth c H locs ls C1 hr hk hx hW hl)
theorem g_inst {a : Nat} {C nm : String} {T : u_T} {N ci index : Nat} {fs : List Value} (hg : gW g) (hlink : Cond.classLink own index nm ∈ lw_all) (hca : Cond.castable C nm ∈ lw_tbl) (hc : vwCl[ci]? = some (C, T, N)) (hq : ω a = some (.inr (ci, fs))) (hd : decode cc pc = .ok (.instanceof index, 3)) (k : G g own cc nL ret XT rm Z cells slots ω z (pc + 3) L (.int 1 :: rest)) : G g own cc nL ret XT rm Z cells slots ω z pc L (.ref a :: rest) :=
  fun p e s m args below meth c H locs ls C1 hr hk hx hW hl => va_instY C1.1 C1.2.1 C1.2.2.2.1 (C1.2.2.2.2 _ hlink) (hg s hW.2.2.2.2.2.2 _ hca rfl) (va_recv (q := (C, T, N)) (q0 := 0) hW.1 (va_P1 (hW.2.1 a _ hq)) hc rfl) hd (k p e s m args below meth c H locs ls C1 hr hk hx hW hl)
end RN
theorem lw_O {own C owner : String} {idx : Nat} {x y : MethodName} {b : ByteArray} {L : Nat} {r : Option FieldType} (h1 : Cond.methodLink own idx x ∈ lw_all) (h2 : Cond.sameMethod x.cls owner x.name x.desc ∈ lw_all) (h3 : Cond.instanceMethod ⟨owner, x.name, x.desc⟩ ∈ lw_all) (h4 : Cond.selects C x y ∈ lw_all) (h5 : Cond.instanceMethod y ∈ lw_all) (h6 : Cond.initialized y.cls ∈ lw_all) (h7 : Cond.code y b L r ∈ lw_all) : GoodIn lw_all (va_wsO own idx C owner x y (ws_ y b L r)) := by
  refine lw_app ?_ (lw_meth h7)
  intro w hw
  simp only [List.mem_cons, List.not_mem_nil, or_false] at hw
  rcases hw with e | e | e | e | e | e
  · rw [e]; exact h1
  · rw [e]; exact h2
  · rw [e]; exact h3
  · rw [e]; exact h4
  · rw [e]; exact h5
  · rw [e]; exact h6
section RO
variable {g : GE} {own : String} {cc : ByteArray} {nL : Nat} {ret : Option FieldType} {XT : Method → Code → Prop} {Z : ZT} {cells slots : Nat} {ω : Om} {z pc : Nat} {L : List (Nat × Value)} {rest : List Value}
/-- a call of x on an object of class C whose own (or inherited) method is y; the world stays -/
theorem gd_callO {C owner : String} {T : u_T} {N ci index : Nat} {x y : MethodName} {b2 b0 : ByteArray} {maxL m0 : Nat} {r2 r0 : Option FieldType} {d d2 mc ms n : Nat} {As : List Value} {b : Nat} {fs : List Value} {v : Value} (hM : Ct g y b2 maxL r2 d2 0 0 (.ref b :: As) ω z (dQ (some v) ω z))
    (hw : GoodIn lw_all (va_wsO own index C owner x y (ws_ y b2 maxL r2))) (h0 : Cond.code ⟨owner, x.name, x.desc⟩ b0 m0 r0 ∈ lw_all) (hy : owner ≠ "java/lang/invoke/MethodHandle" ∧ owner ≠ "java/lang/invoke/VarHandle" ∧ (parseMethodDescriptor x.desc).map (fun d => d.parameters.length) = some n)
    (hc : vwCl[ci]? = some (C, T, N)) (hq : ω b = some (.inr (ci, fs))) (hn : As.length = n) {st0 : List Value} (hst : st0 = As.reverse ++ .ref b :: rest) (hdd : d2 + 1 ≤ d ∧ maxL ≤ 40) (hf : cells ≤ mc ∧ slots ≤ ms) (hro : (rest.map fun v => v.category).sum ≤ 8) (hd : decode cc pc = .ok (.invokevirtual index, 3))
    (k : G g own cc nL ret XT (rmD d mc ms) Z cells slots ω z (pc + 3) L (v :: rest)) : G g own cc nL ret XT (rmD d mc ms) Z cells slots ω z pc L st0 := by
  intro p e s m args below meth c H locs ls C1 hr hk hx hW hl
  subst hst
  have hrec : ∃ cell : Cell, H[b]? = some cell ∧ cell.vm.isStatics = false ∧ s.vm.findClass C = some cell.cls := va_recv (q := (C, T, N)) (q0 := 0) hW.1 (va_P1 (hW.2.1 b _ hq)) hc rfl
  refine g_behind C1 hr hk hx hW hl (va_runU (As := As) (rest := rest) C1 hM (va_cwO n C1.2.2.2.2 hw rfl rfl rfl h0 hy ⟨hdd.1, by show 8 + (maxL + 11) + 64 * d2 ≤ 64 * d; omega⟩) ⟨Wt.blind, hrec, fun U hU hw => ⟨rfl, hW.to hU hw⟩⟩ rfl hn hl.1 rfl (lv_room hro) hd hf) ?_
  rintro v' ω1 z1 ⟨rfl, rfl, rfl⟩
  exact k
end RO
