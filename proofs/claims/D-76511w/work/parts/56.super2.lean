/-! a call of the class above whose method is inherited from the class above that one -/
set_option maxRecDepth 100000
theorem sub_one {s : State} {a b : ClassId} {k : Class} (hk : s.vm.classes[a]? = some k) (hs : k.super = some b) : s.vm.isSubclass a b = true := by
  have hlt : a < s.vm.classes.size := by
    rcases Nat.lt_or_ge a s.vm.classes.size with h | h
    · exact h
    · rw [Array.getElem?_eq_none h] at hk; cases hk
  obtain ⟨n, hn⟩ : ∃ n, s.vm.classes.size = n + 1 := ⟨_, (Nat.succ_pred_eq_of_pos (Nat.lt_of_le_of_lt (Nat.zero_le _) hlt)).symm⟩
  unfold Vm.isSubclass
  rw [hn]
  simp [Vm.isSubclassAux, hk, hs]
section S2
variable {p : Program} {l : Launch} {e : Env} {R : Room} {s : State} {m : MethodId} {args : Array Value} {below : List Frame} {meth : Method} {c : Code}
theorem callS2 {T : State} {locs : List Loc} {cells slots : Nat} (X : Stand p l e R s m args below meth c T locs cells slots) (hexec : p.tables.exec = Jvm.exec) {own : String} {index : Nat} {x y : MethodName} {bytes : ByteArray} {maxL : Nat} {ret : Option FieldType}
    (hxy : y = ⟨y.cls, x.name, x.desc⟩) (hown : s.vm.findClass own = some m.cls) (hlink : (Cond.methodLink own index x).before args s = true) (hsame : (Cond.sameMethod x.cls y.cls x.name x.desc).before args s = true) (hsup : (Cond.superclass own x.cls).before args s = true) (hsup2 : (Cond.superclass x.cls y.cls).before args s = true)
    (hinst : (Cond.instanceMethod y).before args s = true) (hcode : (Cond.code y bytes maxL ret).before args s = true) (hno : x.name ≠ "<init>")
    {W : Nat} {Pre : Pt → Array Value → Prop} {Post : Pt → Array Value → Option Value → Pt → Prop} (hK : Back l R p e below s args y 3 W Pre Post)
    {b : Addr} {cellB : Cell} {kB : Class} (hcell : T.heap[b]? = some cellB) (hobj : cellB.vm.isStatics = false) (hkB : s.vm.classes[cellB.cls]? = some kB)
    {g : JFrame} (hg : g.method = m) (hsize : g.locals.size = c.maxLocals) {argsL rest : List Value} (hlen : ∀ sig, parseMethodDescriptor y.desc = some sig → argsL.length = sig.parameters.length)
    (hstack : g.stack = argsL.reverse ++ .ref b :: rest) (hW : 2 * g.monitorRoom + (rest.map fun v => v.category).sum ≤ W) (hdg : decode c.code g.pc = .ok (.invokespecial index, 3))
    (hpre : ∀ vm₁, s.WarmedH vm₁ → Pre ⟨T.setVm vm₁, locs, cells, slots⟩ (Value.ref b :: argsL).toArray) :
    ∃ (v : Option Value) (vm₁ : Vm) (B : Pt), s.WarmedH vm₁ ∧ Stand p l e R s m args below meth c B.U B.locs B.cells B.slots ∧ Post ⟨T.setVm vm₁, locs, cells, slots⟩ (Value.ref b :: argsL).toArray v B ∧
      ∀ target, Steps p.tables e below (B.U.setTop { g with pc := g.pc + 3, stack := v.toList ++ rest }) target → Steps p.tables e below (T.setTop g) target := by
  obtain ⟨mk, methM, hnamed, hmethM, hstM, habM⟩ := Cond.instanceMethod_spec hinst
  obtain ⟨methM', cM, hmethM', -, -, -, -, -, -, hsigM⟩ := Cond.code_spec hnamed hcode
  cases hmethM.symm.trans hmethM'
  obtain ⟨ps, dk, kp, hps, hdk, hkp, hsuper, -, -, hnid⟩ := Cond.superclass_spec hown hsup
  obtain ⟨ps2, dk2, kp2, hps2, hdk2, hkp2, hsuper2, -, -, -⟩ := Cond.superclass_spec hps hsup2
  have hn : s.methodNamed? ⟨y.cls, x.name, x.desc⟩ = some mk := by rw [← hxy]; exact hnamed
  have hpm : ps2 = mk.cls := Option.some.inj (hps2.symm.trans (findClass_of_methodNamed hnamed))
  have hsub : s.vm.isSubclass ps mk.cls = true := by rw [← hpm]; exact sub_one hdk2 hsuper2
  obtain ⟨vm₁, X₁, hstep₁⟩ := X.invokespecialUp hexec hown hlink hsame hn hmethM hstM habM hno hdk hnid hps hsuper hsub (a := b) (cell := cellB) hcell
    (fun z h => by rw [h] at hobj; cases hobj) hkB (g := g) hg (argsL := argsL) (rest := rest) (hlen _ hsigM) hstack hdg
  obtain ⟨v, B, X', hpost, hsteps⟩ := hK m meth c ⟨T.setVm vm₁, locs, cells, slots⟩ { g with stack := rest } (.invokespecial index) mk (Value.ref b :: argsL).toArray X₁ hg hsize hdg hW (X₁.named hnamed) (hpre vm₁ X₁.warmed)
  exact ⟨v, vm₁, B, X₁.warmed, X', hpost, fun target h => hstep₁ _ (by rw [doInvoke_state]; exact hsteps.trans h)⟩
variable {H : Heap} {locs : List Loc} {cells slots : Nat}
theorem runS2 {x y : MethodName} {bytes cc : ByteArray} {maxL nL mc ms n index : Nat} {ret : Option FieldType} {ws : List Cond} {rm : Room} {Pc : Array Value → State → Prop} {Qc : Array Value → State → Outcome → State → Prop} {free : Addr → Prop} {Ts : List Cond} {own C : String} {cC : ClassId} {b : Addr} {As rest : List Value} {g : JFrame}
    (hat : ClassAt s C cC) (S : CallFix p m c cc nL s args Ts own) (hM : Met l y ws rm Pc Qc mc ms free) (hR : rm.cells = mc ∧ rm.slots = ms ∧ rm.frames + 1 ≤ R.frames ∧ 8 + (maxL + 11) + rm.locals ≤ R.locals) (hG : GoodIn Ts ws) (hcw : Cond.code y bytes maxL ret ∈ ws)
    (hxy : y = ⟨y.cls, x.name, x.desc⟩) (hl1 : Cond.methodLink own index x ∈ Ts) (hl2 : Cond.sameMethod x.cls y.cls x.name x.desc ∈ Ts) (hl3 : Cond.superclass own x.cls ∈ Ts) (hl3' : Cond.superclass x.cls y.cls ∈ Ts) (hl4 : Cond.instanceMethod y ∈ Ts) (hini0 : Cond.initialized y.cls ∈ Ts) (hno : x.name ≠ "<init>") (hlen : (parseMethodDescriptor y.desc).map (fun d => d.parameters.length) = some n)
    (hp : PreV s H C b Pc As)
    (hg : g.method = m) (hn : As.length = n) (hsize : g.locals.size = nL) (hstack : g.stack = As.reverse ++ .ref b :: rest) (hW : 2 * g.monitorRoom + (rest.map fun v => v.category).sum ≤ 8) (hdg : decode cc g.pc = .ok (.invokespecial index, 3)) (hf : cells + mc ≤ R.cells ∧ slots + ms ≤ R.slots) :
    va_Run p l e R s m args below meth c H locs cells slots mc ms g rest (Qc (Value.ref b :: As).toArray) (free) := by
  obtain ⟨hx, hb, hml, ho, hts⟩ := S
  have hini := hts _ hini0
  have hK : Back l R p e below s args y 3 8 (PreOf R mc ms Pc) (PostOf Qc mc ms free) := back_of (bytes := bytes) (maxL := maxL) (ret := ret) hM hp.1 hR.1 hR.2.1 hR.2.2.1 hR.2.2.2 (pay_in hts hG) hcw (fun a' U hW => word_at hW (Or.inl (by first | rfl | simp [Cond.onTables, Cond.keeps, Cond.steady])) hini)
  obtain ⟨-, ⟨cellB, hcB, hoB, hclB⟩, hPc⟩ := hp
  obtain ⟨hfc, kB, hkB, -⟩ := hat
  cases hfc.symm.trans hclB
  intro T hT X
  obtain ⟨v, vm₁, ⟨U', l2, c2, s2⟩, hW₁, X', ⟨g', mk, t, L, e1, e2, hq, h1, hL, h2, h3⟩, st⟩ := callS2 X hx (bytes := bytes) (maxL := maxL) (ret := ret) hxy ho (hts _ hl1) (hts _ hl2) (hts _ hl3) (hts _ hl3') (hts _ hl4) (hts _ (hG _ hcw).1) hno hK (by rw [hT]; exact hcB) hoB hkB hg (hsize.trans hml.symm) (argsL := As) (rest := rest) (fun sig h => by rw [h] at hlen; exact hn.trans (Option.some.inj hlen).symm) hstack hW (by rw [hb]; exact hdg)
    (fun vm₁ hW₁ => ⟨hf.1, hf.2, hPc (T.setVm vm₁) hT hW₁⟩)
  dsimp only [Pt.U, Pt.locs, Pt.cells, Pt.slots] at X' e1 e2 h1 h2 h3 st
  subst h1; subst h2; subst h3
  exact ⟨v, (T.setVm vm₁).calling g' mk (Value.ref b :: As).toArray, t, U', L, hT, X', hL, e1, e2, hq, st⟩
end S2
section RT
variable {g : GE} {own : String} {cc : ByteArray} {nL : Nat} {ret : Option FieldType} {XT : Method → Code → Prop} {rm : Room} {Z : ZT} {cells slots : Nat} {ω : Om} {z pc : Nat} {L : List (Nat × Value)} {rest : List Value}
theorem g_callU2 {C : String} {T : u_T} {N ci index : Nat} {x y : MethodName} {b2 : ByteArray} {maxL : Nat} {r2 : Option FieldType} {d d2 mc ms n : Nat} {As : List Value} {b : Nat} {fs : List Value} {v : Value} (hM : Ct g y b2 maxL r2 d2 0 0 (.ref b :: As) ω z (dQ (some v) ω z))
    (hxy : y = ⟨y.cls, x.name, x.desc⟩) (hl1 : Cond.methodLink own index x ∈ lw_all) (hl2 : Cond.sameMethod x.cls y.cls x.name x.desc ∈ lw_all) (hl3 : Cond.superclass own x.cls ∈ lw_all) (hl3' : Cond.superclass x.cls y.cls ∈ lw_all) (hl4 : Cond.instanceMethod y ∈ lw_all) (hini0 : Cond.initialized y.cls ∈ lw_all) (hcd : Cond.code y b2 maxL r2 ∈ lw_all) (hno : x.name ≠ "<init>") (hlen : (parseMethodDescriptor y.desc).map (fun d => d.parameters.length) = some n)
    (hc : vwCl[ci]? = some (C, T, N)) (hq : ω b = some (.inr (ci, fs))) (hn : As.length = n) {st0 : List Value} (hst : st0 = As.reverse ++ .ref b :: rest) (hdd : d2 + 1 ≤ d ∧ maxL ≤ 40) (hf : cells ≤ mc ∧ slots ≤ ms) (hro : (rest.map fun v => v.category).sum ≤ 8) (hd : decode cc pc = .ok (.invokespecial index, 3))
    (k : G g own cc nL ret XT (rmD d mc ms) Z cells slots ω z (pc + 3) L (v :: rest)) : G g own cc nL ret XT (rmD d mc ms) Z cells slots ω z pc L st0 := by
  intro p e s m args below meth c H locs ls C1 hr hk hx hW hl
  subst hst
  have hrec : ∃ cell : Cell, H[b]? = some cell ∧ cell.vm.isStatics = false ∧ s.vm.findClass C = some cell.cls := va_recv (q := (C, T, N)) (q0 := 0) hW.1 (va_P1 (hW.2.1 b _ hq)) hc rfl
  refine g_behind C1 hr hk hx hW hl (runS2 (As := As) (rest := rest) (bytes := b2) (maxL := maxL) (ret := r2) (hW.1.1 ci _ hc).2 C1 hM ⟨rfl, rfl, hdd.1, by show 8 + (maxL + 11) + 64 * d2 ≤ 64 * d; omega⟩ (lw_meth hcd) List.mem_cons_self hxy hl1 hl2 hl3 hl3' hl4 hini0 hno hlen ⟨Wt.blind, hrec, fun U hU hw => ⟨rfl, hW.to hU hw⟩⟩ rfl hn hl.1 rfl (lv_room hro) hd hf) ?_
  rintro v' ω1 z1 ⟨rfl, rfl, rfl⟩
  exact k
theorem g_castS {a : Nat} {nm : String} {T : u_T} {N ci index : Nat} {fs : List Value} (hlink : Cond.classLink own index nm ∈ lw_all) (hc : vwCl[ci]? = some (nm, T, N)) (hq : ω a = some (.inr (ci, fs))) (hd : decode cc pc = .ok (.checkcast index, 3)) (k : G g own cc nL ret XT rm Z cells slots ω z (pc + 3) L (.ref a :: rest)) : G g own cc nL ret XT rm Z cells slots ω z pc L (.ref a :: rest) :=
  fun p e s m args below meth c H locs ls C1 hr hk hx hW hl => va_castS C1.1 C1.2.1 C1.2.2.2.1 (C1.2.2.2.2 _ hlink) (hW.1.1 ci _ hc).2 (va_recv (q := (nm, T, N)) (q0 := 0) hW.1 (va_P1 (hW.2.1 a _ hq)) hc rfl) hd (k p e s m args below meth c H locs ls C1 hr hk hx hW hl)
end RT
