/-! rows that make cells; constructors -/
set_option maxRecDepth 100000
theorem WO.new {g : GE} {ω : Om} {z : Nat} {e : va_E} {H H1 : Heap} (h : WO g ω H) (hz : H.size = z) (he : va_at g.2.1 vwCl (z, e) H1) (oq : ∀ q : Nat, q < z → H1[q]? = H[q]?) : WO g (oset ω z e) H1 := by
  intro q e' hq
  unfold oset at hq
  by_cases hqa : q = z
  · subst hqa
    rw [if_pos rfl] at hq
    cases hq
    exact he
  · rw [if_neg hqa] at hq
    have h1 := h q e' hq
    exact h1.kept (oq q (by rw [← hz]; exact h1.lt))
theorem WO.none {g : GE} {ω : Om} {H : Heap} (h : WO g ω H) {q : Nat} (hq : H.size ≤ q) : ω q = none := by
  cases he : ω q with
  | none => rfl
  | some e => exact absurd (h q e he).lt (by show ¬ q < _; omega)
theorem Wd.mk1 {g : GE} {ω : Om} {z : Nat} {s : State} {H H1 : Heap} {locs : List Loc} {e : va_E} (h : Wd g ω z s H locs) (he : va_at g.2.1 vwCl (z, e) H1) (z1 : H1.size = z + 1) (oq : ∀ q : Nat, q < z → H1[q]? = H[q]?) : Wd g (oset ω z e) (z + 1) s H1 locs := by
  have hS := h.2.2.2.1
  have hz := h.2.2.1
  exact h.move (h.2.1.new hz he oq) z1 ⟨Nat.le_trans hS.1 (by omega), fun x h1 h2 => (oq x (by rw [← hz]; exact Nat.lt_of_lt_of_le h1 hS.1)).trans (hS.2.1 x h1 h2), hS.2.2⟩
def isInit : Method → Code → Prop := fun meth _ => meth.name = "<init>"
theorem Ct.atI {g : GE} {y : MethodName} {own : String} {cc : ByteArray} {nL : Nat} {ret : Option FieldType} {d mc ms : Nat} {av : List Value} {L : List (Nat × Value)} {ω : Om} {z : Nat} {Q : Option Value → Om → Nat → Prop} (hy : plainName y.cls = true) (ho : y.cls = own) (hi : y.name = "<init>") (hn : (lg_sl av).length ≤ nL) (hL : lv_args 0 av = L)
    (h : G g own cc nL ret isInit (rmD d mc ms) (zN g Q mc ms) 0 0 ω z 0 L []) : Ct g y cc nL ret d mc ms av ω z Q := by
  subst hL; subst ho
  refine Met.ofW (cc := cc) (maxL := nL) (ret := ret) hy rfl ?_
  intro p e s m args below meth c s₁ B hml hv
  obtain ⟨rfl, hW⟩ := hv
  have hts := atoms_spec (ws := ws_ y cc nL ret) B.pre
  have hts : ∀ w ∈ lw_all, w.before _ s = true := fun w h => hts w (List.mem_cons_of_mem _ h)
  have hl := lv_entry av (n := nL) hn
  rw [lg_entry_eq]
  exact h p e s m _ below meth c s.heap [] _ ⟨B.exec, B.bytes, hml, findClass_of_methodNamed B.named, hts⟩ B.returns B.notSynchronized ((name_of_methodNamed B.named B.method).1.trans hi) (Wd.of hW) hl
section GR
variable {g : GE} {own : String} {cc : ByteArray} {nL : Nat} {ret : Option FieldType} {XT : Method → Code → Prop} {Z : ZT} {d mc ms cells slots : Nat} {ω : Om} {z pc : Nat} {L : List (Nat × Value)} {rest : List Value}
theorem g_newI {i : Int32} (N : Nat) (hi : i = nI N) (hN : N < 100000) (hf : cells + 1 ≤ mc ∧ slots + N ≤ ms) (hw : Cond.arrayClass .int ∈ lw_all) (hd : decode cc pc = .ok (.newarray .int, 2)) (k : G g own cc nL ret XT (rmD d mc ms) Z (cells + 1) (slots + N) (oset ω z (.inl (g.2.2.1 0, N, .inl (fun _ => 0)))) (z + 1) (pc + 2) L (.ref z :: rest)) : G g own cc nL ret XT (rmD d mc ms) Z cells slots ω z pc L (.int i :: rest) := by
  intro p e s m args below meth c H locs ls C hr hk hx hW hl
  subst hi
  refine va_newaK C.1 C.2.1 (atype := .int) (C.2.2.2.2 _ hw) rfl hd rfl (nI_pos (by omega)) (nI_clamp (by omega)) (by show N * 4 ≤ _; omega) hf.1 hf.2 hW.2.2.1 fun H1 cA e1 z1 o1 hAr hNm => ?_
  have hcA : cA = g.2.2.1 0 := Option.some.inj (hNm.symm.trans (hW.1.2 0 _ rfl).2)
  subst hcA
  exact k p e s m args below meth c H1 locs ls C hr hk hx (hW.mk1 e1 z1 o1) hl
theorem g_newB {i : Int32} (N : Nat) (hi : i = nI N) (hN : N < 100000) (hf : cells + 1 ≤ mc ∧ slots + N ≤ ms) (hw : Cond.arrayClass .byte ∈ lw_all) (hd : decode cc pc = .ok (.newarray .byte, 2)) (k : G g own cc nL ret XT (rmD d mc ms) Z (cells + 1) (slots + N) (oset ω z (.inl (g.2.2.1 1, N, .inl (fun _ => 0)))) (z + 1) (pc + 2) L (.ref z :: rest)) : G g own cc nL ret XT (rmD d mc ms) Z cells slots ω z pc L (.int i :: rest) := by
  intro p e s m args below meth c H locs ls C hr hk hx hW hl
  subst hi
  refine va_newaK C.1 C.2.1 (atype := .byte) (C.2.2.2.2 _ hw) rfl hd rfl (nI_pos (by omega)) (nI_clamp (by omega)) (by show N * 1 ≤ _; omega) hf.1 hf.2 hW.2.2.1 fun H1 cA e1 z1 o1 hAr hNm => ?_
  have hcA : cA = g.2.2.1 1 := Option.some.inj (hNm.symm.trans (hW.1.2 1 _ rfl).2)
  subst hcA
  exact k p e s m args below meth c H1 locs ls C hr hk hx (hW.mk1 e1 z1 o1) hl
theorem g_new {C : String} {T : u_T} {N ci index : Nat} {ty0 : Nat → FieldType} (fs : List Value) (hin : ∀ w ∈ u_ws C T N, w ∈ lw_all) (hc : vwCl[ci]? = some (C, T, N)) (hty : ∀ k, k < N → parseFieldDescriptor (T k).2.2.1 = some (ty0 k)) (hcl : Cond.classLink own index C ∈ lw_all) (hinst : Cond.instantiable C N ∈ lw_all) (hini : Cond.initialized C ∈ lw_all) (hfs : ∀ j, j < N → defaultValue (ty0 j) = vp_V fs j) (hf : cells + 1 ≤ mc ∧ slots + N ≤ ms) (hd : decode cc pc = .ok (.new index, 3)) (k : G g own cc nL ret XT (rmD d mc ms) Z (cells + 1) (slots + N) (oset ω z (.inr (ci, fs))) (z + 1) (pc + 3) L (.ref z :: rest)) : G g own cc nL ret XT (rmD d mc ms) Z cells slots ω z pc L rest := by
  intro p e s m args below meth c H locs ls C1 hr hk hx hW hl
  have hts := C1.2.2.2.2
  have hKn := hW.1.1 ci _ hc
  refine W.newcK C1.1 C1.2.1 C1.2.2.2.1 (hts _ hcl) (hts _ hinst) (hts _ hini) rfl hd hf.1 hf.2 hKn.2.1 hW.2.2.1 fun H1 kC hkC e1 z1 o1 => ?_
  exact k p e s m args below meth c H1 locs ls C1 hr hk hx (hW.mk1 ⟨_, hc, (u_born ty0 hts hin hKn hkC e1 hty).to hfs⟩ z1 o1) hl
theorem g_objInit {index a : Nat} (h1 : Cond.methodLink own index Lib.objectInit ∈ lw_all) (h2 : Cond.instanceMethod Lib.objectInit ∈ lw_all) (h3 : Cond.code Lib.objectInit ⟨#[0xb1]⟩ 1 none ∈ lw_all) (hd0 : 1 ≤ d) (hro : (rest.map fun v => v.category).sum ≤ 8) (hd : decode cc pc = .ok (.invokespecial index, 3)) (k : G g own cc nL ret XT (rmD d mc ms) Z cells slots ω z (pc + 3) L rest) : G g own cc nL ret XT (rmD d mc ms) Z cells slots ω z pc L (.ref a :: rest) := by
  intro p e s m args below meth c H locs ls C hr hk hx hW hl
  have hts := C.2.2.2.2
  have hroom := lv_room (m := m) (pc := pc) (ls := ls) (rest := .ref a :: rest) hro
  exact W.objInit C.1 C.2.1 C.2.2.2.1 (hts _ h1) (hts _ h2) (hts _ h3) rfl (hl.1.trans C.2.2.1.symm) rfl hd hd0 (by show _ ≤ 64 * d; omega) (k p e s m args below meth c H locs ls C hr hk hx hW hl)
theorem g_callI {index : Nat} {y : MethodName} {b2 : ByteArray} {maxL : Nat} {d2 mc2 ms2 n : Nat} {As : List Value} {b : Nat} {Q : Option Value → Om → Nat → Prop} (hM : Ct g y b2 maxL none d2 mc2 ms2 (.ref b :: As) ω z Q)
    (hw : GoodIn lw_all (ws_ y b2 maxL none)) (hini : Cond.initialized y.cls ∈ lw_all) (hlk : Cond.methodLink own index y ∈ lw_all) (hin : Cond.instanceMethod y ∈ lw_all) (hy1 : y.name = "<init>") (hy : y.cls ≠ "java/lang/invoke/MethodHandle" ∧ y.cls ≠ "java/lang/invoke/VarHandle" ∧ (parseMethodDescriptor y.desc).map (fun d => d.parameters.length) = some n)
    (hn : As.length = n) {st0 : List Value} (hst : st0 = As.reverse ++ .ref b :: rest) (hdd : d2 + 1 ≤ d ∧ maxL ≤ 40) (hf : cells + mc2 ≤ mc ∧ slots + ms2 ≤ ms) (hro : (rest.map fun v => v.category).sum ≤ 8) (hd : decode cc pc = .ok (.invokespecial index, 3))
    (k : ∀ v ω1 z1, Q v ω1 z1 → G g own cc nL ret XT (rmD d mc ms) Z (cells + mc2) (slots + ms2) ω1 z1 (pc + 3) L (v.toList ++ rest)) : G g own cc nL ret XT (rmD d mc ms) Z cells slots ω z pc L st0 := by
  intro p e s m args below meth c H locs ls C1 hr hk hx hW hl
  subst hst
  have hts := C1.2.2.2.2
  exact g_behind C1 hr hk hx hW hl (va_runI (As := As) (rest := rest) C1 hM (cwI n hts hw rfl rfl rfl (hts _ hini) (hts _ hlk) (hts _ hin) hy1 hy ⟨hdd.1, by show 8 + (maxL + 11) + 64 * d2 ≤ 64 * d; omega⟩) ⟨Wt.blind, fun U hU hw => ⟨rfl, hW.to hU hw⟩⟩ rfl hn hl.1 rfl (lv_room hro) hd hf) k
theorem g_putF {a : Nat} {ref C : String} {T : u_T} {N ci index : Nat} {fs : List Value} {v : Value} {ty : FieldType} {ty0 : Nat → FieldType} {rm : Room} (k0 : Nat) (hin : ∀ w ∈ u_ws C T N, w ∈ lw_all) (hc : vwCl[ci]? = some (C, T, N)) (hty : ∀ k, k < N → parseFieldDescriptor (T k).2.2.1 = some (ty0 k)) (hnm : ∀ a, a < N → ∀ b, b < N → a ≠ b → (T a).2.1 ≠ (T b).2.1) (hk0 : k0 < N) (hlink : Cond.fieldLink own index ref (T k0).2.1 (T k0).2.2.1 ∈ lw_all) (href : ref = (T k0).1) (hfin : (T k0).2.2.2 = true) (hdecl : (T k0).1 = own) (hty2 : ty0 k0 = ty) (hN : gN g ≤ a) (hq : ω a = some (.inr (ci, fs))) (hl0 : k0 < fs.length) (hn : narrow ty v = v) (hfit : fits ty v = true) (hd : decode cc pc = .ok (.putfield index, 3)) (k : G g own cc nL ret isInit rm Z cells slots (oset ω a (.inr (ci, fs.set k0 v))) z (pc + 3) L rest) : G g own cc nL ret isInit rm Z cells slots ω z pc L (v :: .ref a :: rest) := by
  intro p e s m args below meth c H locs ls C hr hk hx hW hl
  have hts := C.2.2.2.2
  have hK := hW.1
  have hap := va_apart (own := own) hts hin ty0 hty hnm hK hc
  obtain ⟨r, h1, cell, q1, q2, q3, q4⟩ := hW.2.1 a _ hq
  have hr0 : r = (_, T, N) := Option.some.inj (h1.symm.trans hc)
  subst hr0
  obtain ⟨hS, hfc, kC, hkC, hkind⟩ := hK.1 ci _ hc
  obtain ⟨cf, kf, fi, f, hi, hsl⟩ := hS k0 hk0
  have hlay := hts _ (hin _ (u_in_lay hk0))
  unfold u_lay at hlay
  rw [if_pos hfin] at hlay
  have hst := (u_facts hfc hkC (u_lays hts hin hk0) hi).1
  have hcf : m.cls = cf := by
    obtain ⟨_, _, c', _, _, _, -, -, hf', -, -, -, hown2, -⟩ := Cond.laysFinal_spec hlay
    have e1 : c' = cf := by have := hi.symm.trans hf'; simp at this; exact this.1.symm
    rw [hdecl] at hown2
    rw [← e1]; exact Option.some.inj (C.2.2.2.1.symm.trans hown2)
  have h6 := u_fits hfc hkC hkind (Or.inr hlay) hi ((hty k0 hk0).trans (congrArg some hty2)) hn hfit
  refine W.putFinK C.1 C.2.1 C.2.2.2.1 (hts _ hlink) (by rw [href]; exact hi) hst hcf hx (by rw [q2]; exact h6) q1 q3 (by rw [hsl]; exact k2_hasslot (q4 k0 hk0)) rfl rfl hd fun H' e1 e2 e3 => ?_
  rw [hsl] at e1 ⊢
  exact k p e s m args below meth c H' _ ls C hr hk hx (hW.move (hW.2.1.set ⟨_, hc, t_OB.to (V := updV (vp_V fs) k0 v) ⟨_, e1, q2, q3, t_set q4 hap hk0 v⟩ (fun j _ => vp_updV_set hl0 v j)⟩ e3) (e2.trans hW.2.2.1) (hW.2.2.2.1.put e2 e3 hN)) hl
theorem g_aret {Q : Option Value → Om → Nat → Prop} {rt : FieldType} {v : Value} {rm : Room} (hrt : ret = some rt) (ho : (∃ n, rt = .object n) ∨ ∃ t, rt = .array t) (hv : v = .null ∨ ∃ a, v = .ref a) (hc : cells ≤ mc) (hs : slots ≤ ms) (hQ : Q (some v) ω z) (hd : decode cc pc = .ok (.areturn, 1)) : G g own cc nL ret XT rm (zN g Q mc ms) cells slots ω z pc L [v] := fun p e s m args below meth c H locs ls C hr hk hx hW hl => W.widen hc hs (W.aret C.1 C.2.1 (hr.trans hrt) ho hv (fun t ht hw => ⟨_, ω, z, rfl, hQ, (hW.end ht hw).1, (hW.end ht hw).2⟩) hW.2.2.2.1.2.2 hd)
end GR
