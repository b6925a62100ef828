/-! the component's surroundings: fishers and texts outside its own cells -/
set_option maxRecDepth 100000
def xQ (g : GE) (b : Nat) (ω0 : Om) (z : Nat) (v : Option Value) (F : Nat → Int32) (A : Nat → Nat → Int32) (c : Cr) (ea : Nat) (tx : Nat → Option Nat) : Option Value → Om → Nat → Prop := fun v' ω' z' => v' = v ∧ z' = z ∧ ∃ nm, ω' = hX g b F A c ea tx nm ω0
/-- fisher p is the object at a, of kind k -/
def XAt (g : GE) (b ea : Nat) (ω0 : Om) (n p a k : Nat) (mo : Int32) : Prop := (∃ cap f, n ≤ cap ∧ cap ≤ 1000 ∧ xO b ω0 ea = some (.inl (g.2.2.1 2, cap, .inr (.inr (.inr (.inr f))))) ∧ f p = some a) ∧ k < 6 ∧ xO b ω0 a = some (.inr (8 + k, fshV k (nI p) mo b))
/-- the fishers: p's object, its kind and its more -/
def XFi (g : GE) (b ea : Nat) (ω0 : Om) (n : Nat) (e : En) : Prop := ∀ p, p < n → ∃ a k m, XAt g b ea ω0 n p a k (e.2.2.1 p) ∧ e.2.1 p = nI k ∧ e.2.2.1 p = nI m ∧ m < 10
/-- the text r: three trees that are worth what the reference's rows are -/
def XTx (g : GE) (b : Nat) (tx : Nat → Option Nat) (ω0 : Om) (r : Nat) (ts : Nat → List Int32) : Prop := ∃ tr f, tx r = some tr ∧ xO b ω0 tr = some (.inl (g.2.2.1 3, 3, .inr (.inr (.inr (.inr f))))) ∧ ∀ i, i < 3 → ∃ p h W, f i = some p ∧ h ≤ 200 ∧ Tr (xO b ω0) h W p ∧ ∀ nm nm' : Nat → Int32, (∀ j, j < 6 → nm j = nm' j) → W nm = sval nm' (ts i)
def XE (g : GE) (b : Nat) (F : Nat → Int32) (ea : Nat) (tx : Nat → Option Nat) (ω0 : Om) (e : En) : Prop := F 31 = nI e.1 ∧ e.1 ≤ 6 ∧ XFi g b ea ω0 e.1 e ∧ ∃ r, r < 6 ∧ F 3 = nI r ∧ XTx g b tx ω0 r e.2.2.2
def lt16 (x : Int32) : Prop := ∃ j, j < 65536 ∧ x = nI j
/-- sets are of sixteen names -/
def CO (c : Cr) : Prop := (∀ p, p < 6 → lt16 (c.1 (3 * p))) ∧ (∀ p, p < 6 → lt16 (c.1 (3 * p + 1))) ∧ lt16 c.2.1
theorem bc16 {x : Int32} (h : lt16 x) : bcF x = bits x := by
  obtain ⟨j, hj, rfl⟩ := h; exact bc_bits hj
section XV
variable {g : GE} {b z n p : Nat} {F : Nat → Int32} {A : Nat → Nat → Int32} {c : Cr} {ea : Nat} {tx : Nat → Option Nat} {nm : Nat → Int32} {ω0 : Om}
theorem xQ.mk {v : Option Value} : xQ g b ω0 z v F A c ea tx v (hX g b F A c ea tx nm ω0) z := ⟨rfl, rfl, nm, rfl⟩
theorem xQ.of {v v' : Option Value} {c' : Cr} (h : v' = v) (hc : c' = c) : xQ g b ω0 z v F A c ea tx v' (hX g b F A c' ea tx nm ω0) z := by
  subst h; subst hc; exact xQ.mk
theorem x_get {a k : Nat} {mo : Int32} (hA : XAt g b ea ω0 n p a k mo) (hn : F 31 = nI n) (hp : p < n) : Ct g yJ2_get cJ2_get 2 (some (.object "java/lang/Object")) 3 0 0 [.ref (b + 2), .int (nI p)] (hX g b F A c ea tx nm ω0) z (dQ (some (.ref a)) (hX g b F A c ea tx nm ω0) z) := by
  obtain ⟨⟨cap, f, h1, h2, h3, h4⟩, -, -⟩ := hA
  have := j_get (g := g) (ω := hX g b F A c ea tx nm ω0) (z := z) (mo := F 30) (ea := ea) (n := n) (i := p) (q := b + 2) (by rw [← hn]; exact hX_2) (xO_le h3) hp h1 h2
  rw [h4] at this
  exact this
end XV
section GX
variable {g : GE} {b : Nat} {F : Nat → Int32} {A : Nat → Nat → Int32} {c : Cr} {ea : Nat} {tx : Nat → Option Nat} {nm : Nat → Int32} {ω0 : Om} {cc : ByteArray} {nL : Nat} {ret : Option FieldType} {XT : Method → Code → Prop} {Z : ZT} {cells slots z pc : Nat} {L : List (Nat × Value)} {rest : List Value}
theorem gx_call {index : Nat} {y : MethodName} {b2 : ByteArray} {maxL : Nat} {r2 : Option FieldType} {d d2 mc ms n : Nat} {As st0 : List Value} {v : Option Value} {F' : Nat → Int32} {A' : Nat → Nat → Int32} {c' : Cr} {ea' : Nat} {tx' : Nat → Option Nat} (hM' : Ct g y b2 maxL r2 d2 0 0 (.ref b :: As) (hX g b F A c ea tx nm ω0) z (xQ g b ω0 z v F' A' c' ea' tx'))
    (hw : GoodIn lw_all (wsV RX0 index RX0 y (ws_ y b2 maxL r2))) (hy : y.cls = RX0 ∧ y.cls ≠ "java/lang/invoke/MethodHandle" ∧ y.cls ≠ "java/lang/invoke/VarHandle" ∧ (parseMethodDescriptor y.desc).map (fun d => d.parameters.length) = some n) (hn : As.length = n) (hst : st0 = As.reverse ++ .ref b :: rest) (hdd : d2 + 1 ≤ d ∧ maxL ≤ 40) (hf : cells ≤ mc ∧ slots ≤ ms) (hro : (rest.map fun v => v.category).sum ≤ 8) (hd : decode cc pc = .ok (.invokevirtual index, 3))
    (k : ∀ nm', G g RX0 cc nL ret XT (rmD d mc ms) Z cells slots (hX g b F' A' c' ea' tx' nm' ω0) z (pc + 3) L (v.toList ++ rest)) : G g RX0 cc nL ret XT (rmD d mc ms) Z cells slots (hX g b F A c ea tx nm ω0) z pc L st0 :=
  g_callV hM' hw hy (ci := 0) rfl hX_0 hn hst rfl hdd hf hro hd (fun v' ω1 z1 h => by
    obtain ⟨rfl, rfl, nm', rfl⟩ := h
    exact k nm')
theorem gx_calli {index : Nat} {y : MethodName} {b2 : ByteArray} {maxL : Nat} {r2 : Option FieldType} {d d2 mc ms n : Nat} {As st0 : List Value} {r : Int32} {F' : Nat → Int32} {A' : Nat → Nat → Int32} {c' : Cr} {ea' : Nat} {tx' : Nat → Option Nat} (hM' : Ct g y b2 maxL r2 d2 0 0 (.ref b :: As) (hX g b F A c ea tx nm ω0) z (xQ g b ω0 z (some (.int r)) F' A' c' ea' tx'))
    (hw : GoodIn lw_all (wsV RX0 index RX0 y (ws_ y b2 maxL r2))) (hy : y.cls = RX0 ∧ y.cls ≠ "java/lang/invoke/MethodHandle" ∧ y.cls ≠ "java/lang/invoke/VarHandle" ∧ (parseMethodDescriptor y.desc).map (fun d => d.parameters.length) = some n) (hn : As.length = n) (hst : st0 = As.reverse ++ .ref b :: rest) (hdd : d2 + 1 ≤ d ∧ maxL ≤ 40) (hf : cells ≤ mc ∧ slots ≤ ms) (hro : (rest.map fun v => v.category).sum ≤ 8) (hd : decode cc pc = .ok (.invokevirtual index, 3))
    (k : ∀ nm', G g RX0 cc nL ret XT (rmD d mc ms) Z cells slots (hX g b F' A' c' ea' tx' nm' ω0) z (pc + 3) L (.int r :: rest)) : G g RX0 cc nL ret XT (rmD d mc ms) Z cells slots (hX g b F A c ea tx nm ω0) z pc L st0 := gx_call hM' hw hy hn hst hdd hf hro hd k
theorem gx_callv {index : Nat} {y : MethodName} {b2 : ByteArray} {maxL : Nat} {r2 : Option FieldType} {d d2 mc ms n : Nat} {As st0 : List Value} {F' : Nat → Int32} {A' : Nat → Nat → Int32} {c' : Cr} {ea' : Nat} {tx' : Nat → Option Nat} (hM' : Ct g y b2 maxL r2 d2 0 0 (.ref b :: As) (hX g b F A c ea tx nm ω0) z (xQ g b ω0 z none F' A' c' ea' tx'))
    (hw : GoodIn lw_all (wsV RX0 index RX0 y (ws_ y b2 maxL r2))) (hy : y.cls = RX0 ∧ y.cls ≠ "java/lang/invoke/MethodHandle" ∧ y.cls ≠ "java/lang/invoke/VarHandle" ∧ (parseMethodDescriptor y.desc).map (fun d => d.parameters.length) = some n) (hn : As.length = n) (hst : st0 = As.reverse ++ .ref b :: rest) (hdd : d2 + 1 ≤ d ∧ maxL ≤ 40) (hf : cells ≤ mc ∧ slots ≤ ms) (hro : (rest.map fun v => v.category).sum ≤ 8) (hd : decode cc pc = .ok (.invokevirtual index, 3))
    (k : ∀ nm', G g RX0 cc nL ret XT (rmD d mc ms) Z cells slots (hX g b F' A' c' ea' tx' nm' ω0) z (pc + 3) L rest) : G g RX0 cc nL ret XT (rmD d mc ms) Z cells slots (hX g b F A c ea tx nm ω0) z pc L st0 := gx_call hM' hw hy hn hst hdd hf hro hd k
end GX
