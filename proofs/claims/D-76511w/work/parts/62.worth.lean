/-! the call of worth on a node of any class -/
set_option maxRecDepth 100000
def yNode : MethodName := ⟨"NameThrownBack$Node", "worth", "([I)I"⟩
/-- the words of the interface's calls, wherever gX holds -/
def gF (g : GE) : Prop := ∀ s, gX g s → va_Fw RX4 yNode yX4_worth s ∧ va_Fw RX5 yNode yX5_worth s ∧ va_Fw RX6 yNode yX6_worth s
/-- the node at p answers v, within d frames -/
def WoAt (g : GE) (ω : Om) (z r p d : Nat) (v : Int32) : Prop :=
  (∃ fs, ω p = some (.inr (4, fs)) ∧ Ct g yX4_worth cX4_worth 3 (some .int) d 0 0 [.ref p, .ref r] ω z (dQ (some (.int v)) ω z)) ∨ (∃ fs, ω p = some (.inr (5, fs)) ∧ Ct g yX5_worth cX5_worth 2 (some .int) d 0 0 [.ref p, .ref r] ω z (dQ (some (.int v)) ω z)) ∨ (∃ fs, ω p = some (.inr (6, fs)) ∧ Ct g yX6_worth cX6_worth 4 (some .int) d 0 0 [.ref p, .ref r] ω z (dQ (some (.int v)) ω z))
theorem lw_F {own C : String} {idx : Nat} {x y : MethodName} {b : ByteArray} {L : Nat} {r : Option FieldType} (h1 : Cond.methodLink own idx x ∈ lw_all) (h2 : Cond.selects C x y ∈ lw_all) (h3 : Cond.instanceMethod y ∈ lw_all) (h4 : Cond.initialized y.cls ∈ lw_all) (h5 : Cond.code y b L r ∈ lw_all) : GoodIn lw_all (va_wsF own idx C x y (ws_ y b L r)) := by
  refine lw_app ?_ (lw_meth h5)
  intro w hw
  simp only [List.mem_cons, List.not_mem_nil, or_false] at hw
  rcases hw with e | e | e | e
  · rw [e]; exact h1
  · rw [e]; exact h2
  · rw [e]; exact h3
  · rw [e]; exact h4
section RW
variable {g : GE} {cc : ByteArray} {nL : Nat} {ret : Option FieldType} {XT : Method → Code → Prop} {Z : ZT} {cells slots : Nat} {ω : Om} {z pc : Nat} {L : List (Nat × Value)} {rest : List Value} {d d2 mc ms count p r : Nat} {v : Int32}
theorem gn_worthX0 (hF : gF g) (hp : WoAt g ω z r p d2 v) (hdd : d2 + 1 ≤ d) (hf : cells ≤ mc ∧ slots ≤ ms) (hro : (rest.map fun v => v.category).sum ≤ 8) (hd : decode cc pc = .ok (.invokeinterface 125 count, 5)) (kk : G g RX0 cc nL ret XT (rmD d mc ms) Z cells slots ω z (pc + 5) L (.int v :: rest)) : G g RX0 cc nL ret XT (rmD d mc ms) Z cells slots ω z pc L (.ref r :: .ref p :: rest) := by
  rcases hp with ⟨fs, hq, hM⟩ | ⟨fs, hq, hM⟩ | ⟨fs, hq, hM⟩
  · exact gd_callF (n := 1) (x := yNode) hM (lw_F (C := RX4) q787 q797 q799 q89 q801) (fun s h => (hF s h).1) (by decide +kernel) (ci := 4) rfl hq rfl rfl ⟨hdd, by decide⟩ hf hro hd kk
  · exact gd_callF (n := 1) (x := yNode) hM (lw_F (C := RX5) q787 q791 q793 q90 q795) (fun s h => (hF s h).2.1) (by decide +kernel) (ci := 5) rfl hq rfl rfl ⟨hdd, by decide⟩ hf hro hd kk
  · exact gd_callF (n := 1) (x := yNode) hM (lw_F (C := RX6) q787 q805 q807 q91 q809) (fun s h => (hF s h).2.2) (by decide +kernel) (ci := 6) rfl hq rfl rfl ⟨hdd, by decide⟩ hf hro hd kk
theorem gn_worthX4 (hF : gF g) (hp : WoAt g ω z r p d2 v) (hdd : d2 + 1 ≤ d) (hf : cells ≤ mc ∧ slots ≤ ms) (hro : (rest.map fun v => v.category).sum ≤ 8) (hd : decode cc pc = .ok (.invokeinterface 17 count, 5)) (kk : G g RX4 cc nL ret XT (rmD d mc ms) Z cells slots ω z (pc + 5) L (.int v :: rest)) : G g RX4 cc nL ret XT (rmD d mc ms) Z cells slots ω z pc L (.ref r :: .ref p :: rest) := by
  rcases hp with ⟨fs, hq, hM⟩ | ⟨fs, hq, hM⟩ | ⟨fs, hq, hM⟩
  · exact gd_callF (n := 1) (x := yNode) hM (lw_F (C := RX4) q803 q797 q799 q89 q801) (fun s h => (hF s h).1) (by decide +kernel) (ci := 4) rfl hq rfl rfl ⟨hdd, by decide⟩ hf hro hd kk
  · exact gd_callF (n := 1) (x := yNode) hM (lw_F (C := RX5) q803 q791 q793 q90 q795) (fun s h => (hF s h).2.1) (by decide +kernel) (ci := 5) rfl hq rfl rfl ⟨hdd, by decide⟩ hf hro hd kk
  · exact gd_callF (n := 1) (x := yNode) hM (lw_F (C := RX6) q803 q805 q807 q91 q809) (fun s h => (hF s h).2.2) (by decide +kernel) (ci := 6) rfl hq rfl rfl ⟨hdd, by decide⟩ hf hro hd kk
theorem gn_worthX6 (hF : gF g) (hp : WoAt g ω z r p d2 v) (hdd : d2 + 1 ≤ d) (hf : cells ≤ mc ∧ slots ≤ ms) (hro : (rest.map fun v => v.category).sum ≤ 8) (hd : decode cc pc = .ok (.invokeinterface 20 count, 5)) (kk : G g RX6 cc nL ret XT (rmD d mc ms) Z cells slots ω z (pc + 5) L (.int v :: rest)) : G g RX6 cc nL ret XT (rmD d mc ms) Z cells slots ω z pc L (.ref r :: .ref p :: rest) := by
  rcases hp with ⟨fs, hq, hM⟩ | ⟨fs, hq, hM⟩ | ⟨fs, hq, hM⟩
  · exact gd_callF (n := 1) (x := yNode) hM (lw_F (C := RX4) q811 q797 q799 q89 q801) (fun s h => (hF s h).1) (by decide +kernel) (ci := 4) rfl hq rfl rfl ⟨hdd, by decide⟩ hf hro hd kk
  · exact gd_callF (n := 1) (x := yNode) hM (lw_F (C := RX5) q811 q791 q793 q90 q795) (fun s h => (hF s h).2.1) (by decide +kernel) (ci := 5) rfl hq rfl rfl ⟨hdd, by decide⟩ hf hro hd kk
  · exact gd_callF (n := 1) (x := yNode) hM (lw_F (C := RX6) q811 q805 q807 q91 q809) (fun s h => (hF s h).2.2) (by decide +kernel) (ci := 6) rfl hq rfl rfl ⟨hdd, by decide⟩ hf hro hd kk
end RW
