/-! an array of arrays: reading -/
set_option maxRecDepth 100000
section RB
variable {g : GE} {own : String} {cc : ByteArray} {nL : Nat} {ret : Option FieldType} {XT : Method → Code → Prop} {rm : Room} {Z : ZT} {cells slots : Nat} {ω : Om} {z pc : Nat} {L : List (Nat × Value)} {rest : List Value}
theorem g_aaldA {a n t0 : Nat} {cA : ClassId} {ty : FieldType} {f : Nat → Option Nat} {i : Int32} (ht : (gtys g)[t0]? = some (cA, .array ty)) (hq : ω a = some (.inl (cA, n, .inr (.inr (.inr (.inr f)))))) (hin : vp_in i n) (hd : decode cc pc = .ok (.aaload, 1)) (k : G g own cc nL ret XT rm Z cells slots ω z (pc + 1) L (va_rf (f i.toNatClampNeg) :: rest)) : G g own cc nL ret XT rm Z cells slots ω z pc L (.int i :: .ref a :: rest) := by
  intro p e s m args below meth c H locs ls C1 hr hk hx hW hl
  have hlt : i.toNatClampNeg < n := Nat.not_le.mp fun q => hin (Or.inr q)
  exact W.aald (v := va_rf (f i.toNatClampNeg)) (ty := .array ty) C1.1 C1.2.1 (hW.2.1 a _ hq) ((hW.1.2 t0 _ ht).1 n (fun j => va_rf (f j))) rfl (fun q => by cases q) (by show ¬ (i < 0 ∨ (arrV _ _ _).slots.size ≤ _); rw [arrV_size]; exact hin) (by show (arrV _ _ _).slots[_]? = _; rw [arrV_read _ _ hlt]) rfl rfl hd (k p e s m args below meth c H locs ls C1 hr hk hx hW hl)
end RB
