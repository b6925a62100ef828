/-! a fisher's more, read by the component -/
set_option maxRecDepth 100000
section FG
variable {g : GE} {cc : ByteArray} {nL : Nat} {ret : Option FieldType} {XT : Method → Code → Prop} {rm : Room} {Z : ZT} {cells slots : Nat} {ω : Om} {z pc : Nat} {L : List (Nat × Value)} {rest : List Value} {a b k : Nat} {nu mo : Int32}
theorem gf_more (hk : k < 6) (hq : ω a = some (.inr (8 + k, fshV k nu mo b))) (hd : decode cc pc = .ok (.getfield 122, 3)) (kk : G g RX0 cc nL ret XT rm Z cells slots ω z (pc + 3) L (.int mo :: rest)) : G g RX0 cc nL ret XT rm Z cells slots ω z pc L (.ref a :: rest) := by
  match k, hk with
  | 0, _ => exact g_get (ref := RX8) (T := TX8) (N := 3) 1 in_X8 rfl (by decide) q842 rfl hq rfl hd kk
  | 1, _ => exact g_get (ref := RX8) (T := TX9) (N := 4) 1 in_X9 rfl (by decide) q842 rfl hq rfl hd kk
  | 2, _ => exact g_get (ref := RX8) (T := TX10) (N := 4) 1 in_X10 rfl (by decide) q842 rfl hq rfl hd kk
  | 3, _ => exact g_get (ref := RX8) (T := TX11) (N := 5) 1 in_X11 rfl (by decide) q842 rfl hq rfl hd kk
  | 4, _ => exact g_get (ref := RX8) (T := TX12) (N := 5) 1 in_X12 rfl (by decide) q842 rfl hq rfl hd kk
  | 5, _ => exact g_get (ref := RX8) (T := TX13) (N := 4) 1 in_X13 rfl (by decide) q842 rfl hq rfl hd kk
end FG
