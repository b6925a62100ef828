/-! a text's part as a tree of nodes in the world: Tr ω n F a: the tree at a, of height at most n, is worth F names -/
set_option maxRecDepth 100000
def Tr (ω : Om) : Nat → ((Nat → Int32) → Int32) → Nat → Prop
  | 0, F, a => (∃ v, F = (fun _ => v) ∧ ω a = some (.inr (5, [.int v, .int (-1)]))) ∨ (∃ j nu, j < 6 ∧ F = (fun nm => nm j) ∧ ω a = some (.inr (5, [.int nu, .int (nI j)])))
  | n + 1, F, a => Tr ω n F a ∨ (∃ i p F1, F = (fun nm => if i = 0 then -F1 nm else if F1 nm = 0 then 1 else 0) ∧ ω a = some (.inr (4, [.int i, .ref p])) ∧ Tr ω n F1 p)
      ∨ (∃ s p q F1 F2, (s = 43 ∨ s = 45 ∨ s = 42 ∨ s = 60 ∨ s = 61 ∨ s = 38 ∨ s = 124) ∧ F = (fun nm => twoF s (F1 nm) (F2 nm)) ∧ ω a = some (.inr (6, [.int s, .ref p, .ref q])) ∧ Tr ω n F1 p ∧ Tr ω n F2 q)
theorem Tr.wo {g : GE} {ω : Om} {z r : Nat} {f : Nat → Int32} (hF : gF g) (hr : ω r = some (.inl (g.2.2.1 0, 6, .inl f))) : ∀ (n : Nat) (F : (Nat → Int32) → Int32) (a d : Nat), Tr ω n F a → n ≤ d → WoAt g ω z r a (d + 1) (F f) := by
  intro n
  induction n with
  | zero =>
    intro F a d h _
    rcases h with ⟨v, rfl, h⟩ | ⟨j, nu, hj, rfl, h⟩
    · exact .inr (.inl ⟨_, h, n5_num h⟩)
    · exact .inr (.inl ⟨_, h, n5_name hj h hr⟩)
  | succ n ih =>
    intro F a d h hd
    rcases h with h | ⟨i, p, F1, rfl, h, hp⟩ | ⟨s, p, q, F1, F2, hs, rfl, h, hp, hq⟩
    · exact ih F a d h (by omega)
    · match d, hd with
      | d + 1, hd => exact .inl ⟨_, h, n4_worth hF h (ih F1 p d hp (by omega))⟩
    · match d, hd with
      | d + 1, hd => exact .inr (.inr ⟨_, h, n6_worth hF hs h (ih F1 p d hp (by omega)) (ih F2 q d hq (by omega))⟩)
