/-! what lies outside the component's own cells -/
set_option maxRecDepth 100000
def xO (b : Nat) (ω0 : Om) : Om := fun q => if q < b ∨ b + 22 < q then ω0 q else none
theorem xO_le {g : GE} {b : Nat} {F : Nat → Int32} {A : Nat → Nat → Int32} {c : Cr} {ea : Nat} {tx : Nat → Option Nat} {nm : Nat → Int32} {ω0 : Om} {q : Nat} {e : va_E} (h : xO b ω0 q = some e) : hX g b F A c ea tx nm ω0 q = some e := by
  unfold xO at h
  split at h
  · rename_i h1; rw [hX_out h1]; exact h
  · cases h
theorem Tr.mono {ω ω' : Om} (hle : ∀ q e, ω q = some e → ω' q = some e) : ∀ (n : Nat) (F : (Nat → Int32) → Int32) (a : Nat), Tr ω n F a → Tr ω' n F a := by
  intro n
  induction n with
  | zero =>
    intro F a h
    rcases h with ⟨v, e, h⟩ | ⟨j, nu, hj, e, h⟩
    · exact .inl ⟨v, e, hle _ _ h⟩
    · exact .inr ⟨j, nu, hj, e, hle _ _ h⟩
  | succ n ih =>
    intro F a h
    rcases h with h | ⟨i, p, F1, e, h, hp⟩ | ⟨s, p, q, F1, F2, hs, e, h, hp, hq⟩
    · exact .inl (ih _ _ h)
    · exact .inr (.inl ⟨i, p, F1, e, hle _ _ h, ih _ _ hp⟩)
    · exact .inr (.inr ⟨s, p, q, F1, F2, hs, e, hle _ _ h, ih _ _ hp, ih _ _ hq⟩)
