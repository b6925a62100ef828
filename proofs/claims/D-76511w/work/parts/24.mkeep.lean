set_option maxRecDepth 100000
def kpf (f : Nat → Int32) (c : Cr) : Nat → Int32 := fun i => if i < 18 then c.1 i else if i = 18 then c.2.1 else if i = 19 then c.2.2 else f i
def hiEq (c c' : Cr) : Prop := ∀ j, 18 ≤ j → c'.1 j = c.1 j
theorem hiEq.rf {c : Cr} : hiEq c c := fun _ _ => rfl
theorem hiEq.tr {a b c : Cr} (h : hiEq a b) (h2 : hiEq b c) : hiEq a c := fun j hj => (h2 j hj).trans (h j hj)
theorem hi_land {e : En} {c : Cr} {p : Nat} {t : Int32} (hp : p < 6) : hiEq c (landF e c p t) := by
  intro j hj
  unfold landF landC
  dsimp only
  split
  · dsimp only; rw [upd_ne _ _ (by omega), upd_ne _ _ (by omega)]
  · dsimp only; rw [upd_ne _ _ (by omega), upd_ne _ _ (by omega), upd_ne _ _ (by omega)]
theorem hi_les {e : En} {c : Cr} {p q : Nat} (hq : q < 6) : hiEq c (lesC e c p q) := by
  intro j hj
  unfold lesC
  dsimp only; rw [upd_ne _ _ (by omega)]
theorem hi_tide {c : Cr} {n : Nat} (hn : n ≤ 6) : hiEq c (tideC n c) := by
  intro j hj
  unfold tideC
  split
  · rfl
  · rename_i h
    have h0 : ¬ n = 0 := fun q => h (Or.inl q)
    have := toL_lt (R := c.1) (n := n) (n - 1) 1 0 (by omega) (by omega)
    dsimp only; rw [upd_ne _ _ (by unfold toF; omega)]
section A
variable {g : GE} {b z n : Nat} {F : Nat → Int32} {A A2 : Nat → Nat → Int32} {ω0 : Om} {ts : Nat → List Int32} {c c0 : Cr} {f0 : Nat → Int32}
def kpi (f : Nat → Int32) (c : Cr) (i : Nat) : Nat → Int32 := fun j => if j < i then c.1 j else f j
theorem kpi_s (f : Nat → Int32) (c : Cr) (i : Nat) : upd (kpi f c i) i (c.1 i) = kpi f c (i + 1) := by
  funext j
  by_cases h : j = i
  · subst h; rw [upd_same]; unfold kpi; rw [if_pos (by omega)]
  · rw [upd_ne _ _ h]; unfold kpi
    by_cases h2 : j < i
    · rw [if_pos h2, if_pos (by omega)]
    · rw [if_neg h2, if_neg (by omega)]
theorem kpi_e (f : Nat → Int32) (c : Cr) : upd (upd (kpi f c 18) 18 c.2.1) 19 c.2.2 = kpf f c := by
  funext j
  unfold kpf
  by_cases h : j = 19
  · subst h; rw [upd_same]; rfl
  · rw [upd_ne _ _ h]
    by_cases h2 : j = 18
    · subst h2; rw [upd_same]; rfl
    · rw [upd_ne _ _ h2]; unfold kpi; split <;> first | rfl | rw [if_neg h2, if_neg h]
theorem l_keeps (hN : gN g ≤ b) : ∀ (m i : Nat), i ≤ 18 → 18 - i = m → GN g RX7 cX7_keeps 2 none 1 (mQ g b ω0 z none (mF F c) (mA (sA A 30 (kpf (A 30) c)) c)) (hM g b (mF F c) (mA (sA A 30 (kpi (A 30) c i)) c) A2 ω0) z 2 [(1, .int (nI i)), (0, .ref b)] [] := by
  intro m
  induction m using Nat.strongRecOn with
  | _ m ih =>
  intro i h1 h2
  refine g_iload_n dX7_keeps_2 rfl ?_
  refine g_bipush (18) dX7_keeps_3 rfl ?_
  refine g_icmp_ge 26 dX7_keeps_5 (by decide) (fun c1 => ?_) (fun c1 => ?_)
  · have ht : i = 18 := by have := (nI_leI (a := 18) (b := i) (by decide) (by omega)).mp c1; omega
    subst ht
    refine g_aload_n dX7_keeps_26 rfl ?_
    refine mg_kept dX7_keeps_27 ?_
    refine g_bipush (18) dX7_keeps_30 rfl ?_
    refine g_aload_n dX7_keeps_32 rfl ?_
    refine mgc_sea dX7_keeps_33 ?_
    refine msc_kept (18) hN (by omega) (by first | rfl | (simp only [nI, Int32.ofNat_add, Int32.ofNat_mul]; rfl) | (simp only [nI, Int32.ofNat_add, Int32.ofNat_mul]; done)) dX7_keeps_36 ?_
    refine g_aload_n dX7_keeps_37 rfl ?_
    refine mg_kept dX7_keeps_38 ?_
    refine g_bipush (19) dX7_keeps_41 rfl ?_
    refine g_aload_n dX7_keeps_43 rfl ?_
    refine mgc_tides dX7_keeps_44 ?_
    refine msc_kept (19) hN (by omega) (by first | rfl | (simp only [nI, Int32.ofNat_add, Int32.ofNat_mul]; rfl) | (simp only [nI, Int32.ofNat_add, Int32.ofNat_mul]; done)) dX7_keeps_47 ?_
    refine g_vret rfl (Nat.le_refl _) (Nat.le_refl _) ?_ dX7_keeps_48
    refine mQ.of rfl rfl ?_
    rw [sA_sA, sA_sA, sA_same, sA_same, kpi_e (A 30) c]
  · have ht : i < 18 := Nat.lt_of_not_le fun h => c1 (nI_le (a := 18) h (by omega))
    refine g_aload_n dX7_keeps_8 rfl ?_
    refine mg_kept dX7_keeps_9 ?_
    refine g_iload_n dX7_keeps_12 rfl ?_
    refine g_aload_n dX7_keeps_13 rfl ?_
    refine mg_rows dX7_keeps_14 ?_
    refine g_iload_n dX7_keeps_17 rfl ?_
    refine mlc_rows (i) (by omega) (by first | rfl | (simp only [nI, Int32.ofNat_add, Int32.ofNat_mul]; rfl) | (simp only [nI, Int32.ofNat_add, Int32.ofNat_mul]; done)) dX7_keeps_18 ?_
    refine msc_kept (i) hN (by omega) (by first | rfl | (simp only [nI, Int32.ofNat_add, Int32.ofNat_mul]; rfl) | (simp only [nI, Int32.ofNat_add, Int32.ofNat_mul]; done)) dX7_keeps_19 ?_
    refine g_iinc (nI (i + 1)) (L' := [(1, _), (0, _)]) dX7_keeps_20 rfl (nI_1 _) (by decide) rfl ?_
    refine g_goto 2 dX7_keeps_23 (by decide) ?_
    rw [sA_sA, sA_same, kpi_s]
    exact ih _ (by omega) (i + 1) (by omega) rfl
theorem c_keeps (hN : gN g ≤ b) : Ct g yX7_keeps cX7_keeps 2 none 1 0 0 [.ref b] (hM g b (mF F c) (mA A c) A2 ω0) z (mQ g b ω0 z none (mF F c) (mA (sA A 30 (kpf (A 30) c)) c)) := by
  refine Ct.at (own := RX7) (by decide) rfl (Nat.le_of_ble_eq_true rfl) rfl ?_
  refine g_iconst (0) dX7_keeps_0 rfl ?_
  refine g_istore_n (L' := [(1, _), (0, _)]) dX7_keeps_1 (by decide) rfl ?_
  have h := l_keeps (g := g) (b := b) (z := z) (F := F) (A := A) (A2 := A2) (ω0 := ω0) (c := c) hN 18 0 (by omega) rfl
  rw [show kpi (A 30) c 0 = A 30 from rfl, sA_self] at h
  exact h
theorem l_lays (hN : gN g ≤ b) (hk : A 30 = kpf f0 c0) (hh : hiEq c0 c) : ∀ (m i : Nat), i ≤ 18 → 18 - i = m → GN g RX7 cX7_lays 2 none 1 (mQ g b ω0 z none (mF F c0) (mA A c0)) (hM g b (mF F (kpi c.1 c0 i, c.2.1, c.2.2)) (mA A (kpi c.1 c0 i, c.2.1, c.2.2)) A2 ω0) z 2 [(1, .int (nI i)), (0, .ref b)] [] := by
  intro m
  induction m using Nat.strongRecOn with
  | _ m ih =>
  intro i h1 h2
  refine g_iload_n dX7_lays_2 rfl ?_
  refine g_bipush (18) dX7_lays_3 rfl ?_
  refine g_icmp_ge 26 dX7_lays_5 (by decide) (fun c1 => ?_) (fun c1 => ?_)
  · have ht : i = 18 := by have := (nI_leI (a := 18) (b := i) (by decide) (by omega)).mp c1; omega
    subst ht
    refine g_aload_n dX7_lays_26 rfl ?_
    refine g_aload_n dX7_lays_27 rfl ?_
    refine mg_kept dX7_lays_28 ?_
    refine g_bipush (18) dX7_lays_31 rfl ?_
    refine mlc_kept (18) (by omega) (by first | rfl | (simp only [nI, Int32.ofNat_add, Int32.ofNat_mul]; rfl) | (simp only [nI, Int32.ofNat_add, Int32.ofNat_mul]; done)) dX7_lays_33 ?_
    refine mpc_sea hN  dX7_lays_34 ?_
    refine g_aload_n dX7_lays_37 rfl ?_
    refine g_aload_n dX7_lays_38 rfl ?_
    refine mg_kept dX7_lays_39 ?_
    refine g_bipush (19) dX7_lays_42 rfl ?_
    refine mlc_kept (19) (by omega) (by first | rfl | (simp only [nI, Int32.ofNat_add, Int32.ofNat_mul]; rfl) | (simp only [nI, Int32.ofNat_add, Int32.ofNat_mul]; done)) dX7_lays_44 ?_
    refine mpc_tides hN  dX7_lays_45 ?_
    refine g_vret rfl (Nat.le_refl _) (Nat.le_refl _) ?_ dX7_lays_48
    have e1 : A 30 18 = c0.2.1 := by rw [hk]; rfl
    have e2 : A 30 19 = c0.2.2 := by rw [hk]; rfl
    have e3 : kpi c.1 c0 18 = c0.1 := by
      funext j; unfold kpi; split
      · rfl
      · exact hh j (by omega)
    dsimp only at e1 e2 ⊢
    rw [e1, e2, e3]
    exact mQ.mk
  · have ht : i < 18 := Nat.lt_of_not_le fun h => c1 (nI_le (a := 18) h (by omega))
    refine g_aload_n dX7_lays_8 rfl ?_
    refine mg_rows dX7_lays_9 ?_
    refine g_iload_n dX7_lays_12 rfl ?_
    refine g_aload_n dX7_lays_13 rfl ?_
    refine mg_kept dX7_lays_14 ?_
    refine g_iload_n dX7_lays_17 rfl ?_
    refine mlc_kept (i) (by omega) (by first | rfl | (simp only [nI, Int32.ofNat_add, Int32.ofNat_mul]; rfl) | (simp only [nI, Int32.ofNat_add, Int32.ofNat_mul]; done)) dX7_lays_18 ?_
    refine msc_rows (i) hN (by omega) (by first | rfl | (simp only [nI, Int32.ofNat_add, Int32.ofNat_mul]; rfl) | (simp only [nI, Int32.ofNat_add, Int32.ofNat_mul]; done)) dX7_lays_19 ?_
    refine g_iinc (nI (i + 1)) (L' := [(1, _), (0, _)]) dX7_lays_20 rfl (nI_1 _) (by decide) rfl ?_
    refine g_goto 2 dX7_lays_23 (by decide) ?_
    have e1 : A 30 i = c0.1 i := by rw [hk]; unfold kpf; rw [if_pos ht]
    dsimp only at e1 ⊢
    rw [e1, kpi_s]
    exact ih _ (by omega) (i + 1) (by omega) rfl
theorem c_lays (hN : gN g ≤ b) (hk : A 30 = kpf f0 c0) (hh : hiEq c0 c) : Ct g yX7_lays cX7_lays 2 none 1 0 0 [.ref b] (hM g b (mF F c) (mA A c) A2 ω0) z (mQ g b ω0 z none (mF F c0) (mA A c0)) := by
  refine Ct.at (own := RX7) (by decide) rfl (Nat.le_of_ble_eq_true rfl) rfl ?_
  refine g_iconst (0) dX7_lays_0 rfl ?_
  refine g_istore_n (L' := [(1, _), (0, _)]) dX7_lays_1 (by decide) rfl ?_
  exact l_lays hN hk hh 18 0 (by omega) rfl
end A
