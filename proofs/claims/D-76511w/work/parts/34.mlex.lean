/-! the reference's reader: tokens -/
set_option maxRecDepth 100000
def pF (F0 : Nat → Int32) (pa pb pt pv ph po pu : Int32) : Nat → Int32 := upd (upd (upd (upd (upd (upd (upd (F0) 19 pa) 20 pb) 21 pt) 22 pv) 25 ph) 26 po) 27 pu
theorem pF_s19 (F0 : Nat → Int32) (pa pb pt pv ph po pu x : Int32) : upd (pF F0 pa pb pt pv ph po pu) 19 x = pF F0 x pb pt pv ph po pu := by
  funext j
  unfold pF upd
  by_cases h : j = 19
  · subst h; rfl
  · simp only [if_neg h]
theorem pF_s20 (F0 : Nat → Int32) (pa pb pt pv ph po pu x : Int32) : upd (pF F0 pa pb pt pv ph po pu) 20 x = pF F0 pa x pt pv ph po pu := by
  funext j
  unfold pF upd
  by_cases h : j = 20
  · subst h; rfl
  · simp only [if_neg h]
theorem pF_s21 (F0 : Nat → Int32) (pa pb pt pv ph po pu x : Int32) : upd (pF F0 pa pb pt pv ph po pu) 21 x = pF F0 pa pb x pv ph po pu := by
  funext j
  unfold pF upd
  by_cases h : j = 21
  · subst h; rfl
  · simp only [if_neg h]
theorem pF_s22 (F0 : Nat → Int32) (pa pb pt pv ph po pu x : Int32) : upd (pF F0 pa pb pt pv ph po pu) 22 x = pF F0 pa pb pt x ph po pu := by
  funext j
  unfold pF upd
  by_cases h : j = 22
  · subst h; rfl
  · simp only [if_neg h]
theorem pF_s25 (F0 : Nat → Int32) (pa pb pt pv ph po pu x : Int32) : upd (pF F0 pa pb pt pv ph po pu) 25 x = pF F0 pa pb pt pv x po pu := by
  funext j
  unfold pF upd
  by_cases h : j = 25
  · subst h; rfl
  · simp only [if_neg h]
theorem pF_s26 (F0 : Nat → Int32) (pa pb pt pv ph po pu x : Int32) : upd (pF F0 pa pb pt pv ph po pu) 26 x = pF F0 pa pb pt pv ph x pu := by
  funext j
  unfold pF upd
  by_cases h : j = 26
  · subst h; rfl
  · simp only [if_neg h]
theorem pF_s27 (F0 : Nat → Int32) (pa pb pt pv ph po pu x : Int32) : upd (pF F0 pa pb pt pv ph po pu) 27 x = pF F0 pa pb pt pv ph po x := by
  funext j
  unfold pF upd
  by_cases h : j = 27
  · subst h; rfl
  · simp only [if_neg h]
theorem pF_s7 (F0 : Nat → Int32) (pa pb pt pv ph po pu x : Int32) : upd (pF F0 pa pb pt pv ph po pu) 7 x = pF (upd F0 7 x) pa pb pt pv ph po pu := by
  funext j
  unfold pF upd
  by_cases h : j = 7
  · subst h; rfl
  · simp only [if_neg h]
theorem pF_s10 (F0 : Nat → Int32) (pa pb pt pv ph po pu x : Int32) : upd (pF F0 pa pb pt pv ph po pu) 10 x = pF (upd F0 10 x) pa pb pt pv ph po pu := by
  funext j
  unfold pF upd
  by_cases h : j = 10
  · subst h; rfl
  · simp only [if_neg h]
def pA (A0 : Nat → Nat → Int32) (f24 f8 : Nat → Int32) : Nat → Nat → Int32 := sA (sA A0 24 f24) 8 f8
theorem pA_s8 (A0 : Nat → Nat → Int32) (f24 f8 f : Nat → Int32) : sA (pA A0 f24 f8) 8 f = pA A0 f24 f := by unfold pA; rw [sA_sA]
theorem pA_s24 (A0 : Nat → Nat → Int32) (f24 f8 f : Nat → Int32) : sA (pA A0 f24 f8) 24 f = pA A0 f f8 := by
  funext j; unfold pA sA
  by_cases h : j = 24
  · subst h; rfl
  · simp only [if_neg h]
theorem pA_s9 (A0 : Nat → Nat → Int32) (f24 f8 f : Nat → Int32) : sA (pA A0 f24 f8) 9 f = pA (sA A0 9 f) f24 f8 := by
  funext j; unfold pA sA
  by_cases h : j = 9
  · subst h; rfl
  · simp only [if_neg h]
abbrev pW (g : GE) (b : Nat) (F0 : Nat → Int32) (A0 : Nat → Nat → Int32) (c : Cr) (pa pb pt pv ph po pu : Int32) (f24 f8 : Nat → Int32) (A2 : Nat → Nat → Int32) (ω0 : Om) : Om := hM g b (mF (pF F0 pa pb pt pv ph po pu) c) (mA (pA A0 f24 f8) c) A2 ω0
section PR
variable {g : GE} {b : Nat} {F0 : Nat → Int32} {A0 A2 : Nat → Nat → Int32} {ω0 : Om} {c : Cr} {pa pb pt pv ph po pu : Int32} {f24 f8 : Nat → Int32} {cc : ByteArray} {nL : Nat} {ret : Option FieldType} {XT : Method → Code → Prop} {rm : Room} {Z : ZT} {cells slots : Nat} {z pc : Nat} {L : List (Nat × Value)} {rest : List Value}
theorem mgp_at (hd : decode cc pc = .ok (.getfield 97, 3)) (k : G g RX7 cc nL ret XT rm Z cells slots (pW g b F0 A0 c pa pb pt pv ph po pu f24 f8 A2 ω0) z (pc + 3) L (.int (pa) :: rest)) : G g RX7 cc nL ret XT rm Z cells slots (pW g b F0 A0 c pa pb pt pv ph po pu f24 f8 A2 ω0) z (pc) L (.ref b :: rest) := mgc_at hd k
theorem mpp_at {x : Int32} (hN : gN g ≤ b) (hd : decode cc pc = .ok (.putfield 97, 3)) (k : G g RX7 cc nL ret XT rm Z cells slots (pW g b F0 A0 c x pb pt pv ph po pu f24 f8 A2 ω0) z (pc + 3) L (rest)) : G g RX7 cc nL ret XT rm Z cells slots (pW g b F0 A0 c pa pb pt pv ph po pu f24 f8 A2 ω0) z (pc) L (.int x :: .ref b :: rest) := mpc_at hN hd (by rw [pF_s19]; exact k)
theorem mgp_begun (hd : decode cc pc = .ok (.getfield 100, 3)) (k : G g RX7 cc nL ret XT rm Z cells slots (pW g b F0 A0 c pa pb pt pv ph po pu f24 f8 A2 ω0) z (pc + 3) L (.int (pb) :: rest)) : G g RX7 cc nL ret XT rm Z cells slots (pW g b F0 A0 c pa pb pt pv ph po pu f24 f8 A2 ω0) z (pc) L (.ref b :: rest) := mgc_begun hd k
theorem mpp_begun {x : Int32} (hN : gN g ≤ b) (hd : decode cc pc = .ok (.putfield 100, 3)) (k : G g RX7 cc nL ret XT rm Z cells slots (pW g b F0 A0 c pa x pt pv ph po pu f24 f8 A2 ω0) z (pc + 3) L (rest)) : G g RX7 cc nL ret XT rm Z cells slots (pW g b F0 A0 c pa pb pt pv ph po pu f24 f8 A2 ω0) z (pc) L (.int x :: .ref b :: rest) := mpc_begun hN hd (by rw [pF_s20]; exact k)
theorem mgp_token (hd : decode cc pc = .ok (.getfield 103, 3)) (k : G g RX7 cc nL ret XT rm Z cells slots (pW g b F0 A0 c pa pb pt pv ph po pu f24 f8 A2 ω0) z (pc + 3) L (.int (pt) :: rest)) : G g RX7 cc nL ret XT rm Z cells slots (pW g b F0 A0 c pa pb pt pv ph po pu f24 f8 A2 ω0) z (pc) L (.ref b :: rest) := mgc_token hd k
theorem mpp_token {x : Int32} (hN : gN g ≤ b) (hd : decode cc pc = .ok (.putfield 103, 3)) (k : G g RX7 cc nL ret XT rm Z cells slots (pW g b F0 A0 c pa pb x pv ph po pu f24 f8 A2 ω0) z (pc + 3) L (rest)) : G g RX7 cc nL ret XT rm Z cells slots (pW g b F0 A0 c pa pb pt pv ph po pu f24 f8 A2 ω0) z (pc) L (.int x :: .ref b :: rest) := mpc_token hN hd (by rw [pF_s21]; exact k)
theorem mgp_value (hd : decode cc pc = .ok (.getfield 106, 3)) (k : G g RX7 cc nL ret XT rm Z cells slots (pW g b F0 A0 c pa pb pt pv ph po pu f24 f8 A2 ω0) z (pc + 3) L (.int (pv) :: rest)) : G g RX7 cc nL ret XT rm Z cells slots (pW g b F0 A0 c pa pb pt pv ph po pu f24 f8 A2 ω0) z (pc) L (.ref b :: rest) := mgc_value hd k
theorem mpp_value {x : Int32} (hN : gN g ≤ b) (hd : decode cc pc = .ok (.putfield 106, 3)) (k : G g RX7 cc nL ret XT rm Z cells slots (pW g b F0 A0 c pa pb pt x ph po pu f24 f8 A2 ω0) z (pc + 3) L (rest)) : G g RX7 cc nL ret XT rm Z cells slots (pW g b F0 A0 c pa pb pt pv ph po pu f24 f8 A2 ω0) z (pc) L (.int x :: .ref b :: rest) := mpc_value hN hd (by rw [pF_s22]; exact k)
theorem mgp_heldMany (hd : decode cc pc = .ok (.getfield 116, 3)) (k : G g RX7 cc nL ret XT rm Z cells slots (pW g b F0 A0 c pa pb pt pv ph po pu f24 f8 A2 ω0) z (pc + 3) L (.int (ph) :: rest)) : G g RX7 cc nL ret XT rm Z cells slots (pW g b F0 A0 c pa pb pt pv ph po pu f24 f8 A2 ω0) z (pc) L (.ref b :: rest) := mgc_heldMany hd k
theorem mpp_heldMany {x : Int32} (hN : gN g ≤ b) (hd : decode cc pc = .ok (.putfield 116, 3)) (k : G g RX7 cc nL ret XT rm Z cells slots (pW g b F0 A0 c pa pb pt pv x po pu f24 f8 A2 ω0) z (pc + 3) L (rest)) : G g RX7 cc nL ret XT rm Z cells slots (pW g b F0 A0 c pa pb pt pv ph po pu f24 f8 A2 ω0) z (pc) L (.int x :: .ref b :: rest) := mpc_heldMany hN hd (by rw [pF_s25]; exact k)
theorem mgp_opens (hd : decode cc pc = .ok (.getfield 122, 3)) (k : G g RX7 cc nL ret XT rm Z cells slots (pW g b F0 A0 c pa pb pt pv ph po pu f24 f8 A2 ω0) z (pc + 3) L (.int (po) :: rest)) : G g RX7 cc nL ret XT rm Z cells slots (pW g b F0 A0 c pa pb pt pv ph po pu f24 f8 A2 ω0) z (pc) L (.ref b :: rest) := mgc_opens hd k
theorem mpp_opens {x : Int32} (hN : gN g ≤ b) (hd : decode cc pc = .ok (.putfield 122, 3)) (k : G g RX7 cc nL ret XT rm Z cells slots (pW g b F0 A0 c pa pb pt pv ph x pu f24 f8 A2 ω0) z (pc + 3) L (rest)) : G g RX7 cc nL ret XT rm Z cells slots (pW g b F0 A0 c pa pb pt pv ph po pu f24 f8 A2 ω0) z (pc) L (.int x :: .ref b :: rest) := mpc_opens hN hd (by rw [pF_s26]; exact k)
theorem mgp_out (hd : decode cc pc = .ok (.getfield 113, 3)) (k : G g RX7 cc nL ret XT rm Z cells slots (pW g b F0 A0 c pa pb pt pv ph po pu f24 f8 A2 ω0) z (pc + 3) L (.int (pu) :: rest)) : G g RX7 cc nL ret XT rm Z cells slots (pW g b F0 A0 c pa pb pt pv ph po pu f24 f8 A2 ω0) z (pc) L (.ref b :: rest) := mgc_out hd k
theorem mpp_out {x : Int32} (hN : gN g ≤ b) (hd : decode cc pc = .ok (.putfield 113, 3)) (k : G g RX7 cc nL ret XT rm Z cells slots (pW g b F0 A0 c pa pb pt pv ph po x f24 f8 A2 ω0) z (pc + 3) L (rest)) : G g RX7 cc nL ret XT rm Z cells slots (pW g b F0 A0 c pa pb pt pv ph po pu f24 f8 A2 ω0) z (pc) L (.int x :: .ref b :: rest) := mpc_out hN hd (by rw [pF_s27]; exact k)
theorem mgp_taped (hd : decode cc pc = .ok (.getfield 61, 3)) (k : G g RX7 cc nL ret XT rm Z cells slots (pW g b F0 A0 c pa pb pt pv ph po pu f24 f8 A2 ω0) z (pc + 3) L (.int (F0 7) :: rest)) : G g RX7 cc nL ret XT rm Z cells slots (pW g b F0 A0 c pa pb pt pv ph po pu f24 f8 A2 ω0) z (pc) L (.ref b :: rest) := mgc_taped hd k
theorem mpp_taped {x : Int32} (hN : gN g ≤ b) (hd : decode cc pc = .ok (.putfield 61, 3)) (k : G g RX7 cc nL ret XT rm Z cells slots (pW g b (upd F0 7 x) A0 c pa pb pt pv ph po pu f24 f8 A2 ω0) z (pc + 3) L (rest)) : G g RX7 cc nL ret XT rm Z cells slots (pW g b F0 A0 c pa pb pt pv ph po pu f24 f8 A2 ω0) z (pc) L (.int x :: .ref b :: rest) := mpc_taped hN hd (by rw [pF_s7]; exact k)
theorem mgp_texts (hd : decode cc pc = .ok (.getfield 86, 3)) (k : G g RX7 cc nL ret XT rm Z cells slots (pW g b F0 A0 c pa pb pt pv ph po pu f24 f8 A2 ω0) z (pc + 3) L (.int (F0 10) :: rest)) : G g RX7 cc nL ret XT rm Z cells slots (pW g b F0 A0 c pa pb pt pv ph po pu f24 f8 A2 ω0) z (pc) L (.ref b :: rest) := mgc_texts hd k
theorem mpp_texts {x : Int32} (hN : gN g ≤ b) (hd : decode cc pc = .ok (.putfield 86, 3)) (k : G g RX7 cc nL ret XT rm Z cells slots (pW g b (upd F0 10 x) A0 c pa pb pt pv ph po pu f24 f8 A2 ω0) z (pc + 3) L (rest)) : G g RX7 cc nL ret XT rm Z cells slots (pW g b F0 A0 c pa pb pt pv ph po pu f24 f8 A2 ω0) z (pc) L (.int x :: .ref b :: rest) := mpc_texts hN hd (by rw [pF_s10]; exact k)
theorem mlp_tape (n : Nat) {i : Int32} (hn : n < 160) (hi : i = nI n) (hd : decode cc pc = .ok (.iaload, 1)) (k : G g RX7 cc nL ret XT rm Z cells slots (pW g b F0 A0 c pa pb pt pv ph po pu f24 f8 A2 ω0) z (pc + 1) L (.int (A0 6 n) :: rest)) : G g RX7 cc nL ret XT rm Z cells slots (pW g b F0 A0 c pa pb pt pv ph po pu f24 f8 A2 ω0) z (pc) L (.int i :: .ref (b + 4) :: rest) := mlc_tape n hn hi hd k
theorem mlp_words (n : Nat) {i : Int32} (hn : n < 96) (hi : i = nI n) (hd : decode cc pc = .ok (.iaload, 1)) (k : G g RX7 cc nL ret XT rm Z cells slots (pW g b F0 A0 c pa pb pt pv ph po pu f24 f8 A2 ω0) z (pc + 1) L (.int (A0 23 n) :: rest)) : G g RX7 cc nL ret XT rm Z cells slots (pW g b F0 A0 c pa pb pt pv ph po pu f24 f8 A2 ω0) z (pc) L (.int i :: .ref (b + 13) :: rest) := mlc_words n hn hi hd k
theorem mlp_held (n : Nat) {i : Int32} (hn : n < 200) (hi : i = nI n) (hd : decode cc pc = .ok (.iaload, 1)) (k : G g RX7 cc nL ret XT rm Z cells slots (pW g b F0 A0 c pa pb pt pv ph po pu f24 f8 A2 ω0) z (pc + 1) L (.int (f24 n) :: rest)) : G g RX7 cc nL ret XT rm Z cells slots (pW g b F0 A0 c pa pb pt pv ph po pu f24 f8 A2 ω0) z (pc) L (.int i :: .ref (b + 14) :: rest) := mlc_held n hn hi hd k
theorem mlp_law (n : Nat) {i : Int32} (hn : n < 32) (hi : i = nI n) (hd : decode cc pc = .ok (.iaload, 1)) (k : G g RX7 cc nL ret XT rm Z cells slots (pW g b F0 A0 c pa pb pt pv ph po pu f24 f8 A2 ω0) z (pc + 1) L (.int (A0 18 n) :: rest)) : G g RX7 cc nL ret XT rm Z cells slots (pW g b F0 A0 c pa pb pt pv ph po pu f24 f8 A2 ω0) z (pc) L (.int i :: .ref (b + 12) :: rest) := mlc_law n hn hi hd k
theorem msp_held (n : Nat) {i x : Int32} (hN : gN g ≤ b) (hn : n < 200) (hi : i = nI n) (hd : decode cc pc = .ok (.iastore, 1)) (k : G g RX7 cc nL ret XT rm Z cells slots (pW g b F0 A0 c pa pb pt pv ph po pu (upd f24 n x) f8 A2 ω0) z (pc + 1) L (rest)) : G g RX7 cc nL ret XT rm Z cells slots (pW g b F0 A0 c pa pb pt pv ph po pu f24 f8 A2 ω0) z (pc) L (.int x :: .int i :: .ref (b + 14) :: rest) := msc_held n hN hn hi hd (by rw [show pA A0 f24 f8 24 = f24 from rfl, pA_s24]; exact k)
theorem msp_codes (n : Nat) {i x : Int32} (hN : gN g ≤ b) (hn : n < 1200) (hi : i = nI n) (hd : decode cc pc = .ok (.iastore, 1)) (k : G g RX7 cc nL ret XT rm Z cells slots (pW g b F0 A0 c pa pb pt pv ph po pu f24 (upd f8 n x) A2 ω0) z (pc + 1) L (rest)) : G g RX7 cc nL ret XT rm Z cells slots (pW g b F0 A0 c pa pb pt pv ph po pu f24 f8 A2 ω0) z (pc) L (.int x :: .int i :: .ref (b + 5) :: rest) := msc_codes n hN hn hi hd (by rw [show pA A0 f24 f8 8 = f8 from rfl, pA_s8]; exact k)
theorem msp_starts (n : Nat) {i x : Int32} (hN : gN g ≤ b) (hn : n < 24) (hi : i = nI n) (hd : decode cc pc = .ok (.iastore, 1)) (k : G g RX7 cc nL ret XT rm Z cells slots (pW g b F0 (sA A0 9 (upd (A0 9) n x)) c pa pb pt pv ph po pu f24 f8 A2 ω0) z (pc + 1) L (rest)) : G g RX7 cc nL ret XT rm Z cells slots (pW g b F0 A0 c pa pb pt pv ph po pu f24 f8 A2 ω0) z (pc) L (.int x :: .int i :: .ref (b + 6) :: rest) := msc_starts n hN hn hi hd (by rw [show pA A0 f24 f8 9 = A0 9 from rfl, pA_s9]; exact k)
end PR
def rankF (s : Int32) : Int32 := if s = 0 then 0 else if s = 11 then 1 else if s = 12 then 2 else if s = 13 then 3 else if 15 < s then (if 17 < s then (if s = 18 then 6 else 7) else 5) else 4
/-- the words from..to against the k-th word -/
def wdC (tp wd : Nat → Int32) (fr to k : Nat) : Nat → Nat → Bool
  | 0, _ => true
  | m + 1, q => if wd (8 * k + q) = (if fr + q < to then tp (fr + q) else 32) then wdC tp wd fr to k m (q + 1) else false
def wdM (tp wd : Nat → Int32) (fr to k : Nat) : Bool := if to ≤ fr + 8 then wdC tp wd fr to k 8 0 else false
def wdL (tp wd : Nat → Int32) (fr to : Nat) : Nat → Nat → Nat
  | 0, k => k
  | m + 1, k => if wdM tp wd fr to k = true then k else wdL tp wd fr to m (k + 1)
def wdF (tp wd : Nat → Int32) (fr to : Nat) : Nat := wdL tp wd fr to 12 0
section A
variable {g : GE} {b z n : Nat} {F0 : Nat → Int32} {A0 A2 : Nat → Nat → Int32} {ω0 ω : Om} {c : Cr} {pa pb pt pv ph po pu : Int32} {f24 f8 : Nat → Int32}
theorem c_rank {s : Int32} : Ct g yX7_rank cX7_rank 1 (some .int) 1 0 0 [.int s] ω z (dQ (some (.int (rankF s))) ω z) := by
  refine Ct.at (own := RX7) (by decide) rfl (Nat.le_of_ble_eq_true rfl) rfl ?_
  refine g_iload_n dX7_rank_0 rfl ?_
  refine g_if_ne 8 dX7_rank_1 (by decide) (fun c1 => ?_) (fun c1 => ?_)
  · refine g_iload_n dX7_rank_8 rfl ?_
    refine g_bipush (11) dX7_rank_9 rfl ?_
    refine g_icmp_ne 18 dX7_rank_11 (by decide) (fun c2 => ?_) (fun c2 => ?_)
    · refine g_iload_n dX7_rank_18 rfl ?_
      refine g_bipush (12) dX7_rank_19 rfl ?_
      refine g_icmp_ne 28 dX7_rank_21 (by decide) (fun c3 => ?_) (fun c3 => ?_)
      · refine g_iload_n dX7_rank_28 rfl ?_
        refine g_bipush (13) dX7_rank_29 rfl ?_
        refine g_icmp_ne 38 dX7_rank_31 (by decide) (fun c4 => ?_) (fun c4 => ?_)
        · refine g_iload_n dX7_rank_38 rfl ?_
          refine g_bipush (15) dX7_rank_39 rfl ?_
          refine g_icmp_gt 48 dX7_rank_41 (by decide) (fun c5 => ?_) (fun c5 => ?_)
          · refine g_iload_n dX7_rank_48 rfl ?_
            refine g_bipush (17) dX7_rank_49 rfl ?_
            refine g_icmp_gt 58 dX7_rank_51 (by decide) (fun c6 => ?_) (fun c6 => ?_)
            · refine g_iload_n dX7_rank_58 rfl ?_
              refine g_bipush (18) dX7_rank_59 rfl ?_
              refine g_icmp_ne 69 dX7_rank_61 (by decide) (fun c7 => ?_) (fun c7 => ?_)
              · refine g_bipush (7) dX7_rank_69 rfl ?_
                refine g_iret rfl (Nat.le_refl _) (Nat.le_refl _) ?_ dX7_rank_71
                exact dQ.of (by simp_all [rankF, -Int32.not_le, -Int32.not_lt])
              · refine g_bipush (6) dX7_rank_64 rfl ?_
                refine g_goto 71 dX7_rank_66 (by decide) ?_
                refine g_iret rfl (Nat.le_refl _) (Nat.le_refl _) ?_ dX7_rank_71
                exact dQ.of (by simp_all [rankF, -Int32.not_le, -Int32.not_lt])
            · refine g_iconst (5) dX7_rank_54 rfl ?_
              refine g_goto 71 dX7_rank_55 (by decide) ?_
              refine g_iret rfl (Nat.le_refl _) (Nat.le_refl _) ?_ dX7_rank_71
              exact dQ.of (by simp_all [rankF, -Int32.not_le, -Int32.not_lt])
          · refine g_iconst (4) dX7_rank_44 rfl ?_
            refine g_goto 71 dX7_rank_45 (by decide) ?_
            refine g_iret rfl (Nat.le_refl _) (Nat.le_refl _) ?_ dX7_rank_71
            exact dQ.of (by simp_all [rankF, -Int32.not_le, -Int32.not_lt])
        · refine g_iconst (3) dX7_rank_34 rfl ?_
          refine g_goto 71 dX7_rank_35 (by decide) ?_
          refine g_iret rfl (Nat.le_refl _) (Nat.le_refl _) ?_ dX7_rank_71
          exact dQ.of (by simp_all [rankF, -Int32.not_le, -Int32.not_lt])
      · refine g_iconst (2) dX7_rank_24 rfl ?_
        refine g_goto 71 dX7_rank_25 (by decide) ?_
        refine g_iret rfl (Nat.le_refl _) (Nat.le_refl _) ?_ dX7_rank_71
        exact dQ.of (by simp_all [rankF, -Int32.not_le, -Int32.not_lt])
    · refine g_iconst (1) dX7_rank_14 rfl ?_
      refine g_goto 71 dX7_rank_15 (by decide) ?_
      refine g_iret rfl (Nat.le_refl _) (Nat.le_refl _) ?_ dX7_rank_71
      exact dQ.of (by simp_all [rankF, -Int32.not_le, -Int32.not_lt])
  · refine g_iconst (0) dX7_rank_4 rfl ?_
    refine g_goto 71 dX7_rank_5 (by decide) ?_
    refine g_iret rfl (Nat.le_refl _) (Nat.le_refl _) ?_ dX7_rank_71
    exact dQ.of (by simp_all [rankF, -Int32.not_le, -Int32.not_lt])
theorem wdL_le (tp wd : Nat → Int32) (fr to : Nat) : ∀ m k, wdL tp wd fr to m k ≤ k + m
  | 0, k => Nat.le_refl _
  | m + 1, k => by
    unfold wdL; split
    · omega
    · have := wdL_le tp wd fr to m (k + 1); omega
theorem l_wordC {fr to k : Nat} {Q : Option Value → Om → Nat → Prop} (hfr : fr ≤ to) (hto : to ≤ 160) (hk : k < 12)
    (hK : ∀ u, GN g RX7 cX7_wordFrom 6 (some .int) 1 Q (pW g b F0 A0 c pa pb pt pv ph po pu f24 f8 A2 ω0) z 88 [(5, .int u), (4, .int (if wdM (A0 6) (A0 23) fr to k = true then 1 else 0)), (3, .int (nI k)), (0, .ref b), (1, .int (nI fr)), (2, .int (nI to))] []) (h8 : to ≤ fr + 8) :
    ∀ (m q : Nat), q + m = 8 → wdC (A0 6) (A0 23) fr to k m q = wdM (A0 6) (A0 23) fr to k → GN g RX7 cX7_wordFrom 6 (some .int) 1 Q (pW g b F0 A0 c pa pb pt pv ph po pu f24 f8 A2 ω0) z 26 [(5, .int (nI q)), (4, .int 1), (3, .int (nI k)), (0, .ref b), (1, .int (nI fr)), (2, .int (nI to))] [] := by
  intro m
  induction m with
  | zero =>
    intro q hq hr
    have hq : q = 8 := by omega
    subst hq
    rw [← hr] at hK
    refine g_iload dX7_wordFrom_26 rfl ?_
    refine g_bipush (8) dX7_wordFrom_28 rfl ?_
    refine g_icmp_ge 88 dX7_wordFrom_30 (by decide) (fun _ => ?_) (fun h9 => absurd (by decide) h9)
    exact hK _
  | succ m ih =>
    intro q hq hr
    unfold wdC at hr
    refine g_iload dX7_wordFrom_26 rfl ?_
    refine g_bipush (8) dX7_wordFrom_28 rfl ?_
    refine g_icmp_ge 88 dX7_wordFrom_30 (by decide) (fun h9 => absurd h9 (nI_ge (b := 8) (by omega) (by decide))) (fun _ => ?_)
    refine g_iload dX7_wordFrom_33 rfl ?_
    refine g_if_eq 88 dX7_wordFrom_35 (by decide) (fun h9 => absurd h9 (by decide)) (fun _ => ?_)
    refine g_aload_n dX7_wordFrom_38 rfl ?_
    refine mg_words dX7_wordFrom_39 ?_
    refine g_bipush (8) dX7_wordFrom_42 rfl ?_
    refine g_iload_n dX7_wordFrom_44 rfl ?_
    refine g_imul dX7_wordFrom_45 ?_
    refine g_iload dX7_wordFrom_46 rfl ?_
    refine g_iadd dX7_wordFrom_48 ?_
    refine mlp_words (((8 * k) + q)) (by omega) (by first | rfl | (simp only [nI, Int32.ofNat_add, Int32.ofNat_mul]; rfl) | (simp only [nI, Int32.ofNat_add, Int32.ofNat_mul]; done)) dX7_wordFrom_49 ?_
    refine g_join 72 (fun v => v = if fr + q < to then A0 6 (fr + q) else 32) (fun v hv => ?_) (fun K => ?_)
    · subst hv
      refine g_icmp_ne 79 dX7_wordFrom_72 (by decide) (fun c1 => ?_) (fun c1 => ?_)
      · rw [if_neg c1] at hr
        rw [← hr] at hK
        refine g_iconst (0) dX7_wordFrom_79 rfl ?_
        refine g_istore (L' := [(4, _), (5, _), (3, _), (0, _), (1, _), (2, _)]) dX7_wordFrom_80 (by decide) rfl ?_
        refine g_iinc (nI (q + 1)) (L' := [(5, _), (4, _), (3, _), (0, _), (1, _), (2, _)]) dX7_wordFrom_82 rfl (nI_1 _) (by decide) rfl ?_
        refine g_goto 26 dX7_wordFrom_85 (by decide) ?_
        refine g_iload dX7_wordFrom_26 rfl ?_
        refine g_bipush (8) dX7_wordFrom_28 rfl ?_
        refine g_icmp_ge 88 dX7_wordFrom_30 (by decide) (fun c2 => ?_) (fun c2 => ?_)
        ·
          exact hK _
        · refine g_iload dX7_wordFrom_33 rfl ?_
          refine g_if_eq 88 dX7_wordFrom_35 (by decide) (fun _ => ?_) (fun h9 => absurd rfl h9)
          exact hK _
      · rw [if_pos c1] at hr
        refine g_iconst (1) dX7_wordFrom_75 rfl ?_
        refine g_goto 80 dX7_wordFrom_76 (by decide) ?_
        refine g_istore (L' := [(4, _), (5, _), (3, _), (0, _), (1, _), (2, _)]) dX7_wordFrom_80 (by decide) rfl ?_
        refine g_iinc (nI (q + 1)) (L' := [(5, _), (4, _), (3, _), (0, _), (1, _), (2, _)]) dX7_wordFrom_82 rfl (nI_1 _) (by decide) rfl ?_
        refine g_goto 26 dX7_wordFrom_85 (by decide) ?_
        exact ih (q + 1) (by omega) hr
    · refine g_iload_n dX7_wordFrom_50 rfl ?_
      refine g_iload dX7_wordFrom_51 rfl ?_
      refine g_iadd dX7_wordFrom_53 ?_
      refine g_iload_n dX7_wordFrom_54 rfl ?_
      refine g_icmp_ge 70 dX7_wordFrom_55 (by decide) (fun c1 => ?_) (fun c1 => ?_)
      · refine g_bipush (32) dX7_wordFrom_70 rfl ?_
        exact K _ (by rw [if_neg (by rw [nI_add] at c1; have := (nI_leI (by omega) (by omega)).mp c1; omega)])
      · have hlt : fr + q < to := Nat.lt_of_not_le fun h => c1 (by rw [nI_add]; exact nI_le h (by omega))
        refine g_aload_n dX7_wordFrom_58 rfl ?_
        refine mg_tape dX7_wordFrom_59 ?_
        refine g_iload_n dX7_wordFrom_62 rfl ?_
        refine g_iload dX7_wordFrom_63 rfl ?_
        refine g_iadd dX7_wordFrom_65 ?_
        refine mlp_tape ((fr + q)) (by omega) (by first | rfl | (simp only [nI, Int32.ofNat_add, Int32.ofNat_mul]; rfl) | (simp only [nI, Int32.ofNat_add, Int32.ofNat_mul]; done)) dX7_wordFrom_66 ?_
        refine g_goto 72 dX7_wordFrom_67 (by decide) ?_
        exact K _ (by rw [if_pos hlt])
theorem l_wordK {fr to : Nat} {Q : Option Value → Om → Nat → Prop} (hfr : fr ≤ to) (hto : to ≤ 160) (hQ : ∀ ω', ω' = pW g b F0 A0 c pa pb pt pv ph po pu f24 f8 A2 ω0 → Q (some (.int (nI (wdF (A0 6) (A0 23) fr to)))) ω' z) :
    ∀ (m k : Nat), k + m = 12 → wdL (A0 6) (A0 23) fr to m k = wdF (A0 6) (A0 23) fr to → GN g RX7 cX7_wordFrom 6 (some .int) 1 Q (pW g b F0 A0 c pa pb pt pv ph po pu f24 f8 A2 ω0) z 2 [(3, .int (nI k)), (0, .ref b), (1, .int (nI fr)), (2, .int (nI to))] [] := by
  have hsub : nI to - nI fr = nI (to - fr) := pk_sub hfr
  intro m
  induction m with
  | zero =>
    intro k hk hr
    have hk : k = 12 := by omega
    subst hk
    rw [← hr] at hQ
    refine g_iload_n dX7_wordFrom_2 rfl ?_
    refine g_bipush (12) dX7_wordFrom_3 rfl ?_
    refine g_icmp_ge 101 dX7_wordFrom_5 (by decide) (fun _ => ?_) (fun h9 => absurd (by decide) h9)
    refine g_bipush (12) dX7_wordFrom_101 rfl ?_
    refine g_iret rfl (Nat.le_refl _) (Nat.le_refl _) ?_ dX7_wordFrom_103
    exact hQ _ rfl
  | succ m ih =>
    intro k hk hr
    unfold wdL at hr
    have K : ∀ u, GN g RX7 cX7_wordFrom 6 (some .int) 1 Q (pW g b F0 A0 c pa pb pt pv ph po pu f24 f8 A2 ω0) z 88 [(5, .int u), (4, .int (if wdM (A0 6) (A0 23) fr to k = true then 1 else 0)), (3, .int (nI k)), (0, .ref b), (1, .int (nI fr)), (2, .int (nI to))] [] := by
      intro u
      by_cases hw : wdM (A0 6) (A0 23) fr to k = true
      · rw [if_pos hw] at hr ⊢
        refine g_iload dX7_wordFrom_88 rfl ?_
        refine g_if_eq 95 dX7_wordFrom_90 (by decide) (fun h9 => absurd h9 (by decide)) (fun _ => ?_)
        refine g_iload_n dX7_wordFrom_93 rfl ?_
        refine g_iret rfl (Nat.le_refl _) (Nat.le_refl _) ?_ dX7_wordFrom_94
        rw [← hr] at hQ
        exact hQ _ rfl
      · rw [if_neg hw] at hr ⊢
        refine g_iload dX7_wordFrom_88 rfl ?_
        refine g_if_eq 95 dX7_wordFrom_90 (by decide) (fun _ => ?_) (fun h9 => absurd rfl h9)
        refine g_iinc (nI (k + 1)) (L' := [(3, _), (5, _), (4, _), (0, _), (1, _), (2, _)]) dX7_wordFrom_95 rfl (nI_1 _) (by decide) rfl ?_
        refine g_goto 2 dX7_wordFrom_98 (by decide) ?_
        refine g_pick [0, 3, 4, 5] rfl ?_
        exact ih (k + 1) (by omega) hr
    refine g_iload_n dX7_wordFrom_2 rfl ?_
    refine g_bipush (12) dX7_wordFrom_3 rfl ?_
    refine g_icmp_ge 101 dX7_wordFrom_5 (by decide) (fun h9 => absurd h9 (nI_ge (b := 12) (by omega) (by decide))) (fun _ => ?_)
    refine g_iload_n dX7_wordFrom_8 rfl ?_
    refine g_iload_n dX7_wordFrom_9 rfl ?_
    refine g_isub dX7_wordFrom_10 ?_
    rw [hsub]
    by_cases h8 : to ≤ fr + 8
    · refine g_bipush (8) dX7_wordFrom_11 rfl ?_
      refine g_icmp_gt 20 dX7_wordFrom_13 (by decide) (fun h9 => absurd h9 (nI_nlt (a := 8) (by omega) (by omega))) (fun _ => ?_)
      refine g_iconst (1) dX7_wordFrom_16 rfl ?_
      refine g_goto 21 dX7_wordFrom_17 (by decide) ?_
      refine g_istore (L' := [(4, _), (3, _), (0, _), (1, _), (2, _)]) dX7_wordFrom_21 (by decide) rfl ?_
      refine g_iconst (0) dX7_wordFrom_23 rfl ?_
      refine g_istore (L' := [(5, _), (4, _), (3, _), (0, _), (1, _), (2, _)]) dX7_wordFrom_24 (by decide) rfl ?_
      exact l_wordC hfr hto (by omega) K h8 8 0 (by omega) (by unfold wdM; rw [if_pos h8])
    · refine g_bipush (8) dX7_wordFrom_11 rfl ?_
      refine g_icmp_gt 20 dX7_wordFrom_13 (by decide) (fun _ => ?_) (fun h9 => absurd (nI_lt (a := 8) (by omega) (by omega)) h9)
      refine g_iconst (0) dX7_wordFrom_20 rfl ?_
      refine g_istore (L' := [(4, _), (3, _), (0, _), (1, _), (2, _)]) dX7_wordFrom_21 (by decide) rfl ?_
      refine g_iconst (0) dX7_wordFrom_23 rfl ?_
      refine g_istore (L' := [(5, _), (4, _), (3, _), (0, _), (1, _), (2, _)]) dX7_wordFrom_24 (by decide) rfl ?_
      have hw : wdM (A0 6) (A0 23) fr to k = false := by unfold wdM; rw [if_neg h8]
      rw [hw] at K
      refine g_iload dX7_wordFrom_26 rfl ?_
      refine g_bipush (8) dX7_wordFrom_28 rfl ?_
      refine g_icmp_ge 88 dX7_wordFrom_30 (by decide) (fun c1 => ?_) (fun c1 => ?_)
      · exact absurd c1 (by decide)
      · refine g_iload dX7_wordFrom_33 rfl ?_
        refine g_if_eq 88 dX7_wordFrom_35 (by decide) (fun _ => ?_) (fun h9 => absurd rfl h9)
        exact K _
theorem c_wordFrom {fr to : Nat} (hfr : fr ≤ to) (hto : to ≤ 160) : Ct g yX7_wordFrom cX7_wordFrom 6 (some .int) 1 0 0 [.ref b, .int (nI fr), .int (nI to)] (pW g b F0 A0 c pa pb pt pv ph po pu f24 f8 A2 ω0) z (mQ g b ω0 z (some (.int (nI (wdF (A0 6) (A0 23) fr to)))) (mF (pF F0 pa pb pt pv ph po pu) c) (mA (pA A0 f24 f8) c)) := by
  refine Ct.at (own := RX7) (by decide) rfl (Nat.le_of_ble_eq_true rfl) rfl ?_
  refine g_iconst (0) dX7_wordFrom_0 rfl ?_
  refine g_istore_n (L' := [(3, _), (0, _), (1, _), (2, _)]) dX7_wordFrom_1 (by decide) rfl ?_
  exact l_wordK hfr hto (fun ω' h => by subst h; exact mQ.mk) 12 0 (by omega) rfl
end A
