/-! the core: who lands, who is taught, tides -/
set_option maxRecDepth 100000
/-- fishers; kinds; numbers; the law's three rows -/
abbrev En : Type := Nat × (Nat → Int32) × (Nat → Int32) × (Nat → List Int32)
/-- known, kept, luck of each; the sea; the tide -/
abbrev Cr : Type := (Nat → Int32) × Int32 × Int32
def nmF (e : En) (c : Cr) (part p : Nat) (thing : Int32) : Nat → Int32 := fun k => if k = 0 then (if part = 2 then 0 else thing) else if k = 1 then bits (c.1 (3 * p)) else if k = 2 then bits (c.1 (3 * p + 1)) else if k = 3 then c.2.2 else if k = 4 then c.1 (3 * p + 2) else e.2.2.1 p
def asksF (e : En) (c : Cr) (part p : Nat) (thing : Int32) : Int32 := wthn (sval (nmF e c part p thing) (e.2.2.2 part)) (if part = 2 then 0 else -99) (if part = 2 then 16 else 99)
def rem (a b : Int32) : Int32 := a - a / b * b
def fmd (v n : Int32) : Int32 := if rem v n < 0 then rem v n + n else rem v n
def letsI (k mo n fi : Int32) : Int32 := if k = 1 then n - 1 - fi else if k = 3 then (if 1 < n ∧ n - 1 - fi < 1 then 1 else n - 1 - fi) else if k = 5 then rem mo n else fi
theorem letsI_3 (mo n fi : Int32) : letsI 3 mo n fi = if 1 < n ∧ n - 1 - fi < 1 then 1 else n - 1 - fi := rfl
theorem letsI_3a {mo n fi : Int32} (h : n ≤ 1) : letsI 3 mo n fi = n - 1 - fi := by rw [letsI_3, if_neg (fun q => absurd q.1 (Int32.not_lt.mpr h))]
theorem letsI_3b {mo n fi : Int32} (h : 1 ≤ n - 1 - fi) : letsI 3 mo n fi = n - 1 - fi := by rw [letsI_3, if_neg (fun q => absurd q.2 (Int32.not_lt.mpr h))]
theorem letsI_3c {mo n fi : Int32} (h : ¬ n ≤ 1) (h2 : ¬ 1 ≤ n - 1 - fi) : letsI 3 mo n fi = 1 := by rw [letsI_3, if_pos ⟨Int32.not_le.mp h, Int32.not_le.mp h2⟩]
def letsF (e : En) (c : Cr) (p : Nat) (t : Int32) : Int32 := if bits (c.1 (3 * p)) = 0 then -1 else nth (c.1 (3 * p)) (letsI (e.2.1 p) (e.2.2.1 p) (bits (c.1 (3 * p))) (fmd (asksF e c 0 p t) (bits (c.1 (3 * p)))))
def lucksI (k mo v : Int32) (kn : Prop) [Decidable kn] : Int32 := if k = 1 ∨ k = 3 then (if kn then v else v - mo) else if k = 2 then v / 2 else if k = 4 then (if kn then mo else v / 2) else v
theorem lucksI_1 {mo v : Int32} {kn : Prop} [Decidable kn] : lucksI 1 mo v kn = if kn then v else v - mo := rfl
theorem lucksI_3 {mo v : Int32} {kn : Prop} [Decidable kn] : lucksI 3 mo v kn = if kn then v else v - mo := rfl
theorem lucksI_4 {mo v : Int32} {kn : Prop} [Decidable kn] : lucksI 4 mo v kn = if kn then mo else v / 2 := rfl
def knows (c : Cr) (p : Nat) (t : Int32) : Prop := (c.1 (3 * p) >>> (t &&& 31)) &&& 1 = 1
def lucksF (e : En) (c : Cr) (p : Nat) (t : Int32) : Int32 := lucksI (e.2.1 p) (e.2.2.1 p) (asksF e c 1 p t) ((c.1 (3 * p) >>> (t &&& 31)) &&& 1 = 1)
def takesI (k mo v tide : Int32) : Int32 := if k = 2 then v + mo else if k = 3 then (if rem tide 3 = 0 then v else 0) else if k = 4 then 2 * (v + mo) else if k = 5 then 1 else v
theorem takes_3 {mo v tide : Int32} (h : ¬ rem tide 3 = 0) : takesI 3 mo v tide = 0 := if_neg h
theorem takes_3n {mo v tide : Int32} (h : rem tide 3 = 0) : takesI 3 mo v tide = v := if_pos h
def takesF (e : En) (c : Cr) (p : Nat) : Int32 := takesI (e.2.1 p) (e.2.2.1 p) (asksF e c 2 p 0) c.2.2
def one (t : Int32) : Int32 := 1 <<< (t &&& 31)
def landC (c : Cr) (p : Nat) (t name lu : Int32) : Cr :=
  let R1 := upd c.1 (3 * p + 1) (c.1 (3 * p + 1) ||| one t)
  if name = -1 then (upd R1 (3 * p + 2) (wthn (R1 (3 * p + 2) + lu) 0 99), c.2.1, c.2.2) else
  let R2 := upd R1 (3 * p) (R1 (3 * p) &&& (one name ^^^ -1))
  (upd R2 (3 * p + 2) (wthn (R2 (3 * p + 2) + lu) 0 99), c.2.1 ||| one name, c.2.2)
def landF (e : En) (c : Cr) (p : Nat) (t : Int32) : Cr := landC c p t (letsF e c p t) (lucksF e c p t)
def lrnL (all tk : Int32) : Nat → Nat → Int32 → Int32 → Int32
  | 0, _, l, _ => l
  | f + 1, t, l, n => if tk ≤ n then l else if sb all t = 1 then lrnL all tk f (t + 1) (l ||| one (nI t)) (n + 1) else lrnL all tk f (t + 1) l n
def lrn (all tk : Int32) : Int32 := lrnL all tk 16 0 0 0
def lesF (e : En) (c : Cr) (a b : Nat) : Int32 := lrn (c.1 (3 * a) &&& (c.1 (3 * b) ^^^ -1)) (takesF e c b)
def lesC (e : En) (c : Cr) (a b : Nat) : Cr := (upd c.1 (3 * b) (c.1 (3 * b) ||| lesF e c a b), c.2.1, c.2.2)
def toL (R : Nat → Int32) : Nat → Nat → Nat → Nat
  | 0, _, to => to
  | f + 1, p, to => toL R f (p + 1) (if bits (R (3 * p)) < bits (R (3 * to)) then p else to)
def toF (R : Nat → Int32) (n : Nat) : Nat := toL R (n - 1) 1 0
def tideN (n : Nat) (c : Cr) : Int32 := if n = 0 then -1 else nth c.2.1 0
def tideC (n : Nat) (c : Cr) : Cr := if n = 0 ∨ nth c.2.1 0 = -1 then (c.1, c.2.1, c.2.2 + 1) else
  (upd c.1 (3 * toF c.1 n) (c.1 (3 * toF c.1 n) ||| one (nth c.2.1 0)), c.2.1 &&& (one (nth c.2.1 0) ^^^ -1), c.2.2 + 1)
def mF (F : Nat → Int32) (c : Cr) : Nat → Int32 := upd (upd F 4 c.2.1) 5 c.2.2
def mA (A : Nat → Nat → Int32) (c : Cr) : Nat → Nat → Int32 := sA A 3 c.1
theorem mF_4 (F : Nat → Int32) (c : Cr) : mF F c 4 = c.2.1 := rfl
theorem mF_5 (F : Nat → Int32) (c : Cr) : mF F c 5 = c.2.2 := rfl
theorem mF_s4 (F : Nat → Int32) (c : Cr) (x : Int32) : upd (mF F c) 4 x = mF F (c.1, x, c.2.2) := by
  funext k
  by_cases h4 : k = 4
  · subst h4; rfl
  · by_cases h5 : k = 5
    · subst h5; rfl
    · rw [upd_ne _ _ h4]; unfold mF; rw [upd_ne _ _ h5, upd_ne _ _ h5, upd_ne _ _ h4, upd_ne _ _ h4]
theorem mF_s5 (F : Nat → Int32) (c : Cr) (x : Int32) : upd (mF F c) 5 x = mF F (c.1, c.2.1, x) := by
  unfold mF; rw [upd_upd]
theorem mF_sk (F : Nat → Int32) (c : Cr) {k : Nat} (x : Int32) (h4 : k ≠ 4) (h5 : k ≠ 5) : upd (mF F c) k x = mF (upd F k x) c := by
  funext j
  unfold mF
  by_cases hj : j = k
  · subst hj; rw [upd_same, upd_ne _ _ h5, upd_ne _ _ h4, upd_same]
  · rw [upd_ne _ _ hj]
    by_cases h : j = 5
    · subst h; rw [upd_same, upd_same]
    · rw [upd_ne _ _ h, upd_ne _ _ h]
      by_cases h : j = 4
      · subst h; rw [upd_same, upd_same]
      · rw [upd_ne _ _ h, upd_ne _ _ h, upd_ne _ _ hj]
theorem mA_3 (A : Nat → Nat → Int32) (c : Cr) : mA A c 3 = c.1 := rfl
theorem mA_s3 (A : Nat → Nat → Int32) (c : Cr) (f : Nat → Int32) : sA (mA A c) 3 f = mA A (f, c.2.1, c.2.2) := by
  unfold mA; rw [sA_sA]
theorem mA_sk (A : Nat → Nat → Int32) (c : Cr) {k : Nat} (f : Nat → Int32) (h : k ≠ 3) : sA (mA A c) k f = mA (sA A k f) c := by
  funext j
  unfold mA
  by_cases hj : j = k
  · subst hj; rw [sA_same, sA_ne _ _ h, sA_same]
  · rw [sA_ne _ _ hj]
    by_cases h3 : j = 3
    · subst h3; rw [sA_same, sA_same]
    · rw [sA_ne _ _ h3, sA_ne _ _ h3, sA_ne _ _ hj]
theorem mF_self (F : Nat → Int32) (A : Nat → Nat → Int32) : mF F (A 3, F 4, F 5) = F := by unfold mF; rw [upd_self, upd_self]
theorem mA_self (F : Nat → Int32) (A : Nat → Nat → Int32) : mA A (A 3, F 4, F 5) = A := by unfold mA; rw [sA_self]
theorem mF_mF (F : Nat → Int32) (c c' : Cr) : mF (mF F c) c' = mF F c' := by
  unfold mF
  funext j
  by_cases h5 : j = 5
  · subst h5; rfl
  · rw [upd_ne _ _ h5, upd_ne _ _ h5]
    by_cases h4 : j = 4
    · subst h4; rfl
    · rw [upd_ne _ _ h4, upd_ne _ _ h4, upd_ne _ _ h5, upd_ne _ _ h4]
theorem mA_mA (A : Nat → Nat → Int32) (c c' : Cr) : mA (mA A c) c' = mA A c' := by unfold mA; rw [sA_sA]
/-- what the reference's fields say of the surroundings -/
def EnM (F : Nat → Int32) (A : Nat → Nat → Int32) (n : Nat) (ts : Nat → List Int32) : Prop := F 0 = nI n ∧ n ≤ 6 ∧ ∃ r, r < 6 ∧ F 11 = nI r ∧ TXr A r ts
abbrev eM (A : Nat → Nat → Int32) (n : Nat) (ts : Nat → List Int32) : En := (n, A 1, A 2, ts)
theorem tsw_ne {x : Int32} {lo hi : Int} (h : x.toInt < lo ∨ hi < x.toInt) (k : Int32) (hk : lo ≤ k.toInt ∧ k.toInt ≤ hi) : ¬ x = k := by
  rintro rfl; omega
section R
variable {g : GE} {b : Nat} {F : Nat → Int32} {A A2 : Nat → Nat → Int32} {ω0 : Om} {c : Cr} {cc : ByteArray} {nL : Nat} {ret : Option FieldType} {XT : Method → Code → Prop} {rm : Room} {Z : ZT} {cells slots : Nat} {z pc : Nat} {L : List (Nat × Value)} {rest : List Value}
theorem mlc_rows (n : Nat) {i : Int32} (hn : n < 18) (hi : i = nI n) (hd : decode cc pc = .ok (.iaload, 1)) (k : G g RX7 cc nL ret XT rm Z cells slots (hM g b (mF F c) (mA A c) A2 ω0) z (pc + 1) L (.int (c.1 n) :: rest)) : G g RX7 cc nL ret XT rm Z cells slots (hM g b (mF F c) (mA A c) A2 ω0) z pc L (.int i :: .ref (b + 3) :: rest) := ml_rows n hn hi hd k
theorem msc_rows (n : Nat) {i x : Int32} (hN : gN g ≤ b) (hn : n < 18) (hi : i = nI n) (hd : decode cc pc = .ok (.iastore, 1)) (k : G g RX7 cc nL ret XT rm Z cells slots (hM g b (mF F (upd c.1 n x, c.2.1, c.2.2)) (mA A (upd c.1 n x, c.2.1, c.2.2)) A2 ω0) z (pc + 1) L rest) : G g RX7 cc nL ret XT rm Z cells slots (hM g b (mF F c) (mA A c) A2 ω0) z pc L (.int x :: .int i :: .ref (b + 3) :: rest) := ms_rows n hN hn hi hd (by rw [mA_3, mA_s3]; exact k)
theorem mgc_sea (hd : decode cc pc = .ok (.getfield 76, 3)) (k : G g RX7 cc nL ret XT rm Z cells slots (hM g b (mF F c) (mA A c) A2 ω0) z (pc + 3) L (.int c.2.1 :: rest)) : G g RX7 cc nL ret XT rm Z cells slots (hM g b (mF F c) (mA A c) A2 ω0) z pc L (.ref b :: rest) := mg_sea hd k
theorem mgc_tides (hd : decode cc pc = .ok (.getfield 83, 3)) (k : G g RX7 cc nL ret XT rm Z cells slots (hM g b (mF F c) (mA A c) A2 ω0) z (pc + 3) L (.int c.2.2 :: rest)) : G g RX7 cc nL ret XT rm Z cells slots (hM g b (mF F c) (mA A c) A2 ω0) z pc L (.ref b :: rest) := mg_tides hd k
theorem mpc_sea {v : Int32} (hN : gN g ≤ b) (hd : decode cc pc = .ok (.putfield 76, 3)) (k : G g RX7 cc nL ret XT rm Z cells slots (hM g b (mF F (c.1, v, c.2.2)) (mA A (c.1, v, c.2.2)) A2 ω0) z (pc + 3) L rest) : G g RX7 cc nL ret XT rm Z cells slots (hM g b (mF F c) (mA A c) A2 ω0) z pc L (.int v :: .ref b :: rest) := mp_sea hN hd (by rw [mF_s4]; exact k)
theorem mpc_tides {v : Int32} (hN : gN g ≤ b) (hd : decode cc pc = .ok (.putfield 83, 3)) (k : G g RX7 cc nL ret XT rm Z cells slots (hM g b (mF F (c.1, c.2.1, v)) (mA A (c.1, c.2.1, v)) A2 ω0) z (pc + 3) L rest) : G g RX7 cc nL ret XT rm Z cells slots (hM g b (mF F c) (mA A c) A2 ω0) z pc L (.int v :: .ref b :: rest) := mp_tides hN hd (by rw [mF_s5]; exact k)
theorem mgc_fishers (hd : decode cc pc = .ok (.getfield 69, 3)) (k : G g RX7 cc nL ret XT rm Z cells slots (hM g b (mF F c) (mA A c) A2 ω0) z (pc + 3) L (.int (F 0) :: rest)) : G g RX7 cc nL ret XT rm Z cells slots (hM g b (mF F c) (mA A c) A2 ω0) z (pc) L (.ref b :: rest) := mg_fishers hd k
theorem mpc_fishers {v : Int32} (hN : gN g ≤ b) (hd : decode cc pc = .ok (.putfield 69, 3)) (k : G g RX7 cc nL ret XT rm Z cells slots (hM g b (mF (upd F 0 v) c) (mA A c) A2 ω0) z (pc + 3) L (rest)) : G g RX7 cc nL ret XT rm Z cells slots (hM g b (mF F c) (mA A c) A2 ω0) z (pc) L (.int v :: .ref b :: rest) := mp_fishers hN hd (by rw [mF_sk _ _ _ (by decide) (by decide)]; exact k)
theorem mlc_kind (n : Nat) {i : Int32} (hn : n < 6) (hi : i = nI n) (hd : decode cc pc = .ok (.iaload, 1)) (k : G g RX7 cc nL ret XT rm Z cells slots (hM g b (mF F c) (mA A c) A2 ω0) z (pc + 1) L (.int (A 1 n) :: rest)) : G g RX7 cc nL ret XT rm Z cells slots (hM g b (mF F c) (mA A c) A2 ω0) z (pc) L (.int i :: .ref (b + 1) :: rest) := ml_kind n hn hi hd k
theorem msc_kind (n : Nat) {i x : Int32} (hN : gN g ≤ b) (hn : n < 6) (hi : i = nI n) (hd : decode cc pc = .ok (.iastore, 1)) (k : G g RX7 cc nL ret XT rm Z cells slots (hM g b (mF F c) (mA (sA A 1 (upd (A 1) n x)) c) A2 ω0) z (pc + 1) L (rest)) : G g RX7 cc nL ret XT rm Z cells slots (hM g b (mF F c) (mA A c) A2 ω0) z (pc) L (.int x :: .int i :: .ref (b + 1) :: rest) := ms_kind n hN hn hi hd (by rw [show mA A c 1 = A 1 from rfl, mA_sk _ _ _ (by decide)]; exact k)
theorem mlc_moreOf (n : Nat) {i : Int32} (hn : n < 6) (hi : i = nI n) (hd : decode cc pc = .ok (.iaload, 1)) (k : G g RX7 cc nL ret XT rm Z cells slots (hM g b (mF F c) (mA A c) A2 ω0) z (pc + 1) L (.int (A 2 n) :: rest)) : G g RX7 cc nL ret XT rm Z cells slots (hM g b (mF F c) (mA A c) A2 ω0) z (pc) L (.int i :: .ref (b + 2) :: rest) := ml_moreOf n hn hi hd k
theorem msc_moreOf (n : Nat) {i x : Int32} (hN : gN g ≤ b) (hn : n < 6) (hi : i = nI n) (hd : decode cc pc = .ok (.iastore, 1)) (k : G g RX7 cc nL ret XT rm Z cells slots (hM g b (mF F c) (mA (sA A 2 (upd (A 2) n x)) c) A2 ω0) z (pc + 1) L (rest)) : G g RX7 cc nL ret XT rm Z cells slots (hM g b (mF F c) (mA A c) A2 ω0) z (pc) L (.int x :: .int i :: .ref (b + 2) :: rest) := ms_moreOf n hN hn hi hd (by rw [show mA A c 2 = A 2 from rfl, mA_sk _ _ _ (by decide)]; exact k)
theorem mlc_tape (n : Nat) {i : Int32} (hn : n < 160) (hi : i = nI n) (hd : decode cc pc = .ok (.iaload, 1)) (k : G g RX7 cc nL ret XT rm Z cells slots (hM g b (mF F c) (mA A c) A2 ω0) z (pc + 1) L (.int (A 6 n) :: rest)) : G g RX7 cc nL ret XT rm Z cells slots (hM g b (mF F c) (mA A c) A2 ω0) z (pc) L (.int i :: .ref (b + 4) :: rest) := ml_tape n hn hi hd k
theorem msc_tape (n : Nat) {i x : Int32} (hN : gN g ≤ b) (hn : n < 160) (hi : i = nI n) (hd : decode cc pc = .ok (.iastore, 1)) (k : G g RX7 cc nL ret XT rm Z cells slots (hM g b (mF F c) (mA (sA A 6 (upd (A 6) n x)) c) A2 ω0) z (pc + 1) L (rest)) : G g RX7 cc nL ret XT rm Z cells slots (hM g b (mF F c) (mA A c) A2 ω0) z (pc) L (.int x :: .int i :: .ref (b + 4) :: rest) := ms_tape n hN hn hi hd (by rw [show mA A c 6 = A 6 from rfl, mA_sk _ _ _ (by decide)]; exact k)
theorem mgc_taped (hd : decode cc pc = .ok (.getfield 61, 3)) (k : G g RX7 cc nL ret XT rm Z cells slots (hM g b (mF F c) (mA A c) A2 ω0) z (pc + 3) L (.int (F 7) :: rest)) : G g RX7 cc nL ret XT rm Z cells slots (hM g b (mF F c) (mA A c) A2 ω0) z (pc) L (.ref b :: rest) := mg_taped hd k
theorem mpc_taped {v : Int32} (hN : gN g ≤ b) (hd : decode cc pc = .ok (.putfield 61, 3)) (k : G g RX7 cc nL ret XT rm Z cells slots (hM g b (mF (upd F 7 v) c) (mA A c) A2 ω0) z (pc + 3) L (rest)) : G g RX7 cc nL ret XT rm Z cells slots (hM g b (mF F c) (mA A c) A2 ω0) z (pc) L (.int v :: .ref b :: rest) := mp_taped hN hd (by rw [mF_sk _ _ _ (by decide) (by decide)]; exact k)
theorem mlc_codes (n : Nat) {i : Int32} (hn : n < 1200) (hi : i = nI n) (hd : decode cc pc = .ok (.iaload, 1)) (k : G g RX7 cc nL ret XT rm Z cells slots (hM g b (mF F c) (mA A c) A2 ω0) z (pc + 1) L (.int (A 8 n) :: rest)) : G g RX7 cc nL ret XT rm Z cells slots (hM g b (mF F c) (mA A c) A2 ω0) z (pc) L (.int i :: .ref (b + 5) :: rest) := ml_codes n hn hi hd k
theorem msc_codes (n : Nat) {i x : Int32} (hN : gN g ≤ b) (hn : n < 1200) (hi : i = nI n) (hd : decode cc pc = .ok (.iastore, 1)) (k : G g RX7 cc nL ret XT rm Z cells slots (hM g b (mF F c) (mA (sA A 8 (upd (A 8) n x)) c) A2 ω0) z (pc + 1) L (rest)) : G g RX7 cc nL ret XT rm Z cells slots (hM g b (mF F c) (mA A c) A2 ω0) z (pc) L (.int x :: .int i :: .ref (b + 5) :: rest) := ms_codes n hN hn hi hd (by rw [show mA A c 8 = A 8 from rfl, mA_sk _ _ _ (by decide)]; exact k)
theorem mlc_starts (n : Nat) {i : Int32} (hn : n < 24) (hi : i = nI n) (hd : decode cc pc = .ok (.iaload, 1)) (k : G g RX7 cc nL ret XT rm Z cells slots (hM g b (mF F c) (mA A c) A2 ω0) z (pc + 1) L (.int (A 9 n) :: rest)) : G g RX7 cc nL ret XT rm Z cells slots (hM g b (mF F c) (mA A c) A2 ω0) z (pc) L (.int i :: .ref (b + 6) :: rest) := ml_starts n hn hi hd k
theorem msc_starts (n : Nat) {i x : Int32} (hN : gN g ≤ b) (hn : n < 24) (hi : i = nI n) (hd : decode cc pc = .ok (.iastore, 1)) (k : G g RX7 cc nL ret XT rm Z cells slots (hM g b (mF F c) (mA (sA A 9 (upd (A 9) n x)) c) A2 ω0) z (pc + 1) L (rest)) : G g RX7 cc nL ret XT rm Z cells slots (hM g b (mF F c) (mA A c) A2 ω0) z (pc) L (.int x :: .int i :: .ref (b + 6) :: rest) := ms_starts n hN hn hi hd (by rw [show mA A c 9 = A 9 from rfl, mA_sk _ _ _ (by decide)]; exact k)
theorem mgc_texts (hd : decode cc pc = .ok (.getfield 86, 3)) (k : G g RX7 cc nL ret XT rm Z cells slots (hM g b (mF F c) (mA A c) A2 ω0) z (pc + 3) L (.int (F 10) :: rest)) : G g RX7 cc nL ret XT rm Z cells slots (hM g b (mF F c) (mA A c) A2 ω0) z (pc) L (.ref b :: rest) := mg_texts hd k
theorem mpc_texts {v : Int32} (hN : gN g ≤ b) (hd : decode cc pc = .ok (.putfield 86, 3)) (k : G g RX7 cc nL ret XT rm Z cells slots (hM g b (mF (upd F 10 v) c) (mA A c) A2 ω0) z (pc + 3) L (rest)) : G g RX7 cc nL ret XT rm Z cells slots (hM g b (mF F c) (mA A c) A2 ω0) z (pc) L (.int v :: .ref b :: rest) := mp_texts hN hd (by rw [mF_sk _ _ _ (by decide) (by decide)]; exact k)
theorem mgc_rule (hd : decode cc pc = .ok (.getfield 89, 3)) (k : G g RX7 cc nL ret XT rm Z cells slots (hM g b (mF F c) (mA A c) A2 ω0) z (pc + 3) L (.int (F 11) :: rest)) : G g RX7 cc nL ret XT rm Z cells slots (hM g b (mF F c) (mA A c) A2 ω0) z (pc) L (.ref b :: rest) := mg_rule hd k
theorem mpc_rule {v : Int32} (hN : gN g ≤ b) (hd : decode cc pc = .ok (.putfield 89, 3)) (k : G g RX7 cc nL ret XT rm Z cells slots (hM g b (mF (upd F 11 v) c) (mA A c) A2 ω0) z (pc + 3) L (rest)) : G g RX7 cc nL ret XT rm Z cells slots (hM g b (mF F c) (mA A c) A2 ω0) z (pc) L (.int v :: .ref b :: rest) := mp_rule hN hd (by rw [mF_sk _ _ _ (by decide) (by decide)]; exact k)
theorem mgc_hasImage (hd : decode cc pc = .ok (.getfield 254, 3)) (k : G g RX7 cc nL ret XT rm Z cells slots (hM g b (mF F c) (mA A c) A2 ω0) z (pc + 3) L (.int (F 12) :: rest)) : G g RX7 cc nL ret XT rm Z cells slots (hM g b (mF F c) (mA A c) A2 ω0) z (pc) L (.ref b :: rest) := mg_hasImage hd k
theorem mpc_hasImage {v : Int32} (hN : gN g ≤ b) (hnr : narrow .boolean (.int v) = .int v) (hft : fits .boolean (.int v) = true) (hd : decode cc pc = .ok (.putfield 254, 3)) (k : G g RX7 cc nL ret XT rm Z cells slots (hM g b (mF (upd F 12 v) c) (mA A c) A2 ω0) z (pc + 3) L (rest)) : G g RX7 cc nL ret XT rm Z cells slots (hM g b (mF F c) (mA A c) A2 ω0) z (pc) L (.int v :: .ref b :: rest) := mp_hasImage hN hnr hft hd (by rw [mF_sk _ _ _ (by decide) (by decide)]; exact k)
theorem mlc_imageRows (n : Nat) {i : Int32} (hn : n < 18) (hi : i = nI n) (hd : decode cc pc = .ok (.iaload, 1)) (k : G g RX7 cc nL ret XT rm Z cells slots (hM g b (mF F c) (mA A c) A2 ω0) z (pc + 1) L (.int (A 13 n) :: rest)) : G g RX7 cc nL ret XT rm Z cells slots (hM g b (mF F c) (mA A c) A2 ω0) z (pc) L (.int i :: .ref (b + 7) :: rest) := ml_imageRows n hn hi hd k
theorem msc_imageRows (n : Nat) {i x : Int32} (hN : gN g ≤ b) (hn : n < 18) (hi : i = nI n) (hd : decode cc pc = .ok (.iastore, 1)) (k : G g RX7 cc nL ret XT rm Z cells slots (hM g b (mF F c) (mA (sA A 13 (upd (A 13) n x)) c) A2 ω0) z (pc + 1) L (rest)) : G g RX7 cc nL ret XT rm Z cells slots (hM g b (mF F c) (mA A c) A2 ω0) z (pc) L (.int x :: .int i :: .ref (b + 7) :: rest) := ms_imageRows n hN hn hi hd (by rw [show mA A c 13 = A 13 from rfl, mA_sk _ _ _ (by decide)]; exact k)
theorem mlc_imageHeld (n : Nat) {i : Int32} (hn : n < 4) (hi : i = nI n) (hd : decode cc pc = .ok (.iaload, 1)) (k : G g RX7 cc nL ret XT rm Z cells slots (hM g b (mF F c) (mA A c) A2 ω0) z (pc + 1) L (.int (A 14 n) :: rest)) : G g RX7 cc nL ret XT rm Z cells slots (hM g b (mF F c) (mA A c) A2 ω0) z (pc) L (.int i :: .ref (b + 8) :: rest) := ml_imageHeld n hn hi hd k
theorem msc_imageHeld (n : Nat) {i x : Int32} (hN : gN g ≤ b) (hn : n < 4) (hi : i = nI n) (hd : decode cc pc = .ok (.iastore, 1)) (k : G g RX7 cc nL ret XT rm Z cells slots (hM g b (mF F c) (mA (sA A 14 (upd (A 14) n x)) c) A2 ω0) z (pc + 1) L (rest)) : G g RX7 cc nL ret XT rm Z cells slots (hM g b (mF F c) (mA A c) A2 ω0) z (pc) L (.int x :: .int i :: .ref (b + 8) :: rest) := ms_imageHeld n hN hn hi hd (by rw [show mA A c 14 = A 14 from rfl, mA_sk _ _ _ (by decide)]; exact k)
theorem mlc_sheetSort (n : Nat) {i : Int32} (hn : n < 4) (hi : i = nI n) (hd : decode cc pc = .ok (.iaload, 1)) (k : G g RX7 cc nL ret XT rm Z cells slots (hM g b (mF F c) (mA A c) A2 ω0) z (pc + 1) L (.int (A 15 n) :: rest)) : G g RX7 cc nL ret XT rm Z cells slots (hM g b (mF F c) (mA A c) A2 ω0) z (pc) L (.int i :: .ref (b + 9) :: rest) := ml_sheetSort n hn hi hd k
theorem msc_sheetSort (n : Nat) {i x : Int32} (hN : gN g ≤ b) (hn : n < 4) (hi : i = nI n) (hd : decode cc pc = .ok (.iastore, 1)) (k : G g RX7 cc nL ret XT rm Z cells slots (hM g b (mF F c) (mA (sA A 15 (upd (A 15) n x)) c) A2 ω0) z (pc + 1) L (rest)) : G g RX7 cc nL ret XT rm Z cells slots (hM g b (mF F c) (mA A c) A2 ω0) z (pc) L (.int x :: .int i :: .ref (b + 9) :: rest) := ms_sheetSort n hN hn hi hd (by rw [show mA A c 15 = A 15 from rfl, mA_sk _ _ _ (by decide)]; exact k)
theorem mlc_sheetSize (n : Nat) {i : Int32} (hn : n < 4) (hi : i = nI n) (hd : decode cc pc = .ok (.iaload, 1)) (k : G g RX7 cc nL ret XT rm Z cells slots (hM g b (mF F c) (mA A c) A2 ω0) z (pc + 1) L (.int (A 16 n) :: rest)) : G g RX7 cc nL ret XT rm Z cells slots (hM g b (mF F c) (mA A c) A2 ω0) z (pc) L (.int i :: .ref (b + 10) :: rest) := ml_sheetSize n hn hi hd k
theorem msc_sheetSize (n : Nat) {i x : Int32} (hN : gN g ≤ b) (hn : n < 4) (hi : i = nI n) (hd : decode cc pc = .ok (.iastore, 1)) (k : G g RX7 cc nL ret XT rm Z cells slots (hM g b (mF F c) (mA (sA A 16 (upd (A 16) n x)) c) A2 ω0) z (pc + 1) L (rest)) : G g RX7 cc nL ret XT rm Z cells slots (hM g b (mF F c) (mA A c) A2 ω0) z (pc) L (.int x :: .int i :: .ref (b + 10) :: rest) := ms_sheetSize n hN hn hi hd (by rw [show mA A c 16 = A 16 from rfl, mA_sk _ _ _ (by decide)]; exact k)
theorem mlc_cells (n : Nat) {i : Int32} (hn : n < 160) (hi : i = nI n) (hd : decode cc pc = .ok (.iaload, 1)) (k : G g RX7 cc nL ret XT rm Z cells slots (hM g b (mF F c) (mA A c) A2 ω0) z (pc + 1) L (.int (A 17 n) :: rest)) : G g RX7 cc nL ret XT rm Z cells slots (hM g b (mF F c) (mA A c) A2 ω0) z (pc) L (.int i :: .ref (b + 11) :: rest) := ml_cells n hn hi hd k
theorem msc_cells (n : Nat) {i x : Int32} (hN : gN g ≤ b) (hn : n < 160) (hi : i = nI n) (hd : decode cc pc = .ok (.iastore, 1)) (k : G g RX7 cc nL ret XT rm Z cells slots (hM g b (mF F c) (mA (sA A 17 (upd (A 17) n x)) c) A2 ω0) z (pc + 1) L (rest)) : G g RX7 cc nL ret XT rm Z cells slots (hM g b (mF F c) (mA A c) A2 ω0) z (pc) L (.int x :: .int i :: .ref (b + 11) :: rest) := ms_cells n hN hn hi hd (by rw [show mA A c 17 = A 17 from rfl, mA_sk _ _ _ (by decide)]; exact k)
theorem mlc_law (n : Nat) {i : Int32} (hn : n < 32) (hi : i = nI n) (hd : decode cc pc = .ok (.iaload, 1)) (k : G g RX7 cc nL ret XT rm Z cells slots (hM g b (mF F c) (mA A c) A2 ω0) z (pc + 1) L (.int (A 18 n) :: rest)) : G g RX7 cc nL ret XT rm Z cells slots (hM g b (mF F c) (mA A c) A2 ω0) z (pc) L (.int i :: .ref (b + 12) :: rest) := ml_law n hn hi hd k
theorem msc_law (n : Nat) {i x : Int32} (hN : gN g ≤ b) (hn : n < 32) (hi : i = nI n) (hd : decode cc pc = .ok (.iastore, 1)) (k : G g RX7 cc nL ret XT rm Z cells slots (hM g b (mF F c) (mA (sA A 18 (upd (A 18) n x)) c) A2 ω0) z (pc + 1) L (rest)) : G g RX7 cc nL ret XT rm Z cells slots (hM g b (mF F c) (mA A c) A2 ω0) z (pc) L (.int x :: .int i :: .ref (b + 12) :: rest) := ms_law n hN hn hi hd (by rw [show mA A c 18 = A 18 from rfl, mA_sk _ _ _ (by decide)]; exact k)
theorem mgc_at (hd : decode cc pc = .ok (.getfield 97, 3)) (k : G g RX7 cc nL ret XT rm Z cells slots (hM g b (mF F c) (mA A c) A2 ω0) z (pc + 3) L (.int (F 19) :: rest)) : G g RX7 cc nL ret XT rm Z cells slots (hM g b (mF F c) (mA A c) A2 ω0) z (pc) L (.ref b :: rest) := mg_at hd k
theorem mpc_at {v : Int32} (hN : gN g ≤ b) (hd : decode cc pc = .ok (.putfield 97, 3)) (k : G g RX7 cc nL ret XT rm Z cells slots (hM g b (mF (upd F 19 v) c) (mA A c) A2 ω0) z (pc + 3) L (rest)) : G g RX7 cc nL ret XT rm Z cells slots (hM g b (mF F c) (mA A c) A2 ω0) z (pc) L (.int v :: .ref b :: rest) := mp_at hN hd (by rw [mF_sk _ _ _ (by decide) (by decide)]; exact k)
theorem mgc_begun (hd : decode cc pc = .ok (.getfield 100, 3)) (k : G g RX7 cc nL ret XT rm Z cells slots (hM g b (mF F c) (mA A c) A2 ω0) z (pc + 3) L (.int (F 20) :: rest)) : G g RX7 cc nL ret XT rm Z cells slots (hM g b (mF F c) (mA A c) A2 ω0) z (pc) L (.ref b :: rest) := mg_begun hd k
theorem mpc_begun {v : Int32} (hN : gN g ≤ b) (hd : decode cc pc = .ok (.putfield 100, 3)) (k : G g RX7 cc nL ret XT rm Z cells slots (hM g b (mF (upd F 20 v) c) (mA A c) A2 ω0) z (pc + 3) L (rest)) : G g RX7 cc nL ret XT rm Z cells slots (hM g b (mF F c) (mA A c) A2 ω0) z (pc) L (.int v :: .ref b :: rest) := mp_begun hN hd (by rw [mF_sk _ _ _ (by decide) (by decide)]; exact k)
theorem mgc_token (hd : decode cc pc = .ok (.getfield 103, 3)) (k : G g RX7 cc nL ret XT rm Z cells slots (hM g b (mF F c) (mA A c) A2 ω0) z (pc + 3) L (.int (F 21) :: rest)) : G g RX7 cc nL ret XT rm Z cells slots (hM g b (mF F c) (mA A c) A2 ω0) z (pc) L (.ref b :: rest) := mg_token hd k
theorem mpc_token {v : Int32} (hN : gN g ≤ b) (hd : decode cc pc = .ok (.putfield 103, 3)) (k : G g RX7 cc nL ret XT rm Z cells slots (hM g b (mF (upd F 21 v) c) (mA A c) A2 ω0) z (pc + 3) L (rest)) : G g RX7 cc nL ret XT rm Z cells slots (hM g b (mF F c) (mA A c) A2 ω0) z (pc) L (.int v :: .ref b :: rest) := mp_token hN hd (by rw [mF_sk _ _ _ (by decide) (by decide)]; exact k)
theorem mgc_value (hd : decode cc pc = .ok (.getfield 106, 3)) (k : G g RX7 cc nL ret XT rm Z cells slots (hM g b (mF F c) (mA A c) A2 ω0) z (pc + 3) L (.int (F 22) :: rest)) : G g RX7 cc nL ret XT rm Z cells slots (hM g b (mF F c) (mA A c) A2 ω0) z (pc) L (.ref b :: rest) := mg_value hd k
theorem mpc_value {v : Int32} (hN : gN g ≤ b) (hd : decode cc pc = .ok (.putfield 106, 3)) (k : G g RX7 cc nL ret XT rm Z cells slots (hM g b (mF (upd F 22 v) c) (mA A c) A2 ω0) z (pc + 3) L (rest)) : G g RX7 cc nL ret XT rm Z cells slots (hM g b (mF F c) (mA A c) A2 ω0) z (pc) L (.int v :: .ref b :: rest) := mp_value hN hd (by rw [mF_sk _ _ _ (by decide) (by decide)]; exact k)
theorem mlc_words (n : Nat) {i : Int32} (hn : n < 96) (hi : i = nI n) (hd : decode cc pc = .ok (.iaload, 1)) (k : G g RX7 cc nL ret XT rm Z cells slots (hM g b (mF F c) (mA A c) A2 ω0) z (pc + 1) L (.int (A 23 n) :: rest)) : G g RX7 cc nL ret XT rm Z cells slots (hM g b (mF F c) (mA A c) A2 ω0) z (pc) L (.int i :: .ref (b + 13) :: rest) := ml_words n hn hi hd k
theorem msc_words (n : Nat) {i x : Int32} (hN : gN g ≤ b) (hn : n < 96) (hi : i = nI n) (hd : decode cc pc = .ok (.iastore, 1)) (k : G g RX7 cc nL ret XT rm Z cells slots (hM g b (mF F c) (mA (sA A 23 (upd (A 23) n x)) c) A2 ω0) z (pc + 1) L (rest)) : G g RX7 cc nL ret XT rm Z cells slots (hM g b (mF F c) (mA A c) A2 ω0) z (pc) L (.int x :: .int i :: .ref (b + 13) :: rest) := ms_words n hN hn hi hd (by rw [show mA A c 23 = A 23 from rfl, mA_sk _ _ _ (by decide)]; exact k)
theorem mlc_held (n : Nat) {i : Int32} (hn : n < 200) (hi : i = nI n) (hd : decode cc pc = .ok (.iaload, 1)) (k : G g RX7 cc nL ret XT rm Z cells slots (hM g b (mF F c) (mA A c) A2 ω0) z (pc + 1) L (.int (A 24 n) :: rest)) : G g RX7 cc nL ret XT rm Z cells slots (hM g b (mF F c) (mA A c) A2 ω0) z (pc) L (.int i :: .ref (b + 14) :: rest) := ml_held n hn hi hd k
theorem msc_held (n : Nat) {i x : Int32} (hN : gN g ≤ b) (hn : n < 200) (hi : i = nI n) (hd : decode cc pc = .ok (.iastore, 1)) (k : G g RX7 cc nL ret XT rm Z cells slots (hM g b (mF F c) (mA (sA A 24 (upd (A 24) n x)) c) A2 ω0) z (pc + 1) L (rest)) : G g RX7 cc nL ret XT rm Z cells slots (hM g b (mF F c) (mA A c) A2 ω0) z (pc) L (.int x :: .int i :: .ref (b + 14) :: rest) := ms_held n hN hn hi hd (by rw [show mA A c 24 = A 24 from rfl, mA_sk _ _ _ (by decide)]; exact k)
theorem mgc_heldMany (hd : decode cc pc = .ok (.getfield 116, 3)) (k : G g RX7 cc nL ret XT rm Z cells slots (hM g b (mF F c) (mA A c) A2 ω0) z (pc + 3) L (.int (F 25) :: rest)) : G g RX7 cc nL ret XT rm Z cells slots (hM g b (mF F c) (mA A c) A2 ω0) z (pc) L (.ref b :: rest) := mg_heldMany hd k
theorem mpc_heldMany {v : Int32} (hN : gN g ≤ b) (hd : decode cc pc = .ok (.putfield 116, 3)) (k : G g RX7 cc nL ret XT rm Z cells slots (hM g b (mF (upd F 25 v) c) (mA A c) A2 ω0) z (pc + 3) L (rest)) : G g RX7 cc nL ret XT rm Z cells slots (hM g b (mF F c) (mA A c) A2 ω0) z (pc) L (.int v :: .ref b :: rest) := mp_heldMany hN hd (by rw [mF_sk _ _ _ (by decide) (by decide)]; exact k)
theorem mgc_opens (hd : decode cc pc = .ok (.getfield 122, 3)) (k : G g RX7 cc nL ret XT rm Z cells slots (hM g b (mF F c) (mA A c) A2 ω0) z (pc + 3) L (.int (F 26) :: rest)) : G g RX7 cc nL ret XT rm Z cells slots (hM g b (mF F c) (mA A c) A2 ω0) z (pc) L (.ref b :: rest) := mg_opens hd k
theorem mpc_opens {v : Int32} (hN : gN g ≤ b) (hd : decode cc pc = .ok (.putfield 122, 3)) (k : G g RX7 cc nL ret XT rm Z cells slots (hM g b (mF (upd F 26 v) c) (mA A c) A2 ω0) z (pc + 3) L (rest)) : G g RX7 cc nL ret XT rm Z cells slots (hM g b (mF F c) (mA A c) A2 ω0) z (pc) L (.int v :: .ref b :: rest) := mp_opens hN hd (by rw [mF_sk _ _ _ (by decide) (by decide)]; exact k)
theorem mgc_out (hd : decode cc pc = .ok (.getfield 113, 3)) (k : G g RX7 cc nL ret XT rm Z cells slots (hM g b (mF F c) (mA A c) A2 ω0) z (pc + 3) L (.int (F 27) :: rest)) : G g RX7 cc nL ret XT rm Z cells slots (hM g b (mF F c) (mA A c) A2 ω0) z (pc) L (.ref b :: rest) := mg_out hd k
theorem mpc_out {v : Int32} (hN : gN g ≤ b) (hd : decode cc pc = .ok (.putfield 113, 3)) (k : G g RX7 cc nL ret XT rm Z cells slots (hM g b (mF (upd F 27 v) c) (mA A c) A2 ω0) z (pc + 3) L (rest)) : G g RX7 cc nL ret XT rm Z cells slots (hM g b (mF F c) (mA A c) A2 ω0) z (pc) L (.int v :: .ref b :: rest) := mp_out hN hd (by rw [mF_sk _ _ _ (by decide) (by decide)]; exact k)
theorem mlc_stack (n : Nat) {i : Int32} (hn : n < 200) (hi : i = nI n) (hd : decode cc pc = .ok (.iaload, 1)) (k : G g RX7 cc nL ret XT rm Z cells slots (hM g b (mF F c) (mA A c) A2 ω0) z (pc + 1) L (.int (A2 28 n) :: rest)) : G g RX7 cc nL ret XT rm Z cells slots (hM g b (mF F c) (mA A c) A2 ω0) z (pc) L (.int i :: .ref (b + 15) :: rest) := ml_stack n hn hi hd k
theorem msc_stack (n : Nat) {i x : Int32} (hN : gN g ≤ b) (hn : n < 200) (hi : i = nI n) (hd : decode cc pc = .ok (.iastore, 1)) (k : G g RX7 cc nL ret XT rm Z cells slots (hM g b (mF F c) (mA A c) (sA A2 28 (upd (A2 28) n x)) ω0) z (pc + 1) L (rest)) : G g RX7 cc nL ret XT rm Z cells slots (hM g b (mF F c) (mA A c) A2 ω0) z (pc) L (.int x :: .int i :: .ref (b + 15) :: rest) := ms_stack n hN hn hi hd k
theorem mlc_named (n : Nat) {i : Int32} (hn : n < 6) (hi : i = nI n) (hd : decode cc pc = .ok (.iaload, 1)) (k : G g RX7 cc nL ret XT rm Z cells slots (hM g b (mF F c) (mA A c) A2 ω0) z (pc + 1) L (.int (A2 29 n) :: rest)) : G g RX7 cc nL ret XT rm Z cells slots (hM g b (mF F c) (mA A c) A2 ω0) z (pc) L (.int i :: .ref (b + 16) :: rest) := ml_named n hn hi hd k
theorem msc_named (n : Nat) {i x : Int32} (hN : gN g ≤ b) (hn : n < 6) (hi : i = nI n) (hd : decode cc pc = .ok (.iastore, 1)) (k : G g RX7 cc nL ret XT rm Z cells slots (hM g b (mF F c) (mA A c) (sA A2 29 (upd (A2 29) n x)) ω0) z (pc + 1) L (rest)) : G g RX7 cc nL ret XT rm Z cells slots (hM g b (mF F c) (mA A c) A2 ω0) z (pc) L (.int x :: .int i :: .ref (b + 16) :: rest) := ms_named n hN hn hi hd k
theorem mlc_kept (n : Nat) {i : Int32} (hn : n < 20) (hi : i = nI n) (hd : decode cc pc = .ok (.iaload, 1)) (k : G g RX7 cc nL ret XT rm Z cells slots (hM g b (mF F c) (mA A c) A2 ω0) z (pc + 1) L (.int (A 30 n) :: rest)) : G g RX7 cc nL ret XT rm Z cells slots (hM g b (mF F c) (mA A c) A2 ω0) z (pc) L (.int i :: .ref (b + 17) :: rest) := ml_kept n hn hi hd k
theorem msc_kept (n : Nat) {i x : Int32} (hN : gN g ≤ b) (hn : n < 20) (hi : i = nI n) (hd : decode cc pc = .ok (.iastore, 1)) (k : G g RX7 cc nL ret XT rm Z cells slots (hM g b (mF F c) (mA (sA A 30 (upd (A 30) n x)) c) A2 ω0) z (pc + 1) L (rest)) : G g RX7 cc nL ret XT rm Z cells slots (hM g b (mF F c) (mA A c) A2 ω0) z (pc) L (.int x :: .int i :: .ref (b + 17) :: rest) := ms_kept n hN hn hi hd (by rw [show mA A c 30 = A 30 from rfl, mA_sk _ _ _ (by decide)]; exact k)
theorem mgc_nothings (hd : decode cc pc = .ok (.getfield 195, 3)) (k : G g RX7 cc nL ret XT rm Z cells slots (hM g b (mF F c) (mA A c) A2 ω0) z (pc + 3) L (.int (F 31) :: rest)) : G g RX7 cc nL ret XT rm Z cells slots (hM g b (mF F c) (mA A c) A2 ω0) z (pc) L (.ref b :: rest) := mg_nothings hd k
theorem mpc_nothings {v : Int32} (hN : gN g ≤ b) (hd : decode cc pc = .ok (.putfield 195, 3)) (k : G g RX7 cc nL ret XT rm Z cells slots (hM g b (mF (upd F 31 v) c) (mA A c) A2 ω0) z (pc + 3) L (rest)) : G g RX7 cc nL ret XT rm Z cells slots (hM g b (mF F c) (mA A c) A2 ω0) z (pc) L (.int v :: .ref b :: rest) := mp_nothings hN hd (by rw [mF_sk _ _ _ (by decide) (by decide)]; exact k)
theorem mgc_lessonNumber (hd : decode cc pc = .ok (.getfield 211, 3)) (k : G g RX7 cc nL ret XT rm Z cells slots (hM g b (mF F c) (mA A c) A2 ω0) z (pc + 3) L (.int (F 32) :: rest)) : G g RX7 cc nL ret XT rm Z cells slots (hM g b (mF F c) (mA A c) A2 ω0) z (pc) L (.ref b :: rest) := mg_lessonNumber hd k
theorem mpc_lessonNumber {v : Int32} (hN : gN g ≤ b) (hd : decode cc pc = .ok (.putfield 211, 3)) (k : G g RX7 cc nL ret XT rm Z cells slots (hM g b (mF (upd F 32 v) c) (mA A c) A2 ω0) z (pc + 3) L (rest)) : G g RX7 cc nL ret XT rm Z cells slots (hM g b (mF F c) (mA A c) A2 ω0) z (pc) L (.int v :: .ref b :: rest) := mp_lessonNumber hN hd (by rw [mF_sk _ _ _ (by decide) (by decide)]; exact k)
theorem mgc_seaThen (hd : decode cc pc = .ok (.getfield 247, 3)) (k : G g RX7 cc nL ret XT rm Z cells slots (hM g b (mF F c) (mA A c) A2 ω0) z (pc + 3) L (.int (F 33) :: rest)) : G g RX7 cc nL ret XT rm Z cells slots (hM g b (mF F c) (mA A c) A2 ω0) z (pc) L (.ref b :: rest) := mg_seaThen hd k
theorem mpc_seaThen {v : Int32} (hN : gN g ≤ b) (hd : decode cc pc = .ok (.putfield 247, 3)) (k : G g RX7 cc nL ret XT rm Z cells slots (hM g b (mF (upd F 33 v) c) (mA A c) A2 ω0) z (pc + 3) L (rest)) : G g RX7 cc nL ret XT rm Z cells slots (hM g b (mF F c) (mA A c) A2 ω0) z (pc) L (.int v :: .ref b :: rest) := mp_seaThen hN hd (by rw [mF_sk _ _ _ (by decide) (by decide)]; exact k)
end R
section J
variable {g : GE} {own : String} {cc : ByteArray} {nL : Nat} {ret : Option FieldType} {XT : Method → Code → Prop} {rm : Room} {Z : ZT} {cells slots : Nat} {ω : Om} {z pc : Nat} {L : List (Nat × Value)} {S : List Value}
/-- ways that meet again at pc1 with an int on the stack -/
theorem g_join (pc1 : Nat) (P : Int32 → Prop) (K : ∀ v, P v → G g own cc nL ret XT rm Z cells slots ω z pc1 L (.int v :: S)) (k : (∀ v, P v → G g own cc nL ret XT rm Z cells slots ω z pc1 L (.int v :: S)) → G g own cc nL ret XT rm Z cells slots ω z pc L S) : G g own cc nL ret XT rm Z cells slots ω z pc L S := k K
end J
section A
variable {g : GE} {b z n : Nat} {F : Nat → Int32} {A A2 : Nat → Nat → Int32} {ω0 : Om} {ts : Nat → List Int32} {c : Cr}
theorem c_isOne {p : Int32} : Ct g yX7_isOne cX7_isOne 2 (some .boolean) 2 0 0 [.ref b, .int p] (hM g b (mF F c) (mA A c) A2 ω0) z (mQ g b ω0 z (some (.int (inI p 0 (F 0 - 1)))) (mF F c) (mA A c)) := by
  refine Ct.at (own := RX7) (by decide) rfl (Nat.le_of_ble_eq_true rfl) rfl ?_
  refine g_iload_n dX7_isOne_0 rfl ?_
  refine g_iconst (0) dX7_isOne_1 rfl ?_
  refine g_aload_n dX7_isOne_2 rfl ?_
  refine mgc_fishers dX7_isOne_3 ?_
  refine g_iconst (1) dX7_isOne_6 rfl ?_
  refine g_isub dX7_isOne_7 ?_
  refine gs_calli (n := 3) (c_in ) (lw_S q1405 q1406 q92 q1407) (by decide +kernel) rfl rfl (by decide) ⟨Nat.le_refl _, Nat.le_refl _⟩ (Nat.le_of_ble_eq_true rfl) dX7_isOne_8 ?_
  refine g_zret rfl (by first | rfl | exact nrb_in) (Nat.le_refl _) (Nat.le_refl _) ?_ dX7_isOne_11
  exact mQ.mk
theorem c_asksOf {part p : Nat} {t : Int32} (hN : gN g ≤ b) (hE : EnM F A n ts) (hk : part < 3) (hp : p < 6) : Ct g yX7_asksOf cX7_asksOf 4 (some .int) 3 0 0 [.ref b, .int (nI part), .int (nI p), .int t] (hM g b (mF F c) (mA A c) A2 ω0) z (mQ g b ω0 z (some (.int (asksF (eM A n ts) c part p t))) (mF F c) (mA A c)) := by
  obtain ⟨-, -, r, hr6, hr, hT⟩ := hE
  refine Ct.at (own := RX7) (by decide) rfl (Nat.le_of_ble_eq_true rfl) rfl ?_
  by_cases h2 : part = 2
  · subst h2
    refine g_aload_n dX7_asksOf_0 rfl ?_
    refine mg_named dX7_asksOf_1 ?_
    refine g_iconst (0) dX7_asksOf_4 rfl ?_
    refine g_iload_n dX7_asksOf_5 rfl ?_
    refine g_iconst (2) dX7_asksOf_6 rfl ?_
    refine g_icmp_ne 14 dX7_asksOf_7 (by decide) (fun h9 => absurd rfl h9) (fun _ => ?_)
    refine g_iconst (0) dX7_asksOf_10 rfl ?_
    refine g_goto 15 dX7_asksOf_11 (by decide) ?_
    refine msc_named (0) hN (by omega) (by first | rfl | (simp only [nI, Int32.ofNat_add, Int32.ofNat_mul]; rfl) | (simp only [nI, Int32.ofNat_add, Int32.ofNat_mul]; done)) dX7_asksOf_15 ?_
    refine g_aload_n dX7_asksOf_16 rfl ?_
    refine mg_named dX7_asksOf_17 ?_
    refine g_iconst (1) dX7_asksOf_20 rfl ?_
    refine g_aload_n dX7_asksOf_21 rfl ?_
    refine mg_rows dX7_asksOf_22 ?_
    refine g_iconst (3) dX7_asksOf_25 rfl ?_
    refine g_iload_n dX7_asksOf_26 rfl ?_
    refine g_imul dX7_asksOf_27 ?_
    refine mlc_rows ((3 * p)) (by omega) (by first | rfl | (simp only [nI, Int32.ofNat_add, Int32.ofNat_mul]; rfl) | (simp only [nI, Int32.ofNat_add, Int32.ofNat_mul]; done)) dX7_asksOf_28 ?_
    refine gs_calli (n := 1) (c_bitsOf ) (lw_S q1551 q1552 q92 q1553) (by decide +kernel) rfl rfl (by decide) ⟨Nat.le_refl _, Nat.le_refl _⟩ (Nat.le_of_ble_eq_true rfl) dX7_asksOf_29 ?_
    refine msc_named (1) hN (by omega) (by first | rfl | (simp only [nI, Int32.ofNat_add, Int32.ofNat_mul]; rfl) | (simp only [nI, Int32.ofNat_add, Int32.ofNat_mul]; done)) dX7_asksOf_32 ?_
    refine g_aload_n dX7_asksOf_33 rfl ?_
    refine mg_named dX7_asksOf_34 ?_
    refine g_iconst (2) dX7_asksOf_37 rfl ?_
    refine g_aload_n dX7_asksOf_38 rfl ?_
    refine mg_rows dX7_asksOf_39 ?_
    refine g_iconst (3) dX7_asksOf_42 rfl ?_
    refine g_iload_n dX7_asksOf_43 rfl ?_
    refine g_imul dX7_asksOf_44 ?_
    refine g_iconst (1) dX7_asksOf_45 rfl ?_
    refine g_iadd dX7_asksOf_46 ?_
    refine mlc_rows (((3 * p) + 1)) (by omega) (by first | rfl | (simp only [nI, Int32.ofNat_add, Int32.ofNat_mul]; rfl) | (simp only [nI, Int32.ofNat_add, Int32.ofNat_mul]; done)) dX7_asksOf_47 ?_
    refine gs_calli (n := 1) (c_bitsOf ) (lw_S q1551 q1552 q92 q1553) (by decide +kernel) rfl rfl (by decide) ⟨Nat.le_refl _, Nat.le_refl _⟩ (Nat.le_of_ble_eq_true rfl) dX7_asksOf_48 ?_
    refine msc_named (2) hN (by omega) (by first | rfl | (simp only [nI, Int32.ofNat_add, Int32.ofNat_mul]; rfl) | (simp only [nI, Int32.ofNat_add, Int32.ofNat_mul]; done)) dX7_asksOf_51 ?_
    refine g_aload_n dX7_asksOf_52 rfl ?_
    refine mg_named dX7_asksOf_53 ?_
    refine g_iconst (3) dX7_asksOf_56 rfl ?_
    refine g_aload_n dX7_asksOf_57 rfl ?_
    refine mgc_tides dX7_asksOf_58 ?_
    refine msc_named (3) hN (by omega) (by first | rfl | (simp only [nI, Int32.ofNat_add, Int32.ofNat_mul]; rfl) | (simp only [nI, Int32.ofNat_add, Int32.ofNat_mul]; done)) dX7_asksOf_61 ?_
    refine g_aload_n dX7_asksOf_62 rfl ?_
    refine mg_named dX7_asksOf_63 ?_
    refine g_iconst (4) dX7_asksOf_66 rfl ?_
    refine g_aload_n dX7_asksOf_67 rfl ?_
    refine mg_rows dX7_asksOf_68 ?_
    refine g_iconst (3) dX7_asksOf_71 rfl ?_
    refine g_iload_n dX7_asksOf_72 rfl ?_
    refine g_imul dX7_asksOf_73 ?_
    refine g_iconst (2) dX7_asksOf_74 rfl ?_
    refine g_iadd dX7_asksOf_75 ?_
    refine mlc_rows (((3 * p) + 2)) (by omega) (by first | rfl | (simp only [nI, Int32.ofNat_add, Int32.ofNat_mul]; rfl) | (simp only [nI, Int32.ofNat_add, Int32.ofNat_mul]; done)) dX7_asksOf_76 ?_
    refine msc_named (4) hN (by omega) (by first | rfl | (simp only [nI, Int32.ofNat_add, Int32.ofNat_mul]; rfl) | (simp only [nI, Int32.ofNat_add, Int32.ofNat_mul]; done)) dX7_asksOf_77 ?_
    refine g_aload_n dX7_asksOf_78 rfl ?_
    refine mg_named dX7_asksOf_79 ?_
    refine g_iconst (5) dX7_asksOf_82 rfl ?_
    refine g_aload_n dX7_asksOf_83 rfl ?_
    refine mg_moreOf dX7_asksOf_84 ?_
    refine g_iload_n dX7_asksOf_87 rfl ?_
    refine mlc_moreOf (p) (by omega) (by first | rfl | (simp only [nI, Int32.ofNat_add, Int32.ofNat_mul]; rfl) | (simp only [nI, Int32.ofNat_add, Int32.ofNat_mul]; done)) dX7_asksOf_88 ?_
    refine msc_named (5) hN (by omega) (by first | rfl | (simp only [nI, Int32.ofNat_add, Int32.ofNat_mul]; rfl) | (simp only [nI, Int32.ofNat_add, Int32.ofNat_mul]; done)) dX7_asksOf_89 ?_
    refine g_aload_n dX7_asksOf_90 rfl ?_
    refine g_iload_n dX7_asksOf_91 rfl ?_
    refine gm_calli (n := 1) (c_says (ts := ts) (nm := nmF (eM A n ts) c 2 p t) hN hr hr6 (by omega) hT (fun j hj => by match j, hj with | 0, _ => rfl | 1, _ => rfl | 2, _ => rfl | 3, _ => rfl | 4, _ => rfl | 5, _ => rfl)) (lw_V q1586 q1588 qs48 q92 q1589) (by decide +kernel) rfl rfl (by decide) ⟨Nat.le_refl _, Nat.le_refl _⟩ (Nat.le_of_ble_eq_true rfl) dX7_asksOf_92 (fun A2 => ?_)
    refine g_iload_n dX7_asksOf_95 rfl ?_
    refine g_iconst (2) dX7_asksOf_96 rfl ?_
    refine g_icmp_ne 104 dX7_asksOf_97 (by decide) (fun h9 => absurd rfl h9) (fun _ => ?_)
    refine g_iconst (0) dX7_asksOf_100 rfl ?_
    refine g_goto 106 dX7_asksOf_101 (by decide) ?_
    refine g_iload_n dX7_asksOf_106 rfl ?_
    refine g_iconst (2) dX7_asksOf_107 rfl ?_
    refine g_icmp_ne 116 dX7_asksOf_108 (by decide) (fun h9 => absurd rfl h9) (fun _ => ?_)
    refine g_bipush (16) dX7_asksOf_111 rfl ?_
    refine g_goto 118 dX7_asksOf_113 (by decide) ?_
    refine gs_calli (n := 3) (c_within ) (lw_S q1593 q1594 q92 q1595) (by decide +kernel) rfl rfl (by decide) ⟨Nat.le_refl _, Nat.le_refl _⟩ (Nat.le_of_ble_eq_true rfl) dX7_asksOf_118 ?_
    refine g_iret rfl (Nat.le_refl _) (Nat.le_refl _) ?_ dX7_asksOf_121
    exact mQ.mk
  · have h2' : ¬ nI part = 2 := fun h => h2 ((nI_eq (a := part) (b := 2) (by omega) (by decide)).mp h)
    refine g_aload_n dX7_asksOf_0 rfl ?_
    refine mg_named dX7_asksOf_1 ?_
    refine g_iconst (0) dX7_asksOf_4 rfl ?_
    refine g_iload_n dX7_asksOf_5 rfl ?_
    refine g_iconst (2) dX7_asksOf_6 rfl ?_
    refine g_icmp_ne 14 dX7_asksOf_7 (by decide) (fun _ => ?_) (fun h9 => absurd h9 h2')
    refine g_iload_n dX7_asksOf_14 rfl ?_
    refine msc_named (0) hN (by omega) (by first | rfl | (simp only [nI, Int32.ofNat_add, Int32.ofNat_mul]; rfl) | (simp only [nI, Int32.ofNat_add, Int32.ofNat_mul]; done)) dX7_asksOf_15 ?_
    refine g_aload_n dX7_asksOf_16 rfl ?_
    refine mg_named dX7_asksOf_17 ?_
    refine g_iconst (1) dX7_asksOf_20 rfl ?_
    refine g_aload_n dX7_asksOf_21 rfl ?_
    refine mg_rows dX7_asksOf_22 ?_
    refine g_iconst (3) dX7_asksOf_25 rfl ?_
    refine g_iload_n dX7_asksOf_26 rfl ?_
    refine g_imul dX7_asksOf_27 ?_
    refine mlc_rows ((3 * p)) (by omega) (by first | rfl | (simp only [nI, Int32.ofNat_add, Int32.ofNat_mul]; rfl) | (simp only [nI, Int32.ofNat_add, Int32.ofNat_mul]; done)) dX7_asksOf_28 ?_
    refine gs_calli (n := 1) (c_bitsOf ) (lw_S q1551 q1552 q92 q1553) (by decide +kernel) rfl rfl (by decide) ⟨Nat.le_refl _, Nat.le_refl _⟩ (Nat.le_of_ble_eq_true rfl) dX7_asksOf_29 ?_
    refine msc_named (1) hN (by omega) (by first | rfl | (simp only [nI, Int32.ofNat_add, Int32.ofNat_mul]; rfl) | (simp only [nI, Int32.ofNat_add, Int32.ofNat_mul]; done)) dX7_asksOf_32 ?_
    refine g_aload_n dX7_asksOf_33 rfl ?_
    refine mg_named dX7_asksOf_34 ?_
    refine g_iconst (2) dX7_asksOf_37 rfl ?_
    refine g_aload_n dX7_asksOf_38 rfl ?_
    refine mg_rows dX7_asksOf_39 ?_
    refine g_iconst (3) dX7_asksOf_42 rfl ?_
    refine g_iload_n dX7_asksOf_43 rfl ?_
    refine g_imul dX7_asksOf_44 ?_
    refine g_iconst (1) dX7_asksOf_45 rfl ?_
    refine g_iadd dX7_asksOf_46 ?_
    refine mlc_rows (((3 * p) + 1)) (by omega) (by first | rfl | (simp only [nI, Int32.ofNat_add, Int32.ofNat_mul]; rfl) | (simp only [nI, Int32.ofNat_add, Int32.ofNat_mul]; done)) dX7_asksOf_47 ?_
    refine gs_calli (n := 1) (c_bitsOf ) (lw_S q1551 q1552 q92 q1553) (by decide +kernel) rfl rfl (by decide) ⟨Nat.le_refl _, Nat.le_refl _⟩ (Nat.le_of_ble_eq_true rfl) dX7_asksOf_48 ?_
    refine msc_named (2) hN (by omega) (by first | rfl | (simp only [nI, Int32.ofNat_add, Int32.ofNat_mul]; rfl) | (simp only [nI, Int32.ofNat_add, Int32.ofNat_mul]; done)) dX7_asksOf_51 ?_
    refine g_aload_n dX7_asksOf_52 rfl ?_
    refine mg_named dX7_asksOf_53 ?_
    refine g_iconst (3) dX7_asksOf_56 rfl ?_
    refine g_aload_n dX7_asksOf_57 rfl ?_
    refine mgc_tides dX7_asksOf_58 ?_
    refine msc_named (3) hN (by omega) (by first | rfl | (simp only [nI, Int32.ofNat_add, Int32.ofNat_mul]; rfl) | (simp only [nI, Int32.ofNat_add, Int32.ofNat_mul]; done)) dX7_asksOf_61 ?_
    refine g_aload_n dX7_asksOf_62 rfl ?_
    refine mg_named dX7_asksOf_63 ?_
    refine g_iconst (4) dX7_asksOf_66 rfl ?_
    refine g_aload_n dX7_asksOf_67 rfl ?_
    refine mg_rows dX7_asksOf_68 ?_
    refine g_iconst (3) dX7_asksOf_71 rfl ?_
    refine g_iload_n dX7_asksOf_72 rfl ?_
    refine g_imul dX7_asksOf_73 ?_
    refine g_iconst (2) dX7_asksOf_74 rfl ?_
    refine g_iadd dX7_asksOf_75 ?_
    refine mlc_rows (((3 * p) + 2)) (by omega) (by first | rfl | (simp only [nI, Int32.ofNat_add, Int32.ofNat_mul]; rfl) | (simp only [nI, Int32.ofNat_add, Int32.ofNat_mul]; done)) dX7_asksOf_76 ?_
    refine msc_named (4) hN (by omega) (by first | rfl | (simp only [nI, Int32.ofNat_add, Int32.ofNat_mul]; rfl) | (simp only [nI, Int32.ofNat_add, Int32.ofNat_mul]; done)) dX7_asksOf_77 ?_
    refine g_aload_n dX7_asksOf_78 rfl ?_
    refine mg_named dX7_asksOf_79 ?_
    refine g_iconst (5) dX7_asksOf_82 rfl ?_
    refine g_aload_n dX7_asksOf_83 rfl ?_
    refine mg_moreOf dX7_asksOf_84 ?_
    refine g_iload_n dX7_asksOf_87 rfl ?_
    refine mlc_moreOf (p) (by omega) (by first | rfl | (simp only [nI, Int32.ofNat_add, Int32.ofNat_mul]; rfl) | (simp only [nI, Int32.ofNat_add, Int32.ofNat_mul]; done)) dX7_asksOf_88 ?_
    refine msc_named (5) hN (by omega) (by first | rfl | (simp only [nI, Int32.ofNat_add, Int32.ofNat_mul]; rfl) | (simp only [nI, Int32.ofNat_add, Int32.ofNat_mul]; done)) dX7_asksOf_89 ?_
    refine g_aload_n dX7_asksOf_90 rfl ?_
    refine g_iload_n dX7_asksOf_91 rfl ?_
    refine gm_calli (n := 1) (c_says (ts := ts) (nm := nmF (eM A n ts) c part p t) hN hr hr6 (by omega) hT (fun j hj => by match j, hj with | 0, _ => (unfold nmF; rw [if_pos rfl, if_neg h2]; rfl) | 1, _ => rfl | 2, _ => rfl | 3, _ => rfl | 4, _ => rfl | 5, _ => rfl)) (lw_V q1586 q1588 qs48 q92 q1589) (by decide +kernel) rfl rfl (by decide) ⟨Nat.le_refl _, Nat.le_refl _⟩ (Nat.le_of_ble_eq_true rfl) dX7_asksOf_92 (fun A2 => ?_)
    refine g_iload_n dX7_asksOf_95 rfl ?_
    refine g_iconst (2) dX7_asksOf_96 rfl ?_
    refine g_icmp_ne 104 dX7_asksOf_97 (by decide) (fun _ => ?_) (fun h9 => absurd h9 h2')
    refine g_bipush (-99) dX7_asksOf_104 rfl ?_
    refine g_iload_n dX7_asksOf_106 rfl ?_
    refine g_iconst (2) dX7_asksOf_107 rfl ?_
    refine g_icmp_ne 116 dX7_asksOf_108 (by decide) (fun _ => ?_) (fun h9 => absurd h9 h2')
    refine g_bipush (99) dX7_asksOf_116 rfl ?_
    refine gs_calli (n := 3) (c_within ) (lw_S q1593 q1594 q92 q1595) (by decide +kernel) rfl rfl (by decide) ⟨Nat.le_refl _, Nat.le_refl _⟩ (Nat.le_of_ble_eq_true rfl) dX7_asksOf_118 ?_
    refine g_iret rfl (Nat.le_refl _) (Nat.le_refl _) ?_ dX7_asksOf_121
    refine mQ.of ?_ rfl rfl
    unfold asksF
    rw [if_neg h2, if_neg h2]
theorem c_letsOf {p : Nat} {t : Int32} (hN : gN g ≤ b) (hE : EnM F A n ts) (hp : p < 6) : Ct g yX7_letsOf cX7_letsOf 8 (some .int) 4 0 0 [.ref b, .int (nI p), .int t] (hM g b (mF F c) (mA A c) A2 ω0) z (mQ g b ω0 z (some (.int (letsF (eM A n ts) c p t))) (mF F c) (mA A c)) := by
  refine Ct.at (own := RX7) (by decide) rfl (Nat.le_of_ble_eq_true rfl) rfl ?_
  refine g_aload_n dX7_letsOf_0 rfl ?_
  refine mg_rows dX7_letsOf_1 ?_
  refine g_iconst (3) dX7_letsOf_4 rfl ?_
  refine g_iload_n dX7_letsOf_5 rfl ?_
  refine g_imul dX7_letsOf_6 ?_
  refine mlc_rows ((3 * p)) (by omega) (by first | rfl | (simp only [nI, Int32.ofNat_add, Int32.ofNat_mul]; rfl) | (simp only [nI, Int32.ofNat_add, Int32.ofNat_mul]; done)) dX7_letsOf_7 ?_
  refine gs_calli (n := 1) (c_bitsOf ) (lw_S q1551 q1552 q92 q1553) (by decide +kernel) rfl rfl (by decide) ⟨Nat.le_refl _, Nat.le_refl _⟩ (Nat.le_of_ble_eq_true rfl) dX7_letsOf_8 ?_
  refine g_istore_n (L' := [(3, _), (0, _), (1, _), (2, _)]) dX7_letsOf_11 (by decide) rfl ?_
  refine g_iload_n dX7_letsOf_12 rfl ?_
  refine g_if_ne 18 dX7_letsOf_13 (by decide) (fun c1 => ?_) (fun c1 => ?_)
  · refine g_aload_n dX7_letsOf_18 rfl ?_
    refine g_iconst (0) dX7_letsOf_19 rfl ?_
    refine g_iload_n dX7_letsOf_20 rfl ?_
    refine g_iload_n dX7_letsOf_21 rfl ?_
    refine gm_calli (n := 3) (c_asksOf (part := 0) (n := n) (ts := ts) hN hE (by decide) hp) (lw_V q1582 q1584 qs47 q92 q1585) (by decide +kernel) rfl rfl (by decide) ⟨Nat.le_refl _, Nat.le_refl _⟩ (Nat.le_of_ble_eq_true rfl) dX7_letsOf_22 (fun A2 => ?_)
    refine g_istore (L' := [(4, _), (3, _), (0, _), (1, _), (2, _)]) dX7_letsOf_25 (by decide) rfl ?_
    refine g_join 47 (fun v => v = fmd (asksF (eM A n ts) c 0 p t) (bits (c.1 (3 * p)))) (fun fi hfi => ?_) (fun K => ?_)
    · have hL : letsF (eM A n ts) c p t = nth (c.1 (3 * p)) (letsI (A 1 p) (A 2 p) (bits (c.1 (3 * p))) fi) := by rw [letsF, if_neg c1, hfi]
      rw [hL]
      refine g_istore (L' := [(5, _), (4, _), (3, _), (0, _), (1, _), (2, _)]) dX7_letsOf_47 (by decide) rfl ?_
      refine g_iload_n dX7_letsOf_49 rfl ?_
      refine g_iconst (1) dX7_letsOf_50 rfl ?_
      refine g_isub dX7_letsOf_51 ?_
      refine g_iload dX7_letsOf_52 rfl ?_
      refine g_isub dX7_letsOf_54 ?_
      refine g_istore (L' := [(6, _), (5, _), (4, _), (3, _), (0, _), (1, _), (2, _)]) dX7_letsOf_55 (by decide) rfl ?_
      refine g_iload dX7_letsOf_57 rfl ?_
      refine g_istore (L' := [(7, _), (6, _), (5, _), (4, _), (3, _), (0, _), (1, _), (2, _)]) dX7_letsOf_59 (by decide) rfl ?_
      refine g_aload_n dX7_letsOf_61 rfl ?_
      refine mg_kind dX7_letsOf_62 ?_
      refine g_iload_n dX7_letsOf_65 rfl ?_
      refine mlc_kind (p) (by omega) (by first | rfl | (simp only [nI, Int32.ofNat_add, Int32.ofNat_mul]; rfl) | (simp only [nI, Int32.ofNat_add, Int32.ofNat_mul]; done)) dX7_letsOf_66 ?_
      refine g_tsw [100, 142, 107, 142, 129] 142 dX7_letsOf_67 (by decide) (by decide) (by decide) (fun j t => ?_) (fun hx => ?_)
      · match j with
        | 0 =>
          intro ht hx; cases ht
          replace hx := hx.trans (show Int32.ofInt ((1) + ((0 : Nat) : Int)) = 1 by decide)
          refine g_iload dX7_letsOf_100 rfl ?_
          refine g_istore (L' := [(7, _), (6, _), (5, _), (4, _), (3, _), (0, _), (1, _), (2, _)]) dX7_letsOf_102 (by decide) rfl ?_
          refine g_goto 146 dX7_letsOf_104 (by decide) ?_
          refine g_aload_n dX7_letsOf_146 rfl ?_
          refine mg_rows dX7_letsOf_147 ?_
          refine g_iconst (3) dX7_letsOf_150 rfl ?_
          refine g_iload_n dX7_letsOf_151 rfl ?_
          refine g_imul dX7_letsOf_152 ?_
          refine mlc_rows ((3 * p)) (by omega) (by first | rfl | (simp only [nI, Int32.ofNat_add, Int32.ofNat_mul]; rfl) | (simp only [nI, Int32.ofNat_add, Int32.ofNat_mul]; done)) dX7_letsOf_153 ?_
          refine g_iload dX7_letsOf_154 rfl ?_
          refine gs_calli (n := 2) (c_nthOf ) (lw_S q1620 q1621 q92 q1622) (by decide +kernel) rfl rfl (by decide) ⟨Nat.le_refl _, Nat.le_refl _⟩ (Nat.le_of_ble_eq_true rfl) dX7_letsOf_156 ?_
          refine g_iret rfl (Nat.le_refl _) (Nat.le_refl _) ?_ dX7_letsOf_159
          refine mQ.of (congrArg (fun i => some (Value.int (nth _ i))) ?_) rfl rfl; first | (rw [show A 1 p = _ from hx]; first | rfl | exact (letsI_3a c3).symm | exact (letsI_3b c4).symm | exact (letsI_3c c3 c4).symm) | (rw [letsI, if_neg (show ¬ A 1 p = 1 from tsw_ne hx 1 (by decide)), if_neg (show ¬ A 1 p = 3 from tsw_ne hx 3 (by decide)), if_neg (show ¬ A 1 p = 5 from tsw_ne hx 5 (by decide))])
        | 1 =>
          intro ht hx; cases ht
          replace hx := hx.trans (show Int32.ofInt ((1) + ((1 : Nat) : Int)) = 2 by decide)
          refine g_iload dX7_letsOf_142 rfl ?_
          refine g_istore (L' := [(7, _), (6, _), (5, _), (4, _), (3, _), (0, _), (1, _), (2, _)]) dX7_letsOf_144 (by decide) rfl ?_
          refine g_aload_n dX7_letsOf_146 rfl ?_
          refine mg_rows dX7_letsOf_147 ?_
          refine g_iconst (3) dX7_letsOf_150 rfl ?_
          refine g_iload_n dX7_letsOf_151 rfl ?_
          refine g_imul dX7_letsOf_152 ?_
          refine mlc_rows ((3 * p)) (by omega) (by first | rfl | (simp only [nI, Int32.ofNat_add, Int32.ofNat_mul]; rfl) | (simp only [nI, Int32.ofNat_add, Int32.ofNat_mul]; done)) dX7_letsOf_153 ?_
          refine g_iload dX7_letsOf_154 rfl ?_
          refine gs_calli (n := 2) (c_nthOf ) (lw_S q1620 q1621 q92 q1622) (by decide +kernel) rfl rfl (by decide) ⟨Nat.le_refl _, Nat.le_refl _⟩ (Nat.le_of_ble_eq_true rfl) dX7_letsOf_156 ?_
          refine g_iret rfl (Nat.le_refl _) (Nat.le_refl _) ?_ dX7_letsOf_159
          refine mQ.of (congrArg (fun i => some (Value.int (nth _ i))) ?_) rfl rfl; first | (rw [show A 1 p = _ from hx]; first | rfl | exact (letsI_3a c3).symm | exact (letsI_3b c4).symm | exact (letsI_3c c3 c4).symm) | (rw [letsI, if_neg (show ¬ A 1 p = 1 from tsw_ne hx 1 (by decide)), if_neg (show ¬ A 1 p = 3 from tsw_ne hx 3 (by decide)), if_neg (show ¬ A 1 p = 5 from tsw_ne hx 5 (by decide))])
        | 2 =>
          intro ht hx; cases ht
          replace hx := hx.trans (show Int32.ofInt ((1) + ((2 : Nat) : Int)) = 3 by decide)
          refine g_iload_n dX7_letsOf_107 rfl ?_
          refine g_iconst (1) dX7_letsOf_108 rfl ?_
          refine g_icmp_le 122 dX7_letsOf_109 (by decide) (fun c3 => ?_) (fun c3 => ?_)
          · refine g_iload dX7_letsOf_122 rfl ?_
            refine g_istore (L' := [(7, _), (6, _), (5, _), (4, _), (3, _), (0, _), (1, _), (2, _)]) dX7_letsOf_124 (by decide) rfl ?_
            refine g_goto 146 dX7_letsOf_126 (by decide) ?_
            refine g_aload_n dX7_letsOf_146 rfl ?_
            refine mg_rows dX7_letsOf_147 ?_
            refine g_iconst (3) dX7_letsOf_150 rfl ?_
            refine g_iload_n dX7_letsOf_151 rfl ?_
            refine g_imul dX7_letsOf_152 ?_
            refine mlc_rows ((3 * p)) (by omega) (by first | rfl | (simp only [nI, Int32.ofNat_add, Int32.ofNat_mul]; rfl) | (simp only [nI, Int32.ofNat_add, Int32.ofNat_mul]; done)) dX7_letsOf_153 ?_
            refine g_iload dX7_letsOf_154 rfl ?_
            refine gs_calli (n := 2) (c_nthOf ) (lw_S q1620 q1621 q92 q1622) (by decide +kernel) rfl rfl (by decide) ⟨Nat.le_refl _, Nat.le_refl _⟩ (Nat.le_of_ble_eq_true rfl) dX7_letsOf_156 ?_
            refine g_iret rfl (Nat.le_refl _) (Nat.le_refl _) ?_ dX7_letsOf_159
            refine mQ.of (congrArg (fun i => some (Value.int (nth _ i))) ?_) rfl rfl; first | (rw [show A 1 p = _ from hx]; first | rfl | exact (letsI_3a c3).symm | exact (letsI_3b c4).symm | exact (letsI_3c c3 c4).symm) | (rw [letsI, if_neg (show ¬ A 1 p = 1 from tsw_ne hx 1 (by decide)), if_neg (show ¬ A 1 p = 3 from tsw_ne hx 3 (by decide)), if_neg (show ¬ A 1 p = 5 from tsw_ne hx 5 (by decide))])
          · refine g_iload dX7_letsOf_112 rfl ?_
            refine g_iconst (1) dX7_letsOf_114 rfl ?_
            refine g_icmp_ge 122 dX7_letsOf_115 (by decide) (fun c4 => ?_) (fun c4 => ?_)
            · refine g_iload dX7_letsOf_122 rfl ?_
              refine g_istore (L' := [(7, _), (6, _), (5, _), (4, _), (3, _), (0, _), (1, _), (2, _)]) dX7_letsOf_124 (by decide) rfl ?_
              refine g_goto 146 dX7_letsOf_126 (by decide) ?_
              refine g_aload_n dX7_letsOf_146 rfl ?_
              refine mg_rows dX7_letsOf_147 ?_
              refine g_iconst (3) dX7_letsOf_150 rfl ?_
              refine g_iload_n dX7_letsOf_151 rfl ?_
              refine g_imul dX7_letsOf_152 ?_
              refine mlc_rows ((3 * p)) (by omega) (by first | rfl | (simp only [nI, Int32.ofNat_add, Int32.ofNat_mul]; rfl) | (simp only [nI, Int32.ofNat_add, Int32.ofNat_mul]; done)) dX7_letsOf_153 ?_
              refine g_iload dX7_letsOf_154 rfl ?_
              refine gs_calli (n := 2) (c_nthOf ) (lw_S q1620 q1621 q92 q1622) (by decide +kernel) rfl rfl (by decide) ⟨Nat.le_refl _, Nat.le_refl _⟩ (Nat.le_of_ble_eq_true rfl) dX7_letsOf_156 ?_
              refine g_iret rfl (Nat.le_refl _) (Nat.le_refl _) ?_ dX7_letsOf_159
              refine mQ.of (congrArg (fun i => some (Value.int (nth _ i))) ?_) rfl rfl; first | (rw [show A 1 p = _ from hx]; first | rfl | exact (letsI_3a c3).symm | exact (letsI_3b c4).symm | exact (letsI_3c c3 c4).symm) | (rw [letsI, if_neg (show ¬ A 1 p = 1 from tsw_ne hx 1 (by decide)), if_neg (show ¬ A 1 p = 3 from tsw_ne hx 3 (by decide)), if_neg (show ¬ A 1 p = 5 from tsw_ne hx 5 (by decide))])
            · refine g_iconst (1) dX7_letsOf_118 rfl ?_
              refine g_goto 124 dX7_letsOf_119 (by decide) ?_
              refine g_istore (L' := [(7, _), (6, _), (5, _), (4, _), (3, _), (0, _), (1, _), (2, _)]) dX7_letsOf_124 (by decide) rfl ?_
              refine g_goto 146 dX7_letsOf_126 (by decide) ?_
              refine g_aload_n dX7_letsOf_146 rfl ?_
              refine mg_rows dX7_letsOf_147 ?_
              refine g_iconst (3) dX7_letsOf_150 rfl ?_
              refine g_iload_n dX7_letsOf_151 rfl ?_
              refine g_imul dX7_letsOf_152 ?_
              refine mlc_rows ((3 * p)) (by omega) (by first | rfl | (simp only [nI, Int32.ofNat_add, Int32.ofNat_mul]; rfl) | (simp only [nI, Int32.ofNat_add, Int32.ofNat_mul]; done)) dX7_letsOf_153 ?_
              refine g_iload dX7_letsOf_154 rfl ?_
              refine gs_calli (n := 2) (c_nthOf ) (lw_S q1620 q1621 q92 q1622) (by decide +kernel) rfl rfl (by decide) ⟨Nat.le_refl _, Nat.le_refl _⟩ (Nat.le_of_ble_eq_true rfl) dX7_letsOf_156 ?_
              refine g_iret rfl (Nat.le_refl _) (Nat.le_refl _) ?_ dX7_letsOf_159
              refine mQ.of (congrArg (fun i => some (Value.int (nth _ i))) ?_) rfl rfl; first | (rw [show A 1 p = _ from hx]; first | rfl | exact (letsI_3a c3).symm | exact (letsI_3b c4).symm | exact (letsI_3c c3 c4).symm) | (rw [letsI, if_neg (show ¬ A 1 p = 1 from tsw_ne hx 1 (by decide)), if_neg (show ¬ A 1 p = 3 from tsw_ne hx 3 (by decide)), if_neg (show ¬ A 1 p = 5 from tsw_ne hx 5 (by decide))])
        | 3 =>
          intro ht hx; cases ht
          replace hx := hx.trans (show Int32.ofInt ((1) + ((3 : Nat) : Int)) = 4 by decide)
          refine g_iload dX7_letsOf_142 rfl ?_
          refine g_istore (L' := [(7, _), (6, _), (5, _), (4, _), (3, _), (0, _), (1, _), (2, _)]) dX7_letsOf_144 (by decide) rfl ?_
          refine g_aload_n dX7_letsOf_146 rfl ?_
          refine mg_rows dX7_letsOf_147 ?_
          refine g_iconst (3) dX7_letsOf_150 rfl ?_
          refine g_iload_n dX7_letsOf_151 rfl ?_
          refine g_imul dX7_letsOf_152 ?_
          refine mlc_rows ((3 * p)) (by omega) (by first | rfl | (simp only [nI, Int32.ofNat_add, Int32.ofNat_mul]; rfl) | (simp only [nI, Int32.ofNat_add, Int32.ofNat_mul]; done)) dX7_letsOf_153 ?_
          refine g_iload dX7_letsOf_154 rfl ?_
          refine gs_calli (n := 2) (c_nthOf ) (lw_S q1620 q1621 q92 q1622) (by decide +kernel) rfl rfl (by decide) ⟨Nat.le_refl _, Nat.le_refl _⟩ (Nat.le_of_ble_eq_true rfl) dX7_letsOf_156 ?_
          refine g_iret rfl (Nat.le_refl _) (Nat.le_refl _) ?_ dX7_letsOf_159
          refine mQ.of (congrArg (fun i => some (Value.int (nth _ i))) ?_) rfl rfl; first | (rw [show A 1 p = _ from hx]; first | rfl | exact (letsI_3a c3).symm | exact (letsI_3b c4).symm | exact (letsI_3c c3 c4).symm) | (rw [letsI, if_neg (show ¬ A 1 p = 1 from tsw_ne hx 1 (by decide)), if_neg (show ¬ A 1 p = 3 from tsw_ne hx 3 (by decide)), if_neg (show ¬ A 1 p = 5 from tsw_ne hx 5 (by decide))])
        | 4 =>
          intro ht hx; cases ht
          replace hx := hx.trans (show Int32.ofInt ((1) + ((4 : Nat) : Int)) = 5 by decide)
          refine g_aload_n dX7_letsOf_129 rfl ?_
          refine mg_moreOf dX7_letsOf_130 ?_
          refine g_iload_n dX7_letsOf_133 rfl ?_
          refine mlc_moreOf (p) (by omega) (by first | rfl | (simp only [nI, Int32.ofNat_add, Int32.ofNat_mul]; rfl) | (simp only [nI, Int32.ofNat_add, Int32.ofNat_mul]; done)) dX7_letsOf_134 ?_
          refine g_iload_n dX7_letsOf_135 rfl ?_
          refine g_irem dX7_letsOf_136 c1 ?_
          refine g_istore (L' := [(7, _), (6, _), (5, _), (4, _), (3, _), (0, _), (1, _), (2, _)]) dX7_letsOf_137 (by decide) rfl ?_
          refine g_goto 146 dX7_letsOf_139 (by decide) ?_
          refine g_aload_n dX7_letsOf_146 rfl ?_
          refine mg_rows dX7_letsOf_147 ?_
          refine g_iconst (3) dX7_letsOf_150 rfl ?_
          refine g_iload_n dX7_letsOf_151 rfl ?_
          refine g_imul dX7_letsOf_152 ?_
          refine mlc_rows ((3 * p)) (by omega) (by first | rfl | (simp only [nI, Int32.ofNat_add, Int32.ofNat_mul]; rfl) | (simp only [nI, Int32.ofNat_add, Int32.ofNat_mul]; done)) dX7_letsOf_153 ?_
          refine g_iload dX7_letsOf_154 rfl ?_
          refine gs_calli (n := 2) (c_nthOf ) (lw_S q1620 q1621 q92 q1622) (by decide +kernel) rfl rfl (by decide) ⟨Nat.le_refl _, Nat.le_refl _⟩ (Nat.le_of_ble_eq_true rfl) dX7_letsOf_156 ?_
          refine g_iret rfl (Nat.le_refl _) (Nat.le_refl _) ?_ dX7_letsOf_159
          refine mQ.of (congrArg (fun i => some (Value.int (nth _ i))) ?_) rfl rfl; first | (rw [show A 1 p = _ from hx]; first | rfl | exact (letsI_3a c3).symm | exact (letsI_3b c4).symm | exact (letsI_3c c3 c4).symm) | (rw [letsI, if_neg (show ¬ A 1 p = 1 from tsw_ne hx 1 (by decide)), if_neg (show ¬ A 1 p = 3 from tsw_ne hx 3 (by decide)), if_neg (show ¬ A 1 p = 5 from tsw_ne hx 5 (by decide))])
        | j + 5 => intro ht hx; simp at ht
      · refine g_iload dX7_letsOf_142 rfl ?_
        refine g_istore (L' := [(7, _), (6, _), (5, _), (4, _), (3, _), (0, _), (1, _), (2, _)]) dX7_letsOf_144 (by decide) rfl ?_
        refine g_aload_n dX7_letsOf_146 rfl ?_
        refine mg_rows dX7_letsOf_147 ?_
        refine g_iconst (3) dX7_letsOf_150 rfl ?_
        refine g_iload_n dX7_letsOf_151 rfl ?_
        refine g_imul dX7_letsOf_152 ?_
        refine mlc_rows ((3 * p)) (by omega) (by first | rfl | (simp only [nI, Int32.ofNat_add, Int32.ofNat_mul]; rfl) | (simp only [nI, Int32.ofNat_add, Int32.ofNat_mul]; done)) dX7_letsOf_153 ?_
        refine g_iload dX7_letsOf_154 rfl ?_
        refine gs_calli (n := 2) (c_nthOf ) (lw_S q1620 q1621 q92 q1622) (by decide +kernel) rfl rfl (by decide) ⟨Nat.le_refl _, Nat.le_refl _⟩ (Nat.le_of_ble_eq_true rfl) dX7_letsOf_156 ?_
        refine g_iret rfl (Nat.le_refl _) (Nat.le_refl _) ?_ dX7_letsOf_159
        refine mQ.of (congrArg (fun i => some (Value.int (nth _ i))) ?_) rfl rfl; first | (rw [show A 1 p = _ from hx]; first | rfl | exact (letsI_3a c3).symm | exact (letsI_3b c4).symm | exact (letsI_3c c3 c4).symm) | (rw [letsI, if_neg (show ¬ A 1 p = 1 from tsw_ne hx 1 (by decide)), if_neg (show ¬ A 1 p = 3 from tsw_ne hx 3 (by decide)), if_neg (show ¬ A 1 p = 5 from tsw_ne hx 5 (by decide))])
    · refine g_iload dX7_letsOf_27 rfl ?_
      refine g_iload_n dX7_letsOf_29 rfl ?_
      refine g_irem dX7_letsOf_30 c1 ?_
      refine g_if_ge 43 dX7_letsOf_31 (by decide) (fun c2 => ?_) (fun c2 => ?_)
      · refine g_iload dX7_letsOf_43 rfl ?_
        refine g_iload_n dX7_letsOf_45 rfl ?_
        refine g_irem dX7_letsOf_46 c1 ?_
        exact K _ (if_neg (Int32.not_lt.mpr c2)).symm
      · refine g_iload dX7_letsOf_34 rfl ?_
        refine g_iload_n dX7_letsOf_36 rfl ?_
        refine g_irem dX7_letsOf_37 c1 ?_
        refine g_iload_n dX7_letsOf_38 rfl ?_
        refine g_iadd dX7_letsOf_39 ?_
        refine g_goto 47 dX7_letsOf_40 (by decide) ?_
        exact K _ (if_pos (Int32.not_le.mp c2)).symm
  · refine g_iconst (-1) dX7_letsOf_16 rfl ?_
    refine g_iret rfl (Nat.le_refl _) (Nat.le_refl _) ?_ dX7_letsOf_17
    exact mQ.of (by rw [letsF, if_pos c1]) rfl rfl
theorem c_lucksOf {p : Nat} {t : Int32} (hN : gN g ≤ b) (hE : EnM F A n ts) (hp : p < 6) : Ct g yX7_lucksOf cX7_lucksOf 5 (some .int) 4 0 0 [.ref b, .int (nI p), .int t] (hM g b (mF F c) (mA A c) A2 ω0) z (mQ g b ω0 z (some (.int (lucksF (eM A n ts) c p t))) (mF F c) (mA A c)) := by
  refine Ct.at (own := RX7) (by decide) rfl (Nat.le_of_ble_eq_true rfl) rfl ?_
  have hL : lucksF (eM A n ts) c p t = lucksI (A 1 p) (A 2 p) (asksF (eM A n ts) c 1 p t) ((c.1 (3 * p) >>> (t &&& 31)) &&& 1 = 1) := rfl
  rw [hL]
  refine g_aload_n dX7_lucksOf_0 rfl ?_
  refine g_iconst (1) dX7_lucksOf_1 rfl ?_
  refine g_iload_n dX7_lucksOf_2 rfl ?_
  refine g_iload_n dX7_lucksOf_3 rfl ?_
  refine gm_calli (n := 3) (c_asksOf (part := 1) (n := n) (ts := ts) hN hE (by decide) hp) (lw_V q1582 q1584 qs47 q92 q1585) (by decide +kernel) rfl rfl (by decide) ⟨Nat.le_refl _, Nat.le_refl _⟩ (Nat.le_of_ble_eq_true rfl) dX7_lucksOf_4 (fun A2 => ?_)
  refine g_istore_n (L' := [(3, _), (0, _), (1, _), (2, _)]) dX7_lucksOf_7 (by decide) rfl ?_
  refine g_aload_n dX7_lucksOf_8 rfl ?_
  refine mg_rows dX7_lucksOf_9 ?_
  refine g_iconst (3) dX7_lucksOf_12 rfl ?_
  refine g_iload_n dX7_lucksOf_13 rfl ?_
  refine g_imul dX7_lucksOf_14 ?_
  refine mlc_rows ((3 * p)) (by omega) (by first | rfl | (simp only [nI, Int32.ofNat_add, Int32.ofNat_mul]; rfl) | (simp only [nI, Int32.ofNat_add, Int32.ofNat_mul]; done)) dX7_lucksOf_15 ?_
  refine g_iload_n dX7_lucksOf_16 rfl ?_
  refine g_ishr dX7_lucksOf_17 ?_
  refine g_iconst (1) dX7_lucksOf_18 rfl ?_
  refine g_iand dX7_lucksOf_19 ?_
  refine g_iconst (1) dX7_lucksOf_20 rfl ?_
  refine g_icmp_ne 28 dX7_lucksOf_21 (by decide) (fun c1 => ?_) (fun c1 => ?_)
  · refine g_iconst (0) dX7_lucksOf_28 rfl ?_
    refine g_istore (L' := [(4, _), (3, _), (0, _), (1, _), (2, _)]) dX7_lucksOf_29 (by decide) rfl ?_
    refine g_aload_n dX7_lucksOf_31 rfl ?_
    refine mg_kind dX7_lucksOf_32 ?_
    refine g_iload_n dX7_lucksOf_35 rfl ?_
    refine mlc_kind (p) (by omega) (by first | rfl | (simp only [nI, Int32.ofNat_add, Int32.ofNat_mul]; rfl) | (simp only [nI, Int32.ofNat_add, Int32.ofNat_mul]; done)) dX7_lucksOf_36 ?_
    refine g_tsw [68, 86, 68, 90] 108 dX7_lucksOf_37 (by decide) (by decide) (by decide) (fun j t => ?_) (fun hx => ?_)
    · match j with
      | 0 =>
        intro ht hx; cases ht
        replace hx := hx.trans (show Int32.ofInt ((1) + ((0 : Nat) : Int)) = 1 by decide)
        refine g_iload dX7_lucksOf_68 rfl ?_
        refine g_if_eq 77 dX7_lucksOf_70 (by decide) (fun c3 => ?_) (fun c3 => ?_)
        · refine g_iload_n dX7_lucksOf_77 rfl ?_
          refine g_aload_n dX7_lucksOf_78 rfl ?_
          refine mg_moreOf dX7_lucksOf_79 ?_
          refine g_iload_n dX7_lucksOf_82 rfl ?_
          refine mlc_moreOf (p) (by omega) (by first | rfl | (simp only [nI, Int32.ofNat_add, Int32.ofNat_mul]; rfl) | (simp only [nI, Int32.ofNat_add, Int32.ofNat_mul]; done)) dX7_lucksOf_83 ?_
          refine g_isub dX7_lucksOf_84 ?_
          refine g_iret rfl (Nat.le_refl _) (Nat.le_refl _) ?_ dX7_lucksOf_85
          refine mQ.of (congrArg (fun i => some (Value.int i)) ?_) rfl rfl; first | (rw [show A 1 p = _ from hx]; first | exact absurd c3 (by decide) | exact absurd rfl c3 | exact (lucksI_1.trans (if_pos c1)).symm | exact (lucksI_1.trans (if_neg c1)).symm | exact (lucksI_3.trans (if_pos c1)).symm | exact (lucksI_3.trans (if_neg c1)).symm | exact (lucksI_4.trans (if_pos c1)).symm | exact (lucksI_4.trans (if_neg c1)).symm | rfl) | (unfold lucksI; rw [if_neg (fun h => h.elim (show ¬ A 1 p = 1 from tsw_ne hx 1 (by decide)) (show ¬ A 1 p = 3 from tsw_ne hx 3 (by decide))), if_neg (show ¬ A 1 p = 2 from tsw_ne hx 2 (by decide)), if_neg (show ¬ A 1 p = 4 from tsw_ne hx 4 (by decide))])
        · refine g_iload_n dX7_lucksOf_73 rfl ?_
          refine g_goto 85 dX7_lucksOf_74 (by decide) ?_
          refine g_iret rfl (Nat.le_refl _) (Nat.le_refl _) ?_ dX7_lucksOf_85
          refine mQ.of (congrArg (fun i => some (Value.int i)) ?_) rfl rfl; first | (rw [show A 1 p = _ from hx]; first | exact absurd c3 (by decide) | exact absurd rfl c3 | exact (lucksI_1.trans (if_pos c1)).symm | exact (lucksI_1.trans (if_neg c1)).symm | exact (lucksI_3.trans (if_pos c1)).symm | exact (lucksI_3.trans (if_neg c1)).symm | exact (lucksI_4.trans (if_pos c1)).symm | exact (lucksI_4.trans (if_neg c1)).symm | rfl) | (unfold lucksI; rw [if_neg (fun h => h.elim (show ¬ A 1 p = 1 from tsw_ne hx 1 (by decide)) (show ¬ A 1 p = 3 from tsw_ne hx 3 (by decide))), if_neg (show ¬ A 1 p = 2 from tsw_ne hx 2 (by decide)), if_neg (show ¬ A 1 p = 4 from tsw_ne hx 4 (by decide))])
      | 1 =>
        intro ht hx; cases ht
        replace hx := hx.trans (show Int32.ofInt ((1) + ((1 : Nat) : Int)) = 2 by decide)
        refine g_iload_n dX7_lucksOf_86 rfl ?_
        refine g_iconst (2) dX7_lucksOf_87 rfl ?_
        refine g_idiv dX7_lucksOf_88 (by decide) ?_
        refine g_iret rfl (Nat.le_refl _) (Nat.le_refl _) ?_ dX7_lucksOf_89
        refine mQ.of (congrArg (fun i => some (Value.int i)) ?_) rfl rfl; first | (rw [show A 1 p = _ from hx]; first | exact absurd c3 (by decide) | exact absurd rfl c3 | exact (lucksI_1.trans (if_pos c1)).symm | exact (lucksI_1.trans (if_neg c1)).symm | exact (lucksI_3.trans (if_pos c1)).symm | exact (lucksI_3.trans (if_neg c1)).symm | exact (lucksI_4.trans (if_pos c1)).symm | exact (lucksI_4.trans (if_neg c1)).symm | rfl) | (unfold lucksI; rw [if_neg (fun h => h.elim (show ¬ A 1 p = 1 from tsw_ne hx 1 (by decide)) (show ¬ A 1 p = 3 from tsw_ne hx 3 (by decide))), if_neg (show ¬ A 1 p = 2 from tsw_ne hx 2 (by decide)), if_neg (show ¬ A 1 p = 4 from tsw_ne hx 4 (by decide))])
      | 2 =>
        intro ht hx; cases ht
        replace hx := hx.trans (show Int32.ofInt ((1) + ((2 : Nat) : Int)) = 3 by decide)
        refine g_iload dX7_lucksOf_68 rfl ?_
        refine g_if_eq 77 dX7_lucksOf_70 (by decide) (fun c3 => ?_) (fun c3 => ?_)
        · refine g_iload_n dX7_lucksOf_77 rfl ?_
          refine g_aload_n dX7_lucksOf_78 rfl ?_
          refine mg_moreOf dX7_lucksOf_79 ?_
          refine g_iload_n dX7_lucksOf_82 rfl ?_
          refine mlc_moreOf (p) (by omega) (by first | rfl | (simp only [nI, Int32.ofNat_add, Int32.ofNat_mul]; rfl) | (simp only [nI, Int32.ofNat_add, Int32.ofNat_mul]; done)) dX7_lucksOf_83 ?_
          refine g_isub dX7_lucksOf_84 ?_
          refine g_iret rfl (Nat.le_refl _) (Nat.le_refl _) ?_ dX7_lucksOf_85
          refine mQ.of (congrArg (fun i => some (Value.int i)) ?_) rfl rfl; first | (rw [show A 1 p = _ from hx]; first | exact absurd c3 (by decide) | exact absurd rfl c3 | exact (lucksI_1.trans (if_pos c1)).symm | exact (lucksI_1.trans (if_neg c1)).symm | exact (lucksI_3.trans (if_pos c1)).symm | exact (lucksI_3.trans (if_neg c1)).symm | exact (lucksI_4.trans (if_pos c1)).symm | exact (lucksI_4.trans (if_neg c1)).symm | rfl) | (unfold lucksI; rw [if_neg (fun h => h.elim (show ¬ A 1 p = 1 from tsw_ne hx 1 (by decide)) (show ¬ A 1 p = 3 from tsw_ne hx 3 (by decide))), if_neg (show ¬ A 1 p = 2 from tsw_ne hx 2 (by decide)), if_neg (show ¬ A 1 p = 4 from tsw_ne hx 4 (by decide))])
        · refine g_iload_n dX7_lucksOf_73 rfl ?_
          refine g_goto 85 dX7_lucksOf_74 (by decide) ?_
          refine g_iret rfl (Nat.le_refl _) (Nat.le_refl _) ?_ dX7_lucksOf_85
          refine mQ.of (congrArg (fun i => some (Value.int i)) ?_) rfl rfl; first | (rw [show A 1 p = _ from hx]; first | exact absurd c3 (by decide) | exact absurd rfl c3 | exact (lucksI_1.trans (if_pos c1)).symm | exact (lucksI_1.trans (if_neg c1)).symm | exact (lucksI_3.trans (if_pos c1)).symm | exact (lucksI_3.trans (if_neg c1)).symm | exact (lucksI_4.trans (if_pos c1)).symm | exact (lucksI_4.trans (if_neg c1)).symm | rfl) | (unfold lucksI; rw [if_neg (fun h => h.elim (show ¬ A 1 p = 1 from tsw_ne hx 1 (by decide)) (show ¬ A 1 p = 3 from tsw_ne hx 3 (by decide))), if_neg (show ¬ A 1 p = 2 from tsw_ne hx 2 (by decide)), if_neg (show ¬ A 1 p = 4 from tsw_ne hx 4 (by decide))])
      | 3 =>
        intro ht hx; cases ht
        replace hx := hx.trans (show Int32.ofInt ((1) + ((3 : Nat) : Int)) = 4 by decide)
        refine g_iload dX7_lucksOf_90 rfl ?_
        refine g_if_eq 104 dX7_lucksOf_92 (by decide) (fun c3 => ?_) (fun c3 => ?_)
        · refine g_iload_n dX7_lucksOf_104 rfl ?_
          refine g_iconst (2) dX7_lucksOf_105 rfl ?_
          refine g_idiv dX7_lucksOf_106 (by decide) ?_
          refine g_iret rfl (Nat.le_refl _) (Nat.le_refl _) ?_ dX7_lucksOf_107
          refine mQ.of (congrArg (fun i => some (Value.int i)) ?_) rfl rfl; first | (rw [show A 1 p = _ from hx]; first | exact absurd c3 (by decide) | exact absurd rfl c3 | exact (lucksI_1.trans (if_pos c1)).symm | exact (lucksI_1.trans (if_neg c1)).symm | exact (lucksI_3.trans (if_pos c1)).symm | exact (lucksI_3.trans (if_neg c1)).symm | exact (lucksI_4.trans (if_pos c1)).symm | exact (lucksI_4.trans (if_neg c1)).symm | rfl) | (unfold lucksI; rw [if_neg (fun h => h.elim (show ¬ A 1 p = 1 from tsw_ne hx 1 (by decide)) (show ¬ A 1 p = 3 from tsw_ne hx 3 (by decide))), if_neg (show ¬ A 1 p = 2 from tsw_ne hx 2 (by decide)), if_neg (show ¬ A 1 p = 4 from tsw_ne hx 4 (by decide))])
        · refine g_aload_n dX7_lucksOf_95 rfl ?_
          refine mg_moreOf dX7_lucksOf_96 ?_
          refine g_iload_n dX7_lucksOf_99 rfl ?_
          refine mlc_moreOf (p) (by omega) (by first | rfl | (simp only [nI, Int32.ofNat_add, Int32.ofNat_mul]; rfl) | (simp only [nI, Int32.ofNat_add, Int32.ofNat_mul]; done)) dX7_lucksOf_100 ?_
          refine g_goto 107 dX7_lucksOf_101 (by decide) ?_
          refine g_iret rfl (Nat.le_refl _) (Nat.le_refl _) ?_ dX7_lucksOf_107
          refine mQ.of (congrArg (fun i => some (Value.int i)) ?_) rfl rfl; first | (rw [show A 1 p = _ from hx]; first | exact absurd c3 (by decide) | exact absurd rfl c3 | exact (lucksI_1.trans (if_pos c1)).symm | exact (lucksI_1.trans (if_neg c1)).symm | exact (lucksI_3.trans (if_pos c1)).symm | exact (lucksI_3.trans (if_neg c1)).symm | exact (lucksI_4.trans (if_pos c1)).symm | exact (lucksI_4.trans (if_neg c1)).symm | rfl) | (unfold lucksI; rw [if_neg (fun h => h.elim (show ¬ A 1 p = 1 from tsw_ne hx 1 (by decide)) (show ¬ A 1 p = 3 from tsw_ne hx 3 (by decide))), if_neg (show ¬ A 1 p = 2 from tsw_ne hx 2 (by decide)), if_neg (show ¬ A 1 p = 4 from tsw_ne hx 4 (by decide))])
      | j + 4 => intro ht hx; simp at ht
    · refine g_iload_n dX7_lucksOf_108 rfl ?_
      refine g_iret rfl (Nat.le_refl _) (Nat.le_refl _) ?_ dX7_lucksOf_109
      refine mQ.of (congrArg (fun i => some (Value.int i)) ?_) rfl rfl; first | (rw [show A 1 p = _ from hx]; first | exact absurd c3 (by decide) | exact absurd rfl c3 | exact (lucksI_1.trans (if_pos c1)).symm | exact (lucksI_1.trans (if_neg c1)).symm | exact (lucksI_3.trans (if_pos c1)).symm | exact (lucksI_3.trans (if_neg c1)).symm | exact (lucksI_4.trans (if_pos c1)).symm | exact (lucksI_4.trans (if_neg c1)).symm | rfl) | (unfold lucksI; rw [if_neg (fun h => h.elim (show ¬ A 1 p = 1 from tsw_ne hx 1 (by decide)) (show ¬ A 1 p = 3 from tsw_ne hx 3 (by decide))), if_neg (show ¬ A 1 p = 2 from tsw_ne hx 2 (by decide)), if_neg (show ¬ A 1 p = 4 from tsw_ne hx 4 (by decide))])
  · refine g_iconst (1) dX7_lucksOf_24 rfl ?_
    refine g_goto 29 dX7_lucksOf_25 (by decide) ?_
    refine g_istore (L' := [(4, _), (3, _), (0, _), (1, _), (2, _)]) dX7_lucksOf_29 (by decide) rfl ?_
    refine g_aload_n dX7_lucksOf_31 rfl ?_
    refine mg_kind dX7_lucksOf_32 ?_
    refine g_iload_n dX7_lucksOf_35 rfl ?_
    refine mlc_kind (p) (by omega) (by first | rfl | (simp only [nI, Int32.ofNat_add, Int32.ofNat_mul]; rfl) | (simp only [nI, Int32.ofNat_add, Int32.ofNat_mul]; done)) dX7_lucksOf_36 ?_
    refine g_tsw [68, 86, 68, 90] 108 dX7_lucksOf_37 (by decide) (by decide) (by decide) (fun j t => ?_) (fun hx => ?_)
    · match j with
      | 0 =>
        intro ht hx; cases ht
        replace hx := hx.trans (show Int32.ofInt ((1) + ((0 : Nat) : Int)) = 1 by decide)
        refine g_iload dX7_lucksOf_68 rfl ?_
        refine g_if_eq 77 dX7_lucksOf_70 (by decide) (fun c3 => ?_) (fun c3 => ?_)
        · refine g_iload_n dX7_lucksOf_77 rfl ?_
          refine g_aload_n dX7_lucksOf_78 rfl ?_
          refine mg_moreOf dX7_lucksOf_79 ?_
          refine g_iload_n dX7_lucksOf_82 rfl ?_
          refine mlc_moreOf (p) (by omega) (by first | rfl | (simp only [nI, Int32.ofNat_add, Int32.ofNat_mul]; rfl) | (simp only [nI, Int32.ofNat_add, Int32.ofNat_mul]; done)) dX7_lucksOf_83 ?_
          refine g_isub dX7_lucksOf_84 ?_
          refine g_iret rfl (Nat.le_refl _) (Nat.le_refl _) ?_ dX7_lucksOf_85
          refine mQ.of (congrArg (fun i => some (Value.int i)) ?_) rfl rfl; first | (rw [show A 1 p = _ from hx]; first | exact absurd c3 (by decide) | exact absurd rfl c3 | exact (lucksI_1.trans (if_pos c1)).symm | exact (lucksI_1.trans (if_neg c1)).symm | exact (lucksI_3.trans (if_pos c1)).symm | exact (lucksI_3.trans (if_neg c1)).symm | exact (lucksI_4.trans (if_pos c1)).symm | exact (lucksI_4.trans (if_neg c1)).symm | rfl) | (unfold lucksI; rw [if_neg (fun h => h.elim (show ¬ A 1 p = 1 from tsw_ne hx 1 (by decide)) (show ¬ A 1 p = 3 from tsw_ne hx 3 (by decide))), if_neg (show ¬ A 1 p = 2 from tsw_ne hx 2 (by decide)), if_neg (show ¬ A 1 p = 4 from tsw_ne hx 4 (by decide))])
        · refine g_iload_n dX7_lucksOf_73 rfl ?_
          refine g_goto 85 dX7_lucksOf_74 (by decide) ?_
          refine g_iret rfl (Nat.le_refl _) (Nat.le_refl _) ?_ dX7_lucksOf_85
          refine mQ.of (congrArg (fun i => some (Value.int i)) ?_) rfl rfl; first | (rw [show A 1 p = _ from hx]; first | exact absurd c3 (by decide) | exact absurd rfl c3 | exact (lucksI_1.trans (if_pos c1)).symm | exact (lucksI_1.trans (if_neg c1)).symm | exact (lucksI_3.trans (if_pos c1)).symm | exact (lucksI_3.trans (if_neg c1)).symm | exact (lucksI_4.trans (if_pos c1)).symm | exact (lucksI_4.trans (if_neg c1)).symm | rfl) | (unfold lucksI; rw [if_neg (fun h => h.elim (show ¬ A 1 p = 1 from tsw_ne hx 1 (by decide)) (show ¬ A 1 p = 3 from tsw_ne hx 3 (by decide))), if_neg (show ¬ A 1 p = 2 from tsw_ne hx 2 (by decide)), if_neg (show ¬ A 1 p = 4 from tsw_ne hx 4 (by decide))])
      | 1 =>
        intro ht hx; cases ht
        replace hx := hx.trans (show Int32.ofInt ((1) + ((1 : Nat) : Int)) = 2 by decide)
        refine g_iload_n dX7_lucksOf_86 rfl ?_
        refine g_iconst (2) dX7_lucksOf_87 rfl ?_
        refine g_idiv dX7_lucksOf_88 (by decide) ?_
        refine g_iret rfl (Nat.le_refl _) (Nat.le_refl _) ?_ dX7_lucksOf_89
        refine mQ.of (congrArg (fun i => some (Value.int i)) ?_) rfl rfl; first | (rw [show A 1 p = _ from hx]; first | exact absurd c3 (by decide) | exact absurd rfl c3 | exact (lucksI_1.trans (if_pos c1)).symm | exact (lucksI_1.trans (if_neg c1)).symm | exact (lucksI_3.trans (if_pos c1)).symm | exact (lucksI_3.trans (if_neg c1)).symm | exact (lucksI_4.trans (if_pos c1)).symm | exact (lucksI_4.trans (if_neg c1)).symm | rfl) | (unfold lucksI; rw [if_neg (fun h => h.elim (show ¬ A 1 p = 1 from tsw_ne hx 1 (by decide)) (show ¬ A 1 p = 3 from tsw_ne hx 3 (by decide))), if_neg (show ¬ A 1 p = 2 from tsw_ne hx 2 (by decide)), if_neg (show ¬ A 1 p = 4 from tsw_ne hx 4 (by decide))])
      | 2 =>
        intro ht hx; cases ht
        replace hx := hx.trans (show Int32.ofInt ((1) + ((2 : Nat) : Int)) = 3 by decide)
        refine g_iload dX7_lucksOf_68 rfl ?_
        refine g_if_eq 77 dX7_lucksOf_70 (by decide) (fun c3 => ?_) (fun c3 => ?_)
        · refine g_iload_n dX7_lucksOf_77 rfl ?_
          refine g_aload_n dX7_lucksOf_78 rfl ?_
          refine mg_moreOf dX7_lucksOf_79 ?_
          refine g_iload_n dX7_lucksOf_82 rfl ?_
          refine mlc_moreOf (p) (by omega) (by first | rfl | (simp only [nI, Int32.ofNat_add, Int32.ofNat_mul]; rfl) | (simp only [nI, Int32.ofNat_add, Int32.ofNat_mul]; done)) dX7_lucksOf_83 ?_
          refine g_isub dX7_lucksOf_84 ?_
          refine g_iret rfl (Nat.le_refl _) (Nat.le_refl _) ?_ dX7_lucksOf_85
          refine mQ.of (congrArg (fun i => some (Value.int i)) ?_) rfl rfl; first | (rw [show A 1 p = _ from hx]; first | exact absurd c3 (by decide) | exact absurd rfl c3 | exact (lucksI_1.trans (if_pos c1)).symm | exact (lucksI_1.trans (if_neg c1)).symm | exact (lucksI_3.trans (if_pos c1)).symm | exact (lucksI_3.trans (if_neg c1)).symm | exact (lucksI_4.trans (if_pos c1)).symm | exact (lucksI_4.trans (if_neg c1)).symm | rfl) | (unfold lucksI; rw [if_neg (fun h => h.elim (show ¬ A 1 p = 1 from tsw_ne hx 1 (by decide)) (show ¬ A 1 p = 3 from tsw_ne hx 3 (by decide))), if_neg (show ¬ A 1 p = 2 from tsw_ne hx 2 (by decide)), if_neg (show ¬ A 1 p = 4 from tsw_ne hx 4 (by decide))])
        · refine g_iload_n dX7_lucksOf_73 rfl ?_
          refine g_goto 85 dX7_lucksOf_74 (by decide) ?_
          refine g_iret rfl (Nat.le_refl _) (Nat.le_refl _) ?_ dX7_lucksOf_85
          refine mQ.of (congrArg (fun i => some (Value.int i)) ?_) rfl rfl; first | (rw [show A 1 p = _ from hx]; first | exact absurd c3 (by decide) | exact absurd rfl c3 | exact (lucksI_1.trans (if_pos c1)).symm | exact (lucksI_1.trans (if_neg c1)).symm | exact (lucksI_3.trans (if_pos c1)).symm | exact (lucksI_3.trans (if_neg c1)).symm | exact (lucksI_4.trans (if_pos c1)).symm | exact (lucksI_4.trans (if_neg c1)).symm | rfl) | (unfold lucksI; rw [if_neg (fun h => h.elim (show ¬ A 1 p = 1 from tsw_ne hx 1 (by decide)) (show ¬ A 1 p = 3 from tsw_ne hx 3 (by decide))), if_neg (show ¬ A 1 p = 2 from tsw_ne hx 2 (by decide)), if_neg (show ¬ A 1 p = 4 from tsw_ne hx 4 (by decide))])
      | 3 =>
        intro ht hx; cases ht
        replace hx := hx.trans (show Int32.ofInt ((1) + ((3 : Nat) : Int)) = 4 by decide)
        refine g_iload dX7_lucksOf_90 rfl ?_
        refine g_if_eq 104 dX7_lucksOf_92 (by decide) (fun c3 => ?_) (fun c3 => ?_)
        · refine g_iload_n dX7_lucksOf_104 rfl ?_
          refine g_iconst (2) dX7_lucksOf_105 rfl ?_
          refine g_idiv dX7_lucksOf_106 (by decide) ?_
          refine g_iret rfl (Nat.le_refl _) (Nat.le_refl _) ?_ dX7_lucksOf_107
          refine mQ.of (congrArg (fun i => some (Value.int i)) ?_) rfl rfl; first | (rw [show A 1 p = _ from hx]; first | exact absurd c3 (by decide) | exact absurd rfl c3 | exact (lucksI_1.trans (if_pos c1)).symm | exact (lucksI_1.trans (if_neg c1)).symm | exact (lucksI_3.trans (if_pos c1)).symm | exact (lucksI_3.trans (if_neg c1)).symm | exact (lucksI_4.trans (if_pos c1)).symm | exact (lucksI_4.trans (if_neg c1)).symm | rfl) | (unfold lucksI; rw [if_neg (fun h => h.elim (show ¬ A 1 p = 1 from tsw_ne hx 1 (by decide)) (show ¬ A 1 p = 3 from tsw_ne hx 3 (by decide))), if_neg (show ¬ A 1 p = 2 from tsw_ne hx 2 (by decide)), if_neg (show ¬ A 1 p = 4 from tsw_ne hx 4 (by decide))])
        · refine g_aload_n dX7_lucksOf_95 rfl ?_
          refine mg_moreOf dX7_lucksOf_96 ?_
          refine g_iload_n dX7_lucksOf_99 rfl ?_
          refine mlc_moreOf (p) (by omega) (by first | rfl | (simp only [nI, Int32.ofNat_add, Int32.ofNat_mul]; rfl) | (simp only [nI, Int32.ofNat_add, Int32.ofNat_mul]; done)) dX7_lucksOf_100 ?_
          refine g_goto 107 dX7_lucksOf_101 (by decide) ?_
          refine g_iret rfl (Nat.le_refl _) (Nat.le_refl _) ?_ dX7_lucksOf_107
          refine mQ.of (congrArg (fun i => some (Value.int i)) ?_) rfl rfl; first | (rw [show A 1 p = _ from hx]; first | exact absurd c3 (by decide) | exact absurd rfl c3 | exact (lucksI_1.trans (if_pos c1)).symm | exact (lucksI_1.trans (if_neg c1)).symm | exact (lucksI_3.trans (if_pos c1)).symm | exact (lucksI_3.trans (if_neg c1)).symm | exact (lucksI_4.trans (if_pos c1)).symm | exact (lucksI_4.trans (if_neg c1)).symm | rfl) | (unfold lucksI; rw [if_neg (fun h => h.elim (show ¬ A 1 p = 1 from tsw_ne hx 1 (by decide)) (show ¬ A 1 p = 3 from tsw_ne hx 3 (by decide))), if_neg (show ¬ A 1 p = 2 from tsw_ne hx 2 (by decide)), if_neg (show ¬ A 1 p = 4 from tsw_ne hx 4 (by decide))])
      | j + 4 => intro ht hx; simp at ht
    · refine g_iload_n dX7_lucksOf_108 rfl ?_
      refine g_iret rfl (Nat.le_refl _) (Nat.le_refl _) ?_ dX7_lucksOf_109
      refine mQ.of (congrArg (fun i => some (Value.int i)) ?_) rfl rfl; first | (rw [show A 1 p = _ from hx]; first | exact absurd c3 (by decide) | exact absurd rfl c3 | exact (lucksI_1.trans (if_pos c1)).symm | exact (lucksI_1.trans (if_neg c1)).symm | exact (lucksI_3.trans (if_pos c1)).symm | exact (lucksI_3.trans (if_neg c1)).symm | exact (lucksI_4.trans (if_pos c1)).symm | exact (lucksI_4.trans (if_neg c1)).symm | rfl) | (unfold lucksI; rw [if_neg (fun h => h.elim (show ¬ A 1 p = 1 from tsw_ne hx 1 (by decide)) (show ¬ A 1 p = 3 from tsw_ne hx 3 (by decide))), if_neg (show ¬ A 1 p = 2 from tsw_ne hx 2 (by decide)), if_neg (show ¬ A 1 p = 4 from tsw_ne hx 4 (by decide))])
theorem c_takesOf {p : Nat} (hN : gN g ≤ b) (hE : EnM F A n ts) (hp : p < 6) : Ct g yX7_takesOf cX7_takesOf 3 (some .int) 4 0 0 [.ref b, .int (nI p)] (hM g b (mF F c) (mA A c) A2 ω0) z (mQ g b ω0 z (some (.int (takesF (eM A n ts) c p))) (mF F c) (mA A c)) := by
  refine Ct.at (own := RX7) (by decide) rfl (Nat.le_of_ble_eq_true rfl) rfl ?_
  have hL : takesF (eM A n ts) c p = takesI (A 1 p) (A 2 p) (asksF (eM A n ts) c 2 p 0) c.2.2 := rfl
  rw [hL]
  refine g_aload_n dX7_takesOf_0 rfl ?_
  refine g_iconst (2) dX7_takesOf_1 rfl ?_
  refine g_iload_n dX7_takesOf_2 rfl ?_
  refine g_iconst (0) dX7_takesOf_3 rfl ?_
  refine gm_calli (n := 3) (c_asksOf (part := 2) (n := n) (ts := ts) hN hE (by decide) hp) (lw_V q1582 q1584 qs47 q92 q1585) (by decide +kernel) rfl rfl (by decide) ⟨Nat.le_refl _, Nat.le_refl _⟩ (Nat.le_of_ble_eq_true rfl) dX7_takesOf_4 (fun A2 => ?_)
  refine g_istore_n (L' := [(2, _), (0, _), (1, _)]) dX7_takesOf_7 (by decide) rfl ?_
  refine g_aload_n dX7_takesOf_8 rfl ?_
  refine mg_kind dX7_takesOf_9 ?_
  refine g_iload_n dX7_takesOf_12 rfl ?_
  refine mlc_kind (p) (by omega) (by first | rfl | (simp only [nI, Int32.ofNat_add, Int32.ofNat_mul]; rfl) | (simp only [nI, Int32.ofNat_add, Int32.ofNat_mul]; done)) dX7_takesOf_13 ?_
  refine g_tsw [44, 53, 68, 79] 81 dX7_takesOf_14 (by decide) (by decide) (by decide) (fun j t => ?_) (fun hx => ?_)
  · match j with
    | 0 =>
      intro ht hx; cases ht
      replace hx := hx.trans (show Int32.ofInt ((2) + ((0 : Nat) : Int)) = 2 by decide)
      refine g_iload_n dX7_takesOf_44 rfl ?_
      refine g_aload_n dX7_takesOf_45 rfl ?_
      refine mg_moreOf dX7_takesOf_46 ?_
      refine g_iload_n dX7_takesOf_49 rfl ?_
      refine mlc_moreOf (p) (by omega) (by first | rfl | (simp only [nI, Int32.ofNat_add, Int32.ofNat_mul]; rfl) | (simp only [nI, Int32.ofNat_add, Int32.ofNat_mul]; done)) dX7_takesOf_50 ?_
      refine g_iadd dX7_takesOf_51 ?_
      refine g_iret rfl (Nat.le_refl _) (Nat.le_refl _) ?_ dX7_takesOf_52
      refine mQ.of (congrArg (fun i => some (Value.int i)) ?_) rfl rfl; first | (rw [show A 1 p = _ from hx]; first | exact (takes_3 c2).symm | exact (takes_3n c2).symm | rfl) | (unfold takesI; rw [if_neg (show ¬ A 1 p = 2 from tsw_ne hx 2 (by decide)), if_neg (show ¬ A 1 p = 3 from tsw_ne hx 3 (by decide)), if_neg (show ¬ A 1 p = 4 from tsw_ne hx 4 (by decide)), if_neg (show ¬ A 1 p = 5 from tsw_ne hx 5 (by decide))])
    | 1 =>
      intro ht hx; cases ht
      replace hx := hx.trans (show Int32.ofInt ((2) + ((1 : Nat) : Int)) = 3 by decide)
      refine g_aload_n dX7_takesOf_53 rfl ?_
      refine mgc_tides dX7_takesOf_54 ?_
      refine g_iconst (3) dX7_takesOf_57 rfl ?_
      refine g_irem dX7_takesOf_58 (by decide) ?_
      refine g_if_ne 66 dX7_takesOf_59 (by decide) (fun c2 => ?_) (fun c2 => ?_)
      · refine g_iconst (0) dX7_takesOf_66 rfl ?_
        refine g_iret rfl (Nat.le_refl _) (Nat.le_refl _) ?_ dX7_takesOf_67
        refine mQ.of (congrArg (fun i => some (Value.int i)) ?_) rfl rfl; first | (rw [show A 1 p = _ from hx]; first | exact (takes_3 c2).symm | exact (takes_3n c2).symm | rfl) | (unfold takesI; rw [if_neg (show ¬ A 1 p = 2 from tsw_ne hx 2 (by decide)), if_neg (show ¬ A 1 p = 3 from tsw_ne hx 3 (by decide)), if_neg (show ¬ A 1 p = 4 from tsw_ne hx 4 (by decide)), if_neg (show ¬ A 1 p = 5 from tsw_ne hx 5 (by decide))])
      · refine g_iload_n dX7_takesOf_62 rfl ?_
        refine g_goto 67 dX7_takesOf_63 (by decide) ?_
        refine g_iret rfl (Nat.le_refl _) (Nat.le_refl _) ?_ dX7_takesOf_67
        refine mQ.of (congrArg (fun i => some (Value.int i)) ?_) rfl rfl; first | (rw [show A 1 p = _ from hx]; first | exact (takes_3 c2).symm | exact (takes_3n c2).symm | rfl) | (unfold takesI; rw [if_neg (show ¬ A 1 p = 2 from tsw_ne hx 2 (by decide)), if_neg (show ¬ A 1 p = 3 from tsw_ne hx 3 (by decide)), if_neg (show ¬ A 1 p = 4 from tsw_ne hx 4 (by decide)), if_neg (show ¬ A 1 p = 5 from tsw_ne hx 5 (by decide))])
    | 2 =>
      intro ht hx; cases ht
      replace hx := hx.trans (show Int32.ofInt ((2) + ((2 : Nat) : Int)) = 4 by decide)
      refine g_iconst (2) dX7_takesOf_68 rfl ?_
      refine g_iload_n dX7_takesOf_69 rfl ?_
      refine g_aload_n dX7_takesOf_70 rfl ?_
      refine mg_moreOf dX7_takesOf_71 ?_
      refine g_iload_n dX7_takesOf_74 rfl ?_
      refine mlc_moreOf (p) (by omega) (by first | rfl | (simp only [nI, Int32.ofNat_add, Int32.ofNat_mul]; rfl) | (simp only [nI, Int32.ofNat_add, Int32.ofNat_mul]; done)) dX7_takesOf_75 ?_
      refine g_iadd dX7_takesOf_76 ?_
      refine g_imul dX7_takesOf_77 ?_
      refine g_iret rfl (Nat.le_refl _) (Nat.le_refl _) ?_ dX7_takesOf_78
      refine mQ.of (congrArg (fun i => some (Value.int i)) ?_) rfl rfl; first | (rw [show A 1 p = _ from hx]; first | exact (takes_3 c2).symm | exact (takes_3n c2).symm | rfl) | (unfold takesI; rw [if_neg (show ¬ A 1 p = 2 from tsw_ne hx 2 (by decide)), if_neg (show ¬ A 1 p = 3 from tsw_ne hx 3 (by decide)), if_neg (show ¬ A 1 p = 4 from tsw_ne hx 4 (by decide)), if_neg (show ¬ A 1 p = 5 from tsw_ne hx 5 (by decide))])
    | 3 =>
      intro ht hx; cases ht
      replace hx := hx.trans (show Int32.ofInt ((2) + ((3 : Nat) : Int)) = 5 by decide)
      refine g_iconst (1) dX7_takesOf_79 rfl ?_
      refine g_iret rfl (Nat.le_refl _) (Nat.le_refl _) ?_ dX7_takesOf_80
      refine mQ.of (congrArg (fun i => some (Value.int i)) ?_) rfl rfl; first | (rw [show A 1 p = _ from hx]; first | exact (takes_3 c2).symm | exact (takes_3n c2).symm | rfl) | (unfold takesI; rw [if_neg (show ¬ A 1 p = 2 from tsw_ne hx 2 (by decide)), if_neg (show ¬ A 1 p = 3 from tsw_ne hx 3 (by decide)), if_neg (show ¬ A 1 p = 4 from tsw_ne hx 4 (by decide)), if_neg (show ¬ A 1 p = 5 from tsw_ne hx 5 (by decide))])
    | j + 4 => intro ht hx; simp at ht
  · refine g_iload_n dX7_takesOf_81 rfl ?_
    refine g_iret rfl (Nat.le_refl _) (Nat.le_refl _) ?_ dX7_takesOf_82
    refine mQ.of (congrArg (fun i => some (Value.int i)) ?_) rfl rfl; first | (rw [show A 1 p = _ from hx]; first | exact (takes_3 c2).symm | exact (takes_3n c2).symm | rfl) | (unfold takesI; rw [if_neg (show ¬ A 1 p = 2 from tsw_ne hx 2 (by decide)), if_neg (show ¬ A 1 p = 3 from tsw_ne hx 3 (by decide)), if_neg (show ¬ A 1 p = 4 from tsw_ne hx 4 (by decide)), if_neg (show ¬ A 1 p = 5 from tsw_ne hx 5 (by decide))])
theorem c_landOf {p : Nat} {t : Int32} (hN : gN g ≤ b) (hE : EnM F A n ts) (hp : p < 6) : Ct g yX7_landOf cX7_landOf 5 (some .int) 5 0 0 [.ref b, .int (nI p), .int t] (hM g b (mF F c) (mA A c) A2 ω0) z (mQ g b ω0 z (some (.int (letsF (eM A n ts) c p t))) (mF F (landF (eM A n ts) c p t)) (mA A (landF (eM A n ts) c p t))) := by
  refine Ct.at (own := RX7) (by decide) rfl (Nat.le_of_ble_eq_true rfl) rfl ?_
  unfold landF
  refine g_aload_n dX7_landOf_0 rfl ?_
  refine g_iload_n dX7_landOf_1 rfl ?_
  refine g_iload_n dX7_landOf_2 rfl ?_
  refine gm_calli (n := 2) (c_letsOf (n := n) (ts := ts) hN hE hp) (lw_V q1616 q1618 qs50 q92 q1619) (by decide +kernel) rfl rfl (by decide) ⟨Nat.le_refl _, Nat.le_refl _⟩ (Nat.le_of_ble_eq_true rfl) dX7_landOf_3 (fun A2 => ?_)
  refine g_istore_n (L' := [(3, _), (0, _), (1, _), (2, _)]) dX7_landOf_6 (by decide) rfl ?_
  refine g_aload_n dX7_landOf_7 rfl ?_
  refine g_iload_n dX7_landOf_8 rfl ?_
  refine g_iload_n dX7_landOf_9 rfl ?_
  refine gm_calli (n := 2) (c_lucksOf (n := n) (ts := ts) hN hE hp) (lw_V q1623 q1625 qs51 q92 q1626) (by decide +kernel) rfl rfl (by decide) ⟨Nat.le_refl _, Nat.le_refl _⟩ (Nat.le_of_ble_eq_true rfl) dX7_landOf_10 (fun A2 => ?_)
  refine g_istore (L' := [(4, _), (3, _), (0, _), (1, _), (2, _)]) dX7_landOf_13 (by decide) rfl ?_
  refine g_aload_n dX7_landOf_15 rfl ?_
  refine mg_rows dX7_landOf_16 ?_
  refine g_iconst (3) dX7_landOf_19 rfl ?_
  refine g_iload_n dX7_landOf_20 rfl ?_
  refine g_imul dX7_landOf_21 ?_
  refine g_iconst (1) dX7_landOf_22 rfl ?_
  refine g_iadd dX7_landOf_23 ?_
  refine g_dup2_11 dX7_landOf_24 rfl rfl ?_
  refine mlc_rows (((3 * p) + 1)) (by omega) (by first | rfl | (simp only [nI, Int32.ofNat_add, Int32.ofNat_mul]; rfl) | (simp only [nI, Int32.ofNat_add, Int32.ofNat_mul]; done)) dX7_landOf_25 ?_
  refine g_iconst (1) dX7_landOf_26 rfl ?_
  refine g_iload_n dX7_landOf_27 rfl ?_
  refine g_ishl dX7_landOf_28 ?_
  refine g_ior dX7_landOf_29 ?_
  refine msc_rows (((3 * p) + 1)) hN (by omega) (by first | rfl | (simp only [nI, Int32.ofNat_add, Int32.ofNat_mul]; rfl) | (simp only [nI, Int32.ofNat_add, Int32.ofNat_mul]; done)) dX7_landOf_30 ?_
  refine g_iload_n dX7_landOf_31 rfl ?_
  refine g_iconst (-1) dX7_landOf_32 rfl ?_
  refine g_icmp_eq 64 dX7_landOf_33 (by decide) (fun c1 => ?_) (fun c1 => ?_)
  · refine g_aload_n dX7_landOf_64 rfl ?_
    refine mg_rows dX7_landOf_65 ?_
    refine g_iconst (3) dX7_landOf_68 rfl ?_
    refine g_iload_n dX7_landOf_69 rfl ?_
    refine g_imul dX7_landOf_70 ?_
    refine g_iconst (2) dX7_landOf_71 rfl ?_
    refine g_iadd dX7_landOf_72 ?_
    refine g_aload_n dX7_landOf_73 rfl ?_
    refine mg_rows dX7_landOf_74 ?_
    refine g_iconst (3) dX7_landOf_77 rfl ?_
    refine g_iload_n dX7_landOf_78 rfl ?_
    refine g_imul dX7_landOf_79 ?_
    refine g_iconst (2) dX7_landOf_80 rfl ?_
    refine g_iadd dX7_landOf_81 ?_
    refine mlc_rows (((3 * p) + 2)) (by omega) (by first | rfl | (simp only [nI, Int32.ofNat_add, Int32.ofNat_mul]; rfl) | (simp only [nI, Int32.ofNat_add, Int32.ofNat_mul]; done)) dX7_landOf_82 ?_
    refine g_iload dX7_landOf_83 rfl ?_
    refine g_iadd dX7_landOf_85 ?_
    refine g_iconst (0) dX7_landOf_86 rfl ?_
    refine g_bipush (99) dX7_landOf_87 rfl ?_
    refine gs_calli (n := 3) (c_within ) (lw_S q1593 q1594 q92 q1595) (by decide +kernel) rfl rfl (by decide) ⟨Nat.le_refl _, Nat.le_refl _⟩ (Nat.le_of_ble_eq_true rfl) dX7_landOf_89 ?_
    refine msc_rows (((3 * p) + 2)) hN (by omega) (by first | rfl | (simp only [nI, Int32.ofNat_add, Int32.ofNat_mul]; rfl) | (simp only [nI, Int32.ofNat_add, Int32.ofNat_mul]; done)) dX7_landOf_92 ?_
    refine g_iload_n dX7_landOf_93 rfl ?_
    refine g_iret rfl (Nat.le_refl _) (Nat.le_refl _) ?_ dX7_landOf_94
    first | (rw [show landC c p t (letsF (eM A n ts) c p t) (lucksF (eM A n ts) c p t) = _ from if_pos c1]; exact mQ.mk) | (rw [show landC c p t (letsF (eM A n ts) c p t) (lucksF (eM A n ts) c p t) = _ from if_neg c1]; exact mQ.mk)
  · refine g_aload_n dX7_landOf_36 rfl ?_
    refine mg_rows dX7_landOf_37 ?_
    refine g_iconst (3) dX7_landOf_40 rfl ?_
    refine g_iload_n dX7_landOf_41 rfl ?_
    refine g_imul dX7_landOf_42 ?_
    refine g_dup2_11 dX7_landOf_43 rfl rfl ?_
    refine mlc_rows ((3 * p)) (by omega) (by first | rfl | (simp only [nI, Int32.ofNat_add, Int32.ofNat_mul]; rfl) | (simp only [nI, Int32.ofNat_add, Int32.ofNat_mul]; done)) dX7_landOf_44 ?_
    refine g_iconst (1) dX7_landOf_45 rfl ?_
    refine g_iload_n dX7_landOf_46 rfl ?_
    refine g_ishl dX7_landOf_47 ?_
    refine g_iconst (-1) dX7_landOf_48 rfl ?_
    refine g_ixor dX7_landOf_49 ?_
    refine g_iand dX7_landOf_50 ?_
    refine msc_rows ((3 * p)) hN (by omega) (by first | rfl | (simp only [nI, Int32.ofNat_add, Int32.ofNat_mul]; rfl) | (simp only [nI, Int32.ofNat_add, Int32.ofNat_mul]; done)) dX7_landOf_51 ?_
    refine g_aload_n dX7_landOf_52 rfl ?_
    refine g_dup dX7_landOf_53 rfl ?_
    refine mgc_sea dX7_landOf_54 ?_
    refine g_iconst (1) dX7_landOf_57 rfl ?_
    refine g_iload_n dX7_landOf_58 rfl ?_
    refine g_ishl dX7_landOf_59 ?_
    refine g_ior dX7_landOf_60 ?_
    refine mpc_sea hN  dX7_landOf_61 ?_
    refine g_aload_n dX7_landOf_64 rfl ?_
    refine mg_rows dX7_landOf_65 ?_
    refine g_iconst (3) dX7_landOf_68 rfl ?_
    refine g_iload_n dX7_landOf_69 rfl ?_
    refine g_imul dX7_landOf_70 ?_
    refine g_iconst (2) dX7_landOf_71 rfl ?_
    refine g_iadd dX7_landOf_72 ?_
    refine g_aload_n dX7_landOf_73 rfl ?_
    refine mg_rows dX7_landOf_74 ?_
    refine g_iconst (3) dX7_landOf_77 rfl ?_
    refine g_iload_n dX7_landOf_78 rfl ?_
    refine g_imul dX7_landOf_79 ?_
    refine g_iconst (2) dX7_landOf_80 rfl ?_
    refine g_iadd dX7_landOf_81 ?_
    refine mlc_rows (((3 * p) + 2)) (by omega) (by first | rfl | (simp only [nI, Int32.ofNat_add, Int32.ofNat_mul]; rfl) | (simp only [nI, Int32.ofNat_add, Int32.ofNat_mul]; done)) dX7_landOf_82 ?_
    refine g_iload dX7_landOf_83 rfl ?_
    refine g_iadd dX7_landOf_85 ?_
    refine g_iconst (0) dX7_landOf_86 rfl ?_
    refine g_bipush (99) dX7_landOf_87 rfl ?_
    refine gs_calli (n := 3) (c_within ) (lw_S q1593 q1594 q92 q1595) (by decide +kernel) rfl rfl (by decide) ⟨Nat.le_refl _, Nat.le_refl _⟩ (Nat.le_of_ble_eq_true rfl) dX7_landOf_89 ?_
    refine msc_rows (((3 * p) + 2)) hN (by omega) (by first | rfl | (simp only [nI, Int32.ofNat_add, Int32.ofNat_mul]; rfl) | (simp only [nI, Int32.ofNat_add, Int32.ofNat_mul]; done)) dX7_landOf_92 ?_
    refine g_iload_n dX7_landOf_93 rfl ?_
    refine g_iret rfl (Nat.le_refl _) (Nat.le_refl _) ?_ dX7_landOf_94
    first | (rw [show landC c p t (letsF (eM A n ts) c p t) (lucksF (eM A n ts) c p t) = _ from if_pos c1]; exact mQ.mk) | (rw [show landC c p t (letsF (eM A n ts) c p t) (lucksF (eM A n ts) c p t) = _ from if_neg c1]; exact mQ.mk)
theorem l_lessonOf {p q : Nat} {all tk : Int32} {Q : Option Value → Om → Nat → Prop} (hN : gN g ≤ b) (hp : p < 6) (hq : q < 6) :
    ∀ (f t : Nat) (l m : Int32), t ≤ 16 → 16 - t = f →
    (∀ r, r = lrnL all tk f t l m → Q (some (.int r)) (hM g b (mF F (upd c.1 (3 * q) (c.1 (3 * q) ||| r), c.2.1, c.2.2)) (mA A (upd c.1 (3 * q) (c.1 (3 * q) ||| r), c.2.1, c.2.2)) A2 ω0) z) →
    GN g RX7 cX7_lessonOf 8 (some .int) 5 Q (hM g b (mF F c) (mA A c) A2 ω0) z 36 [(7, .int (nI t)), (6, .int m), (5, .int l), (4, .int tk), (3, .int all), (0, .ref b), (1, .int (nI p)), (2, .int (nI q))] [] := by
  intro f
  induction f with
  | zero =>
    intro t l m h1 h2 hQ
    have ht : t = 16 := by omega
    subst ht
    refine g_iload dX7_lessonOf_36 rfl ?_
    refine g_bipush (16) dX7_lessonOf_38 rfl ?_
    refine g_icmp_ge 78 dX7_lessonOf_40 (by decide) (fun _ => ?_) (fun h9 => absurd (by decide) h9)
    refine g_aload_n dX7_lessonOf_78 rfl ?_
    refine mg_rows dX7_lessonOf_79 ?_
    refine g_iconst (3) dX7_lessonOf_82 rfl ?_
    refine g_iload_n dX7_lessonOf_83 rfl ?_
    refine g_imul dX7_lessonOf_84 ?_
    refine g_dup2_11 dX7_lessonOf_85 rfl rfl ?_
    refine mlc_rows ((3 * q)) (by omega) (by first | rfl | (simp only [nI, Int32.ofNat_add, Int32.ofNat_mul]; rfl) | (simp only [nI, Int32.ofNat_add, Int32.ofNat_mul]; done)) dX7_lessonOf_86 ?_
    refine g_iload dX7_lessonOf_87 rfl ?_
    refine g_ior dX7_lessonOf_89 ?_
    refine msc_rows ((3 * q)) hN (by omega) (by first | rfl | (simp only [nI, Int32.ofNat_add, Int32.ofNat_mul]; rfl) | (simp only [nI, Int32.ofNat_add, Int32.ofNat_mul]; done)) dX7_lessonOf_90 ?_
    refine g_iload dX7_lessonOf_91 rfl ?_
    refine g_iret rfl (Nat.le_refl _) (Nat.le_refl _) ?_ dX7_lessonOf_93
    exact hQ _ rfl
  | succ f ih =>
    intro t l m h1 h2 hQ
    unfold lrnL sb at hQ
    refine g_iload dX7_lessonOf_36 rfl ?_
    refine g_bipush (16) dX7_lessonOf_38 rfl ?_
    refine g_icmp_ge 78 dX7_lessonOf_40 (by decide) (fun h9 => absurd h9 (nI_ge (b := 16) (by omega) (by decide))) (fun _ => ?_)
    refine g_iload dX7_lessonOf_43 rfl ?_
    refine g_iload dX7_lessonOf_45 rfl ?_
    refine g_icmp_ge 78 dX7_lessonOf_47 (by decide) (fun c1 => ?_) (fun c1 => ?_)
    · refine g_aload_n dX7_lessonOf_78 rfl ?_
      refine mg_rows dX7_lessonOf_79 ?_
      refine g_iconst (3) dX7_lessonOf_82 rfl ?_
      refine g_iload_n dX7_lessonOf_83 rfl ?_
      refine g_imul dX7_lessonOf_84 ?_
      refine g_dup2_11 dX7_lessonOf_85 rfl rfl ?_
      refine mlc_rows ((3 * q)) (by omega) (by first | rfl | (simp only [nI, Int32.ofNat_add, Int32.ofNat_mul]; rfl) | (simp only [nI, Int32.ofNat_add, Int32.ofNat_mul]; done)) dX7_lessonOf_86 ?_
      refine g_iload dX7_lessonOf_87 rfl ?_
      refine g_ior dX7_lessonOf_89 ?_
      refine msc_rows ((3 * q)) hN (by omega) (by first | rfl | (simp only [nI, Int32.ofNat_add, Int32.ofNat_mul]; rfl) | (simp only [nI, Int32.ofNat_add, Int32.ofNat_mul]; done)) dX7_lessonOf_90 ?_
      refine g_iload dX7_lessonOf_91 rfl ?_
      refine g_iret rfl (Nat.le_refl _) (Nat.le_refl _) ?_ dX7_lessonOf_93
      exact hQ _ (by rw [if_pos c1])
    · refine g_iload_n dX7_lessonOf_50 rfl ?_
      refine g_iload dX7_lessonOf_51 rfl ?_
      refine g_ishr dX7_lessonOf_53 ?_
      refine g_iconst (1) dX7_lessonOf_54 rfl ?_
      refine g_iand dX7_lessonOf_55 ?_
      refine g_iconst (1) dX7_lessonOf_56 rfl ?_
      refine g_icmp_ne 72 dX7_lessonOf_57 (by decide) (fun c2 => ?_) (fun c2 => ?_)
      · refine g_iinc (nI (t + 1)) (L' := [(7, _), (6, _), (5, _), (4, _), (3, _), (0, _), (1, _), (2, _)]) dX7_lessonOf_72 rfl (nI_1 _) (by decide) rfl ?_
        refine g_goto 36 dX7_lessonOf_75 (by decide) ?_
        exact ih (t + 1) l m (by omega) (by omega) (fun r hr => hQ r (by rw [if_neg c1, if_neg c2]; exact hr))
      · refine g_iload dX7_lessonOf_60 rfl ?_
        refine g_iconst (1) dX7_lessonOf_62 rfl ?_
        refine g_iload dX7_lessonOf_63 rfl ?_
        refine g_ishl dX7_lessonOf_65 ?_
        refine g_ior dX7_lessonOf_66 ?_
        refine g_istore (L' := [(5, _), (7, _), (6, _), (4, _), (3, _), (0, _), (1, _), (2, _)]) dX7_lessonOf_67 (by decide) rfl ?_
        refine g_iinc _ (L' := [(6, _), (5, _), (7, _), (4, _), (3, _), (0, _), (1, _), (2, _)]) dX7_lessonOf_69 rfl rfl (by decide) rfl ?_
        refine g_iinc (nI (t + 1)) (L' := [(7, _), (6, _), (5, _), (4, _), (3, _), (0, _), (1, _), (2, _)]) dX7_lessonOf_72 rfl (nI_1 _) (by decide) rfl ?_
        refine g_goto 36 dX7_lessonOf_75 (by decide) ?_
        exact ih (t + 1) _ (m + 1) (by omega) (by omega) (fun r hr => hQ r (by rw [if_neg c1, if_pos c2]; exact hr))
theorem c_lessonOf {p q : Nat} (hN : gN g ≤ b) (hE : EnM F A n ts) (hp : p < 6) (hq : q < 6) : Ct g yX7_lessonOf cX7_lessonOf 8 (some .int) 5 0 0 [.ref b, .int (nI p), .int (nI q)] (hM g b (mF F c) (mA A c) A2 ω0) z (mQ g b ω0 z (some (.int (lesF (eM A n ts) c p q))) (mF F (lesC (eM A n ts) c p q)) (mA A (lesC (eM A n ts) c p q))) := by
  refine Ct.at (own := RX7) (by decide) rfl (Nat.le_of_ble_eq_true rfl) rfl ?_
  refine g_aload_n dX7_lessonOf_0 rfl ?_
  refine mg_rows dX7_lessonOf_1 ?_
  refine g_iconst (3) dX7_lessonOf_4 rfl ?_
  refine g_iload_n dX7_lessonOf_5 rfl ?_
  refine g_imul dX7_lessonOf_6 ?_
  refine mlc_rows ((3 * p)) (by omega) (by first | rfl | (simp only [nI, Int32.ofNat_add, Int32.ofNat_mul]; rfl) | (simp only [nI, Int32.ofNat_add, Int32.ofNat_mul]; done)) dX7_lessonOf_7 ?_
  refine g_aload_n dX7_lessonOf_8 rfl ?_
  refine mg_rows dX7_lessonOf_9 ?_
  refine g_iconst (3) dX7_lessonOf_12 rfl ?_
  refine g_iload_n dX7_lessonOf_13 rfl ?_
  refine g_imul dX7_lessonOf_14 ?_
  refine mlc_rows ((3 * q)) (by omega) (by first | rfl | (simp only [nI, Int32.ofNat_add, Int32.ofNat_mul]; rfl) | (simp only [nI, Int32.ofNat_add, Int32.ofNat_mul]; done)) dX7_lessonOf_15 ?_
  refine g_iconst (-1) dX7_lessonOf_16 rfl ?_
  refine g_ixor dX7_lessonOf_17 ?_
  refine g_iand dX7_lessonOf_18 ?_
  refine g_istore_n (L' := [(3, _), (0, _), (1, _), (2, _)]) dX7_lessonOf_19 (by decide) rfl ?_
  refine g_aload_n dX7_lessonOf_20 rfl ?_
  refine g_iload_n dX7_lessonOf_21 rfl ?_
  refine gm_calli (n := 1) (c_takesOf (n := n) (ts := ts) hN hE hq) (lw_V q1608 q1610 qs49 q92 q1611) (by decide +kernel) rfl rfl (by decide) ⟨Nat.le_refl _, Nat.le_refl _⟩ (Nat.le_of_ble_eq_true rfl) dX7_lessonOf_22 (fun A2 => ?_)
  refine g_istore (L' := [(4, _), (3, _), (0, _), (1, _), (2, _)]) dX7_lessonOf_25 (by decide) rfl ?_
  refine g_iconst (0) dX7_lessonOf_27 rfl ?_
  refine g_istore (L' := [(5, _), (4, _), (3, _), (0, _), (1, _), (2, _)]) dX7_lessonOf_28 (by decide) rfl ?_
  refine g_iconst (0) dX7_lessonOf_30 rfl ?_
  refine g_istore (L' := [(6, _), (5, _), (4, _), (3, _), (0, _), (1, _), (2, _)]) dX7_lessonOf_31 (by decide) rfl ?_
  refine g_iconst (0) dX7_lessonOf_33 rfl ?_
  refine g_istore (L' := [(7, _), (6, _), (5, _), (4, _), (3, _), (0, _), (1, _), (2, _)]) dX7_lessonOf_34 (by decide) rfl ?_
  exact l_lessonOf hN hp hq 16 0 0 0 (by omega) rfl (fun r hr => by subst hr; exact mQ.mk)
theorem toL_lt {R : Nat → Int32} {n : Nat} : ∀ (f p to : Nat), p + f ≤ n → to < n → toL R f p to < n := by
  intro f
  induction f with
  | zero => intro p to _ h; exact h
  | succ f ih =>
    intro p to h1 h2
    unfold toL
    exact ih _ _ (by omega) (by split <;> omega)
theorem l_tideOf {name : Int32} {Q : Option Value → Om → Nat → Prop} (hN : gN g ≤ b) (hn : F 0 = nI n) (hn6 : n ≤ 6) :
    ∀ (f p to : Nat), p ≤ n → n - p = f → to < n →
    (∀ to', to' = toL c.1 f p to → Q (some (.int name)) (hM g b (mF F (upd c.1 (3 * to') (c.1 (3 * to') ||| one name), c.2.1 &&& (one name ^^^ -1), c.2.2)) (mA A (upd c.1 (3 * to') (c.1 (3 * to') ||| one name), c.2.1 &&& (one name ^^^ -1), c.2.2)) A2 ω0) z) →
    GN g RX7 cX7_tideOf 4 (some .int) 2 Q (hM g b (mF F c) (mA A c) A2 ω0) z 37 [(3, .int (nI p)), (2, .int (nI to)), (1, .int name), (0, .ref b)] [] := by
  intro f
  induction f with
  | zero =>
    intro p to h1 h2 h3 hQ
    have ht : p = n := by omega
    subst ht
    refine g_iload_n dX7_tideOf_37 rfl ?_
    refine g_aload_n dX7_tideOf_38 rfl ?_
    refine mgc_fishers dX7_tideOf_39 ?_
    refine g_icmp_ge 82 dX7_tideOf_42 (by decide) (fun _ => ?_) (fun h9 => absurd (by rw [hn]; exact nI_le (Nat.le_refl _) (by omega)) h9)
    refine g_aload_n dX7_tideOf_82 rfl ?_
    refine g_dup dX7_tideOf_83 rfl ?_
    refine mgc_sea dX7_tideOf_84 ?_
    refine g_iconst (1) dX7_tideOf_87 rfl ?_
    refine g_iload_n dX7_tideOf_88 rfl ?_
    refine g_ishl dX7_tideOf_89 ?_
    refine g_iconst (-1) dX7_tideOf_90 rfl ?_
    refine g_ixor dX7_tideOf_91 ?_
    refine g_iand dX7_tideOf_92 ?_
    refine mpc_sea hN  dX7_tideOf_93 ?_
    refine g_aload_n dX7_tideOf_96 rfl ?_
    refine mg_rows dX7_tideOf_97 ?_
    refine g_iconst (3) dX7_tideOf_100 rfl ?_
    refine g_iload_n dX7_tideOf_101 rfl ?_
    refine g_imul dX7_tideOf_102 ?_
    refine g_dup2_11 dX7_tideOf_103 rfl rfl ?_
    refine mlc_rows ((3 * to)) (by omega) (by first | rfl | (simp only [nI, Int32.ofNat_add, Int32.ofNat_mul]; rfl) | (simp only [nI, Int32.ofNat_add, Int32.ofNat_mul]; done)) dX7_tideOf_104 ?_
    refine g_iconst (1) dX7_tideOf_105 rfl ?_
    refine g_iload_n dX7_tideOf_106 rfl ?_
    refine g_ishl dX7_tideOf_107 ?_
    refine g_ior dX7_tideOf_108 ?_
    refine msc_rows ((3 * to)) hN (by omega) (by first | rfl | (simp only [nI, Int32.ofNat_add, Int32.ofNat_mul]; rfl) | (simp only [nI, Int32.ofNat_add, Int32.ofNat_mul]; done)) dX7_tideOf_109 ?_
    refine g_iload_n dX7_tideOf_110 rfl ?_
    refine g_iret rfl (Nat.le_refl _) (Nat.le_refl _) ?_ dX7_tideOf_111
    exact hQ _ rfl
  | succ f ih =>
    intro p to h1 h2 h3 hQ
    unfold toL at hQ
    refine g_iload_n dX7_tideOf_37 rfl ?_
    refine g_aload_n dX7_tideOf_38 rfl ?_
    refine mgc_fishers dX7_tideOf_39 ?_
    refine g_icmp_ge 82 dX7_tideOf_42 (by decide) (fun h9 => absurd h9 (by rw [hn]; exact nI_ge (by omega) (by omega))) (fun _ => ?_)
    refine g_aload_n dX7_tideOf_45 rfl ?_
    refine mg_rows dX7_tideOf_46 ?_
    refine g_iconst (3) dX7_tideOf_49 rfl ?_
    refine g_iload_n dX7_tideOf_50 rfl ?_
    refine g_imul dX7_tideOf_51 ?_
    refine mlc_rows ((3 * p)) (by omega) (by first | rfl | (simp only [nI, Int32.ofNat_add, Int32.ofNat_mul]; rfl) | (simp only [nI, Int32.ofNat_add, Int32.ofNat_mul]; done)) dX7_tideOf_52 ?_
    refine gs_calli (n := 1) (c_bitsOf ) (lw_S q1551 q1552 q92 q1553) (by decide +kernel) rfl rfl (by decide) ⟨Nat.le_refl _, Nat.le_refl _⟩ (Nat.le_of_ble_eq_true rfl) dX7_tideOf_53 ?_
    refine g_aload_n dX7_tideOf_56 rfl ?_
    refine mg_rows dX7_tideOf_57 ?_
    refine g_iconst (3) dX7_tideOf_60 rfl ?_
    refine g_iload_n dX7_tideOf_61 rfl ?_
    refine g_imul dX7_tideOf_62 ?_
    refine mlc_rows ((3 * to)) (by omega) (by first | rfl | (simp only [nI, Int32.ofNat_add, Int32.ofNat_mul]; rfl) | (simp only [nI, Int32.ofNat_add, Int32.ofNat_mul]; done)) dX7_tideOf_63 ?_
    refine gs_calli (n := 1) (c_bitsOf ) (lw_S q1551 q1552 q92 q1553) (by decide +kernel) rfl rfl (by decide) ⟨Nat.le_refl _, Nat.le_refl _⟩ (Nat.le_of_ble_eq_true rfl) dX7_tideOf_64 ?_
    refine g_icmp_ge 74 dX7_tideOf_67 (by decide) (fun c1 => ?_) (fun c1 => ?_)
    · refine g_iload_n dX7_tideOf_74 rfl ?_
      refine g_istore_n (L' := [(2, _), (3, _), (1, _), (0, _)]) dX7_tideOf_75 (by decide) rfl ?_
      refine g_iinc (nI (p + 1)) (L' := [(3, _), (2, _), (1, _), (0, _)]) dX7_tideOf_76 rfl (nI_1 _) (by decide) rfl ?_
      refine g_goto 37 dX7_tideOf_79 (by decide) ?_
      exact ih (p + 1) to (by omega) (by omega) h3 (fun r hr => hQ r (by rw [if_neg (Int32.not_lt.mpr c1)]; exact hr))
    · refine g_iload_n dX7_tideOf_70 rfl ?_
      refine g_goto 75 dX7_tideOf_71 (by decide) ?_
      refine g_istore_n (L' := [(2, _), (3, _), (1, _), (0, _)]) dX7_tideOf_75 (by decide) rfl ?_
      refine g_iinc (nI (p + 1)) (L' := [(3, _), (2, _), (1, _), (0, _)]) dX7_tideOf_76 rfl (nI_1 _) (by decide) rfl ?_
      refine g_goto 37 dX7_tideOf_79 (by decide) ?_
      exact ih (p + 1) p (by omega) (by omega) (by omega) (fun r hr => hQ r (by rw [if_pos (Int32.not_le.mp c1)]; exact hr))
theorem c_tideOf (hN : gN g ≤ b) (hn : F 0 = nI n) (hn6 : n ≤ 6) : Ct g yX7_tideOf cX7_tideOf 4 (some .int) 2 0 0 [.ref b] (hM g b (mF F c) (mA A c) A2 ω0) z (mQ g b ω0 z (some (.int (tideN n c))) (mF F (tideC n c)) (mA A (tideC n c))) := by
  refine Ct.at (own := RX7) (by decide) rfl (Nat.le_of_ble_eq_true rfl) rfl ?_
  refine g_aload_n dX7_tideOf_0 rfl ?_
  refine g_dup dX7_tideOf_1 rfl ?_
  refine mgc_tides dX7_tideOf_2 ?_
  refine g_iconst (1) dX7_tideOf_5 rfl ?_
  refine g_iadd dX7_tideOf_6 ?_
  refine mpc_tides hN  dX7_tideOf_7 ?_
  refine g_aload_n dX7_tideOf_10 rfl ?_
  refine mgc_sea dX7_tideOf_11 ?_
  refine g_iconst (0) dX7_tideOf_14 rfl ?_
  refine gs_calli (n := 2) (c_nthOf ) (lw_S q1620 q1621 q92 q1622) (by decide +kernel) rfl rfl (by decide) ⟨Nat.le_refl _, Nat.le_refl _⟩ (Nat.le_of_ble_eq_true rfl) dX7_tideOf_15 ?_
  refine g_istore_n (L' := [(1, _), (0, _)]) dX7_tideOf_18 (by decide) rfl ?_
  refine g_aload_n dX7_tideOf_19 rfl ?_
  refine mgc_fishers dX7_tideOf_20 ?_
  refine g_if_eq 31 dX7_tideOf_23 (by decide) (fun c1 => ?_) (fun c1 => ?_)
  · have h0 : n = 0 := (nI_eq (a := n) (b := 0) (by omega) (by decide)).mp (hn.symm.trans c1)
    subst h0
    refine g_iconst (-1) dX7_tideOf_31 rfl ?_
    refine g_iret rfl (Nat.le_refl _) (Nat.le_refl _) ?_ dX7_tideOf_32
    exact mQ.mk
  · have h0 : ¬ n = 0 := fun h => c1 (hn.trans (by rw [h]; rfl))
    refine g_iload_n dX7_tideOf_26 rfl ?_
    refine g_iconst (-1) dX7_tideOf_27 rfl ?_
    refine g_icmp_ne 33 dX7_tideOf_28 (by decide) (fun c2 => ?_) (fun c2 => ?_)
    · refine g_iconst (0) dX7_tideOf_33 rfl ?_
      refine g_istore_n (L' := [(2, _), (1, _), (0, _)]) dX7_tideOf_34 (by decide) rfl ?_
      refine g_iconst (1) dX7_tideOf_35 rfl ?_
      refine g_istore_n (L' := [(3, _), (2, _), (1, _), (0, _)]) dX7_tideOf_36 (by decide) rfl ?_
      refine l_tideOf hN hn hn6 (n - 1) 1 0 (by omega) rfl (by omega) (fun r hr => ?_)
      subst hr
      exact mQ.of (by rw [tideN, if_neg h0]) (by rw [tideC, if_neg (fun h => h.elim h0 c2)]; rfl) (by rw [tideC, if_neg (fun h => h.elim h0 c2)]; rfl)
    · refine g_iconst (-1) dX7_tideOf_31 rfl ?_
      refine g_iret rfl (Nat.le_refl _) (Nat.le_refl _) ?_ dX7_tideOf_32
      exact mQ.of (by rw [tideN, if_neg h0, c2]) (by rw [tideC, if_pos (Or.inr c2)]) (by rw [tideC, if_pos (Or.inr c2)])
end A
