/-! the component's calls on a fisher of kind k (class number 8 + k), by kind -/
set_option maxRecDepth 100000
def kindJ (k : Nat) : Int32 := match k with | 0 => 0 | 1 => 1 | 2 => 2 | 3 => 3 | 4 => 4 | _ => 5
def takesJ (k : Nat) (mo v t : Int32) : Int32 := match k with | 0 => v | 1 => v | 2 => v + mo | 3 => (if rem t 3 = 0 then v else 0) | 4 => 2 * (v + mo) | _ => 1
def letsJ (k : Nat) (mo v m : Int32) : Int32 := match k with | 0 => fmJ v m | 1 => m - 1 - fmJ v m | 2 => fmJ v m | 3 => (if m = 1 then 0 else mxI 1 (m - 1 - fmJ v m)) | 4 => fmJ v m | _ => rem mo m
def lucksJ (k : Nat) (mo v n : Int32) : Int32 := match k with | 0 => v | 1 => (if n = 0 then v - mo else v) | 2 => v / 2 | 3 => (if n = 0 then v - mo else v) | 4 => (if n = 0 then v / 2 else mo) | _ => v
section FC
variable {g : GE} {cc : ByteArray} {nL : Nat} {ret : Option FieldType} {XT : Method → Code → Prop} {rm : Room} {Z : ZT} {cells slots : Nat} {ω : Om} {z pc : Nat} {L : List (Nat × Value)} {rest : List Value} {d mc ms : Nat} {a b k : Nat} {nu mo v n : Int32} {F : Nat → Int32} {c : Cr}
theorem gf_cast (hg : gW g) (hk : k < 6) (hq : ω a = some (.inr (8 + k, fshV k nu mo b))) (hd : decode cc pc = .ok (.checkcast 120, 3)) (kk : G g RX0 cc nL ret XT rm Z cells slots ω z (pc + 3) L (.ref a :: rest)) : G g RX0 cc nL ret XT rm Z cells slots ω z pc L (.ref a :: rest) := by
  match k, hk with
  | 0, _ => exact g_castS q785 (ci := 8) rfl hq hd kk
  | 1, _ => exact g_cast hg q785 q1824 (ci := 9) rfl hq hd kk
  | 2, _ => exact g_cast hg q785 q1821 (ci := 10) rfl hq hd kk
  | 3, _ => exact g_cast hg q785 q1823 (ci := 11) rfl hq hd kk
  | 4, _ => exact g_cast hg q785 q1820 (ci := 12) rfl hq hd kk
  | 5, _ => exact g_cast hg q785 q1822 (ci := 13) rfl hq hd kk
theorem gf_kind (hk : k < 6) (hq : ω a = some (.inr (8 + k, fshV k nu mo b))) (hdd : 5 ≤ d) (hf : cells ≤ mc ∧ slots ≤ ms) (hro : (rest.map fun v => v.category).sum ≤ 8) (hd : decode cc pc = .ok (.invokevirtual 186, 3)) (kk : G g RX0 cc nL ret XT (rmD d mc ms) Z cells slots ω z (pc + 3) L (.int (kindJ k) :: rest)) : G g RX0 cc nL ret XT (rmD d mc ms) Z cells slots ω z pc L (.ref a :: rest) := by
  match k, hk with
  | 0, _ => exact gd_callO (n := 0) (f8_kind ) (lw_O (C := RX8) (owner := RX8) (x := yX8_kind) q979 q982 q980 q981 q980 q96 q1001) q1001 (by decide +kernel) (ci := 8) rfl hq rfl rfl ⟨by omega, by decide⟩ hf hro hd kk
  | 1, _ => exact gd_callO (n := 0) (f9_kind (.inl rfl) hq) (lw_O (C := RX9) (owner := RX8) (x := yX8_kind) q979 q982 q980 q1000 q998 q97 q999) q1001 (by decide +kernel) (ci := 9) rfl hq rfl rfl ⟨by omega, by decide⟩ hf hro hd kk
  | 2, _ => exact gd_callO (n := 0) (f10_kind (.inl rfl) hq) (lw_O (C := RX10) (owner := RX8) (x := yX8_kind) q979 q982 q980 q989 q987 q98 q988) q1001 (by decide +kernel) (ci := 10) rfl hq rfl rfl ⟨by omega, by decide⟩ hf hro hd kk
  | 3, _ => exact gd_callO (n := 0) (f11_kind rfl hq) (lw_O (C := RX11) (owner := RX8) (x := yX8_kind) q979 q982 q980 q994 q995 q99 q996) q1001 (by decide +kernel) (ci := 11) rfl hq rfl rfl ⟨by omega, by decide⟩ hf hro hd kk
  | 4, _ => exact gd_callO (n := 0) (f12_kind rfl hq) (lw_O (C := RX12) (owner := RX8) (x := yX8_kind) q979 q982 q980 q983 q984 q100 q985) q1001 (by decide +kernel) (ci := 12) rfl hq rfl rfl ⟨by omega, by decide⟩ hf hro hd kk
  | 5, _ => exact gd_callO (n := 0) (f13_kind rfl hq) (lw_O (C := RX13) (owner := RX8) (x := yX8_kind) q979 q982 q980 q990 q991 q101 q992) q1001 (by decide +kernel) (ci := 13) rfl hq rfl rfl ⟨by omega, by decide⟩ hf hro hd kk
theorem gf_takes (hg : gW g) (hb : ω b = some (.inr (0, xfs b F c))) (hk : k < 6) (hq : ω a = some (.inr (8 + k, fshV k nu mo b))) (hdd : 5 ≤ d) (hf : cells ≤ mc ∧ slots ≤ ms) (hro : (rest.map fun v => v.category).sum ≤ 8) (hd : decode cc pc = .ok (.invokevirtual 192, 3)) (kk : G g RX0 cc nL ret XT (rmD d mc ms) Z cells slots ω z (pc + 3) L (.int (takesJ k mo v c.2.2) :: rest)) : G g RX0 cc nL ret XT (rmD d mc ms) Z cells slots ω z pc L (.int v :: .ref a :: rest) := by
  match k, hk with
  | 0, _ => exact gd_callO (n := 1) (f8_takes ) (lw_O (C := RX8) (owner := RX8) (x := yX8_takes) q1006 q1009 q1007 q1008 q1007 q96 q1028) q1028 (by decide +kernel) (ci := 8) rfl hq rfl rfl ⟨by omega, by decide⟩ hf hro hd kk
  | 1, _ => exact gd_callO (n := 1) (f8_takes ) (lw_O (C := RX9) (owner := RX8) (x := yX8_takes) q1006 q1009 q1007 q1027 q1007 q96 q1028) q1028 (by decide +kernel) (ci := 9) rfl hq rfl rfl ⟨by omega, by decide⟩ hf hro hd kk
  | 2, _ => exact gd_callO (n := 1) (f10_takes (.inl rfl) hq) (lw_O (C := RX10) (owner := RX8) (x := yX8_takes) q1006 q1009 q1007 q1017 q1014 q98 q1015) q1028 (by decide +kernel) (ci := 10) rfl hq rfl rfl ⟨by omega, by decide⟩ hf hro hd kk
  | 3, _ => exact gd_callO (n := 1) (f11_takes hg hq hb) (lw_O (C := RX11) (owner := RX8) (x := yX8_takes) q1006 q1009 q1007 q1021 q1022 q99 q1023) q1028 (by decide +kernel) (ci := 11) rfl hq rfl rfl ⟨by omega, by decide⟩ hf hro hd kk
  | 4, _ => exact gd_callO (n := 1) (f12_takes rfl hq) (lw_O (C := RX12) (owner := RX8) (x := yX8_takes) q1006 q1009 q1007 q1010 q1011 q100 q1012) q1028 (by decide +kernel) (ci := 12) rfl hq rfl rfl ⟨by omega, by decide⟩ hf hro hd kk
  | 5, _ => exact gd_callO (n := 1) (f13_takes rfl hq) (lw_O (C := RX13) (owner := RX8) (x := yX8_takes) q1006 q1009 q1007 q1018 q1019 q101 q1020) q1028 (by decide +kernel) (ci := 13) rfl hq rfl rfl ⟨by omega, by decide⟩ hf hro hd kk
theorem gf_lets (hm : ¬ n = 0) (hk : k < 6) (hq : ω a = some (.inr (8 + k, fshV k nu mo b))) (hdd : 5 ≤ d) (hf : cells ≤ mc ∧ slots ≤ ms) (hro : (rest.map fun v => v.category).sum ≤ 8) (hd : decode cc pc = .ok (.invokevirtual 201, 3)) (kk : G g RX0 cc nL ret XT (rmD d mc ms) Z cells slots ω z (pc + 3) L (.int (letsJ k mo v n) :: rest)) : G g RX0 cc nL ret XT (rmD d mc ms) Z cells slots ω z pc L (.int n :: .int v :: .ref a :: rest) := by
  match k, hk with
  | 0, _ => exact gd_callO (n := 2) (f8_lets hm) (lw_O (C := RX8) (owner := RX8) (x := yX8_lets) q1042 q1045 q1043 q1044 q1043 q96 q1060) q1060 (by decide +kernel) (ci := 8) rfl hq rfl rfl ⟨by omega, by decide⟩ hf hro hd kk
  | 1, _ => exact gd_callO (n := 2) (f9_lets (.inl rfl) hq hm) (lw_O (C := RX9) (owner := RX8) (x := yX8_lets) q1042 q1045 q1043 q1059 q1055 q97 q1056) q1060 (by decide +kernel) (ci := 9) rfl hq rfl rfl ⟨by omega, by decide⟩ hf hro hd kk
  | 2, _ => exact gd_callO (n := 2) (f8_lets hm) (lw_O (C := RX10) (owner := RX8) (x := yX8_lets) q1042 q1045 q1043 q1047 q1043 q96 q1060) q1060 (by decide +kernel) (ci := 10) rfl hq rfl rfl ⟨by omega, by decide⟩ hf hro hd kk
  | 3, _ => exact gd_callO (n := 2) (f11_lets rfl hq hm) (lw_O (C := RX11) (owner := RX8) (x := yX8_lets) q1042 q1045 q1043 q1051 q1052 q99 q1053) q1060 (by decide +kernel) (ci := 11) rfl hq rfl rfl ⟨by omega, by decide⟩ hf hro hd kk
  | 4, _ => exact gd_callO (n := 2) (f8_lets hm) (lw_O (C := RX12) (owner := RX8) (x := yX8_lets) q1042 q1045 q1043 q1046 q1043 q96 q1060) q1060 (by decide +kernel) (ci := 12) rfl hq rfl rfl ⟨by omega, by decide⟩ hf hro hd kk
  | 5, _ => exact gd_callO (n := 2) (f13_lets rfl hq hm) (lw_O (C := RX13) (owner := RX8) (x := yX8_lets) q1042 q1045 q1043 q1048 q1049 q101 q1050) q1060 (by decide +kernel) (ci := 13) rfl hq rfl rfl ⟨by omega, by decide⟩ hf hro hd kk
theorem gf_lucks (hk : k < 6) (hq : ω a = some (.inr (8 + k, fshV k nu mo b))) (hdd : 5 ≤ d) (hf : cells ≤ mc ∧ slots ≤ ms) (hro : (rest.map fun v => v.category).sum ≤ 8) (hd : decode cc pc = .ok (.invokevirtual 207, 3)) (kk : G g RX0 cc nL ret XT (rmD d mc ms) Z cells slots ω z (pc + 3) L (.int (lucksJ k mo v n) :: rest)) : G g RX0 cc nL ret XT (rmD d mc ms) Z cells slots ω z pc L (.int n :: .int v :: .ref a :: rest) := by
  match k, hk with
  | 0, _ => exact gd_callO (n := 2) (f8_lucks ) (lw_O (C := RX8) (owner := RX8) (x := yX8_lucks) q1071 q1074 q1072 q1073 q1072 q96 q1089) q1089 (by decide +kernel) (ci := 8) rfl hq rfl rfl ⟨by omega, by decide⟩ hf hro hd kk
  | 1, _ => exact gd_callO (n := 2) (f9_lucks (.inl rfl) hq) (lw_O (C := RX9) (owner := RX8) (x := yX8_lucks) q1071 q1074 q1072 q1088 q1085 q97 q1086) q1089 (by decide +kernel) (ci := 9) rfl hq rfl rfl ⟨by omega, by decide⟩ hf hro hd kk
  | 2, _ => exact gd_callO (n := 2) (f10_lucks (.inl rfl) hq) (lw_O (C := RX10) (owner := RX8) (x := yX8_lucks) q1071 q1074 q1072 q1082 q1079 q98 q1080) q1089 (by decide +kernel) (ci := 10) rfl hq rfl rfl ⟨by omega, by decide⟩ hf hro hd kk
  | 3, _ => exact gd_callO (n := 2) (f9_lucks (.inr rfl) hq) (lw_O (C := RX11) (owner := RX8) (x := yX8_lucks) q1071 q1074 q1072 q1084 q1085 q97 q1086) q1089 (by decide +kernel) (ci := 11) rfl hq rfl rfl ⟨by omega, by decide⟩ hf hro hd kk
  | 4, _ => exact gd_callO (n := 2) (f12_lucks rfl hq) (lw_O (C := RX12) (owner := RX8) (x := yX8_lucks) q1071 q1074 q1072 q1075 q1076 q100 q1077) q1089 (by decide +kernel) (ci := 12) rfl hq rfl rfl ⟨by omega, by decide⟩ hf hro hd kk
  | 5, _ => exact gd_callO (n := 2) (f8_lucks ) (lw_O (C := RX13) (owner := RX8) (x := yX8_lucks) q1071 q1074 q1072 q1083 q1072 q96 q1089) q1089 (by decide +kernel) (ci := 13) rfl hq rfl rfl ⟨by omega, by decide⟩ hf hro hd kk
end FC
