/-! the reference's constructor: its body -/
set_option maxRecDepth 100000
theorem tx0 : (txF (lf lawL0) (lf wordL0) 32 0 (lf [])).1 = true ∧ (txF (lf lawL0) (lf wordL0) 32 0 (lf [])).2.2.1 = [0, 100005, 100002] ∧ (txF (lf lawL0) (lf wordL0) 32 0 (lf [])).2.2.2 0 = 0 ∧ (txF (lf lawL0) (lf wordL0) 32 0 (lf [])).2.2.2 1 = 1 ∧ (txF (lf lawL0) (lf wordL0) 32 0 (lf [])).2.2.2 2 = 2 ∧ (txF (lf lawL0) (lf wordL0) 32 0 (lf [])).2.2.2 3 = 3 := by decide +kernel
abbrev c00 : Cr := (lf [], 0, 0)
def iQ (g : GE) (b : Nat) (ω0 : Om) (z : Nat) : Option Value → Om → Nat → Prop := fun v' ω' z' => v' = none ∧ z' = z ∧ ∃ F A A2, ω' = hM g b (mF F c00) (mA A c00) A2 ω0 ∧ TxP (upd (fun _ => 0) 7 32) (sA A00 6 (lf lawL0)) 0 (txF (lf lawL0) (lf wordL0) 32 0 (lf [])) F A
section A
variable {g : GE} {b z : Nat} {ω0 : Om}
set_option maxHeartbeats 4000000 in
theorem c_init (hN : gN g ≤ b) : Ct g yX7_init cX7_init 2 none 7 17 2158 [.ref b] (iM g b (fs0M b) [] ω0) (b + 1 + 0) (iQ g b ω0 (b + 1 + 17)) := by
  refine Ct.atI (own := RX7) (by decide) rfl rfl (Nat.le_of_ble_eq_true rfl) rfl ?_
  refine g_aload_n dX7_init_0 rfl ?_
  refine g_objInit q1396 q111 q112 (by decide) (Nat.le_of_ble_eq_true rfl) dX7_init_1 ?_
  refine g_aload_n dX7_init_4 rfl ?_
  refine g_bipush (6) dX7_init_5 rfl ?_
  refine i_newI 6 0 1 (as2 := [(6, lf [])]) rfl rfl rfl rfl (by decide) ⟨by decide, by decide⟩ q139 dX7_init_7 ?_
  refine i_put 1 hN rfl (by decide) q1445 rfl rfl rfl (iff_of_true (Nat.le_of_ble_eq_true rfl) trivial) trivial dX7_init_9 ?_
  refine g_aload_n dX7_init_12 rfl ?_
  refine g_bipush (6) dX7_init_13 rfl ?_
  refine i_newI 6 1 2 (as2 := [(6, lf []), (6, lf [])]) rfl rfl rfl rfl (by decide) ⟨by decide, by decide⟩ q139 dX7_init_15 ?_
  refine i_put 2 hN rfl (by decide) q1446 rfl rfl rfl (iff_of_true (Nat.le_of_ble_eq_true rfl) trivial) trivial dX7_init_17 ?_
  refine g_aload_n dX7_init_20 rfl ?_
  refine g_pc 21 rfl ?_
  refine g_bipush (18) dX7_init_21 rfl ?_
  refine i_newI 18 2 3 (as2 := [(6, lf []), (6, lf []), (18, lf [])]) rfl rfl rfl rfl (by decide) ⟨by decide, by decide⟩ q139 dX7_init_23 ?_
  refine i_put 3 hN rfl (by decide) q1447 rfl rfl rfl (iff_of_true (Nat.le_of_ble_eq_true rfl) trivial) trivial dX7_init_25 ?_
  refine g_aload_n dX7_init_28 rfl ?_
  refine g_sipush (160) dX7_init_29 rfl ?_
  refine i_newI 160 3 4 (as2 := [(6, lf []), (6, lf []), (18, lf []), (160, lf [])]) rfl rfl rfl rfl (by decide) ⟨by decide, by decide⟩ q139 dX7_init_32 ?_
  refine i_put 6 hN rfl (by decide) q1450 rfl rfl rfl (iff_of_true (Nat.le_of_ble_eq_true rfl) trivial) trivial dX7_init_34 ?_
  refine g_aload_n dX7_init_37 rfl ?_
  refine g_sipush (1200) dX7_init_38 rfl ?_
  refine i_newI 1200 4 5 (as2 := [(6, lf []), (6, lf []), (18, lf []), (160, lf []), (1200, lf [])]) rfl rfl rfl rfl (by decide) ⟨by decide, by decide⟩ q139 dX7_init_41 ?_
  refine i_put 8 hN rfl (by decide) q1452 rfl rfl rfl (iff_of_true (Nat.le_of_ble_eq_true rfl) trivial) trivial dX7_init_43 ?_
  refine g_aload_n dX7_init_46 rfl ?_
  refine g_pc 47 rfl ?_
  refine g_bipush (24) dX7_init_47 rfl ?_
  refine i_newI 24 5 6 (as2 := [(6, lf []), (6, lf []), (18, lf []), (160, lf []), (1200, lf []), (24, lf [])]) rfl rfl rfl rfl (by decide) ⟨by decide, by decide⟩ q139 dX7_init_49 ?_
  refine i_put 9 hN rfl (by decide) q1453 rfl rfl rfl (iff_of_true (Nat.le_of_ble_eq_true rfl) trivial) trivial dX7_init_51 ?_
  refine g_aload_n dX7_init_54 rfl ?_
  refine g_bipush (18) dX7_init_55 rfl ?_
  refine i_newI 18 6 7 (as2 := [(6, lf []), (6, lf []), (18, lf []), (160, lf []), (1200, lf []), (24, lf []), (18, lf [])]) rfl rfl rfl rfl (by decide) ⟨by decide, by decide⟩ q139 dX7_init_57 ?_
  refine i_put 13 hN rfl (by decide) q1457 rfl rfl rfl (iff_of_true (Nat.le_of_ble_eq_true rfl) trivial) trivial dX7_init_59 ?_
  refine g_aload_n dX7_init_62 rfl ?_
  refine g_iconst (4) dX7_init_63 rfl ?_
  refine i_newI 4 7 8 (as2 := [(6, lf []), (6, lf []), (18, lf []), (160, lf []), (1200, lf []), (24, lf []), (18, lf []), (4, lf [])]) rfl rfl rfl rfl (by decide) ⟨by decide, by decide⟩ q139 dX7_init_64 ?_
  refine i_put 14 hN rfl (by decide) q1458 rfl rfl rfl (iff_of_true (Nat.le_of_ble_eq_true rfl) trivial) trivial dX7_init_66 ?_
  refine g_aload_n dX7_init_69 rfl ?_
  refine g_pc 70 rfl ?_
  refine g_iconst (4) dX7_init_70 rfl ?_
  refine i_newI 4 8 9 (as2 := [(6, lf []), (6, lf []), (18, lf []), (160, lf []), (1200, lf []), (24, lf []), (18, lf []), (4, lf []), (4, lf [])]) rfl rfl rfl rfl (by decide) ⟨by decide, by decide⟩ q139 dX7_init_71 ?_
  refine g_dup dX7_init_73 rfl ?_
  refine g_iconst (0) dX7_init_74 rfl ?_
  refine g_iconst (-1) dX7_init_75 rfl ?_
  refine i_astL 8 (n := 4) (l := []) (as2 := [(6, lf []), (6, lf []), (18, lf []), (160, lf []), (1200, lf []), (24, lf []), (18, lf []), (4, lf []), (4, lf [-1])]) hN rfl rfl (by decide) rfl dX7_init_76 ?_
  refine g_dup dX7_init_77 rfl ?_
  refine g_iconst (1) dX7_init_78 rfl ?_
  refine g_iconst (-1) dX7_init_79 rfl ?_
  refine i_astL 8 (n := 4) (l := [-1]) (as2 := [(6, lf []), (6, lf []), (18, lf []), (160, lf []), (1200, lf []), (24, lf []), (18, lf []), (4, lf []), (4, lf [-1, -1])]) hN rfl rfl (by decide) rfl dX7_init_80 ?_
  refine g_dup dX7_init_81 rfl ?_
  refine g_iconst (2) dX7_init_82 rfl ?_
  refine g_pc 83 rfl ?_
  refine g_iconst (-1) dX7_init_83 rfl ?_
  refine i_astL 8 (n := 4) (l := [-1, -1]) (as2 := [(6, lf []), (6, lf []), (18, lf []), (160, lf []), (1200, lf []), (24, lf []), (18, lf []), (4, lf []), (4, lf [-1, -1, -1])]) hN rfl rfl (by decide) rfl dX7_init_84 ?_
  refine g_dup dX7_init_85 rfl ?_
  refine g_iconst (3) dX7_init_86 rfl ?_
  refine g_iconst (-1) dX7_init_87 rfl ?_
  refine i_astL 8 (n := 4) (l := [-1, -1, -1]) (as2 := [(6, lf []), (6, lf []), (18, lf []), (160, lf []), (1200, lf []), (24, lf []), (18, lf []), (4, lf []), (4, lf [-1, -1, -1, -1])]) hN rfl rfl (by decide) rfl dX7_init_88 ?_
  refine i_put 15 hN rfl (by decide) q1459 rfl rfl rfl (iff_of_true (Nat.le_of_ble_eq_true rfl) trivial) trivial dX7_init_89 ?_
  refine g_aload_n dX7_init_92 rfl ?_
  refine g_iconst (4) dX7_init_93 rfl ?_
  refine i_newI 4 9 10 (as2 := [(6, lf []), (6, lf []), (18, lf []), (160, lf []), (1200, lf []), (24, lf []), (18, lf []), (4, lf []), (4, lf [-1, -1, -1, -1]), (4, lf [])]) rfl rfl rfl rfl (by decide) ⟨by decide, by decide⟩ q139 dX7_init_94 ?_
  refine i_put 16 hN rfl (by decide) q1460 rfl rfl rfl (iff_of_true (Nat.le_of_ble_eq_true rfl) trivial) trivial dX7_init_96 ?_
  refine g_aload_n dX7_init_99 rfl ?_
  refine g_pc 100 rfl ?_
  refine g_sipush (160) dX7_init_100 rfl ?_
  refine i_newI 160 10 11 (as2 := [(6, lf []), (6, lf []), (18, lf []), (160, lf []), (1200, lf []), (24, lf []), (18, lf []), (4, lf []), (4, lf [-1, -1, -1, -1]), (4, lf []), (160, lf [])]) rfl rfl rfl rfl (by decide) ⟨by decide, by decide⟩ q139 dX7_init_103 ?_
  refine i_put 17 hN rfl (by decide) q1461 rfl rfl rfl (iff_of_true (Nat.le_of_ble_eq_true rfl) trivial) trivial dX7_init_105 ?_
  refine g_aload_n dX7_init_108 rfl ?_
  refine g_bipush (32) dX7_init_109 rfl ?_
  refine i_newI 32 11 12 (as2 := [(6, lf []), (6, lf []), (18, lf []), (160, lf []), (1200, lf []), (24, lf []), (18, lf []), (4, lf []), (4, lf [-1, -1, -1, -1]), (4, lf []), (160, lf []), (32, lf [])]) rfl rfl rfl rfl (by decide) ⟨by decide, by decide⟩ q139 dX7_init_111 ?_
  refine g_dup dX7_init_113 rfl ?_
  refine g_iconst (0) dX7_init_114 rfl ?_
  refine g_bipush (108) dX7_init_115 rfl ?_
  refine i_astL 11 (n := 32) (l := []) (as2 := [(6, lf []), (6, lf []), (18, lf []), (160, lf []), (1200, lf []), (24, lf []), (18, lf []), (4, lf []), (4, lf [-1, -1, -1, -1]), (4, lf []), (160, lf []), (32, lf [108])]) hN rfl rfl (by decide) rfl dX7_init_117 ?_
  refine g_dup dX7_init_118 rfl ?_
  refine g_iconst (1) dX7_init_119 rfl ?_
  refine g_pc 120 rfl ?_
  refine g_bipush (101) dX7_init_120 rfl ?_
  refine i_astL 11 (n := 32) (l := [108]) (as2 := [(6, lf []), (6, lf []), (18, lf []), (160, lf []), (1200, lf []), (24, lf []), (18, lf []), (4, lf []), (4, lf [-1, -1, -1, -1]), (4, lf []), (160, lf []), (32, lf [108, 101])]) hN rfl rfl (by decide) rfl dX7_init_122 ?_
  refine g_dup dX7_init_123 rfl ?_
  refine g_iconst (2) dX7_init_124 rfl ?_
  refine g_bipush (116) dX7_init_125 rfl ?_
  refine i_astL 11 (n := 32) (l := [108, 101]) (as2 := [(6, lf []), (6, lf []), (18, lf []), (160, lf []), (1200, lf []), (24, lf []), (18, lf []), (4, lf []), (4, lf [-1, -1, -1, -1]), (4, lf []), (160, lf []), (32, lf [108, 101, 116])]) hN rfl rfl (by decide) rfl dX7_init_127 ?_
  refine g_dup dX7_init_128 rfl ?_
  refine g_iconst (3) dX7_init_129 rfl ?_
  refine g_bipush (115) dX7_init_130 rfl ?_
  refine i_astL 11 (n := 32) (l := [108, 101, 116]) (as2 := [(6, lf []), (6, lf []), (18, lf []), (160, lf []), (1200, lf []), (24, lf []), (18, lf []), (4, lf []), (4, lf [-1, -1, -1, -1]), (4, lf []), (160, lf []), (32, lf [108, 101, 116, 115])]) hN rfl rfl (by decide) rfl dX7_init_132 ?_
  refine g_dup dX7_init_133 rfl ?_
  refine g_iconst (4) dX7_init_134 rfl ?_
  refine g_pc 135 rfl ?_
  refine g_bipush (32) dX7_init_135 rfl ?_
  refine i_astL 11 (n := 32) (l := [108, 101, 116, 115]) (as2 := [(6, lf []), (6, lf []), (18, lf []), (160, lf []), (1200, lf []), (24, lf []), (18, lf []), (4, lf []), (4, lf [-1, -1, -1, -1]), (4, lf []), (160, lf []), (32, lf [108, 101, 116, 115, 32])]) hN rfl rfl (by decide) rfl dX7_init_137 ?_
  refine g_dup dX7_init_138 rfl ?_
  refine g_iconst (5) dX7_init_139 rfl ?_
  refine g_bipush (116) dX7_init_140 rfl ?_
  refine i_astL 11 (n := 32) (l := [108, 101, 116, 115, 32]) (as2 := [(6, lf []), (6, lf []), (18, lf []), (160, lf []), (1200, lf []), (24, lf []), (18, lf []), (4, lf []), (4, lf [-1, -1, -1, -1]), (4, lf []), (160, lf []), (32, lf [108, 101, 116, 115, 32, 116])]) hN rfl rfl (by decide) rfl dX7_init_142 ?_
  refine g_dup dX7_init_143 rfl ?_
  refine g_bipush (6) dX7_init_144 rfl ?_
  refine g_bipush (104) dX7_init_146 rfl ?_
  refine i_astL 11 (n := 32) (l := [108, 101, 116, 115, 32, 116]) (as2 := [(6, lf []), (6, lf []), (18, lf []), (160, lf []), (1200, lf []), (24, lf []), (18, lf []), (4, lf []), (4, lf [-1, -1, -1, -1]), (4, lf []), (160, lf []), (32, lf [108, 101, 116, 115, 32, 116, 104])]) hN rfl rfl (by decide) rfl dX7_init_148 ?_
  refine g_dup dX7_init_149 rfl ?_
  refine g_bipush (7) dX7_init_150 rfl ?_
  refine g_pc 152 rfl ?_
  refine g_bipush (105) dX7_init_152 rfl ?_
  refine i_astL 11 (n := 32) (l := [108, 101, 116, 115, 32, 116, 104]) (as2 := [(6, lf []), (6, lf []), (18, lf []), (160, lf []), (1200, lf []), (24, lf []), (18, lf []), (4, lf []), (4, lf [-1, -1, -1, -1]), (4, lf []), (160, lf []), (32, lf [108, 101, 116, 115, 32, 116, 104, 105])]) hN rfl rfl (by decide) rfl dX7_init_154 ?_
  refine g_dup dX7_init_155 rfl ?_
  refine g_bipush (8) dX7_init_156 rfl ?_
  refine g_bipush (110) dX7_init_158 rfl ?_
  refine i_astL 11 (n := 32) (l := [108, 101, 116, 115, 32, 116, 104, 105]) (as2 := [(6, lf []), (6, lf []), (18, lf []), (160, lf []), (1200, lf []), (24, lf []), (18, lf []), (4, lf []), (4, lf [-1, -1, -1, -1]), (4, lf []), (160, lf []), (32, lf [108, 101, 116, 115, 32, 116, 104, 105, 110])]) hN rfl rfl (by decide) rfl dX7_init_160 ?_
  refine g_dup dX7_init_161 rfl ?_
  refine g_bipush (9) dX7_init_162 rfl ?_
  refine g_bipush (103) dX7_init_164 rfl ?_
  refine i_astL 11 (n := 32) (l := [108, 101, 116, 115, 32, 116, 104, 105, 110]) (as2 := [(6, lf []), (6, lf []), (18, lf []), (160, lf []), (1200, lf []), (24, lf []), (18, lf []), (4, lf []), (4, lf [-1, -1, -1, -1]), (4, lf []), (160, lf []), (32, lf [108, 101, 116, 115, 32, 116, 104, 105, 110, 103])]) hN rfl rfl (by decide) rfl dX7_init_166 ?_
  refine g_dup dX7_init_167 rfl ?_
  refine g_bipush (10) dX7_init_168 rfl ?_
  refine g_pc 170 rfl ?_
  refine g_bipush (32) dX7_init_170 rfl ?_
  refine i_astL 11 (n := 32) (l := [108, 101, 116, 115, 32, 116, 104, 105, 110, 103]) (as2 := [(6, lf []), (6, lf []), (18, lf []), (160, lf []), (1200, lf []), (24, lf []), (18, lf []), (4, lf []), (4, lf [-1, -1, -1, -1]), (4, lf []), (160, lf []), (32, lf [108, 101, 116, 115, 32, 116, 104, 105, 110, 103, 32])]) hN rfl rfl (by decide) rfl dX7_init_172 ?_
  refine g_dup dX7_init_173 rfl ?_
  refine g_bipush (11) dX7_init_174 rfl ?_
  refine g_bipush (59) dX7_init_176 rfl ?_
  refine i_astL 11 (n := 32) (l := [108, 101, 116, 115, 32, 116, 104, 105, 110, 103, 32]) (as2 := [(6, lf []), (6, lf []), (18, lf []), (160, lf []), (1200, lf []), (24, lf []), (18, lf []), (4, lf []), (4, lf [-1, -1, -1, -1]), (4, lf []), (160, lf []), (32, lf [108, 101, 116, 115, 32, 116, 104, 105, 110, 103, 32, 59])]) hN rfl rfl (by decide) rfl dX7_init_178 ?_
  refine g_dup dX7_init_179 rfl ?_
  refine g_bipush (12) dX7_init_180 rfl ?_
  refine g_bipush (32) dX7_init_182 rfl ?_
  refine i_astL 11 (n := 32) (l := [108, 101, 116, 115, 32, 116, 104, 105, 110, 103, 32, 59]) (as2 := [(6, lf []), (6, lf []), (18, lf []), (160, lf []), (1200, lf []), (24, lf []), (18, lf []), (4, lf []), (4, lf [-1, -1, -1, -1]), (4, lf []), (160, lf []), (32, lf [108, 101, 116, 115, 32, 116, 104, 105, 110, 103, 32, 59, 32])]) hN rfl rfl (by decide) rfl dX7_init_184 ?_
  refine g_dup dX7_init_185 rfl ?_
  refine g_bipush (13) dX7_init_186 rfl ?_
  refine g_pc 188 rfl ?_
  refine g_bipush (108) dX7_init_188 rfl ?_
  refine i_astL 11 (n := 32) (l := [108, 101, 116, 115, 32, 116, 104, 105, 110, 103, 32, 59, 32]) (as2 := [(6, lf []), (6, lf []), (18, lf []), (160, lf []), (1200, lf []), (24, lf []), (18, lf []), (4, lf []), (4, lf [-1, -1, -1, -1]), (4, lf []), (160, lf []), (32, lf [108, 101, 116, 115, 32, 116, 104, 105, 110, 103, 32, 59, 32, 108])]) hN rfl rfl (by decide) rfl dX7_init_190 ?_
  refine g_dup dX7_init_191 rfl ?_
  refine g_bipush (14) dX7_init_192 rfl ?_
  refine g_bipush (117) dX7_init_194 rfl ?_
  refine i_astL 11 (n := 32) (l := [108, 101, 116, 115, 32, 116, 104, 105, 110, 103, 32, 59, 32, 108]) (as2 := [(6, lf []), (6, lf []), (18, lf []), (160, lf []), (1200, lf []), (24, lf []), (18, lf []), (4, lf []), (4, lf [-1, -1, -1, -1]), (4, lf []), (160, lf []), (32, lf [108, 101, 116, 115, 32, 116, 104, 105, 110, 103, 32, 59, 32, 108, 117])]) hN rfl rfl (by decide) rfl dX7_init_196 ?_
  refine g_dup dX7_init_197 rfl ?_
  refine g_bipush (15) dX7_init_198 rfl ?_
  refine g_bipush (99) dX7_init_200 rfl ?_
  refine i_astL 11 (n := 32) (l := [108, 101, 116, 115, 32, 116, 104, 105, 110, 103, 32, 59, 32, 108, 117]) (as2 := [(6, lf []), (6, lf []), (18, lf []), (160, lf []), (1200, lf []), (24, lf []), (18, lf []), (4, lf []), (4, lf [-1, -1, -1, -1]), (4, lf []), (160, lf []), (32, lf [108, 101, 116, 115, 32, 116, 104, 105, 110, 103, 32, 59, 32, 108, 117, 99])]) hN rfl rfl (by decide) rfl dX7_init_202 ?_
  refine g_dup dX7_init_203 rfl ?_
  refine g_bipush (16) dX7_init_204 rfl ?_
  refine g_pc 206 rfl ?_
  refine g_bipush (107) dX7_init_206 rfl ?_
  refine i_astL 11 (n := 32) (l := [108, 101, 116, 115, 32, 116, 104, 105, 110, 103, 32, 59, 32, 108, 117, 99]) (as2 := [(6, lf []), (6, lf []), (18, lf []), (160, lf []), (1200, lf []), (24, lf []), (18, lf []), (4, lf []), (4, lf [-1, -1, -1, -1]), (4, lf []), (160, lf []), (32, lf [108, 101, 116, 115, 32, 116, 104, 105, 110, 103, 32, 59, 32, 108, 117, 99, 107])]) hN rfl rfl (by decide) rfl dX7_init_208 ?_
  refine g_dup dX7_init_209 rfl ?_
  refine g_bipush (17) dX7_init_210 rfl ?_
  refine g_bipush (115) dX7_init_212 rfl ?_
  refine i_astL 11 (n := 32) (l := [108, 101, 116, 115, 32, 116, 104, 105, 110, 103, 32, 59, 32, 108, 117, 99, 107]) (as2 := [(6, lf []), (6, lf []), (18, lf []), (160, lf []), (1200, lf []), (24, lf []), (18, lf []), (4, lf []), (4, lf [-1, -1, -1, -1]), (4, lf []), (160, lf []), (32, lf [108, 101, 116, 115, 32, 116, 104, 105, 110, 103, 32, 59, 32, 108, 117, 99, 107, 115])]) hN rfl rfl (by decide) rfl dX7_init_214 ?_
  refine g_dup dX7_init_215 rfl ?_
  refine g_bipush (18) dX7_init_216 rfl ?_
  refine g_bipush (32) dX7_init_218 rfl ?_
  refine i_astL 11 (n := 32) (l := [108, 101, 116, 115, 32, 116, 104, 105, 110, 103, 32, 59, 32, 108, 117, 99, 107, 115]) (as2 := [(6, lf []), (6, lf []), (18, lf []), (160, lf []), (1200, lf []), (24, lf []), (18, lf []), (4, lf []), (4, lf [-1, -1, -1, -1]), (4, lf []), (160, lf []), (32, lf [108, 101, 116, 115, 32, 116, 104, 105, 110, 103, 32, 59, 32, 108, 117, 99, 107, 115, 32])]) hN rfl rfl (by decide) rfl dX7_init_220 ?_
  refine g_dup dX7_init_221 rfl ?_
  refine g_bipush (19) dX7_init_222 rfl ?_
  refine g_pc 224 rfl ?_
  refine g_bipush (53) dX7_init_224 rfl ?_
  refine i_astL 11 (n := 32) (l := [108, 101, 116, 115, 32, 116, 104, 105, 110, 103, 32, 59, 32, 108, 117, 99, 107, 115, 32]) (as2 := [(6, lf []), (6, lf []), (18, lf []), (160, lf []), (1200, lf []), (24, lf []), (18, lf []), (4, lf []), (4, lf [-1, -1, -1, -1]), (4, lf []), (160, lf []), (32, lf [108, 101, 116, 115, 32, 116, 104, 105, 110, 103, 32, 59, 32, 108, 117, 99, 107, 115, 32, 53])]) hN rfl rfl (by decide) rfl dX7_init_226 ?_
  refine g_dup dX7_init_227 rfl ?_
  refine g_bipush (20) dX7_init_228 rfl ?_
  refine g_bipush (32) dX7_init_230 rfl ?_
  refine i_astL 11 (n := 32) (l := [108, 101, 116, 115, 32, 116, 104, 105, 110, 103, 32, 59, 32, 108, 117, 99, 107, 115, 32, 53]) (as2 := [(6, lf []), (6, lf []), (18, lf []), (160, lf []), (1200, lf []), (24, lf []), (18, lf []), (4, lf []), (4, lf [-1, -1, -1, -1]), (4, lf []), (160, lf []), (32, lf [108, 101, 116, 115, 32, 116, 104, 105, 110, 103, 32, 59, 32, 108, 117, 99, 107, 115, 32, 53, 32])]) hN rfl rfl (by decide) rfl dX7_init_232 ?_
  refine g_dup dX7_init_233 rfl ?_
  refine g_bipush (21) dX7_init_234 rfl ?_
  refine g_bipush (59) dX7_init_236 rfl ?_
  refine i_astL 11 (n := 32) (l := [108, 101, 116, 115, 32, 116, 104, 105, 110, 103, 32, 59, 32, 108, 117, 99, 107, 115, 32, 53, 32]) (as2 := [(6, lf []), (6, lf []), (18, lf []), (160, lf []), (1200, lf []), (24, lf []), (18, lf []), (4, lf []), (4, lf [-1, -1, -1, -1]), (4, lf []), (160, lf []), (32, lf [108, 101, 116, 115, 32, 116, 104, 105, 110, 103, 32, 59, 32, 108, 117, 99, 107, 115, 32, 53, 32, 59])]) hN rfl rfl (by decide) rfl dX7_init_238 ?_
  refine g_dup dX7_init_239 rfl ?_
  refine g_bipush (22) dX7_init_240 rfl ?_
  refine g_pc 242 rfl ?_
  refine g_bipush (32) dX7_init_242 rfl ?_
  refine i_astL 11 (n := 32) (l := [108, 101, 116, 115, 32, 116, 104, 105, 110, 103, 32, 59, 32, 108, 117, 99, 107, 115, 32, 53, 32, 59]) (as2 := [(6, lf []), (6, lf []), (18, lf []), (160, lf []), (1200, lf []), (24, lf []), (18, lf []), (4, lf []), (4, lf [-1, -1, -1, -1]), (4, lf []), (160, lf []), (32, lf [108, 101, 116, 115, 32, 116, 104, 105, 110, 103, 32, 59, 32, 108, 117, 99, 107, 115, 32, 53, 32, 59, 32])]) hN rfl rfl (by decide) rfl dX7_init_244 ?_
  refine g_dup dX7_init_245 rfl ?_
  refine g_bipush (23) dX7_init_246 rfl ?_
  refine g_bipush (116) dX7_init_248 rfl ?_
  refine i_astL 11 (n := 32) (l := [108, 101, 116, 115, 32, 116, 104, 105, 110, 103, 32, 59, 32, 108, 117, 99, 107, 115, 32, 53, 32, 59, 32]) (as2 := [(6, lf []), (6, lf []), (18, lf []), (160, lf []), (1200, lf []), (24, lf []), (18, lf []), (4, lf []), (4, lf [-1, -1, -1, -1]), (4, lf []), (160, lf []), (32, lf [108, 101, 116, 115, 32, 116, 104, 105, 110, 103, 32, 59, 32, 108, 117, 99, 107, 115, 32, 53, 32, 59, 32, 116])]) hN rfl rfl (by decide) rfl dX7_init_250 ?_
  refine g_dup dX7_init_251 rfl ?_
  refine g_bipush (24) dX7_init_252 rfl ?_
  refine g_bipush (97) dX7_init_254 rfl ?_
  refine i_astL 11 (n := 32) (l := [108, 101, 116, 115, 32, 116, 104, 105, 110, 103, 32, 59, 32, 108, 117, 99, 107, 115, 32, 53, 32, 59, 32, 116]) (as2 := [(6, lf []), (6, lf []), (18, lf []), (160, lf []), (1200, lf []), (24, lf []), (18, lf []), (4, lf []), (4, lf [-1, -1, -1, -1]), (4, lf []), (160, lf []), (32, lf [108, 101, 116, 115, 32, 116, 104, 105, 110, 103, 32, 59, 32, 108, 117, 99, 107, 115, 32, 53, 32, 59, 32, 116, 97])]) hN rfl rfl (by decide) rfl dX7_init_256 ?_
  refine g_dup dX7_init_257 rfl ?_
  refine g_bipush (25) dX7_init_258 rfl ?_
  refine g_pc 260 rfl ?_
  refine g_bipush (107) dX7_init_260 rfl ?_
  refine i_astL 11 (n := 32) (l := [108, 101, 116, 115, 32, 116, 104, 105, 110, 103, 32, 59, 32, 108, 117, 99, 107, 115, 32, 53, 32, 59, 32, 116, 97]) (as2 := [(6, lf []), (6, lf []), (18, lf []), (160, lf []), (1200, lf []), (24, lf []), (18, lf []), (4, lf []), (4, lf [-1, -1, -1, -1]), (4, lf []), (160, lf []), (32, lf [108, 101, 116, 115, 32, 116, 104, 105, 110, 103, 32, 59, 32, 108, 117, 99, 107, 115, 32, 53, 32, 59, 32, 116, 97, 107])]) hN rfl rfl (by decide) rfl dX7_init_262 ?_
  refine g_dup dX7_init_263 rfl ?_
  refine g_bipush (26) dX7_init_264 rfl ?_
  refine g_bipush (101) dX7_init_266 rfl ?_
  refine i_astL 11 (n := 32) (l := [108, 101, 116, 115, 32, 116, 104, 105, 110, 103, 32, 59, 32, 108, 117, 99, 107, 115, 32, 53, 32, 59, 32, 116, 97, 107]) (as2 := [(6, lf []), (6, lf []), (18, lf []), (160, lf []), (1200, lf []), (24, lf []), (18, lf []), (4, lf []), (4, lf [-1, -1, -1, -1]), (4, lf []), (160, lf []), (32, lf [108, 101, 116, 115, 32, 116, 104, 105, 110, 103, 32, 59, 32, 108, 117, 99, 107, 115, 32, 53, 32, 59, 32, 116, 97, 107, 101])]) hN rfl rfl (by decide) rfl dX7_init_268 ?_
  refine g_dup dX7_init_269 rfl ?_
  refine g_bipush (27) dX7_init_270 rfl ?_
  refine g_bipush (115) dX7_init_272 rfl ?_
  refine i_astL 11 (n := 32) (l := [108, 101, 116, 115, 32, 116, 104, 105, 110, 103, 32, 59, 32, 108, 117, 99, 107, 115, 32, 53, 32, 59, 32, 116, 97, 107, 101]) (as2 := [(6, lf []), (6, lf []), (18, lf []), (160, lf []), (1200, lf []), (24, lf []), (18, lf []), (4, lf []), (4, lf [-1, -1, -1, -1]), (4, lf []), (160, lf []), (32, lf [108, 101, 116, 115, 32, 116, 104, 105, 110, 103, 32, 59, 32, 108, 117, 99, 107, 115, 32, 53, 32, 59, 32, 116, 97, 107, 101, 115])]) hN rfl rfl (by decide) rfl dX7_init_274 ?_
  refine g_dup dX7_init_275 rfl ?_
  refine g_bipush (28) dX7_init_276 rfl ?_
  refine g_pc 278 rfl ?_
  refine g_bipush (32) dX7_init_278 rfl ?_
  refine i_astL 11 (n := 32) (l := [108, 101, 116, 115, 32, 116, 104, 105, 110, 103, 32, 59, 32, 108, 117, 99, 107, 115, 32, 53, 32, 59, 32, 116, 97, 107, 101, 115]) (as2 := [(6, lf []), (6, lf []), (18, lf []), (160, lf []), (1200, lf []), (24, lf []), (18, lf []), (4, lf []), (4, lf [-1, -1, -1, -1]), (4, lf []), (160, lf []), (32, lf [108, 101, 116, 115, 32, 116, 104, 105, 110, 103, 32, 59, 32, 108, 117, 99, 107, 115, 32, 53, 32, 59, 32, 116, 97, 107, 101, 115, 32])]) hN rfl rfl (by decide) rfl dX7_init_280 ?_
  refine g_dup dX7_init_281 rfl ?_
  refine g_bipush (29) dX7_init_282 rfl ?_
  refine g_bipush (50) dX7_init_284 rfl ?_
  refine i_astL 11 (n := 32) (l := [108, 101, 116, 115, 32, 116, 104, 105, 110, 103, 32, 59, 32, 108, 117, 99, 107, 115, 32, 53, 32, 59, 32, 116, 97, 107, 101, 115, 32]) (as2 := [(6, lf []), (6, lf []), (18, lf []), (160, lf []), (1200, lf []), (24, lf []), (18, lf []), (4, lf []), (4, lf [-1, -1, -1, -1]), (4, lf []), (160, lf []), (32, lf [108, 101, 116, 115, 32, 116, 104, 105, 110, 103, 32, 59, 32, 108, 117, 99, 107, 115, 32, 53, 32, 59, 32, 116, 97, 107, 101, 115, 32, 50])]) hN rfl rfl (by decide) rfl dX7_init_286 ?_
  refine g_dup dX7_init_287 rfl ?_
  refine g_bipush (30) dX7_init_288 rfl ?_
  refine g_bipush (32) dX7_init_290 rfl ?_
  refine i_astL 11 (n := 32) (l := [108, 101, 116, 115, 32, 116, 104, 105, 110, 103, 32, 59, 32, 108, 117, 99, 107, 115, 32, 53, 32, 59, 32, 116, 97, 107, 101, 115, 32, 50]) (as2 := [(6, lf []), (6, lf []), (18, lf []), (160, lf []), (1200, lf []), (24, lf []), (18, lf []), (4, lf []), (4, lf [-1, -1, -1, -1]), (4, lf []), (160, lf []), (32, lf [108, 101, 116, 115, 32, 116, 104, 105, 110, 103, 32, 59, 32, 108, 117, 99, 107, 115, 32, 53, 32, 59, 32, 116, 97, 107, 101, 115, 32, 50, 32])]) hN rfl rfl (by decide) rfl dX7_init_292 ?_
  refine g_dup dX7_init_293 rfl ?_
  refine g_bipush (31) dX7_init_294 rfl ?_
  refine g_pc 296 rfl ?_
  refine g_bipush (59) dX7_init_296 rfl ?_
  refine i_astL 11 (n := 32) (l := [108, 101, 116, 115, 32, 116, 104, 105, 110, 103, 32, 59, 32, 108, 117, 99, 107, 115, 32, 53, 32, 59, 32, 116, 97, 107, 101, 115, 32, 50, 32]) (as2 := [(6, lf []), (6, lf []), (18, lf []), (160, lf []), (1200, lf []), (24, lf []), (18, lf []), (4, lf []), (4, lf [-1, -1, -1, -1]), (4, lf []), (160, lf []), (32, lf [108, 101, 116, 115, 32, 116, 104, 105, 110, 103, 32, 59, 32, 108, 117, 99, 107, 115, 32, 53, 32, 59, 32, 116, 97, 107, 101, 115, 32, 50, 32, 59])]) hN rfl rfl (by decide) rfl dX7_init_298 ?_
  refine i_put 18 hN rfl (by decide) q1462 rfl rfl rfl (iff_of_true (Nat.le_of_ble_eq_true rfl) trivial) trivial dX7_init_299 ?_
  refine g_aload_n dX7_init_302 rfl ?_
  refine g_bipush (96) dX7_init_303 rfl ?_
  refine i_newI 96 12 13 (as2 := [(6, lf []), (6, lf []), (18, lf []), (160, lf []), (1200, lf []), (24, lf []), (18, lf []), (4, lf []), (4, lf [-1, -1, -1, -1]), (4, lf []), (160, lf []), (32, lf [108, 101, 116, 115, 32, 116, 104, 105, 110, 103, 32, 59, 32, 108, 117, 99, 107, 115, 32, 53, 32, 59, 32, 116, 97, 107, 101, 115, 32, 50, 32, 59]), (96, lf [])]) rfl rfl rfl rfl (by decide) ⟨by decide, by decide⟩ q139 dX7_init_305 ?_
  refine g_dup dX7_init_307 rfl ?_
  refine g_iconst (0) dX7_init_308 rfl ?_
  refine g_bipush (108) dX7_init_309 rfl ?_
  refine i_astL 12 (n := 96) (l := []) (as2 := [(6, lf []), (6, lf []), (18, lf []), (160, lf []), (1200, lf []), (24, lf []), (18, lf []), (4, lf []), (4, lf [-1, -1, -1, -1]), (4, lf []), (160, lf []), (32, lf [108, 101, 116, 115, 32, 116, 104, 105, 110, 103, 32, 59, 32, 108, 117, 99, 107, 115, 32, 53, 32, 59, 32, 116, 97, 107, 101, 115, 32, 50, 32, 59]), (96, lf [108])]) hN rfl rfl (by decide) rfl dX7_init_311 ?_
  refine g_dup dX7_init_312 rfl ?_
  refine g_iconst (1) dX7_init_313 rfl ?_
  refine g_pc 314 rfl ?_
  refine g_bipush (101) dX7_init_314 rfl ?_
  refine i_astL 12 (n := 96) (l := [108]) (as2 := [(6, lf []), (6, lf []), (18, lf []), (160, lf []), (1200, lf []), (24, lf []), (18, lf []), (4, lf []), (4, lf [-1, -1, -1, -1]), (4, lf []), (160, lf []), (32, lf [108, 101, 116, 115, 32, 116, 104, 105, 110, 103, 32, 59, 32, 108, 117, 99, 107, 115, 32, 53, 32, 59, 32, 116, 97, 107, 101, 115, 32, 50, 32, 59]), (96, lf [108, 101])]) hN rfl rfl (by decide) rfl dX7_init_316 ?_
  refine g_dup dX7_init_317 rfl ?_
  refine g_iconst (2) dX7_init_318 rfl ?_
  refine g_bipush (116) dX7_init_319 rfl ?_
  refine i_astL 12 (n := 96) (l := [108, 101]) (as2 := [(6, lf []), (6, lf []), (18, lf []), (160, lf []), (1200, lf []), (24, lf []), (18, lf []), (4, lf []), (4, lf [-1, -1, -1, -1]), (4, lf []), (160, lf []), (32, lf [108, 101, 116, 115, 32, 116, 104, 105, 110, 103, 32, 59, 32, 108, 117, 99, 107, 115, 32, 53, 32, 59, 32, 116, 97, 107, 101, 115, 32, 50, 32, 59]), (96, lf [108, 101, 116])]) hN rfl rfl (by decide) rfl dX7_init_321 ?_
  refine g_dup dX7_init_322 rfl ?_
  refine g_iconst (3) dX7_init_323 rfl ?_
  refine g_bipush (115) dX7_init_324 rfl ?_
  refine i_astL 12 (n := 96) (l := [108, 101, 116]) (as2 := [(6, lf []), (6, lf []), (18, lf []), (160, lf []), (1200, lf []), (24, lf []), (18, lf []), (4, lf []), (4, lf [-1, -1, -1, -1]), (4, lf []), (160, lf []), (32, lf [108, 101, 116, 115, 32, 116, 104, 105, 110, 103, 32, 59, 32, 108, 117, 99, 107, 115, 32, 53, 32, 59, 32, 116, 97, 107, 101, 115, 32, 50, 32, 59]), (96, lf [108, 101, 116, 115])]) hN rfl rfl (by decide) rfl dX7_init_326 ?_
  refine g_dup dX7_init_327 rfl ?_
  refine g_iconst (4) dX7_init_328 rfl ?_
  refine g_pc 329 rfl ?_
  refine g_bipush (32) dX7_init_329 rfl ?_
  refine i_astL 12 (n := 96) (l := [108, 101, 116, 115]) (as2 := [(6, lf []), (6, lf []), (18, lf []), (160, lf []), (1200, lf []), (24, lf []), (18, lf []), (4, lf []), (4, lf [-1, -1, -1, -1]), (4, lf []), (160, lf []), (32, lf [108, 101, 116, 115, 32, 116, 104, 105, 110, 103, 32, 59, 32, 108, 117, 99, 107, 115, 32, 53, 32, 59, 32, 116, 97, 107, 101, 115, 32, 50, 32, 59]), (96, lf [108, 101, 116, 115, 32])]) hN rfl rfl (by decide) rfl dX7_init_331 ?_
  refine g_dup dX7_init_332 rfl ?_
  refine g_iconst (5) dX7_init_333 rfl ?_
  refine g_bipush (32) dX7_init_334 rfl ?_
  refine i_astL 12 (n := 96) (l := [108, 101, 116, 115, 32]) (as2 := [(6, lf []), (6, lf []), (18, lf []), (160, lf []), (1200, lf []), (24, lf []), (18, lf []), (4, lf []), (4, lf [-1, -1, -1, -1]), (4, lf []), (160, lf []), (32, lf [108, 101, 116, 115, 32, 116, 104, 105, 110, 103, 32, 59, 32, 108, 117, 99, 107, 115, 32, 53, 32, 59, 32, 116, 97, 107, 101, 115, 32, 50, 32, 59]), (96, lf [108, 101, 116, 115, 32, 32])]) hN rfl rfl (by decide) rfl dX7_init_336 ?_
  refine g_dup dX7_init_337 rfl ?_
  refine g_bipush (6) dX7_init_338 rfl ?_
  refine g_bipush (32) dX7_init_340 rfl ?_
  refine i_astL 12 (n := 96) (l := [108, 101, 116, 115, 32, 32]) (as2 := [(6, lf []), (6, lf []), (18, lf []), (160, lf []), (1200, lf []), (24, lf []), (18, lf []), (4, lf []), (4, lf [-1, -1, -1, -1]), (4, lf []), (160, lf []), (32, lf [108, 101, 116, 115, 32, 116, 104, 105, 110, 103, 32, 59, 32, 108, 117, 99, 107, 115, 32, 53, 32, 59, 32, 116, 97, 107, 101, 115, 32, 50, 32, 59]), (96, lf [108, 101, 116, 115, 32, 32, 32])]) hN rfl rfl (by decide) rfl dX7_init_342 ?_
  refine g_dup dX7_init_343 rfl ?_
  refine g_bipush (7) dX7_init_344 rfl ?_
  refine g_pc 346 rfl ?_
  refine g_bipush (32) dX7_init_346 rfl ?_
  refine i_astL 12 (n := 96) (l := [108, 101, 116, 115, 32, 32, 32]) (as2 := [(6, lf []), (6, lf []), (18, lf []), (160, lf []), (1200, lf []), (24, lf []), (18, lf []), (4, lf []), (4, lf [-1, -1, -1, -1]), (4, lf []), (160, lf []), (32, lf [108, 101, 116, 115, 32, 116, 104, 105, 110, 103, 32, 59, 32, 108, 117, 99, 107, 115, 32, 53, 32, 59, 32, 116, 97, 107, 101, 115, 32, 50, 32, 59]), (96, lf [108, 101, 116, 115, 32, 32, 32, 32])]) hN rfl rfl (by decide) rfl dX7_init_348 ?_
  refine g_dup dX7_init_349 rfl ?_
  refine g_bipush (8) dX7_init_350 rfl ?_
  refine g_bipush (108) dX7_init_352 rfl ?_
  refine i_astL 12 (n := 96) (l := [108, 101, 116, 115, 32, 32, 32, 32]) (as2 := [(6, lf []), (6, lf []), (18, lf []), (160, lf []), (1200, lf []), (24, lf []), (18, lf []), (4, lf []), (4, lf [-1, -1, -1, -1]), (4, lf []), (160, lf []), (32, lf [108, 101, 116, 115, 32, 116, 104, 105, 110, 103, 32, 59, 32, 108, 117, 99, 107, 115, 32, 53, 32, 59, 32, 116, 97, 107, 101, 115, 32, 50, 32, 59]), (96, lf [108, 101, 116, 115, 32, 32, 32, 32, 108])]) hN rfl rfl (by decide) rfl dX7_init_354 ?_
  refine g_dup dX7_init_355 rfl ?_
  refine g_bipush (9) dX7_init_356 rfl ?_
  refine g_bipush (117) dX7_init_358 rfl ?_
  refine i_astL 12 (n := 96) (l := [108, 101, 116, 115, 32, 32, 32, 32, 108]) (as2 := [(6, lf []), (6, lf []), (18, lf []), (160, lf []), (1200, lf []), (24, lf []), (18, lf []), (4, lf []), (4, lf [-1, -1, -1, -1]), (4, lf []), (160, lf []), (32, lf [108, 101, 116, 115, 32, 116, 104, 105, 110, 103, 32, 59, 32, 108, 117, 99, 107, 115, 32, 53, 32, 59, 32, 116, 97, 107, 101, 115, 32, 50, 32, 59]), (96, lf [108, 101, 116, 115, 32, 32, 32, 32, 108, 117])]) hN rfl rfl (by decide) rfl dX7_init_360 ?_
  refine g_dup dX7_init_361 rfl ?_
  refine g_bipush (10) dX7_init_362 rfl ?_
  refine g_pc 364 rfl ?_
  refine g_bipush (99) dX7_init_364 rfl ?_
  refine i_astL 12 (n := 96) (l := [108, 101, 116, 115, 32, 32, 32, 32, 108, 117]) (as2 := [(6, lf []), (6, lf []), (18, lf []), (160, lf []), (1200, lf []), (24, lf []), (18, lf []), (4, lf []), (4, lf [-1, -1, -1, -1]), (4, lf []), (160, lf []), (32, lf [108, 101, 116, 115, 32, 116, 104, 105, 110, 103, 32, 59, 32, 108, 117, 99, 107, 115, 32, 53, 32, 59, 32, 116, 97, 107, 101, 115, 32, 50, 32, 59]), (96, lf [108, 101, 116, 115, 32, 32, 32, 32, 108, 117, 99])]) hN rfl rfl (by decide) rfl dX7_init_366 ?_
  refine g_dup dX7_init_367 rfl ?_
  refine g_bipush (11) dX7_init_368 rfl ?_
  refine g_bipush (107) dX7_init_370 rfl ?_
  refine i_astL 12 (n := 96) (l := [108, 101, 116, 115, 32, 32, 32, 32, 108, 117, 99]) (as2 := [(6, lf []), (6, lf []), (18, lf []), (160, lf []), (1200, lf []), (24, lf []), (18, lf []), (4, lf []), (4, lf [-1, -1, -1, -1]), (4, lf []), (160, lf []), (32, lf [108, 101, 116, 115, 32, 116, 104, 105, 110, 103, 32, 59, 32, 108, 117, 99, 107, 115, 32, 53, 32, 59, 32, 116, 97, 107, 101, 115, 32, 50, 32, 59]), (96, lf [108, 101, 116, 115, 32, 32, 32, 32, 108, 117, 99, 107])]) hN rfl rfl (by decide) rfl dX7_init_372 ?_
  refine g_dup dX7_init_373 rfl ?_
  refine g_bipush (12) dX7_init_374 rfl ?_
  refine g_bipush (115) dX7_init_376 rfl ?_
  refine i_astL 12 (n := 96) (l := [108, 101, 116, 115, 32, 32, 32, 32, 108, 117, 99, 107]) (as2 := [(6, lf []), (6, lf []), (18, lf []), (160, lf []), (1200, lf []), (24, lf []), (18, lf []), (4, lf []), (4, lf [-1, -1, -1, -1]), (4, lf []), (160, lf []), (32, lf [108, 101, 116, 115, 32, 116, 104, 105, 110, 103, 32, 59, 32, 108, 117, 99, 107, 115, 32, 53, 32, 59, 32, 116, 97, 107, 101, 115, 32, 50, 32, 59]), (96, lf [108, 101, 116, 115, 32, 32, 32, 32, 108, 117, 99, 107, 115])]) hN rfl rfl (by decide) rfl dX7_init_378 ?_
  refine g_dup dX7_init_379 rfl ?_
  refine g_bipush (13) dX7_init_380 rfl ?_
  refine g_pc 382 rfl ?_
  refine g_bipush (32) dX7_init_382 rfl ?_
  refine i_astL 12 (n := 96) (l := [108, 101, 116, 115, 32, 32, 32, 32, 108, 117, 99, 107, 115]) (as2 := [(6, lf []), (6, lf []), (18, lf []), (160, lf []), (1200, lf []), (24, lf []), (18, lf []), (4, lf []), (4, lf [-1, -1, -1, -1]), (4, lf []), (160, lf []), (32, lf [108, 101, 116, 115, 32, 116, 104, 105, 110, 103, 32, 59, 32, 108, 117, 99, 107, 115, 32, 53, 32, 59, 32, 116, 97, 107, 101, 115, 32, 50, 32, 59]), (96, lf [108, 101, 116, 115, 32, 32, 32, 32, 108, 117, 99, 107, 115, 32])]) hN rfl rfl (by decide) rfl dX7_init_384 ?_
  refine g_dup dX7_init_385 rfl ?_
  refine g_bipush (14) dX7_init_386 rfl ?_
  refine g_bipush (32) dX7_init_388 rfl ?_
  refine i_astL 12 (n := 96) (l := [108, 101, 116, 115, 32, 32, 32, 32, 108, 117, 99, 107, 115, 32]) (as2 := [(6, lf []), (6, lf []), (18, lf []), (160, lf []), (1200, lf []), (24, lf []), (18, lf []), (4, lf []), (4, lf [-1, -1, -1, -1]), (4, lf []), (160, lf []), (32, lf [108, 101, 116, 115, 32, 116, 104, 105, 110, 103, 32, 59, 32, 108, 117, 99, 107, 115, 32, 53, 32, 59, 32, 116, 97, 107, 101, 115, 32, 50, 32, 59]), (96, lf [108, 101, 116, 115, 32, 32, 32, 32, 108, 117, 99, 107, 115, 32, 32])]) hN rfl rfl (by decide) rfl dX7_init_390 ?_
  refine g_dup dX7_init_391 rfl ?_
  refine g_bipush (15) dX7_init_392 rfl ?_
  refine g_bipush (32) dX7_init_394 rfl ?_
  refine i_astL 12 (n := 96) (l := [108, 101, 116, 115, 32, 32, 32, 32, 108, 117, 99, 107, 115, 32, 32]) (as2 := [(6, lf []), (6, lf []), (18, lf []), (160, lf []), (1200, lf []), (24, lf []), (18, lf []), (4, lf []), (4, lf [-1, -1, -1, -1]), (4, lf []), (160, lf []), (32, lf [108, 101, 116, 115, 32, 116, 104, 105, 110, 103, 32, 59, 32, 108, 117, 99, 107, 115, 32, 53, 32, 59, 32, 116, 97, 107, 101, 115, 32, 50, 32, 59]), (96, lf [108, 101, 116, 115, 32, 32, 32, 32, 108, 117, 99, 107, 115, 32, 32, 32])]) hN rfl rfl (by decide) rfl dX7_init_396 ?_
  refine g_dup dX7_init_397 rfl ?_
  refine g_bipush (16) dX7_init_398 rfl ?_
  refine g_pc 400 rfl ?_
  refine g_bipush (116) dX7_init_400 rfl ?_
  refine i_astL 12 (n := 96) (l := [108, 101, 116, 115, 32, 32, 32, 32, 108, 117, 99, 107, 115, 32, 32, 32]) (as2 := [(6, lf []), (6, lf []), (18, lf []), (160, lf []), (1200, lf []), (24, lf []), (18, lf []), (4, lf []), (4, lf [-1, -1, -1, -1]), (4, lf []), (160, lf []), (32, lf [108, 101, 116, 115, 32, 116, 104, 105, 110, 103, 32, 59, 32, 108, 117, 99, 107, 115, 32, 53, 32, 59, 32, 116, 97, 107, 101, 115, 32, 50, 32, 59]), (96, lf [108, 101, 116, 115, 32, 32, 32, 32, 108, 117, 99, 107, 115, 32, 32, 32, 116])]) hN rfl rfl (by decide) rfl dX7_init_402 ?_
  refine g_dup dX7_init_403 rfl ?_
  refine g_bipush (17) dX7_init_404 rfl ?_
  refine g_bipush (97) dX7_init_406 rfl ?_
  refine i_astL 12 (n := 96) (l := [108, 101, 116, 115, 32, 32, 32, 32, 108, 117, 99, 107, 115, 32, 32, 32, 116]) (as2 := [(6, lf []), (6, lf []), (18, lf []), (160, lf []), (1200, lf []), (24, lf []), (18, lf []), (4, lf []), (4, lf [-1, -1, -1, -1]), (4, lf []), (160, lf []), (32, lf [108, 101, 116, 115, 32, 116, 104, 105, 110, 103, 32, 59, 32, 108, 117, 99, 107, 115, 32, 53, 32, 59, 32, 116, 97, 107, 101, 115, 32, 50, 32, 59]), (96, lf [108, 101, 116, 115, 32, 32, 32, 32, 108, 117, 99, 107, 115, 32, 32, 32, 116, 97])]) hN rfl rfl (by decide) rfl dX7_init_408 ?_
  refine g_dup dX7_init_409 rfl ?_
  refine g_bipush (18) dX7_init_410 rfl ?_
  refine g_bipush (107) dX7_init_412 rfl ?_
  refine i_astL 12 (n := 96) (l := [108, 101, 116, 115, 32, 32, 32, 32, 108, 117, 99, 107, 115, 32, 32, 32, 116, 97]) (as2 := [(6, lf []), (6, lf []), (18, lf []), (160, lf []), (1200, lf []), (24, lf []), (18, lf []), (4, lf []), (4, lf [-1, -1, -1, -1]), (4, lf []), (160, lf []), (32, lf [108, 101, 116, 115, 32, 116, 104, 105, 110, 103, 32, 59, 32, 108, 117, 99, 107, 115, 32, 53, 32, 59, 32, 116, 97, 107, 101, 115, 32, 50, 32, 59]), (96, lf [108, 101, 116, 115, 32, 32, 32, 32, 108, 117, 99, 107, 115, 32, 32, 32, 116, 97, 107])]) hN rfl rfl (by decide) rfl dX7_init_414 ?_
  refine g_dup dX7_init_415 rfl ?_
  refine g_bipush (19) dX7_init_416 rfl ?_
  refine g_pc 418 rfl ?_
  refine g_bipush (101) dX7_init_418 rfl ?_
  refine i_astL 12 (n := 96) (l := [108, 101, 116, 115, 32, 32, 32, 32, 108, 117, 99, 107, 115, 32, 32, 32, 116, 97, 107]) (as2 := [(6, lf []), (6, lf []), (18, lf []), (160, lf []), (1200, lf []), (24, lf []), (18, lf []), (4, lf []), (4, lf [-1, -1, -1, -1]), (4, lf []), (160, lf []), (32, lf [108, 101, 116, 115, 32, 116, 104, 105, 110, 103, 32, 59, 32, 108, 117, 99, 107, 115, 32, 53, 32, 59, 32, 116, 97, 107, 101, 115, 32, 50, 32, 59]), (96, lf [108, 101, 116, 115, 32, 32, 32, 32, 108, 117, 99, 107, 115, 32, 32, 32, 116, 97, 107, 101])]) hN rfl rfl (by decide) rfl dX7_init_420 ?_
  refine g_dup dX7_init_421 rfl ?_
  refine g_bipush (20) dX7_init_422 rfl ?_
  refine g_bipush (115) dX7_init_424 rfl ?_
  refine i_astL 12 (n := 96) (l := [108, 101, 116, 115, 32, 32, 32, 32, 108, 117, 99, 107, 115, 32, 32, 32, 116, 97, 107, 101]) (as2 := [(6, lf []), (6, lf []), (18, lf []), (160, lf []), (1200, lf []), (24, lf []), (18, lf []), (4, lf []), (4, lf [-1, -1, -1, -1]), (4, lf []), (160, lf []), (32, lf [108, 101, 116, 115, 32, 116, 104, 105, 110, 103, 32, 59, 32, 108, 117, 99, 107, 115, 32, 53, 32, 59, 32, 116, 97, 107, 101, 115, 32, 50, 32, 59]), (96, lf [108, 101, 116, 115, 32, 32, 32, 32, 108, 117, 99, 107, 115, 32, 32, 32, 116, 97, 107, 101, 115])]) hN rfl rfl (by decide) rfl dX7_init_426 ?_
  refine g_dup dX7_init_427 rfl ?_
  refine g_bipush (21) dX7_init_428 rfl ?_
  refine g_bipush (32) dX7_init_430 rfl ?_
  refine i_astL 12 (n := 96) (l := [108, 101, 116, 115, 32, 32, 32, 32, 108, 117, 99, 107, 115, 32, 32, 32, 116, 97, 107, 101, 115]) (as2 := [(6, lf []), (6, lf []), (18, lf []), (160, lf []), (1200, lf []), (24, lf []), (18, lf []), (4, lf []), (4, lf [-1, -1, -1, -1]), (4, lf []), (160, lf []), (32, lf [108, 101, 116, 115, 32, 116, 104, 105, 110, 103, 32, 59, 32, 108, 117, 99, 107, 115, 32, 53, 32, 59, 32, 116, 97, 107, 101, 115, 32, 50, 32, 59]), (96, lf [108, 101, 116, 115, 32, 32, 32, 32, 108, 117, 99, 107, 115, 32, 32, 32, 116, 97, 107, 101, 115, 32])]) hN rfl rfl (by decide) rfl dX7_init_432 ?_
  refine g_dup dX7_init_433 rfl ?_
  refine g_bipush (22) dX7_init_434 rfl ?_
  refine g_pc 436 rfl ?_
  refine g_bipush (32) dX7_init_436 rfl ?_
  refine i_astL 12 (n := 96) (l := [108, 101, 116, 115, 32, 32, 32, 32, 108, 117, 99, 107, 115, 32, 32, 32, 116, 97, 107, 101, 115, 32]) (as2 := [(6, lf []), (6, lf []), (18, lf []), (160, lf []), (1200, lf []), (24, lf []), (18, lf []), (4, lf []), (4, lf [-1, -1, -1, -1]), (4, lf []), (160, lf []), (32, lf [108, 101, 116, 115, 32, 116, 104, 105, 110, 103, 32, 59, 32, 108, 117, 99, 107, 115, 32, 53, 32, 59, 32, 116, 97, 107, 101, 115, 32, 50, 32, 59]), (96, lf [108, 101, 116, 115, 32, 32, 32, 32, 108, 117, 99, 107, 115, 32, 32, 32, 116, 97, 107, 101, 115, 32, 32])]) hN rfl rfl (by decide) rfl dX7_init_438 ?_
  refine g_dup dX7_init_439 rfl ?_
  refine g_bipush (23) dX7_init_440 rfl ?_
  refine g_bipush (32) dX7_init_442 rfl ?_
  refine i_astL 12 (n := 96) (l := [108, 101, 116, 115, 32, 32, 32, 32, 108, 117, 99, 107, 115, 32, 32, 32, 116, 97, 107, 101, 115, 32, 32]) (as2 := [(6, lf []), (6, lf []), (18, lf []), (160, lf []), (1200, lf []), (24, lf []), (18, lf []), (4, lf []), (4, lf [-1, -1, -1, -1]), (4, lf []), (160, lf []), (32, lf [108, 101, 116, 115, 32, 116, 104, 105, 110, 103, 32, 59, 32, 108, 117, 99, 107, 115, 32, 53, 32, 59, 32, 116, 97, 107, 101, 115, 32, 50, 32, 59]), (96, lf [108, 101, 116, 115, 32, 32, 32, 32, 108, 117, 99, 107, 115, 32, 32, 32, 116, 97, 107, 101, 115, 32, 32, 32])]) hN rfl rfl (by decide) rfl dX7_init_444 ?_
  refine g_dup dX7_init_445 rfl ?_
  refine g_bipush (24) dX7_init_446 rfl ?_
  refine g_bipush (116) dX7_init_448 rfl ?_
  refine i_astL 12 (n := 96) (l := [108, 101, 116, 115, 32, 32, 32, 32, 108, 117, 99, 107, 115, 32, 32, 32, 116, 97, 107, 101, 115, 32, 32, 32]) (as2 := [(6, lf []), (6, lf []), (18, lf []), (160, lf []), (1200, lf []), (24, lf []), (18, lf []), (4, lf []), (4, lf [-1, -1, -1, -1]), (4, lf []), (160, lf []), (32, lf [108, 101, 116, 115, 32, 116, 104, 105, 110, 103, 32, 59, 32, 108, 117, 99, 107, 115, 32, 53, 32, 59, 32, 116, 97, 107, 101, 115, 32, 50, 32, 59]), (96, lf [108, 101, 116, 115, 32, 32, 32, 32, 108, 117, 99, 107, 115, 32, 32, 32, 116, 97, 107, 101, 115, 32, 32, 32, 116])]) hN rfl rfl (by decide) rfl dX7_init_450 ?_
  refine g_dup dX7_init_451 rfl ?_
  refine g_bipush (25) dX7_init_452 rfl ?_
  refine g_pc 454 rfl ?_
  refine g_bipush (104) dX7_init_454 rfl ?_
  refine i_astL 12 (n := 96) (l := [108, 101, 116, 115, 32, 32, 32, 32, 108, 117, 99, 107, 115, 32, 32, 32, 116, 97, 107, 101, 115, 32, 32, 32, 116]) (as2 := [(6, lf []), (6, lf []), (18, lf []), (160, lf []), (1200, lf []), (24, lf []), (18, lf []), (4, lf []), (4, lf [-1, -1, -1, -1]), (4, lf []), (160, lf []), (32, lf [108, 101, 116, 115, 32, 116, 104, 105, 110, 103, 32, 59, 32, 108, 117, 99, 107, 115, 32, 53, 32, 59, 32, 116, 97, 107, 101, 115, 32, 50, 32, 59]), (96, lf [108, 101, 116, 115, 32, 32, 32, 32, 108, 117, 99, 107, 115, 32, 32, 32, 116, 97, 107, 101, 115, 32, 32, 32, 116, 104])]) hN rfl rfl (by decide) rfl dX7_init_456 ?_
  refine g_dup dX7_init_457 rfl ?_
  refine g_bipush (26) dX7_init_458 rfl ?_
  refine g_bipush (105) dX7_init_460 rfl ?_
  refine i_astL 12 (n := 96) (l := [108, 101, 116, 115, 32, 32, 32, 32, 108, 117, 99, 107, 115, 32, 32, 32, 116, 97, 107, 101, 115, 32, 32, 32, 116, 104]) (as2 := [(6, lf []), (6, lf []), (18, lf []), (160, lf []), (1200, lf []), (24, lf []), (18, lf []), (4, lf []), (4, lf [-1, -1, -1, -1]), (4, lf []), (160, lf []), (32, lf [108, 101, 116, 115, 32, 116, 104, 105, 110, 103, 32, 59, 32, 108, 117, 99, 107, 115, 32, 53, 32, 59, 32, 116, 97, 107, 101, 115, 32, 50, 32, 59]), (96, lf [108, 101, 116, 115, 32, 32, 32, 32, 108, 117, 99, 107, 115, 32, 32, 32, 116, 97, 107, 101, 115, 32, 32, 32, 116, 104, 105])]) hN rfl rfl (by decide) rfl dX7_init_462 ?_
  refine g_dup dX7_init_463 rfl ?_
  refine g_bipush (27) dX7_init_464 rfl ?_
  refine g_bipush (110) dX7_init_466 rfl ?_
  refine i_astL 12 (n := 96) (l := [108, 101, 116, 115, 32, 32, 32, 32, 108, 117, 99, 107, 115, 32, 32, 32, 116, 97, 107, 101, 115, 32, 32, 32, 116, 104, 105]) (as2 := [(6, lf []), (6, lf []), (18, lf []), (160, lf []), (1200, lf []), (24, lf []), (18, lf []), (4, lf []), (4, lf [-1, -1, -1, -1]), (4, lf []), (160, lf []), (32, lf [108, 101, 116, 115, 32, 116, 104, 105, 110, 103, 32, 59, 32, 108, 117, 99, 107, 115, 32, 53, 32, 59, 32, 116, 97, 107, 101, 115, 32, 50, 32, 59]), (96, lf [108, 101, 116, 115, 32, 32, 32, 32, 108, 117, 99, 107, 115, 32, 32, 32, 116, 97, 107, 101, 115, 32, 32, 32, 116, 104, 105, 110])]) hN rfl rfl (by decide) rfl dX7_init_468 ?_
  refine g_dup dX7_init_469 rfl ?_
  refine g_bipush (28) dX7_init_470 rfl ?_
  refine g_pc 472 rfl ?_
  refine g_bipush (103) dX7_init_472 rfl ?_
  refine i_astL 12 (n := 96) (l := [108, 101, 116, 115, 32, 32, 32, 32, 108, 117, 99, 107, 115, 32, 32, 32, 116, 97, 107, 101, 115, 32, 32, 32, 116, 104, 105, 110]) (as2 := [(6, lf []), (6, lf []), (18, lf []), (160, lf []), (1200, lf []), (24, lf []), (18, lf []), (4, lf []), (4, lf [-1, -1, -1, -1]), (4, lf []), (160, lf []), (32, lf [108, 101, 116, 115, 32, 116, 104, 105, 110, 103, 32, 59, 32, 108, 117, 99, 107, 115, 32, 53, 32, 59, 32, 116, 97, 107, 101, 115, 32, 50, 32, 59]), (96, lf [108, 101, 116, 115, 32, 32, 32, 32, 108, 117, 99, 107, 115, 32, 32, 32, 116, 97, 107, 101, 115, 32, 32, 32, 116, 104, 105, 110, 103])]) hN rfl rfl (by decide) rfl dX7_init_474 ?_
  refine g_dup dX7_init_475 rfl ?_
  refine g_bipush (29) dX7_init_476 rfl ?_
  refine g_bipush (32) dX7_init_478 rfl ?_
  refine i_astL 12 (n := 96) (l := [108, 101, 116, 115, 32, 32, 32, 32, 108, 117, 99, 107, 115, 32, 32, 32, 116, 97, 107, 101, 115, 32, 32, 32, 116, 104, 105, 110, 103]) (as2 := [(6, lf []), (6, lf []), (18, lf []), (160, lf []), (1200, lf []), (24, lf []), (18, lf []), (4, lf []), (4, lf [-1, -1, -1, -1]), (4, lf []), (160, lf []), (32, lf [108, 101, 116, 115, 32, 116, 104, 105, 110, 103, 32, 59, 32, 108, 117, 99, 107, 115, 32, 53, 32, 59, 32, 116, 97, 107, 101, 115, 32, 50, 32, 59]), (96, lf [108, 101, 116, 115, 32, 32, 32, 32, 108, 117, 99, 107, 115, 32, 32, 32, 116, 97, 107, 101, 115, 32, 32, 32, 116, 104, 105, 110, 103, 32])]) hN rfl rfl (by decide) rfl dX7_init_480 ?_
  refine g_dup dX7_init_481 rfl ?_
  refine g_bipush (30) dX7_init_482 rfl ?_
  refine g_bipush (32) dX7_init_484 rfl ?_
  refine i_astL 12 (n := 96) (l := [108, 101, 116, 115, 32, 32, 32, 32, 108, 117, 99, 107, 115, 32, 32, 32, 116, 97, 107, 101, 115, 32, 32, 32, 116, 104, 105, 110, 103, 32]) (as2 := [(6, lf []), (6, lf []), (18, lf []), (160, lf []), (1200, lf []), (24, lf []), (18, lf []), (4, lf []), (4, lf [-1, -1, -1, -1]), (4, lf []), (160, lf []), (32, lf [108, 101, 116, 115, 32, 116, 104, 105, 110, 103, 32, 59, 32, 108, 117, 99, 107, 115, 32, 53, 32, 59, 32, 116, 97, 107, 101, 115, 32, 50, 32, 59]), (96, lf [108, 101, 116, 115, 32, 32, 32, 32, 108, 117, 99, 107, 115, 32, 32, 32, 116, 97, 107, 101, 115, 32, 32, 32, 116, 104, 105, 110, 103, 32, 32])]) hN rfl rfl (by decide) rfl dX7_init_486 ?_
  refine g_dup dX7_init_487 rfl ?_
  refine g_bipush (31) dX7_init_488 rfl ?_
  refine g_pc 490 rfl ?_
  refine g_bipush (32) dX7_init_490 rfl ?_
  refine i_astL 12 (n := 96) (l := [108, 101, 116, 115, 32, 32, 32, 32, 108, 117, 99, 107, 115, 32, 32, 32, 116, 97, 107, 101, 115, 32, 32, 32, 116, 104, 105, 110, 103, 32, 32]) (as2 := [(6, lf []), (6, lf []), (18, lf []), (160, lf []), (1200, lf []), (24, lf []), (18, lf []), (4, lf []), (4, lf [-1, -1, -1, -1]), (4, lf []), (160, lf []), (32, lf [108, 101, 116, 115, 32, 116, 104, 105, 110, 103, 32, 59, 32, 108, 117, 99, 107, 115, 32, 53, 32, 59, 32, 116, 97, 107, 101, 115, 32, 50, 32, 59]), (96, lf [108, 101, 116, 115, 32, 32, 32, 32, 108, 117, 99, 107, 115, 32, 32, 32, 116, 97, 107, 101, 115, 32, 32, 32, 116, 104, 105, 110, 103, 32, 32, 32])]) hN rfl rfl (by decide) rfl dX7_init_492 ?_
  refine g_dup dX7_init_493 rfl ?_
  refine g_bipush (32) dX7_init_494 rfl ?_
  refine g_bipush (107) dX7_init_496 rfl ?_
  refine i_astL 12 (n := 96) (l := [108, 101, 116, 115, 32, 32, 32, 32, 108, 117, 99, 107, 115, 32, 32, 32, 116, 97, 107, 101, 115, 32, 32, 32, 116, 104, 105, 110, 103, 32, 32, 32]) (as2 := [(6, lf []), (6, lf []), (18, lf []), (160, lf []), (1200, lf []), (24, lf []), (18, lf []), (4, lf []), (4, lf [-1, -1, -1, -1]), (4, lf []), (160, lf []), (32, lf [108, 101, 116, 115, 32, 116, 104, 105, 110, 103, 32, 59, 32, 108, 117, 99, 107, 115, 32, 53, 32, 59, 32, 116, 97, 107, 101, 115, 32, 50, 32, 59]), (96, lf [108, 101, 116, 115, 32, 32, 32, 32, 108, 117, 99, 107, 115, 32, 32, 32, 116, 97, 107, 101, 115, 32, 32, 32, 116, 104, 105, 110, 103, 32, 32, 32, 107])]) hN rfl rfl (by decide) rfl dX7_init_498 ?_
  refine g_dup dX7_init_499 rfl ?_
  refine g_bipush (33) dX7_init_500 rfl ?_
  refine g_bipush (110) dX7_init_502 rfl ?_
  refine i_astL 12 (n := 96) (l := [108, 101, 116, 115, 32, 32, 32, 32, 108, 117, 99, 107, 115, 32, 32, 32, 116, 97, 107, 101, 115, 32, 32, 32, 116, 104, 105, 110, 103, 32, 32, 32, 107]) (as2 := [(6, lf []), (6, lf []), (18, lf []), (160, lf []), (1200, lf []), (24, lf []), (18, lf []), (4, lf []), (4, lf [-1, -1, -1, -1]), (4, lf []), (160, lf []), (32, lf [108, 101, 116, 115, 32, 116, 104, 105, 110, 103, 32, 59, 32, 108, 117, 99, 107, 115, 32, 53, 32, 59, 32, 116, 97, 107, 101, 115, 32, 50, 32, 59]), (96, lf [108, 101, 116, 115, 32, 32, 32, 32, 108, 117, 99, 107, 115, 32, 32, 32, 116, 97, 107, 101, 115, 32, 32, 32, 116, 104, 105, 110, 103, 32, 32, 32, 107, 110])]) hN rfl rfl (by decide) rfl dX7_init_504 ?_
  refine g_dup dX7_init_505 rfl ?_
  refine g_bipush (34) dX7_init_506 rfl ?_
  refine g_pc 508 rfl ?_
  refine g_bipush (111) dX7_init_508 rfl ?_
  refine i_astL 12 (n := 96) (l := [108, 101, 116, 115, 32, 32, 32, 32, 108, 117, 99, 107, 115, 32, 32, 32, 116, 97, 107, 101, 115, 32, 32, 32, 116, 104, 105, 110, 103, 32, 32, 32, 107, 110]) (as2 := [(6, lf []), (6, lf []), (18, lf []), (160, lf []), (1200, lf []), (24, lf []), (18, lf []), (4, lf []), (4, lf [-1, -1, -1, -1]), (4, lf []), (160, lf []), (32, lf [108, 101, 116, 115, 32, 116, 104, 105, 110, 103, 32, 59, 32, 108, 117, 99, 107, 115, 32, 53, 32, 59, 32, 116, 97, 107, 101, 115, 32, 50, 32, 59]), (96, lf [108, 101, 116, 115, 32, 32, 32, 32, 108, 117, 99, 107, 115, 32, 32, 32, 116, 97, 107, 101, 115, 32, 32, 32, 116, 104, 105, 110, 103, 32, 32, 32, 107, 110, 111])]) hN rfl rfl (by decide) rfl dX7_init_510 ?_
  refine g_dup dX7_init_511 rfl ?_
  refine g_bipush (35) dX7_init_512 rfl ?_
  refine g_bipush (119) dX7_init_514 rfl ?_
  refine i_astL 12 (n := 96) (l := [108, 101, 116, 115, 32, 32, 32, 32, 108, 117, 99, 107, 115, 32, 32, 32, 116, 97, 107, 101, 115, 32, 32, 32, 116, 104, 105, 110, 103, 32, 32, 32, 107, 110, 111]) (as2 := [(6, lf []), (6, lf []), (18, lf []), (160, lf []), (1200, lf []), (24, lf []), (18, lf []), (4, lf []), (4, lf [-1, -1, -1, -1]), (4, lf []), (160, lf []), (32, lf [108, 101, 116, 115, 32, 116, 104, 105, 110, 103, 32, 59, 32, 108, 117, 99, 107, 115, 32, 53, 32, 59, 32, 116, 97, 107, 101, 115, 32, 50, 32, 59]), (96, lf [108, 101, 116, 115, 32, 32, 32, 32, 108, 117, 99, 107, 115, 32, 32, 32, 116, 97, 107, 101, 115, 32, 32, 32, 116, 104, 105, 110, 103, 32, 32, 32, 107, 110, 111, 119])]) hN rfl rfl (by decide) rfl dX7_init_516 ?_
  refine g_dup dX7_init_517 rfl ?_
  refine g_bipush (36) dX7_init_518 rfl ?_
  refine g_bipush (110) dX7_init_520 rfl ?_
  refine i_astL 12 (n := 96) (l := [108, 101, 116, 115, 32, 32, 32, 32, 108, 117, 99, 107, 115, 32, 32, 32, 116, 97, 107, 101, 115, 32, 32, 32, 116, 104, 105, 110, 103, 32, 32, 32, 107, 110, 111, 119]) (as2 := [(6, lf []), (6, lf []), (18, lf []), (160, lf []), (1200, lf []), (24, lf []), (18, lf []), (4, lf []), (4, lf [-1, -1, -1, -1]), (4, lf []), (160, lf []), (32, lf [108, 101, 116, 115, 32, 116, 104, 105, 110, 103, 32, 59, 32, 108, 117, 99, 107, 115, 32, 53, 32, 59, 32, 116, 97, 107, 101, 115, 32, 50, 32, 59]), (96, lf [108, 101, 116, 115, 32, 32, 32, 32, 108, 117, 99, 107, 115, 32, 32, 32, 116, 97, 107, 101, 115, 32, 32, 32, 116, 104, 105, 110, 103, 32, 32, 32, 107, 110, 111, 119, 110])]) hN rfl rfl (by decide) rfl dX7_init_522 ?_
  refine g_dup dX7_init_523 rfl ?_
  refine g_bipush (37) dX7_init_524 rfl ?_
  refine g_pc 526 rfl ?_
  refine g_bipush (32) dX7_init_526 rfl ?_
  refine i_astL 12 (n := 96) (l := [108, 101, 116, 115, 32, 32, 32, 32, 108, 117, 99, 107, 115, 32, 32, 32, 116, 97, 107, 101, 115, 32, 32, 32, 116, 104, 105, 110, 103, 32, 32, 32, 107, 110, 111, 119, 110]) (as2 := [(6, lf []), (6, lf []), (18, lf []), (160, lf []), (1200, lf []), (24, lf []), (18, lf []), (4, lf []), (4, lf [-1, -1, -1, -1]), (4, lf []), (160, lf []), (32, lf [108, 101, 116, 115, 32, 116, 104, 105, 110, 103, 32, 59, 32, 108, 117, 99, 107, 115, 32, 53, 32, 59, 32, 116, 97, 107, 101, 115, 32, 50, 32, 59]), (96, lf [108, 101, 116, 115, 32, 32, 32, 32, 108, 117, 99, 107, 115, 32, 32, 32, 116, 97, 107, 101, 115, 32, 32, 32, 116, 104, 105, 110, 103, 32, 32, 32, 107, 110, 111, 119, 110, 32])]) hN rfl rfl (by decide) rfl dX7_init_528 ?_
  refine g_dup dX7_init_529 rfl ?_
  refine g_bipush (38) dX7_init_530 rfl ?_
  refine g_bipush (32) dX7_init_532 rfl ?_
  refine i_astL 12 (n := 96) (l := [108, 101, 116, 115, 32, 32, 32, 32, 108, 117, 99, 107, 115, 32, 32, 32, 116, 97, 107, 101, 115, 32, 32, 32, 116, 104, 105, 110, 103, 32, 32, 32, 107, 110, 111, 119, 110, 32]) (as2 := [(6, lf []), (6, lf []), (18, lf []), (160, lf []), (1200, lf []), (24, lf []), (18, lf []), (4, lf []), (4, lf [-1, -1, -1, -1]), (4, lf []), (160, lf []), (32, lf [108, 101, 116, 115, 32, 116, 104, 105, 110, 103, 32, 59, 32, 108, 117, 99, 107, 115, 32, 53, 32, 59, 32, 116, 97, 107, 101, 115, 32, 50, 32, 59]), (96, lf [108, 101, 116, 115, 32, 32, 32, 32, 108, 117, 99, 107, 115, 32, 32, 32, 116, 97, 107, 101, 115, 32, 32, 32, 116, 104, 105, 110, 103, 32, 32, 32, 107, 110, 111, 119, 110, 32, 32])]) hN rfl rfl (by decide) rfl dX7_init_534 ?_
  refine g_dup dX7_init_535 rfl ?_
  refine g_bipush (39) dX7_init_536 rfl ?_
  refine g_bipush (32) dX7_init_538 rfl ?_
  refine i_astL 12 (n := 96) (l := [108, 101, 116, 115, 32, 32, 32, 32, 108, 117, 99, 107, 115, 32, 32, 32, 116, 97, 107, 101, 115, 32, 32, 32, 116, 104, 105, 110, 103, 32, 32, 32, 107, 110, 111, 119, 110, 32, 32]) (as2 := [(6, lf []), (6, lf []), (18, lf []), (160, lf []), (1200, lf []), (24, lf []), (18, lf []), (4, lf []), (4, lf [-1, -1, -1, -1]), (4, lf []), (160, lf []), (32, lf [108, 101, 116, 115, 32, 116, 104, 105, 110, 103, 32, 59, 32, 108, 117, 99, 107, 115, 32, 53, 32, 59, 32, 116, 97, 107, 101, 115, 32, 50, 32, 59]), (96, lf [108, 101, 116, 115, 32, 32, 32, 32, 108, 117, 99, 107, 115, 32, 32, 32, 116, 97, 107, 101, 115, 32, 32, 32, 116, 104, 105, 110, 103, 32, 32, 32, 107, 110, 111, 119, 110, 32, 32, 32])]) hN rfl rfl (by decide) rfl dX7_init_540 ?_
  refine g_dup dX7_init_541 rfl ?_
  refine g_bipush (40) dX7_init_542 rfl ?_
  refine g_pc 544 rfl ?_
  refine g_bipush (107) dX7_init_544 rfl ?_
  refine i_astL 12 (n := 96) (l := [108, 101, 116, 115, 32, 32, 32, 32, 108, 117, 99, 107, 115, 32, 32, 32, 116, 97, 107, 101, 115, 32, 32, 32, 116, 104, 105, 110, 103, 32, 32, 32, 107, 110, 111, 119, 110, 32, 32, 32]) (as2 := [(6, lf []), (6, lf []), (18, lf []), (160, lf []), (1200, lf []), (24, lf []), (18, lf []), (4, lf []), (4, lf [-1, -1, -1, -1]), (4, lf []), (160, lf []), (32, lf [108, 101, 116, 115, 32, 116, 104, 105, 110, 103, 32, 59, 32, 108, 117, 99, 107, 115, 32, 53, 32, 59, 32, 116, 97, 107, 101, 115, 32, 50, 32, 59]), (96, lf [108, 101, 116, 115, 32, 32, 32, 32, 108, 117, 99, 107, 115, 32, 32, 32, 116, 97, 107, 101, 115, 32, 32, 32, 116, 104, 105, 110, 103, 32, 32, 32, 107, 110, 111, 119, 110, 32, 32, 32, 107])]) hN rfl rfl (by decide) rfl dX7_init_546 ?_
  refine g_dup dX7_init_547 rfl ?_
  refine g_bipush (41) dX7_init_548 rfl ?_
  refine g_bipush (101) dX7_init_550 rfl ?_
  refine i_astL 12 (n := 96) (l := [108, 101, 116, 115, 32, 32, 32, 32, 108, 117, 99, 107, 115, 32, 32, 32, 116, 97, 107, 101, 115, 32, 32, 32, 116, 104, 105, 110, 103, 32, 32, 32, 107, 110, 111, 119, 110, 32, 32, 32, 107]) (as2 := [(6, lf []), (6, lf []), (18, lf []), (160, lf []), (1200, lf []), (24, lf []), (18, lf []), (4, lf []), (4, lf [-1, -1, -1, -1]), (4, lf []), (160, lf []), (32, lf [108, 101, 116, 115, 32, 116, 104, 105, 110, 103, 32, 59, 32, 108, 117, 99, 107, 115, 32, 53, 32, 59, 32, 116, 97, 107, 101, 115, 32, 50, 32, 59]), (96, lf [108, 101, 116, 115, 32, 32, 32, 32, 108, 117, 99, 107, 115, 32, 32, 32, 116, 97, 107, 101, 115, 32, 32, 32, 116, 104, 105, 110, 103, 32, 32, 32, 107, 110, 111, 119, 110, 32, 32, 32, 107, 101])]) hN rfl rfl (by decide) rfl dX7_init_552 ?_
  refine g_dup dX7_init_553 rfl ?_
  refine g_bipush (42) dX7_init_554 rfl ?_
  refine g_bipush (112) dX7_init_556 rfl ?_
  refine i_astL 12 (n := 96) (l := [108, 101, 116, 115, 32, 32, 32, 32, 108, 117, 99, 107, 115, 32, 32, 32, 116, 97, 107, 101, 115, 32, 32, 32, 116, 104, 105, 110, 103, 32, 32, 32, 107, 110, 111, 119, 110, 32, 32, 32, 107, 101]) (as2 := [(6, lf []), (6, lf []), (18, lf []), (160, lf []), (1200, lf []), (24, lf []), (18, lf []), (4, lf []), (4, lf [-1, -1, -1, -1]), (4, lf []), (160, lf []), (32, lf [108, 101, 116, 115, 32, 116, 104, 105, 110, 103, 32, 59, 32, 108, 117, 99, 107, 115, 32, 53, 32, 59, 32, 116, 97, 107, 101, 115, 32, 50, 32, 59]), (96, lf [108, 101, 116, 115, 32, 32, 32, 32, 108, 117, 99, 107, 115, 32, 32, 32, 116, 97, 107, 101, 115, 32, 32, 32, 116, 104, 105, 110, 103, 32, 32, 32, 107, 110, 111, 119, 110, 32, 32, 32, 107, 101, 112])]) hN rfl rfl (by decide) rfl dX7_init_558 ?_
  refine g_dup dX7_init_559 rfl ?_
  refine g_bipush (43) dX7_init_560 rfl ?_
  refine g_pc 562 rfl ?_
  refine g_bipush (116) dX7_init_562 rfl ?_
  refine i_astL 12 (n := 96) (l := [108, 101, 116, 115, 32, 32, 32, 32, 108, 117, 99, 107, 115, 32, 32, 32, 116, 97, 107, 101, 115, 32, 32, 32, 116, 104, 105, 110, 103, 32, 32, 32, 107, 110, 111, 119, 110, 32, 32, 32, 107, 101, 112]) (as2 := [(6, lf []), (6, lf []), (18, lf []), (160, lf []), (1200, lf []), (24, lf []), (18, lf []), (4, lf []), (4, lf [-1, -1, -1, -1]), (4, lf []), (160, lf []), (32, lf [108, 101, 116, 115, 32, 116, 104, 105, 110, 103, 32, 59, 32, 108, 117, 99, 107, 115, 32, 53, 32, 59, 32, 116, 97, 107, 101, 115, 32, 50, 32, 59]), (96, lf [108, 101, 116, 115, 32, 32, 32, 32, 108, 117, 99, 107, 115, 32, 32, 32, 116, 97, 107, 101, 115, 32, 32, 32, 116, 104, 105, 110, 103, 32, 32, 32, 107, 110, 111, 119, 110, 32, 32, 32, 107, 101, 112, 116])]) hN rfl rfl (by decide) rfl dX7_init_564 ?_
  refine g_dup dX7_init_565 rfl ?_
  refine g_bipush (44) dX7_init_566 rfl ?_
  refine g_bipush (32) dX7_init_568 rfl ?_
  refine i_astL 12 (n := 96) (l := [108, 101, 116, 115, 32, 32, 32, 32, 108, 117, 99, 107, 115, 32, 32, 32, 116, 97, 107, 101, 115, 32, 32, 32, 116, 104, 105, 110, 103, 32, 32, 32, 107, 110, 111, 119, 110, 32, 32, 32, 107, 101, 112, 116]) (as2 := [(6, lf []), (6, lf []), (18, lf []), (160, lf []), (1200, lf []), (24, lf []), (18, lf []), (4, lf []), (4, lf [-1, -1, -1, -1]), (4, lf []), (160, lf []), (32, lf [108, 101, 116, 115, 32, 116, 104, 105, 110, 103, 32, 59, 32, 108, 117, 99, 107, 115, 32, 53, 32, 59, 32, 116, 97, 107, 101, 115, 32, 50, 32, 59]), (96, lf [108, 101, 116, 115, 32, 32, 32, 32, 108, 117, 99, 107, 115, 32, 32, 32, 116, 97, 107, 101, 115, 32, 32, 32, 116, 104, 105, 110, 103, 32, 32, 32, 107, 110, 111, 119, 110, 32, 32, 32, 107, 101, 112, 116, 32])]) hN rfl rfl (by decide) rfl dX7_init_570 ?_
  refine g_dup dX7_init_571 rfl ?_
  refine g_bipush (45) dX7_init_572 rfl ?_
  refine g_bipush (32) dX7_init_574 rfl ?_
  refine i_astL 12 (n := 96) (l := [108, 101, 116, 115, 32, 32, 32, 32, 108, 117, 99, 107, 115, 32, 32, 32, 116, 97, 107, 101, 115, 32, 32, 32, 116, 104, 105, 110, 103, 32, 32, 32, 107, 110, 111, 119, 110, 32, 32, 32, 107, 101, 112, 116, 32]) (as2 := [(6, lf []), (6, lf []), (18, lf []), (160, lf []), (1200, lf []), (24, lf []), (18, lf []), (4, lf []), (4, lf [-1, -1, -1, -1]), (4, lf []), (160, lf []), (32, lf [108, 101, 116, 115, 32, 116, 104, 105, 110, 103, 32, 59, 32, 108, 117, 99, 107, 115, 32, 53, 32, 59, 32, 116, 97, 107, 101, 115, 32, 50, 32, 59]), (96, lf [108, 101, 116, 115, 32, 32, 32, 32, 108, 117, 99, 107, 115, 32, 32, 32, 116, 97, 107, 101, 115, 32, 32, 32, 116, 104, 105, 110, 103, 32, 32, 32, 107, 110, 111, 119, 110, 32, 32, 32, 107, 101, 112, 116, 32, 32])]) hN rfl rfl (by decide) rfl dX7_init_576 ?_
  refine g_dup dX7_init_577 rfl ?_
  refine g_bipush (46) dX7_init_578 rfl ?_
  refine g_pc 580 rfl ?_
  refine g_bipush (32) dX7_init_580 rfl ?_
  refine i_astL 12 (n := 96) (l := [108, 101, 116, 115, 32, 32, 32, 32, 108, 117, 99, 107, 115, 32, 32, 32, 116, 97, 107, 101, 115, 32, 32, 32, 116, 104, 105, 110, 103, 32, 32, 32, 107, 110, 111, 119, 110, 32, 32, 32, 107, 101, 112, 116, 32, 32]) (as2 := [(6, lf []), (6, lf []), (18, lf []), (160, lf []), (1200, lf []), (24, lf []), (18, lf []), (4, lf []), (4, lf [-1, -1, -1, -1]), (4, lf []), (160, lf []), (32, lf [108, 101, 116, 115, 32, 116, 104, 105, 110, 103, 32, 59, 32, 108, 117, 99, 107, 115, 32, 53, 32, 59, 32, 116, 97, 107, 101, 115, 32, 50, 32, 59]), (96, lf [108, 101, 116, 115, 32, 32, 32, 32, 108, 117, 99, 107, 115, 32, 32, 32, 116, 97, 107, 101, 115, 32, 32, 32, 116, 104, 105, 110, 103, 32, 32, 32, 107, 110, 111, 119, 110, 32, 32, 32, 107, 101, 112, 116, 32, 32, 32])]) hN rfl rfl (by decide) rfl dX7_init_582 ?_
  refine g_dup dX7_init_583 rfl ?_
  refine g_bipush (47) dX7_init_584 rfl ?_
  refine g_bipush (32) dX7_init_586 rfl ?_
  refine i_astL 12 (n := 96) (l := [108, 101, 116, 115, 32, 32, 32, 32, 108, 117, 99, 107, 115, 32, 32, 32, 116, 97, 107, 101, 115, 32, 32, 32, 116, 104, 105, 110, 103, 32, 32, 32, 107, 110, 111, 119, 110, 32, 32, 32, 107, 101, 112, 116, 32, 32, 32]) (as2 := [(6, lf []), (6, lf []), (18, lf []), (160, lf []), (1200, lf []), (24, lf []), (18, lf []), (4, lf []), (4, lf [-1, -1, -1, -1]), (4, lf []), (160, lf []), (32, lf [108, 101, 116, 115, 32, 116, 104, 105, 110, 103, 32, 59, 32, 108, 117, 99, 107, 115, 32, 53, 32, 59, 32, 116, 97, 107, 101, 115, 32, 50, 32, 59]), (96, lf [108, 101, 116, 115, 32, 32, 32, 32, 108, 117, 99, 107, 115, 32, 32, 32, 116, 97, 107, 101, 115, 32, 32, 32, 116, 104, 105, 110, 103, 32, 32, 32, 107, 110, 111, 119, 110, 32, 32, 32, 107, 101, 112, 116, 32, 32, 32, 32])]) hN rfl rfl (by decide) rfl dX7_init_588 ?_
  refine g_dup dX7_init_589 rfl ?_
  refine g_bipush (48) dX7_init_590 rfl ?_
  refine g_bipush (116) dX7_init_592 rfl ?_
  refine i_astL 12 (n := 96) (l := [108, 101, 116, 115, 32, 32, 32, 32, 108, 117, 99, 107, 115, 32, 32, 32, 116, 97, 107, 101, 115, 32, 32, 32, 116, 104, 105, 110, 103, 32, 32, 32, 107, 110, 111, 119, 110, 32, 32, 32, 107, 101, 112, 116, 32, 32, 32, 32]) (as2 := [(6, lf []), (6, lf []), (18, lf []), (160, lf []), (1200, lf []), (24, lf []), (18, lf []), (4, lf []), (4, lf [-1, -1, -1, -1]), (4, lf []), (160, lf []), (32, lf [108, 101, 116, 115, 32, 116, 104, 105, 110, 103, 32, 59, 32, 108, 117, 99, 107, 115, 32, 53, 32, 59, 32, 116, 97, 107, 101, 115, 32, 50, 32, 59]), (96, lf [108, 101, 116, 115, 32, 32, 32, 32, 108, 117, 99, 107, 115, 32, 32, 32, 116, 97, 107, 101, 115, 32, 32, 32, 116, 104, 105, 110, 103, 32, 32, 32, 107, 110, 111, 119, 110, 32, 32, 32, 107, 101, 112, 116, 32, 32, 32, 32, 116])]) hN rfl rfl (by decide) rfl dX7_init_594 ?_
  refine g_dup dX7_init_595 rfl ?_
  refine g_bipush (49) dX7_init_596 rfl ?_
  refine g_pc 598 rfl ?_
  refine g_bipush (105) dX7_init_598 rfl ?_
  refine i_astL 12 (n := 96) (l := [108, 101, 116, 115, 32, 32, 32, 32, 108, 117, 99, 107, 115, 32, 32, 32, 116, 97, 107, 101, 115, 32, 32, 32, 116, 104, 105, 110, 103, 32, 32, 32, 107, 110, 111, 119, 110, 32, 32, 32, 107, 101, 112, 116, 32, 32, 32, 32, 116]) (as2 := [(6, lf []), (6, lf []), (18, lf []), (160, lf []), (1200, lf []), (24, lf []), (18, lf []), (4, lf []), (4, lf [-1, -1, -1, -1]), (4, lf []), (160, lf []), (32, lf [108, 101, 116, 115, 32, 116, 104, 105, 110, 103, 32, 59, 32, 108, 117, 99, 107, 115, 32, 53, 32, 59, 32, 116, 97, 107, 101, 115, 32, 50, 32, 59]), (96, lf [108, 101, 116, 115, 32, 32, 32, 32, 108, 117, 99, 107, 115, 32, 32, 32, 116, 97, 107, 101, 115, 32, 32, 32, 116, 104, 105, 110, 103, 32, 32, 32, 107, 110, 111, 119, 110, 32, 32, 32, 107, 101, 112, 116, 32, 32, 32, 32, 116, 105])]) hN rfl rfl (by decide) rfl dX7_init_600 ?_
  refine g_dup dX7_init_601 rfl ?_
  refine g_bipush (50) dX7_init_602 rfl ?_
  refine g_bipush (100) dX7_init_604 rfl ?_
  refine i_astL 12 (n := 96) (l := [108, 101, 116, 115, 32, 32, 32, 32, 108, 117, 99, 107, 115, 32, 32, 32, 116, 97, 107, 101, 115, 32, 32, 32, 116, 104, 105, 110, 103, 32, 32, 32, 107, 110, 111, 119, 110, 32, 32, 32, 107, 101, 112, 116, 32, 32, 32, 32, 116, 105]) (as2 := [(6, lf []), (6, lf []), (18, lf []), (160, lf []), (1200, lf []), (24, lf []), (18, lf []), (4, lf []), (4, lf [-1, -1, -1, -1]), (4, lf []), (160, lf []), (32, lf [108, 101, 116, 115, 32, 116, 104, 105, 110, 103, 32, 59, 32, 108, 117, 99, 107, 115, 32, 53, 32, 59, 32, 116, 97, 107, 101, 115, 32, 50, 32, 59]), (96, lf [108, 101, 116, 115, 32, 32, 32, 32, 108, 117, 99, 107, 115, 32, 32, 32, 116, 97, 107, 101, 115, 32, 32, 32, 116, 104, 105, 110, 103, 32, 32, 32, 107, 110, 111, 119, 110, 32, 32, 32, 107, 101, 112, 116, 32, 32, 32, 32, 116, 105, 100])]) hN rfl rfl (by decide) rfl dX7_init_606 ?_
  refine g_dup dX7_init_607 rfl ?_
  refine g_bipush (51) dX7_init_608 rfl ?_
  refine g_bipush (101) dX7_init_610 rfl ?_
  refine i_astL 12 (n := 96) (l := [108, 101, 116, 115, 32, 32, 32, 32, 108, 117, 99, 107, 115, 32, 32, 32, 116, 97, 107, 101, 115, 32, 32, 32, 116, 104, 105, 110, 103, 32, 32, 32, 107, 110, 111, 119, 110, 32, 32, 32, 107, 101, 112, 116, 32, 32, 32, 32, 116, 105, 100]) (as2 := [(6, lf []), (6, lf []), (18, lf []), (160, lf []), (1200, lf []), (24, lf []), (18, lf []), (4, lf []), (4, lf [-1, -1, -1, -1]), (4, lf []), (160, lf []), (32, lf [108, 101, 116, 115, 32, 116, 104, 105, 110, 103, 32, 59, 32, 108, 117, 99, 107, 115, 32, 53, 32, 59, 32, 116, 97, 107, 101, 115, 32, 50, 32, 59]), (96, lf [108, 101, 116, 115, 32, 32, 32, 32, 108, 117, 99, 107, 115, 32, 32, 32, 116, 97, 107, 101, 115, 32, 32, 32, 116, 104, 105, 110, 103, 32, 32, 32, 107, 110, 111, 119, 110, 32, 32, 32, 107, 101, 112, 116, 32, 32, 32, 32, 116, 105, 100, 101])]) hN rfl rfl (by decide) rfl dX7_init_612 ?_
  refine g_dup dX7_init_613 rfl ?_
  refine g_bipush (52) dX7_init_614 rfl ?_
  refine g_pc 616 rfl ?_
  refine g_bipush (32) dX7_init_616 rfl ?_
  refine i_astL 12 (n := 96) (l := [108, 101, 116, 115, 32, 32, 32, 32, 108, 117, 99, 107, 115, 32, 32, 32, 116, 97, 107, 101, 115, 32, 32, 32, 116, 104, 105, 110, 103, 32, 32, 32, 107, 110, 111, 119, 110, 32, 32, 32, 107, 101, 112, 116, 32, 32, 32, 32, 116, 105, 100, 101]) (as2 := [(6, lf []), (6, lf []), (18, lf []), (160, lf []), (1200, lf []), (24, lf []), (18, lf []), (4, lf []), (4, lf [-1, -1, -1, -1]), (4, lf []), (160, lf []), (32, lf [108, 101, 116, 115, 32, 116, 104, 105, 110, 103, 32, 59, 32, 108, 117, 99, 107, 115, 32, 53, 32, 59, 32, 116, 97, 107, 101, 115, 32, 50, 32, 59]), (96, lf [108, 101, 116, 115, 32, 32, 32, 32, 108, 117, 99, 107, 115, 32, 32, 32, 116, 97, 107, 101, 115, 32, 32, 32, 116, 104, 105, 110, 103, 32, 32, 32, 107, 110, 111, 119, 110, 32, 32, 32, 107, 101, 112, 116, 32, 32, 32, 32, 116, 105, 100, 101, 32])]) hN rfl rfl (by decide) rfl dX7_init_618 ?_
  refine g_dup dX7_init_619 rfl ?_
  refine g_bipush (53) dX7_init_620 rfl ?_
  refine g_bipush (32) dX7_init_622 rfl ?_
  refine i_astL 12 (n := 96) (l := [108, 101, 116, 115, 32, 32, 32, 32, 108, 117, 99, 107, 115, 32, 32, 32, 116, 97, 107, 101, 115, 32, 32, 32, 116, 104, 105, 110, 103, 32, 32, 32, 107, 110, 111, 119, 110, 32, 32, 32, 107, 101, 112, 116, 32, 32, 32, 32, 116, 105, 100, 101, 32]) (as2 := [(6, lf []), (6, lf []), (18, lf []), (160, lf []), (1200, lf []), (24, lf []), (18, lf []), (4, lf []), (4, lf [-1, -1, -1, -1]), (4, lf []), (160, lf []), (32, lf [108, 101, 116, 115, 32, 116, 104, 105, 110, 103, 32, 59, 32, 108, 117, 99, 107, 115, 32, 53, 32, 59, 32, 116, 97, 107, 101, 115, 32, 50, 32, 59]), (96, lf [108, 101, 116, 115, 32, 32, 32, 32, 108, 117, 99, 107, 115, 32, 32, 32, 116, 97, 107, 101, 115, 32, 32, 32, 116, 104, 105, 110, 103, 32, 32, 32, 107, 110, 111, 119, 110, 32, 32, 32, 107, 101, 112, 116, 32, 32, 32, 32, 116, 105, 100, 101, 32, 32])]) hN rfl rfl (by decide) rfl dX7_init_624 ?_
  refine g_dup dX7_init_625 rfl ?_
  refine g_bipush (54) dX7_init_626 rfl ?_
  refine g_bipush (32) dX7_init_628 rfl ?_
  refine i_astL 12 (n := 96) (l := [108, 101, 116, 115, 32, 32, 32, 32, 108, 117, 99, 107, 115, 32, 32, 32, 116, 97, 107, 101, 115, 32, 32, 32, 116, 104, 105, 110, 103, 32, 32, 32, 107, 110, 111, 119, 110, 32, 32, 32, 107, 101, 112, 116, 32, 32, 32, 32, 116, 105, 100, 101, 32, 32]) (as2 := [(6, lf []), (6, lf []), (18, lf []), (160, lf []), (1200, lf []), (24, lf []), (18, lf []), (4, lf []), (4, lf [-1, -1, -1, -1]), (4, lf []), (160, lf []), (32, lf [108, 101, 116, 115, 32, 116, 104, 105, 110, 103, 32, 59, 32, 108, 117, 99, 107, 115, 32, 53, 32, 59, 32, 116, 97, 107, 101, 115, 32, 50, 32, 59]), (96, lf [108, 101, 116, 115, 32, 32, 32, 32, 108, 117, 99, 107, 115, 32, 32, 32, 116, 97, 107, 101, 115, 32, 32, 32, 116, 104, 105, 110, 103, 32, 32, 32, 107, 110, 111, 119, 110, 32, 32, 32, 107, 101, 112, 116, 32, 32, 32, 32, 116, 105, 100, 101, 32, 32, 32])]) hN rfl rfl (by decide) rfl dX7_init_630 ?_
  refine g_dup dX7_init_631 rfl ?_
  refine g_bipush (55) dX7_init_632 rfl ?_
  refine g_pc 634 rfl ?_
  refine g_bipush (32) dX7_init_634 rfl ?_
  refine i_astL 12 (n := 96) (l := [108, 101, 116, 115, 32, 32, 32, 32, 108, 117, 99, 107, 115, 32, 32, 32, 116, 97, 107, 101, 115, 32, 32, 32, 116, 104, 105, 110, 103, 32, 32, 32, 107, 110, 111, 119, 110, 32, 32, 32, 107, 101, 112, 116, 32, 32, 32, 32, 116, 105, 100, 101, 32, 32, 32]) (as2 := [(6, lf []), (6, lf []), (18, lf []), (160, lf []), (1200, lf []), (24, lf []), (18, lf []), (4, lf []), (4, lf [-1, -1, -1, -1]), (4, lf []), (160, lf []), (32, lf [108, 101, 116, 115, 32, 116, 104, 105, 110, 103, 32, 59, 32, 108, 117, 99, 107, 115, 32, 53, 32, 59, 32, 116, 97, 107, 101, 115, 32, 50, 32, 59]), (96, lf [108, 101, 116, 115, 32, 32, 32, 32, 108, 117, 99, 107, 115, 32, 32, 32, 116, 97, 107, 101, 115, 32, 32, 32, 116, 104, 105, 110, 103, 32, 32, 32, 107, 110, 111, 119, 110, 32, 32, 32, 107, 101, 112, 116, 32, 32, 32, 32, 116, 105, 100, 101, 32, 32, 32, 32])]) hN rfl rfl (by decide) rfl dX7_init_636 ?_
  refine g_dup dX7_init_637 rfl ?_
  refine g_bipush (56) dX7_init_638 rfl ?_
  refine g_bipush (108) dX7_init_640 rfl ?_
  refine i_astL 12 (n := 96) (l := [108, 101, 116, 115, 32, 32, 32, 32, 108, 117, 99, 107, 115, 32, 32, 32, 116, 97, 107, 101, 115, 32, 32, 32, 116, 104, 105, 110, 103, 32, 32, 32, 107, 110, 111, 119, 110, 32, 32, 32, 107, 101, 112, 116, 32, 32, 32, 32, 116, 105, 100, 101, 32, 32, 32, 32]) (as2 := [(6, lf []), (6, lf []), (18, lf []), (160, lf []), (1200, lf []), (24, lf []), (18, lf []), (4, lf []), (4, lf [-1, -1, -1, -1]), (4, lf []), (160, lf []), (32, lf [108, 101, 116, 115, 32, 116, 104, 105, 110, 103, 32, 59, 32, 108, 117, 99, 107, 115, 32, 53, 32, 59, 32, 116, 97, 107, 101, 115, 32, 50, 32, 59]), (96, lf [108, 101, 116, 115, 32, 32, 32, 32, 108, 117, 99, 107, 115, 32, 32, 32, 116, 97, 107, 101, 115, 32, 32, 32, 116, 104, 105, 110, 103, 32, 32, 32, 107, 110, 111, 119, 110, 32, 32, 32, 107, 101, 112, 116, 32, 32, 32, 32, 116, 105, 100, 101, 32, 32, 32, 32, 108])]) hN rfl rfl (by decide) rfl dX7_init_642 ?_
  refine g_dup dX7_init_643 rfl ?_
  refine g_bipush (57) dX7_init_644 rfl ?_
  refine g_bipush (117) dX7_init_646 rfl ?_
  refine i_astL 12 (n := 96) (l := [108, 101, 116, 115, 32, 32, 32, 32, 108, 117, 99, 107, 115, 32, 32, 32, 116, 97, 107, 101, 115, 32, 32, 32, 116, 104, 105, 110, 103, 32, 32, 32, 107, 110, 111, 119, 110, 32, 32, 32, 107, 101, 112, 116, 32, 32, 32, 32, 116, 105, 100, 101, 32, 32, 32, 32, 108]) (as2 := [(6, lf []), (6, lf []), (18, lf []), (160, lf []), (1200, lf []), (24, lf []), (18, lf []), (4, lf []), (4, lf [-1, -1, -1, -1]), (4, lf []), (160, lf []), (32, lf [108, 101, 116, 115, 32, 116, 104, 105, 110, 103, 32, 59, 32, 108, 117, 99, 107, 115, 32, 53, 32, 59, 32, 116, 97, 107, 101, 115, 32, 50, 32, 59]), (96, lf [108, 101, 116, 115, 32, 32, 32, 32, 108, 117, 99, 107, 115, 32, 32, 32, 116, 97, 107, 101, 115, 32, 32, 32, 116, 104, 105, 110, 103, 32, 32, 32, 107, 110, 111, 119, 110, 32, 32, 32, 107, 101, 112, 116, 32, 32, 32, 32, 116, 105, 100, 101, 32, 32, 32, 32, 108, 117])]) hN rfl rfl (by decide) rfl dX7_init_648 ?_
  refine g_dup dX7_init_649 rfl ?_
  refine g_bipush (58) dX7_init_650 rfl ?_
  refine g_pc 652 rfl ?_
  refine g_bipush (99) dX7_init_652 rfl ?_
  refine i_astL 12 (n := 96) (l := [108, 101, 116, 115, 32, 32, 32, 32, 108, 117, 99, 107, 115, 32, 32, 32, 116, 97, 107, 101, 115, 32, 32, 32, 116, 104, 105, 110, 103, 32, 32, 32, 107, 110, 111, 119, 110, 32, 32, 32, 107, 101, 112, 116, 32, 32, 32, 32, 116, 105, 100, 101, 32, 32, 32, 32, 108, 117]) (as2 := [(6, lf []), (6, lf []), (18, lf []), (160, lf []), (1200, lf []), (24, lf []), (18, lf []), (4, lf []), (4, lf [-1, -1, -1, -1]), (4, lf []), (160, lf []), (32, lf [108, 101, 116, 115, 32, 116, 104, 105, 110, 103, 32, 59, 32, 108, 117, 99, 107, 115, 32, 53, 32, 59, 32, 116, 97, 107, 101, 115, 32, 50, 32, 59]), (96, lf [108, 101, 116, 115, 32, 32, 32, 32, 108, 117, 99, 107, 115, 32, 32, 32, 116, 97, 107, 101, 115, 32, 32, 32, 116, 104, 105, 110, 103, 32, 32, 32, 107, 110, 111, 119, 110, 32, 32, 32, 107, 101, 112, 116, 32, 32, 32, 32, 116, 105, 100, 101, 32, 32, 32, 32, 108, 117, 99])]) hN rfl rfl (by decide) rfl dX7_init_654 ?_
  refine g_dup dX7_init_655 rfl ?_
  refine g_bipush (59) dX7_init_656 rfl ?_
  refine g_bipush (107) dX7_init_658 rfl ?_
  refine i_astL 12 (n := 96) (l := [108, 101, 116, 115, 32, 32, 32, 32, 108, 117, 99, 107, 115, 32, 32, 32, 116, 97, 107, 101, 115, 32, 32, 32, 116, 104, 105, 110, 103, 32, 32, 32, 107, 110, 111, 119, 110, 32, 32, 32, 107, 101, 112, 116, 32, 32, 32, 32, 116, 105, 100, 101, 32, 32, 32, 32, 108, 117, 99]) (as2 := [(6, lf []), (6, lf []), (18, lf []), (160, lf []), (1200, lf []), (24, lf []), (18, lf []), (4, lf []), (4, lf [-1, -1, -1, -1]), (4, lf []), (160, lf []), (32, lf [108, 101, 116, 115, 32, 116, 104, 105, 110, 103, 32, 59, 32, 108, 117, 99, 107, 115, 32, 53, 32, 59, 32, 116, 97, 107, 101, 115, 32, 50, 32, 59]), (96, lf [108, 101, 116, 115, 32, 32, 32, 32, 108, 117, 99, 107, 115, 32, 32, 32, 116, 97, 107, 101, 115, 32, 32, 32, 116, 104, 105, 110, 103, 32, 32, 32, 107, 110, 111, 119, 110, 32, 32, 32, 107, 101, 112, 116, 32, 32, 32, 32, 116, 105, 100, 101, 32, 32, 32, 32, 108, 117, 99, 107])]) hN rfl rfl (by decide) rfl dX7_init_660 ?_
  refine g_dup dX7_init_661 rfl ?_
  refine g_bipush (60) dX7_init_662 rfl ?_
  refine g_bipush (32) dX7_init_664 rfl ?_
  refine i_astL 12 (n := 96) (l := [108, 101, 116, 115, 32, 32, 32, 32, 108, 117, 99, 107, 115, 32, 32, 32, 116, 97, 107, 101, 115, 32, 32, 32, 116, 104, 105, 110, 103, 32, 32, 32, 107, 110, 111, 119, 110, 32, 32, 32, 107, 101, 112, 116, 32, 32, 32, 32, 116, 105, 100, 101, 32, 32, 32, 32, 108, 117, 99, 107]) (as2 := [(6, lf []), (6, lf []), (18, lf []), (160, lf []), (1200, lf []), (24, lf []), (18, lf []), (4, lf []), (4, lf [-1, -1, -1, -1]), (4, lf []), (160, lf []), (32, lf [108, 101, 116, 115, 32, 116, 104, 105, 110, 103, 32, 59, 32, 108, 117, 99, 107, 115, 32, 53, 32, 59, 32, 116, 97, 107, 101, 115, 32, 50, 32, 59]), (96, lf [108, 101, 116, 115, 32, 32, 32, 32, 108, 117, 99, 107, 115, 32, 32, 32, 116, 97, 107, 101, 115, 32, 32, 32, 116, 104, 105, 110, 103, 32, 32, 32, 107, 110, 111, 119, 110, 32, 32, 32, 107, 101, 112, 116, 32, 32, 32, 32, 116, 105, 100, 101, 32, 32, 32, 32, 108, 117, 99, 107, 32])]) hN rfl rfl (by decide) rfl dX7_init_666 ?_
  refine g_dup dX7_init_667 rfl ?_
  refine g_bipush (61) dX7_init_668 rfl ?_
  refine g_pc 670 rfl ?_
  refine g_bipush (32) dX7_init_670 rfl ?_
  refine i_astL 12 (n := 96) (l := [108, 101, 116, 115, 32, 32, 32, 32, 108, 117, 99, 107, 115, 32, 32, 32, 116, 97, 107, 101, 115, 32, 32, 32, 116, 104, 105, 110, 103, 32, 32, 32, 107, 110, 111, 119, 110, 32, 32, 32, 107, 101, 112, 116, 32, 32, 32, 32, 116, 105, 100, 101, 32, 32, 32, 32, 108, 117, 99, 107, 32]) (as2 := [(6, lf []), (6, lf []), (18, lf []), (160, lf []), (1200, lf []), (24, lf []), (18, lf []), (4, lf []), (4, lf [-1, -1, -1, -1]), (4, lf []), (160, lf []), (32, lf [108, 101, 116, 115, 32, 116, 104, 105, 110, 103, 32, 59, 32, 108, 117, 99, 107, 115, 32, 53, 32, 59, 32, 116, 97, 107, 101, 115, 32, 50, 32, 59]), (96, lf [108, 101, 116, 115, 32, 32, 32, 32, 108, 117, 99, 107, 115, 32, 32, 32, 116, 97, 107, 101, 115, 32, 32, 32, 116, 104, 105, 110, 103, 32, 32, 32, 107, 110, 111, 119, 110, 32, 32, 32, 107, 101, 112, 116, 32, 32, 32, 32, 116, 105, 100, 101, 32, 32, 32, 32, 108, 117, 99, 107, 32, 32])]) hN rfl rfl (by decide) rfl dX7_init_672 ?_
  refine g_dup dX7_init_673 rfl ?_
  refine g_bipush (62) dX7_init_674 rfl ?_
  refine g_bipush (32) dX7_init_676 rfl ?_
  refine i_astL 12 (n := 96) (l := [108, 101, 116, 115, 32, 32, 32, 32, 108, 117, 99, 107, 115, 32, 32, 32, 116, 97, 107, 101, 115, 32, 32, 32, 116, 104, 105, 110, 103, 32, 32, 32, 107, 110, 111, 119, 110, 32, 32, 32, 107, 101, 112, 116, 32, 32, 32, 32, 116, 105, 100, 101, 32, 32, 32, 32, 108, 117, 99, 107, 32, 32]) (as2 := [(6, lf []), (6, lf []), (18, lf []), (160, lf []), (1200, lf []), (24, lf []), (18, lf []), (4, lf []), (4, lf [-1, -1, -1, -1]), (4, lf []), (160, lf []), (32, lf [108, 101, 116, 115, 32, 116, 104, 105, 110, 103, 32, 59, 32, 108, 117, 99, 107, 115, 32, 53, 32, 59, 32, 116, 97, 107, 101, 115, 32, 50, 32, 59]), (96, lf [108, 101, 116, 115, 32, 32, 32, 32, 108, 117, 99, 107, 115, 32, 32, 32, 116, 97, 107, 101, 115, 32, 32, 32, 116, 104, 105, 110, 103, 32, 32, 32, 107, 110, 111, 119, 110, 32, 32, 32, 107, 101, 112, 116, 32, 32, 32, 32, 116, 105, 100, 101, 32, 32, 32, 32, 108, 117, 99, 107, 32, 32, 32])]) hN rfl rfl (by decide) rfl dX7_init_678 ?_
  refine g_dup dX7_init_679 rfl ?_
  refine g_bipush (63) dX7_init_680 rfl ?_
  refine g_bipush (32) dX7_init_682 rfl ?_
  refine i_astL 12 (n := 96) (l := [108, 101, 116, 115, 32, 32, 32, 32, 108, 117, 99, 107, 115, 32, 32, 32, 116, 97, 107, 101, 115, 32, 32, 32, 116, 104, 105, 110, 103, 32, 32, 32, 107, 110, 111, 119, 110, 32, 32, 32, 107, 101, 112, 116, 32, 32, 32, 32, 116, 105, 100, 101, 32, 32, 32, 32, 108, 117, 99, 107, 32, 32, 32]) (as2 := [(6, lf []), (6, lf []), (18, lf []), (160, lf []), (1200, lf []), (24, lf []), (18, lf []), (4, lf []), (4, lf [-1, -1, -1, -1]), (4, lf []), (160, lf []), (32, lf [108, 101, 116, 115, 32, 116, 104, 105, 110, 103, 32, 59, 32, 108, 117, 99, 107, 115, 32, 53, 32, 59, 32, 116, 97, 107, 101, 115, 32, 50, 32, 59]), (96, lf [108, 101, 116, 115, 32, 32, 32, 32, 108, 117, 99, 107, 115, 32, 32, 32, 116, 97, 107, 101, 115, 32, 32, 32, 116, 104, 105, 110, 103, 32, 32, 32, 107, 110, 111, 119, 110, 32, 32, 32, 107, 101, 112, 116, 32, 32, 32, 32, 116, 105, 100, 101, 32, 32, 32, 32, 108, 117, 99, 107, 32, 32, 32, 32])]) hN rfl rfl (by decide) rfl dX7_init_684 ?_
  refine g_dup dX7_init_685 rfl ?_
  refine g_bipush (64) dX7_init_686 rfl ?_
  refine g_pc 688 rfl ?_
  refine g_bipush (109) dX7_init_688 rfl ?_
  refine i_astL 12 (n := 96) (l := [108, 101, 116, 115, 32, 32, 32, 32, 108, 117, 99, 107, 115, 32, 32, 32, 116, 97, 107, 101, 115, 32, 32, 32, 116, 104, 105, 110, 103, 32, 32, 32, 107, 110, 111, 119, 110, 32, 32, 32, 107, 101, 112, 116, 32, 32, 32, 32, 116, 105, 100, 101, 32, 32, 32, 32, 108, 117, 99, 107, 32, 32, 32, 32]) (as2 := [(6, lf []), (6, lf []), (18, lf []), (160, lf []), (1200, lf []), (24, lf []), (18, lf []), (4, lf []), (4, lf [-1, -1, -1, -1]), (4, lf []), (160, lf []), (32, lf [108, 101, 116, 115, 32, 116, 104, 105, 110, 103, 32, 59, 32, 108, 117, 99, 107, 115, 32, 53, 32, 59, 32, 116, 97, 107, 101, 115, 32, 50, 32, 59]), (96, lf [108, 101, 116, 115, 32, 32, 32, 32, 108, 117, 99, 107, 115, 32, 32, 32, 116, 97, 107, 101, 115, 32, 32, 32, 116, 104, 105, 110, 103, 32, 32, 32, 107, 110, 111, 119, 110, 32, 32, 32, 107, 101, 112, 116, 32, 32, 32, 32, 116, 105, 100, 101, 32, 32, 32, 32, 108, 117, 99, 107, 32, 32, 32, 32, 109])]) hN rfl rfl (by decide) rfl dX7_init_690 ?_
  refine g_dup dX7_init_691 rfl ?_
  refine g_bipush (65) dX7_init_692 rfl ?_
  refine g_bipush (111) dX7_init_694 rfl ?_
  refine i_astL 12 (n := 96) (l := [108, 101, 116, 115, 32, 32, 32, 32, 108, 117, 99, 107, 115, 32, 32, 32, 116, 97, 107, 101, 115, 32, 32, 32, 116, 104, 105, 110, 103, 32, 32, 32, 107, 110, 111, 119, 110, 32, 32, 32, 107, 101, 112, 116, 32, 32, 32, 32, 116, 105, 100, 101, 32, 32, 32, 32, 108, 117, 99, 107, 32, 32, 32, 32, 109]) (as2 := [(6, lf []), (6, lf []), (18, lf []), (160, lf []), (1200, lf []), (24, lf []), (18, lf []), (4, lf []), (4, lf [-1, -1, -1, -1]), (4, lf []), (160, lf []), (32, lf [108, 101, 116, 115, 32, 116, 104, 105, 110, 103, 32, 59, 32, 108, 117, 99, 107, 115, 32, 53, 32, 59, 32, 116, 97, 107, 101, 115, 32, 50, 32, 59]), (96, lf [108, 101, 116, 115, 32, 32, 32, 32, 108, 117, 99, 107, 115, 32, 32, 32, 116, 97, 107, 101, 115, 32, 32, 32, 116, 104, 105, 110, 103, 32, 32, 32, 107, 110, 111, 119, 110, 32, 32, 32, 107, 101, 112, 116, 32, 32, 32, 32, 116, 105, 100, 101, 32, 32, 32, 32, 108, 117, 99, 107, 32, 32, 32, 32, 109, 111])]) hN rfl rfl (by decide) rfl dX7_init_696 ?_
  refine g_dup dX7_init_697 rfl ?_
  refine g_bipush (66) dX7_init_698 rfl ?_
  refine g_bipush (114) dX7_init_700 rfl ?_
  refine i_astL 12 (n := 96) (l := [108, 101, 116, 115, 32, 32, 32, 32, 108, 117, 99, 107, 115, 32, 32, 32, 116, 97, 107, 101, 115, 32, 32, 32, 116, 104, 105, 110, 103, 32, 32, 32, 107, 110, 111, 119, 110, 32, 32, 32, 107, 101, 112, 116, 32, 32, 32, 32, 116, 105, 100, 101, 32, 32, 32, 32, 108, 117, 99, 107, 32, 32, 32, 32, 109, 111]) (as2 := [(6, lf []), (6, lf []), (18, lf []), (160, lf []), (1200, lf []), (24, lf []), (18, lf []), (4, lf []), (4, lf [-1, -1, -1, -1]), (4, lf []), (160, lf []), (32, lf [108, 101, 116, 115, 32, 116, 104, 105, 110, 103, 32, 59, 32, 108, 117, 99, 107, 115, 32, 53, 32, 59, 32, 116, 97, 107, 101, 115, 32, 50, 32, 59]), (96, lf [108, 101, 116, 115, 32, 32, 32, 32, 108, 117, 99, 107, 115, 32, 32, 32, 116, 97, 107, 101, 115, 32, 32, 32, 116, 104, 105, 110, 103, 32, 32, 32, 107, 110, 111, 119, 110, 32, 32, 32, 107, 101, 112, 116, 32, 32, 32, 32, 116, 105, 100, 101, 32, 32, 32, 32, 108, 117, 99, 107, 32, 32, 32, 32, 109, 111, 114])]) hN rfl rfl (by decide) rfl dX7_init_702 ?_
  refine g_dup dX7_init_703 rfl ?_
  refine g_bipush (67) dX7_init_704 rfl ?_
  refine g_pc 706 rfl ?_
  refine g_bipush (101) dX7_init_706 rfl ?_
  refine i_astL 12 (n := 96) (l := [108, 101, 116, 115, 32, 32, 32, 32, 108, 117, 99, 107, 115, 32, 32, 32, 116, 97, 107, 101, 115, 32, 32, 32, 116, 104, 105, 110, 103, 32, 32, 32, 107, 110, 111, 119, 110, 32, 32, 32, 107, 101, 112, 116, 32, 32, 32, 32, 116, 105, 100, 101, 32, 32, 32, 32, 108, 117, 99, 107, 32, 32, 32, 32, 109, 111, 114]) (as2 := [(6, lf []), (6, lf []), (18, lf []), (160, lf []), (1200, lf []), (24, lf []), (18, lf []), (4, lf []), (4, lf [-1, -1, -1, -1]), (4, lf []), (160, lf []), (32, lf [108, 101, 116, 115, 32, 116, 104, 105, 110, 103, 32, 59, 32, 108, 117, 99, 107, 115, 32, 53, 32, 59, 32, 116, 97, 107, 101, 115, 32, 50, 32, 59]), (96, lf [108, 101, 116, 115, 32, 32, 32, 32, 108, 117, 99, 107, 115, 32, 32, 32, 116, 97, 107, 101, 115, 32, 32, 32, 116, 104, 105, 110, 103, 32, 32, 32, 107, 110, 111, 119, 110, 32, 32, 32, 107, 101, 112, 116, 32, 32, 32, 32, 116, 105, 100, 101, 32, 32, 32, 32, 108, 117, 99, 107, 32, 32, 32, 32, 109, 111, 114, 101])]) hN rfl rfl (by decide) rfl dX7_init_708 ?_
  refine g_dup dX7_init_709 rfl ?_
  refine g_bipush (68) dX7_init_710 rfl ?_
  refine g_bipush (32) dX7_init_712 rfl ?_
  refine i_astL 12 (n := 96) (l := [108, 101, 116, 115, 32, 32, 32, 32, 108, 117, 99, 107, 115, 32, 32, 32, 116, 97, 107, 101, 115, 32, 32, 32, 116, 104, 105, 110, 103, 32, 32, 32, 107, 110, 111, 119, 110, 32, 32, 32, 107, 101, 112, 116, 32, 32, 32, 32, 116, 105, 100, 101, 32, 32, 32, 32, 108, 117, 99, 107, 32, 32, 32, 32, 109, 111, 114, 101]) (as2 := [(6, lf []), (6, lf []), (18, lf []), (160, lf []), (1200, lf []), (24, lf []), (18, lf []), (4, lf []), (4, lf [-1, -1, -1, -1]), (4, lf []), (160, lf []), (32, lf [108, 101, 116, 115, 32, 116, 104, 105, 110, 103, 32, 59, 32, 108, 117, 99, 107, 115, 32, 53, 32, 59, 32, 116, 97, 107, 101, 115, 32, 50, 32, 59]), (96, lf [108, 101, 116, 115, 32, 32, 32, 32, 108, 117, 99, 107, 115, 32, 32, 32, 116, 97, 107, 101, 115, 32, 32, 32, 116, 104, 105, 110, 103, 32, 32, 32, 107, 110, 111, 119, 110, 32, 32, 32, 107, 101, 112, 116, 32, 32, 32, 32, 116, 105, 100, 101, 32, 32, 32, 32, 108, 117, 99, 107, 32, 32, 32, 32, 109, 111, 114, 101, 32])]) hN rfl rfl (by decide) rfl dX7_init_714 ?_
  refine g_dup dX7_init_715 rfl ?_
  refine g_bipush (69) dX7_init_716 rfl ?_
  refine g_bipush (32) dX7_init_718 rfl ?_
  refine i_astL 12 (n := 96) (l := [108, 101, 116, 115, 32, 32, 32, 32, 108, 117, 99, 107, 115, 32, 32, 32, 116, 97, 107, 101, 115, 32, 32, 32, 116, 104, 105, 110, 103, 32, 32, 32, 107, 110, 111, 119, 110, 32, 32, 32, 107, 101, 112, 116, 32, 32, 32, 32, 116, 105, 100, 101, 32, 32, 32, 32, 108, 117, 99, 107, 32, 32, 32, 32, 109, 111, 114, 101, 32]) (as2 := [(6, lf []), (6, lf []), (18, lf []), (160, lf []), (1200, lf []), (24, lf []), (18, lf []), (4, lf []), (4, lf [-1, -1, -1, -1]), (4, lf []), (160, lf []), (32, lf [108, 101, 116, 115, 32, 116, 104, 105, 110, 103, 32, 59, 32, 108, 117, 99, 107, 115, 32, 53, 32, 59, 32, 116, 97, 107, 101, 115, 32, 50, 32, 59]), (96, lf [108, 101, 116, 115, 32, 32, 32, 32, 108, 117, 99, 107, 115, 32, 32, 32, 116, 97, 107, 101, 115, 32, 32, 32, 116, 104, 105, 110, 103, 32, 32, 32, 107, 110, 111, 119, 110, 32, 32, 32, 107, 101, 112, 116, 32, 32, 32, 32, 116, 105, 100, 101, 32, 32, 32, 32, 108, 117, 99, 107, 32, 32, 32, 32, 109, 111, 114, 101, 32, 32])]) hN rfl rfl (by decide) rfl dX7_init_720 ?_
  refine g_dup dX7_init_721 rfl ?_
  refine g_bipush (70) dX7_init_722 rfl ?_
  refine g_pc 724 rfl ?_
  refine g_bipush (32) dX7_init_724 rfl ?_
  refine i_astL 12 (n := 96) (l := [108, 101, 116, 115, 32, 32, 32, 32, 108, 117, 99, 107, 115, 32, 32, 32, 116, 97, 107, 101, 115, 32, 32, 32, 116, 104, 105, 110, 103, 32, 32, 32, 107, 110, 111, 119, 110, 32, 32, 32, 107, 101, 112, 116, 32, 32, 32, 32, 116, 105, 100, 101, 32, 32, 32, 32, 108, 117, 99, 107, 32, 32, 32, 32, 109, 111, 114, 101, 32, 32]) (as2 := [(6, lf []), (6, lf []), (18, lf []), (160, lf []), (1200, lf []), (24, lf []), (18, lf []), (4, lf []), (4, lf [-1, -1, -1, -1]), (4, lf []), (160, lf []), (32, lf [108, 101, 116, 115, 32, 116, 104, 105, 110, 103, 32, 59, 32, 108, 117, 99, 107, 115, 32, 53, 32, 59, 32, 116, 97, 107, 101, 115, 32, 50, 32, 59]), (96, lf [108, 101, 116, 115, 32, 32, 32, 32, 108, 117, 99, 107, 115, 32, 32, 32, 116, 97, 107, 101, 115, 32, 32, 32, 116, 104, 105, 110, 103, 32, 32, 32, 107, 110, 111, 119, 110, 32, 32, 32, 107, 101, 112, 116, 32, 32, 32, 32, 116, 105, 100, 101, 32, 32, 32, 32, 108, 117, 99, 107, 32, 32, 32, 32, 109, 111, 114, 101, 32, 32, 32])]) hN rfl rfl (by decide) rfl dX7_init_726 ?_
  refine g_dup dX7_init_727 rfl ?_
  refine g_bipush (71) dX7_init_728 rfl ?_
  refine g_bipush (32) dX7_init_730 rfl ?_
  refine i_astL 12 (n := 96) (l := [108, 101, 116, 115, 32, 32, 32, 32, 108, 117, 99, 107, 115, 32, 32, 32, 116, 97, 107, 101, 115, 32, 32, 32, 116, 104, 105, 110, 103, 32, 32, 32, 107, 110, 111, 119, 110, 32, 32, 32, 107, 101, 112, 116, 32, 32, 32, 32, 116, 105, 100, 101, 32, 32, 32, 32, 108, 117, 99, 107, 32, 32, 32, 32, 109, 111, 114, 101, 32, 32, 32]) (as2 := [(6, lf []), (6, lf []), (18, lf []), (160, lf []), (1200, lf []), (24, lf []), (18, lf []), (4, lf []), (4, lf [-1, -1, -1, -1]), (4, lf []), (160, lf []), (32, lf [108, 101, 116, 115, 32, 116, 104, 105, 110, 103, 32, 59, 32, 108, 117, 99, 107, 115, 32, 53, 32, 59, 32, 116, 97, 107, 101, 115, 32, 50, 32, 59]), (96, lf [108, 101, 116, 115, 32, 32, 32, 32, 108, 117, 99, 107, 115, 32, 32, 32, 116, 97, 107, 101, 115, 32, 32, 32, 116, 104, 105, 110, 103, 32, 32, 32, 107, 110, 111, 119, 110, 32, 32, 32, 107, 101, 112, 116, 32, 32, 32, 32, 116, 105, 100, 101, 32, 32, 32, 32, 108, 117, 99, 107, 32, 32, 32, 32, 109, 111, 114, 101, 32, 32, 32, 32])]) hN rfl rfl (by decide) rfl dX7_init_732 ?_
  refine g_dup dX7_init_733 rfl ?_
  refine g_bipush (72) dX7_init_734 rfl ?_
  refine g_bipush (111) dX7_init_736 rfl ?_
  refine i_astL 12 (n := 96) (l := [108, 101, 116, 115, 32, 32, 32, 32, 108, 117, 99, 107, 115, 32, 32, 32, 116, 97, 107, 101, 115, 32, 32, 32, 116, 104, 105, 110, 103, 32, 32, 32, 107, 110, 111, 119, 110, 32, 32, 32, 107, 101, 112, 116, 32, 32, 32, 32, 116, 105, 100, 101, 32, 32, 32, 32, 108, 117, 99, 107, 32, 32, 32, 32, 109, 111, 114, 101, 32, 32, 32, 32]) (as2 := [(6, lf []), (6, lf []), (18, lf []), (160, lf []), (1200, lf []), (24, lf []), (18, lf []), (4, lf []), (4, lf [-1, -1, -1, -1]), (4, lf []), (160, lf []), (32, lf [108, 101, 116, 115, 32, 116, 104, 105, 110, 103, 32, 59, 32, 108, 117, 99, 107, 115, 32, 53, 32, 59, 32, 116, 97, 107, 101, 115, 32, 50, 32, 59]), (96, lf [108, 101, 116, 115, 32, 32, 32, 32, 108, 117, 99, 107, 115, 32, 32, 32, 116, 97, 107, 101, 115, 32, 32, 32, 116, 104, 105, 110, 103, 32, 32, 32, 107, 110, 111, 119, 110, 32, 32, 32, 107, 101, 112, 116, 32, 32, 32, 32, 116, 105, 100, 101, 32, 32, 32, 32, 108, 117, 99, 107, 32, 32, 32, 32, 109, 111, 114, 101, 32, 32, 32, 32, 111])]) hN rfl rfl (by decide) rfl dX7_init_738 ?_
  refine g_dup dX7_init_739 rfl ?_
  refine g_bipush (73) dX7_init_740 rfl ?_
  refine g_pc 742 rfl ?_
  refine g_bipush (114) dX7_init_742 rfl ?_
  refine i_astL 12 (n := 96) (l := [108, 101, 116, 115, 32, 32, 32, 32, 108, 117, 99, 107, 115, 32, 32, 32, 116, 97, 107, 101, 115, 32, 32, 32, 116, 104, 105, 110, 103, 32, 32, 32, 107, 110, 111, 119, 110, 32, 32, 32, 107, 101, 112, 116, 32, 32, 32, 32, 116, 105, 100, 101, 32, 32, 32, 32, 108, 117, 99, 107, 32, 32, 32, 32, 109, 111, 114, 101, 32, 32, 32, 32, 111]) (as2 := [(6, lf []), (6, lf []), (18, lf []), (160, lf []), (1200, lf []), (24, lf []), (18, lf []), (4, lf []), (4, lf [-1, -1, -1, -1]), (4, lf []), (160, lf []), (32, lf [108, 101, 116, 115, 32, 116, 104, 105, 110, 103, 32, 59, 32, 108, 117, 99, 107, 115, 32, 53, 32, 59, 32, 116, 97, 107, 101, 115, 32, 50, 32, 59]), (96, lf [108, 101, 116, 115, 32, 32, 32, 32, 108, 117, 99, 107, 115, 32, 32, 32, 116, 97, 107, 101, 115, 32, 32, 32, 116, 104, 105, 110, 103, 32, 32, 32, 107, 110, 111, 119, 110, 32, 32, 32, 107, 101, 112, 116, 32, 32, 32, 32, 116, 105, 100, 101, 32, 32, 32, 32, 108, 117, 99, 107, 32, 32, 32, 32, 109, 111, 114, 101, 32, 32, 32, 32, 111, 114])]) hN rfl rfl (by decide) rfl dX7_init_744 ?_
  refine g_dup dX7_init_745 rfl ?_
  refine g_bipush (74) dX7_init_746 rfl ?_
  refine g_bipush (32) dX7_init_748 rfl ?_
  refine i_astL 12 (n := 96) (l := [108, 101, 116, 115, 32, 32, 32, 32, 108, 117, 99, 107, 115, 32, 32, 32, 116, 97, 107, 101, 115, 32, 32, 32, 116, 104, 105, 110, 103, 32, 32, 32, 107, 110, 111, 119, 110, 32, 32, 32, 107, 101, 112, 116, 32, 32, 32, 32, 116, 105, 100, 101, 32, 32, 32, 32, 108, 117, 99, 107, 32, 32, 32, 32, 109, 111, 114, 101, 32, 32, 32, 32, 111, 114]) (as2 := [(6, lf []), (6, lf []), (18, lf []), (160, lf []), (1200, lf []), (24, lf []), (18, lf []), (4, lf []), (4, lf [-1, -1, -1, -1]), (4, lf []), (160, lf []), (32, lf [108, 101, 116, 115, 32, 116, 104, 105, 110, 103, 32, 59, 32, 108, 117, 99, 107, 115, 32, 53, 32, 59, 32, 116, 97, 107, 101, 115, 32, 50, 32, 59]), (96, lf [108, 101, 116, 115, 32, 32, 32, 32, 108, 117, 99, 107, 115, 32, 32, 32, 116, 97, 107, 101, 115, 32, 32, 32, 116, 104, 105, 110, 103, 32, 32, 32, 107, 110, 111, 119, 110, 32, 32, 32, 107, 101, 112, 116, 32, 32, 32, 32, 116, 105, 100, 101, 32, 32, 32, 32, 108, 117, 99, 107, 32, 32, 32, 32, 109, 111, 114, 101, 32, 32, 32, 32, 111, 114, 32])]) hN rfl rfl (by decide) rfl dX7_init_750 ?_
  refine g_dup dX7_init_751 rfl ?_
  refine g_bipush (75) dX7_init_752 rfl ?_
  refine g_bipush (32) dX7_init_754 rfl ?_
  refine i_astL 12 (n := 96) (l := [108, 101, 116, 115, 32, 32, 32, 32, 108, 117, 99, 107, 115, 32, 32, 32, 116, 97, 107, 101, 115, 32, 32, 32, 116, 104, 105, 110, 103, 32, 32, 32, 107, 110, 111, 119, 110, 32, 32, 32, 107, 101, 112, 116, 32, 32, 32, 32, 116, 105, 100, 101, 32, 32, 32, 32, 108, 117, 99, 107, 32, 32, 32, 32, 109, 111, 114, 101, 32, 32, 32, 32, 111, 114, 32]) (as2 := [(6, lf []), (6, lf []), (18, lf []), (160, lf []), (1200, lf []), (24, lf []), (18, lf []), (4, lf []), (4, lf [-1, -1, -1, -1]), (4, lf []), (160, lf []), (32, lf [108, 101, 116, 115, 32, 116, 104, 105, 110, 103, 32, 59, 32, 108, 117, 99, 107, 115, 32, 53, 32, 59, 32, 116, 97, 107, 101, 115, 32, 50, 32, 59]), (96, lf [108, 101, 116, 115, 32, 32, 32, 32, 108, 117, 99, 107, 115, 32, 32, 32, 116, 97, 107, 101, 115, 32, 32, 32, 116, 104, 105, 110, 103, 32, 32, 32, 107, 110, 111, 119, 110, 32, 32, 32, 107, 101, 112, 116, 32, 32, 32, 32, 116, 105, 100, 101, 32, 32, 32, 32, 108, 117, 99, 107, 32, 32, 32, 32, 109, 111, 114, 101, 32, 32, 32, 32, 111, 114, 32, 32])]) hN rfl rfl (by decide) rfl dX7_init_756 ?_
  refine g_dup dX7_init_757 rfl ?_
  refine g_bipush (76) dX7_init_758 rfl ?_
  refine g_pc 760 rfl ?_
  refine g_bipush (32) dX7_init_760 rfl ?_
  refine i_astL 12 (n := 96) (l := [108, 101, 116, 115, 32, 32, 32, 32, 108, 117, 99, 107, 115, 32, 32, 32, 116, 97, 107, 101, 115, 32, 32, 32, 116, 104, 105, 110, 103, 32, 32, 32, 107, 110, 111, 119, 110, 32, 32, 32, 107, 101, 112, 116, 32, 32, 32, 32, 116, 105, 100, 101, 32, 32, 32, 32, 108, 117, 99, 107, 32, 32, 32, 32, 109, 111, 114, 101, 32, 32, 32, 32, 111, 114, 32, 32]) (as2 := [(6, lf []), (6, lf []), (18, lf []), (160, lf []), (1200, lf []), (24, lf []), (18, lf []), (4, lf []), (4, lf [-1, -1, -1, -1]), (4, lf []), (160, lf []), (32, lf [108, 101, 116, 115, 32, 116, 104, 105, 110, 103, 32, 59, 32, 108, 117, 99, 107, 115, 32, 53, 32, 59, 32, 116, 97, 107, 101, 115, 32, 50, 32, 59]), (96, lf [108, 101, 116, 115, 32, 32, 32, 32, 108, 117, 99, 107, 115, 32, 32, 32, 116, 97, 107, 101, 115, 32, 32, 32, 116, 104, 105, 110, 103, 32, 32, 32, 107, 110, 111, 119, 110, 32, 32, 32, 107, 101, 112, 116, 32, 32, 32, 32, 116, 105, 100, 101, 32, 32, 32, 32, 108, 117, 99, 107, 32, 32, 32, 32, 109, 111, 114, 101, 32, 32, 32, 32, 111, 114, 32, 32, 32])]) hN rfl rfl (by decide) rfl dX7_init_762 ?_
  refine g_dup dX7_init_763 rfl ?_
  refine g_bipush (77) dX7_init_764 rfl ?_
  refine g_bipush (32) dX7_init_766 rfl ?_
  refine i_astL 12 (n := 96) (l := [108, 101, 116, 115, 32, 32, 32, 32, 108, 117, 99, 107, 115, 32, 32, 32, 116, 97, 107, 101, 115, 32, 32, 32, 116, 104, 105, 110, 103, 32, 32, 32, 107, 110, 111, 119, 110, 32, 32, 32, 107, 101, 112, 116, 32, 32, 32, 32, 116, 105, 100, 101, 32, 32, 32, 32, 108, 117, 99, 107, 32, 32, 32, 32, 109, 111, 114, 101, 32, 32, 32, 32, 111, 114, 32, 32, 32]) (as2 := [(6, lf []), (6, lf []), (18, lf []), (160, lf []), (1200, lf []), (24, lf []), (18, lf []), (4, lf []), (4, lf [-1, -1, -1, -1]), (4, lf []), (160, lf []), (32, lf [108, 101, 116, 115, 32, 116, 104, 105, 110, 103, 32, 59, 32, 108, 117, 99, 107, 115, 32, 53, 32, 59, 32, 116, 97, 107, 101, 115, 32, 50, 32, 59]), (96, lf [108, 101, 116, 115, 32, 32, 32, 32, 108, 117, 99, 107, 115, 32, 32, 32, 116, 97, 107, 101, 115, 32, 32, 32, 116, 104, 105, 110, 103, 32, 32, 32, 107, 110, 111, 119, 110, 32, 32, 32, 107, 101, 112, 116, 32, 32, 32, 32, 116, 105, 100, 101, 32, 32, 32, 32, 108, 117, 99, 107, 32, 32, 32, 32, 109, 111, 114, 101, 32, 32, 32, 32, 111, 114, 32, 32, 32, 32])]) hN rfl rfl (by decide) rfl dX7_init_768 ?_
  refine g_dup dX7_init_769 rfl ?_
  refine g_bipush (78) dX7_init_770 rfl ?_
  refine g_bipush (32) dX7_init_772 rfl ?_
  refine i_astL 12 (n := 96) (l := [108, 101, 116, 115, 32, 32, 32, 32, 108, 117, 99, 107, 115, 32, 32, 32, 116, 97, 107, 101, 115, 32, 32, 32, 116, 104, 105, 110, 103, 32, 32, 32, 107, 110, 111, 119, 110, 32, 32, 32, 107, 101, 112, 116, 32, 32, 32, 32, 116, 105, 100, 101, 32, 32, 32, 32, 108, 117, 99, 107, 32, 32, 32, 32, 109, 111, 114, 101, 32, 32, 32, 32, 111, 114, 32, 32, 32, 32]) (as2 := [(6, lf []), (6, lf []), (18, lf []), (160, lf []), (1200, lf []), (24, lf []), (18, lf []), (4, lf []), (4, lf [-1, -1, -1, -1]), (4, lf []), (160, lf []), (32, lf [108, 101, 116, 115, 32, 116, 104, 105, 110, 103, 32, 59, 32, 108, 117, 99, 107, 115, 32, 53, 32, 59, 32, 116, 97, 107, 101, 115, 32, 50, 32, 59]), (96, lf [108, 101, 116, 115, 32, 32, 32, 32, 108, 117, 99, 107, 115, 32, 32, 32, 116, 97, 107, 101, 115, 32, 32, 32, 116, 104, 105, 110, 103, 32, 32, 32, 107, 110, 111, 119, 110, 32, 32, 32, 107, 101, 112, 116, 32, 32, 32, 32, 116, 105, 100, 101, 32, 32, 32, 32, 108, 117, 99, 107, 32, 32, 32, 32, 109, 111, 114, 101, 32, 32, 32, 32, 111, 114, 32, 32, 32, 32, 32])]) hN rfl rfl (by decide) rfl dX7_init_774 ?_
  refine g_dup dX7_init_775 rfl ?_
  refine g_bipush (79) dX7_init_776 rfl ?_
  refine g_pc 778 rfl ?_
  refine g_bipush (32) dX7_init_778 rfl ?_
  refine i_astL 12 (n := 96) (l := [108, 101, 116, 115, 32, 32, 32, 32, 108, 117, 99, 107, 115, 32, 32, 32, 116, 97, 107, 101, 115, 32, 32, 32, 116, 104, 105, 110, 103, 32, 32, 32, 107, 110, 111, 119, 110, 32, 32, 32, 107, 101, 112, 116, 32, 32, 32, 32, 116, 105, 100, 101, 32, 32, 32, 32, 108, 117, 99, 107, 32, 32, 32, 32, 109, 111, 114, 101, 32, 32, 32, 32, 111, 114, 32, 32, 32, 32, 32]) (as2 := [(6, lf []), (6, lf []), (18, lf []), (160, lf []), (1200, lf []), (24, lf []), (18, lf []), (4, lf []), (4, lf [-1, -1, -1, -1]), (4, lf []), (160, lf []), (32, lf [108, 101, 116, 115, 32, 116, 104, 105, 110, 103, 32, 59, 32, 108, 117, 99, 107, 115, 32, 53, 32, 59, 32, 116, 97, 107, 101, 115, 32, 50, 32, 59]), (96, lf [108, 101, 116, 115, 32, 32, 32, 32, 108, 117, 99, 107, 115, 32, 32, 32, 116, 97, 107, 101, 115, 32, 32, 32, 116, 104, 105, 110, 103, 32, 32, 32, 107, 110, 111, 119, 110, 32, 32, 32, 107, 101, 112, 116, 32, 32, 32, 32, 116, 105, 100, 101, 32, 32, 32, 32, 108, 117, 99, 107, 32, 32, 32, 32, 109, 111, 114, 101, 32, 32, 32, 32, 111, 114, 32, 32, 32, 32, 32, 32])]) hN rfl rfl (by decide) rfl dX7_init_780 ?_
  refine g_dup dX7_init_781 rfl ?_
  refine g_bipush (80) dX7_init_782 rfl ?_
  refine g_bipush (97) dX7_init_784 rfl ?_
  refine i_astL 12 (n := 96) (l := [108, 101, 116, 115, 32, 32, 32, 32, 108, 117, 99, 107, 115, 32, 32, 32, 116, 97, 107, 101, 115, 32, 32, 32, 116, 104, 105, 110, 103, 32, 32, 32, 107, 110, 111, 119, 110, 32, 32, 32, 107, 101, 112, 116, 32, 32, 32, 32, 116, 105, 100, 101, 32, 32, 32, 32, 108, 117, 99, 107, 32, 32, 32, 32, 109, 111, 114, 101, 32, 32, 32, 32, 111, 114, 32, 32, 32, 32, 32, 32]) (as2 := [(6, lf []), (6, lf []), (18, lf []), (160, lf []), (1200, lf []), (24, lf []), (18, lf []), (4, lf []), (4, lf [-1, -1, -1, -1]), (4, lf []), (160, lf []), (32, lf [108, 101, 116, 115, 32, 116, 104, 105, 110, 103, 32, 59, 32, 108, 117, 99, 107, 115, 32, 53, 32, 59, 32, 116, 97, 107, 101, 115, 32, 50, 32, 59]), (96, lf [108, 101, 116, 115, 32, 32, 32, 32, 108, 117, 99, 107, 115, 32, 32, 32, 116, 97, 107, 101, 115, 32, 32, 32, 116, 104, 105, 110, 103, 32, 32, 32, 107, 110, 111, 119, 110, 32, 32, 32, 107, 101, 112, 116, 32, 32, 32, 32, 116, 105, 100, 101, 32, 32, 32, 32, 108, 117, 99, 107, 32, 32, 32, 32, 109, 111, 114, 101, 32, 32, 32, 32, 111, 114, 32, 32, 32, 32, 32, 32, 97])]) hN rfl rfl (by decide) rfl dX7_init_786 ?_
  refine g_dup dX7_init_787 rfl ?_
  refine g_bipush (81) dX7_init_788 rfl ?_
  refine g_bipush (110) dX7_init_790 rfl ?_
  refine i_astL 12 (n := 96) (l := [108, 101, 116, 115, 32, 32, 32, 32, 108, 117, 99, 107, 115, 32, 32, 32, 116, 97, 107, 101, 115, 32, 32, 32, 116, 104, 105, 110, 103, 32, 32, 32, 107, 110, 111, 119, 110, 32, 32, 32, 107, 101, 112, 116, 32, 32, 32, 32, 116, 105, 100, 101, 32, 32, 32, 32, 108, 117, 99, 107, 32, 32, 32, 32, 109, 111, 114, 101, 32, 32, 32, 32, 111, 114, 32, 32, 32, 32, 32, 32, 97]) (as2 := [(6, lf []), (6, lf []), (18, lf []), (160, lf []), (1200, lf []), (24, lf []), (18, lf []), (4, lf []), (4, lf [-1, -1, -1, -1]), (4, lf []), (160, lf []), (32, lf [108, 101, 116, 115, 32, 116, 104, 105, 110, 103, 32, 59, 32, 108, 117, 99, 107, 115, 32, 53, 32, 59, 32, 116, 97, 107, 101, 115, 32, 50, 32, 59]), (96, lf [108, 101, 116, 115, 32, 32, 32, 32, 108, 117, 99, 107, 115, 32, 32, 32, 116, 97, 107, 101, 115, 32, 32, 32, 116, 104, 105, 110, 103, 32, 32, 32, 107, 110, 111, 119, 110, 32, 32, 32, 107, 101, 112, 116, 32, 32, 32, 32, 116, 105, 100, 101, 32, 32, 32, 32, 108, 117, 99, 107, 32, 32, 32, 32, 109, 111, 114, 101, 32, 32, 32, 32, 111, 114, 32, 32, 32, 32, 32, 32, 97, 110])]) hN rfl rfl (by decide) rfl dX7_init_792 ?_
  refine g_dup dX7_init_793 rfl ?_
  refine g_bipush (82) dX7_init_794 rfl ?_
  refine g_pc 796 rfl ?_
  refine g_bipush (100) dX7_init_796 rfl ?_
  refine i_astL 12 (n := 96) (l := [108, 101, 116, 115, 32, 32, 32, 32, 108, 117, 99, 107, 115, 32, 32, 32, 116, 97, 107, 101, 115, 32, 32, 32, 116, 104, 105, 110, 103, 32, 32, 32, 107, 110, 111, 119, 110, 32, 32, 32, 107, 101, 112, 116, 32, 32, 32, 32, 116, 105, 100, 101, 32, 32, 32, 32, 108, 117, 99, 107, 32, 32, 32, 32, 109, 111, 114, 101, 32, 32, 32, 32, 111, 114, 32, 32, 32, 32, 32, 32, 97, 110]) (as2 := [(6, lf []), (6, lf []), (18, lf []), (160, lf []), (1200, lf []), (24, lf []), (18, lf []), (4, lf []), (4, lf [-1, -1, -1, -1]), (4, lf []), (160, lf []), (32, lf [108, 101, 116, 115, 32, 116, 104, 105, 110, 103, 32, 59, 32, 108, 117, 99, 107, 115, 32, 53, 32, 59, 32, 116, 97, 107, 101, 115, 32, 50, 32, 59]), (96, lf [108, 101, 116, 115, 32, 32, 32, 32, 108, 117, 99, 107, 115, 32, 32, 32, 116, 97, 107, 101, 115, 32, 32, 32, 116, 104, 105, 110, 103, 32, 32, 32, 107, 110, 111, 119, 110, 32, 32, 32, 107, 101, 112, 116, 32, 32, 32, 32, 116, 105, 100, 101, 32, 32, 32, 32, 108, 117, 99, 107, 32, 32, 32, 32, 109, 111, 114, 101, 32, 32, 32, 32, 111, 114, 32, 32, 32, 32, 32, 32, 97, 110, 100])]) hN rfl rfl (by decide) rfl dX7_init_798 ?_
  refine g_dup dX7_init_799 rfl ?_
  refine g_bipush (83) dX7_init_800 rfl ?_
  refine g_bipush (32) dX7_init_802 rfl ?_
  refine i_astL 12 (n := 96) (l := [108, 101, 116, 115, 32, 32, 32, 32, 108, 117, 99, 107, 115, 32, 32, 32, 116, 97, 107, 101, 115, 32, 32, 32, 116, 104, 105, 110, 103, 32, 32, 32, 107, 110, 111, 119, 110, 32, 32, 32, 107, 101, 112, 116, 32, 32, 32, 32, 116, 105, 100, 101, 32, 32, 32, 32, 108, 117, 99, 107, 32, 32, 32, 32, 109, 111, 114, 101, 32, 32, 32, 32, 111, 114, 32, 32, 32, 32, 32, 32, 97, 110, 100]) (as2 := [(6, lf []), (6, lf []), (18, lf []), (160, lf []), (1200, lf []), (24, lf []), (18, lf []), (4, lf []), (4, lf [-1, -1, -1, -1]), (4, lf []), (160, lf []), (32, lf [108, 101, 116, 115, 32, 116, 104, 105, 110, 103, 32, 59, 32, 108, 117, 99, 107, 115, 32, 53, 32, 59, 32, 116, 97, 107, 101, 115, 32, 50, 32, 59]), (96, lf [108, 101, 116, 115, 32, 32, 32, 32, 108, 117, 99, 107, 115, 32, 32, 32, 116, 97, 107, 101, 115, 32, 32, 32, 116, 104, 105, 110, 103, 32, 32, 32, 107, 110, 111, 119, 110, 32, 32, 32, 107, 101, 112, 116, 32, 32, 32, 32, 116, 105, 100, 101, 32, 32, 32, 32, 108, 117, 99, 107, 32, 32, 32, 32, 109, 111, 114, 101, 32, 32, 32, 32, 111, 114, 32, 32, 32, 32, 32, 32, 97, 110, 100, 32])]) hN rfl rfl (by decide) rfl dX7_init_804 ?_
  refine g_dup dX7_init_805 rfl ?_
  refine g_bipush (84) dX7_init_806 rfl ?_
  refine g_bipush (32) dX7_init_808 rfl ?_
  refine i_astL 12 (n := 96) (l := [108, 101, 116, 115, 32, 32, 32, 32, 108, 117, 99, 107, 115, 32, 32, 32, 116, 97, 107, 101, 115, 32, 32, 32, 116, 104, 105, 110, 103, 32, 32, 32, 107, 110, 111, 119, 110, 32, 32, 32, 107, 101, 112, 116, 32, 32, 32, 32, 116, 105, 100, 101, 32, 32, 32, 32, 108, 117, 99, 107, 32, 32, 32, 32, 109, 111, 114, 101, 32, 32, 32, 32, 111, 114, 32, 32, 32, 32, 32, 32, 97, 110, 100, 32]) (as2 := [(6, lf []), (6, lf []), (18, lf []), (160, lf []), (1200, lf []), (24, lf []), (18, lf []), (4, lf []), (4, lf [-1, -1, -1, -1]), (4, lf []), (160, lf []), (32, lf [108, 101, 116, 115, 32, 116, 104, 105, 110, 103, 32, 59, 32, 108, 117, 99, 107, 115, 32, 53, 32, 59, 32, 116, 97, 107, 101, 115, 32, 50, 32, 59]), (96, lf [108, 101, 116, 115, 32, 32, 32, 32, 108, 117, 99, 107, 115, 32, 32, 32, 116, 97, 107, 101, 115, 32, 32, 32, 116, 104, 105, 110, 103, 32, 32, 32, 107, 110, 111, 119, 110, 32, 32, 32, 107, 101, 112, 116, 32, 32, 32, 32, 116, 105, 100, 101, 32, 32, 32, 32, 108, 117, 99, 107, 32, 32, 32, 32, 109, 111, 114, 101, 32, 32, 32, 32, 111, 114, 32, 32, 32, 32, 32, 32, 97, 110, 100, 32, 32])]) hN rfl rfl (by decide) rfl dX7_init_810 ?_
  refine g_dup dX7_init_811 rfl ?_
  refine g_bipush (85) dX7_init_812 rfl ?_
  refine g_pc 814 rfl ?_
  refine g_bipush (32) dX7_init_814 rfl ?_
  refine i_astL 12 (n := 96) (l := [108, 101, 116, 115, 32, 32, 32, 32, 108, 117, 99, 107, 115, 32, 32, 32, 116, 97, 107, 101, 115, 32, 32, 32, 116, 104, 105, 110, 103, 32, 32, 32, 107, 110, 111, 119, 110, 32, 32, 32, 107, 101, 112, 116, 32, 32, 32, 32, 116, 105, 100, 101, 32, 32, 32, 32, 108, 117, 99, 107, 32, 32, 32, 32, 109, 111, 114, 101, 32, 32, 32, 32, 111, 114, 32, 32, 32, 32, 32, 32, 97, 110, 100, 32, 32]) (as2 := [(6, lf []), (6, lf []), (18, lf []), (160, lf []), (1200, lf []), (24, lf []), (18, lf []), (4, lf []), (4, lf [-1, -1, -1, -1]), (4, lf []), (160, lf []), (32, lf [108, 101, 116, 115, 32, 116, 104, 105, 110, 103, 32, 59, 32, 108, 117, 99, 107, 115, 32, 53, 32, 59, 32, 116, 97, 107, 101, 115, 32, 50, 32, 59]), (96, lf [108, 101, 116, 115, 32, 32, 32, 32, 108, 117, 99, 107, 115, 32, 32, 32, 116, 97, 107, 101, 115, 32, 32, 32, 116, 104, 105, 110, 103, 32, 32, 32, 107, 110, 111, 119, 110, 32, 32, 32, 107, 101, 112, 116, 32, 32, 32, 32, 116, 105, 100, 101, 32, 32, 32, 32, 108, 117, 99, 107, 32, 32, 32, 32, 109, 111, 114, 101, 32, 32, 32, 32, 111, 114, 32, 32, 32, 32, 32, 32, 97, 110, 100, 32, 32, 32])]) hN rfl rfl (by decide) rfl dX7_init_816 ?_
  refine g_dup dX7_init_817 rfl ?_
  refine g_bipush (86) dX7_init_818 rfl ?_
  refine g_bipush (32) dX7_init_820 rfl ?_
  refine i_astL 12 (n := 96) (l := [108, 101, 116, 115, 32, 32, 32, 32, 108, 117, 99, 107, 115, 32, 32, 32, 116, 97, 107, 101, 115, 32, 32, 32, 116, 104, 105, 110, 103, 32, 32, 32, 107, 110, 111, 119, 110, 32, 32, 32, 107, 101, 112, 116, 32, 32, 32, 32, 116, 105, 100, 101, 32, 32, 32, 32, 108, 117, 99, 107, 32, 32, 32, 32, 109, 111, 114, 101, 32, 32, 32, 32, 111, 114, 32, 32, 32, 32, 32, 32, 97, 110, 100, 32, 32, 32]) (as2 := [(6, lf []), (6, lf []), (18, lf []), (160, lf []), (1200, lf []), (24, lf []), (18, lf []), (4, lf []), (4, lf [-1, -1, -1, -1]), (4, lf []), (160, lf []), (32, lf [108, 101, 116, 115, 32, 116, 104, 105, 110, 103, 32, 59, 32, 108, 117, 99, 107, 115, 32, 53, 32, 59, 32, 116, 97, 107, 101, 115, 32, 50, 32, 59]), (96, lf [108, 101, 116, 115, 32, 32, 32, 32, 108, 117, 99, 107, 115, 32, 32, 32, 116, 97, 107, 101, 115, 32, 32, 32, 116, 104, 105, 110, 103, 32, 32, 32, 107, 110, 111, 119, 110, 32, 32, 32, 107, 101, 112, 116, 32, 32, 32, 32, 116, 105, 100, 101, 32, 32, 32, 32, 108, 117, 99, 107, 32, 32, 32, 32, 109, 111, 114, 101, 32, 32, 32, 32, 111, 114, 32, 32, 32, 32, 32, 32, 97, 110, 100, 32, 32, 32, 32])]) hN rfl rfl (by decide) rfl dX7_init_822 ?_
  refine g_dup dX7_init_823 rfl ?_
  refine g_bipush (87) dX7_init_824 rfl ?_
  refine g_bipush (32) dX7_init_826 rfl ?_
  refine i_astL 12 (n := 96) (l := [108, 101, 116, 115, 32, 32, 32, 32, 108, 117, 99, 107, 115, 32, 32, 32, 116, 97, 107, 101, 115, 32, 32, 32, 116, 104, 105, 110, 103, 32, 32, 32, 107, 110, 111, 119, 110, 32, 32, 32, 107, 101, 112, 116, 32, 32, 32, 32, 116, 105, 100, 101, 32, 32, 32, 32, 108, 117, 99, 107, 32, 32, 32, 32, 109, 111, 114, 101, 32, 32, 32, 32, 111, 114, 32, 32, 32, 32, 32, 32, 97, 110, 100, 32, 32, 32, 32]) (as2 := [(6, lf []), (6, lf []), (18, lf []), (160, lf []), (1200, lf []), (24, lf []), (18, lf []), (4, lf []), (4, lf [-1, -1, -1, -1]), (4, lf []), (160, lf []), (32, lf [108, 101, 116, 115, 32, 116, 104, 105, 110, 103, 32, 59, 32, 108, 117, 99, 107, 115, 32, 53, 32, 59, 32, 116, 97, 107, 101, 115, 32, 50, 32, 59]), (96, lf [108, 101, 116, 115, 32, 32, 32, 32, 108, 117, 99, 107, 115, 32, 32, 32, 116, 97, 107, 101, 115, 32, 32, 32, 116, 104, 105, 110, 103, 32, 32, 32, 107, 110, 111, 119, 110, 32, 32, 32, 107, 101, 112, 116, 32, 32, 32, 32, 116, 105, 100, 101, 32, 32, 32, 32, 108, 117, 99, 107, 32, 32, 32, 32, 109, 111, 114, 101, 32, 32, 32, 32, 111, 114, 32, 32, 32, 32, 32, 32, 97, 110, 100, 32, 32, 32, 32, 32])]) hN rfl rfl (by decide) rfl dX7_init_828 ?_
  refine g_dup dX7_init_829 rfl ?_
  refine g_bipush (88) dX7_init_830 rfl ?_
  refine g_pc 832 rfl ?_
  refine g_bipush (110) dX7_init_832 rfl ?_
  refine i_astL 12 (n := 96) (l := [108, 101, 116, 115, 32, 32, 32, 32, 108, 117, 99, 107, 115, 32, 32, 32, 116, 97, 107, 101, 115, 32, 32, 32, 116, 104, 105, 110, 103, 32, 32, 32, 107, 110, 111, 119, 110, 32, 32, 32, 107, 101, 112, 116, 32, 32, 32, 32, 116, 105, 100, 101, 32, 32, 32, 32, 108, 117, 99, 107, 32, 32, 32, 32, 109, 111, 114, 101, 32, 32, 32, 32, 111, 114, 32, 32, 32, 32, 32, 32, 97, 110, 100, 32, 32, 32, 32, 32]) (as2 := [(6, lf []), (6, lf []), (18, lf []), (160, lf []), (1200, lf []), (24, lf []), (18, lf []), (4, lf []), (4, lf [-1, -1, -1, -1]), (4, lf []), (160, lf []), (32, lf [108, 101, 116, 115, 32, 116, 104, 105, 110, 103, 32, 59, 32, 108, 117, 99, 107, 115, 32, 53, 32, 59, 32, 116, 97, 107, 101, 115, 32, 50, 32, 59]), (96, lf [108, 101, 116, 115, 32, 32, 32, 32, 108, 117, 99, 107, 115, 32, 32, 32, 116, 97, 107, 101, 115, 32, 32, 32, 116, 104, 105, 110, 103, 32, 32, 32, 107, 110, 111, 119, 110, 32, 32, 32, 107, 101, 112, 116, 32, 32, 32, 32, 116, 105, 100, 101, 32, 32, 32, 32, 108, 117, 99, 107, 32, 32, 32, 32, 109, 111, 114, 101, 32, 32, 32, 32, 111, 114, 32, 32, 32, 32, 32, 32, 97, 110, 100, 32, 32, 32, 32, 32, 110])]) hN rfl rfl (by decide) rfl dX7_init_834 ?_
  refine g_dup dX7_init_835 rfl ?_
  refine g_bipush (89) dX7_init_836 rfl ?_
  refine g_bipush (111) dX7_init_838 rfl ?_
  refine i_astL 12 (n := 96) (l := [108, 101, 116, 115, 32, 32, 32, 32, 108, 117, 99, 107, 115, 32, 32, 32, 116, 97, 107, 101, 115, 32, 32, 32, 116, 104, 105, 110, 103, 32, 32, 32, 107, 110, 111, 119, 110, 32, 32, 32, 107, 101, 112, 116, 32, 32, 32, 32, 116, 105, 100, 101, 32, 32, 32, 32, 108, 117, 99, 107, 32, 32, 32, 32, 109, 111, 114, 101, 32, 32, 32, 32, 111, 114, 32, 32, 32, 32, 32, 32, 97, 110, 100, 32, 32, 32, 32, 32, 110]) (as2 := [(6, lf []), (6, lf []), (18, lf []), (160, lf []), (1200, lf []), (24, lf []), (18, lf []), (4, lf []), (4, lf [-1, -1, -1, -1]), (4, lf []), (160, lf []), (32, lf [108, 101, 116, 115, 32, 116, 104, 105, 110, 103, 32, 59, 32, 108, 117, 99, 107, 115, 32, 53, 32, 59, 32, 116, 97, 107, 101, 115, 32, 50, 32, 59]), (96, lf [108, 101, 116, 115, 32, 32, 32, 32, 108, 117, 99, 107, 115, 32, 32, 32, 116, 97, 107, 101, 115, 32, 32, 32, 116, 104, 105, 110, 103, 32, 32, 32, 107, 110, 111, 119, 110, 32, 32, 32, 107, 101, 112, 116, 32, 32, 32, 32, 116, 105, 100, 101, 32, 32, 32, 32, 108, 117, 99, 107, 32, 32, 32, 32, 109, 111, 114, 101, 32, 32, 32, 32, 111, 114, 32, 32, 32, 32, 32, 32, 97, 110, 100, 32, 32, 32, 32, 32, 110, 111])]) hN rfl rfl (by decide) rfl dX7_init_840 ?_
  refine g_dup dX7_init_841 rfl ?_
  refine g_bipush (90) dX7_init_842 rfl ?_
  refine g_bipush (116) dX7_init_844 rfl ?_
  refine i_astL 12 (n := 96) (l := [108, 101, 116, 115, 32, 32, 32, 32, 108, 117, 99, 107, 115, 32, 32, 32, 116, 97, 107, 101, 115, 32, 32, 32, 116, 104, 105, 110, 103, 32, 32, 32, 107, 110, 111, 119, 110, 32, 32, 32, 107, 101, 112, 116, 32, 32, 32, 32, 116, 105, 100, 101, 32, 32, 32, 32, 108, 117, 99, 107, 32, 32, 32, 32, 109, 111, 114, 101, 32, 32, 32, 32, 111, 114, 32, 32, 32, 32, 32, 32, 97, 110, 100, 32, 32, 32, 32, 32, 110, 111]) (as2 := [(6, lf []), (6, lf []), (18, lf []), (160, lf []), (1200, lf []), (24, lf []), (18, lf []), (4, lf []), (4, lf [-1, -1, -1, -1]), (4, lf []), (160, lf []), (32, lf [108, 101, 116, 115, 32, 116, 104, 105, 110, 103, 32, 59, 32, 108, 117, 99, 107, 115, 32, 53, 32, 59, 32, 116, 97, 107, 101, 115, 32, 50, 32, 59]), (96, lf [108, 101, 116, 115, 32, 32, 32, 32, 108, 117, 99, 107, 115, 32, 32, 32, 116, 97, 107, 101, 115, 32, 32, 32, 116, 104, 105, 110, 103, 32, 32, 32, 107, 110, 111, 119, 110, 32, 32, 32, 107, 101, 112, 116, 32, 32, 32, 32, 116, 105, 100, 101, 32, 32, 32, 32, 108, 117, 99, 107, 32, 32, 32, 32, 109, 111, 114, 101, 32, 32, 32, 32, 111, 114, 32, 32, 32, 32, 32, 32, 97, 110, 100, 32, 32, 32, 32, 32, 110, 111, 116])]) hN rfl rfl (by decide) rfl dX7_init_846 ?_
  refine g_dup dX7_init_847 rfl ?_
  refine g_bipush (91) dX7_init_848 rfl ?_
  refine g_pc 850 rfl ?_
  refine g_bipush (32) dX7_init_850 rfl ?_
  refine i_astL 12 (n := 96) (l := [108, 101, 116, 115, 32, 32, 32, 32, 108, 117, 99, 107, 115, 32, 32, 32, 116, 97, 107, 101, 115, 32, 32, 32, 116, 104, 105, 110, 103, 32, 32, 32, 107, 110, 111, 119, 110, 32, 32, 32, 107, 101, 112, 116, 32, 32, 32, 32, 116, 105, 100, 101, 32, 32, 32, 32, 108, 117, 99, 107, 32, 32, 32, 32, 109, 111, 114, 101, 32, 32, 32, 32, 111, 114, 32, 32, 32, 32, 32, 32, 97, 110, 100, 32, 32, 32, 32, 32, 110, 111, 116]) (as2 := [(6, lf []), (6, lf []), (18, lf []), (160, lf []), (1200, lf []), (24, lf []), (18, lf []), (4, lf []), (4, lf [-1, -1, -1, -1]), (4, lf []), (160, lf []), (32, lf [108, 101, 116, 115, 32, 116, 104, 105, 110, 103, 32, 59, 32, 108, 117, 99, 107, 115, 32, 53, 32, 59, 32, 116, 97, 107, 101, 115, 32, 50, 32, 59]), (96, lf [108, 101, 116, 115, 32, 32, 32, 32, 108, 117, 99, 107, 115, 32, 32, 32, 116, 97, 107, 101, 115, 32, 32, 32, 116, 104, 105, 110, 103, 32, 32, 32, 107, 110, 111, 119, 110, 32, 32, 32, 107, 101, 112, 116, 32, 32, 32, 32, 116, 105, 100, 101, 32, 32, 32, 32, 108, 117, 99, 107, 32, 32, 32, 32, 109, 111, 114, 101, 32, 32, 32, 32, 111, 114, 32, 32, 32, 32, 32, 32, 97, 110, 100, 32, 32, 32, 32, 32, 110, 111, 116, 32])]) hN rfl rfl (by decide) rfl dX7_init_852 ?_
  refine g_dup dX7_init_853 rfl ?_
  refine g_bipush (92) dX7_init_854 rfl ?_
  refine g_bipush (32) dX7_init_856 rfl ?_
  refine i_astL 12 (n := 96) (l := [108, 101, 116, 115, 32, 32, 32, 32, 108, 117, 99, 107, 115, 32, 32, 32, 116, 97, 107, 101, 115, 32, 32, 32, 116, 104, 105, 110, 103, 32, 32, 32, 107, 110, 111, 119, 110, 32, 32, 32, 107, 101, 112, 116, 32, 32, 32, 32, 116, 105, 100, 101, 32, 32, 32, 32, 108, 117, 99, 107, 32, 32, 32, 32, 109, 111, 114, 101, 32, 32, 32, 32, 111, 114, 32, 32, 32, 32, 32, 32, 97, 110, 100, 32, 32, 32, 32, 32, 110, 111, 116, 32]) (as2 := [(6, lf []), (6, lf []), (18, lf []), (160, lf []), (1200, lf []), (24, lf []), (18, lf []), (4, lf []), (4, lf [-1, -1, -1, -1]), (4, lf []), (160, lf []), (32, lf [108, 101, 116, 115, 32, 116, 104, 105, 110, 103, 32, 59, 32, 108, 117, 99, 107, 115, 32, 53, 32, 59, 32, 116, 97, 107, 101, 115, 32, 50, 32, 59]), (96, lf [108, 101, 116, 115, 32, 32, 32, 32, 108, 117, 99, 107, 115, 32, 32, 32, 116, 97, 107, 101, 115, 32, 32, 32, 116, 104, 105, 110, 103, 32, 32, 32, 107, 110, 111, 119, 110, 32, 32, 32, 107, 101, 112, 116, 32, 32, 32, 32, 116, 105, 100, 101, 32, 32, 32, 32, 108, 117, 99, 107, 32, 32, 32, 32, 109, 111, 114, 101, 32, 32, 32, 32, 111, 114, 32, 32, 32, 32, 32, 32, 97, 110, 100, 32, 32, 32, 32, 32, 110, 111, 116, 32, 32])]) hN rfl rfl (by decide) rfl dX7_init_858 ?_
  refine g_dup dX7_init_859 rfl ?_
  refine g_bipush (93) dX7_init_860 rfl ?_
  refine g_bipush (32) dX7_init_862 rfl ?_
  refine i_astL 12 (n := 96) (l := [108, 101, 116, 115, 32, 32, 32, 32, 108, 117, 99, 107, 115, 32, 32, 32, 116, 97, 107, 101, 115, 32, 32, 32, 116, 104, 105, 110, 103, 32, 32, 32, 107, 110, 111, 119, 110, 32, 32, 32, 107, 101, 112, 116, 32, 32, 32, 32, 116, 105, 100, 101, 32, 32, 32, 32, 108, 117, 99, 107, 32, 32, 32, 32, 109, 111, 114, 101, 32, 32, 32, 32, 111, 114, 32, 32, 32, 32, 32, 32, 97, 110, 100, 32, 32, 32, 32, 32, 110, 111, 116, 32, 32]) (as2 := [(6, lf []), (6, lf []), (18, lf []), (160, lf []), (1200, lf []), (24, lf []), (18, lf []), (4, lf []), (4, lf [-1, -1, -1, -1]), (4, lf []), (160, lf []), (32, lf [108, 101, 116, 115, 32, 116, 104, 105, 110, 103, 32, 59, 32, 108, 117, 99, 107, 115, 32, 53, 32, 59, 32, 116, 97, 107, 101, 115, 32, 50, 32, 59]), (96, lf [108, 101, 116, 115, 32, 32, 32, 32, 108, 117, 99, 107, 115, 32, 32, 32, 116, 97, 107, 101, 115, 32, 32, 32, 116, 104, 105, 110, 103, 32, 32, 32, 107, 110, 111, 119, 110, 32, 32, 32, 107, 101, 112, 116, 32, 32, 32, 32, 116, 105, 100, 101, 32, 32, 32, 32, 108, 117, 99, 107, 32, 32, 32, 32, 109, 111, 114, 101, 32, 32, 32, 32, 111, 114, 32, 32, 32, 32, 32, 32, 97, 110, 100, 32, 32, 32, 32, 32, 110, 111, 116, 32, 32, 32])]) hN rfl rfl (by decide) rfl dX7_init_864 ?_
  refine g_dup dX7_init_865 rfl ?_
  refine g_bipush (94) dX7_init_866 rfl ?_
  refine g_pc 868 rfl ?_
  refine g_bipush (32) dX7_init_868 rfl ?_
  refine i_astL 12 (n := 96) (l := [108, 101, 116, 115, 32, 32, 32, 32, 108, 117, 99, 107, 115, 32, 32, 32, 116, 97, 107, 101, 115, 32, 32, 32, 116, 104, 105, 110, 103, 32, 32, 32, 107, 110, 111, 119, 110, 32, 32, 32, 107, 101, 112, 116, 32, 32, 32, 32, 116, 105, 100, 101, 32, 32, 32, 32, 108, 117, 99, 107, 32, 32, 32, 32, 109, 111, 114, 101, 32, 32, 32, 32, 111, 114, 32, 32, 32, 32, 32, 32, 97, 110, 100, 32, 32, 32, 32, 32, 110, 111, 116, 32, 32, 32]) (as2 := [(6, lf []), (6, lf []), (18, lf []), (160, lf []), (1200, lf []), (24, lf []), (18, lf []), (4, lf []), (4, lf [-1, -1, -1, -1]), (4, lf []), (160, lf []), (32, lf [108, 101, 116, 115, 32, 116, 104, 105, 110, 103, 32, 59, 32, 108, 117, 99, 107, 115, 32, 53, 32, 59, 32, 116, 97, 107, 101, 115, 32, 50, 32, 59]), (96, lf [108, 101, 116, 115, 32, 32, 32, 32, 108, 117, 99, 107, 115, 32, 32, 32, 116, 97, 107, 101, 115, 32, 32, 32, 116, 104, 105, 110, 103, 32, 32, 32, 107, 110, 111, 119, 110, 32, 32, 32, 107, 101, 112, 116, 32, 32, 32, 32, 116, 105, 100, 101, 32, 32, 32, 32, 108, 117, 99, 107, 32, 32, 32, 32, 109, 111, 114, 101, 32, 32, 32, 32, 111, 114, 32, 32, 32, 32, 32, 32, 97, 110, 100, 32, 32, 32, 32, 32, 110, 111, 116, 32, 32, 32, 32])]) hN rfl rfl (by decide) rfl dX7_init_870 ?_
  refine g_dup dX7_init_871 rfl ?_
  refine g_bipush (95) dX7_init_872 rfl ?_
  refine g_bipush (32) dX7_init_874 rfl ?_
  refine i_astL 12 (n := 96) (l := [108, 101, 116, 115, 32, 32, 32, 32, 108, 117, 99, 107, 115, 32, 32, 32, 116, 97, 107, 101, 115, 32, 32, 32, 116, 104, 105, 110, 103, 32, 32, 32, 107, 110, 111, 119, 110, 32, 32, 32, 107, 101, 112, 116, 32, 32, 32, 32, 116, 105, 100, 101, 32, 32, 32, 32, 108, 117, 99, 107, 32, 32, 32, 32, 109, 111, 114, 101, 32, 32, 32, 32, 111, 114, 32, 32, 32, 32, 32, 32, 97, 110, 100, 32, 32, 32, 32, 32, 110, 111, 116, 32, 32, 32, 32]) (as2 := [(6, lf []), (6, lf []), (18, lf []), (160, lf []), (1200, lf []), (24, lf []), (18, lf []), (4, lf []), (4, lf [-1, -1, -1, -1]), (4, lf []), (160, lf []), (32, lf [108, 101, 116, 115, 32, 116, 104, 105, 110, 103, 32, 59, 32, 108, 117, 99, 107, 115, 32, 53, 32, 59, 32, 116, 97, 107, 101, 115, 32, 50, 32, 59]), (96, lf [108, 101, 116, 115, 32, 32, 32, 32, 108, 117, 99, 107, 115, 32, 32, 32, 116, 97, 107, 101, 115, 32, 32, 32, 116, 104, 105, 110, 103, 32, 32, 32, 107, 110, 111, 119, 110, 32, 32, 32, 107, 101, 112, 116, 32, 32, 32, 32, 116, 105, 100, 101, 32, 32, 32, 32, 108, 117, 99, 107, 32, 32, 32, 32, 109, 111, 114, 101, 32, 32, 32, 32, 111, 114, 32, 32, 32, 32, 32, 32, 97, 110, 100, 32, 32, 32, 32, 32, 110, 111, 116, 32, 32, 32, 32, 32])]) hN rfl rfl (by decide) rfl dX7_init_876 ?_
  refine i_put 23 hN rfl (by decide) q1467 rfl rfl rfl (iff_of_true (Nat.le_of_ble_eq_true rfl) trivial) trivial dX7_init_877 ?_
  refine g_aload_n dX7_init_880 rfl ?_
  refine g_sipush (200) dX7_init_881 rfl ?_
  refine i_newI 200 13 14 (as2 := [(6, lf []), (6, lf []), (18, lf []), (160, lf []), (1200, lf []), (24, lf []), (18, lf []), (4, lf []), (4, lf [-1, -1, -1, -1]), (4, lf []), (160, lf []), (32, lf [108, 101, 116, 115, 32, 116, 104, 105, 110, 103, 32, 59, 32, 108, 117, 99, 107, 115, 32, 53, 32, 59, 32, 116, 97, 107, 101, 115, 32, 50, 32, 59]), (96, lf [108, 101, 116, 115, 32, 32, 32, 32, 108, 117, 99, 107, 115, 32, 32, 32, 116, 97, 107, 101, 115, 32, 32, 32, 116, 104, 105, 110, 103, 32, 32, 32, 107, 110, 111, 119, 110, 32, 32, 32, 107, 101, 112, 116, 32, 32, 32, 32, 116, 105, 100, 101, 32, 32, 32, 32, 108, 117, 99, 107, 32, 32, 32, 32, 109, 111, 114, 101, 32, 32, 32, 32, 111, 114, 32, 32, 32, 32, 32, 32, 97, 110, 100, 32, 32, 32, 32, 32, 110, 111, 116, 32, 32, 32, 32, 32]), (200, lf [])]) rfl rfl rfl rfl (by decide) ⟨by decide, by decide⟩ q139 dX7_init_884 ?_
  refine i_put 24 hN rfl (by decide) q1468 rfl rfl rfl (iff_of_true (Nat.le_of_ble_eq_true rfl) trivial) trivial dX7_init_886 ?_
  refine g_aload_n dX7_init_889 rfl ?_
  refine g_pc 890 rfl ?_
  refine g_sipush (200) dX7_init_890 rfl ?_
  refine i_newI 200 14 15 (as2 := [(6, lf []), (6, lf []), (18, lf []), (160, lf []), (1200, lf []), (24, lf []), (18, lf []), (4, lf []), (4, lf [-1, -1, -1, -1]), (4, lf []), (160, lf []), (32, lf [108, 101, 116, 115, 32, 116, 104, 105, 110, 103, 32, 59, 32, 108, 117, 99, 107, 115, 32, 53, 32, 59, 32, 116, 97, 107, 101, 115, 32, 50, 32, 59]), (96, lf [108, 101, 116, 115, 32, 32, 32, 32, 108, 117, 99, 107, 115, 32, 32, 32, 116, 97, 107, 101, 115, 32, 32, 32, 116, 104, 105, 110, 103, 32, 32, 32, 107, 110, 111, 119, 110, 32, 32, 32, 107, 101, 112, 116, 32, 32, 32, 32, 116, 105, 100, 101, 32, 32, 32, 32, 108, 117, 99, 107, 32, 32, 32, 32, 109, 111, 114, 101, 32, 32, 32, 32, 111, 114, 32, 32, 32, 32, 32, 32, 97, 110, 100, 32, 32, 32, 32, 32, 110, 111, 116, 32, 32, 32, 32, 32]), (200, lf []), (200, lf [])]) rfl rfl rfl rfl (by decide) ⟨by decide, by decide⟩ q139 dX7_init_893 ?_
  refine i_put 28 hN rfl (by decide) q1472 rfl rfl rfl (iff_of_true (Nat.le_of_ble_eq_true rfl) trivial) trivial dX7_init_895 ?_
  refine g_aload_n dX7_init_898 rfl ?_
  refine g_bipush (6) dX7_init_899 rfl ?_
  refine i_newI 6 15 16 (as2 := [(6, lf []), (6, lf []), (18, lf []), (160, lf []), (1200, lf []), (24, lf []), (18, lf []), (4, lf []), (4, lf [-1, -1, -1, -1]), (4, lf []), (160, lf []), (32, lf [108, 101, 116, 115, 32, 116, 104, 105, 110, 103, 32, 59, 32, 108, 117, 99, 107, 115, 32, 53, 32, 59, 32, 116, 97, 107, 101, 115, 32, 50, 32, 59]), (96, lf [108, 101, 116, 115, 32, 32, 32, 32, 108, 117, 99, 107, 115, 32, 32, 32, 116, 97, 107, 101, 115, 32, 32, 32, 116, 104, 105, 110, 103, 32, 32, 32, 107, 110, 111, 119, 110, 32, 32, 32, 107, 101, 112, 116, 32, 32, 32, 32, 116, 105, 100, 101, 32, 32, 32, 32, 108, 117, 99, 107, 32, 32, 32, 32, 109, 111, 114, 101, 32, 32, 32, 32, 111, 114, 32, 32, 32, 32, 32, 32, 97, 110, 100, 32, 32, 32, 32, 32, 110, 111, 116, 32, 32, 32, 32, 32]), (200, lf []), (200, lf []), (6, lf [])]) rfl rfl rfl rfl (by decide) ⟨by decide, by decide⟩ q139 dX7_init_901 ?_
  refine i_put 29 hN rfl (by decide) q1473 rfl rfl rfl (iff_of_true (Nat.le_of_ble_eq_true rfl) trivial) trivial dX7_init_903 ?_
  refine g_aload_n dX7_init_906 rfl ?_
  refine g_bipush (20) dX7_init_907 rfl ?_
  refine i_newI 20 16 17 (as2 := [(6, lf []), (6, lf []), (18, lf []), (160, lf []), (1200, lf []), (24, lf []), (18, lf []), (4, lf []), (4, lf [-1, -1, -1, -1]), (4, lf []), (160, lf []), (32, lf [108, 101, 116, 115, 32, 116, 104, 105, 110, 103, 32, 59, 32, 108, 117, 99, 107, 115, 32, 53, 32, 59, 32, 116, 97, 107, 101, 115, 32, 50, 32, 59]), (96, lf [108, 101, 116, 115, 32, 32, 32, 32, 108, 117, 99, 107, 115, 32, 32, 32, 116, 97, 107, 101, 115, 32, 32, 32, 116, 104, 105, 110, 103, 32, 32, 32, 107, 110, 111, 119, 110, 32, 32, 32, 107, 101, 112, 116, 32, 32, 32, 32, 116, 105, 100, 101, 32, 32, 32, 32, 108, 117, 99, 107, 32, 32, 32, 32, 109, 111, 114, 101, 32, 32, 32, 32, 111, 114, 32, 32, 32, 32, 32, 32, 97, 110, 100, 32, 32, 32, 32, 32, 110, 111, 116, 32, 32, 32, 32, 32]), (200, lf []), (200, lf []), (6, lf []), (20, lf [])]) rfl rfl rfl rfl (by decide) ⟨by decide, by decide⟩ q139 dX7_init_909 ?_
  refine i_put 30 hN rfl (by decide) q1474 rfl rfl rfl (iff_of_true (Nat.le_of_ble_eq_true rfl) trivial) trivial dX7_init_911 ?_
  refine g_om (iM_hM rfl) ?_
  refine g_pc 914 rfl ?_
  refine g_cnt 17 2158 rfl rfl ?_
  refine g_iconst (0) dX7_init_914 rfl ?_
  refine g_istore_n (L' := [(1, _), (0, _)]) dX7_init_915 (by decide) rfl ?_
  have hh : hM g b (fun _ => 0) A00 A00 ω0 = hM g b (mF (fun _ => 0) (lf [], 0, 0)) (mA (sA A00 6 (lf (lawL0.take 0))) (lf [], 0, 0)) A00 ω0 := by
    rw [show sA A00 6 (lf (lawL0.take 0)) = A00 from sA_self A00 6, show mF (fun _ => 0) (lf [], 0, 0) = (fun _ => 0) from mF_self (fun _ => 0) A00, show mA A00 (lf [], 0, 0) = A00 from mA_self (fun _ => 0) A00]
  rw [hh]
  refine l_init hN (fun u => ?_) 32 0 (by omega)
  refine g_aload_n dX7_init_940 rfl ?_
  refine g_bipush (32) dX7_init_941 rfl ?_
  refine mpc_taped hN  dX7_init_943 ?_
  refine g_aload_n dX7_init_946 rfl ?_
  refine gm_callQ (n := 0) (c_text (n := 32) (tn := 0) hN rfl (by decide) rfl (by decide)) (lw_V q1397 q1398 q1399 q92 q1400) (by decide +kernel) rfl rfl (by decide) ⟨by decide, by decide⟩ (Nat.le_of_ble_eq_true rfl) dX7_init_947 (fun v ω1 z1 hq => ?_)
  obtain ⟨rfl, rfl, F, A, A2, rfl, hT⟩ := hq
  refine g_pop dX7_init_950 rfl ?_
  refine g_vret rfl (by decide) (by decide) ?_ dX7_init_951
  exact ⟨rfl, rfl, F, A, A2, rfl, hT⟩
end A
