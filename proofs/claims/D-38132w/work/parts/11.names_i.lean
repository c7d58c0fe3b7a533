/-! SpillslotWorksModel$Chooser -/
set_option maxRecDepth 100000
def RX20 : String := "SpillslotWorksModel$Chooser"
def TX20 : u_T := fun k => match k with
  | 0 => ("SpillslotWorksModel$Chooser", "program", "LSpillslotWorksModel$Program;", true)
  | 1 => ("SpillslotWorksModel$Chooser", "machine", "LSpillslotWorksModel$Machine;", true)
  | 2 => ("SpillslotWorksModel$Chooser", "ops", "Ljava/util/ArrayList;", true)
  | 3 => ("SpillslotWorksModel$Chooser", "isOrdered", "Z", true)
  | 4 => ("SpillslotWorksModel$Chooser", "costs", "[I", true)
  | 5 => ("SpillslotWorksModel$Chooser", "values", "I", false)
  | _ => ("SpillslotWorksModel$Chooser", "block", "I", false)
def tyX20 : Nat → FieldType := fun k => match k with
  | 0 => .object "SpillslotWorksModel$Program"
  | 1 => .object "SpillslotWorksModel$Machine"
  | 2 => .object "java/util/ArrayList"
  | 3 => .boolean
  | 4 => .array .int
  | 5 => .int
  | _ => .int
abbrev wsX200 : List Cond := u_ws RX20 TX20 7
theorem nmX20 : ∀ a, a < 7 → ∀ b, b < 7 → a ≠ b → (TX20 a).2.1 ≠ (TX20 b).2.1 := by decide +kernel
theorem tyX20_ok : ∀ k, k < 7 → parseFieldDescriptor (TX20 k).2.2.1 = some (tyX20 k) := by decide +kernel
abbrev cX20_init : ByteArray := prog_18_method_1_code
def yX20_init : MethodName := ⟨RX20, "<init>", "(LSpillslotWorksModel$Program;LSpillslotWorksModel$Machine;Z)V"⟩
def dkwX20_init_8 : List UInt8 := [42, 180, 0, 12, 25, 4, 182, 0, 76, 87, 177]
abbrev dktX20_init_8 : List UInt8 := dkwX20_init_8 ++ []
def dkwX20_init_7 : List UInt8 := [180, 0, 38, 4, 96, 181, 0, 38, 167, 255, 165, 42, 180, 0, 12, 182, 0, 41, 42, 25, 4, 182, 0, 80]
abbrev dktX20_init_7 : List UInt8 := dkwX20_init_7 ++ dktX20_init_8
def dkwX20_init_6 : List UInt8 := [46, 25, 6, 3, 46, 182, 0, 68, 167, 255, 222, 25, 4, 42, 182, 0, 72, 182, 0, 76, 87, 42, 89]
abbrev dktX20_init_6 : List UInt8 := dkwX20_init_6 ++ dktX20_init_7
def dkwX20_init_5 : List UInt8 := [185, 0, 57, 1, 0, 153, 0, 30, 25, 5, 185, 0, 63, 1, 0, 192, 0, 67, 58, 6, 42, 25, 6, 4]
abbrev dktX20_init_5 : List UInt8 := dkwX20_init_5 ++ dktX20_init_6
def dkwX20_init_4 : List UInt8 := [182, 0, 41, 43, 180, 0, 44, 42, 180, 0, 38, 182, 0, 49, 192, 0, 9, 182, 0, 53, 58, 5, 25, 5]
abbrev dktX20_init_4 : List UInt8 := dkwX20_init_4 ++ dktX20_init_5
def dkwX20_init_3 : List UInt8 := [89, 183, 0, 11, 58, 4, 42, 3, 181, 0, 38, 42, 180, 0, 38, 7, 162, 0, 89, 42, 180, 0, 12]
abbrev dktX20_init_3 : List UInt8 := dkwX20_init_3 ++ dktX20_init_4
def dkwX20_init_2 : List UInt8 := [21, 4, 16, 80, 162, 0, 17, 42, 180, 0, 18, 21, 4, 2, 79, 132, 4, 1, 167, 255, 238, 187, 0, 9]
abbrev dktX20_init_2 : List UInt8 := dkwX20_init_2 ++ dktX20_init_3
def dkwX20_init_1 : List UInt8 := [16, 8, 181, 0, 22, 42, 43, 181, 0, 26, 42, 44, 181, 0, 30, 42, 29, 181, 0, 34, 3, 54, 4]
abbrev dktX20_init_1 : List UInt8 := dkwX20_init_1 ++ dktX20_init_2
def dkwX20_init_0 : List UInt8 := [42, 183, 0, 3, 42, 187, 0, 9, 89, 183, 0, 11, 181, 0, 12, 42, 16, 80, 188, 10, 181, 0, 18, 42]
abbrev dktX20_init_0 : List UInt8 := dkwX20_init_0 ++ dktX20_init_1
theorem dksX20_init_0 : cX20_init.data.toList.drop 0 = dktX20_init_0 := by decide +kernel
theorem dksX20_init_1 : cX20_init.data.toList.drop 24 = dktX20_init_1 := dk_seg dksX20_init_0 24 rfl rfl
theorem dksX20_init_2 : cX20_init.data.toList.drop 47 = dktX20_init_2 := dk_seg dksX20_init_1 23 rfl rfl
theorem dksX20_init_3 : cX20_init.data.toList.drop 71 = dktX20_init_3 := dk_seg dksX20_init_2 24 rfl rfl
theorem dksX20_init_4 : cX20_init.data.toList.drop 94 = dktX20_init_4 := dk_seg dksX20_init_3 23 rfl rfl
theorem dksX20_init_5 : cX20_init.data.toList.drop 118 = dktX20_init_5 := dk_seg dksX20_init_4 24 rfl rfl
theorem dksX20_init_6 : cX20_init.data.toList.drop 142 = dktX20_init_6 := dk_seg dksX20_init_5 24 rfl rfl
theorem dksX20_init_7 : cX20_init.data.toList.drop 165 = dktX20_init_7 := dk_seg dksX20_init_6 23 rfl rfl
theorem dksX20_init_8 : cX20_init.data.toList.drop 189 = dktX20_init_8 := dk_seg dksX20_init_7 24 rfl rfl
theorem dX20_init_0 : decode cX20_init 0 = .ok (.aload_n 0, 1) := dk_42 (dk_at dksX20_init_0 0 rfl rfl)
theorem dX20_init_1 : decode cX20_init 1 = .ok (.invokespecial 3, 3) := dk_183 0 3 (dk_at dksX20_init_0 1 rfl rfl)
theorem dX20_init_4 : decode cX20_init 4 = .ok (.aload_n 0, 1) := dk_42 (dk_at dksX20_init_0 4 rfl rfl)
theorem dX20_init_5 : decode cX20_init 5 = .ok (.new 9, 3) := dk_187 0 9 (dk_at dksX20_init_0 5 rfl rfl)
theorem dX20_init_8 : decode cX20_init 8 = .ok (.dup, 1) := dk_89 (dk_at dksX20_init_0 8 rfl rfl)
theorem dX20_init_9 : decode cX20_init 9 = .ok (.invokespecial 11, 3) := dk_183 0 11 (dk_at dksX20_init_0 9 rfl rfl)
theorem dX20_init_12 : decode cX20_init 12 = .ok (.putfield 12, 3) := dk_181 0 12 (dk_at dksX20_init_0 12 rfl rfl)
theorem dX20_init_15 : decode cX20_init 15 = .ok (.aload_n 0, 1) := dk_42 (dk_at dksX20_init_0 15 rfl rfl)
theorem dX20_init_16 : decode cX20_init 16 = .ok (.bipush 80, 2) := dk_16 80 (dk_at dksX20_init_0 16 rfl rfl)
theorem dX20_init_18 : decode cX20_init 18 = .ok (.newarray .int, 2) := dk_188_10 (dk_at dksX20_init_0 18 rfl rfl)
theorem dX20_init_20 : decode cX20_init 20 = .ok (.putfield 18, 3) := dk_181 0 18 (dk_at dksX20_init_0 20 rfl rfl)
theorem dX20_init_23 : decode cX20_init 23 = .ok (.aload_n 0, 1) := dk_42 (dk_at dksX20_init_0 23 rfl rfl)
theorem dX20_init_24 : decode cX20_init 24 = .ok (.bipush 8, 2) := dk_16 8 (dk_at dksX20_init_1 0 rfl rfl)
theorem dX20_init_26 : decode cX20_init 26 = .ok (.putfield 22, 3) := dk_181 0 22 (dk_at dksX20_init_1 2 rfl rfl)
theorem dX20_init_29 : decode cX20_init 29 = .ok (.aload_n 0, 1) := dk_42 (dk_at dksX20_init_1 5 rfl rfl)
theorem dX20_init_30 : decode cX20_init 30 = .ok (.aload_n 1, 1) := dk_43 (dk_at dksX20_init_1 6 rfl rfl)
theorem dX20_init_31 : decode cX20_init 31 = .ok (.putfield 26, 3) := dk_181 0 26 (dk_at dksX20_init_1 7 rfl rfl)
theorem dX20_init_34 : decode cX20_init 34 = .ok (.aload_n 0, 1) := dk_42 (dk_at dksX20_init_1 10 rfl rfl)
theorem dX20_init_35 : decode cX20_init 35 = .ok (.aload_n 2, 1) := dk_44 (dk_at dksX20_init_1 11 rfl rfl)
theorem dX20_init_36 : decode cX20_init 36 = .ok (.putfield 30, 3) := dk_181 0 30 (dk_at dksX20_init_1 12 rfl rfl)
theorem dX20_init_39 : decode cX20_init 39 = .ok (.aload_n 0, 1) := dk_42 (dk_at dksX20_init_1 15 rfl rfl)
theorem dX20_init_40 : decode cX20_init 40 = .ok (.iload_n 3, 1) := dk_29 (dk_at dksX20_init_1 16 rfl rfl)
theorem dX20_init_41 : decode cX20_init 41 = .ok (.putfield 34, 3) := dk_181 0 34 (dk_at dksX20_init_1 17 rfl rfl)
theorem dX20_init_44 : decode cX20_init 44 = .ok (.iconst 0, 1) := dk_3 (dk_at dksX20_init_1 20 rfl rfl)
theorem dX20_init_45 : decode cX20_init 45 = .ok (.istore 4, 2) := dk_54 4 (dk_at dksX20_init_1 21 rfl rfl)
theorem dX20_init_47 : decode cX20_init 47 = .ok (.iload 4, 2) := dk_21 4 (dk_at dksX20_init_2 0 rfl rfl)
theorem dX20_init_49 : decode cX20_init 49 = .ok (.bipush 80, 2) := dk_16 80 (dk_at dksX20_init_2 2 rfl rfl)
theorem dX20_init_51 : decode cX20_init 51 = .ok (.if_icmp .ge 17, 3) := dk_162 0 17 (dk_at dksX20_init_2 4 rfl rfl)
theorem dX20_init_54 : decode cX20_init 54 = .ok (.aload_n 0, 1) := dk_42 (dk_at dksX20_init_2 7 rfl rfl)
theorem dX20_init_55 : decode cX20_init 55 = .ok (.getfield 18, 3) := dk_180 0 18 (dk_at dksX20_init_2 8 rfl rfl)
theorem dX20_init_58 : decode cX20_init 58 = .ok (.iload 4, 2) := dk_21 4 (dk_at dksX20_init_2 11 rfl rfl)
theorem dX20_init_60 : decode cX20_init 60 = .ok (.iconst (-1), 1) := dk_2 (dk_at dksX20_init_2 13 rfl rfl)
theorem dX20_init_61 : decode cX20_init 61 = .ok (.iastore, 1) := dk_79 (dk_at dksX20_init_2 14 rfl rfl)
theorem dX20_init_62 : decode cX20_init 62 = .ok (.iinc 4 1, 3) := dk_132 4 1 (dk_at dksX20_init_2 15 rfl rfl)
theorem dX20_init_65 : decode cX20_init 65 = .ok (.goto (-18), 3) := dk_167 255 238 (dk_at dksX20_init_2 18 rfl rfl)
theorem dX20_init_68 : decode cX20_init 68 = .ok (.new 9, 3) := dk_187 0 9 (dk_at dksX20_init_2 21 rfl rfl)
theorem dX20_init_71 : decode cX20_init 71 = .ok (.dup, 1) := dk_89 (dk_at dksX20_init_3 0 rfl rfl)
theorem dX20_init_72 : decode cX20_init 72 = .ok (.invokespecial 11, 3) := dk_183 0 11 (dk_at dksX20_init_3 1 rfl rfl)
theorem dX20_init_75 : decode cX20_init 75 = .ok (.astore 4, 2) := dk_58 4 (dk_at dksX20_init_3 4 rfl rfl)
theorem dX20_init_77 : decode cX20_init 77 = .ok (.aload_n 0, 1) := dk_42 (dk_at dksX20_init_3 6 rfl rfl)
theorem dX20_init_78 : decode cX20_init 78 = .ok (.iconst 0, 1) := dk_3 (dk_at dksX20_init_3 7 rfl rfl)
theorem dX20_init_79 : decode cX20_init 79 = .ok (.putfield 38, 3) := dk_181 0 38 (dk_at dksX20_init_3 8 rfl rfl)
theorem dX20_init_82 : decode cX20_init 82 = .ok (.aload_n 0, 1) := dk_42 (dk_at dksX20_init_3 11 rfl rfl)
theorem dX20_init_83 : decode cX20_init 83 = .ok (.getfield 38, 3) := dk_180 0 38 (dk_at dksX20_init_3 12 rfl rfl)
theorem dX20_init_86 : decode cX20_init 86 = .ok (.iconst 4, 1) := dk_7 (dk_at dksX20_init_3 15 rfl rfl)
theorem dX20_init_87 : decode cX20_init 87 = .ok (.if_icmp .ge 89, 3) := dk_162 0 89 (dk_at dksX20_init_3 16 rfl rfl)
theorem dX20_init_90 : decode cX20_init 90 = .ok (.aload_n 0, 1) := dk_42 (dk_at dksX20_init_3 19 rfl rfl)
theorem dX20_init_91 : decode cX20_init 91 = .ok (.getfield 12, 3) := dk_180 0 12 (dk_at dksX20_init_3 20 rfl rfl)
theorem dX20_init_94 : decode cX20_init 94 = .ok (.invokevirtual 41, 3) := dk_182 0 41 (dk_at dksX20_init_4 0 rfl rfl)
theorem dX20_init_97 : decode cX20_init 97 = .ok (.aload_n 1, 1) := dk_43 (dk_at dksX20_init_4 3 rfl rfl)
theorem dX20_init_98 : decode cX20_init 98 = .ok (.getfield 44, 3) := dk_180 0 44 (dk_at dksX20_init_4 4 rfl rfl)
theorem dX20_init_101 : decode cX20_init 101 = .ok (.aload_n 0, 1) := dk_42 (dk_at dksX20_init_4 7 rfl rfl)
theorem dX20_init_102 : decode cX20_init 102 = .ok (.getfield 38, 3) := dk_180 0 38 (dk_at dksX20_init_4 8 rfl rfl)
theorem dX20_init_105 : decode cX20_init 105 = .ok (.invokevirtual 49, 3) := dk_182 0 49 (dk_at dksX20_init_4 11 rfl rfl)
theorem dX20_init_108 : decode cX20_init 108 = .ok (.checkcast 9, 3) := dk_192 0 9 (dk_at dksX20_init_4 14 rfl rfl)
theorem dX20_init_111 : decode cX20_init 111 = .ok (.invokevirtual 53, 3) := dk_182 0 53 (dk_at dksX20_init_4 17 rfl rfl)
theorem dX20_init_114 : decode cX20_init 114 = .ok (.astore 5, 2) := dk_58 5 (dk_at dksX20_init_4 20 rfl rfl)
theorem dX20_init_116 : decode cX20_init 116 = .ok (.aload 5, 2) := dk_25 5 (dk_at dksX20_init_4 22 rfl rfl)
theorem dX20_init_118 : decode cX20_init 118 = .ok (.invokeinterface 57 1, 5) := by decide +kernel
theorem dX20_init_123 : decode cX20_init 123 = .ok (.ifCond .eq 30, 3) := dk_153 0 30 (dk_at dksX20_init_5 5 rfl rfl)
theorem dX20_init_126 : decode cX20_init 126 = .ok (.aload 5, 2) := dk_25 5 (dk_at dksX20_init_5 8 rfl rfl)
theorem dX20_init_128 : decode cX20_init 128 = .ok (.invokeinterface 63 1, 5) := by decide +kernel
theorem dX20_init_133 : decode cX20_init 133 = .ok (.checkcast 67, 3) := dk_192 0 67 (dk_at dksX20_init_5 15 rfl rfl)
theorem dX20_init_136 : decode cX20_init 136 = .ok (.astore 6, 2) := dk_58 6 (dk_at dksX20_init_5 18 rfl rfl)
theorem dX20_init_138 : decode cX20_init 138 = .ok (.aload_n 0, 1) := dk_42 (dk_at dksX20_init_5 20 rfl rfl)
theorem dX20_init_139 : decode cX20_init 139 = .ok (.aload 6, 2) := dk_25 6 (dk_at dksX20_init_5 21 rfl rfl)
theorem dX20_init_141 : decode cX20_init 141 = .ok (.iconst 1, 1) := dk_4 (dk_at dksX20_init_5 23 rfl rfl)
theorem dX20_init_142 : decode cX20_init 142 = .ok (.iaload, 1) := dk_46 (dk_at dksX20_init_6 0 rfl rfl)
theorem dX20_init_143 : decode cX20_init 143 = .ok (.aload 6, 2) := dk_25 6 (dk_at dksX20_init_6 1 rfl rfl)
theorem dX20_init_145 : decode cX20_init 145 = .ok (.iconst 0, 1) := dk_3 (dk_at dksX20_init_6 3 rfl rfl)
theorem dX20_init_146 : decode cX20_init 146 = .ok (.iaload, 1) := dk_46 (dk_at dksX20_init_6 4 rfl rfl)
theorem dX20_init_147 : decode cX20_init 147 = .ok (.invokevirtual 68, 3) := dk_182 0 68 (dk_at dksX20_init_6 5 rfl rfl)
theorem dX20_init_150 : decode cX20_init 150 = .ok (.goto (-34), 3) := dk_167 255 222 (dk_at dksX20_init_6 8 rfl rfl)
theorem dX20_init_153 : decode cX20_init 153 = .ok (.aload 4, 2) := dk_25 4 (dk_at dksX20_init_6 11 rfl rfl)
theorem dX20_init_155 : decode cX20_init 155 = .ok (.aload_n 0, 1) := dk_42 (dk_at dksX20_init_6 13 rfl rfl)
theorem dX20_init_156 : decode cX20_init 156 = .ok (.invokevirtual 72, 3) := dk_182 0 72 (dk_at dksX20_init_6 14 rfl rfl)
theorem dX20_init_159 : decode cX20_init 159 = .ok (.invokevirtual 76, 3) := dk_182 0 76 (dk_at dksX20_init_6 17 rfl rfl)
theorem dX20_init_162 : decode cX20_init 162 = .ok (.pop, 1) := dk_87 (dk_at dksX20_init_6 20 rfl rfl)
theorem dX20_init_163 : decode cX20_init 163 = .ok (.aload_n 0, 1) := dk_42 (dk_at dksX20_init_6 21 rfl rfl)
theorem dX20_init_164 : decode cX20_init 164 = .ok (.dup, 1) := dk_89 (dk_at dksX20_init_6 22 rfl rfl)
theorem dX20_init_165 : decode cX20_init 165 = .ok (.getfield 38, 3) := dk_180 0 38 (dk_at dksX20_init_7 0 rfl rfl)
theorem dX20_init_168 : decode cX20_init 168 = .ok (.iconst 1, 1) := dk_4 (dk_at dksX20_init_7 3 rfl rfl)
theorem dX20_init_169 : decode cX20_init 169 = .ok (.iadd, 1) := dk_96 (dk_at dksX20_init_7 4 rfl rfl)
theorem dX20_init_170 : decode cX20_init 170 = .ok (.putfield 38, 3) := dk_181 0 38 (dk_at dksX20_init_7 5 rfl rfl)
theorem dX20_init_173 : decode cX20_init 173 = .ok (.goto (-91), 3) := dk_167 255 165 (dk_at dksX20_init_7 8 rfl rfl)
theorem dX20_init_176 : decode cX20_init 176 = .ok (.aload_n 0, 1) := dk_42 (dk_at dksX20_init_7 11 rfl rfl)
theorem dX20_init_177 : decode cX20_init 177 = .ok (.getfield 12, 3) := dk_180 0 12 (dk_at dksX20_init_7 12 rfl rfl)
theorem dX20_init_180 : decode cX20_init 180 = .ok (.invokevirtual 41, 3) := dk_182 0 41 (dk_at dksX20_init_7 15 rfl rfl)
theorem dX20_init_183 : decode cX20_init 183 = .ok (.aload_n 0, 1) := dk_42 (dk_at dksX20_init_7 18 rfl rfl)
theorem dX20_init_184 : decode cX20_init 184 = .ok (.aload 4, 2) := dk_25 4 (dk_at dksX20_init_7 19 rfl rfl)
theorem dX20_init_186 : decode cX20_init 186 = .ok (.invokevirtual 80, 3) := dk_182 0 80 (dk_at dksX20_init_7 21 rfl rfl)
theorem dX20_init_189 : decode cX20_init 189 = .ok (.aload_n 0, 1) := dk_42 (dk_at dksX20_init_8 0 rfl rfl)
theorem dX20_init_190 : decode cX20_init 190 = .ok (.getfield 12, 3) := dk_180 0 12 (dk_at dksX20_init_8 1 rfl rfl)
theorem dX20_init_193 : decode cX20_init 193 = .ok (.aload 4, 2) := dk_25 4 (dk_at dksX20_init_8 4 rfl rfl)
theorem dX20_init_195 : decode cX20_init 195 = .ok (.invokevirtual 76, 3) := dk_182 0 76 (dk_at dksX20_init_8 6 rfl rfl)
theorem dX20_init_198 : decode cX20_init 198 = .ok (.pop, 1) := dk_87 (dk_at dksX20_init_8 9 rfl rfl)
theorem dX20_init_199 : decode cX20_init 199 = .ok (.return_, 1) := dk_177 (dk_at dksX20_init_8 10 rfl rfl)
abbrev cX20_state : ByteArray := prog_18_method_14_code
def yX20_state : MethodName := ⟨RX20, "state", "(II)V"⟩
def dkwX20_state_2 : List UInt8 := [182, 0, 179, 87, 177]
abbrev dktX20_state_2 : List UInt8 := dkwX20_state_2 ++ []
def dkwX20_state_1 : List UInt8 := [180, 0, 26, 27, 182, 0, 104, 180, 0, 113, 79, 3, 182, 0, 176, 87, 167, 0, 10, 42, 27, 28]
abbrev dktX20_state_1 : List UInt8 := dkwX20_state_1 ++ dktX20_state_2
def dkwX20_state_0 : List UInt8 := [42, 180, 0, 26, 27, 182, 0, 104, 180, 0, 108, 4, 160, 0, 31, 42, 4, 28, 4, 188, 10, 89, 3, 42]
abbrev dktX20_state_0 : List UInt8 := dkwX20_state_0 ++ dktX20_state_1
theorem dksX20_state_0 : cX20_state.data.toList.drop 0 = dktX20_state_0 := by decide +kernel
theorem dksX20_state_1 : cX20_state.data.toList.drop 24 = dktX20_state_1 := dk_seg dksX20_state_0 24 rfl rfl
theorem dksX20_state_2 : cX20_state.data.toList.drop 46 = dktX20_state_2 := dk_seg dksX20_state_1 22 rfl rfl
theorem dX20_state_0 : decode cX20_state 0 = .ok (.aload_n 0, 1) := dk_42 (dk_at dksX20_state_0 0 rfl rfl)
theorem dX20_state_1 : decode cX20_state 1 = .ok (.getfield 26, 3) := dk_180 0 26 (dk_at dksX20_state_0 1 rfl rfl)
theorem dX20_state_4 : decode cX20_state 4 = .ok (.iload_n 1, 1) := dk_27 (dk_at dksX20_state_0 4 rfl rfl)
theorem dX20_state_5 : decode cX20_state 5 = .ok (.invokevirtual 104, 3) := dk_182 0 104 (dk_at dksX20_state_0 5 rfl rfl)
theorem dX20_state_8 : decode cX20_state 8 = .ok (.getfield 108, 3) := dk_180 0 108 (dk_at dksX20_state_0 8 rfl rfl)
theorem dX20_state_11 : decode cX20_state 11 = .ok (.iconst 1, 1) := dk_4 (dk_at dksX20_state_0 11 rfl rfl)
theorem dX20_state_12 : decode cX20_state 12 = .ok (.if_icmp .ne 31, 3) := dk_160 0 31 (dk_at dksX20_state_0 12 rfl rfl)
theorem dX20_state_15 : decode cX20_state 15 = .ok (.aload_n 0, 1) := dk_42 (dk_at dksX20_state_0 15 rfl rfl)
theorem dX20_state_16 : decode cX20_state 16 = .ok (.iconst 1, 1) := dk_4 (dk_at dksX20_state_0 16 rfl rfl)
theorem dX20_state_17 : decode cX20_state 17 = .ok (.iload_n 2, 1) := dk_28 (dk_at dksX20_state_0 17 rfl rfl)
theorem dX20_state_18 : decode cX20_state 18 = .ok (.iconst 1, 1) := dk_4 (dk_at dksX20_state_0 18 rfl rfl)
theorem dX20_state_19 : decode cX20_state 19 = .ok (.newarray .int, 2) := dk_188_10 (dk_at dksX20_state_0 19 rfl rfl)
theorem dX20_state_21 : decode cX20_state 21 = .ok (.dup, 1) := dk_89 (dk_at dksX20_state_0 21 rfl rfl)
theorem dX20_state_22 : decode cX20_state 22 = .ok (.iconst 0, 1) := dk_3 (dk_at dksX20_state_0 22 rfl rfl)
theorem dX20_state_23 : decode cX20_state 23 = .ok (.aload_n 0, 1) := dk_42 (dk_at dksX20_state_0 23 rfl rfl)
theorem dX20_state_24 : decode cX20_state 24 = .ok (.getfield 26, 3) := dk_180 0 26 (dk_at dksX20_state_1 0 rfl rfl)
theorem dX20_state_27 : decode cX20_state 27 = .ok (.iload_n 1, 1) := dk_27 (dk_at dksX20_state_1 3 rfl rfl)
theorem dX20_state_28 : decode cX20_state 28 = .ok (.invokevirtual 104, 3) := dk_182 0 104 (dk_at dksX20_state_1 4 rfl rfl)
theorem dX20_state_31 : decode cX20_state 31 = .ok (.getfield 113, 3) := dk_180 0 113 (dk_at dksX20_state_1 7 rfl rfl)
theorem dX20_state_34 : decode cX20_state 34 = .ok (.iastore, 1) := dk_79 (dk_at dksX20_state_1 10 rfl rfl)
theorem dX20_state_35 : decode cX20_state 35 = .ok (.iconst 0, 1) := dk_3 (dk_at dksX20_state_1 11 rfl rfl)
theorem dX20_state_36 : decode cX20_state 36 = .ok (.invokevirtual 176, 3) := dk_182 0 176 (dk_at dksX20_state_1 12 rfl rfl)
theorem dX20_state_39 : decode cX20_state 39 = .ok (.pop, 1) := dk_87 (dk_at dksX20_state_1 15 rfl rfl)
theorem dX20_state_40 : decode cX20_state 40 = .ok (.goto 10, 3) := dk_167 0 10 (dk_at dksX20_state_1 16 rfl rfl)
theorem dX20_state_43 : decode cX20_state 43 = .ok (.aload_n 0, 1) := dk_42 (dk_at dksX20_state_1 19 rfl rfl)
theorem dX20_state_44 : decode cX20_state 44 = .ok (.iload_n 1, 1) := dk_27 (dk_at dksX20_state_1 20 rfl rfl)
theorem dX20_state_45 : decode cX20_state 45 = .ok (.iload_n 2, 1) := dk_28 (dk_at dksX20_state_1 21 rfl rfl)
theorem dX20_state_46 : decode cX20_state 46 = .ok (.invokevirtual 179, 3) := dk_182 0 179 (dk_at dksX20_state_2 0 rfl rfl)
theorem dX20_state_49 : decode cX20_state 49 = .ok (.pop, 1) := dk_87 (dk_at dksX20_state_2 3 rfl rfl)
theorem dX20_state_50 : decode cX20_state 50 = .ok (.return_, 1) := dk_177 (dk_at dksX20_state_2 4 rfl rfl)
abbrev cX20_add : ByteArray := prog_18_method_13_code
def yX20_add : MethodName := ⟨RX20, "add", "(II[II)I"⟩
def dkwX20_add_2 : List UInt8 := [21, 5, 172]
abbrev dktX20_add_2 : List UInt8 := dkwX20_add_2 ++ []
def dkwX20_add_1 : List UInt8 := [180, 0, 12, 187, 0, 95, 89, 27, 21, 5, 45, 21, 4, 42, 180, 0, 38, 183, 0, 97, 182, 0, 100, 87]
abbrev dktX20_add_1 : List UInt8 := dkwX20_add_1 ++ dktX20_add_2
def dkwX20_add_0 : List UInt8 := [28, 2, 160, 0, 17, 42, 89, 180, 0, 22, 90, 4, 96, 181, 0, 22, 167, 0, 4, 28, 54, 5, 42]
abbrev dktX20_add_0 : List UInt8 := dkwX20_add_0 ++ dktX20_add_1
theorem dksX20_add_0 : cX20_add.data.toList.drop 0 = dktX20_add_0 := by decide +kernel
theorem dksX20_add_1 : cX20_add.data.toList.drop 23 = dktX20_add_1 := dk_seg dksX20_add_0 23 rfl rfl
theorem dksX20_add_2 : cX20_add.data.toList.drop 47 = dktX20_add_2 := dk_seg dksX20_add_1 24 rfl rfl
theorem dX20_add_0 : decode cX20_add 0 = .ok (.iload_n 2, 1) := dk_28 (dk_at dksX20_add_0 0 rfl rfl)
theorem dX20_add_1 : decode cX20_add 1 = .ok (.iconst (-1), 1) := dk_2 (dk_at dksX20_add_0 1 rfl rfl)
theorem dX20_add_2 : decode cX20_add 2 = .ok (.if_icmp .ne 17, 3) := dk_160 0 17 (dk_at dksX20_add_0 2 rfl rfl)
theorem dX20_add_5 : decode cX20_add 5 = .ok (.aload_n 0, 1) := dk_42 (dk_at dksX20_add_0 5 rfl rfl)
theorem dX20_add_6 : decode cX20_add 6 = .ok (.dup, 1) := dk_89 (dk_at dksX20_add_0 6 rfl rfl)
theorem dX20_add_7 : decode cX20_add 7 = .ok (.getfield 22, 3) := dk_180 0 22 (dk_at dksX20_add_0 7 rfl rfl)
theorem dX20_add_10 : decode cX20_add 10 = .ok (.dup_x1, 1) := dk_90 (dk_at dksX20_add_0 10 rfl rfl)
theorem dX20_add_11 : decode cX20_add 11 = .ok (.iconst 1, 1) := dk_4 (dk_at dksX20_add_0 11 rfl rfl)
theorem dX20_add_12 : decode cX20_add 12 = .ok (.iadd, 1) := dk_96 (dk_at dksX20_add_0 12 rfl rfl)
theorem dX20_add_13 : decode cX20_add 13 = .ok (.putfield 22, 3) := dk_181 0 22 (dk_at dksX20_add_0 13 rfl rfl)
theorem dX20_add_16 : decode cX20_add 16 = .ok (.goto 4, 3) := dk_167 0 4 (dk_at dksX20_add_0 16 rfl rfl)
theorem dX20_add_19 : decode cX20_add 19 = .ok (.iload_n 2, 1) := dk_28 (dk_at dksX20_add_0 19 rfl rfl)
theorem dX20_add_20 : decode cX20_add 20 = .ok (.istore 5, 2) := dk_54 5 (dk_at dksX20_add_0 20 rfl rfl)
theorem dX20_add_22 : decode cX20_add 22 = .ok (.aload_n 0, 1) := dk_42 (dk_at dksX20_add_0 22 rfl rfl)
theorem dX20_add_23 : decode cX20_add 23 = .ok (.getfield 12, 3) := dk_180 0 12 (dk_at dksX20_add_1 0 rfl rfl)
theorem dX20_add_26 : decode cX20_add 26 = .ok (.new 95, 3) := dk_187 0 95 (dk_at dksX20_add_1 3 rfl rfl)
theorem dX20_add_29 : decode cX20_add 29 = .ok (.dup, 1) := dk_89 (dk_at dksX20_add_1 6 rfl rfl)
theorem dX20_add_30 : decode cX20_add 30 = .ok (.iload_n 1, 1) := dk_27 (dk_at dksX20_add_1 7 rfl rfl)
theorem dX20_add_31 : decode cX20_add 31 = .ok (.iload 5, 2) := dk_21 5 (dk_at dksX20_add_1 8 rfl rfl)
theorem dX20_add_33 : decode cX20_add 33 = .ok (.aload_n 3, 1) := dk_45 (dk_at dksX20_add_1 10 rfl rfl)
theorem dX20_add_34 : decode cX20_add 34 = .ok (.iload 4, 2) := dk_21 4 (dk_at dksX20_add_1 11 rfl rfl)
theorem dX20_add_36 : decode cX20_add 36 = .ok (.aload_n 0, 1) := dk_42 (dk_at dksX20_add_1 13 rfl rfl)
theorem dX20_add_37 : decode cX20_add 37 = .ok (.getfield 38, 3) := dk_180 0 38 (dk_at dksX20_add_1 14 rfl rfl)
theorem dX20_add_40 : decode cX20_add 40 = .ok (.invokespecial 97, 3) := dk_183 0 97 (dk_at dksX20_add_1 17 rfl rfl)
theorem dX20_add_43 : decode cX20_add 43 = .ok (.invokevirtual 100, 3) := dk_182 0 100 (dk_at dksX20_add_1 20 rfl rfl)
theorem dX20_add_46 : decode cX20_add 46 = .ok (.pop, 1) := dk_87 (dk_at dksX20_add_1 23 rfl rfl)
theorem dX20_add_47 : decode cX20_add 47 = .ok (.iload 5, 2) := dk_21 5 (dk_at dksX20_add_2 0 rfl rfl)
theorem dX20_add_49 : decode cX20_add 49 = .ok (.ireturn, 1) := dk_172 (dk_at dksX20_add_2 2 rfl rfl)
abbrev cX20_choose : ByteArray := prog_18_method_15_code
def yX20_choose : MethodName := ⟨RX20, "choose", "(II)I"⟩
def dkwX20_choose_8 : List UInt8 := [167, 0, 6, 21, 5, 116, 182, 0, 176, 172, 42, 45, 28, 182, 0, 182, 172]
abbrev dktX20_choose_8 : List UInt8 := dkwX20_choose_8 ++ []
def dkwX20_choose_7 : List UInt8 := [54, 6, 42, 8, 28, 4, 188, 10, 89, 3, 21, 6, 79, 45, 180, 0, 108, 5, 160, 0, 8, 21, 5]
abbrev dktX20_choose_7 : List UInt8 := dkwX20_choose_7 ++ dktX20_choose_8
def dkwX20_choose_6 : List UInt8 := [182, 0, 104, 180, 0, 113, 54, 5, 42, 42, 45, 42, 45, 182, 0, 145, 182, 0, 151, 2, 182, 0, 179]
abbrev dktX20_choose_6 : List UInt8 := dkwX20_choose_6 ++ dktX20_choose_7
def dkwX20_choose_5 : List UInt8 := [182, 0, 176, 172, 42, 45, 182, 0, 164, 21, 4, 160, 0, 68, 42, 180, 0, 26, 42, 45, 182, 0, 145]
abbrev dktX20_choose_5 : List UInt8 := dkwX20_choose_5 ++ dktX20_choose_6
def dkwX20_choose_4 : List UInt8 := [167, 0, 7, 45, 180, 0, 108, 28, 5, 188, 10, 89, 3, 21, 5, 79, 89, 4, 21, 6, 79, 3]
abbrev dktX20_choose_4 : List UInt8 := dkwX20_choose_4 ++ dktX20_choose_5
def dkwX20_choose_3 : List UInt8 := [54, 5, 42, 45, 180, 0, 119, 2, 182, 0, 179, 54, 6, 42, 45, 180, 0, 108, 8, 160, 0, 8, 16, 9]
abbrev dktX20_choose_3 : List UInt8 := dkwX20_choose_3 ++ dktX20_choose_4
def dkwX20_choose_2 : List UInt8 := [182, 0, 142, 54, 4, 42, 45, 182, 0, 161, 21, 4, 160, 0, 62, 42, 45, 180, 0, 113, 2, 182, 0, 179]
abbrev dktX20_choose_2 : List UInt8 := dkwX20_choose_2 ++ dktX20_choose_3
def dkwX20_choose_1 : List UInt8 := [180, 0, 108, 154, 0, 17, 42, 3, 28, 3, 188, 10, 45, 180, 0, 113, 182, 0, 176, 172, 42, 27]
abbrev dktX20_choose_1 : List UInt8 := dkwX20_choose_1 ++ dktX20_choose_2
def dkwX20_choose_0 : List UInt8 := [42, 180, 0, 26, 27, 182, 0, 104, 78, 45, 180, 0, 108, 4, 160, 0, 8, 45, 180, 0, 113, 172, 45]
abbrev dktX20_choose_0 : List UInt8 := dkwX20_choose_0 ++ dktX20_choose_1
theorem dksX20_choose_0 : cX20_choose.data.toList.drop 0 = dktX20_choose_0 := by decide +kernel
theorem dksX20_choose_1 : cX20_choose.data.toList.drop 23 = dktX20_choose_1 := dk_seg dksX20_choose_0 23 rfl rfl
theorem dksX20_choose_2 : cX20_choose.data.toList.drop 45 = dktX20_choose_2 := dk_seg dksX20_choose_1 22 rfl rfl
theorem dksX20_choose_3 : cX20_choose.data.toList.drop 69 = dktX20_choose_3 := dk_seg dksX20_choose_2 24 rfl rfl
theorem dksX20_choose_4 : cX20_choose.data.toList.drop 93 = dktX20_choose_4 := dk_seg dksX20_choose_3 24 rfl rfl
theorem dksX20_choose_5 : cX20_choose.data.toList.drop 115 = dktX20_choose_5 := dk_seg dksX20_choose_4 22 rfl rfl
theorem dksX20_choose_6 : cX20_choose.data.toList.drop 138 = dktX20_choose_6 := dk_seg dksX20_choose_5 23 rfl rfl
theorem dksX20_choose_7 : cX20_choose.data.toList.drop 161 = dktX20_choose_7 := dk_seg dksX20_choose_6 23 rfl rfl
theorem dksX20_choose_8 : cX20_choose.data.toList.drop 184 = dktX20_choose_8 := dk_seg dksX20_choose_7 23 rfl rfl
theorem dX20_choose_0 : decode cX20_choose 0 = .ok (.aload_n 0, 1) := dk_42 (dk_at dksX20_choose_0 0 rfl rfl)
theorem dX20_choose_1 : decode cX20_choose 1 = .ok (.getfield 26, 3) := dk_180 0 26 (dk_at dksX20_choose_0 1 rfl rfl)
theorem dX20_choose_4 : decode cX20_choose 4 = .ok (.iload_n 1, 1) := dk_27 (dk_at dksX20_choose_0 4 rfl rfl)
theorem dX20_choose_5 : decode cX20_choose 5 = .ok (.invokevirtual 104, 3) := dk_182 0 104 (dk_at dksX20_choose_0 5 rfl rfl)
theorem dX20_choose_8 : decode cX20_choose 8 = .ok (.astore_n 3, 1) := dk_78 (dk_at dksX20_choose_0 8 rfl rfl)
theorem dX20_choose_9 : decode cX20_choose 9 = .ok (.aload_n 3, 1) := dk_45 (dk_at dksX20_choose_0 9 rfl rfl)
theorem dX20_choose_10 : decode cX20_choose 10 = .ok (.getfield 108, 3) := dk_180 0 108 (dk_at dksX20_choose_0 10 rfl rfl)
theorem dX20_choose_13 : decode cX20_choose 13 = .ok (.iconst 1, 1) := dk_4 (dk_at dksX20_choose_0 13 rfl rfl)
theorem dX20_choose_14 : decode cX20_choose 14 = .ok (.if_icmp .ne 8, 3) := dk_160 0 8 (dk_at dksX20_choose_0 14 rfl rfl)
theorem dX20_choose_17 : decode cX20_choose 17 = .ok (.aload_n 3, 1) := dk_45 (dk_at dksX20_choose_0 17 rfl rfl)
theorem dX20_choose_18 : decode cX20_choose 18 = .ok (.getfield 113, 3) := dk_180 0 113 (dk_at dksX20_choose_0 18 rfl rfl)
theorem dX20_choose_21 : decode cX20_choose 21 = .ok (.ireturn, 1) := dk_172 (dk_at dksX20_choose_0 21 rfl rfl)
theorem dX20_choose_22 : decode cX20_choose 22 = .ok (.aload_n 3, 1) := dk_45 (dk_at dksX20_choose_0 22 rfl rfl)
theorem dX20_choose_23 : decode cX20_choose 23 = .ok (.getfield 108, 3) := dk_180 0 108 (dk_at dksX20_choose_1 0 rfl rfl)
theorem dX20_choose_26 : decode cX20_choose 26 = .ok (.ifCond .ne 17, 3) := dk_154 0 17 (dk_at dksX20_choose_1 3 rfl rfl)
theorem dX20_choose_29 : decode cX20_choose 29 = .ok (.aload_n 0, 1) := dk_42 (dk_at dksX20_choose_1 6 rfl rfl)
theorem dX20_choose_30 : decode cX20_choose 30 = .ok (.iconst 0, 1) := dk_3 (dk_at dksX20_choose_1 7 rfl rfl)
theorem dX20_choose_31 : decode cX20_choose 31 = .ok (.iload_n 2, 1) := dk_28 (dk_at dksX20_choose_1 8 rfl rfl)
theorem dX20_choose_32 : decode cX20_choose 32 = .ok (.iconst 0, 1) := dk_3 (dk_at dksX20_choose_1 9 rfl rfl)
theorem dX20_choose_33 : decode cX20_choose 33 = .ok (.newarray .int, 2) := dk_188_10 (dk_at dksX20_choose_1 10 rfl rfl)
theorem dX20_choose_35 : decode cX20_choose 35 = .ok (.aload_n 3, 1) := dk_45 (dk_at dksX20_choose_1 12 rfl rfl)
theorem dX20_choose_36 : decode cX20_choose 36 = .ok (.getfield 113, 3) := dk_180 0 113 (dk_at dksX20_choose_1 13 rfl rfl)
theorem dX20_choose_39 : decode cX20_choose 39 = .ok (.invokevirtual 176, 3) := dk_182 0 176 (dk_at dksX20_choose_1 16 rfl rfl)
theorem dX20_choose_42 : decode cX20_choose 42 = .ok (.ireturn, 1) := dk_172 (dk_at dksX20_choose_1 19 rfl rfl)
theorem dX20_choose_43 : decode cX20_choose 43 = .ok (.aload_n 0, 1) := dk_42 (dk_at dksX20_choose_1 20 rfl rfl)
theorem dX20_choose_44 : decode cX20_choose 44 = .ok (.iload_n 1, 1) := dk_27 (dk_at dksX20_choose_1 21 rfl rfl)
theorem dX20_choose_45 : decode cX20_choose 45 = .ok (.invokevirtual 142, 3) := dk_182 0 142 (dk_at dksX20_choose_2 0 rfl rfl)
theorem dX20_choose_48 : decode cX20_choose 48 = .ok (.istore 4, 2) := dk_54 4 (dk_at dksX20_choose_2 3 rfl rfl)
theorem dX20_choose_50 : decode cX20_choose 50 = .ok (.aload_n 0, 1) := dk_42 (dk_at dksX20_choose_2 5 rfl rfl)
theorem dX20_choose_51 : decode cX20_choose 51 = .ok (.aload_n 3, 1) := dk_45 (dk_at dksX20_choose_2 6 rfl rfl)
theorem dX20_choose_52 : decode cX20_choose 52 = .ok (.invokevirtual 161, 3) := dk_182 0 161 (dk_at dksX20_choose_2 7 rfl rfl)
theorem dX20_choose_55 : decode cX20_choose 55 = .ok (.iload 4, 2) := dk_21 4 (dk_at dksX20_choose_2 10 rfl rfl)
theorem dX20_choose_57 : decode cX20_choose 57 = .ok (.if_icmp .ne 62, 3) := dk_160 0 62 (dk_at dksX20_choose_2 12 rfl rfl)
theorem dX20_choose_60 : decode cX20_choose 60 = .ok (.aload_n 0, 1) := dk_42 (dk_at dksX20_choose_2 15 rfl rfl)
theorem dX20_choose_61 : decode cX20_choose 61 = .ok (.aload_n 3, 1) := dk_45 (dk_at dksX20_choose_2 16 rfl rfl)
theorem dX20_choose_62 : decode cX20_choose 62 = .ok (.getfield 113, 3) := dk_180 0 113 (dk_at dksX20_choose_2 17 rfl rfl)
theorem dX20_choose_65 : decode cX20_choose 65 = .ok (.iconst (-1), 1) := dk_2 (dk_at dksX20_choose_2 20 rfl rfl)
theorem dX20_choose_66 : decode cX20_choose 66 = .ok (.invokevirtual 179, 3) := dk_182 0 179 (dk_at dksX20_choose_2 21 rfl rfl)
theorem dX20_choose_69 : decode cX20_choose 69 = .ok (.istore 5, 2) := dk_54 5 (dk_at dksX20_choose_3 0 rfl rfl)
theorem dX20_choose_71 : decode cX20_choose 71 = .ok (.aload_n 0, 1) := dk_42 (dk_at dksX20_choose_3 2 rfl rfl)
theorem dX20_choose_72 : decode cX20_choose 72 = .ok (.aload_n 3, 1) := dk_45 (dk_at dksX20_choose_3 3 rfl rfl)
theorem dX20_choose_73 : decode cX20_choose 73 = .ok (.getfield 119, 3) := dk_180 0 119 (dk_at dksX20_choose_3 4 rfl rfl)
theorem dX20_choose_76 : decode cX20_choose 76 = .ok (.iconst (-1), 1) := dk_2 (dk_at dksX20_choose_3 7 rfl rfl)
theorem dX20_choose_77 : decode cX20_choose 77 = .ok (.invokevirtual 179, 3) := dk_182 0 179 (dk_at dksX20_choose_3 8 rfl rfl)
theorem dX20_choose_80 : decode cX20_choose 80 = .ok (.istore 6, 2) := dk_54 6 (dk_at dksX20_choose_3 11 rfl rfl)
theorem dX20_choose_82 : decode cX20_choose 82 = .ok (.aload_n 0, 1) := dk_42 (dk_at dksX20_choose_3 13 rfl rfl)
theorem dX20_choose_83 : decode cX20_choose 83 = .ok (.aload_n 3, 1) := dk_45 (dk_at dksX20_choose_3 14 rfl rfl)
theorem dX20_choose_84 : decode cX20_choose 84 = .ok (.getfield 108, 3) := dk_180 0 108 (dk_at dksX20_choose_3 15 rfl rfl)
theorem dX20_choose_87 : decode cX20_choose 87 = .ok (.iconst 5, 1) := dk_8 (dk_at dksX20_choose_3 18 rfl rfl)
theorem dX20_choose_88 : decode cX20_choose 88 = .ok (.if_icmp .ne 8, 3) := dk_160 0 8 (dk_at dksX20_choose_3 19 rfl rfl)
theorem dX20_choose_91 : decode cX20_choose 91 = .ok (.bipush 9, 2) := dk_16 9 (dk_at dksX20_choose_3 22 rfl rfl)
theorem dX20_choose_93 : decode cX20_choose 93 = .ok (.goto 7, 3) := dk_167 0 7 (dk_at dksX20_choose_4 0 rfl rfl)
theorem dX20_choose_96 : decode cX20_choose 96 = .ok (.aload_n 3, 1) := dk_45 (dk_at dksX20_choose_4 3 rfl rfl)
theorem dX20_choose_97 : decode cX20_choose 97 = .ok (.getfield 108, 3) := dk_180 0 108 (dk_at dksX20_choose_4 4 rfl rfl)
theorem dX20_choose_100 : decode cX20_choose 100 = .ok (.iload_n 2, 1) := dk_28 (dk_at dksX20_choose_4 7 rfl rfl)
theorem dX20_choose_101 : decode cX20_choose 101 = .ok (.iconst 2, 1) := dk_5 (dk_at dksX20_choose_4 8 rfl rfl)
theorem dX20_choose_102 : decode cX20_choose 102 = .ok (.newarray .int, 2) := dk_188_10 (dk_at dksX20_choose_4 9 rfl rfl)
theorem dX20_choose_104 : decode cX20_choose 104 = .ok (.dup, 1) := dk_89 (dk_at dksX20_choose_4 11 rfl rfl)
theorem dX20_choose_105 : decode cX20_choose 105 = .ok (.iconst 0, 1) := dk_3 (dk_at dksX20_choose_4 12 rfl rfl)
theorem dX20_choose_106 : decode cX20_choose 106 = .ok (.iload 5, 2) := dk_21 5 (dk_at dksX20_choose_4 13 rfl rfl)
theorem dX20_choose_108 : decode cX20_choose 108 = .ok (.iastore, 1) := dk_79 (dk_at dksX20_choose_4 15 rfl rfl)
theorem dX20_choose_109 : decode cX20_choose 109 = .ok (.dup, 1) := dk_89 (dk_at dksX20_choose_4 16 rfl rfl)
theorem dX20_choose_110 : decode cX20_choose 110 = .ok (.iconst 1, 1) := dk_4 (dk_at dksX20_choose_4 17 rfl rfl)
theorem dX20_choose_111 : decode cX20_choose 111 = .ok (.iload 6, 2) := dk_21 6 (dk_at dksX20_choose_4 18 rfl rfl)
theorem dX20_choose_113 : decode cX20_choose 113 = .ok (.iastore, 1) := dk_79 (dk_at dksX20_choose_4 20 rfl rfl)
theorem dX20_choose_114 : decode cX20_choose 114 = .ok (.iconst 0, 1) := dk_3 (dk_at dksX20_choose_4 21 rfl rfl)
theorem dX20_choose_115 : decode cX20_choose 115 = .ok (.invokevirtual 176, 3) := dk_182 0 176 (dk_at dksX20_choose_5 0 rfl rfl)
theorem dX20_choose_118 : decode cX20_choose 118 = .ok (.ireturn, 1) := dk_172 (dk_at dksX20_choose_5 3 rfl rfl)
theorem dX20_choose_119 : decode cX20_choose 119 = .ok (.aload_n 0, 1) := dk_42 (dk_at dksX20_choose_5 4 rfl rfl)
theorem dX20_choose_120 : decode cX20_choose 120 = .ok (.aload_n 3, 1) := dk_45 (dk_at dksX20_choose_5 5 rfl rfl)
theorem dX20_choose_121 : decode cX20_choose 121 = .ok (.invokevirtual 164, 3) := dk_182 0 164 (dk_at dksX20_choose_5 6 rfl rfl)
theorem dX20_choose_124 : decode cX20_choose 124 = .ok (.iload 4, 2) := dk_21 4 (dk_at dksX20_choose_5 9 rfl rfl)
theorem dX20_choose_126 : decode cX20_choose 126 = .ok (.if_icmp .ne 68, 3) := dk_160 0 68 (dk_at dksX20_choose_5 11 rfl rfl)
theorem dX20_choose_129 : decode cX20_choose 129 = .ok (.aload_n 0, 1) := dk_42 (dk_at dksX20_choose_5 14 rfl rfl)
theorem dX20_choose_130 : decode cX20_choose 130 = .ok (.getfield 26, 3) := dk_180 0 26 (dk_at dksX20_choose_5 15 rfl rfl)
theorem dX20_choose_133 : decode cX20_choose 133 = .ok (.aload_n 0, 1) := dk_42 (dk_at dksX20_choose_5 18 rfl rfl)
theorem dX20_choose_134 : decode cX20_choose 134 = .ok (.aload_n 3, 1) := dk_45 (dk_at dksX20_choose_5 19 rfl rfl)
theorem dX20_choose_135 : decode cX20_choose 135 = .ok (.invokevirtual 145, 3) := dk_182 0 145 (dk_at dksX20_choose_5 20 rfl rfl)
theorem dX20_choose_138 : decode cX20_choose 138 = .ok (.invokevirtual 104, 3) := dk_182 0 104 (dk_at dksX20_choose_6 0 rfl rfl)
theorem dX20_choose_141 : decode cX20_choose 141 = .ok (.getfield 113, 3) := dk_180 0 113 (dk_at dksX20_choose_6 3 rfl rfl)
theorem dX20_choose_144 : decode cX20_choose 144 = .ok (.istore 5, 2) := dk_54 5 (dk_at dksX20_choose_6 6 rfl rfl)
theorem dX20_choose_146 : decode cX20_choose 146 = .ok (.aload_n 0, 1) := dk_42 (dk_at dksX20_choose_6 8 rfl rfl)
theorem dX20_choose_147 : decode cX20_choose 147 = .ok (.aload_n 0, 1) := dk_42 (dk_at dksX20_choose_6 9 rfl rfl)
theorem dX20_choose_148 : decode cX20_choose 148 = .ok (.aload_n 3, 1) := dk_45 (dk_at dksX20_choose_6 10 rfl rfl)
theorem dX20_choose_149 : decode cX20_choose 149 = .ok (.aload_n 0, 1) := dk_42 (dk_at dksX20_choose_6 11 rfl rfl)
theorem dX20_choose_150 : decode cX20_choose 150 = .ok (.aload_n 3, 1) := dk_45 (dk_at dksX20_choose_6 12 rfl rfl)
theorem dX20_choose_151 : decode cX20_choose 151 = .ok (.invokevirtual 145, 3) := dk_182 0 145 (dk_at dksX20_choose_6 13 rfl rfl)
theorem dX20_choose_154 : decode cX20_choose 154 = .ok (.invokevirtual 151, 3) := dk_182 0 151 (dk_at dksX20_choose_6 16 rfl rfl)
theorem dX20_choose_157 : decode cX20_choose 157 = .ok (.iconst (-1), 1) := dk_2 (dk_at dksX20_choose_6 19 rfl rfl)
theorem dX20_choose_158 : decode cX20_choose 158 = .ok (.invokevirtual 179, 3) := dk_182 0 179 (dk_at dksX20_choose_6 20 rfl rfl)
theorem dX20_choose_161 : decode cX20_choose 161 = .ok (.istore 6, 2) := dk_54 6 (dk_at dksX20_choose_7 0 rfl rfl)
theorem dX20_choose_163 : decode cX20_choose 163 = .ok (.aload_n 0, 1) := dk_42 (dk_at dksX20_choose_7 2 rfl rfl)
theorem dX20_choose_164 : decode cX20_choose 164 = .ok (.iconst 5, 1) := dk_8 (dk_at dksX20_choose_7 3 rfl rfl)
theorem dX20_choose_165 : decode cX20_choose 165 = .ok (.iload_n 2, 1) := dk_28 (dk_at dksX20_choose_7 4 rfl rfl)
theorem dX20_choose_166 : decode cX20_choose 166 = .ok (.iconst 1, 1) := dk_4 (dk_at dksX20_choose_7 5 rfl rfl)
theorem dX20_choose_167 : decode cX20_choose 167 = .ok (.newarray .int, 2) := dk_188_10 (dk_at dksX20_choose_7 6 rfl rfl)
theorem dX20_choose_169 : decode cX20_choose 169 = .ok (.dup, 1) := dk_89 (dk_at dksX20_choose_7 8 rfl rfl)
theorem dX20_choose_170 : decode cX20_choose 170 = .ok (.iconst 0, 1) := dk_3 (dk_at dksX20_choose_7 9 rfl rfl)
theorem dX20_choose_171 : decode cX20_choose 171 = .ok (.iload 6, 2) := dk_21 6 (dk_at dksX20_choose_7 10 rfl rfl)
theorem dX20_choose_173 : decode cX20_choose 173 = .ok (.iastore, 1) := dk_79 (dk_at dksX20_choose_7 12 rfl rfl)
theorem dX20_choose_174 : decode cX20_choose 174 = .ok (.aload_n 3, 1) := dk_45 (dk_at dksX20_choose_7 13 rfl rfl)
theorem dX20_choose_175 : decode cX20_choose 175 = .ok (.getfield 108, 3) := dk_180 0 108 (dk_at dksX20_choose_7 14 rfl rfl)
theorem dX20_choose_178 : decode cX20_choose 178 = .ok (.iconst 2, 1) := dk_5 (dk_at dksX20_choose_7 17 rfl rfl)
theorem dX20_choose_179 : decode cX20_choose 179 = .ok (.if_icmp .ne 8, 3) := dk_160 0 8 (dk_at dksX20_choose_7 18 rfl rfl)
theorem dX20_choose_182 : decode cX20_choose 182 = .ok (.iload 5, 2) := dk_21 5 (dk_at dksX20_choose_7 21 rfl rfl)
theorem dX20_choose_184 : decode cX20_choose 184 = .ok (.goto 6, 3) := dk_167 0 6 (dk_at dksX20_choose_8 0 rfl rfl)
theorem dX20_choose_187 : decode cX20_choose 187 = .ok (.iload 5, 2) := dk_21 5 (dk_at dksX20_choose_8 3 rfl rfl)
theorem dX20_choose_189 : decode cX20_choose 189 = .ok (.ineg, 1) := dk_116 (dk_at dksX20_choose_8 5 rfl rfl)
theorem dX20_choose_190 : decode cX20_choose 190 = .ok (.invokevirtual 176, 3) := dk_182 0 176 (dk_at dksX20_choose_8 6 rfl rfl)
theorem dX20_choose_193 : decode cX20_choose 193 = .ok (.ireturn, 1) := dk_172 (dk_at dksX20_choose_8 9 rfl rfl)
theorem dX20_choose_194 : decode cX20_choose 194 = .ok (.aload_n 0, 1) := dk_42 (dk_at dksX20_choose_8 10 rfl rfl)
theorem dX20_choose_195 : decode cX20_choose 195 = .ok (.aload_n 3, 1) := dk_45 (dk_at dksX20_choose_8 11 rfl rfl)
theorem dX20_choose_196 : decode cX20_choose 196 = .ok (.iload_n 2, 1) := dk_28 (dk_at dksX20_choose_8 12 rfl rfl)
theorem dX20_choose_197 : decode cX20_choose 197 = .ok (.invokevirtual 182, 3) := dk_182 0 182 (dk_at dksX20_choose_8 13 rfl rfl)
theorem dX20_choose_200 : decode cX20_choose 200 = .ok (.ireturn, 1) := dk_172 (dk_at dksX20_choose_8 16 rfl rfl)
abbrev cX20_cost : ByteArray := prog_18_method_11_code
def yX20_cost : MethodName := ⟨RX20, "cost", "(I)I"⟩
def dkwX20_cost_1 : List UInt8 := [180, 0, 18, 27, 46, 172]
abbrev dktX20_cost_1 : List UInt8 := dkwX20_cost_1 ++ []
def dkwX20_cost_0 : List UInt8 := [42, 180, 0, 18, 27, 46, 2, 160, 0, 14, 42, 180, 0, 18, 27, 42, 27, 182, 0, 158, 79, 42]
abbrev dktX20_cost_0 : List UInt8 := dkwX20_cost_0 ++ dktX20_cost_1
theorem dksX20_cost_0 : cX20_cost.data.toList.drop 0 = dktX20_cost_0 := by decide +kernel
theorem dksX20_cost_1 : cX20_cost.data.toList.drop 22 = dktX20_cost_1 := dk_seg dksX20_cost_0 22 rfl rfl
theorem dX20_cost_0 : decode cX20_cost 0 = .ok (.aload_n 0, 1) := dk_42 (dk_at dksX20_cost_0 0 rfl rfl)
theorem dX20_cost_1 : decode cX20_cost 1 = .ok (.getfield 18, 3) := dk_180 0 18 (dk_at dksX20_cost_0 1 rfl rfl)
theorem dX20_cost_4 : decode cX20_cost 4 = .ok (.iload_n 1, 1) := dk_27 (dk_at dksX20_cost_0 4 rfl rfl)
theorem dX20_cost_5 : decode cX20_cost 5 = .ok (.iaload, 1) := dk_46 (dk_at dksX20_cost_0 5 rfl rfl)
theorem dX20_cost_6 : decode cX20_cost 6 = .ok (.iconst (-1), 1) := dk_2 (dk_at dksX20_cost_0 6 rfl rfl)
theorem dX20_cost_7 : decode cX20_cost 7 = .ok (.if_icmp .ne 14, 3) := dk_160 0 14 (dk_at dksX20_cost_0 7 rfl rfl)
theorem dX20_cost_10 : decode cX20_cost 10 = .ok (.aload_n 0, 1) := dk_42 (dk_at dksX20_cost_0 10 rfl rfl)
theorem dX20_cost_11 : decode cX20_cost 11 = .ok (.getfield 18, 3) := dk_180 0 18 (dk_at dksX20_cost_0 11 rfl rfl)
theorem dX20_cost_14 : decode cX20_cost 14 = .ok (.iload_n 1, 1) := dk_27 (dk_at dksX20_cost_0 14 rfl rfl)
theorem dX20_cost_15 : decode cX20_cost 15 = .ok (.aload_n 0, 1) := dk_42 (dk_at dksX20_cost_0 15 rfl rfl)
theorem dX20_cost_16 : decode cX20_cost 16 = .ok (.iload_n 1, 1) := dk_27 (dk_at dksX20_cost_0 16 rfl rfl)
theorem dX20_cost_17 : decode cX20_cost 17 = .ok (.invokevirtual 158, 3) := dk_182 0 158 (dk_at dksX20_cost_0 17 rfl rfl)
theorem dX20_cost_20 : decode cX20_cost 20 = .ok (.iastore, 1) := dk_79 (dk_at dksX20_cost_0 20 rfl rfl)
theorem dX20_cost_21 : decode cX20_cost 21 = .ok (.aload_n 0, 1) := dk_42 (dk_at dksX20_cost_0 21 rfl rfl)
theorem dX20_cost_22 : decode cX20_cost 22 = .ok (.getfield 18, 3) := dk_180 0 18 (dk_at dksX20_cost_1 0 rfl rfl)
theorem dX20_cost_25 : decode cX20_cost 25 = .ok (.iload_n 1, 1) := dk_27 (dk_at dksX20_cost_1 3 rfl rfl)
theorem dX20_cost_26 : decode cX20_cost 26 = .ok (.iaload, 1) := dk_46 (dk_at dksX20_cost_1 4 rfl rfl)
theorem dX20_cost_27 : decode cX20_cost 27 = .ok (.ireturn, 1) := dk_172 (dk_at dksX20_cost_1 5 rfl rfl)
abbrev cX20_costNow : ByteArray := prog_18_method_12_code
def yX20_costNow : MethodName := ⟨RX20, "costNow", "(I)I"⟩
def dkwX20_costNow_2 : List UInt8 := [182, 0, 167, 184, 0, 170, 184, 0, 170, 172]
abbrev dktX20_costNow_2 : List UInt8 := dkwX20_costNow_2 ++ []
def dkwX20_costNow_1 : List UInt8 := [154, 0, 12, 42, 180, 0, 26, 3, 182, 0, 138, 172, 42, 44, 182, 0, 161, 42, 44, 182, 0, 164, 42, 44]
abbrev dktX20_costNow_1 : List UInt8 := dkwX20_costNow_1 ++ dktX20_costNow_2
def dkwX20_costNow_0 : List UInt8 := [42, 180, 0, 26, 27, 182, 0, 104, 77, 44, 180, 0, 108, 4, 160, 0, 5, 3, 172, 44, 180, 0, 108]
abbrev dktX20_costNow_0 : List UInt8 := dkwX20_costNow_0 ++ dktX20_costNow_1
theorem dksX20_costNow_0 : cX20_costNow.data.toList.drop 0 = dktX20_costNow_0 := by decide +kernel
theorem dksX20_costNow_1 : cX20_costNow.data.toList.drop 23 = dktX20_costNow_1 := dk_seg dksX20_costNow_0 23 rfl rfl
theorem dksX20_costNow_2 : cX20_costNow.data.toList.drop 47 = dktX20_costNow_2 := dk_seg dksX20_costNow_1 24 rfl rfl
theorem dX20_costNow_0 : decode cX20_costNow 0 = .ok (.aload_n 0, 1) := dk_42 (dk_at dksX20_costNow_0 0 rfl rfl)
theorem dX20_costNow_1 : decode cX20_costNow 1 = .ok (.getfield 26, 3) := dk_180 0 26 (dk_at dksX20_costNow_0 1 rfl rfl)
theorem dX20_costNow_4 : decode cX20_costNow 4 = .ok (.iload_n 1, 1) := dk_27 (dk_at dksX20_costNow_0 4 rfl rfl)
theorem dX20_costNow_5 : decode cX20_costNow 5 = .ok (.invokevirtual 104, 3) := dk_182 0 104 (dk_at dksX20_costNow_0 5 rfl rfl)
theorem dX20_costNow_8 : decode cX20_costNow 8 = .ok (.astore_n 2, 1) := dk_77 (dk_at dksX20_costNow_0 8 rfl rfl)
theorem dX20_costNow_9 : decode cX20_costNow 9 = .ok (.aload_n 2, 1) := dk_44 (dk_at dksX20_costNow_0 9 rfl rfl)
theorem dX20_costNow_10 : decode cX20_costNow 10 = .ok (.getfield 108, 3) := dk_180 0 108 (dk_at dksX20_costNow_0 10 rfl rfl)
theorem dX20_costNow_13 : decode cX20_costNow 13 = .ok (.iconst 1, 1) := dk_4 (dk_at dksX20_costNow_0 13 rfl rfl)
theorem dX20_costNow_14 : decode cX20_costNow 14 = .ok (.if_icmp .ne 5, 3) := dk_160 0 5 (dk_at dksX20_costNow_0 14 rfl rfl)
theorem dX20_costNow_17 : decode cX20_costNow 17 = .ok (.iconst 0, 1) := dk_3 (dk_at dksX20_costNow_0 17 rfl rfl)
theorem dX20_costNow_18 : decode cX20_costNow 18 = .ok (.ireturn, 1) := dk_172 (dk_at dksX20_costNow_0 18 rfl rfl)
theorem dX20_costNow_19 : decode cX20_costNow 19 = .ok (.aload_n 2, 1) := dk_44 (dk_at dksX20_costNow_0 19 rfl rfl)
theorem dX20_costNow_20 : decode cX20_costNow 20 = .ok (.getfield 108, 3) := dk_180 0 108 (dk_at dksX20_costNow_0 20 rfl rfl)
theorem dX20_costNow_23 : decode cX20_costNow 23 = .ok (.ifCond .ne 12, 3) := dk_154 0 12 (dk_at dksX20_costNow_1 0 rfl rfl)
theorem dX20_costNow_26 : decode cX20_costNow 26 = .ok (.aload_n 0, 1) := dk_42 (dk_at dksX20_costNow_1 3 rfl rfl)
theorem dX20_costNow_27 : decode cX20_costNow 27 = .ok (.getfield 26, 3) := dk_180 0 26 (dk_at dksX20_costNow_1 4 rfl rfl)
theorem dX20_costNow_30 : decode cX20_costNow 30 = .ok (.iconst 0, 1) := dk_3 (dk_at dksX20_costNow_1 7 rfl rfl)
theorem dX20_costNow_31 : decode cX20_costNow 31 = .ok (.invokevirtual 138, 3) := dk_182 0 138 (dk_at dksX20_costNow_1 8 rfl rfl)
theorem dX20_costNow_34 : decode cX20_costNow 34 = .ok (.ireturn, 1) := dk_172 (dk_at dksX20_costNow_1 11 rfl rfl)
theorem dX20_costNow_35 : decode cX20_costNow 35 = .ok (.aload_n 0, 1) := dk_42 (dk_at dksX20_costNow_1 12 rfl rfl)
theorem dX20_costNow_36 : decode cX20_costNow 36 = .ok (.aload_n 2, 1) := dk_44 (dk_at dksX20_costNow_1 13 rfl rfl)
theorem dX20_costNow_37 : decode cX20_costNow 37 = .ok (.invokevirtual 161, 3) := dk_182 0 161 (dk_at dksX20_costNow_1 14 rfl rfl)
theorem dX20_costNow_40 : decode cX20_costNow 40 = .ok (.aload_n 0, 1) := dk_42 (dk_at dksX20_costNow_1 17 rfl rfl)
theorem dX20_costNow_41 : decode cX20_costNow 41 = .ok (.aload_n 2, 1) := dk_44 (dk_at dksX20_costNow_1 18 rfl rfl)
theorem dX20_costNow_42 : decode cX20_costNow 42 = .ok (.invokevirtual 164, 3) := dk_182 0 164 (dk_at dksX20_costNow_1 19 rfl rfl)
theorem dX20_costNow_45 : decode cX20_costNow 45 = .ok (.aload_n 0, 1) := dk_42 (dk_at dksX20_costNow_1 22 rfl rfl)
theorem dX20_costNow_46 : decode cX20_costNow 46 = .ok (.aload_n 2, 1) := dk_44 (dk_at dksX20_costNow_1 23 rfl rfl)
theorem dX20_costNow_47 : decode cX20_costNow 47 = .ok (.invokevirtual 167, 3) := dk_182 0 167 (dk_at dksX20_costNow_2 0 rfl rfl)
theorem dX20_costNow_50 : decode cX20_costNow 50 = .ok (.invokestatic 170, 3) := dk_184 0 170 (dk_at dksX20_costNow_2 3 rfl rfl)
theorem dX20_costNow_53 : decode cX20_costNow 53 = .ok (.invokestatic 170, 3) := dk_184 0 170 (dk_at dksX20_costNow_2 6 rfl rfl)
theorem dX20_costNow_56 : decode cX20_costNow 56 = .ok (.ireturn, 1) := dk_172 (dk_at dksX20_costNow_2 9 rfl rfl)
abbrev cX20_plain : ByteArray := prog_18_method_8_code
def yX20_plain : MethodName := ⟨RX20, "plain", "(LSpillslotWorksModel$Node;)I"⟩
def dkwX20_plain_1 : List UInt8 := [42, 43, 180, 0, 113, 182, 0, 142, 96, 42, 43, 180, 0, 119, 182, 0, 142, 96, 172]
abbrev dktX20_plain_1 : List UInt8 := dkwX20_plain_1 ++ []
def dkwX20_plain_0 : List UInt8 := [42, 180, 0, 26, 43, 180, 0, 108, 8, 160, 0, 8, 16, 9, 167, 0, 7, 43, 180, 0, 108, 182, 0, 138]
abbrev dktX20_plain_0 : List UInt8 := dkwX20_plain_0 ++ dktX20_plain_1
theorem dksX20_plain_0 : cX20_plain.data.toList.drop 0 = dktX20_plain_0 := by decide +kernel
theorem dksX20_plain_1 : cX20_plain.data.toList.drop 24 = dktX20_plain_1 := dk_seg dksX20_plain_0 24 rfl rfl
theorem dX20_plain_0 : decode cX20_plain 0 = .ok (.aload_n 0, 1) := dk_42 (dk_at dksX20_plain_0 0 rfl rfl)
theorem dX20_plain_1 : decode cX20_plain 1 = .ok (.getfield 26, 3) := dk_180 0 26 (dk_at dksX20_plain_0 1 rfl rfl)
theorem dX20_plain_4 : decode cX20_plain 4 = .ok (.aload_n 1, 1) := dk_43 (dk_at dksX20_plain_0 4 rfl rfl)
theorem dX20_plain_5 : decode cX20_plain 5 = .ok (.getfield 108, 3) := dk_180 0 108 (dk_at dksX20_plain_0 5 rfl rfl)
theorem dX20_plain_8 : decode cX20_plain 8 = .ok (.iconst 5, 1) := dk_8 (dk_at dksX20_plain_0 8 rfl rfl)
theorem dX20_plain_9 : decode cX20_plain 9 = .ok (.if_icmp .ne 8, 3) := dk_160 0 8 (dk_at dksX20_plain_0 9 rfl rfl)
theorem dX20_plain_12 : decode cX20_plain 12 = .ok (.bipush 9, 2) := dk_16 9 (dk_at dksX20_plain_0 12 rfl rfl)
theorem dX20_plain_14 : decode cX20_plain 14 = .ok (.goto 7, 3) := dk_167 0 7 (dk_at dksX20_plain_0 14 rfl rfl)
theorem dX20_plain_17 : decode cX20_plain 17 = .ok (.aload_n 1, 1) := dk_43 (dk_at dksX20_plain_0 17 rfl rfl)
theorem dX20_plain_18 : decode cX20_plain 18 = .ok (.getfield 108, 3) := dk_180 0 108 (dk_at dksX20_plain_0 18 rfl rfl)
theorem dX20_plain_21 : decode cX20_plain 21 = .ok (.invokevirtual 138, 3) := dk_182 0 138 (dk_at dksX20_plain_0 21 rfl rfl)
theorem dX20_plain_24 : decode cX20_plain 24 = .ok (.aload_n 0, 1) := dk_42 (dk_at dksX20_plain_1 0 rfl rfl)
theorem dX20_plain_25 : decode cX20_plain 25 = .ok (.aload_n 1, 1) := dk_43 (dk_at dksX20_plain_1 1 rfl rfl)
theorem dX20_plain_26 : decode cX20_plain 26 = .ok (.getfield 113, 3) := dk_180 0 113 (dk_at dksX20_plain_1 2 rfl rfl)
theorem dX20_plain_29 : decode cX20_plain 29 = .ok (.invokevirtual 142, 3) := dk_182 0 142 (dk_at dksX20_plain_1 5 rfl rfl)
theorem dX20_plain_32 : decode cX20_plain 32 = .ok (.iadd, 1) := dk_96 (dk_at dksX20_plain_1 8 rfl rfl)
theorem dX20_plain_33 : decode cX20_plain 33 = .ok (.aload_n 0, 1) := dk_42 (dk_at dksX20_plain_1 9 rfl rfl)
theorem dX20_plain_34 : decode cX20_plain 34 = .ok (.aload_n 1, 1) := dk_43 (dk_at dksX20_plain_1 10 rfl rfl)
theorem dX20_plain_35 : decode cX20_plain 35 = .ok (.getfield 119, 3) := dk_180 0 119 (dk_at dksX20_plain_1 11 rfl rfl)
theorem dX20_plain_38 : decode cX20_plain 38 = .ok (.invokevirtual 142, 3) := dk_182 0 142 (dk_at dksX20_plain_1 14 rfl rfl)
theorem dX20_plain_41 : decode cX20_plain 41 = .ok (.iadd, 1) := dk_96 (dk_at dksX20_plain_1 17 rfl rfl)
theorem dX20_plain_42 : decode cX20_plain 42 = .ok (.ireturn, 1) := dk_172 (dk_at dksX20_plain_1 18 rfl rfl)
abbrev cX20_smallCost : ByteArray := prog_18_method_9_code
def yX20_smallCost : MethodName := ⟨RX20, "smallCost", "(LSpillslotWorksModel$Node;)I"⟩
def dkwX20_smallCost_1 : List UInt8 := [43, 42, 43, 182, 0, 145, 182, 0, 151, 182, 0, 142, 96, 172]
abbrev dktX20_smallCost_1 : List UInt8 := dkwX20_smallCost_1 ++ []
def dkwX20_smallCost_0 : List UInt8 := [42, 43, 182, 0, 145, 2, 160, 0, 8, 18, 150, 167, 0, 26, 42, 180, 0, 26, 8, 182, 0, 138, 42, 42]
abbrev dktX20_smallCost_0 : List UInt8 := dkwX20_smallCost_0 ++ dktX20_smallCost_1
theorem dksX20_smallCost_0 : cX20_smallCost.data.toList.drop 0 = dktX20_smallCost_0 := by decide +kernel
theorem dksX20_smallCost_1 : cX20_smallCost.data.toList.drop 24 = dktX20_smallCost_1 := dk_seg dksX20_smallCost_0 24 rfl rfl
theorem dX20_smallCost_0 : decode cX20_smallCost 0 = .ok (.aload_n 0, 1) := dk_42 (dk_at dksX20_smallCost_0 0 rfl rfl)
theorem dX20_smallCost_1 : decode cX20_smallCost 1 = .ok (.aload_n 1, 1) := dk_43 (dk_at dksX20_smallCost_0 1 rfl rfl)
theorem dX20_smallCost_2 : decode cX20_smallCost 2 = .ok (.invokevirtual 145, 3) := dk_182 0 145 (dk_at dksX20_smallCost_0 2 rfl rfl)
theorem dX20_smallCost_5 : decode cX20_smallCost 5 = .ok (.iconst (-1), 1) := dk_2 (dk_at dksX20_smallCost_0 5 rfl rfl)
theorem dX20_smallCost_6 : decode cX20_smallCost 6 = .ok (.if_icmp .ne 8, 3) := dk_160 0 8 (dk_at dksX20_smallCost_0 6 rfl rfl)
theorem dX20_smallCost_9 : decode cX20_smallCost 9 = .ok (.ldc 150, 2) := dk_18 150 (dk_at dksX20_smallCost_0 9 rfl rfl)
theorem dX20_smallCost_11 : decode cX20_smallCost 11 = .ok (.goto 26, 3) := dk_167 0 26 (dk_at dksX20_smallCost_0 11 rfl rfl)
theorem dX20_smallCost_14 : decode cX20_smallCost 14 = .ok (.aload_n 0, 1) := dk_42 (dk_at dksX20_smallCost_0 14 rfl rfl)
theorem dX20_smallCost_15 : decode cX20_smallCost 15 = .ok (.getfield 26, 3) := dk_180 0 26 (dk_at dksX20_smallCost_0 15 rfl rfl)
theorem dX20_smallCost_18 : decode cX20_smallCost 18 = .ok (.iconst 5, 1) := dk_8 (dk_at dksX20_smallCost_0 18 rfl rfl)
theorem dX20_smallCost_19 : decode cX20_smallCost 19 = .ok (.invokevirtual 138, 3) := dk_182 0 138 (dk_at dksX20_smallCost_0 19 rfl rfl)
theorem dX20_smallCost_22 : decode cX20_smallCost 22 = .ok (.aload_n 0, 1) := dk_42 (dk_at dksX20_smallCost_0 22 rfl rfl)
theorem dX20_smallCost_23 : decode cX20_smallCost 23 = .ok (.aload_n 0, 1) := dk_42 (dk_at dksX20_smallCost_0 23 rfl rfl)
theorem dX20_smallCost_24 : decode cX20_smallCost 24 = .ok (.aload_n 1, 1) := dk_43 (dk_at dksX20_smallCost_1 0 rfl rfl)
theorem dX20_smallCost_25 : decode cX20_smallCost 25 = .ok (.aload_n 0, 1) := dk_42 (dk_at dksX20_smallCost_1 1 rfl rfl)
theorem dX20_smallCost_26 : decode cX20_smallCost 26 = .ok (.aload_n 1, 1) := dk_43 (dk_at dksX20_smallCost_1 2 rfl rfl)
theorem dX20_smallCost_27 : decode cX20_smallCost 27 = .ok (.invokevirtual 145, 3) := dk_182 0 145 (dk_at dksX20_smallCost_1 3 rfl rfl)
theorem dX20_smallCost_30 : decode cX20_smallCost 30 = .ok (.invokevirtual 151, 3) := dk_182 0 151 (dk_at dksX20_smallCost_1 6 rfl rfl)
theorem dX20_smallCost_33 : decode cX20_smallCost 33 = .ok (.invokevirtual 142, 3) := dk_182 0 142 (dk_at dksX20_smallCost_1 9 rfl rfl)
theorem dX20_smallCost_36 : decode cX20_smallCost 36 = .ok (.iadd, 1) := dk_96 (dk_at dksX20_smallCost_1 12 rfl rfl)
theorem dX20_smallCost_37 : decode cX20_smallCost 37 = .ok (.ireturn, 1) := dk_172 (dk_at dksX20_smallCost_1 13 rfl rfl)
abbrev cX20_small : ByteArray := prog_18_method_5_code
def yX20_small : MethodName := ⟨RX20, "small", "(LSpillslotWorksModel$Node;)I"⟩
def dkwX20_small_2 : List UInt8 := [182, 0, 131, 153, 0, 10, 43, 180, 0, 113, 167, 0, 4, 2, 172]
abbrev dktX20_small_2 : List UInt8 := dkwX20_small_2 ++ []
def dkwX20_small_1 : List UInt8 := [182, 0, 131, 153, 0, 8, 43, 180, 0, 119, 172, 43, 180, 0, 108, 5, 160, 0, 21, 42, 43, 180, 0, 113]
abbrev dktX20_small_1 : List UInt8 := dkwX20_small_1 ++ dktX20_small_2
def dkwX20_small_0 : List UInt8 := [43, 180, 0, 108, 5, 159, 0, 13, 43, 180, 0, 108, 6, 159, 0, 5, 2, 172, 42, 43, 180, 0, 119]
abbrev dktX20_small_0 : List UInt8 := dkwX20_small_0 ++ dktX20_small_1
theorem dksX20_small_0 : cX20_small.data.toList.drop 0 = dktX20_small_0 := by decide +kernel
theorem dksX20_small_1 : cX20_small.data.toList.drop 23 = dktX20_small_1 := dk_seg dksX20_small_0 23 rfl rfl
theorem dksX20_small_2 : cX20_small.data.toList.drop 47 = dktX20_small_2 := dk_seg dksX20_small_1 24 rfl rfl
theorem dX20_small_0 : decode cX20_small 0 = .ok (.aload_n 1, 1) := dk_43 (dk_at dksX20_small_0 0 rfl rfl)
theorem dX20_small_1 : decode cX20_small 1 = .ok (.getfield 108, 3) := dk_180 0 108 (dk_at dksX20_small_0 1 rfl rfl)
theorem dX20_small_4 : decode cX20_small 4 = .ok (.iconst 2, 1) := dk_5 (dk_at dksX20_small_0 4 rfl rfl)
theorem dX20_small_5 : decode cX20_small 5 = .ok (.if_icmp .eq 13, 3) := dk_159 0 13 (dk_at dksX20_small_0 5 rfl rfl)
theorem dX20_small_8 : decode cX20_small 8 = .ok (.aload_n 1, 1) := dk_43 (dk_at dksX20_small_0 8 rfl rfl)
theorem dX20_small_9 : decode cX20_small 9 = .ok (.getfield 108, 3) := dk_180 0 108 (dk_at dksX20_small_0 9 rfl rfl)
theorem dX20_small_12 : decode cX20_small 12 = .ok (.iconst 3, 1) := dk_6 (dk_at dksX20_small_0 12 rfl rfl)
theorem dX20_small_13 : decode cX20_small 13 = .ok (.if_icmp .eq 5, 3) := dk_159 0 5 (dk_at dksX20_small_0 13 rfl rfl)
theorem dX20_small_16 : decode cX20_small 16 = .ok (.iconst (-1), 1) := dk_2 (dk_at dksX20_small_0 16 rfl rfl)
theorem dX20_small_17 : decode cX20_small 17 = .ok (.ireturn, 1) := dk_172 (dk_at dksX20_small_0 17 rfl rfl)
theorem dX20_small_18 : decode cX20_small 18 = .ok (.aload_n 0, 1) := dk_42 (dk_at dksX20_small_0 18 rfl rfl)
theorem dX20_small_19 : decode cX20_small 19 = .ok (.aload_n 1, 1) := dk_43 (dk_at dksX20_small_0 19 rfl rfl)
theorem dX20_small_20 : decode cX20_small 20 = .ok (.getfield 119, 3) := dk_180 0 119 (dk_at dksX20_small_0 20 rfl rfl)
theorem dX20_small_23 : decode cX20_small 23 = .ok (.invokevirtual 131, 3) := dk_182 0 131 (dk_at dksX20_small_1 0 rfl rfl)
theorem dX20_small_26 : decode cX20_small 26 = .ok (.ifCond .eq 8, 3) := dk_153 0 8 (dk_at dksX20_small_1 3 rfl rfl)
theorem dX20_small_29 : decode cX20_small 29 = .ok (.aload_n 1, 1) := dk_43 (dk_at dksX20_small_1 6 rfl rfl)
theorem dX20_small_30 : decode cX20_small 30 = .ok (.getfield 119, 3) := dk_180 0 119 (dk_at dksX20_small_1 7 rfl rfl)
theorem dX20_small_33 : decode cX20_small 33 = .ok (.ireturn, 1) := dk_172 (dk_at dksX20_small_1 10 rfl rfl)
theorem dX20_small_34 : decode cX20_small 34 = .ok (.aload_n 1, 1) := dk_43 (dk_at dksX20_small_1 11 rfl rfl)
theorem dX20_small_35 : decode cX20_small 35 = .ok (.getfield 108, 3) := dk_180 0 108 (dk_at dksX20_small_1 12 rfl rfl)
theorem dX20_small_38 : decode cX20_small 38 = .ok (.iconst 2, 1) := dk_5 (dk_at dksX20_small_1 15 rfl rfl)
theorem dX20_small_39 : decode cX20_small 39 = .ok (.if_icmp .ne 21, 3) := dk_160 0 21 (dk_at dksX20_small_1 16 rfl rfl)
theorem dX20_small_42 : decode cX20_small 42 = .ok (.aload_n 0, 1) := dk_42 (dk_at dksX20_small_1 19 rfl rfl)
theorem dX20_small_43 : decode cX20_small 43 = .ok (.aload_n 1, 1) := dk_43 (dk_at dksX20_small_1 20 rfl rfl)
theorem dX20_small_44 : decode cX20_small 44 = .ok (.getfield 113, 3) := dk_180 0 113 (dk_at dksX20_small_1 21 rfl rfl)
theorem dX20_small_47 : decode cX20_small 47 = .ok (.invokevirtual 131, 3) := dk_182 0 131 (dk_at dksX20_small_2 0 rfl rfl)
theorem dX20_small_50 : decode cX20_small 50 = .ok (.ifCond .eq 10, 3) := dk_153 0 10 (dk_at dksX20_small_2 3 rfl rfl)
theorem dX20_small_53 : decode cX20_small 53 = .ok (.aload_n 1, 1) := dk_43 (dk_at dksX20_small_2 6 rfl rfl)
theorem dX20_small_54 : decode cX20_small 54 = .ok (.getfield 113, 3) := dk_180 0 113 (dk_at dksX20_small_2 7 rfl rfl)
theorem dX20_small_57 : decode cX20_small 57 = .ok (.goto 4, 3) := dk_167 0 4 (dk_at dksX20_small_2 10 rfl rfl)
theorem dX20_small_60 : decode cX20_small 60 = .ok (.iconst (-1), 1) := dk_2 (dk_at dksX20_small_2 13 rfl rfl)
theorem dX20_small_61 : decode cX20_small 61 = .ok (.ireturn, 1) := dk_172 (dk_at dksX20_small_2 14 rfl rfl)
abbrev cX20_isSmall : ByteArray := prog_18_method_4_code
def yX20_isSmall : MethodName := ⟨RX20, "isSmall", "(I)Z"⟩
def dkwX20_isSmall_2 : List UInt8 := [4, 167, 0, 4, 3, 172]
abbrev dktX20_isSmall_2 : List UInt8 := dkwX20_isSmall_2 ++ []
def dkwX20_isSmall_1 : List UInt8 := [180, 0, 113, 42, 180, 0, 30, 180, 0, 122, 116, 42, 180, 0, 30, 180, 0, 122, 184, 0, 127, 153, 0, 7]
abbrev dktX20_isSmall_1 : List UInt8 := dkwX20_isSmall_1 ++ dktX20_isSmall_2
def dkwX20_isSmall_0 : List UInt8 := [42, 180, 0, 26, 27, 182, 0, 104, 180, 0, 108, 154, 0, 39, 42, 180, 0, 26, 27, 182, 0, 104]
abbrev dktX20_isSmall_0 : List UInt8 := dkwX20_isSmall_0 ++ dktX20_isSmall_1
theorem dksX20_isSmall_0 : cX20_isSmall.data.toList.drop 0 = dktX20_isSmall_0 := by decide +kernel
theorem dksX20_isSmall_1 : cX20_isSmall.data.toList.drop 22 = dktX20_isSmall_1 := dk_seg dksX20_isSmall_0 22 rfl rfl
theorem dksX20_isSmall_2 : cX20_isSmall.data.toList.drop 46 = dktX20_isSmall_2 := dk_seg dksX20_isSmall_1 24 rfl rfl
theorem dX20_isSmall_0 : decode cX20_isSmall 0 = .ok (.aload_n 0, 1) := dk_42 (dk_at dksX20_isSmall_0 0 rfl rfl)
theorem dX20_isSmall_1 : decode cX20_isSmall 1 = .ok (.getfield 26, 3) := dk_180 0 26 (dk_at dksX20_isSmall_0 1 rfl rfl)
theorem dX20_isSmall_4 : decode cX20_isSmall 4 = .ok (.iload_n 1, 1) := dk_27 (dk_at dksX20_isSmall_0 4 rfl rfl)
theorem dX20_isSmall_5 : decode cX20_isSmall 5 = .ok (.invokevirtual 104, 3) := dk_182 0 104 (dk_at dksX20_isSmall_0 5 rfl rfl)
theorem dX20_isSmall_8 : decode cX20_isSmall 8 = .ok (.getfield 108, 3) := dk_180 0 108 (dk_at dksX20_isSmall_0 8 rfl rfl)
theorem dX20_isSmall_11 : decode cX20_isSmall 11 = .ok (.ifCond .ne 39, 3) := dk_154 0 39 (dk_at dksX20_isSmall_0 11 rfl rfl)
theorem dX20_isSmall_14 : decode cX20_isSmall 14 = .ok (.aload_n 0, 1) := dk_42 (dk_at dksX20_isSmall_0 14 rfl rfl)
theorem dX20_isSmall_15 : decode cX20_isSmall 15 = .ok (.getfield 26, 3) := dk_180 0 26 (dk_at dksX20_isSmall_0 15 rfl rfl)
theorem dX20_isSmall_18 : decode cX20_isSmall 18 = .ok (.iload_n 1, 1) := dk_27 (dk_at dksX20_isSmall_0 18 rfl rfl)
theorem dX20_isSmall_19 : decode cX20_isSmall 19 = .ok (.invokevirtual 104, 3) := dk_182 0 104 (dk_at dksX20_isSmall_0 19 rfl rfl)
theorem dX20_isSmall_22 : decode cX20_isSmall 22 = .ok (.getfield 113, 3) := dk_180 0 113 (dk_at dksX20_isSmall_1 0 rfl rfl)
theorem dX20_isSmall_25 : decode cX20_isSmall 25 = .ok (.aload_n 0, 1) := dk_42 (dk_at dksX20_isSmall_1 3 rfl rfl)
theorem dX20_isSmall_26 : decode cX20_isSmall 26 = .ok (.getfield 30, 3) := dk_180 0 30 (dk_at dksX20_isSmall_1 4 rfl rfl)
theorem dX20_isSmall_29 : decode cX20_isSmall 29 = .ok (.getfield 122, 3) := dk_180 0 122 (dk_at dksX20_isSmall_1 7 rfl rfl)
theorem dX20_isSmall_32 : decode cX20_isSmall 32 = .ok (.ineg, 1) := dk_116 (dk_at dksX20_isSmall_1 10 rfl rfl)
theorem dX20_isSmall_33 : decode cX20_isSmall 33 = .ok (.aload_n 0, 1) := dk_42 (dk_at dksX20_isSmall_1 11 rfl rfl)
theorem dX20_isSmall_34 : decode cX20_isSmall 34 = .ok (.getfield 30, 3) := dk_180 0 30 (dk_at dksX20_isSmall_1 12 rfl rfl)
theorem dX20_isSmall_37 : decode cX20_isSmall 37 = .ok (.getfield 122, 3) := dk_180 0 122 (dk_at dksX20_isSmall_1 15 rfl rfl)
theorem dX20_isSmall_40 : decode cX20_isSmall 40 = .ok (.invokestatic 127, 3) := dk_184 0 127 (dk_at dksX20_isSmall_1 18 rfl rfl)
theorem dX20_isSmall_43 : decode cX20_isSmall 43 = .ok (.ifCond .eq 7, 3) := dk_153 0 7 (dk_at dksX20_isSmall_1 21 rfl rfl)
theorem dX20_isSmall_46 : decode cX20_isSmall 46 = .ok (.iconst 1, 1) := dk_4 (dk_at dksX20_isSmall_2 0 rfl rfl)
theorem dX20_isSmall_47 : decode cX20_isSmall 47 = .ok (.goto 4, 3) := dk_167 0 4 (dk_at dksX20_isSmall_2 1 rfl rfl)
theorem dX20_isSmall_50 : decode cX20_isSmall 50 = .ok (.iconst 0, 1) := dk_3 (dk_at dksX20_isSmall_2 4 rfl rfl)
theorem dX20_isSmall_51 : decode cX20_isSmall 51 = .ok (.ireturn, 1) := dk_172 (dk_at dksX20_isSmall_2 5 rfl rfl)
abbrev cX20_other : ByteArray := prog_18_method_7_code
def yX20_other : MethodName := ⟨RX20, "other", "(LSpillslotWorksModel$Node;I)I"⟩
def dkwX20_other_0 : List UInt8 := [43, 180, 0, 113, 28, 160, 0, 10, 43, 180, 0, 119, 167, 0, 7, 43, 180, 0, 113, 172]
abbrev dktX20_other_0 : List UInt8 := dkwX20_other_0 ++ []
theorem dksX20_other_0 : cX20_other.data.toList.drop 0 = dktX20_other_0 := by decide +kernel
theorem dX20_other_0 : decode cX20_other 0 = .ok (.aload_n 1, 1) := dk_43 (dk_at dksX20_other_0 0 rfl rfl)
theorem dX20_other_1 : decode cX20_other 1 = .ok (.getfield 113, 3) := dk_180 0 113 (dk_at dksX20_other_0 1 rfl rfl)
theorem dX20_other_4 : decode cX20_other 4 = .ok (.iload_n 2, 1) := dk_28 (dk_at dksX20_other_0 4 rfl rfl)
theorem dX20_other_5 : decode cX20_other 5 = .ok (.if_icmp .ne 10, 3) := dk_160 0 10 (dk_at dksX20_other_0 5 rfl rfl)
theorem dX20_other_8 : decode cX20_other 8 = .ok (.aload_n 1, 1) := dk_43 (dk_at dksX20_other_0 8 rfl rfl)
theorem dX20_other_9 : decode cX20_other 9 = .ok (.getfield 119, 3) := dk_180 0 119 (dk_at dksX20_other_0 9 rfl rfl)
theorem dX20_other_12 : decode cX20_other 12 = .ok (.goto 7, 3) := dk_167 0 7 (dk_at dksX20_other_0 12 rfl rfl)
theorem dX20_other_15 : decode cX20_other 15 = .ok (.aload_n 1, 1) := dk_43 (dk_at dksX20_other_0 15 rfl rfl)
theorem dX20_other_16 : decode cX20_other 16 = .ok (.getfield 113, 3) := dk_180 0 113 (dk_at dksX20_other_0 16 rfl rfl)
theorem dX20_other_19 : decode cX20_other 19 = .ok (.ireturn, 1) := dk_172 (dk_at dksX20_other_0 19 rfl rfl)
abbrev cX20_fusedCost : ByteArray := prog_18_method_10_code
def yX20_fusedCost : MethodName := ⟨RX20, "fusedCost", "(LSpillslotWorksModel$Node;)I"⟩
def dkwX20_fusedCost_2 : List UInt8 := [180, 0, 119, 182, 0, 142, 96, 42, 42, 43, 28, 182, 0, 151, 182, 0, 142, 96, 172]
abbrev dktX20_fusedCost_2 : List UInt8 := dkwX20_fusedCost_2 ++ []
def dkwX20_fusedCost_1 : List UInt8 := [42, 180, 0, 26, 28, 182, 0, 104, 180, 0, 113, 182, 0, 142, 96, 42, 42, 180, 0, 26, 28, 182, 0, 104]
abbrev dktX20_fusedCost_1 : List UInt8 := dkwX20_fusedCost_1 ++ dktX20_fusedCost_2
def dkwX20_fusedCost_0 : List UInt8 := [42, 43, 182, 0, 155, 61, 28, 2, 160, 0, 6, 18, 150, 172, 42, 180, 0, 26, 16, 6, 182, 0, 138, 42]
abbrev dktX20_fusedCost_0 : List UInt8 := dkwX20_fusedCost_0 ++ dktX20_fusedCost_1
theorem dksX20_fusedCost_0 : cX20_fusedCost.data.toList.drop 0 = dktX20_fusedCost_0 := by decide +kernel
theorem dksX20_fusedCost_1 : cX20_fusedCost.data.toList.drop 24 = dktX20_fusedCost_1 := dk_seg dksX20_fusedCost_0 24 rfl rfl
theorem dksX20_fusedCost_2 : cX20_fusedCost.data.toList.drop 48 = dktX20_fusedCost_2 := dk_seg dksX20_fusedCost_1 24 rfl rfl
theorem dX20_fusedCost_0 : decode cX20_fusedCost 0 = .ok (.aload_n 0, 1) := dk_42 (dk_at dksX20_fusedCost_0 0 rfl rfl)
theorem dX20_fusedCost_1 : decode cX20_fusedCost 1 = .ok (.aload_n 1, 1) := dk_43 (dk_at dksX20_fusedCost_0 1 rfl rfl)
theorem dX20_fusedCost_2 : decode cX20_fusedCost 2 = .ok (.invokevirtual 155, 3) := dk_182 0 155 (dk_at dksX20_fusedCost_0 2 rfl rfl)
theorem dX20_fusedCost_5 : decode cX20_fusedCost 5 = .ok (.istore_n 2, 1) := dk_61 (dk_at dksX20_fusedCost_0 5 rfl rfl)
theorem dX20_fusedCost_6 : decode cX20_fusedCost 6 = .ok (.iload_n 2, 1) := dk_28 (dk_at dksX20_fusedCost_0 6 rfl rfl)
theorem dX20_fusedCost_7 : decode cX20_fusedCost 7 = .ok (.iconst (-1), 1) := dk_2 (dk_at dksX20_fusedCost_0 7 rfl rfl)
theorem dX20_fusedCost_8 : decode cX20_fusedCost 8 = .ok (.if_icmp .ne 6, 3) := dk_160 0 6 (dk_at dksX20_fusedCost_0 8 rfl rfl)
theorem dX20_fusedCost_11 : decode cX20_fusedCost 11 = .ok (.ldc 150, 2) := dk_18 150 (dk_at dksX20_fusedCost_0 11 rfl rfl)
theorem dX20_fusedCost_13 : decode cX20_fusedCost 13 = .ok (.ireturn, 1) := dk_172 (dk_at dksX20_fusedCost_0 13 rfl rfl)
theorem dX20_fusedCost_14 : decode cX20_fusedCost 14 = .ok (.aload_n 0, 1) := dk_42 (dk_at dksX20_fusedCost_0 14 rfl rfl)
theorem dX20_fusedCost_15 : decode cX20_fusedCost 15 = .ok (.getfield 26, 3) := dk_180 0 26 (dk_at dksX20_fusedCost_0 15 rfl rfl)
theorem dX20_fusedCost_18 : decode cX20_fusedCost 18 = .ok (.bipush 6, 2) := dk_16 6 (dk_at dksX20_fusedCost_0 18 rfl rfl)
theorem dX20_fusedCost_20 : decode cX20_fusedCost 20 = .ok (.invokevirtual 138, 3) := dk_182 0 138 (dk_at dksX20_fusedCost_0 20 rfl rfl)
theorem dX20_fusedCost_23 : decode cX20_fusedCost 23 = .ok (.aload_n 0, 1) := dk_42 (dk_at dksX20_fusedCost_0 23 rfl rfl)
theorem dX20_fusedCost_24 : decode cX20_fusedCost 24 = .ok (.aload_n 0, 1) := dk_42 (dk_at dksX20_fusedCost_1 0 rfl rfl)
theorem dX20_fusedCost_25 : decode cX20_fusedCost 25 = .ok (.getfield 26, 3) := dk_180 0 26 (dk_at dksX20_fusedCost_1 1 rfl rfl)
theorem dX20_fusedCost_28 : decode cX20_fusedCost 28 = .ok (.iload_n 2, 1) := dk_28 (dk_at dksX20_fusedCost_1 4 rfl rfl)
theorem dX20_fusedCost_29 : decode cX20_fusedCost 29 = .ok (.invokevirtual 104, 3) := dk_182 0 104 (dk_at dksX20_fusedCost_1 5 rfl rfl)
theorem dX20_fusedCost_32 : decode cX20_fusedCost 32 = .ok (.getfield 113, 3) := dk_180 0 113 (dk_at dksX20_fusedCost_1 8 rfl rfl)
theorem dX20_fusedCost_35 : decode cX20_fusedCost 35 = .ok (.invokevirtual 142, 3) := dk_182 0 142 (dk_at dksX20_fusedCost_1 11 rfl rfl)
theorem dX20_fusedCost_38 : decode cX20_fusedCost 38 = .ok (.iadd, 1) := dk_96 (dk_at dksX20_fusedCost_1 14 rfl rfl)
theorem dX20_fusedCost_39 : decode cX20_fusedCost 39 = .ok (.aload_n 0, 1) := dk_42 (dk_at dksX20_fusedCost_1 15 rfl rfl)
theorem dX20_fusedCost_40 : decode cX20_fusedCost 40 = .ok (.aload_n 0, 1) := dk_42 (dk_at dksX20_fusedCost_1 16 rfl rfl)
theorem dX20_fusedCost_41 : decode cX20_fusedCost 41 = .ok (.getfield 26, 3) := dk_180 0 26 (dk_at dksX20_fusedCost_1 17 rfl rfl)
theorem dX20_fusedCost_44 : decode cX20_fusedCost 44 = .ok (.iload_n 2, 1) := dk_28 (dk_at dksX20_fusedCost_1 20 rfl rfl)
theorem dX20_fusedCost_45 : decode cX20_fusedCost 45 = .ok (.invokevirtual 104, 3) := dk_182 0 104 (dk_at dksX20_fusedCost_1 21 rfl rfl)
theorem dX20_fusedCost_48 : decode cX20_fusedCost 48 = .ok (.getfield 119, 3) := dk_180 0 119 (dk_at dksX20_fusedCost_2 0 rfl rfl)
theorem dX20_fusedCost_51 : decode cX20_fusedCost 51 = .ok (.invokevirtual 142, 3) := dk_182 0 142 (dk_at dksX20_fusedCost_2 3 rfl rfl)
theorem dX20_fusedCost_54 : decode cX20_fusedCost 54 = .ok (.iadd, 1) := dk_96 (dk_at dksX20_fusedCost_2 6 rfl rfl)
theorem dX20_fusedCost_55 : decode cX20_fusedCost 55 = .ok (.aload_n 0, 1) := dk_42 (dk_at dksX20_fusedCost_2 7 rfl rfl)
theorem dX20_fusedCost_56 : decode cX20_fusedCost 56 = .ok (.aload_n 0, 1) := dk_42 (dk_at dksX20_fusedCost_2 8 rfl rfl)
theorem dX20_fusedCost_57 : decode cX20_fusedCost 57 = .ok (.aload_n 1, 1) := dk_43 (dk_at dksX20_fusedCost_2 9 rfl rfl)
theorem dX20_fusedCost_58 : decode cX20_fusedCost 58 = .ok (.iload_n 2, 1) := dk_28 (dk_at dksX20_fusedCost_2 10 rfl rfl)
theorem dX20_fusedCost_59 : decode cX20_fusedCost 59 = .ok (.invokevirtual 151, 3) := dk_182 0 151 (dk_at dksX20_fusedCost_2 11 rfl rfl)
theorem dX20_fusedCost_62 : decode cX20_fusedCost 62 = .ok (.invokevirtual 142, 3) := dk_182 0 142 (dk_at dksX20_fusedCost_2 14 rfl rfl)
theorem dX20_fusedCost_65 : decode cX20_fusedCost 65 = .ok (.iadd, 1) := dk_96 (dk_at dksX20_fusedCost_2 17 rfl rfl)
theorem dX20_fusedCost_66 : decode cX20_fusedCost 66 = .ok (.ireturn, 1) := dk_172 (dk_at dksX20_fusedCost_2 18 rfl rfl)
abbrev cX20_fused : ByteArray := prog_18_method_6_code
def yX20_fused : MethodName := ⟨RX20, "fused", "(LSpillslotWorksModel$Node;)I"⟩
def dkwX20_fused_2 : List UInt8 := [180, 0, 119, 182, 0, 104, 180, 0, 108, 7, 160, 0, 10, 43, 180, 0, 119, 167, 0, 4, 2, 172]
abbrev dktX20_fused_2 : List UInt8 := dkwX20_fused_2 ++ []
def dkwX20_fused_1 : List UInt8 := [43, 180, 0, 113, 182, 0, 104, 180, 0, 108, 7, 160, 0, 8, 43, 180, 0, 113, 172, 42, 180, 0, 26, 43]
abbrev dktX20_fused_1 : List UInt8 := dkwX20_fused_1 ++ dktX20_fused_2
def dkwX20_fused_0 : List UInt8 := [42, 180, 0, 30, 180, 0, 135, 153, 0, 11, 43, 180, 0, 108, 5, 159, 0, 5, 2, 172, 42, 180, 0, 26]
abbrev dktX20_fused_0 : List UInt8 := dkwX20_fused_0 ++ dktX20_fused_1
theorem dksX20_fused_0 : cX20_fused.data.toList.drop 0 = dktX20_fused_0 := by decide +kernel
theorem dksX20_fused_1 : cX20_fused.data.toList.drop 24 = dktX20_fused_1 := dk_seg dksX20_fused_0 24 rfl rfl
theorem dksX20_fused_2 : cX20_fused.data.toList.drop 48 = dktX20_fused_2 := dk_seg dksX20_fused_1 24 rfl rfl
theorem dX20_fused_0 : decode cX20_fused 0 = .ok (.aload_n 0, 1) := dk_42 (dk_at dksX20_fused_0 0 rfl rfl)
theorem dX20_fused_1 : decode cX20_fused 1 = .ok (.getfield 30, 3) := dk_180 0 30 (dk_at dksX20_fused_0 1 rfl rfl)
theorem dX20_fused_4 : decode cX20_fused 4 = .ok (.getfield 135, 3) := dk_180 0 135 (dk_at dksX20_fused_0 4 rfl rfl)
theorem dX20_fused_7 : decode cX20_fused 7 = .ok (.ifCond .eq 11, 3) := dk_153 0 11 (dk_at dksX20_fused_0 7 rfl rfl)
theorem dX20_fused_10 : decode cX20_fused 10 = .ok (.aload_n 1, 1) := dk_43 (dk_at dksX20_fused_0 10 rfl rfl)
theorem dX20_fused_11 : decode cX20_fused 11 = .ok (.getfield 108, 3) := dk_180 0 108 (dk_at dksX20_fused_0 11 rfl rfl)
theorem dX20_fused_14 : decode cX20_fused 14 = .ok (.iconst 2, 1) := dk_5 (dk_at dksX20_fused_0 14 rfl rfl)
theorem dX20_fused_15 : decode cX20_fused 15 = .ok (.if_icmp .eq 5, 3) := dk_159 0 5 (dk_at dksX20_fused_0 15 rfl rfl)
theorem dX20_fused_18 : decode cX20_fused 18 = .ok (.iconst (-1), 1) := dk_2 (dk_at dksX20_fused_0 18 rfl rfl)
theorem dX20_fused_19 : decode cX20_fused 19 = .ok (.ireturn, 1) := dk_172 (dk_at dksX20_fused_0 19 rfl rfl)
theorem dX20_fused_20 : decode cX20_fused 20 = .ok (.aload_n 0, 1) := dk_42 (dk_at dksX20_fused_0 20 rfl rfl)
theorem dX20_fused_21 : decode cX20_fused 21 = .ok (.getfield 26, 3) := dk_180 0 26 (dk_at dksX20_fused_0 21 rfl rfl)
theorem dX20_fused_24 : decode cX20_fused 24 = .ok (.aload_n 1, 1) := dk_43 (dk_at dksX20_fused_1 0 rfl rfl)
theorem dX20_fused_25 : decode cX20_fused 25 = .ok (.getfield 113, 3) := dk_180 0 113 (dk_at dksX20_fused_1 1 rfl rfl)
theorem dX20_fused_28 : decode cX20_fused 28 = .ok (.invokevirtual 104, 3) := dk_182 0 104 (dk_at dksX20_fused_1 4 rfl rfl)
theorem dX20_fused_31 : decode cX20_fused 31 = .ok (.getfield 108, 3) := dk_180 0 108 (dk_at dksX20_fused_1 7 rfl rfl)
theorem dX20_fused_34 : decode cX20_fused 34 = .ok (.iconst 4, 1) := dk_7 (dk_at dksX20_fused_1 10 rfl rfl)
theorem dX20_fused_35 : decode cX20_fused 35 = .ok (.if_icmp .ne 8, 3) := dk_160 0 8 (dk_at dksX20_fused_1 11 rfl rfl)
theorem dX20_fused_38 : decode cX20_fused 38 = .ok (.aload_n 1, 1) := dk_43 (dk_at dksX20_fused_1 14 rfl rfl)
theorem dX20_fused_39 : decode cX20_fused 39 = .ok (.getfield 113, 3) := dk_180 0 113 (dk_at dksX20_fused_1 15 rfl rfl)
theorem dX20_fused_42 : decode cX20_fused 42 = .ok (.ireturn, 1) := dk_172 (dk_at dksX20_fused_1 18 rfl rfl)
theorem dX20_fused_43 : decode cX20_fused 43 = .ok (.aload_n 0, 1) := dk_42 (dk_at dksX20_fused_1 19 rfl rfl)
theorem dX20_fused_44 : decode cX20_fused 44 = .ok (.getfield 26, 3) := dk_180 0 26 (dk_at dksX20_fused_1 20 rfl rfl)
theorem dX20_fused_47 : decode cX20_fused 47 = .ok (.aload_n 1, 1) := dk_43 (dk_at dksX20_fused_1 23 rfl rfl)
theorem dX20_fused_48 : decode cX20_fused 48 = .ok (.getfield 119, 3) := dk_180 0 119 (dk_at dksX20_fused_2 0 rfl rfl)
theorem dX20_fused_51 : decode cX20_fused 51 = .ok (.invokevirtual 104, 3) := dk_182 0 104 (dk_at dksX20_fused_2 3 rfl rfl)
theorem dX20_fused_54 : decode cX20_fused 54 = .ok (.getfield 108, 3) := dk_180 0 108 (dk_at dksX20_fused_2 6 rfl rfl)
theorem dX20_fused_57 : decode cX20_fused 57 = .ok (.iconst 4, 1) := dk_7 (dk_at dksX20_fused_2 9 rfl rfl)
theorem dX20_fused_58 : decode cX20_fused 58 = .ok (.if_icmp .ne 10, 3) := dk_160 0 10 (dk_at dksX20_fused_2 10 rfl rfl)
theorem dX20_fused_61 : decode cX20_fused 61 = .ok (.aload_n 1, 1) := dk_43 (dk_at dksX20_fused_2 13 rfl rfl)
theorem dX20_fused_62 : decode cX20_fused 62 = .ok (.getfield 119, 3) := dk_180 0 119 (dk_at dksX20_fused_2 14 rfl rfl)
theorem dX20_fused_65 : decode cX20_fused 65 = .ok (.goto 4, 3) := dk_167 0 4 (dk_at dksX20_fused_2 17 rfl rfl)
theorem dX20_fused_68 : decode cX20_fused 68 = .ok (.iconst (-1), 1) := dk_2 (dk_at dksX20_fused_2 20 rfl rfl)
theorem dX20_fused_69 : decode cX20_fused 69 = .ok (.ireturn, 1) := dk_172 (dk_at dksX20_fused_2 21 rfl rfl)
abbrev cX20_fuse : ByteArray := prog_18_method_16_code
def yX20_fuse : MethodName := ⟨RX20, "fuse", "(LSpillslotWorksModel$Node;I)I"⟩
def dkwX20_fuse_4 : List UInt8 := [21, 5, 79, 89, 4, 21, 6, 79, 89, 5, 21, 4, 79, 3, 182, 0, 176, 172]
abbrev dktX20_fuse_4 : List UInt8 := dkwX20_fuse_4 ++ []
def dkwX20_fuse_3 : List UInt8 := [160, 0, 14, 42, 43, 180, 0, 119, 2, 182, 0, 179, 54, 4, 42, 16, 6, 28, 6, 188, 10, 89, 3]
abbrev dktX20_fuse_3 : List UInt8 := dkwX20_fuse_3 ++ dktX20_fuse_4
def dkwX20_fuse_2 : List UInt8 := [42, 42, 180, 0, 26, 29, 182, 0, 104, 180, 0, 119, 2, 182, 0, 179, 54, 6, 29, 43, 180, 0, 113]
abbrev dktX20_fuse_2 : List UInt8 := dkwX20_fuse_2 ++ dktX20_fuse_3
def dkwX20_fuse_1 : List UInt8 := [167, 0, 4, 2, 54, 4, 42, 42, 180, 0, 26, 29, 182, 0, 104, 180, 0, 113, 2, 182, 0, 179, 54, 5]
abbrev dktX20_fuse_1 : List UInt8 := dkwX20_fuse_1 ++ dktX20_fuse_2
def dkwX20_fuse_0 : List UInt8 := [42, 43, 182, 0, 155, 62, 29, 43, 180, 0, 119, 160, 0, 15, 42, 43, 180, 0, 113, 2, 182, 0, 179]
abbrev dktX20_fuse_0 : List UInt8 := dkwX20_fuse_0 ++ dktX20_fuse_1
theorem dksX20_fuse_0 : cX20_fuse.data.toList.drop 0 = dktX20_fuse_0 := by decide +kernel
theorem dksX20_fuse_1 : cX20_fuse.data.toList.drop 23 = dktX20_fuse_1 := dk_seg dksX20_fuse_0 23 rfl rfl
theorem dksX20_fuse_2 : cX20_fuse.data.toList.drop 47 = dktX20_fuse_2 := dk_seg dksX20_fuse_1 24 rfl rfl
theorem dksX20_fuse_3 : cX20_fuse.data.toList.drop 70 = dktX20_fuse_3 := dk_seg dksX20_fuse_2 23 rfl rfl
theorem dksX20_fuse_4 : cX20_fuse.data.toList.drop 93 = dktX20_fuse_4 := dk_seg dksX20_fuse_3 23 rfl rfl
theorem dX20_fuse_0 : decode cX20_fuse 0 = .ok (.aload_n 0, 1) := dk_42 (dk_at dksX20_fuse_0 0 rfl rfl)
theorem dX20_fuse_1 : decode cX20_fuse 1 = .ok (.aload_n 1, 1) := dk_43 (dk_at dksX20_fuse_0 1 rfl rfl)
theorem dX20_fuse_2 : decode cX20_fuse 2 = .ok (.invokevirtual 155, 3) := dk_182 0 155 (dk_at dksX20_fuse_0 2 rfl rfl)
theorem dX20_fuse_5 : decode cX20_fuse 5 = .ok (.istore_n 3, 1) := dk_62 (dk_at dksX20_fuse_0 5 rfl rfl)
theorem dX20_fuse_6 : decode cX20_fuse 6 = .ok (.iload_n 3, 1) := dk_29 (dk_at dksX20_fuse_0 6 rfl rfl)
theorem dX20_fuse_7 : decode cX20_fuse 7 = .ok (.aload_n 1, 1) := dk_43 (dk_at dksX20_fuse_0 7 rfl rfl)
theorem dX20_fuse_8 : decode cX20_fuse 8 = .ok (.getfield 119, 3) := dk_180 0 119 (dk_at dksX20_fuse_0 8 rfl rfl)
theorem dX20_fuse_11 : decode cX20_fuse 11 = .ok (.if_icmp .ne 15, 3) := dk_160 0 15 (dk_at dksX20_fuse_0 11 rfl rfl)
theorem dX20_fuse_14 : decode cX20_fuse 14 = .ok (.aload_n 0, 1) := dk_42 (dk_at dksX20_fuse_0 14 rfl rfl)
theorem dX20_fuse_15 : decode cX20_fuse 15 = .ok (.aload_n 1, 1) := dk_43 (dk_at dksX20_fuse_0 15 rfl rfl)
theorem dX20_fuse_16 : decode cX20_fuse 16 = .ok (.getfield 113, 3) := dk_180 0 113 (dk_at dksX20_fuse_0 16 rfl rfl)
theorem dX20_fuse_19 : decode cX20_fuse 19 = .ok (.iconst (-1), 1) := dk_2 (dk_at dksX20_fuse_0 19 rfl rfl)
theorem dX20_fuse_20 : decode cX20_fuse 20 = .ok (.invokevirtual 179, 3) := dk_182 0 179 (dk_at dksX20_fuse_0 20 rfl rfl)
theorem dX20_fuse_23 : decode cX20_fuse 23 = .ok (.goto 4, 3) := dk_167 0 4 (dk_at dksX20_fuse_1 0 rfl rfl)
theorem dX20_fuse_26 : decode cX20_fuse 26 = .ok (.iconst (-1), 1) := dk_2 (dk_at dksX20_fuse_1 3 rfl rfl)
theorem dX20_fuse_27 : decode cX20_fuse 27 = .ok (.istore 4, 2) := dk_54 4 (dk_at dksX20_fuse_1 4 rfl rfl)
theorem dX20_fuse_29 : decode cX20_fuse 29 = .ok (.aload_n 0, 1) := dk_42 (dk_at dksX20_fuse_1 6 rfl rfl)
theorem dX20_fuse_30 : decode cX20_fuse 30 = .ok (.aload_n 0, 1) := dk_42 (dk_at dksX20_fuse_1 7 rfl rfl)
theorem dX20_fuse_31 : decode cX20_fuse 31 = .ok (.getfield 26, 3) := dk_180 0 26 (dk_at dksX20_fuse_1 8 rfl rfl)
theorem dX20_fuse_34 : decode cX20_fuse 34 = .ok (.iload_n 3, 1) := dk_29 (dk_at dksX20_fuse_1 11 rfl rfl)
theorem dX20_fuse_35 : decode cX20_fuse 35 = .ok (.invokevirtual 104, 3) := dk_182 0 104 (dk_at dksX20_fuse_1 12 rfl rfl)
theorem dX20_fuse_38 : decode cX20_fuse 38 = .ok (.getfield 113, 3) := dk_180 0 113 (dk_at dksX20_fuse_1 15 rfl rfl)
theorem dX20_fuse_41 : decode cX20_fuse 41 = .ok (.iconst (-1), 1) := dk_2 (dk_at dksX20_fuse_1 18 rfl rfl)
theorem dX20_fuse_42 : decode cX20_fuse 42 = .ok (.invokevirtual 179, 3) := dk_182 0 179 (dk_at dksX20_fuse_1 19 rfl rfl)
theorem dX20_fuse_45 : decode cX20_fuse 45 = .ok (.istore 5, 2) := dk_54 5 (dk_at dksX20_fuse_1 22 rfl rfl)
theorem dX20_fuse_47 : decode cX20_fuse 47 = .ok (.aload_n 0, 1) := dk_42 (dk_at dksX20_fuse_2 0 rfl rfl)
theorem dX20_fuse_48 : decode cX20_fuse 48 = .ok (.aload_n 0, 1) := dk_42 (dk_at dksX20_fuse_2 1 rfl rfl)
theorem dX20_fuse_49 : decode cX20_fuse 49 = .ok (.getfield 26, 3) := dk_180 0 26 (dk_at dksX20_fuse_2 2 rfl rfl)
theorem dX20_fuse_52 : decode cX20_fuse 52 = .ok (.iload_n 3, 1) := dk_29 (dk_at dksX20_fuse_2 5 rfl rfl)
theorem dX20_fuse_53 : decode cX20_fuse 53 = .ok (.invokevirtual 104, 3) := dk_182 0 104 (dk_at dksX20_fuse_2 6 rfl rfl)
theorem dX20_fuse_56 : decode cX20_fuse 56 = .ok (.getfield 119, 3) := dk_180 0 119 (dk_at dksX20_fuse_2 9 rfl rfl)
theorem dX20_fuse_59 : decode cX20_fuse 59 = .ok (.iconst (-1), 1) := dk_2 (dk_at dksX20_fuse_2 12 rfl rfl)
theorem dX20_fuse_60 : decode cX20_fuse 60 = .ok (.invokevirtual 179, 3) := dk_182 0 179 (dk_at dksX20_fuse_2 13 rfl rfl)
theorem dX20_fuse_63 : decode cX20_fuse 63 = .ok (.istore 6, 2) := dk_54 6 (dk_at dksX20_fuse_2 16 rfl rfl)
theorem dX20_fuse_65 : decode cX20_fuse 65 = .ok (.iload_n 3, 1) := dk_29 (dk_at dksX20_fuse_2 18 rfl rfl)
theorem dX20_fuse_66 : decode cX20_fuse 66 = .ok (.aload_n 1, 1) := dk_43 (dk_at dksX20_fuse_2 19 rfl rfl)
theorem dX20_fuse_67 : decode cX20_fuse 67 = .ok (.getfield 113, 3) := dk_180 0 113 (dk_at dksX20_fuse_2 20 rfl rfl)
theorem dX20_fuse_70 : decode cX20_fuse 70 = .ok (.if_icmp .ne 14, 3) := dk_160 0 14 (dk_at dksX20_fuse_3 0 rfl rfl)
theorem dX20_fuse_73 : decode cX20_fuse 73 = .ok (.aload_n 0, 1) := dk_42 (dk_at dksX20_fuse_3 3 rfl rfl)
theorem dX20_fuse_74 : decode cX20_fuse 74 = .ok (.aload_n 1, 1) := dk_43 (dk_at dksX20_fuse_3 4 rfl rfl)
theorem dX20_fuse_75 : decode cX20_fuse 75 = .ok (.getfield 119, 3) := dk_180 0 119 (dk_at dksX20_fuse_3 5 rfl rfl)
theorem dX20_fuse_78 : decode cX20_fuse 78 = .ok (.iconst (-1), 1) := dk_2 (dk_at dksX20_fuse_3 8 rfl rfl)
theorem dX20_fuse_79 : decode cX20_fuse 79 = .ok (.invokevirtual 179, 3) := dk_182 0 179 (dk_at dksX20_fuse_3 9 rfl rfl)
theorem dX20_fuse_82 : decode cX20_fuse 82 = .ok (.istore 4, 2) := dk_54 4 (dk_at dksX20_fuse_3 12 rfl rfl)
theorem dX20_fuse_84 : decode cX20_fuse 84 = .ok (.aload_n 0, 1) := dk_42 (dk_at dksX20_fuse_3 14 rfl rfl)
theorem dX20_fuse_85 : decode cX20_fuse 85 = .ok (.bipush 6, 2) := dk_16 6 (dk_at dksX20_fuse_3 15 rfl rfl)
theorem dX20_fuse_87 : decode cX20_fuse 87 = .ok (.iload_n 2, 1) := dk_28 (dk_at dksX20_fuse_3 17 rfl rfl)
theorem dX20_fuse_88 : decode cX20_fuse 88 = .ok (.iconst 3, 1) := dk_6 (dk_at dksX20_fuse_3 18 rfl rfl)
theorem dX20_fuse_89 : decode cX20_fuse 89 = .ok (.newarray .int, 2) := dk_188_10 (dk_at dksX20_fuse_3 19 rfl rfl)
theorem dX20_fuse_91 : decode cX20_fuse 91 = .ok (.dup, 1) := dk_89 (dk_at dksX20_fuse_3 21 rfl rfl)
theorem dX20_fuse_92 : decode cX20_fuse 92 = .ok (.iconst 0, 1) := dk_3 (dk_at dksX20_fuse_3 22 rfl rfl)
theorem dX20_fuse_93 : decode cX20_fuse 93 = .ok (.iload 5, 2) := dk_21 5 (dk_at dksX20_fuse_4 0 rfl rfl)
theorem dX20_fuse_95 : decode cX20_fuse 95 = .ok (.iastore, 1) := dk_79 (dk_at dksX20_fuse_4 2 rfl rfl)
theorem dX20_fuse_96 : decode cX20_fuse 96 = .ok (.dup, 1) := dk_89 (dk_at dksX20_fuse_4 3 rfl rfl)
theorem dX20_fuse_97 : decode cX20_fuse 97 = .ok (.iconst 1, 1) := dk_4 (dk_at dksX20_fuse_4 4 rfl rfl)
theorem dX20_fuse_98 : decode cX20_fuse 98 = .ok (.iload 6, 2) := dk_21 6 (dk_at dksX20_fuse_4 5 rfl rfl)
theorem dX20_fuse_100 : decode cX20_fuse 100 = .ok (.iastore, 1) := dk_79 (dk_at dksX20_fuse_4 7 rfl rfl)
theorem dX20_fuse_101 : decode cX20_fuse 101 = .ok (.dup, 1) := dk_89 (dk_at dksX20_fuse_4 8 rfl rfl)
theorem dX20_fuse_102 : decode cX20_fuse 102 = .ok (.iconst 2, 1) := dk_5 (dk_at dksX20_fuse_4 9 rfl rfl)
theorem dX20_fuse_103 : decode cX20_fuse 103 = .ok (.iload 4, 2) := dk_21 4 (dk_at dksX20_fuse_4 10 rfl rfl)
theorem dX20_fuse_105 : decode cX20_fuse 105 = .ok (.iastore, 1) := dk_79 (dk_at dksX20_fuse_4 12 rfl rfl)
theorem dX20_fuse_106 : decode cX20_fuse 106 = .ok (.iconst 0, 1) := dk_3 (dk_at dksX20_fuse_4 13 rfl rfl)
theorem dX20_fuse_107 : decode cX20_fuse 107 = .ok (.invokevirtual 176, 3) := dk_182 0 176 (dk_at dksX20_fuse_4 14 rfl rfl)
theorem dX20_fuse_110 : decode cX20_fuse 110 = .ok (.ireturn, 1) := dk_172 (dk_at dksX20_fuse_4 17 rfl rfl)
abbrev cX20_order : ByteArray := prog_18_method_17_code
def yX20_order : MethodName := ⟨RX20, "order", "()Ljava/util/ArrayList;"⟩
def dkwX20_order_10 : List UInt8 := [167, 255, 165, 43, 176]
abbrev dktX20_order_10 : List UInt8 := dkwX20_order_10 ++ []
def dkwX20_order_9 : List UInt8 := [180, 0, 193, 44, 180, 0, 193, 164, 0, 6, 25, 4, 77, 167, 255, 198, 43, 44, 182, 0, 100, 87]
abbrev dktX20_order_9 : List UInt8 := dkwX20_order_9 ++ dktX20_order_10
def dkwX20_order_8 : List UInt8 := [182, 0, 202, 154, 0, 32, 42, 25, 4, 43, 182, 0, 205, 153, 0, 22, 44, 198, 0, 15, 25, 4]
abbrev dktX20_order_8 : List UInt8 := dkwX20_order_8 ++ dktX20_order_9
def dkwX20_order_7 : List UInt8 := [185, 0, 57, 1, 0, 153, 0, 55, 45, 185, 0, 63, 1, 0, 192, 0, 95, 58, 4, 43, 25, 4]
abbrev dktX20_order_7 : List UInt8 := dkwX20_order_7 ++ dktX20_order_8
def dkwX20_order_6 : List UInt8 := [182, 0, 185, 42, 180, 0, 12, 182, 0, 185, 162, 0, 83, 1, 77, 42, 180, 0, 12, 182, 0, 53, 78, 45]
abbrev dktX20_order_6 : List UInt8 := dkwX20_order_6 ++ dktX20_order_7
def dkwX20_order_5 : List UInt8 := [89, 183, 0, 11, 76, 42, 180, 0, 34, 154, 0, 14, 43, 42, 180, 0, 12, 182, 0, 76, 87, 43, 176, 43]
abbrev dktX20_order_5 : List UInt8 := dkwX20_order_5 ++ dktX20_order_6
def dkwX20_order_4 : List UInt8 := [180, 0, 26, 44, 180, 0, 199, 182, 0, 138, 29, 96, 181, 0, 193, 132, 1, 255, 167, 255, 156, 187, 0, 9]
abbrev dktX20_order_4 : List UInt8 := dkwX20_order_4 ++ dktX20_order_5
def dkwX20_order_3 : List UInt8 := [21, 4, 182, 0, 49, 192, 0, 95, 180, 0, 193, 184, 0, 196, 62, 132, 4, 1, 167, 255, 202, 44, 42]
abbrev dktX20_order_3 : List UInt8 := dkwX20_order_3 ++ dktX20_order_4
def dkwX20_order_2 : List UInt8 := [180, 0, 12, 21, 4, 182, 0, 49, 192, 0, 95, 44, 182, 0, 189, 153, 0, 23, 29, 42, 180, 0, 12]
abbrev dktX20_order_2 : List UInt8 := dkwX20_order_2 ++ dktX20_order_3
def dkwX20_order_1 : List UInt8 := [192, 0, 95, 77, 3, 62, 27, 4, 96, 54, 4, 21, 4, 42, 180, 0, 12, 182, 0, 185, 162, 0, 48, 42]
abbrev dktX20_order_1 : List UInt8 := dkwX20_order_1 ++ dktX20_order_2
def dkwX20_order_0 : List UInt8 := [42, 180, 0, 12, 182, 0, 185, 4, 100, 60, 27, 155, 0, 102, 42, 180, 0, 12, 27, 182, 0, 49]
abbrev dktX20_order_0 : List UInt8 := dkwX20_order_0 ++ dktX20_order_1
theorem dksX20_order_0 : cX20_order.data.toList.drop 0 = dktX20_order_0 := by decide +kernel
theorem dksX20_order_1 : cX20_order.data.toList.drop 22 = dktX20_order_1 := dk_seg dksX20_order_0 22 rfl rfl
theorem dksX20_order_2 : cX20_order.data.toList.drop 46 = dktX20_order_2 := dk_seg dksX20_order_1 24 rfl rfl
theorem dksX20_order_3 : cX20_order.data.toList.drop 69 = dktX20_order_3 := dk_seg dksX20_order_2 23 rfl rfl
theorem dksX20_order_4 : cX20_order.data.toList.drop 92 = dktX20_order_4 := dk_seg dksX20_order_3 23 rfl rfl
theorem dksX20_order_5 : cX20_order.data.toList.drop 116 = dktX20_order_5 := dk_seg dksX20_order_4 24 rfl rfl
theorem dksX20_order_6 : cX20_order.data.toList.drop 140 = dktX20_order_6 := dk_seg dksX20_order_5 24 rfl rfl
theorem dksX20_order_7 : cX20_order.data.toList.drop 164 = dktX20_order_7 := dk_seg dksX20_order_6 24 rfl rfl
theorem dksX20_order_8 : cX20_order.data.toList.drop 186 = dktX20_order_8 := dk_seg dksX20_order_7 22 rfl rfl
theorem dksX20_order_9 : cX20_order.data.toList.drop 208 = dktX20_order_9 := dk_seg dksX20_order_8 22 rfl rfl
theorem dksX20_order_10 : cX20_order.data.toList.drop 230 = dktX20_order_10 := dk_seg dksX20_order_9 22 rfl rfl
theorem dX20_order_0 : decode cX20_order 0 = .ok (.aload_n 0, 1) := dk_42 (dk_at dksX20_order_0 0 rfl rfl)
theorem dX20_order_1 : decode cX20_order 1 = .ok (.getfield 12, 3) := dk_180 0 12 (dk_at dksX20_order_0 1 rfl rfl)
theorem dX20_order_4 : decode cX20_order 4 = .ok (.invokevirtual 185, 3) := dk_182 0 185 (dk_at dksX20_order_0 4 rfl rfl)
theorem dX20_order_7 : decode cX20_order 7 = .ok (.iconst 1, 1) := dk_4 (dk_at dksX20_order_0 7 rfl rfl)
theorem dX20_order_8 : decode cX20_order 8 = .ok (.isub, 1) := dk_100 (dk_at dksX20_order_0 8 rfl rfl)
theorem dX20_order_9 : decode cX20_order 9 = .ok (.istore_n 1, 1) := dk_60 (dk_at dksX20_order_0 9 rfl rfl)
theorem dX20_order_10 : decode cX20_order 10 = .ok (.iload_n 1, 1) := dk_27 (dk_at dksX20_order_0 10 rfl rfl)
theorem dX20_order_11 : decode cX20_order 11 = .ok (.ifCond .lt 102, 3) := dk_155 0 102 (dk_at dksX20_order_0 11 rfl rfl)
theorem dX20_order_14 : decode cX20_order 14 = .ok (.aload_n 0, 1) := dk_42 (dk_at dksX20_order_0 14 rfl rfl)
theorem dX20_order_15 : decode cX20_order 15 = .ok (.getfield 12, 3) := dk_180 0 12 (dk_at dksX20_order_0 15 rfl rfl)
theorem dX20_order_18 : decode cX20_order 18 = .ok (.iload_n 1, 1) := dk_27 (dk_at dksX20_order_0 18 rfl rfl)
theorem dX20_order_19 : decode cX20_order 19 = .ok (.invokevirtual 49, 3) := dk_182 0 49 (dk_at dksX20_order_0 19 rfl rfl)
theorem dX20_order_22 : decode cX20_order 22 = .ok (.checkcast 95, 3) := dk_192 0 95 (dk_at dksX20_order_1 0 rfl rfl)
theorem dX20_order_25 : decode cX20_order 25 = .ok (.astore_n 2, 1) := dk_77 (dk_at dksX20_order_1 3 rfl rfl)
theorem dX20_order_26 : decode cX20_order 26 = .ok (.iconst 0, 1) := dk_3 (dk_at dksX20_order_1 4 rfl rfl)
theorem dX20_order_27 : decode cX20_order 27 = .ok (.istore_n 3, 1) := dk_62 (dk_at dksX20_order_1 5 rfl rfl)
theorem dX20_order_28 : decode cX20_order 28 = .ok (.iload_n 1, 1) := dk_27 (dk_at dksX20_order_1 6 rfl rfl)
theorem dX20_order_29 : decode cX20_order 29 = .ok (.iconst 1, 1) := dk_4 (dk_at dksX20_order_1 7 rfl rfl)
theorem dX20_order_30 : decode cX20_order 30 = .ok (.iadd, 1) := dk_96 (dk_at dksX20_order_1 8 rfl rfl)
theorem dX20_order_31 : decode cX20_order 31 = .ok (.istore 4, 2) := dk_54 4 (dk_at dksX20_order_1 9 rfl rfl)
theorem dX20_order_33 : decode cX20_order 33 = .ok (.iload 4, 2) := dk_21 4 (dk_at dksX20_order_1 11 rfl rfl)
theorem dX20_order_35 : decode cX20_order 35 = .ok (.aload_n 0, 1) := dk_42 (dk_at dksX20_order_1 13 rfl rfl)
theorem dX20_order_36 : decode cX20_order 36 = .ok (.getfield 12, 3) := dk_180 0 12 (dk_at dksX20_order_1 14 rfl rfl)
theorem dX20_order_39 : decode cX20_order 39 = .ok (.invokevirtual 185, 3) := dk_182 0 185 (dk_at dksX20_order_1 17 rfl rfl)
theorem dX20_order_42 : decode cX20_order 42 = .ok (.if_icmp .ge 48, 3) := dk_162 0 48 (dk_at dksX20_order_1 20 rfl rfl)
theorem dX20_order_45 : decode cX20_order 45 = .ok (.aload_n 0, 1) := dk_42 (dk_at dksX20_order_1 23 rfl rfl)
theorem dX20_order_46 : decode cX20_order 46 = .ok (.getfield 12, 3) := dk_180 0 12 (dk_at dksX20_order_2 0 rfl rfl)
theorem dX20_order_49 : decode cX20_order 49 = .ok (.iload 4, 2) := dk_21 4 (dk_at dksX20_order_2 3 rfl rfl)
theorem dX20_order_51 : decode cX20_order 51 = .ok (.invokevirtual 49, 3) := dk_182 0 49 (dk_at dksX20_order_2 5 rfl rfl)
theorem dX20_order_54 : decode cX20_order 54 = .ok (.checkcast 95, 3) := dk_192 0 95 (dk_at dksX20_order_2 8 rfl rfl)
theorem dX20_order_57 : decode cX20_order 57 = .ok (.aload_n 2, 1) := dk_44 (dk_at dksX20_order_2 11 rfl rfl)
theorem dX20_order_58 : decode cX20_order 58 = .ok (.invokevirtual 189, 3) := dk_182 0 189 (dk_at dksX20_order_2 12 rfl rfl)
theorem dX20_order_61 : decode cX20_order 61 = .ok (.ifCond .eq 23, 3) := dk_153 0 23 (dk_at dksX20_order_2 15 rfl rfl)
theorem dX20_order_64 : decode cX20_order 64 = .ok (.iload_n 3, 1) := dk_29 (dk_at dksX20_order_2 18 rfl rfl)
theorem dX20_order_65 : decode cX20_order 65 = .ok (.aload_n 0, 1) := dk_42 (dk_at dksX20_order_2 19 rfl rfl)
theorem dX20_order_66 : decode cX20_order 66 = .ok (.getfield 12, 3) := dk_180 0 12 (dk_at dksX20_order_2 20 rfl rfl)
theorem dX20_order_69 : decode cX20_order 69 = .ok (.iload 4, 2) := dk_21 4 (dk_at dksX20_order_3 0 rfl rfl)
theorem dX20_order_71 : decode cX20_order 71 = .ok (.invokevirtual 49, 3) := dk_182 0 49 (dk_at dksX20_order_3 2 rfl rfl)
theorem dX20_order_74 : decode cX20_order 74 = .ok (.checkcast 95, 3) := dk_192 0 95 (dk_at dksX20_order_3 5 rfl rfl)
theorem dX20_order_77 : decode cX20_order 77 = .ok (.getfield 193, 3) := dk_180 0 193 (dk_at dksX20_order_3 8 rfl rfl)
theorem dX20_order_80 : decode cX20_order 80 = .ok (.invokestatic 196, 3) := dk_184 0 196 (dk_at dksX20_order_3 11 rfl rfl)
theorem dX20_order_83 : decode cX20_order 83 = .ok (.istore_n 3, 1) := dk_62 (dk_at dksX20_order_3 14 rfl rfl)
theorem dX20_order_84 : decode cX20_order 84 = .ok (.iinc 4 1, 3) := dk_132 4 1 (dk_at dksX20_order_3 15 rfl rfl)
theorem dX20_order_87 : decode cX20_order 87 = .ok (.goto (-54), 3) := dk_167 255 202 (dk_at dksX20_order_3 18 rfl rfl)
theorem dX20_order_90 : decode cX20_order 90 = .ok (.aload_n 2, 1) := dk_44 (dk_at dksX20_order_3 21 rfl rfl)
theorem dX20_order_91 : decode cX20_order 91 = .ok (.aload_n 0, 1) := dk_42 (dk_at dksX20_order_3 22 rfl rfl)
theorem dX20_order_92 : decode cX20_order 92 = .ok (.getfield 26, 3) := dk_180 0 26 (dk_at dksX20_order_4 0 rfl rfl)
theorem dX20_order_95 : decode cX20_order 95 = .ok (.aload_n 2, 1) := dk_44 (dk_at dksX20_order_4 3 rfl rfl)
theorem dX20_order_96 : decode cX20_order 96 = .ok (.getfield 199, 3) := dk_180 0 199 (dk_at dksX20_order_4 4 rfl rfl)
theorem dX20_order_99 : decode cX20_order 99 = .ok (.invokevirtual 138, 3) := dk_182 0 138 (dk_at dksX20_order_4 7 rfl rfl)
theorem dX20_order_102 : decode cX20_order 102 = .ok (.iload_n 3, 1) := dk_29 (dk_at dksX20_order_4 10 rfl rfl)
theorem dX20_order_103 : decode cX20_order 103 = .ok (.iadd, 1) := dk_96 (dk_at dksX20_order_4 11 rfl rfl)
theorem dX20_order_104 : decode cX20_order 104 = .ok (.putfield 193, 3) := dk_181 0 193 (dk_at dksX20_order_4 12 rfl rfl)
theorem dX20_order_107 : decode cX20_order 107 = .ok (.iinc 1 (-1), 3) := dk_132 1 255 (dk_at dksX20_order_4 15 rfl rfl)
theorem dX20_order_110 : decode cX20_order 110 = .ok (.goto (-100), 3) := dk_167 255 156 (dk_at dksX20_order_4 18 rfl rfl)
theorem dX20_order_113 : decode cX20_order 113 = .ok (.new 9, 3) := dk_187 0 9 (dk_at dksX20_order_4 21 rfl rfl)
theorem dX20_order_116 : decode cX20_order 116 = .ok (.dup, 1) := dk_89 (dk_at dksX20_order_5 0 rfl rfl)
theorem dX20_order_117 : decode cX20_order 117 = .ok (.invokespecial 11, 3) := dk_183 0 11 (dk_at dksX20_order_5 1 rfl rfl)
theorem dX20_order_120 : decode cX20_order 120 = .ok (.astore_n 1, 1) := dk_76 (dk_at dksX20_order_5 4 rfl rfl)
theorem dX20_order_121 : decode cX20_order 121 = .ok (.aload_n 0, 1) := dk_42 (dk_at dksX20_order_5 5 rfl rfl)
theorem dX20_order_122 : decode cX20_order 122 = .ok (.getfield 34, 3) := dk_180 0 34 (dk_at dksX20_order_5 6 rfl rfl)
theorem dX20_order_125 : decode cX20_order 125 = .ok (.ifCond .ne 14, 3) := dk_154 0 14 (dk_at dksX20_order_5 9 rfl rfl)
theorem dX20_order_128 : decode cX20_order 128 = .ok (.aload_n 1, 1) := dk_43 (dk_at dksX20_order_5 12 rfl rfl)
theorem dX20_order_129 : decode cX20_order 129 = .ok (.aload_n 0, 1) := dk_42 (dk_at dksX20_order_5 13 rfl rfl)
theorem dX20_order_130 : decode cX20_order 130 = .ok (.getfield 12, 3) := dk_180 0 12 (dk_at dksX20_order_5 14 rfl rfl)
theorem dX20_order_133 : decode cX20_order 133 = .ok (.invokevirtual 76, 3) := dk_182 0 76 (dk_at dksX20_order_5 17 rfl rfl)
theorem dX20_order_136 : decode cX20_order 136 = .ok (.pop, 1) := dk_87 (dk_at dksX20_order_5 20 rfl rfl)
theorem dX20_order_137 : decode cX20_order 137 = .ok (.aload_n 1, 1) := dk_43 (dk_at dksX20_order_5 21 rfl rfl)
theorem dX20_order_138 : decode cX20_order 138 = .ok (.areturn, 1) := dk_176 (dk_at dksX20_order_5 22 rfl rfl)
theorem dX20_order_139 : decode cX20_order 139 = .ok (.aload_n 1, 1) := dk_43 (dk_at dksX20_order_5 23 rfl rfl)
theorem dX20_order_140 : decode cX20_order 140 = .ok (.invokevirtual 185, 3) := dk_182 0 185 (dk_at dksX20_order_6 0 rfl rfl)
theorem dX20_order_143 : decode cX20_order 143 = .ok (.aload_n 0, 1) := dk_42 (dk_at dksX20_order_6 3 rfl rfl)
theorem dX20_order_144 : decode cX20_order 144 = .ok (.getfield 12, 3) := dk_180 0 12 (dk_at dksX20_order_6 4 rfl rfl)
theorem dX20_order_147 : decode cX20_order 147 = .ok (.invokevirtual 185, 3) := dk_182 0 185 (dk_at dksX20_order_6 7 rfl rfl)
theorem dX20_order_150 : decode cX20_order 150 = .ok (.if_icmp .ge 83, 3) := dk_162 0 83 (dk_at dksX20_order_6 10 rfl rfl)
theorem dX20_order_153 : decode cX20_order 153 = .ok (.aconst_null, 1) := dk_1 (dk_at dksX20_order_6 13 rfl rfl)
theorem dX20_order_154 : decode cX20_order 154 = .ok (.astore_n 2, 1) := dk_77 (dk_at dksX20_order_6 14 rfl rfl)
theorem dX20_order_155 : decode cX20_order 155 = .ok (.aload_n 0, 1) := dk_42 (dk_at dksX20_order_6 15 rfl rfl)
theorem dX20_order_156 : decode cX20_order 156 = .ok (.getfield 12, 3) := dk_180 0 12 (dk_at dksX20_order_6 16 rfl rfl)
theorem dX20_order_159 : decode cX20_order 159 = .ok (.invokevirtual 53, 3) := dk_182 0 53 (dk_at dksX20_order_6 19 rfl rfl)
theorem dX20_order_162 : decode cX20_order 162 = .ok (.astore_n 3, 1) := dk_78 (dk_at dksX20_order_6 22 rfl rfl)
theorem dX20_order_163 : decode cX20_order 163 = .ok (.aload_n 3, 1) := dk_45 (dk_at dksX20_order_6 23 rfl rfl)
theorem dX20_order_164 : decode cX20_order 164 = .ok (.invokeinterface 57 1, 5) := by decide +kernel
theorem dX20_order_169 : decode cX20_order 169 = .ok (.ifCond .eq 55, 3) := dk_153 0 55 (dk_at dksX20_order_7 5 rfl rfl)
theorem dX20_order_172 : decode cX20_order 172 = .ok (.aload_n 3, 1) := dk_45 (dk_at dksX20_order_7 8 rfl rfl)
theorem dX20_order_173 : decode cX20_order 173 = .ok (.invokeinterface 63 1, 5) := by decide +kernel
theorem dX20_order_178 : decode cX20_order 178 = .ok (.checkcast 95, 3) := dk_192 0 95 (dk_at dksX20_order_7 14 rfl rfl)
theorem dX20_order_181 : decode cX20_order 181 = .ok (.astore 4, 2) := dk_58 4 (dk_at dksX20_order_7 17 rfl rfl)
theorem dX20_order_183 : decode cX20_order 183 = .ok (.aload_n 1, 1) := dk_43 (dk_at dksX20_order_7 19 rfl rfl)
theorem dX20_order_184 : decode cX20_order 184 = .ok (.aload 4, 2) := dk_25 4 (dk_at dksX20_order_7 20 rfl rfl)
theorem dX20_order_186 : decode cX20_order 186 = .ok (.invokevirtual 202, 3) := dk_182 0 202 (dk_at dksX20_order_8 0 rfl rfl)
theorem dX20_order_189 : decode cX20_order 189 = .ok (.ifCond .ne 32, 3) := dk_154 0 32 (dk_at dksX20_order_8 3 rfl rfl)
theorem dX20_order_192 : decode cX20_order 192 = .ok (.aload_n 0, 1) := dk_42 (dk_at dksX20_order_8 6 rfl rfl)
theorem dX20_order_193 : decode cX20_order 193 = .ok (.aload 4, 2) := dk_25 4 (dk_at dksX20_order_8 7 rfl rfl)
theorem dX20_order_195 : decode cX20_order 195 = .ok (.aload_n 1, 1) := dk_43 (dk_at dksX20_order_8 9 rfl rfl)
theorem dX20_order_196 : decode cX20_order 196 = .ok (.invokevirtual 205, 3) := dk_182 0 205 (dk_at dksX20_order_8 10 rfl rfl)
theorem dX20_order_199 : decode cX20_order 199 = .ok (.ifCond .eq 22, 3) := dk_153 0 22 (dk_at dksX20_order_8 13 rfl rfl)
theorem dX20_order_202 : decode cX20_order 202 = .ok (.aload_n 2, 1) := dk_44 (dk_at dksX20_order_8 16 rfl rfl)
theorem dX20_order_203 : decode cX20_order 203 = .ok (.ifnull 15, 3) := dk_198 0 15 (dk_at dksX20_order_8 17 rfl rfl)
theorem dX20_order_206 : decode cX20_order 206 = .ok (.aload 4, 2) := dk_25 4 (dk_at dksX20_order_8 20 rfl rfl)
theorem dX20_order_208 : decode cX20_order 208 = .ok (.getfield 193, 3) := dk_180 0 193 (dk_at dksX20_order_9 0 rfl rfl)
theorem dX20_order_211 : decode cX20_order 211 = .ok (.aload_n 2, 1) := dk_44 (dk_at dksX20_order_9 3 rfl rfl)
theorem dX20_order_212 : decode cX20_order 212 = .ok (.getfield 193, 3) := dk_180 0 193 (dk_at dksX20_order_9 4 rfl rfl)
theorem dX20_order_215 : decode cX20_order 215 = .ok (.if_icmp .le 6, 3) := dk_164 0 6 (dk_at dksX20_order_9 7 rfl rfl)
theorem dX20_order_218 : decode cX20_order 218 = .ok (.aload 4, 2) := dk_25 4 (dk_at dksX20_order_9 10 rfl rfl)
theorem dX20_order_220 : decode cX20_order 220 = .ok (.astore_n 2, 1) := dk_77 (dk_at dksX20_order_9 12 rfl rfl)
theorem dX20_order_221 : decode cX20_order 221 = .ok (.goto (-58), 3) := dk_167 255 198 (dk_at dksX20_order_9 13 rfl rfl)
theorem dX20_order_224 : decode cX20_order 224 = .ok (.aload_n 1, 1) := dk_43 (dk_at dksX20_order_9 16 rfl rfl)
theorem dX20_order_225 : decode cX20_order 225 = .ok (.aload_n 2, 1) := dk_44 (dk_at dksX20_order_9 17 rfl rfl)
theorem dX20_order_226 : decode cX20_order 226 = .ok (.invokevirtual 100, 3) := dk_182 0 100 (dk_at dksX20_order_9 18 rfl rfl)
theorem dX20_order_229 : decode cX20_order 229 = .ok (.pop, 1) := dk_87 (dk_at dksX20_order_9 21 rfl rfl)
theorem dX20_order_230 : decode cX20_order 230 = .ok (.goto (-91), 3) := dk_167 255 165 (dk_at dksX20_order_10 0 rfl rfl)
theorem dX20_order_233 : decode cX20_order 233 = .ok (.aload_n 1, 1) := dk_43 (dk_at dksX20_order_10 3 rfl rfl)
theorem dX20_order_234 : decode cX20_order 234 = .ok (.areturn, 1) := dk_176 (dk_at dksX20_order_10 4 rfl rfl)
abbrev cX20_isReady : ByteArray := prog_18_method_18_code
def yX20_isReady : MethodName := ⟨RX20, "isReady", "(LSpillslotWorksModel$Op;Ljava/util/ArrayList;)Z"⟩
def dkwX20_isReady_2 : List UInt8 := [25, 4, 182, 0, 202, 154, 0, 5, 3, 172, 167, 255, 208, 4, 172]
abbrev dktX20_isReady_2 : List UInt8 := dkwX20_isReady_2 ++ []
def dkwX20_isReady_1 : List UInt8 := [192, 0, 95, 58, 4, 25, 4, 43, 166, 0, 5, 4, 172, 43, 25, 4, 182, 0, 189, 153, 0, 14, 44]
abbrev dktX20_isReady_1 : List UInt8 := dkwX20_isReady_1 ++ dktX20_isReady_2
def dkwX20_isReady_0 : List UInt8 := [42, 180, 0, 12, 182, 0, 53, 78, 45, 185, 0, 57, 1, 0, 153, 0, 45, 45, 185, 0, 63, 1, 0]
abbrev dktX20_isReady_0 : List UInt8 := dkwX20_isReady_0 ++ dktX20_isReady_1
theorem dksX20_isReady_0 : cX20_isReady.data.toList.drop 0 = dktX20_isReady_0 := by decide +kernel
theorem dksX20_isReady_1 : cX20_isReady.data.toList.drop 23 = dktX20_isReady_1 := dk_seg dksX20_isReady_0 23 rfl rfl
theorem dksX20_isReady_2 : cX20_isReady.data.toList.drop 46 = dktX20_isReady_2 := dk_seg dksX20_isReady_1 23 rfl rfl
theorem dX20_isReady_0 : decode cX20_isReady 0 = .ok (.aload_n 0, 1) := dk_42 (dk_at dksX20_isReady_0 0 rfl rfl)
theorem dX20_isReady_1 : decode cX20_isReady 1 = .ok (.getfield 12, 3) := dk_180 0 12 (dk_at dksX20_isReady_0 1 rfl rfl)
theorem dX20_isReady_4 : decode cX20_isReady 4 = .ok (.invokevirtual 53, 3) := dk_182 0 53 (dk_at dksX20_isReady_0 4 rfl rfl)
theorem dX20_isReady_7 : decode cX20_isReady 7 = .ok (.astore_n 3, 1) := dk_78 (dk_at dksX20_isReady_0 7 rfl rfl)
theorem dX20_isReady_8 : decode cX20_isReady 8 = .ok (.aload_n 3, 1) := dk_45 (dk_at dksX20_isReady_0 8 rfl rfl)
theorem dX20_isReady_9 : decode cX20_isReady 9 = .ok (.invokeinterface 57 1, 5) := by decide +kernel
theorem dX20_isReady_14 : decode cX20_isReady 14 = .ok (.ifCond .eq 45, 3) := dk_153 0 45 (dk_at dksX20_isReady_0 14 rfl rfl)
theorem dX20_isReady_17 : decode cX20_isReady 17 = .ok (.aload_n 3, 1) := dk_45 (dk_at dksX20_isReady_0 17 rfl rfl)
theorem dX20_isReady_18 : decode cX20_isReady 18 = .ok (.invokeinterface 63 1, 5) := by decide +kernel
theorem dX20_isReady_23 : decode cX20_isReady 23 = .ok (.checkcast 95, 3) := dk_192 0 95 (dk_at dksX20_isReady_1 0 rfl rfl)
theorem dX20_isReady_26 : decode cX20_isReady 26 = .ok (.astore 4, 2) := dk_58 4 (dk_at dksX20_isReady_1 3 rfl rfl)
theorem dX20_isReady_28 : decode cX20_isReady 28 = .ok (.aload 4, 2) := dk_25 4 (dk_at dksX20_isReady_1 5 rfl rfl)
theorem dX20_isReady_30 : decode cX20_isReady 30 = .ok (.aload_n 1, 1) := dk_43 (dk_at dksX20_isReady_1 7 rfl rfl)
theorem dX20_isReady_31 : decode cX20_isReady 31 = .ok (.if_acmp .ne 5, 3) := dk_166 0 5 (dk_at dksX20_isReady_1 8 rfl rfl)
theorem dX20_isReady_34 : decode cX20_isReady 34 = .ok (.iconst 1, 1) := dk_4 (dk_at dksX20_isReady_1 11 rfl rfl)
theorem dX20_isReady_35 : decode cX20_isReady 35 = .ok (.ireturn, 1) := dk_172 (dk_at dksX20_isReady_1 12 rfl rfl)
theorem dX20_isReady_36 : decode cX20_isReady 36 = .ok (.aload_n 1, 1) := dk_43 (dk_at dksX20_isReady_1 13 rfl rfl)
theorem dX20_isReady_37 : decode cX20_isReady 37 = .ok (.aload 4, 2) := dk_25 4 (dk_at dksX20_isReady_1 14 rfl rfl)
theorem dX20_isReady_39 : decode cX20_isReady 39 = .ok (.invokevirtual 189, 3) := dk_182 0 189 (dk_at dksX20_isReady_1 16 rfl rfl)
theorem dX20_isReady_42 : decode cX20_isReady 42 = .ok (.ifCond .eq 14, 3) := dk_153 0 14 (dk_at dksX20_isReady_1 19 rfl rfl)
theorem dX20_isReady_45 : decode cX20_isReady 45 = .ok (.aload_n 2, 1) := dk_44 (dk_at dksX20_isReady_1 22 rfl rfl)
theorem dX20_isReady_46 : decode cX20_isReady 46 = .ok (.aload 4, 2) := dk_25 4 (dk_at dksX20_isReady_2 0 rfl rfl)
theorem dX20_isReady_48 : decode cX20_isReady 48 = .ok (.invokevirtual 202, 3) := dk_182 0 202 (dk_at dksX20_isReady_2 2 rfl rfl)
theorem dX20_isReady_51 : decode cX20_isReady 51 = .ok (.ifCond .ne 5, 3) := dk_154 0 5 (dk_at dksX20_isReady_2 5 rfl rfl)
theorem dX20_isReady_54 : decode cX20_isReady 54 = .ok (.iconst 0, 1) := dk_3 (dk_at dksX20_isReady_2 8 rfl rfl)
theorem dX20_isReady_55 : decode cX20_isReady 55 = .ok (.ireturn, 1) := dk_172 (dk_at dksX20_isReady_2 9 rfl rfl)
theorem dX20_isReady_56 : decode cX20_isReady 56 = .ok (.goto (-48), 3) := dk_167 255 208 (dk_at dksX20_isReady_2 10 rfl rfl)
theorem dX20_isReady_59 : decode cX20_isReady 59 = .ok (.iconst 1, 1) := dk_4 (dk_at dksX20_isReady_2 13 rfl rfl)
theorem dX20_isReady_60 : decode cX20_isReady 60 = .ok (.ireturn, 1) := dk_172 (dk_at dksX20_isReady_2 14 rfl rfl)
abbrev cX20_enter : ByteArray := prog_18_method_2_code
def yX20_enter : MethodName := ⟨RX20, "enter", "(Ljava/util/ArrayList;)V"⟩
def dkwX20_enter_7 : List UInt8 := [132, 4, 1, 167, 255, 194, 177]
abbrev dktX20_enter_7 : List UInt8 := dkwX20_enter_7 ++ []
def dkwX20_enter_6 : List UInt8 := [180, 0, 12, 187, 0, 95, 89, 3, 21, 4, 3, 188, 10, 3, 2, 183, 0, 97, 182, 0, 100, 87]
abbrev dktX20_enter_6 : List UInt8 := dkwX20_enter_6 ++ dktX20_enter_7
def dkwX20_enter_5 : List UInt8 := [21, 4, 51, 154, 0, 41, 42, 180, 0, 26, 180, 0, 88, 21, 4, 184, 0, 91, 153, 0, 26, 42]
abbrev dktX20_enter_5 : List UInt8 := dkwX20_enter_5 ++ dktX20_enter_6
def dkwX20_enter_4 : List UInt8 := [167, 255, 217, 167, 255, 185, 3, 54, 4, 21, 4, 16, 8, 162, 0, 61, 45, 21, 4, 51, 154, 0, 25, 44]
abbrev dktX20_enter_4 : List UInt8 := dkwX20_enter_4 ++ dktX20_enter_5
def dkwX20_enter_3 : List UInt8 := [192, 0, 67, 58, 7, 42, 25, 7, 4, 46, 44, 45, 182, 0, 84, 44, 25, 7, 3, 46, 4, 84]
abbrev dktX20_enter_3 : List UInt8 := dkwX20_enter_3 ++ dktX20_enter_4
def dkwX20_enter_2 : List UInt8 := [182, 0, 53, 58, 6, 25, 6, 185, 0, 57, 1, 0, 153, 0, 35, 25, 6, 185, 0, 63, 1, 0]
abbrev dktX20_enter_2 : List UInt8 := dkwX20_enter_2 ++ dktX20_enter_3
def dkwX20_enter_1 : List UInt8 := [185, 0, 57, 1, 0, 153, 0, 67, 25, 4, 185, 0, 63, 1, 0, 192, 0, 9, 58, 5, 25, 5]
abbrev dktX20_enter_1 : List UInt8 := dkwX20_enter_1 ++ dktX20_enter_2
def dkwX20_enter_0 : List UInt8 := [16, 8, 188, 4, 77, 16, 8, 188, 4, 78, 42, 180, 0, 26, 180, 0, 44, 182, 0, 53, 58, 4, 25, 4]
abbrev dktX20_enter_0 : List UInt8 := dkwX20_enter_0 ++ dktX20_enter_1
theorem dksX20_enter_0 : cX20_enter.data.toList.drop 0 = dktX20_enter_0 := by decide +kernel
theorem dksX20_enter_1 : cX20_enter.data.toList.drop 24 = dktX20_enter_1 := dk_seg dksX20_enter_0 24 rfl rfl
theorem dksX20_enter_2 : cX20_enter.data.toList.drop 46 = dktX20_enter_2 := dk_seg dksX20_enter_1 22 rfl rfl
theorem dksX20_enter_3 : cX20_enter.data.toList.drop 68 = dktX20_enter_3 := dk_seg dksX20_enter_2 22 rfl rfl
theorem dksX20_enter_4 : cX20_enter.data.toList.drop 90 = dktX20_enter_4 := dk_seg dksX20_enter_3 22 rfl rfl
theorem dksX20_enter_5 : cX20_enter.data.toList.drop 114 = dktX20_enter_5 := dk_seg dksX20_enter_4 24 rfl rfl
theorem dksX20_enter_6 : cX20_enter.data.toList.drop 136 = dktX20_enter_6 := dk_seg dksX20_enter_5 22 rfl rfl
theorem dksX20_enter_7 : cX20_enter.data.toList.drop 158 = dktX20_enter_7 := dk_seg dksX20_enter_6 22 rfl rfl
theorem dX20_enter_0 : decode cX20_enter 0 = .ok (.bipush 8, 2) := dk_16 8 (dk_at dksX20_enter_0 0 rfl rfl)
theorem dX20_enter_2 : decode cX20_enter 2 = .ok (.newarray .boolean, 2) := dk_188_4 (dk_at dksX20_enter_0 2 rfl rfl)
theorem dX20_enter_4 : decode cX20_enter 4 = .ok (.astore_n 2, 1) := dk_77 (dk_at dksX20_enter_0 4 rfl rfl)
theorem dX20_enter_5 : decode cX20_enter 5 = .ok (.bipush 8, 2) := dk_16 8 (dk_at dksX20_enter_0 5 rfl rfl)
theorem dX20_enter_7 : decode cX20_enter 7 = .ok (.newarray .boolean, 2) := dk_188_4 (dk_at dksX20_enter_0 7 rfl rfl)
theorem dX20_enter_9 : decode cX20_enter 9 = .ok (.astore_n 3, 1) := dk_78 (dk_at dksX20_enter_0 9 rfl rfl)
theorem dX20_enter_10 : decode cX20_enter 10 = .ok (.aload_n 0, 1) := dk_42 (dk_at dksX20_enter_0 10 rfl rfl)
theorem dX20_enter_11 : decode cX20_enter 11 = .ok (.getfield 26, 3) := dk_180 0 26 (dk_at dksX20_enter_0 11 rfl rfl)
theorem dX20_enter_14 : decode cX20_enter 14 = .ok (.getfield 44, 3) := dk_180 0 44 (dk_at dksX20_enter_0 14 rfl rfl)
theorem dX20_enter_17 : decode cX20_enter 17 = .ok (.invokevirtual 53, 3) := dk_182 0 53 (dk_at dksX20_enter_0 17 rfl rfl)
theorem dX20_enter_20 : decode cX20_enter 20 = .ok (.astore 4, 2) := dk_58 4 (dk_at dksX20_enter_0 20 rfl rfl)
theorem dX20_enter_22 : decode cX20_enter 22 = .ok (.aload 4, 2) := dk_25 4 (dk_at dksX20_enter_0 22 rfl rfl)
theorem dX20_enter_24 : decode cX20_enter 24 = .ok (.invokeinterface 57 1, 5) := by decide +kernel
theorem dX20_enter_29 : decode cX20_enter 29 = .ok (.ifCond .eq 67, 3) := dk_153 0 67 (dk_at dksX20_enter_1 5 rfl rfl)
theorem dX20_enter_32 : decode cX20_enter 32 = .ok (.aload 4, 2) := dk_25 4 (dk_at dksX20_enter_1 8 rfl rfl)
theorem dX20_enter_34 : decode cX20_enter 34 = .ok (.invokeinterface 63 1, 5) := by decide +kernel
theorem dX20_enter_39 : decode cX20_enter 39 = .ok (.checkcast 9, 3) := dk_192 0 9 (dk_at dksX20_enter_1 15 rfl rfl)
theorem dX20_enter_42 : decode cX20_enter 42 = .ok (.astore 5, 2) := dk_58 5 (dk_at dksX20_enter_1 18 rfl rfl)
theorem dX20_enter_44 : decode cX20_enter 44 = .ok (.aload 5, 2) := dk_25 5 (dk_at dksX20_enter_1 20 rfl rfl)
theorem dX20_enter_46 : decode cX20_enter 46 = .ok (.invokevirtual 53, 3) := dk_182 0 53 (dk_at dksX20_enter_2 0 rfl rfl)
theorem dX20_enter_49 : decode cX20_enter 49 = .ok (.astore 6, 2) := dk_58 6 (dk_at dksX20_enter_2 3 rfl rfl)
theorem dX20_enter_51 : decode cX20_enter 51 = .ok (.aload 6, 2) := dk_25 6 (dk_at dksX20_enter_2 5 rfl rfl)
theorem dX20_enter_53 : decode cX20_enter 53 = .ok (.invokeinterface 57 1, 5) := by decide +kernel
theorem dX20_enter_58 : decode cX20_enter 58 = .ok (.ifCond .eq 35, 3) := dk_153 0 35 (dk_at dksX20_enter_2 12 rfl rfl)
theorem dX20_enter_61 : decode cX20_enter 61 = .ok (.aload 6, 2) := dk_25 6 (dk_at dksX20_enter_2 15 rfl rfl)
theorem dX20_enter_63 : decode cX20_enter 63 = .ok (.invokeinterface 63 1, 5) := by decide +kernel
theorem dX20_enter_68 : decode cX20_enter 68 = .ok (.checkcast 67, 3) := dk_192 0 67 (dk_at dksX20_enter_3 0 rfl rfl)
theorem dX20_enter_71 : decode cX20_enter 71 = .ok (.astore 7, 2) := dk_58 7 (dk_at dksX20_enter_3 3 rfl rfl)
theorem dX20_enter_73 : decode cX20_enter 73 = .ok (.aload_n 0, 1) := dk_42 (dk_at dksX20_enter_3 5 rfl rfl)
theorem dX20_enter_74 : decode cX20_enter 74 = .ok (.aload 7, 2) := dk_25 7 (dk_at dksX20_enter_3 6 rfl rfl)
theorem dX20_enter_76 : decode cX20_enter 76 = .ok (.iconst 1, 1) := dk_4 (dk_at dksX20_enter_3 8 rfl rfl)
theorem dX20_enter_77 : decode cX20_enter 77 = .ok (.iaload, 1) := dk_46 (dk_at dksX20_enter_3 9 rfl rfl)
theorem dX20_enter_78 : decode cX20_enter 78 = .ok (.aload_n 2, 1) := dk_44 (dk_at dksX20_enter_3 10 rfl rfl)
theorem dX20_enter_79 : decode cX20_enter 79 = .ok (.aload_n 3, 1) := dk_45 (dk_at dksX20_enter_3 11 rfl rfl)
theorem dX20_enter_80 : decode cX20_enter 80 = .ok (.invokevirtual 84, 3) := dk_182 0 84 (dk_at dksX20_enter_3 12 rfl rfl)
theorem dX20_enter_83 : decode cX20_enter 83 = .ok (.aload_n 2, 1) := dk_44 (dk_at dksX20_enter_3 15 rfl rfl)
theorem dX20_enter_84 : decode cX20_enter 84 = .ok (.aload 7, 2) := dk_25 7 (dk_at dksX20_enter_3 16 rfl rfl)
theorem dX20_enter_86 : decode cX20_enter 86 = .ok (.iconst 0, 1) := dk_3 (dk_at dksX20_enter_3 18 rfl rfl)
theorem dX20_enter_87 : decode cX20_enter 87 = .ok (.iaload, 1) := dk_46 (dk_at dksX20_enter_3 19 rfl rfl)
theorem dX20_enter_88 : decode cX20_enter 88 = .ok (.iconst 1, 1) := dk_4 (dk_at dksX20_enter_3 20 rfl rfl)
theorem dX20_enter_89 : decode cX20_enter 89 = .ok (.bastore, 1) := dk_84 (dk_at dksX20_enter_3 21 rfl rfl)
theorem dX20_enter_90 : decode cX20_enter 90 = .ok (.goto (-39), 3) := dk_167 255 217 (dk_at dksX20_enter_4 0 rfl rfl)
theorem dX20_enter_93 : decode cX20_enter 93 = .ok (.goto (-71), 3) := dk_167 255 185 (dk_at dksX20_enter_4 3 rfl rfl)
theorem dX20_enter_96 : decode cX20_enter 96 = .ok (.iconst 0, 1) := dk_3 (dk_at dksX20_enter_4 6 rfl rfl)
theorem dX20_enter_97 : decode cX20_enter 97 = .ok (.istore 4, 2) := dk_54 4 (dk_at dksX20_enter_4 7 rfl rfl)
theorem dX20_enter_99 : decode cX20_enter 99 = .ok (.iload 4, 2) := dk_21 4 (dk_at dksX20_enter_4 9 rfl rfl)
theorem dX20_enter_101 : decode cX20_enter 101 = .ok (.bipush 8, 2) := dk_16 8 (dk_at dksX20_enter_4 11 rfl rfl)
theorem dX20_enter_103 : decode cX20_enter 103 = .ok (.if_icmp .ge 61, 3) := dk_162 0 61 (dk_at dksX20_enter_4 13 rfl rfl)
theorem dX20_enter_106 : decode cX20_enter 106 = .ok (.aload_n 3, 1) := dk_45 (dk_at dksX20_enter_4 16 rfl rfl)
theorem dX20_enter_107 : decode cX20_enter 107 = .ok (.iload 4, 2) := dk_21 4 (dk_at dksX20_enter_4 17 rfl rfl)
theorem dX20_enter_109 : decode cX20_enter 109 = .ok (.baload, 1) := dk_51 (dk_at dksX20_enter_4 19 rfl rfl)
theorem dX20_enter_110 : decode cX20_enter 110 = .ok (.ifCond .ne 25, 3) := dk_154 0 25 (dk_at dksX20_enter_4 20 rfl rfl)
theorem dX20_enter_113 : decode cX20_enter 113 = .ok (.aload_n 2, 1) := dk_44 (dk_at dksX20_enter_4 23 rfl rfl)
theorem dX20_enter_114 : decode cX20_enter 114 = .ok (.iload 4, 2) := dk_21 4 (dk_at dksX20_enter_5 0 rfl rfl)
theorem dX20_enter_116 : decode cX20_enter 116 = .ok (.baload, 1) := dk_51 (dk_at dksX20_enter_5 2 rfl rfl)
theorem dX20_enter_117 : decode cX20_enter 117 = .ok (.ifCond .ne 41, 3) := dk_154 0 41 (dk_at dksX20_enter_5 3 rfl rfl)
theorem dX20_enter_120 : decode cX20_enter 120 = .ok (.aload_n 0, 1) := dk_42 (dk_at dksX20_enter_5 6 rfl rfl)
theorem dX20_enter_121 : decode cX20_enter 121 = .ok (.getfield 26, 3) := dk_180 0 26 (dk_at dksX20_enter_5 7 rfl rfl)
theorem dX20_enter_124 : decode cX20_enter 124 = .ok (.getfield 88, 3) := dk_180 0 88 (dk_at dksX20_enter_5 10 rfl rfl)
theorem dX20_enter_127 : decode cX20_enter 127 = .ok (.iload 4, 2) := dk_21 4 (dk_at dksX20_enter_5 13 rfl rfl)
theorem dX20_enter_129 : decode cX20_enter 129 = .ok (.invokestatic 91, 3) := dk_184 0 91 (dk_at dksX20_enter_5 15 rfl rfl)
theorem dX20_enter_132 : decode cX20_enter 132 = .ok (.ifCond .eq 26, 3) := dk_153 0 26 (dk_at dksX20_enter_5 18 rfl rfl)
theorem dX20_enter_135 : decode cX20_enter 135 = .ok (.aload_n 0, 1) := dk_42 (dk_at dksX20_enter_5 21 rfl rfl)
theorem dX20_enter_136 : decode cX20_enter 136 = .ok (.getfield 12, 3) := dk_180 0 12 (dk_at dksX20_enter_6 0 rfl rfl)
theorem dX20_enter_139 : decode cX20_enter 139 = .ok (.new 95, 3) := dk_187 0 95 (dk_at dksX20_enter_6 3 rfl rfl)
theorem dX20_enter_142 : decode cX20_enter 142 = .ok (.dup, 1) := dk_89 (dk_at dksX20_enter_6 6 rfl rfl)
theorem dX20_enter_143 : decode cX20_enter 143 = .ok (.iconst 0, 1) := dk_3 (dk_at dksX20_enter_6 7 rfl rfl)
theorem dX20_enter_144 : decode cX20_enter 144 = .ok (.iload 4, 2) := dk_21 4 (dk_at dksX20_enter_6 8 rfl rfl)
theorem dX20_enter_146 : decode cX20_enter 146 = .ok (.iconst 0, 1) := dk_3 (dk_at dksX20_enter_6 10 rfl rfl)
theorem dX20_enter_147 : decode cX20_enter 147 = .ok (.newarray .int, 2) := dk_188_10 (dk_at dksX20_enter_6 11 rfl rfl)
theorem dX20_enter_149 : decode cX20_enter 149 = .ok (.iconst 0, 1) := dk_3 (dk_at dksX20_enter_6 13 rfl rfl)
theorem dX20_enter_150 : decode cX20_enter 150 = .ok (.iconst (-1), 1) := dk_2 (dk_at dksX20_enter_6 14 rfl rfl)
theorem dX20_enter_151 : decode cX20_enter 151 = .ok (.invokespecial 97, 3) := dk_183 0 97 (dk_at dksX20_enter_6 15 rfl rfl)
theorem dX20_enter_154 : decode cX20_enter 154 = .ok (.invokevirtual 100, 3) := dk_182 0 100 (dk_at dksX20_enter_6 18 rfl rfl)
theorem dX20_enter_157 : decode cX20_enter 157 = .ok (.pop, 1) := dk_87 (dk_at dksX20_enter_6 21 rfl rfl)
theorem dX20_enter_158 : decode cX20_enter 158 = .ok (.iinc 4 1, 3) := dk_132 4 1 (dk_at dksX20_enter_7 0 rfl rfl)
theorem dX20_enter_161 : decode cX20_enter 161 = .ok (.goto (-62), 3) := dk_167 255 194 (dk_at dksX20_enter_7 3 rfl rfl)
theorem dX20_enter_164 : decode cX20_enter 164 = .ok (.return_, 1) := dk_177 (dk_at dksX20_enter_7 6 rfl rfl)
abbrev cX20_look : ByteArray := prog_18_method_3_code
def yX20_look : MethodName := ⟨RX20, "look", "(I[Z[Z)V"⟩
def dkwX20_look_2 : List UInt8 := [42, 25, 4, 180, 0, 113, 44, 45, 182, 0, 84, 42, 25, 4, 180, 0, 119, 44, 45, 182, 0, 84, 177]
abbrev dktX20_look_2 : List UInt8 := dkwX20_look_2 ++ []
def dkwX20_look_1 : List UInt8 := [180, 0, 113, 51, 154, 0, 11, 45, 25, 4, 180, 0, 113, 4, 84, 25, 4, 182, 0, 116, 154, 0, 4, 177]
abbrev dktX20_look_1 : List UInt8 := dkwX20_look_1 ++ dktX20_look_2
def dkwX20_look_0 : List UInt8 := [42, 180, 0, 26, 27, 182, 0, 104, 58, 4, 25, 4, 180, 0, 108, 4, 160, 0, 21, 44, 25, 4]
abbrev dktX20_look_0 : List UInt8 := dkwX20_look_0 ++ dktX20_look_1
theorem dksX20_look_0 : cX20_look.data.toList.drop 0 = dktX20_look_0 := by decide +kernel
theorem dksX20_look_1 : cX20_look.data.toList.drop 22 = dktX20_look_1 := dk_seg dksX20_look_0 22 rfl rfl
theorem dksX20_look_2 : cX20_look.data.toList.drop 46 = dktX20_look_2 := dk_seg dksX20_look_1 24 rfl rfl
theorem dX20_look_0 : decode cX20_look 0 = .ok (.aload_n 0, 1) := dk_42 (dk_at dksX20_look_0 0 rfl rfl)
theorem dX20_look_1 : decode cX20_look 1 = .ok (.getfield 26, 3) := dk_180 0 26 (dk_at dksX20_look_0 1 rfl rfl)
theorem dX20_look_4 : decode cX20_look 4 = .ok (.iload_n 1, 1) := dk_27 (dk_at dksX20_look_0 4 rfl rfl)
theorem dX20_look_5 : decode cX20_look 5 = .ok (.invokevirtual 104, 3) := dk_182 0 104 (dk_at dksX20_look_0 5 rfl rfl)
theorem dX20_look_8 : decode cX20_look 8 = .ok (.astore 4, 2) := dk_58 4 (dk_at dksX20_look_0 8 rfl rfl)
theorem dX20_look_10 : decode cX20_look 10 = .ok (.aload 4, 2) := dk_25 4 (dk_at dksX20_look_0 10 rfl rfl)
theorem dX20_look_12 : decode cX20_look 12 = .ok (.getfield 108, 3) := dk_180 0 108 (dk_at dksX20_look_0 12 rfl rfl)
theorem dX20_look_15 : decode cX20_look 15 = .ok (.iconst 1, 1) := dk_4 (dk_at dksX20_look_0 15 rfl rfl)
theorem dX20_look_16 : decode cX20_look 16 = .ok (.if_icmp .ne 21, 3) := dk_160 0 21 (dk_at dksX20_look_0 16 rfl rfl)
theorem dX20_look_19 : decode cX20_look 19 = .ok (.aload_n 2, 1) := dk_44 (dk_at dksX20_look_0 19 rfl rfl)
theorem dX20_look_20 : decode cX20_look 20 = .ok (.aload 4, 2) := dk_25 4 (dk_at dksX20_look_0 20 rfl rfl)
theorem dX20_look_22 : decode cX20_look 22 = .ok (.getfield 113, 3) := dk_180 0 113 (dk_at dksX20_look_1 0 rfl rfl)
theorem dX20_look_25 : decode cX20_look 25 = .ok (.baload, 1) := dk_51 (dk_at dksX20_look_1 3 rfl rfl)
theorem dX20_look_26 : decode cX20_look 26 = .ok (.ifCond .ne 11, 3) := dk_154 0 11 (dk_at dksX20_look_1 4 rfl rfl)
theorem dX20_look_29 : decode cX20_look 29 = .ok (.aload_n 3, 1) := dk_45 (dk_at dksX20_look_1 7 rfl rfl)
theorem dX20_look_30 : decode cX20_look 30 = .ok (.aload 4, 2) := dk_25 4 (dk_at dksX20_look_1 8 rfl rfl)
theorem dX20_look_32 : decode cX20_look 32 = .ok (.getfield 113, 3) := dk_180 0 113 (dk_at dksX20_look_1 10 rfl rfl)
theorem dX20_look_35 : decode cX20_look 35 = .ok (.iconst 1, 1) := dk_4 (dk_at dksX20_look_1 13 rfl rfl)
theorem dX20_look_36 : decode cX20_look 36 = .ok (.bastore, 1) := dk_84 (dk_at dksX20_look_1 14 rfl rfl)
theorem dX20_look_37 : decode cX20_look 37 = .ok (.aload 4, 2) := dk_25 4 (dk_at dksX20_look_1 15 rfl rfl)
theorem dX20_look_39 : decode cX20_look 39 = .ok (.invokevirtual 116, 3) := dk_182 0 116 (dk_at dksX20_look_1 17 rfl rfl)
theorem dX20_look_42 : decode cX20_look 42 = .ok (.ifCond .ne 4, 3) := dk_154 0 4 (dk_at dksX20_look_1 20 rfl rfl)
theorem dX20_look_45 : decode cX20_look 45 = .ok (.return_, 1) := dk_177 (dk_at dksX20_look_1 23 rfl rfl)
theorem dX20_look_46 : decode cX20_look 46 = .ok (.aload_n 0, 1) := dk_42 (dk_at dksX20_look_2 0 rfl rfl)
theorem dX20_look_47 : decode cX20_look 47 = .ok (.aload 4, 2) := dk_25 4 (dk_at dksX20_look_2 1 rfl rfl)
theorem dX20_look_49 : decode cX20_look 49 = .ok (.getfield 113, 3) := dk_180 0 113 (dk_at dksX20_look_2 3 rfl rfl)
theorem dX20_look_52 : decode cX20_look 52 = .ok (.aload_n 2, 1) := dk_44 (dk_at dksX20_look_2 6 rfl rfl)
theorem dX20_look_53 : decode cX20_look 53 = .ok (.aload_n 3, 1) := dk_45 (dk_at dksX20_look_2 7 rfl rfl)
theorem dX20_look_54 : decode cX20_look 54 = .ok (.invokevirtual 84, 3) := dk_182 0 84 (dk_at dksX20_look_2 8 rfl rfl)
theorem dX20_look_57 : decode cX20_look 57 = .ok (.aload_n 0, 1) := dk_42 (dk_at dksX20_look_2 11 rfl rfl)
theorem dX20_look_58 : decode cX20_look 58 = .ok (.aload 4, 2) := dk_25 4 (dk_at dksX20_look_2 12 rfl rfl)
theorem dX20_look_60 : decode cX20_look 60 = .ok (.getfield 119, 3) := dk_180 0 119 (dk_at dksX20_look_2 14 rfl rfl)
theorem dX20_look_63 : decode cX20_look 63 = .ok (.aload_n 2, 1) := dk_44 (dk_at dksX20_look_2 17 rfl rfl)
theorem dX20_look_64 : decode cX20_look 64 = .ok (.aload_n 3, 1) := dk_45 (dk_at dksX20_look_2 18 rfl rfl)
theorem dX20_look_65 : decode cX20_look 65 = .ok (.invokevirtual 84, 3) := dk_182 0 84 (dk_at dksX20_look_2 19 rfl rfl)
theorem dX20_look_68 : decode cX20_look 68 = .ok (.return_, 1) := dk_177 (dk_at dksX20_look_2 22 rfl rfl)
theorem q165 : (Jvm.Cond.initialized "SpillslotWorksModel$Chooser") ∈ lw_all := lw_g (lw_at lw_m1 46 rfl) rfl
theorem q268 : (Jvm.Cond.selects "SpillslotWorksModel$Chooser" ({ cls := "java/lang/Object", name := "getClass", desc := "()Ljava/lang/Class;" } : Jvm.MethodName) ({ cls := "java/lang/Object", name := "getClass", desc := "()Ljava/lang/Class;" } : Jvm.MethodName)) ∈ lw_all := lw_g (lw_at lw_m1 149 rfl) rfl
theorem q1863 : (Jvm.Cond.fieldLink "SpillslotWorksModel$Chooser" (44 : Nat) "SpillslotWorksModel$Program" "blocks" "Ljava/util/ArrayList;") ∈ lw_all := lw_g (lw_at lw_m8 64 rfl) rfl
theorem q1872 : (Jvm.Cond.fieldLink "SpillslotWorksModel$Chooser" (88 : Nat) "SpillslotWorksModel$Program" "out" "I") ∈ lw_all := lw_g (lw_at lw_m8 73 rfl) rfl
theorem q1898 : (Jvm.Cond.fieldLink "SpillslotWorksModel$Chooser" (122 : Nat) "SpillslotWorksModel$Machine" "small" "I") ∈ lw_all := lw_g (lw_at lw_m8 99 rfl) rfl
theorem q1901 : (Jvm.Cond.fieldLink "SpillslotWorksModel$Chooser" (135 : Nat) "SpillslotWorksModel$Machine" "isFused" "Z") ∈ lw_all := lw_g (lw_at lw_m8 102 rfl) rfl
theorem q1986 : (Jvm.Cond.fieldLink "SpillslotWorksModel$Chooser" (108 : Nat) "SpillslotWorksModel$Node" "kind" "I") ∈ lw_all := lw_g (lw_at lw_m8 187 rfl) rfl
theorem q1989 : (Jvm.Cond.fieldLink "SpillslotWorksModel$Chooser" (113 : Nat) "SpillslotWorksModel$Node" "a" "I") ∈ lw_all := lw_g (lw_at lw_m8 190 rfl) rfl
theorem q1992 : (Jvm.Cond.fieldLink "SpillslotWorksModel$Chooser" (119 : Nat) "SpillslotWorksModel$Node" "b" "I") ∈ lw_all := lw_g (lw_at lw_m8 193 rfl) rfl
theorem q2130 : (Jvm.Cond.instantiable "SpillslotWorksModel$Chooser" (7 : Nat)) ∈ lw_all := lw_g (lw_at lw_m9 91 rfl) rfl
theorem q2132 : (Jvm.Cond.instanceMethod ({ cls := "SpillslotWorksModel$Chooser", name := "<init>", desc := "(LSpillslotWorksModel$Program;LSpillslotWorksModel$Machine;Z)V" } : Jvm.MethodName)) ∈ lw_all := lw_g (lw_at lw_m9 93 rfl) rfl
theorem q2133 : (Jvm.Cond.code ({ cls := "SpillslotWorksModel$Chooser", name := "<init>", desc := "(LSpillslotWorksModel$Program;LSpillslotWorksModel$Machine;Z)V" } : Jvm.MethodName) prog_18_method_1_code (7 : Nat) (Option.none : Option Jvm.ClassFile.FieldType)) ∈ lw_all := lw_g (lw_at lw_m9 94 rfl) rfl
theorem q2134 : (Jvm.Cond.methodLink "SpillslotWorksModel$Chooser" (3 : Nat) ({ cls := "java/lang/Object", name := "<init>", desc := "()V" } : Jvm.MethodName)) ∈ lw_all := lw_g (lw_at lw_m9 95 rfl) rfl
theorem q2135 : (Jvm.Cond.classLink "SpillslotWorksModel$Chooser" (9 : Nat) "java/util/ArrayList") ∈ lw_all := lw_g (lw_at lw_m9 96 rfl) rfl
theorem q2136 : (Jvm.Cond.methodLink "SpillslotWorksModel$Chooser" (11 : Nat) ({ cls := "java/util/ArrayList", name := "<init>", desc := "()V" } : Jvm.MethodName)) ∈ lw_all := lw_g (lw_at lw_m9 97 rfl) rfl
theorem q2137 : (Jvm.Cond.methodLink "SpillslotWorksModel$Chooser" (41 : Nat) ({ cls := "java/util/ArrayList", name := "clear", desc := "()V" } : Jvm.MethodName)) ∈ lw_all := lw_g (lw_at lw_m9 98 rfl) rfl
theorem q2141 : (Jvm.Cond.methodLink "SpillslotWorksModel$Chooser" (49 : Nat) ({ cls := "java/util/ArrayList", name := "get", desc := "(I)Ljava/lang/Object;" } : Jvm.MethodName)) ∈ lw_all := lw_g (lw_at lw_m9 102 rfl) rfl
theorem q2142 : (Jvm.Cond.methodLink "SpillslotWorksModel$Chooser" (53 : Nat) ({ cls := "java/util/ArrayList", name := "iterator", desc := "()Ljava/util/Iterator;" } : Jvm.MethodName)) ∈ lw_all := lw_g (lw_at lw_m9 103 rfl) rfl
theorem q2143 : (Jvm.Cond.interfaceEntry "SpillslotWorksModel$Chooser" (57 : Nat)) ∈ lw_tbl := lw_at lw_m9 104 rfl
theorem q2144 : (Jvm.Cond.methodLink "SpillslotWorksModel$Chooser" (57 : Nat) ({ cls := "java/util/Iterator", name := "hasNext", desc := "()Z" } : Jvm.MethodName)) ∈ lw_all := lw_g (lw_at lw_m9 105 rfl) rfl
theorem q2145 : (Jvm.Cond.interfaceEntry "SpillslotWorksModel$Chooser" (63 : Nat)) ∈ lw_tbl := lw_at lw_m9 106 rfl
theorem q2146 : (Jvm.Cond.methodLink "SpillslotWorksModel$Chooser" (63 : Nat) ({ cls := "java/util/Iterator", name := "next", desc := "()Ljava/lang/Object;" } : Jvm.MethodName)) ∈ lw_all := lw_g (lw_at lw_m9 107 rfl) rfl
theorem q2147 : (Jvm.Cond.classLink "SpillslotWorksModel$Chooser" (67 : Nat) "[I") ∈ lw_all := lw_g (lw_at lw_m9 108 rfl) rfl
theorem q2148 : (Jvm.Cond.methodLink "SpillslotWorksModel$Chooser" (68 : Nat) ({ cls := "SpillslotWorksModel$Chooser", name := "state", desc := "(II)V" } : Jvm.MethodName)) ∈ lw_all := lw_g (lw_at lw_m9 109 rfl) rfl
theorem q2149 : (Jvm.Cond.privateMethod ({ cls := "SpillslotWorksModel$Chooser", name := "state", desc := "(II)V" } : Jvm.MethodName)) ∈ lw_tbl := lw_at lw_m9 110 rfl
theorem q2150 : (Jvm.Cond.instanceMethod ({ cls := "SpillslotWorksModel$Chooser", name := "state", desc := "(II)V" } : Jvm.MethodName)) ∈ lw_all := lw_g (lw_at lw_m9 111 rfl) rfl
theorem q2151 : (Jvm.Cond.code ({ cls := "SpillslotWorksModel$Chooser", name := "state", desc := "(II)V" } : Jvm.MethodName) prog_18_method_14_code (3 : Nat) (Option.none : Option Jvm.ClassFile.FieldType)) ∈ lw_all := lw_g (lw_at lw_m9 112 rfl) rfl
theorem q2152 : (Jvm.Cond.methodLink "SpillslotWorksModel$Chooser" (104 : Nat) ({ cls := "SpillslotWorksModel$Program", name := "of", desc := "(I)LSpillslotWorksModel$Node;" } : Jvm.MethodName)) ∈ lw_all := lw_g (lw_at lw_m9 113 rfl) rfl
theorem q2153 : (Jvm.Cond.methodLink "SpillslotWorksModel$Chooser" (176 : Nat) ({ cls := "SpillslotWorksModel$Chooser", name := "add", desc := "(II[II)I" } : Jvm.MethodName)) ∈ lw_all := lw_g (lw_at lw_m9 114 rfl) rfl
theorem q2154 : (Jvm.Cond.privateMethod ({ cls := "SpillslotWorksModel$Chooser", name := "add", desc := "(II[II)I" } : Jvm.MethodName)) ∈ lw_tbl := lw_at lw_m9 115 rfl
theorem q2155 : (Jvm.Cond.instanceMethod ({ cls := "SpillslotWorksModel$Chooser", name := "add", desc := "(II[II)I" } : Jvm.MethodName)) ∈ lw_all := lw_g (lw_at lw_m9 116 rfl) rfl
theorem q2156 : (Jvm.Cond.code ({ cls := "SpillslotWorksModel$Chooser", name := "add", desc := "(II[II)I" } : Jvm.MethodName) prog_18_method_13_code (6 : Nat) (Option.some Jvm.ClassFile.FieldType.int)) ∈ lw_all := lw_g (lw_at lw_m9 117 rfl) rfl
theorem q2157 : (Jvm.Cond.classLink "SpillslotWorksModel$Chooser" (95 : Nat) "SpillslotWorksModel$Op") ∈ lw_all := lw_g (lw_at lw_m9 118 rfl) rfl
theorem q2159 : (Jvm.Cond.methodLink "SpillslotWorksModel$Chooser" (97 : Nat) ({ cls := "SpillslotWorksModel$Op", name := "<init>", desc := "(II[III)V" } : Jvm.MethodName)) ∈ lw_all := lw_g (lw_at lw_m9 120 rfl) rfl
theorem q2166 : (Jvm.Cond.fieldLink "SpillslotWorksModel$Chooser" (199 : Nat) "SpillslotWorksModel$Op" "which" "I") ∈ lw_all := lw_g (lw_at lw_m9 127 rfl) rfl
theorem q2184 : (Jvm.Cond.fieldLink "SpillslotWorksModel$Chooser" (193 : Nat) "SpillslotWorksModel$Op" "height" "I") ∈ lw_all := lw_g (lw_at lw_m9 145 rfl) rfl
theorem q2199 : (Jvm.Cond.methodLink "SpillslotWorksModel$Chooser" (100 : Nat) ({ cls := "java/util/ArrayList", name := "add", desc := "(Ljava/lang/Object;)Z" } : Jvm.MethodName)) ∈ lw_all := lw_g (lw_at lw_m9 160 rfl) rfl
theorem q2200 : (Jvm.Cond.methodLink "SpillslotWorksModel$Chooser" (179 : Nat) ({ cls := "SpillslotWorksModel$Chooser", name := "choose", desc := "(II)I" } : Jvm.MethodName)) ∈ lw_all := lw_g (lw_at lw_m9 161 rfl) rfl
theorem q2201 : (Jvm.Cond.privateMethod ({ cls := "SpillslotWorksModel$Chooser", name := "choose", desc := "(II)I" } : Jvm.MethodName)) ∈ lw_tbl := lw_at lw_m9 162 rfl
theorem q2202 : (Jvm.Cond.instanceMethod ({ cls := "SpillslotWorksModel$Chooser", name := "choose", desc := "(II)I" } : Jvm.MethodName)) ∈ lw_all := lw_g (lw_at lw_m9 163 rfl) rfl
theorem q2203 : (Jvm.Cond.code ({ cls := "SpillslotWorksModel$Chooser", name := "choose", desc := "(II)I" } : Jvm.MethodName) prog_18_method_15_code (7 : Nat) (Option.some Jvm.ClassFile.FieldType.int)) ∈ lw_all := lw_g (lw_at lw_m9 164 rfl) rfl
theorem q2204 : (Jvm.Cond.methodLink "SpillslotWorksModel$Chooser" (142 : Nat) ({ cls := "SpillslotWorksModel$Chooser", name := "cost", desc := "(I)I" } : Jvm.MethodName)) ∈ lw_all := lw_g (lw_at lw_m9 165 rfl) rfl
theorem q2205 : (Jvm.Cond.instanceMethod ({ cls := "SpillslotWorksModel$Chooser", name := "cost", desc := "(I)I" } : Jvm.MethodName)) ∈ lw_all := lw_g (lw_at lw_m9 166 rfl) rfl
theorem q2206 : (Jvm.Cond.selects "SpillslotWorksModel$Chooser" ({ cls := "SpillslotWorksModel$Chooser", name := "cost", desc := "(I)I" } : Jvm.MethodName) ({ cls := "SpillslotWorksModel$Chooser", name := "cost", desc := "(I)I" } : Jvm.MethodName)) ∈ lw_all := lw_g (lw_at lw_m9 167 rfl) rfl
theorem q2207 : (Jvm.Cond.code ({ cls := "SpillslotWorksModel$Chooser", name := "cost", desc := "(I)I" } : Jvm.MethodName) prog_18_method_11_code (2 : Nat) (Option.some Jvm.ClassFile.FieldType.int)) ∈ lw_all := lw_g (lw_at lw_m9 168 rfl) rfl
theorem q2208 : (Jvm.Cond.methodLink "SpillslotWorksModel$Chooser" (158 : Nat) ({ cls := "SpillslotWorksModel$Chooser", name := "costNow", desc := "(I)I" } : Jvm.MethodName)) ∈ lw_all := lw_g (lw_at lw_m9 169 rfl) rfl
theorem q2209 : (Jvm.Cond.privateMethod ({ cls := "SpillslotWorksModel$Chooser", name := "costNow", desc := "(I)I" } : Jvm.MethodName)) ∈ lw_tbl := lw_at lw_m9 170 rfl
theorem q2210 : (Jvm.Cond.instanceMethod ({ cls := "SpillslotWorksModel$Chooser", name := "costNow", desc := "(I)I" } : Jvm.MethodName)) ∈ lw_all := lw_g (lw_at lw_m9 171 rfl) rfl
theorem q2211 : (Jvm.Cond.code ({ cls := "SpillslotWorksModel$Chooser", name := "costNow", desc := "(I)I" } : Jvm.MethodName) prog_18_method_12_code (3 : Nat) (Option.some Jvm.ClassFile.FieldType.int)) ∈ lw_all := lw_g (lw_at lw_m9 172 rfl) rfl
theorem q2212 : (Jvm.Cond.methodLink "SpillslotWorksModel$Chooser" (138 : Nat) ({ cls := "SpillslotWorksModel$Program", name := "latency", desc := "(I)I" } : Jvm.MethodName)) ∈ lw_all := lw_g (lw_at lw_m9 173 rfl) rfl
theorem q2216 : (Jvm.Cond.methodLink "SpillslotWorksModel$Chooser" (161 : Nat) ({ cls := "SpillslotWorksModel$Chooser", name := "plain", desc := "(LSpillslotWorksModel$Node;)I" } : Jvm.MethodName)) ∈ lw_all := lw_g (lw_at lw_m9 177 rfl) rfl
theorem q2217 : (Jvm.Cond.privateMethod ({ cls := "SpillslotWorksModel$Chooser", name := "plain", desc := "(LSpillslotWorksModel$Node;)I" } : Jvm.MethodName)) ∈ lw_tbl := lw_at lw_m9 178 rfl
theorem q2218 : (Jvm.Cond.instanceMethod ({ cls := "SpillslotWorksModel$Chooser", name := "plain", desc := "(LSpillslotWorksModel$Node;)I" } : Jvm.MethodName)) ∈ lw_all := lw_g (lw_at lw_m9 179 rfl) rfl
theorem q2219 : (Jvm.Cond.code ({ cls := "SpillslotWorksModel$Chooser", name := "plain", desc := "(LSpillslotWorksModel$Node;)I" } : Jvm.MethodName) prog_18_method_8_code (2 : Nat) (Option.some Jvm.ClassFile.FieldType.int)) ∈ lw_all := lw_g (lw_at lw_m9 180 rfl) rfl
theorem q2220 : (Jvm.Cond.methodLink "SpillslotWorksModel$Chooser" (164 : Nat) ({ cls := "SpillslotWorksModel$Chooser", name := "smallCost", desc := "(LSpillslotWorksModel$Node;)I" } : Jvm.MethodName)) ∈ lw_all := lw_g (lw_at lw_m9 181 rfl) rfl
theorem q2221 : (Jvm.Cond.privateMethod ({ cls := "SpillslotWorksModel$Chooser", name := "smallCost", desc := "(LSpillslotWorksModel$Node;)I" } : Jvm.MethodName)) ∈ lw_tbl := lw_at lw_m9 182 rfl
theorem q2222 : (Jvm.Cond.instanceMethod ({ cls := "SpillslotWorksModel$Chooser", name := "smallCost", desc := "(LSpillslotWorksModel$Node;)I" } : Jvm.MethodName)) ∈ lw_all := lw_g (lw_at lw_m9 183 rfl) rfl
theorem q2223 : (Jvm.Cond.code ({ cls := "SpillslotWorksModel$Chooser", name := "smallCost", desc := "(LSpillslotWorksModel$Node;)I" } : Jvm.MethodName) prog_18_method_9_code (2 : Nat) (Option.some Jvm.ClassFile.FieldType.int)) ∈ lw_all := lw_g (lw_at lw_m9 184 rfl) rfl
theorem q2224 : (Jvm.Cond.methodLink "SpillslotWorksModel$Chooser" (145 : Nat) ({ cls := "SpillslotWorksModel$Chooser", name := "small", desc := "(LSpillslotWorksModel$Node;)I" } : Jvm.MethodName)) ∈ lw_all := lw_g (lw_at lw_m9 185 rfl) rfl
theorem q2225 : (Jvm.Cond.privateMethod ({ cls := "SpillslotWorksModel$Chooser", name := "small", desc := "(LSpillslotWorksModel$Node;)I" } : Jvm.MethodName)) ∈ lw_tbl := lw_at lw_m9 186 rfl
theorem q2226 : (Jvm.Cond.instanceMethod ({ cls := "SpillslotWorksModel$Chooser", name := "small", desc := "(LSpillslotWorksModel$Node;)I" } : Jvm.MethodName)) ∈ lw_all := lw_g (lw_at lw_m9 187 rfl) rfl
theorem q2227 : (Jvm.Cond.code ({ cls := "SpillslotWorksModel$Chooser", name := "small", desc := "(LSpillslotWorksModel$Node;)I" } : Jvm.MethodName) prog_18_method_5_code (2 : Nat) (Option.some Jvm.ClassFile.FieldType.int)) ∈ lw_all := lw_g (lw_at lw_m9 188 rfl) rfl
theorem q2228 : (Jvm.Cond.methodLink "SpillslotWorksModel$Chooser" (131 : Nat) ({ cls := "SpillslotWorksModel$Chooser", name := "isSmall", desc := "(I)Z" } : Jvm.MethodName)) ∈ lw_all := lw_g (lw_at lw_m9 189 rfl) rfl
theorem q2229 : (Jvm.Cond.privateMethod ({ cls := "SpillslotWorksModel$Chooser", name := "isSmall", desc := "(I)Z" } : Jvm.MethodName)) ∈ lw_tbl := lw_at lw_m9 190 rfl
theorem q2230 : (Jvm.Cond.instanceMethod ({ cls := "SpillslotWorksModel$Chooser", name := "isSmall", desc := "(I)Z" } : Jvm.MethodName)) ∈ lw_all := lw_g (lw_at lw_m9 191 rfl) rfl
theorem q2231 : (Jvm.Cond.code ({ cls := "SpillslotWorksModel$Chooser", name := "isSmall", desc := "(I)Z" } : Jvm.MethodName) prog_18_method_4_code (2 : Nat) (Option.some Jvm.ClassFile.FieldType.boolean)) ∈ lw_all := lw_g (lw_at lw_m9 192 rfl) rfl
theorem q2232 : (Jvm.Cond.methodLinkNest "SpillslotWorksModel$Chooser" (127 : Nat) ({ cls := "SpillslotWorksModel", name := "isIn", desc := "(III)Z" } : Jvm.MethodName) "SpillslotWorksModel") ∈ lw_tbl := lw_at lw_m9 193 rfl
theorem q2233 : (Jvm.Cond.constant "SpillslotWorksModel$Chooser" (150 : Nat) (2147483647 : Int32)) ∈ lw_all := lw_g (lw_at lw_m9 194 rfl) rfl
theorem q2234 : (Jvm.Cond.methodLink "SpillslotWorksModel$Chooser" (151 : Nat) ({ cls := "SpillslotWorksModel$Chooser", name := "other", desc := "(LSpillslotWorksModel$Node;I)I" } : Jvm.MethodName)) ∈ lw_all := lw_g (lw_at lw_m9 195 rfl) rfl
theorem q2235 : (Jvm.Cond.privateMethod ({ cls := "SpillslotWorksModel$Chooser", name := "other", desc := "(LSpillslotWorksModel$Node;I)I" } : Jvm.MethodName)) ∈ lw_tbl := lw_at lw_m9 196 rfl
theorem q2236 : (Jvm.Cond.instanceMethod ({ cls := "SpillslotWorksModel$Chooser", name := "other", desc := "(LSpillslotWorksModel$Node;I)I" } : Jvm.MethodName)) ∈ lw_all := lw_g (lw_at lw_m9 197 rfl) rfl
theorem q2237 : (Jvm.Cond.code ({ cls := "SpillslotWorksModel$Chooser", name := "other", desc := "(LSpillslotWorksModel$Node;I)I" } : Jvm.MethodName) prog_18_method_7_code (3 : Nat) (Option.some Jvm.ClassFile.FieldType.int)) ∈ lw_all := lw_g (lw_at lw_m9 198 rfl) rfl
theorem q2238 : (Jvm.Cond.methodLink "SpillslotWorksModel$Chooser" (167 : Nat) ({ cls := "SpillslotWorksModel$Chooser", name := "fusedCost", desc := "(LSpillslotWorksModel$Node;)I" } : Jvm.MethodName)) ∈ lw_all := lw_g (lw_at lw_m9 199 rfl) rfl
theorem q2239 : (Jvm.Cond.privateMethod ({ cls := "SpillslotWorksModel$Chooser", name := "fusedCost", desc := "(LSpillslotWorksModel$Node;)I" } : Jvm.MethodName)) ∈ lw_tbl := lw_at lw_m9 200 rfl
theorem q2240 : (Jvm.Cond.instanceMethod ({ cls := "SpillslotWorksModel$Chooser", name := "fusedCost", desc := "(LSpillslotWorksModel$Node;)I" } : Jvm.MethodName)) ∈ lw_all := lw_g (lw_at lw_m9 201 rfl) rfl
theorem q2241 : (Jvm.Cond.code ({ cls := "SpillslotWorksModel$Chooser", name := "fusedCost", desc := "(LSpillslotWorksModel$Node;)I" } : Jvm.MethodName) prog_18_method_10_code (3 : Nat) (Option.some Jvm.ClassFile.FieldType.int)) ∈ lw_all := lw_g (lw_at lw_m9 202 rfl) rfl
theorem q2242 : (Jvm.Cond.methodLink "SpillslotWorksModel$Chooser" (155 : Nat) ({ cls := "SpillslotWorksModel$Chooser", name := "fused", desc := "(LSpillslotWorksModel$Node;)I" } : Jvm.MethodName)) ∈ lw_all := lw_g (lw_at lw_m9 203 rfl) rfl
theorem q2243 : (Jvm.Cond.privateMethod ({ cls := "SpillslotWorksModel$Chooser", name := "fused", desc := "(LSpillslotWorksModel$Node;)I" } : Jvm.MethodName)) ∈ lw_tbl := lw_at lw_m9 204 rfl
theorem q2244 : (Jvm.Cond.instanceMethod ({ cls := "SpillslotWorksModel$Chooser", name := "fused", desc := "(LSpillslotWorksModel$Node;)I" } : Jvm.MethodName)) ∈ lw_all := lw_g (lw_at lw_m9 205 rfl) rfl
theorem q2245 : (Jvm.Cond.code ({ cls := "SpillslotWorksModel$Chooser", name := "fused", desc := "(LSpillslotWorksModel$Node;)I" } : Jvm.MethodName) prog_18_method_6_code (2 : Nat) (Option.some Jvm.ClassFile.FieldType.int)) ∈ lw_all := lw_g (lw_at lw_m9 206 rfl) rfl
theorem q2246 : (Jvm.Cond.methodLink "SpillslotWorksModel$Chooser" (170 : Nat) ({ cls := "java/lang/Math", name := "min", desc := "(II)I" } : Jvm.MethodName)) ∈ lw_all := lw_g (lw_at lw_m9 207 rfl) rfl
theorem q2247 : (Jvm.Cond.methodLink "SpillslotWorksModel$Chooser" (182 : Nat) ({ cls := "SpillslotWorksModel$Chooser", name := "fuse", desc := "(LSpillslotWorksModel$Node;I)I" } : Jvm.MethodName)) ∈ lw_all := lw_g (lw_at lw_m9 208 rfl) rfl
theorem q2248 : (Jvm.Cond.privateMethod ({ cls := "SpillslotWorksModel$Chooser", name := "fuse", desc := "(LSpillslotWorksModel$Node;I)I" } : Jvm.MethodName)) ∈ lw_tbl := lw_at lw_m9 209 rfl
theorem q2249 : (Jvm.Cond.instanceMethod ({ cls := "SpillslotWorksModel$Chooser", name := "fuse", desc := "(LSpillslotWorksModel$Node;I)I" } : Jvm.MethodName)) ∈ lw_all := lw_g (lw_at lw_m9 210 rfl) rfl
theorem q2250 : (Jvm.Cond.code ({ cls := "SpillslotWorksModel$Chooser", name := "fuse", desc := "(LSpillslotWorksModel$Node;I)I" } : Jvm.MethodName) prog_18_method_16_code (7 : Nat) (Option.some Jvm.ClassFile.FieldType.int)) ∈ lw_all := lw_g (lw_at lw_m9 211 rfl) rfl
theorem q2251 : (Jvm.Cond.methodLink "SpillslotWorksModel$Chooser" (72 : Nat) ({ cls := "SpillslotWorksModel$Chooser", name := "order", desc := "()Ljava/util/ArrayList;" } : Jvm.MethodName)) ∈ lw_all := lw_g (lw_at lw_m9 212 rfl) rfl
theorem q2252 : (Jvm.Cond.privateMethod ({ cls := "SpillslotWorksModel$Chooser", name := "order", desc := "()Ljava/util/ArrayList;" } : Jvm.MethodName)) ∈ lw_tbl := lw_at lw_m9 213 rfl
theorem q2253 : (Jvm.Cond.instanceMethod ({ cls := "SpillslotWorksModel$Chooser", name := "order", desc := "()Ljava/util/ArrayList;" } : Jvm.MethodName)) ∈ lw_all := lw_g (lw_at lw_m9 214 rfl) rfl
theorem q2254 : (Jvm.Cond.code ({ cls := "SpillslotWorksModel$Chooser", name := "order", desc := "()Ljava/util/ArrayList;" } : Jvm.MethodName) prog_18_method_17_code (5 : Nat) (Option.some (Jvm.ClassFile.FieldType.object "java/util/ArrayList"))) ∈ lw_all := lw_g (lw_at lw_m9 215 rfl) rfl
theorem q2255 : (Jvm.Cond.methodLink "SpillslotWorksModel$Chooser" (185 : Nat) ({ cls := "java/util/ArrayList", name := "size", desc := "()I" } : Jvm.MethodName)) ∈ lw_all := lw_g (lw_at lw_m9 216 rfl) rfl
theorem q2256 : (Jvm.Cond.methodLink "SpillslotWorksModel$Chooser" (189 : Nat) ({ cls := "SpillslotWorksModel$Op", name := "needs", desc := "(LSpillslotWorksModel$Op;)Z" } : Jvm.MethodName)) ∈ lw_all := lw_g (lw_at lw_m9 217 rfl) rfl
theorem q2264 : (Jvm.Cond.methodLink "SpillslotWorksModel$Chooser" (196 : Nat) ({ cls := "java/lang/Math", name := "max", desc := "(II)I" } : Jvm.MethodName)) ∈ lw_all := lw_g (lw_at lw_m9 225 rfl) rfl
theorem q2265 : (Jvm.Cond.methodLink "SpillslotWorksModel$Chooser" (76 : Nat) ({ cls := "java/util/ArrayList", name := "addAll", desc := "(Ljava/util/Collection;)Z" } : Jvm.MethodName)) ∈ lw_all := lw_g (lw_at lw_m9 226 rfl) rfl
theorem q2279 : (Jvm.Cond.methodLink "SpillslotWorksModel$Chooser" (202 : Nat) ({ cls := "java/util/ArrayList", name := "contains", desc := "(Ljava/lang/Object;)Z" } : Jvm.MethodName)) ∈ lw_all := lw_g (lw_at lw_m10 0 rfl) rfl
theorem q2313 : (Jvm.Cond.selects "SpillslotWorksModel$Chooser" ({ cls := "java/lang/Object", name := "equals", desc := "(Ljava/lang/Object;)Z" } : Jvm.MethodName) ({ cls := "java/lang/Object", name := "equals", desc := "(Ljava/lang/Object;)Z" } : Jvm.MethodName)) ∈ lw_all := lw_g (lw_at lw_m10 34 rfl) rfl
theorem q2343 : (Jvm.Cond.methodLink "SpillslotWorksModel$Chooser" (205 : Nat) ({ cls := "SpillslotWorksModel$Chooser", name := "isReady", desc := "(LSpillslotWorksModel$Op;Ljava/util/ArrayList;)Z" } : Jvm.MethodName)) ∈ lw_all := lw_g (lw_at lw_m10 64 rfl) rfl
theorem q2344 : (Jvm.Cond.privateMethod ({ cls := "SpillslotWorksModel$Chooser", name := "isReady", desc := "(LSpillslotWorksModel$Op;Ljava/util/ArrayList;)Z" } : Jvm.MethodName)) ∈ lw_tbl := lw_at lw_m10 65 rfl
theorem q2345 : (Jvm.Cond.instanceMethod ({ cls := "SpillslotWorksModel$Chooser", name := "isReady", desc := "(LSpillslotWorksModel$Op;Ljava/util/ArrayList;)Z" } : Jvm.MethodName)) ∈ lw_all := lw_g (lw_at lw_m10 66 rfl) rfl
theorem q2346 : (Jvm.Cond.code ({ cls := "SpillslotWorksModel$Chooser", name := "isReady", desc := "(LSpillslotWorksModel$Op;Ljava/util/ArrayList;)Z" } : Jvm.MethodName) prog_18_method_18_code (5 : Nat) (Option.some Jvm.ClassFile.FieldType.boolean)) ∈ lw_all := lw_g (lw_at lw_m10 67 rfl) rfl
theorem q2347 : (Jvm.Cond.methodLink "SpillslotWorksModel$Chooser" (80 : Nat) ({ cls := "SpillslotWorksModel$Chooser", name := "enter", desc := "(Ljava/util/ArrayList;)V" } : Jvm.MethodName)) ∈ lw_all := lw_g (lw_at lw_m10 68 rfl) rfl
theorem q2348 : (Jvm.Cond.privateMethod ({ cls := "SpillslotWorksModel$Chooser", name := "enter", desc := "(Ljava/util/ArrayList;)V" } : Jvm.MethodName)) ∈ lw_tbl := lw_at lw_m10 69 rfl
theorem q2349 : (Jvm.Cond.instanceMethod ({ cls := "SpillslotWorksModel$Chooser", name := "enter", desc := "(Ljava/util/ArrayList;)V" } : Jvm.MethodName)) ∈ lw_all := lw_g (lw_at lw_m10 70 rfl) rfl
theorem q2350 : (Jvm.Cond.code ({ cls := "SpillslotWorksModel$Chooser", name := "enter", desc := "(Ljava/util/ArrayList;)V" } : Jvm.MethodName) prog_18_method_2_code (8 : Nat) (Option.none : Option Jvm.ClassFile.FieldType)) ∈ lw_all := lw_g (lw_at lw_m10 71 rfl) rfl
theorem q2351 : (Jvm.Cond.methodLink "SpillslotWorksModel$Chooser" (84 : Nat) ({ cls := "SpillslotWorksModel$Chooser", name := "look", desc := "(I[Z[Z)V" } : Jvm.MethodName)) ∈ lw_all := lw_g (lw_at lw_m10 72 rfl) rfl
theorem q2352 : (Jvm.Cond.privateMethod ({ cls := "SpillslotWorksModel$Chooser", name := "look", desc := "(I[Z[Z)V" } : Jvm.MethodName)) ∈ lw_tbl := lw_at lw_m10 73 rfl
theorem q2353 : (Jvm.Cond.instanceMethod ({ cls := "SpillslotWorksModel$Chooser", name := "look", desc := "(I[Z[Z)V" } : Jvm.MethodName)) ∈ lw_all := lw_g (lw_at lw_m10 74 rfl) rfl
theorem q2354 : (Jvm.Cond.code ({ cls := "SpillslotWorksModel$Chooser", name := "look", desc := "(I[Z[Z)V" } : Jvm.MethodName) prog_18_method_3_code (5 : Nat) (Option.none : Option Jvm.ClassFile.FieldType)) ∈ lw_all := lw_g (lw_at lw_m10 75 rfl) rfl
theorem q2355 : (Jvm.Cond.methodLink "SpillslotWorksModel$Chooser" (116 : Nat) ({ cls := "SpillslotWorksModel$Node", name := "isOfTwo", desc := "()Z" } : Jvm.MethodName)) ∈ lw_all := lw_g (lw_at lw_m10 76 rfl) rfl
theorem q2356 : (Jvm.Cond.methodLinkNest "SpillslotWorksModel$Chooser" (91 : Nat) ({ cls := "SpillslotWorksModel", name := "has", desc := "(II)Z" } : Jvm.MethodName) "SpillslotWorksModel") ∈ lw_tbl := lw_at lw_m10 77 rfl
theorem q2359 : (Jvm.Cond.fieldLink "SpillslotWorksModel$Chooser" (26 : Nat) "SpillslotWorksModel$Chooser" "program" "LSpillslotWorksModel$Program;") ∈ lw_all := lw_g (lw_at lw_m10 80 rfl) rfl
theorem q2360 : (Jvm.Cond.fieldLink "SpillslotWorksModel$Chooser" (30 : Nat) "SpillslotWorksModel$Chooser" "machine" "LSpillslotWorksModel$Machine;") ∈ lw_all := lw_g (lw_at lw_m10 81 rfl) rfl
theorem q2361 : (Jvm.Cond.fieldLink "SpillslotWorksModel$Chooser" (12 : Nat) "SpillslotWorksModel$Chooser" "ops" "Ljava/util/ArrayList;") ∈ lw_all := lw_g (lw_at lw_m10 82 rfl) rfl
theorem q2363 : (Jvm.Cond.fieldLink "SpillslotWorksModel$Chooser" (34 : Nat) "SpillslotWorksModel$Chooser" "isOrdered" "Z") ∈ lw_all := lw_g (lw_at lw_m10 84 rfl) rfl
theorem q2364 : (Jvm.Cond.fieldLink "SpillslotWorksModel$Chooser" (18 : Nat) "SpillslotWorksModel$Chooser" "costs" "[I") ∈ lw_all := lw_g (lw_at lw_m10 85 rfl) rfl
theorem q2365 : (Jvm.Cond.fieldLink "SpillslotWorksModel$Chooser" (22 : Nat) "SpillslotWorksModel$Chooser" "values" "I") ∈ lw_all := lw_g (lw_at lw_m10 86 rfl) rfl
theorem q2366 : (Jvm.Cond.fieldLink "SpillslotWorksModel$Chooser" (38 : Nat) "SpillslotWorksModel$Chooser" "block" "I") ∈ lw_all := lw_g (lw_at lw_m10 87 rfl) rfl
theorem q2367 : (Jvm.Cond.laysFinal "SpillslotWorksModel$Chooser" "SpillslotWorksModel$Chooser" "program" "LSpillslotWorksModel$Program;") ∈ lw_all := lw_g (lw_at lw_m10 88 rfl) rfl
theorem q2368 : (Jvm.Cond.soleField "SpillslotWorksModel$Chooser" "program") ∈ lw_all := lw_g (lw_at lw_m10 89 rfl) rfl
theorem q2369 : (Jvm.Cond.laysFinal "SpillslotWorksModel$Chooser" "SpillslotWorksModel$Chooser" "machine" "LSpillslotWorksModel$Machine;") ∈ lw_all := lw_g (lw_at lw_m10 90 rfl) rfl
theorem q2370 : (Jvm.Cond.soleField "SpillslotWorksModel$Chooser" "machine") ∈ lw_all := lw_g (lw_at lw_m10 91 rfl) rfl
theorem q2371 : (Jvm.Cond.laysFinal "SpillslotWorksModel$Chooser" "SpillslotWorksModel$Chooser" "ops" "Ljava/util/ArrayList;") ∈ lw_all := lw_g (lw_at lw_m10 92 rfl) rfl
theorem q2372 : (Jvm.Cond.soleField "SpillslotWorksModel$Chooser" "ops") ∈ lw_all := lw_g (lw_at lw_m10 93 rfl) rfl
theorem q2373 : (Jvm.Cond.laysFinal "SpillslotWorksModel$Chooser" "SpillslotWorksModel$Chooser" "isOrdered" "Z") ∈ lw_all := lw_g (lw_at lw_m10 94 rfl) rfl
theorem q2374 : (Jvm.Cond.soleField "SpillslotWorksModel$Chooser" "isOrdered") ∈ lw_all := lw_g (lw_at lw_m10 95 rfl) rfl
theorem q2375 : (Jvm.Cond.laysFinal "SpillslotWorksModel$Chooser" "SpillslotWorksModel$Chooser" "costs" "[I") ∈ lw_all := lw_g (lw_at lw_m10 96 rfl) rfl
theorem q2376 : (Jvm.Cond.soleField "SpillslotWorksModel$Chooser" "costs") ∈ lw_all := lw_g (lw_at lw_m10 97 rfl) rfl
theorem q2377 : (Jvm.Cond.lays "SpillslotWorksModel$Chooser" "SpillslotWorksModel$Chooser" "values" "I") ∈ lw_all := lw_g (lw_at lw_m10 98 rfl) rfl
theorem q2378 : (Jvm.Cond.soleField "SpillslotWorksModel$Chooser" "values") ∈ lw_all := lw_g (lw_at lw_m10 99 rfl) rfl
theorem q2379 : (Jvm.Cond.lays "SpillslotWorksModel$Chooser" "SpillslotWorksModel$Chooser" "block" "I") ∈ lw_all := lw_g (lw_at lw_m10 100 rfl) rfl
theorem q2380 : (Jvm.Cond.soleField "SpillslotWorksModel$Chooser" "block") ∈ lw_all := lw_g (lw_at lw_m10 101 rfl) rfl
theorem q2381 : (Jvm.Cond.superclass "SpillslotWorksModel$Chooser" "java/lang/Object") ∈ lw_all := lw_g (lw_at lw_m10 102 rfl) rfl
theorem q2883 : (Jvm.Cond.castable "SpillslotWorksModel$Chooser" "java/lang/Object") ∈ lw_tbl := lw_at lw_m12 124 rfl
theorem in_X20 : ∀ w ∈ wsX200, w ∈ lw_all := lw_in wsX200 [2367, 2369, 2371, 2373, 2375, 2377, 2379] (by decide +kernel) (by decide +kernel)
