/-! SpillslotWorks$Lives -/
set_option maxRecDepth 100000
def RX8 : String := "SpillslotWorks$Lives"
def TX8 : u_T := fun k => match k with
  | 0 => ("SpillslotWorks$Lives", "ops", "Ljava/util/List;", true)
  | 1 => ("SpillslotWorks$Lives", "program", "LSpillslotWorks$Program;", true)
  | 2 => ("SpillslotWorks$Lives", "machine", "LSpillslotWorks$Machine;", true)
  | _ => ("SpillslotWorks$Lives", "row", "Ljava/util/List;", true)
def tyX8 : Nat → FieldType := fun k => match k with
  | 0 => .object "java/util/List"
  | 1 => .object "SpillslotWorks$Program"
  | 2 => .object "SpillslotWorks$Machine"
  | _ => .object "java/util/List"
abbrev wsX80 : List Cond := u_ws RX8 TX8 4
theorem nmX8 : ∀ a, a < 4 → ∀ b, b < 4 → a ≠ b → (TX8 a).2.1 ≠ (TX8 b).2.1 := by decide +kernel
theorem tyX8_ok : ∀ k, k < 4 → parseFieldDescriptor (TX8 k).2.2.1 = some (tyX8 k) := by decide +kernel
abbrev cX8_init : ByteArray := prog_7_method_1_code
def yX8_init : MethodName := ⟨RX8, "<init>", "(Ljava/util/List;LSpillslotWorks$Program;LSpillslotWorks$Machine;I)V"⟩
def dkwX8_init_5 : List UInt8 := [182, 0, 59, 177]
abbrev dktX8_init_5 : List UInt8 := dkwX8_init_5 ++ []
def dkwX8_init_4 : List UInt8 := [42, 180, 0, 12, 21, 5, 185, 0, 52, 2, 0, 192, 0, 34, 182, 0, 56, 132, 5, 1, 167, 255, 221, 42]
abbrev dktX8_init_4 : List UInt8 := dkwX8_init_4 ++ dktX8_init_5
def dkwX8_init_3 : List UInt8 := [132, 5, 1, 167, 255, 217, 3, 54, 5, 21, 5, 42, 180, 0, 12, 185, 0, 46, 1, 0, 162, 0, 27, 42]
abbrev dktX8_init_3 : List UInt8 := dkwX8_init_3 ++ dktX8_init_4
def dkwX8_init_2 : List UInt8 := [58, 6, 25, 6, 180, 0, 33, 2, 159, 0, 15, 42, 25, 6, 182, 0, 39, 42, 25, 6, 182, 0, 43]
abbrev dktX8_init_2 : List UInt8 := dkwX8_init_2 ++ dktX8_init_3
def dkwX8_init_1 : List UInt8 := [181, 0, 21, 42, 45, 181, 0, 25, 3, 54, 5, 21, 5, 21, 4, 162, 0, 38, 42, 21, 5, 182, 0, 29]
abbrev dktX8_init_1 : List UInt8 := dkwX8_init_1 ++ dktX8_init_2
def dkwX8_init_0 : List UInt8 := [42, 183, 0, 3, 42, 187, 0, 9, 89, 183, 0, 11, 181, 0, 12, 42, 43, 181, 0, 18, 42, 44]
abbrev dktX8_init_0 : List UInt8 := dkwX8_init_0 ++ dktX8_init_1
theorem dksX8_init_0 : cX8_init.data.toList.drop 0 = dktX8_init_0 := by decide +kernel
theorem dksX8_init_1 : cX8_init.data.toList.drop 22 = dktX8_init_1 := dk_seg dksX8_init_0 22 rfl rfl
theorem dksX8_init_2 : cX8_init.data.toList.drop 46 = dktX8_init_2 := dk_seg dksX8_init_1 24 rfl rfl
theorem dksX8_init_3 : cX8_init.data.toList.drop 69 = dktX8_init_3 := dk_seg dksX8_init_2 23 rfl rfl
theorem dksX8_init_4 : cX8_init.data.toList.drop 93 = dktX8_init_4 := dk_seg dksX8_init_3 24 rfl rfl
theorem dksX8_init_5 : cX8_init.data.toList.drop 117 = dktX8_init_5 := dk_seg dksX8_init_4 24 rfl rfl
theorem dX8_init_0 : decode cX8_init 0 = .ok (.aload_n 0, 1) := dk_42 (dk_at dksX8_init_0 0 rfl rfl)
theorem dX8_init_1 : decode cX8_init 1 = .ok (.invokespecial 3, 3) := dk_183 0 3 (dk_at dksX8_init_0 1 rfl rfl)
theorem dX8_init_4 : decode cX8_init 4 = .ok (.aload_n 0, 1) := dk_42 (dk_at dksX8_init_0 4 rfl rfl)
theorem dX8_init_5 : decode cX8_init 5 = .ok (.new 9, 3) := dk_187 0 9 (dk_at dksX8_init_0 5 rfl rfl)
theorem dX8_init_8 : decode cX8_init 8 = .ok (.dup, 1) := dk_89 (dk_at dksX8_init_0 8 rfl rfl)
theorem dX8_init_9 : decode cX8_init 9 = .ok (.invokespecial 11, 3) := dk_183 0 11 (dk_at dksX8_init_0 9 rfl rfl)
theorem dX8_init_12 : decode cX8_init 12 = .ok (.putfield 12, 3) := dk_181 0 12 (dk_at dksX8_init_0 12 rfl rfl)
theorem dX8_init_15 : decode cX8_init 15 = .ok (.aload_n 0, 1) := dk_42 (dk_at dksX8_init_0 15 rfl rfl)
theorem dX8_init_16 : decode cX8_init 16 = .ok (.aload_n 1, 1) := dk_43 (dk_at dksX8_init_0 16 rfl rfl)
theorem dX8_init_17 : decode cX8_init 17 = .ok (.putfield 18, 3) := dk_181 0 18 (dk_at dksX8_init_0 17 rfl rfl)
theorem dX8_init_20 : decode cX8_init 20 = .ok (.aload_n 0, 1) := dk_42 (dk_at dksX8_init_0 20 rfl rfl)
theorem dX8_init_21 : decode cX8_init 21 = .ok (.aload_n 2, 1) := dk_44 (dk_at dksX8_init_0 21 rfl rfl)
theorem dX8_init_22 : decode cX8_init 22 = .ok (.putfield 21, 3) := dk_181 0 21 (dk_at dksX8_init_1 0 rfl rfl)
theorem dX8_init_25 : decode cX8_init 25 = .ok (.aload_n 0, 1) := dk_42 (dk_at dksX8_init_1 3 rfl rfl)
theorem dX8_init_26 : decode cX8_init 26 = .ok (.aload_n 3, 1) := dk_45 (dk_at dksX8_init_1 4 rfl rfl)
theorem dX8_init_27 : decode cX8_init 27 = .ok (.putfield 25, 3) := dk_181 0 25 (dk_at dksX8_init_1 5 rfl rfl)
theorem dX8_init_30 : decode cX8_init 30 = .ok (.iconst 0, 1) := dk_3 (dk_at dksX8_init_1 8 rfl rfl)
theorem dX8_init_31 : decode cX8_init 31 = .ok (.istore 5, 2) := dk_54 5 (dk_at dksX8_init_1 9 rfl rfl)
theorem dX8_init_33 : decode cX8_init 33 = .ok (.iload 5, 2) := dk_21 5 (dk_at dksX8_init_1 11 rfl rfl)
theorem dX8_init_35 : decode cX8_init 35 = .ok (.iload 4, 2) := dk_21 4 (dk_at dksX8_init_1 13 rfl rfl)
theorem dX8_init_37 : decode cX8_init 37 = .ok (.if_icmp .ge 38, 3) := dk_162 0 38 (dk_at dksX8_init_1 15 rfl rfl)
theorem dX8_init_40 : decode cX8_init 40 = .ok (.aload_n 0, 1) := dk_42 (dk_at dksX8_init_1 18 rfl rfl)
theorem dX8_init_41 : decode cX8_init 41 = .ok (.iload 5, 2) := dk_21 5 (dk_at dksX8_init_1 19 rfl rfl)
theorem dX8_init_43 : decode cX8_init 43 = .ok (.invokevirtual 29, 3) := dk_182 0 29 (dk_at dksX8_init_1 21 rfl rfl)
theorem dX8_init_46 : decode cX8_init 46 = .ok (.astore 6, 2) := dk_58 6 (dk_at dksX8_init_2 0 rfl rfl)
theorem dX8_init_48 : decode cX8_init 48 = .ok (.aload 6, 2) := dk_25 6 (dk_at dksX8_init_2 2 rfl rfl)
theorem dX8_init_50 : decode cX8_init 50 = .ok (.getfield 33, 3) := dk_180 0 33 (dk_at dksX8_init_2 4 rfl rfl)
theorem dX8_init_53 : decode cX8_init 53 = .ok (.iconst (-1), 1) := dk_2 (dk_at dksX8_init_2 7 rfl rfl)
theorem dX8_init_54 : decode cX8_init 54 = .ok (.if_icmp .eq 15, 3) := dk_159 0 15 (dk_at dksX8_init_2 8 rfl rfl)
theorem dX8_init_57 : decode cX8_init 57 = .ok (.aload_n 0, 1) := dk_42 (dk_at dksX8_init_2 11 rfl rfl)
theorem dX8_init_58 : decode cX8_init 58 = .ok (.aload 6, 2) := dk_25 6 (dk_at dksX8_init_2 12 rfl rfl)
theorem dX8_init_60 : decode cX8_init 60 = .ok (.invokevirtual 39, 3) := dk_182 0 39 (dk_at dksX8_init_2 14 rfl rfl)
theorem dX8_init_63 : decode cX8_init 63 = .ok (.aload_n 0, 1) := dk_42 (dk_at dksX8_init_2 17 rfl rfl)
theorem dX8_init_64 : decode cX8_init 64 = .ok (.aload 6, 2) := dk_25 6 (dk_at dksX8_init_2 18 rfl rfl)
theorem dX8_init_66 : decode cX8_init 66 = .ok (.invokevirtual 43, 3) := dk_182 0 43 (dk_at dksX8_init_2 20 rfl rfl)
theorem dX8_init_69 : decode cX8_init 69 = .ok (.iinc 5 1, 3) := dk_132 5 1 (dk_at dksX8_init_3 0 rfl rfl)
theorem dX8_init_72 : decode cX8_init 72 = .ok (.goto (-39), 3) := dk_167 255 217 (dk_at dksX8_init_3 3 rfl rfl)
theorem dX8_init_75 : decode cX8_init 75 = .ok (.iconst 0, 1) := dk_3 (dk_at dksX8_init_3 6 rfl rfl)
theorem dX8_init_76 : decode cX8_init 76 = .ok (.istore 5, 2) := dk_54 5 (dk_at dksX8_init_3 7 rfl rfl)
theorem dX8_init_78 : decode cX8_init 78 = .ok (.iload 5, 2) := dk_21 5 (dk_at dksX8_init_3 9 rfl rfl)
theorem dX8_init_80 : decode cX8_init 80 = .ok (.aload_n 0, 1) := dk_42 (dk_at dksX8_init_3 11 rfl rfl)
theorem dX8_init_81 : decode cX8_init 81 = .ok (.getfield 12, 3) := dk_180 0 12 (dk_at dksX8_init_3 12 rfl rfl)
theorem dX8_init_84 : decode cX8_init 84 = .ok (.invokeinterface 46 1, 5) := by decide +kernel
theorem dX8_init_89 : decode cX8_init 89 = .ok (.if_icmp .ge 27, 3) := dk_162 0 27 (dk_at dksX8_init_3 20 rfl rfl)
theorem dX8_init_92 : decode cX8_init 92 = .ok (.aload_n 0, 1) := dk_42 (dk_at dksX8_init_3 23 rfl rfl)
theorem dX8_init_93 : decode cX8_init 93 = .ok (.aload_n 0, 1) := dk_42 (dk_at dksX8_init_4 0 rfl rfl)
theorem dX8_init_94 : decode cX8_init 94 = .ok (.getfield 12, 3) := dk_180 0 12 (dk_at dksX8_init_4 1 rfl rfl)
theorem dX8_init_97 : decode cX8_init 97 = .ok (.iload 5, 2) := dk_21 5 (dk_at dksX8_init_4 4 rfl rfl)
theorem dX8_init_99 : decode cX8_init 99 = .ok (.invokeinterface 52 2, 5) := by decide +kernel
theorem dX8_init_104 : decode cX8_init 104 = .ok (.checkcast 34, 3) := dk_192 0 34 (dk_at dksX8_init_4 11 rfl rfl)
theorem dX8_init_107 : decode cX8_init 107 = .ok (.invokevirtual 56, 3) := dk_182 0 56 (dk_at dksX8_init_4 14 rfl rfl)
theorem dX8_init_110 : decode cX8_init 110 = .ok (.iinc 5 1, 3) := dk_132 5 1 (dk_at dksX8_init_4 17 rfl rfl)
theorem dX8_init_113 : decode cX8_init 113 = .ok (.goto (-35), 3) := dk_167 255 221 (dk_at dksX8_init_4 20 rfl rfl)
theorem dX8_init_116 : decode cX8_init 116 = .ok (.aload_n 0, 1) := dk_42 (dk_at dksX8_init_4 23 rfl rfl)
theorem dX8_init_117 : decode cX8_init 117 = .ok (.invokevirtual 59, 3) := dk_182 0 59 (dk_at dksX8_init_5 0 rfl rfl)
theorem dX8_init_120 : decode cX8_init 120 = .ok (.return_, 1) := dk_177 (dk_at dksX8_init_5 3 rfl rfl)
abbrev cX8_lifeOf : ByteArray := prog_7_method_3_code
def yX8_lifeOf : MethodName := ⟨RX8, "lifeOf", "(I)LSpillslotWorks$Life;"⟩
def dkwX8_lifeOf_3 : List UInt8 := [132, 3, 1, 167, 255, 194, 44, 176]
abbrev dktX8_lifeOf_3 : List UInt8 := dkwX8_lifeOf_3 ++ []
def dkwX8_lifeOf_2 : List UInt8 := [25, 4, 27, 182, 0, 79, 158, 0, 16, 44, 29, 25, 4, 42, 25, 4, 182, 0, 83, 182, 0, 87]
abbrev dktX8_lifeOf_2 : List UInt8 := dkwX8_lifeOf_2 ++ dktX8_lifeOf_3
def dkwX8_lifeOf_1 : List UInt8 := [42, 180, 0, 18, 29, 185, 0, 52, 2, 0, 192, 0, 63, 58, 4, 25, 4, 180, 0, 76, 27, 159, 0, 12]
abbrev dktX8_lifeOf_1 : List UInt8 := dkwX8_lifeOf_1 ++ dktX8_lifeOf_2
def dkwX8_lifeOf_0 : List UInt8 := [187, 0, 34, 89, 27, 183, 0, 73, 77, 3, 62, 29, 42, 180, 0, 18, 185, 0, 46, 1, 0, 162, 0, 55]
abbrev dktX8_lifeOf_0 : List UInt8 := dkwX8_lifeOf_0 ++ dktX8_lifeOf_1
theorem dksX8_lifeOf_0 : cX8_lifeOf.data.toList.drop 0 = dktX8_lifeOf_0 := by decide +kernel
theorem dksX8_lifeOf_1 : cX8_lifeOf.data.toList.drop 24 = dktX8_lifeOf_1 := dk_seg dksX8_lifeOf_0 24 rfl rfl
theorem dksX8_lifeOf_2 : cX8_lifeOf.data.toList.drop 48 = dktX8_lifeOf_2 := dk_seg dksX8_lifeOf_1 24 rfl rfl
theorem dksX8_lifeOf_3 : cX8_lifeOf.data.toList.drop 70 = dktX8_lifeOf_3 := dk_seg dksX8_lifeOf_2 22 rfl rfl
theorem dX8_lifeOf_0 : decode cX8_lifeOf 0 = .ok (.new 34, 3) := dk_187 0 34 (dk_at dksX8_lifeOf_0 0 rfl rfl)
theorem dX8_lifeOf_3 : decode cX8_lifeOf 3 = .ok (.dup, 1) := dk_89 (dk_at dksX8_lifeOf_0 3 rfl rfl)
theorem dX8_lifeOf_4 : decode cX8_lifeOf 4 = .ok (.iload_n 1, 1) := dk_27 (dk_at dksX8_lifeOf_0 4 rfl rfl)
theorem dX8_lifeOf_5 : decode cX8_lifeOf 5 = .ok (.invokespecial 73, 3) := dk_183 0 73 (dk_at dksX8_lifeOf_0 5 rfl rfl)
theorem dX8_lifeOf_8 : decode cX8_lifeOf 8 = .ok (.astore_n 2, 1) := dk_77 (dk_at dksX8_lifeOf_0 8 rfl rfl)
theorem dX8_lifeOf_9 : decode cX8_lifeOf 9 = .ok (.iconst 0, 1) := dk_3 (dk_at dksX8_lifeOf_0 9 rfl rfl)
theorem dX8_lifeOf_10 : decode cX8_lifeOf 10 = .ok (.istore_n 3, 1) := dk_62 (dk_at dksX8_lifeOf_0 10 rfl rfl)
theorem dX8_lifeOf_11 : decode cX8_lifeOf 11 = .ok (.iload_n 3, 1) := dk_29 (dk_at dksX8_lifeOf_0 11 rfl rfl)
theorem dX8_lifeOf_12 : decode cX8_lifeOf 12 = .ok (.aload_n 0, 1) := dk_42 (dk_at dksX8_lifeOf_0 12 rfl rfl)
theorem dX8_lifeOf_13 : decode cX8_lifeOf 13 = .ok (.getfield 18, 3) := dk_180 0 18 (dk_at dksX8_lifeOf_0 13 rfl rfl)
theorem dX8_lifeOf_16 : decode cX8_lifeOf 16 = .ok (.invokeinterface 46 1, 5) := by decide +kernel
theorem dX8_lifeOf_21 : decode cX8_lifeOf 21 = .ok (.if_icmp .ge 55, 3) := dk_162 0 55 (dk_at dksX8_lifeOf_0 21 rfl rfl)
theorem dX8_lifeOf_24 : decode cX8_lifeOf 24 = .ok (.aload_n 0, 1) := dk_42 (dk_at dksX8_lifeOf_1 0 rfl rfl)
theorem dX8_lifeOf_25 : decode cX8_lifeOf 25 = .ok (.getfield 18, 3) := dk_180 0 18 (dk_at dksX8_lifeOf_1 1 rfl rfl)
theorem dX8_lifeOf_28 : decode cX8_lifeOf 28 = .ok (.iload_n 3, 1) := dk_29 (dk_at dksX8_lifeOf_1 4 rfl rfl)
theorem dX8_lifeOf_29 : decode cX8_lifeOf 29 = .ok (.invokeinterface 52 2, 5) := by decide +kernel
theorem dX8_lifeOf_34 : decode cX8_lifeOf 34 = .ok (.checkcast 63, 3) := dk_192 0 63 (dk_at dksX8_lifeOf_1 10 rfl rfl)
theorem dX8_lifeOf_37 : decode cX8_lifeOf 37 = .ok (.astore 4, 2) := dk_58 4 (dk_at dksX8_lifeOf_1 13 rfl rfl)
theorem dX8_lifeOf_39 : decode cX8_lifeOf 39 = .ok (.aload 4, 2) := dk_25 4 (dk_at dksX8_lifeOf_1 15 rfl rfl)
theorem dX8_lifeOf_41 : decode cX8_lifeOf 41 = .ok (.getfield 76, 3) := dk_180 0 76 (dk_at dksX8_lifeOf_1 17 rfl rfl)
theorem dX8_lifeOf_44 : decode cX8_lifeOf 44 = .ok (.iload_n 1, 1) := dk_27 (dk_at dksX8_lifeOf_1 20 rfl rfl)
theorem dX8_lifeOf_45 : decode cX8_lifeOf 45 = .ok (.if_icmp .eq 12, 3) := dk_159 0 12 (dk_at dksX8_lifeOf_1 21 rfl rfl)
theorem dX8_lifeOf_48 : decode cX8_lifeOf 48 = .ok (.aload 4, 2) := dk_25 4 (dk_at dksX8_lifeOf_2 0 rfl rfl)
theorem dX8_lifeOf_50 : decode cX8_lifeOf 50 = .ok (.iload_n 1, 1) := dk_27 (dk_at dksX8_lifeOf_2 2 rfl rfl)
theorem dX8_lifeOf_51 : decode cX8_lifeOf 51 = .ok (.invokevirtual 79, 3) := dk_182 0 79 (dk_at dksX8_lifeOf_2 3 rfl rfl)
theorem dX8_lifeOf_54 : decode cX8_lifeOf 54 = .ok (.ifCond .le 16, 3) := dk_158 0 16 (dk_at dksX8_lifeOf_2 6 rfl rfl)
theorem dX8_lifeOf_57 : decode cX8_lifeOf 57 = .ok (.aload_n 2, 1) := dk_44 (dk_at dksX8_lifeOf_2 9 rfl rfl)
theorem dX8_lifeOf_58 : decode cX8_lifeOf 58 = .ok (.iload_n 3, 1) := dk_29 (dk_at dksX8_lifeOf_2 10 rfl rfl)
theorem dX8_lifeOf_59 : decode cX8_lifeOf 59 = .ok (.aload 4, 2) := dk_25 4 (dk_at dksX8_lifeOf_2 11 rfl rfl)
theorem dX8_lifeOf_61 : decode cX8_lifeOf 61 = .ok (.aload_n 0, 1) := dk_42 (dk_at dksX8_lifeOf_2 13 rfl rfl)
theorem dX8_lifeOf_62 : decode cX8_lifeOf 62 = .ok (.aload 4, 2) := dk_25 4 (dk_at dksX8_lifeOf_2 14 rfl rfl)
theorem dX8_lifeOf_64 : decode cX8_lifeOf 64 = .ok (.invokevirtual 83, 3) := dk_182 0 83 (dk_at dksX8_lifeOf_2 16 rfl rfl)
theorem dX8_lifeOf_67 : decode cX8_lifeOf 67 = .ok (.invokevirtual 87, 3) := dk_182 0 87 (dk_at dksX8_lifeOf_2 19 rfl rfl)
theorem dX8_lifeOf_70 : decode cX8_lifeOf 70 = .ok (.iinc 3 1, 3) := dk_132 3 1 (dk_at dksX8_lifeOf_3 0 rfl rfl)
theorem dX8_lifeOf_73 : decode cX8_lifeOf 73 = .ok (.goto (-62), 3) := dk_167 255 194 (dk_at dksX8_lifeOf_3 3 rfl rfl)
theorem dX8_lifeOf_76 : decode cX8_lifeOf 76 = .ok (.aload_n 2, 1) := dk_44 (dk_at dksX8_lifeOf_3 6 rfl rfl)
theorem dX8_lifeOf_77 : decode cX8_lifeOf 77 = .ok (.areturn, 1) := dk_176 (dk_at dksX8_lifeOf_3 7 rfl rfl)
abbrev cX8_timesOf : ByteArray := prog_7_method_2_code
def yX8_timesOf : MethodName := ⟨RX8, "timesOf", "(LSpillslotWorks$Op;)I"⟩
def dkwX8_timesOf_1 : List UInt8 := [172]
abbrev dktX8_timesOf_1 : List UInt8 := dkwX8_timesOf_1 ++ []
def dkwX8_timesOf_0 : List UInt8 := [43, 180, 0, 62, 2, 160, 0, 7, 4, 167, 0, 15, 42, 180, 0, 21, 180, 0, 67, 43, 180, 0, 62, 46]
abbrev dktX8_timesOf_0 : List UInt8 := dkwX8_timesOf_0 ++ dktX8_timesOf_1
theorem dksX8_timesOf_0 : cX8_timesOf.data.toList.drop 0 = dktX8_timesOf_0 := by decide +kernel
theorem dksX8_timesOf_1 : cX8_timesOf.data.toList.drop 24 = dktX8_timesOf_1 := dk_seg dksX8_timesOf_0 24 rfl rfl
theorem dX8_timesOf_0 : decode cX8_timesOf 0 = .ok (.aload_n 1, 1) := dk_43 (dk_at dksX8_timesOf_0 0 rfl rfl)
theorem dX8_timesOf_1 : decode cX8_timesOf 1 = .ok (.getfield 62, 3) := dk_180 0 62 (dk_at dksX8_timesOf_0 1 rfl rfl)
theorem dX8_timesOf_4 : decode cX8_timesOf 4 = .ok (.iconst (-1), 1) := dk_2 (dk_at dksX8_timesOf_0 4 rfl rfl)
theorem dX8_timesOf_5 : decode cX8_timesOf 5 = .ok (.if_icmp .ne 7, 3) := dk_160 0 7 (dk_at dksX8_timesOf_0 5 rfl rfl)
theorem dX8_timesOf_8 : decode cX8_timesOf 8 = .ok (.iconst 1, 1) := dk_4 (dk_at dksX8_timesOf_0 8 rfl rfl)
theorem dX8_timesOf_9 : decode cX8_timesOf 9 = .ok (.goto 15, 3) := dk_167 0 15 (dk_at dksX8_timesOf_0 9 rfl rfl)
theorem dX8_timesOf_12 : decode cX8_timesOf 12 = .ok (.aload_n 0, 1) := dk_42 (dk_at dksX8_timesOf_0 12 rfl rfl)
theorem dX8_timesOf_13 : decode cX8_timesOf 13 = .ok (.getfield 21, 3) := dk_180 0 21 (dk_at dksX8_timesOf_0 13 rfl rfl)
theorem dX8_timesOf_16 : decode cX8_timesOf 16 = .ok (.getfield 67, 3) := dk_180 0 67 (dk_at dksX8_timesOf_0 16 rfl rfl)
theorem dX8_timesOf_19 : decode cX8_timesOf 19 = .ok (.aload_n 1, 1) := dk_43 (dk_at dksX8_timesOf_0 19 rfl rfl)
theorem dX8_timesOf_20 : decode cX8_timesOf 20 = .ok (.getfield 62, 3) := dk_180 0 62 (dk_at dksX8_timesOf_0 20 rfl rfl)
theorem dX8_timesOf_23 : decode cX8_timesOf 23 = .ok (.iaload, 1) := dk_46 (dk_at dksX8_timesOf_0 23 rfl rfl)
theorem dX8_timesOf_24 : decode cX8_timesOf 24 = .ok (.ireturn, 1) := dk_172 (dk_at dksX8_timesOf_1 0 rfl rfl)
abbrev cX8_stretch : ByteArray := prog_7_method_5_code
def yX8_stretch : MethodName := ⟨RX8, "stretch", "(LSpillslotWorks$Life;)V"⟩
def dkwX8_stretch_7 : List UInt8 := [167, 255, 197, 177]
abbrev dktX8_stretch_7 : List UInt8 := dkwX8_stretch_7 ++ []
def dkwX8_stretch_6 : List UInt8 := [153, 0, 15, 43, 29, 182, 0, 115, 153, 0, 7, 4, 167, 0, 4, 3, 96, 181, 0, 108, 132, 3, 1]
abbrev dktX8_stretch_6 : List UInt8 := dkwX8_stretch_6 ++ dktX8_stretch_7
def dkwX8_stretch_5 : List UInt8 := [89, 180, 0, 108, 42, 180, 0, 18, 29, 185, 0, 52, 2, 0, 192, 0, 63, 16, 9, 182, 0, 111]
abbrev dktX8_stretch_5 : List UInt8 := dkwX8_stretch_5 ++ dktX8_stretch_6
def dkwX8_stretch_4 : List UInt8 := [28, 4, 182, 0, 104, 181, 0, 91, 3, 62, 29, 42, 180, 0, 18, 185, 0, 46, 1, 0, 162, 0, 52, 43]
abbrev dktX8_stretch_4 : List UInt8 := dkwX8_stretch_4 ++ dktX8_stretch_5
def dkwX8_stretch_3 : List UInt8 := [180, 0, 67, 28, 46, 4, 164, 0, 26, 43, 180, 0, 33, 42, 28, 3, 182, 0, 104, 162, 0, 13, 43, 42]
abbrev dktX8_stretch_3 : List UInt8 := dkwX8_stretch_3 ++ dktX8_stretch_4
def dkwX8_stretch_2 : List UInt8 := [180, 0, 18, 185, 0, 46, 1, 0, 181, 0, 91, 167, 0, 44, 28, 2, 159, 0, 39, 42, 180, 0, 21]
abbrev dktX8_stretch_2 : List UInt8 := dkwX8_stretch_2 ++ dktX8_stretch_3
def dkwX8_stretch_1 : List UInt8 := [16, 8, 162, 0, 36, 42, 180, 0, 21, 180, 0, 97, 43, 180, 0, 94, 184, 0, 100, 153, 0, 19, 43, 42]
abbrev dktX8_stretch_1 : List UInt8 := dkwX8_stretch_1 ++ dktX8_stretch_2
def dkwX8_stretch_0 : List UInt8 := [42, 180, 0, 18, 43, 180, 0, 91, 185, 0, 52, 2, 0, 192, 0, 63, 180, 0, 62, 61, 43, 180, 0, 94]
abbrev dktX8_stretch_0 : List UInt8 := dkwX8_stretch_0 ++ dktX8_stretch_1
theorem dksX8_stretch_0 : cX8_stretch.data.toList.drop 0 = dktX8_stretch_0 := by decide +kernel
theorem dksX8_stretch_1 : cX8_stretch.data.toList.drop 24 = dktX8_stretch_1 := dk_seg dksX8_stretch_0 24 rfl rfl
theorem dksX8_stretch_2 : cX8_stretch.data.toList.drop 48 = dktX8_stretch_2 := dk_seg dksX8_stretch_1 24 rfl rfl
theorem dksX8_stretch_3 : cX8_stretch.data.toList.drop 71 = dktX8_stretch_3 := dk_seg dksX8_stretch_2 23 rfl rfl
theorem dksX8_stretch_4 : cX8_stretch.data.toList.drop 95 = dktX8_stretch_4 := dk_seg dksX8_stretch_3 24 rfl rfl
theorem dksX8_stretch_5 : cX8_stretch.data.toList.drop 119 = dktX8_stretch_5 := dk_seg dksX8_stretch_4 24 rfl rfl
theorem dksX8_stretch_6 : cX8_stretch.data.toList.drop 141 = dktX8_stretch_6 := dk_seg dksX8_stretch_5 22 rfl rfl
theorem dksX8_stretch_7 : cX8_stretch.data.toList.drop 164 = dktX8_stretch_7 := dk_seg dksX8_stretch_6 23 rfl rfl
theorem dX8_stretch_0 : decode cX8_stretch 0 = .ok (.aload_n 0, 1) := dk_42 (dk_at dksX8_stretch_0 0 rfl rfl)
theorem dX8_stretch_1 : decode cX8_stretch 1 = .ok (.getfield 18, 3) := dk_180 0 18 (dk_at dksX8_stretch_0 1 rfl rfl)
theorem dX8_stretch_4 : decode cX8_stretch 4 = .ok (.aload_n 1, 1) := dk_43 (dk_at dksX8_stretch_0 4 rfl rfl)
theorem dX8_stretch_5 : decode cX8_stretch 5 = .ok (.getfield 91, 3) := dk_180 0 91 (dk_at dksX8_stretch_0 5 rfl rfl)
theorem dX8_stretch_8 : decode cX8_stretch 8 = .ok (.invokeinterface 52 2, 5) := by decide +kernel
theorem dX8_stretch_13 : decode cX8_stretch 13 = .ok (.checkcast 63, 3) := dk_192 0 63 (dk_at dksX8_stretch_0 13 rfl rfl)
theorem dX8_stretch_16 : decode cX8_stretch 16 = .ok (.getfield 62, 3) := dk_180 0 62 (dk_at dksX8_stretch_0 16 rfl rfl)
theorem dX8_stretch_19 : decode cX8_stretch 19 = .ok (.istore_n 2, 1) := dk_61 (dk_at dksX8_stretch_0 19 rfl rfl)
theorem dX8_stretch_20 : decode cX8_stretch 20 = .ok (.aload_n 1, 1) := dk_43 (dk_at dksX8_stretch_0 20 rfl rfl)
theorem dX8_stretch_21 : decode cX8_stretch 21 = .ok (.getfield 94, 3) := dk_180 0 94 (dk_at dksX8_stretch_0 21 rfl rfl)
theorem dX8_stretch_24 : decode cX8_stretch 24 = .ok (.bipush 8, 2) := dk_16 8 (dk_at dksX8_stretch_1 0 rfl rfl)
theorem dX8_stretch_26 : decode cX8_stretch 26 = .ok (.if_icmp .ge 36, 3) := dk_162 0 36 (dk_at dksX8_stretch_1 2 rfl rfl)
theorem dX8_stretch_29 : decode cX8_stretch 29 = .ok (.aload_n 0, 1) := dk_42 (dk_at dksX8_stretch_1 5 rfl rfl)
theorem dX8_stretch_30 : decode cX8_stretch 30 = .ok (.getfield 21, 3) := dk_180 0 21 (dk_at dksX8_stretch_1 6 rfl rfl)
theorem dX8_stretch_33 : decode cX8_stretch 33 = .ok (.getfield 97, 3) := dk_180 0 97 (dk_at dksX8_stretch_1 9 rfl rfl)
theorem dX8_stretch_36 : decode cX8_stretch 36 = .ok (.aload_n 1, 1) := dk_43 (dk_at dksX8_stretch_1 12 rfl rfl)
theorem dX8_stretch_37 : decode cX8_stretch 37 = .ok (.getfield 94, 3) := dk_180 0 94 (dk_at dksX8_stretch_1 13 rfl rfl)
theorem dX8_stretch_40 : decode cX8_stretch 40 = .ok (.invokestatic 100, 3) := dk_184 0 100 (dk_at dksX8_stretch_1 16 rfl rfl)
theorem dX8_stretch_43 : decode cX8_stretch 43 = .ok (.ifCond .eq 19, 3) := dk_153 0 19 (dk_at dksX8_stretch_1 19 rfl rfl)
theorem dX8_stretch_46 : decode cX8_stretch 46 = .ok (.aload_n 1, 1) := dk_43 (dk_at dksX8_stretch_1 22 rfl rfl)
theorem dX8_stretch_47 : decode cX8_stretch 47 = .ok (.aload_n 0, 1) := dk_42 (dk_at dksX8_stretch_1 23 rfl rfl)
theorem dX8_stretch_48 : decode cX8_stretch 48 = .ok (.getfield 18, 3) := dk_180 0 18 (dk_at dksX8_stretch_2 0 rfl rfl)
theorem dX8_stretch_51 : decode cX8_stretch 51 = .ok (.invokeinterface 46 1, 5) := by decide +kernel
theorem dX8_stretch_56 : decode cX8_stretch 56 = .ok (.putfield 91, 3) := dk_181 0 91 (dk_at dksX8_stretch_2 8 rfl rfl)
theorem dX8_stretch_59 : decode cX8_stretch 59 = .ok (.goto 44, 3) := dk_167 0 44 (dk_at dksX8_stretch_2 11 rfl rfl)
theorem dX8_stretch_62 : decode cX8_stretch 62 = .ok (.iload_n 2, 1) := dk_28 (dk_at dksX8_stretch_2 14 rfl rfl)
theorem dX8_stretch_63 : decode cX8_stretch 63 = .ok (.iconst (-1), 1) := dk_2 (dk_at dksX8_stretch_2 15 rfl rfl)
theorem dX8_stretch_64 : decode cX8_stretch 64 = .ok (.if_icmp .eq 39, 3) := dk_159 0 39 (dk_at dksX8_stretch_2 16 rfl rfl)
theorem dX8_stretch_67 : decode cX8_stretch 67 = .ok (.aload_n 0, 1) := dk_42 (dk_at dksX8_stretch_2 19 rfl rfl)
theorem dX8_stretch_68 : decode cX8_stretch 68 = .ok (.getfield 21, 3) := dk_180 0 21 (dk_at dksX8_stretch_2 20 rfl rfl)
theorem dX8_stretch_71 : decode cX8_stretch 71 = .ok (.getfield 67, 3) := dk_180 0 67 (dk_at dksX8_stretch_3 0 rfl rfl)
theorem dX8_stretch_74 : decode cX8_stretch 74 = .ok (.iload_n 2, 1) := dk_28 (dk_at dksX8_stretch_3 3 rfl rfl)
theorem dX8_stretch_75 : decode cX8_stretch 75 = .ok (.iaload, 1) := dk_46 (dk_at dksX8_stretch_3 4 rfl rfl)
theorem dX8_stretch_76 : decode cX8_stretch 76 = .ok (.iconst 1, 1) := dk_4 (dk_at dksX8_stretch_3 5 rfl rfl)
theorem dX8_stretch_77 : decode cX8_stretch 77 = .ok (.if_icmp .le 26, 3) := dk_164 0 26 (dk_at dksX8_stretch_3 6 rfl rfl)
theorem dX8_stretch_80 : decode cX8_stretch 80 = .ok (.aload_n 1, 1) := dk_43 (dk_at dksX8_stretch_3 9 rfl rfl)
theorem dX8_stretch_81 : decode cX8_stretch 81 = .ok (.getfield 33, 3) := dk_180 0 33 (dk_at dksX8_stretch_3 10 rfl rfl)
theorem dX8_stretch_84 : decode cX8_stretch 84 = .ok (.aload_n 0, 1) := dk_42 (dk_at dksX8_stretch_3 13 rfl rfl)
theorem dX8_stretch_85 : decode cX8_stretch 85 = .ok (.iload_n 2, 1) := dk_28 (dk_at dksX8_stretch_3 14 rfl rfl)
theorem dX8_stretch_86 : decode cX8_stretch 86 = .ok (.iconst 0, 1) := dk_3 (dk_at dksX8_stretch_3 15 rfl rfl)
theorem dX8_stretch_87 : decode cX8_stretch 87 = .ok (.invokevirtual 104, 3) := dk_182 0 104 (dk_at dksX8_stretch_3 16 rfl rfl)
theorem dX8_stretch_90 : decode cX8_stretch 90 = .ok (.if_icmp .ge 13, 3) := dk_162 0 13 (dk_at dksX8_stretch_3 19 rfl rfl)
theorem dX8_stretch_93 : decode cX8_stretch 93 = .ok (.aload_n 1, 1) := dk_43 (dk_at dksX8_stretch_3 22 rfl rfl)
theorem dX8_stretch_94 : decode cX8_stretch 94 = .ok (.aload_n 0, 1) := dk_42 (dk_at dksX8_stretch_3 23 rfl rfl)
theorem dX8_stretch_95 : decode cX8_stretch 95 = .ok (.iload_n 2, 1) := dk_28 (dk_at dksX8_stretch_4 0 rfl rfl)
theorem dX8_stretch_96 : decode cX8_stretch 96 = .ok (.iconst 1, 1) := dk_4 (dk_at dksX8_stretch_4 1 rfl rfl)
theorem dX8_stretch_97 : decode cX8_stretch 97 = .ok (.invokevirtual 104, 3) := dk_182 0 104 (dk_at dksX8_stretch_4 2 rfl rfl)
theorem dX8_stretch_100 : decode cX8_stretch 100 = .ok (.putfield 91, 3) := dk_181 0 91 (dk_at dksX8_stretch_4 5 rfl rfl)
theorem dX8_stretch_103 : decode cX8_stretch 103 = .ok (.iconst 0, 1) := dk_3 (dk_at dksX8_stretch_4 8 rfl rfl)
theorem dX8_stretch_104 : decode cX8_stretch 104 = .ok (.istore_n 3, 1) := dk_62 (dk_at dksX8_stretch_4 9 rfl rfl)
theorem dX8_stretch_105 : decode cX8_stretch 105 = .ok (.iload_n 3, 1) := dk_29 (dk_at dksX8_stretch_4 10 rfl rfl)
theorem dX8_stretch_106 : decode cX8_stretch 106 = .ok (.aload_n 0, 1) := dk_42 (dk_at dksX8_stretch_4 11 rfl rfl)
theorem dX8_stretch_107 : decode cX8_stretch 107 = .ok (.getfield 18, 3) := dk_180 0 18 (dk_at dksX8_stretch_4 12 rfl rfl)
theorem dX8_stretch_110 : decode cX8_stretch 110 = .ok (.invokeinterface 46 1, 5) := by decide +kernel
theorem dX8_stretch_115 : decode cX8_stretch 115 = .ok (.if_icmp .ge 52, 3) := dk_162 0 52 (dk_at dksX8_stretch_4 20 rfl rfl)
theorem dX8_stretch_118 : decode cX8_stretch 118 = .ok (.aload_n 1, 1) := dk_43 (dk_at dksX8_stretch_4 23 rfl rfl)
theorem dX8_stretch_119 : decode cX8_stretch 119 = .ok (.dup, 1) := dk_89 (dk_at dksX8_stretch_5 0 rfl rfl)
theorem dX8_stretch_120 : decode cX8_stretch 120 = .ok (.getfield 108, 3) := dk_180 0 108 (dk_at dksX8_stretch_5 1 rfl rfl)
theorem dX8_stretch_123 : decode cX8_stretch 123 = .ok (.aload_n 0, 1) := dk_42 (dk_at dksX8_stretch_5 4 rfl rfl)
theorem dX8_stretch_124 : decode cX8_stretch 124 = .ok (.getfield 18, 3) := dk_180 0 18 (dk_at dksX8_stretch_5 5 rfl rfl)
theorem dX8_stretch_127 : decode cX8_stretch 127 = .ok (.iload_n 3, 1) := dk_29 (dk_at dksX8_stretch_5 8 rfl rfl)
theorem dX8_stretch_128 : decode cX8_stretch 128 = .ok (.invokeinterface 52 2, 5) := by decide +kernel
theorem dX8_stretch_133 : decode cX8_stretch 133 = .ok (.checkcast 63, 3) := dk_192 0 63 (dk_at dksX8_stretch_5 14 rfl rfl)
theorem dX8_stretch_136 : decode cX8_stretch 136 = .ok (.bipush 9, 2) := dk_16 9 (dk_at dksX8_stretch_5 17 rfl rfl)
theorem dX8_stretch_138 : decode cX8_stretch 138 = .ok (.invokevirtual 111, 3) := dk_182 0 111 (dk_at dksX8_stretch_5 19 rfl rfl)
theorem dX8_stretch_141 : decode cX8_stretch 141 = .ok (.ifCond .eq 15, 3) := dk_153 0 15 (dk_at dksX8_stretch_6 0 rfl rfl)
theorem dX8_stretch_144 : decode cX8_stretch 144 = .ok (.aload_n 1, 1) := dk_43 (dk_at dksX8_stretch_6 3 rfl rfl)
theorem dX8_stretch_145 : decode cX8_stretch 145 = .ok (.iload_n 3, 1) := dk_29 (dk_at dksX8_stretch_6 4 rfl rfl)
theorem dX8_stretch_146 : decode cX8_stretch 146 = .ok (.invokevirtual 115, 3) := dk_182 0 115 (dk_at dksX8_stretch_6 5 rfl rfl)
theorem dX8_stretch_149 : decode cX8_stretch 149 = .ok (.ifCond .eq 7, 3) := dk_153 0 7 (dk_at dksX8_stretch_6 8 rfl rfl)
theorem dX8_stretch_152 : decode cX8_stretch 152 = .ok (.iconst 1, 1) := dk_4 (dk_at dksX8_stretch_6 11 rfl rfl)
theorem dX8_stretch_153 : decode cX8_stretch 153 = .ok (.goto 4, 3) := dk_167 0 4 (dk_at dksX8_stretch_6 12 rfl rfl)
theorem dX8_stretch_156 : decode cX8_stretch 156 = .ok (.iconst 0, 1) := dk_3 (dk_at dksX8_stretch_6 15 rfl rfl)
theorem dX8_stretch_157 : decode cX8_stretch 157 = .ok (.iadd, 1) := dk_96 (dk_at dksX8_stretch_6 16 rfl rfl)
theorem dX8_stretch_158 : decode cX8_stretch 158 = .ok (.putfield 108, 3) := dk_181 0 108 (dk_at dksX8_stretch_6 17 rfl rfl)
theorem dX8_stretch_161 : decode cX8_stretch 161 = .ok (.iinc 3 1, 3) := dk_132 3 1 (dk_at dksX8_stretch_6 20 rfl rfl)
theorem dX8_stretch_164 : decode cX8_stretch 164 = .ok (.goto (-59), 3) := dk_167 255 197 (dk_at dksX8_stretch_7 0 rfl rfl)
theorem dX8_stretch_167 : decode cX8_stretch 167 = .ok (.return_, 1) := dk_177 (dk_at dksX8_stretch_7 3 rfl rfl)
abbrev cX8_edge : ByteArray := prog_7_method_4_code
def yX8_edge : MethodName := ⟨RX8, "edge", "(IZ)I"⟩
def dkwX8_edge_2 : List UInt8 := [96, 167, 0, 14, 29, 2, 160, 0, 8, 21, 4, 167, 0, 4, 29, 62, 132, 4, 1, 167, 255, 195, 29, 172]
abbrev dktX8_edge_2 : List UInt8 := dkwX8_edge_2 ++ []
def dkwX8_edge_1 : List UInt8 := [21, 4, 185, 0, 52, 2, 0, 192, 0, 63, 180, 0, 62, 27, 160, 0, 26, 28, 153, 0, 10, 21, 4, 4]
abbrev dktX8_edge_1 : List UInt8 := dkwX8_edge_1 ++ dktX8_edge_2
def dkwX8_edge_0 : List UInt8 := [2, 62, 3, 54, 4, 21, 4, 42, 180, 0, 18, 185, 0, 46, 1, 0, 162, 0, 53, 42, 180, 0, 18]
abbrev dktX8_edge_0 : List UInt8 := dkwX8_edge_0 ++ dktX8_edge_1
theorem dksX8_edge_0 : cX8_edge.data.toList.drop 0 = dktX8_edge_0 := by decide +kernel
theorem dksX8_edge_1 : cX8_edge.data.toList.drop 23 = dktX8_edge_1 := dk_seg dksX8_edge_0 23 rfl rfl
theorem dksX8_edge_2 : cX8_edge.data.toList.drop 47 = dktX8_edge_2 := dk_seg dksX8_edge_1 24 rfl rfl
theorem dX8_edge_0 : decode cX8_edge 0 = .ok (.iconst (-1), 1) := dk_2 (dk_at dksX8_edge_0 0 rfl rfl)
theorem dX8_edge_1 : decode cX8_edge 1 = .ok (.istore_n 3, 1) := dk_62 (dk_at dksX8_edge_0 1 rfl rfl)
theorem dX8_edge_2 : decode cX8_edge 2 = .ok (.iconst 0, 1) := dk_3 (dk_at dksX8_edge_0 2 rfl rfl)
theorem dX8_edge_3 : decode cX8_edge 3 = .ok (.istore 4, 2) := dk_54 4 (dk_at dksX8_edge_0 3 rfl rfl)
theorem dX8_edge_5 : decode cX8_edge 5 = .ok (.iload 4, 2) := dk_21 4 (dk_at dksX8_edge_0 5 rfl rfl)
theorem dX8_edge_7 : decode cX8_edge 7 = .ok (.aload_n 0, 1) := dk_42 (dk_at dksX8_edge_0 7 rfl rfl)
theorem dX8_edge_8 : decode cX8_edge 8 = .ok (.getfield 18, 3) := dk_180 0 18 (dk_at dksX8_edge_0 8 rfl rfl)
theorem dX8_edge_11 : decode cX8_edge 11 = .ok (.invokeinterface 46 1, 5) := by decide +kernel
theorem dX8_edge_16 : decode cX8_edge 16 = .ok (.if_icmp .ge 53, 3) := dk_162 0 53 (dk_at dksX8_edge_0 16 rfl rfl)
theorem dX8_edge_19 : decode cX8_edge 19 = .ok (.aload_n 0, 1) := dk_42 (dk_at dksX8_edge_0 19 rfl rfl)
theorem dX8_edge_20 : decode cX8_edge 20 = .ok (.getfield 18, 3) := dk_180 0 18 (dk_at dksX8_edge_0 20 rfl rfl)
theorem dX8_edge_23 : decode cX8_edge 23 = .ok (.iload 4, 2) := dk_21 4 (dk_at dksX8_edge_1 0 rfl rfl)
theorem dX8_edge_25 : decode cX8_edge 25 = .ok (.invokeinterface 52 2, 5) := by decide +kernel
theorem dX8_edge_30 : decode cX8_edge 30 = .ok (.checkcast 63, 3) := dk_192 0 63 (dk_at dksX8_edge_1 7 rfl rfl)
theorem dX8_edge_33 : decode cX8_edge 33 = .ok (.getfield 62, 3) := dk_180 0 62 (dk_at dksX8_edge_1 10 rfl rfl)
theorem dX8_edge_36 : decode cX8_edge 36 = .ok (.iload_n 1, 1) := dk_27 (dk_at dksX8_edge_1 13 rfl rfl)
theorem dX8_edge_37 : decode cX8_edge 37 = .ok (.if_icmp .ne 26, 3) := dk_160 0 26 (dk_at dksX8_edge_1 14 rfl rfl)
theorem dX8_edge_40 : decode cX8_edge 40 = .ok (.iload_n 2, 1) := dk_28 (dk_at dksX8_edge_1 17 rfl rfl)
theorem dX8_edge_41 : decode cX8_edge 41 = .ok (.ifCond .eq 10, 3) := dk_153 0 10 (dk_at dksX8_edge_1 18 rfl rfl)
theorem dX8_edge_44 : decode cX8_edge 44 = .ok (.iload 4, 2) := dk_21 4 (dk_at dksX8_edge_1 21 rfl rfl)
theorem dX8_edge_46 : decode cX8_edge 46 = .ok (.iconst 1, 1) := dk_4 (dk_at dksX8_edge_1 23 rfl rfl)
theorem dX8_edge_47 : decode cX8_edge 47 = .ok (.iadd, 1) := dk_96 (dk_at dksX8_edge_2 0 rfl rfl)
theorem dX8_edge_48 : decode cX8_edge 48 = .ok (.goto 14, 3) := dk_167 0 14 (dk_at dksX8_edge_2 1 rfl rfl)
theorem dX8_edge_51 : decode cX8_edge 51 = .ok (.iload_n 3, 1) := dk_29 (dk_at dksX8_edge_2 4 rfl rfl)
theorem dX8_edge_52 : decode cX8_edge 52 = .ok (.iconst (-1), 1) := dk_2 (dk_at dksX8_edge_2 5 rfl rfl)
theorem dX8_edge_53 : decode cX8_edge 53 = .ok (.if_icmp .ne 8, 3) := dk_160 0 8 (dk_at dksX8_edge_2 6 rfl rfl)
theorem dX8_edge_56 : decode cX8_edge 56 = .ok (.iload 4, 2) := dk_21 4 (dk_at dksX8_edge_2 9 rfl rfl)
theorem dX8_edge_58 : decode cX8_edge 58 = .ok (.goto 4, 3) := dk_167 0 4 (dk_at dksX8_edge_2 11 rfl rfl)
theorem dX8_edge_61 : decode cX8_edge 61 = .ok (.iload_n 3, 1) := dk_29 (dk_at dksX8_edge_2 14 rfl rfl)
theorem dX8_edge_62 : decode cX8_edge 62 = .ok (.istore_n 3, 1) := dk_62 (dk_at dksX8_edge_2 15 rfl rfl)
theorem dX8_edge_63 : decode cX8_edge 63 = .ok (.iinc 4 1, 3) := dk_132 4 1 (dk_at dksX8_edge_2 16 rfl rfl)
theorem dX8_edge_66 : decode cX8_edge 66 = .ok (.goto (-61), 3) := dk_167 255 195 (dk_at dksX8_edge_2 19 rfl rfl)
theorem dX8_edge_69 : decode cX8_edge 69 = .ok (.iload_n 3, 1) := dk_29 (dk_at dksX8_edge_2 22 rfl rfl)
theorem dX8_edge_70 : decode cX8_edge 70 = .ok (.ireturn, 1) := dk_172 (dk_at dksX8_edge_2 23 rfl rfl)
abbrev cX8_put : ByteArray := prog_7_method_6_code
def yX8_put : MethodName := ⟨RX8, "put", "(LSpillslotWorks$Life;)V"⟩
def dkwX8_put_2 : List UInt8 := [42, 180, 0, 12, 28, 43, 185, 0, 118, 3, 0, 177]
abbrev dktX8_put_2 : List UInt8 := dkwX8_put_2 ++ []
def dkwX8_put_1 : List UInt8 := [185, 0, 52, 2, 0, 192, 0, 34, 180, 0, 33, 43, 180, 0, 33, 164, 0, 9, 132, 2, 255, 167, 255, 224]
abbrev dktX8_put_1 : List UInt8 := dkwX8_put_1 ++ dktX8_put_2
def dkwX8_put_0 : List UInt8 := [42, 180, 0, 12, 185, 0, 46, 1, 0, 61, 28, 158, 0, 34, 42, 180, 0, 12, 28, 4, 100]
abbrev dktX8_put_0 : List UInt8 := dkwX8_put_0 ++ dktX8_put_1
theorem dksX8_put_0 : cX8_put.data.toList.drop 0 = dktX8_put_0 := by decide +kernel
theorem dksX8_put_1 : cX8_put.data.toList.drop 21 = dktX8_put_1 := dk_seg dksX8_put_0 21 rfl rfl
theorem dksX8_put_2 : cX8_put.data.toList.drop 45 = dktX8_put_2 := dk_seg dksX8_put_1 24 rfl rfl
theorem dX8_put_0 : decode cX8_put 0 = .ok (.aload_n 0, 1) := dk_42 (dk_at dksX8_put_0 0 rfl rfl)
theorem dX8_put_1 : decode cX8_put 1 = .ok (.getfield 12, 3) := dk_180 0 12 (dk_at dksX8_put_0 1 rfl rfl)
theorem dX8_put_4 : decode cX8_put 4 = .ok (.invokeinterface 46 1, 5) := by decide +kernel
theorem dX8_put_9 : decode cX8_put 9 = .ok (.istore_n 2, 1) := dk_61 (dk_at dksX8_put_0 9 rfl rfl)
theorem dX8_put_10 : decode cX8_put 10 = .ok (.iload_n 2, 1) := dk_28 (dk_at dksX8_put_0 10 rfl rfl)
theorem dX8_put_11 : decode cX8_put 11 = .ok (.ifCond .le 34, 3) := dk_158 0 34 (dk_at dksX8_put_0 11 rfl rfl)
theorem dX8_put_14 : decode cX8_put 14 = .ok (.aload_n 0, 1) := dk_42 (dk_at dksX8_put_0 14 rfl rfl)
theorem dX8_put_15 : decode cX8_put 15 = .ok (.getfield 12, 3) := dk_180 0 12 (dk_at dksX8_put_0 15 rfl rfl)
theorem dX8_put_18 : decode cX8_put 18 = .ok (.iload_n 2, 1) := dk_28 (dk_at dksX8_put_0 18 rfl rfl)
theorem dX8_put_19 : decode cX8_put 19 = .ok (.iconst 1, 1) := dk_4 (dk_at dksX8_put_0 19 rfl rfl)
theorem dX8_put_20 : decode cX8_put 20 = .ok (.isub, 1) := dk_100 (dk_at dksX8_put_0 20 rfl rfl)
theorem dX8_put_21 : decode cX8_put 21 = .ok (.invokeinterface 52 2, 5) := by decide +kernel
theorem dX8_put_26 : decode cX8_put 26 = .ok (.checkcast 34, 3) := dk_192 0 34 (dk_at dksX8_put_1 5 rfl rfl)
theorem dX8_put_29 : decode cX8_put 29 = .ok (.getfield 33, 3) := dk_180 0 33 (dk_at dksX8_put_1 8 rfl rfl)
theorem dX8_put_32 : decode cX8_put 32 = .ok (.aload_n 1, 1) := dk_43 (dk_at dksX8_put_1 11 rfl rfl)
theorem dX8_put_33 : decode cX8_put 33 = .ok (.getfield 33, 3) := dk_180 0 33 (dk_at dksX8_put_1 12 rfl rfl)
theorem dX8_put_36 : decode cX8_put 36 = .ok (.if_icmp .le 9, 3) := dk_164 0 9 (dk_at dksX8_put_1 15 rfl rfl)
theorem dX8_put_39 : decode cX8_put 39 = .ok (.iinc 2 (-1), 3) := dk_132 2 255 (dk_at dksX8_put_1 18 rfl rfl)
theorem dX8_put_42 : decode cX8_put 42 = .ok (.goto (-32), 3) := dk_167 255 224 (dk_at dksX8_put_1 21 rfl rfl)
theorem dX8_put_45 : decode cX8_put 45 = .ok (.aload_n 0, 1) := dk_42 (dk_at dksX8_put_2 0 rfl rfl)
theorem dX8_put_46 : decode cX8_put 46 = .ok (.getfield 12, 3) := dk_180 0 12 (dk_at dksX8_put_2 1 rfl rfl)
theorem dX8_put_49 : decode cX8_put 49 = .ok (.iload_n 2, 1) := dk_28 (dk_at dksX8_put_2 4 rfl rfl)
theorem dX8_put_50 : decode cX8_put 50 = .ok (.aload_n 1, 1) := dk_43 (dk_at dksX8_put_2 5 rfl rfl)
theorem dX8_put_51 : decode cX8_put 51 = .ok (.invokeinterface 118 3, 5) := by decide +kernel
theorem dX8_put_56 : decode cX8_put 56 = .ok (.return_, 1) := dk_177 (dk_at dksX8_put_2 11 rfl rfl)
abbrev cX8_give : ByteArray := prog_7_method_14_code
def yX8_give : MethodName := ⟨RX8, "give", "(LSpillslotWorks$Life;)V"⟩
def dkwX8_give_7 : List UInt8 := [181, 0, 130, 43, 44, 43, 166, 0, 7, 2, 167, 0, 4, 29, 181, 0, 130, 177]
abbrev dktX8_give_7 : List UInt8 := dkwX8_give_7 ++ []
def dkwX8_give_6 : List UInt8 := [167, 0, 4, 44, 77, 132, 3, 1, 167, 255, 171, 44, 180, 0, 130, 62, 44, 4, 181, 0, 170, 44, 2]
abbrev dktX8_give_6 : List UInt8 := dkwX8_give_6 ++ dktX8_give_7
def dkwX8_give_5 : List UInt8 := [167, 0, 4, 3, 54, 5, 21, 5, 153, 0, 17, 25, 4, 44, 184, 0, 166, 153, 0, 8, 25, 4]
abbrev dktX8_give_5 : List UInt8 := dkwX8_give_5 ++ dktX8_give_6
def dkwX8_give_4 : List UInt8 := [180, 0, 33, 182, 0, 133, 153, 0, 20, 42, 43, 25, 4, 180, 0, 130, 182, 0, 150, 153, 0, 7, 4]
abbrev dktX8_give_4 : List UInt8 := dkwX8_give_4 ++ dktX8_give_5
def dkwX8_give_3 : List UInt8 := [162, 0, 78, 42, 180, 0, 12, 29, 185, 0, 52, 2, 0, 192, 0, 34, 58, 4, 42, 25, 4, 43]
abbrev dktX8_give_3 : List UInt8 := dkwX8_give_3 ++ dktX8_give_4
def dkwX8_give_2 : List UInt8 := [181, 0, 130, 177, 132, 2, 1, 167, 255, 227, 43, 77, 3, 62, 29, 42, 180, 0, 12, 185, 0, 46, 1, 0]
abbrev dktX8_give_2 : List UInt8 := dkwX8_give_2 ++ dktX8_give_3
def dkwX8_give_1 : List UInt8 := [61, 28, 42, 180, 0, 25, 182, 0, 163, 162, 0, 24, 42, 43, 28, 182, 0, 160, 153, 0, 9, 43, 28]
abbrev dktX8_give_1 : List UInt8 := dkwX8_give_1 ++ dktX8_give_2
def dkwX8_give_0 : List UInt8 := [42, 43, 42, 43, 182, 0, 156, 182, 0, 160, 153, 0, 13, 43, 42, 43, 182, 0, 156, 181, 0, 130, 177, 3]
abbrev dktX8_give_0 : List UInt8 := dkwX8_give_0 ++ dktX8_give_1
theorem dksX8_give_0 : cX8_give.data.toList.drop 0 = dktX8_give_0 := by decide +kernel
theorem dksX8_give_1 : cX8_give.data.toList.drop 24 = dktX8_give_1 := dk_seg dksX8_give_0 24 rfl rfl
theorem dksX8_give_2 : cX8_give.data.toList.drop 47 = dktX8_give_2 := dk_seg dksX8_give_1 23 rfl rfl
theorem dksX8_give_3 : cX8_give.data.toList.drop 71 = dktX8_give_3 := dk_seg dksX8_give_2 24 rfl rfl
theorem dksX8_give_4 : cX8_give.data.toList.drop 93 = dktX8_give_4 := dk_seg dksX8_give_3 22 rfl rfl
theorem dksX8_give_5 : cX8_give.data.toList.drop 116 = dktX8_give_5 := dk_seg dksX8_give_4 23 rfl rfl
theorem dksX8_give_6 : cX8_give.data.toList.drop 138 = dktX8_give_6 := dk_seg dksX8_give_5 22 rfl rfl
theorem dksX8_give_7 : cX8_give.data.toList.drop 161 = dktX8_give_7 := dk_seg dksX8_give_6 23 rfl rfl
theorem dX8_give_0 : decode cX8_give 0 = .ok (.aload_n 0, 1) := dk_42 (dk_at dksX8_give_0 0 rfl rfl)
theorem dX8_give_1 : decode cX8_give 1 = .ok (.aload_n 1, 1) := dk_43 (dk_at dksX8_give_0 1 rfl rfl)
theorem dX8_give_2 : decode cX8_give 2 = .ok (.aload_n 0, 1) := dk_42 (dk_at dksX8_give_0 2 rfl rfl)
theorem dX8_give_3 : decode cX8_give 3 = .ok (.aload_n 1, 1) := dk_43 (dk_at dksX8_give_0 3 rfl rfl)
theorem dX8_give_4 : decode cX8_give 4 = .ok (.invokevirtual 156, 3) := dk_182 0 156 (dk_at dksX8_give_0 4 rfl rfl)
theorem dX8_give_7 : decode cX8_give 7 = .ok (.invokevirtual 160, 3) := dk_182 0 160 (dk_at dksX8_give_0 7 rfl rfl)
theorem dX8_give_10 : decode cX8_give 10 = .ok (.ifCond .eq 13, 3) := dk_153 0 13 (dk_at dksX8_give_0 10 rfl rfl)
theorem dX8_give_13 : decode cX8_give 13 = .ok (.aload_n 1, 1) := dk_43 (dk_at dksX8_give_0 13 rfl rfl)
theorem dX8_give_14 : decode cX8_give 14 = .ok (.aload_n 0, 1) := dk_42 (dk_at dksX8_give_0 14 rfl rfl)
theorem dX8_give_15 : decode cX8_give 15 = .ok (.aload_n 1, 1) := dk_43 (dk_at dksX8_give_0 15 rfl rfl)
theorem dX8_give_16 : decode cX8_give 16 = .ok (.invokevirtual 156, 3) := dk_182 0 156 (dk_at dksX8_give_0 16 rfl rfl)
theorem dX8_give_19 : decode cX8_give 19 = .ok (.putfield 130, 3) := dk_181 0 130 (dk_at dksX8_give_0 19 rfl rfl)
theorem dX8_give_22 : decode cX8_give 22 = .ok (.return_, 1) := dk_177 (dk_at dksX8_give_0 22 rfl rfl)
theorem dX8_give_23 : decode cX8_give 23 = .ok (.iconst 0, 1) := dk_3 (dk_at dksX8_give_0 23 rfl rfl)
theorem dX8_give_24 : decode cX8_give 24 = .ok (.istore_n 2, 1) := dk_61 (dk_at dksX8_give_1 0 rfl rfl)
theorem dX8_give_25 : decode cX8_give 25 = .ok (.iload_n 2, 1) := dk_28 (dk_at dksX8_give_1 1 rfl rfl)
theorem dX8_give_26 : decode cX8_give 26 = .ok (.aload_n 0, 1) := dk_42 (dk_at dksX8_give_1 2 rfl rfl)
theorem dX8_give_27 : decode cX8_give 27 = .ok (.getfield 25, 3) := dk_180 0 25 (dk_at dksX8_give_1 3 rfl rfl)
theorem dX8_give_30 : decode cX8_give 30 = .ok (.invokevirtual 163, 3) := dk_182 0 163 (dk_at dksX8_give_1 6 rfl rfl)
theorem dX8_give_33 : decode cX8_give 33 = .ok (.if_icmp .ge 24, 3) := dk_162 0 24 (dk_at dksX8_give_1 9 rfl rfl)
theorem dX8_give_36 : decode cX8_give 36 = .ok (.aload_n 0, 1) := dk_42 (dk_at dksX8_give_1 12 rfl rfl)
theorem dX8_give_37 : decode cX8_give 37 = .ok (.aload_n 1, 1) := dk_43 (dk_at dksX8_give_1 13 rfl rfl)
theorem dX8_give_38 : decode cX8_give 38 = .ok (.iload_n 2, 1) := dk_28 (dk_at dksX8_give_1 14 rfl rfl)
theorem dX8_give_39 : decode cX8_give 39 = .ok (.invokevirtual 160, 3) := dk_182 0 160 (dk_at dksX8_give_1 15 rfl rfl)
theorem dX8_give_42 : decode cX8_give 42 = .ok (.ifCond .eq 9, 3) := dk_153 0 9 (dk_at dksX8_give_1 18 rfl rfl)
theorem dX8_give_45 : decode cX8_give 45 = .ok (.aload_n 1, 1) := dk_43 (dk_at dksX8_give_1 21 rfl rfl)
theorem dX8_give_46 : decode cX8_give 46 = .ok (.iload_n 2, 1) := dk_28 (dk_at dksX8_give_1 22 rfl rfl)
theorem dX8_give_47 : decode cX8_give 47 = .ok (.putfield 130, 3) := dk_181 0 130 (dk_at dksX8_give_2 0 rfl rfl)
theorem dX8_give_50 : decode cX8_give 50 = .ok (.return_, 1) := dk_177 (dk_at dksX8_give_2 3 rfl rfl)
theorem dX8_give_51 : decode cX8_give 51 = .ok (.iinc 2 1, 3) := dk_132 2 1 (dk_at dksX8_give_2 4 rfl rfl)
theorem dX8_give_54 : decode cX8_give 54 = .ok (.goto (-29), 3) := dk_167 255 227 (dk_at dksX8_give_2 7 rfl rfl)
theorem dX8_give_57 : decode cX8_give 57 = .ok (.aload_n 1, 1) := dk_43 (dk_at dksX8_give_2 10 rfl rfl)
theorem dX8_give_58 : decode cX8_give 58 = .ok (.astore_n 2, 1) := dk_77 (dk_at dksX8_give_2 11 rfl rfl)
theorem dX8_give_59 : decode cX8_give 59 = .ok (.iconst 0, 1) := dk_3 (dk_at dksX8_give_2 12 rfl rfl)
theorem dX8_give_60 : decode cX8_give 60 = .ok (.istore_n 3, 1) := dk_62 (dk_at dksX8_give_2 13 rfl rfl)
theorem dX8_give_61 : decode cX8_give 61 = .ok (.iload_n 3, 1) := dk_29 (dk_at dksX8_give_2 14 rfl rfl)
theorem dX8_give_62 : decode cX8_give 62 = .ok (.aload_n 0, 1) := dk_42 (dk_at dksX8_give_2 15 rfl rfl)
theorem dX8_give_63 : decode cX8_give 63 = .ok (.getfield 12, 3) := dk_180 0 12 (dk_at dksX8_give_2 16 rfl rfl)
theorem dX8_give_66 : decode cX8_give 66 = .ok (.invokeinterface 46 1, 5) := by decide +kernel
theorem dX8_give_71 : decode cX8_give 71 = .ok (.if_icmp .ge 78, 3) := dk_162 0 78 (dk_at dksX8_give_3 0 rfl rfl)
theorem dX8_give_74 : decode cX8_give 74 = .ok (.aload_n 0, 1) := dk_42 (dk_at dksX8_give_3 3 rfl rfl)
theorem dX8_give_75 : decode cX8_give 75 = .ok (.getfield 12, 3) := dk_180 0 12 (dk_at dksX8_give_3 4 rfl rfl)
theorem dX8_give_78 : decode cX8_give 78 = .ok (.iload_n 3, 1) := dk_29 (dk_at dksX8_give_3 7 rfl rfl)
theorem dX8_give_79 : decode cX8_give 79 = .ok (.invokeinterface 52 2, 5) := by decide +kernel
theorem dX8_give_84 : decode cX8_give 84 = .ok (.checkcast 34, 3) := dk_192 0 34 (dk_at dksX8_give_3 13 rfl rfl)
theorem dX8_give_87 : decode cX8_give 87 = .ok (.astore 4, 2) := dk_58 4 (dk_at dksX8_give_3 16 rfl rfl)
theorem dX8_give_89 : decode cX8_give 89 = .ok (.aload_n 0, 1) := dk_42 (dk_at dksX8_give_3 18 rfl rfl)
theorem dX8_give_90 : decode cX8_give 90 = .ok (.aload 4, 2) := dk_25 4 (dk_at dksX8_give_3 19 rfl rfl)
theorem dX8_give_92 : decode cX8_give 92 = .ok (.aload_n 1, 1) := dk_43 (dk_at dksX8_give_3 21 rfl rfl)
theorem dX8_give_93 : decode cX8_give 93 = .ok (.getfield 33, 3) := dk_180 0 33 (dk_at dksX8_give_4 0 rfl rfl)
theorem dX8_give_96 : decode cX8_give 96 = .ok (.invokevirtual 133, 3) := dk_182 0 133 (dk_at dksX8_give_4 3 rfl rfl)
theorem dX8_give_99 : decode cX8_give 99 = .ok (.ifCond .eq 20, 3) := dk_153 0 20 (dk_at dksX8_give_4 6 rfl rfl)
theorem dX8_give_102 : decode cX8_give 102 = .ok (.aload_n 0, 1) := dk_42 (dk_at dksX8_give_4 9 rfl rfl)
theorem dX8_give_103 : decode cX8_give 103 = .ok (.aload_n 1, 1) := dk_43 (dk_at dksX8_give_4 10 rfl rfl)
theorem dX8_give_104 : decode cX8_give 104 = .ok (.aload 4, 2) := dk_25 4 (dk_at dksX8_give_4 11 rfl rfl)
theorem dX8_give_106 : decode cX8_give 106 = .ok (.getfield 130, 3) := dk_180 0 130 (dk_at dksX8_give_4 13 rfl rfl)
theorem dX8_give_109 : decode cX8_give 109 = .ok (.invokevirtual 150, 3) := dk_182 0 150 (dk_at dksX8_give_4 16 rfl rfl)
theorem dX8_give_112 : decode cX8_give 112 = .ok (.ifCond .eq 7, 3) := dk_153 0 7 (dk_at dksX8_give_4 19 rfl rfl)
theorem dX8_give_115 : decode cX8_give 115 = .ok (.iconst 1, 1) := dk_4 (dk_at dksX8_give_4 22 rfl rfl)
theorem dX8_give_116 : decode cX8_give 116 = .ok (.goto 4, 3) := dk_167 0 4 (dk_at dksX8_give_5 0 rfl rfl)
theorem dX8_give_119 : decode cX8_give 119 = .ok (.iconst 0, 1) := dk_3 (dk_at dksX8_give_5 3 rfl rfl)
theorem dX8_give_120 : decode cX8_give 120 = .ok (.istore 5, 2) := dk_54 5 (dk_at dksX8_give_5 4 rfl rfl)
theorem dX8_give_122 : decode cX8_give 122 = .ok (.iload 5, 2) := dk_21 5 (dk_at dksX8_give_5 6 rfl rfl)
theorem dX8_give_124 : decode cX8_give 124 = .ok (.ifCond .eq 17, 3) := dk_153 0 17 (dk_at dksX8_give_5 8 rfl rfl)
theorem dX8_give_127 : decode cX8_give 127 = .ok (.aload 4, 2) := dk_25 4 (dk_at dksX8_give_5 11 rfl rfl)
theorem dX8_give_129 : decode cX8_give 129 = .ok (.aload_n 2, 1) := dk_44 (dk_at dksX8_give_5 13 rfl rfl)
theorem dX8_give_130 : decode cX8_give 130 = .ok (.invokestatic 166, 3) := dk_184 0 166 (dk_at dksX8_give_5 14 rfl rfl)
theorem dX8_give_133 : decode cX8_give 133 = .ok (.ifCond .eq 8, 3) := dk_153 0 8 (dk_at dksX8_give_5 17 rfl rfl)
theorem dX8_give_136 : decode cX8_give 136 = .ok (.aload 4, 2) := dk_25 4 (dk_at dksX8_give_5 20 rfl rfl)
theorem dX8_give_138 : decode cX8_give 138 = .ok (.goto 4, 3) := dk_167 0 4 (dk_at dksX8_give_6 0 rfl rfl)
theorem dX8_give_141 : decode cX8_give 141 = .ok (.aload_n 2, 1) := dk_44 (dk_at dksX8_give_6 3 rfl rfl)
theorem dX8_give_142 : decode cX8_give 142 = .ok (.astore_n 2, 1) := dk_77 (dk_at dksX8_give_6 4 rfl rfl)
theorem dX8_give_143 : decode cX8_give 143 = .ok (.iinc 3 1, 3) := dk_132 3 1 (dk_at dksX8_give_6 5 rfl rfl)
theorem dX8_give_146 : decode cX8_give 146 = .ok (.goto (-85), 3) := dk_167 255 171 (dk_at dksX8_give_6 8 rfl rfl)
theorem dX8_give_149 : decode cX8_give 149 = .ok (.aload_n 2, 1) := dk_44 (dk_at dksX8_give_6 11 rfl rfl)
theorem dX8_give_150 : decode cX8_give 150 = .ok (.getfield 130, 3) := dk_180 0 130 (dk_at dksX8_give_6 12 rfl rfl)
theorem dX8_give_153 : decode cX8_give 153 = .ok (.istore_n 3, 1) := dk_62 (dk_at dksX8_give_6 15 rfl rfl)
theorem dX8_give_154 : decode cX8_give 154 = .ok (.aload_n 2, 1) := dk_44 (dk_at dksX8_give_6 16 rfl rfl)
theorem dX8_give_155 : decode cX8_give 155 = .ok (.iconst 1, 1) := dk_4 (dk_at dksX8_give_6 17 rfl rfl)
theorem dX8_give_156 : decode cX8_give 156 = .ok (.putfield 170, 3) := dk_181 0 170 (dk_at dksX8_give_6 18 rfl rfl)
theorem dX8_give_159 : decode cX8_give 159 = .ok (.aload_n 2, 1) := dk_44 (dk_at dksX8_give_6 21 rfl rfl)
theorem dX8_give_160 : decode cX8_give 160 = .ok (.iconst (-1), 1) := dk_2 (dk_at dksX8_give_6 22 rfl rfl)
theorem dX8_give_161 : decode cX8_give 161 = .ok (.putfield 130, 3) := dk_181 0 130 (dk_at dksX8_give_7 0 rfl rfl)
theorem dX8_give_164 : decode cX8_give 164 = .ok (.aload_n 1, 1) := dk_43 (dk_at dksX8_give_7 3 rfl rfl)
theorem dX8_give_165 : decode cX8_give 165 = .ok (.aload_n 2, 1) := dk_44 (dk_at dksX8_give_7 4 rfl rfl)
theorem dX8_give_166 : decode cX8_give 166 = .ok (.aload_n 1, 1) := dk_43 (dk_at dksX8_give_7 5 rfl rfl)
theorem dX8_give_167 : decode cX8_give 167 = .ok (.if_acmp .ne 7, 3) := dk_166 0 7 (dk_at dksX8_give_7 6 rfl rfl)
theorem dX8_give_170 : decode cX8_give 170 = .ok (.iconst (-1), 1) := dk_2 (dk_at dksX8_give_7 9 rfl rfl)
theorem dX8_give_171 : decode cX8_give 171 = .ok (.goto 4, 3) := dk_167 0 4 (dk_at dksX8_give_7 10 rfl rfl)
theorem dX8_give_174 : decode cX8_give 174 = .ok (.iload_n 3, 1) := dk_29 (dk_at dksX8_give_7 13 rfl rfl)
theorem dX8_give_175 : decode cX8_give 175 = .ok (.putfield 130, 3) := dk_181 0 130 (dk_at dksX8_give_7 14 rfl rfl)
theorem dX8_give_178 : decode cX8_give 178 = .ok (.return_, 1) := dk_177 (dk_at dksX8_give_7 17 rfl rfl)
abbrev cX8_hint : ByteArray := prog_7_method_12_code
def yX8_hint : MethodName := ⟨RX8, "hint", "(LSpillslotWorks$Life;)I"⟩
def dkwX8_hint_3 : List UInt8 := [167, 0, 4, 2, 172]
abbrev dktX8_hint_3 : List UInt8 := dkwX8_hint_3 ++ []
def dkwX8_hint_2 : List UInt8 := [167, 0, 4, 3, 62, 29, 153, 0, 19, 42, 44, 180, 0, 145, 3, 46, 182, 0, 147, 180, 0, 130]
abbrev dktX8_hint_2 : List UInt8 := dkwX8_hint_2 ++ dktX8_hint_3
def dkwX8_hint_1 : List UInt8 := [5, 182, 0, 111, 154, 0, 19, 44, 6, 182, 0, 111, 154, 0, 11, 44, 7, 182, 0, 111, 153, 0, 7, 4]
abbrev dktX8_hint_1 : List UInt8 := dkwX8_hint_1 ++ dktX8_hint_2
def dkwX8_hint_0 : List UInt8 := [43, 180, 0, 137, 77, 44, 4, 182, 0, 111, 154, 0, 37, 42, 180, 0, 25, 180, 0, 141, 153, 0, 31, 44]
abbrev dktX8_hint_0 : List UInt8 := dkwX8_hint_0 ++ dktX8_hint_1
theorem dksX8_hint_0 : cX8_hint.data.toList.drop 0 = dktX8_hint_0 := by decide +kernel
theorem dksX8_hint_1 : cX8_hint.data.toList.drop 24 = dktX8_hint_1 := dk_seg dksX8_hint_0 24 rfl rfl
theorem dksX8_hint_2 : cX8_hint.data.toList.drop 48 = dktX8_hint_2 := dk_seg dksX8_hint_1 24 rfl rfl
theorem dksX8_hint_3 : cX8_hint.data.toList.drop 70 = dktX8_hint_3 := dk_seg dksX8_hint_2 22 rfl rfl
theorem dX8_hint_0 : decode cX8_hint 0 = .ok (.aload_n 1, 1) := dk_43 (dk_at dksX8_hint_0 0 rfl rfl)
theorem dX8_hint_1 : decode cX8_hint 1 = .ok (.getfield 137, 3) := dk_180 0 137 (dk_at dksX8_hint_0 1 rfl rfl)
theorem dX8_hint_4 : decode cX8_hint 4 = .ok (.astore_n 2, 1) := dk_77 (dk_at dksX8_hint_0 4 rfl rfl)
theorem dX8_hint_5 : decode cX8_hint 5 = .ok (.aload_n 2, 1) := dk_44 (dk_at dksX8_hint_0 5 rfl rfl)
theorem dX8_hint_6 : decode cX8_hint 6 = .ok (.iconst 1, 1) := dk_4 (dk_at dksX8_hint_0 6 rfl rfl)
theorem dX8_hint_7 : decode cX8_hint 7 = .ok (.invokevirtual 111, 3) := dk_182 0 111 (dk_at dksX8_hint_0 7 rfl rfl)
theorem dX8_hint_10 : decode cX8_hint 10 = .ok (.ifCond .ne 37, 3) := dk_154 0 37 (dk_at dksX8_hint_0 10 rfl rfl)
theorem dX8_hint_13 : decode cX8_hint 13 = .ok (.aload_n 0, 1) := dk_42 (dk_at dksX8_hint_0 13 rfl rfl)
theorem dX8_hint_14 : decode cX8_hint 14 = .ok (.getfield 25, 3) := dk_180 0 25 (dk_at dksX8_hint_0 14 rfl rfl)
theorem dX8_hint_17 : decode cX8_hint 17 = .ok (.getfield 141, 3) := dk_180 0 141 (dk_at dksX8_hint_0 17 rfl rfl)
theorem dX8_hint_20 : decode cX8_hint 20 = .ok (.ifCond .eq 31, 3) := dk_153 0 31 (dk_at dksX8_hint_0 20 rfl rfl)
theorem dX8_hint_23 : decode cX8_hint 23 = .ok (.aload_n 2, 1) := dk_44 (dk_at dksX8_hint_0 23 rfl rfl)
theorem dX8_hint_24 : decode cX8_hint 24 = .ok (.iconst 2, 1) := dk_5 (dk_at dksX8_hint_1 0 rfl rfl)
theorem dX8_hint_25 : decode cX8_hint 25 = .ok (.invokevirtual 111, 3) := dk_182 0 111 (dk_at dksX8_hint_1 1 rfl rfl)
theorem dX8_hint_28 : decode cX8_hint 28 = .ok (.ifCond .ne 19, 3) := dk_154 0 19 (dk_at dksX8_hint_1 4 rfl rfl)
theorem dX8_hint_31 : decode cX8_hint 31 = .ok (.aload_n 2, 1) := dk_44 (dk_at dksX8_hint_1 7 rfl rfl)
theorem dX8_hint_32 : decode cX8_hint 32 = .ok (.iconst 3, 1) := dk_6 (dk_at dksX8_hint_1 8 rfl rfl)
theorem dX8_hint_33 : decode cX8_hint 33 = .ok (.invokevirtual 111, 3) := dk_182 0 111 (dk_at dksX8_hint_1 9 rfl rfl)
theorem dX8_hint_36 : decode cX8_hint 36 = .ok (.ifCond .ne 11, 3) := dk_154 0 11 (dk_at dksX8_hint_1 12 rfl rfl)
theorem dX8_hint_39 : decode cX8_hint 39 = .ok (.aload_n 2, 1) := dk_44 (dk_at dksX8_hint_1 15 rfl rfl)
theorem dX8_hint_40 : decode cX8_hint 40 = .ok (.iconst 4, 1) := dk_7 (dk_at dksX8_hint_1 16 rfl rfl)
theorem dX8_hint_41 : decode cX8_hint 41 = .ok (.invokevirtual 111, 3) := dk_182 0 111 (dk_at dksX8_hint_1 17 rfl rfl)
theorem dX8_hint_44 : decode cX8_hint 44 = .ok (.ifCond .eq 7, 3) := dk_153 0 7 (dk_at dksX8_hint_1 20 rfl rfl)
theorem dX8_hint_47 : decode cX8_hint 47 = .ok (.iconst 1, 1) := dk_4 (dk_at dksX8_hint_1 23 rfl rfl)
theorem dX8_hint_48 : decode cX8_hint 48 = .ok (.goto 4, 3) := dk_167 0 4 (dk_at dksX8_hint_2 0 rfl rfl)
theorem dX8_hint_51 : decode cX8_hint 51 = .ok (.iconst 0, 1) := dk_3 (dk_at dksX8_hint_2 3 rfl rfl)
theorem dX8_hint_52 : decode cX8_hint 52 = .ok (.istore_n 3, 1) := dk_62 (dk_at dksX8_hint_2 4 rfl rfl)
theorem dX8_hint_53 : decode cX8_hint 53 = .ok (.iload_n 3, 1) := dk_29 (dk_at dksX8_hint_2 5 rfl rfl)
theorem dX8_hint_54 : decode cX8_hint 54 = .ok (.ifCond .eq 19, 3) := dk_153 0 19 (dk_at dksX8_hint_2 6 rfl rfl)
theorem dX8_hint_57 : decode cX8_hint 57 = .ok (.aload_n 0, 1) := dk_42 (dk_at dksX8_hint_2 9 rfl rfl)
theorem dX8_hint_58 : decode cX8_hint 58 = .ok (.aload_n 2, 1) := dk_44 (dk_at dksX8_hint_2 10 rfl rfl)
theorem dX8_hint_59 : decode cX8_hint 59 = .ok (.getfield 145, 3) := dk_180 0 145 (dk_at dksX8_hint_2 11 rfl rfl)
theorem dX8_hint_62 : decode cX8_hint 62 = .ok (.iconst 0, 1) := dk_3 (dk_at dksX8_hint_2 14 rfl rfl)
theorem dX8_hint_63 : decode cX8_hint 63 = .ok (.iaload, 1) := dk_46 (dk_at dksX8_hint_2 15 rfl rfl)
theorem dX8_hint_64 : decode cX8_hint 64 = .ok (.invokevirtual 147, 3) := dk_182 0 147 (dk_at dksX8_hint_2 16 rfl rfl)
theorem dX8_hint_67 : decode cX8_hint 67 = .ok (.getfield 130, 3) := dk_180 0 130 (dk_at dksX8_hint_2 19 rfl rfl)
theorem dX8_hint_70 : decode cX8_hint 70 = .ok (.goto 4, 3) := dk_167 0 4 (dk_at dksX8_hint_3 0 rfl rfl)
theorem dX8_hint_73 : decode cX8_hint 73 = .ok (.iconst (-1), 1) := dk_2 (dk_at dksX8_hint_3 3 rfl rfl)
theorem dX8_hint_74 : decode cX8_hint 74 = .ok (.ireturn, 1) := dk_172 (dk_at dksX8_hint_3 4 rfl rfl)
abbrev cX8_of : ByteArray := prog_7_method_8_code
def yX8_of : MethodName := ⟨RX8, "of", "(I)LSpillslotWorks$Life;"⟩
def dkwX8_of_0 : List UInt8 := [42, 180, 0, 12, 42, 27, 182, 0, 122, 185, 0, 52, 2, 0, 192, 0, 34, 176]
abbrev dktX8_of_0 : List UInt8 := dkwX8_of_0 ++ []
theorem dksX8_of_0 : cX8_of.data.toList.drop 0 = dktX8_of_0 := by decide +kernel
theorem dX8_of_0 : decode cX8_of 0 = .ok (.aload_n 0, 1) := dk_42 (dk_at dksX8_of_0 0 rfl rfl)
theorem dX8_of_1 : decode cX8_of 1 = .ok (.getfield 12, 3) := dk_180 0 12 (dk_at dksX8_of_0 1 rfl rfl)
theorem dX8_of_4 : decode cX8_of 4 = .ok (.aload_n 0, 1) := dk_42 (dk_at dksX8_of_0 4 rfl rfl)
theorem dX8_of_5 : decode cX8_of 5 = .ok (.iload_n 1, 1) := dk_27 (dk_at dksX8_of_0 5 rfl rfl)
theorem dX8_of_6 : decode cX8_of 6 = .ok (.invokevirtual 122, 3) := dk_182 0 122 (dk_at dksX8_of_0 6 rfl rfl)
theorem dX8_of_9 : decode cX8_of 9 = .ok (.invokeinterface 52 2, 5) := by decide +kernel
theorem dX8_of_14 : decode cX8_of 14 = .ok (.checkcast 34, 3) := dk_192 0 34 (dk_at dksX8_of_0 14 rfl rfl)
theorem dX8_of_17 : decode cX8_of 17 = .ok (.areturn, 1) := dk_176 (dk_at dksX8_of_0 17 rfl rfl)
abbrev cX8_placeOf : ByteArray := prog_7_method_7_code
def yX8_placeOf : MethodName := ⟨RX8, "placeOf", "(I)I"⟩
def dkwX8_placeOf_1 : List UInt8 := [185, 0, 52, 2, 0, 192, 0, 34, 180, 0, 94, 27, 159, 0, 9, 132, 2, 255, 167, 255, 229, 28, 172]
abbrev dktX8_placeOf_1 : List UInt8 := dkwX8_placeOf_1 ++ []
def dkwX8_placeOf_0 : List UInt8 := [42, 180, 0, 12, 185, 0, 46, 1, 0, 4, 100, 61, 28, 155, 0, 29, 42, 180, 0, 12, 28]
abbrev dktX8_placeOf_0 : List UInt8 := dkwX8_placeOf_0 ++ dktX8_placeOf_1
theorem dksX8_placeOf_0 : cX8_placeOf.data.toList.drop 0 = dktX8_placeOf_0 := by decide +kernel
theorem dksX8_placeOf_1 : cX8_placeOf.data.toList.drop 21 = dktX8_placeOf_1 := dk_seg dksX8_placeOf_0 21 rfl rfl
theorem dX8_placeOf_0 : decode cX8_placeOf 0 = .ok (.aload_n 0, 1) := dk_42 (dk_at dksX8_placeOf_0 0 rfl rfl)
theorem dX8_placeOf_1 : decode cX8_placeOf 1 = .ok (.getfield 12, 3) := dk_180 0 12 (dk_at dksX8_placeOf_0 1 rfl rfl)
theorem dX8_placeOf_4 : decode cX8_placeOf 4 = .ok (.invokeinterface 46 1, 5) := by decide +kernel
theorem dX8_placeOf_9 : decode cX8_placeOf 9 = .ok (.iconst 1, 1) := dk_4 (dk_at dksX8_placeOf_0 9 rfl rfl)
theorem dX8_placeOf_10 : decode cX8_placeOf 10 = .ok (.isub, 1) := dk_100 (dk_at dksX8_placeOf_0 10 rfl rfl)
theorem dX8_placeOf_11 : decode cX8_placeOf 11 = .ok (.istore_n 2, 1) := dk_61 (dk_at dksX8_placeOf_0 11 rfl rfl)
theorem dX8_placeOf_12 : decode cX8_placeOf 12 = .ok (.iload_n 2, 1) := dk_28 (dk_at dksX8_placeOf_0 12 rfl rfl)
theorem dX8_placeOf_13 : decode cX8_placeOf 13 = .ok (.ifCond .lt 29, 3) := dk_155 0 29 (dk_at dksX8_placeOf_0 13 rfl rfl)
theorem dX8_placeOf_16 : decode cX8_placeOf 16 = .ok (.aload_n 0, 1) := dk_42 (dk_at dksX8_placeOf_0 16 rfl rfl)
theorem dX8_placeOf_17 : decode cX8_placeOf 17 = .ok (.getfield 12, 3) := dk_180 0 12 (dk_at dksX8_placeOf_0 17 rfl rfl)
theorem dX8_placeOf_20 : decode cX8_placeOf 20 = .ok (.iload_n 2, 1) := dk_28 (dk_at dksX8_placeOf_0 20 rfl rfl)
theorem dX8_placeOf_21 : decode cX8_placeOf 21 = .ok (.invokeinterface 52 2, 5) := by decide +kernel
theorem dX8_placeOf_26 : decode cX8_placeOf 26 = .ok (.checkcast 34, 3) := dk_192 0 34 (dk_at dksX8_placeOf_1 5 rfl rfl)
theorem dX8_placeOf_29 : decode cX8_placeOf 29 = .ok (.getfield 94, 3) := dk_180 0 94 (dk_at dksX8_placeOf_1 8 rfl rfl)
theorem dX8_placeOf_32 : decode cX8_placeOf 32 = .ok (.iload_n 1, 1) := dk_27 (dk_at dksX8_placeOf_1 11 rfl rfl)
theorem dX8_placeOf_33 : decode cX8_placeOf 33 = .ok (.if_icmp .eq 9, 3) := dk_159 0 9 (dk_at dksX8_placeOf_1 12 rfl rfl)
theorem dX8_placeOf_36 : decode cX8_placeOf 36 = .ok (.iinc 2 (-1), 3) := dk_132 2 255 (dk_at dksX8_placeOf_1 15 rfl rfl)
theorem dX8_placeOf_39 : decode cX8_placeOf 39 = .ok (.goto (-27), 3) := dk_167 255 229 (dk_at dksX8_placeOf_1 18 rfl rfl)
theorem dX8_placeOf_42 : decode cX8_placeOf 42 = .ok (.iload_n 2, 1) := dk_28 (dk_at dksX8_placeOf_1 21 rfl rfl)
theorem dX8_placeOf_43 : decode cX8_placeOf 43 = .ok (.ireturn, 1) := dk_172 (dk_at dksX8_placeOf_1 22 rfl rfl)
abbrev cX8_canTake : ByteArray := prog_7_method_13_code
def yX8_canTake : MethodName := ⟨RX8, "canTake", "(LSpillslotWorks$Life;I)Z"⟩
def dkwX8_canTake_1 : List UInt8 := [153, 0, 7, 4, 167, 0, 4, 3, 172]
abbrev dktX8_canTake_1 : List UInt8 := dkwX8_canTake_1 ++ []
def dkwX8_canTake_0 : List UInt8 := [28, 2, 159, 0, 28, 42, 43, 28, 182, 0, 150, 153, 0, 19, 42, 28, 43, 180, 0, 33, 182, 0, 153]
abbrev dktX8_canTake_0 : List UInt8 := dkwX8_canTake_0 ++ dktX8_canTake_1
theorem dksX8_canTake_0 : cX8_canTake.data.toList.drop 0 = dktX8_canTake_0 := by decide +kernel
theorem dksX8_canTake_1 : cX8_canTake.data.toList.drop 23 = dktX8_canTake_1 := dk_seg dksX8_canTake_0 23 rfl rfl
theorem dX8_canTake_0 : decode cX8_canTake 0 = .ok (.iload_n 2, 1) := dk_28 (dk_at dksX8_canTake_0 0 rfl rfl)
theorem dX8_canTake_1 : decode cX8_canTake 1 = .ok (.iconst (-1), 1) := dk_2 (dk_at dksX8_canTake_0 1 rfl rfl)
theorem dX8_canTake_2 : decode cX8_canTake 2 = .ok (.if_icmp .eq 28, 3) := dk_159 0 28 (dk_at dksX8_canTake_0 2 rfl rfl)
theorem dX8_canTake_5 : decode cX8_canTake 5 = .ok (.aload_n 0, 1) := dk_42 (dk_at dksX8_canTake_0 5 rfl rfl)
theorem dX8_canTake_6 : decode cX8_canTake 6 = .ok (.aload_n 1, 1) := dk_43 (dk_at dksX8_canTake_0 6 rfl rfl)
theorem dX8_canTake_7 : decode cX8_canTake 7 = .ok (.iload_n 2, 1) := dk_28 (dk_at dksX8_canTake_0 7 rfl rfl)
theorem dX8_canTake_8 : decode cX8_canTake 8 = .ok (.invokevirtual 150, 3) := dk_182 0 150 (dk_at dksX8_canTake_0 8 rfl rfl)
theorem dX8_canTake_11 : decode cX8_canTake 11 = .ok (.ifCond .eq 19, 3) := dk_153 0 19 (dk_at dksX8_canTake_0 11 rfl rfl)
theorem dX8_canTake_14 : decode cX8_canTake 14 = .ok (.aload_n 0, 1) := dk_42 (dk_at dksX8_canTake_0 14 rfl rfl)
theorem dX8_canTake_15 : decode cX8_canTake 15 = .ok (.iload_n 2, 1) := dk_28 (dk_at dksX8_canTake_0 15 rfl rfl)
theorem dX8_canTake_16 : decode cX8_canTake 16 = .ok (.aload_n 1, 1) := dk_43 (dk_at dksX8_canTake_0 16 rfl rfl)
theorem dX8_canTake_17 : decode cX8_canTake 17 = .ok (.getfield 33, 3) := dk_180 0 33 (dk_at dksX8_canTake_0 17 rfl rfl)
theorem dX8_canTake_20 : decode cX8_canTake 20 = .ok (.invokevirtual 153, 3) := dk_182 0 153 (dk_at dksX8_canTake_0 20 rfl rfl)
theorem dX8_canTake_23 : decode cX8_canTake 23 = .ok (.ifCond .eq 7, 3) := dk_153 0 7 (dk_at dksX8_canTake_1 0 rfl rfl)
theorem dX8_canTake_26 : decode cX8_canTake 26 = .ok (.iconst 1, 1) := dk_4 (dk_at dksX8_canTake_1 3 rfl rfl)
theorem dX8_canTake_27 : decode cX8_canTake 27 = .ok (.goto 4, 3) := dk_167 0 4 (dk_at dksX8_canTake_1 4 rfl rfl)
theorem dX8_canTake_30 : decode cX8_canTake 30 = .ok (.iconst 0, 1) := dk_3 (dk_at dksX8_canTake_1 7 rfl rfl)
theorem dX8_canTake_31 : decode cX8_canTake 31 = .ok (.ireturn, 1) := dk_172 (dk_at dksX8_canTake_1 8 rfl rfl)
abbrev cX8_canHave : ByteArray := prog_7_method_9_code
def yX8_canHave : MethodName := ⟨RX8, "canHave", "(LSpillslotWorks$Life;I)Z"⟩
def dkwX8_canHave_0 : List UInt8 := [43, 180, 0, 108, 153, 0, 14, 42, 180, 0, 25, 28, 182, 0, 125, 153, 0, 7, 4, 167, 0, 4, 3, 172]
abbrev dktX8_canHave_0 : List UInt8 := dkwX8_canHave_0 ++ []
theorem dksX8_canHave_0 : cX8_canHave.data.toList.drop 0 = dktX8_canHave_0 := by decide +kernel
theorem dX8_canHave_0 : decode cX8_canHave 0 = .ok (.aload_n 1, 1) := dk_43 (dk_at dksX8_canHave_0 0 rfl rfl)
theorem dX8_canHave_1 : decode cX8_canHave 1 = .ok (.getfield 108, 3) := dk_180 0 108 (dk_at dksX8_canHave_0 1 rfl rfl)
theorem dX8_canHave_4 : decode cX8_canHave 4 = .ok (.ifCond .eq 14, 3) := dk_153 0 14 (dk_at dksX8_canHave_0 4 rfl rfl)
theorem dX8_canHave_7 : decode cX8_canHave 7 = .ok (.aload_n 0, 1) := dk_42 (dk_at dksX8_canHave_0 7 rfl rfl)
theorem dX8_canHave_8 : decode cX8_canHave 8 = .ok (.getfield 25, 3) := dk_180 0 25 (dk_at dksX8_canHave_0 8 rfl rfl)
theorem dX8_canHave_11 : decode cX8_canHave 11 = .ok (.iload_n 2, 1) := dk_28 (dk_at dksX8_canHave_0 11 rfl rfl)
theorem dX8_canHave_12 : decode cX8_canHave 12 = .ok (.invokevirtual 125, 3) := dk_182 0 125 (dk_at dksX8_canHave_0 12 rfl rfl)
theorem dX8_canHave_15 : decode cX8_canHave 15 = .ok (.ifCond .eq 7, 3) := dk_153 0 7 (dk_at dksX8_canHave_0 15 rfl rfl)
theorem dX8_canHave_18 : decode cX8_canHave 18 = .ok (.iconst 1, 1) := dk_4 (dk_at dksX8_canHave_0 18 rfl rfl)
theorem dX8_canHave_19 : decode cX8_canHave 19 = .ok (.goto 4, 3) := dk_167 0 4 (dk_at dksX8_canHave_0 19 rfl rfl)
theorem dX8_canHave_22 : decode cX8_canHave 22 = .ok (.iconst 0, 1) := dk_3 (dk_at dksX8_canHave_0 22 rfl rfl)
theorem dX8_canHave_23 : decode cX8_canHave 23 = .ok (.ireturn, 1) := dk_172 (dk_at dksX8_canHave_0 23 rfl rfl)
abbrev cX8_isFree : ByteArray := prog_7_method_11_code
def yX8_isFree : MethodName := ⟨RX8, "isFree", "(II)Z"⟩
def dkwX8_isFree_3 : List UInt8 := [172]
abbrev dktX8_isFree_3 : List UInt8 := dkwX8_isFree_3 ++ []
def dkwX8_isFree_2 : List UInt8 := [185, 0, 52, 2, 0, 192, 0, 34, 28, 182, 0, 133, 153, 0, 5, 3, 172, 132, 3, 1, 167, 255, 197, 4]
abbrev dktX8_isFree_2 : List UInt8 := dkwX8_isFree_2 ++ dktX8_isFree_3
def dkwX8_isFree_1 : List UInt8 := [185, 0, 52, 2, 0, 192, 0, 34, 180, 0, 130, 27, 160, 0, 26, 42, 42, 180, 0, 12, 29]
abbrev dktX8_isFree_1 : List UInt8 := dkwX8_isFree_1 ++ dktX8_isFree_2
def dkwX8_isFree_0 : List UInt8 := [3, 62, 29, 42, 180, 0, 12, 185, 0, 46, 1, 0, 162, 0, 52, 42, 180, 0, 12, 29]
abbrev dktX8_isFree_0 : List UInt8 := dkwX8_isFree_0 ++ dktX8_isFree_1
theorem dksX8_isFree_0 : cX8_isFree.data.toList.drop 0 = dktX8_isFree_0 := by decide +kernel
theorem dksX8_isFree_1 : cX8_isFree.data.toList.drop 20 = dktX8_isFree_1 := dk_seg dksX8_isFree_0 20 rfl rfl
theorem dksX8_isFree_2 : cX8_isFree.data.toList.drop 41 = dktX8_isFree_2 := dk_seg dksX8_isFree_1 21 rfl rfl
theorem dksX8_isFree_3 : cX8_isFree.data.toList.drop 65 = dktX8_isFree_3 := dk_seg dksX8_isFree_2 24 rfl rfl
theorem dX8_isFree_0 : decode cX8_isFree 0 = .ok (.iconst 0, 1) := dk_3 (dk_at dksX8_isFree_0 0 rfl rfl)
theorem dX8_isFree_1 : decode cX8_isFree 1 = .ok (.istore_n 3, 1) := dk_62 (dk_at dksX8_isFree_0 1 rfl rfl)
theorem dX8_isFree_2 : decode cX8_isFree 2 = .ok (.iload_n 3, 1) := dk_29 (dk_at dksX8_isFree_0 2 rfl rfl)
theorem dX8_isFree_3 : decode cX8_isFree 3 = .ok (.aload_n 0, 1) := dk_42 (dk_at dksX8_isFree_0 3 rfl rfl)
theorem dX8_isFree_4 : decode cX8_isFree 4 = .ok (.getfield 12, 3) := dk_180 0 12 (dk_at dksX8_isFree_0 4 rfl rfl)
theorem dX8_isFree_7 : decode cX8_isFree 7 = .ok (.invokeinterface 46 1, 5) := by decide +kernel
theorem dX8_isFree_12 : decode cX8_isFree 12 = .ok (.if_icmp .ge 52, 3) := dk_162 0 52 (dk_at dksX8_isFree_0 12 rfl rfl)
theorem dX8_isFree_15 : decode cX8_isFree 15 = .ok (.aload_n 0, 1) := dk_42 (dk_at dksX8_isFree_0 15 rfl rfl)
theorem dX8_isFree_16 : decode cX8_isFree 16 = .ok (.getfield 12, 3) := dk_180 0 12 (dk_at dksX8_isFree_0 16 rfl rfl)
theorem dX8_isFree_19 : decode cX8_isFree 19 = .ok (.iload_n 3, 1) := dk_29 (dk_at dksX8_isFree_0 19 rfl rfl)
theorem dX8_isFree_20 : decode cX8_isFree 20 = .ok (.invokeinterface 52 2, 5) := by decide +kernel
theorem dX8_isFree_25 : decode cX8_isFree 25 = .ok (.checkcast 34, 3) := dk_192 0 34 (dk_at dksX8_isFree_1 5 rfl rfl)
theorem dX8_isFree_28 : decode cX8_isFree 28 = .ok (.getfield 130, 3) := dk_180 0 130 (dk_at dksX8_isFree_1 8 rfl rfl)
theorem dX8_isFree_31 : decode cX8_isFree 31 = .ok (.iload_n 1, 1) := dk_27 (dk_at dksX8_isFree_1 11 rfl rfl)
theorem dX8_isFree_32 : decode cX8_isFree 32 = .ok (.if_icmp .ne 26, 3) := dk_160 0 26 (dk_at dksX8_isFree_1 12 rfl rfl)
theorem dX8_isFree_35 : decode cX8_isFree 35 = .ok (.aload_n 0, 1) := dk_42 (dk_at dksX8_isFree_1 15 rfl rfl)
theorem dX8_isFree_36 : decode cX8_isFree 36 = .ok (.aload_n 0, 1) := dk_42 (dk_at dksX8_isFree_1 16 rfl rfl)
theorem dX8_isFree_37 : decode cX8_isFree 37 = .ok (.getfield 12, 3) := dk_180 0 12 (dk_at dksX8_isFree_1 17 rfl rfl)
theorem dX8_isFree_40 : decode cX8_isFree 40 = .ok (.iload_n 3, 1) := dk_29 (dk_at dksX8_isFree_1 20 rfl rfl)
theorem dX8_isFree_41 : decode cX8_isFree 41 = .ok (.invokeinterface 52 2, 5) := by decide +kernel
theorem dX8_isFree_46 : decode cX8_isFree 46 = .ok (.checkcast 34, 3) := dk_192 0 34 (dk_at dksX8_isFree_2 5 rfl rfl)
theorem dX8_isFree_49 : decode cX8_isFree 49 = .ok (.iload_n 2, 1) := dk_28 (dk_at dksX8_isFree_2 8 rfl rfl)
theorem dX8_isFree_50 : decode cX8_isFree 50 = .ok (.invokevirtual 133, 3) := dk_182 0 133 (dk_at dksX8_isFree_2 9 rfl rfl)
theorem dX8_isFree_53 : decode cX8_isFree 53 = .ok (.ifCond .eq 5, 3) := dk_153 0 5 (dk_at dksX8_isFree_2 12 rfl rfl)
theorem dX8_isFree_56 : decode cX8_isFree 56 = .ok (.iconst 0, 1) := dk_3 (dk_at dksX8_isFree_2 15 rfl rfl)
theorem dX8_isFree_57 : decode cX8_isFree 57 = .ok (.ireturn, 1) := dk_172 (dk_at dksX8_isFree_2 16 rfl rfl)
theorem dX8_isFree_58 : decode cX8_isFree 58 = .ok (.iinc 3 1, 3) := dk_132 3 1 (dk_at dksX8_isFree_2 17 rfl rfl)
theorem dX8_isFree_61 : decode cX8_isFree 61 = .ok (.goto (-59), 3) := dk_167 255 197 (dk_at dksX8_isFree_2 20 rfl rfl)
theorem dX8_isFree_64 : decode cX8_isFree 64 = .ok (.iconst 1, 1) := dk_4 (dk_at dksX8_isFree_2 23 rfl rfl)
theorem dX8_isFree_65 : decode cX8_isFree 65 = .ok (.ireturn, 1) := dk_172 (dk_at dksX8_isFree_3 0 rfl rfl)
abbrev cX8_isHeld : ByteArray := prog_7_method_10_code
def yX8_isHeld : MethodName := ⟨RX8, "isHeld", "(LSpillslotWorks$Life;I)Z"⟩
def dkwX8_isHeld_0 : List UInt8 := [43, 180, 0, 130, 2, 159, 0, 15, 43, 180, 0, 91, 28, 164, 0, 7, 4, 167, 0, 4, 3, 172]
abbrev dktX8_isHeld_0 : List UInt8 := dkwX8_isHeld_0 ++ []
theorem dksX8_isHeld_0 : cX8_isHeld.data.toList.drop 0 = dktX8_isHeld_0 := by decide +kernel
theorem dX8_isHeld_0 : decode cX8_isHeld 0 = .ok (.aload_n 1, 1) := dk_43 (dk_at dksX8_isHeld_0 0 rfl rfl)
theorem dX8_isHeld_1 : decode cX8_isHeld 1 = .ok (.getfield 130, 3) := dk_180 0 130 (dk_at dksX8_isHeld_0 1 rfl rfl)
theorem dX8_isHeld_4 : decode cX8_isHeld 4 = .ok (.iconst (-1), 1) := dk_2 (dk_at dksX8_isHeld_0 4 rfl rfl)
theorem dX8_isHeld_5 : decode cX8_isHeld 5 = .ok (.if_icmp .eq 15, 3) := dk_159 0 15 (dk_at dksX8_isHeld_0 5 rfl rfl)
theorem dX8_isHeld_8 : decode cX8_isHeld 8 = .ok (.aload_n 1, 1) := dk_43 (dk_at dksX8_isHeld_0 8 rfl rfl)
theorem dX8_isHeld_9 : decode cX8_isHeld 9 = .ok (.getfield 91, 3) := dk_180 0 91 (dk_at dksX8_isHeld_0 9 rfl rfl)
theorem dX8_isHeld_12 : decode cX8_isHeld 12 = .ok (.iload_n 2, 1) := dk_28 (dk_at dksX8_isHeld_0 12 rfl rfl)
theorem dX8_isHeld_13 : decode cX8_isHeld 13 = .ok (.if_icmp .le 7, 3) := dk_164 0 7 (dk_at dksX8_isHeld_0 13 rfl rfl)
theorem dX8_isHeld_16 : decode cX8_isHeld 16 = .ok (.iconst 1, 1) := dk_4 (dk_at dksX8_isHeld_0 16 rfl rfl)
theorem dX8_isHeld_17 : decode cX8_isHeld 17 = .ok (.goto 4, 3) := dk_167 0 4 (dk_at dksX8_isHeld_0 17 rfl rfl)
theorem dX8_isHeld_20 : decode cX8_isHeld 20 = .ok (.iconst 0, 1) := dk_3 (dk_at dksX8_isHeld_0 20 rfl rfl)
theorem dX8_isHeld_21 : decode cX8_isHeld 21 = .ok (.ireturn, 1) := dk_172 (dk_at dksX8_isHeld_0 21 rfl rfl)
abbrev cX8_isLess : ByteArray := prog_7_method_15_code
def yX8_isLess : MethodName := ⟨RX8, "isLess", "(LSpillslotWorks$Life;LSpillslotWorks$Life;)Z"⟩
def dkwX8_isLess_1 : List UInt8 := [180, 0, 94, 43, 180, 0, 94, 164, 0, 7, 4, 167, 0, 4, 3, 172]
abbrev dktX8_isLess_1 : List UInt8 := dkwX8_isLess_1 ++ []
def dkwX8_isLess_0 : List UInt8 := [42, 182, 0, 173, 43, 182, 0, 173, 161, 0, 25, 42, 182, 0, 173, 43, 182, 0, 173, 160, 0, 18, 42]
abbrev dktX8_isLess_0 : List UInt8 := dkwX8_isLess_0 ++ dktX8_isLess_1
theorem dksX8_isLess_0 : cX8_isLess.data.toList.drop 0 = dktX8_isLess_0 := by decide +kernel
theorem dksX8_isLess_1 : cX8_isLess.data.toList.drop 23 = dktX8_isLess_1 := dk_seg dksX8_isLess_0 23 rfl rfl
theorem dX8_isLess_0 : decode cX8_isLess 0 = .ok (.aload_n 0, 1) := dk_42 (dk_at dksX8_isLess_0 0 rfl rfl)
theorem dX8_isLess_1 : decode cX8_isLess 1 = .ok (.invokevirtual 173, 3) := dk_182 0 173 (dk_at dksX8_isLess_0 1 rfl rfl)
theorem dX8_isLess_4 : decode cX8_isLess 4 = .ok (.aload_n 1, 1) := dk_43 (dk_at dksX8_isLess_0 4 rfl rfl)
theorem dX8_isLess_5 : decode cX8_isLess 5 = .ok (.invokevirtual 173, 3) := dk_182 0 173 (dk_at dksX8_isLess_0 5 rfl rfl)
theorem dX8_isLess_8 : decode cX8_isLess 8 = .ok (.if_icmp .lt 25, 3) := dk_161 0 25 (dk_at dksX8_isLess_0 8 rfl rfl)
theorem dX8_isLess_11 : decode cX8_isLess 11 = .ok (.aload_n 0, 1) := dk_42 (dk_at dksX8_isLess_0 11 rfl rfl)
theorem dX8_isLess_12 : decode cX8_isLess 12 = .ok (.invokevirtual 173, 3) := dk_182 0 173 (dk_at dksX8_isLess_0 12 rfl rfl)
theorem dX8_isLess_15 : decode cX8_isLess 15 = .ok (.aload_n 1, 1) := dk_43 (dk_at dksX8_isLess_0 15 rfl rfl)
theorem dX8_isLess_16 : decode cX8_isLess 16 = .ok (.invokevirtual 173, 3) := dk_182 0 173 (dk_at dksX8_isLess_0 16 rfl rfl)
theorem dX8_isLess_19 : decode cX8_isLess 19 = .ok (.if_icmp .ne 18, 3) := dk_160 0 18 (dk_at dksX8_isLess_0 19 rfl rfl)
theorem dX8_isLess_22 : decode cX8_isLess 22 = .ok (.aload_n 0, 1) := dk_42 (dk_at dksX8_isLess_0 22 rfl rfl)
theorem dX8_isLess_23 : decode cX8_isLess 23 = .ok (.getfield 94, 3) := dk_180 0 94 (dk_at dksX8_isLess_1 0 rfl rfl)
theorem dX8_isLess_26 : decode cX8_isLess 26 = .ok (.aload_n 1, 1) := dk_43 (dk_at dksX8_isLess_1 3 rfl rfl)
theorem dX8_isLess_27 : decode cX8_isLess 27 = .ok (.getfield 94, 3) := dk_180 0 94 (dk_at dksX8_isLess_1 4 rfl rfl)
theorem dX8_isLess_30 : decode cX8_isLess 30 = .ok (.if_icmp .le 7, 3) := dk_164 0 7 (dk_at dksX8_isLess_1 7 rfl rfl)
theorem dX8_isLess_33 : decode cX8_isLess 33 = .ok (.iconst 1, 1) := dk_4 (dk_at dksX8_isLess_1 10 rfl rfl)
theorem dX8_isLess_34 : decode cX8_isLess 34 = .ok (.goto 4, 3) := dk_167 0 4 (dk_at dksX8_isLess_1 11 rfl rfl)
theorem dX8_isLess_37 : decode cX8_isLess 37 = .ok (.iconst 0, 1) := dk_3 (dk_at dksX8_isLess_1 14 rfl rfl)
theorem dX8_isLess_38 : decode cX8_isLess 38 = .ok (.ireturn, 1) := dk_172 (dk_at dksX8_isLess_1 15 rfl rfl)
abbrev cX8_giveSlots : ByteArray := prog_7_method_16_code
def yX8_giveSlots : MethodName := ⟨RX8, "giveSlots", "()V"⟩
def dkwX8_giveSlots_2 : List UInt8 := [42, 27, 182, 0, 180, 181, 0, 183, 132, 1, 1, 167, 255, 203, 177]
abbrev dktX8_giveSlots_2 : List UInt8 := dkwX8_giveSlots_2 ++ []
def dkwX8_giveSlots_1 : List UInt8 := [185, 0, 52, 2, 0, 192, 0, 34, 77, 44, 180, 0, 170, 153, 0, 19, 44, 182, 0, 176, 154, 0, 12, 44]
abbrev dktX8_giveSlots_1 : List UInt8 := dkwX8_giveSlots_1 ++ dktX8_giveSlots_2
def dkwX8_giveSlots_0 : List UInt8 := [3, 60, 27, 42, 180, 0, 12, 185, 0, 46, 1, 0, 162, 0, 46, 42, 180, 0, 12, 27]
abbrev dktX8_giveSlots_0 : List UInt8 := dkwX8_giveSlots_0 ++ dktX8_giveSlots_1
theorem dksX8_giveSlots_0 : cX8_giveSlots.data.toList.drop 0 = dktX8_giveSlots_0 := by decide +kernel
theorem dksX8_giveSlots_1 : cX8_giveSlots.data.toList.drop 20 = dktX8_giveSlots_1 := dk_seg dksX8_giveSlots_0 20 rfl rfl
theorem dksX8_giveSlots_2 : cX8_giveSlots.data.toList.drop 44 = dktX8_giveSlots_2 := dk_seg dksX8_giveSlots_1 24 rfl rfl
theorem dX8_giveSlots_0 : decode cX8_giveSlots 0 = .ok (.iconst 0, 1) := dk_3 (dk_at dksX8_giveSlots_0 0 rfl rfl)
theorem dX8_giveSlots_1 : decode cX8_giveSlots 1 = .ok (.istore_n 1, 1) := dk_60 (dk_at dksX8_giveSlots_0 1 rfl rfl)
theorem dX8_giveSlots_2 : decode cX8_giveSlots 2 = .ok (.iload_n 1, 1) := dk_27 (dk_at dksX8_giveSlots_0 2 rfl rfl)
theorem dX8_giveSlots_3 : decode cX8_giveSlots 3 = .ok (.aload_n 0, 1) := dk_42 (dk_at dksX8_giveSlots_0 3 rfl rfl)
theorem dX8_giveSlots_4 : decode cX8_giveSlots 4 = .ok (.getfield 12, 3) := dk_180 0 12 (dk_at dksX8_giveSlots_0 4 rfl rfl)
theorem dX8_giveSlots_7 : decode cX8_giveSlots 7 = .ok (.invokeinterface 46 1, 5) := by decide +kernel
theorem dX8_giveSlots_12 : decode cX8_giveSlots 12 = .ok (.if_icmp .ge 46, 3) := dk_162 0 46 (dk_at dksX8_giveSlots_0 12 rfl rfl)
theorem dX8_giveSlots_15 : decode cX8_giveSlots 15 = .ok (.aload_n 0, 1) := dk_42 (dk_at dksX8_giveSlots_0 15 rfl rfl)
theorem dX8_giveSlots_16 : decode cX8_giveSlots 16 = .ok (.getfield 12, 3) := dk_180 0 12 (dk_at dksX8_giveSlots_0 16 rfl rfl)
theorem dX8_giveSlots_19 : decode cX8_giveSlots 19 = .ok (.iload_n 1, 1) := dk_27 (dk_at dksX8_giveSlots_0 19 rfl rfl)
theorem dX8_giveSlots_20 : decode cX8_giveSlots 20 = .ok (.invokeinterface 52 2, 5) := by decide +kernel
theorem dX8_giveSlots_25 : decode cX8_giveSlots 25 = .ok (.checkcast 34, 3) := dk_192 0 34 (dk_at dksX8_giveSlots_1 5 rfl rfl)
theorem dX8_giveSlots_28 : decode cX8_giveSlots 28 = .ok (.astore_n 2, 1) := dk_77 (dk_at dksX8_giveSlots_1 8 rfl rfl)
theorem dX8_giveSlots_29 : decode cX8_giveSlots 29 = .ok (.aload_n 2, 1) := dk_44 (dk_at dksX8_giveSlots_1 9 rfl rfl)
theorem dX8_giveSlots_30 : decode cX8_giveSlots 30 = .ok (.getfield 170, 3) := dk_180 0 170 (dk_at dksX8_giveSlots_1 10 rfl rfl)
theorem dX8_giveSlots_33 : decode cX8_giveSlots 33 = .ok (.ifCond .eq 19, 3) := dk_153 0 19 (dk_at dksX8_giveSlots_1 13 rfl rfl)
theorem dX8_giveSlots_36 : decode cX8_giveSlots 36 = .ok (.aload_n 2, 1) := dk_44 (dk_at dksX8_giveSlots_1 16 rfl rfl)
theorem dX8_giveSlots_37 : decode cX8_giveSlots 37 = .ok (.invokevirtual 176, 3) := dk_182 0 176 (dk_at dksX8_giveSlots_1 17 rfl rfl)
theorem dX8_giveSlots_40 : decode cX8_giveSlots 40 = .ok (.ifCond .ne 12, 3) := dk_154 0 12 (dk_at dksX8_giveSlots_1 20 rfl rfl)
theorem dX8_giveSlots_43 : decode cX8_giveSlots 43 = .ok (.aload_n 2, 1) := dk_44 (dk_at dksX8_giveSlots_1 23 rfl rfl)
theorem dX8_giveSlots_44 : decode cX8_giveSlots 44 = .ok (.aload_n 0, 1) := dk_42 (dk_at dksX8_giveSlots_2 0 rfl rfl)
theorem dX8_giveSlots_45 : decode cX8_giveSlots 45 = .ok (.iload_n 1, 1) := dk_27 (dk_at dksX8_giveSlots_2 1 rfl rfl)
theorem dX8_giveSlots_46 : decode cX8_giveSlots 46 = .ok (.invokevirtual 180, 3) := dk_182 0 180 (dk_at dksX8_giveSlots_2 2 rfl rfl)
theorem dX8_giveSlots_49 : decode cX8_giveSlots 49 = .ok (.putfield 183, 3) := dk_181 0 183 (dk_at dksX8_giveSlots_2 5 rfl rfl)
theorem dX8_giveSlots_52 : decode cX8_giveSlots 52 = .ok (.iinc 1 1, 3) := dk_132 1 1 (dk_at dksX8_giveSlots_2 8 rfl rfl)
theorem dX8_giveSlots_55 : decode cX8_giveSlots 55 = .ok (.goto (-53), 3) := dk_167 255 203 (dk_at dksX8_giveSlots_2 11 rfl rfl)
theorem dX8_giveSlots_58 : decode cX8_giveSlots 58 = .ok (.return_, 1) := dk_177 (dk_at dksX8_giveSlots_2 14 rfl rfl)
abbrev cX8_freeSlot : ByteArray := prog_7_method_17_code
def yX8_freeSlot : MethodName := ⟨RX8, "freeSlot", "(I)I"⟩
def dkwX8_freeSlot_4 : List UInt8 := [62, 167, 255, 166, 28, 172]
abbrev dktX8_freeSlot_4 : List UInt8 := dkwX8_freeSlot_4 ++ []
def dkwX8_freeSlot_3 : List UInt8 := [21, 4, 153, 0, 7, 4, 167, 0, 4, 3, 96, 61, 21, 4, 153, 0, 7, 3, 167, 0, 6, 29, 4, 96]
abbrev dktX8_freeSlot_3 : List UInt8 := dkwX8_freeSlot_3 ++ dktX8_freeSlot_4
def dkwX8_freeSlot_2 : List UInt8 := [27, 185, 0, 52, 2, 0, 192, 0, 34, 182, 0, 186, 153, 0, 7, 4, 167, 0, 4, 3, 54, 4, 28]
abbrev dktX8_freeSlot_2 : List UInt8 := dkwX8_freeSlot_2 ++ dktX8_freeSlot_3
def dkwX8_freeSlot_1 : List UInt8 := [180, 0, 183, 28, 160, 0, 39, 42, 180, 0, 12, 29, 185, 0, 52, 2, 0, 192, 0, 34, 42, 180, 0, 12]
abbrev dktX8_freeSlot_1 : List UInt8 := dkwX8_freeSlot_1 ++ dktX8_freeSlot_2
def dkwX8_freeSlot_0 : List UInt8 := [3, 61, 3, 62, 29, 27, 162, 0, 91, 42, 180, 0, 12, 29, 185, 0, 52, 2, 0, 192, 0, 34]
abbrev dktX8_freeSlot_0 : List UInt8 := dkwX8_freeSlot_0 ++ dktX8_freeSlot_1
theorem dksX8_freeSlot_0 : cX8_freeSlot.data.toList.drop 0 = dktX8_freeSlot_0 := by decide +kernel
theorem dksX8_freeSlot_1 : cX8_freeSlot.data.toList.drop 22 = dktX8_freeSlot_1 := dk_seg dksX8_freeSlot_0 22 rfl rfl
theorem dksX8_freeSlot_2 : cX8_freeSlot.data.toList.drop 46 = dktX8_freeSlot_2 := dk_seg dksX8_freeSlot_1 24 rfl rfl
theorem dksX8_freeSlot_3 : cX8_freeSlot.data.toList.drop 69 = dktX8_freeSlot_3 := dk_seg dksX8_freeSlot_2 23 rfl rfl
theorem dksX8_freeSlot_4 : cX8_freeSlot.data.toList.drop 93 = dktX8_freeSlot_4 := dk_seg dksX8_freeSlot_3 24 rfl rfl
theorem dX8_freeSlot_0 : decode cX8_freeSlot 0 = .ok (.iconst 0, 1) := dk_3 (dk_at dksX8_freeSlot_0 0 rfl rfl)
theorem dX8_freeSlot_1 : decode cX8_freeSlot 1 = .ok (.istore_n 2, 1) := dk_61 (dk_at dksX8_freeSlot_0 1 rfl rfl)
theorem dX8_freeSlot_2 : decode cX8_freeSlot 2 = .ok (.iconst 0, 1) := dk_3 (dk_at dksX8_freeSlot_0 2 rfl rfl)
theorem dX8_freeSlot_3 : decode cX8_freeSlot 3 = .ok (.istore_n 3, 1) := dk_62 (dk_at dksX8_freeSlot_0 3 rfl rfl)
theorem dX8_freeSlot_4 : decode cX8_freeSlot 4 = .ok (.iload_n 3, 1) := dk_29 (dk_at dksX8_freeSlot_0 4 rfl rfl)
theorem dX8_freeSlot_5 : decode cX8_freeSlot 5 = .ok (.iload_n 1, 1) := dk_27 (dk_at dksX8_freeSlot_0 5 rfl rfl)
theorem dX8_freeSlot_6 : decode cX8_freeSlot 6 = .ok (.if_icmp .ge 91, 3) := dk_162 0 91 (dk_at dksX8_freeSlot_0 6 rfl rfl)
theorem dX8_freeSlot_9 : decode cX8_freeSlot 9 = .ok (.aload_n 0, 1) := dk_42 (dk_at dksX8_freeSlot_0 9 rfl rfl)
theorem dX8_freeSlot_10 : decode cX8_freeSlot 10 = .ok (.getfield 12, 3) := dk_180 0 12 (dk_at dksX8_freeSlot_0 10 rfl rfl)
theorem dX8_freeSlot_13 : decode cX8_freeSlot 13 = .ok (.iload_n 3, 1) := dk_29 (dk_at dksX8_freeSlot_0 13 rfl rfl)
theorem dX8_freeSlot_14 : decode cX8_freeSlot 14 = .ok (.invokeinterface 52 2, 5) := by decide +kernel
theorem dX8_freeSlot_19 : decode cX8_freeSlot 19 = .ok (.checkcast 34, 3) := dk_192 0 34 (dk_at dksX8_freeSlot_0 19 rfl rfl)
theorem dX8_freeSlot_22 : decode cX8_freeSlot 22 = .ok (.getfield 183, 3) := dk_180 0 183 (dk_at dksX8_freeSlot_1 0 rfl rfl)
theorem dX8_freeSlot_25 : decode cX8_freeSlot 25 = .ok (.iload_n 2, 1) := dk_28 (dk_at dksX8_freeSlot_1 3 rfl rfl)
theorem dX8_freeSlot_26 : decode cX8_freeSlot 26 = .ok (.if_icmp .ne 39, 3) := dk_160 0 39 (dk_at dksX8_freeSlot_1 4 rfl rfl)
theorem dX8_freeSlot_29 : decode cX8_freeSlot 29 = .ok (.aload_n 0, 1) := dk_42 (dk_at dksX8_freeSlot_1 7 rfl rfl)
theorem dX8_freeSlot_30 : decode cX8_freeSlot 30 = .ok (.getfield 12, 3) := dk_180 0 12 (dk_at dksX8_freeSlot_1 8 rfl rfl)
theorem dX8_freeSlot_33 : decode cX8_freeSlot 33 = .ok (.iload_n 3, 1) := dk_29 (dk_at dksX8_freeSlot_1 11 rfl rfl)
theorem dX8_freeSlot_34 : decode cX8_freeSlot 34 = .ok (.invokeinterface 52 2, 5) := by decide +kernel
theorem dX8_freeSlot_39 : decode cX8_freeSlot 39 = .ok (.checkcast 34, 3) := dk_192 0 34 (dk_at dksX8_freeSlot_1 17 rfl rfl)
theorem dX8_freeSlot_42 : decode cX8_freeSlot 42 = .ok (.aload_n 0, 1) := dk_42 (dk_at dksX8_freeSlot_1 20 rfl rfl)
theorem dX8_freeSlot_43 : decode cX8_freeSlot 43 = .ok (.getfield 12, 3) := dk_180 0 12 (dk_at dksX8_freeSlot_1 21 rfl rfl)
theorem dX8_freeSlot_46 : decode cX8_freeSlot 46 = .ok (.iload_n 1, 1) := dk_27 (dk_at dksX8_freeSlot_2 0 rfl rfl)
theorem dX8_freeSlot_47 : decode cX8_freeSlot 47 = .ok (.invokeinterface 52 2, 5) := by decide +kernel
theorem dX8_freeSlot_52 : decode cX8_freeSlot 52 = .ok (.checkcast 34, 3) := dk_192 0 34 (dk_at dksX8_freeSlot_2 6 rfl rfl)
theorem dX8_freeSlot_55 : decode cX8_freeSlot 55 = .ok (.invokevirtual 186, 3) := dk_182 0 186 (dk_at dksX8_freeSlot_2 9 rfl rfl)
theorem dX8_freeSlot_58 : decode cX8_freeSlot 58 = .ok (.ifCond .eq 7, 3) := dk_153 0 7 (dk_at dksX8_freeSlot_2 12 rfl rfl)
theorem dX8_freeSlot_61 : decode cX8_freeSlot 61 = .ok (.iconst 1, 1) := dk_4 (dk_at dksX8_freeSlot_2 15 rfl rfl)
theorem dX8_freeSlot_62 : decode cX8_freeSlot 62 = .ok (.goto 4, 3) := dk_167 0 4 (dk_at dksX8_freeSlot_2 16 rfl rfl)
theorem dX8_freeSlot_65 : decode cX8_freeSlot 65 = .ok (.iconst 0, 1) := dk_3 (dk_at dksX8_freeSlot_2 19 rfl rfl)
theorem dX8_freeSlot_66 : decode cX8_freeSlot 66 = .ok (.istore 4, 2) := dk_54 4 (dk_at dksX8_freeSlot_2 20 rfl rfl)
theorem dX8_freeSlot_68 : decode cX8_freeSlot 68 = .ok (.iload_n 2, 1) := dk_28 (dk_at dksX8_freeSlot_2 22 rfl rfl)
theorem dX8_freeSlot_69 : decode cX8_freeSlot 69 = .ok (.iload 4, 2) := dk_21 4 (dk_at dksX8_freeSlot_3 0 rfl rfl)
theorem dX8_freeSlot_71 : decode cX8_freeSlot 71 = .ok (.ifCond .eq 7, 3) := dk_153 0 7 (dk_at dksX8_freeSlot_3 2 rfl rfl)
theorem dX8_freeSlot_74 : decode cX8_freeSlot 74 = .ok (.iconst 1, 1) := dk_4 (dk_at dksX8_freeSlot_3 5 rfl rfl)
theorem dX8_freeSlot_75 : decode cX8_freeSlot 75 = .ok (.goto 4, 3) := dk_167 0 4 (dk_at dksX8_freeSlot_3 6 rfl rfl)
theorem dX8_freeSlot_78 : decode cX8_freeSlot 78 = .ok (.iconst 0, 1) := dk_3 (dk_at dksX8_freeSlot_3 9 rfl rfl)
theorem dX8_freeSlot_79 : decode cX8_freeSlot 79 = .ok (.iadd, 1) := dk_96 (dk_at dksX8_freeSlot_3 10 rfl rfl)
theorem dX8_freeSlot_80 : decode cX8_freeSlot 80 = .ok (.istore_n 2, 1) := dk_61 (dk_at dksX8_freeSlot_3 11 rfl rfl)
theorem dX8_freeSlot_81 : decode cX8_freeSlot 81 = .ok (.iload 4, 2) := dk_21 4 (dk_at dksX8_freeSlot_3 12 rfl rfl)
theorem dX8_freeSlot_83 : decode cX8_freeSlot 83 = .ok (.ifCond .eq 7, 3) := dk_153 0 7 (dk_at dksX8_freeSlot_3 14 rfl rfl)
theorem dX8_freeSlot_86 : decode cX8_freeSlot 86 = .ok (.iconst 0, 1) := dk_3 (dk_at dksX8_freeSlot_3 17 rfl rfl)
theorem dX8_freeSlot_87 : decode cX8_freeSlot 87 = .ok (.goto 6, 3) := dk_167 0 6 (dk_at dksX8_freeSlot_3 18 rfl rfl)
theorem dX8_freeSlot_90 : decode cX8_freeSlot 90 = .ok (.iload_n 3, 1) := dk_29 (dk_at dksX8_freeSlot_3 21 rfl rfl)
theorem dX8_freeSlot_91 : decode cX8_freeSlot 91 = .ok (.iconst 1, 1) := dk_4 (dk_at dksX8_freeSlot_3 22 rfl rfl)
theorem dX8_freeSlot_92 : decode cX8_freeSlot 92 = .ok (.iadd, 1) := dk_96 (dk_at dksX8_freeSlot_3 23 rfl rfl)
theorem dX8_freeSlot_93 : decode cX8_freeSlot 93 = .ok (.istore_n 3, 1) := dk_62 (dk_at dksX8_freeSlot_4 0 rfl rfl)
theorem dX8_freeSlot_94 : decode cX8_freeSlot 94 = .ok (.goto (-90), 3) := dk_167 255 166 (dk_at dksX8_freeSlot_4 1 rfl rfl)
theorem dX8_freeSlot_97 : decode cX8_freeSlot 97 = .ok (.iload_n 2, 1) := dk_28 (dk_at dksX8_freeSlot_4 4 rfl rfl)
theorem dX8_freeSlot_98 : decode cX8_freeSlot 98 = .ok (.ireturn, 1) := dk_172 (dk_at dksX8_freeSlot_4 5 rfl rfl)
abbrev cX8_slots : ByteArray := prog_7_method_18_code
def yX8_slots : MethodName := ⟨RX8, "slots", "()I"⟩
def dkwX8_slots_2 : List UInt8 := [172]
abbrev dktX8_slots_2 : List UInt8 := dkwX8_slots_2 ++ []
def dkwX8_slots_1 : List UInt8 := [185, 0, 52, 2, 0, 192, 0, 34, 180, 0, 183, 4, 96, 184, 0, 190, 60, 132, 2, 1, 167, 255, 217, 27]
abbrev dktX8_slots_1 : List UInt8 := dkwX8_slots_1 ++ dktX8_slots_2
def dkwX8_slots_0 : List UInt8 := [3, 60, 3, 61, 28, 42, 180, 0, 12, 185, 0, 46, 1, 0, 162, 0, 32, 27, 42, 180, 0, 12, 28]
abbrev dktX8_slots_0 : List UInt8 := dkwX8_slots_0 ++ dktX8_slots_1
theorem dksX8_slots_0 : cX8_slots.data.toList.drop 0 = dktX8_slots_0 := by decide +kernel
theorem dksX8_slots_1 : cX8_slots.data.toList.drop 23 = dktX8_slots_1 := dk_seg dksX8_slots_0 23 rfl rfl
theorem dksX8_slots_2 : cX8_slots.data.toList.drop 47 = dktX8_slots_2 := dk_seg dksX8_slots_1 24 rfl rfl
theorem dX8_slots_0 : decode cX8_slots 0 = .ok (.iconst 0, 1) := dk_3 (dk_at dksX8_slots_0 0 rfl rfl)
theorem dX8_slots_1 : decode cX8_slots 1 = .ok (.istore_n 1, 1) := dk_60 (dk_at dksX8_slots_0 1 rfl rfl)
theorem dX8_slots_2 : decode cX8_slots 2 = .ok (.iconst 0, 1) := dk_3 (dk_at dksX8_slots_0 2 rfl rfl)
theorem dX8_slots_3 : decode cX8_slots 3 = .ok (.istore_n 2, 1) := dk_61 (dk_at dksX8_slots_0 3 rfl rfl)
theorem dX8_slots_4 : decode cX8_slots 4 = .ok (.iload_n 2, 1) := dk_28 (dk_at dksX8_slots_0 4 rfl rfl)
theorem dX8_slots_5 : decode cX8_slots 5 = .ok (.aload_n 0, 1) := dk_42 (dk_at dksX8_slots_0 5 rfl rfl)
theorem dX8_slots_6 : decode cX8_slots 6 = .ok (.getfield 12, 3) := dk_180 0 12 (dk_at dksX8_slots_0 6 rfl rfl)
theorem dX8_slots_9 : decode cX8_slots 9 = .ok (.invokeinterface 46 1, 5) := by decide +kernel
theorem dX8_slots_14 : decode cX8_slots 14 = .ok (.if_icmp .ge 32, 3) := dk_162 0 32 (dk_at dksX8_slots_0 14 rfl rfl)
theorem dX8_slots_17 : decode cX8_slots 17 = .ok (.iload_n 1, 1) := dk_27 (dk_at dksX8_slots_0 17 rfl rfl)
theorem dX8_slots_18 : decode cX8_slots 18 = .ok (.aload_n 0, 1) := dk_42 (dk_at dksX8_slots_0 18 rfl rfl)
theorem dX8_slots_19 : decode cX8_slots 19 = .ok (.getfield 12, 3) := dk_180 0 12 (dk_at dksX8_slots_0 19 rfl rfl)
theorem dX8_slots_22 : decode cX8_slots 22 = .ok (.iload_n 2, 1) := dk_28 (dk_at dksX8_slots_0 22 rfl rfl)
theorem dX8_slots_23 : decode cX8_slots 23 = .ok (.invokeinterface 52 2, 5) := by decide +kernel
theorem dX8_slots_28 : decode cX8_slots 28 = .ok (.checkcast 34, 3) := dk_192 0 34 (dk_at dksX8_slots_1 5 rfl rfl)
theorem dX8_slots_31 : decode cX8_slots 31 = .ok (.getfield 183, 3) := dk_180 0 183 (dk_at dksX8_slots_1 8 rfl rfl)
theorem dX8_slots_34 : decode cX8_slots 34 = .ok (.iconst 1, 1) := dk_4 (dk_at dksX8_slots_1 11 rfl rfl)
theorem dX8_slots_35 : decode cX8_slots 35 = .ok (.iadd, 1) := dk_96 (dk_at dksX8_slots_1 12 rfl rfl)
theorem dX8_slots_36 : decode cX8_slots 36 = .ok (.invokestatic 190, 3) := dk_184 0 190 (dk_at dksX8_slots_1 13 rfl rfl)
theorem dX8_slots_39 : decode cX8_slots 39 = .ok (.istore_n 1, 1) := dk_60 (dk_at dksX8_slots_1 16 rfl rfl)
theorem dX8_slots_40 : decode cX8_slots 40 = .ok (.iinc 2 1, 3) := dk_132 2 1 (dk_at dksX8_slots_1 17 rfl rfl)
theorem dX8_slots_43 : decode cX8_slots 43 = .ok (.goto (-39), 3) := dk_167 255 217 (dk_at dksX8_slots_1 20 rfl rfl)
theorem dX8_slots_46 : decode cX8_slots 46 = .ok (.iload_n 1, 1) := dk_27 (dk_at dksX8_slots_1 23 rfl rfl)
theorem dX8_slots_47 : decode cX8_slots 47 = .ok (.ireturn, 1) := dk_172 (dk_at dksX8_slots_2 0 rfl rfl)
abbrev cX8_spilled : ByteArray := prog_7_method_20_code
def yX8_spilled : MethodName := ⟨RX8, "spilled", "(Z)I"⟩
def dkwX8_spilled_3 : List UInt8 := [167, 255, 190, 28, 172]
abbrev dktX8_spilled_3 : List UInt8 := dkwX8_spilled_3 ++ []
def dkwX8_spilled_2 : List UInt8 := [185, 0, 52, 2, 0, 192, 0, 34, 182, 0, 176, 153, 0, 7, 4, 167, 0, 4, 3, 96, 61, 132, 3, 1]
abbrev dktX8_spilled_2 : List UInt8 := dkwX8_spilled_2 ++ dktX8_spilled_3
def dkwX8_spilled_1 : List UInt8 := [185, 0, 52, 2, 0, 192, 0, 34, 180, 0, 170, 153, 0, 30, 27, 153, 0, 22, 42, 180, 0, 12, 29]
abbrev dktX8_spilled_1 : List UInt8 := dkwX8_spilled_1 ++ dktX8_spilled_2
def dkwX8_spilled_0 : List UInt8 := [3, 61, 3, 62, 29, 42, 180, 0, 12, 185, 0, 46, 1, 0, 162, 0, 59, 28, 42, 180, 0, 12, 29]
abbrev dktX8_spilled_0 : List UInt8 := dkwX8_spilled_0 ++ dktX8_spilled_1
theorem dksX8_spilled_0 : cX8_spilled.data.toList.drop 0 = dktX8_spilled_0 := by decide +kernel
theorem dksX8_spilled_1 : cX8_spilled.data.toList.drop 23 = dktX8_spilled_1 := dk_seg dksX8_spilled_0 23 rfl rfl
theorem dksX8_spilled_2 : cX8_spilled.data.toList.drop 46 = dktX8_spilled_2 := dk_seg dksX8_spilled_1 23 rfl rfl
theorem dksX8_spilled_3 : cX8_spilled.data.toList.drop 70 = dktX8_spilled_3 := dk_seg dksX8_spilled_2 24 rfl rfl
theorem dX8_spilled_0 : decode cX8_spilled 0 = .ok (.iconst 0, 1) := dk_3 (dk_at dksX8_spilled_0 0 rfl rfl)
theorem dX8_spilled_1 : decode cX8_spilled 1 = .ok (.istore_n 2, 1) := dk_61 (dk_at dksX8_spilled_0 1 rfl rfl)
theorem dX8_spilled_2 : decode cX8_spilled 2 = .ok (.iconst 0, 1) := dk_3 (dk_at dksX8_spilled_0 2 rfl rfl)
theorem dX8_spilled_3 : decode cX8_spilled 3 = .ok (.istore_n 3, 1) := dk_62 (dk_at dksX8_spilled_0 3 rfl rfl)
theorem dX8_spilled_4 : decode cX8_spilled 4 = .ok (.iload_n 3, 1) := dk_29 (dk_at dksX8_spilled_0 4 rfl rfl)
theorem dX8_spilled_5 : decode cX8_spilled 5 = .ok (.aload_n 0, 1) := dk_42 (dk_at dksX8_spilled_0 5 rfl rfl)
theorem dX8_spilled_6 : decode cX8_spilled 6 = .ok (.getfield 12, 3) := dk_180 0 12 (dk_at dksX8_spilled_0 6 rfl rfl)
theorem dX8_spilled_9 : decode cX8_spilled 9 = .ok (.invokeinterface 46 1, 5) := by decide +kernel
theorem dX8_spilled_14 : decode cX8_spilled 14 = .ok (.if_icmp .ge 59, 3) := dk_162 0 59 (dk_at dksX8_spilled_0 14 rfl rfl)
theorem dX8_spilled_17 : decode cX8_spilled 17 = .ok (.iload_n 2, 1) := dk_28 (dk_at dksX8_spilled_0 17 rfl rfl)
theorem dX8_spilled_18 : decode cX8_spilled 18 = .ok (.aload_n 0, 1) := dk_42 (dk_at dksX8_spilled_0 18 rfl rfl)
theorem dX8_spilled_19 : decode cX8_spilled 19 = .ok (.getfield 12, 3) := dk_180 0 12 (dk_at dksX8_spilled_0 19 rfl rfl)
theorem dX8_spilled_22 : decode cX8_spilled 22 = .ok (.iload_n 3, 1) := dk_29 (dk_at dksX8_spilled_0 22 rfl rfl)
theorem dX8_spilled_23 : decode cX8_spilled 23 = .ok (.invokeinterface 52 2, 5) := by decide +kernel
theorem dX8_spilled_28 : decode cX8_spilled 28 = .ok (.checkcast 34, 3) := dk_192 0 34 (dk_at dksX8_spilled_1 5 rfl rfl)
theorem dX8_spilled_31 : decode cX8_spilled 31 = .ok (.getfield 170, 3) := dk_180 0 170 (dk_at dksX8_spilled_1 8 rfl rfl)
theorem dX8_spilled_34 : decode cX8_spilled 34 = .ok (.ifCond .eq 30, 3) := dk_153 0 30 (dk_at dksX8_spilled_1 11 rfl rfl)
theorem dX8_spilled_37 : decode cX8_spilled 37 = .ok (.iload_n 1, 1) := dk_27 (dk_at dksX8_spilled_1 14 rfl rfl)
theorem dX8_spilled_38 : decode cX8_spilled 38 = .ok (.ifCond .eq 22, 3) := dk_153 0 22 (dk_at dksX8_spilled_1 15 rfl rfl)
theorem dX8_spilled_41 : decode cX8_spilled 41 = .ok (.aload_n 0, 1) := dk_42 (dk_at dksX8_spilled_1 18 rfl rfl)
theorem dX8_spilled_42 : decode cX8_spilled 42 = .ok (.getfield 12, 3) := dk_180 0 12 (dk_at dksX8_spilled_1 19 rfl rfl)
theorem dX8_spilled_45 : decode cX8_spilled 45 = .ok (.iload_n 3, 1) := dk_29 (dk_at dksX8_spilled_1 22 rfl rfl)
theorem dX8_spilled_46 : decode cX8_spilled 46 = .ok (.invokeinterface 52 2, 5) := by decide +kernel
theorem dX8_spilled_51 : decode cX8_spilled 51 = .ok (.checkcast 34, 3) := dk_192 0 34 (dk_at dksX8_spilled_2 5 rfl rfl)
theorem dX8_spilled_54 : decode cX8_spilled 54 = .ok (.invokevirtual 176, 3) := dk_182 0 176 (dk_at dksX8_spilled_2 8 rfl rfl)
theorem dX8_spilled_57 : decode cX8_spilled 57 = .ok (.ifCond .eq 7, 3) := dk_153 0 7 (dk_at dksX8_spilled_2 11 rfl rfl)
theorem dX8_spilled_60 : decode cX8_spilled 60 = .ok (.iconst 1, 1) := dk_4 (dk_at dksX8_spilled_2 14 rfl rfl)
theorem dX8_spilled_61 : decode cX8_spilled 61 = .ok (.goto 4, 3) := dk_167 0 4 (dk_at dksX8_spilled_2 15 rfl rfl)
theorem dX8_spilled_64 : decode cX8_spilled 64 = .ok (.iconst 0, 1) := dk_3 (dk_at dksX8_spilled_2 18 rfl rfl)
theorem dX8_spilled_65 : decode cX8_spilled 65 = .ok (.iadd, 1) := dk_96 (dk_at dksX8_spilled_2 19 rfl rfl)
theorem dX8_spilled_66 : decode cX8_spilled 66 = .ok (.istore_n 2, 1) := dk_61 (dk_at dksX8_spilled_2 20 rfl rfl)
theorem dX8_spilled_67 : decode cX8_spilled 67 = .ok (.iinc 3 1, 3) := dk_132 3 1 (dk_at dksX8_spilled_2 21 rfl rfl)
theorem dX8_spilled_70 : decode cX8_spilled 70 = .ok (.goto (-66), 3) := dk_167 255 190 (dk_at dksX8_spilled_3 0 rfl rfl)
theorem dX8_spilled_73 : decode cX8_spilled 73 = .ok (.iload_n 2, 1) := dk_28 (dk_at dksX8_spilled_3 3 rfl rfl)
theorem dX8_spilled_74 : decode cX8_spilled 74 = .ok (.ireturn, 1) := dk_172 (dk_at dksX8_spilled_3 4 rfl rfl)
abbrev cX8_frame : ByteArray := prog_7_method_19_code
def yX8_frame : MethodName := ⟨RX8, "frame", "()I"⟩
def dkwX8_frame_3 : List UInt8 := [182, 0, 196, 27, 184, 0, 199, 96, 4, 96, 5, 108, 5, 104, 172]
abbrev dktX8_frame_3 : List UInt8 := dkwX8_frame_3 ++ []
def dkwX8_frame_2 : List UInt8 := [182, 0, 125, 153, 0, 9, 4, 29, 120, 167, 0, 4, 3, 128, 60, 132, 2, 1, 167, 255, 197, 42]
abbrev dktX8_frame_2 : List UInt8 := dkwX8_frame_2 ++ dktX8_frame_3
def dkwX8_frame_1 : List UInt8 := [185, 0, 52, 2, 0, 192, 0, 34, 180, 0, 130, 62, 27, 29, 2, 159, 0, 20, 42, 180, 0, 25, 29]
abbrev dktX8_frame_1 : List UInt8 := dkwX8_frame_1 ++ dktX8_frame_2
def dkwX8_frame_0 : List UInt8 := [3, 60, 3, 61, 28, 42, 180, 0, 12, 185, 0, 46, 1, 0, 162, 0, 52, 42, 180, 0, 12, 28]
abbrev dktX8_frame_0 : List UInt8 := dkwX8_frame_0 ++ dktX8_frame_1
theorem dksX8_frame_0 : cX8_frame.data.toList.drop 0 = dktX8_frame_0 := by decide +kernel
theorem dksX8_frame_1 : cX8_frame.data.toList.drop 22 = dktX8_frame_1 := dk_seg dksX8_frame_0 22 rfl rfl
theorem dksX8_frame_2 : cX8_frame.data.toList.drop 45 = dktX8_frame_2 := dk_seg dksX8_frame_1 23 rfl rfl
theorem dksX8_frame_3 : cX8_frame.data.toList.drop 67 = dktX8_frame_3 := dk_seg dksX8_frame_2 22 rfl rfl
theorem dX8_frame_0 : decode cX8_frame 0 = .ok (.iconst 0, 1) := dk_3 (dk_at dksX8_frame_0 0 rfl rfl)
theorem dX8_frame_1 : decode cX8_frame 1 = .ok (.istore_n 1, 1) := dk_60 (dk_at dksX8_frame_0 1 rfl rfl)
theorem dX8_frame_2 : decode cX8_frame 2 = .ok (.iconst 0, 1) := dk_3 (dk_at dksX8_frame_0 2 rfl rfl)
theorem dX8_frame_3 : decode cX8_frame 3 = .ok (.istore_n 2, 1) := dk_61 (dk_at dksX8_frame_0 3 rfl rfl)
theorem dX8_frame_4 : decode cX8_frame 4 = .ok (.iload_n 2, 1) := dk_28 (dk_at dksX8_frame_0 4 rfl rfl)
theorem dX8_frame_5 : decode cX8_frame 5 = .ok (.aload_n 0, 1) := dk_42 (dk_at dksX8_frame_0 5 rfl rfl)
theorem dX8_frame_6 : decode cX8_frame 6 = .ok (.getfield 12, 3) := dk_180 0 12 (dk_at dksX8_frame_0 6 rfl rfl)
theorem dX8_frame_9 : decode cX8_frame 9 = .ok (.invokeinterface 46 1, 5) := by decide +kernel
theorem dX8_frame_14 : decode cX8_frame 14 = .ok (.if_icmp .ge 52, 3) := dk_162 0 52 (dk_at dksX8_frame_0 14 rfl rfl)
theorem dX8_frame_17 : decode cX8_frame 17 = .ok (.aload_n 0, 1) := dk_42 (dk_at dksX8_frame_0 17 rfl rfl)
theorem dX8_frame_18 : decode cX8_frame 18 = .ok (.getfield 12, 3) := dk_180 0 12 (dk_at dksX8_frame_0 18 rfl rfl)
theorem dX8_frame_21 : decode cX8_frame 21 = .ok (.iload_n 2, 1) := dk_28 (dk_at dksX8_frame_0 21 rfl rfl)
theorem dX8_frame_22 : decode cX8_frame 22 = .ok (.invokeinterface 52 2, 5) := by decide +kernel
theorem dX8_frame_27 : decode cX8_frame 27 = .ok (.checkcast 34, 3) := dk_192 0 34 (dk_at dksX8_frame_1 5 rfl rfl)
theorem dX8_frame_30 : decode cX8_frame 30 = .ok (.getfield 130, 3) := dk_180 0 130 (dk_at dksX8_frame_1 8 rfl rfl)
theorem dX8_frame_33 : decode cX8_frame 33 = .ok (.istore_n 3, 1) := dk_62 (dk_at dksX8_frame_1 11 rfl rfl)
theorem dX8_frame_34 : decode cX8_frame 34 = .ok (.iload_n 1, 1) := dk_27 (dk_at dksX8_frame_1 12 rfl rfl)
theorem dX8_frame_35 : decode cX8_frame 35 = .ok (.iload_n 3, 1) := dk_29 (dk_at dksX8_frame_1 13 rfl rfl)
theorem dX8_frame_36 : decode cX8_frame 36 = .ok (.iconst (-1), 1) := dk_2 (dk_at dksX8_frame_1 14 rfl rfl)
theorem dX8_frame_37 : decode cX8_frame 37 = .ok (.if_icmp .eq 20, 3) := dk_159 0 20 (dk_at dksX8_frame_1 15 rfl rfl)
theorem dX8_frame_40 : decode cX8_frame 40 = .ok (.aload_n 0, 1) := dk_42 (dk_at dksX8_frame_1 18 rfl rfl)
theorem dX8_frame_41 : decode cX8_frame 41 = .ok (.getfield 25, 3) := dk_180 0 25 (dk_at dksX8_frame_1 19 rfl rfl)
theorem dX8_frame_44 : decode cX8_frame 44 = .ok (.iload_n 3, 1) := dk_29 (dk_at dksX8_frame_1 22 rfl rfl)
theorem dX8_frame_45 : decode cX8_frame 45 = .ok (.invokevirtual 125, 3) := dk_182 0 125 (dk_at dksX8_frame_2 0 rfl rfl)
theorem dX8_frame_48 : decode cX8_frame 48 = .ok (.ifCond .eq 9, 3) := dk_153 0 9 (dk_at dksX8_frame_2 3 rfl rfl)
theorem dX8_frame_51 : decode cX8_frame 51 = .ok (.iconst 1, 1) := dk_4 (dk_at dksX8_frame_2 6 rfl rfl)
theorem dX8_frame_52 : decode cX8_frame 52 = .ok (.iload_n 3, 1) := dk_29 (dk_at dksX8_frame_2 7 rfl rfl)
theorem dX8_frame_53 : decode cX8_frame 53 = .ok (.ishl, 1) := dk_120 (dk_at dksX8_frame_2 8 rfl rfl)
theorem dX8_frame_54 : decode cX8_frame 54 = .ok (.goto 4, 3) := dk_167 0 4 (dk_at dksX8_frame_2 9 rfl rfl)
theorem dX8_frame_57 : decode cX8_frame 57 = .ok (.iconst 0, 1) := dk_3 (dk_at dksX8_frame_2 12 rfl rfl)
theorem dX8_frame_58 : decode cX8_frame 58 = .ok (.ior, 1) := dk_128 (dk_at dksX8_frame_2 13 rfl rfl)
theorem dX8_frame_59 : decode cX8_frame 59 = .ok (.istore_n 1, 1) := dk_60 (dk_at dksX8_frame_2 14 rfl rfl)
theorem dX8_frame_60 : decode cX8_frame 60 = .ok (.iinc 2 1, 3) := dk_132 2 1 (dk_at dksX8_frame_2 15 rfl rfl)
theorem dX8_frame_63 : decode cX8_frame 63 = .ok (.goto (-59), 3) := dk_167 255 197 (dk_at dksX8_frame_2 18 rfl rfl)
theorem dX8_frame_66 : decode cX8_frame 66 = .ok (.aload_n 0, 1) := dk_42 (dk_at dksX8_frame_2 21 rfl rfl)
theorem dX8_frame_67 : decode cX8_frame 67 = .ok (.invokevirtual 196, 3) := dk_182 0 196 (dk_at dksX8_frame_3 0 rfl rfl)
theorem dX8_frame_70 : decode cX8_frame 70 = .ok (.iload_n 1, 1) := dk_27 (dk_at dksX8_frame_3 3 rfl rfl)
theorem dX8_frame_71 : decode cX8_frame 71 = .ok (.invokestatic 199, 3) := dk_184 0 199 (dk_at dksX8_frame_3 4 rfl rfl)
theorem dX8_frame_74 : decode cX8_frame 74 = .ok (.iadd, 1) := dk_96 (dk_at dksX8_frame_3 7 rfl rfl)
theorem dX8_frame_75 : decode cX8_frame 75 = .ok (.iconst 1, 1) := dk_4 (dk_at dksX8_frame_3 8 rfl rfl)
theorem dX8_frame_76 : decode cX8_frame 76 = .ok (.iadd, 1) := dk_96 (dk_at dksX8_frame_3 9 rfl rfl)
theorem dX8_frame_77 : decode cX8_frame 77 = .ok (.iconst 2, 1) := dk_5 (dk_at dksX8_frame_3 10 rfl rfl)
theorem dX8_frame_78 : decode cX8_frame 78 = .ok (.idiv, 1) := dk_108 (dk_at dksX8_frame_3 11 rfl rfl)
theorem dX8_frame_79 : decode cX8_frame 79 = .ok (.iconst 2, 1) := dk_5 (dk_at dksX8_frame_3 12 rfl rfl)
theorem dX8_frame_80 : decode cX8_frame 80 = .ok (.imul, 1) := dk_104 (dk_at dksX8_frame_3 13 rfl rfl)
theorem dX8_frame_81 : decode cX8_frame 81 = .ok (.ireturn, 1) := dk_172 (dk_at dksX8_frame_3 14 rfl rfl)
abbrev cX8_most : ByteArray := prog_7_method_21_code
def yX8_most : MethodName := ⟨RX8, "most", "()I"⟩
def dkwX8_most_4 : List UInt8 := [184, 0, 190, 60, 132, 2, 1, 167, 255, 159, 27, 172]
abbrev dktX8_most_4 : List UInt8 := dkwX8_most_4 ++ []
def dkwX8_most_3 : List UInt8 := [192, 0, 34, 180, 0, 91, 163, 0, 7, 4, 167, 0, 4, 3, 96, 62, 132, 4, 1, 167, 255, 189, 27, 29]
abbrev dktX8_most_3 : List UInt8 := dkwX8_most_3 ++ dktX8_most_4
def dkwX8_most_2 : List UInt8 := [192, 0, 34, 180, 0, 33, 28, 163, 0, 28, 28, 42, 180, 0, 12, 21, 4, 185, 0, 52, 2, 0]
abbrev dktX8_most_2 : List UInt8 := dkwX8_most_2 ++ dktX8_most_3
def dkwX8_most_1 : List UInt8 := [42, 180, 0, 12, 185, 0, 46, 1, 0, 162, 0, 59, 29, 42, 180, 0, 12, 21, 4, 185, 0, 52, 2, 0]
abbrev dktX8_most_1 : List UInt8 := dkwX8_most_1 ++ dktX8_most_2
def dkwX8_most_0 : List UInt8 := [3, 60, 3, 61, 28, 42, 180, 0, 18, 185, 0, 46, 1, 0, 163, 0, 90, 3, 62, 3, 54, 4, 21, 4]
abbrev dktX8_most_0 : List UInt8 := dkwX8_most_0 ++ dktX8_most_1
theorem dksX8_most_0 : cX8_most.data.toList.drop 0 = dktX8_most_0 := by decide +kernel
theorem dksX8_most_1 : cX8_most.data.toList.drop 24 = dktX8_most_1 := dk_seg dksX8_most_0 24 rfl rfl
theorem dksX8_most_2 : cX8_most.data.toList.drop 48 = dktX8_most_2 := dk_seg dksX8_most_1 24 rfl rfl
theorem dksX8_most_3 : cX8_most.data.toList.drop 70 = dktX8_most_3 := dk_seg dksX8_most_2 22 rfl rfl
theorem dksX8_most_4 : cX8_most.data.toList.drop 94 = dktX8_most_4 := dk_seg dksX8_most_3 24 rfl rfl
theorem dX8_most_0 : decode cX8_most 0 = .ok (.iconst 0, 1) := dk_3 (dk_at dksX8_most_0 0 rfl rfl)
theorem dX8_most_1 : decode cX8_most 1 = .ok (.istore_n 1, 1) := dk_60 (dk_at dksX8_most_0 1 rfl rfl)
theorem dX8_most_2 : decode cX8_most 2 = .ok (.iconst 0, 1) := dk_3 (dk_at dksX8_most_0 2 rfl rfl)
theorem dX8_most_3 : decode cX8_most 3 = .ok (.istore_n 2, 1) := dk_61 (dk_at dksX8_most_0 3 rfl rfl)
theorem dX8_most_4 : decode cX8_most 4 = .ok (.iload_n 2, 1) := dk_28 (dk_at dksX8_most_0 4 rfl rfl)
theorem dX8_most_5 : decode cX8_most 5 = .ok (.aload_n 0, 1) := dk_42 (dk_at dksX8_most_0 5 rfl rfl)
theorem dX8_most_6 : decode cX8_most 6 = .ok (.getfield 18, 3) := dk_180 0 18 (dk_at dksX8_most_0 6 rfl rfl)
theorem dX8_most_9 : decode cX8_most 9 = .ok (.invokeinterface 46 1, 5) := by decide +kernel
theorem dX8_most_14 : decode cX8_most 14 = .ok (.if_icmp .gt 90, 3) := dk_163 0 90 (dk_at dksX8_most_0 14 rfl rfl)
theorem dX8_most_17 : decode cX8_most 17 = .ok (.iconst 0, 1) := dk_3 (dk_at dksX8_most_0 17 rfl rfl)
theorem dX8_most_18 : decode cX8_most 18 = .ok (.istore_n 3, 1) := dk_62 (dk_at dksX8_most_0 18 rfl rfl)
theorem dX8_most_19 : decode cX8_most 19 = .ok (.iconst 0, 1) := dk_3 (dk_at dksX8_most_0 19 rfl rfl)
theorem dX8_most_20 : decode cX8_most 20 = .ok (.istore 4, 2) := dk_54 4 (dk_at dksX8_most_0 20 rfl rfl)
theorem dX8_most_22 : decode cX8_most 22 = .ok (.iload 4, 2) := dk_21 4 (dk_at dksX8_most_0 22 rfl rfl)
theorem dX8_most_24 : decode cX8_most 24 = .ok (.aload_n 0, 1) := dk_42 (dk_at dksX8_most_1 0 rfl rfl)
theorem dX8_most_25 : decode cX8_most 25 = .ok (.getfield 12, 3) := dk_180 0 12 (dk_at dksX8_most_1 1 rfl rfl)
theorem dX8_most_28 : decode cX8_most 28 = .ok (.invokeinterface 46 1, 5) := by decide +kernel
theorem dX8_most_33 : decode cX8_most 33 = .ok (.if_icmp .ge 59, 3) := dk_162 0 59 (dk_at dksX8_most_1 9 rfl rfl)
theorem dX8_most_36 : decode cX8_most 36 = .ok (.iload_n 3, 1) := dk_29 (dk_at dksX8_most_1 12 rfl rfl)
theorem dX8_most_37 : decode cX8_most 37 = .ok (.aload_n 0, 1) := dk_42 (dk_at dksX8_most_1 13 rfl rfl)
theorem dX8_most_38 : decode cX8_most 38 = .ok (.getfield 12, 3) := dk_180 0 12 (dk_at dksX8_most_1 14 rfl rfl)
theorem dX8_most_41 : decode cX8_most 41 = .ok (.iload 4, 2) := dk_21 4 (dk_at dksX8_most_1 17 rfl rfl)
theorem dX8_most_43 : decode cX8_most 43 = .ok (.invokeinterface 52 2, 5) := by decide +kernel
theorem dX8_most_48 : decode cX8_most 48 = .ok (.checkcast 34, 3) := dk_192 0 34 (dk_at dksX8_most_2 0 rfl rfl)
theorem dX8_most_51 : decode cX8_most 51 = .ok (.getfield 33, 3) := dk_180 0 33 (dk_at dksX8_most_2 3 rfl rfl)
theorem dX8_most_54 : decode cX8_most 54 = .ok (.iload_n 2, 1) := dk_28 (dk_at dksX8_most_2 6 rfl rfl)
theorem dX8_most_55 : decode cX8_most 55 = .ok (.if_icmp .gt 28, 3) := dk_163 0 28 (dk_at dksX8_most_2 7 rfl rfl)
theorem dX8_most_58 : decode cX8_most 58 = .ok (.iload_n 2, 1) := dk_28 (dk_at dksX8_most_2 10 rfl rfl)
theorem dX8_most_59 : decode cX8_most 59 = .ok (.aload_n 0, 1) := dk_42 (dk_at dksX8_most_2 11 rfl rfl)
theorem dX8_most_60 : decode cX8_most 60 = .ok (.getfield 12, 3) := dk_180 0 12 (dk_at dksX8_most_2 12 rfl rfl)
theorem dX8_most_63 : decode cX8_most 63 = .ok (.iload 4, 2) := dk_21 4 (dk_at dksX8_most_2 15 rfl rfl)
theorem dX8_most_65 : decode cX8_most 65 = .ok (.invokeinterface 52 2, 5) := by decide +kernel
theorem dX8_most_70 : decode cX8_most 70 = .ok (.checkcast 34, 3) := dk_192 0 34 (dk_at dksX8_most_3 0 rfl rfl)
theorem dX8_most_73 : decode cX8_most 73 = .ok (.getfield 91, 3) := dk_180 0 91 (dk_at dksX8_most_3 3 rfl rfl)
theorem dX8_most_76 : decode cX8_most 76 = .ok (.if_icmp .gt 7, 3) := dk_163 0 7 (dk_at dksX8_most_3 6 rfl rfl)
theorem dX8_most_79 : decode cX8_most 79 = .ok (.iconst 1, 1) := dk_4 (dk_at dksX8_most_3 9 rfl rfl)
theorem dX8_most_80 : decode cX8_most 80 = .ok (.goto 4, 3) := dk_167 0 4 (dk_at dksX8_most_3 10 rfl rfl)
theorem dX8_most_83 : decode cX8_most 83 = .ok (.iconst 0, 1) := dk_3 (dk_at dksX8_most_3 13 rfl rfl)
theorem dX8_most_84 : decode cX8_most 84 = .ok (.iadd, 1) := dk_96 (dk_at dksX8_most_3 14 rfl rfl)
theorem dX8_most_85 : decode cX8_most 85 = .ok (.istore_n 3, 1) := dk_62 (dk_at dksX8_most_3 15 rfl rfl)
theorem dX8_most_86 : decode cX8_most 86 = .ok (.iinc 4 1, 3) := dk_132 4 1 (dk_at dksX8_most_3 16 rfl rfl)
theorem dX8_most_89 : decode cX8_most 89 = .ok (.goto (-67), 3) := dk_167 255 189 (dk_at dksX8_most_3 19 rfl rfl)
theorem dX8_most_92 : decode cX8_most 92 = .ok (.iload_n 1, 1) := dk_27 (dk_at dksX8_most_3 22 rfl rfl)
theorem dX8_most_93 : decode cX8_most 93 = .ok (.iload_n 3, 1) := dk_29 (dk_at dksX8_most_3 23 rfl rfl)
theorem dX8_most_94 : decode cX8_most 94 = .ok (.invokestatic 190, 3) := dk_184 0 190 (dk_at dksX8_most_4 0 rfl rfl)
theorem dX8_most_97 : decode cX8_most 97 = .ok (.istore_n 1, 1) := dk_60 (dk_at dksX8_most_4 3 rfl rfl)
theorem dX8_most_98 : decode cX8_most 98 = .ok (.iinc 2 1, 3) := dk_132 2 1 (dk_at dksX8_most_4 4 rfl rfl)
theorem dX8_most_101 : decode cX8_most 101 = .ok (.goto (-97), 3) := dk_167 255 159 (dk_at dksX8_most_4 7 rfl rfl)
theorem dX8_most_104 : decode cX8_most 104 = .ok (.iload_n 1, 1) := dk_27 (dk_at dksX8_most_4 10 rfl rfl)
theorem dX8_most_105 : decode cX8_most 105 = .ok (.ireturn, 1) := dk_172 (dk_at dksX8_most_4 11 rfl rfl)
theorem q138 : (Jvm.Cond.initialized "SpillslotWorks$Lives") ∈ lw_all := lw_g (lw_at lw_m1 19 rfl) rfl
theorem q258 : (Jvm.Cond.selects "SpillslotWorks$Lives" ({ cls := "java/lang/Object", name := "getClass", desc := "()Ljava/lang/Class;" } : Jvm.MethodName) ({ cls := "java/lang/Object", name := "getClass", desc := "()Ljava/lang/Class;" } : Jvm.MethodName)) ∈ lw_all := lw_g (lw_at lw_m1 139 rfl) rfl
theorem q309 : (Jvm.Cond.fieldLinkNest "SpillslotWorks$Lives" (67 : Nat) "SpillslotWorks$Program" "times" "[I" "SpillslotWorks") ∈ lw_tbl := lw_at lw_m1 190 rfl
theorem q312 : (Jvm.Cond.fieldLinkNest "SpillslotWorks$Lives" (97 : Nat) "SpillslotWorks$Program" "out" "I" "SpillslotWorks") ∈ lw_tbl := lw_at lw_m1 193 rfl
theorem q344 : (Jvm.Cond.fieldLinkNest "SpillslotWorks$Lives" (141 : Nat) "SpillslotWorks$Machine" "isTwo" "Z" "SpillslotWorks") ∈ lw_tbl := lw_at lw_m1 225 rfl
theorem q532 : (Jvm.Cond.fieldLinkNest "SpillslotWorks$Lives" (76 : Nat) "SpillslotWorks$Op" "write" "I" "SpillslotWorks") ∈ lw_tbl := lw_at lw_m2 173 rfl
theorem q538 : (Jvm.Cond.fieldLinkNest "SpillslotWorks$Lives" (145 : Nat) "SpillslotWorks$Op" "reads" "[I" "SpillslotWorks") ∈ lw_tbl := lw_at lw_m2 179 rfl
theorem q546 : (Jvm.Cond.fieldLinkNest "SpillslotWorks$Lives" (62 : Nat) "SpillslotWorks$Op" "block" "I" "SpillslotWorks") ∈ lw_tbl := lw_at lw_m2 187 rfl
theorem q649 : (Jvm.Cond.instantiable "SpillslotWorks$Lives" (4 : Nat)) ∈ lw_all := lw_g (lw_at lw_m3 50 rfl) rfl
theorem q651 : (Jvm.Cond.instanceMethod ({ cls := "SpillslotWorks$Lives", name := "<init>", desc := "(Ljava/util/List;LSpillslotWorks$Program;LSpillslotWorks$Machine;I)V" } : Jvm.MethodName)) ∈ lw_all := lw_g (lw_at lw_m3 52 rfl) rfl
theorem q652 : (Jvm.Cond.code ({ cls := "SpillslotWorks$Lives", name := "<init>", desc := "(Ljava/util/List;LSpillslotWorks$Program;LSpillslotWorks$Machine;I)V" } : Jvm.MethodName) prog_7_method_1_code (7 : Nat) (Option.none : Option Jvm.ClassFile.FieldType)) ∈ lw_all := lw_g (lw_at lw_m3 53 rfl) rfl
theorem q653 : (Jvm.Cond.methodLink "SpillslotWorks$Lives" (3 : Nat) ({ cls := "java/lang/Object", name := "<init>", desc := "()V" } : Jvm.MethodName)) ∈ lw_all := lw_g (lw_at lw_m3 54 rfl) rfl
theorem q654 : (Jvm.Cond.classLink "SpillslotWorks$Lives" (9 : Nat) "java/util/ArrayList") ∈ lw_all := lw_g (lw_at lw_m3 55 rfl) rfl
theorem q655 : (Jvm.Cond.methodLink "SpillslotWorks$Lives" (11 : Nat) ({ cls := "java/util/ArrayList", name := "<init>", desc := "()V" } : Jvm.MethodName)) ∈ lw_all := lw_g (lw_at lw_m3 56 rfl) rfl
theorem q656 : (Jvm.Cond.methodLink "SpillslotWorks$Lives" (29 : Nat) ({ cls := "SpillslotWorks$Lives", name := "lifeOf", desc := "(I)LSpillslotWorks$Life;" } : Jvm.MethodName)) ∈ lw_all := lw_g (lw_at lw_m3 57 rfl) rfl
theorem q657 : (Jvm.Cond.privateMethod ({ cls := "SpillslotWorks$Lives", name := "lifeOf", desc := "(I)LSpillslotWorks$Life;" } : Jvm.MethodName)) ∈ lw_tbl := lw_at lw_m3 58 rfl
theorem q658 : (Jvm.Cond.instanceMethod ({ cls := "SpillslotWorks$Lives", name := "lifeOf", desc := "(I)LSpillslotWorks$Life;" } : Jvm.MethodName)) ∈ lw_all := lw_g (lw_at lw_m3 59 rfl) rfl
theorem q659 : (Jvm.Cond.code ({ cls := "SpillslotWorks$Lives", name := "lifeOf", desc := "(I)LSpillslotWorks$Life;" } : Jvm.MethodName) prog_7_method_3_code (5 : Nat) (Option.some (Jvm.ClassFile.FieldType.object "SpillslotWorks$Life"))) ∈ lw_all := lw_g (lw_at lw_m3 60 rfl) rfl
theorem q660 : (Jvm.Cond.classLink "SpillslotWorks$Lives" (34 : Nat) "SpillslotWorks$Life") ∈ lw_all := lw_g (lw_at lw_m3 61 rfl) rfl
theorem q662 : (Jvm.Cond.methodLink "SpillslotWorks$Lives" (73 : Nat) ({ cls := "SpillslotWorks$Life", name := "<init>", desc := "(I)V" } : Jvm.MethodName)) ∈ lw_all := lw_g (lw_at lw_m3 63 rfl) rfl
theorem q667 : (Jvm.Cond.fieldLinkNest "SpillslotWorks$Lives" (94 : Nat) "SpillslotWorks$Life" "value" "I" "SpillslotWorks") ∈ lw_tbl := lw_at lw_m3 68 rfl
theorem q670 : (Jvm.Cond.fieldLinkNest "SpillslotWorks$Lives" (33 : Nat) "SpillslotWorks$Life" "from" "I" "SpillslotWorks") ∈ lw_tbl := lw_at lw_m3 71 rfl
theorem q673 : (Jvm.Cond.fieldLinkNest "SpillslotWorks$Lives" (91 : Nat) "SpillslotWorks$Life" "to" "I" "SpillslotWorks") ∈ lw_tbl := lw_at lw_m3 74 rfl
theorem q680 : (Jvm.Cond.fieldLinkNest "SpillslotWorks$Lives" (108 : Nat) "SpillslotWorks$Life" "crossed" "I" "SpillslotWorks") ∈ lw_tbl := lw_at lw_m3 81 rfl
theorem q685 : (Jvm.Cond.fieldLinkNest "SpillslotWorks$Lives" (130 : Nat) "SpillslotWorks$Life" "register" "I" "SpillslotWorks") ∈ lw_tbl := lw_at lw_m3 86 rfl
theorem q690 : (Jvm.Cond.fieldLinkNest "SpillslotWorks$Lives" (170 : Nat) "SpillslotWorks$Life" "isSpilled" "Z" "SpillslotWorks") ∈ lw_tbl := lw_at lw_m3 91 rfl
theorem q694 : (Jvm.Cond.fieldLinkNest "SpillslotWorks$Lives" (183 : Nat) "SpillslotWorks$Life" "slot" "I" "SpillslotWorks") ∈ lw_tbl := lw_at lw_m3 95 rfl
theorem q699 : (Jvm.Cond.fieldLinkNest "SpillslotWorks$Lives" (137 : Nat) "SpillslotWorks$Life" "first" "LSpillslotWorks$Op;" "SpillslotWorks") ∈ lw_tbl := lw_at lw_m3 100 rfl
theorem q723 : (Jvm.Cond.interfaceEntry "SpillslotWorks$Lives" (46 : Nat)) ∈ lw_tbl := lw_at lw_m3 124 rfl
theorem q724 : (Jvm.Cond.methodLink "SpillslotWorks$Lives" (46 : Nat) ({ cls := "java/util/List", name := "size", desc := "()I" } : Jvm.MethodName)) ∈ lw_all := lw_g (lw_at lw_m3 125 rfl) rfl
theorem q725 : (Jvm.Cond.interfaceEntry "SpillslotWorks$Lives" (52 : Nat)) ∈ lw_tbl := lw_at lw_m3 126 rfl
theorem q726 : (Jvm.Cond.methodLink "SpillslotWorks$Lives" (52 : Nat) ({ cls := "java/util/List", name := "get", desc := "(I)Ljava/lang/Object;" } : Jvm.MethodName)) ∈ lw_all := lw_g (lw_at lw_m3 127 rfl) rfl
theorem q727 : (Jvm.Cond.classLink "SpillslotWorks$Lives" (63 : Nat) "SpillslotWorks$Op") ∈ lw_all := lw_g (lw_at lw_m3 128 rfl) rfl
theorem q728 : (Jvm.Cond.methodLink "SpillslotWorks$Lives" (79 : Nat) ({ cls := "SpillslotWorks$Op", name := "reads", desc := "(I)I" } : Jvm.MethodName)) ∈ lw_all := lw_g (lw_at lw_m3 129 rfl) rfl
theorem q729 : (Jvm.Cond.methodLink "SpillslotWorks$Lives" (83 : Nat) ({ cls := "SpillslotWorks$Lives", name := "timesOf", desc := "(LSpillslotWorks$Op;)I" } : Jvm.MethodName)) ∈ lw_all := lw_g (lw_at lw_m3 130 rfl) rfl
theorem q730 : (Jvm.Cond.privateMethod ({ cls := "SpillslotWorks$Lives", name := "timesOf", desc := "(LSpillslotWorks$Op;)I" } : Jvm.MethodName)) ∈ lw_tbl := lw_at lw_m3 131 rfl
theorem q731 : (Jvm.Cond.instanceMethod ({ cls := "SpillslotWorks$Lives", name := "timesOf", desc := "(LSpillslotWorks$Op;)I" } : Jvm.MethodName)) ∈ lw_all := lw_g (lw_at lw_m3 132 rfl) rfl
theorem q732 : (Jvm.Cond.code ({ cls := "SpillslotWorks$Lives", name := "timesOf", desc := "(LSpillslotWorks$Op;)I" } : Jvm.MethodName) prog_7_method_2_code (2 : Nat) (Option.some Jvm.ClassFile.FieldType.int)) ∈ lw_all := lw_g (lw_at lw_m3 133 rfl) rfl
theorem q733 : (Jvm.Cond.methodLink "SpillslotWorks$Lives" (87 : Nat) ({ cls := "SpillslotWorks$Life", name := "touch", desc := "(ILSpillslotWorks$Op;I)V" } : Jvm.MethodName)) ∈ lw_all := lw_g (lw_at lw_m3 134 rfl) rfl
theorem q738 : (Jvm.Cond.methodLink "SpillslotWorks$Lives" (39 : Nat) ({ cls := "SpillslotWorks$Lives", name := "stretch", desc := "(LSpillslotWorks$Life;)V" } : Jvm.MethodName)) ∈ lw_all := lw_g (lw_at lw_m3 139 rfl) rfl
theorem q739 : (Jvm.Cond.privateMethod ({ cls := "SpillslotWorks$Lives", name := "stretch", desc := "(LSpillslotWorks$Life;)V" } : Jvm.MethodName)) ∈ lw_tbl := lw_at lw_m3 140 rfl
theorem q740 : (Jvm.Cond.instanceMethod ({ cls := "SpillslotWorks$Lives", name := "stretch", desc := "(LSpillslotWorks$Life;)V" } : Jvm.MethodName)) ∈ lw_all := lw_g (lw_at lw_m3 141 rfl) rfl
theorem q741 : (Jvm.Cond.code ({ cls := "SpillslotWorks$Lives", name := "stretch", desc := "(LSpillslotWorks$Life;)V" } : Jvm.MethodName) prog_7_method_5_code (4 : Nat) (Option.none : Option Jvm.ClassFile.FieldType)) ∈ lw_all := lw_g (lw_at lw_m3 142 rfl) rfl
theorem q742 : (Jvm.Cond.methodLinkNest "SpillslotWorks$Lives" (100 : Nat) ({ cls := "SpillslotWorks", name := "has", desc := "(II)Z" } : Jvm.MethodName) "SpillslotWorks") ∈ lw_tbl := lw_at lw_m3 143 rfl
theorem q743 : (Jvm.Cond.methodLink "SpillslotWorks$Lives" (104 : Nat) ({ cls := "SpillslotWorks$Lives", name := "edge", desc := "(IZ)I" } : Jvm.MethodName)) ∈ lw_all := lw_g (lw_at lw_m3 144 rfl) rfl
theorem q744 : (Jvm.Cond.privateMethod ({ cls := "SpillslotWorks$Lives", name := "edge", desc := "(IZ)I" } : Jvm.MethodName)) ∈ lw_tbl := lw_at lw_m3 145 rfl
theorem q745 : (Jvm.Cond.instanceMethod ({ cls := "SpillslotWorks$Lives", name := "edge", desc := "(IZ)I" } : Jvm.MethodName)) ∈ lw_all := lw_g (lw_at lw_m3 146 rfl) rfl
theorem q746 : (Jvm.Cond.code ({ cls := "SpillslotWorks$Lives", name := "edge", desc := "(IZ)I" } : Jvm.MethodName) prog_7_method_4_code (5 : Nat) (Option.some Jvm.ClassFile.FieldType.int)) ∈ lw_all := lw_g (lw_at lw_m3 147 rfl) rfl
theorem q747 : (Jvm.Cond.methodLink "SpillslotWorks$Lives" (111 : Nat) ({ cls := "SpillslotWorks$Op", name := "is", desc := "(I)Z" } : Jvm.MethodName)) ∈ lw_all := lw_g (lw_at lw_m3 148 rfl) rfl
theorem q748 : (Jvm.Cond.methodLink "SpillslotWorks$Lives" (115 : Nat) ({ cls := "SpillslotWorks$Life", name := "crosses", desc := "(I)Z" } : Jvm.MethodName)) ∈ lw_all := lw_g (lw_at lw_m3 149 rfl) rfl
theorem q752 : (Jvm.Cond.methodLink "SpillslotWorks$Lives" (43 : Nat) ({ cls := "SpillslotWorks$Lives", name := "put", desc := "(LSpillslotWorks$Life;)V" } : Jvm.MethodName)) ∈ lw_all := lw_g (lw_at lw_m3 153 rfl) rfl
theorem q753 : (Jvm.Cond.privateMethod ({ cls := "SpillslotWorks$Lives", name := "put", desc := "(LSpillslotWorks$Life;)V" } : Jvm.MethodName)) ∈ lw_tbl := lw_at lw_m3 154 rfl
theorem q754 : (Jvm.Cond.instanceMethod ({ cls := "SpillslotWorks$Lives", name := "put", desc := "(LSpillslotWorks$Life;)V" } : Jvm.MethodName)) ∈ lw_all := lw_g (lw_at lw_m3 155 rfl) rfl
theorem q755 : (Jvm.Cond.code ({ cls := "SpillslotWorks$Lives", name := "put", desc := "(LSpillslotWorks$Life;)V" } : Jvm.MethodName) prog_7_method_6_code (3 : Nat) (Option.none : Option Jvm.ClassFile.FieldType)) ∈ lw_all := lw_g (lw_at lw_m3 156 rfl) rfl
theorem q756 : (Jvm.Cond.interfaceEntry "SpillslotWorks$Lives" (118 : Nat)) ∈ lw_tbl := lw_at lw_m3 157 rfl
theorem q757 : (Jvm.Cond.methodLink "SpillslotWorks$Lives" (118 : Nat) ({ cls := "java/util/List", name := "add", desc := "(ILjava/lang/Object;)V" } : Jvm.MethodName)) ∈ lw_all := lw_g (lw_at lw_m3 158 rfl) rfl
theorem q1086 : (Jvm.Cond.methodLink "SpillslotWorks$Lives" (56 : Nat) ({ cls := "SpillslotWorks$Lives", name := "give", desc := "(LSpillslotWorks$Life;)V" } : Jvm.MethodName)) ∈ lw_all := lw_g (lw_at lw_m5 7 rfl) rfl
theorem q1087 : (Jvm.Cond.privateMethod ({ cls := "SpillslotWorks$Lives", name := "give", desc := "(LSpillslotWorks$Life;)V" } : Jvm.MethodName)) ∈ lw_tbl := lw_at lw_m5 8 rfl
theorem q1088 : (Jvm.Cond.instanceMethod ({ cls := "SpillslotWorks$Lives", name := "give", desc := "(LSpillslotWorks$Life;)V" } : Jvm.MethodName)) ∈ lw_all := lw_g (lw_at lw_m5 9 rfl) rfl
theorem q1089 : (Jvm.Cond.code ({ cls := "SpillslotWorks$Lives", name := "give", desc := "(LSpillslotWorks$Life;)V" } : Jvm.MethodName) prog_7_method_14_code (6 : Nat) (Option.none : Option Jvm.ClassFile.FieldType)) ∈ lw_all := lw_g (lw_at lw_m5 10 rfl) rfl
theorem q1090 : (Jvm.Cond.methodLink "SpillslotWorks$Lives" (156 : Nat) ({ cls := "SpillslotWorks$Lives", name := "hint", desc := "(LSpillslotWorks$Life;)I" } : Jvm.MethodName)) ∈ lw_all := lw_g (lw_at lw_m5 11 rfl) rfl
theorem q1091 : (Jvm.Cond.privateMethod ({ cls := "SpillslotWorks$Lives", name := "hint", desc := "(LSpillslotWorks$Life;)I" } : Jvm.MethodName)) ∈ lw_tbl := lw_at lw_m5 12 rfl
theorem q1092 : (Jvm.Cond.instanceMethod ({ cls := "SpillslotWorks$Lives", name := "hint", desc := "(LSpillslotWorks$Life;)I" } : Jvm.MethodName)) ∈ lw_all := lw_g (lw_at lw_m5 13 rfl) rfl
theorem q1093 : (Jvm.Cond.code ({ cls := "SpillslotWorks$Lives", name := "hint", desc := "(LSpillslotWorks$Life;)I" } : Jvm.MethodName) prog_7_method_12_code (4 : Nat) (Option.some Jvm.ClassFile.FieldType.int)) ∈ lw_all := lw_g (lw_at lw_m5 14 rfl) rfl
theorem q1094 : (Jvm.Cond.methodLink "SpillslotWorks$Lives" (147 : Nat) ({ cls := "SpillslotWorks$Lives", name := "of", desc := "(I)LSpillslotWorks$Life;" } : Jvm.MethodName)) ∈ lw_all := lw_g (lw_at lw_m5 15 rfl) rfl
theorem q1095 : (Jvm.Cond.instanceMethod ({ cls := "SpillslotWorks$Lives", name := "of", desc := "(I)LSpillslotWorks$Life;" } : Jvm.MethodName)) ∈ lw_all := lw_g (lw_at lw_m5 16 rfl) rfl
theorem q1096 : (Jvm.Cond.selects "SpillslotWorks$Lives" ({ cls := "SpillslotWorks$Lives", name := "of", desc := "(I)LSpillslotWorks$Life;" } : Jvm.MethodName) ({ cls := "SpillslotWorks$Lives", name := "of", desc := "(I)LSpillslotWorks$Life;" } : Jvm.MethodName)) ∈ lw_all := lw_g (lw_at lw_m5 17 rfl) rfl
theorem q1097 : (Jvm.Cond.code ({ cls := "SpillslotWorks$Lives", name := "of", desc := "(I)LSpillslotWorks$Life;" } : Jvm.MethodName) prog_7_method_8_code (2 : Nat) (Option.some (Jvm.ClassFile.FieldType.object "SpillslotWorks$Life"))) ∈ lw_all := lw_g (lw_at lw_m5 18 rfl) rfl
theorem q1098 : (Jvm.Cond.methodLink "SpillslotWorks$Lives" (122 : Nat) ({ cls := "SpillslotWorks$Lives", name := "placeOf", desc := "(I)I" } : Jvm.MethodName)) ∈ lw_all := lw_g (lw_at lw_m5 19 rfl) rfl
theorem q1099 : (Jvm.Cond.instanceMethod ({ cls := "SpillslotWorks$Lives", name := "placeOf", desc := "(I)I" } : Jvm.MethodName)) ∈ lw_all := lw_g (lw_at lw_m5 20 rfl) rfl
theorem q1100 : (Jvm.Cond.selects "SpillslotWorks$Lives" ({ cls := "SpillslotWorks$Lives", name := "placeOf", desc := "(I)I" } : Jvm.MethodName) ({ cls := "SpillslotWorks$Lives", name := "placeOf", desc := "(I)I" } : Jvm.MethodName)) ∈ lw_all := lw_g (lw_at lw_m5 21 rfl) rfl
theorem q1101 : (Jvm.Cond.code ({ cls := "SpillslotWorks$Lives", name := "placeOf", desc := "(I)I" } : Jvm.MethodName) prog_7_method_7_code (3 : Nat) (Option.some Jvm.ClassFile.FieldType.int)) ∈ lw_all := lw_g (lw_at lw_m5 22 rfl) rfl
theorem q1102 : (Jvm.Cond.methodLink "SpillslotWorks$Lives" (160 : Nat) ({ cls := "SpillslotWorks$Lives", name := "canTake", desc := "(LSpillslotWorks$Life;I)Z" } : Jvm.MethodName)) ∈ lw_all := lw_g (lw_at lw_m5 23 rfl) rfl
theorem q1103 : (Jvm.Cond.privateMethod ({ cls := "SpillslotWorks$Lives", name := "canTake", desc := "(LSpillslotWorks$Life;I)Z" } : Jvm.MethodName)) ∈ lw_tbl := lw_at lw_m5 24 rfl
theorem q1104 : (Jvm.Cond.instanceMethod ({ cls := "SpillslotWorks$Lives", name := "canTake", desc := "(LSpillslotWorks$Life;I)Z" } : Jvm.MethodName)) ∈ lw_all := lw_g (lw_at lw_m5 25 rfl) rfl
theorem q1105 : (Jvm.Cond.code ({ cls := "SpillslotWorks$Lives", name := "canTake", desc := "(LSpillslotWorks$Life;I)Z" } : Jvm.MethodName) prog_7_method_13_code (3 : Nat) (Option.some Jvm.ClassFile.FieldType.boolean)) ∈ lw_all := lw_g (lw_at lw_m5 26 rfl) rfl
theorem q1106 : (Jvm.Cond.methodLink "SpillslotWorks$Lives" (150 : Nat) ({ cls := "SpillslotWorks$Lives", name := "canHave", desc := "(LSpillslotWorks$Life;I)Z" } : Jvm.MethodName)) ∈ lw_all := lw_g (lw_at lw_m5 27 rfl) rfl
theorem q1107 : (Jvm.Cond.privateMethod ({ cls := "SpillslotWorks$Lives", name := "canHave", desc := "(LSpillslotWorks$Life;I)Z" } : Jvm.MethodName)) ∈ lw_tbl := lw_at lw_m5 28 rfl
theorem q1108 : (Jvm.Cond.instanceMethod ({ cls := "SpillslotWorks$Lives", name := "canHave", desc := "(LSpillslotWorks$Life;I)Z" } : Jvm.MethodName)) ∈ lw_all := lw_g (lw_at lw_m5 29 rfl) rfl
theorem q1109 : (Jvm.Cond.code ({ cls := "SpillslotWorks$Lives", name := "canHave", desc := "(LSpillslotWorks$Life;I)Z" } : Jvm.MethodName) prog_7_method_9_code (3 : Nat) (Option.some Jvm.ClassFile.FieldType.boolean)) ∈ lw_all := lw_g (lw_at lw_m5 30 rfl) rfl
theorem q1110 : (Jvm.Cond.methodLink "SpillslotWorks$Lives" (125 : Nat) ({ cls := "SpillslotWorks$Machine", name := "isKept", desc := "(I)Z" } : Jvm.MethodName)) ∈ lw_all := lw_g (lw_at lw_m5 31 rfl) rfl
theorem q1115 : (Jvm.Cond.methodLink "SpillslotWorks$Lives" (153 : Nat) ({ cls := "SpillslotWorks$Lives", name := "isFree", desc := "(II)Z" } : Jvm.MethodName)) ∈ lw_all := lw_g (lw_at lw_m5 36 rfl) rfl
theorem q1116 : (Jvm.Cond.privateMethod ({ cls := "SpillslotWorks$Lives", name := "isFree", desc := "(II)Z" } : Jvm.MethodName)) ∈ lw_tbl := lw_at lw_m5 37 rfl
theorem q1117 : (Jvm.Cond.instanceMethod ({ cls := "SpillslotWorks$Lives", name := "isFree", desc := "(II)Z" } : Jvm.MethodName)) ∈ lw_all := lw_g (lw_at lw_m5 38 rfl) rfl
theorem q1118 : (Jvm.Cond.code ({ cls := "SpillslotWorks$Lives", name := "isFree", desc := "(II)Z" } : Jvm.MethodName) prog_7_method_11_code (4 : Nat) (Option.some Jvm.ClassFile.FieldType.boolean)) ∈ lw_all := lw_g (lw_at lw_m5 39 rfl) rfl
theorem q1119 : (Jvm.Cond.methodLink "SpillslotWorks$Lives" (133 : Nat) ({ cls := "SpillslotWorks$Lives", name := "isHeld", desc := "(LSpillslotWorks$Life;I)Z" } : Jvm.MethodName)) ∈ lw_all := lw_g (lw_at lw_m5 40 rfl) rfl
theorem q1120 : (Jvm.Cond.privateMethod ({ cls := "SpillslotWorks$Lives", name := "isHeld", desc := "(LSpillslotWorks$Life;I)Z" } : Jvm.MethodName)) ∈ lw_tbl := lw_at lw_m5 41 rfl
theorem q1121 : (Jvm.Cond.instanceMethod ({ cls := "SpillslotWorks$Lives", name := "isHeld", desc := "(LSpillslotWorks$Life;I)Z" } : Jvm.MethodName)) ∈ lw_all := lw_g (lw_at lw_m5 42 rfl) rfl
theorem q1122 : (Jvm.Cond.code ({ cls := "SpillslotWorks$Lives", name := "isHeld", desc := "(LSpillslotWorks$Life;I)Z" } : Jvm.MethodName) prog_7_method_10_code (3 : Nat) (Option.some Jvm.ClassFile.FieldType.boolean)) ∈ lw_all := lw_g (lw_at lw_m5 43 rfl) rfl
theorem q1123 : (Jvm.Cond.methodLink "SpillslotWorks$Lives" (163 : Nat) ({ cls := "SpillslotWorks$Machine", name := "scratch", desc := "()I" } : Jvm.MethodName)) ∈ lw_all := lw_g (lw_at lw_m5 44 rfl) rfl
theorem q1127 : (Jvm.Cond.methodLink "SpillslotWorks$Lives" (166 : Nat) ({ cls := "SpillslotWorks$Lives", name := "isLess", desc := "(LSpillslotWorks$Life;LSpillslotWorks$Life;)Z" } : Jvm.MethodName)) ∈ lw_all := lw_g (lw_at lw_m5 48 rfl) rfl
theorem q1128 : (Jvm.Cond.static ({ cls := "SpillslotWorks$Lives", name := "isLess", desc := "(LSpillslotWorks$Life;LSpillslotWorks$Life;)Z" } : Jvm.MethodName)) ∈ lw_all := lw_g (lw_at lw_m5 49 rfl) rfl
theorem q1129 : (Jvm.Cond.code ({ cls := "SpillslotWorks$Lives", name := "isLess", desc := "(LSpillslotWorks$Life;LSpillslotWorks$Life;)Z" } : Jvm.MethodName) prog_7_method_15_code (2 : Nat) (Option.some Jvm.ClassFile.FieldType.boolean)) ∈ lw_all := lw_g (lw_at lw_m5 50 rfl) rfl
theorem q1130 : (Jvm.Cond.methodLink "SpillslotWorks$Lives" (173 : Nat) ({ cls := "SpillslotWorks$Life", name := "weight", desc := "()I" } : Jvm.MethodName)) ∈ lw_all := lw_g (lw_at lw_m5 51 rfl) rfl
theorem q1134 : (Jvm.Cond.methodLink "SpillslotWorks$Lives" (59 : Nat) ({ cls := "SpillslotWorks$Lives", name := "giveSlots", desc := "()V" } : Jvm.MethodName)) ∈ lw_all := lw_g (lw_at lw_m5 55 rfl) rfl
theorem q1135 : (Jvm.Cond.privateMethod ({ cls := "SpillslotWorks$Lives", name := "giveSlots", desc := "()V" } : Jvm.MethodName)) ∈ lw_tbl := lw_at lw_m5 56 rfl
theorem q1136 : (Jvm.Cond.instanceMethod ({ cls := "SpillslotWorks$Lives", name := "giveSlots", desc := "()V" } : Jvm.MethodName)) ∈ lw_all := lw_g (lw_at lw_m5 57 rfl) rfl
theorem q1137 : (Jvm.Cond.code ({ cls := "SpillslotWorks$Lives", name := "giveSlots", desc := "()V" } : Jvm.MethodName) prog_7_method_16_code (3 : Nat) (Option.none : Option Jvm.ClassFile.FieldType)) ∈ lw_all := lw_g (lw_at lw_m5 58 rfl) rfl
theorem q1138 : (Jvm.Cond.methodLink "SpillslotWorks$Lives" (176 : Nat) ({ cls := "SpillslotWorks$Life", name := "isRemade", desc := "()Z" } : Jvm.MethodName)) ∈ lw_all := lw_g (lw_at lw_m5 59 rfl) rfl
theorem q1143 : (Jvm.Cond.methodLink "SpillslotWorks$Lives" (180 : Nat) ({ cls := "SpillslotWorks$Lives", name := "freeSlot", desc := "(I)I" } : Jvm.MethodName)) ∈ lw_all := lw_g (lw_at lw_m5 64 rfl) rfl
theorem q1144 : (Jvm.Cond.privateMethod ({ cls := "SpillslotWorks$Lives", name := "freeSlot", desc := "(I)I" } : Jvm.MethodName)) ∈ lw_tbl := lw_at lw_m5 65 rfl
theorem q1145 : (Jvm.Cond.instanceMethod ({ cls := "SpillslotWorks$Lives", name := "freeSlot", desc := "(I)I" } : Jvm.MethodName)) ∈ lw_all := lw_g (lw_at lw_m5 66 rfl) rfl
theorem q1146 : (Jvm.Cond.code ({ cls := "SpillslotWorks$Lives", name := "freeSlot", desc := "(I)I" } : Jvm.MethodName) prog_7_method_17_code (5 : Nat) (Option.some Jvm.ClassFile.FieldType.int)) ∈ lw_all := lw_g (lw_at lw_m5 67 rfl) rfl
theorem q1147 : (Jvm.Cond.methodLink "SpillslotWorks$Lives" (186 : Nat) ({ cls := "SpillslotWorks$Life", name := "meets", desc := "(LSpillslotWorks$Life;)Z" } : Jvm.MethodName)) ∈ lw_all := lw_g (lw_at lw_m5 68 rfl) rfl
theorem q1151 : (Jvm.Cond.fieldLink "SpillslotWorks$Lives" (18 : Nat) "SpillslotWorks$Lives" "ops" "Ljava/util/List;") ∈ lw_all := lw_g (lw_at lw_m5 72 rfl) rfl
theorem q1152 : (Jvm.Cond.fieldLink "SpillslotWorks$Lives" (21 : Nat) "SpillslotWorks$Lives" "program" "LSpillslotWorks$Program;") ∈ lw_all := lw_g (lw_at lw_m5 73 rfl) rfl
theorem q1153 : (Jvm.Cond.fieldLink "SpillslotWorks$Lives" (25 : Nat) "SpillslotWorks$Lives" "machine" "LSpillslotWorks$Machine;") ∈ lw_all := lw_g (lw_at lw_m5 74 rfl) rfl
theorem q1154 : (Jvm.Cond.fieldLink "SpillslotWorks$Lives" (12 : Nat) "SpillslotWorks$Lives" "row" "Ljava/util/List;") ∈ lw_all := lw_g (lw_at lw_m5 75 rfl) rfl
theorem q1157 : (Jvm.Cond.laysFinal "SpillslotWorks$Lives" "SpillslotWorks$Lives" "ops" "Ljava/util/List;") ∈ lw_all := lw_g (lw_at lw_m5 78 rfl) rfl
theorem q1158 : (Jvm.Cond.soleField "SpillslotWorks$Lives" "ops") ∈ lw_all := lw_g (lw_at lw_m5 79 rfl) rfl
theorem q1159 : (Jvm.Cond.laysFinal "SpillslotWorks$Lives" "SpillslotWorks$Lives" "program" "LSpillslotWorks$Program;") ∈ lw_all := lw_g (lw_at lw_m5 80 rfl) rfl
theorem q1160 : (Jvm.Cond.soleField "SpillslotWorks$Lives" "program") ∈ lw_all := lw_g (lw_at lw_m5 81 rfl) rfl
theorem q1161 : (Jvm.Cond.laysFinal "SpillslotWorks$Lives" "SpillslotWorks$Lives" "machine" "LSpillslotWorks$Machine;") ∈ lw_all := lw_g (lw_at lw_m5 82 rfl) rfl
theorem q1162 : (Jvm.Cond.soleField "SpillslotWorks$Lives" "machine") ∈ lw_all := lw_g (lw_at lw_m5 83 rfl) rfl
theorem q1163 : (Jvm.Cond.laysFinal "SpillslotWorks$Lives" "SpillslotWorks$Lives" "row" "Ljava/util/List;") ∈ lw_all := lw_g (lw_at lw_m5 84 rfl) rfl
theorem q1164 : (Jvm.Cond.soleField "SpillslotWorks$Lives" "row") ∈ lw_all := lw_g (lw_at lw_m5 85 rfl) rfl
theorem q1165 : (Jvm.Cond.superclass "SpillslotWorks$Lives" "java/lang/Object") ∈ lw_all := lw_g (lw_at lw_m5 86 rfl) rfl
theorem q1284 : (Jvm.Cond.instanceMethod ({ cls := "SpillslotWorks$Lives", name := "slots", desc := "()I" } : Jvm.MethodName)) ∈ lw_all := lw_g (lw_at lw_m5 205 rfl) rfl
theorem q1285 : (Jvm.Cond.selects "SpillslotWorks$Lives" ({ cls := "SpillslotWorks$Lives", name := "slots", desc := "()I" } : Jvm.MethodName) ({ cls := "SpillslotWorks$Lives", name := "slots", desc := "()I" } : Jvm.MethodName)) ∈ lw_all := lw_g (lw_at lw_m5 206 rfl) rfl
theorem q1286 : (Jvm.Cond.code ({ cls := "SpillslotWorks$Lives", name := "slots", desc := "()I" } : Jvm.MethodName) prog_7_method_18_code (3 : Nat) (Option.some Jvm.ClassFile.FieldType.int)) ∈ lw_all := lw_g (lw_at lw_m5 207 rfl) rfl
theorem q1287 : (Jvm.Cond.methodLink "SpillslotWorks$Lives" (190 : Nat) ({ cls := "java/lang/Math", name := "max", desc := "(II)I" } : Jvm.MethodName)) ∈ lw_all := lw_g (lw_at lw_m5 208 rfl) rfl
theorem q1436 : (Jvm.Cond.instanceMethod ({ cls := "SpillslotWorks$Lives", name := "spilled", desc := "(Z)I" } : Jvm.MethodName)) ∈ lw_all := lw_g (lw_at lw_m6 117 rfl) rfl
theorem q1437 : (Jvm.Cond.selects "SpillslotWorks$Lives" ({ cls := "SpillslotWorks$Lives", name := "spilled", desc := "(Z)I" } : Jvm.MethodName) ({ cls := "SpillslotWorks$Lives", name := "spilled", desc := "(Z)I" } : Jvm.MethodName)) ∈ lw_all := lw_g (lw_at lw_m6 118 rfl) rfl
theorem q1438 : (Jvm.Cond.code ({ cls := "SpillslotWorks$Lives", name := "spilled", desc := "(Z)I" } : Jvm.MethodName) prog_7_method_20_code (4 : Nat) (Option.some Jvm.ClassFile.FieldType.int)) ∈ lw_all := lw_g (lw_at lw_m6 119 rfl) rfl
theorem q1440 : (Jvm.Cond.instanceMethod ({ cls := "SpillslotWorks$Lives", name := "frame", desc := "()I" } : Jvm.MethodName)) ∈ lw_all := lw_g (lw_at lw_m6 121 rfl) rfl
theorem q1441 : (Jvm.Cond.selects "SpillslotWorks$Lives" ({ cls := "SpillslotWorks$Lives", name := "frame", desc := "()I" } : Jvm.MethodName) ({ cls := "SpillslotWorks$Lives", name := "frame", desc := "()I" } : Jvm.MethodName)) ∈ lw_all := lw_g (lw_at lw_m6 122 rfl) rfl
theorem q1442 : (Jvm.Cond.code ({ cls := "SpillslotWorks$Lives", name := "frame", desc := "()I" } : Jvm.MethodName) prog_7_method_19_code (4 : Nat) (Option.some Jvm.ClassFile.FieldType.int)) ∈ lw_all := lw_g (lw_at lw_m6 123 rfl) rfl
theorem q1443 : (Jvm.Cond.methodLink "SpillslotWorks$Lives" (196 : Nat) ({ cls := "SpillslotWorks$Lives", name := "slots", desc := "()I" } : Jvm.MethodName)) ∈ lw_all := lw_g (lw_at lw_m6 124 rfl) rfl
theorem q1444 : (Jvm.Cond.methodLinkNest "SpillslotWorks$Lives" (199 : Nat) ({ cls := "SpillslotWorks", name := "count", desc := "(I)I" } : Jvm.MethodName) "SpillslotWorks") ∈ lw_tbl := lw_at lw_m6 125 rfl
theorem q1455 : (Jvm.Cond.instanceMethod ({ cls := "SpillslotWorks$Lives", name := "most", desc := "()I" } : Jvm.MethodName)) ∈ lw_all := lw_g (lw_at lw_m6 136 rfl) rfl
theorem q1456 : (Jvm.Cond.selects "SpillslotWorks$Lives" ({ cls := "SpillslotWorks$Lives", name := "most", desc := "()I" } : Jvm.MethodName) ({ cls := "SpillslotWorks$Lives", name := "most", desc := "()I" } : Jvm.MethodName)) ∈ lw_all := lw_g (lw_at lw_m6 137 rfl) rfl
theorem q1457 : (Jvm.Cond.code ({ cls := "SpillslotWorks$Lives", name := "most", desc := "()I" } : Jvm.MethodName) prog_7_method_21_code (5 : Nat) (Option.some Jvm.ClassFile.FieldType.int)) ∈ lw_all := lw_g (lw_at lw_m6 138 rfl) rfl
theorem q2303 : (Jvm.Cond.selects "SpillslotWorks$Lives" ({ cls := "java/lang/Object", name := "equals", desc := "(Ljava/lang/Object;)Z" } : Jvm.MethodName) ({ cls := "java/lang/Object", name := "equals", desc := "(Ljava/lang/Object;)Z" } : Jvm.MethodName)) ∈ lw_all := lw_g (lw_at lw_m10 24 rfl) rfl
theorem q2864 : (Jvm.Cond.castable "SpillslotWorks$Lives" "java/lang/Object") ∈ lw_tbl := lw_at lw_m12 105 rfl
theorem in_X8 : ∀ w ∈ wsX80, w ∈ lw_all := lw_in wsX80 [1157, 1159, 1161, 1163] (by decide +kernel) (by decide +kernel)
