/-! SpillslotWorks$Writer -/
set_option maxRecDepth 100000
def RX10 : String := "SpillslotWorks$Writer"
def TX10 : u_T := fun k => match k with
  | 0 => ("SpillslotWorks$Writer", "lives", "LSpillslotWorks$Lives;", true)
  | 1 => ("SpillslotWorks$Writer", "machine", "LSpillslotWorks$Machine;", true)
  | 2 => ("SpillslotWorks$Writer", "code", "Ljava/util/List;", true)
  | _ => ("SpillslotWorks$Writer", "point", "I", false)
def tyX10 : Nat → FieldType := fun k => match k with
  | 0 => .object "SpillslotWorks$Lives"
  | 1 => .object "SpillslotWorks$Machine"
  | 2 => .object "java/util/List"
  | _ => .int
abbrev wsX100 : List Cond := u_ws RX10 TX10 4
theorem nmX10 : ∀ a, a < 4 → ∀ b, b < 4 → a ≠ b → (TX10 a).2.1 ≠ (TX10 b).2.1 := by decide +kernel
theorem tyX10_ok : ∀ k, k < 4 → parseFieldDescriptor (TX10 k).2.2.1 = some (tyX10 k) := by decide +kernel
abbrev cX10_init : ByteArray := prog_15_method_1_code
def yX10_init : MethodName := ⟨RX10, "<init>", "(LSpillslotWorks$Lives;LSpillslotWorks$Machine;)V"⟩
def dkwX10_init_1 : List UInt8 := [181, 0, 22, 177]
abbrev dktX10_init_1 : List UInt8 := dkwX10_init_1 ++ []
def dkwX10_init_0 : List UInt8 := [42, 183, 0, 3, 42, 187, 0, 9, 89, 183, 0, 11, 181, 0, 12, 42, 43, 181, 0, 18, 42, 44]
abbrev dktX10_init_0 : List UInt8 := dkwX10_init_0 ++ dktX10_init_1
theorem dksX10_init_0 : cX10_init.data.toList.drop 0 = dktX10_init_0 := by decide +kernel
theorem dksX10_init_1 : cX10_init.data.toList.drop 22 = dktX10_init_1 := dk_seg dksX10_init_0 22 rfl rfl
theorem dX10_init_0 : decode cX10_init 0 = .ok (.aload_n 0, 1) := dk_42 (dk_at dksX10_init_0 0 rfl rfl)
theorem dX10_init_1 : decode cX10_init 1 = .ok (.invokespecial 3, 3) := dk_183 0 3 (dk_at dksX10_init_0 1 rfl rfl)
theorem dX10_init_4 : decode cX10_init 4 = .ok (.aload_n 0, 1) := dk_42 (dk_at dksX10_init_0 4 rfl rfl)
theorem dX10_init_5 : decode cX10_init 5 = .ok (.new 9, 3) := dk_187 0 9 (dk_at dksX10_init_0 5 rfl rfl)
theorem dX10_init_8 : decode cX10_init 8 = .ok (.dup, 1) := dk_89 (dk_at dksX10_init_0 8 rfl rfl)
theorem dX10_init_9 : decode cX10_init 9 = .ok (.invokespecial 11, 3) := dk_183 0 11 (dk_at dksX10_init_0 9 rfl rfl)
theorem dX10_init_12 : decode cX10_init 12 = .ok (.putfield 12, 3) := dk_181 0 12 (dk_at dksX10_init_0 12 rfl rfl)
theorem dX10_init_15 : decode cX10_init 15 = .ok (.aload_n 0, 1) := dk_42 (dk_at dksX10_init_0 15 rfl rfl)
theorem dX10_init_16 : decode cX10_init 16 = .ok (.aload_n 1, 1) := dk_43 (dk_at dksX10_init_0 16 rfl rfl)
theorem dX10_init_17 : decode cX10_init 17 = .ok (.putfield 18, 3) := dk_181 0 18 (dk_at dksX10_init_0 17 rfl rfl)
theorem dX10_init_20 : decode cX10_init 20 = .ok (.aload_n 0, 1) := dk_42 (dk_at dksX10_init_0 20 rfl rfl)
theorem dX10_init_21 : decode cX10_init 21 = .ok (.aload_n 2, 1) := dk_44 (dk_at dksX10_init_0 21 rfl rfl)
theorem dX10_init_22 : decode cX10_init 22 = .ok (.putfield 22, 3) := dk_181 0 22 (dk_at dksX10_init_1 0 rfl rfl)
theorem dX10_init_25 : decode cX10_init 25 = .ok (.return_, 1) := dk_177 (dk_at dksX10_init_1 3 rfl rfl)
abbrev cX10_all : ByteArray := prog_15_method_8_code
def yX10_all : MethodName := ⟨RX10, "all", "(Ljava/util/List;)Ljava/util/List;"⟩
def dkwX10_all_3 : List UInt8 := [45, 182, 0, 117, 42, 89, 180, 0, 28, 4, 96, 181, 0, 28, 167, 255, 176, 42, 180, 0, 12, 176]
abbrev dktX10_all_3 : List UInt8 := dkwX10_all_3 ++ []
def dkwX10_all_2 : List UInt8 := [182, 0, 109, 153, 0, 12, 42, 44, 45, 182, 0, 113, 167, 0, 16, 45, 182, 0, 54, 154, 0, 9, 42, 44]
abbrev dktX10_all_2 : List UInt8 := dkwX10_all_2 ++ dktX10_all_3
def dkwX10_all_1 : List UInt8 := [185, 0, 102, 2, 0, 192, 0, 65, 77, 42, 180, 0, 18, 44, 180, 0, 106, 182, 0, 48, 78, 44, 16, 9]
abbrev dktX10_all_1 : List UInt8 := dkwX10_all_1 ++ dktX10_all_2
def dkwX10_all_0 : List UInt8 := [42, 3, 181, 0, 28, 42, 180, 0, 28, 43, 185, 0, 99, 1, 0, 162, 0, 73, 43, 42, 180, 0, 28]
abbrev dktX10_all_0 : List UInt8 := dkwX10_all_0 ++ dktX10_all_1
theorem dksX10_all_0 : cX10_all.data.toList.drop 0 = dktX10_all_0 := by decide +kernel
theorem dksX10_all_1 : cX10_all.data.toList.drop 23 = dktX10_all_1 := dk_seg dksX10_all_0 23 rfl rfl
theorem dksX10_all_2 : cX10_all.data.toList.drop 47 = dktX10_all_2 := dk_seg dksX10_all_1 24 rfl rfl
theorem dksX10_all_3 : cX10_all.data.toList.drop 71 = dktX10_all_3 := dk_seg dksX10_all_2 24 rfl rfl
theorem dX10_all_0 : decode cX10_all 0 = .ok (.aload_n 0, 1) := dk_42 (dk_at dksX10_all_0 0 rfl rfl)
theorem dX10_all_1 : decode cX10_all 1 = .ok (.iconst 0, 1) := dk_3 (dk_at dksX10_all_0 1 rfl rfl)
theorem dX10_all_2 : decode cX10_all 2 = .ok (.putfield 28, 3) := dk_181 0 28 (dk_at dksX10_all_0 2 rfl rfl)
theorem dX10_all_5 : decode cX10_all 5 = .ok (.aload_n 0, 1) := dk_42 (dk_at dksX10_all_0 5 rfl rfl)
theorem dX10_all_6 : decode cX10_all 6 = .ok (.getfield 28, 3) := dk_180 0 28 (dk_at dksX10_all_0 6 rfl rfl)
theorem dX10_all_9 : decode cX10_all 9 = .ok (.aload_n 1, 1) := dk_43 (dk_at dksX10_all_0 9 rfl rfl)
theorem dX10_all_10 : decode cX10_all 10 = .ok (.invokeinterface 99 1, 5) := by decide +kernel
theorem dX10_all_15 : decode cX10_all 15 = .ok (.if_icmp .ge 73, 3) := dk_162 0 73 (dk_at dksX10_all_0 15 rfl rfl)
theorem dX10_all_18 : decode cX10_all 18 = .ok (.aload_n 1, 1) := dk_43 (dk_at dksX10_all_0 18 rfl rfl)
theorem dX10_all_19 : decode cX10_all 19 = .ok (.aload_n 0, 1) := dk_42 (dk_at dksX10_all_0 19 rfl rfl)
theorem dX10_all_20 : decode cX10_all 20 = .ok (.getfield 28, 3) := dk_180 0 28 (dk_at dksX10_all_0 20 rfl rfl)
theorem dX10_all_23 : decode cX10_all 23 = .ok (.invokeinterface 102 2, 5) := by decide +kernel
theorem dX10_all_28 : decode cX10_all 28 = .ok (.checkcast 65, 3) := dk_192 0 65 (dk_at dksX10_all_1 5 rfl rfl)
theorem dX10_all_31 : decode cX10_all 31 = .ok (.astore_n 2, 1) := dk_77 (dk_at dksX10_all_1 8 rfl rfl)
theorem dX10_all_32 : decode cX10_all 32 = .ok (.aload_n 0, 1) := dk_42 (dk_at dksX10_all_1 9 rfl rfl)
theorem dX10_all_33 : decode cX10_all 33 = .ok (.getfield 18, 3) := dk_180 0 18 (dk_at dksX10_all_1 10 rfl rfl)
theorem dX10_all_36 : decode cX10_all 36 = .ok (.aload_n 2, 1) := dk_44 (dk_at dksX10_all_1 13 rfl rfl)
theorem dX10_all_37 : decode cX10_all 37 = .ok (.getfield 106, 3) := dk_180 0 106 (dk_at dksX10_all_1 14 rfl rfl)
theorem dX10_all_40 : decode cX10_all 40 = .ok (.invokevirtual 48, 3) := dk_182 0 48 (dk_at dksX10_all_1 17 rfl rfl)
theorem dX10_all_43 : decode cX10_all 43 = .ok (.astore_n 3, 1) := dk_78 (dk_at dksX10_all_1 20 rfl rfl)
theorem dX10_all_44 : decode cX10_all 44 = .ok (.aload_n 2, 1) := dk_44 (dk_at dksX10_all_1 21 rfl rfl)
theorem dX10_all_45 : decode cX10_all 45 = .ok (.bipush 9, 2) := dk_16 9 (dk_at dksX10_all_1 22 rfl rfl)
theorem dX10_all_47 : decode cX10_all 47 = .ok (.invokevirtual 109, 3) := dk_182 0 109 (dk_at dksX10_all_2 0 rfl rfl)
theorem dX10_all_50 : decode cX10_all 50 = .ok (.ifCond .eq 12, 3) := dk_153 0 12 (dk_at dksX10_all_2 3 rfl rfl)
theorem dX10_all_53 : decode cX10_all 53 = .ok (.aload_n 0, 1) := dk_42 (dk_at dksX10_all_2 6 rfl rfl)
theorem dX10_all_54 : decode cX10_all 54 = .ok (.aload_n 2, 1) := dk_44 (dk_at dksX10_all_2 7 rfl rfl)
theorem dX10_all_55 : decode cX10_all 55 = .ok (.aload_n 3, 1) := dk_45 (dk_at dksX10_all_2 8 rfl rfl)
theorem dX10_all_56 : decode cX10_all 56 = .ok (.invokevirtual 113, 3) := dk_182 0 113 (dk_at dksX10_all_2 9 rfl rfl)
theorem dX10_all_59 : decode cX10_all 59 = .ok (.goto 16, 3) := dk_167 0 16 (dk_at dksX10_all_2 12 rfl rfl)
theorem dX10_all_62 : decode cX10_all 62 = .ok (.aload_n 3, 1) := dk_45 (dk_at dksX10_all_2 15 rfl rfl)
theorem dX10_all_63 : decode cX10_all 63 = .ok (.invokevirtual 54, 3) := dk_182 0 54 (dk_at dksX10_all_2 16 rfl rfl)
theorem dX10_all_66 : decode cX10_all 66 = .ok (.ifCond .ne 9, 3) := dk_154 0 9 (dk_at dksX10_all_2 19 rfl rfl)
theorem dX10_all_69 : decode cX10_all 69 = .ok (.aload_n 0, 1) := dk_42 (dk_at dksX10_all_2 22 rfl rfl)
theorem dX10_all_70 : decode cX10_all 70 = .ok (.aload_n 2, 1) := dk_44 (dk_at dksX10_all_2 23 rfl rfl)
theorem dX10_all_71 : decode cX10_all 71 = .ok (.aload_n 3, 1) := dk_45 (dk_at dksX10_all_3 0 rfl rfl)
theorem dX10_all_72 : decode cX10_all 72 = .ok (.invokevirtual 117, 3) := dk_182 0 117 (dk_at dksX10_all_3 1 rfl rfl)
theorem dX10_all_75 : decode cX10_all 75 = .ok (.aload_n 0, 1) := dk_42 (dk_at dksX10_all_3 4 rfl rfl)
theorem dX10_all_76 : decode cX10_all 76 = .ok (.dup, 1) := dk_89 (dk_at dksX10_all_3 5 rfl rfl)
theorem dX10_all_77 : decode cX10_all 77 = .ok (.getfield 28, 3) := dk_180 0 28 (dk_at dksX10_all_3 6 rfl rfl)
theorem dX10_all_80 : decode cX10_all 80 = .ok (.iconst 1, 1) := dk_4 (dk_at dksX10_all_3 9 rfl rfl)
theorem dX10_all_81 : decode cX10_all 81 = .ok (.iadd, 1) := dk_96 (dk_at dksX10_all_3 10 rfl rfl)
theorem dX10_all_82 : decode cX10_all 82 = .ok (.putfield 28, 3) := dk_181 0 28 (dk_at dksX10_all_3 11 rfl rfl)
theorem dX10_all_85 : decode cX10_all 85 = .ok (.goto (-80), 3) := dk_167 255 176 (dk_at dksX10_all_3 14 rfl rfl)
theorem dX10_all_88 : decode cX10_all 88 = .ok (.aload_n 0, 1) := dk_42 (dk_at dksX10_all_3 17 rfl rfl)
theorem dX10_all_89 : decode cX10_all 89 = .ok (.getfield 12, 3) := dk_180 0 12 (dk_at dksX10_all_3 18 rfl rfl)
theorem dX10_all_92 : decode cX10_all 92 = .ok (.areturn, 1) := dk_176 (dk_at dksX10_all_3 21 rfl rfl)
abbrev cX10_writeCall : ByteArray := prog_15_method_13_code
def yX10_writeCall : MethodName := ⟨RX10, "writeCall", "(LSpillslotWorks$Op;LSpillslotWorks$Life;)V"⟩
def dkwX10_writeCall_7 : List UInt8 := [180, 0, 76, 3, 182, 0, 79, 177]
abbrev dktX10_writeCall_7 : List UInt8 := dkwX10_writeCall_7 ++ []
def dkwX10_writeCall_6 : List UInt8 := [180, 0, 69, 153, 0, 17, 42, 16, 8, 3, 44, 180, 0, 73, 182, 0, 45, 167, 0, 12, 42, 44]
abbrev dktX10_writeCall_6 : List UInt8 := dkwX10_writeCall_6 ++ dktX10_writeCall_7
def dkwX10_writeCall_5 : List UInt8 := [3, 182, 0, 96, 42, 43, 180, 0, 83, 4, 46, 4, 182, 0, 96, 42, 16, 9, 3, 3, 182, 0, 45, 44]
abbrev dktX10_writeCall_5 : List UInt8 := dkwX10_writeCall_5 ++ dktX10_writeCall_6
def dkwX10_writeCall_4 : List UInt8 := [182, 0, 96, 42, 43, 180, 0, 83, 3, 46, 3, 182, 0, 96, 167, 0, 25, 42, 43, 180, 0, 83, 3, 46]
abbrev dktX10_writeCall_4 : List UInt8 := dkwX10_writeCall_4 ++ dktX10_writeCall_5
def dkwX10_writeCall_3 : List UInt8 := [182, 0, 87, 182, 0, 79, 167, 0, 55, 21, 4, 154, 0, 28, 42, 43, 180, 0, 83, 4, 46, 4]
abbrev dktX10_writeCall_3 : List UInt8 := dkwX10_writeCall_3 ++ dktX10_writeCall_4
def dkwX10_writeCall_2 : List UInt8 := [42, 180, 0, 22, 182, 0, 87, 3, 182, 0, 79, 42, 3, 4, 182, 0, 79, 42, 4, 42, 180, 0, 22]
abbrev dktX10_writeCall_2 : List UInt8 := dkwX10_writeCall_2 ++ dktX10_writeCall_3
def dkwX10_writeCall_1 : List UInt8 := [180, 0, 83, 4, 46, 182, 0, 48, 180, 0, 76, 54, 4, 29, 4, 160, 0, 41, 21, 4, 154, 0, 36, 42]
abbrev dktX10_writeCall_1 : List UInt8 := dkwX10_writeCall_1 ++ dktX10_writeCall_2
def dkwX10_writeCall_0 : List UInt8 := [42, 180, 0, 18, 43, 180, 0, 83, 3, 46, 182, 0, 48, 180, 0, 76, 62, 42, 180, 0, 18, 43]
abbrev dktX10_writeCall_0 : List UInt8 := dkwX10_writeCall_0 ++ dktX10_writeCall_1
theorem dksX10_writeCall_0 : cX10_writeCall.data.toList.drop 0 = dktX10_writeCall_0 := by decide +kernel
theorem dksX10_writeCall_1 : cX10_writeCall.data.toList.drop 22 = dktX10_writeCall_1 := dk_seg dksX10_writeCall_0 22 rfl rfl
theorem dksX10_writeCall_2 : cX10_writeCall.data.toList.drop 46 = dktX10_writeCall_2 := dk_seg dksX10_writeCall_1 24 rfl rfl
theorem dksX10_writeCall_3 : cX10_writeCall.data.toList.drop 69 = dktX10_writeCall_3 := dk_seg dksX10_writeCall_2 23 rfl rfl
theorem dksX10_writeCall_4 : cX10_writeCall.data.toList.drop 91 = dktX10_writeCall_4 := dk_seg dksX10_writeCall_3 22 rfl rfl
theorem dksX10_writeCall_5 : cX10_writeCall.data.toList.drop 115 = dktX10_writeCall_5 := dk_seg dksX10_writeCall_4 24 rfl rfl
theorem dksX10_writeCall_6 : cX10_writeCall.data.toList.drop 139 = dktX10_writeCall_6 := dk_seg dksX10_writeCall_5 24 rfl rfl
theorem dksX10_writeCall_7 : cX10_writeCall.data.toList.drop 161 = dktX10_writeCall_7 := dk_seg dksX10_writeCall_6 22 rfl rfl
theorem dX10_writeCall_0 : decode cX10_writeCall 0 = .ok (.aload_n 0, 1) := dk_42 (dk_at dksX10_writeCall_0 0 rfl rfl)
theorem dX10_writeCall_1 : decode cX10_writeCall 1 = .ok (.getfield 18, 3) := dk_180 0 18 (dk_at dksX10_writeCall_0 1 rfl rfl)
theorem dX10_writeCall_4 : decode cX10_writeCall 4 = .ok (.aload_n 1, 1) := dk_43 (dk_at dksX10_writeCall_0 4 rfl rfl)
theorem dX10_writeCall_5 : decode cX10_writeCall 5 = .ok (.getfield 83, 3) := dk_180 0 83 (dk_at dksX10_writeCall_0 5 rfl rfl)
theorem dX10_writeCall_8 : decode cX10_writeCall 8 = .ok (.iconst 0, 1) := dk_3 (dk_at dksX10_writeCall_0 8 rfl rfl)
theorem dX10_writeCall_9 : decode cX10_writeCall 9 = .ok (.iaload, 1) := dk_46 (dk_at dksX10_writeCall_0 9 rfl rfl)
theorem dX10_writeCall_10 : decode cX10_writeCall 10 = .ok (.invokevirtual 48, 3) := dk_182 0 48 (dk_at dksX10_writeCall_0 10 rfl rfl)
theorem dX10_writeCall_13 : decode cX10_writeCall 13 = .ok (.getfield 76, 3) := dk_180 0 76 (dk_at dksX10_writeCall_0 13 rfl rfl)
theorem dX10_writeCall_16 : decode cX10_writeCall 16 = .ok (.istore_n 3, 1) := dk_62 (dk_at dksX10_writeCall_0 16 rfl rfl)
theorem dX10_writeCall_17 : decode cX10_writeCall 17 = .ok (.aload_n 0, 1) := dk_42 (dk_at dksX10_writeCall_0 17 rfl rfl)
theorem dX10_writeCall_18 : decode cX10_writeCall 18 = .ok (.getfield 18, 3) := dk_180 0 18 (dk_at dksX10_writeCall_0 18 rfl rfl)
theorem dX10_writeCall_21 : decode cX10_writeCall 21 = .ok (.aload_n 1, 1) := dk_43 (dk_at dksX10_writeCall_0 21 rfl rfl)
theorem dX10_writeCall_22 : decode cX10_writeCall 22 = .ok (.getfield 83, 3) := dk_180 0 83 (dk_at dksX10_writeCall_1 0 rfl rfl)
theorem dX10_writeCall_25 : decode cX10_writeCall 25 = .ok (.iconst 1, 1) := dk_4 (dk_at dksX10_writeCall_1 3 rfl rfl)
theorem dX10_writeCall_26 : decode cX10_writeCall 26 = .ok (.iaload, 1) := dk_46 (dk_at dksX10_writeCall_1 4 rfl rfl)
theorem dX10_writeCall_27 : decode cX10_writeCall 27 = .ok (.invokevirtual 48, 3) := dk_182 0 48 (dk_at dksX10_writeCall_1 5 rfl rfl)
theorem dX10_writeCall_30 : decode cX10_writeCall 30 = .ok (.getfield 76, 3) := dk_180 0 76 (dk_at dksX10_writeCall_1 8 rfl rfl)
theorem dX10_writeCall_33 : decode cX10_writeCall 33 = .ok (.istore 4, 2) := dk_54 4 (dk_at dksX10_writeCall_1 11 rfl rfl)
theorem dX10_writeCall_35 : decode cX10_writeCall 35 = .ok (.iload_n 3, 1) := dk_29 (dk_at dksX10_writeCall_1 13 rfl rfl)
theorem dX10_writeCall_36 : decode cX10_writeCall 36 = .ok (.iconst 1, 1) := dk_4 (dk_at dksX10_writeCall_1 14 rfl rfl)
theorem dX10_writeCall_37 : decode cX10_writeCall 37 = .ok (.if_icmp .ne 41, 3) := dk_160 0 41 (dk_at dksX10_writeCall_1 15 rfl rfl)
theorem dX10_writeCall_40 : decode cX10_writeCall 40 = .ok (.iload 4, 2) := dk_21 4 (dk_at dksX10_writeCall_1 18 rfl rfl)
theorem dX10_writeCall_42 : decode cX10_writeCall 42 = .ok (.ifCond .ne 36, 3) := dk_154 0 36 (dk_at dksX10_writeCall_1 20 rfl rfl)
theorem dX10_writeCall_45 : decode cX10_writeCall 45 = .ok (.aload_n 0, 1) := dk_42 (dk_at dksX10_writeCall_1 23 rfl rfl)
theorem dX10_writeCall_46 : decode cX10_writeCall 46 = .ok (.aload_n 0, 1) := dk_42 (dk_at dksX10_writeCall_2 0 rfl rfl)
theorem dX10_writeCall_47 : decode cX10_writeCall 47 = .ok (.getfield 22, 3) := dk_180 0 22 (dk_at dksX10_writeCall_2 1 rfl rfl)
theorem dX10_writeCall_50 : decode cX10_writeCall 50 = .ok (.invokevirtual 87, 3) := dk_182 0 87 (dk_at dksX10_writeCall_2 4 rfl rfl)
theorem dX10_writeCall_53 : decode cX10_writeCall 53 = .ok (.iconst 0, 1) := dk_3 (dk_at dksX10_writeCall_2 7 rfl rfl)
theorem dX10_writeCall_54 : decode cX10_writeCall 54 = .ok (.invokevirtual 79, 3) := dk_182 0 79 (dk_at dksX10_writeCall_2 8 rfl rfl)
theorem dX10_writeCall_57 : decode cX10_writeCall 57 = .ok (.aload_n 0, 1) := dk_42 (dk_at dksX10_writeCall_2 11 rfl rfl)
theorem dX10_writeCall_58 : decode cX10_writeCall 58 = .ok (.iconst 0, 1) := dk_3 (dk_at dksX10_writeCall_2 12 rfl rfl)
theorem dX10_writeCall_59 : decode cX10_writeCall 59 = .ok (.iconst 1, 1) := dk_4 (dk_at dksX10_writeCall_2 13 rfl rfl)
theorem dX10_writeCall_60 : decode cX10_writeCall 60 = .ok (.invokevirtual 79, 3) := dk_182 0 79 (dk_at dksX10_writeCall_2 14 rfl rfl)
theorem dX10_writeCall_63 : decode cX10_writeCall 63 = .ok (.aload_n 0, 1) := dk_42 (dk_at dksX10_writeCall_2 17 rfl rfl)
theorem dX10_writeCall_64 : decode cX10_writeCall 64 = .ok (.iconst 1, 1) := dk_4 (dk_at dksX10_writeCall_2 18 rfl rfl)
theorem dX10_writeCall_65 : decode cX10_writeCall 65 = .ok (.aload_n 0, 1) := dk_42 (dk_at dksX10_writeCall_2 19 rfl rfl)
theorem dX10_writeCall_66 : decode cX10_writeCall 66 = .ok (.getfield 22, 3) := dk_180 0 22 (dk_at dksX10_writeCall_2 20 rfl rfl)
theorem dX10_writeCall_69 : decode cX10_writeCall 69 = .ok (.invokevirtual 87, 3) := dk_182 0 87 (dk_at dksX10_writeCall_3 0 rfl rfl)
theorem dX10_writeCall_72 : decode cX10_writeCall 72 = .ok (.invokevirtual 79, 3) := dk_182 0 79 (dk_at dksX10_writeCall_3 3 rfl rfl)
theorem dX10_writeCall_75 : decode cX10_writeCall 75 = .ok (.goto 55, 3) := dk_167 0 55 (dk_at dksX10_writeCall_3 6 rfl rfl)
theorem dX10_writeCall_78 : decode cX10_writeCall 78 = .ok (.iload 4, 2) := dk_21 4 (dk_at dksX10_writeCall_3 9 rfl rfl)
theorem dX10_writeCall_80 : decode cX10_writeCall 80 = .ok (.ifCond .ne 28, 3) := dk_154 0 28 (dk_at dksX10_writeCall_3 11 rfl rfl)
theorem dX10_writeCall_83 : decode cX10_writeCall 83 = .ok (.aload_n 0, 1) := dk_42 (dk_at dksX10_writeCall_3 14 rfl rfl)
theorem dX10_writeCall_84 : decode cX10_writeCall 84 = .ok (.aload_n 1, 1) := dk_43 (dk_at dksX10_writeCall_3 15 rfl rfl)
theorem dX10_writeCall_85 : decode cX10_writeCall 85 = .ok (.getfield 83, 3) := dk_180 0 83 (dk_at dksX10_writeCall_3 16 rfl rfl)
theorem dX10_writeCall_88 : decode cX10_writeCall 88 = .ok (.iconst 1, 1) := dk_4 (dk_at dksX10_writeCall_3 19 rfl rfl)
theorem dX10_writeCall_89 : decode cX10_writeCall 89 = .ok (.iaload, 1) := dk_46 (dk_at dksX10_writeCall_3 20 rfl rfl)
theorem dX10_writeCall_90 : decode cX10_writeCall 90 = .ok (.iconst 1, 1) := dk_4 (dk_at dksX10_writeCall_3 21 rfl rfl)
theorem dX10_writeCall_91 : decode cX10_writeCall 91 = .ok (.invokevirtual 96, 3) := dk_182 0 96 (dk_at dksX10_writeCall_4 0 rfl rfl)
theorem dX10_writeCall_94 : decode cX10_writeCall 94 = .ok (.aload_n 0, 1) := dk_42 (dk_at dksX10_writeCall_4 3 rfl rfl)
theorem dX10_writeCall_95 : decode cX10_writeCall 95 = .ok (.aload_n 1, 1) := dk_43 (dk_at dksX10_writeCall_4 4 rfl rfl)
theorem dX10_writeCall_96 : decode cX10_writeCall 96 = .ok (.getfield 83, 3) := dk_180 0 83 (dk_at dksX10_writeCall_4 5 rfl rfl)
theorem dX10_writeCall_99 : decode cX10_writeCall 99 = .ok (.iconst 0, 1) := dk_3 (dk_at dksX10_writeCall_4 8 rfl rfl)
theorem dX10_writeCall_100 : decode cX10_writeCall 100 = .ok (.iaload, 1) := dk_46 (dk_at dksX10_writeCall_4 9 rfl rfl)
theorem dX10_writeCall_101 : decode cX10_writeCall 101 = .ok (.iconst 0, 1) := dk_3 (dk_at dksX10_writeCall_4 10 rfl rfl)
theorem dX10_writeCall_102 : decode cX10_writeCall 102 = .ok (.invokevirtual 96, 3) := dk_182 0 96 (dk_at dksX10_writeCall_4 11 rfl rfl)
theorem dX10_writeCall_105 : decode cX10_writeCall 105 = .ok (.goto 25, 3) := dk_167 0 25 (dk_at dksX10_writeCall_4 14 rfl rfl)
theorem dX10_writeCall_108 : decode cX10_writeCall 108 = .ok (.aload_n 0, 1) := dk_42 (dk_at dksX10_writeCall_4 17 rfl rfl)
theorem dX10_writeCall_109 : decode cX10_writeCall 109 = .ok (.aload_n 1, 1) := dk_43 (dk_at dksX10_writeCall_4 18 rfl rfl)
theorem dX10_writeCall_110 : decode cX10_writeCall 110 = .ok (.getfield 83, 3) := dk_180 0 83 (dk_at dksX10_writeCall_4 19 rfl rfl)
theorem dX10_writeCall_113 : decode cX10_writeCall 113 = .ok (.iconst 0, 1) := dk_3 (dk_at dksX10_writeCall_4 22 rfl rfl)
theorem dX10_writeCall_114 : decode cX10_writeCall 114 = .ok (.iaload, 1) := dk_46 (dk_at dksX10_writeCall_4 23 rfl rfl)
theorem dX10_writeCall_115 : decode cX10_writeCall 115 = .ok (.iconst 0, 1) := dk_3 (dk_at dksX10_writeCall_5 0 rfl rfl)
theorem dX10_writeCall_116 : decode cX10_writeCall 116 = .ok (.invokevirtual 96, 3) := dk_182 0 96 (dk_at dksX10_writeCall_5 1 rfl rfl)
theorem dX10_writeCall_119 : decode cX10_writeCall 119 = .ok (.aload_n 0, 1) := dk_42 (dk_at dksX10_writeCall_5 4 rfl rfl)
theorem dX10_writeCall_120 : decode cX10_writeCall 120 = .ok (.aload_n 1, 1) := dk_43 (dk_at dksX10_writeCall_5 5 rfl rfl)
theorem dX10_writeCall_121 : decode cX10_writeCall 121 = .ok (.getfield 83, 3) := dk_180 0 83 (dk_at dksX10_writeCall_5 6 rfl rfl)
theorem dX10_writeCall_124 : decode cX10_writeCall 124 = .ok (.iconst 1, 1) := dk_4 (dk_at dksX10_writeCall_5 9 rfl rfl)
theorem dX10_writeCall_125 : decode cX10_writeCall 125 = .ok (.iaload, 1) := dk_46 (dk_at dksX10_writeCall_5 10 rfl rfl)
theorem dX10_writeCall_126 : decode cX10_writeCall 126 = .ok (.iconst 1, 1) := dk_4 (dk_at dksX10_writeCall_5 11 rfl rfl)
theorem dX10_writeCall_127 : decode cX10_writeCall 127 = .ok (.invokevirtual 96, 3) := dk_182 0 96 (dk_at dksX10_writeCall_5 12 rfl rfl)
theorem dX10_writeCall_130 : decode cX10_writeCall 130 = .ok (.aload_n 0, 1) := dk_42 (dk_at dksX10_writeCall_5 15 rfl rfl)
theorem dX10_writeCall_131 : decode cX10_writeCall 131 = .ok (.bipush 9, 2) := dk_16 9 (dk_at dksX10_writeCall_5 16 rfl rfl)
theorem dX10_writeCall_133 : decode cX10_writeCall 133 = .ok (.iconst 0, 1) := dk_3 (dk_at dksX10_writeCall_5 18 rfl rfl)
theorem dX10_writeCall_134 : decode cX10_writeCall 134 = .ok (.iconst 0, 1) := dk_3 (dk_at dksX10_writeCall_5 19 rfl rfl)
theorem dX10_writeCall_135 : decode cX10_writeCall 135 = .ok (.invokevirtual 45, 3) := dk_182 0 45 (dk_at dksX10_writeCall_5 20 rfl rfl)
theorem dX10_writeCall_138 : decode cX10_writeCall 138 = .ok (.aload_n 2, 1) := dk_44 (dk_at dksX10_writeCall_5 23 rfl rfl)
theorem dX10_writeCall_139 : decode cX10_writeCall 139 = .ok (.getfield 69, 3) := dk_180 0 69 (dk_at dksX10_writeCall_6 0 rfl rfl)
theorem dX10_writeCall_142 : decode cX10_writeCall 142 = .ok (.ifCond .eq 17, 3) := dk_153 0 17 (dk_at dksX10_writeCall_6 3 rfl rfl)
theorem dX10_writeCall_145 : decode cX10_writeCall 145 = .ok (.aload_n 0, 1) := dk_42 (dk_at dksX10_writeCall_6 6 rfl rfl)
theorem dX10_writeCall_146 : decode cX10_writeCall 146 = .ok (.bipush 8, 2) := dk_16 8 (dk_at dksX10_writeCall_6 7 rfl rfl)
theorem dX10_writeCall_148 : decode cX10_writeCall 148 = .ok (.iconst 0, 1) := dk_3 (dk_at dksX10_writeCall_6 9 rfl rfl)
theorem dX10_writeCall_149 : decode cX10_writeCall 149 = .ok (.aload_n 2, 1) := dk_44 (dk_at dksX10_writeCall_6 10 rfl rfl)
theorem dX10_writeCall_150 : decode cX10_writeCall 150 = .ok (.getfield 73, 3) := dk_180 0 73 (dk_at dksX10_writeCall_6 11 rfl rfl)
theorem dX10_writeCall_153 : decode cX10_writeCall 153 = .ok (.invokevirtual 45, 3) := dk_182 0 45 (dk_at dksX10_writeCall_6 14 rfl rfl)
theorem dX10_writeCall_156 : decode cX10_writeCall 156 = .ok (.goto 12, 3) := dk_167 0 12 (dk_at dksX10_writeCall_6 17 rfl rfl)
theorem dX10_writeCall_159 : decode cX10_writeCall 159 = .ok (.aload_n 0, 1) := dk_42 (dk_at dksX10_writeCall_6 20 rfl rfl)
theorem dX10_writeCall_160 : decode cX10_writeCall 160 = .ok (.aload_n 2, 1) := dk_44 (dk_at dksX10_writeCall_6 21 rfl rfl)
theorem dX10_writeCall_161 : decode cX10_writeCall 161 = .ok (.getfield 76, 3) := dk_180 0 76 (dk_at dksX10_writeCall_7 0 rfl rfl)
theorem dX10_writeCall_164 : decode cX10_writeCall 164 = .ok (.iconst 0, 1) := dk_3 (dk_at dksX10_writeCall_7 3 rfl rfl)
theorem dX10_writeCall_165 : decode cX10_writeCall 165 = .ok (.invokevirtual 79, 3) := dk_182 0 79 (dk_at dksX10_writeCall_7 4 rfl rfl)
theorem dX10_writeCall_168 : decode cX10_writeCall 168 = .ok (.return_, 1) := dk_177 (dk_at dksX10_writeCall_7 7 rfl rfl)
abbrev cX10_move : ByteArray := prog_15_method_4_code
def yX10_move : MethodName := ⟨RX10, "move", "(II)V"⟩
def dkwX10_move_0 : List UInt8 := [27, 28, 159, 0, 10, 42, 4, 27, 28, 182, 0, 45, 177]
abbrev dktX10_move_0 : List UInt8 := dkwX10_move_0 ++ []
theorem dksX10_move_0 : cX10_move.data.toList.drop 0 = dktX10_move_0 := by decide +kernel
theorem dX10_move_0 : decode cX10_move 0 = .ok (.iload_n 1, 1) := dk_27 (dk_at dksX10_move_0 0 rfl rfl)
theorem dX10_move_1 : decode cX10_move 1 = .ok (.iload_n 2, 1) := dk_28 (dk_at dksX10_move_0 1 rfl rfl)
theorem dX10_move_2 : decode cX10_move 2 = .ok (.if_icmp .eq 10, 3) := dk_159 0 10 (dk_at dksX10_move_0 2 rfl rfl)
theorem dX10_move_5 : decode cX10_move 5 = .ok (.aload_n 0, 1) := dk_42 (dk_at dksX10_move_0 5 rfl rfl)
theorem dX10_move_6 : decode cX10_move 6 = .ok (.iconst 1, 1) := dk_4 (dk_at dksX10_move_0 6 rfl rfl)
theorem dX10_move_7 : decode cX10_move 7 = .ok (.iload_n 1, 1) := dk_27 (dk_at dksX10_move_0 7 rfl rfl)
theorem dX10_move_8 : decode cX10_move 8 = .ok (.iload_n 2, 1) := dk_28 (dk_at dksX10_move_0 8 rfl rfl)
theorem dX10_move_9 : decode cX10_move 9 = .ok (.invokevirtual 45, 3) := dk_182 0 45 (dk_at dksX10_move_0 9 rfl rfl)
theorem dX10_move_12 : decode cX10_move 12 = .ok (.return_, 1) := dk_177 (dk_at dksX10_move_0 12 rfl rfl)
abbrev cX10_put : ByteArray := prog_15_method_3_code
def yX10_put : MethodName := ⟨RX10, "put", "(III)V"⟩
def dkwX10_put_0 : List UInt8 := [42, 27, 28, 29, 3, 3, 182, 0, 41, 177]
abbrev dktX10_put_0 : List UInt8 := dkwX10_put_0 ++ []
theorem dksX10_put_0 : cX10_put.data.toList.drop 0 = dktX10_put_0 := by decide +kernel
theorem dX10_put_0 : decode cX10_put 0 = .ok (.aload_n 0, 1) := dk_42 (dk_at dksX10_put_0 0 rfl rfl)
theorem dX10_put_1 : decode cX10_put 1 = .ok (.iload_n 1, 1) := dk_27 (dk_at dksX10_put_0 1 rfl rfl)
theorem dX10_put_2 : decode cX10_put 2 = .ok (.iload_n 2, 1) := dk_28 (dk_at dksX10_put_0 2 rfl rfl)
theorem dX10_put_3 : decode cX10_put 3 = .ok (.iload_n 3, 1) := dk_29 (dk_at dksX10_put_0 3 rfl rfl)
theorem dX10_put_4 : decode cX10_put 4 = .ok (.iconst 0, 1) := dk_3 (dk_at dksX10_put_0 4 rfl rfl)
theorem dX10_put_5 : decode cX10_put 5 = .ok (.iconst 0, 1) := dk_3 (dk_at dksX10_put_0 5 rfl rfl)
theorem dX10_put_6 : decode cX10_put 6 = .ok (.invokevirtual 41, 3) := dk_182 0 41 (dk_at dksX10_put_0 6 rfl rfl)
theorem dX10_put_9 : decode cX10_put 9 = .ok (.return_, 1) := dk_177 (dk_at dksX10_put_0 9 rfl rfl)
abbrev cX10_put_2 : ByteArray := prog_15_method_2_code
def yX10_put_2 : MethodName := ⟨RX10, "put", "(IIIII)V"⟩
def dkwX10_put_2_1 : List UInt8 := [185, 0, 35, 2, 0, 87, 177]
abbrev dktX10_put_2_1 : List UInt8 := dkwX10_put_2_1 ++ []
def dkwX10_put_2_0 : List UInt8 := [42, 180, 0, 12, 187, 0, 26, 89, 27, 42, 180, 0, 28, 28, 29, 21, 4, 21, 5, 183, 0, 32]
abbrev dktX10_put_2_0 : List UInt8 := dkwX10_put_2_0 ++ dktX10_put_2_1
theorem dksX10_put_2_0 : cX10_put_2.data.toList.drop 0 = dktX10_put_2_0 := by decide +kernel
theorem dksX10_put_2_1 : cX10_put_2.data.toList.drop 22 = dktX10_put_2_1 := dk_seg dksX10_put_2_0 22 rfl rfl
theorem dX10_put_2_0 : decode cX10_put_2 0 = .ok (.aload_n 0, 1) := dk_42 (dk_at dksX10_put_2_0 0 rfl rfl)
theorem dX10_put_2_1 : decode cX10_put_2 1 = .ok (.getfield 12, 3) := dk_180 0 12 (dk_at dksX10_put_2_0 1 rfl rfl)
theorem dX10_put_2_4 : decode cX10_put_2 4 = .ok (.new 26, 3) := dk_187 0 26 (dk_at dksX10_put_2_0 4 rfl rfl)
theorem dX10_put_2_7 : decode cX10_put_2 7 = .ok (.dup, 1) := dk_89 (dk_at dksX10_put_2_0 7 rfl rfl)
theorem dX10_put_2_8 : decode cX10_put_2 8 = .ok (.iload_n 1, 1) := dk_27 (dk_at dksX10_put_2_0 8 rfl rfl)
theorem dX10_put_2_9 : decode cX10_put_2 9 = .ok (.aload_n 0, 1) := dk_42 (dk_at dksX10_put_2_0 9 rfl rfl)
theorem dX10_put_2_10 : decode cX10_put_2 10 = .ok (.getfield 28, 3) := dk_180 0 28 (dk_at dksX10_put_2_0 10 rfl rfl)
theorem dX10_put_2_13 : decode cX10_put_2 13 = .ok (.iload_n 2, 1) := dk_28 (dk_at dksX10_put_2_0 13 rfl rfl)
theorem dX10_put_2_14 : decode cX10_put_2 14 = .ok (.iload_n 3, 1) := dk_29 (dk_at dksX10_put_2_0 14 rfl rfl)
theorem dX10_put_2_15 : decode cX10_put_2 15 = .ok (.iload 4, 2) := dk_21 4 (dk_at dksX10_put_2_0 15 rfl rfl)
theorem dX10_put_2_17 : decode cX10_put_2 17 = .ok (.iload 5, 2) := dk_21 5 (dk_at dksX10_put_2_0 17 rfl rfl)
theorem dX10_put_2_19 : decode cX10_put_2 19 = .ok (.invokespecial 32, 3) := dk_183 0 32 (dk_at dksX10_put_2_0 19 rfl rfl)
theorem dX10_put_2_22 : decode cX10_put_2 22 = .ok (.invokeinterface 35 2, 5) := by decide +kernel
theorem dX10_put_2_27 : decode cX10_put_2 27 = .ok (.pop, 1) := dk_87 (dk_at dksX10_put_2_1 5 rfl rfl)
theorem dX10_put_2_28 : decode cX10_put_2 28 = .ok (.return_, 1) := dk_177 (dk_at dksX10_put_2_1 6 rfl rfl)
abbrev cX10_bring : ByteArray := prog_15_method_5_code
def yX10_bring : MethodName := ⟨RX10, "bring", "(II)V"⟩
def dkwX10_bring_2 : List UInt8 := [182, 0, 45, 167, 0, 12, 42, 28, 45, 180, 0, 76, 182, 0, 79, 177]
abbrev dktX10_bring_2 : List UInt8 := dkwX10_bring_2 ++ []
def dkwX10_bring_1 : List UInt8 := [180, 0, 64, 182, 0, 45, 167, 0, 33, 45, 180, 0, 69, 153, 0, 17, 42, 16, 7, 28, 45, 180, 0, 73]
abbrev dktX10_bring_1 : List UInt8 := dkwX10_bring_1 ++ dktX10_bring_2
def dkwX10_bring_0 : List UInt8 := [42, 180, 0, 18, 27, 182, 0, 48, 78, 45, 182, 0, 54, 153, 0, 19, 42, 3, 28, 45, 180, 0, 60]
abbrev dktX10_bring_0 : List UInt8 := dkwX10_bring_0 ++ dktX10_bring_1
theorem dksX10_bring_0 : cX10_bring.data.toList.drop 0 = dktX10_bring_0 := by decide +kernel
theorem dksX10_bring_1 : cX10_bring.data.toList.drop 23 = dktX10_bring_1 := dk_seg dksX10_bring_0 23 rfl rfl
theorem dksX10_bring_2 : cX10_bring.data.toList.drop 47 = dktX10_bring_2 := dk_seg dksX10_bring_1 24 rfl rfl
theorem dX10_bring_0 : decode cX10_bring 0 = .ok (.aload_n 0, 1) := dk_42 (dk_at dksX10_bring_0 0 rfl rfl)
theorem dX10_bring_1 : decode cX10_bring 1 = .ok (.getfield 18, 3) := dk_180 0 18 (dk_at dksX10_bring_0 1 rfl rfl)
theorem dX10_bring_4 : decode cX10_bring 4 = .ok (.iload_n 1, 1) := dk_27 (dk_at dksX10_bring_0 4 rfl rfl)
theorem dX10_bring_5 : decode cX10_bring 5 = .ok (.invokevirtual 48, 3) := dk_182 0 48 (dk_at dksX10_bring_0 5 rfl rfl)
theorem dX10_bring_8 : decode cX10_bring 8 = .ok (.astore_n 3, 1) := dk_78 (dk_at dksX10_bring_0 8 rfl rfl)
theorem dX10_bring_9 : decode cX10_bring 9 = .ok (.aload_n 3, 1) := dk_45 (dk_at dksX10_bring_0 9 rfl rfl)
theorem dX10_bring_10 : decode cX10_bring 10 = .ok (.invokevirtual 54, 3) := dk_182 0 54 (dk_at dksX10_bring_0 10 rfl rfl)
theorem dX10_bring_13 : decode cX10_bring 13 = .ok (.ifCond .eq 19, 3) := dk_153 0 19 (dk_at dksX10_bring_0 13 rfl rfl)
theorem dX10_bring_16 : decode cX10_bring 16 = .ok (.aload_n 0, 1) := dk_42 (dk_at dksX10_bring_0 16 rfl rfl)
theorem dX10_bring_17 : decode cX10_bring 17 = .ok (.iconst 0, 1) := dk_3 (dk_at dksX10_bring_0 17 rfl rfl)
theorem dX10_bring_18 : decode cX10_bring 18 = .ok (.iload_n 2, 1) := dk_28 (dk_at dksX10_bring_0 18 rfl rfl)
theorem dX10_bring_19 : decode cX10_bring 19 = .ok (.aload_n 3, 1) := dk_45 (dk_at dksX10_bring_0 19 rfl rfl)
theorem dX10_bring_20 : decode cX10_bring 20 = .ok (.getfield 60, 3) := dk_180 0 60 (dk_at dksX10_bring_0 20 rfl rfl)
theorem dX10_bring_23 : decode cX10_bring 23 = .ok (.getfield 64, 3) := dk_180 0 64 (dk_at dksX10_bring_1 0 rfl rfl)
theorem dX10_bring_26 : decode cX10_bring 26 = .ok (.invokevirtual 45, 3) := dk_182 0 45 (dk_at dksX10_bring_1 3 rfl rfl)
theorem dX10_bring_29 : decode cX10_bring 29 = .ok (.goto 33, 3) := dk_167 0 33 (dk_at dksX10_bring_1 6 rfl rfl)
theorem dX10_bring_32 : decode cX10_bring 32 = .ok (.aload_n 3, 1) := dk_45 (dk_at dksX10_bring_1 9 rfl rfl)
theorem dX10_bring_33 : decode cX10_bring 33 = .ok (.getfield 69, 3) := dk_180 0 69 (dk_at dksX10_bring_1 10 rfl rfl)
theorem dX10_bring_36 : decode cX10_bring 36 = .ok (.ifCond .eq 17, 3) := dk_153 0 17 (dk_at dksX10_bring_1 13 rfl rfl)
theorem dX10_bring_39 : decode cX10_bring 39 = .ok (.aload_n 0, 1) := dk_42 (dk_at dksX10_bring_1 16 rfl rfl)
theorem dX10_bring_40 : decode cX10_bring 40 = .ok (.bipush 7, 2) := dk_16 7 (dk_at dksX10_bring_1 17 rfl rfl)
theorem dX10_bring_42 : decode cX10_bring 42 = .ok (.iload_n 2, 1) := dk_28 (dk_at dksX10_bring_1 19 rfl rfl)
theorem dX10_bring_43 : decode cX10_bring 43 = .ok (.aload_n 3, 1) := dk_45 (dk_at dksX10_bring_1 20 rfl rfl)
theorem dX10_bring_44 : decode cX10_bring 44 = .ok (.getfield 73, 3) := dk_180 0 73 (dk_at dksX10_bring_1 21 rfl rfl)
theorem dX10_bring_47 : decode cX10_bring 47 = .ok (.invokevirtual 45, 3) := dk_182 0 45 (dk_at dksX10_bring_2 0 rfl rfl)
theorem dX10_bring_50 : decode cX10_bring 50 = .ok (.goto 12, 3) := dk_167 0 12 (dk_at dksX10_bring_2 3 rfl rfl)
theorem dX10_bring_53 : decode cX10_bring 53 = .ok (.aload_n 0, 1) := dk_42 (dk_at dksX10_bring_2 6 rfl rfl)
theorem dX10_bring_54 : decode cX10_bring 54 = .ok (.iload_n 2, 1) := dk_28 (dk_at dksX10_bring_2 7 rfl rfl)
theorem dX10_bring_55 : decode cX10_bring 55 = .ok (.aload_n 3, 1) := dk_45 (dk_at dksX10_bring_2 8 rfl rfl)
theorem dX10_bring_56 : decode cX10_bring 56 = .ok (.getfield 76, 3) := dk_180 0 76 (dk_at dksX10_bring_2 9 rfl rfl)
theorem dX10_bring_59 : decode cX10_bring 59 = .ok (.invokevirtual 79, 3) := dk_182 0 79 (dk_at dksX10_bring_2 12 rfl rfl)
theorem dX10_bring_62 : decode cX10_bring 62 = .ok (.return_, 1) := dk_177 (dk_at dksX10_bring_2 15 rfl rfl)
abbrev cX10_writePlain : ByteArray := prog_15_method_9_code
def yX10_writePlain : MethodName := ⟨RX10, "writePlain", "(LSpillslotWorks$Op;LSpillslotWorks$Life;)V"⟩
def dkwX10_writePlain_4 : List UInt8 := [45, 182, 0, 131, 42, 44, 21, 4, 182, 0, 134, 177]
abbrev dktX10_writePlain_4 : List UInt8 := dkwX10_writePlain_4 ++ []
def dkwX10_writePlain_3 : List UInt8 := [180, 0, 22, 180, 0, 124, 153, 0, 14, 42, 43, 21, 4, 45, 182, 0, 127, 167, 0, 11, 42, 43, 21, 4]
abbrev dktX10_writePlain_3 : List UInt8 := dkwX10_writePlain_3 ++ dktX10_writePlain_4
def dkwX10_writePlain_2 : List UInt8 := [167, 0, 52, 43, 4, 182, 0, 109, 153, 0, 15, 42, 21, 4, 45, 3, 46, 182, 0, 79, 167, 0, 32, 42]
abbrev dktX10_writePlain_2 : List UInt8 := dkwX10_writePlain_2 ++ dktX10_writePlain_3
def dkwX10_writePlain_1 : List UInt8 := [180, 0, 76, 54, 4, 43, 3, 182, 0, 109, 153, 0, 17, 42, 3, 21, 4, 43, 180, 0, 64, 182, 0, 45]
abbrev dktX10_writePlain_1 : List UInt8 := dkwX10_writePlain_1 ++ dktX10_writePlain_2
def dkwX10_writePlain_0 : List UInt8 := [42, 43, 182, 0, 120, 78, 44, 180, 0, 69, 153, 0, 13, 42, 180, 0, 22, 182, 0, 87, 167, 0, 7, 44]
abbrev dktX10_writePlain_0 : List UInt8 := dkwX10_writePlain_0 ++ dktX10_writePlain_1
theorem dksX10_writePlain_0 : cX10_writePlain.data.toList.drop 0 = dktX10_writePlain_0 := by decide +kernel
theorem dksX10_writePlain_1 : cX10_writePlain.data.toList.drop 24 = dktX10_writePlain_1 := dk_seg dksX10_writePlain_0 24 rfl rfl
theorem dksX10_writePlain_2 : cX10_writePlain.data.toList.drop 48 = dktX10_writePlain_2 := dk_seg dksX10_writePlain_1 24 rfl rfl
theorem dksX10_writePlain_3 : cX10_writePlain.data.toList.drop 72 = dktX10_writePlain_3 := dk_seg dksX10_writePlain_2 24 rfl rfl
theorem dksX10_writePlain_4 : cX10_writePlain.data.toList.drop 96 = dktX10_writePlain_4 := dk_seg dksX10_writePlain_3 24 rfl rfl
theorem dX10_writePlain_0 : decode cX10_writePlain 0 = .ok (.aload_n 0, 1) := dk_42 (dk_at dksX10_writePlain_0 0 rfl rfl)
theorem dX10_writePlain_1 : decode cX10_writePlain 1 = .ok (.aload_n 1, 1) := dk_43 (dk_at dksX10_writePlain_0 1 rfl rfl)
theorem dX10_writePlain_2 : decode cX10_writePlain 2 = .ok (.invokevirtual 120, 3) := dk_182 0 120 (dk_at dksX10_writePlain_0 2 rfl rfl)
theorem dX10_writePlain_5 : decode cX10_writePlain 5 = .ok (.astore_n 3, 1) := dk_78 (dk_at dksX10_writePlain_0 5 rfl rfl)
theorem dX10_writePlain_6 : decode cX10_writePlain 6 = .ok (.aload_n 2, 1) := dk_44 (dk_at dksX10_writePlain_0 6 rfl rfl)
theorem dX10_writePlain_7 : decode cX10_writePlain 7 = .ok (.getfield 69, 3) := dk_180 0 69 (dk_at dksX10_writePlain_0 7 rfl rfl)
theorem dX10_writePlain_10 : decode cX10_writePlain 10 = .ok (.ifCond .eq 13, 3) := dk_153 0 13 (dk_at dksX10_writePlain_0 10 rfl rfl)
theorem dX10_writePlain_13 : decode cX10_writePlain 13 = .ok (.aload_n 0, 1) := dk_42 (dk_at dksX10_writePlain_0 13 rfl rfl)
theorem dX10_writePlain_14 : decode cX10_writePlain 14 = .ok (.getfield 22, 3) := dk_180 0 22 (dk_at dksX10_writePlain_0 14 rfl rfl)
theorem dX10_writePlain_17 : decode cX10_writePlain 17 = .ok (.invokevirtual 87, 3) := dk_182 0 87 (dk_at dksX10_writePlain_0 17 rfl rfl)
theorem dX10_writePlain_20 : decode cX10_writePlain 20 = .ok (.goto 7, 3) := dk_167 0 7 (dk_at dksX10_writePlain_0 20 rfl rfl)
theorem dX10_writePlain_23 : decode cX10_writePlain 23 = .ok (.aload_n 2, 1) := dk_44 (dk_at dksX10_writePlain_0 23 rfl rfl)
theorem dX10_writePlain_24 : decode cX10_writePlain 24 = .ok (.getfield 76, 3) := dk_180 0 76 (dk_at dksX10_writePlain_1 0 rfl rfl)
theorem dX10_writePlain_27 : decode cX10_writePlain 27 = .ok (.istore 4, 2) := dk_54 4 (dk_at dksX10_writePlain_1 3 rfl rfl)
theorem dX10_writePlain_29 : decode cX10_writePlain 29 = .ok (.aload_n 1, 1) := dk_43 (dk_at dksX10_writePlain_1 5 rfl rfl)
theorem dX10_writePlain_30 : decode cX10_writePlain 30 = .ok (.iconst 0, 1) := dk_3 (dk_at dksX10_writePlain_1 6 rfl rfl)
theorem dX10_writePlain_31 : decode cX10_writePlain 31 = .ok (.invokevirtual 109, 3) := dk_182 0 109 (dk_at dksX10_writePlain_1 7 rfl rfl)
theorem dX10_writePlain_34 : decode cX10_writePlain 34 = .ok (.ifCond .eq 17, 3) := dk_153 0 17 (dk_at dksX10_writePlain_1 10 rfl rfl)
theorem dX10_writePlain_37 : decode cX10_writePlain 37 = .ok (.aload_n 0, 1) := dk_42 (dk_at dksX10_writePlain_1 13 rfl rfl)
theorem dX10_writePlain_38 : decode cX10_writePlain 38 = .ok (.iconst 0, 1) := dk_3 (dk_at dksX10_writePlain_1 14 rfl rfl)
theorem dX10_writePlain_39 : decode cX10_writePlain 39 = .ok (.iload 4, 2) := dk_21 4 (dk_at dksX10_writePlain_1 15 rfl rfl)
theorem dX10_writePlain_41 : decode cX10_writePlain 41 = .ok (.aload_n 1, 1) := dk_43 (dk_at dksX10_writePlain_1 17 rfl rfl)
theorem dX10_writePlain_42 : decode cX10_writePlain 42 = .ok (.getfield 64, 3) := dk_180 0 64 (dk_at dksX10_writePlain_1 18 rfl rfl)
theorem dX10_writePlain_45 : decode cX10_writePlain 45 = .ok (.invokevirtual 45, 3) := dk_182 0 45 (dk_at dksX10_writePlain_1 21 rfl rfl)
theorem dX10_writePlain_48 : decode cX10_writePlain 48 = .ok (.goto 52, 3) := dk_167 0 52 (dk_at dksX10_writePlain_2 0 rfl rfl)
theorem dX10_writePlain_51 : decode cX10_writePlain 51 = .ok (.aload_n 1, 1) := dk_43 (dk_at dksX10_writePlain_2 3 rfl rfl)
theorem dX10_writePlain_52 : decode cX10_writePlain 52 = .ok (.iconst 1, 1) := dk_4 (dk_at dksX10_writePlain_2 4 rfl rfl)
theorem dX10_writePlain_53 : decode cX10_writePlain 53 = .ok (.invokevirtual 109, 3) := dk_182 0 109 (dk_at dksX10_writePlain_2 5 rfl rfl)
theorem dX10_writePlain_56 : decode cX10_writePlain 56 = .ok (.ifCond .eq 15, 3) := dk_153 0 15 (dk_at dksX10_writePlain_2 8 rfl rfl)
theorem dX10_writePlain_59 : decode cX10_writePlain 59 = .ok (.aload_n 0, 1) := dk_42 (dk_at dksX10_writePlain_2 11 rfl rfl)
theorem dX10_writePlain_60 : decode cX10_writePlain 60 = .ok (.iload 4, 2) := dk_21 4 (dk_at dksX10_writePlain_2 12 rfl rfl)
theorem dX10_writePlain_62 : decode cX10_writePlain 62 = .ok (.aload_n 3, 1) := dk_45 (dk_at dksX10_writePlain_2 14 rfl rfl)
theorem dX10_writePlain_63 : decode cX10_writePlain 63 = .ok (.iconst 0, 1) := dk_3 (dk_at dksX10_writePlain_2 15 rfl rfl)
theorem dX10_writePlain_64 : decode cX10_writePlain 64 = .ok (.iaload, 1) := dk_46 (dk_at dksX10_writePlain_2 16 rfl rfl)
theorem dX10_writePlain_65 : decode cX10_writePlain 65 = .ok (.invokevirtual 79, 3) := dk_182 0 79 (dk_at dksX10_writePlain_2 17 rfl rfl)
theorem dX10_writePlain_68 : decode cX10_writePlain 68 = .ok (.goto 32, 3) := dk_167 0 32 (dk_at dksX10_writePlain_2 20 rfl rfl)
theorem dX10_writePlain_71 : decode cX10_writePlain 71 = .ok (.aload_n 0, 1) := dk_42 (dk_at dksX10_writePlain_2 23 rfl rfl)
theorem dX10_writePlain_72 : decode cX10_writePlain 72 = .ok (.getfield 22, 3) := dk_180 0 22 (dk_at dksX10_writePlain_3 0 rfl rfl)
theorem dX10_writePlain_75 : decode cX10_writePlain 75 = .ok (.getfield 124, 3) := dk_180 0 124 (dk_at dksX10_writePlain_3 3 rfl rfl)
theorem dX10_writePlain_78 : decode cX10_writePlain 78 = .ok (.ifCond .eq 14, 3) := dk_153 0 14 (dk_at dksX10_writePlain_3 6 rfl rfl)
theorem dX10_writePlain_81 : decode cX10_writePlain 81 = .ok (.aload_n 0, 1) := dk_42 (dk_at dksX10_writePlain_3 9 rfl rfl)
theorem dX10_writePlain_82 : decode cX10_writePlain 82 = .ok (.aload_n 1, 1) := dk_43 (dk_at dksX10_writePlain_3 10 rfl rfl)
theorem dX10_writePlain_83 : decode cX10_writePlain 83 = .ok (.iload 4, 2) := dk_21 4 (dk_at dksX10_writePlain_3 11 rfl rfl)
theorem dX10_writePlain_85 : decode cX10_writePlain 85 = .ok (.aload_n 3, 1) := dk_45 (dk_at dksX10_writePlain_3 13 rfl rfl)
theorem dX10_writePlain_86 : decode cX10_writePlain 86 = .ok (.invokevirtual 127, 3) := dk_182 0 127 (dk_at dksX10_writePlain_3 14 rfl rfl)
theorem dX10_writePlain_89 : decode cX10_writePlain 89 = .ok (.goto 11, 3) := dk_167 0 11 (dk_at dksX10_writePlain_3 17 rfl rfl)
theorem dX10_writePlain_92 : decode cX10_writePlain 92 = .ok (.aload_n 0, 1) := dk_42 (dk_at dksX10_writePlain_3 20 rfl rfl)
theorem dX10_writePlain_93 : decode cX10_writePlain 93 = .ok (.aload_n 1, 1) := dk_43 (dk_at dksX10_writePlain_3 21 rfl rfl)
theorem dX10_writePlain_94 : decode cX10_writePlain 94 = .ok (.iload 4, 2) := dk_21 4 (dk_at dksX10_writePlain_3 22 rfl rfl)
theorem dX10_writePlain_96 : decode cX10_writePlain 96 = .ok (.aload_n 3, 1) := dk_45 (dk_at dksX10_writePlain_4 0 rfl rfl)
theorem dX10_writePlain_97 : decode cX10_writePlain 97 = .ok (.invokevirtual 131, 3) := dk_182 0 131 (dk_at dksX10_writePlain_4 1 rfl rfl)
theorem dX10_writePlain_100 : decode cX10_writePlain 100 = .ok (.aload_n 0, 1) := dk_42 (dk_at dksX10_writePlain_4 4 rfl rfl)
theorem dX10_writePlain_101 : decode cX10_writePlain 101 = .ok (.aload_n 2, 1) := dk_44 (dk_at dksX10_writePlain_4 5 rfl rfl)
theorem dX10_writePlain_102 : decode cX10_writePlain 102 = .ok (.iload 4, 2) := dk_21 4 (dk_at dksX10_writePlain_4 6 rfl rfl)
theorem dX10_writePlain_104 : decode cX10_writePlain 104 = .ok (.invokevirtual 134, 3) := dk_182 0 134 (dk_at dksX10_writePlain_4 8 rfl rfl)
theorem dX10_writePlain_107 : decode cX10_writePlain 107 = .ok (.return_, 1) := dk_177 (dk_at dksX10_writePlain_4 11 rfl rfl)
abbrev cX10_readsOf : ByteArray := prog_15_method_6_code
def yX10_readsOf : MethodName := ⟨RX10, "readsOf", "(LSpillslotWorks$Op;)[I"⟩
def dkwX10_readsOf_3 : List UInt8 := [180, 0, 93, 44, 29, 46, 182, 0, 96, 132, 3, 1, 167, 255, 184, 44, 176]
abbrev dktX10_readsOf_3 : List UInt8 := dkwX10_readsOf_3 ++ []
def dkwX10_readsOf_2 : List UInt8 := [29, 96, 167, 0, 8, 25, 4, 180, 0, 76, 79, 25, 4, 180, 0, 69, 153, 0, 15, 42, 25, 4]
abbrev dktX10_readsOf_2 : List UInt8 := dkwX10_readsOf_2 ++ dktX10_readsOf_3
def dkwX10_readsOf_1 : List UInt8 := [29, 46, 182, 0, 48, 58, 4, 44, 29, 25, 4, 180, 0, 69, 153, 0, 15, 42, 180, 0, 22, 182, 0, 87]
abbrev dktX10_readsOf_1 : List UInt8 := dkwX10_readsOf_1 ++ dktX10_readsOf_2
def dkwX10_readsOf_0 : List UInt8 := [43, 180, 0, 83, 190, 188, 10, 77, 3, 62, 29, 44, 190, 162, 0, 72, 42, 180, 0, 18, 43, 180, 0, 83]
abbrev dktX10_readsOf_0 : List UInt8 := dkwX10_readsOf_0 ++ dktX10_readsOf_1
theorem dksX10_readsOf_0 : cX10_readsOf.data.toList.drop 0 = dktX10_readsOf_0 := by decide +kernel
theorem dksX10_readsOf_1 : cX10_readsOf.data.toList.drop 24 = dktX10_readsOf_1 := dk_seg dksX10_readsOf_0 24 rfl rfl
theorem dksX10_readsOf_2 : cX10_readsOf.data.toList.drop 48 = dktX10_readsOf_2 := dk_seg dksX10_readsOf_1 24 rfl rfl
theorem dksX10_readsOf_3 : cX10_readsOf.data.toList.drop 70 = dktX10_readsOf_3 := dk_seg dksX10_readsOf_2 22 rfl rfl
theorem dX10_readsOf_0 : decode cX10_readsOf 0 = .ok (.aload_n 1, 1) := dk_43 (dk_at dksX10_readsOf_0 0 rfl rfl)
theorem dX10_readsOf_1 : decode cX10_readsOf 1 = .ok (.getfield 83, 3) := dk_180 0 83 (dk_at dksX10_readsOf_0 1 rfl rfl)
theorem dX10_readsOf_4 : decode cX10_readsOf 4 = .ok (.arraylength, 1) := dk_190 (dk_at dksX10_readsOf_0 4 rfl rfl)
theorem dX10_readsOf_5 : decode cX10_readsOf 5 = .ok (.newarray .int, 2) := dk_188_10 (dk_at dksX10_readsOf_0 5 rfl rfl)
theorem dX10_readsOf_7 : decode cX10_readsOf 7 = .ok (.astore_n 2, 1) := dk_77 (dk_at dksX10_readsOf_0 7 rfl rfl)
theorem dX10_readsOf_8 : decode cX10_readsOf 8 = .ok (.iconst 0, 1) := dk_3 (dk_at dksX10_readsOf_0 8 rfl rfl)
theorem dX10_readsOf_9 : decode cX10_readsOf 9 = .ok (.istore_n 3, 1) := dk_62 (dk_at dksX10_readsOf_0 9 rfl rfl)
theorem dX10_readsOf_10 : decode cX10_readsOf 10 = .ok (.iload_n 3, 1) := dk_29 (dk_at dksX10_readsOf_0 10 rfl rfl)
theorem dX10_readsOf_11 : decode cX10_readsOf 11 = .ok (.aload_n 2, 1) := dk_44 (dk_at dksX10_readsOf_0 11 rfl rfl)
theorem dX10_readsOf_12 : decode cX10_readsOf 12 = .ok (.arraylength, 1) := dk_190 (dk_at dksX10_readsOf_0 12 rfl rfl)
theorem dX10_readsOf_13 : decode cX10_readsOf 13 = .ok (.if_icmp .ge 72, 3) := dk_162 0 72 (dk_at dksX10_readsOf_0 13 rfl rfl)
theorem dX10_readsOf_16 : decode cX10_readsOf 16 = .ok (.aload_n 0, 1) := dk_42 (dk_at dksX10_readsOf_0 16 rfl rfl)
theorem dX10_readsOf_17 : decode cX10_readsOf 17 = .ok (.getfield 18, 3) := dk_180 0 18 (dk_at dksX10_readsOf_0 17 rfl rfl)
theorem dX10_readsOf_20 : decode cX10_readsOf 20 = .ok (.aload_n 1, 1) := dk_43 (dk_at dksX10_readsOf_0 20 rfl rfl)
theorem dX10_readsOf_21 : decode cX10_readsOf 21 = .ok (.getfield 83, 3) := dk_180 0 83 (dk_at dksX10_readsOf_0 21 rfl rfl)
theorem dX10_readsOf_24 : decode cX10_readsOf 24 = .ok (.iload_n 3, 1) := dk_29 (dk_at dksX10_readsOf_1 0 rfl rfl)
theorem dX10_readsOf_25 : decode cX10_readsOf 25 = .ok (.iaload, 1) := dk_46 (dk_at dksX10_readsOf_1 1 rfl rfl)
theorem dX10_readsOf_26 : decode cX10_readsOf 26 = .ok (.invokevirtual 48, 3) := dk_182 0 48 (dk_at dksX10_readsOf_1 2 rfl rfl)
theorem dX10_readsOf_29 : decode cX10_readsOf 29 = .ok (.astore 4, 2) := dk_58 4 (dk_at dksX10_readsOf_1 5 rfl rfl)
theorem dX10_readsOf_31 : decode cX10_readsOf 31 = .ok (.aload_n 2, 1) := dk_44 (dk_at dksX10_readsOf_1 7 rfl rfl)
theorem dX10_readsOf_32 : decode cX10_readsOf 32 = .ok (.iload_n 3, 1) := dk_29 (dk_at dksX10_readsOf_1 8 rfl rfl)
theorem dX10_readsOf_33 : decode cX10_readsOf 33 = .ok (.aload 4, 2) := dk_25 4 (dk_at dksX10_readsOf_1 9 rfl rfl)
theorem dX10_readsOf_35 : decode cX10_readsOf 35 = .ok (.getfield 69, 3) := dk_180 0 69 (dk_at dksX10_readsOf_1 11 rfl rfl)
theorem dX10_readsOf_38 : decode cX10_readsOf 38 = .ok (.ifCond .eq 15, 3) := dk_153 0 15 (dk_at dksX10_readsOf_1 14 rfl rfl)
theorem dX10_readsOf_41 : decode cX10_readsOf 41 = .ok (.aload_n 0, 1) := dk_42 (dk_at dksX10_readsOf_1 17 rfl rfl)
theorem dX10_readsOf_42 : decode cX10_readsOf 42 = .ok (.getfield 22, 3) := dk_180 0 22 (dk_at dksX10_readsOf_1 18 rfl rfl)
theorem dX10_readsOf_45 : decode cX10_readsOf 45 = .ok (.invokevirtual 87, 3) := dk_182 0 87 (dk_at dksX10_readsOf_1 21 rfl rfl)
theorem dX10_readsOf_48 : decode cX10_readsOf 48 = .ok (.iload_n 3, 1) := dk_29 (dk_at dksX10_readsOf_2 0 rfl rfl)
theorem dX10_readsOf_49 : decode cX10_readsOf 49 = .ok (.iadd, 1) := dk_96 (dk_at dksX10_readsOf_2 1 rfl rfl)
theorem dX10_readsOf_50 : decode cX10_readsOf 50 = .ok (.goto 8, 3) := dk_167 0 8 (dk_at dksX10_readsOf_2 2 rfl rfl)
theorem dX10_readsOf_53 : decode cX10_readsOf 53 = .ok (.aload 4, 2) := dk_25 4 (dk_at dksX10_readsOf_2 5 rfl rfl)
theorem dX10_readsOf_55 : decode cX10_readsOf 55 = .ok (.getfield 76, 3) := dk_180 0 76 (dk_at dksX10_readsOf_2 7 rfl rfl)
theorem dX10_readsOf_58 : decode cX10_readsOf 58 = .ok (.iastore, 1) := dk_79 (dk_at dksX10_readsOf_2 10 rfl rfl)
theorem dX10_readsOf_59 : decode cX10_readsOf 59 = .ok (.aload 4, 2) := dk_25 4 (dk_at dksX10_readsOf_2 11 rfl rfl)
theorem dX10_readsOf_61 : decode cX10_readsOf 61 = .ok (.getfield 69, 3) := dk_180 0 69 (dk_at dksX10_readsOf_2 13 rfl rfl)
theorem dX10_readsOf_64 : decode cX10_readsOf 64 = .ok (.ifCond .eq 15, 3) := dk_153 0 15 (dk_at dksX10_readsOf_2 16 rfl rfl)
theorem dX10_readsOf_67 : decode cX10_readsOf 67 = .ok (.aload_n 0, 1) := dk_42 (dk_at dksX10_readsOf_2 19 rfl rfl)
theorem dX10_readsOf_68 : decode cX10_readsOf 68 = .ok (.aload 4, 2) := dk_25 4 (dk_at dksX10_readsOf_2 20 rfl rfl)
theorem dX10_readsOf_70 : decode cX10_readsOf 70 = .ok (.getfield 93, 3) := dk_180 0 93 (dk_at dksX10_readsOf_3 0 rfl rfl)
theorem dX10_readsOf_73 : decode cX10_readsOf 73 = .ok (.aload_n 2, 1) := dk_44 (dk_at dksX10_readsOf_3 3 rfl rfl)
theorem dX10_readsOf_74 : decode cX10_readsOf 74 = .ok (.iload_n 3, 1) := dk_29 (dk_at dksX10_readsOf_3 4 rfl rfl)
theorem dX10_readsOf_75 : decode cX10_readsOf 75 = .ok (.iaload, 1) := dk_46 (dk_at dksX10_readsOf_3 5 rfl rfl)
theorem dX10_readsOf_76 : decode cX10_readsOf 76 = .ok (.invokevirtual 96, 3) := dk_182 0 96 (dk_at dksX10_readsOf_3 6 rfl rfl)
theorem dX10_readsOf_79 : decode cX10_readsOf 79 = .ok (.iinc 3 1, 3) := dk_132 3 1 (dk_at dksX10_readsOf_3 9 rfl rfl)
theorem dX10_readsOf_82 : decode cX10_readsOf 82 = .ok (.goto (-72), 3) := dk_167 255 184 (dk_at dksX10_readsOf_3 12 rfl rfl)
theorem dX10_readsOf_85 : decode cX10_readsOf 85 = .ok (.aload_n 2, 1) := dk_44 (dk_at dksX10_readsOf_3 15 rfl rfl)
theorem dX10_readsOf_86 : decode cX10_readsOf 86 = .ok (.areturn, 1) := dk_176 (dk_at dksX10_readsOf_3 16 rfl rfl)
abbrev cX10_writeTwo : ByteArray := prog_15_method_11_code
def yX10_writeTwo : MethodName := ⟨RX10, "writeTwo", "(LSpillslotWorks$Op;I[I)V"⟩
def dkwX10_writeTwo_5 : List UInt8 := [177]
abbrev dktX10_writeTwo_5 : List UInt8 := dkwX10_writeTwo_5 ++ []
def dkwX10_writeTwo_4 : List UInt8 := [43, 42, 180, 0, 22, 182, 0, 87, 45, 182, 0, 141, 42, 28, 42, 180, 0, 22, 182, 0, 87, 182, 0, 79]
abbrev dktX10_writeTwo_4 : List UInt8 := dkwX10_writeTwo_4 ++ dktX10_writeTwo_5
def dkwX10_writeTwo_3 : List UInt8 := [182, 0, 109, 153, 0, 20, 42, 43, 180, 0, 138, 28, 28, 45, 3, 46, 3, 182, 0, 41, 167, 0, 28, 42]
abbrev dktX10_writeTwo_3 : List UInt8 := dkwX10_writeTwo_3 ++ dktX10_writeTwo_4
def dkwX10_writeTwo_2 : List UInt8 := [154, 0, 13, 42, 43, 28, 45, 182, 0, 141, 167, 0, 61, 43, 5, 182, 0, 109, 154, 0, 11, 43, 7]
abbrev dktX10_writeTwo_2 : List UInt8 := dkwX10_writeTwo_2 ++ dktX10_writeTwo_3
def dkwX10_writeTwo_1 : List UInt8 := [167, 0, 4, 3, 128, 54, 4, 132, 5, 1, 167, 255, 228, 45, 3, 46, 28, 159, 0, 8, 21, 4]
abbrev dktX10_writeTwo_1 : List UInt8 := dkwX10_writeTwo_1 ++ dktX10_writeTwo_2
def dkwX10_writeTwo_0 : List UInt8 := [3, 54, 4, 4, 54, 5, 21, 5, 45, 190, 162, 0, 27, 21, 4, 45, 21, 5, 46, 28, 160, 0, 7, 4]
abbrev dktX10_writeTwo_0 : List UInt8 := dkwX10_writeTwo_0 ++ dktX10_writeTwo_1
theorem dksX10_writeTwo_0 : cX10_writeTwo.data.toList.drop 0 = dktX10_writeTwo_0 := by decide +kernel
theorem dksX10_writeTwo_1 : cX10_writeTwo.data.toList.drop 24 = dktX10_writeTwo_1 := dk_seg dksX10_writeTwo_0 24 rfl rfl
theorem dksX10_writeTwo_2 : cX10_writeTwo.data.toList.drop 46 = dktX10_writeTwo_2 := dk_seg dksX10_writeTwo_1 22 rfl rfl
theorem dksX10_writeTwo_3 : cX10_writeTwo.data.toList.drop 69 = dktX10_writeTwo_3 := dk_seg dksX10_writeTwo_2 23 rfl rfl
theorem dksX10_writeTwo_4 : cX10_writeTwo.data.toList.drop 93 = dktX10_writeTwo_4 := dk_seg dksX10_writeTwo_3 24 rfl rfl
theorem dksX10_writeTwo_5 : cX10_writeTwo.data.toList.drop 117 = dktX10_writeTwo_5 := dk_seg dksX10_writeTwo_4 24 rfl rfl
theorem dX10_writeTwo_0 : decode cX10_writeTwo 0 = .ok (.iconst 0, 1) := dk_3 (dk_at dksX10_writeTwo_0 0 rfl rfl)
theorem dX10_writeTwo_1 : decode cX10_writeTwo 1 = .ok (.istore 4, 2) := dk_54 4 (dk_at dksX10_writeTwo_0 1 rfl rfl)
theorem dX10_writeTwo_3 : decode cX10_writeTwo 3 = .ok (.iconst 1, 1) := dk_4 (dk_at dksX10_writeTwo_0 3 rfl rfl)
theorem dX10_writeTwo_4 : decode cX10_writeTwo 4 = .ok (.istore 5, 2) := dk_54 5 (dk_at dksX10_writeTwo_0 4 rfl rfl)
theorem dX10_writeTwo_6 : decode cX10_writeTwo 6 = .ok (.iload 5, 2) := dk_21 5 (dk_at dksX10_writeTwo_0 6 rfl rfl)
theorem dX10_writeTwo_8 : decode cX10_writeTwo 8 = .ok (.aload_n 3, 1) := dk_45 (dk_at dksX10_writeTwo_0 8 rfl rfl)
theorem dX10_writeTwo_9 : decode cX10_writeTwo 9 = .ok (.arraylength, 1) := dk_190 (dk_at dksX10_writeTwo_0 9 rfl rfl)
theorem dX10_writeTwo_10 : decode cX10_writeTwo 10 = .ok (.if_icmp .ge 27, 3) := dk_162 0 27 (dk_at dksX10_writeTwo_0 10 rfl rfl)
theorem dX10_writeTwo_13 : decode cX10_writeTwo 13 = .ok (.iload 4, 2) := dk_21 4 (dk_at dksX10_writeTwo_0 13 rfl rfl)
theorem dX10_writeTwo_15 : decode cX10_writeTwo 15 = .ok (.aload_n 3, 1) := dk_45 (dk_at dksX10_writeTwo_0 15 rfl rfl)
theorem dX10_writeTwo_16 : decode cX10_writeTwo 16 = .ok (.iload 5, 2) := dk_21 5 (dk_at dksX10_writeTwo_0 16 rfl rfl)
theorem dX10_writeTwo_18 : decode cX10_writeTwo 18 = .ok (.iaload, 1) := dk_46 (dk_at dksX10_writeTwo_0 18 rfl rfl)
theorem dX10_writeTwo_19 : decode cX10_writeTwo 19 = .ok (.iload_n 2, 1) := dk_28 (dk_at dksX10_writeTwo_0 19 rfl rfl)
theorem dX10_writeTwo_20 : decode cX10_writeTwo 20 = .ok (.if_icmp .ne 7, 3) := dk_160 0 7 (dk_at dksX10_writeTwo_0 20 rfl rfl)
theorem dX10_writeTwo_23 : decode cX10_writeTwo 23 = .ok (.iconst 1, 1) := dk_4 (dk_at dksX10_writeTwo_0 23 rfl rfl)
theorem dX10_writeTwo_24 : decode cX10_writeTwo 24 = .ok (.goto 4, 3) := dk_167 0 4 (dk_at dksX10_writeTwo_1 0 rfl rfl)
theorem dX10_writeTwo_27 : decode cX10_writeTwo 27 = .ok (.iconst 0, 1) := dk_3 (dk_at dksX10_writeTwo_1 3 rfl rfl)
theorem dX10_writeTwo_28 : decode cX10_writeTwo 28 = .ok (.ior, 1) := dk_128 (dk_at dksX10_writeTwo_1 4 rfl rfl)
theorem dX10_writeTwo_29 : decode cX10_writeTwo 29 = .ok (.istore 4, 2) := dk_54 4 (dk_at dksX10_writeTwo_1 5 rfl rfl)
theorem dX10_writeTwo_31 : decode cX10_writeTwo 31 = .ok (.iinc 5 1, 3) := dk_132 5 1 (dk_at dksX10_writeTwo_1 7 rfl rfl)
theorem dX10_writeTwo_34 : decode cX10_writeTwo 34 = .ok (.goto (-28), 3) := dk_167 255 228 (dk_at dksX10_writeTwo_1 10 rfl rfl)
theorem dX10_writeTwo_37 : decode cX10_writeTwo 37 = .ok (.aload_n 3, 1) := dk_45 (dk_at dksX10_writeTwo_1 13 rfl rfl)
theorem dX10_writeTwo_38 : decode cX10_writeTwo 38 = .ok (.iconst 0, 1) := dk_3 (dk_at dksX10_writeTwo_1 14 rfl rfl)
theorem dX10_writeTwo_39 : decode cX10_writeTwo 39 = .ok (.iaload, 1) := dk_46 (dk_at dksX10_writeTwo_1 15 rfl rfl)
theorem dX10_writeTwo_40 : decode cX10_writeTwo 40 = .ok (.iload_n 2, 1) := dk_28 (dk_at dksX10_writeTwo_1 16 rfl rfl)
theorem dX10_writeTwo_41 : decode cX10_writeTwo 41 = .ok (.if_icmp .eq 8, 3) := dk_159 0 8 (dk_at dksX10_writeTwo_1 17 rfl rfl)
theorem dX10_writeTwo_44 : decode cX10_writeTwo 44 = .ok (.iload 4, 2) := dk_21 4 (dk_at dksX10_writeTwo_1 20 rfl rfl)
theorem dX10_writeTwo_46 : decode cX10_writeTwo 46 = .ok (.ifCond .ne 13, 3) := dk_154 0 13 (dk_at dksX10_writeTwo_2 0 rfl rfl)
theorem dX10_writeTwo_49 : decode cX10_writeTwo 49 = .ok (.aload_n 0, 1) := dk_42 (dk_at dksX10_writeTwo_2 3 rfl rfl)
theorem dX10_writeTwo_50 : decode cX10_writeTwo 50 = .ok (.aload_n 1, 1) := dk_43 (dk_at dksX10_writeTwo_2 4 rfl rfl)
theorem dX10_writeTwo_51 : decode cX10_writeTwo 51 = .ok (.iload_n 2, 1) := dk_28 (dk_at dksX10_writeTwo_2 5 rfl rfl)
theorem dX10_writeTwo_52 : decode cX10_writeTwo 52 = .ok (.aload_n 3, 1) := dk_45 (dk_at dksX10_writeTwo_2 6 rfl rfl)
theorem dX10_writeTwo_53 : decode cX10_writeTwo 53 = .ok (.invokevirtual 141, 3) := dk_182 0 141 (dk_at dksX10_writeTwo_2 7 rfl rfl)
theorem dX10_writeTwo_56 : decode cX10_writeTwo 56 = .ok (.goto 61, 3) := dk_167 0 61 (dk_at dksX10_writeTwo_2 10 rfl rfl)
theorem dX10_writeTwo_59 : decode cX10_writeTwo 59 = .ok (.aload_n 1, 1) := dk_43 (dk_at dksX10_writeTwo_2 13 rfl rfl)
theorem dX10_writeTwo_60 : decode cX10_writeTwo 60 = .ok (.iconst 2, 1) := dk_5 (dk_at dksX10_writeTwo_2 14 rfl rfl)
theorem dX10_writeTwo_61 : decode cX10_writeTwo 61 = .ok (.invokevirtual 109, 3) := dk_182 0 109 (dk_at dksX10_writeTwo_2 15 rfl rfl)
theorem dX10_writeTwo_64 : decode cX10_writeTwo 64 = .ok (.ifCond .ne 11, 3) := dk_154 0 11 (dk_at dksX10_writeTwo_2 18 rfl rfl)
theorem dX10_writeTwo_67 : decode cX10_writeTwo 67 = .ok (.aload_n 1, 1) := dk_43 (dk_at dksX10_writeTwo_2 21 rfl rfl)
theorem dX10_writeTwo_68 : decode cX10_writeTwo 68 = .ok (.iconst 4, 1) := dk_7 (dk_at dksX10_writeTwo_2 22 rfl rfl)
theorem dX10_writeTwo_69 : decode cX10_writeTwo 69 = .ok (.invokevirtual 109, 3) := dk_182 0 109 (dk_at dksX10_writeTwo_3 0 rfl rfl)
theorem dX10_writeTwo_72 : decode cX10_writeTwo 72 = .ok (.ifCond .eq 20, 3) := dk_153 0 20 (dk_at dksX10_writeTwo_3 3 rfl rfl)
theorem dX10_writeTwo_75 : decode cX10_writeTwo 75 = .ok (.aload_n 0, 1) := dk_42 (dk_at dksX10_writeTwo_3 6 rfl rfl)
theorem dX10_writeTwo_76 : decode cX10_writeTwo 76 = .ok (.aload_n 1, 1) := dk_43 (dk_at dksX10_writeTwo_3 7 rfl rfl)
theorem dX10_writeTwo_77 : decode cX10_writeTwo 77 = .ok (.getfield 138, 3) := dk_180 0 138 (dk_at dksX10_writeTwo_3 8 rfl rfl)
theorem dX10_writeTwo_80 : decode cX10_writeTwo 80 = .ok (.iload_n 2, 1) := dk_28 (dk_at dksX10_writeTwo_3 11 rfl rfl)
theorem dX10_writeTwo_81 : decode cX10_writeTwo 81 = .ok (.iload_n 2, 1) := dk_28 (dk_at dksX10_writeTwo_3 12 rfl rfl)
theorem dX10_writeTwo_82 : decode cX10_writeTwo 82 = .ok (.aload_n 3, 1) := dk_45 (dk_at dksX10_writeTwo_3 13 rfl rfl)
theorem dX10_writeTwo_83 : decode cX10_writeTwo 83 = .ok (.iconst 0, 1) := dk_3 (dk_at dksX10_writeTwo_3 14 rfl rfl)
theorem dX10_writeTwo_84 : decode cX10_writeTwo 84 = .ok (.iaload, 1) := dk_46 (dk_at dksX10_writeTwo_3 15 rfl rfl)
theorem dX10_writeTwo_85 : decode cX10_writeTwo 85 = .ok (.iconst 0, 1) := dk_3 (dk_at dksX10_writeTwo_3 16 rfl rfl)
theorem dX10_writeTwo_86 : decode cX10_writeTwo 86 = .ok (.invokevirtual 41, 3) := dk_182 0 41 (dk_at dksX10_writeTwo_3 17 rfl rfl)
theorem dX10_writeTwo_89 : decode cX10_writeTwo 89 = .ok (.goto 28, 3) := dk_167 0 28 (dk_at dksX10_writeTwo_3 20 rfl rfl)
theorem dX10_writeTwo_92 : decode cX10_writeTwo 92 = .ok (.aload_n 0, 1) := dk_42 (dk_at dksX10_writeTwo_3 23 rfl rfl)
theorem dX10_writeTwo_93 : decode cX10_writeTwo 93 = .ok (.aload_n 1, 1) := dk_43 (dk_at dksX10_writeTwo_4 0 rfl rfl)
theorem dX10_writeTwo_94 : decode cX10_writeTwo 94 = .ok (.aload_n 0, 1) := dk_42 (dk_at dksX10_writeTwo_4 1 rfl rfl)
theorem dX10_writeTwo_95 : decode cX10_writeTwo 95 = .ok (.getfield 22, 3) := dk_180 0 22 (dk_at dksX10_writeTwo_4 2 rfl rfl)
theorem dX10_writeTwo_98 : decode cX10_writeTwo 98 = .ok (.invokevirtual 87, 3) := dk_182 0 87 (dk_at dksX10_writeTwo_4 5 rfl rfl)
theorem dX10_writeTwo_101 : decode cX10_writeTwo 101 = .ok (.aload_n 3, 1) := dk_45 (dk_at dksX10_writeTwo_4 8 rfl rfl)
theorem dX10_writeTwo_102 : decode cX10_writeTwo 102 = .ok (.invokevirtual 141, 3) := dk_182 0 141 (dk_at dksX10_writeTwo_4 9 rfl rfl)
theorem dX10_writeTwo_105 : decode cX10_writeTwo 105 = .ok (.aload_n 0, 1) := dk_42 (dk_at dksX10_writeTwo_4 12 rfl rfl)
theorem dX10_writeTwo_106 : decode cX10_writeTwo 106 = .ok (.iload_n 2, 1) := dk_28 (dk_at dksX10_writeTwo_4 13 rfl rfl)
theorem dX10_writeTwo_107 : decode cX10_writeTwo 107 = .ok (.aload_n 0, 1) := dk_42 (dk_at dksX10_writeTwo_4 14 rfl rfl)
theorem dX10_writeTwo_108 : decode cX10_writeTwo 108 = .ok (.getfield 22, 3) := dk_180 0 22 (dk_at dksX10_writeTwo_4 15 rfl rfl)
theorem dX10_writeTwo_111 : decode cX10_writeTwo 111 = .ok (.invokevirtual 87, 3) := dk_182 0 87 (dk_at dksX10_writeTwo_4 18 rfl rfl)
theorem dX10_writeTwo_114 : decode cX10_writeTwo 114 = .ok (.invokevirtual 79, 3) := dk_182 0 79 (dk_at dksX10_writeTwo_4 21 rfl rfl)
theorem dX10_writeTwo_117 : decode cX10_writeTwo 117 = .ok (.return_, 1) := dk_177 (dk_at dksX10_writeTwo_5 0 rfl rfl)
abbrev cX10_reckonIn : ByteArray := prog_15_method_12_code
def yX10_reckonIn : MethodName := ⟨RX10, "reckonIn", "(LSpillslotWorks$Op;I[I)V"⟩
def dkwX10_reckonIn_0 : List UInt8 := [42, 28, 45, 3, 46, 182, 0, 79, 45, 3, 28, 79, 42, 43, 28, 45, 182, 0, 131, 177]
abbrev dktX10_reckonIn_0 : List UInt8 := dkwX10_reckonIn_0 ++ []
theorem dksX10_reckonIn_0 : cX10_reckonIn.data.toList.drop 0 = dktX10_reckonIn_0 := by decide +kernel
theorem dX10_reckonIn_0 : decode cX10_reckonIn 0 = .ok (.aload_n 0, 1) := dk_42 (dk_at dksX10_reckonIn_0 0 rfl rfl)
theorem dX10_reckonIn_1 : decode cX10_reckonIn 1 = .ok (.iload_n 2, 1) := dk_28 (dk_at dksX10_reckonIn_0 1 rfl rfl)
theorem dX10_reckonIn_2 : decode cX10_reckonIn 2 = .ok (.aload_n 3, 1) := dk_45 (dk_at dksX10_reckonIn_0 2 rfl rfl)
theorem dX10_reckonIn_3 : decode cX10_reckonIn 3 = .ok (.iconst 0, 1) := dk_3 (dk_at dksX10_reckonIn_0 3 rfl rfl)
theorem dX10_reckonIn_4 : decode cX10_reckonIn 4 = .ok (.iaload, 1) := dk_46 (dk_at dksX10_reckonIn_0 4 rfl rfl)
theorem dX10_reckonIn_5 : decode cX10_reckonIn 5 = .ok (.invokevirtual 79, 3) := dk_182 0 79 (dk_at dksX10_reckonIn_0 5 rfl rfl)
theorem dX10_reckonIn_8 : decode cX10_reckonIn 8 = .ok (.aload_n 3, 1) := dk_45 (dk_at dksX10_reckonIn_0 8 rfl rfl)
theorem dX10_reckonIn_9 : decode cX10_reckonIn 9 = .ok (.iconst 0, 1) := dk_3 (dk_at dksX10_reckonIn_0 9 rfl rfl)
theorem dX10_reckonIn_10 : decode cX10_reckonIn 10 = .ok (.iload_n 2, 1) := dk_28 (dk_at dksX10_reckonIn_0 10 rfl rfl)
theorem dX10_reckonIn_11 : decode cX10_reckonIn 11 = .ok (.iastore, 1) := dk_79 (dk_at dksX10_reckonIn_0 11 rfl rfl)
theorem dX10_reckonIn_12 : decode cX10_reckonIn 12 = .ok (.aload_n 0, 1) := dk_42 (dk_at dksX10_reckonIn_0 12 rfl rfl)
theorem dX10_reckonIn_13 : decode cX10_reckonIn 13 = .ok (.aload_n 1, 1) := dk_43 (dk_at dksX10_reckonIn_0 13 rfl rfl)
theorem dX10_reckonIn_14 : decode cX10_reckonIn 14 = .ok (.iload_n 2, 1) := dk_28 (dk_at dksX10_reckonIn_0 14 rfl rfl)
theorem dX10_reckonIn_15 : decode cX10_reckonIn 15 = .ok (.aload_n 3, 1) := dk_45 (dk_at dksX10_reckonIn_0 15 rfl rfl)
theorem dX10_reckonIn_16 : decode cX10_reckonIn 16 = .ok (.invokevirtual 131, 3) := dk_182 0 131 (dk_at dksX10_reckonIn_0 16 rfl rfl)
theorem dX10_reckonIn_19 : decode cX10_reckonIn 19 = .ok (.return_, 1) := dk_177 (dk_at dksX10_reckonIn_0 19 rfl rfl)
abbrev cX10_reckon : ByteArray := prog_15_method_10_code
def yX10_reckon : MethodName := ⟨RX10, "reckon", "(LSpillslotWorks$Op;I[I)V"⟩
def dkwX10_reckon_4 : List UInt8 := [3, 182, 0, 41, 177]
abbrev dktX10_reckon_4 : List UInt8 := dkwX10_reckon_4 ++ []
def dkwX10_reckon_3 : List UInt8 := [45, 4, 46, 45, 5, 46, 182, 0, 41, 167, 0, 19, 42, 43, 180, 0, 138, 28, 45, 3, 46, 45, 4, 46]
abbrev dktX10_reckon_3 : List UInt8 := dkwX10_reckon_3 ++ dktX10_reckon_4
def dkwX10_reckon_2 : List UInt8 := [42, 8, 28, 45, 3, 46, 43, 180, 0, 64, 3, 182, 0, 41, 167, 0, 38, 42, 16, 6, 28, 45, 3, 46]
abbrev dktX10_reckon_2 : List UInt8 := dkwX10_reckon_2 ++ dktX10_reckon_3
def dkwX10_reckon_1 : List UInt8 := [171, 0, 0, 0, 0, 0, 0, 64, 0, 0, 0, 2, 0, 0, 0, 5, 0, 0, 0, 28, 0, 0, 0, 6, 0, 0, 0, 45]
abbrev dktX10_reckon_1 : List UInt8 := dkwX10_reckon_1 ++ dktX10_reckon_2
def dkwX10_reckon_0 : List UInt8 := [43, 180, 0, 138]
abbrev dktX10_reckon_0 : List UInt8 := dkwX10_reckon_0 ++ dktX10_reckon_1
theorem dksX10_reckon_0 : cX10_reckon.data.toList.drop 0 = dktX10_reckon_0 := by decide +kernel
theorem dksX10_reckon_1 : cX10_reckon.data.toList.drop 4 = dktX10_reckon_1 := dk_seg dksX10_reckon_0 4 rfl rfl
theorem dksX10_reckon_2 : cX10_reckon.data.toList.drop 32 = dktX10_reckon_2 := dk_seg dksX10_reckon_1 28 rfl rfl
theorem dksX10_reckon_3 : cX10_reckon.data.toList.drop 56 = dktX10_reckon_3 := dk_seg dksX10_reckon_2 24 rfl rfl
theorem dksX10_reckon_4 : cX10_reckon.data.toList.drop 80 = dktX10_reckon_4 := dk_seg dksX10_reckon_3 24 rfl rfl
theorem dX10_reckon_0 : decode cX10_reckon 0 = .ok (.aload_n 1, 1) := dk_43 (dk_at dksX10_reckon_0 0 rfl rfl)
theorem dX10_reckon_1 : decode cX10_reckon 1 = .ok (.getfield 138, 3) := dk_180 0 138 (dk_at dksX10_reckon_0 1 rfl rfl)
theorem dX10_reckon_4 : decode cX10_reckon 4 = .ok (.lookupswitch 64 #[(5, 28), (6, 45)], 28) := by decide +kernel
theorem dX10_reckon_32 : decode cX10_reckon 32 = .ok (.aload_n 0, 1) := dk_42 (dk_at dksX10_reckon_2 0 rfl rfl)
theorem dX10_reckon_33 : decode cX10_reckon 33 = .ok (.iconst 5, 1) := dk_8 (dk_at dksX10_reckon_2 1 rfl rfl)
theorem dX10_reckon_34 : decode cX10_reckon 34 = .ok (.iload_n 2, 1) := dk_28 (dk_at dksX10_reckon_2 2 rfl rfl)
theorem dX10_reckon_35 : decode cX10_reckon 35 = .ok (.aload_n 3, 1) := dk_45 (dk_at dksX10_reckon_2 3 rfl rfl)
theorem dX10_reckon_36 : decode cX10_reckon 36 = .ok (.iconst 0, 1) := dk_3 (dk_at dksX10_reckon_2 4 rfl rfl)
theorem dX10_reckon_37 : decode cX10_reckon 37 = .ok (.iaload, 1) := dk_46 (dk_at dksX10_reckon_2 5 rfl rfl)
theorem dX10_reckon_38 : decode cX10_reckon 38 = .ok (.aload_n 1, 1) := dk_43 (dk_at dksX10_reckon_2 6 rfl rfl)
theorem dX10_reckon_39 : decode cX10_reckon 39 = .ok (.getfield 64, 3) := dk_180 0 64 (dk_at dksX10_reckon_2 7 rfl rfl)
theorem dX10_reckon_42 : decode cX10_reckon 42 = .ok (.iconst 0, 1) := dk_3 (dk_at dksX10_reckon_2 10 rfl rfl)
theorem dX10_reckon_43 : decode cX10_reckon 43 = .ok (.invokevirtual 41, 3) := dk_182 0 41 (dk_at dksX10_reckon_2 11 rfl rfl)
theorem dX10_reckon_46 : decode cX10_reckon 46 = .ok (.goto 38, 3) := dk_167 0 38 (dk_at dksX10_reckon_2 14 rfl rfl)
theorem dX10_reckon_49 : decode cX10_reckon 49 = .ok (.aload_n 0, 1) := dk_42 (dk_at dksX10_reckon_2 17 rfl rfl)
theorem dX10_reckon_50 : decode cX10_reckon 50 = .ok (.bipush 6, 2) := dk_16 6 (dk_at dksX10_reckon_2 18 rfl rfl)
theorem dX10_reckon_52 : decode cX10_reckon 52 = .ok (.iload_n 2, 1) := dk_28 (dk_at dksX10_reckon_2 20 rfl rfl)
theorem dX10_reckon_53 : decode cX10_reckon 53 = .ok (.aload_n 3, 1) := dk_45 (dk_at dksX10_reckon_2 21 rfl rfl)
theorem dX10_reckon_54 : decode cX10_reckon 54 = .ok (.iconst 0, 1) := dk_3 (dk_at dksX10_reckon_2 22 rfl rfl)
theorem dX10_reckon_55 : decode cX10_reckon 55 = .ok (.iaload, 1) := dk_46 (dk_at dksX10_reckon_2 23 rfl rfl)
theorem dX10_reckon_56 : decode cX10_reckon 56 = .ok (.aload_n 3, 1) := dk_45 (dk_at dksX10_reckon_3 0 rfl rfl)
theorem dX10_reckon_57 : decode cX10_reckon 57 = .ok (.iconst 1, 1) := dk_4 (dk_at dksX10_reckon_3 1 rfl rfl)
theorem dX10_reckon_58 : decode cX10_reckon 58 = .ok (.iaload, 1) := dk_46 (dk_at dksX10_reckon_3 2 rfl rfl)
theorem dX10_reckon_59 : decode cX10_reckon 59 = .ok (.aload_n 3, 1) := dk_45 (dk_at dksX10_reckon_3 3 rfl rfl)
theorem dX10_reckon_60 : decode cX10_reckon 60 = .ok (.iconst 2, 1) := dk_5 (dk_at dksX10_reckon_3 4 rfl rfl)
theorem dX10_reckon_61 : decode cX10_reckon 61 = .ok (.iaload, 1) := dk_46 (dk_at dksX10_reckon_3 5 rfl rfl)
theorem dX10_reckon_62 : decode cX10_reckon 62 = .ok (.invokevirtual 41, 3) := dk_182 0 41 (dk_at dksX10_reckon_3 6 rfl rfl)
theorem dX10_reckon_65 : decode cX10_reckon 65 = .ok (.goto 19, 3) := dk_167 0 19 (dk_at dksX10_reckon_3 9 rfl rfl)
theorem dX10_reckon_68 : decode cX10_reckon 68 = .ok (.aload_n 0, 1) := dk_42 (dk_at dksX10_reckon_3 12 rfl rfl)
theorem dX10_reckon_69 : decode cX10_reckon 69 = .ok (.aload_n 1, 1) := dk_43 (dk_at dksX10_reckon_3 13 rfl rfl)
theorem dX10_reckon_70 : decode cX10_reckon 70 = .ok (.getfield 138, 3) := dk_180 0 138 (dk_at dksX10_reckon_3 14 rfl rfl)
theorem dX10_reckon_73 : decode cX10_reckon 73 = .ok (.iload_n 2, 1) := dk_28 (dk_at dksX10_reckon_3 17 rfl rfl)
theorem dX10_reckon_74 : decode cX10_reckon 74 = .ok (.aload_n 3, 1) := dk_45 (dk_at dksX10_reckon_3 18 rfl rfl)
theorem dX10_reckon_75 : decode cX10_reckon 75 = .ok (.iconst 0, 1) := dk_3 (dk_at dksX10_reckon_3 19 rfl rfl)
theorem dX10_reckon_76 : decode cX10_reckon 76 = .ok (.iaload, 1) := dk_46 (dk_at dksX10_reckon_3 20 rfl rfl)
theorem dX10_reckon_77 : decode cX10_reckon 77 = .ok (.aload_n 3, 1) := dk_45 (dk_at dksX10_reckon_3 21 rfl rfl)
theorem dX10_reckon_78 : decode cX10_reckon 78 = .ok (.iconst 1, 1) := dk_4 (dk_at dksX10_reckon_3 22 rfl rfl)
theorem dX10_reckon_79 : decode cX10_reckon 79 = .ok (.iaload, 1) := dk_46 (dk_at dksX10_reckon_3 23 rfl rfl)
theorem dX10_reckon_80 : decode cX10_reckon 80 = .ok (.iconst 0, 1) := dk_3 (dk_at dksX10_reckon_4 0 rfl rfl)
theorem dX10_reckon_81 : decode cX10_reckon 81 = .ok (.invokevirtual 41, 3) := dk_182 0 41 (dk_at dksX10_reckon_4 1 rfl rfl)
theorem dX10_reckon_84 : decode cX10_reckon 84 = .ok (.return_, 1) := dk_177 (dk_at dksX10_reckon_4 4 rfl rfl)
abbrev cX10_storeFrom : ByteArray := prog_15_method_7_code
def yX10_storeFrom : MethodName := ⟨RX10, "storeFrom", "(LSpillslotWorks$Life;I)V"⟩
def dkwX10_storeFrom_0 : List UInt8 := [43, 180, 0, 69, 153, 0, 14, 42, 16, 8, 28, 43, 180, 0, 73, 182, 0, 45, 177]
abbrev dktX10_storeFrom_0 : List UInt8 := dkwX10_storeFrom_0 ++ []
theorem dksX10_storeFrom_0 : cX10_storeFrom.data.toList.drop 0 = dktX10_storeFrom_0 := by decide +kernel
theorem dX10_storeFrom_0 : decode cX10_storeFrom 0 = .ok (.aload_n 1, 1) := dk_43 (dk_at dksX10_storeFrom_0 0 rfl rfl)
theorem dX10_storeFrom_1 : decode cX10_storeFrom 1 = .ok (.getfield 69, 3) := dk_180 0 69 (dk_at dksX10_storeFrom_0 1 rfl rfl)
theorem dX10_storeFrom_4 : decode cX10_storeFrom 4 = .ok (.ifCond .eq 14, 3) := dk_153 0 14 (dk_at dksX10_storeFrom_0 4 rfl rfl)
theorem dX10_storeFrom_7 : decode cX10_storeFrom 7 = .ok (.aload_n 0, 1) := dk_42 (dk_at dksX10_storeFrom_0 7 rfl rfl)
theorem dX10_storeFrom_8 : decode cX10_storeFrom 8 = .ok (.bipush 8, 2) := dk_16 8 (dk_at dksX10_storeFrom_0 8 rfl rfl)
theorem dX10_storeFrom_10 : decode cX10_storeFrom 10 = .ok (.iload_n 2, 1) := dk_28 (dk_at dksX10_storeFrom_0 10 rfl rfl)
theorem dX10_storeFrom_11 : decode cX10_storeFrom 11 = .ok (.aload_n 1, 1) := dk_43 (dk_at dksX10_storeFrom_0 11 rfl rfl)
theorem dX10_storeFrom_12 : decode cX10_storeFrom 12 = .ok (.getfield 73, 3) := dk_180 0 73 (dk_at dksX10_storeFrom_0 12 rfl rfl)
theorem dX10_storeFrom_15 : decode cX10_storeFrom 15 = .ok (.invokevirtual 45, 3) := dk_182 0 45 (dk_at dksX10_storeFrom_0 15 rfl rfl)
theorem dX10_storeFrom_18 : decode cX10_storeFrom 18 = .ok (.return_, 1) := dk_177 (dk_at dksX10_storeFrom_0 18 rfl rfl)
theorem q152 : (Jvm.Cond.initialized "SpillslotWorks$Writer") ∈ lw_all := lw_g (lw_at lw_m1 33 rfl) rfl
theorem q266 : (Jvm.Cond.selects "SpillslotWorks$Writer" ({ cls := "java/lang/Object", name := "getClass", desc := "()Ljava/lang/Class;" } : Jvm.MethodName) ({ cls := "java/lang/Object", name := "getClass", desc := "()Ljava/lang/Class;" } : Jvm.MethodName)) ∈ lw_all := lw_g (lw_at lw_m1 147 rfl) rfl
theorem q343 : (Jvm.Cond.fieldLinkNest "SpillslotWorks$Writer" (124 : Nat) "SpillslotWorks$Machine" "isTwo" "Z" "SpillslotWorks") ∈ lw_tbl := lw_at lw_m1 224 rfl
theorem q528 : (Jvm.Cond.fieldLinkNest "SpillslotWorks$Writer" (138 : Nat) "SpillslotWorks$Op" "kind" "I" "SpillslotWorks") ∈ lw_tbl := lw_at lw_m2 169 rfl
theorem q533 : (Jvm.Cond.fieldLinkNest "SpillslotWorks$Writer" (106 : Nat) "SpillslotWorks$Op" "write" "I" "SpillslotWorks") ∈ lw_tbl := lw_at lw_m2 174 rfl
theorem q537 : (Jvm.Cond.fieldLinkNest "SpillslotWorks$Writer" (83 : Nat) "SpillslotWorks$Op" "reads" "[I" "SpillslotWorks") ∈ lw_tbl := lw_at lw_m2 178 rfl
theorem q542 : (Jvm.Cond.fieldLinkNest "SpillslotWorks$Writer" (64 : Nat) "SpillslotWorks$Op" "n" "I" "SpillslotWorks") ∈ lw_tbl := lw_at lw_m2 183 rfl
theorem q668 : (Jvm.Cond.fieldLinkNest "SpillslotWorks$Writer" (93 : Nat) "SpillslotWorks$Life" "value" "I" "SpillslotWorks") ∈ lw_tbl := lw_at lw_m3 69 rfl
theorem q684 : (Jvm.Cond.fieldLinkNest "SpillslotWorks$Writer" (76 : Nat) "SpillslotWorks$Life" "register" "I" "SpillslotWorks") ∈ lw_tbl := lw_at lw_m3 85 rfl
theorem q689 : (Jvm.Cond.fieldLinkNest "SpillslotWorks$Writer" (69 : Nat) "SpillslotWorks$Life" "isSpilled" "Z" "SpillslotWorks") ∈ lw_tbl := lw_at lw_m3 90 rfl
theorem q693 : (Jvm.Cond.fieldLinkNest "SpillslotWorks$Writer" (73 : Nat) "SpillslotWorks$Life" "slot" "I" "SpillslotWorks") ∈ lw_tbl := lw_at lw_m3 94 rfl
theorem q698 : (Jvm.Cond.fieldLinkNest "SpillslotWorks$Writer" (60 : Nat) "SpillslotWorks$Life" "first" "LSpillslotWorks$Op;" "SpillslotWorks") ∈ lw_tbl := lw_at lw_m3 99 rfl
theorem q1167 : (Jvm.Cond.instantiable "SpillslotWorks$Writer" (4 : Nat)) ∈ lw_all := lw_g (lw_at lw_m5 88 rfl) rfl
theorem q1169 : (Jvm.Cond.instanceMethod ({ cls := "SpillslotWorks$Writer", name := "<init>", desc := "(LSpillslotWorks$Lives;LSpillslotWorks$Machine;)V" } : Jvm.MethodName)) ∈ lw_all := lw_g (lw_at lw_m5 90 rfl) rfl
theorem q1170 : (Jvm.Cond.code ({ cls := "SpillslotWorks$Writer", name := "<init>", desc := "(LSpillslotWorks$Lives;LSpillslotWorks$Machine;)V" } : Jvm.MethodName) prog_15_method_1_code (3 : Nat) (Option.none : Option Jvm.ClassFile.FieldType)) ∈ lw_all := lw_g (lw_at lw_m5 91 rfl) rfl
theorem q1171 : (Jvm.Cond.methodLink "SpillslotWorks$Writer" (3 : Nat) ({ cls := "java/lang/Object", name := "<init>", desc := "()V" } : Jvm.MethodName)) ∈ lw_all := lw_g (lw_at lw_m5 92 rfl) rfl
theorem q1172 : (Jvm.Cond.classLink "SpillslotWorks$Writer" (9 : Nat) "java/util/ArrayList") ∈ lw_all := lw_g (lw_at lw_m5 93 rfl) rfl
theorem q1173 : (Jvm.Cond.methodLink "SpillslotWorks$Writer" (11 : Nat) ({ cls := "java/util/ArrayList", name := "<init>", desc := "()V" } : Jvm.MethodName)) ∈ lw_all := lw_g (lw_at lw_m5 94 rfl) rfl
theorem q1174 : (Jvm.Cond.fieldLink "SpillslotWorks$Writer" (18 : Nat) "SpillslotWorks$Writer" "lives" "LSpillslotWorks$Lives;") ∈ lw_all := lw_g (lw_at lw_m5 95 rfl) rfl
theorem q1175 : (Jvm.Cond.fieldLink "SpillslotWorks$Writer" (22 : Nat) "SpillslotWorks$Writer" "machine" "LSpillslotWorks$Machine;") ∈ lw_all := lw_g (lw_at lw_m5 96 rfl) rfl
theorem q1176 : (Jvm.Cond.fieldLink "SpillslotWorks$Writer" (12 : Nat) "SpillslotWorks$Writer" "code" "Ljava/util/List;") ∈ lw_all := lw_g (lw_at lw_m5 97 rfl) rfl
theorem q1177 : (Jvm.Cond.fieldLink "SpillslotWorks$Writer" (28 : Nat) "SpillslotWorks$Writer" "point" "I") ∈ lw_all := lw_g (lw_at lw_m5 98 rfl) rfl
theorem q1178 : (Jvm.Cond.laysFinal "SpillslotWorks$Writer" "SpillslotWorks$Writer" "lives" "LSpillslotWorks$Lives;") ∈ lw_all := lw_g (lw_at lw_m5 99 rfl) rfl
theorem q1179 : (Jvm.Cond.soleField "SpillslotWorks$Writer" "lives") ∈ lw_all := lw_g (lw_at lw_m5 100 rfl) rfl
theorem q1180 : (Jvm.Cond.laysFinal "SpillslotWorks$Writer" "SpillslotWorks$Writer" "machine" "LSpillslotWorks$Machine;") ∈ lw_all := lw_g (lw_at lw_m5 101 rfl) rfl
theorem q1181 : (Jvm.Cond.soleField "SpillslotWorks$Writer" "machine") ∈ lw_all := lw_g (lw_at lw_m5 102 rfl) rfl
theorem q1182 : (Jvm.Cond.laysFinal "SpillslotWorks$Writer" "SpillslotWorks$Writer" "code" "Ljava/util/List;") ∈ lw_all := lw_g (lw_at lw_m5 103 rfl) rfl
theorem q1183 : (Jvm.Cond.soleField "SpillslotWorks$Writer" "code") ∈ lw_all := lw_g (lw_at lw_m5 104 rfl) rfl
theorem q1184 : (Jvm.Cond.lays "SpillslotWorks$Writer" "SpillslotWorks$Writer" "point" "I") ∈ lw_all := lw_g (lw_at lw_m5 105 rfl) rfl
theorem q1185 : (Jvm.Cond.soleField "SpillslotWorks$Writer" "point") ∈ lw_all := lw_g (lw_at lw_m5 106 rfl) rfl
theorem q1186 : (Jvm.Cond.superclass "SpillslotWorks$Writer" "java/lang/Object") ∈ lw_all := lw_g (lw_at lw_m5 107 rfl) rfl
theorem q1188 : (Jvm.Cond.instanceMethod ({ cls := "SpillslotWorks$Writer", name := "all", desc := "(Ljava/util/List;)Ljava/util/List;" } : Jvm.MethodName)) ∈ lw_all := lw_g (lw_at lw_m5 109 rfl) rfl
theorem q1189 : (Jvm.Cond.selects "SpillslotWorks$Writer" ({ cls := "SpillslotWorks$Writer", name := "all", desc := "(Ljava/util/List;)Ljava/util/List;" } : Jvm.MethodName) ({ cls := "SpillslotWorks$Writer", name := "all", desc := "(Ljava/util/List;)Ljava/util/List;" } : Jvm.MethodName)) ∈ lw_all := lw_g (lw_at lw_m5 110 rfl) rfl
theorem q1190 : (Jvm.Cond.code ({ cls := "SpillslotWorks$Writer", name := "all", desc := "(Ljava/util/List;)Ljava/util/List;" } : Jvm.MethodName) prog_15_method_8_code (4 : Nat) (Option.some (Jvm.ClassFile.FieldType.object "java/util/List"))) ∈ lw_all := lw_g (lw_at lw_m5 111 rfl) rfl
theorem q1191 : (Jvm.Cond.interfaceEntry "SpillslotWorks$Writer" (99 : Nat)) ∈ lw_tbl := lw_at lw_m5 112 rfl
theorem q1192 : (Jvm.Cond.methodLink "SpillslotWorks$Writer" (99 : Nat) ({ cls := "java/util/List", name := "size", desc := "()I" } : Jvm.MethodName)) ∈ lw_all := lw_g (lw_at lw_m5 113 rfl) rfl
theorem q1193 : (Jvm.Cond.interfaceEntry "SpillslotWorks$Writer" (102 : Nat)) ∈ lw_tbl := lw_at lw_m5 114 rfl
theorem q1194 : (Jvm.Cond.methodLink "SpillslotWorks$Writer" (102 : Nat) ({ cls := "java/util/List", name := "get", desc := "(I)Ljava/lang/Object;" } : Jvm.MethodName)) ∈ lw_all := lw_g (lw_at lw_m5 115 rfl) rfl
theorem q1195 : (Jvm.Cond.classLink "SpillslotWorks$Writer" (65 : Nat) "SpillslotWorks$Op") ∈ lw_all := lw_g (lw_at lw_m5 116 rfl) rfl
theorem q1196 : (Jvm.Cond.methodLink "SpillslotWorks$Writer" (48 : Nat) ({ cls := "SpillslotWorks$Lives", name := "of", desc := "(I)LSpillslotWorks$Life;" } : Jvm.MethodName)) ∈ lw_all := lw_g (lw_at lw_m5 117 rfl) rfl
theorem q1197 : (Jvm.Cond.methodLink "SpillslotWorks$Writer" (109 : Nat) ({ cls := "SpillslotWorks$Op", name := "is", desc := "(I)Z" } : Jvm.MethodName)) ∈ lw_all := lw_g (lw_at lw_m5 118 rfl) rfl
theorem q1198 : (Jvm.Cond.methodLink "SpillslotWorks$Writer" (113 : Nat) ({ cls := "SpillslotWorks$Writer", name := "writeCall", desc := "(LSpillslotWorks$Op;LSpillslotWorks$Life;)V" } : Jvm.MethodName)) ∈ lw_all := lw_g (lw_at lw_m5 119 rfl) rfl
theorem q1199 : (Jvm.Cond.privateMethod ({ cls := "SpillslotWorks$Writer", name := "writeCall", desc := "(LSpillslotWorks$Op;LSpillslotWorks$Life;)V" } : Jvm.MethodName)) ∈ lw_tbl := lw_at lw_m5 120 rfl
theorem q1200 : (Jvm.Cond.instanceMethod ({ cls := "SpillslotWorks$Writer", name := "writeCall", desc := "(LSpillslotWorks$Op;LSpillslotWorks$Life;)V" } : Jvm.MethodName)) ∈ lw_all := lw_g (lw_at lw_m5 121 rfl) rfl
theorem q1201 : (Jvm.Cond.code ({ cls := "SpillslotWorks$Writer", name := "writeCall", desc := "(LSpillslotWorks$Op;LSpillslotWorks$Life;)V" } : Jvm.MethodName) prog_15_method_13_code (5 : Nat) (Option.none : Option Jvm.ClassFile.FieldType)) ∈ lw_all := lw_g (lw_at lw_m5 122 rfl) rfl
theorem q1202 : (Jvm.Cond.methodLink "SpillslotWorks$Writer" (87 : Nat) ({ cls := "SpillslotWorks$Machine", name := "scratch", desc := "()I" } : Jvm.MethodName)) ∈ lw_all := lw_g (lw_at lw_m5 123 rfl) rfl
theorem q1203 : (Jvm.Cond.methodLink "SpillslotWorks$Writer" (79 : Nat) ({ cls := "SpillslotWorks$Writer", name := "move", desc := "(II)V" } : Jvm.MethodName)) ∈ lw_all := lw_g (lw_at lw_m5 124 rfl) rfl
theorem q1204 : (Jvm.Cond.privateMethod ({ cls := "SpillslotWorks$Writer", name := "move", desc := "(II)V" } : Jvm.MethodName)) ∈ lw_tbl := lw_at lw_m5 125 rfl
theorem q1205 : (Jvm.Cond.instanceMethod ({ cls := "SpillslotWorks$Writer", name := "move", desc := "(II)V" } : Jvm.MethodName)) ∈ lw_all := lw_g (lw_at lw_m5 126 rfl) rfl
theorem q1206 : (Jvm.Cond.code ({ cls := "SpillslotWorks$Writer", name := "move", desc := "(II)V" } : Jvm.MethodName) prog_15_method_4_code (3 : Nat) (Option.none : Option Jvm.ClassFile.FieldType)) ∈ lw_all := lw_g (lw_at lw_m5 127 rfl) rfl
theorem q1207 : (Jvm.Cond.methodLink "SpillslotWorks$Writer" (45 : Nat) ({ cls := "SpillslotWorks$Writer", name := "put", desc := "(III)V" } : Jvm.MethodName)) ∈ lw_all := lw_g (lw_at lw_m5 128 rfl) rfl
theorem q1208 : (Jvm.Cond.privateMethod ({ cls := "SpillslotWorks$Writer", name := "put", desc := "(III)V" } : Jvm.MethodName)) ∈ lw_tbl := lw_at lw_m5 129 rfl
theorem q1209 : (Jvm.Cond.instanceMethod ({ cls := "SpillslotWorks$Writer", name := "put", desc := "(III)V" } : Jvm.MethodName)) ∈ lw_all := lw_g (lw_at lw_m5 130 rfl) rfl
theorem q1210 : (Jvm.Cond.code ({ cls := "SpillslotWorks$Writer", name := "put", desc := "(III)V" } : Jvm.MethodName) prog_15_method_3_code (4 : Nat) (Option.none : Option Jvm.ClassFile.FieldType)) ∈ lw_all := lw_g (lw_at lw_m5 131 rfl) rfl
theorem q1211 : (Jvm.Cond.methodLink "SpillslotWorks$Writer" (41 : Nat) ({ cls := "SpillslotWorks$Writer", name := "put", desc := "(IIIII)V" } : Jvm.MethodName)) ∈ lw_all := lw_g (lw_at lw_m5 132 rfl) rfl
theorem q1212 : (Jvm.Cond.privateMethod ({ cls := "SpillslotWorks$Writer", name := "put", desc := "(IIIII)V" } : Jvm.MethodName)) ∈ lw_tbl := lw_at lw_m5 133 rfl
theorem q1213 : (Jvm.Cond.instanceMethod ({ cls := "SpillslotWorks$Writer", name := "put", desc := "(IIIII)V" } : Jvm.MethodName)) ∈ lw_all := lw_g (lw_at lw_m5 134 rfl) rfl
theorem q1214 : (Jvm.Cond.code ({ cls := "SpillslotWorks$Writer", name := "put", desc := "(IIIII)V" } : Jvm.MethodName) prog_15_method_2_code (6 : Nat) (Option.none : Option Jvm.ClassFile.FieldType)) ∈ lw_all := lw_g (lw_at lw_m5 135 rfl) rfl
theorem q1215 : (Jvm.Cond.classLink "SpillslotWorks$Writer" (26 : Nat) "SpillslotWorks$Instruction") ∈ lw_all := lw_g (lw_at lw_m5 136 rfl) rfl
theorem q1217 : (Jvm.Cond.methodLink "SpillslotWorks$Writer" (32 : Nat) ({ cls := "SpillslotWorks$Instruction", name := "<init>", desc := "(IIIIII)V" } : Jvm.MethodName)) ∈ lw_all := lw_g (lw_at lw_m5 138 rfl) rfl
theorem q1250 : (Jvm.Cond.interfaceEntry "SpillslotWorks$Writer" (35 : Nat)) ∈ lw_tbl := lw_at lw_m5 171 rfl
theorem q1251 : (Jvm.Cond.methodLink "SpillslotWorks$Writer" (35 : Nat) ({ cls := "java/util/List", name := "add", desc := "(Ljava/lang/Object;)Z" } : Jvm.MethodName)) ∈ lw_all := lw_g (lw_at lw_m5 172 rfl) rfl
theorem q1252 : (Jvm.Cond.methodLink "SpillslotWorks$Writer" (96 : Nat) ({ cls := "SpillslotWorks$Writer", name := "bring", desc := "(II)V" } : Jvm.MethodName)) ∈ lw_all := lw_g (lw_at lw_m5 173 rfl) rfl
theorem q1253 : (Jvm.Cond.privateMethod ({ cls := "SpillslotWorks$Writer", name := "bring", desc := "(II)V" } : Jvm.MethodName)) ∈ lw_tbl := lw_at lw_m5 174 rfl
theorem q1254 : (Jvm.Cond.instanceMethod ({ cls := "SpillslotWorks$Writer", name := "bring", desc := "(II)V" } : Jvm.MethodName)) ∈ lw_all := lw_g (lw_at lw_m5 175 rfl) rfl
theorem q1255 : (Jvm.Cond.code ({ cls := "SpillslotWorks$Writer", name := "bring", desc := "(II)V" } : Jvm.MethodName) prog_15_method_5_code (4 : Nat) (Option.none : Option Jvm.ClassFile.FieldType)) ∈ lw_all := lw_g (lw_at lw_m5 176 rfl) rfl
theorem q1256 : (Jvm.Cond.methodLink "SpillslotWorks$Writer" (54 : Nat) ({ cls := "SpillslotWorks$Life", name := "isRemade", desc := "()Z" } : Jvm.MethodName)) ∈ lw_all := lw_g (lw_at lw_m5 177 rfl) rfl
theorem q1257 : (Jvm.Cond.methodLink "SpillslotWorks$Writer" (117 : Nat) ({ cls := "SpillslotWorks$Writer", name := "writePlain", desc := "(LSpillslotWorks$Op;LSpillslotWorks$Life;)V" } : Jvm.MethodName)) ∈ lw_all := lw_g (lw_at lw_m5 178 rfl) rfl
theorem q1258 : (Jvm.Cond.privateMethod ({ cls := "SpillslotWorks$Writer", name := "writePlain", desc := "(LSpillslotWorks$Op;LSpillslotWorks$Life;)V" } : Jvm.MethodName)) ∈ lw_tbl := lw_at lw_m5 179 rfl
theorem q1259 : (Jvm.Cond.instanceMethod ({ cls := "SpillslotWorks$Writer", name := "writePlain", desc := "(LSpillslotWorks$Op;LSpillslotWorks$Life;)V" } : Jvm.MethodName)) ∈ lw_all := lw_g (lw_at lw_m5 180 rfl) rfl
theorem q1260 : (Jvm.Cond.code ({ cls := "SpillslotWorks$Writer", name := "writePlain", desc := "(LSpillslotWorks$Op;LSpillslotWorks$Life;)V" } : Jvm.MethodName) prog_15_method_9_code (5 : Nat) (Option.none : Option Jvm.ClassFile.FieldType)) ∈ lw_all := lw_g (lw_at lw_m5 181 rfl) rfl
theorem q1261 : (Jvm.Cond.methodLink "SpillslotWorks$Writer" (120 : Nat) ({ cls := "SpillslotWorks$Writer", name := "readsOf", desc := "(LSpillslotWorks$Op;)[I" } : Jvm.MethodName)) ∈ lw_all := lw_g (lw_at lw_m5 182 rfl) rfl
theorem q1262 : (Jvm.Cond.privateMethod ({ cls := "SpillslotWorks$Writer", name := "readsOf", desc := "(LSpillslotWorks$Op;)[I" } : Jvm.MethodName)) ∈ lw_tbl := lw_at lw_m5 183 rfl
theorem q1263 : (Jvm.Cond.instanceMethod ({ cls := "SpillslotWorks$Writer", name := "readsOf", desc := "(LSpillslotWorks$Op;)[I" } : Jvm.MethodName)) ∈ lw_all := lw_g (lw_at lw_m5 184 rfl) rfl
theorem q1264 : (Jvm.Cond.code ({ cls := "SpillslotWorks$Writer", name := "readsOf", desc := "(LSpillslotWorks$Op;)[I" } : Jvm.MethodName) prog_15_method_6_code (5 : Nat) (Option.some (Jvm.ClassFile.FieldType.array Jvm.ClassFile.FieldType.int))) ∈ lw_all := lw_g (lw_at lw_m5 185 rfl) rfl
theorem q1265 : (Jvm.Cond.methodLink "SpillslotWorks$Writer" (127 : Nat) ({ cls := "SpillslotWorks$Writer", name := "writeTwo", desc := "(LSpillslotWorks$Op;I[I)V" } : Jvm.MethodName)) ∈ lw_all := lw_g (lw_at lw_m5 186 rfl) rfl
theorem q1266 : (Jvm.Cond.privateMethod ({ cls := "SpillslotWorks$Writer", name := "writeTwo", desc := "(LSpillslotWorks$Op;I[I)V" } : Jvm.MethodName)) ∈ lw_tbl := lw_at lw_m5 187 rfl
theorem q1267 : (Jvm.Cond.instanceMethod ({ cls := "SpillslotWorks$Writer", name := "writeTwo", desc := "(LSpillslotWorks$Op;I[I)V" } : Jvm.MethodName)) ∈ lw_all := lw_g (lw_at lw_m5 188 rfl) rfl
theorem q1268 : (Jvm.Cond.code ({ cls := "SpillslotWorks$Writer", name := "writeTwo", desc := "(LSpillslotWorks$Op;I[I)V" } : Jvm.MethodName) prog_15_method_11_code (6 : Nat) (Option.none : Option Jvm.ClassFile.FieldType)) ∈ lw_all := lw_g (lw_at lw_m5 189 rfl) rfl
theorem q1269 : (Jvm.Cond.methodLink "SpillslotWorks$Writer" (141 : Nat) ({ cls := "SpillslotWorks$Writer", name := "reckonIn", desc := "(LSpillslotWorks$Op;I[I)V" } : Jvm.MethodName)) ∈ lw_all := lw_g (lw_at lw_m5 190 rfl) rfl
theorem q1270 : (Jvm.Cond.privateMethod ({ cls := "SpillslotWorks$Writer", name := "reckonIn", desc := "(LSpillslotWorks$Op;I[I)V" } : Jvm.MethodName)) ∈ lw_tbl := lw_at lw_m5 191 rfl
theorem q1271 : (Jvm.Cond.instanceMethod ({ cls := "SpillslotWorks$Writer", name := "reckonIn", desc := "(LSpillslotWorks$Op;I[I)V" } : Jvm.MethodName)) ∈ lw_all := lw_g (lw_at lw_m5 192 rfl) rfl
theorem q1272 : (Jvm.Cond.code ({ cls := "SpillslotWorks$Writer", name := "reckonIn", desc := "(LSpillslotWorks$Op;I[I)V" } : Jvm.MethodName) prog_15_method_12_code (4 : Nat) (Option.none : Option Jvm.ClassFile.FieldType)) ∈ lw_all := lw_g (lw_at lw_m5 193 rfl) rfl
theorem q1273 : (Jvm.Cond.methodLink "SpillslotWorks$Writer" (131 : Nat) ({ cls := "SpillslotWorks$Writer", name := "reckon", desc := "(LSpillslotWorks$Op;I[I)V" } : Jvm.MethodName)) ∈ lw_all := lw_g (lw_at lw_m5 194 rfl) rfl
theorem q1274 : (Jvm.Cond.privateMethod ({ cls := "SpillslotWorks$Writer", name := "reckon", desc := "(LSpillslotWorks$Op;I[I)V" } : Jvm.MethodName)) ∈ lw_tbl := lw_at lw_m5 195 rfl
theorem q1275 : (Jvm.Cond.instanceMethod ({ cls := "SpillslotWorks$Writer", name := "reckon", desc := "(LSpillslotWorks$Op;I[I)V" } : Jvm.MethodName)) ∈ lw_all := lw_g (lw_at lw_m5 196 rfl) rfl
theorem q1276 : (Jvm.Cond.code ({ cls := "SpillslotWorks$Writer", name := "reckon", desc := "(LSpillslotWorks$Op;I[I)V" } : Jvm.MethodName) prog_15_method_10_code (4 : Nat) (Option.none : Option Jvm.ClassFile.FieldType)) ∈ lw_all := lw_g (lw_at lw_m5 197 rfl) rfl
theorem q1277 : (Jvm.Cond.methodLink "SpillslotWorks$Writer" (134 : Nat) ({ cls := "SpillslotWorks$Writer", name := "storeFrom", desc := "(LSpillslotWorks$Life;I)V" } : Jvm.MethodName)) ∈ lw_all := lw_g (lw_at lw_m5 198 rfl) rfl
theorem q1278 : (Jvm.Cond.privateMethod ({ cls := "SpillslotWorks$Writer", name := "storeFrom", desc := "(LSpillslotWorks$Life;I)V" } : Jvm.MethodName)) ∈ lw_tbl := lw_at lw_m5 199 rfl
theorem q1279 : (Jvm.Cond.instanceMethod ({ cls := "SpillslotWorks$Writer", name := "storeFrom", desc := "(LSpillslotWorks$Life;I)V" } : Jvm.MethodName)) ∈ lw_all := lw_g (lw_at lw_m5 200 rfl) rfl
theorem q1280 : (Jvm.Cond.code ({ cls := "SpillslotWorks$Writer", name := "storeFrom", desc := "(LSpillslotWorks$Life;I)V" } : Jvm.MethodName) prog_15_method_7_code (3 : Nat) (Option.none : Option Jvm.ClassFile.FieldType)) ∈ lw_all := lw_g (lw_at lw_m5 201 rfl) rfl
theorem q2311 : (Jvm.Cond.selects "SpillslotWorks$Writer" ({ cls := "java/lang/Object", name := "equals", desc := "(Ljava/lang/Object;)Z" } : Jvm.MethodName) ({ cls := "java/lang/Object", name := "equals", desc := "(Ljava/lang/Object;)Z" } : Jvm.MethodName)) ∈ lw_all := lw_g (lw_at lw_m10 32 rfl) rfl
theorem q2870 : (Jvm.Cond.castable "SpillslotWorks$Writer" "java/lang/Object") ∈ lw_tbl := lw_at lw_m12 111 rfl
theorem in_X10 : ∀ w ∈ wsX100, w ∈ lw_all := lw_in wsX100 [1178, 1180, 1182, 1184] (by decide +kernel) (by decide +kernel)
