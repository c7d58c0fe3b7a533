/-! SpillslotWorksModel -/
set_option maxRecDepth 100000
def RX13 : String := "SpillslotWorksModel"
def TX13 : u_T := fun k => match k with
  | 0 => ("SpillslotWorksModel", "thrown", "I", false)
  | 1 => ("SpillslotWorksModel", "program", "LSpillslotWorksModel$Program;", true)
  | _ => ("SpillslotWorksModel", "machine", "LSpillslotWorksModel$Machine;", false)
def tyX13 : Nat → FieldType := fun k => match k with
  | 0 => .int
  | 1 => .object "SpillslotWorksModel$Program"
  | _ => .object "SpillslotWorksModel$Machine"
abbrev wsX130 : List Cond := u_ws RX13 TX13 3
theorem nmX13 : ∀ a, a < 3 → ∀ b, b < 3 → a ≠ b → (TX13 a).2.1 ≠ (TX13 b).2.1 := by decide +kernel
theorem tyX13_ok : ∀ k, k < 3 → parseFieldDescriptor (TX13 k).2.2.1 = some (tyX13 k) := by decide +kernel
abbrev cX13_init : ByteArray := prog_17_method_3_code
def yX13_init : MethodName := ⟨RX13, "<init>", "()V"⟩
def dkwX13_init_1 : List UInt8 := [16, 15, 4, 3, 183, 0, 18, 181, 0, 21, 177]
abbrev dktX13_init_1 : List UInt8 := dkwX13_init_1 ++ []
def dkwX13_init_0 : List UInt8 := [42, 183, 0, 1, 42, 187, 0, 7, 89, 183, 0, 9, 181, 0, 10, 42, 187, 0, 16, 89, 16, 8, 16, 28]
abbrev dktX13_init_0 : List UInt8 := dkwX13_init_0 ++ dktX13_init_1
theorem dksX13_init_0 : cX13_init.data.toList.drop 0 = dktX13_init_0 := by decide +kernel
theorem dksX13_init_1 : cX13_init.data.toList.drop 24 = dktX13_init_1 := dk_seg dksX13_init_0 24 rfl rfl
theorem dX13_init_0 : decode cX13_init 0 = .ok (.aload_n 0, 1) := dk_42 (dk_at dksX13_init_0 0 rfl rfl)
theorem dX13_init_1 : decode cX13_init 1 = .ok (.invokespecial 1, 3) := dk_183 0 1 (dk_at dksX13_init_0 1 rfl rfl)
theorem dX13_init_4 : decode cX13_init 4 = .ok (.aload_n 0, 1) := dk_42 (dk_at dksX13_init_0 4 rfl rfl)
theorem dX13_init_5 : decode cX13_init 5 = .ok (.new 7, 3) := dk_187 0 7 (dk_at dksX13_init_0 5 rfl rfl)
theorem dX13_init_8 : decode cX13_init 8 = .ok (.dup, 1) := dk_89 (dk_at dksX13_init_0 8 rfl rfl)
theorem dX13_init_9 : decode cX13_init 9 = .ok (.invokespecial 9, 3) := dk_183 0 9 (dk_at dksX13_init_0 9 rfl rfl)
theorem dX13_init_12 : decode cX13_init 12 = .ok (.putfield 10, 3) := dk_181 0 10 (dk_at dksX13_init_0 12 rfl rfl)
theorem dX13_init_15 : decode cX13_init 15 = .ok (.aload_n 0, 1) := dk_42 (dk_at dksX13_init_0 15 rfl rfl)
theorem dX13_init_16 : decode cX13_init 16 = .ok (.new 16, 3) := dk_187 0 16 (dk_at dksX13_init_0 16 rfl rfl)
theorem dX13_init_19 : decode cX13_init 19 = .ok (.dup, 1) := dk_89 (dk_at dksX13_init_0 19 rfl rfl)
theorem dX13_init_20 : decode cX13_init 20 = .ok (.bipush 8, 2) := dk_16 8 (dk_at dksX13_init_0 20 rfl rfl)
theorem dX13_init_22 : decode cX13_init 22 = .ok (.bipush 28, 2) := dk_16 28 (dk_at dksX13_init_0 22 rfl rfl)
theorem dX13_init_24 : decode cX13_init 24 = .ok (.bipush 15, 2) := dk_16 15 (dk_at dksX13_init_1 0 rfl rfl)
theorem dX13_init_26 : decode cX13_init 26 = .ok (.iconst 1, 1) := dk_4 (dk_at dksX13_init_1 2 rfl rfl)
theorem dX13_init_27 : decode cX13_init 27 = .ok (.iconst 0, 1) := dk_3 (dk_at dksX13_init_1 3 rfl rfl)
theorem dX13_init_28 : decode cX13_init 28 = .ok (.invokespecial 18, 3) := dk_183 0 18 (dk_at dksX13_init_1 4 rfl rfl)
theorem dX13_init_31 : decode cX13_init 31 = .ok (.putfield 21, 3) := dk_181 0 21 (dk_at dksX13_init_1 7 rfl rfl)
theorem dX13_init_34 : decode cX13_init 34 = .ok (.return_, 1) := dk_177 (dk_at dksX13_init_1 10 rfl rfl)
abbrev cX13_thrown : ByteArray := prog_17_method_4_code
def yX13_thrown : MethodName := ⟨RX13, "thrown", "()I"⟩
theorem dX13_thrown_0 : decode cX13_thrown 0 = .ok (.aload_n 0, 1) := by decide +kernel
theorem dX13_thrown_1 : decode cX13_thrown 1 = .ok (.getfield 25, 3) := by decide +kernel
theorem dX13_thrown_4 : decode cX13_thrown 4 = .ok (.ireturn, 1) := by decide +kernel
abbrev cX13_machine : ByteArray := prog_17_method_10_code
def yX13_machine : MethodName := ⟨RX13, "machine", "(IIIZZ)I"⟩
def dkwX13_machine_2 : List UInt8 := [28, 29, 21, 4, 21, 5, 183, 0, 18, 181, 0, 21, 21, 6, 172]
abbrev dktX13_machine_2 : List UInt8 := dkwX13_machine_2 ++ []
def dkwX13_machine_1 : List UInt8 := [4, 182, 0, 50, 153, 0, 5, 3, 172, 42, 180, 0, 21, 180, 0, 53, 54, 6, 42, 187, 0, 16, 89, 27]
abbrev dktX13_machine_1 : List UInt8 := dkwX13_machine_1 ++ dktX13_machine_2
def dkwX13_machine_0 : List UInt8 := [42, 27, 28, 184, 0, 46, 154, 0, 13, 29, 3, 16, 99, 184, 0, 42, 154, 0, 7, 4, 167, 0, 4, 3]
abbrev dktX13_machine_0 : List UInt8 := dkwX13_machine_0 ++ dktX13_machine_1
theorem dksX13_machine_0 : cX13_machine.data.toList.drop 0 = dktX13_machine_0 := by decide +kernel
theorem dksX13_machine_1 : cX13_machine.data.toList.drop 24 = dktX13_machine_1 := dk_seg dksX13_machine_0 24 rfl rfl
theorem dksX13_machine_2 : cX13_machine.data.toList.drop 48 = dktX13_machine_2 := dk_seg dksX13_machine_1 24 rfl rfl
theorem dX13_machine_0 : decode cX13_machine 0 = .ok (.aload_n 0, 1) := dk_42 (dk_at dksX13_machine_0 0 rfl rfl)
theorem dX13_machine_1 : decode cX13_machine 1 = .ok (.iload_n 1, 1) := dk_27 (dk_at dksX13_machine_0 1 rfl rfl)
theorem dX13_machine_2 : decode cX13_machine 2 = .ok (.iload_n 2, 1) := dk_28 (dk_at dksX13_machine_0 2 rfl rfl)
theorem dX13_machine_3 : decode cX13_machine 3 = .ok (.invokestatic 46, 3) := dk_184 0 46 (dk_at dksX13_machine_0 3 rfl rfl)
theorem dX13_machine_6 : decode cX13_machine 6 = .ok (.ifCond .ne 13, 3) := dk_154 0 13 (dk_at dksX13_machine_0 6 rfl rfl)
theorem dX13_machine_9 : decode cX13_machine 9 = .ok (.iload_n 3, 1) := dk_29 (dk_at dksX13_machine_0 9 rfl rfl)
theorem dX13_machine_10 : decode cX13_machine 10 = .ok (.iconst 0, 1) := dk_3 (dk_at dksX13_machine_0 10 rfl rfl)
theorem dX13_machine_11 : decode cX13_machine 11 = .ok (.bipush 99, 2) := dk_16 99 (dk_at dksX13_machine_0 11 rfl rfl)
theorem dX13_machine_13 : decode cX13_machine 13 = .ok (.invokestatic 42, 3) := dk_184 0 42 (dk_at dksX13_machine_0 13 rfl rfl)
theorem dX13_machine_16 : decode cX13_machine 16 = .ok (.ifCond .ne 7, 3) := dk_154 0 7 (dk_at dksX13_machine_0 16 rfl rfl)
theorem dX13_machine_19 : decode cX13_machine 19 = .ok (.iconst 1, 1) := dk_4 (dk_at dksX13_machine_0 19 rfl rfl)
theorem dX13_machine_20 : decode cX13_machine 20 = .ok (.goto 4, 3) := dk_167 0 4 (dk_at dksX13_machine_0 20 rfl rfl)
theorem dX13_machine_23 : decode cX13_machine 23 = .ok (.iconst 0, 1) := dk_3 (dk_at dksX13_machine_0 23 rfl rfl)
theorem dX13_machine_24 : decode cX13_machine 24 = .ok (.iconst 1, 1) := dk_4 (dk_at dksX13_machine_1 0 rfl rfl)
theorem dX13_machine_25 : decode cX13_machine 25 = .ok (.invokevirtual 50, 3) := dk_182 0 50 (dk_at dksX13_machine_1 1 rfl rfl)
theorem dX13_machine_28 : decode cX13_machine 28 = .ok (.ifCond .eq 5, 3) := dk_153 0 5 (dk_at dksX13_machine_1 4 rfl rfl)
theorem dX13_machine_31 : decode cX13_machine 31 = .ok (.iconst 0, 1) := dk_3 (dk_at dksX13_machine_1 7 rfl rfl)
theorem dX13_machine_32 : decode cX13_machine 32 = .ok (.ireturn, 1) := dk_172 (dk_at dksX13_machine_1 8 rfl rfl)
theorem dX13_machine_33 : decode cX13_machine 33 = .ok (.aload_n 0, 1) := dk_42 (dk_at dksX13_machine_1 9 rfl rfl)
theorem dX13_machine_34 : decode cX13_machine 34 = .ok (.getfield 21, 3) := dk_180 0 21 (dk_at dksX13_machine_1 10 rfl rfl)
theorem dX13_machine_37 : decode cX13_machine 37 = .ok (.getfield 53, 3) := dk_180 0 53 (dk_at dksX13_machine_1 13 rfl rfl)
theorem dX13_machine_40 : decode cX13_machine 40 = .ok (.istore 6, 2) := dk_54 6 (dk_at dksX13_machine_1 16 rfl rfl)
theorem dX13_machine_42 : decode cX13_machine 42 = .ok (.aload_n 0, 1) := dk_42 (dk_at dksX13_machine_1 18 rfl rfl)
theorem dX13_machine_43 : decode cX13_machine 43 = .ok (.new 16, 3) := dk_187 0 16 (dk_at dksX13_machine_1 19 rfl rfl)
theorem dX13_machine_46 : decode cX13_machine 46 = .ok (.dup, 1) := dk_89 (dk_at dksX13_machine_1 22 rfl rfl)
theorem dX13_machine_47 : decode cX13_machine 47 = .ok (.iload_n 1, 1) := dk_27 (dk_at dksX13_machine_1 23 rfl rfl)
theorem dX13_machine_48 : decode cX13_machine 48 = .ok (.iload_n 2, 1) := dk_28 (dk_at dksX13_machine_2 0 rfl rfl)
theorem dX13_machine_49 : decode cX13_machine 49 = .ok (.iload_n 3, 1) := dk_29 (dk_at dksX13_machine_2 1 rfl rfl)
theorem dX13_machine_50 : decode cX13_machine 50 = .ok (.iload 4, 2) := dk_21 4 (dk_at dksX13_machine_2 2 rfl rfl)
theorem dX13_machine_52 : decode cX13_machine 52 = .ok (.iload 5, 2) := dk_21 5 (dk_at dksX13_machine_2 4 rfl rfl)
theorem dX13_machine_54 : decode cX13_machine 54 = .ok (.invokespecial 18, 3) := dk_183 0 18 (dk_at dksX13_machine_2 6 rfl rfl)
theorem dX13_machine_57 : decode cX13_machine 57 = .ok (.putfield 21, 3) := dk_181 0 21 (dk_at dksX13_machine_2 9 rfl rfl)
theorem dX13_machine_60 : decode cX13_machine 60 = .ok (.iload 6, 2) := dk_21 6 (dk_at dksX13_machine_2 12 rfl rfl)
theorem dX13_machine_62 : decode cX13_machine 62 = .ok (.ireturn, 1) := dk_172 (dk_at dksX13_machine_2 14 rfl rfl)
abbrev cX13_isNoMachine : ByteArray := prog_17_method_9_code
def yX13_isNoMachine : MethodName := ⟨RX13, "isNoMachine", "(II)Z"⟩
def dkwX13_isNoMachine_1 : List UInt8 := [27, 28, 2, 130, 126, 153, 0, 7, 4, 167, 0, 4, 3, 172]
abbrev dktX13_isNoMachine_1 : List UInt8 := dkwX13_isNoMachine_1 ++ []
def dkwX13_isNoMachine_0 : List UInt8 := [26, 8, 16, 11, 184, 0, 42, 154, 0, 5, 4, 172, 4, 26, 6, 100, 120, 7, 100, 61, 27, 155, 0, 11]
abbrev dktX13_isNoMachine_0 : List UInt8 := dkwX13_isNoMachine_0 ++ dktX13_isNoMachine_1
theorem dksX13_isNoMachine_0 : cX13_isNoMachine.data.toList.drop 0 = dktX13_isNoMachine_0 := by decide +kernel
theorem dksX13_isNoMachine_1 : cX13_isNoMachine.data.toList.drop 24 = dktX13_isNoMachine_1 := dk_seg dksX13_isNoMachine_0 24 rfl rfl
theorem dX13_isNoMachine_0 : decode cX13_isNoMachine 0 = .ok (.iload_n 0, 1) := dk_26 (dk_at dksX13_isNoMachine_0 0 rfl rfl)
theorem dX13_isNoMachine_1 : decode cX13_isNoMachine 1 = .ok (.iconst 5, 1) := dk_8 (dk_at dksX13_isNoMachine_0 1 rfl rfl)
theorem dX13_isNoMachine_2 : decode cX13_isNoMachine 2 = .ok (.bipush 11, 2) := dk_16 11 (dk_at dksX13_isNoMachine_0 2 rfl rfl)
theorem dX13_isNoMachine_4 : decode cX13_isNoMachine 4 = .ok (.invokestatic 42, 3) := dk_184 0 42 (dk_at dksX13_isNoMachine_0 4 rfl rfl)
theorem dX13_isNoMachine_7 : decode cX13_isNoMachine 7 = .ok (.ifCond .ne 5, 3) := dk_154 0 5 (dk_at dksX13_isNoMachine_0 7 rfl rfl)
theorem dX13_isNoMachine_10 : decode cX13_isNoMachine 10 = .ok (.iconst 1, 1) := dk_4 (dk_at dksX13_isNoMachine_0 10 rfl rfl)
theorem dX13_isNoMachine_11 : decode cX13_isNoMachine 11 = .ok (.ireturn, 1) := dk_172 (dk_at dksX13_isNoMachine_0 11 rfl rfl)
theorem dX13_isNoMachine_12 : decode cX13_isNoMachine 12 = .ok (.iconst 1, 1) := dk_4 (dk_at dksX13_isNoMachine_0 12 rfl rfl)
theorem dX13_isNoMachine_13 : decode cX13_isNoMachine 13 = .ok (.iload_n 0, 1) := dk_26 (dk_at dksX13_isNoMachine_0 13 rfl rfl)
theorem dX13_isNoMachine_14 : decode cX13_isNoMachine 14 = .ok (.iconst 3, 1) := dk_6 (dk_at dksX13_isNoMachine_0 14 rfl rfl)
theorem dX13_isNoMachine_15 : decode cX13_isNoMachine 15 = .ok (.isub, 1) := dk_100 (dk_at dksX13_isNoMachine_0 15 rfl rfl)
theorem dX13_isNoMachine_16 : decode cX13_isNoMachine 16 = .ok (.ishl, 1) := dk_120 (dk_at dksX13_isNoMachine_0 16 rfl rfl)
theorem dX13_isNoMachine_17 : decode cX13_isNoMachine 17 = .ok (.iconst 4, 1) := dk_7 (dk_at dksX13_isNoMachine_0 17 rfl rfl)
theorem dX13_isNoMachine_18 : decode cX13_isNoMachine 18 = .ok (.isub, 1) := dk_100 (dk_at dksX13_isNoMachine_0 18 rfl rfl)
theorem dX13_isNoMachine_19 : decode cX13_isNoMachine 19 = .ok (.istore_n 2, 1) := dk_61 (dk_at dksX13_isNoMachine_0 19 rfl rfl)
theorem dX13_isNoMachine_20 : decode cX13_isNoMachine 20 = .ok (.iload_n 1, 1) := dk_27 (dk_at dksX13_isNoMachine_0 20 rfl rfl)
theorem dX13_isNoMachine_21 : decode cX13_isNoMachine 21 = .ok (.ifCond .lt 11, 3) := dk_155 0 11 (dk_at dksX13_isNoMachine_0 21 rfl rfl)
theorem dX13_isNoMachine_24 : decode cX13_isNoMachine 24 = .ok (.iload_n 1, 1) := dk_27 (dk_at dksX13_isNoMachine_1 0 rfl rfl)
theorem dX13_isNoMachine_25 : decode cX13_isNoMachine 25 = .ok (.iload_n 2, 1) := dk_28 (dk_at dksX13_isNoMachine_1 1 rfl rfl)
theorem dX13_isNoMachine_26 : decode cX13_isNoMachine 26 = .ok (.iconst (-1), 1) := dk_2 (dk_at dksX13_isNoMachine_1 2 rfl rfl)
theorem dX13_isNoMachine_27 : decode cX13_isNoMachine 27 = .ok (.ixor, 1) := dk_130 (dk_at dksX13_isNoMachine_1 3 rfl rfl)
theorem dX13_isNoMachine_28 : decode cX13_isNoMachine 28 = .ok (.iand, 1) := dk_126 (dk_at dksX13_isNoMachine_1 4 rfl rfl)
theorem dX13_isNoMachine_29 : decode cX13_isNoMachine 29 = .ok (.ifCond .eq 7, 3) := dk_153 0 7 (dk_at dksX13_isNoMachine_1 5 rfl rfl)
theorem dX13_isNoMachine_32 : decode cX13_isNoMachine 32 = .ok (.iconst 1, 1) := dk_4 (dk_at dksX13_isNoMachine_1 8 rfl rfl)
theorem dX13_isNoMachine_33 : decode cX13_isNoMachine 33 = .ok (.goto 4, 3) := dk_167 0 4 (dk_at dksX13_isNoMachine_1 9 rfl rfl)
theorem dX13_isNoMachine_36 : decode cX13_isNoMachine 36 = .ok (.iconst 0, 1) := dk_3 (dk_at dksX13_isNoMachine_1 12 rfl rfl)
theorem dX13_isNoMachine_37 : decode cX13_isNoMachine 37 = .ok (.ireturn, 1) := dk_172 (dk_at dksX13_isNoMachine_1 13 rfl rfl)
abbrev cX13_isIn : ByteArray := prog_17_method_2_code
def yX13_isIn : MethodName := ⟨RX13, "isIn", "(III)Z"⟩
def dkwX13_isIn_0 : List UInt8 := [26, 27, 161, 0, 12, 26, 28, 163, 0, 7, 4, 167, 0, 4, 3, 172]
abbrev dktX13_isIn_0 : List UInt8 := dkwX13_isIn_0 ++ []
theorem dksX13_isIn_0 : cX13_isIn.data.toList.drop 0 = dktX13_isIn_0 := by decide +kernel
theorem dX13_isIn_0 : decode cX13_isIn 0 = .ok (.iload_n 0, 1) := dk_26 (dk_at dksX13_isIn_0 0 rfl rfl)
theorem dX13_isIn_1 : decode cX13_isIn 1 = .ok (.iload_n 1, 1) := dk_27 (dk_at dksX13_isIn_0 1 rfl rfl)
theorem dX13_isIn_2 : decode cX13_isIn 2 = .ok (.if_icmp .lt 12, 3) := dk_161 0 12 (dk_at dksX13_isIn_0 2 rfl rfl)
theorem dX13_isIn_5 : decode cX13_isIn 5 = .ok (.iload_n 0, 1) := dk_26 (dk_at dksX13_isIn_0 5 rfl rfl)
theorem dX13_isIn_6 : decode cX13_isIn 6 = .ok (.iload_n 2, 1) := dk_28 (dk_at dksX13_isIn_0 6 rfl rfl)
theorem dX13_isIn_7 : decode cX13_isIn 7 = .ok (.if_icmp .gt 7, 3) := dk_163 0 7 (dk_at dksX13_isIn_0 7 rfl rfl)
theorem dX13_isIn_10 : decode cX13_isIn 10 = .ok (.iconst 1, 1) := dk_4 (dk_at dksX13_isIn_0 10 rfl rfl)
theorem dX13_isIn_11 : decode cX13_isIn 11 = .ok (.goto 4, 3) := dk_167 0 4 (dk_at dksX13_isIn_0 11 rfl rfl)
theorem dX13_isIn_14 : decode cX13_isIn 14 = .ok (.iconst 0, 1) := dk_3 (dk_at dksX13_isIn_0 14 rfl rfl)
theorem dX13_isIn_15 : decode cX13_isIn 15 = .ok (.ireturn, 1) := dk_172 (dk_at dksX13_isIn_0 15 rfl rfl)
abbrev cX13_start : ByteArray := prog_17_method_6_code
def yX13_start : MethodName := ⟨RX13, "start", "(ZI)Z"⟩
def dkwX13_start_0 : List UInt8 := [42, 3, 181, 0, 25, 42, 27, 28, 182, 0, 29, 172]
abbrev dktX13_start_0 : List UInt8 := dkwX13_start_0 ++ []
theorem dksX13_start_0 : cX13_start.data.toList.drop 0 = dktX13_start_0 := by decide +kernel
theorem dX13_start_0 : decode cX13_start 0 = .ok (.aload_n 0, 1) := dk_42 (dk_at dksX13_start_0 0 rfl rfl)
theorem dX13_start_1 : decode cX13_start 1 = .ok (.iconst 0, 1) := dk_3 (dk_at dksX13_start_0 1 rfl rfl)
theorem dX13_start_2 : decode cX13_start 2 = .ok (.putfield 25, 3) := dk_181 0 25 (dk_at dksX13_start_0 2 rfl rfl)
theorem dX13_start_5 : decode cX13_start 5 = .ok (.aload_n 0, 1) := dk_42 (dk_at dksX13_start_0 5 rfl rfl)
theorem dX13_start_6 : decode cX13_start 6 = .ok (.iload_n 1, 1) := dk_27 (dk_at dksX13_start_0 6 rfl rfl)
theorem dX13_start_7 : decode cX13_start 7 = .ok (.iload_n 2, 1) := dk_28 (dk_at dksX13_start_0 7 rfl rfl)
theorem dX13_start_8 : decode cX13_start 8 = .ok (.invokevirtual 29, 3) := dk_182 0 29 (dk_at dksX13_start_0 8 rfl rfl)
theorem dX13_start_11 : decode cX13_start 11 = .ok (.ireturn, 1) := dk_172 (dk_at dksX13_start_0 11 rfl rfl)
abbrev cX13_refuse : ByteArray := prog_17_method_5_code
def yX13_refuse : MethodName := ⟨RX13, "refuse", "(ZI)Z"⟩
def dkwX13_refuse_1 : List UInt8 := [167, 0, 4, 3, 172]
abbrev dktX13_refuse_1 : List UInt8 := dkwX13_refuse_1 ++ []
def dkwX13_refuse_0 : List UInt8 := [27, 153, 0, 15, 42, 180, 0, 25, 154, 0, 8, 42, 28, 181, 0, 25, 42, 180, 0, 25, 158, 0, 7, 4]
abbrev dktX13_refuse_0 : List UInt8 := dkwX13_refuse_0 ++ dktX13_refuse_1
theorem dksX13_refuse_0 : cX13_refuse.data.toList.drop 0 = dktX13_refuse_0 := by decide +kernel
theorem dksX13_refuse_1 : cX13_refuse.data.toList.drop 24 = dktX13_refuse_1 := dk_seg dksX13_refuse_0 24 rfl rfl
theorem dX13_refuse_0 : decode cX13_refuse 0 = .ok (.iload_n 1, 1) := dk_27 (dk_at dksX13_refuse_0 0 rfl rfl)
theorem dX13_refuse_1 : decode cX13_refuse 1 = .ok (.ifCond .eq 15, 3) := dk_153 0 15 (dk_at dksX13_refuse_0 1 rfl rfl)
theorem dX13_refuse_4 : decode cX13_refuse 4 = .ok (.aload_n 0, 1) := dk_42 (dk_at dksX13_refuse_0 4 rfl rfl)
theorem dX13_refuse_5 : decode cX13_refuse 5 = .ok (.getfield 25, 3) := dk_180 0 25 (dk_at dksX13_refuse_0 5 rfl rfl)
theorem dX13_refuse_8 : decode cX13_refuse 8 = .ok (.ifCond .ne 8, 3) := dk_154 0 8 (dk_at dksX13_refuse_0 8 rfl rfl)
theorem dX13_refuse_11 : decode cX13_refuse 11 = .ok (.aload_n 0, 1) := dk_42 (dk_at dksX13_refuse_0 11 rfl rfl)
theorem dX13_refuse_12 : decode cX13_refuse 12 = .ok (.iload_n 2, 1) := dk_28 (dk_at dksX13_refuse_0 12 rfl rfl)
theorem dX13_refuse_13 : decode cX13_refuse 13 = .ok (.putfield 25, 3) := dk_181 0 25 (dk_at dksX13_refuse_0 13 rfl rfl)
theorem dX13_refuse_16 : decode cX13_refuse 16 = .ok (.aload_n 0, 1) := dk_42 (dk_at dksX13_refuse_0 16 rfl rfl)
theorem dX13_refuse_17 : decode cX13_refuse 17 = .ok (.getfield 25, 3) := dk_180 0 25 (dk_at dksX13_refuse_0 17 rfl rfl)
theorem dX13_refuse_20 : decode cX13_refuse 20 = .ok (.ifCond .le 7, 3) := dk_158 0 7 (dk_at dksX13_refuse_0 20 rfl rfl)
theorem dX13_refuse_23 : decode cX13_refuse 23 = .ok (.iconst 1, 1) := dk_4 (dk_at dksX13_refuse_0 23 rfl rfl)
theorem dX13_refuse_24 : decode cX13_refuse 24 = .ok (.goto 4, 3) := dk_167 0 4 (dk_at dksX13_refuse_1 0 rfl rfl)
theorem dX13_refuse_27 : decode cX13_refuse 27 = .ok (.iconst 0, 1) := dk_3 (dk_at dksX13_refuse_1 3 rfl rfl)
theorem dX13_refuse_28 : decode cX13_refuse 28 = .ok (.ireturn, 1) := dk_172 (dk_at dksX13_refuse_1 4 rfl rfl)
abbrev cX13_latency : ByteArray := prog_17_method_13_code
def yX13_latency : MethodName := ⟨RX13, "latency", "(II)I"⟩
def dkwX13_latency_1 : List UInt8 := [3, 172, 42, 180, 0, 10, 180, 0, 63, 27, 46, 62, 42, 180, 0, 10, 180, 0, 63, 27, 28, 79, 29, 172]
abbrev dktX13_latency_1 : List UInt8 := dkwX13_latency_1 ++ []
def dkwX13_latency_0 : List UInt8 := [42, 27, 184, 0, 56, 4, 182, 0, 50, 154, 0, 15, 42, 28, 184, 0, 60, 5, 182, 0, 29, 153, 0, 5]
abbrev dktX13_latency_0 : List UInt8 := dkwX13_latency_0 ++ dktX13_latency_1
theorem dksX13_latency_0 : cX13_latency.data.toList.drop 0 = dktX13_latency_0 := by decide +kernel
theorem dksX13_latency_1 : cX13_latency.data.toList.drop 24 = dktX13_latency_1 := dk_seg dksX13_latency_0 24 rfl rfl
theorem dX13_latency_0 : decode cX13_latency 0 = .ok (.aload_n 0, 1) := dk_42 (dk_at dksX13_latency_0 0 rfl rfl)
theorem dX13_latency_1 : decode cX13_latency 1 = .ok (.iload_n 1, 1) := dk_27 (dk_at dksX13_latency_0 1 rfl rfl)
theorem dX13_latency_2 : decode cX13_latency 2 = .ok (.invokestatic 56, 3) := dk_184 0 56 (dk_at dksX13_latency_0 2 rfl rfl)
theorem dX13_latency_5 : decode cX13_latency 5 = .ok (.iconst 1, 1) := dk_4 (dk_at dksX13_latency_0 5 rfl rfl)
theorem dX13_latency_6 : decode cX13_latency 6 = .ok (.invokevirtual 50, 3) := dk_182 0 50 (dk_at dksX13_latency_0 6 rfl rfl)
theorem dX13_latency_9 : decode cX13_latency 9 = .ok (.ifCond .ne 15, 3) := dk_154 0 15 (dk_at dksX13_latency_0 9 rfl rfl)
theorem dX13_latency_12 : decode cX13_latency 12 = .ok (.aload_n 0, 1) := dk_42 (dk_at dksX13_latency_0 12 rfl rfl)
theorem dX13_latency_13 : decode cX13_latency 13 = .ok (.iload_n 2, 1) := dk_28 (dk_at dksX13_latency_0 13 rfl rfl)
theorem dX13_latency_14 : decode cX13_latency 14 = .ok (.invokestatic 60, 3) := dk_184 0 60 (dk_at dksX13_latency_0 14 rfl rfl)
theorem dX13_latency_17 : decode cX13_latency 17 = .ok (.iconst 2, 1) := dk_5 (dk_at dksX13_latency_0 17 rfl rfl)
theorem dX13_latency_18 : decode cX13_latency 18 = .ok (.invokevirtual 29, 3) := dk_182 0 29 (dk_at dksX13_latency_0 18 rfl rfl)
theorem dX13_latency_21 : decode cX13_latency 21 = .ok (.ifCond .eq 5, 3) := dk_153 0 5 (dk_at dksX13_latency_0 21 rfl rfl)
theorem dX13_latency_24 : decode cX13_latency 24 = .ok (.iconst 0, 1) := dk_3 (dk_at dksX13_latency_1 0 rfl rfl)
theorem dX13_latency_25 : decode cX13_latency 25 = .ok (.ireturn, 1) := dk_172 (dk_at dksX13_latency_1 1 rfl rfl)
theorem dX13_latency_26 : decode cX13_latency 26 = .ok (.aload_n 0, 1) := dk_42 (dk_at dksX13_latency_1 2 rfl rfl)
theorem dX13_latency_27 : decode cX13_latency 27 = .ok (.getfield 10, 3) := dk_180 0 10 (dk_at dksX13_latency_1 3 rfl rfl)
theorem dX13_latency_30 : decode cX13_latency 30 = .ok (.getfield 63, 3) := dk_180 0 63 (dk_at dksX13_latency_1 6 rfl rfl)
theorem dX13_latency_33 : decode cX13_latency 33 = .ok (.iload_n 1, 1) := dk_27 (dk_at dksX13_latency_1 9 rfl rfl)
theorem dX13_latency_34 : decode cX13_latency 34 = .ok (.iaload, 1) := dk_46 (dk_at dksX13_latency_1 10 rfl rfl)
theorem dX13_latency_35 : decode cX13_latency 35 = .ok (.istore_n 3, 1) := dk_62 (dk_at dksX13_latency_1 11 rfl rfl)
theorem dX13_latency_36 : decode cX13_latency 36 = .ok (.aload_n 0, 1) := dk_42 (dk_at dksX13_latency_1 12 rfl rfl)
theorem dX13_latency_37 : decode cX13_latency 37 = .ok (.getfield 10, 3) := dk_180 0 10 (dk_at dksX13_latency_1 13 rfl rfl)
theorem dX13_latency_40 : decode cX13_latency 40 = .ok (.getfield 63, 3) := dk_180 0 63 (dk_at dksX13_latency_1 16 rfl rfl)
theorem dX13_latency_43 : decode cX13_latency 43 = .ok (.iload_n 1, 1) := dk_27 (dk_at dksX13_latency_1 19 rfl rfl)
theorem dX13_latency_44 : decode cX13_latency 44 = .ok (.iload_n 2, 1) := dk_28 (dk_at dksX13_latency_1 20 rfl rfl)
theorem dX13_latency_45 : decode cX13_latency 45 = .ok (.iastore, 1) := dk_79 (dk_at dksX13_latency_1 21 rfl rfl)
theorem dX13_latency_46 : decode cX13_latency 46 = .ok (.iload_n 3, 1) := dk_29 (dk_at dksX13_latency_1 22 rfl rfl)
theorem dX13_latency_47 : decode cX13_latency 47 = .ok (.ireturn, 1) := dk_172 (dk_at dksX13_latency_1 23 rfl rfl)
abbrev cX13_isNoKind : ByteArray := prog_17_method_11_code
def yX13_isNoKind : MethodName := ⟨RX13, "isNoKind", "(I)Z"⟩
def dkwX13_isNoKind_0 : List UInt8 := [26, 3, 16, 7, 184, 0, 42, 154, 0, 7, 4, 167, 0, 4, 3, 172]
abbrev dktX13_isNoKind_0 : List UInt8 := dkwX13_isNoKind_0 ++ []
theorem dksX13_isNoKind_0 : cX13_isNoKind.data.toList.drop 0 = dktX13_isNoKind_0 := by decide +kernel
theorem dX13_isNoKind_0 : decode cX13_isNoKind 0 = .ok (.iload_n 0, 1) := dk_26 (dk_at dksX13_isNoKind_0 0 rfl rfl)
theorem dX13_isNoKind_1 : decode cX13_isNoKind 1 = .ok (.iconst 0, 1) := dk_3 (dk_at dksX13_isNoKind_0 1 rfl rfl)
theorem dX13_isNoKind_2 : decode cX13_isNoKind 2 = .ok (.bipush 7, 2) := dk_16 7 (dk_at dksX13_isNoKind_0 2 rfl rfl)
theorem dX13_isNoKind_4 : decode cX13_isNoKind 4 = .ok (.invokestatic 42, 3) := dk_184 0 42 (dk_at dksX13_isNoKind_0 4 rfl rfl)
theorem dX13_isNoKind_7 : decode cX13_isNoKind 7 = .ok (.ifCond .ne 7, 3) := dk_154 0 7 (dk_at dksX13_isNoKind_0 7 rfl rfl)
theorem dX13_isNoKind_10 : decode cX13_isNoKind 10 = .ok (.iconst 1, 1) := dk_4 (dk_at dksX13_isNoKind_0 10 rfl rfl)
theorem dX13_isNoKind_11 : decode cX13_isNoKind 11 = .ok (.goto 4, 3) := dk_167 0 4 (dk_at dksX13_isNoKind_0 11 rfl rfl)
theorem dX13_isNoKind_14 : decode cX13_isNoKind 14 = .ok (.iconst 0, 1) := dk_3 (dk_at dksX13_isNoKind_0 14 rfl rfl)
theorem dX13_isNoKind_15 : decode cX13_isNoKind 15 = .ok (.ireturn, 1) := dk_172 (dk_at dksX13_isNoKind_0 15 rfl rfl)
abbrev cX13_isNoLatency : ByteArray := prog_17_method_12_code
def yX13_isNoLatency : MethodName := ⟨RX13, "isNoLatency", "(I)Z"⟩
def dkwX13_isNoLatency_0 : List UInt8 := [26, 4, 16, 9, 184, 0, 42, 154, 0, 7, 4, 167, 0, 4, 3, 172]
abbrev dktX13_isNoLatency_0 : List UInt8 := dkwX13_isNoLatency_0 ++ []
theorem dksX13_isNoLatency_0 : cX13_isNoLatency.data.toList.drop 0 = dktX13_isNoLatency_0 := by decide +kernel
theorem dX13_isNoLatency_0 : decode cX13_isNoLatency 0 = .ok (.iload_n 0, 1) := dk_26 (dk_at dksX13_isNoLatency_0 0 rfl rfl)
theorem dX13_isNoLatency_1 : decode cX13_isNoLatency 1 = .ok (.iconst 1, 1) := dk_4 (dk_at dksX13_isNoLatency_0 1 rfl rfl)
theorem dX13_isNoLatency_2 : decode cX13_isNoLatency 2 = .ok (.bipush 9, 2) := dk_16 9 (dk_at dksX13_isNoLatency_0 2 rfl rfl)
theorem dX13_isNoLatency_4 : decode cX13_isNoLatency 4 = .ok (.invokestatic 42, 3) := dk_184 0 42 (dk_at dksX13_isNoLatency_0 4 rfl rfl)
theorem dX13_isNoLatency_7 : decode cX13_isNoLatency 7 = .ok (.ifCond .ne 7, 3) := dk_154 0 7 (dk_at dksX13_isNoLatency_0 7 rfl rfl)
theorem dX13_isNoLatency_10 : decode cX13_isNoLatency 10 = .ok (.iconst 1, 1) := dk_4 (dk_at dksX13_isNoLatency_0 10 rfl rfl)
theorem dX13_isNoLatency_11 : decode cX13_isNoLatency 11 = .ok (.goto 4, 3) := dk_167 0 4 (dk_at dksX13_isNoLatency_0 11 rfl rfl)
theorem dX13_isNoLatency_14 : decode cX13_isNoLatency 14 = .ok (.iconst 0, 1) := dk_3 (dk_at dksX13_isNoLatency_0 14 rfl rfl)
theorem dX13_isNoLatency_15 : decode cX13_isNoLatency 15 = .ok (.ireturn, 1) := dk_172 (dk_at dksX13_isNoLatency_0 15 rfl rfl)
abbrev cX13_node : ByteArray := prog_17_method_16_code
def yX13_node : MethodName := ⟨RX13, "node", "(III)I"⟩
def dkwX13_node_5 : List UInt8 := [182, 0, 71, 4, 100, 172]
abbrev dktX13_node_5 : List UInt8 := dkwX13_node_5 ++ []
def dkwX13_node_4 : List UInt8 := [181, 0, 81, 42, 180, 0, 10, 29, 182, 0, 77, 4, 181, 0, 81, 42, 180, 0, 10, 180, 0, 67]
abbrev dktX13_node_4 : List UInt8 := dkwX13_node_4 ++ dktX13_node_5
def dkwX13_node_3 : List UInt8 := [25, 4, 182, 0, 96, 87, 25, 4, 182, 0, 100, 153, 0, 27, 42, 180, 0, 10, 28, 182, 0, 77, 4]
abbrev dktX13_node_3 : List UInt8 := dkwX13_node_3 ++ dktX13_node_4
def dkwX13_node_2 : List UInt8 := [153, 0, 5, 3, 172, 187, 0, 82, 89, 27, 28, 29, 183, 0, 93, 58, 4, 42, 180, 0, 10, 180, 0, 67]
abbrev dktX13_node_2 : List UInt8 := dkwX13_node_2 ++ dktX13_node_3
def dkwX13_node_1 : List UInt8 := [42, 180, 0, 10, 180, 0, 67, 182, 0, 71, 16, 80, 160, 0, 7, 4, 167, 0, 4, 3, 5, 182, 0, 29]
abbrev dktX13_node_1 : List UInt8 := dkwX13_node_1 ++ dktX13_node_2
def dkwX13_node_0 : List UInt8 := [42, 42, 27, 28, 29, 182, 0, 90, 154, 0, 7, 4, 167, 0, 4, 3, 4, 182, 0, 50, 154, 0, 31, 42]
abbrev dktX13_node_0 : List UInt8 := dkwX13_node_0 ++ dktX13_node_1
theorem dksX13_node_0 : cX13_node.data.toList.drop 0 = dktX13_node_0 := by decide +kernel
theorem dksX13_node_1 : cX13_node.data.toList.drop 24 = dktX13_node_1 := dk_seg dksX13_node_0 24 rfl rfl
theorem dksX13_node_2 : cX13_node.data.toList.drop 48 = dktX13_node_2 := dk_seg dksX13_node_1 24 rfl rfl
theorem dksX13_node_3 : cX13_node.data.toList.drop 72 = dktX13_node_3 := dk_seg dksX13_node_2 24 rfl rfl
theorem dksX13_node_4 : cX13_node.data.toList.drop 95 = dktX13_node_4 := dk_seg dksX13_node_3 23 rfl rfl
theorem dksX13_node_5 : cX13_node.data.toList.drop 117 = dktX13_node_5 := dk_seg dksX13_node_4 22 rfl rfl
theorem dX13_node_0 : decode cX13_node 0 = .ok (.aload_n 0, 1) := dk_42 (dk_at dksX13_node_0 0 rfl rfl)
theorem dX13_node_1 : decode cX13_node 1 = .ok (.aload_n 0, 1) := dk_42 (dk_at dksX13_node_0 1 rfl rfl)
theorem dX13_node_2 : decode cX13_node 2 = .ok (.iload_n 1, 1) := dk_27 (dk_at dksX13_node_0 2 rfl rfl)
theorem dX13_node_3 : decode cX13_node 3 = .ok (.iload_n 2, 1) := dk_28 (dk_at dksX13_node_0 3 rfl rfl)
theorem dX13_node_4 : decode cX13_node 4 = .ok (.iload_n 3, 1) := dk_29 (dk_at dksX13_node_0 4 rfl rfl)
theorem dX13_node_5 : decode cX13_node 5 = .ok (.invokevirtual 90, 3) := dk_182 0 90 (dk_at dksX13_node_0 5 rfl rfl)
theorem dX13_node_8 : decode cX13_node 8 = .ok (.ifCond .ne 7, 3) := dk_154 0 7 (dk_at dksX13_node_0 8 rfl rfl)
theorem dX13_node_11 : decode cX13_node 11 = .ok (.iconst 1, 1) := dk_4 (dk_at dksX13_node_0 11 rfl rfl)
theorem dX13_node_12 : decode cX13_node 12 = .ok (.goto 4, 3) := dk_167 0 4 (dk_at dksX13_node_0 12 rfl rfl)
theorem dX13_node_15 : decode cX13_node 15 = .ok (.iconst 0, 1) := dk_3 (dk_at dksX13_node_0 15 rfl rfl)
theorem dX13_node_16 : decode cX13_node 16 = .ok (.iconst 1, 1) := dk_4 (dk_at dksX13_node_0 16 rfl rfl)
theorem dX13_node_17 : decode cX13_node 17 = .ok (.invokevirtual 50, 3) := dk_182 0 50 (dk_at dksX13_node_0 17 rfl rfl)
theorem dX13_node_20 : decode cX13_node 20 = .ok (.ifCond .ne 31, 3) := dk_154 0 31 (dk_at dksX13_node_0 20 rfl rfl)
theorem dX13_node_23 : decode cX13_node 23 = .ok (.aload_n 0, 1) := dk_42 (dk_at dksX13_node_0 23 rfl rfl)
theorem dX13_node_24 : decode cX13_node 24 = .ok (.aload_n 0, 1) := dk_42 (dk_at dksX13_node_1 0 rfl rfl)
theorem dX13_node_25 : decode cX13_node 25 = .ok (.getfield 10, 3) := dk_180 0 10 (dk_at dksX13_node_1 1 rfl rfl)
theorem dX13_node_28 : decode cX13_node 28 = .ok (.getfield 67, 3) := dk_180 0 67 (dk_at dksX13_node_1 4 rfl rfl)
theorem dX13_node_31 : decode cX13_node 31 = .ok (.invokevirtual 71, 3) := dk_182 0 71 (dk_at dksX13_node_1 7 rfl rfl)
theorem dX13_node_34 : decode cX13_node 34 = .ok (.bipush 80, 2) := dk_16 80 (dk_at dksX13_node_1 10 rfl rfl)
theorem dX13_node_36 : decode cX13_node 36 = .ok (.if_icmp .ne 7, 3) := dk_160 0 7 (dk_at dksX13_node_1 12 rfl rfl)
theorem dX13_node_39 : decode cX13_node 39 = .ok (.iconst 1, 1) := dk_4 (dk_at dksX13_node_1 15 rfl rfl)
theorem dX13_node_40 : decode cX13_node 40 = .ok (.goto 4, 3) := dk_167 0 4 (dk_at dksX13_node_1 16 rfl rfl)
theorem dX13_node_43 : decode cX13_node 43 = .ok (.iconst 0, 1) := dk_3 (dk_at dksX13_node_1 19 rfl rfl)
theorem dX13_node_44 : decode cX13_node 44 = .ok (.iconst 2, 1) := dk_5 (dk_at dksX13_node_1 20 rfl rfl)
theorem dX13_node_45 : decode cX13_node 45 = .ok (.invokevirtual 29, 3) := dk_182 0 29 (dk_at dksX13_node_1 21 rfl rfl)
theorem dX13_node_48 : decode cX13_node 48 = .ok (.ifCond .eq 5, 3) := dk_153 0 5 (dk_at dksX13_node_2 0 rfl rfl)
theorem dX13_node_51 : decode cX13_node 51 = .ok (.iconst 0, 1) := dk_3 (dk_at dksX13_node_2 3 rfl rfl)
theorem dX13_node_52 : decode cX13_node 52 = .ok (.ireturn, 1) := dk_172 (dk_at dksX13_node_2 4 rfl rfl)
theorem dX13_node_53 : decode cX13_node 53 = .ok (.new 82, 3) := dk_187 0 82 (dk_at dksX13_node_2 5 rfl rfl)
theorem dX13_node_56 : decode cX13_node 56 = .ok (.dup, 1) := dk_89 (dk_at dksX13_node_2 8 rfl rfl)
theorem dX13_node_57 : decode cX13_node 57 = .ok (.iload_n 1, 1) := dk_27 (dk_at dksX13_node_2 9 rfl rfl)
theorem dX13_node_58 : decode cX13_node 58 = .ok (.iload_n 2, 1) := dk_28 (dk_at dksX13_node_2 10 rfl rfl)
theorem dX13_node_59 : decode cX13_node 59 = .ok (.iload_n 3, 1) := dk_29 (dk_at dksX13_node_2 11 rfl rfl)
theorem dX13_node_60 : decode cX13_node 60 = .ok (.invokespecial 93, 3) := dk_183 0 93 (dk_at dksX13_node_2 12 rfl rfl)
theorem dX13_node_63 : decode cX13_node 63 = .ok (.astore 4, 2) := dk_58 4 (dk_at dksX13_node_2 15 rfl rfl)
theorem dX13_node_65 : decode cX13_node 65 = .ok (.aload_n 0, 1) := dk_42 (dk_at dksX13_node_2 17 rfl rfl)
theorem dX13_node_66 : decode cX13_node 66 = .ok (.getfield 10, 3) := dk_180 0 10 (dk_at dksX13_node_2 18 rfl rfl)
theorem dX13_node_69 : decode cX13_node 69 = .ok (.getfield 67, 3) := dk_180 0 67 (dk_at dksX13_node_2 21 rfl rfl)
theorem dX13_node_72 : decode cX13_node 72 = .ok (.aload 4, 2) := dk_25 4 (dk_at dksX13_node_3 0 rfl rfl)
theorem dX13_node_74 : decode cX13_node 74 = .ok (.invokevirtual 96, 3) := dk_182 0 96 (dk_at dksX13_node_3 2 rfl rfl)
theorem dX13_node_77 : decode cX13_node 77 = .ok (.pop, 1) := dk_87 (dk_at dksX13_node_3 5 rfl rfl)
theorem dX13_node_78 : decode cX13_node 78 = .ok (.aload 4, 2) := dk_25 4 (dk_at dksX13_node_3 6 rfl rfl)
theorem dX13_node_80 : decode cX13_node 80 = .ok (.invokevirtual 100, 3) := dk_182 0 100 (dk_at dksX13_node_3 8 rfl rfl)
theorem dX13_node_83 : decode cX13_node 83 = .ok (.ifCond .eq 27, 3) := dk_153 0 27 (dk_at dksX13_node_3 11 rfl rfl)
theorem dX13_node_86 : decode cX13_node 86 = .ok (.aload_n 0, 1) := dk_42 (dk_at dksX13_node_3 14 rfl rfl)
theorem dX13_node_87 : decode cX13_node 87 = .ok (.getfield 10, 3) := dk_180 0 10 (dk_at dksX13_node_3 15 rfl rfl)
theorem dX13_node_90 : decode cX13_node 90 = .ok (.iload_n 2, 1) := dk_28 (dk_at dksX13_node_3 18 rfl rfl)
theorem dX13_node_91 : decode cX13_node 91 = .ok (.invokevirtual 77, 3) := dk_182 0 77 (dk_at dksX13_node_3 19 rfl rfl)
theorem dX13_node_94 : decode cX13_node 94 = .ok (.iconst 1, 1) := dk_4 (dk_at dksX13_node_3 22 rfl rfl)
theorem dX13_node_95 : decode cX13_node 95 = .ok (.putfield 81, 3) := dk_181 0 81 (dk_at dksX13_node_4 0 rfl rfl)
theorem dX13_node_98 : decode cX13_node 98 = .ok (.aload_n 0, 1) := dk_42 (dk_at dksX13_node_4 3 rfl rfl)
theorem dX13_node_99 : decode cX13_node 99 = .ok (.getfield 10, 3) := dk_180 0 10 (dk_at dksX13_node_4 4 rfl rfl)
theorem dX13_node_102 : decode cX13_node 102 = .ok (.iload_n 3, 1) := dk_29 (dk_at dksX13_node_4 7 rfl rfl)
theorem dX13_node_103 : decode cX13_node 103 = .ok (.invokevirtual 77, 3) := dk_182 0 77 (dk_at dksX13_node_4 8 rfl rfl)
theorem dX13_node_106 : decode cX13_node 106 = .ok (.iconst 1, 1) := dk_4 (dk_at dksX13_node_4 11 rfl rfl)
theorem dX13_node_107 : decode cX13_node 107 = .ok (.putfield 81, 3) := dk_181 0 81 (dk_at dksX13_node_4 12 rfl rfl)
theorem dX13_node_110 : decode cX13_node 110 = .ok (.aload_n 0, 1) := dk_42 (dk_at dksX13_node_4 15 rfl rfl)
theorem dX13_node_111 : decode cX13_node 111 = .ok (.getfield 10, 3) := dk_180 0 10 (dk_at dksX13_node_4 16 rfl rfl)
theorem dX13_node_114 : decode cX13_node 114 = .ok (.getfield 67, 3) := dk_180 0 67 (dk_at dksX13_node_4 19 rfl rfl)
theorem dX13_node_117 : decode cX13_node 117 = .ok (.invokevirtual 71, 3) := dk_182 0 71 (dk_at dksX13_node_5 0 rfl rfl)
theorem dX13_node_120 : decode cX13_node 120 = .ok (.iconst 1, 1) := dk_4 (dk_at dksX13_node_5 3 rfl rfl)
theorem dX13_node_121 : decode cX13_node 121 = .ok (.isub, 1) := dk_100 (dk_at dksX13_node_5 4 rfl rfl)
theorem dX13_node_122 : decode cX13_node 122 = .ok (.ireturn, 1) := dk_172 (dk_at dksX13_node_5 5 rfl rfl)
abbrev cX13_isNode : ByteArray := prog_17_method_15_code
def yX13_isNode : MethodName := ⟨RX13, "isNode", "(III)Z"⟩
def dkwX13_isNode_3 : List UInt8 := [29, 182, 0, 87, 153, 0, 12, 28, 29, 159, 0, 7, 4, 167, 0, 4, 3, 172]
abbrev dktX13_isNode_3 : List UInt8 := dkwX13_isNode_3 ++ []
def dkwX13_isNode_2 : List UInt8 := [4, 167, 0, 4, 3, 172, 27, 5, 8, 184, 0, 42, 153, 0, 28, 42, 28, 182, 0, 87, 153, 0, 20, 42]
abbrev dktX13_isNode_2 : List UInt8 := dkwX13_isNode_2 ++ dktX13_isNode_3
def dkwX13_isNode_1 : List UInt8 := [167, 0, 4, 3, 172, 27, 4, 160, 0, 23, 28, 3, 16, 7, 184, 0, 42, 153, 0, 11, 29, 154, 0, 7]
abbrev dktX13_isNode_1 : List UInt8 := dkwX13_isNode_1 ++ dktX13_isNode_2
def dkwX13_isNode_0 : List UInt8 := [27, 154, 0, 26, 28, 17, 252, 25, 17, 3, 231, 184, 0, 42, 153, 0, 11, 29, 154, 0, 7, 4]
abbrev dktX13_isNode_0 : List UInt8 := dkwX13_isNode_0 ++ dktX13_isNode_1
theorem dksX13_isNode_0 : cX13_isNode.data.toList.drop 0 = dktX13_isNode_0 := by decide +kernel
theorem dksX13_isNode_1 : cX13_isNode.data.toList.drop 22 = dktX13_isNode_1 := dk_seg dksX13_isNode_0 22 rfl rfl
theorem dksX13_isNode_2 : cX13_isNode.data.toList.drop 46 = dktX13_isNode_2 := dk_seg dksX13_isNode_1 24 rfl rfl
theorem dksX13_isNode_3 : cX13_isNode.data.toList.drop 70 = dktX13_isNode_3 := dk_seg dksX13_isNode_2 24 rfl rfl
theorem dX13_isNode_0 : decode cX13_isNode 0 = .ok (.iload_n 1, 1) := dk_27 (dk_at dksX13_isNode_0 0 rfl rfl)
theorem dX13_isNode_1 : decode cX13_isNode 1 = .ok (.ifCond .ne 26, 3) := dk_154 0 26 (dk_at dksX13_isNode_0 1 rfl rfl)
theorem dX13_isNode_4 : decode cX13_isNode 4 = .ok (.iload_n 2, 1) := dk_28 (dk_at dksX13_isNode_0 4 rfl rfl)
theorem dX13_isNode_5 : decode cX13_isNode 5 = .ok (.sipush (-999), 3) := dk_17 252 25 (dk_at dksX13_isNode_0 5 rfl rfl)
theorem dX13_isNode_8 : decode cX13_isNode 8 = .ok (.sipush 999, 3) := dk_17 3 231 (dk_at dksX13_isNode_0 8 rfl rfl)
theorem dX13_isNode_11 : decode cX13_isNode 11 = .ok (.invokestatic 42, 3) := dk_184 0 42 (dk_at dksX13_isNode_0 11 rfl rfl)
theorem dX13_isNode_14 : decode cX13_isNode 14 = .ok (.ifCond .eq 11, 3) := dk_153 0 11 (dk_at dksX13_isNode_0 14 rfl rfl)
theorem dX13_isNode_17 : decode cX13_isNode 17 = .ok (.iload_n 3, 1) := dk_29 (dk_at dksX13_isNode_0 17 rfl rfl)
theorem dX13_isNode_18 : decode cX13_isNode 18 = .ok (.ifCond .ne 7, 3) := dk_154 0 7 (dk_at dksX13_isNode_0 18 rfl rfl)
theorem dX13_isNode_21 : decode cX13_isNode 21 = .ok (.iconst 1, 1) := dk_4 (dk_at dksX13_isNode_0 21 rfl rfl)
theorem dX13_isNode_22 : decode cX13_isNode 22 = .ok (.goto 4, 3) := dk_167 0 4 (dk_at dksX13_isNode_1 0 rfl rfl)
theorem dX13_isNode_25 : decode cX13_isNode 25 = .ok (.iconst 0, 1) := dk_3 (dk_at dksX13_isNode_1 3 rfl rfl)
theorem dX13_isNode_26 : decode cX13_isNode 26 = .ok (.ireturn, 1) := dk_172 (dk_at dksX13_isNode_1 4 rfl rfl)
theorem dX13_isNode_27 : decode cX13_isNode 27 = .ok (.iload_n 1, 1) := dk_27 (dk_at dksX13_isNode_1 5 rfl rfl)
theorem dX13_isNode_28 : decode cX13_isNode 28 = .ok (.iconst 1, 1) := dk_4 (dk_at dksX13_isNode_1 6 rfl rfl)
theorem dX13_isNode_29 : decode cX13_isNode 29 = .ok (.if_icmp .ne 23, 3) := dk_160 0 23 (dk_at dksX13_isNode_1 7 rfl rfl)
theorem dX13_isNode_32 : decode cX13_isNode 32 = .ok (.iload_n 2, 1) := dk_28 (dk_at dksX13_isNode_1 10 rfl rfl)
theorem dX13_isNode_33 : decode cX13_isNode 33 = .ok (.iconst 0, 1) := dk_3 (dk_at dksX13_isNode_1 11 rfl rfl)
theorem dX13_isNode_34 : decode cX13_isNode 34 = .ok (.bipush 7, 2) := dk_16 7 (dk_at dksX13_isNode_1 12 rfl rfl)
theorem dX13_isNode_36 : decode cX13_isNode 36 = .ok (.invokestatic 42, 3) := dk_184 0 42 (dk_at dksX13_isNode_1 14 rfl rfl)
theorem dX13_isNode_39 : decode cX13_isNode 39 = .ok (.ifCond .eq 11, 3) := dk_153 0 11 (dk_at dksX13_isNode_1 17 rfl rfl)
theorem dX13_isNode_42 : decode cX13_isNode 42 = .ok (.iload_n 3, 1) := dk_29 (dk_at dksX13_isNode_1 20 rfl rfl)
theorem dX13_isNode_43 : decode cX13_isNode 43 = .ok (.ifCond .ne 7, 3) := dk_154 0 7 (dk_at dksX13_isNode_1 21 rfl rfl)
theorem dX13_isNode_46 : decode cX13_isNode 46 = .ok (.iconst 1, 1) := dk_4 (dk_at dksX13_isNode_2 0 rfl rfl)
theorem dX13_isNode_47 : decode cX13_isNode 47 = .ok (.goto 4, 3) := dk_167 0 4 (dk_at dksX13_isNode_2 1 rfl rfl)
theorem dX13_isNode_50 : decode cX13_isNode 50 = .ok (.iconst 0, 1) := dk_3 (dk_at dksX13_isNode_2 4 rfl rfl)
theorem dX13_isNode_51 : decode cX13_isNode 51 = .ok (.ireturn, 1) := dk_172 (dk_at dksX13_isNode_2 5 rfl rfl)
theorem dX13_isNode_52 : decode cX13_isNode 52 = .ok (.iload_n 1, 1) := dk_27 (dk_at dksX13_isNode_2 6 rfl rfl)
theorem dX13_isNode_53 : decode cX13_isNode 53 = .ok (.iconst 2, 1) := dk_5 (dk_at dksX13_isNode_2 7 rfl rfl)
theorem dX13_isNode_54 : decode cX13_isNode 54 = .ok (.iconst 5, 1) := dk_8 (dk_at dksX13_isNode_2 8 rfl rfl)
theorem dX13_isNode_55 : decode cX13_isNode 55 = .ok (.invokestatic 42, 3) := dk_184 0 42 (dk_at dksX13_isNode_2 9 rfl rfl)
theorem dX13_isNode_58 : decode cX13_isNode 58 = .ok (.ifCond .eq 28, 3) := dk_153 0 28 (dk_at dksX13_isNode_2 12 rfl rfl)
theorem dX13_isNode_61 : decode cX13_isNode 61 = .ok (.aload_n 0, 1) := dk_42 (dk_at dksX13_isNode_2 15 rfl rfl)
theorem dX13_isNode_62 : decode cX13_isNode 62 = .ok (.iload_n 2, 1) := dk_28 (dk_at dksX13_isNode_2 16 rfl rfl)
theorem dX13_isNode_63 : decode cX13_isNode 63 = .ok (.invokevirtual 87, 3) := dk_182 0 87 (dk_at dksX13_isNode_2 17 rfl rfl)
theorem dX13_isNode_66 : decode cX13_isNode 66 = .ok (.ifCond .eq 20, 3) := dk_153 0 20 (dk_at dksX13_isNode_2 20 rfl rfl)
theorem dX13_isNode_69 : decode cX13_isNode 69 = .ok (.aload_n 0, 1) := dk_42 (dk_at dksX13_isNode_2 23 rfl rfl)
theorem dX13_isNode_70 : decode cX13_isNode 70 = .ok (.iload_n 3, 1) := dk_29 (dk_at dksX13_isNode_3 0 rfl rfl)
theorem dX13_isNode_71 : decode cX13_isNode 71 = .ok (.invokevirtual 87, 3) := dk_182 0 87 (dk_at dksX13_isNode_3 1 rfl rfl)
theorem dX13_isNode_74 : decode cX13_isNode 74 = .ok (.ifCond .eq 12, 3) := dk_153 0 12 (dk_at dksX13_isNode_3 4 rfl rfl)
theorem dX13_isNode_77 : decode cX13_isNode 77 = .ok (.iload_n 2, 1) := dk_28 (dk_at dksX13_isNode_3 7 rfl rfl)
theorem dX13_isNode_78 : decode cX13_isNode 78 = .ok (.iload_n 3, 1) := dk_29 (dk_at dksX13_isNode_3 8 rfl rfl)
theorem dX13_isNode_79 : decode cX13_isNode 79 = .ok (.if_icmp .eq 7, 3) := dk_159 0 7 (dk_at dksX13_isNode_3 9 rfl rfl)
theorem dX13_isNode_82 : decode cX13_isNode 82 = .ok (.iconst 1, 1) := dk_4 (dk_at dksX13_isNode_3 12 rfl rfl)
theorem dX13_isNode_83 : decode cX13_isNode 83 = .ok (.goto 4, 3) := dk_167 0 4 (dk_at dksX13_isNode_3 13 rfl rfl)
theorem dX13_isNode_86 : decode cX13_isNode 86 = .ok (.iconst 0, 1) := dk_3 (dk_at dksX13_isNode_3 16 rfl rfl)
theorem dX13_isNode_87 : decode cX13_isNode 87 = .ok (.ireturn, 1) := dk_172 (dk_at dksX13_isNode_3 17 rfl rfl)
abbrev cX13_isFree : ByteArray := prog_17_method_14_code
def yX13_isFree : MethodName := ⟨RX13, "isFree", "(I)Z"⟩
def dkwX13_isFree_1 : List UInt8 := [27, 182, 0, 77, 180, 0, 81, 154, 0, 7, 4, 167, 0, 4, 3, 172]
abbrev dktX13_isFree_1 : List UInt8 := dkwX13_isFree_1 ++ []
def dkwX13_isFree_0 : List UInt8 := [27, 3, 42, 180, 0, 10, 180, 0, 67, 182, 0, 71, 4, 100, 184, 0, 42, 153, 0, 21, 42, 180, 0, 10]
abbrev dktX13_isFree_0 : List UInt8 := dkwX13_isFree_0 ++ dktX13_isFree_1
theorem dksX13_isFree_0 : cX13_isFree.data.toList.drop 0 = dktX13_isFree_0 := by decide +kernel
theorem dksX13_isFree_1 : cX13_isFree.data.toList.drop 24 = dktX13_isFree_1 := dk_seg dksX13_isFree_0 24 rfl rfl
theorem dX13_isFree_0 : decode cX13_isFree 0 = .ok (.iload_n 1, 1) := dk_27 (dk_at dksX13_isFree_0 0 rfl rfl)
theorem dX13_isFree_1 : decode cX13_isFree 1 = .ok (.iconst 0, 1) := dk_3 (dk_at dksX13_isFree_0 1 rfl rfl)
theorem dX13_isFree_2 : decode cX13_isFree 2 = .ok (.aload_n 0, 1) := dk_42 (dk_at dksX13_isFree_0 2 rfl rfl)
theorem dX13_isFree_3 : decode cX13_isFree 3 = .ok (.getfield 10, 3) := dk_180 0 10 (dk_at dksX13_isFree_0 3 rfl rfl)
theorem dX13_isFree_6 : decode cX13_isFree 6 = .ok (.getfield 67, 3) := dk_180 0 67 (dk_at dksX13_isFree_0 6 rfl rfl)
theorem dX13_isFree_9 : decode cX13_isFree 9 = .ok (.invokevirtual 71, 3) := dk_182 0 71 (dk_at dksX13_isFree_0 9 rfl rfl)
theorem dX13_isFree_12 : decode cX13_isFree 12 = .ok (.iconst 1, 1) := dk_4 (dk_at dksX13_isFree_0 12 rfl rfl)
theorem dX13_isFree_13 : decode cX13_isFree 13 = .ok (.isub, 1) := dk_100 (dk_at dksX13_isFree_0 13 rfl rfl)
theorem dX13_isFree_14 : decode cX13_isFree 14 = .ok (.invokestatic 42, 3) := dk_184 0 42 (dk_at dksX13_isFree_0 14 rfl rfl)
theorem dX13_isFree_17 : decode cX13_isFree 17 = .ok (.ifCond .eq 21, 3) := dk_153 0 21 (dk_at dksX13_isFree_0 17 rfl rfl)
theorem dX13_isFree_20 : decode cX13_isFree 20 = .ok (.aload_n 0, 1) := dk_42 (dk_at dksX13_isFree_0 20 rfl rfl)
theorem dX13_isFree_21 : decode cX13_isFree 21 = .ok (.getfield 10, 3) := dk_180 0 10 (dk_at dksX13_isFree_0 21 rfl rfl)
theorem dX13_isFree_24 : decode cX13_isFree 24 = .ok (.iload_n 1, 1) := dk_27 (dk_at dksX13_isFree_1 0 rfl rfl)
theorem dX13_isFree_25 : decode cX13_isFree 25 = .ok (.invokevirtual 77, 3) := dk_182 0 77 (dk_at dksX13_isFree_1 1 rfl rfl)
theorem dX13_isFree_28 : decode cX13_isFree 28 = .ok (.getfield 81, 3) := dk_180 0 81 (dk_at dksX13_isFree_1 4 rfl rfl)
theorem dX13_isFree_31 : decode cX13_isFree 31 = .ok (.ifCond .ne 7, 3) := dk_154 0 7 (dk_at dksX13_isFree_1 7 rfl rfl)
theorem dX13_isFree_34 : decode cX13_isFree 34 = .ok (.iconst 1, 1) := dk_4 (dk_at dksX13_isFree_1 10 rfl rfl)
theorem dX13_isFree_35 : decode cX13_isFree 35 = .ok (.goto 4, 3) := dk_167 0 4 (dk_at dksX13_isFree_1 11 rfl rfl)
theorem dX13_isFree_38 : decode cX13_isFree 38 = .ok (.iconst 0, 1) := dk_3 (dk_at dksX13_isFree_1 14 rfl rfl)
theorem dX13_isFree_39 : decode cX13_isFree 39 = .ok (.ireturn, 1) := dk_172 (dk_at dksX13_isFree_1 15 rfl rfl)
abbrev cX13_statement : ByteArray := prog_17_method_21_code
def yX13_statement : MethodName := ⟨RX13, "statement", "(III)I"⟩
def dkwX13_statement_5 : List UInt8 := [181, 0, 81, 42, 180, 0, 10, 180, 0, 104, 27, 182, 0, 132, 192, 0, 72, 182, 0, 71, 172]
abbrev dktX13_statement_5 : List UInt8 := dkwX13_statement_5 ++ []
def dkwX13_statement_4 : List UInt8 := [188, 10, 89, 3, 28, 79, 89, 4, 29, 79, 182, 0, 96, 87, 42, 180, 0, 10, 29, 182, 0, 77, 4]
abbrev dktX13_statement_4 : List UInt8 := dkwX13_statement_4 ++ dktX13_statement_5
def dkwX13_statement_3 : List UInt8 := [182, 0, 29, 153, 0, 5, 3, 172, 42, 180, 0, 10, 180, 0, 104, 27, 182, 0, 132, 192, 0, 72, 5]
abbrev dktX13_statement_3 : List UInt8 := dkwX13_statement_3 ++ dktX13_statement_4
def dkwX13_statement_2 : List UInt8 := [182, 0, 29, 154, 0, 25, 42, 42, 182, 0, 129, 16, 24, 160, 0, 7, 4, 167, 0, 4, 3, 6]
abbrev dktX13_statement_2 : List UInt8 := dkwX13_statement_2 ++ dktX13_statement_3
def dkwX13_statement_1 : List UInt8 := [167, 0, 4, 3, 4, 182, 0, 50, 154, 0, 44, 42, 42, 180, 0, 10, 29, 182, 0, 77, 180, 0, 81, 5]
abbrev dktX13_statement_1 : List UInt8 := dkwX13_statement_1 ++ dktX13_statement_2
def dkwX13_statement_0 : List UInt8 := [42, 27, 184, 0, 120, 154, 0, 18, 28, 184, 0, 123, 154, 0, 11, 42, 29, 182, 0, 126, 153, 0, 7, 4]
abbrev dktX13_statement_0 : List UInt8 := dkwX13_statement_0 ++ dktX13_statement_1
theorem dksX13_statement_0 : cX13_statement.data.toList.drop 0 = dktX13_statement_0 := by decide +kernel
theorem dksX13_statement_1 : cX13_statement.data.toList.drop 24 = dktX13_statement_1 := dk_seg dksX13_statement_0 24 rfl rfl
theorem dksX13_statement_2 : cX13_statement.data.toList.drop 48 = dktX13_statement_2 := dk_seg dksX13_statement_1 24 rfl rfl
theorem dksX13_statement_3 : cX13_statement.data.toList.drop 70 = dktX13_statement_3 := dk_seg dksX13_statement_2 22 rfl rfl
theorem dksX13_statement_4 : cX13_statement.data.toList.drop 93 = dktX13_statement_4 := dk_seg dksX13_statement_3 23 rfl rfl
theorem dksX13_statement_5 : cX13_statement.data.toList.drop 116 = dktX13_statement_5 := dk_seg dksX13_statement_4 23 rfl rfl
theorem dX13_statement_0 : decode cX13_statement 0 = .ok (.aload_n 0, 1) := dk_42 (dk_at dksX13_statement_0 0 rfl rfl)
theorem dX13_statement_1 : decode cX13_statement 1 = .ok (.iload_n 1, 1) := dk_27 (dk_at dksX13_statement_0 1 rfl rfl)
theorem dX13_statement_2 : decode cX13_statement 2 = .ok (.invokestatic 120, 3) := dk_184 0 120 (dk_at dksX13_statement_0 2 rfl rfl)
theorem dX13_statement_5 : decode cX13_statement 5 = .ok (.ifCond .ne 18, 3) := dk_154 0 18 (dk_at dksX13_statement_0 5 rfl rfl)
theorem dX13_statement_8 : decode cX13_statement 8 = .ok (.iload_n 2, 1) := dk_28 (dk_at dksX13_statement_0 8 rfl rfl)
theorem dX13_statement_9 : decode cX13_statement 9 = .ok (.invokestatic 123, 3) := dk_184 0 123 (dk_at dksX13_statement_0 9 rfl rfl)
theorem dX13_statement_12 : decode cX13_statement 12 = .ok (.ifCond .ne 11, 3) := dk_154 0 11 (dk_at dksX13_statement_0 12 rfl rfl)
theorem dX13_statement_15 : decode cX13_statement 15 = .ok (.aload_n 0, 1) := dk_42 (dk_at dksX13_statement_0 15 rfl rfl)
theorem dX13_statement_16 : decode cX13_statement 16 = .ok (.iload_n 3, 1) := dk_29 (dk_at dksX13_statement_0 16 rfl rfl)
theorem dX13_statement_17 : decode cX13_statement 17 = .ok (.invokevirtual 126, 3) := dk_182 0 126 (dk_at dksX13_statement_0 17 rfl rfl)
theorem dX13_statement_20 : decode cX13_statement 20 = .ok (.ifCond .eq 7, 3) := dk_153 0 7 (dk_at dksX13_statement_0 20 rfl rfl)
theorem dX13_statement_23 : decode cX13_statement 23 = .ok (.iconst 1, 1) := dk_4 (dk_at dksX13_statement_0 23 rfl rfl)
theorem dX13_statement_24 : decode cX13_statement 24 = .ok (.goto 4, 3) := dk_167 0 4 (dk_at dksX13_statement_1 0 rfl rfl)
theorem dX13_statement_27 : decode cX13_statement 27 = .ok (.iconst 0, 1) := dk_3 (dk_at dksX13_statement_1 3 rfl rfl)
theorem dX13_statement_28 : decode cX13_statement 28 = .ok (.iconst 1, 1) := dk_4 (dk_at dksX13_statement_1 4 rfl rfl)
theorem dX13_statement_29 : decode cX13_statement 29 = .ok (.invokevirtual 50, 3) := dk_182 0 50 (dk_at dksX13_statement_1 5 rfl rfl)
theorem dX13_statement_32 : decode cX13_statement 32 = .ok (.ifCond .ne 44, 3) := dk_154 0 44 (dk_at dksX13_statement_1 8 rfl rfl)
theorem dX13_statement_35 : decode cX13_statement 35 = .ok (.aload_n 0, 1) := dk_42 (dk_at dksX13_statement_1 11 rfl rfl)
theorem dX13_statement_36 : decode cX13_statement 36 = .ok (.aload_n 0, 1) := dk_42 (dk_at dksX13_statement_1 12 rfl rfl)
theorem dX13_statement_37 : decode cX13_statement 37 = .ok (.getfield 10, 3) := dk_180 0 10 (dk_at dksX13_statement_1 13 rfl rfl)
theorem dX13_statement_40 : decode cX13_statement 40 = .ok (.iload_n 3, 1) := dk_29 (dk_at dksX13_statement_1 16 rfl rfl)
theorem dX13_statement_41 : decode cX13_statement 41 = .ok (.invokevirtual 77, 3) := dk_182 0 77 (dk_at dksX13_statement_1 17 rfl rfl)
theorem dX13_statement_44 : decode cX13_statement 44 = .ok (.getfield 81, 3) := dk_180 0 81 (dk_at dksX13_statement_1 20 rfl rfl)
theorem dX13_statement_47 : decode cX13_statement 47 = .ok (.iconst 2, 1) := dk_5 (dk_at dksX13_statement_1 23 rfl rfl)
theorem dX13_statement_48 : decode cX13_statement 48 = .ok (.invokevirtual 29, 3) := dk_182 0 29 (dk_at dksX13_statement_2 0 rfl rfl)
theorem dX13_statement_51 : decode cX13_statement 51 = .ok (.ifCond .ne 25, 3) := dk_154 0 25 (dk_at dksX13_statement_2 3 rfl rfl)
theorem dX13_statement_54 : decode cX13_statement 54 = .ok (.aload_n 0, 1) := dk_42 (dk_at dksX13_statement_2 6 rfl rfl)
theorem dX13_statement_55 : decode cX13_statement 55 = .ok (.aload_n 0, 1) := dk_42 (dk_at dksX13_statement_2 7 rfl rfl)
theorem dX13_statement_56 : decode cX13_statement 56 = .ok (.invokevirtual 129, 3) := dk_182 0 129 (dk_at dksX13_statement_2 8 rfl rfl)
theorem dX13_statement_59 : decode cX13_statement 59 = .ok (.bipush 24, 2) := dk_16 24 (dk_at dksX13_statement_2 11 rfl rfl)
theorem dX13_statement_61 : decode cX13_statement 61 = .ok (.if_icmp .ne 7, 3) := dk_160 0 7 (dk_at dksX13_statement_2 13 rfl rfl)
theorem dX13_statement_64 : decode cX13_statement 64 = .ok (.iconst 1, 1) := dk_4 (dk_at dksX13_statement_2 16 rfl rfl)
theorem dX13_statement_65 : decode cX13_statement 65 = .ok (.goto 4, 3) := dk_167 0 4 (dk_at dksX13_statement_2 17 rfl rfl)
theorem dX13_statement_68 : decode cX13_statement 68 = .ok (.iconst 0, 1) := dk_3 (dk_at dksX13_statement_2 20 rfl rfl)
theorem dX13_statement_69 : decode cX13_statement 69 = .ok (.iconst 3, 1) := dk_6 (dk_at dksX13_statement_2 21 rfl rfl)
theorem dX13_statement_70 : decode cX13_statement 70 = .ok (.invokevirtual 29, 3) := dk_182 0 29 (dk_at dksX13_statement_3 0 rfl rfl)
theorem dX13_statement_73 : decode cX13_statement 73 = .ok (.ifCond .eq 5, 3) := dk_153 0 5 (dk_at dksX13_statement_3 3 rfl rfl)
theorem dX13_statement_76 : decode cX13_statement 76 = .ok (.iconst 0, 1) := dk_3 (dk_at dksX13_statement_3 6 rfl rfl)
theorem dX13_statement_77 : decode cX13_statement 77 = .ok (.ireturn, 1) := dk_172 (dk_at dksX13_statement_3 7 rfl rfl)
theorem dX13_statement_78 : decode cX13_statement 78 = .ok (.aload_n 0, 1) := dk_42 (dk_at dksX13_statement_3 8 rfl rfl)
theorem dX13_statement_79 : decode cX13_statement 79 = .ok (.getfield 10, 3) := dk_180 0 10 (dk_at dksX13_statement_3 9 rfl rfl)
theorem dX13_statement_82 : decode cX13_statement 82 = .ok (.getfield 104, 3) := dk_180 0 104 (dk_at dksX13_statement_3 12 rfl rfl)
theorem dX13_statement_85 : decode cX13_statement 85 = .ok (.iload_n 1, 1) := dk_27 (dk_at dksX13_statement_3 15 rfl rfl)
theorem dX13_statement_86 : decode cX13_statement 86 = .ok (.invokevirtual 132, 3) := dk_182 0 132 (dk_at dksX13_statement_3 16 rfl rfl)
theorem dX13_statement_89 : decode cX13_statement 89 = .ok (.checkcast 72, 3) := dk_192 0 72 (dk_at dksX13_statement_3 19 rfl rfl)
theorem dX13_statement_92 : decode cX13_statement 92 = .ok (.iconst 2, 1) := dk_5 (dk_at dksX13_statement_3 22 rfl rfl)
theorem dX13_statement_93 : decode cX13_statement 93 = .ok (.newarray .int, 2) := dk_188_10 (dk_at dksX13_statement_4 0 rfl rfl)
theorem dX13_statement_95 : decode cX13_statement 95 = .ok (.dup, 1) := dk_89 (dk_at dksX13_statement_4 2 rfl rfl)
theorem dX13_statement_96 : decode cX13_statement 96 = .ok (.iconst 0, 1) := dk_3 (dk_at dksX13_statement_4 3 rfl rfl)
theorem dX13_statement_97 : decode cX13_statement 97 = .ok (.iload_n 2, 1) := dk_28 (dk_at dksX13_statement_4 4 rfl rfl)
theorem dX13_statement_98 : decode cX13_statement 98 = .ok (.iastore, 1) := dk_79 (dk_at dksX13_statement_4 5 rfl rfl)
theorem dX13_statement_99 : decode cX13_statement 99 = .ok (.dup, 1) := dk_89 (dk_at dksX13_statement_4 6 rfl rfl)
theorem dX13_statement_100 : decode cX13_statement 100 = .ok (.iconst 1, 1) := dk_4 (dk_at dksX13_statement_4 7 rfl rfl)
theorem dX13_statement_101 : decode cX13_statement 101 = .ok (.iload_n 3, 1) := dk_29 (dk_at dksX13_statement_4 8 rfl rfl)
theorem dX13_statement_102 : decode cX13_statement 102 = .ok (.iastore, 1) := dk_79 (dk_at dksX13_statement_4 9 rfl rfl)
theorem dX13_statement_103 : decode cX13_statement 103 = .ok (.invokevirtual 96, 3) := dk_182 0 96 (dk_at dksX13_statement_4 10 rfl rfl)
theorem dX13_statement_106 : decode cX13_statement 106 = .ok (.pop, 1) := dk_87 (dk_at dksX13_statement_4 13 rfl rfl)
theorem dX13_statement_107 : decode cX13_statement 107 = .ok (.aload_n 0, 1) := dk_42 (dk_at dksX13_statement_4 14 rfl rfl)
theorem dX13_statement_108 : decode cX13_statement 108 = .ok (.getfield 10, 3) := dk_180 0 10 (dk_at dksX13_statement_4 15 rfl rfl)
theorem dX13_statement_111 : decode cX13_statement 111 = .ok (.iload_n 3, 1) := dk_29 (dk_at dksX13_statement_4 18 rfl rfl)
theorem dX13_statement_112 : decode cX13_statement 112 = .ok (.invokevirtual 77, 3) := dk_182 0 77 (dk_at dksX13_statement_4 19 rfl rfl)
theorem dX13_statement_115 : decode cX13_statement 115 = .ok (.iconst 1, 1) := dk_4 (dk_at dksX13_statement_4 22 rfl rfl)
theorem dX13_statement_116 : decode cX13_statement 116 = .ok (.putfield 81, 3) := dk_181 0 81 (dk_at dksX13_statement_5 0 rfl rfl)
theorem dX13_statement_119 : decode cX13_statement 119 = .ok (.aload_n 0, 1) := dk_42 (dk_at dksX13_statement_5 3 rfl rfl)
theorem dX13_statement_120 : decode cX13_statement 120 = .ok (.getfield 10, 3) := dk_180 0 10 (dk_at dksX13_statement_5 4 rfl rfl)
theorem dX13_statement_123 : decode cX13_statement 123 = .ok (.getfield 104, 3) := dk_180 0 104 (dk_at dksX13_statement_5 7 rfl rfl)
theorem dX13_statement_126 : decode cX13_statement 126 = .ok (.iload_n 1, 1) := dk_27 (dk_at dksX13_statement_5 10 rfl rfl)
theorem dX13_statement_127 : decode cX13_statement 127 = .ok (.invokevirtual 132, 3) := dk_182 0 132 (dk_at dksX13_statement_5 11 rfl rfl)
theorem dX13_statement_130 : decode cX13_statement 130 = .ok (.checkcast 72, 3) := dk_192 0 72 (dk_at dksX13_statement_5 14 rfl rfl)
theorem dX13_statement_133 : decode cX13_statement 133 = .ok (.invokevirtual 71, 3) := dk_182 0 71 (dk_at dksX13_statement_5 17 rfl rfl)
theorem dX13_statement_136 : decode cX13_statement 136 = .ok (.ireturn, 1) := dk_172 (dk_at dksX13_statement_5 20 rfl rfl)
abbrev cX13_isNoBlock : ByteArray := prog_17_method_17_code
def yX13_isNoBlock : MethodName := ⟨RX13, "isNoBlock", "(I)Z"⟩
def dkwX13_isNoBlock_0 : List UInt8 := [26, 3, 6, 184, 0, 42, 154, 0, 7, 4, 167, 0, 4, 3, 172]
abbrev dktX13_isNoBlock_0 : List UInt8 := dkwX13_isNoBlock_0 ++ []
theorem dksX13_isNoBlock_0 : cX13_isNoBlock.data.toList.drop 0 = dktX13_isNoBlock_0 := by decide +kernel
theorem dX13_isNoBlock_0 : decode cX13_isNoBlock 0 = .ok (.iload_n 0, 1) := dk_26 (dk_at dksX13_isNoBlock_0 0 rfl rfl)
theorem dX13_isNoBlock_1 : decode cX13_isNoBlock 1 = .ok (.iconst 0, 1) := dk_3 (dk_at dksX13_isNoBlock_0 1 rfl rfl)
theorem dX13_isNoBlock_2 : decode cX13_isNoBlock 2 = .ok (.iconst 3, 1) := dk_6 (dk_at dksX13_isNoBlock_0 2 rfl rfl)
theorem dX13_isNoBlock_3 : decode cX13_isNoBlock 3 = .ok (.invokestatic 42, 3) := dk_184 0 42 (dk_at dksX13_isNoBlock_0 3 rfl rfl)
theorem dX13_isNoBlock_6 : decode cX13_isNoBlock 6 = .ok (.ifCond .ne 7, 3) := dk_154 0 7 (dk_at dksX13_isNoBlock_0 6 rfl rfl)
theorem dX13_isNoBlock_9 : decode cX13_isNoBlock 9 = .ok (.iconst 1, 1) := dk_4 (dk_at dksX13_isNoBlock_0 9 rfl rfl)
theorem dX13_isNoBlock_10 : decode cX13_isNoBlock 10 = .ok (.goto 4, 3) := dk_167 0 4 (dk_at dksX13_isNoBlock_0 10 rfl rfl)
theorem dX13_isNoBlock_13 : decode cX13_isNoBlock 13 = .ok (.iconst 0, 1) := dk_3 (dk_at dksX13_isNoBlock_0 13 rfl rfl)
theorem dX13_isNoBlock_14 : decode cX13_isNoBlock 14 = .ok (.ireturn, 1) := dk_172 (dk_at dksX13_isNoBlock_0 14 rfl rfl)
abbrev cX13_isNoVariable : ByteArray := prog_17_method_18_code
def yX13_isNoVariable : MethodName := ⟨RX13, "isNoVariable", "(I)Z"⟩
def dkwX13_isNoVariable_0 : List UInt8 := [26, 3, 16, 7, 184, 0, 42, 154, 0, 7, 4, 167, 0, 4, 3, 172]
abbrev dktX13_isNoVariable_0 : List UInt8 := dkwX13_isNoVariable_0 ++ []
theorem dksX13_isNoVariable_0 : cX13_isNoVariable.data.toList.drop 0 = dktX13_isNoVariable_0 := by decide +kernel
theorem dX13_isNoVariable_0 : decode cX13_isNoVariable 0 = .ok (.iload_n 0, 1) := dk_26 (dk_at dksX13_isNoVariable_0 0 rfl rfl)
theorem dX13_isNoVariable_1 : decode cX13_isNoVariable 1 = .ok (.iconst 0, 1) := dk_3 (dk_at dksX13_isNoVariable_0 1 rfl rfl)
theorem dX13_isNoVariable_2 : decode cX13_isNoVariable 2 = .ok (.bipush 7, 2) := dk_16 7 (dk_at dksX13_isNoVariable_0 2 rfl rfl)
theorem dX13_isNoVariable_4 : decode cX13_isNoVariable 4 = .ok (.invokestatic 42, 3) := dk_184 0 42 (dk_at dksX13_isNoVariable_0 4 rfl rfl)
theorem dX13_isNoVariable_7 : decode cX13_isNoVariable 7 = .ok (.ifCond .ne 7, 3) := dk_154 0 7 (dk_at dksX13_isNoVariable_0 7 rfl rfl)
theorem dX13_isNoVariable_10 : decode cX13_isNoVariable 10 = .ok (.iconst 1, 1) := dk_4 (dk_at dksX13_isNoVariable_0 10 rfl rfl)
theorem dX13_isNoVariable_11 : decode cX13_isNoVariable 11 = .ok (.goto 4, 3) := dk_167 0 4 (dk_at dksX13_isNoVariable_0 11 rfl rfl)
theorem dX13_isNoVariable_14 : decode cX13_isNoVariable 14 = .ok (.iconst 0, 1) := dk_3 (dk_at dksX13_isNoVariable_0 14 rfl rfl)
theorem dX13_isNoVariable_15 : decode cX13_isNoVariable 15 = .ok (.ireturn, 1) := dk_172 (dk_at dksX13_isNoVariable_0 15 rfl rfl)
abbrev cX13_isNoNode : ByteArray := prog_17_method_19_code
def yX13_isNoNode : MethodName := ⟨RX13, "isNoNode", "(I)Z"⟩
def dkwX13_isNoNode_1 : List UInt8 := [3, 172]
abbrev dktX13_isNoNode_1 : List UInt8 := dkwX13_isNoNode_1 ++ []
def dkwX13_isNoNode_0 : List UInt8 := [27, 3, 42, 180, 0, 10, 180, 0, 67, 182, 0, 71, 4, 100, 184, 0, 42, 154, 0, 7, 4, 167, 0, 4]
abbrev dktX13_isNoNode_0 : List UInt8 := dkwX13_isNoNode_0 ++ dktX13_isNoNode_1
theorem dksX13_isNoNode_0 : cX13_isNoNode.data.toList.drop 0 = dktX13_isNoNode_0 := by decide +kernel
theorem dksX13_isNoNode_1 : cX13_isNoNode.data.toList.drop 24 = dktX13_isNoNode_1 := dk_seg dksX13_isNoNode_0 24 rfl rfl
theorem dX13_isNoNode_0 : decode cX13_isNoNode 0 = .ok (.iload_n 1, 1) := dk_27 (dk_at dksX13_isNoNode_0 0 rfl rfl)
theorem dX13_isNoNode_1 : decode cX13_isNoNode 1 = .ok (.iconst 0, 1) := dk_3 (dk_at dksX13_isNoNode_0 1 rfl rfl)
theorem dX13_isNoNode_2 : decode cX13_isNoNode 2 = .ok (.aload_n 0, 1) := dk_42 (dk_at dksX13_isNoNode_0 2 rfl rfl)
theorem dX13_isNoNode_3 : decode cX13_isNoNode 3 = .ok (.getfield 10, 3) := dk_180 0 10 (dk_at dksX13_isNoNode_0 3 rfl rfl)
theorem dX13_isNoNode_6 : decode cX13_isNoNode 6 = .ok (.getfield 67, 3) := dk_180 0 67 (dk_at dksX13_isNoNode_0 6 rfl rfl)
theorem dX13_isNoNode_9 : decode cX13_isNoNode 9 = .ok (.invokevirtual 71, 3) := dk_182 0 71 (dk_at dksX13_isNoNode_0 9 rfl rfl)
theorem dX13_isNoNode_12 : decode cX13_isNoNode 12 = .ok (.iconst 1, 1) := dk_4 (dk_at dksX13_isNoNode_0 12 rfl rfl)
theorem dX13_isNoNode_13 : decode cX13_isNoNode 13 = .ok (.isub, 1) := dk_100 (dk_at dksX13_isNoNode_0 13 rfl rfl)
theorem dX13_isNoNode_14 : decode cX13_isNoNode 14 = .ok (.invokestatic 42, 3) := dk_184 0 42 (dk_at dksX13_isNoNode_0 14 rfl rfl)
theorem dX13_isNoNode_17 : decode cX13_isNoNode 17 = .ok (.ifCond .ne 7, 3) := dk_154 0 7 (dk_at dksX13_isNoNode_0 17 rfl rfl)
theorem dX13_isNoNode_20 : decode cX13_isNoNode 20 = .ok (.iconst 1, 1) := dk_4 (dk_at dksX13_isNoNode_0 20 rfl rfl)
theorem dX13_isNoNode_21 : decode cX13_isNoNode 21 = .ok (.goto 4, 3) := dk_167 0 4 (dk_at dksX13_isNoNode_0 21 rfl rfl)
theorem dX13_isNoNode_24 : decode cX13_isNoNode 24 = .ok (.iconst 0, 1) := dk_3 (dk_at dksX13_isNoNode_1 0 rfl rfl)
theorem dX13_isNoNode_25 : decode cX13_isNoNode 25 = .ok (.ireturn, 1) := dk_172 (dk_at dksX13_isNoNode_1 1 rfl rfl)
abbrev cX13_statements : ByteArray := prog_17_method_20_code
def yX13_statements : MethodName := ⟨RX13, "statements", "()I"⟩
def dkwX13_statements_1 : List UInt8 := [185, 0, 116, 1, 0, 192, 0, 72, 78, 27, 45, 182, 0, 71, 96, 60, 167, 255, 230, 27, 172]
abbrev dktX13_statements_1 : List UInt8 := dkwX13_statements_1 ++ []
def dkwX13_statements_0 : List UInt8 := [3, 60, 42, 180, 0, 10, 180, 0, 104, 182, 0, 107, 77, 44, 185, 0, 111, 1, 0, 153, 0, 23, 44]
abbrev dktX13_statements_0 : List UInt8 := dkwX13_statements_0 ++ dktX13_statements_1
theorem dksX13_statements_0 : cX13_statements.data.toList.drop 0 = dktX13_statements_0 := by decide +kernel
theorem dksX13_statements_1 : cX13_statements.data.toList.drop 23 = dktX13_statements_1 := dk_seg dksX13_statements_0 23 rfl rfl
theorem dX13_statements_0 : decode cX13_statements 0 = .ok (.iconst 0, 1) := dk_3 (dk_at dksX13_statements_0 0 rfl rfl)
theorem dX13_statements_1 : decode cX13_statements 1 = .ok (.istore_n 1, 1) := dk_60 (dk_at dksX13_statements_0 1 rfl rfl)
theorem dX13_statements_2 : decode cX13_statements 2 = .ok (.aload_n 0, 1) := dk_42 (dk_at dksX13_statements_0 2 rfl rfl)
theorem dX13_statements_3 : decode cX13_statements 3 = .ok (.getfield 10, 3) := dk_180 0 10 (dk_at dksX13_statements_0 3 rfl rfl)
theorem dX13_statements_6 : decode cX13_statements 6 = .ok (.getfield 104, 3) := dk_180 0 104 (dk_at dksX13_statements_0 6 rfl rfl)
theorem dX13_statements_9 : decode cX13_statements 9 = .ok (.invokevirtual 107, 3) := dk_182 0 107 (dk_at dksX13_statements_0 9 rfl rfl)
theorem dX13_statements_12 : decode cX13_statements 12 = .ok (.astore_n 2, 1) := dk_77 (dk_at dksX13_statements_0 12 rfl rfl)
theorem dX13_statements_13 : decode cX13_statements 13 = .ok (.aload_n 2, 1) := dk_44 (dk_at dksX13_statements_0 13 rfl rfl)
theorem dX13_statements_14 : decode cX13_statements 14 = .ok (.invokeinterface 111 1, 5) := by decide +kernel
theorem dX13_statements_19 : decode cX13_statements 19 = .ok (.ifCond .eq 23, 3) := dk_153 0 23 (dk_at dksX13_statements_0 19 rfl rfl)
theorem dX13_statements_22 : decode cX13_statements 22 = .ok (.aload_n 2, 1) := dk_44 (dk_at dksX13_statements_0 22 rfl rfl)
theorem dX13_statements_23 : decode cX13_statements 23 = .ok (.invokeinterface 116 1, 5) := by decide +kernel
theorem dX13_statements_28 : decode cX13_statements 28 = .ok (.checkcast 72, 3) := dk_192 0 72 (dk_at dksX13_statements_1 5 rfl rfl)
theorem dX13_statements_31 : decode cX13_statements 31 = .ok (.astore_n 3, 1) := dk_78 (dk_at dksX13_statements_1 8 rfl rfl)
theorem dX13_statements_32 : decode cX13_statements 32 = .ok (.iload_n 1, 1) := dk_27 (dk_at dksX13_statements_1 9 rfl rfl)
theorem dX13_statements_33 : decode cX13_statements 33 = .ok (.aload_n 3, 1) := dk_45 (dk_at dksX13_statements_1 10 rfl rfl)
theorem dX13_statements_34 : decode cX13_statements 34 = .ok (.invokevirtual 71, 3) := dk_182 0 71 (dk_at dksX13_statements_1 11 rfl rfl)
theorem dX13_statements_37 : decode cX13_statements 37 = .ok (.iadd, 1) := dk_96 (dk_at dksX13_statements_1 14 rfl rfl)
theorem dX13_statements_38 : decode cX13_statements 38 = .ok (.istore_n 1, 1) := dk_60 (dk_at dksX13_statements_1 15 rfl rfl)
theorem dX13_statements_39 : decode cX13_statements 39 = .ok (.goto (-26), 3) := dk_167 255 230 (dk_at dksX13_statements_1 16 rfl rfl)
theorem dX13_statements_42 : decode cX13_statements 42 = .ok (.iload_n 1, 1) := dk_27 (dk_at dksX13_statements_1 19 rfl rfl)
theorem dX13_statements_43 : decode cX13_statements 43 = .ok (.ireturn, 1) := dk_172 (dk_at dksX13_statements_1 20 rfl rfl)
abbrev cX13_take : ByteArray := prog_17_method_22_code
def yX13_take : MethodName := ⟨RX13, "take", "(I)I"⟩
def dkwX13_take_3 : List UInt8 := [180, 0, 10, 29, 182, 0, 77, 3, 181, 0, 81, 29, 172]
abbrev dktX13_take_3 : List UInt8 := dkwX13_take_3 ++ []
def dkwX13_take_2 : List UInt8 := [182, 0, 132, 192, 0, 72, 77, 44, 44, 182, 0, 71, 4, 100, 182, 0, 139, 192, 0, 142, 4, 46, 62, 42]
abbrev dktX13_take_2 : List UInt8 := dkwX13_take_2 ++ dktX13_take_3
def dkwX13_take_1 : List UInt8 := [192, 0, 72, 182, 0, 136, 5, 182, 0, 29, 153, 0, 5, 3, 172, 42, 180, 0, 10, 180, 0, 104, 27]
abbrev dktX13_take_1 : List UInt8 := dkwX13_take_1 ++ dktX13_take_2
def dkwX13_take_0 : List UInt8 := [42, 27, 184, 0, 120, 4, 182, 0, 50, 154, 0, 28, 42, 42, 180, 0, 10, 180, 0, 104, 27, 182, 0, 132]
abbrev dktX13_take_0 : List UInt8 := dkwX13_take_0 ++ dktX13_take_1
theorem dksX13_take_0 : cX13_take.data.toList.drop 0 = dktX13_take_0 := by decide +kernel
theorem dksX13_take_1 : cX13_take.data.toList.drop 24 = dktX13_take_1 := dk_seg dksX13_take_0 24 rfl rfl
theorem dksX13_take_2 : cX13_take.data.toList.drop 47 = dktX13_take_2 := dk_seg dksX13_take_1 23 rfl rfl
theorem dksX13_take_3 : cX13_take.data.toList.drop 71 = dktX13_take_3 := dk_seg dksX13_take_2 24 rfl rfl
theorem dX13_take_0 : decode cX13_take 0 = .ok (.aload_n 0, 1) := dk_42 (dk_at dksX13_take_0 0 rfl rfl)
theorem dX13_take_1 : decode cX13_take 1 = .ok (.iload_n 1, 1) := dk_27 (dk_at dksX13_take_0 1 rfl rfl)
theorem dX13_take_2 : decode cX13_take 2 = .ok (.invokestatic 120, 3) := dk_184 0 120 (dk_at dksX13_take_0 2 rfl rfl)
theorem dX13_take_5 : decode cX13_take 5 = .ok (.iconst 1, 1) := dk_4 (dk_at dksX13_take_0 5 rfl rfl)
theorem dX13_take_6 : decode cX13_take 6 = .ok (.invokevirtual 50, 3) := dk_182 0 50 (dk_at dksX13_take_0 6 rfl rfl)
theorem dX13_take_9 : decode cX13_take 9 = .ok (.ifCond .ne 28, 3) := dk_154 0 28 (dk_at dksX13_take_0 9 rfl rfl)
theorem dX13_take_12 : decode cX13_take 12 = .ok (.aload_n 0, 1) := dk_42 (dk_at dksX13_take_0 12 rfl rfl)
theorem dX13_take_13 : decode cX13_take 13 = .ok (.aload_n 0, 1) := dk_42 (dk_at dksX13_take_0 13 rfl rfl)
theorem dX13_take_14 : decode cX13_take 14 = .ok (.getfield 10, 3) := dk_180 0 10 (dk_at dksX13_take_0 14 rfl rfl)
theorem dX13_take_17 : decode cX13_take 17 = .ok (.getfield 104, 3) := dk_180 0 104 (dk_at dksX13_take_0 17 rfl rfl)
theorem dX13_take_20 : decode cX13_take 20 = .ok (.iload_n 1, 1) := dk_27 (dk_at dksX13_take_0 20 rfl rfl)
theorem dX13_take_21 : decode cX13_take 21 = .ok (.invokevirtual 132, 3) := dk_182 0 132 (dk_at dksX13_take_0 21 rfl rfl)
theorem dX13_take_24 : decode cX13_take 24 = .ok (.checkcast 72, 3) := dk_192 0 72 (dk_at dksX13_take_1 0 rfl rfl)
theorem dX13_take_27 : decode cX13_take 27 = .ok (.invokevirtual 136, 3) := dk_182 0 136 (dk_at dksX13_take_1 3 rfl rfl)
theorem dX13_take_30 : decode cX13_take 30 = .ok (.iconst 2, 1) := dk_5 (dk_at dksX13_take_1 6 rfl rfl)
theorem dX13_take_31 : decode cX13_take 31 = .ok (.invokevirtual 29, 3) := dk_182 0 29 (dk_at dksX13_take_1 7 rfl rfl)
theorem dX13_take_34 : decode cX13_take 34 = .ok (.ifCond .eq 5, 3) := dk_153 0 5 (dk_at dksX13_take_1 10 rfl rfl)
theorem dX13_take_37 : decode cX13_take 37 = .ok (.iconst 0, 1) := dk_3 (dk_at dksX13_take_1 13 rfl rfl)
theorem dX13_take_38 : decode cX13_take 38 = .ok (.ireturn, 1) := dk_172 (dk_at dksX13_take_1 14 rfl rfl)
theorem dX13_take_39 : decode cX13_take 39 = .ok (.aload_n 0, 1) := dk_42 (dk_at dksX13_take_1 15 rfl rfl)
theorem dX13_take_40 : decode cX13_take 40 = .ok (.getfield 10, 3) := dk_180 0 10 (dk_at dksX13_take_1 16 rfl rfl)
theorem dX13_take_43 : decode cX13_take 43 = .ok (.getfield 104, 3) := dk_180 0 104 (dk_at dksX13_take_1 19 rfl rfl)
theorem dX13_take_46 : decode cX13_take 46 = .ok (.iload_n 1, 1) := dk_27 (dk_at dksX13_take_1 22 rfl rfl)
theorem dX13_take_47 : decode cX13_take 47 = .ok (.invokevirtual 132, 3) := dk_182 0 132 (dk_at dksX13_take_2 0 rfl rfl)
theorem dX13_take_50 : decode cX13_take 50 = .ok (.checkcast 72, 3) := dk_192 0 72 (dk_at dksX13_take_2 3 rfl rfl)
theorem dX13_take_53 : decode cX13_take 53 = .ok (.astore_n 2, 1) := dk_77 (dk_at dksX13_take_2 6 rfl rfl)
theorem dX13_take_54 : decode cX13_take 54 = .ok (.aload_n 2, 1) := dk_44 (dk_at dksX13_take_2 7 rfl rfl)
theorem dX13_take_55 : decode cX13_take 55 = .ok (.aload_n 2, 1) := dk_44 (dk_at dksX13_take_2 8 rfl rfl)
theorem dX13_take_56 : decode cX13_take 56 = .ok (.invokevirtual 71, 3) := dk_182 0 71 (dk_at dksX13_take_2 9 rfl rfl)
theorem dX13_take_59 : decode cX13_take 59 = .ok (.iconst 1, 1) := dk_4 (dk_at dksX13_take_2 12 rfl rfl)
theorem dX13_take_60 : decode cX13_take 60 = .ok (.isub, 1) := dk_100 (dk_at dksX13_take_2 13 rfl rfl)
theorem dX13_take_61 : decode cX13_take 61 = .ok (.invokevirtual 139, 3) := dk_182 0 139 (dk_at dksX13_take_2 14 rfl rfl)
theorem dX13_take_64 : decode cX13_take 64 = .ok (.checkcast 142, 3) := dk_192 0 142 (dk_at dksX13_take_2 17 rfl rfl)
theorem dX13_take_67 : decode cX13_take 67 = .ok (.iconst 1, 1) := dk_4 (dk_at dksX13_take_2 20 rfl rfl)
theorem dX13_take_68 : decode cX13_take 68 = .ok (.iaload, 1) := dk_46 (dk_at dksX13_take_2 21 rfl rfl)
theorem dX13_take_69 : decode cX13_take 69 = .ok (.istore_n 3, 1) := dk_62 (dk_at dksX13_take_2 22 rfl rfl)
theorem dX13_take_70 : decode cX13_take 70 = .ok (.aload_n 0, 1) := dk_42 (dk_at dksX13_take_2 23 rfl rfl)
theorem dX13_take_71 : decode cX13_take 71 = .ok (.getfield 10, 3) := dk_180 0 10 (dk_at dksX13_take_3 0 rfl rfl)
theorem dX13_take_74 : decode cX13_take 74 = .ok (.iload_n 3, 1) := dk_29 (dk_at dksX13_take_3 3 rfl rfl)
theorem dX13_take_75 : decode cX13_take 75 = .ok (.invokevirtual 77, 3) := dk_182 0 77 (dk_at dksX13_take_3 4 rfl rfl)
theorem dX13_take_78 : decode cX13_take 78 = .ok (.iconst 0, 1) := dk_3 (dk_at dksX13_take_3 7 rfl rfl)
theorem dX13_take_79 : decode cX13_take 79 = .ok (.putfield 81, 3) := dk_181 0 81 (dk_at dksX13_take_3 8 rfl rfl)
theorem dX13_take_82 : decode cX13_take 82 = .ok (.iload_n 3, 1) := dk_29 (dk_at dksX13_take_3 11 rfl rfl)
theorem dX13_take_83 : decode cX13_take 83 = .ok (.ireturn, 1) := dk_172 (dk_at dksX13_take_3 12 rfl rfl)
abbrev cX13_times : ByteArray := prog_17_method_23_code
def yX13_times : MethodName := ⟨RX13, "times", "(II)I"⟩
def dkwX13_times_2 : List UInt8 := [180, 0, 10, 180, 0, 143, 27, 28, 79, 29, 172]
abbrev dktX13_times_2 : List UInt8 := dkwX13_times_2 ++ []
def dkwX13_times_1 : List UInt8 := [167, 0, 4, 3, 5, 182, 0, 29, 153, 0, 5, 3, 172, 42, 180, 0, 10, 180, 0, 143, 27, 46, 62, 42]
abbrev dktX13_times_1 : List UInt8 := dkwX13_times_1 ++ dktX13_times_2
def dkwX13_times_0 : List UInt8 := [42, 27, 184, 0, 120, 4, 182, 0, 50, 154, 0, 26, 42, 28, 4, 16, 9, 184, 0, 42, 154, 0, 7, 4]
abbrev dktX13_times_0 : List UInt8 := dkwX13_times_0 ++ dktX13_times_1
theorem dksX13_times_0 : cX13_times.data.toList.drop 0 = dktX13_times_0 := by decide +kernel
theorem dksX13_times_1 : cX13_times.data.toList.drop 24 = dktX13_times_1 := dk_seg dksX13_times_0 24 rfl rfl
theorem dksX13_times_2 : cX13_times.data.toList.drop 48 = dktX13_times_2 := dk_seg dksX13_times_1 24 rfl rfl
theorem dX13_times_0 : decode cX13_times 0 = .ok (.aload_n 0, 1) := dk_42 (dk_at dksX13_times_0 0 rfl rfl)
theorem dX13_times_1 : decode cX13_times 1 = .ok (.iload_n 1, 1) := dk_27 (dk_at dksX13_times_0 1 rfl rfl)
theorem dX13_times_2 : decode cX13_times 2 = .ok (.invokestatic 120, 3) := dk_184 0 120 (dk_at dksX13_times_0 2 rfl rfl)
theorem dX13_times_5 : decode cX13_times 5 = .ok (.iconst 1, 1) := dk_4 (dk_at dksX13_times_0 5 rfl rfl)
theorem dX13_times_6 : decode cX13_times 6 = .ok (.invokevirtual 50, 3) := dk_182 0 50 (dk_at dksX13_times_0 6 rfl rfl)
theorem dX13_times_9 : decode cX13_times 9 = .ok (.ifCond .ne 26, 3) := dk_154 0 26 (dk_at dksX13_times_0 9 rfl rfl)
theorem dX13_times_12 : decode cX13_times 12 = .ok (.aload_n 0, 1) := dk_42 (dk_at dksX13_times_0 12 rfl rfl)
theorem dX13_times_13 : decode cX13_times 13 = .ok (.iload_n 2, 1) := dk_28 (dk_at dksX13_times_0 13 rfl rfl)
theorem dX13_times_14 : decode cX13_times 14 = .ok (.iconst 1, 1) := dk_4 (dk_at dksX13_times_0 14 rfl rfl)
theorem dX13_times_15 : decode cX13_times 15 = .ok (.bipush 9, 2) := dk_16 9 (dk_at dksX13_times_0 15 rfl rfl)
theorem dX13_times_17 : decode cX13_times 17 = .ok (.invokestatic 42, 3) := dk_184 0 42 (dk_at dksX13_times_0 17 rfl rfl)
theorem dX13_times_20 : decode cX13_times 20 = .ok (.ifCond .ne 7, 3) := dk_154 0 7 (dk_at dksX13_times_0 20 rfl rfl)
theorem dX13_times_23 : decode cX13_times 23 = .ok (.iconst 1, 1) := dk_4 (dk_at dksX13_times_0 23 rfl rfl)
theorem dX13_times_24 : decode cX13_times 24 = .ok (.goto 4, 3) := dk_167 0 4 (dk_at dksX13_times_1 0 rfl rfl)
theorem dX13_times_27 : decode cX13_times 27 = .ok (.iconst 0, 1) := dk_3 (dk_at dksX13_times_1 3 rfl rfl)
theorem dX13_times_28 : decode cX13_times 28 = .ok (.iconst 2, 1) := dk_5 (dk_at dksX13_times_1 4 rfl rfl)
theorem dX13_times_29 : decode cX13_times 29 = .ok (.invokevirtual 29, 3) := dk_182 0 29 (dk_at dksX13_times_1 5 rfl rfl)
theorem dX13_times_32 : decode cX13_times 32 = .ok (.ifCond .eq 5, 3) := dk_153 0 5 (dk_at dksX13_times_1 8 rfl rfl)
theorem dX13_times_35 : decode cX13_times 35 = .ok (.iconst 0, 1) := dk_3 (dk_at dksX13_times_1 11 rfl rfl)
theorem dX13_times_36 : decode cX13_times 36 = .ok (.ireturn, 1) := dk_172 (dk_at dksX13_times_1 12 rfl rfl)
theorem dX13_times_37 : decode cX13_times 37 = .ok (.aload_n 0, 1) := dk_42 (dk_at dksX13_times_1 13 rfl rfl)
theorem dX13_times_38 : decode cX13_times 38 = .ok (.getfield 10, 3) := dk_180 0 10 (dk_at dksX13_times_1 14 rfl rfl)
theorem dX13_times_41 : decode cX13_times 41 = .ok (.getfield 143, 3) := dk_180 0 143 (dk_at dksX13_times_1 17 rfl rfl)
theorem dX13_times_44 : decode cX13_times 44 = .ok (.iload_n 1, 1) := dk_27 (dk_at dksX13_times_1 20 rfl rfl)
theorem dX13_times_45 : decode cX13_times 45 = .ok (.iaload, 1) := dk_46 (dk_at dksX13_times_1 21 rfl rfl)
theorem dX13_times_46 : decode cX13_times 46 = .ok (.istore_n 3, 1) := dk_62 (dk_at dksX13_times_1 22 rfl rfl)
theorem dX13_times_47 : decode cX13_times 47 = .ok (.aload_n 0, 1) := dk_42 (dk_at dksX13_times_1 23 rfl rfl)
theorem dX13_times_48 : decode cX13_times 48 = .ok (.getfield 10, 3) := dk_180 0 10 (dk_at dksX13_times_2 0 rfl rfl)
theorem dX13_times_51 : decode cX13_times 51 = .ok (.getfield 143, 3) := dk_180 0 143 (dk_at dksX13_times_2 3 rfl rfl)
theorem dX13_times_54 : decode cX13_times 54 = .ok (.iload_n 1, 1) := dk_27 (dk_at dksX13_times_2 6 rfl rfl)
theorem dX13_times_55 : decode cX13_times 55 = .ok (.iload_n 2, 1) := dk_28 (dk_at dksX13_times_2 7 rfl rfl)
theorem dX13_times_56 : decode cX13_times 56 = .ok (.iastore, 1) := dk_79 (dk_at dksX13_times_2 8 rfl rfl)
theorem dX13_times_57 : decode cX13_times 57 = .ok (.iload_n 3, 1) := dk_29 (dk_at dksX13_times_2 9 rfl rfl)
theorem dX13_times_58 : decode cX13_times 58 = .ok (.ireturn, 1) := dk_172 (dk_at dksX13_times_2 10 rfl rfl)
abbrev cX13_out : ByteArray := prog_17_method_24_code
def yX13_out : MethodName := ⟨RX13, "out", "(I)I"⟩
def dkwX13_out_1 : List UInt8 := [3, 172, 42, 180, 0, 10, 180, 0, 146, 61, 42, 180, 0, 10, 27, 181, 0, 146, 28, 172]
abbrev dktX13_out_1 : List UInt8 := dkwX13_out_1 ++ []
def dkwX13_out_0 : List UInt8 := [42, 27, 3, 17, 0, 255, 184, 0, 42, 154, 0, 7, 4, 167, 0, 4, 3, 4, 182, 0, 50, 153, 0, 5]
abbrev dktX13_out_0 : List UInt8 := dkwX13_out_0 ++ dktX13_out_1
theorem dksX13_out_0 : cX13_out.data.toList.drop 0 = dktX13_out_0 := by decide +kernel
theorem dksX13_out_1 : cX13_out.data.toList.drop 24 = dktX13_out_1 := dk_seg dksX13_out_0 24 rfl rfl
theorem dX13_out_0 : decode cX13_out 0 = .ok (.aload_n 0, 1) := dk_42 (dk_at dksX13_out_0 0 rfl rfl)
theorem dX13_out_1 : decode cX13_out 1 = .ok (.iload_n 1, 1) := dk_27 (dk_at dksX13_out_0 1 rfl rfl)
theorem dX13_out_2 : decode cX13_out 2 = .ok (.iconst 0, 1) := dk_3 (dk_at dksX13_out_0 2 rfl rfl)
theorem dX13_out_3 : decode cX13_out 3 = .ok (.sipush 255, 3) := dk_17 0 255 (dk_at dksX13_out_0 3 rfl rfl)
theorem dX13_out_6 : decode cX13_out 6 = .ok (.invokestatic 42, 3) := dk_184 0 42 (dk_at dksX13_out_0 6 rfl rfl)
theorem dX13_out_9 : decode cX13_out 9 = .ok (.ifCond .ne 7, 3) := dk_154 0 7 (dk_at dksX13_out_0 9 rfl rfl)
theorem dX13_out_12 : decode cX13_out 12 = .ok (.iconst 1, 1) := dk_4 (dk_at dksX13_out_0 12 rfl rfl)
theorem dX13_out_13 : decode cX13_out 13 = .ok (.goto 4, 3) := dk_167 0 4 (dk_at dksX13_out_0 13 rfl rfl)
theorem dX13_out_16 : decode cX13_out 16 = .ok (.iconst 0, 1) := dk_3 (dk_at dksX13_out_0 16 rfl rfl)
theorem dX13_out_17 : decode cX13_out 17 = .ok (.iconst 1, 1) := dk_4 (dk_at dksX13_out_0 17 rfl rfl)
theorem dX13_out_18 : decode cX13_out 18 = .ok (.invokevirtual 50, 3) := dk_182 0 50 (dk_at dksX13_out_0 18 rfl rfl)
theorem dX13_out_21 : decode cX13_out 21 = .ok (.ifCond .eq 5, 3) := dk_153 0 5 (dk_at dksX13_out_0 21 rfl rfl)
theorem dX13_out_24 : decode cX13_out 24 = .ok (.iconst 0, 1) := dk_3 (dk_at dksX13_out_1 0 rfl rfl)
theorem dX13_out_25 : decode cX13_out 25 = .ok (.ireturn, 1) := dk_172 (dk_at dksX13_out_1 1 rfl rfl)
theorem dX13_out_26 : decode cX13_out 26 = .ok (.aload_n 0, 1) := dk_42 (dk_at dksX13_out_1 2 rfl rfl)
theorem dX13_out_27 : decode cX13_out 27 = .ok (.getfield 10, 3) := dk_180 0 10 (dk_at dksX13_out_1 3 rfl rfl)
theorem dX13_out_30 : decode cX13_out 30 = .ok (.getfield 146, 3) := dk_180 0 146 (dk_at dksX13_out_1 6 rfl rfl)
theorem dX13_out_33 : decode cX13_out 33 = .ok (.istore_n 2, 1) := dk_61 (dk_at dksX13_out_1 9 rfl rfl)
theorem dX13_out_34 : decode cX13_out 34 = .ok (.aload_n 0, 1) := dk_42 (dk_at dksX13_out_1 10 rfl rfl)
theorem dX13_out_35 : decode cX13_out 35 = .ok (.getfield 10, 3) := dk_180 0 10 (dk_at dksX13_out_1 11 rfl rfl)
theorem dX13_out_38 : decode cX13_out 38 = .ok (.iload_n 1, 1) := dk_27 (dk_at dksX13_out_1 14 rfl rfl)
theorem dX13_out_39 : decode cX13_out 39 = .ok (.putfield 146, 3) := dk_181 0 146 (dk_at dksX13_out_1 15 rfl rfl)
theorem dX13_out_42 : decode cX13_out 42 = .ok (.iload_n 2, 1) := dk_28 (dk_at dksX13_out_1 18 rfl rfl)
theorem dX13_out_43 : decode cX13_out 43 = .ok (.ireturn, 1) := dk_172 (dk_at dksX13_out_1 19 rfl rfl)
abbrev cX13_meant : ByteArray := prog_17_method_25_code
def yX13_meant : MethodName := ⟨RX13, "meant", "(I)I"⟩
def dkwX13_meant_1 : List UInt8 := [46, 172]
abbrev dktX13_meant_1 : List UInt8 := dkwX13_meant_1 ++ []
def dkwX13_meant_0 : List UInt8 := [42, 27, 184, 0, 123, 4, 182, 0, 50, 153, 0, 7, 3, 167, 0, 12, 42, 180, 0, 10, 182, 0, 149, 27]
abbrev dktX13_meant_0 : List UInt8 := dkwX13_meant_0 ++ dktX13_meant_1
theorem dksX13_meant_0 : cX13_meant.data.toList.drop 0 = dktX13_meant_0 := by decide +kernel
theorem dksX13_meant_1 : cX13_meant.data.toList.drop 24 = dktX13_meant_1 := dk_seg dksX13_meant_0 24 rfl rfl
theorem dX13_meant_0 : decode cX13_meant 0 = .ok (.aload_n 0, 1) := dk_42 (dk_at dksX13_meant_0 0 rfl rfl)
theorem dX13_meant_1 : decode cX13_meant 1 = .ok (.iload_n 1, 1) := dk_27 (dk_at dksX13_meant_0 1 rfl rfl)
theorem dX13_meant_2 : decode cX13_meant 2 = .ok (.invokestatic 123, 3) := dk_184 0 123 (dk_at dksX13_meant_0 2 rfl rfl)
theorem dX13_meant_5 : decode cX13_meant 5 = .ok (.iconst 1, 1) := dk_4 (dk_at dksX13_meant_0 5 rfl rfl)
theorem dX13_meant_6 : decode cX13_meant 6 = .ok (.invokevirtual 50, 3) := dk_182 0 50 (dk_at dksX13_meant_0 6 rfl rfl)
theorem dX13_meant_9 : decode cX13_meant 9 = .ok (.ifCond .eq 7, 3) := dk_153 0 7 (dk_at dksX13_meant_0 9 rfl rfl)
theorem dX13_meant_12 : decode cX13_meant 12 = .ok (.iconst 0, 1) := dk_3 (dk_at dksX13_meant_0 12 rfl rfl)
theorem dX13_meant_13 : decode cX13_meant 13 = .ok (.goto 12, 3) := dk_167 0 12 (dk_at dksX13_meant_0 13 rfl rfl)
theorem dX13_meant_16 : decode cX13_meant 16 = .ok (.aload_n 0, 1) := dk_42 (dk_at dksX13_meant_0 16 rfl rfl)
theorem dX13_meant_17 : decode cX13_meant 17 = .ok (.getfield 10, 3) := dk_180 0 10 (dk_at dksX13_meant_0 17 rfl rfl)
theorem dX13_meant_20 : decode cX13_meant 20 = .ok (.invokevirtual 149, 3) := dk_182 0 149 (dk_at dksX13_meant_0 20 rfl rfl)
theorem dX13_meant_23 : decode cX13_meant 23 = .ok (.iload_n 1, 1) := dk_27 (dk_at dksX13_meant_0 23 rfl rfl)
theorem dX13_meant_24 : decode cX13_meant 24 = .ok (.iaload, 1) := dk_46 (dk_at dksX13_meant_1 0 rfl rfl)
theorem dX13_meant_25 : decode cX13_meant 25 = .ok (.ireturn, 1) := dk_172 (dk_at dksX13_meant_1 1 rfl rfl)
abbrev cX13_chosen : ByteArray := prog_17_method_27_code
def yX13_chosen : MethodName := ⟨RX13, "chosen", "(II)I"⟩
def dkwX13_chosen_3 : List UInt8 := [192, 0, 154, 28, 184, 0, 185, 172]
abbrev dktX13_chosen_3 : List UInt8 := dkwX13_chosen_3 ++ []
def dkwX13_chosen_2 : List UInt8 := [167, 0, 4, 3, 5, 182, 0, 29, 153, 0, 7, 3, 167, 0, 18, 45, 180, 0, 182, 27, 182, 0, 132]
abbrev dktX13_chosen_2 : List UInt8 := dkwX13_chosen_2 ++ dktX13_chosen_3
def dkwX13_chosen_1 : List UInt8 := [167, 0, 4, 3, 4, 182, 0, 50, 154, 0, 26, 42, 28, 3, 16, 7, 184, 0, 42, 154, 0, 7, 4]
abbrev dktX13_chosen_1 : List UInt8 := dkwX13_chosen_1 ++ dktX13_chosen_2
def dkwX13_chosen_0 : List UInt8 := [42, 182, 0, 179, 78, 42, 27, 3, 45, 180, 0, 182, 182, 0, 71, 4, 100, 184, 0, 42, 154, 0, 7, 4]
abbrev dktX13_chosen_0 : List UInt8 := dkwX13_chosen_0 ++ dktX13_chosen_1
theorem dksX13_chosen_0 : cX13_chosen.data.toList.drop 0 = dktX13_chosen_0 := by decide +kernel
theorem dksX13_chosen_1 : cX13_chosen.data.toList.drop 24 = dktX13_chosen_1 := dk_seg dksX13_chosen_0 24 rfl rfl
theorem dksX13_chosen_2 : cX13_chosen.data.toList.drop 47 = dktX13_chosen_2 := dk_seg dksX13_chosen_1 23 rfl rfl
theorem dksX13_chosen_3 : cX13_chosen.data.toList.drop 70 = dktX13_chosen_3 := dk_seg dksX13_chosen_2 23 rfl rfl
theorem dX13_chosen_0 : decode cX13_chosen 0 = .ok (.aload_n 0, 1) := dk_42 (dk_at dksX13_chosen_0 0 rfl rfl)
theorem dX13_chosen_1 : decode cX13_chosen 1 = .ok (.invokevirtual 179, 3) := dk_182 0 179 (dk_at dksX13_chosen_0 1 rfl rfl)
theorem dX13_chosen_4 : decode cX13_chosen 4 = .ok (.astore_n 3, 1) := dk_78 (dk_at dksX13_chosen_0 4 rfl rfl)
theorem dX13_chosen_5 : decode cX13_chosen 5 = .ok (.aload_n 0, 1) := dk_42 (dk_at dksX13_chosen_0 5 rfl rfl)
theorem dX13_chosen_6 : decode cX13_chosen 6 = .ok (.iload_n 1, 1) := dk_27 (dk_at dksX13_chosen_0 6 rfl rfl)
theorem dX13_chosen_7 : decode cX13_chosen 7 = .ok (.iconst 0, 1) := dk_3 (dk_at dksX13_chosen_0 7 rfl rfl)
theorem dX13_chosen_8 : decode cX13_chosen 8 = .ok (.aload_n 3, 1) := dk_45 (dk_at dksX13_chosen_0 8 rfl rfl)
theorem dX13_chosen_9 : decode cX13_chosen 9 = .ok (.getfield 182, 3) := dk_180 0 182 (dk_at dksX13_chosen_0 9 rfl rfl)
theorem dX13_chosen_12 : decode cX13_chosen 12 = .ok (.invokevirtual 71, 3) := dk_182 0 71 (dk_at dksX13_chosen_0 12 rfl rfl)
theorem dX13_chosen_15 : decode cX13_chosen 15 = .ok (.iconst 1, 1) := dk_4 (dk_at dksX13_chosen_0 15 rfl rfl)
theorem dX13_chosen_16 : decode cX13_chosen 16 = .ok (.isub, 1) := dk_100 (dk_at dksX13_chosen_0 16 rfl rfl)
theorem dX13_chosen_17 : decode cX13_chosen 17 = .ok (.invokestatic 42, 3) := dk_184 0 42 (dk_at dksX13_chosen_0 17 rfl rfl)
theorem dX13_chosen_20 : decode cX13_chosen 20 = .ok (.ifCond .ne 7, 3) := dk_154 0 7 (dk_at dksX13_chosen_0 20 rfl rfl)
theorem dX13_chosen_23 : decode cX13_chosen 23 = .ok (.iconst 1, 1) := dk_4 (dk_at dksX13_chosen_0 23 rfl rfl)
theorem dX13_chosen_24 : decode cX13_chosen 24 = .ok (.goto 4, 3) := dk_167 0 4 (dk_at dksX13_chosen_1 0 rfl rfl)
theorem dX13_chosen_27 : decode cX13_chosen 27 = .ok (.iconst 0, 1) := dk_3 (dk_at dksX13_chosen_1 3 rfl rfl)
theorem dX13_chosen_28 : decode cX13_chosen 28 = .ok (.iconst 1, 1) := dk_4 (dk_at dksX13_chosen_1 4 rfl rfl)
theorem dX13_chosen_29 : decode cX13_chosen 29 = .ok (.invokevirtual 50, 3) := dk_182 0 50 (dk_at dksX13_chosen_1 5 rfl rfl)
theorem dX13_chosen_32 : decode cX13_chosen 32 = .ok (.ifCond .ne 26, 3) := dk_154 0 26 (dk_at dksX13_chosen_1 8 rfl rfl)
theorem dX13_chosen_35 : decode cX13_chosen 35 = .ok (.aload_n 0, 1) := dk_42 (dk_at dksX13_chosen_1 11 rfl rfl)
theorem dX13_chosen_36 : decode cX13_chosen 36 = .ok (.iload_n 2, 1) := dk_28 (dk_at dksX13_chosen_1 12 rfl rfl)
theorem dX13_chosen_37 : decode cX13_chosen 37 = .ok (.iconst 0, 1) := dk_3 (dk_at dksX13_chosen_1 13 rfl rfl)
theorem dX13_chosen_38 : decode cX13_chosen 38 = .ok (.bipush 7, 2) := dk_16 7 (dk_at dksX13_chosen_1 14 rfl rfl)
theorem dX13_chosen_40 : decode cX13_chosen 40 = .ok (.invokestatic 42, 3) := dk_184 0 42 (dk_at dksX13_chosen_1 16 rfl rfl)
theorem dX13_chosen_43 : decode cX13_chosen 43 = .ok (.ifCond .ne 7, 3) := dk_154 0 7 (dk_at dksX13_chosen_1 19 rfl rfl)
theorem dX13_chosen_46 : decode cX13_chosen 46 = .ok (.iconst 1, 1) := dk_4 (dk_at dksX13_chosen_1 22 rfl rfl)
theorem dX13_chosen_47 : decode cX13_chosen 47 = .ok (.goto 4, 3) := dk_167 0 4 (dk_at dksX13_chosen_2 0 rfl rfl)
theorem dX13_chosen_50 : decode cX13_chosen 50 = .ok (.iconst 0, 1) := dk_3 (dk_at dksX13_chosen_2 3 rfl rfl)
theorem dX13_chosen_51 : decode cX13_chosen 51 = .ok (.iconst 2, 1) := dk_5 (dk_at dksX13_chosen_2 4 rfl rfl)
theorem dX13_chosen_52 : decode cX13_chosen 52 = .ok (.invokevirtual 29, 3) := dk_182 0 29 (dk_at dksX13_chosen_2 5 rfl rfl)
theorem dX13_chosen_55 : decode cX13_chosen 55 = .ok (.ifCond .eq 7, 3) := dk_153 0 7 (dk_at dksX13_chosen_2 8 rfl rfl)
theorem dX13_chosen_58 : decode cX13_chosen 58 = .ok (.iconst 0, 1) := dk_3 (dk_at dksX13_chosen_2 11 rfl rfl)
theorem dX13_chosen_59 : decode cX13_chosen 59 = .ok (.goto 18, 3) := dk_167 0 18 (dk_at dksX13_chosen_2 12 rfl rfl)
theorem dX13_chosen_62 : decode cX13_chosen 62 = .ok (.aload_n 3, 1) := dk_45 (dk_at dksX13_chosen_2 15 rfl rfl)
theorem dX13_chosen_63 : decode cX13_chosen 63 = .ok (.getfield 182, 3) := dk_180 0 182 (dk_at dksX13_chosen_2 16 rfl rfl)
theorem dX13_chosen_66 : decode cX13_chosen 66 = .ok (.iload_n 1, 1) := dk_27 (dk_at dksX13_chosen_2 19 rfl rfl)
theorem dX13_chosen_67 : decode cX13_chosen 67 = .ok (.invokevirtual 132, 3) := dk_182 0 132 (dk_at dksX13_chosen_2 20 rfl rfl)
theorem dX13_chosen_70 : decode cX13_chosen 70 = .ok (.checkcast 154, 3) := dk_192 0 154 (dk_at dksX13_chosen_3 0 rfl rfl)
theorem dX13_chosen_73 : decode cX13_chosen 73 = .ok (.iload_n 2, 1) := dk_28 (dk_at dksX13_chosen_3 3 rfl rfl)
theorem dX13_chosen_74 : decode cX13_chosen 74 = .ok (.invokestatic 185, 3) := dk_184 0 185 (dk_at dksX13_chosen_3 4 rfl rfl)
theorem dX13_chosen_77 : decode cX13_chosen 77 = .ok (.ireturn, 1) := dk_172 (dk_at dksX13_chosen_3 7 rfl rfl)
abbrev cX13_plan : ByteArray := prog_17_method_8_code
def yX13_plan : MethodName := ⟨RX13, "plan", "()LSpillslotWorksModel$Plan;"⟩
def dkwX13_plan_0 : List UInt8 := [42, 42, 180, 0, 21, 4, 182, 0, 38, 176]
abbrev dktX13_plan_0 : List UInt8 := dkwX13_plan_0 ++ []
theorem dksX13_plan_0 : cX13_plan.data.toList.drop 0 = dktX13_plan_0 := by decide +kernel
theorem dX13_plan_0 : decode cX13_plan 0 = .ok (.aload_n 0, 1) := dk_42 (dk_at dksX13_plan_0 0 rfl rfl)
theorem dX13_plan_1 : decode cX13_plan 1 = .ok (.aload_n 0, 1) := dk_42 (dk_at dksX13_plan_0 1 rfl rfl)
theorem dX13_plan_2 : decode cX13_plan 2 = .ok (.getfield 21, 3) := dk_180 0 21 (dk_at dksX13_plan_0 2 rfl rfl)
theorem dX13_plan_5 : decode cX13_plan 5 = .ok (.iconst 1, 1) := dk_4 (dk_at dksX13_plan_0 5 rfl rfl)
theorem dX13_plan_6 : decode cX13_plan 6 = .ok (.invokevirtual 38, 3) := dk_182 0 38 (dk_at dksX13_plan_0 6 rfl rfl)
theorem dX13_plan_9 : decode cX13_plan 9 = .ok (.areturn, 1) := dk_176 (dk_at dksX13_plan_0 9 rfl rfl)
abbrev cX13_plan_2 : ByteArray := prog_17_method_7_code
def yX13_plan_2 : MethodName := ⟨RX13, "plan", "(LSpillslotWorksModel$Machine;Z)LSpillslotWorksModel$Plan;"⟩
def dkwX13_plan_2_0 : List UInt8 := [187, 0, 33, 89, 42, 180, 0, 10, 43, 28, 183, 0, 35, 176]
abbrev dktX13_plan_2_0 : List UInt8 := dkwX13_plan_2_0 ++ []
theorem dksX13_plan_2_0 : cX13_plan_2.data.toList.drop 0 = dktX13_plan_2_0 := by decide +kernel
theorem dX13_plan_2_0 : decode cX13_plan_2 0 = .ok (.new 33, 3) := dk_187 0 33 (dk_at dksX13_plan_2_0 0 rfl rfl)
theorem dX13_plan_2_3 : decode cX13_plan_2 3 = .ok (.dup, 1) := dk_89 (dk_at dksX13_plan_2_0 3 rfl rfl)
theorem dX13_plan_2_4 : decode cX13_plan_2 4 = .ok (.aload_n 0, 1) := dk_42 (dk_at dksX13_plan_2_0 4 rfl rfl)
theorem dX13_plan_2_5 : decode cX13_plan_2 5 = .ok (.getfield 10, 3) := dk_180 0 10 (dk_at dksX13_plan_2_0 5 rfl rfl)
theorem dX13_plan_2_8 : decode cX13_plan_2 8 = .ok (.aload_n 1, 1) := dk_43 (dk_at dksX13_plan_2_0 8 rfl rfl)
theorem dX13_plan_2_9 : decode cX13_plan_2 9 = .ok (.iload_n 2, 1) := dk_28 (dk_at dksX13_plan_2_0 9 rfl rfl)
theorem dX13_plan_2_10 : decode cX13_plan_2 10 = .ok (.invokespecial 35, 3) := dk_183 0 35 (dk_at dksX13_plan_2_0 10 rfl rfl)
theorem dX13_plan_2_13 : decode cX13_plan_2 13 = .ok (.areturn, 1) := dk_176 (dk_at dksX13_plan_2_0 13 rfl rfl)
abbrev cX13_has : ByteArray := prog_17_method_1_code
def yX13_has : MethodName := ⟨RX13, "has", "(II)Z"⟩
def dkwX13_has_0 : List UInt8 := [26, 27, 122, 4, 126, 4, 160, 0, 7, 4, 167, 0, 4, 3, 172]
abbrev dktX13_has_0 : List UInt8 := dkwX13_has_0 ++ []
theorem dksX13_has_0 : cX13_has.data.toList.drop 0 = dktX13_has_0 := by decide +kernel
theorem dX13_has_0 : decode cX13_has 0 = .ok (.iload_n 0, 1) := dk_26 (dk_at dksX13_has_0 0 rfl rfl)
theorem dX13_has_1 : decode cX13_has 1 = .ok (.iload_n 1, 1) := dk_27 (dk_at dksX13_has_0 1 rfl rfl)
theorem dX13_has_2 : decode cX13_has 2 = .ok (.ishr, 1) := dk_122 (dk_at dksX13_has_0 2 rfl rfl)
theorem dX13_has_3 : decode cX13_has 3 = .ok (.iconst 1, 1) := dk_4 (dk_at dksX13_has_0 3 rfl rfl)
theorem dX13_has_4 : decode cX13_has 4 = .ok (.iand, 1) := dk_126 (dk_at dksX13_has_0 4 rfl rfl)
theorem dX13_has_5 : decode cX13_has 5 = .ok (.iconst 1, 1) := dk_4 (dk_at dksX13_has_0 5 rfl rfl)
theorem dX13_has_6 : decode cX13_has 6 = .ok (.if_icmp .ne 7, 3) := dk_160 0 7 (dk_at dksX13_has_0 6 rfl rfl)
theorem dX13_has_9 : decode cX13_has 9 = .ok (.iconst 1, 1) := dk_4 (dk_at dksX13_has_0 9 rfl rfl)
theorem dX13_has_10 : decode cX13_has 10 = .ok (.goto 4, 3) := dk_167 0 4 (dk_at dksX13_has_0 10 rfl rfl)
theorem dX13_has_13 : decode cX13_has 13 = .ok (.iconst 0, 1) := dk_3 (dk_at dksX13_has_0 13 rfl rfl)
theorem dX13_has_14 : decode cX13_has 14 = .ok (.ireturn, 1) := dk_172 (dk_at dksX13_has_0 14 rfl rfl)
abbrev cX13_told : ByteArray := prog_17_method_26_code
def yX13_told : MethodName := ⟨RX13, "told", "(LSpillslotWorksModel$Op;I)I"⟩
def dkwX13_told_4 : List UInt8 := [172]
abbrev dktX13_told_4 : List UInt8 := dkwX13_told_4 ++ []
def dkwX13_told_3 : List UInt8 := [180, 0, 170, 79, 89, 16, 6, 42, 180, 0, 173, 79, 89, 16, 7, 42, 180, 0, 176, 79, 78, 45, 27, 46]
abbrev dktX13_told_3 : List UInt8 := dkwX13_told_3 ++ dktX13_told_4
def dkwX13_told_2 : List UInt8 := [79, 89, 5, 44, 3, 46, 79, 89, 6, 44, 4, 46, 79, 89, 7, 44, 5, 46, 79, 89, 8, 42]
abbrev dktX13_told_2 : List UInt8 := dkwX13_told_2 ++ dktX13_told_3
def dkwX13_told_1 : List UInt8 := [180, 0, 153, 190, 184, 0, 158, 16, 8, 188, 10, 89, 3, 42, 180, 0, 164, 79, 89, 4, 42, 180, 0, 167]
abbrev dktX13_told_1 : List UInt8 := dkwX13_told_1 ++ dktX13_told_2
def dkwX13_told_0 : List UInt8 := [6, 188, 10, 89, 3, 2, 79, 89, 4, 2, 79, 89, 5, 2, 79, 77, 42, 180, 0, 153, 3, 44, 3, 42]
abbrev dktX13_told_0 : List UInt8 := dkwX13_told_0 ++ dktX13_told_1
theorem dksX13_told_0 : cX13_told.data.toList.drop 0 = dktX13_told_0 := by decide +kernel
theorem dksX13_told_1 : cX13_told.data.toList.drop 24 = dktX13_told_1 := dk_seg dksX13_told_0 24 rfl rfl
theorem dksX13_told_2 : cX13_told.data.toList.drop 48 = dktX13_told_2 := dk_seg dksX13_told_1 24 rfl rfl
theorem dksX13_told_3 : cX13_told.data.toList.drop 70 = dktX13_told_3 := dk_seg dksX13_told_2 22 rfl rfl
theorem dksX13_told_4 : cX13_told.data.toList.drop 94 = dktX13_told_4 := dk_seg dksX13_told_3 24 rfl rfl
theorem dX13_told_0 : decode cX13_told 0 = .ok (.iconst 3, 1) := dk_6 (dk_at dksX13_told_0 0 rfl rfl)
theorem dX13_told_1 : decode cX13_told 1 = .ok (.newarray .int, 2) := dk_188_10 (dk_at dksX13_told_0 1 rfl rfl)
theorem dX13_told_3 : decode cX13_told 3 = .ok (.dup, 1) := dk_89 (dk_at dksX13_told_0 3 rfl rfl)
theorem dX13_told_4 : decode cX13_told 4 = .ok (.iconst 0, 1) := dk_3 (dk_at dksX13_told_0 4 rfl rfl)
theorem dX13_told_5 : decode cX13_told 5 = .ok (.iconst (-1), 1) := dk_2 (dk_at dksX13_told_0 5 rfl rfl)
theorem dX13_told_6 : decode cX13_told 6 = .ok (.iastore, 1) := dk_79 (dk_at dksX13_told_0 6 rfl rfl)
theorem dX13_told_7 : decode cX13_told 7 = .ok (.dup, 1) := dk_89 (dk_at dksX13_told_0 7 rfl rfl)
theorem dX13_told_8 : decode cX13_told 8 = .ok (.iconst 1, 1) := dk_4 (dk_at dksX13_told_0 8 rfl rfl)
theorem dX13_told_9 : decode cX13_told 9 = .ok (.iconst (-1), 1) := dk_2 (dk_at dksX13_told_0 9 rfl rfl)
theorem dX13_told_10 : decode cX13_told 10 = .ok (.iastore, 1) := dk_79 (dk_at dksX13_told_0 10 rfl rfl)
theorem dX13_told_11 : decode cX13_told 11 = .ok (.dup, 1) := dk_89 (dk_at dksX13_told_0 11 rfl rfl)
theorem dX13_told_12 : decode cX13_told 12 = .ok (.iconst 2, 1) := dk_5 (dk_at dksX13_told_0 12 rfl rfl)
theorem dX13_told_13 : decode cX13_told 13 = .ok (.iconst (-1), 1) := dk_2 (dk_at dksX13_told_0 13 rfl rfl)
theorem dX13_told_14 : decode cX13_told 14 = .ok (.iastore, 1) := dk_79 (dk_at dksX13_told_0 14 rfl rfl)
theorem dX13_told_15 : decode cX13_told 15 = .ok (.astore_n 2, 1) := dk_77 (dk_at dksX13_told_0 15 rfl rfl)
theorem dX13_told_16 : decode cX13_told 16 = .ok (.aload_n 0, 1) := dk_42 (dk_at dksX13_told_0 16 rfl rfl)
theorem dX13_told_17 : decode cX13_told 17 = .ok (.getfield 153, 3) := dk_180 0 153 (dk_at dksX13_told_0 17 rfl rfl)
theorem dX13_told_20 : decode cX13_told 20 = .ok (.iconst 0, 1) := dk_3 (dk_at dksX13_told_0 20 rfl rfl)
theorem dX13_told_21 : decode cX13_told 21 = .ok (.aload_n 2, 1) := dk_44 (dk_at dksX13_told_0 21 rfl rfl)
theorem dX13_told_22 : decode cX13_told 22 = .ok (.iconst 0, 1) := dk_3 (dk_at dksX13_told_0 22 rfl rfl)
theorem dX13_told_23 : decode cX13_told 23 = .ok (.aload_n 0, 1) := dk_42 (dk_at dksX13_told_0 23 rfl rfl)
theorem dX13_told_24 : decode cX13_told 24 = .ok (.getfield 153, 3) := dk_180 0 153 (dk_at dksX13_told_1 0 rfl rfl)
theorem dX13_told_27 : decode cX13_told 27 = .ok (.arraylength, 1) := dk_190 (dk_at dksX13_told_1 3 rfl rfl)
theorem dX13_told_28 : decode cX13_told 28 = .ok (.invokestatic 158, 3) := dk_184 0 158 (dk_at dksX13_told_1 4 rfl rfl)
theorem dX13_told_31 : decode cX13_told 31 = .ok (.bipush 8, 2) := dk_16 8 (dk_at dksX13_told_1 7 rfl rfl)
theorem dX13_told_33 : decode cX13_told 33 = .ok (.newarray .int, 2) := dk_188_10 (dk_at dksX13_told_1 9 rfl rfl)
theorem dX13_told_35 : decode cX13_told 35 = .ok (.dup, 1) := dk_89 (dk_at dksX13_told_1 11 rfl rfl)
theorem dX13_told_36 : decode cX13_told 36 = .ok (.iconst 0, 1) := dk_3 (dk_at dksX13_told_1 12 rfl rfl)
theorem dX13_told_37 : decode cX13_told 37 = .ok (.aload_n 0, 1) := dk_42 (dk_at dksX13_told_1 13 rfl rfl)
theorem dX13_told_38 : decode cX13_told 38 = .ok (.getfield 164, 3) := dk_180 0 164 (dk_at dksX13_told_1 14 rfl rfl)
theorem dX13_told_41 : decode cX13_told 41 = .ok (.iastore, 1) := dk_79 (dk_at dksX13_told_1 17 rfl rfl)
theorem dX13_told_42 : decode cX13_told 42 = .ok (.dup, 1) := dk_89 (dk_at dksX13_told_1 18 rfl rfl)
theorem dX13_told_43 : decode cX13_told 43 = .ok (.iconst 1, 1) := dk_4 (dk_at dksX13_told_1 19 rfl rfl)
theorem dX13_told_44 : decode cX13_told 44 = .ok (.aload_n 0, 1) := dk_42 (dk_at dksX13_told_1 20 rfl rfl)
theorem dX13_told_45 : decode cX13_told 45 = .ok (.getfield 167, 3) := dk_180 0 167 (dk_at dksX13_told_1 21 rfl rfl)
theorem dX13_told_48 : decode cX13_told 48 = .ok (.iastore, 1) := dk_79 (dk_at dksX13_told_2 0 rfl rfl)
theorem dX13_told_49 : decode cX13_told 49 = .ok (.dup, 1) := dk_89 (dk_at dksX13_told_2 1 rfl rfl)
theorem dX13_told_50 : decode cX13_told 50 = .ok (.iconst 2, 1) := dk_5 (dk_at dksX13_told_2 2 rfl rfl)
theorem dX13_told_51 : decode cX13_told 51 = .ok (.aload_n 2, 1) := dk_44 (dk_at dksX13_told_2 3 rfl rfl)
theorem dX13_told_52 : decode cX13_told 52 = .ok (.iconst 0, 1) := dk_3 (dk_at dksX13_told_2 4 rfl rfl)
theorem dX13_told_53 : decode cX13_told 53 = .ok (.iaload, 1) := dk_46 (dk_at dksX13_told_2 5 rfl rfl)
theorem dX13_told_54 : decode cX13_told 54 = .ok (.iastore, 1) := dk_79 (dk_at dksX13_told_2 6 rfl rfl)
theorem dX13_told_55 : decode cX13_told 55 = .ok (.dup, 1) := dk_89 (dk_at dksX13_told_2 7 rfl rfl)
theorem dX13_told_56 : decode cX13_told 56 = .ok (.iconst 3, 1) := dk_6 (dk_at dksX13_told_2 8 rfl rfl)
theorem dX13_told_57 : decode cX13_told 57 = .ok (.aload_n 2, 1) := dk_44 (dk_at dksX13_told_2 9 rfl rfl)
theorem dX13_told_58 : decode cX13_told 58 = .ok (.iconst 1, 1) := dk_4 (dk_at dksX13_told_2 10 rfl rfl)
theorem dX13_told_59 : decode cX13_told 59 = .ok (.iaload, 1) := dk_46 (dk_at dksX13_told_2 11 rfl rfl)
theorem dX13_told_60 : decode cX13_told 60 = .ok (.iastore, 1) := dk_79 (dk_at dksX13_told_2 12 rfl rfl)
theorem dX13_told_61 : decode cX13_told 61 = .ok (.dup, 1) := dk_89 (dk_at dksX13_told_2 13 rfl rfl)
theorem dX13_told_62 : decode cX13_told 62 = .ok (.iconst 4, 1) := dk_7 (dk_at dksX13_told_2 14 rfl rfl)
theorem dX13_told_63 : decode cX13_told 63 = .ok (.aload_n 2, 1) := dk_44 (dk_at dksX13_told_2 15 rfl rfl)
theorem dX13_told_64 : decode cX13_told 64 = .ok (.iconst 2, 1) := dk_5 (dk_at dksX13_told_2 16 rfl rfl)
theorem dX13_told_65 : decode cX13_told 65 = .ok (.iaload, 1) := dk_46 (dk_at dksX13_told_2 17 rfl rfl)
theorem dX13_told_66 : decode cX13_told 66 = .ok (.iastore, 1) := dk_79 (dk_at dksX13_told_2 18 rfl rfl)
theorem dX13_told_67 : decode cX13_told 67 = .ok (.dup, 1) := dk_89 (dk_at dksX13_told_2 19 rfl rfl)
theorem dX13_told_68 : decode cX13_told 68 = .ok (.iconst 5, 1) := dk_8 (dk_at dksX13_told_2 20 rfl rfl)
theorem dX13_told_69 : decode cX13_told 69 = .ok (.aload_n 0, 1) := dk_42 (dk_at dksX13_told_2 21 rfl rfl)
theorem dX13_told_70 : decode cX13_told 70 = .ok (.getfield 170, 3) := dk_180 0 170 (dk_at dksX13_told_3 0 rfl rfl)
theorem dX13_told_73 : decode cX13_told 73 = .ok (.iastore, 1) := dk_79 (dk_at dksX13_told_3 3 rfl rfl)
theorem dX13_told_74 : decode cX13_told 74 = .ok (.dup, 1) := dk_89 (dk_at dksX13_told_3 4 rfl rfl)
theorem dX13_told_75 : decode cX13_told 75 = .ok (.bipush 6, 2) := dk_16 6 (dk_at dksX13_told_3 5 rfl rfl)
theorem dX13_told_77 : decode cX13_told 77 = .ok (.aload_n 0, 1) := dk_42 (dk_at dksX13_told_3 7 rfl rfl)
theorem dX13_told_78 : decode cX13_told 78 = .ok (.getfield 173, 3) := dk_180 0 173 (dk_at dksX13_told_3 8 rfl rfl)
theorem dX13_told_81 : decode cX13_told 81 = .ok (.iastore, 1) := dk_79 (dk_at dksX13_told_3 11 rfl rfl)
theorem dX13_told_82 : decode cX13_told 82 = .ok (.dup, 1) := dk_89 (dk_at dksX13_told_3 12 rfl rfl)
theorem dX13_told_83 : decode cX13_told 83 = .ok (.bipush 7, 2) := dk_16 7 (dk_at dksX13_told_3 13 rfl rfl)
theorem dX13_told_85 : decode cX13_told 85 = .ok (.aload_n 0, 1) := dk_42 (dk_at dksX13_told_3 15 rfl rfl)
theorem dX13_told_86 : decode cX13_told 86 = .ok (.getfield 176, 3) := dk_180 0 176 (dk_at dksX13_told_3 16 rfl rfl)
theorem dX13_told_89 : decode cX13_told 89 = .ok (.iastore, 1) := dk_79 (dk_at dksX13_told_3 19 rfl rfl)
theorem dX13_told_90 : decode cX13_told 90 = .ok (.astore_n 3, 1) := dk_78 (dk_at dksX13_told_3 20 rfl rfl)
theorem dX13_told_91 : decode cX13_told 91 = .ok (.aload_n 3, 1) := dk_45 (dk_at dksX13_told_3 21 rfl rfl)
theorem dX13_told_92 : decode cX13_told 92 = .ok (.iload_n 1, 1) := dk_27 (dk_at dksX13_told_3 22 rfl rfl)
theorem dX13_told_93 : decode cX13_told 93 = .ok (.iaload, 1) := dk_46 (dk_at dksX13_told_3 23 rfl rfl)
theorem dX13_told_94 : decode cX13_told 94 = .ok (.ireturn, 1) := dk_172 (dk_at dksX13_told_4 0 rfl rfl)
abbrev cX13_ofValue : ByteArray := prog_17_method_29_code
def yX13_ofValue : MethodName := ⟨RX13, "ofValue", "(II)I"⟩
def dkwX13_ofValue_3 : List UInt8 := [167, 0, 13, 45, 180, 0, 218, 27, 50, 28, 184, 0, 224, 172]
abbrev dktX13_ofValue_3 : List UInt8 := dkwX13_ofValue_3 ++ []
def dkwX13_ofValue_2 : List UInt8 := [28, 3, 16, 7, 184, 0, 42, 154, 0, 7, 4, 167, 0, 4, 3, 5, 182, 0, 29, 153, 0, 7, 3]
abbrev dktX13_ofValue_2 : List UInt8 := dkwX13_ofValue_2 ++ dktX13_ofValue_3
def dkwX13_ofValue_1 : List UInt8 := [180, 0, 218, 27, 50, 182, 0, 222, 154, 0, 7, 4, 167, 0, 4, 3, 4, 182, 0, 50, 154, 0, 26, 42]
abbrev dktX13_ofValue_1 : List UInt8 := dkwX13_ofValue_1 ++ dktX13_ofValue_2
def dkwX13_ofValue_0 : List UInt8 := [42, 182, 0, 179, 78, 42, 27, 3, 45, 180, 0, 218, 190, 4, 100, 184, 0, 42, 153, 0, 15, 45]
abbrev dktX13_ofValue_0 : List UInt8 := dkwX13_ofValue_0 ++ dktX13_ofValue_1
theorem dksX13_ofValue_0 : cX13_ofValue.data.toList.drop 0 = dktX13_ofValue_0 := by decide +kernel
theorem dksX13_ofValue_1 : cX13_ofValue.data.toList.drop 22 = dktX13_ofValue_1 := dk_seg dksX13_ofValue_0 22 rfl rfl
theorem dksX13_ofValue_2 : cX13_ofValue.data.toList.drop 46 = dktX13_ofValue_2 := dk_seg dksX13_ofValue_1 24 rfl rfl
theorem dksX13_ofValue_3 : cX13_ofValue.data.toList.drop 69 = dktX13_ofValue_3 := dk_seg dksX13_ofValue_2 23 rfl rfl
theorem dX13_ofValue_0 : decode cX13_ofValue 0 = .ok (.aload_n 0, 1) := dk_42 (dk_at dksX13_ofValue_0 0 rfl rfl)
theorem dX13_ofValue_1 : decode cX13_ofValue 1 = .ok (.invokevirtual 179, 3) := dk_182 0 179 (dk_at dksX13_ofValue_0 1 rfl rfl)
theorem dX13_ofValue_4 : decode cX13_ofValue 4 = .ok (.astore_n 3, 1) := dk_78 (dk_at dksX13_ofValue_0 4 rfl rfl)
theorem dX13_ofValue_5 : decode cX13_ofValue 5 = .ok (.aload_n 0, 1) := dk_42 (dk_at dksX13_ofValue_0 5 rfl rfl)
theorem dX13_ofValue_6 : decode cX13_ofValue 6 = .ok (.iload_n 1, 1) := dk_27 (dk_at dksX13_ofValue_0 6 rfl rfl)
theorem dX13_ofValue_7 : decode cX13_ofValue 7 = .ok (.iconst 0, 1) := dk_3 (dk_at dksX13_ofValue_0 7 rfl rfl)
theorem dX13_ofValue_8 : decode cX13_ofValue 8 = .ok (.aload_n 3, 1) := dk_45 (dk_at dksX13_ofValue_0 8 rfl rfl)
theorem dX13_ofValue_9 : decode cX13_ofValue 9 = .ok (.getfield 218, 3) := dk_180 0 218 (dk_at dksX13_ofValue_0 9 rfl rfl)
theorem dX13_ofValue_12 : decode cX13_ofValue 12 = .ok (.arraylength, 1) := dk_190 (dk_at dksX13_ofValue_0 12 rfl rfl)
theorem dX13_ofValue_13 : decode cX13_ofValue 13 = .ok (.iconst 1, 1) := dk_4 (dk_at dksX13_ofValue_0 13 rfl rfl)
theorem dX13_ofValue_14 : decode cX13_ofValue 14 = .ok (.isub, 1) := dk_100 (dk_at dksX13_ofValue_0 14 rfl rfl)
theorem dX13_ofValue_15 : decode cX13_ofValue 15 = .ok (.invokestatic 42, 3) := dk_184 0 42 (dk_at dksX13_ofValue_0 15 rfl rfl)
theorem dX13_ofValue_18 : decode cX13_ofValue 18 = .ok (.ifCond .eq 15, 3) := dk_153 0 15 (dk_at dksX13_ofValue_0 18 rfl rfl)
theorem dX13_ofValue_21 : decode cX13_ofValue 21 = .ok (.aload_n 3, 1) := dk_45 (dk_at dksX13_ofValue_0 21 rfl rfl)
theorem dX13_ofValue_22 : decode cX13_ofValue 22 = .ok (.getfield 218, 3) := dk_180 0 218 (dk_at dksX13_ofValue_1 0 rfl rfl)
theorem dX13_ofValue_25 : decode cX13_ofValue 25 = .ok (.iload_n 1, 1) := dk_27 (dk_at dksX13_ofValue_1 3 rfl rfl)
theorem dX13_ofValue_26 : decode cX13_ofValue 26 = .ok (.aaload, 1) := dk_50 (dk_at dksX13_ofValue_1 4 rfl rfl)
theorem dX13_ofValue_27 : decode cX13_ofValue 27 = .ok (.invokevirtual 222, 3) := dk_182 0 222 (dk_at dksX13_ofValue_1 5 rfl rfl)
theorem dX13_ofValue_30 : decode cX13_ofValue 30 = .ok (.ifCond .ne 7, 3) := dk_154 0 7 (dk_at dksX13_ofValue_1 8 rfl rfl)
theorem dX13_ofValue_33 : decode cX13_ofValue 33 = .ok (.iconst 1, 1) := dk_4 (dk_at dksX13_ofValue_1 11 rfl rfl)
theorem dX13_ofValue_34 : decode cX13_ofValue 34 = .ok (.goto 4, 3) := dk_167 0 4 (dk_at dksX13_ofValue_1 12 rfl rfl)
theorem dX13_ofValue_37 : decode cX13_ofValue 37 = .ok (.iconst 0, 1) := dk_3 (dk_at dksX13_ofValue_1 15 rfl rfl)
theorem dX13_ofValue_38 : decode cX13_ofValue 38 = .ok (.iconst 1, 1) := dk_4 (dk_at dksX13_ofValue_1 16 rfl rfl)
theorem dX13_ofValue_39 : decode cX13_ofValue 39 = .ok (.invokevirtual 50, 3) := dk_182 0 50 (dk_at dksX13_ofValue_1 17 rfl rfl)
theorem dX13_ofValue_42 : decode cX13_ofValue 42 = .ok (.ifCond .ne 26, 3) := dk_154 0 26 (dk_at dksX13_ofValue_1 20 rfl rfl)
theorem dX13_ofValue_45 : decode cX13_ofValue 45 = .ok (.aload_n 0, 1) := dk_42 (dk_at dksX13_ofValue_1 23 rfl rfl)
theorem dX13_ofValue_46 : decode cX13_ofValue 46 = .ok (.iload_n 2, 1) := dk_28 (dk_at dksX13_ofValue_2 0 rfl rfl)
theorem dX13_ofValue_47 : decode cX13_ofValue 47 = .ok (.iconst 0, 1) := dk_3 (dk_at dksX13_ofValue_2 1 rfl rfl)
theorem dX13_ofValue_48 : decode cX13_ofValue 48 = .ok (.bipush 7, 2) := dk_16 7 (dk_at dksX13_ofValue_2 2 rfl rfl)
theorem dX13_ofValue_50 : decode cX13_ofValue 50 = .ok (.invokestatic 42, 3) := dk_184 0 42 (dk_at dksX13_ofValue_2 4 rfl rfl)
theorem dX13_ofValue_53 : decode cX13_ofValue 53 = .ok (.ifCond .ne 7, 3) := dk_154 0 7 (dk_at dksX13_ofValue_2 7 rfl rfl)
theorem dX13_ofValue_56 : decode cX13_ofValue 56 = .ok (.iconst 1, 1) := dk_4 (dk_at dksX13_ofValue_2 10 rfl rfl)
theorem dX13_ofValue_57 : decode cX13_ofValue 57 = .ok (.goto 4, 3) := dk_167 0 4 (dk_at dksX13_ofValue_2 11 rfl rfl)
theorem dX13_ofValue_60 : decode cX13_ofValue 60 = .ok (.iconst 0, 1) := dk_3 (dk_at dksX13_ofValue_2 14 rfl rfl)
theorem dX13_ofValue_61 : decode cX13_ofValue 61 = .ok (.iconst 2, 1) := dk_5 (dk_at dksX13_ofValue_2 15 rfl rfl)
theorem dX13_ofValue_62 : decode cX13_ofValue 62 = .ok (.invokevirtual 29, 3) := dk_182 0 29 (dk_at dksX13_ofValue_2 16 rfl rfl)
theorem dX13_ofValue_65 : decode cX13_ofValue 65 = .ok (.ifCond .eq 7, 3) := dk_153 0 7 (dk_at dksX13_ofValue_2 19 rfl rfl)
theorem dX13_ofValue_68 : decode cX13_ofValue 68 = .ok (.iconst 0, 1) := dk_3 (dk_at dksX13_ofValue_2 22 rfl rfl)
theorem dX13_ofValue_69 : decode cX13_ofValue 69 = .ok (.goto 13, 3) := dk_167 0 13 (dk_at dksX13_ofValue_3 0 rfl rfl)
theorem dX13_ofValue_72 : decode cX13_ofValue 72 = .ok (.aload_n 3, 1) := dk_45 (dk_at dksX13_ofValue_3 3 rfl rfl)
theorem dX13_ofValue_73 : decode cX13_ofValue 73 = .ok (.getfield 218, 3) := dk_180 0 218 (dk_at dksX13_ofValue_3 4 rfl rfl)
theorem dX13_ofValue_76 : decode cX13_ofValue 76 = .ok (.iload_n 1, 1) := dk_27 (dk_at dksX13_ofValue_3 7 rfl rfl)
theorem dX13_ofValue_77 : decode cX13_ofValue 77 = .ok (.aaload, 1) := dk_50 (dk_at dksX13_ofValue_3 8 rfl rfl)
theorem dX13_ofValue_78 : decode cX13_ofValue 78 = .ok (.iload_n 2, 1) := dk_28 (dk_at dksX13_ofValue_3 9 rfl rfl)
theorem dX13_ofValue_79 : decode cX13_ofValue 79 = .ok (.invokestatic 224, 3) := dk_184 0 224 (dk_at dksX13_ofValue_3 10 rfl rfl)
theorem dX13_ofValue_82 : decode cX13_ofValue 82 = .ok (.ireturn, 1) := dk_172 (dk_at dksX13_ofValue_3 13 rfl rfl)
abbrev cX13_told_2 : ByteArray := prog_17_method_28_code
def yX13_told_2 : MethodName := ⟨RX13, "told", "(LSpillslotWorksModel$Life;I)I"⟩
def dkwX13_told_2_3 : List UInt8 := [42, 180, 0, 215, 79, 77, 44, 27, 46, 172]
abbrev dktX13_told_2_3 : List UInt8 := dkwX13_told_2_3 ++ []
def dkwX13_told_2_2 : List UInt8 := [42, 180, 0, 209, 153, 0, 7, 4, 167, 0, 4, 3, 79, 89, 16, 6, 42, 180, 0, 212, 79, 89, 16, 7]
abbrev dktX13_told_2_2 : List UInt8 := dkwX13_told_2_2 ++ dktX13_told_2_3
def dkwX13_told_2_1 : List UInt8 := [79, 89, 6, 42, 180, 0, 200, 79, 89, 7, 42, 180, 0, 203, 79, 89, 8, 42, 182, 0, 206, 153, 0, 14]
abbrev dktX13_told_2_1 : List UInt8 := dkwX13_told_2_1 ++ dktX13_told_2_2
def dkwX13_told_2_0 : List UInt8 := [16, 8, 188, 10, 89, 3, 42, 180, 0, 189, 79, 89, 4, 42, 180, 0, 194, 79, 89, 5, 42, 180, 0, 197]
abbrev dktX13_told_2_0 : List UInt8 := dkwX13_told_2_0 ++ dktX13_told_2_1
theorem dksX13_told_2_0 : cX13_told_2.data.toList.drop 0 = dktX13_told_2_0 := by decide +kernel
theorem dksX13_told_2_1 : cX13_told_2.data.toList.drop 24 = dktX13_told_2_1 := dk_seg dksX13_told_2_0 24 rfl rfl
theorem dksX13_told_2_2 : cX13_told_2.data.toList.drop 48 = dktX13_told_2_2 := dk_seg dksX13_told_2_1 24 rfl rfl
theorem dksX13_told_2_3 : cX13_told_2.data.toList.drop 72 = dktX13_told_2_3 := dk_seg dksX13_told_2_2 24 rfl rfl
theorem dX13_told_2_0 : decode cX13_told_2 0 = .ok (.bipush 8, 2) := dk_16 8 (dk_at dksX13_told_2_0 0 rfl rfl)
theorem dX13_told_2_2 : decode cX13_told_2 2 = .ok (.newarray .int, 2) := dk_188_10 (dk_at dksX13_told_2_0 2 rfl rfl)
theorem dX13_told_2_4 : decode cX13_told_2 4 = .ok (.dup, 1) := dk_89 (dk_at dksX13_told_2_0 4 rfl rfl)
theorem dX13_told_2_5 : decode cX13_told_2 5 = .ok (.iconst 0, 1) := dk_3 (dk_at dksX13_told_2_0 5 rfl rfl)
theorem dX13_told_2_6 : decode cX13_told_2 6 = .ok (.aload_n 0, 1) := dk_42 (dk_at dksX13_told_2_0 6 rfl rfl)
theorem dX13_told_2_7 : decode cX13_told_2 7 = .ok (.getfield 189, 3) := dk_180 0 189 (dk_at dksX13_told_2_0 7 rfl rfl)
theorem dX13_told_2_10 : decode cX13_told_2 10 = .ok (.iastore, 1) := dk_79 (dk_at dksX13_told_2_0 10 rfl rfl)
theorem dX13_told_2_11 : decode cX13_told_2 11 = .ok (.dup, 1) := dk_89 (dk_at dksX13_told_2_0 11 rfl rfl)
theorem dX13_told_2_12 : decode cX13_told_2 12 = .ok (.iconst 1, 1) := dk_4 (dk_at dksX13_told_2_0 12 rfl rfl)
theorem dX13_told_2_13 : decode cX13_told_2 13 = .ok (.aload_n 0, 1) := dk_42 (dk_at dksX13_told_2_0 13 rfl rfl)
theorem dX13_told_2_14 : decode cX13_told_2 14 = .ok (.getfield 194, 3) := dk_180 0 194 (dk_at dksX13_told_2_0 14 rfl rfl)
theorem dX13_told_2_17 : decode cX13_told_2 17 = .ok (.iastore, 1) := dk_79 (dk_at dksX13_told_2_0 17 rfl rfl)
theorem dX13_told_2_18 : decode cX13_told_2 18 = .ok (.dup, 1) := dk_89 (dk_at dksX13_told_2_0 18 rfl rfl)
theorem dX13_told_2_19 : decode cX13_told_2 19 = .ok (.iconst 2, 1) := dk_5 (dk_at dksX13_told_2_0 19 rfl rfl)
theorem dX13_told_2_20 : decode cX13_told_2 20 = .ok (.aload_n 0, 1) := dk_42 (dk_at dksX13_told_2_0 20 rfl rfl)
theorem dX13_told_2_21 : decode cX13_told_2 21 = .ok (.getfield 197, 3) := dk_180 0 197 (dk_at dksX13_told_2_0 21 rfl rfl)
theorem dX13_told_2_24 : decode cX13_told_2 24 = .ok (.iastore, 1) := dk_79 (dk_at dksX13_told_2_1 0 rfl rfl)
theorem dX13_told_2_25 : decode cX13_told_2 25 = .ok (.dup, 1) := dk_89 (dk_at dksX13_told_2_1 1 rfl rfl)
theorem dX13_told_2_26 : decode cX13_told_2 26 = .ok (.iconst 3, 1) := dk_6 (dk_at dksX13_told_2_1 2 rfl rfl)
theorem dX13_told_2_27 : decode cX13_told_2 27 = .ok (.aload_n 0, 1) := dk_42 (dk_at dksX13_told_2_1 3 rfl rfl)
theorem dX13_told_2_28 : decode cX13_told_2 28 = .ok (.getfield 200, 3) := dk_180 0 200 (dk_at dksX13_told_2_1 4 rfl rfl)
theorem dX13_told_2_31 : decode cX13_told_2 31 = .ok (.iastore, 1) := dk_79 (dk_at dksX13_told_2_1 7 rfl rfl)
theorem dX13_told_2_32 : decode cX13_told_2 32 = .ok (.dup, 1) := dk_89 (dk_at dksX13_told_2_1 8 rfl rfl)
theorem dX13_told_2_33 : decode cX13_told_2 33 = .ok (.iconst 4, 1) := dk_7 (dk_at dksX13_told_2_1 9 rfl rfl)
theorem dX13_told_2_34 : decode cX13_told_2 34 = .ok (.aload_n 0, 1) := dk_42 (dk_at dksX13_told_2_1 10 rfl rfl)
theorem dX13_told_2_35 : decode cX13_told_2 35 = .ok (.getfield 203, 3) := dk_180 0 203 (dk_at dksX13_told_2_1 11 rfl rfl)
theorem dX13_told_2_38 : decode cX13_told_2 38 = .ok (.iastore, 1) := dk_79 (dk_at dksX13_told_2_1 14 rfl rfl)
theorem dX13_told_2_39 : decode cX13_told_2 39 = .ok (.dup, 1) := dk_89 (dk_at dksX13_told_2_1 15 rfl rfl)
theorem dX13_told_2_40 : decode cX13_told_2 40 = .ok (.iconst 5, 1) := dk_8 (dk_at dksX13_told_2_1 16 rfl rfl)
theorem dX13_told_2_41 : decode cX13_told_2 41 = .ok (.aload_n 0, 1) := dk_42 (dk_at dksX13_told_2_1 17 rfl rfl)
theorem dX13_told_2_42 : decode cX13_told_2 42 = .ok (.invokevirtual 206, 3) := dk_182 0 206 (dk_at dksX13_told_2_1 18 rfl rfl)
theorem dX13_told_2_45 : decode cX13_told_2 45 = .ok (.ifCond .eq 14, 3) := dk_153 0 14 (dk_at dksX13_told_2_1 21 rfl rfl)
theorem dX13_told_2_48 : decode cX13_told_2 48 = .ok (.aload_n 0, 1) := dk_42 (dk_at dksX13_told_2_2 0 rfl rfl)
theorem dX13_told_2_49 : decode cX13_told_2 49 = .ok (.getfield 209, 3) := dk_180 0 209 (dk_at dksX13_told_2_2 1 rfl rfl)
theorem dX13_told_2_52 : decode cX13_told_2 52 = .ok (.ifCond .eq 7, 3) := dk_153 0 7 (dk_at dksX13_told_2_2 4 rfl rfl)
theorem dX13_told_2_55 : decode cX13_told_2 55 = .ok (.iconst 1, 1) := dk_4 (dk_at dksX13_told_2_2 7 rfl rfl)
theorem dX13_told_2_56 : decode cX13_told_2 56 = .ok (.goto 4, 3) := dk_167 0 4 (dk_at dksX13_told_2_2 8 rfl rfl)
theorem dX13_told_2_59 : decode cX13_told_2 59 = .ok (.iconst 0, 1) := dk_3 (dk_at dksX13_told_2_2 11 rfl rfl)
theorem dX13_told_2_60 : decode cX13_told_2 60 = .ok (.iastore, 1) := dk_79 (dk_at dksX13_told_2_2 12 rfl rfl)
theorem dX13_told_2_61 : decode cX13_told_2 61 = .ok (.dup, 1) := dk_89 (dk_at dksX13_told_2_2 13 rfl rfl)
theorem dX13_told_2_62 : decode cX13_told_2 62 = .ok (.bipush 6, 2) := dk_16 6 (dk_at dksX13_told_2_2 14 rfl rfl)
theorem dX13_told_2_64 : decode cX13_told_2 64 = .ok (.aload_n 0, 1) := dk_42 (dk_at dksX13_told_2_2 16 rfl rfl)
theorem dX13_told_2_65 : decode cX13_told_2 65 = .ok (.getfield 212, 3) := dk_180 0 212 (dk_at dksX13_told_2_2 17 rfl rfl)
theorem dX13_told_2_68 : decode cX13_told_2 68 = .ok (.iastore, 1) := dk_79 (dk_at dksX13_told_2_2 20 rfl rfl)
theorem dX13_told_2_69 : decode cX13_told_2 69 = .ok (.dup, 1) := dk_89 (dk_at dksX13_told_2_2 21 rfl rfl)
theorem dX13_told_2_70 : decode cX13_told_2 70 = .ok (.bipush 7, 2) := dk_16 7 (dk_at dksX13_told_2_2 22 rfl rfl)
theorem dX13_told_2_72 : decode cX13_told_2 72 = .ok (.aload_n 0, 1) := dk_42 (dk_at dksX13_told_2_3 0 rfl rfl)
theorem dX13_told_2_73 : decode cX13_told_2 73 = .ok (.getfield 215, 3) := dk_180 0 215 (dk_at dksX13_told_2_3 1 rfl rfl)
theorem dX13_told_2_76 : decode cX13_told_2 76 = .ok (.iastore, 1) := dk_79 (dk_at dksX13_told_2_3 4 rfl rfl)
theorem dX13_told_2_77 : decode cX13_told_2 77 = .ok (.astore_n 2, 1) := dk_77 (dk_at dksX13_told_2_3 5 rfl rfl)
theorem dX13_told_2_78 : decode cX13_told_2 78 = .ok (.aload_n 2, 1) := dk_44 (dk_at dksX13_told_2_3 6 rfl rfl)
theorem dX13_told_2_79 : decode cX13_told_2 79 = .ok (.iload_n 1, 1) := dk_27 (dk_at dksX13_told_2_3 7 rfl rfl)
theorem dX13_told_2_80 : decode cX13_told_2 80 = .ok (.iaload, 1) := dk_46 (dk_at dksX13_told_2_3 8 rfl rfl)
theorem dX13_told_2_81 : decode cX13_told_2 81 = .ok (.ireturn, 1) := dk_172 (dk_at dksX13_told_2_3 9 rfl rfl)
abbrev cX13_mapAt : ByteArray := prog_17_method_31_code
def yX13_mapAt : MethodName := ⟨RX13, "mapAt", "(II)I"⟩
def dkwX13_mapAt_2 : List UInt8 := [167, 0, 4, 3, 5, 182, 0, 29, 153, 0, 7, 3, 167, 0, 9, 45, 27, 28, 184, 0, 241, 172]
abbrev dktX13_mapAt_2 : List UInt8 := dkwX13_mapAt_2 ++ []
def dkwX13_mapAt_1 : List UInt8 := [167, 0, 4, 3, 4, 182, 0, 50, 154, 0, 25, 42, 28, 3, 6, 184, 0, 42, 154, 0, 7, 4]
abbrev dktX13_mapAt_1 : List UInt8 := dkwX13_mapAt_1 ++ dktX13_mapAt_2
def dkwX13_mapAt_0 : List UInt8 := [42, 182, 0, 179, 78, 42, 27, 3, 45, 180, 0, 227, 182, 0, 71, 4, 100, 184, 0, 42, 154, 0, 7, 4]
abbrev dktX13_mapAt_0 : List UInt8 := dkwX13_mapAt_0 ++ dktX13_mapAt_1
theorem dksX13_mapAt_0 : cX13_mapAt.data.toList.drop 0 = dktX13_mapAt_0 := by decide +kernel
theorem dksX13_mapAt_1 : cX13_mapAt.data.toList.drop 24 = dktX13_mapAt_1 := dk_seg dksX13_mapAt_0 24 rfl rfl
theorem dksX13_mapAt_2 : cX13_mapAt.data.toList.drop 46 = dktX13_mapAt_2 := dk_seg dksX13_mapAt_1 22 rfl rfl
theorem dX13_mapAt_0 : decode cX13_mapAt 0 = .ok (.aload_n 0, 1) := dk_42 (dk_at dksX13_mapAt_0 0 rfl rfl)
theorem dX13_mapAt_1 : decode cX13_mapAt 1 = .ok (.invokevirtual 179, 3) := dk_182 0 179 (dk_at dksX13_mapAt_0 1 rfl rfl)
theorem dX13_mapAt_4 : decode cX13_mapAt 4 = .ok (.astore_n 3, 1) := dk_78 (dk_at dksX13_mapAt_0 4 rfl rfl)
theorem dX13_mapAt_5 : decode cX13_mapAt 5 = .ok (.aload_n 0, 1) := dk_42 (dk_at dksX13_mapAt_0 5 rfl rfl)
theorem dX13_mapAt_6 : decode cX13_mapAt 6 = .ok (.iload_n 1, 1) := dk_27 (dk_at dksX13_mapAt_0 6 rfl rfl)
theorem dX13_mapAt_7 : decode cX13_mapAt 7 = .ok (.iconst 0, 1) := dk_3 (dk_at dksX13_mapAt_0 7 rfl rfl)
theorem dX13_mapAt_8 : decode cX13_mapAt 8 = .ok (.aload_n 3, 1) := dk_45 (dk_at dksX13_mapAt_0 8 rfl rfl)
theorem dX13_mapAt_9 : decode cX13_mapAt 9 = .ok (.getfield 227, 3) := dk_180 0 227 (dk_at dksX13_mapAt_0 9 rfl rfl)
theorem dX13_mapAt_12 : decode cX13_mapAt 12 = .ok (.invokevirtual 71, 3) := dk_182 0 71 (dk_at dksX13_mapAt_0 12 rfl rfl)
theorem dX13_mapAt_15 : decode cX13_mapAt 15 = .ok (.iconst 1, 1) := dk_4 (dk_at dksX13_mapAt_0 15 rfl rfl)
theorem dX13_mapAt_16 : decode cX13_mapAt 16 = .ok (.isub, 1) := dk_100 (dk_at dksX13_mapAt_0 16 rfl rfl)
theorem dX13_mapAt_17 : decode cX13_mapAt 17 = .ok (.invokestatic 42, 3) := dk_184 0 42 (dk_at dksX13_mapAt_0 17 rfl rfl)
theorem dX13_mapAt_20 : decode cX13_mapAt 20 = .ok (.ifCond .ne 7, 3) := dk_154 0 7 (dk_at dksX13_mapAt_0 20 rfl rfl)
theorem dX13_mapAt_23 : decode cX13_mapAt 23 = .ok (.iconst 1, 1) := dk_4 (dk_at dksX13_mapAt_0 23 rfl rfl)
theorem dX13_mapAt_24 : decode cX13_mapAt 24 = .ok (.goto 4, 3) := dk_167 0 4 (dk_at dksX13_mapAt_1 0 rfl rfl)
theorem dX13_mapAt_27 : decode cX13_mapAt 27 = .ok (.iconst 0, 1) := dk_3 (dk_at dksX13_mapAt_1 3 rfl rfl)
theorem dX13_mapAt_28 : decode cX13_mapAt 28 = .ok (.iconst 1, 1) := dk_4 (dk_at dksX13_mapAt_1 4 rfl rfl)
theorem dX13_mapAt_29 : decode cX13_mapAt 29 = .ok (.invokevirtual 50, 3) := dk_182 0 50 (dk_at dksX13_mapAt_1 5 rfl rfl)
theorem dX13_mapAt_32 : decode cX13_mapAt 32 = .ok (.ifCond .ne 25, 3) := dk_154 0 25 (dk_at dksX13_mapAt_1 8 rfl rfl)
theorem dX13_mapAt_35 : decode cX13_mapAt 35 = .ok (.aload_n 0, 1) := dk_42 (dk_at dksX13_mapAt_1 11 rfl rfl)
theorem dX13_mapAt_36 : decode cX13_mapAt 36 = .ok (.iload_n 2, 1) := dk_28 (dk_at dksX13_mapAt_1 12 rfl rfl)
theorem dX13_mapAt_37 : decode cX13_mapAt 37 = .ok (.iconst 0, 1) := dk_3 (dk_at dksX13_mapAt_1 13 rfl rfl)
theorem dX13_mapAt_38 : decode cX13_mapAt 38 = .ok (.iconst 3, 1) := dk_6 (dk_at dksX13_mapAt_1 14 rfl rfl)
theorem dX13_mapAt_39 : decode cX13_mapAt 39 = .ok (.invokestatic 42, 3) := dk_184 0 42 (dk_at dksX13_mapAt_1 15 rfl rfl)
theorem dX13_mapAt_42 : decode cX13_mapAt 42 = .ok (.ifCond .ne 7, 3) := dk_154 0 7 (dk_at dksX13_mapAt_1 18 rfl rfl)
theorem dX13_mapAt_45 : decode cX13_mapAt 45 = .ok (.iconst 1, 1) := dk_4 (dk_at dksX13_mapAt_1 21 rfl rfl)
theorem dX13_mapAt_46 : decode cX13_mapAt 46 = .ok (.goto 4, 3) := dk_167 0 4 (dk_at dksX13_mapAt_2 0 rfl rfl)
theorem dX13_mapAt_49 : decode cX13_mapAt 49 = .ok (.iconst 0, 1) := dk_3 (dk_at dksX13_mapAt_2 3 rfl rfl)
theorem dX13_mapAt_50 : decode cX13_mapAt 50 = .ok (.iconst 2, 1) := dk_5 (dk_at dksX13_mapAt_2 4 rfl rfl)
theorem dX13_mapAt_51 : decode cX13_mapAt 51 = .ok (.invokevirtual 29, 3) := dk_182 0 29 (dk_at dksX13_mapAt_2 5 rfl rfl)
theorem dX13_mapAt_54 : decode cX13_mapAt 54 = .ok (.ifCond .eq 7, 3) := dk_153 0 7 (dk_at dksX13_mapAt_2 8 rfl rfl)
theorem dX13_mapAt_57 : decode cX13_mapAt 57 = .ok (.iconst 0, 1) := dk_3 (dk_at dksX13_mapAt_2 11 rfl rfl)
theorem dX13_mapAt_58 : decode cX13_mapAt 58 = .ok (.goto 9, 3) := dk_167 0 9 (dk_at dksX13_mapAt_2 12 rfl rfl)
theorem dX13_mapAt_61 : decode cX13_mapAt 61 = .ok (.aload_n 3, 1) := dk_45 (dk_at dksX13_mapAt_2 15 rfl rfl)
theorem dX13_mapAt_62 : decode cX13_mapAt 62 = .ok (.iload_n 1, 1) := dk_27 (dk_at dksX13_mapAt_2 16 rfl rfl)
theorem dX13_mapAt_63 : decode cX13_mapAt 63 = .ok (.iload_n 2, 1) := dk_28 (dk_at dksX13_mapAt_2 17 rfl rfl)
theorem dX13_mapAt_64 : decode cX13_mapAt 64 = .ok (.invokestatic 241, 3) := dk_184 0 241 (dk_at dksX13_mapAt_2 18 rfl rfl)
theorem dX13_mapAt_67 : decode cX13_mapAt 67 = .ok (.ireturn, 1) := dk_172 (dk_at dksX13_mapAt_2 21 rfl rfl)
abbrev cX13_mapOf : ByteArray := prog_17_method_30_code
def yX13_mapOf : MethodName := ⟨RX13, "mapOf", "(LSpillslotWorksModel$Plan;II)I"⟩
def dkwX13_mapOf_6 : List UInt8 := [132, 4, 1, 167, 255, 146, 21, 4, 172]
abbrev dktX13_mapOf_6 : List UInt8 := dkwX13_mapOf_6 ++ []
def dkwX13_mapOf_5 : List UInt8 := [54, 4, 28, 6, 160, 0, 22, 25, 6, 182, 0, 206, 153, 0, 14, 25, 6, 180, 0, 209, 153, 0, 6]
abbrev dktX13_mapOf_5 : List UInt8 := dkwX13_mapOf_5 ++ dktX13_mapOf_6
def dkwX13_mapOf_4 : List UInt8 := [28, 5, 160, 0, 24, 25, 6, 180, 0, 203, 2, 159, 0, 15, 21, 4, 4, 25, 6, 180, 0, 203, 120, 128]
abbrev dktX13_mapOf_4 : List UInt8 := dkwX13_mapOf_4 ++ dktX13_mapOf_5
def dkwX13_mapOf_3 : List UInt8 := [160, 0, 24, 25, 6, 180, 0, 200, 2, 159, 0, 15, 21, 4, 4, 25, 6, 180, 0, 200, 120, 128, 54, 4]
abbrev dktX13_mapOf_3 : List UInt8 := dkwX13_mapOf_3 ++ dktX13_mapOf_4
def dkwX13_mapOf_2 : List UInt8 := [185, 0, 116, 1, 0, 192, 0, 190, 58, 6, 25, 6, 29, 182, 0, 238, 154, 0, 6, 167, 255, 225, 28, 4]
abbrev dktX13_mapOf_2 : List UInt8 := dkwX13_mapOf_2 ++ dktX13_mapOf_3
def dkwX13_mapOf_1 : List UInt8 := [42, 180, 0, 235, 182, 0, 107, 58, 5, 25, 5, 185, 0, 111, 1, 0, 153, 0, 106, 25, 5]
abbrev dktX13_mapOf_1 : List UInt8 := dkwX13_mapOf_1 ++ dktX13_mapOf_2
def dkwX13_mapOf_0 : List UInt8 := [42, 180, 0, 227, 27, 182, 0, 132, 192, 0, 230, 182, 0, 232, 62, 28, 154, 0, 5, 29, 172, 3, 54, 4]
abbrev dktX13_mapOf_0 : List UInt8 := dkwX13_mapOf_0 ++ dktX13_mapOf_1
theorem dksX13_mapOf_0 : cX13_mapOf.data.toList.drop 0 = dktX13_mapOf_0 := by decide +kernel
theorem dksX13_mapOf_1 : cX13_mapOf.data.toList.drop 24 = dktX13_mapOf_1 := dk_seg dksX13_mapOf_0 24 rfl rfl
theorem dksX13_mapOf_2 : cX13_mapOf.data.toList.drop 45 = dktX13_mapOf_2 := dk_seg dksX13_mapOf_1 21 rfl rfl
theorem dksX13_mapOf_3 : cX13_mapOf.data.toList.drop 69 = dktX13_mapOf_3 := dk_seg dksX13_mapOf_2 24 rfl rfl
theorem dksX13_mapOf_4 : cX13_mapOf.data.toList.drop 93 = dktX13_mapOf_4 := dk_seg dksX13_mapOf_3 24 rfl rfl
theorem dksX13_mapOf_5 : cX13_mapOf.data.toList.drop 117 = dktX13_mapOf_5 := dk_seg dksX13_mapOf_4 24 rfl rfl
theorem dksX13_mapOf_6 : cX13_mapOf.data.toList.drop 140 = dktX13_mapOf_6 := dk_seg dksX13_mapOf_5 23 rfl rfl
theorem dX13_mapOf_0 : decode cX13_mapOf 0 = .ok (.aload_n 0, 1) := dk_42 (dk_at dksX13_mapOf_0 0 rfl rfl)
theorem dX13_mapOf_1 : decode cX13_mapOf 1 = .ok (.getfield 227, 3) := dk_180 0 227 (dk_at dksX13_mapOf_0 1 rfl rfl)
theorem dX13_mapOf_4 : decode cX13_mapOf 4 = .ok (.iload_n 1, 1) := dk_27 (dk_at dksX13_mapOf_0 4 rfl rfl)
theorem dX13_mapOf_5 : decode cX13_mapOf 5 = .ok (.invokevirtual 132, 3) := dk_182 0 132 (dk_at dksX13_mapOf_0 5 rfl rfl)
theorem dX13_mapOf_8 : decode cX13_mapOf 8 = .ok (.checkcast 230, 3) := dk_192 0 230 (dk_at dksX13_mapOf_0 8 rfl rfl)
theorem dX13_mapOf_11 : decode cX13_mapOf 11 = .ok (.invokevirtual 232, 3) := dk_182 0 232 (dk_at dksX13_mapOf_0 11 rfl rfl)
theorem dX13_mapOf_14 : decode cX13_mapOf 14 = .ok (.istore_n 3, 1) := dk_62 (dk_at dksX13_mapOf_0 14 rfl rfl)
theorem dX13_mapOf_15 : decode cX13_mapOf 15 = .ok (.iload_n 2, 1) := dk_28 (dk_at dksX13_mapOf_0 15 rfl rfl)
theorem dX13_mapOf_16 : decode cX13_mapOf 16 = .ok (.ifCond .ne 5, 3) := dk_154 0 5 (dk_at dksX13_mapOf_0 16 rfl rfl)
theorem dX13_mapOf_19 : decode cX13_mapOf 19 = .ok (.iload_n 3, 1) := dk_29 (dk_at dksX13_mapOf_0 19 rfl rfl)
theorem dX13_mapOf_20 : decode cX13_mapOf 20 = .ok (.ireturn, 1) := dk_172 (dk_at dksX13_mapOf_0 20 rfl rfl)
theorem dX13_mapOf_21 : decode cX13_mapOf 21 = .ok (.iconst 0, 1) := dk_3 (dk_at dksX13_mapOf_0 21 rfl rfl)
theorem dX13_mapOf_22 : decode cX13_mapOf 22 = .ok (.istore 4, 2) := dk_54 4 (dk_at dksX13_mapOf_0 22 rfl rfl)
theorem dX13_mapOf_24 : decode cX13_mapOf 24 = .ok (.aload_n 0, 1) := dk_42 (dk_at dksX13_mapOf_1 0 rfl rfl)
theorem dX13_mapOf_25 : decode cX13_mapOf 25 = .ok (.getfield 235, 3) := dk_180 0 235 (dk_at dksX13_mapOf_1 1 rfl rfl)
theorem dX13_mapOf_28 : decode cX13_mapOf 28 = .ok (.invokevirtual 107, 3) := dk_182 0 107 (dk_at dksX13_mapOf_1 4 rfl rfl)
theorem dX13_mapOf_31 : decode cX13_mapOf 31 = .ok (.astore 5, 2) := dk_58 5 (dk_at dksX13_mapOf_1 7 rfl rfl)
theorem dX13_mapOf_33 : decode cX13_mapOf 33 = .ok (.aload 5, 2) := dk_25 5 (dk_at dksX13_mapOf_1 9 rfl rfl)
theorem dX13_mapOf_35 : decode cX13_mapOf 35 = .ok (.invokeinterface 111 1, 5) := by decide +kernel
theorem dX13_mapOf_40 : decode cX13_mapOf 40 = .ok (.ifCond .eq 106, 3) := dk_153 0 106 (dk_at dksX13_mapOf_1 16 rfl rfl)
theorem dX13_mapOf_43 : decode cX13_mapOf 43 = .ok (.aload 5, 2) := dk_25 5 (dk_at dksX13_mapOf_1 19 rfl rfl)
theorem dX13_mapOf_45 : decode cX13_mapOf 45 = .ok (.invokeinterface 116 1, 5) := by decide +kernel
theorem dX13_mapOf_50 : decode cX13_mapOf 50 = .ok (.checkcast 190, 3) := dk_192 0 190 (dk_at dksX13_mapOf_2 5 rfl rfl)
theorem dX13_mapOf_53 : decode cX13_mapOf 53 = .ok (.astore 6, 2) := dk_58 6 (dk_at dksX13_mapOf_2 8 rfl rfl)
theorem dX13_mapOf_55 : decode cX13_mapOf 55 = .ok (.aload 6, 2) := dk_25 6 (dk_at dksX13_mapOf_2 10 rfl rfl)
theorem dX13_mapOf_57 : decode cX13_mapOf 57 = .ok (.iload_n 3, 1) := dk_29 (dk_at dksX13_mapOf_2 12 rfl rfl)
theorem dX13_mapOf_58 : decode cX13_mapOf 58 = .ok (.invokevirtual 238, 3) := dk_182 0 238 (dk_at dksX13_mapOf_2 13 rfl rfl)
theorem dX13_mapOf_61 : decode cX13_mapOf 61 = .ok (.ifCond .ne 6, 3) := dk_154 0 6 (dk_at dksX13_mapOf_2 16 rfl rfl)
theorem dX13_mapOf_64 : decode cX13_mapOf 64 = .ok (.goto (-31), 3) := dk_167 255 225 (dk_at dksX13_mapOf_2 19 rfl rfl)
theorem dX13_mapOf_67 : decode cX13_mapOf 67 = .ok (.iload_n 2, 1) := dk_28 (dk_at dksX13_mapOf_2 22 rfl rfl)
theorem dX13_mapOf_68 : decode cX13_mapOf 68 = .ok (.iconst 1, 1) := dk_4 (dk_at dksX13_mapOf_2 23 rfl rfl)
theorem dX13_mapOf_69 : decode cX13_mapOf 69 = .ok (.if_icmp .ne 24, 3) := dk_160 0 24 (dk_at dksX13_mapOf_3 0 rfl rfl)
theorem dX13_mapOf_72 : decode cX13_mapOf 72 = .ok (.aload 6, 2) := dk_25 6 (dk_at dksX13_mapOf_3 3 rfl rfl)
theorem dX13_mapOf_74 : decode cX13_mapOf 74 = .ok (.getfield 200, 3) := dk_180 0 200 (dk_at dksX13_mapOf_3 5 rfl rfl)
theorem dX13_mapOf_77 : decode cX13_mapOf 77 = .ok (.iconst (-1), 1) := dk_2 (dk_at dksX13_mapOf_3 8 rfl rfl)
theorem dX13_mapOf_78 : decode cX13_mapOf 78 = .ok (.if_icmp .eq 15, 3) := dk_159 0 15 (dk_at dksX13_mapOf_3 9 rfl rfl)
theorem dX13_mapOf_81 : decode cX13_mapOf 81 = .ok (.iload 4, 2) := dk_21 4 (dk_at dksX13_mapOf_3 12 rfl rfl)
theorem dX13_mapOf_83 : decode cX13_mapOf 83 = .ok (.iconst 1, 1) := dk_4 (dk_at dksX13_mapOf_3 14 rfl rfl)
theorem dX13_mapOf_84 : decode cX13_mapOf 84 = .ok (.aload 6, 2) := dk_25 6 (dk_at dksX13_mapOf_3 15 rfl rfl)
theorem dX13_mapOf_86 : decode cX13_mapOf 86 = .ok (.getfield 200, 3) := dk_180 0 200 (dk_at dksX13_mapOf_3 17 rfl rfl)
theorem dX13_mapOf_89 : decode cX13_mapOf 89 = .ok (.ishl, 1) := dk_120 (dk_at dksX13_mapOf_3 20 rfl rfl)
theorem dX13_mapOf_90 : decode cX13_mapOf 90 = .ok (.ior, 1) := dk_128 (dk_at dksX13_mapOf_3 21 rfl rfl)
theorem dX13_mapOf_91 : decode cX13_mapOf 91 = .ok (.istore 4, 2) := dk_54 4 (dk_at dksX13_mapOf_3 22 rfl rfl)
theorem dX13_mapOf_93 : decode cX13_mapOf 93 = .ok (.iload_n 2, 1) := dk_28 (dk_at dksX13_mapOf_4 0 rfl rfl)
theorem dX13_mapOf_94 : decode cX13_mapOf 94 = .ok (.iconst 2, 1) := dk_5 (dk_at dksX13_mapOf_4 1 rfl rfl)
theorem dX13_mapOf_95 : decode cX13_mapOf 95 = .ok (.if_icmp .ne 24, 3) := dk_160 0 24 (dk_at dksX13_mapOf_4 2 rfl rfl)
theorem dX13_mapOf_98 : decode cX13_mapOf 98 = .ok (.aload 6, 2) := dk_25 6 (dk_at dksX13_mapOf_4 5 rfl rfl)
theorem dX13_mapOf_100 : decode cX13_mapOf 100 = .ok (.getfield 203, 3) := dk_180 0 203 (dk_at dksX13_mapOf_4 7 rfl rfl)
theorem dX13_mapOf_103 : decode cX13_mapOf 103 = .ok (.iconst (-1), 1) := dk_2 (dk_at dksX13_mapOf_4 10 rfl rfl)
theorem dX13_mapOf_104 : decode cX13_mapOf 104 = .ok (.if_icmp .eq 15, 3) := dk_159 0 15 (dk_at dksX13_mapOf_4 11 rfl rfl)
theorem dX13_mapOf_107 : decode cX13_mapOf 107 = .ok (.iload 4, 2) := dk_21 4 (dk_at dksX13_mapOf_4 14 rfl rfl)
theorem dX13_mapOf_109 : decode cX13_mapOf 109 = .ok (.iconst 1, 1) := dk_4 (dk_at dksX13_mapOf_4 16 rfl rfl)
theorem dX13_mapOf_110 : decode cX13_mapOf 110 = .ok (.aload 6, 2) := dk_25 6 (dk_at dksX13_mapOf_4 17 rfl rfl)
theorem dX13_mapOf_112 : decode cX13_mapOf 112 = .ok (.getfield 203, 3) := dk_180 0 203 (dk_at dksX13_mapOf_4 19 rfl rfl)
theorem dX13_mapOf_115 : decode cX13_mapOf 115 = .ok (.ishl, 1) := dk_120 (dk_at dksX13_mapOf_4 22 rfl rfl)
theorem dX13_mapOf_116 : decode cX13_mapOf 116 = .ok (.ior, 1) := dk_128 (dk_at dksX13_mapOf_4 23 rfl rfl)
theorem dX13_mapOf_117 : decode cX13_mapOf 117 = .ok (.istore 4, 2) := dk_54 4 (dk_at dksX13_mapOf_5 0 rfl rfl)
theorem dX13_mapOf_119 : decode cX13_mapOf 119 = .ok (.iload_n 2, 1) := dk_28 (dk_at dksX13_mapOf_5 2 rfl rfl)
theorem dX13_mapOf_120 : decode cX13_mapOf 120 = .ok (.iconst 3, 1) := dk_6 (dk_at dksX13_mapOf_5 3 rfl rfl)
theorem dX13_mapOf_121 : decode cX13_mapOf 121 = .ok (.if_icmp .ne 22, 3) := dk_160 0 22 (dk_at dksX13_mapOf_5 4 rfl rfl)
theorem dX13_mapOf_124 : decode cX13_mapOf 124 = .ok (.aload 6, 2) := dk_25 6 (dk_at dksX13_mapOf_5 7 rfl rfl)
theorem dX13_mapOf_126 : decode cX13_mapOf 126 = .ok (.invokevirtual 206, 3) := dk_182 0 206 (dk_at dksX13_mapOf_5 9 rfl rfl)
theorem dX13_mapOf_129 : decode cX13_mapOf 129 = .ok (.ifCond .eq 14, 3) := dk_153 0 14 (dk_at dksX13_mapOf_5 12 rfl rfl)
theorem dX13_mapOf_132 : decode cX13_mapOf 132 = .ok (.aload 6, 2) := dk_25 6 (dk_at dksX13_mapOf_5 15 rfl rfl)
theorem dX13_mapOf_134 : decode cX13_mapOf 134 = .ok (.getfield 209, 3) := dk_180 0 209 (dk_at dksX13_mapOf_5 17 rfl rfl)
theorem dX13_mapOf_137 : decode cX13_mapOf 137 = .ok (.ifCond .eq 6, 3) := dk_153 0 6 (dk_at dksX13_mapOf_5 20 rfl rfl)
theorem dX13_mapOf_140 : decode cX13_mapOf 140 = .ok (.iinc 4 1, 3) := dk_132 4 1 (dk_at dksX13_mapOf_6 0 rfl rfl)
theorem dX13_mapOf_143 : decode cX13_mapOf 143 = .ok (.goto (-110), 3) := dk_167 255 146 (dk_at dksX13_mapOf_6 3 rfl rfl)
theorem dX13_mapOf_146 : decode cX13_mapOf 146 = .ok (.iload 4, 2) := dk_21 4 (dk_at dksX13_mapOf_6 6 rfl rfl)
theorem dX13_mapOf_148 : decode cX13_mapOf 148 = .ok (.ireturn, 1) := dk_172 (dk_at dksX13_mapOf_6 8 rfl rfl)
abbrev cX13_cost : ByteArray := prog_17_method_32_code
def yX13_cost : MethodName := ⟨RX13, "cost", "(I)I"⟩
def dkwX13_cost_1 : List UInt8 := [180, 0, 10, 42, 180, 0, 21, 4, 183, 0, 247, 27, 182, 0, 248, 172]
abbrev dktX13_cost_1 : List UInt8 := dkwX13_cost_1 ++ []
def dkwX13_cost_0 : List UInt8 := [42, 42, 27, 182, 0, 126, 4, 182, 0, 50, 153, 0, 7, 3, 167, 0, 23, 187, 0, 245, 89, 42]
abbrev dktX13_cost_0 : List UInt8 := dkwX13_cost_0 ++ dktX13_cost_1
theorem dksX13_cost_0 : cX13_cost.data.toList.drop 0 = dktX13_cost_0 := by decide +kernel
theorem dksX13_cost_1 : cX13_cost.data.toList.drop 22 = dktX13_cost_1 := dk_seg dksX13_cost_0 22 rfl rfl
theorem dX13_cost_0 : decode cX13_cost 0 = .ok (.aload_n 0, 1) := dk_42 (dk_at dksX13_cost_0 0 rfl rfl)
theorem dX13_cost_1 : decode cX13_cost 1 = .ok (.aload_n 0, 1) := dk_42 (dk_at dksX13_cost_0 1 rfl rfl)
theorem dX13_cost_2 : decode cX13_cost 2 = .ok (.iload_n 1, 1) := dk_27 (dk_at dksX13_cost_0 2 rfl rfl)
theorem dX13_cost_3 : decode cX13_cost 3 = .ok (.invokevirtual 126, 3) := dk_182 0 126 (dk_at dksX13_cost_0 3 rfl rfl)
theorem dX13_cost_6 : decode cX13_cost 6 = .ok (.iconst 1, 1) := dk_4 (dk_at dksX13_cost_0 6 rfl rfl)
theorem dX13_cost_7 : decode cX13_cost 7 = .ok (.invokevirtual 50, 3) := dk_182 0 50 (dk_at dksX13_cost_0 7 rfl rfl)
theorem dX13_cost_10 : decode cX13_cost 10 = .ok (.ifCond .eq 7, 3) := dk_153 0 7 (dk_at dksX13_cost_0 10 rfl rfl)
theorem dX13_cost_13 : decode cX13_cost 13 = .ok (.iconst 0, 1) := dk_3 (dk_at dksX13_cost_0 13 rfl rfl)
theorem dX13_cost_14 : decode cX13_cost 14 = .ok (.goto 23, 3) := dk_167 0 23 (dk_at dksX13_cost_0 14 rfl rfl)
theorem dX13_cost_17 : decode cX13_cost 17 = .ok (.new 245, 3) := dk_187 0 245 (dk_at dksX13_cost_0 17 rfl rfl)
theorem dX13_cost_20 : decode cX13_cost 20 = .ok (.dup, 1) := dk_89 (dk_at dksX13_cost_0 20 rfl rfl)
theorem dX13_cost_21 : decode cX13_cost 21 = .ok (.aload_n 0, 1) := dk_42 (dk_at dksX13_cost_0 21 rfl rfl)
theorem dX13_cost_22 : decode cX13_cost 22 = .ok (.getfield 10, 3) := dk_180 0 10 (dk_at dksX13_cost_1 0 rfl rfl)
theorem dX13_cost_25 : decode cX13_cost 25 = .ok (.aload_n 0, 1) := dk_42 (dk_at dksX13_cost_1 3 rfl rfl)
theorem dX13_cost_26 : decode cX13_cost 26 = .ok (.getfield 21, 3) := dk_180 0 21 (dk_at dksX13_cost_1 4 rfl rfl)
theorem dX13_cost_29 : decode cX13_cost 29 = .ok (.iconst 1, 1) := dk_4 (dk_at dksX13_cost_1 7 rfl rfl)
theorem dX13_cost_30 : decode cX13_cost 30 = .ok (.invokespecial 247, 3) := dk_183 0 247 (dk_at dksX13_cost_1 8 rfl rfl)
theorem dX13_cost_33 : decode cX13_cost 33 = .ok (.iload_n 1, 1) := dk_27 (dk_at dksX13_cost_1 11 rfl rfl)
theorem dX13_cost_34 : decode cX13_cost 34 = .ok (.invokevirtual 248, 3) := dk_182 0 248 (dk_at dksX13_cost_1 12 rfl rfl)
theorem dX13_cost_37 : decode cX13_cost 37 = .ok (.ireturn, 1) := dk_172 (dk_at dksX13_cost_1 15 rfl rfl)
abbrev cX13_code : ByteArray := prog_17_method_33_code
def yX13_code : MethodName := ⟨RX13, "code", "(II)I"⟩
def dkwX13_code_3 : List UInt8 := [192, 0, 142, 28, 46, 172]
abbrev dktX13_code_3 : List UInt8 := dkwX13_code_3 ++ []
def dkwX13_code_2 : List UInt8 := [167, 0, 4, 3, 5, 182, 0, 29, 153, 0, 7, 3, 167, 0, 16, 45, 180, 0, 252, 27, 182, 0, 132]
abbrev dktX13_code_2 : List UInt8 := dkwX13_code_2 ++ dktX13_code_3
def dkwX13_code_1 : List UInt8 := [167, 0, 4, 3, 4, 182, 0, 50, 154, 0, 25, 42, 28, 3, 8, 184, 0, 42, 154, 0, 7, 4]
abbrev dktX13_code_1 : List UInt8 := dkwX13_code_1 ++ dktX13_code_2
def dkwX13_code_0 : List UInt8 := [42, 182, 0, 179, 78, 42, 27, 3, 45, 180, 0, 252, 182, 0, 71, 4, 100, 184, 0, 42, 154, 0, 7, 4]
abbrev dktX13_code_0 : List UInt8 := dkwX13_code_0 ++ dktX13_code_1
theorem dksX13_code_0 : cX13_code.data.toList.drop 0 = dktX13_code_0 := by decide +kernel
theorem dksX13_code_1 : cX13_code.data.toList.drop 24 = dktX13_code_1 := dk_seg dksX13_code_0 24 rfl rfl
theorem dksX13_code_2 : cX13_code.data.toList.drop 46 = dktX13_code_2 := dk_seg dksX13_code_1 22 rfl rfl
theorem dksX13_code_3 : cX13_code.data.toList.drop 69 = dktX13_code_3 := dk_seg dksX13_code_2 23 rfl rfl
theorem dX13_code_0 : decode cX13_code 0 = .ok (.aload_n 0, 1) := dk_42 (dk_at dksX13_code_0 0 rfl rfl)
theorem dX13_code_1 : decode cX13_code 1 = .ok (.invokevirtual 179, 3) := dk_182 0 179 (dk_at dksX13_code_0 1 rfl rfl)
theorem dX13_code_4 : decode cX13_code 4 = .ok (.astore_n 3, 1) := dk_78 (dk_at dksX13_code_0 4 rfl rfl)
theorem dX13_code_5 : decode cX13_code 5 = .ok (.aload_n 0, 1) := dk_42 (dk_at dksX13_code_0 5 rfl rfl)
theorem dX13_code_6 : decode cX13_code 6 = .ok (.iload_n 1, 1) := dk_27 (dk_at dksX13_code_0 6 rfl rfl)
theorem dX13_code_7 : decode cX13_code 7 = .ok (.iconst 0, 1) := dk_3 (dk_at dksX13_code_0 7 rfl rfl)
theorem dX13_code_8 : decode cX13_code 8 = .ok (.aload_n 3, 1) := dk_45 (dk_at dksX13_code_0 8 rfl rfl)
theorem dX13_code_9 : decode cX13_code 9 = .ok (.getfield 252, 3) := dk_180 0 252 (dk_at dksX13_code_0 9 rfl rfl)
theorem dX13_code_12 : decode cX13_code 12 = .ok (.invokevirtual 71, 3) := dk_182 0 71 (dk_at dksX13_code_0 12 rfl rfl)
theorem dX13_code_15 : decode cX13_code 15 = .ok (.iconst 1, 1) := dk_4 (dk_at dksX13_code_0 15 rfl rfl)
theorem dX13_code_16 : decode cX13_code 16 = .ok (.isub, 1) := dk_100 (dk_at dksX13_code_0 16 rfl rfl)
theorem dX13_code_17 : decode cX13_code 17 = .ok (.invokestatic 42, 3) := dk_184 0 42 (dk_at dksX13_code_0 17 rfl rfl)
theorem dX13_code_20 : decode cX13_code 20 = .ok (.ifCond .ne 7, 3) := dk_154 0 7 (dk_at dksX13_code_0 20 rfl rfl)
theorem dX13_code_23 : decode cX13_code 23 = .ok (.iconst 1, 1) := dk_4 (dk_at dksX13_code_0 23 rfl rfl)
theorem dX13_code_24 : decode cX13_code 24 = .ok (.goto 4, 3) := dk_167 0 4 (dk_at dksX13_code_1 0 rfl rfl)
theorem dX13_code_27 : decode cX13_code 27 = .ok (.iconst 0, 1) := dk_3 (dk_at dksX13_code_1 3 rfl rfl)
theorem dX13_code_28 : decode cX13_code 28 = .ok (.iconst 1, 1) := dk_4 (dk_at dksX13_code_1 4 rfl rfl)
theorem dX13_code_29 : decode cX13_code 29 = .ok (.invokevirtual 50, 3) := dk_182 0 50 (dk_at dksX13_code_1 5 rfl rfl)
theorem dX13_code_32 : decode cX13_code 32 = .ok (.ifCond .ne 25, 3) := dk_154 0 25 (dk_at dksX13_code_1 8 rfl rfl)
theorem dX13_code_35 : decode cX13_code 35 = .ok (.aload_n 0, 1) := dk_42 (dk_at dksX13_code_1 11 rfl rfl)
theorem dX13_code_36 : decode cX13_code 36 = .ok (.iload_n 2, 1) := dk_28 (dk_at dksX13_code_1 12 rfl rfl)
theorem dX13_code_37 : decode cX13_code 37 = .ok (.iconst 0, 1) := dk_3 (dk_at dksX13_code_1 13 rfl rfl)
theorem dX13_code_38 : decode cX13_code 38 = .ok (.iconst 5, 1) := dk_8 (dk_at dksX13_code_1 14 rfl rfl)
theorem dX13_code_39 : decode cX13_code 39 = .ok (.invokestatic 42, 3) := dk_184 0 42 (dk_at dksX13_code_1 15 rfl rfl)
theorem dX13_code_42 : decode cX13_code 42 = .ok (.ifCond .ne 7, 3) := dk_154 0 7 (dk_at dksX13_code_1 18 rfl rfl)
theorem dX13_code_45 : decode cX13_code 45 = .ok (.iconst 1, 1) := dk_4 (dk_at dksX13_code_1 21 rfl rfl)
theorem dX13_code_46 : decode cX13_code 46 = .ok (.goto 4, 3) := dk_167 0 4 (dk_at dksX13_code_2 0 rfl rfl)
theorem dX13_code_49 : decode cX13_code 49 = .ok (.iconst 0, 1) := dk_3 (dk_at dksX13_code_2 3 rfl rfl)
theorem dX13_code_50 : decode cX13_code 50 = .ok (.iconst 2, 1) := dk_5 (dk_at dksX13_code_2 4 rfl rfl)
theorem dX13_code_51 : decode cX13_code 51 = .ok (.invokevirtual 29, 3) := dk_182 0 29 (dk_at dksX13_code_2 5 rfl rfl)
theorem dX13_code_54 : decode cX13_code 54 = .ok (.ifCond .eq 7, 3) := dk_153 0 7 (dk_at dksX13_code_2 8 rfl rfl)
theorem dX13_code_57 : decode cX13_code 57 = .ok (.iconst 0, 1) := dk_3 (dk_at dksX13_code_2 11 rfl rfl)
theorem dX13_code_58 : decode cX13_code 58 = .ok (.goto 16, 3) := dk_167 0 16 (dk_at dksX13_code_2 12 rfl rfl)
theorem dX13_code_61 : decode cX13_code 61 = .ok (.aload_n 3, 1) := dk_45 (dk_at dksX13_code_2 15 rfl rfl)
theorem dX13_code_62 : decode cX13_code 62 = .ok (.getfield 252, 3) := dk_180 0 252 (dk_at dksX13_code_2 16 rfl rfl)
theorem dX13_code_65 : decode cX13_code 65 = .ok (.iload_n 1, 1) := dk_27 (dk_at dksX13_code_2 19 rfl rfl)
theorem dX13_code_66 : decode cX13_code 66 = .ok (.invokevirtual 132, 3) := dk_182 0 132 (dk_at dksX13_code_2 20 rfl rfl)
theorem dX13_code_69 : decode cX13_code 69 = .ok (.checkcast 142, 3) := dk_192 0 142 (dk_at dksX13_code_3 0 rfl rfl)
theorem dX13_code_72 : decode cX13_code 72 = .ok (.iload_n 2, 1) := dk_28 (dk_at dksX13_code_3 3 rfl rfl)
theorem dX13_code_73 : decode cX13_code 73 = .ok (.iaload, 1) := dk_46 (dk_at dksX13_code_3 4 rfl rfl)
theorem dX13_code_74 : decode cX13_code 74 = .ok (.ireturn, 1) := dk_172 (dk_at dksX13_code_3 5 rfl rfl)
abbrev cX13_begins : ByteArray := prog_17_method_34_code
def yX13_begins : MethodName := ⟨RX13, "begins", "(I)I"⟩
def dkwX13_begins_1 : List UInt8 := [167, 0, 4, 3, 4, 182, 0, 50, 153, 0, 7, 3, 167, 0, 9, 44, 180, 0, 255, 27, 46, 172]
abbrev dktX13_begins_1 : List UInt8 := dkwX13_begins_1 ++ []
def dkwX13_begins_0 : List UInt8 := [42, 182, 0, 179, 77, 42, 27, 3, 44, 180, 0, 252, 182, 0, 71, 4, 100, 184, 0, 42, 154, 0, 7, 4]
abbrev dktX13_begins_0 : List UInt8 := dkwX13_begins_0 ++ dktX13_begins_1
theorem dksX13_begins_0 : cX13_begins.data.toList.drop 0 = dktX13_begins_0 := by decide +kernel
theorem dksX13_begins_1 : cX13_begins.data.toList.drop 24 = dktX13_begins_1 := dk_seg dksX13_begins_0 24 rfl rfl
theorem dX13_begins_0 : decode cX13_begins 0 = .ok (.aload_n 0, 1) := dk_42 (dk_at dksX13_begins_0 0 rfl rfl)
theorem dX13_begins_1 : decode cX13_begins 1 = .ok (.invokevirtual 179, 3) := dk_182 0 179 (dk_at dksX13_begins_0 1 rfl rfl)
theorem dX13_begins_4 : decode cX13_begins 4 = .ok (.astore_n 2, 1) := dk_77 (dk_at dksX13_begins_0 4 rfl rfl)
theorem dX13_begins_5 : decode cX13_begins 5 = .ok (.aload_n 0, 1) := dk_42 (dk_at dksX13_begins_0 5 rfl rfl)
theorem dX13_begins_6 : decode cX13_begins 6 = .ok (.iload_n 1, 1) := dk_27 (dk_at dksX13_begins_0 6 rfl rfl)
theorem dX13_begins_7 : decode cX13_begins 7 = .ok (.iconst 0, 1) := dk_3 (dk_at dksX13_begins_0 7 rfl rfl)
theorem dX13_begins_8 : decode cX13_begins 8 = .ok (.aload_n 2, 1) := dk_44 (dk_at dksX13_begins_0 8 rfl rfl)
theorem dX13_begins_9 : decode cX13_begins 9 = .ok (.getfield 252, 3) := dk_180 0 252 (dk_at dksX13_begins_0 9 rfl rfl)
theorem dX13_begins_12 : decode cX13_begins 12 = .ok (.invokevirtual 71, 3) := dk_182 0 71 (dk_at dksX13_begins_0 12 rfl rfl)
theorem dX13_begins_15 : decode cX13_begins 15 = .ok (.iconst 1, 1) := dk_4 (dk_at dksX13_begins_0 15 rfl rfl)
theorem dX13_begins_16 : decode cX13_begins 16 = .ok (.isub, 1) := dk_100 (dk_at dksX13_begins_0 16 rfl rfl)
theorem dX13_begins_17 : decode cX13_begins 17 = .ok (.invokestatic 42, 3) := dk_184 0 42 (dk_at dksX13_begins_0 17 rfl rfl)
theorem dX13_begins_20 : decode cX13_begins 20 = .ok (.ifCond .ne 7, 3) := dk_154 0 7 (dk_at dksX13_begins_0 20 rfl rfl)
theorem dX13_begins_23 : decode cX13_begins 23 = .ok (.iconst 1, 1) := dk_4 (dk_at dksX13_begins_0 23 rfl rfl)
theorem dX13_begins_24 : decode cX13_begins 24 = .ok (.goto 4, 3) := dk_167 0 4 (dk_at dksX13_begins_1 0 rfl rfl)
theorem dX13_begins_27 : decode cX13_begins 27 = .ok (.iconst 0, 1) := dk_3 (dk_at dksX13_begins_1 3 rfl rfl)
theorem dX13_begins_28 : decode cX13_begins 28 = .ok (.iconst 1, 1) := dk_4 (dk_at dksX13_begins_1 4 rfl rfl)
theorem dX13_begins_29 : decode cX13_begins 29 = .ok (.invokevirtual 50, 3) := dk_182 0 50 (dk_at dksX13_begins_1 5 rfl rfl)
theorem dX13_begins_32 : decode cX13_begins 32 = .ok (.ifCond .eq 7, 3) := dk_153 0 7 (dk_at dksX13_begins_1 8 rfl rfl)
theorem dX13_begins_35 : decode cX13_begins 35 = .ok (.iconst 0, 1) := dk_3 (dk_at dksX13_begins_1 11 rfl rfl)
theorem dX13_begins_36 : decode cX13_begins 36 = .ok (.goto 9, 3) := dk_167 0 9 (dk_at dksX13_begins_1 12 rfl rfl)
theorem dX13_begins_39 : decode cX13_begins 39 = .ok (.aload_n 2, 1) := dk_44 (dk_at dksX13_begins_1 15 rfl rfl)
theorem dX13_begins_40 : decode cX13_begins 40 = .ok (.getfield 255, 3) := dk_180 0 255 (dk_at dksX13_begins_1 16 rfl rfl)
theorem dX13_begins_43 : decode cX13_begins 43 = .ok (.iload_n 1, 1) := dk_27 (dk_at dksX13_begins_1 19 rfl rfl)
theorem dX13_begins_44 : decode cX13_begins 44 = .ok (.iaload, 1) := dk_46 (dk_at dksX13_begins_1 20 rfl rfl)
theorem dX13_begins_45 : decode cX13_begins 45 = .ok (.ireturn, 1) := dk_172 (dk_at dksX13_begins_1 21 rfl rfl)
abbrev cX13_answer : ByteArray := prog_17_method_35_code
def yX13_answer : MethodName := ⟨RX13, "answer", "(I)I"⟩
def dkwX13_answer_1 : List UInt8 := [167, 0, 4, 3, 4, 182, 0, 50, 153, 0, 7, 3, 167, 0, 11, 42, 182, 0, 179, 27, 182, 1, 5, 172]
abbrev dktX13_answer_1 : List UInt8 := dkwX13_answer_1 ++ []
def dkwX13_answer_0 : List UInt8 := [42, 27, 184, 0, 123, 154, 0, 17, 42, 180, 0, 10, 180, 0, 146, 27, 184, 1, 2, 154, 0, 7, 4]
abbrev dktX13_answer_0 : List UInt8 := dkwX13_answer_0 ++ dktX13_answer_1
theorem dksX13_answer_0 : cX13_answer.data.toList.drop 0 = dktX13_answer_0 := by decide +kernel
theorem dksX13_answer_1 : cX13_answer.data.toList.drop 23 = dktX13_answer_1 := dk_seg dksX13_answer_0 23 rfl rfl
theorem dX13_answer_0 : decode cX13_answer 0 = .ok (.aload_n 0, 1) := dk_42 (dk_at dksX13_answer_0 0 rfl rfl)
theorem dX13_answer_1 : decode cX13_answer 1 = .ok (.iload_n 1, 1) := dk_27 (dk_at dksX13_answer_0 1 rfl rfl)
theorem dX13_answer_2 : decode cX13_answer 2 = .ok (.invokestatic 123, 3) := dk_184 0 123 (dk_at dksX13_answer_0 2 rfl rfl)
theorem dX13_answer_5 : decode cX13_answer 5 = .ok (.ifCond .ne 17, 3) := dk_154 0 17 (dk_at dksX13_answer_0 5 rfl rfl)
theorem dX13_answer_8 : decode cX13_answer 8 = .ok (.aload_n 0, 1) := dk_42 (dk_at dksX13_answer_0 8 rfl rfl)
theorem dX13_answer_9 : decode cX13_answer 9 = .ok (.getfield 10, 3) := dk_180 0 10 (dk_at dksX13_answer_0 9 rfl rfl)
theorem dX13_answer_12 : decode cX13_answer 12 = .ok (.getfield 146, 3) := dk_180 0 146 (dk_at dksX13_answer_0 12 rfl rfl)
theorem dX13_answer_15 : decode cX13_answer 15 = .ok (.iload_n 1, 1) := dk_27 (dk_at dksX13_answer_0 15 rfl rfl)
theorem dX13_answer_16 : decode cX13_answer 16 = .ok (.invokestatic 258, 3) := dk_184 1 2 (dk_at dksX13_answer_0 16 rfl rfl)
theorem dX13_answer_19 : decode cX13_answer 19 = .ok (.ifCond .ne 7, 3) := dk_154 0 7 (dk_at dksX13_answer_0 19 rfl rfl)
theorem dX13_answer_22 : decode cX13_answer 22 = .ok (.iconst 1, 1) := dk_4 (dk_at dksX13_answer_0 22 rfl rfl)
theorem dX13_answer_23 : decode cX13_answer 23 = .ok (.goto 4, 3) := dk_167 0 4 (dk_at dksX13_answer_1 0 rfl rfl)
theorem dX13_answer_26 : decode cX13_answer 26 = .ok (.iconst 0, 1) := dk_3 (dk_at dksX13_answer_1 3 rfl rfl)
theorem dX13_answer_27 : decode cX13_answer 27 = .ok (.iconst 1, 1) := dk_4 (dk_at dksX13_answer_1 4 rfl rfl)
theorem dX13_answer_28 : decode cX13_answer 28 = .ok (.invokevirtual 50, 3) := dk_182 0 50 (dk_at dksX13_answer_1 5 rfl rfl)
theorem dX13_answer_31 : decode cX13_answer 31 = .ok (.ifCond .eq 7, 3) := dk_153 0 7 (dk_at dksX13_answer_1 8 rfl rfl)
theorem dX13_answer_34 : decode cX13_answer 34 = .ok (.iconst 0, 1) := dk_3 (dk_at dksX13_answer_1 11 rfl rfl)
theorem dX13_answer_35 : decode cX13_answer 35 = .ok (.goto 11, 3) := dk_167 0 11 (dk_at dksX13_answer_1 12 rfl rfl)
theorem dX13_answer_38 : decode cX13_answer 38 = .ok (.aload_n 0, 1) := dk_42 (dk_at dksX13_answer_1 15 rfl rfl)
theorem dX13_answer_39 : decode cX13_answer 39 = .ok (.invokevirtual 179, 3) := dk_182 0 179 (dk_at dksX13_answer_1 16 rfl rfl)
theorem dX13_answer_42 : decode cX13_answer 42 = .ok (.iload_n 1, 1) := dk_27 (dk_at dksX13_answer_1 19 rfl rfl)
theorem dX13_answer_43 : decode cX13_answer 43 = .ok (.invokevirtual 261, 3) := dk_182 1 5 (dk_at dksX13_answer_1 20 rfl rfl)
theorem dX13_answer_46 : decode cX13_answer 46 = .ok (.ireturn, 1) := dk_172 (dk_at dksX13_answer_1 23 rfl rfl)
abbrev cX13_many : ByteArray := prog_17_method_37_code
def yX13_many : MethodName := ⟨RX13, "many", "(I)I"⟩
def dkwX13_many_1 : List UInt8 := [167, 0, 12, 42, 42, 182, 0, 179, 27, 182, 1, 10, 172]
abbrev dktX13_many_1 : List UInt8 := dkwX13_many_1 ++ []
def dkwX13_many_0 : List UInt8 := [42, 27, 3, 16, 15, 184, 0, 42, 154, 0, 7, 4, 167, 0, 4, 3, 4, 182, 0, 50, 153, 0, 7, 3]
abbrev dktX13_many_0 : List UInt8 := dkwX13_many_0 ++ dktX13_many_1
theorem dksX13_many_0 : cX13_many.data.toList.drop 0 = dktX13_many_0 := by decide +kernel
theorem dksX13_many_1 : cX13_many.data.toList.drop 24 = dktX13_many_1 := dk_seg dksX13_many_0 24 rfl rfl
theorem dX13_many_0 : decode cX13_many 0 = .ok (.aload_n 0, 1) := dk_42 (dk_at dksX13_many_0 0 rfl rfl)
theorem dX13_many_1 : decode cX13_many 1 = .ok (.iload_n 1, 1) := dk_27 (dk_at dksX13_many_0 1 rfl rfl)
theorem dX13_many_2 : decode cX13_many 2 = .ok (.iconst 0, 1) := dk_3 (dk_at dksX13_many_0 2 rfl rfl)
theorem dX13_many_3 : decode cX13_many 3 = .ok (.bipush 15, 2) := dk_16 15 (dk_at dksX13_many_0 3 rfl rfl)
theorem dX13_many_5 : decode cX13_many 5 = .ok (.invokestatic 42, 3) := dk_184 0 42 (dk_at dksX13_many_0 5 rfl rfl)
theorem dX13_many_8 : decode cX13_many 8 = .ok (.ifCond .ne 7, 3) := dk_154 0 7 (dk_at dksX13_many_0 8 rfl rfl)
theorem dX13_many_11 : decode cX13_many 11 = .ok (.iconst 1, 1) := dk_4 (dk_at dksX13_many_0 11 rfl rfl)
theorem dX13_many_12 : decode cX13_many 12 = .ok (.goto 4, 3) := dk_167 0 4 (dk_at dksX13_many_0 12 rfl rfl)
theorem dX13_many_15 : decode cX13_many 15 = .ok (.iconst 0, 1) := dk_3 (dk_at dksX13_many_0 15 rfl rfl)
theorem dX13_many_16 : decode cX13_many 16 = .ok (.iconst 1, 1) := dk_4 (dk_at dksX13_many_0 16 rfl rfl)
theorem dX13_many_17 : decode cX13_many 17 = .ok (.invokevirtual 50, 3) := dk_182 0 50 (dk_at dksX13_many_0 17 rfl rfl)
theorem dX13_many_20 : decode cX13_many 20 = .ok (.ifCond .eq 7, 3) := dk_153 0 7 (dk_at dksX13_many_0 20 rfl rfl)
theorem dX13_many_23 : decode cX13_many 23 = .ok (.iconst 0, 1) := dk_3 (dk_at dksX13_many_0 23 rfl rfl)
theorem dX13_many_24 : decode cX13_many 24 = .ok (.goto 12, 3) := dk_167 0 12 (dk_at dksX13_many_1 0 rfl rfl)
theorem dX13_many_27 : decode cX13_many 27 = .ok (.aload_n 0, 1) := dk_42 (dk_at dksX13_many_1 3 rfl rfl)
theorem dX13_many_28 : decode cX13_many 28 = .ok (.aload_n 0, 1) := dk_42 (dk_at dksX13_many_1 4 rfl rfl)
theorem dX13_many_29 : decode cX13_many 29 = .ok (.invokevirtual 179, 3) := dk_182 0 179 (dk_at dksX13_many_1 5 rfl rfl)
theorem dX13_many_32 : decode cX13_many 32 = .ok (.iload_n 1, 1) := dk_27 (dk_at dksX13_many_1 8 rfl rfl)
theorem dX13_many_33 : decode cX13_many 33 = .ok (.invokevirtual 266, 3) := dk_182 1 10 (dk_at dksX13_many_1 9 rfl rfl)
theorem dX13_many_36 : decode cX13_many 36 = .ok (.ireturn, 1) := dk_172 (dk_at dksX13_many_1 12 rfl rfl)
abbrev cX13_count : ByteArray := prog_17_method_36_code
def yX13_count : MethodName := ⟨RX13, "count", "(LSpillslotWorksModel$Plan;I)I"⟩
def dkwX13_count_3 : List UInt8 := [29, 25, 5, 180, 0, 81, 153, 0, 7, 3, 167, 0, 4, 4, 96, 62, 167, 255, 218, 29, 172]
abbrev dktX13_count_3 : List UInt8 := dkwX13_count_3 ++ []
def dkwX13_count_2 : List UInt8 := [58, 4, 25, 4, 185, 0, 111, 1, 0, 153, 0, 34, 25, 4, 185, 0, 116, 1, 0, 192, 0, 82, 58, 5]
abbrev dktX13_count_2 : List UInt8 := dkwX13_count_2 ++ dktX13_count_3
def dkwX13_count_1 : List UInt8 := [172, 28, 5, 164, 0, 9, 43, 28, 182, 1, 8, 172, 3, 62, 42, 180, 0, 10, 180, 0, 67, 182, 0, 107]
abbrev dktX13_count_1 : List UInt8 := dkwX13_count_1 ++ dktX13_count_2
def dkwX13_count_0 : List UInt8 := [28, 154, 0, 14, 42, 180, 0, 10, 180, 0, 67, 182, 0, 71, 172, 28, 5, 160, 0, 8, 42, 182, 0, 129]
abbrev dktX13_count_0 : List UInt8 := dkwX13_count_0 ++ dktX13_count_1
theorem dksX13_count_0 : cX13_count.data.toList.drop 0 = dktX13_count_0 := by decide +kernel
theorem dksX13_count_1 : cX13_count.data.toList.drop 24 = dktX13_count_1 := dk_seg dksX13_count_0 24 rfl rfl
theorem dksX13_count_2 : cX13_count.data.toList.drop 48 = dktX13_count_2 := dk_seg dksX13_count_1 24 rfl rfl
theorem dksX13_count_3 : cX13_count.data.toList.drop 72 = dktX13_count_3 := dk_seg dksX13_count_2 24 rfl rfl
theorem dX13_count_0 : decode cX13_count 0 = .ok (.iload_n 2, 1) := dk_28 (dk_at dksX13_count_0 0 rfl rfl)
theorem dX13_count_1 : decode cX13_count 1 = .ok (.ifCond .ne 14, 3) := dk_154 0 14 (dk_at dksX13_count_0 1 rfl rfl)
theorem dX13_count_4 : decode cX13_count 4 = .ok (.aload_n 0, 1) := dk_42 (dk_at dksX13_count_0 4 rfl rfl)
theorem dX13_count_5 : decode cX13_count 5 = .ok (.getfield 10, 3) := dk_180 0 10 (dk_at dksX13_count_0 5 rfl rfl)
theorem dX13_count_8 : decode cX13_count 8 = .ok (.getfield 67, 3) := dk_180 0 67 (dk_at dksX13_count_0 8 rfl rfl)
theorem dX13_count_11 : decode cX13_count 11 = .ok (.invokevirtual 71, 3) := dk_182 0 71 (dk_at dksX13_count_0 11 rfl rfl)
theorem dX13_count_14 : decode cX13_count 14 = .ok (.ireturn, 1) := dk_172 (dk_at dksX13_count_0 14 rfl rfl)
theorem dX13_count_15 : decode cX13_count 15 = .ok (.iload_n 2, 1) := dk_28 (dk_at dksX13_count_0 15 rfl rfl)
theorem dX13_count_16 : decode cX13_count 16 = .ok (.iconst 2, 1) := dk_5 (dk_at dksX13_count_0 16 rfl rfl)
theorem dX13_count_17 : decode cX13_count 17 = .ok (.if_icmp .ne 8, 3) := dk_160 0 8 (dk_at dksX13_count_0 17 rfl rfl)
theorem dX13_count_20 : decode cX13_count 20 = .ok (.aload_n 0, 1) := dk_42 (dk_at dksX13_count_0 20 rfl rfl)
theorem dX13_count_21 : decode cX13_count 21 = .ok (.invokevirtual 129, 3) := dk_182 0 129 (dk_at dksX13_count_0 21 rfl rfl)
theorem dX13_count_24 : decode cX13_count 24 = .ok (.ireturn, 1) := dk_172 (dk_at dksX13_count_1 0 rfl rfl)
theorem dX13_count_25 : decode cX13_count 25 = .ok (.iload_n 2, 1) := dk_28 (dk_at dksX13_count_1 1 rfl rfl)
theorem dX13_count_26 : decode cX13_count 26 = .ok (.iconst 2, 1) := dk_5 (dk_at dksX13_count_1 2 rfl rfl)
theorem dX13_count_27 : decode cX13_count 27 = .ok (.if_icmp .le 9, 3) := dk_164 0 9 (dk_at dksX13_count_1 3 rfl rfl)
theorem dX13_count_30 : decode cX13_count 30 = .ok (.aload_n 1, 1) := dk_43 (dk_at dksX13_count_1 6 rfl rfl)
theorem dX13_count_31 : decode cX13_count 31 = .ok (.iload_n 2, 1) := dk_28 (dk_at dksX13_count_1 7 rfl rfl)
theorem dX13_count_32 : decode cX13_count 32 = .ok (.invokevirtual 264, 3) := dk_182 1 8 (dk_at dksX13_count_1 8 rfl rfl)
theorem dX13_count_35 : decode cX13_count 35 = .ok (.ireturn, 1) := dk_172 (dk_at dksX13_count_1 11 rfl rfl)
theorem dX13_count_36 : decode cX13_count 36 = .ok (.iconst 0, 1) := dk_3 (dk_at dksX13_count_1 12 rfl rfl)
theorem dX13_count_37 : decode cX13_count 37 = .ok (.istore_n 3, 1) := dk_62 (dk_at dksX13_count_1 13 rfl rfl)
theorem dX13_count_38 : decode cX13_count 38 = .ok (.aload_n 0, 1) := dk_42 (dk_at dksX13_count_1 14 rfl rfl)
theorem dX13_count_39 : decode cX13_count 39 = .ok (.getfield 10, 3) := dk_180 0 10 (dk_at dksX13_count_1 15 rfl rfl)
theorem dX13_count_42 : decode cX13_count 42 = .ok (.getfield 67, 3) := dk_180 0 67 (dk_at dksX13_count_1 18 rfl rfl)
theorem dX13_count_45 : decode cX13_count 45 = .ok (.invokevirtual 107, 3) := dk_182 0 107 (dk_at dksX13_count_1 21 rfl rfl)
theorem dX13_count_48 : decode cX13_count 48 = .ok (.astore 4, 2) := dk_58 4 (dk_at dksX13_count_2 0 rfl rfl)
theorem dX13_count_50 : decode cX13_count 50 = .ok (.aload 4, 2) := dk_25 4 (dk_at dksX13_count_2 2 rfl rfl)
theorem dX13_count_52 : decode cX13_count 52 = .ok (.invokeinterface 111 1, 5) := by decide +kernel
theorem dX13_count_57 : decode cX13_count 57 = .ok (.ifCond .eq 34, 3) := dk_153 0 34 (dk_at dksX13_count_2 9 rfl rfl)
theorem dX13_count_60 : decode cX13_count 60 = .ok (.aload 4, 2) := dk_25 4 (dk_at dksX13_count_2 12 rfl rfl)
theorem dX13_count_62 : decode cX13_count 62 = .ok (.invokeinterface 116 1, 5) := by decide +kernel
theorem dX13_count_67 : decode cX13_count 67 = .ok (.checkcast 82, 3) := dk_192 0 82 (dk_at dksX13_count_2 19 rfl rfl)
theorem dX13_count_70 : decode cX13_count 70 = .ok (.astore 5, 2) := dk_58 5 (dk_at dksX13_count_2 22 rfl rfl)
theorem dX13_count_72 : decode cX13_count 72 = .ok (.iload_n 3, 1) := dk_29 (dk_at dksX13_count_3 0 rfl rfl)
theorem dX13_count_73 : decode cX13_count 73 = .ok (.aload 5, 2) := dk_25 5 (dk_at dksX13_count_3 1 rfl rfl)
theorem dX13_count_75 : decode cX13_count 75 = .ok (.getfield 81, 3) := dk_180 0 81 (dk_at dksX13_count_3 3 rfl rfl)
theorem dX13_count_78 : decode cX13_count 78 = .ok (.ifCond .eq 7, 3) := dk_153 0 7 (dk_at dksX13_count_3 6 rfl rfl)
theorem dX13_count_81 : decode cX13_count 81 = .ok (.iconst 0, 1) := dk_3 (dk_at dksX13_count_3 9 rfl rfl)
theorem dX13_count_82 : decode cX13_count 82 = .ok (.goto 4, 3) := dk_167 0 4 (dk_at dksX13_count_3 10 rfl rfl)
theorem dX13_count_85 : decode cX13_count 85 = .ok (.iconst 1, 1) := dk_4 (dk_at dksX13_count_3 13 rfl rfl)
theorem dX13_count_86 : decode cX13_count 86 = .ok (.iadd, 1) := dk_96 (dk_at dksX13_count_3 14 rfl rfl)
theorem dX13_count_87 : decode cX13_count 87 = .ok (.istore_n 3, 1) := dk_62 (dk_at dksX13_count_3 15 rfl rfl)
theorem dX13_count_88 : decode cX13_count 88 = .ok (.goto (-38), 3) := dk_167 255 218 (dk_at dksX13_count_3 16 rfl rfl)
theorem dX13_count_91 : decode cX13_count 91 = .ok (.iload_n 3, 1) := dk_29 (dk_at dksX13_count_3 19 rfl rfl)
theorem dX13_count_92 : decode cX13_count 92 = .ok (.ireturn, 1) := dk_172 (dk_at dksX13_count_3 20 rfl rfl)
abbrev cX13_meanStall : ByteArray := prog_17_method_38_code
def yX13_meanStall : MethodName := ⟨RX13, "meanStall", "()D"⟩
def dkwX13_meanStall_1 : List UInt8 := [180, 1, 17, 135, 43, 180, 1, 14, 135, 111, 175]
abbrev dktX13_meanStall_1 : List UInt8 := dkwX13_meanStall_1 ++ []
def dkwX13_meanStall_0 : List UInt8 := [42, 3, 181, 0, 25, 42, 182, 0, 179, 76, 43, 180, 1, 14, 154, 0, 7, 14, 167, 0, 14, 43]
abbrev dktX13_meanStall_0 : List UInt8 := dkwX13_meanStall_0 ++ dktX13_meanStall_1
theorem dksX13_meanStall_0 : cX13_meanStall.data.toList.drop 0 = dktX13_meanStall_0 := by decide +kernel
theorem dksX13_meanStall_1 : cX13_meanStall.data.toList.drop 22 = dktX13_meanStall_1 := dk_seg dksX13_meanStall_0 22 rfl rfl
theorem dX13_meanStall_0 : decode cX13_meanStall 0 = .ok (.aload_n 0, 1) := dk_42 (dk_at dksX13_meanStall_0 0 rfl rfl)
theorem dX13_meanStall_1 : decode cX13_meanStall 1 = .ok (.iconst 0, 1) := dk_3 (dk_at dksX13_meanStall_0 1 rfl rfl)
theorem dX13_meanStall_2 : decode cX13_meanStall 2 = .ok (.putfield 25, 3) := dk_181 0 25 (dk_at dksX13_meanStall_0 2 rfl rfl)
theorem dX13_meanStall_5 : decode cX13_meanStall 5 = .ok (.aload_n 0, 1) := dk_42 (dk_at dksX13_meanStall_0 5 rfl rfl)
theorem dX13_meanStall_6 : decode cX13_meanStall 6 = .ok (.invokevirtual 179, 3) := dk_182 0 179 (dk_at dksX13_meanStall_0 6 rfl rfl)
theorem dX13_meanStall_9 : decode cX13_meanStall 9 = .ok (.astore_n 1, 1) := dk_76 (dk_at dksX13_meanStall_0 9 rfl rfl)
theorem dX13_meanStall_10 : decode cX13_meanStall 10 = .ok (.aload_n 1, 1) := dk_43 (dk_at dksX13_meanStall_0 10 rfl rfl)
theorem dX13_meanStall_11 : decode cX13_meanStall 11 = .ok (.getfield 270, 3) := dk_180 1 14 (dk_at dksX13_meanStall_0 11 rfl rfl)
theorem dX13_meanStall_14 : decode cX13_meanStall 14 = .ok (.ifCond .ne 7, 3) := dk_154 0 7 (dk_at dksX13_meanStall_0 14 rfl rfl)
theorem dX13_meanStall_17 : decode cX13_meanStall 17 = .ok (.dconst 0, 1) := dk_14 (dk_at dksX13_meanStall_0 17 rfl rfl)
theorem dX13_meanStall_18 : decode cX13_meanStall 18 = .ok (.goto 14, 3) := dk_167 0 14 (dk_at dksX13_meanStall_0 18 rfl rfl)
theorem dX13_meanStall_21 : decode cX13_meanStall 21 = .ok (.aload_n 1, 1) := dk_43 (dk_at dksX13_meanStall_0 21 rfl rfl)
theorem dX13_meanStall_22 : decode cX13_meanStall 22 = .ok (.getfield 273, 3) := dk_180 1 17 (dk_at dksX13_meanStall_1 0 rfl rfl)
theorem dX13_meanStall_25 : decode cX13_meanStall 25 = .ok (.i2d, 1) := dk_135 (dk_at dksX13_meanStall_1 3 rfl rfl)
theorem dX13_meanStall_26 : decode cX13_meanStall 26 = .ok (.aload_n 1, 1) := dk_43 (dk_at dksX13_meanStall_1 4 rfl rfl)
theorem dX13_meanStall_27 : decode cX13_meanStall 27 = .ok (.getfield 270, 3) := dk_180 1 14 (dk_at dksX13_meanStall_1 5 rfl rfl)
theorem dX13_meanStall_30 : decode cX13_meanStall 30 = .ok (.i2d, 1) := dk_135 (dk_at dksX13_meanStall_1 8 rfl rfl)
theorem dX13_meanStall_31 : decode cX13_meanStall 31 = .ok (.ddiv, 1) := dk_111 (dk_at dksX13_meanStall_1 9 rfl rfl)
theorem dX13_meanStall_32 : decode cX13_meanStall 32 = .ok (.dreturn, 1) := dk_175 (dk_at dksX13_meanStall_1 10 rfl rfl)
abbrev cX13_with : ByteArray := prog_17_method_40_code
def yX13_with : MethodName := ⟨RX13, "with", "(IIZI)I"⟩
def dkwX13_with_1 : List UInt8 := [3, 4, 182, 0, 50, 153, 0, 7, 3, 167, 0, 12, 42, 27, 28, 29, 21, 4, 182, 1, 26, 172]
abbrev dktX13_with_1 : List UInt8 := dkwX13_with_1 ++ []
def dkwX13_with_0 : List UInt8 := [42, 27, 28, 184, 0, 46, 154, 0, 14, 21, 4, 6, 16, 15, 184, 0, 42, 154, 0, 7, 4, 167, 0, 4]
abbrev dktX13_with_0 : List UInt8 := dkwX13_with_0 ++ dktX13_with_1
theorem dksX13_with_0 : cX13_with.data.toList.drop 0 = dktX13_with_0 := by decide +kernel
theorem dksX13_with_1 : cX13_with.data.toList.drop 24 = dktX13_with_1 := dk_seg dksX13_with_0 24 rfl rfl
theorem dX13_with_0 : decode cX13_with 0 = .ok (.aload_n 0, 1) := dk_42 (dk_at dksX13_with_0 0 rfl rfl)
theorem dX13_with_1 : decode cX13_with 1 = .ok (.iload_n 1, 1) := dk_27 (dk_at dksX13_with_0 1 rfl rfl)
theorem dX13_with_2 : decode cX13_with 2 = .ok (.iload_n 2, 1) := dk_28 (dk_at dksX13_with_0 2 rfl rfl)
theorem dX13_with_3 : decode cX13_with 3 = .ok (.invokestatic 46, 3) := dk_184 0 46 (dk_at dksX13_with_0 3 rfl rfl)
theorem dX13_with_6 : decode cX13_with 6 = .ok (.ifCond .ne 14, 3) := dk_154 0 14 (dk_at dksX13_with_0 6 rfl rfl)
theorem dX13_with_9 : decode cX13_with 9 = .ok (.iload 4, 2) := dk_21 4 (dk_at dksX13_with_0 9 rfl rfl)
theorem dX13_with_11 : decode cX13_with 11 = .ok (.iconst 3, 1) := dk_6 (dk_at dksX13_with_0 11 rfl rfl)
theorem dX13_with_12 : decode cX13_with 12 = .ok (.bipush 15, 2) := dk_16 15 (dk_at dksX13_with_0 12 rfl rfl)
theorem dX13_with_14 : decode cX13_with 14 = .ok (.invokestatic 42, 3) := dk_184 0 42 (dk_at dksX13_with_0 14 rfl rfl)
theorem dX13_with_17 : decode cX13_with 17 = .ok (.ifCond .ne 7, 3) := dk_154 0 7 (dk_at dksX13_with_0 17 rfl rfl)
theorem dX13_with_20 : decode cX13_with 20 = .ok (.iconst 1, 1) := dk_4 (dk_at dksX13_with_0 20 rfl rfl)
theorem dX13_with_21 : decode cX13_with 21 = .ok (.goto 4, 3) := dk_167 0 4 (dk_at dksX13_with_0 21 rfl rfl)
theorem dX13_with_24 : decode cX13_with 24 = .ok (.iconst 0, 1) := dk_3 (dk_at dksX13_with_1 0 rfl rfl)
theorem dX13_with_25 : decode cX13_with 25 = .ok (.iconst 1, 1) := dk_4 (dk_at dksX13_with_1 1 rfl rfl)
theorem dX13_with_26 : decode cX13_with 26 = .ok (.invokevirtual 50, 3) := dk_182 0 50 (dk_at dksX13_with_1 2 rfl rfl)
theorem dX13_with_29 : decode cX13_with 29 = .ok (.ifCond .eq 7, 3) := dk_153 0 7 (dk_at dksX13_with_1 5 rfl rfl)
theorem dX13_with_32 : decode cX13_with 32 = .ok (.iconst 0, 1) := dk_3 (dk_at dksX13_with_1 8 rfl rfl)
theorem dX13_with_33 : decode cX13_with 33 = .ok (.goto 12, 3) := dk_167 0 12 (dk_at dksX13_with_1 9 rfl rfl)
theorem dX13_with_36 : decode cX13_with 36 = .ok (.aload_n 0, 1) := dk_42 (dk_at dksX13_with_1 12 rfl rfl)
theorem dX13_with_37 : decode cX13_with 37 = .ok (.iload_n 1, 1) := dk_27 (dk_at dksX13_with_1 13 rfl rfl)
theorem dX13_with_38 : decode cX13_with 38 = .ok (.iload_n 2, 1) := dk_28 (dk_at dksX13_with_1 14 rfl rfl)
theorem dX13_with_39 : decode cX13_with 39 = .ok (.iload_n 3, 1) := dk_29 (dk_at dksX13_with_1 15 rfl rfl)
theorem dX13_with_40 : decode cX13_with 40 = .ok (.iload 4, 2) := dk_21 4 (dk_at dksX13_with_1 16 rfl rfl)
theorem dX13_with_42 : decode cX13_with 42 = .ok (.invokevirtual 282, 3) := dk_182 1 26 (dk_at dksX13_with_1 18 rfl rfl)
theorem dX13_with_45 : decode cX13_with 45 = .ok (.ireturn, 1) := dk_172 (dk_at dksX13_with_1 21 rfl rfl)
abbrev cX13_withNow : ByteArray := prog_17_method_39_code
def yX13_withNow : MethodName := ⟨RX13, "withNow", "(IIZI)I"⟩
def dkwX13_withNow_1 : List UInt8 := [183, 0, 18, 4, 182, 0, 38, 21, 4, 182, 1, 8, 172]
abbrev dktX13_withNow_1 : List UInt8 := dkwX13_withNow_1 ++ []
def dkwX13_withNow_0 : List UInt8 := [42, 187, 0, 16, 89, 27, 28, 42, 180, 0, 21, 180, 1, 20, 42, 180, 0, 21, 180, 1, 23, 29]
abbrev dktX13_withNow_0 : List UInt8 := dkwX13_withNow_0 ++ dktX13_withNow_1
theorem dksX13_withNow_0 : cX13_withNow.data.toList.drop 0 = dktX13_withNow_0 := by decide +kernel
theorem dksX13_withNow_1 : cX13_withNow.data.toList.drop 22 = dktX13_withNow_1 := dk_seg dksX13_withNow_0 22 rfl rfl
theorem dX13_withNow_0 : decode cX13_withNow 0 = .ok (.aload_n 0, 1) := dk_42 (dk_at dksX13_withNow_0 0 rfl rfl)
theorem dX13_withNow_1 : decode cX13_withNow 1 = .ok (.new 16, 3) := dk_187 0 16 (dk_at dksX13_withNow_0 1 rfl rfl)
theorem dX13_withNow_4 : decode cX13_withNow 4 = .ok (.dup, 1) := dk_89 (dk_at dksX13_withNow_0 4 rfl rfl)
theorem dX13_withNow_5 : decode cX13_withNow 5 = .ok (.iload_n 1, 1) := dk_27 (dk_at dksX13_withNow_0 5 rfl rfl)
theorem dX13_withNow_6 : decode cX13_withNow 6 = .ok (.iload_n 2, 1) := dk_28 (dk_at dksX13_withNow_0 6 rfl rfl)
theorem dX13_withNow_7 : decode cX13_withNow 7 = .ok (.aload_n 0, 1) := dk_42 (dk_at dksX13_withNow_0 7 rfl rfl)
theorem dX13_withNow_8 : decode cX13_withNow 8 = .ok (.getfield 21, 3) := dk_180 0 21 (dk_at dksX13_withNow_0 8 rfl rfl)
theorem dX13_withNow_11 : decode cX13_withNow 11 = .ok (.getfield 276, 3) := dk_180 1 20 (dk_at dksX13_withNow_0 11 rfl rfl)
theorem dX13_withNow_14 : decode cX13_withNow 14 = .ok (.aload_n 0, 1) := dk_42 (dk_at dksX13_withNow_0 14 rfl rfl)
theorem dX13_withNow_15 : decode cX13_withNow 15 = .ok (.getfield 21, 3) := dk_180 0 21 (dk_at dksX13_withNow_0 15 rfl rfl)
theorem dX13_withNow_18 : decode cX13_withNow 18 = .ok (.getfield 279, 3) := dk_180 1 23 (dk_at dksX13_withNow_0 18 rfl rfl)
theorem dX13_withNow_21 : decode cX13_withNow 21 = .ok (.iload_n 3, 1) := dk_29 (dk_at dksX13_withNow_0 21 rfl rfl)
theorem dX13_withNow_22 : decode cX13_withNow 22 = .ok (.invokespecial 18, 3) := dk_183 0 18 (dk_at dksX13_withNow_1 0 rfl rfl)
theorem dX13_withNow_25 : decode cX13_withNow 25 = .ok (.iconst 1, 1) := dk_4 (dk_at dksX13_withNow_1 3 rfl rfl)
theorem dX13_withNow_26 : decode cX13_withNow 26 = .ok (.invokevirtual 38, 3) := dk_182 0 38 (dk_at dksX13_withNow_1 4 rfl rfl)
theorem dX13_withNow_29 : decode cX13_withNow 29 = .ok (.iload 4, 2) := dk_21 4 (dk_at dksX13_withNow_1 7 rfl rfl)
theorem dX13_withNow_31 : decode cX13_withNow 31 = .ok (.invokevirtual 264, 3) := dk_182 1 8 (dk_at dksX13_withNow_1 9 rfl rfl)
theorem dX13_withNow_34 : decode cX13_withNow 34 = .ok (.ireturn, 1) := dk_172 (dk_at dksX13_withNow_1 12 rfl rfl)
abbrev cX13_cyclesWith : ByteArray := prog_17_method_41_code
def yX13_cyclesWith : MethodName := ⟨RX13, "cyclesWith", "(II)I"⟩
def dkwX13_cyclesWith_2 : List UInt8 := [182, 0, 179, 180, 1, 30, 54, 4, 42, 180, 0, 10, 180, 0, 63, 27, 29, 79, 21, 4, 172]
abbrev dktX13_cyclesWith_2 : List UInt8 := dkwX13_cyclesWith_2 ++ []
def dkwX13_cyclesWith_1 : List UInt8 := [3, 172, 42, 180, 0, 10, 180, 0, 63, 27, 46, 62, 42, 180, 0, 10, 180, 0, 63, 27, 28, 79, 42]
abbrev dktX13_cyclesWith_1 : List UInt8 := dkwX13_cyclesWith_1 ++ dktX13_cyclesWith_2
def dkwX13_cyclesWith_0 : List UInt8 := [42, 27, 184, 0, 56, 4, 182, 0, 50, 154, 0, 15, 42, 28, 184, 0, 60, 5, 182, 0, 29, 153, 0, 5]
abbrev dktX13_cyclesWith_0 : List UInt8 := dkwX13_cyclesWith_0 ++ dktX13_cyclesWith_1
theorem dksX13_cyclesWith_0 : cX13_cyclesWith.data.toList.drop 0 = dktX13_cyclesWith_0 := by decide +kernel
theorem dksX13_cyclesWith_1 : cX13_cyclesWith.data.toList.drop 24 = dktX13_cyclesWith_1 := dk_seg dksX13_cyclesWith_0 24 rfl rfl
theorem dksX13_cyclesWith_2 : cX13_cyclesWith.data.toList.drop 47 = dktX13_cyclesWith_2 := dk_seg dksX13_cyclesWith_1 23 rfl rfl
theorem dX13_cyclesWith_0 : decode cX13_cyclesWith 0 = .ok (.aload_n 0, 1) := dk_42 (dk_at dksX13_cyclesWith_0 0 rfl rfl)
theorem dX13_cyclesWith_1 : decode cX13_cyclesWith 1 = .ok (.iload_n 1, 1) := dk_27 (dk_at dksX13_cyclesWith_0 1 rfl rfl)
theorem dX13_cyclesWith_2 : decode cX13_cyclesWith 2 = .ok (.invokestatic 56, 3) := dk_184 0 56 (dk_at dksX13_cyclesWith_0 2 rfl rfl)
theorem dX13_cyclesWith_5 : decode cX13_cyclesWith 5 = .ok (.iconst 1, 1) := dk_4 (dk_at dksX13_cyclesWith_0 5 rfl rfl)
theorem dX13_cyclesWith_6 : decode cX13_cyclesWith 6 = .ok (.invokevirtual 50, 3) := dk_182 0 50 (dk_at dksX13_cyclesWith_0 6 rfl rfl)
theorem dX13_cyclesWith_9 : decode cX13_cyclesWith 9 = .ok (.ifCond .ne 15, 3) := dk_154 0 15 (dk_at dksX13_cyclesWith_0 9 rfl rfl)
theorem dX13_cyclesWith_12 : decode cX13_cyclesWith 12 = .ok (.aload_n 0, 1) := dk_42 (dk_at dksX13_cyclesWith_0 12 rfl rfl)
theorem dX13_cyclesWith_13 : decode cX13_cyclesWith 13 = .ok (.iload_n 2, 1) := dk_28 (dk_at dksX13_cyclesWith_0 13 rfl rfl)
theorem dX13_cyclesWith_14 : decode cX13_cyclesWith 14 = .ok (.invokestatic 60, 3) := dk_184 0 60 (dk_at dksX13_cyclesWith_0 14 rfl rfl)
theorem dX13_cyclesWith_17 : decode cX13_cyclesWith 17 = .ok (.iconst 2, 1) := dk_5 (dk_at dksX13_cyclesWith_0 17 rfl rfl)
theorem dX13_cyclesWith_18 : decode cX13_cyclesWith 18 = .ok (.invokevirtual 29, 3) := dk_182 0 29 (dk_at dksX13_cyclesWith_0 18 rfl rfl)
theorem dX13_cyclesWith_21 : decode cX13_cyclesWith 21 = .ok (.ifCond .eq 5, 3) := dk_153 0 5 (dk_at dksX13_cyclesWith_0 21 rfl rfl)
theorem dX13_cyclesWith_24 : decode cX13_cyclesWith 24 = .ok (.iconst 0, 1) := dk_3 (dk_at dksX13_cyclesWith_1 0 rfl rfl)
theorem dX13_cyclesWith_25 : decode cX13_cyclesWith 25 = .ok (.ireturn, 1) := dk_172 (dk_at dksX13_cyclesWith_1 1 rfl rfl)
theorem dX13_cyclesWith_26 : decode cX13_cyclesWith 26 = .ok (.aload_n 0, 1) := dk_42 (dk_at dksX13_cyclesWith_1 2 rfl rfl)
theorem dX13_cyclesWith_27 : decode cX13_cyclesWith 27 = .ok (.getfield 10, 3) := dk_180 0 10 (dk_at dksX13_cyclesWith_1 3 rfl rfl)
theorem dX13_cyclesWith_30 : decode cX13_cyclesWith 30 = .ok (.getfield 63, 3) := dk_180 0 63 (dk_at dksX13_cyclesWith_1 6 rfl rfl)
theorem dX13_cyclesWith_33 : decode cX13_cyclesWith 33 = .ok (.iload_n 1, 1) := dk_27 (dk_at dksX13_cyclesWith_1 9 rfl rfl)
theorem dX13_cyclesWith_34 : decode cX13_cyclesWith 34 = .ok (.iaload, 1) := dk_46 (dk_at dksX13_cyclesWith_1 10 rfl rfl)
theorem dX13_cyclesWith_35 : decode cX13_cyclesWith 35 = .ok (.istore_n 3, 1) := dk_62 (dk_at dksX13_cyclesWith_1 11 rfl rfl)
theorem dX13_cyclesWith_36 : decode cX13_cyclesWith 36 = .ok (.aload_n 0, 1) := dk_42 (dk_at dksX13_cyclesWith_1 12 rfl rfl)
theorem dX13_cyclesWith_37 : decode cX13_cyclesWith 37 = .ok (.getfield 10, 3) := dk_180 0 10 (dk_at dksX13_cyclesWith_1 13 rfl rfl)
theorem dX13_cyclesWith_40 : decode cX13_cyclesWith 40 = .ok (.getfield 63, 3) := dk_180 0 63 (dk_at dksX13_cyclesWith_1 16 rfl rfl)
theorem dX13_cyclesWith_43 : decode cX13_cyclesWith 43 = .ok (.iload_n 1, 1) := dk_27 (dk_at dksX13_cyclesWith_1 19 rfl rfl)
theorem dX13_cyclesWith_44 : decode cX13_cyclesWith 44 = .ok (.iload_n 2, 1) := dk_28 (dk_at dksX13_cyclesWith_1 20 rfl rfl)
theorem dX13_cyclesWith_45 : decode cX13_cyclesWith 45 = .ok (.iastore, 1) := dk_79 (dk_at dksX13_cyclesWith_1 21 rfl rfl)
theorem dX13_cyclesWith_46 : decode cX13_cyclesWith 46 = .ok (.aload_n 0, 1) := dk_42 (dk_at dksX13_cyclesWith_1 22 rfl rfl)
theorem dX13_cyclesWith_47 : decode cX13_cyclesWith 47 = .ok (.invokevirtual 179, 3) := dk_182 0 179 (dk_at dksX13_cyclesWith_2 0 rfl rfl)
theorem dX13_cyclesWith_50 : decode cX13_cyclesWith 50 = .ok (.getfield 286, 3) := dk_180 1 30 (dk_at dksX13_cyclesWith_2 3 rfl rfl)
theorem dX13_cyclesWith_53 : decode cX13_cyclesWith 53 = .ok (.istore 4, 2) := dk_54 4 (dk_at dksX13_cyclesWith_2 6 rfl rfl)
theorem dX13_cyclesWith_55 : decode cX13_cyclesWith 55 = .ok (.aload_n 0, 1) := dk_42 (dk_at dksX13_cyclesWith_2 8 rfl rfl)
theorem dX13_cyclesWith_56 : decode cX13_cyclesWith 56 = .ok (.getfield 10, 3) := dk_180 0 10 (dk_at dksX13_cyclesWith_2 9 rfl rfl)
theorem dX13_cyclesWith_59 : decode cX13_cyclesWith 59 = .ok (.getfield 63, 3) := dk_180 0 63 (dk_at dksX13_cyclesWith_2 12 rfl rfl)
theorem dX13_cyclesWith_62 : decode cX13_cyclesWith 62 = .ok (.iload_n 1, 1) := dk_27 (dk_at dksX13_cyclesWith_2 15 rfl rfl)
theorem dX13_cyclesWith_63 : decode cX13_cyclesWith 63 = .ok (.iload_n 3, 1) := dk_29 (dk_at dksX13_cyclesWith_2 16 rfl rfl)
theorem dX13_cyclesWith_64 : decode cX13_cyclesWith 64 = .ok (.iastore, 1) := dk_79 (dk_at dksX13_cyclesWith_2 17 rfl rfl)
theorem dX13_cyclesWith_65 : decode cX13_cyclesWith 65 = .ok (.iload 4, 2) := dk_21 4 (dk_at dksX13_cyclesWith_2 18 rfl rfl)
theorem dX13_cyclesWith_67 : decode cX13_cyclesWith 67 = .ok (.ireturn, 1) := dk_172 (dk_at dksX13_cyclesWith_2 20 rfl rfl)
abbrev cX13_enough : ByteArray := prog_17_method_43_code
def yX13_enough : MethodName := ⟨RX13, "enough", "()I"⟩
def dkwX13_enough_0 : List UInt8 := [42, 3, 181, 0, 25, 42, 182, 1, 39, 172]
abbrev dktX13_enough_0 : List UInt8 := dkwX13_enough_0 ++ []
theorem dksX13_enough_0 : cX13_enough.data.toList.drop 0 = dktX13_enough_0 := by decide +kernel
theorem dX13_enough_0 : decode cX13_enough 0 = .ok (.aload_n 0, 1) := dk_42 (dk_at dksX13_enough_0 0 rfl rfl)
theorem dX13_enough_1 : decode cX13_enough 1 = .ok (.iconst 0, 1) := dk_3 (dk_at dksX13_enough_0 1 rfl rfl)
theorem dX13_enough_2 : decode cX13_enough 2 = .ok (.putfield 25, 3) := dk_181 0 25 (dk_at dksX13_enough_0 2 rfl rfl)
theorem dX13_enough_5 : decode cX13_enough 5 = .ok (.aload_n 0, 1) := dk_42 (dk_at dksX13_enough_0 5 rfl rfl)
theorem dX13_enough_6 : decode cX13_enough 6 = .ok (.invokevirtual 295, 3) := dk_182 1 39 (dk_at dksX13_enough_0 6 rfl rfl)
theorem dX13_enough_9 : decode cX13_enough 9 = .ok (.ireturn, 1) := dk_172 (dk_at dksX13_enough_0 9 rfl rfl)
abbrev cX13_enoughNow : ByteArray := prog_17_method_42_code
def yX13_enoughNow : MethodName := ⟨RX13, "enoughNow", "()I"⟩
def dkwX13_enoughNow_2 : List UInt8 := [167, 255, 212, 2, 172]
abbrev dktX13_enoughNow_2 : List UInt8 := dkwX13_enoughNow_2 ++ []
def dkwX13_enoughNow_1 : List UInt8 := [42, 27, 28, 42, 180, 0, 21, 180, 1, 36, 8, 182, 1, 26, 154, 0, 5, 27, 172, 132, 1, 1]
abbrev dktX13_enoughNow_1 : List UInt8 := dkwX13_enoughNow_1 ++ dktX13_enoughNow_2
def dkwX13_enoughNow_0 : List UInt8 := [8, 60, 27, 16, 11, 163, 0, 44, 42, 180, 0, 21, 180, 1, 33, 4, 27, 6, 100, 120, 4, 100, 126, 61]
abbrev dktX13_enoughNow_0 : List UInt8 := dkwX13_enoughNow_0 ++ dktX13_enoughNow_1
theorem dksX13_enoughNow_0 : cX13_enoughNow.data.toList.drop 0 = dktX13_enoughNow_0 := by decide +kernel
theorem dksX13_enoughNow_1 : cX13_enoughNow.data.toList.drop 24 = dktX13_enoughNow_1 := dk_seg dksX13_enoughNow_0 24 rfl rfl
theorem dksX13_enoughNow_2 : cX13_enoughNow.data.toList.drop 46 = dktX13_enoughNow_2 := dk_seg dksX13_enoughNow_1 22 rfl rfl
theorem dX13_enoughNow_0 : decode cX13_enoughNow 0 = .ok (.iconst 5, 1) := dk_8 (dk_at dksX13_enoughNow_0 0 rfl rfl)
theorem dX13_enoughNow_1 : decode cX13_enoughNow 1 = .ok (.istore_n 1, 1) := dk_60 (dk_at dksX13_enoughNow_0 1 rfl rfl)
theorem dX13_enoughNow_2 : decode cX13_enoughNow 2 = .ok (.iload_n 1, 1) := dk_27 (dk_at dksX13_enoughNow_0 2 rfl rfl)
theorem dX13_enoughNow_3 : decode cX13_enoughNow 3 = .ok (.bipush 11, 2) := dk_16 11 (dk_at dksX13_enoughNow_0 3 rfl rfl)
theorem dX13_enoughNow_5 : decode cX13_enoughNow 5 = .ok (.if_icmp .gt 44, 3) := dk_163 0 44 (dk_at dksX13_enoughNow_0 5 rfl rfl)
theorem dX13_enoughNow_8 : decode cX13_enoughNow 8 = .ok (.aload_n 0, 1) := dk_42 (dk_at dksX13_enoughNow_0 8 rfl rfl)
theorem dX13_enoughNow_9 : decode cX13_enoughNow 9 = .ok (.getfield 21, 3) := dk_180 0 21 (dk_at dksX13_enoughNow_0 9 rfl rfl)
theorem dX13_enoughNow_12 : decode cX13_enoughNow 12 = .ok (.getfield 289, 3) := dk_180 1 33 (dk_at dksX13_enoughNow_0 12 rfl rfl)
theorem dX13_enoughNow_15 : decode cX13_enoughNow 15 = .ok (.iconst 1, 1) := dk_4 (dk_at dksX13_enoughNow_0 15 rfl rfl)
theorem dX13_enoughNow_16 : decode cX13_enoughNow 16 = .ok (.iload_n 1, 1) := dk_27 (dk_at dksX13_enoughNow_0 16 rfl rfl)
theorem dX13_enoughNow_17 : decode cX13_enoughNow 17 = .ok (.iconst 3, 1) := dk_6 (dk_at dksX13_enoughNow_0 17 rfl rfl)
theorem dX13_enoughNow_18 : decode cX13_enoughNow 18 = .ok (.isub, 1) := dk_100 (dk_at dksX13_enoughNow_0 18 rfl rfl)
theorem dX13_enoughNow_19 : decode cX13_enoughNow 19 = .ok (.ishl, 1) := dk_120 (dk_at dksX13_enoughNow_0 19 rfl rfl)
theorem dX13_enoughNow_20 : decode cX13_enoughNow 20 = .ok (.iconst 1, 1) := dk_4 (dk_at dksX13_enoughNow_0 20 rfl rfl)
theorem dX13_enoughNow_21 : decode cX13_enoughNow 21 = .ok (.isub, 1) := dk_100 (dk_at dksX13_enoughNow_0 21 rfl rfl)
theorem dX13_enoughNow_22 : decode cX13_enoughNow 22 = .ok (.iand, 1) := dk_126 (dk_at dksX13_enoughNow_0 22 rfl rfl)
theorem dX13_enoughNow_23 : decode cX13_enoughNow 23 = .ok (.istore_n 2, 1) := dk_61 (dk_at dksX13_enoughNow_0 23 rfl rfl)
theorem dX13_enoughNow_24 : decode cX13_enoughNow 24 = .ok (.aload_n 0, 1) := dk_42 (dk_at dksX13_enoughNow_1 0 rfl rfl)
theorem dX13_enoughNow_25 : decode cX13_enoughNow 25 = .ok (.iload_n 1, 1) := dk_27 (dk_at dksX13_enoughNow_1 1 rfl rfl)
theorem dX13_enoughNow_26 : decode cX13_enoughNow 26 = .ok (.iload_n 2, 1) := dk_28 (dk_at dksX13_enoughNow_1 2 rfl rfl)
theorem dX13_enoughNow_27 : decode cX13_enoughNow 27 = .ok (.aload_n 0, 1) := dk_42 (dk_at dksX13_enoughNow_1 3 rfl rfl)
theorem dX13_enoughNow_28 : decode cX13_enoughNow 28 = .ok (.getfield 21, 3) := dk_180 0 21 (dk_at dksX13_enoughNow_1 4 rfl rfl)
theorem dX13_enoughNow_31 : decode cX13_enoughNow 31 = .ok (.getfield 292, 3) := dk_180 1 36 (dk_at dksX13_enoughNow_1 7 rfl rfl)
theorem dX13_enoughNow_34 : decode cX13_enoughNow 34 = .ok (.iconst 5, 1) := dk_8 (dk_at dksX13_enoughNow_1 10 rfl rfl)
theorem dX13_enoughNow_35 : decode cX13_enoughNow 35 = .ok (.invokevirtual 282, 3) := dk_182 1 26 (dk_at dksX13_enoughNow_1 11 rfl rfl)
theorem dX13_enoughNow_38 : decode cX13_enoughNow 38 = .ok (.ifCond .ne 5, 3) := dk_154 0 5 (dk_at dksX13_enoughNow_1 14 rfl rfl)
theorem dX13_enoughNow_41 : decode cX13_enoughNow 41 = .ok (.iload_n 1, 1) := dk_27 (dk_at dksX13_enoughNow_1 17 rfl rfl)
theorem dX13_enoughNow_42 : decode cX13_enoughNow 42 = .ok (.ireturn, 1) := dk_172 (dk_at dksX13_enoughNow_1 18 rfl rfl)
theorem dX13_enoughNow_43 : decode cX13_enoughNow 43 = .ok (.iinc 1 1, 3) := dk_132 1 1 (dk_at dksX13_enoughNow_1 19 rfl rfl)
theorem dX13_enoughNow_46 : decode cX13_enoughNow 46 = .ok (.goto (-44), 3) := dk_167 255 212 (dk_at dksX13_enoughNow_2 0 rfl rfl)
theorem dX13_enoughNow_49 : decode cX13_enoughNow 49 = .ok (.iconst (-1), 1) := dk_2 (dk_at dksX13_enoughNow_2 3 rfl rfl)
theorem dX13_enoughNow_50 : decode cX13_enoughNow 50 = .ok (.ireturn, 1) := dk_172 (dk_at dksX13_enoughNow_2 4 rfl rfl)
abbrev cX13_unordered : ByteArray := prog_17_method_45_code
def yX13_unordered : MethodName := ⟨RX13, "unordered", "()I"⟩
def dkwX13_unordered_0 : List UInt8 := [42, 3, 181, 0, 25, 42, 182, 1, 42, 172]
abbrev dktX13_unordered_0 : List UInt8 := dkwX13_unordered_0 ++ []
theorem dksX13_unordered_0 : cX13_unordered.data.toList.drop 0 = dktX13_unordered_0 := by decide +kernel
theorem dX13_unordered_0 : decode cX13_unordered 0 = .ok (.aload_n 0, 1) := dk_42 (dk_at dksX13_unordered_0 0 rfl rfl)
theorem dX13_unordered_1 : decode cX13_unordered 1 = .ok (.iconst 0, 1) := dk_3 (dk_at dksX13_unordered_0 1 rfl rfl)
theorem dX13_unordered_2 : decode cX13_unordered 2 = .ok (.putfield 25, 3) := dk_181 0 25 (dk_at dksX13_unordered_0 2 rfl rfl)
theorem dX13_unordered_5 : decode cX13_unordered 5 = .ok (.aload_n 0, 1) := dk_42 (dk_at dksX13_unordered_0 5 rfl rfl)
theorem dX13_unordered_6 : decode cX13_unordered 6 = .ok (.invokevirtual 298, 3) := dk_182 1 42 (dk_at dksX13_unordered_0 6 rfl rfl)
theorem dX13_unordered_9 : decode cX13_unordered 9 = .ok (.ireturn, 1) := dk_172 (dk_at dksX13_unordered_0 9 rfl rfl)
abbrev cX13_unorderedNow : ByteArray := prog_17_method_44_code
def yX13_unorderedNow : MethodName := ⟨RX13, "unorderedNow", "()I"⟩
def dkwX13_unorderedNow_0 : List UInt8 := [42, 42, 180, 0, 21, 3, 182, 0, 38, 180, 1, 30, 42, 182, 0, 179, 180, 1, 30, 100, 172]
abbrev dktX13_unorderedNow_0 : List UInt8 := dkwX13_unorderedNow_0 ++ []
theorem dksX13_unorderedNow_0 : cX13_unorderedNow.data.toList.drop 0 = dktX13_unorderedNow_0 := by decide +kernel
theorem dX13_unorderedNow_0 : decode cX13_unorderedNow 0 = .ok (.aload_n 0, 1) := dk_42 (dk_at dksX13_unorderedNow_0 0 rfl rfl)
theorem dX13_unorderedNow_1 : decode cX13_unorderedNow 1 = .ok (.aload_n 0, 1) := dk_42 (dk_at dksX13_unorderedNow_0 1 rfl rfl)
theorem dX13_unorderedNow_2 : decode cX13_unorderedNow 2 = .ok (.getfield 21, 3) := dk_180 0 21 (dk_at dksX13_unorderedNow_0 2 rfl rfl)
theorem dX13_unorderedNow_5 : decode cX13_unorderedNow 5 = .ok (.iconst 0, 1) := dk_3 (dk_at dksX13_unorderedNow_0 5 rfl rfl)
theorem dX13_unorderedNow_6 : decode cX13_unorderedNow 6 = .ok (.invokevirtual 38, 3) := dk_182 0 38 (dk_at dksX13_unorderedNow_0 6 rfl rfl)
theorem dX13_unorderedNow_9 : decode cX13_unorderedNow 9 = .ok (.getfield 286, 3) := dk_180 1 30 (dk_at dksX13_unorderedNow_0 9 rfl rfl)
theorem dX13_unorderedNow_12 : decode cX13_unorderedNow 12 = .ok (.aload_n 0, 1) := dk_42 (dk_at dksX13_unorderedNow_0 12 rfl rfl)
theorem dX13_unorderedNow_13 : decode cX13_unorderedNow 13 = .ok (.invokevirtual 179, 3) := dk_182 0 179 (dk_at dksX13_unorderedNow_0 13 rfl rfl)
theorem dX13_unorderedNow_16 : decode cX13_unorderedNow 16 = .ok (.getfield 286, 3) := dk_180 1 30 (dk_at dksX13_unorderedNow_0 16 rfl rfl)
theorem dX13_unorderedNow_19 : decode cX13_unorderedNow 19 = .ok (.isub, 1) := dk_100 (dk_at dksX13_unorderedNow_0 19 rfl rfl)
theorem dX13_unorderedNow_20 : decode cX13_unorderedNow 20 = .ok (.ireturn, 1) := dk_172 (dk_at dksX13_unorderedNow_0 20 rfl rfl)
abbrev cX13_digest : ByteArray := prog_17_method_47_code
def yX13_digest : MethodName := ⟨RX13, "digest", "()J"⟩
def dkwX13_digest_19 : List UInt8 := [182, 1, 26, 133, 184, 1, 49, 42, 16, 6, 7, 4, 16, 13, 182, 1, 26, 133, 184, 1, 49, 173]
abbrev dktX13_digest_19 : List UInt8 := dkwX13_digest_19 ++ []
def dkwX13_digest_18 : List UInt8 := [182, 1, 39, 133, 184, 1, 49, 42, 182, 1, 42, 133, 184, 1, 49, 42, 16, 6, 7, 4, 16, 9]
abbrev dktX13_digest_18 : List UInt8 := dkwX13_digest_18 ++ dktX13_digest_19
def dkwX13_digest_17 : List UInt8 := [167, 255, 231, 32, 43, 180, 0, 255, 21, 4, 46, 133, 184, 1, 49, 65, 132, 4, 1, 167, 255, 178, 32, 42]
abbrev dktX13_digest_17 : List UInt8 := dkwX13_digest_17 ++ dktX13_digest_18
def dkwX13_digest_16 : List UInt8 := [21, 6, 162, 0, 24, 25, 5, 21, 7, 46, 54, 8, 32, 21, 8, 133, 184, 1, 49, 65, 132, 7, 1]
abbrev dktX13_digest_16 : List UInt8 := dkwX13_digest_16 ++ dktX13_digest_17
def dkwX13_digest_15 : List UInt8 := [180, 0, 252, 21, 4, 182, 0, 132, 192, 0, 142, 58, 5, 25, 5, 190, 54, 6, 3, 54, 7, 21, 7]
abbrev dktX13_digest_15 : List UInt8 := dkwX13_digest_15 ++ dktX13_digest_16
def dkwX13_digest_14 : List UInt8 := [132, 4, 1, 167, 255, 212, 3, 54, 4, 21, 4, 43, 180, 0, 252, 182, 0, 71, 162, 0, 72, 43]
abbrev dktX13_digest_14 : List UInt8 := dkwX13_digest_14 ++ dktX13_digest_15
def dkwX13_digest_13 : List UInt8 := [162, 0, 23, 32, 43, 21, 4, 21, 5, 184, 0, 241, 133, 184, 1, 49, 65, 132, 5, 1, 167, 255, 233]
abbrev dktX13_digest_13 : List UInt8 := dkwX13_digest_13 ++ dktX13_digest_14
def dkwX13_digest_12 : List UInt8 := [167, 255, 188, 3, 54, 4, 21, 4, 43, 180, 0, 227, 182, 0, 71, 162, 0, 38, 3, 54, 5, 21, 5, 7]
abbrev dktX13_digest_12 : List UInt8 := dkwX13_digest_12 ++ dktX13_digest_13
def dkwX13_digest_11 : List UInt8 := [32, 25, 7, 21, 8, 184, 0, 224, 133, 184, 1, 49, 65, 132, 8, 1, 167, 255, 233, 132, 6, 1]
abbrev dktX13_digest_11 : List UInt8 := dkwX13_digest_11 ++ dktX13_digest_12
def dkwX13_digest_10 : List UInt8 := [167, 0, 43, 32, 25, 7, 180, 1, 52, 133, 184, 1, 49, 65, 3, 54, 8, 21, 8, 16, 8, 162, 0, 22]
abbrev dktX13_digest_10 : List UInt8 := dkwX13_digest_10 ++ dktX13_digest_11
def dkwX13_digest_9 : List UInt8 := [21, 6, 21, 5, 162, 0, 67, 25, 4, 21, 6, 50, 58, 7, 25, 7, 182, 0, 222, 154, 0, 6]
abbrev dktX13_digest_9 : List UInt8 := dkwX13_digest_9 ++ dktX13_digest_10
def dkwX13_digest_8 : List UInt8 := [132, 6, 1, 167, 255, 233, 167, 255, 205, 43, 180, 0, 218, 58, 4, 25, 4, 190, 54, 5, 3, 54, 6]
abbrev dktX13_digest_8 : List UInt8 := dkwX13_digest_8 ++ dktX13_digest_9
def dkwX13_digest_7 : List UInt8 := [54, 6, 21, 6, 16, 8, 162, 0, 22, 32, 25, 5, 21, 6, 184, 0, 185, 133, 184, 1, 49, 65]
abbrev dktX13_digest_7 : List UInt8 := dkwX13_digest_7 ++ dktX13_digest_8
def dkwX13_digest_6 : List UInt8 := [25, 4, 185, 0, 111, 1, 0, 153, 0, 47, 25, 4, 185, 0, 116, 1, 0, 192, 0, 154, 58, 5, 3]
abbrev dktX13_digest_6 : List UInt8 := dkwX13_digest_6 ++ dktX13_digest_7
def dkwX13_digest_5 : List UInt8 := [182, 1, 5, 133, 184, 1, 49, 65, 132, 4, 1, 167, 255, 219, 43, 180, 0, 182, 182, 0, 107, 58, 4]
abbrev dktX13_digest_5 : List UInt8 := dkwX13_digest_5 ++ dktX13_digest_6
def dkwX13_digest_4 : List UInt8 := [162, 0, 36, 42, 180, 0, 10, 180, 0, 146, 21, 4, 184, 1, 2, 153, 0, 15, 32, 43, 21, 4]
abbrev dktX13_digest_4 : List UInt8 := dkwX13_digest_4 ++ dktX13_digest_5
def dkwX13_digest_3 : List UInt8 := [46, 54, 7, 32, 21, 7, 133, 184, 1, 49, 65, 132, 6, 1, 167, 255, 231, 3, 54, 4, 21, 4, 16, 8]
abbrev dktX13_digest_3 : List UInt8 := dkwX13_digest_3 ++ dktX13_digest_4
def dkwX13_digest_2 : List UInt8 := [182, 0, 149, 58, 4, 25, 4, 190, 54, 5, 3, 54, 6, 21, 6, 21, 5, 162, 0, 24, 25, 4, 21, 6]
abbrev dktX13_digest_2 : List UInt8 := dkwX13_digest_2 ++ dktX13_digest_3
def dkwX13_digest_1 : List UInt8 := [32, 42, 43, 21, 4, 182, 1, 10, 133, 184, 1, 49, 65, 132, 4, 1, 167, 255, 233, 42, 180, 0, 10]
abbrev dktX13_digest_1 : List UInt8 := dkwX13_digest_1 ++ dktX13_digest_2
def dkwX13_digest_0 : List UInt8 := [42, 3, 181, 0, 25, 42, 182, 0, 179, 76, 20, 1, 47, 65, 3, 54, 4, 21, 4, 16, 16, 162, 0, 22]
abbrev dktX13_digest_0 : List UInt8 := dkwX13_digest_0 ++ dktX13_digest_1
theorem dksX13_digest_0 : cX13_digest.data.toList.drop 0 = dktX13_digest_0 := by decide +kernel
theorem dksX13_digest_1 : cX13_digest.data.toList.drop 24 = dktX13_digest_1 := dk_seg dksX13_digest_0 24 rfl rfl
theorem dksX13_digest_2 : cX13_digest.data.toList.drop 47 = dktX13_digest_2 := dk_seg dksX13_digest_1 23 rfl rfl
theorem dksX13_digest_3 : cX13_digest.data.toList.drop 71 = dktX13_digest_3 := dk_seg dksX13_digest_2 24 rfl rfl
theorem dksX13_digest_4 : cX13_digest.data.toList.drop 95 = dktX13_digest_4 := dk_seg dksX13_digest_3 24 rfl rfl
theorem dksX13_digest_5 : cX13_digest.data.toList.drop 117 = dktX13_digest_5 := dk_seg dksX13_digest_4 22 rfl rfl
theorem dksX13_digest_6 : cX13_digest.data.toList.drop 140 = dktX13_digest_6 := dk_seg dksX13_digest_5 23 rfl rfl
theorem dksX13_digest_7 : cX13_digest.data.toList.drop 163 = dktX13_digest_7 := dk_seg dksX13_digest_6 23 rfl rfl
theorem dksX13_digest_8 : cX13_digest.data.toList.drop 185 = dktX13_digest_8 := dk_seg dksX13_digest_7 22 rfl rfl
theorem dksX13_digest_9 : cX13_digest.data.toList.drop 208 = dktX13_digest_9 := dk_seg dksX13_digest_8 23 rfl rfl
theorem dksX13_digest_10 : cX13_digest.data.toList.drop 230 = dktX13_digest_10 := dk_seg dksX13_digest_9 22 rfl rfl
theorem dksX13_digest_11 : cX13_digest.data.toList.drop 254 = dktX13_digest_11 := dk_seg dksX13_digest_10 24 rfl rfl
theorem dksX13_digest_12 : cX13_digest.data.toList.drop 276 = dktX13_digest_12 := dk_seg dksX13_digest_11 22 rfl rfl
theorem dksX13_digest_13 : cX13_digest.data.toList.drop 300 = dktX13_digest_13 := dk_seg dksX13_digest_12 24 rfl rfl
theorem dksX13_digest_14 : cX13_digest.data.toList.drop 323 = dktX13_digest_14 := dk_seg dksX13_digest_13 23 rfl rfl
theorem dksX13_digest_15 : cX13_digest.data.toList.drop 345 = dktX13_digest_15 := dk_seg dksX13_digest_14 22 rfl rfl
theorem dksX13_digest_16 : cX13_digest.data.toList.drop 368 = dktX13_digest_16 := dk_seg dksX13_digest_15 23 rfl rfl
theorem dksX13_digest_17 : cX13_digest.data.toList.drop 391 = dktX13_digest_17 := dk_seg dksX13_digest_16 23 rfl rfl
theorem dksX13_digest_18 : cX13_digest.data.toList.drop 415 = dktX13_digest_18 := dk_seg dksX13_digest_17 24 rfl rfl
theorem dksX13_digest_19 : cX13_digest.data.toList.drop 437 = dktX13_digest_19 := dk_seg dksX13_digest_18 22 rfl rfl
theorem dX13_digest_0 : decode cX13_digest 0 = .ok (.aload_n 0, 1) := dk_42 (dk_at dksX13_digest_0 0 rfl rfl)
theorem dX13_digest_1 : decode cX13_digest 1 = .ok (.iconst 0, 1) := dk_3 (dk_at dksX13_digest_0 1 rfl rfl)
theorem dX13_digest_2 : decode cX13_digest 2 = .ok (.putfield 25, 3) := dk_181 0 25 (dk_at dksX13_digest_0 2 rfl rfl)
theorem dX13_digest_5 : decode cX13_digest 5 = .ok (.aload_n 0, 1) := dk_42 (dk_at dksX13_digest_0 5 rfl rfl)
theorem dX13_digest_6 : decode cX13_digest 6 = .ok (.invokevirtual 179, 3) := dk_182 0 179 (dk_at dksX13_digest_0 6 rfl rfl)
theorem dX13_digest_9 : decode cX13_digest 9 = .ok (.astore_n 1, 1) := dk_76 (dk_at dksX13_digest_0 9 rfl rfl)
theorem dX13_digest_10 : decode cX13_digest 10 = .ok (.ldc2_w 303, 3) := dk_20 1 47 (dk_at dksX13_digest_0 10 rfl rfl)
theorem dX13_digest_13 : decode cX13_digest 13 = .ok (.lstore_n 2, 1) := dk_65 (dk_at dksX13_digest_0 13 rfl rfl)
theorem dX13_digest_14 : decode cX13_digest 14 = .ok (.iconst 0, 1) := dk_3 (dk_at dksX13_digest_0 14 rfl rfl)
theorem dX13_digest_15 : decode cX13_digest 15 = .ok (.istore 4, 2) := dk_54 4 (dk_at dksX13_digest_0 15 rfl rfl)
theorem dX13_digest_17 : decode cX13_digest 17 = .ok (.iload 4, 2) := dk_21 4 (dk_at dksX13_digest_0 17 rfl rfl)
theorem dX13_digest_19 : decode cX13_digest 19 = .ok (.bipush 16, 2) := dk_16 16 (dk_at dksX13_digest_0 19 rfl rfl)
theorem dX13_digest_21 : decode cX13_digest 21 = .ok (.if_icmp .ge 22, 3) := dk_162 0 22 (dk_at dksX13_digest_0 21 rfl rfl)
theorem dX13_digest_24 : decode cX13_digest 24 = .ok (.lload_n 2, 1) := dk_32 (dk_at dksX13_digest_1 0 rfl rfl)
theorem dX13_digest_25 : decode cX13_digest 25 = .ok (.aload_n 0, 1) := dk_42 (dk_at dksX13_digest_1 1 rfl rfl)
theorem dX13_digest_26 : decode cX13_digest 26 = .ok (.aload_n 1, 1) := dk_43 (dk_at dksX13_digest_1 2 rfl rfl)
theorem dX13_digest_27 : decode cX13_digest 27 = .ok (.iload 4, 2) := dk_21 4 (dk_at dksX13_digest_1 3 rfl rfl)
theorem dX13_digest_29 : decode cX13_digest 29 = .ok (.invokevirtual 266, 3) := dk_182 1 10 (dk_at dksX13_digest_1 5 rfl rfl)
theorem dX13_digest_32 : decode cX13_digest 32 = .ok (.i2l, 1) := dk_133 (dk_at dksX13_digest_1 8 rfl rfl)
theorem dX13_digest_33 : decode cX13_digest 33 = .ok (.invokestatic 305, 3) := dk_184 1 49 (dk_at dksX13_digest_1 9 rfl rfl)
theorem dX13_digest_36 : decode cX13_digest 36 = .ok (.lstore_n 2, 1) := dk_65 (dk_at dksX13_digest_1 12 rfl rfl)
theorem dX13_digest_37 : decode cX13_digest 37 = .ok (.iinc 4 1, 3) := dk_132 4 1 (dk_at dksX13_digest_1 13 rfl rfl)
theorem dX13_digest_40 : decode cX13_digest 40 = .ok (.goto (-23), 3) := dk_167 255 233 (dk_at dksX13_digest_1 16 rfl rfl)
theorem dX13_digest_43 : decode cX13_digest 43 = .ok (.aload_n 0, 1) := dk_42 (dk_at dksX13_digest_1 19 rfl rfl)
theorem dX13_digest_44 : decode cX13_digest 44 = .ok (.getfield 10, 3) := dk_180 0 10 (dk_at dksX13_digest_1 20 rfl rfl)
theorem dX13_digest_47 : decode cX13_digest 47 = .ok (.invokevirtual 149, 3) := dk_182 0 149 (dk_at dksX13_digest_2 0 rfl rfl)
theorem dX13_digest_50 : decode cX13_digest 50 = .ok (.astore 4, 2) := dk_58 4 (dk_at dksX13_digest_2 3 rfl rfl)
theorem dX13_digest_52 : decode cX13_digest 52 = .ok (.aload 4, 2) := dk_25 4 (dk_at dksX13_digest_2 5 rfl rfl)
theorem dX13_digest_54 : decode cX13_digest 54 = .ok (.arraylength, 1) := dk_190 (dk_at dksX13_digest_2 7 rfl rfl)
theorem dX13_digest_55 : decode cX13_digest 55 = .ok (.istore 5, 2) := dk_54 5 (dk_at dksX13_digest_2 8 rfl rfl)
theorem dX13_digest_57 : decode cX13_digest 57 = .ok (.iconst 0, 1) := dk_3 (dk_at dksX13_digest_2 10 rfl rfl)
theorem dX13_digest_58 : decode cX13_digest 58 = .ok (.istore 6, 2) := dk_54 6 (dk_at dksX13_digest_2 11 rfl rfl)
theorem dX13_digest_60 : decode cX13_digest 60 = .ok (.iload 6, 2) := dk_21 6 (dk_at dksX13_digest_2 13 rfl rfl)
theorem dX13_digest_62 : decode cX13_digest 62 = .ok (.iload 5, 2) := dk_21 5 (dk_at dksX13_digest_2 15 rfl rfl)
theorem dX13_digest_64 : decode cX13_digest 64 = .ok (.if_icmp .ge 24, 3) := dk_162 0 24 (dk_at dksX13_digest_2 17 rfl rfl)
theorem dX13_digest_67 : decode cX13_digest 67 = .ok (.aload 4, 2) := dk_25 4 (dk_at dksX13_digest_2 20 rfl rfl)
theorem dX13_digest_69 : decode cX13_digest 69 = .ok (.iload 6, 2) := dk_21 6 (dk_at dksX13_digest_2 22 rfl rfl)
theorem dX13_digest_71 : decode cX13_digest 71 = .ok (.iaload, 1) := dk_46 (dk_at dksX13_digest_3 0 rfl rfl)
theorem dX13_digest_72 : decode cX13_digest 72 = .ok (.istore 7, 2) := dk_54 7 (dk_at dksX13_digest_3 1 rfl rfl)
theorem dX13_digest_74 : decode cX13_digest 74 = .ok (.lload_n 2, 1) := dk_32 (dk_at dksX13_digest_3 3 rfl rfl)
theorem dX13_digest_75 : decode cX13_digest 75 = .ok (.iload 7, 2) := dk_21 7 (dk_at dksX13_digest_3 4 rfl rfl)
theorem dX13_digest_77 : decode cX13_digest 77 = .ok (.i2l, 1) := dk_133 (dk_at dksX13_digest_3 6 rfl rfl)
theorem dX13_digest_78 : decode cX13_digest 78 = .ok (.invokestatic 305, 3) := dk_184 1 49 (dk_at dksX13_digest_3 7 rfl rfl)
theorem dX13_digest_81 : decode cX13_digest 81 = .ok (.lstore_n 2, 1) := dk_65 (dk_at dksX13_digest_3 10 rfl rfl)
theorem dX13_digest_82 : decode cX13_digest 82 = .ok (.iinc 6 1, 3) := dk_132 6 1 (dk_at dksX13_digest_3 11 rfl rfl)
theorem dX13_digest_85 : decode cX13_digest 85 = .ok (.goto (-25), 3) := dk_167 255 231 (dk_at dksX13_digest_3 14 rfl rfl)
theorem dX13_digest_88 : decode cX13_digest 88 = .ok (.iconst 0, 1) := dk_3 (dk_at dksX13_digest_3 17 rfl rfl)
theorem dX13_digest_89 : decode cX13_digest 89 = .ok (.istore 4, 2) := dk_54 4 (dk_at dksX13_digest_3 18 rfl rfl)
theorem dX13_digest_91 : decode cX13_digest 91 = .ok (.iload 4, 2) := dk_21 4 (dk_at dksX13_digest_3 20 rfl rfl)
theorem dX13_digest_93 : decode cX13_digest 93 = .ok (.bipush 8, 2) := dk_16 8 (dk_at dksX13_digest_3 22 rfl rfl)
theorem dX13_digest_95 : decode cX13_digest 95 = .ok (.if_icmp .ge 36, 3) := dk_162 0 36 (dk_at dksX13_digest_4 0 rfl rfl)
theorem dX13_digest_98 : decode cX13_digest 98 = .ok (.aload_n 0, 1) := dk_42 (dk_at dksX13_digest_4 3 rfl rfl)
theorem dX13_digest_99 : decode cX13_digest 99 = .ok (.getfield 10, 3) := dk_180 0 10 (dk_at dksX13_digest_4 4 rfl rfl)
theorem dX13_digest_102 : decode cX13_digest 102 = .ok (.getfield 146, 3) := dk_180 0 146 (dk_at dksX13_digest_4 7 rfl rfl)
theorem dX13_digest_105 : decode cX13_digest 105 = .ok (.iload 4, 2) := dk_21 4 (dk_at dksX13_digest_4 10 rfl rfl)
theorem dX13_digest_107 : decode cX13_digest 107 = .ok (.invokestatic 258, 3) := dk_184 1 2 (dk_at dksX13_digest_4 12 rfl rfl)
theorem dX13_digest_110 : decode cX13_digest 110 = .ok (.ifCond .eq 15, 3) := dk_153 0 15 (dk_at dksX13_digest_4 15 rfl rfl)
theorem dX13_digest_113 : decode cX13_digest 113 = .ok (.lload_n 2, 1) := dk_32 (dk_at dksX13_digest_4 18 rfl rfl)
theorem dX13_digest_114 : decode cX13_digest 114 = .ok (.aload_n 1, 1) := dk_43 (dk_at dksX13_digest_4 19 rfl rfl)
theorem dX13_digest_115 : decode cX13_digest 115 = .ok (.iload 4, 2) := dk_21 4 (dk_at dksX13_digest_4 20 rfl rfl)
theorem dX13_digest_117 : decode cX13_digest 117 = .ok (.invokevirtual 261, 3) := dk_182 1 5 (dk_at dksX13_digest_5 0 rfl rfl)
theorem dX13_digest_120 : decode cX13_digest 120 = .ok (.i2l, 1) := dk_133 (dk_at dksX13_digest_5 3 rfl rfl)
theorem dX13_digest_121 : decode cX13_digest 121 = .ok (.invokestatic 305, 3) := dk_184 1 49 (dk_at dksX13_digest_5 4 rfl rfl)
theorem dX13_digest_124 : decode cX13_digest 124 = .ok (.lstore_n 2, 1) := dk_65 (dk_at dksX13_digest_5 7 rfl rfl)
theorem dX13_digest_125 : decode cX13_digest 125 = .ok (.iinc 4 1, 3) := dk_132 4 1 (dk_at dksX13_digest_5 8 rfl rfl)
theorem dX13_digest_128 : decode cX13_digest 128 = .ok (.goto (-37), 3) := dk_167 255 219 (dk_at dksX13_digest_5 11 rfl rfl)
theorem dX13_digest_131 : decode cX13_digest 131 = .ok (.aload_n 1, 1) := dk_43 (dk_at dksX13_digest_5 14 rfl rfl)
theorem dX13_digest_132 : decode cX13_digest 132 = .ok (.getfield 182, 3) := dk_180 0 182 (dk_at dksX13_digest_5 15 rfl rfl)
theorem dX13_digest_135 : decode cX13_digest 135 = .ok (.invokevirtual 107, 3) := dk_182 0 107 (dk_at dksX13_digest_5 18 rfl rfl)
theorem dX13_digest_138 : decode cX13_digest 138 = .ok (.astore 4, 2) := dk_58 4 (dk_at dksX13_digest_5 21 rfl rfl)
theorem dX13_digest_140 : decode cX13_digest 140 = .ok (.aload 4, 2) := dk_25 4 (dk_at dksX13_digest_6 0 rfl rfl)
theorem dX13_digest_142 : decode cX13_digest 142 = .ok (.invokeinterface 111 1, 5) := by decide +kernel
theorem dX13_digest_147 : decode cX13_digest 147 = .ok (.ifCond .eq 47, 3) := dk_153 0 47 (dk_at dksX13_digest_6 7 rfl rfl)
theorem dX13_digest_150 : decode cX13_digest 150 = .ok (.aload 4, 2) := dk_25 4 (dk_at dksX13_digest_6 10 rfl rfl)
theorem dX13_digest_152 : decode cX13_digest 152 = .ok (.invokeinterface 116 1, 5) := by decide +kernel
theorem dX13_digest_157 : decode cX13_digest 157 = .ok (.checkcast 154, 3) := dk_192 0 154 (dk_at dksX13_digest_6 17 rfl rfl)
theorem dX13_digest_160 : decode cX13_digest 160 = .ok (.astore 5, 2) := dk_58 5 (dk_at dksX13_digest_6 20 rfl rfl)
theorem dX13_digest_162 : decode cX13_digest 162 = .ok (.iconst 0, 1) := dk_3 (dk_at dksX13_digest_6 22 rfl rfl)
theorem dX13_digest_163 : decode cX13_digest 163 = .ok (.istore 6, 2) := dk_54 6 (dk_at dksX13_digest_7 0 rfl rfl)
theorem dX13_digest_165 : decode cX13_digest 165 = .ok (.iload 6, 2) := dk_21 6 (dk_at dksX13_digest_7 2 rfl rfl)
theorem dX13_digest_167 : decode cX13_digest 167 = .ok (.bipush 8, 2) := dk_16 8 (dk_at dksX13_digest_7 4 rfl rfl)
theorem dX13_digest_169 : decode cX13_digest 169 = .ok (.if_icmp .ge 22, 3) := dk_162 0 22 (dk_at dksX13_digest_7 6 rfl rfl)
theorem dX13_digest_172 : decode cX13_digest 172 = .ok (.lload_n 2, 1) := dk_32 (dk_at dksX13_digest_7 9 rfl rfl)
theorem dX13_digest_173 : decode cX13_digest 173 = .ok (.aload 5, 2) := dk_25 5 (dk_at dksX13_digest_7 10 rfl rfl)
theorem dX13_digest_175 : decode cX13_digest 175 = .ok (.iload 6, 2) := dk_21 6 (dk_at dksX13_digest_7 12 rfl rfl)
theorem dX13_digest_177 : decode cX13_digest 177 = .ok (.invokestatic 185, 3) := dk_184 0 185 (dk_at dksX13_digest_7 14 rfl rfl)
theorem dX13_digest_180 : decode cX13_digest 180 = .ok (.i2l, 1) := dk_133 (dk_at dksX13_digest_7 17 rfl rfl)
theorem dX13_digest_181 : decode cX13_digest 181 = .ok (.invokestatic 305, 3) := dk_184 1 49 (dk_at dksX13_digest_7 18 rfl rfl)
theorem dX13_digest_184 : decode cX13_digest 184 = .ok (.lstore_n 2, 1) := dk_65 (dk_at dksX13_digest_7 21 rfl rfl)
theorem dX13_digest_185 : decode cX13_digest 185 = .ok (.iinc 6 1, 3) := dk_132 6 1 (dk_at dksX13_digest_8 0 rfl rfl)
theorem dX13_digest_188 : decode cX13_digest 188 = .ok (.goto (-23), 3) := dk_167 255 233 (dk_at dksX13_digest_8 3 rfl rfl)
theorem dX13_digest_191 : decode cX13_digest 191 = .ok (.goto (-51), 3) := dk_167 255 205 (dk_at dksX13_digest_8 6 rfl rfl)
theorem dX13_digest_194 : decode cX13_digest 194 = .ok (.aload_n 1, 1) := dk_43 (dk_at dksX13_digest_8 9 rfl rfl)
theorem dX13_digest_195 : decode cX13_digest 195 = .ok (.getfield 218, 3) := dk_180 0 218 (dk_at dksX13_digest_8 10 rfl rfl)
theorem dX13_digest_198 : decode cX13_digest 198 = .ok (.astore 4, 2) := dk_58 4 (dk_at dksX13_digest_8 13 rfl rfl)
theorem dX13_digest_200 : decode cX13_digest 200 = .ok (.aload 4, 2) := dk_25 4 (dk_at dksX13_digest_8 15 rfl rfl)
theorem dX13_digest_202 : decode cX13_digest 202 = .ok (.arraylength, 1) := dk_190 (dk_at dksX13_digest_8 17 rfl rfl)
theorem dX13_digest_203 : decode cX13_digest 203 = .ok (.istore 5, 2) := dk_54 5 (dk_at dksX13_digest_8 18 rfl rfl)
theorem dX13_digest_205 : decode cX13_digest 205 = .ok (.iconst 0, 1) := dk_3 (dk_at dksX13_digest_8 20 rfl rfl)
theorem dX13_digest_206 : decode cX13_digest 206 = .ok (.istore 6, 2) := dk_54 6 (dk_at dksX13_digest_8 21 rfl rfl)
theorem dX13_digest_208 : decode cX13_digest 208 = .ok (.iload 6, 2) := dk_21 6 (dk_at dksX13_digest_9 0 rfl rfl)
theorem dX13_digest_210 : decode cX13_digest 210 = .ok (.iload 5, 2) := dk_21 5 (dk_at dksX13_digest_9 2 rfl rfl)
theorem dX13_digest_212 : decode cX13_digest 212 = .ok (.if_icmp .ge 67, 3) := dk_162 0 67 (dk_at dksX13_digest_9 4 rfl rfl)
theorem dX13_digest_215 : decode cX13_digest 215 = .ok (.aload 4, 2) := dk_25 4 (dk_at dksX13_digest_9 7 rfl rfl)
theorem dX13_digest_217 : decode cX13_digest 217 = .ok (.iload 6, 2) := dk_21 6 (dk_at dksX13_digest_9 9 rfl rfl)
theorem dX13_digest_219 : decode cX13_digest 219 = .ok (.aaload, 1) := dk_50 (dk_at dksX13_digest_9 11 rfl rfl)
theorem dX13_digest_220 : decode cX13_digest 220 = .ok (.astore 7, 2) := dk_58 7 (dk_at dksX13_digest_9 12 rfl rfl)
theorem dX13_digest_222 : decode cX13_digest 222 = .ok (.aload 7, 2) := dk_25 7 (dk_at dksX13_digest_9 14 rfl rfl)
theorem dX13_digest_224 : decode cX13_digest 224 = .ok (.invokevirtual 222, 3) := dk_182 0 222 (dk_at dksX13_digest_9 16 rfl rfl)
theorem dX13_digest_227 : decode cX13_digest 227 = .ok (.ifCond .ne 6, 3) := dk_154 0 6 (dk_at dksX13_digest_9 19 rfl rfl)
theorem dX13_digest_230 : decode cX13_digest 230 = .ok (.goto 43, 3) := dk_167 0 43 (dk_at dksX13_digest_10 0 rfl rfl)
theorem dX13_digest_233 : decode cX13_digest 233 = .ok (.lload_n 2, 1) := dk_32 (dk_at dksX13_digest_10 3 rfl rfl)
theorem dX13_digest_234 : decode cX13_digest 234 = .ok (.aload 7, 2) := dk_25 7 (dk_at dksX13_digest_10 4 rfl rfl)
theorem dX13_digest_236 : decode cX13_digest 236 = .ok (.getfield 308, 3) := dk_180 1 52 (dk_at dksX13_digest_10 6 rfl rfl)
theorem dX13_digest_239 : decode cX13_digest 239 = .ok (.i2l, 1) := dk_133 (dk_at dksX13_digest_10 9 rfl rfl)
theorem dX13_digest_240 : decode cX13_digest 240 = .ok (.invokestatic 305, 3) := dk_184 1 49 (dk_at dksX13_digest_10 10 rfl rfl)
theorem dX13_digest_243 : decode cX13_digest 243 = .ok (.lstore_n 2, 1) := dk_65 (dk_at dksX13_digest_10 13 rfl rfl)
theorem dX13_digest_244 : decode cX13_digest 244 = .ok (.iconst 0, 1) := dk_3 (dk_at dksX13_digest_10 14 rfl rfl)
theorem dX13_digest_245 : decode cX13_digest 245 = .ok (.istore 8, 2) := dk_54 8 (dk_at dksX13_digest_10 15 rfl rfl)
theorem dX13_digest_247 : decode cX13_digest 247 = .ok (.iload 8, 2) := dk_21 8 (dk_at dksX13_digest_10 17 rfl rfl)
theorem dX13_digest_249 : decode cX13_digest 249 = .ok (.bipush 8, 2) := dk_16 8 (dk_at dksX13_digest_10 19 rfl rfl)
theorem dX13_digest_251 : decode cX13_digest 251 = .ok (.if_icmp .ge 22, 3) := dk_162 0 22 (dk_at dksX13_digest_10 21 rfl rfl)
theorem dX13_digest_254 : decode cX13_digest 254 = .ok (.lload_n 2, 1) := dk_32 (dk_at dksX13_digest_11 0 rfl rfl)
theorem dX13_digest_255 : decode cX13_digest 255 = .ok (.aload 7, 2) := dk_25 7 (dk_at dksX13_digest_11 1 rfl rfl)
theorem dX13_digest_257 : decode cX13_digest 257 = .ok (.iload 8, 2) := dk_21 8 (dk_at dksX13_digest_11 3 rfl rfl)
theorem dX13_digest_259 : decode cX13_digest 259 = .ok (.invokestatic 224, 3) := dk_184 0 224 (dk_at dksX13_digest_11 5 rfl rfl)
theorem dX13_digest_262 : decode cX13_digest 262 = .ok (.i2l, 1) := dk_133 (dk_at dksX13_digest_11 8 rfl rfl)
theorem dX13_digest_263 : decode cX13_digest 263 = .ok (.invokestatic 305, 3) := dk_184 1 49 (dk_at dksX13_digest_11 9 rfl rfl)
theorem dX13_digest_266 : decode cX13_digest 266 = .ok (.lstore_n 2, 1) := dk_65 (dk_at dksX13_digest_11 12 rfl rfl)
theorem dX13_digest_267 : decode cX13_digest 267 = .ok (.iinc 8 1, 3) := dk_132 8 1 (dk_at dksX13_digest_11 13 rfl rfl)
theorem dX13_digest_270 : decode cX13_digest 270 = .ok (.goto (-23), 3) := dk_167 255 233 (dk_at dksX13_digest_11 16 rfl rfl)
theorem dX13_digest_273 : decode cX13_digest 273 = .ok (.iinc 6 1, 3) := dk_132 6 1 (dk_at dksX13_digest_11 19 rfl rfl)
theorem dX13_digest_276 : decode cX13_digest 276 = .ok (.goto (-68), 3) := dk_167 255 188 (dk_at dksX13_digest_12 0 rfl rfl)
theorem dX13_digest_279 : decode cX13_digest 279 = .ok (.iconst 0, 1) := dk_3 (dk_at dksX13_digest_12 3 rfl rfl)
theorem dX13_digest_280 : decode cX13_digest 280 = .ok (.istore 4, 2) := dk_54 4 (dk_at dksX13_digest_12 4 rfl rfl)
theorem dX13_digest_282 : decode cX13_digest 282 = .ok (.iload 4, 2) := dk_21 4 (dk_at dksX13_digest_12 6 rfl rfl)
theorem dX13_digest_284 : decode cX13_digest 284 = .ok (.aload_n 1, 1) := dk_43 (dk_at dksX13_digest_12 8 rfl rfl)
theorem dX13_digest_285 : decode cX13_digest 285 = .ok (.getfield 227, 3) := dk_180 0 227 (dk_at dksX13_digest_12 9 rfl rfl)
theorem dX13_digest_288 : decode cX13_digest 288 = .ok (.invokevirtual 71, 3) := dk_182 0 71 (dk_at dksX13_digest_12 12 rfl rfl)
theorem dX13_digest_291 : decode cX13_digest 291 = .ok (.if_icmp .ge 38, 3) := dk_162 0 38 (dk_at dksX13_digest_12 15 rfl rfl)
theorem dX13_digest_294 : decode cX13_digest 294 = .ok (.iconst 0, 1) := dk_3 (dk_at dksX13_digest_12 18 rfl rfl)
theorem dX13_digest_295 : decode cX13_digest 295 = .ok (.istore 5, 2) := dk_54 5 (dk_at dksX13_digest_12 19 rfl rfl)
theorem dX13_digest_297 : decode cX13_digest 297 = .ok (.iload 5, 2) := dk_21 5 (dk_at dksX13_digest_12 21 rfl rfl)
theorem dX13_digest_299 : decode cX13_digest 299 = .ok (.iconst 4, 1) := dk_7 (dk_at dksX13_digest_12 23 rfl rfl)
theorem dX13_digest_300 : decode cX13_digest 300 = .ok (.if_icmp .ge 23, 3) := dk_162 0 23 (dk_at dksX13_digest_13 0 rfl rfl)
theorem dX13_digest_303 : decode cX13_digest 303 = .ok (.lload_n 2, 1) := dk_32 (dk_at dksX13_digest_13 3 rfl rfl)
theorem dX13_digest_304 : decode cX13_digest 304 = .ok (.aload_n 1, 1) := dk_43 (dk_at dksX13_digest_13 4 rfl rfl)
theorem dX13_digest_305 : decode cX13_digest 305 = .ok (.iload 4, 2) := dk_21 4 (dk_at dksX13_digest_13 5 rfl rfl)
theorem dX13_digest_307 : decode cX13_digest 307 = .ok (.iload 5, 2) := dk_21 5 (dk_at dksX13_digest_13 7 rfl rfl)
theorem dX13_digest_309 : decode cX13_digest 309 = .ok (.invokestatic 241, 3) := dk_184 0 241 (dk_at dksX13_digest_13 9 rfl rfl)
theorem dX13_digest_312 : decode cX13_digest 312 = .ok (.i2l, 1) := dk_133 (dk_at dksX13_digest_13 12 rfl rfl)
theorem dX13_digest_313 : decode cX13_digest 313 = .ok (.invokestatic 305, 3) := dk_184 1 49 (dk_at dksX13_digest_13 13 rfl rfl)
theorem dX13_digest_316 : decode cX13_digest 316 = .ok (.lstore_n 2, 1) := dk_65 (dk_at dksX13_digest_13 16 rfl rfl)
theorem dX13_digest_317 : decode cX13_digest 317 = .ok (.iinc 5 1, 3) := dk_132 5 1 (dk_at dksX13_digest_13 17 rfl rfl)
theorem dX13_digest_320 : decode cX13_digest 320 = .ok (.goto (-23), 3) := dk_167 255 233 (dk_at dksX13_digest_13 20 rfl rfl)
theorem dX13_digest_323 : decode cX13_digest 323 = .ok (.iinc 4 1, 3) := dk_132 4 1 (dk_at dksX13_digest_14 0 rfl rfl)
theorem dX13_digest_326 : decode cX13_digest 326 = .ok (.goto (-44), 3) := dk_167 255 212 (dk_at dksX13_digest_14 3 rfl rfl)
theorem dX13_digest_329 : decode cX13_digest 329 = .ok (.iconst 0, 1) := dk_3 (dk_at dksX13_digest_14 6 rfl rfl)
theorem dX13_digest_330 : decode cX13_digest 330 = .ok (.istore 4, 2) := dk_54 4 (dk_at dksX13_digest_14 7 rfl rfl)
theorem dX13_digest_332 : decode cX13_digest 332 = .ok (.iload 4, 2) := dk_21 4 (dk_at dksX13_digest_14 9 rfl rfl)
theorem dX13_digest_334 : decode cX13_digest 334 = .ok (.aload_n 1, 1) := dk_43 (dk_at dksX13_digest_14 11 rfl rfl)
theorem dX13_digest_335 : decode cX13_digest 335 = .ok (.getfield 252, 3) := dk_180 0 252 (dk_at dksX13_digest_14 12 rfl rfl)
theorem dX13_digest_338 : decode cX13_digest 338 = .ok (.invokevirtual 71, 3) := dk_182 0 71 (dk_at dksX13_digest_14 15 rfl rfl)
theorem dX13_digest_341 : decode cX13_digest 341 = .ok (.if_icmp .ge 72, 3) := dk_162 0 72 (dk_at dksX13_digest_14 18 rfl rfl)
theorem dX13_digest_344 : decode cX13_digest 344 = .ok (.aload_n 1, 1) := dk_43 (dk_at dksX13_digest_14 21 rfl rfl)
theorem dX13_digest_345 : decode cX13_digest 345 = .ok (.getfield 252, 3) := dk_180 0 252 (dk_at dksX13_digest_15 0 rfl rfl)
theorem dX13_digest_348 : decode cX13_digest 348 = .ok (.iload 4, 2) := dk_21 4 (dk_at dksX13_digest_15 3 rfl rfl)
theorem dX13_digest_350 : decode cX13_digest 350 = .ok (.invokevirtual 132, 3) := dk_182 0 132 (dk_at dksX13_digest_15 5 rfl rfl)
theorem dX13_digest_353 : decode cX13_digest 353 = .ok (.checkcast 142, 3) := dk_192 0 142 (dk_at dksX13_digest_15 8 rfl rfl)
theorem dX13_digest_356 : decode cX13_digest 356 = .ok (.astore 5, 2) := dk_58 5 (dk_at dksX13_digest_15 11 rfl rfl)
theorem dX13_digest_358 : decode cX13_digest 358 = .ok (.aload 5, 2) := dk_25 5 (dk_at dksX13_digest_15 13 rfl rfl)
theorem dX13_digest_360 : decode cX13_digest 360 = .ok (.arraylength, 1) := dk_190 (dk_at dksX13_digest_15 15 rfl rfl)
theorem dX13_digest_361 : decode cX13_digest 361 = .ok (.istore 6, 2) := dk_54 6 (dk_at dksX13_digest_15 16 rfl rfl)
theorem dX13_digest_363 : decode cX13_digest 363 = .ok (.iconst 0, 1) := dk_3 (dk_at dksX13_digest_15 18 rfl rfl)
theorem dX13_digest_364 : decode cX13_digest 364 = .ok (.istore 7, 2) := dk_54 7 (dk_at dksX13_digest_15 19 rfl rfl)
theorem dX13_digest_366 : decode cX13_digest 366 = .ok (.iload 7, 2) := dk_21 7 (dk_at dksX13_digest_15 21 rfl rfl)
theorem dX13_digest_368 : decode cX13_digest 368 = .ok (.iload 6, 2) := dk_21 6 (dk_at dksX13_digest_16 0 rfl rfl)
theorem dX13_digest_370 : decode cX13_digest 370 = .ok (.if_icmp .ge 24, 3) := dk_162 0 24 (dk_at dksX13_digest_16 2 rfl rfl)
theorem dX13_digest_373 : decode cX13_digest 373 = .ok (.aload 5, 2) := dk_25 5 (dk_at dksX13_digest_16 5 rfl rfl)
theorem dX13_digest_375 : decode cX13_digest 375 = .ok (.iload 7, 2) := dk_21 7 (dk_at dksX13_digest_16 7 rfl rfl)
theorem dX13_digest_377 : decode cX13_digest 377 = .ok (.iaload, 1) := dk_46 (dk_at dksX13_digest_16 9 rfl rfl)
theorem dX13_digest_378 : decode cX13_digest 378 = .ok (.istore 8, 2) := dk_54 8 (dk_at dksX13_digest_16 10 rfl rfl)
theorem dX13_digest_380 : decode cX13_digest 380 = .ok (.lload_n 2, 1) := dk_32 (dk_at dksX13_digest_16 12 rfl rfl)
theorem dX13_digest_381 : decode cX13_digest 381 = .ok (.iload 8, 2) := dk_21 8 (dk_at dksX13_digest_16 13 rfl rfl)
theorem dX13_digest_383 : decode cX13_digest 383 = .ok (.i2l, 1) := dk_133 (dk_at dksX13_digest_16 15 rfl rfl)
theorem dX13_digest_384 : decode cX13_digest 384 = .ok (.invokestatic 305, 3) := dk_184 1 49 (dk_at dksX13_digest_16 16 rfl rfl)
theorem dX13_digest_387 : decode cX13_digest 387 = .ok (.lstore_n 2, 1) := dk_65 (dk_at dksX13_digest_16 19 rfl rfl)
theorem dX13_digest_388 : decode cX13_digest 388 = .ok (.iinc 7 1, 3) := dk_132 7 1 (dk_at dksX13_digest_16 20 rfl rfl)
theorem dX13_digest_391 : decode cX13_digest 391 = .ok (.goto (-25), 3) := dk_167 255 231 (dk_at dksX13_digest_17 0 rfl rfl)
theorem dX13_digest_394 : decode cX13_digest 394 = .ok (.lload_n 2, 1) := dk_32 (dk_at dksX13_digest_17 3 rfl rfl)
theorem dX13_digest_395 : decode cX13_digest 395 = .ok (.aload_n 1, 1) := dk_43 (dk_at dksX13_digest_17 4 rfl rfl)
theorem dX13_digest_396 : decode cX13_digest 396 = .ok (.getfield 255, 3) := dk_180 0 255 (dk_at dksX13_digest_17 5 rfl rfl)
theorem dX13_digest_399 : decode cX13_digest 399 = .ok (.iload 4, 2) := dk_21 4 (dk_at dksX13_digest_17 8 rfl rfl)
theorem dX13_digest_401 : decode cX13_digest 401 = .ok (.iaload, 1) := dk_46 (dk_at dksX13_digest_17 10 rfl rfl)
theorem dX13_digest_402 : decode cX13_digest 402 = .ok (.i2l, 1) := dk_133 (dk_at dksX13_digest_17 11 rfl rfl)
theorem dX13_digest_403 : decode cX13_digest 403 = .ok (.invokestatic 305, 3) := dk_184 1 49 (dk_at dksX13_digest_17 12 rfl rfl)
theorem dX13_digest_406 : decode cX13_digest 406 = .ok (.lstore_n 2, 1) := dk_65 (dk_at dksX13_digest_17 15 rfl rfl)
theorem dX13_digest_407 : decode cX13_digest 407 = .ok (.iinc 4 1, 3) := dk_132 4 1 (dk_at dksX13_digest_17 16 rfl rfl)
theorem dX13_digest_410 : decode cX13_digest 410 = .ok (.goto (-78), 3) := dk_167 255 178 (dk_at dksX13_digest_17 19 rfl rfl)
theorem dX13_digest_413 : decode cX13_digest 413 = .ok (.lload_n 2, 1) := dk_32 (dk_at dksX13_digest_17 22 rfl rfl)
theorem dX13_digest_414 : decode cX13_digest 414 = .ok (.aload_n 0, 1) := dk_42 (dk_at dksX13_digest_17 23 rfl rfl)
theorem dX13_digest_415 : decode cX13_digest 415 = .ok (.invokevirtual 295, 3) := dk_182 1 39 (dk_at dksX13_digest_18 0 rfl rfl)
theorem dX13_digest_418 : decode cX13_digest 418 = .ok (.i2l, 1) := dk_133 (dk_at dksX13_digest_18 3 rfl rfl)
theorem dX13_digest_419 : decode cX13_digest 419 = .ok (.invokestatic 305, 3) := dk_184 1 49 (dk_at dksX13_digest_18 4 rfl rfl)
theorem dX13_digest_422 : decode cX13_digest 422 = .ok (.aload_n 0, 1) := dk_42 (dk_at dksX13_digest_18 7 rfl rfl)
theorem dX13_digest_423 : decode cX13_digest 423 = .ok (.invokevirtual 298, 3) := dk_182 1 42 (dk_at dksX13_digest_18 8 rfl rfl)
theorem dX13_digest_426 : decode cX13_digest 426 = .ok (.i2l, 1) := dk_133 (dk_at dksX13_digest_18 11 rfl rfl)
theorem dX13_digest_427 : decode cX13_digest 427 = .ok (.invokestatic 305, 3) := dk_184 1 49 (dk_at dksX13_digest_18 12 rfl rfl)
theorem dX13_digest_430 : decode cX13_digest 430 = .ok (.aload_n 0, 1) := dk_42 (dk_at dksX13_digest_18 15 rfl rfl)
theorem dX13_digest_431 : decode cX13_digest 431 = .ok (.bipush 6, 2) := dk_16 6 (dk_at dksX13_digest_18 16 rfl rfl)
theorem dX13_digest_433 : decode cX13_digest 433 = .ok (.iconst 4, 1) := dk_7 (dk_at dksX13_digest_18 18 rfl rfl)
theorem dX13_digest_434 : decode cX13_digest 434 = .ok (.iconst 1, 1) := dk_4 (dk_at dksX13_digest_18 19 rfl rfl)
theorem dX13_digest_435 : decode cX13_digest 435 = .ok (.bipush 9, 2) := dk_16 9 (dk_at dksX13_digest_18 20 rfl rfl)
theorem dX13_digest_437 : decode cX13_digest 437 = .ok (.invokevirtual 282, 3) := dk_182 1 26 (dk_at dksX13_digest_19 0 rfl rfl)
theorem dX13_digest_440 : decode cX13_digest 440 = .ok (.i2l, 1) := dk_133 (dk_at dksX13_digest_19 3 rfl rfl)
theorem dX13_digest_441 : decode cX13_digest 441 = .ok (.invokestatic 305, 3) := dk_184 1 49 (dk_at dksX13_digest_19 4 rfl rfl)
theorem dX13_digest_444 : decode cX13_digest 444 = .ok (.aload_n 0, 1) := dk_42 (dk_at dksX13_digest_19 7 rfl rfl)
theorem dX13_digest_445 : decode cX13_digest 445 = .ok (.bipush 6, 2) := dk_16 6 (dk_at dksX13_digest_19 8 rfl rfl)
theorem dX13_digest_447 : decode cX13_digest 447 = .ok (.iconst 4, 1) := dk_7 (dk_at dksX13_digest_19 10 rfl rfl)
theorem dX13_digest_448 : decode cX13_digest 448 = .ok (.iconst 1, 1) := dk_4 (dk_at dksX13_digest_19 11 rfl rfl)
theorem dX13_digest_449 : decode cX13_digest 449 = .ok (.bipush 13, 2) := dk_16 13 (dk_at dksX13_digest_19 12 rfl rfl)
theorem dX13_digest_451 : decode cX13_digest 451 = .ok (.invokevirtual 282, 3) := dk_182 1 26 (dk_at dksX13_digest_19 14 rfl rfl)
theorem dX13_digest_454 : decode cX13_digest 454 = .ok (.i2l, 1) := dk_133 (dk_at dksX13_digest_19 17 rfl rfl)
theorem dX13_digest_455 : decode cX13_digest 455 = .ok (.invokestatic 305, 3) := dk_184 1 49 (dk_at dksX13_digest_19 18 rfl rfl)
theorem dX13_digest_458 : decode cX13_digest 458 = .ok (.lreturn, 1) := dk_173 (dk_at dksX13_digest_19 21 rfl rfl)
abbrev cX13_add : ByteArray := prog_17_method_46_code
def yX13_add : MethodName := ⟨RX13, "add", "(JJ)J"⟩
def dkwX13_add_0 : List UInt8 := [30, 20, 1, 45, 105, 32, 97, 173]
abbrev dktX13_add_0 : List UInt8 := dkwX13_add_0 ++ []
theorem dksX13_add_0 : cX13_add.data.toList.drop 0 = dktX13_add_0 := by decide +kernel
theorem dX13_add_0 : decode cX13_add 0 = .ok (.lload_n 0, 1) := dk_30 (dk_at dksX13_add_0 0 rfl rfl)
theorem dX13_add_1 : decode cX13_add 1 = .ok (.ldc2_w 301, 3) := dk_20 1 45 (dk_at dksX13_add_0 1 rfl rfl)
theorem dX13_add_4 : decode cX13_add 4 = .ok (.lmul, 1) := dk_105 (dk_at dksX13_add_0 4 rfl rfl)
theorem dX13_add_5 : decode cX13_add 5 = .ok (.lload_n 2, 1) := dk_32 (dk_at dksX13_add_0 5 rfl rfl)
theorem dX13_add_6 : decode cX13_add 6 = .ok (.ladd, 1) := dk_97 (dk_at dksX13_add_0 6 rfl rfl)
theorem dX13_add_7 : decode cX13_add 7 = .ok (.lreturn, 1) := dk_173 (dk_at dksX13_add_0 7 rfl rfl)
theorem q155 : (Jvm.Cond.initialized "SpillslotWorksModel") ∈ lw_all := lw_g (lw_at lw_m1 36 rfl) rfl
theorem q267 : (Jvm.Cond.selects "SpillslotWorksModel" ({ cls := "java/lang/Object", name := "getClass", desc := "()Ljava/lang/Class;" } : Jvm.MethodName) ({ cls := "java/lang/Object", name := "getClass", desc := "()Ljava/lang/Class;" } : Jvm.MethodName)) ∈ lw_all := lw_g (lw_at lw_m1 148 rfl) rfl
theorem q1846 : (Jvm.Cond.instantiable "SpillslotWorksModel" (3 : Nat)) ∈ lw_all := lw_g (lw_at lw_m8 47 rfl) rfl
theorem q1848 : (Jvm.Cond.instanceMethod ({ cls := "SpillslotWorksModel", name := "<init>", desc := "()V" } : Jvm.MethodName)) ∈ lw_all := lw_g (lw_at lw_m8 49 rfl) rfl
theorem q1849 : (Jvm.Cond.code ({ cls := "SpillslotWorksModel", name := "<init>", desc := "()V" } : Jvm.MethodName) prog_17_method_3_code (1 : Nat) (Option.none : Option Jvm.ClassFile.FieldType)) ∈ lw_all := lw_g (lw_at lw_m8 50 rfl) rfl
theorem q1850 : (Jvm.Cond.methodLink "SpillslotWorksModel" (1 : Nat) ({ cls := "java/lang/Object", name := "<init>", desc := "()V" } : Jvm.MethodName)) ∈ lw_all := lw_g (lw_at lw_m8 51 rfl) rfl
theorem q1851 : (Jvm.Cond.classLink "SpillslotWorksModel" (7 : Nat) "SpillslotWorksModel$Program") ∈ lw_all := lw_g (lw_at lw_m8 52 rfl) rfl
theorem q1853 : (Jvm.Cond.methodLink "SpillslotWorksModel" (9 : Nat) ({ cls := "SpillslotWorksModel$Program", name := "<init>", desc := "()V" } : Jvm.MethodName)) ∈ lw_all := lw_g (lw_at lw_m8 54 rfl) rfl
theorem q1861 : (Jvm.Cond.fieldLink "SpillslotWorksModel" (67 : Nat) "SpillslotWorksModel$Program" "nodes" "Ljava/util/ArrayList;") ∈ lw_all := lw_g (lw_at lw_m8 62 rfl) rfl
theorem q1864 : (Jvm.Cond.fieldLink "SpillslotWorksModel" (104 : Nat) "SpillslotWorksModel$Program" "blocks" "Ljava/util/ArrayList;") ∈ lw_all := lw_g (lw_at lw_m8 65 rfl) rfl
theorem q1868 : (Jvm.Cond.fieldLink "SpillslotWorksModel" (143 : Nat) "SpillslotWorksModel$Program" "times" "[I") ∈ lw_all := lw_g (lw_at lw_m8 69 rfl) rfl
theorem q1870 : (Jvm.Cond.fieldLink "SpillslotWorksModel" (63 : Nat) "SpillslotWorksModel$Program" "latencies" "[I") ∈ lw_all := lw_g (lw_at lw_m8 71 rfl) rfl
theorem q1874 : (Jvm.Cond.fieldLink "SpillslotWorksModel" (146 : Nat) "SpillslotWorksModel$Program" "out" "I") ∈ lw_all := lw_g (lw_at lw_m8 75 rfl) rfl
theorem q1886 : (Jvm.Cond.classLink "SpillslotWorksModel" (16 : Nat) "SpillslotWorksModel$Machine") ∈ lw_all := lw_g (lw_at lw_m8 87 rfl) rfl
theorem q1888 : (Jvm.Cond.methodLink "SpillslotWorksModel" (18 : Nat) ({ cls := "SpillslotWorksModel$Machine", name := "<init>", desc := "(IIIZZ)V" } : Jvm.MethodName)) ∈ lw_all := lw_g (lw_at lw_m8 89 rfl) rfl
theorem q1894 : (Jvm.Cond.fieldLink "SpillslotWorksModel" (53 : Nat) "SpillslotWorksModel$Machine" "registers" "I") ∈ lw_all := lw_g (lw_at lw_m8 95 rfl) rfl
theorem q1896 : (Jvm.Cond.fieldLink "SpillslotWorksModel" (289 : Nat) "SpillslotWorksModel$Machine" "kept" "I") ∈ lw_all := lw_g (lw_at lw_m8 97 rfl) rfl
theorem q1899 : (Jvm.Cond.fieldLink "SpillslotWorksModel" (276 : Nat) "SpillslotWorksModel$Machine" "small" "I") ∈ lw_all := lw_g (lw_at lw_m8 100 rfl) rfl
theorem q1902 : (Jvm.Cond.fieldLink "SpillslotWorksModel" (279 : Nat) "SpillslotWorksModel$Machine" "isFused" "Z") ∈ lw_all := lw_g (lw_at lw_m8 103 rfl) rfl
theorem q1906 : (Jvm.Cond.fieldLink "SpillslotWorksModel" (292 : Nat) "SpillslotWorksModel$Machine" "isTwo" "Z") ∈ lw_all := lw_g (lw_at lw_m8 107 rfl) rfl
theorem q1918 : (Jvm.Cond.fieldLink "SpillslotWorksModel" (25 : Nat) "SpillslotWorksModel" "thrown" "I") ∈ lw_all := lw_g (lw_at lw_m8 119 rfl) rfl
theorem q1919 : (Jvm.Cond.fieldLink "SpillslotWorksModel" (10 : Nat) "SpillslotWorksModel" "program" "LSpillslotWorksModel$Program;") ∈ lw_all := lw_g (lw_at lw_m8 120 rfl) rfl
theorem q1920 : (Jvm.Cond.fieldLink "SpillslotWorksModel" (21 : Nat) "SpillslotWorksModel" "machine" "LSpillslotWorksModel$Machine;") ∈ lw_all := lw_g (lw_at lw_m8 121 rfl) rfl
theorem q1921 : (Jvm.Cond.lays "SpillslotWorksModel" "SpillslotWorksModel" "thrown" "I") ∈ lw_all := lw_g (lw_at lw_m8 122 rfl) rfl
theorem q1922 : (Jvm.Cond.soleField "SpillslotWorksModel" "thrown") ∈ lw_all := lw_g (lw_at lw_m8 123 rfl) rfl
theorem q1923 : (Jvm.Cond.laysFinal "SpillslotWorksModel" "SpillslotWorksModel" "program" "LSpillslotWorksModel$Program;") ∈ lw_all := lw_g (lw_at lw_m8 124 rfl) rfl
theorem q1924 : (Jvm.Cond.soleField "SpillslotWorksModel" "program") ∈ lw_all := lw_g (lw_at lw_m8 125 rfl) rfl
theorem q1925 : (Jvm.Cond.lays "SpillslotWorksModel" "SpillslotWorksModel" "machine" "LSpillslotWorksModel$Machine;") ∈ lw_all := lw_g (lw_at lw_m8 126 rfl) rfl
theorem q1926 : (Jvm.Cond.soleField "SpillslotWorksModel" "machine") ∈ lw_all := lw_g (lw_at lw_m8 127 rfl) rfl
theorem q1927 : (Jvm.Cond.superclass "SpillslotWorksModel" "java/lang/Object") ∈ lw_all := lw_g (lw_at lw_m8 128 rfl) rfl
theorem q1929 : (Jvm.Cond.instanceMethod ({ cls := "SpillslotWorksModel", name := "thrown", desc := "()I" } : Jvm.MethodName)) ∈ lw_all := lw_g (lw_at lw_m8 130 rfl) rfl
theorem q1930 : (Jvm.Cond.selects "SpillslotWorksModel" ({ cls := "SpillslotWorksModel", name := "thrown", desc := "()I" } : Jvm.MethodName) ({ cls := "SpillslotWorksModel", name := "thrown", desc := "()I" } : Jvm.MethodName)) ∈ lw_all := lw_g (lw_at lw_m8 131 rfl) rfl
theorem q1931 : (Jvm.Cond.code ({ cls := "SpillslotWorksModel", name := "thrown", desc := "()I" } : Jvm.MethodName) prog_17_method_4_code (1 : Nat) (Option.some Jvm.ClassFile.FieldType.int)) ∈ lw_all := lw_g (lw_at lw_m8 132 rfl) rfl
theorem q1933 : (Jvm.Cond.instanceMethod ({ cls := "SpillslotWorksModel", name := "machine", desc := "(IIIZZ)I" } : Jvm.MethodName)) ∈ lw_all := lw_g (lw_at lw_m8 134 rfl) rfl
theorem q1934 : (Jvm.Cond.selects "SpillslotWorksModel" ({ cls := "SpillslotWorksModel", name := "machine", desc := "(IIIZZ)I" } : Jvm.MethodName) ({ cls := "SpillslotWorksModel", name := "machine", desc := "(IIIZZ)I" } : Jvm.MethodName)) ∈ lw_all := lw_g (lw_at lw_m8 135 rfl) rfl
theorem q1935 : (Jvm.Cond.code ({ cls := "SpillslotWorksModel", name := "machine", desc := "(IIIZZ)I" } : Jvm.MethodName) prog_17_method_10_code (7 : Nat) (Option.some Jvm.ClassFile.FieldType.int)) ∈ lw_all := lw_g (lw_at lw_m8 136 rfl) rfl
theorem q1936 : (Jvm.Cond.methodLink "SpillslotWorksModel" (46 : Nat) ({ cls := "SpillslotWorksModel", name := "isNoMachine", desc := "(II)Z" } : Jvm.MethodName)) ∈ lw_all := lw_g (lw_at lw_m8 137 rfl) rfl
theorem q1937 : (Jvm.Cond.static ({ cls := "SpillslotWorksModel", name := "isNoMachine", desc := "(II)Z" } : Jvm.MethodName)) ∈ lw_all := lw_g (lw_at lw_m8 138 rfl) rfl
theorem q1938 : (Jvm.Cond.code ({ cls := "SpillslotWorksModel", name := "isNoMachine", desc := "(II)Z" } : Jvm.MethodName) prog_17_method_9_code (3 : Nat) (Option.some Jvm.ClassFile.FieldType.boolean)) ∈ lw_all := lw_g (lw_at lw_m8 139 rfl) rfl
theorem q1939 : (Jvm.Cond.methodLink "SpillslotWorksModel" (42 : Nat) ({ cls := "SpillslotWorksModel", name := "isIn", desc := "(III)Z" } : Jvm.MethodName)) ∈ lw_all := lw_g (lw_at lw_m8 140 rfl) rfl
theorem q1940 : (Jvm.Cond.static ({ cls := "SpillslotWorksModel", name := "isIn", desc := "(III)Z" } : Jvm.MethodName)) ∈ lw_all := lw_g (lw_at lw_m8 141 rfl) rfl
theorem q1941 : (Jvm.Cond.code ({ cls := "SpillslotWorksModel", name := "isIn", desc := "(III)Z" } : Jvm.MethodName) prog_17_method_2_code (3 : Nat) (Option.some Jvm.ClassFile.FieldType.boolean)) ∈ lw_all := lw_g (lw_at lw_m8 142 rfl) rfl
theorem q1942 : (Jvm.Cond.methodLink "SpillslotWorksModel" (50 : Nat) ({ cls := "SpillslotWorksModel", name := "start", desc := "(ZI)Z" } : Jvm.MethodName)) ∈ lw_all := lw_g (lw_at lw_m8 143 rfl) rfl
theorem q1943 : (Jvm.Cond.privateMethod ({ cls := "SpillslotWorksModel", name := "start", desc := "(ZI)Z" } : Jvm.MethodName)) ∈ lw_tbl := lw_at lw_m8 144 rfl
theorem q1944 : (Jvm.Cond.instanceMethod ({ cls := "SpillslotWorksModel", name := "start", desc := "(ZI)Z" } : Jvm.MethodName)) ∈ lw_all := lw_g (lw_at lw_m8 145 rfl) rfl
theorem q1945 : (Jvm.Cond.code ({ cls := "SpillslotWorksModel", name := "start", desc := "(ZI)Z" } : Jvm.MethodName) prog_17_method_6_code (3 : Nat) (Option.some Jvm.ClassFile.FieldType.boolean)) ∈ lw_all := lw_g (lw_at lw_m8 146 rfl) rfl
theorem q1946 : (Jvm.Cond.methodLink "SpillslotWorksModel" (29 : Nat) ({ cls := "SpillslotWorksModel", name := "refuse", desc := "(ZI)Z" } : Jvm.MethodName)) ∈ lw_all := lw_g (lw_at lw_m8 147 rfl) rfl
theorem q1947 : (Jvm.Cond.privateMethod ({ cls := "SpillslotWorksModel", name := "refuse", desc := "(ZI)Z" } : Jvm.MethodName)) ∈ lw_tbl := lw_at lw_m8 148 rfl
theorem q1948 : (Jvm.Cond.instanceMethod ({ cls := "SpillslotWorksModel", name := "refuse", desc := "(ZI)Z" } : Jvm.MethodName)) ∈ lw_all := lw_g (lw_at lw_m8 149 rfl) rfl
theorem q1949 : (Jvm.Cond.code ({ cls := "SpillslotWorksModel", name := "refuse", desc := "(ZI)Z" } : Jvm.MethodName) prog_17_method_5_code (3 : Nat) (Option.some Jvm.ClassFile.FieldType.boolean)) ∈ lw_all := lw_g (lw_at lw_m8 150 rfl) rfl
theorem q1951 : (Jvm.Cond.instanceMethod ({ cls := "SpillslotWorksModel", name := "latency", desc := "(II)I" } : Jvm.MethodName)) ∈ lw_all := lw_g (lw_at lw_m8 152 rfl) rfl
theorem q1952 : (Jvm.Cond.selects "SpillslotWorksModel" ({ cls := "SpillslotWorksModel", name := "latency", desc := "(II)I" } : Jvm.MethodName) ({ cls := "SpillslotWorksModel", name := "latency", desc := "(II)I" } : Jvm.MethodName)) ∈ lw_all := lw_g (lw_at lw_m8 153 rfl) rfl
theorem q1953 : (Jvm.Cond.code ({ cls := "SpillslotWorksModel", name := "latency", desc := "(II)I" } : Jvm.MethodName) prog_17_method_13_code (4 : Nat) (Option.some Jvm.ClassFile.FieldType.int)) ∈ lw_all := lw_g (lw_at lw_m8 154 rfl) rfl
theorem q1954 : (Jvm.Cond.methodLink "SpillslotWorksModel" (56 : Nat) ({ cls := "SpillslotWorksModel", name := "isNoKind", desc := "(I)Z" } : Jvm.MethodName)) ∈ lw_all := lw_g (lw_at lw_m8 155 rfl) rfl
theorem q1955 : (Jvm.Cond.static ({ cls := "SpillslotWorksModel", name := "isNoKind", desc := "(I)Z" } : Jvm.MethodName)) ∈ lw_all := lw_g (lw_at lw_m8 156 rfl) rfl
theorem q1956 : (Jvm.Cond.code ({ cls := "SpillslotWorksModel", name := "isNoKind", desc := "(I)Z" } : Jvm.MethodName) prog_17_method_11_code (1 : Nat) (Option.some Jvm.ClassFile.FieldType.boolean)) ∈ lw_all := lw_g (lw_at lw_m8 157 rfl) rfl
theorem q1957 : (Jvm.Cond.methodLink "SpillslotWorksModel" (60 : Nat) ({ cls := "SpillslotWorksModel", name := "isNoLatency", desc := "(I)Z" } : Jvm.MethodName)) ∈ lw_all := lw_g (lw_at lw_m8 158 rfl) rfl
theorem q1958 : (Jvm.Cond.static ({ cls := "SpillslotWorksModel", name := "isNoLatency", desc := "(I)Z" } : Jvm.MethodName)) ∈ lw_all := lw_g (lw_at lw_m8 159 rfl) rfl
theorem q1959 : (Jvm.Cond.code ({ cls := "SpillslotWorksModel", name := "isNoLatency", desc := "(I)Z" } : Jvm.MethodName) prog_17_method_12_code (1 : Nat) (Option.some Jvm.ClassFile.FieldType.boolean)) ∈ lw_all := lw_g (lw_at lw_m8 160 rfl) rfl
theorem q1961 : (Jvm.Cond.instanceMethod ({ cls := "SpillslotWorksModel", name := "node", desc := "(III)I" } : Jvm.MethodName)) ∈ lw_all := lw_g (lw_at lw_m8 162 rfl) rfl
theorem q1962 : (Jvm.Cond.selects "SpillslotWorksModel" ({ cls := "SpillslotWorksModel", name := "node", desc := "(III)I" } : Jvm.MethodName) ({ cls := "SpillslotWorksModel", name := "node", desc := "(III)I" } : Jvm.MethodName)) ∈ lw_all := lw_g (lw_at lw_m8 163 rfl) rfl
theorem q1963 : (Jvm.Cond.code ({ cls := "SpillslotWorksModel", name := "node", desc := "(III)I" } : Jvm.MethodName) prog_17_method_16_code (5 : Nat) (Option.some Jvm.ClassFile.FieldType.int)) ∈ lw_all := lw_g (lw_at lw_m8 164 rfl) rfl
theorem q1964 : (Jvm.Cond.methodLink "SpillslotWorksModel" (90 : Nat) ({ cls := "SpillslotWorksModel", name := "isNode", desc := "(III)Z" } : Jvm.MethodName)) ∈ lw_all := lw_g (lw_at lw_m8 165 rfl) rfl
theorem q1965 : (Jvm.Cond.privateMethod ({ cls := "SpillslotWorksModel", name := "isNode", desc := "(III)Z" } : Jvm.MethodName)) ∈ lw_tbl := lw_at lw_m8 166 rfl
theorem q1966 : (Jvm.Cond.instanceMethod ({ cls := "SpillslotWorksModel", name := "isNode", desc := "(III)Z" } : Jvm.MethodName)) ∈ lw_all := lw_g (lw_at lw_m8 167 rfl) rfl
theorem q1967 : (Jvm.Cond.code ({ cls := "SpillslotWorksModel", name := "isNode", desc := "(III)Z" } : Jvm.MethodName) prog_17_method_15_code (4 : Nat) (Option.some Jvm.ClassFile.FieldType.boolean)) ∈ lw_all := lw_g (lw_at lw_m8 168 rfl) rfl
theorem q1968 : (Jvm.Cond.methodLink "SpillslotWorksModel" (87 : Nat) ({ cls := "SpillslotWorksModel", name := "isFree", desc := "(I)Z" } : Jvm.MethodName)) ∈ lw_all := lw_g (lw_at lw_m8 169 rfl) rfl
theorem q1969 : (Jvm.Cond.privateMethod ({ cls := "SpillslotWorksModel", name := "isFree", desc := "(I)Z" } : Jvm.MethodName)) ∈ lw_tbl := lw_at lw_m8 170 rfl
theorem q1970 : (Jvm.Cond.instanceMethod ({ cls := "SpillslotWorksModel", name := "isFree", desc := "(I)Z" } : Jvm.MethodName)) ∈ lw_all := lw_g (lw_at lw_m8 171 rfl) rfl
theorem q1971 : (Jvm.Cond.code ({ cls := "SpillslotWorksModel", name := "isFree", desc := "(I)Z" } : Jvm.MethodName) prog_17_method_14_code (2 : Nat) (Option.some Jvm.ClassFile.FieldType.boolean)) ∈ lw_all := lw_g (lw_at lw_m8 172 rfl) rfl
theorem q1972 : (Jvm.Cond.methodLink "SpillslotWorksModel" (71 : Nat) ({ cls := "java/util/ArrayList", name := "size", desc := "()I" } : Jvm.MethodName)) ∈ lw_all := lw_g (lw_at lw_m8 173 rfl) rfl
theorem q1973 : (Jvm.Cond.methodLink "SpillslotWorksModel" (77 : Nat) ({ cls := "SpillslotWorksModel$Program", name := "of", desc := "(I)LSpillslotWorksModel$Node;" } : Jvm.MethodName)) ∈ lw_all := lw_g (lw_at lw_m8 174 rfl) rfl
theorem q1979 : (Jvm.Cond.classLink "SpillslotWorksModel" (82 : Nat) "SpillslotWorksModel$Node") ∈ lw_all := lw_g (lw_at lw_m8 180 rfl) rfl
theorem q1981 : (Jvm.Cond.methodLink "SpillslotWorksModel" (93 : Nat) ({ cls := "SpillslotWorksModel$Node", name := "<init>", desc := "(III)V" } : Jvm.MethodName)) ∈ lw_all := lw_g (lw_at lw_m8 182 rfl) rfl
theorem q1994 : (Jvm.Cond.fieldLink "SpillslotWorksModel" (81 : Nat) "SpillslotWorksModel$Node" "isPart" "Z") ∈ lw_all := lw_g (lw_at lw_m8 195 rfl) rfl
theorem q2004 : (Jvm.Cond.methodLink "SpillslotWorksModel" (96 : Nat) ({ cls := "java/util/ArrayList", name := "add", desc := "(Ljava/lang/Object;)Z" } : Jvm.MethodName)) ∈ lw_all := lw_g (lw_at lw_m8 205 rfl) rfl
theorem q2005 : (Jvm.Cond.methodLink "SpillslotWorksModel" (100 : Nat) ({ cls := "SpillslotWorksModel$Node", name := "isOfTwo", desc := "()Z" } : Jvm.MethodName)) ∈ lw_all := lw_g (lw_at lw_m8 206 rfl) rfl
theorem q2010 : (Jvm.Cond.instanceMethod ({ cls := "SpillslotWorksModel", name := "statement", desc := "(III)I" } : Jvm.MethodName)) ∈ lw_all := lw_g (lw_at lw_m8 211 rfl) rfl
theorem q2011 : (Jvm.Cond.selects "SpillslotWorksModel" ({ cls := "SpillslotWorksModel", name := "statement", desc := "(III)I" } : Jvm.MethodName) ({ cls := "SpillslotWorksModel", name := "statement", desc := "(III)I" } : Jvm.MethodName)) ∈ lw_all := lw_g (lw_at lw_m8 212 rfl) rfl
theorem q2012 : (Jvm.Cond.code ({ cls := "SpillslotWorksModel", name := "statement", desc := "(III)I" } : Jvm.MethodName) prog_17_method_21_code (4 : Nat) (Option.some Jvm.ClassFile.FieldType.int)) ∈ lw_all := lw_g (lw_at lw_m8 213 rfl) rfl
theorem q2013 : (Jvm.Cond.methodLink "SpillslotWorksModel" (120 : Nat) ({ cls := "SpillslotWorksModel", name := "isNoBlock", desc := "(I)Z" } : Jvm.MethodName)) ∈ lw_all := lw_g (lw_at lw_m8 214 rfl) rfl
theorem q2014 : (Jvm.Cond.static ({ cls := "SpillslotWorksModel", name := "isNoBlock", desc := "(I)Z" } : Jvm.MethodName)) ∈ lw_all := lw_g (lw_at lw_m8 215 rfl) rfl
theorem q2015 : (Jvm.Cond.code ({ cls := "SpillslotWorksModel", name := "isNoBlock", desc := "(I)Z" } : Jvm.MethodName) prog_17_method_17_code (1 : Nat) (Option.some Jvm.ClassFile.FieldType.boolean)) ∈ lw_all := lw_g (lw_at lw_m8 216 rfl) rfl
theorem q2016 : (Jvm.Cond.methodLink "SpillslotWorksModel" (123 : Nat) ({ cls := "SpillslotWorksModel", name := "isNoVariable", desc := "(I)Z" } : Jvm.MethodName)) ∈ lw_all := lw_g (lw_at lw_m8 217 rfl) rfl
theorem q2017 : (Jvm.Cond.static ({ cls := "SpillslotWorksModel", name := "isNoVariable", desc := "(I)Z" } : Jvm.MethodName)) ∈ lw_all := lw_g (lw_at lw_m8 218 rfl) rfl
theorem q2018 : (Jvm.Cond.code ({ cls := "SpillslotWorksModel", name := "isNoVariable", desc := "(I)Z" } : Jvm.MethodName) prog_17_method_18_code (1 : Nat) (Option.some Jvm.ClassFile.FieldType.boolean)) ∈ lw_all := lw_g (lw_at lw_m8 219 rfl) rfl
theorem q2019 : (Jvm.Cond.methodLink "SpillslotWorksModel" (126 : Nat) ({ cls := "SpillslotWorksModel", name := "isNoNode", desc := "(I)Z" } : Jvm.MethodName)) ∈ lw_all := lw_g (lw_at lw_m8 220 rfl) rfl
theorem q2020 : (Jvm.Cond.privateMethod ({ cls := "SpillslotWorksModel", name := "isNoNode", desc := "(I)Z" } : Jvm.MethodName)) ∈ lw_tbl := lw_at lw_m8 221 rfl
theorem q2021 : (Jvm.Cond.instanceMethod ({ cls := "SpillslotWorksModel", name := "isNoNode", desc := "(I)Z" } : Jvm.MethodName)) ∈ lw_all := lw_g (lw_at lw_m8 222 rfl) rfl
theorem q2022 : (Jvm.Cond.code ({ cls := "SpillslotWorksModel", name := "isNoNode", desc := "(I)Z" } : Jvm.MethodName) prog_17_method_19_code (2 : Nat) (Option.some Jvm.ClassFile.FieldType.boolean)) ∈ lw_all := lw_g (lw_at lw_m8 223 rfl) rfl
theorem q2023 : (Jvm.Cond.methodLink "SpillslotWorksModel" (129 : Nat) ({ cls := "SpillslotWorksModel", name := "statements", desc := "()I" } : Jvm.MethodName)) ∈ lw_all := lw_g (lw_at lw_m8 224 rfl) rfl
theorem q2024 : (Jvm.Cond.privateMethod ({ cls := "SpillslotWorksModel", name := "statements", desc := "()I" } : Jvm.MethodName)) ∈ lw_tbl := lw_at lw_m8 225 rfl
theorem q2025 : (Jvm.Cond.instanceMethod ({ cls := "SpillslotWorksModel", name := "statements", desc := "()I" } : Jvm.MethodName)) ∈ lw_all := lw_g (lw_at lw_m8 226 rfl) rfl
theorem q2026 : (Jvm.Cond.code ({ cls := "SpillslotWorksModel", name := "statements", desc := "()I" } : Jvm.MethodName) prog_17_method_20_code (4 : Nat) (Option.some Jvm.ClassFile.FieldType.int)) ∈ lw_all := lw_g (lw_at lw_m8 227 rfl) rfl
theorem q2027 : (Jvm.Cond.methodLink "SpillslotWorksModel" (107 : Nat) ({ cls := "java/util/ArrayList", name := "iterator", desc := "()Ljava/util/Iterator;" } : Jvm.MethodName)) ∈ lw_all := lw_g (lw_at lw_m8 228 rfl) rfl
theorem q2050 : (Jvm.Cond.interfaceEntry "SpillslotWorksModel" (111 : Nat)) ∈ lw_tbl := lw_at lw_m9 11 rfl
theorem q2051 : (Jvm.Cond.methodLink "SpillslotWorksModel" (111 : Nat) ({ cls := "java/util/Iterator", name := "hasNext", desc := "()Z" } : Jvm.MethodName)) ∈ lw_all := lw_g (lw_at lw_m9 12 rfl) rfl
theorem q2060 : (Jvm.Cond.interfaceEntry "SpillslotWorksModel" (116 : Nat)) ∈ lw_tbl := lw_at lw_m9 21 rfl
theorem q2061 : (Jvm.Cond.methodLink "SpillslotWorksModel" (116 : Nat) ({ cls := "java/util/Iterator", name := "next", desc := "()Ljava/lang/Object;" } : Jvm.MethodName)) ∈ lw_all := lw_g (lw_at lw_m9 22 rfl) rfl
theorem q2073 : (Jvm.Cond.classLink "SpillslotWorksModel" (72 : Nat) "java/util/ArrayList") ∈ lw_all := lw_g (lw_at lw_m9 34 rfl) rfl
theorem q2074 : (Jvm.Cond.methodLink "SpillslotWorksModel" (132 : Nat) ({ cls := "java/util/ArrayList", name := "get", desc := "(I)Ljava/lang/Object;" } : Jvm.MethodName)) ∈ lw_all := lw_g (lw_at lw_m9 35 rfl) rfl
theorem q2076 : (Jvm.Cond.instanceMethod ({ cls := "SpillslotWorksModel", name := "take", desc := "(I)I" } : Jvm.MethodName)) ∈ lw_all := lw_g (lw_at lw_m9 37 rfl) rfl
theorem q2077 : (Jvm.Cond.selects "SpillslotWorksModel" ({ cls := "SpillslotWorksModel", name := "take", desc := "(I)I" } : Jvm.MethodName) ({ cls := "SpillslotWorksModel", name := "take", desc := "(I)I" } : Jvm.MethodName)) ∈ lw_all := lw_g (lw_at lw_m9 38 rfl) rfl
theorem q2078 : (Jvm.Cond.code ({ cls := "SpillslotWorksModel", name := "take", desc := "(I)I" } : Jvm.MethodName) prog_17_method_22_code (4 : Nat) (Option.some Jvm.ClassFile.FieldType.int)) ∈ lw_all := lw_g (lw_at lw_m9 39 rfl) rfl
theorem q2079 : (Jvm.Cond.methodLink "SpillslotWorksModel" (136 : Nat) ({ cls := "java/util/ArrayList", name := "isEmpty", desc := "()Z" } : Jvm.MethodName)) ∈ lw_all := lw_g (lw_at lw_m9 40 rfl) rfl
theorem q2080 : (Jvm.Cond.methodLink "SpillslotWorksModel" (139 : Nat) ({ cls := "java/util/ArrayList", name := "remove", desc := "(I)Ljava/lang/Object;" } : Jvm.MethodName)) ∈ lw_all := lw_g (lw_at lw_m9 41 rfl) rfl
theorem q2081 : (Jvm.Cond.classLink "SpillslotWorksModel" (142 : Nat) "[I") ∈ lw_all := lw_g (lw_at lw_m9 42 rfl) rfl
theorem q2083 : (Jvm.Cond.instanceMethod ({ cls := "SpillslotWorksModel", name := "times", desc := "(II)I" } : Jvm.MethodName)) ∈ lw_all := lw_g (lw_at lw_m9 44 rfl) rfl
theorem q2084 : (Jvm.Cond.selects "SpillslotWorksModel" ({ cls := "SpillslotWorksModel", name := "times", desc := "(II)I" } : Jvm.MethodName) ({ cls := "SpillslotWorksModel", name := "times", desc := "(II)I" } : Jvm.MethodName)) ∈ lw_all := lw_g (lw_at lw_m9 45 rfl) rfl
theorem q2085 : (Jvm.Cond.code ({ cls := "SpillslotWorksModel", name := "times", desc := "(II)I" } : Jvm.MethodName) prog_17_method_23_code (4 : Nat) (Option.some Jvm.ClassFile.FieldType.int)) ∈ lw_all := lw_g (lw_at lw_m9 46 rfl) rfl
theorem q2087 : (Jvm.Cond.instanceMethod ({ cls := "SpillslotWorksModel", name := "out", desc := "(I)I" } : Jvm.MethodName)) ∈ lw_all := lw_g (lw_at lw_m9 48 rfl) rfl
theorem q2088 : (Jvm.Cond.selects "SpillslotWorksModel" ({ cls := "SpillslotWorksModel", name := "out", desc := "(I)I" } : Jvm.MethodName) ({ cls := "SpillslotWorksModel", name := "out", desc := "(I)I" } : Jvm.MethodName)) ∈ lw_all := lw_g (lw_at lw_m9 49 rfl) rfl
theorem q2089 : (Jvm.Cond.code ({ cls := "SpillslotWorksModel", name := "out", desc := "(I)I" } : Jvm.MethodName) prog_17_method_24_code (3 : Nat) (Option.some Jvm.ClassFile.FieldType.int)) ∈ lw_all := lw_g (lw_at lw_m9 50 rfl) rfl
theorem q2091 : (Jvm.Cond.instanceMethod ({ cls := "SpillslotWorksModel", name := "meant", desc := "(I)I" } : Jvm.MethodName)) ∈ lw_all := lw_g (lw_at lw_m9 52 rfl) rfl
theorem q2092 : (Jvm.Cond.selects "SpillslotWorksModel" ({ cls := "SpillslotWorksModel", name := "meant", desc := "(I)I" } : Jvm.MethodName) ({ cls := "SpillslotWorksModel", name := "meant", desc := "(I)I" } : Jvm.MethodName)) ∈ lw_all := lw_g (lw_at lw_m9 53 rfl) rfl
theorem q2093 : (Jvm.Cond.code ({ cls := "SpillslotWorksModel", name := "meant", desc := "(I)I" } : Jvm.MethodName) prog_17_method_25_code (2 : Nat) (Option.some Jvm.ClassFile.FieldType.int)) ∈ lw_all := lw_g (lw_at lw_m9 54 rfl) rfl
theorem q2094 : (Jvm.Cond.methodLink "SpillslotWorksModel" (149 : Nat) ({ cls := "SpillslotWorksModel$Program", name := "meant", desc := "()[I" } : Jvm.MethodName)) ∈ lw_all := lw_g (lw_at lw_m9 55 rfl) rfl
theorem q2110 : (Jvm.Cond.instanceMethod ({ cls := "SpillslotWorksModel", name := "chosen", desc := "(II)I" } : Jvm.MethodName)) ∈ lw_all := lw_g (lw_at lw_m9 71 rfl) rfl
theorem q2111 : (Jvm.Cond.selects "SpillslotWorksModel" ({ cls := "SpillslotWorksModel", name := "chosen", desc := "(II)I" } : Jvm.MethodName) ({ cls := "SpillslotWorksModel", name := "chosen", desc := "(II)I" } : Jvm.MethodName)) ∈ lw_all := lw_g (lw_at lw_m9 72 rfl) rfl
theorem q2112 : (Jvm.Cond.code ({ cls := "SpillslotWorksModel", name := "chosen", desc := "(II)I" } : Jvm.MethodName) prog_17_method_27_code (4 : Nat) (Option.some Jvm.ClassFile.FieldType.int)) ∈ lw_all := lw_g (lw_at lw_m9 73 rfl) rfl
theorem q2113 : (Jvm.Cond.methodLink "SpillslotWorksModel" (179 : Nat) ({ cls := "SpillslotWorksModel", name := "plan", desc := "()LSpillslotWorksModel$Plan;" } : Jvm.MethodName)) ∈ lw_all := lw_g (lw_at lw_m9 74 rfl) rfl
theorem q2114 : (Jvm.Cond.privateMethod ({ cls := "SpillslotWorksModel", name := "plan", desc := "()LSpillslotWorksModel$Plan;" } : Jvm.MethodName)) ∈ lw_tbl := lw_at lw_m9 75 rfl
theorem q2115 : (Jvm.Cond.instanceMethod ({ cls := "SpillslotWorksModel", name := "plan", desc := "()LSpillslotWorksModel$Plan;" } : Jvm.MethodName)) ∈ lw_all := lw_g (lw_at lw_m9 76 rfl) rfl
theorem q2116 : (Jvm.Cond.code ({ cls := "SpillslotWorksModel", name := "plan", desc := "()LSpillslotWorksModel$Plan;" } : Jvm.MethodName) prog_17_method_8_code (1 : Nat) (Option.some (Jvm.ClassFile.FieldType.object "SpillslotWorksModel$Plan"))) ∈ lw_all := lw_g (lw_at lw_m9 77 rfl) rfl
theorem q2117 : (Jvm.Cond.methodLink "SpillslotWorksModel" (38 : Nat) ({ cls := "SpillslotWorksModel", name := "plan", desc := "(LSpillslotWorksModel$Machine;Z)LSpillslotWorksModel$Plan;" } : Jvm.MethodName)) ∈ lw_all := lw_g (lw_at lw_m9 78 rfl) rfl
theorem q2118 : (Jvm.Cond.privateMethod ({ cls := "SpillslotWorksModel", name := "plan", desc := "(LSpillslotWorksModel$Machine;Z)LSpillslotWorksModel$Plan;" } : Jvm.MethodName)) ∈ lw_tbl := lw_at lw_m9 79 rfl
theorem q2119 : (Jvm.Cond.instanceMethod ({ cls := "SpillslotWorksModel", name := "plan", desc := "(LSpillslotWorksModel$Machine;Z)LSpillslotWorksModel$Plan;" } : Jvm.MethodName)) ∈ lw_all := lw_g (lw_at lw_m9 80 rfl) rfl
theorem q2120 : (Jvm.Cond.code ({ cls := "SpillslotWorksModel", name := "plan", desc := "(LSpillslotWorksModel$Machine;Z)LSpillslotWorksModel$Plan;" } : Jvm.MethodName) prog_17_method_7_code (3 : Nat) (Option.some (Jvm.ClassFile.FieldType.object "SpillslotWorksModel$Plan"))) ∈ lw_all := lw_g (lw_at lw_m9 81 rfl) rfl
theorem q2121 : (Jvm.Cond.classLink "SpillslotWorksModel" (33 : Nat) "SpillslotWorksModel$Plan") ∈ lw_all := lw_g (lw_at lw_m9 82 rfl) rfl
theorem q2123 : (Jvm.Cond.methodLink "SpillslotWorksModel" (35 : Nat) ({ cls := "SpillslotWorksModel$Plan", name := "<init>", desc := "(LSpillslotWorksModel$Program;LSpillslotWorksModel$Machine;Z)V" } : Jvm.MethodName)) ∈ lw_all := lw_g (lw_at lw_m9 84 rfl) rfl
theorem q2167 : (Jvm.Cond.fieldLink "SpillslotWorksModel" (164 : Nat) "SpillslotWorksModel$Op" "which" "I") ∈ lw_all := lw_g (lw_at lw_m9 128 rfl) rfl
theorem q2171 : (Jvm.Cond.fieldLink "SpillslotWorksModel" (167 : Nat) "SpillslotWorksModel$Op" "writes" "I") ∈ lw_all := lw_g (lw_at lw_m9 132 rfl) rfl
theorem q2175 : (Jvm.Cond.fieldLink "SpillslotWorksModel" (153 : Nat) "SpillslotWorksModel$Op" "reads" "[I") ∈ lw_all := lw_g (lw_at lw_m9 136 rfl) rfl
theorem q2179 : (Jvm.Cond.fieldLink "SpillslotWorksModel" (170 : Nat) "SpillslotWorksModel$Op" "n" "I") ∈ lw_all := lw_g (lw_at lw_m9 140 rfl) rfl
theorem q2183 : (Jvm.Cond.fieldLink "SpillslotWorksModel" (173 : Nat) "SpillslotWorksModel$Op" "block" "I") ∈ lw_all := lw_g (lw_at lw_m9 144 rfl) rfl
theorem q2185 : (Jvm.Cond.fieldLink "SpillslotWorksModel" (176 : Nat) "SpillslotWorksModel$Op" "height" "I") ∈ lw_all := lw_g (lw_at lw_m9 146 rfl) rfl
theorem q2312 : (Jvm.Cond.selects "SpillslotWorksModel" ({ cls := "java/lang/Object", name := "equals", desc := "(Ljava/lang/Object;)Z" } : Jvm.MethodName) ({ cls := "java/lang/Object", name := "equals", desc := "(Ljava/lang/Object;)Z" } : Jvm.MethodName)) ∈ lw_all := lw_g (lw_at lw_m10 33 rfl) rfl
theorem q2357 : (Jvm.Cond.static ({ cls := "SpillslotWorksModel", name := "has", desc := "(II)Z" } : Jvm.MethodName)) ∈ lw_all := lw_g (lw_at lw_m10 78 rfl) rfl
theorem q2358 : (Jvm.Cond.code ({ cls := "SpillslotWorksModel", name := "has", desc := "(II)Z" } : Jvm.MethodName) prog_17_method_1_code (2 : Nat) (Option.some Jvm.ClassFile.FieldType.boolean)) ∈ lw_all := lw_g (lw_at lw_m10 79 rfl) rfl
theorem q2398 : (Jvm.Cond.fieldLink "SpillslotWorksModel" (308 : Nat) "SpillslotWorksModel$Life" "value" "I") ∈ lw_all := lw_g (lw_at lw_m10 119 rfl) rfl
theorem q2401 : (Jvm.Cond.fieldLink "SpillslotWorksModel" (189 : Nat) "SpillslotWorksModel$Life" "first" "I") ∈ lw_all := lw_g (lw_at lw_m10 122 rfl) rfl
theorem q2404 : (Jvm.Cond.fieldLink "SpillslotWorksModel" (194 : Nat) "SpillslotWorksModel$Life" "last" "I") ∈ lw_all := lw_g (lw_at lw_m10 125 rfl) rfl
theorem q2406 : (Jvm.Cond.fieldLink "SpillslotWorksModel" (215 : Nat) "SpillslotWorksModel$Life" "touched" "I") ∈ lw_all := lw_g (lw_at lw_m10 127 rfl) rfl
theorem q2408 : (Jvm.Cond.fieldLink "SpillslotWorksModel" (197 : Nat) "SpillslotWorksModel$Life" "weight" "I") ∈ lw_all := lw_g (lw_at lw_m10 129 rfl) rfl
theorem q2410 : (Jvm.Cond.fieldLink "SpillslotWorksModel" (212 : Nat) "SpillslotWorksModel$Life" "crosses" "I") ∈ lw_all := lw_g (lw_at lw_m10 131 rfl) rfl
theorem q2414 : (Jvm.Cond.fieldLink "SpillslotWorksModel" (200 : Nat) "SpillslotWorksModel$Life" "register" "I") ∈ lw_all := lw_g (lw_at lw_m10 135 rfl) rfl
theorem q2418 : (Jvm.Cond.fieldLink "SpillslotWorksModel" (203 : Nat) "SpillslotWorksModel$Life" "slot" "I") ∈ lw_all := lw_g (lw_at lw_m10 139 rfl) rfl
theorem q2421 : (Jvm.Cond.fieldLink "SpillslotWorksModel" (209 : Nat) "SpillslotWorksModel$Life" "isRemade" "Z") ∈ lw_all := lw_g (lw_at lw_m10 142 rfl) rfl
theorem q2654 : (Jvm.Cond.fieldLink "SpillslotWorksModel" (182 : Nat) "SpillslotWorksModel$Plan" "ops" "Ljava/util/ArrayList;") ∈ lw_all := lw_g (lw_at lw_m11 135 rfl) rfl
theorem q2657 : (Jvm.Cond.fieldLink "SpillslotWorksModel" (218 : Nat) "SpillslotWorksModel$Plan" "lives" "[LSpillslotWorksModel$Life;") ∈ lw_all := lw_g (lw_at lw_m11 138 rfl) rfl
theorem q2659 : (Jvm.Cond.fieldLink "SpillslotWorksModel" (235 : Nat) "SpillslotWorksModel$Plan" "order" "Ljava/util/ArrayList;") ∈ lw_all := lw_g (lw_at lw_m11 140 rfl) rfl
theorem q2661 : (Jvm.Cond.fieldLink "SpillslotWorksModel" (227 : Nat) "SpillslotWorksModel$Plan" "calls" "Ljava/util/ArrayList;") ∈ lw_all := lw_g (lw_at lw_m11 142 rfl) rfl
theorem q2667 : (Jvm.Cond.fieldLink "SpillslotWorksModel" (252 : Nat) "SpillslotWorksModel$Plan" "code" "Ljava/util/ArrayList;") ∈ lw_all := lw_g (lw_at lw_m11 148 rfl) rfl
theorem q2670 : (Jvm.Cond.fieldLink "SpillslotWorksModel" (270 : Nat) "SpillslotWorksModel$Plan" "ran" "I") ∈ lw_all := lw_g (lw_at lw_m11 151 rfl) rfl
theorem q2673 : (Jvm.Cond.fieldLink "SpillslotWorksModel" (286 : Nat) "SpillslotWorksModel$Plan" "cycles" "I") ∈ lw_all := lw_g (lw_at lw_m11 154 rfl) rfl
theorem q2676 : (Jvm.Cond.fieldLink "SpillslotWorksModel" (273 : Nat) "SpillslotWorksModel$Plan" "stalls" "I") ∈ lw_all := lw_g (lw_at lw_m11 157 rfl) rfl
theorem q2682 : (Jvm.Cond.fieldLink "SpillslotWorksModel" (255 : Nat) "SpillslotWorksModel$Plan" "begins" "[I") ∈ lw_all := lw_g (lw_at lw_m11 163 rfl) rfl
theorem q2712 : (Jvm.Cond.classLink "SpillslotWorksModel" (154 : Nat) "SpillslotWorksModel$Op") ∈ lw_all := lw_g (lw_at lw_m11 193 rfl) rfl
theorem q2713 : (Jvm.Cond.methodLink "SpillslotWorksModel" (185 : Nat) ({ cls := "SpillslotWorksModel", name := "told", desc := "(LSpillslotWorksModel$Op;I)I" } : Jvm.MethodName)) ∈ lw_all := lw_g (lw_at lw_m11 194 rfl) rfl
theorem q2714 : (Jvm.Cond.static ({ cls := "SpillslotWorksModel", name := "told", desc := "(LSpillslotWorksModel$Op;I)I" } : Jvm.MethodName)) ∈ lw_all := lw_g (lw_at lw_m11 195 rfl) rfl
theorem q2715 : (Jvm.Cond.code ({ cls := "SpillslotWorksModel", name := "told", desc := "(LSpillslotWorksModel$Op;I)I" } : Jvm.MethodName) prog_17_method_26_code (4 : Nat) (Option.some Jvm.ClassFile.FieldType.int)) ∈ lw_all := lw_g (lw_at lw_m11 196 rfl) rfl
theorem q2716 : (Jvm.Cond.methodLink "SpillslotWorksModel" (158 : Nat) ({ cls := "java/lang/System", name := "arraycopy", desc := "(Ljava/lang/Object;ILjava/lang/Object;II)V" } : Jvm.MethodName)) ∈ lw_all := lw_g (lw_at lw_m11 197 rfl) rfl
theorem q2718 : (Jvm.Cond.instanceMethod ({ cls := "SpillslotWorksModel", name := "ofValue", desc := "(II)I" } : Jvm.MethodName)) ∈ lw_all := lw_g (lw_at lw_m11 199 rfl) rfl
theorem q2719 : (Jvm.Cond.selects "SpillslotWorksModel" ({ cls := "SpillslotWorksModel", name := "ofValue", desc := "(II)I" } : Jvm.MethodName) ({ cls := "SpillslotWorksModel", name := "ofValue", desc := "(II)I" } : Jvm.MethodName)) ∈ lw_all := lw_g (lw_at lw_m11 200 rfl) rfl
theorem q2720 : (Jvm.Cond.code ({ cls := "SpillslotWorksModel", name := "ofValue", desc := "(II)I" } : Jvm.MethodName) prog_17_method_29_code (4 : Nat) (Option.some Jvm.ClassFile.FieldType.int)) ∈ lw_all := lw_g (lw_at lw_m11 201 rfl) rfl
theorem q2721 : (Jvm.Cond.methodLink "SpillslotWorksModel" (222 : Nat) ({ cls := "SpillslotWorksModel$Life", name := "isIn", desc := "()Z" } : Jvm.MethodName)) ∈ lw_all := lw_g (lw_at lw_m11 202 rfl) rfl
theorem q2722 : (Jvm.Cond.methodLink "SpillslotWorksModel" (224 : Nat) ({ cls := "SpillslotWorksModel", name := "told", desc := "(LSpillslotWorksModel$Life;I)I" } : Jvm.MethodName)) ∈ lw_all := lw_g (lw_at lw_m11 203 rfl) rfl
theorem q2723 : (Jvm.Cond.static ({ cls := "SpillslotWorksModel", name := "told", desc := "(LSpillslotWorksModel$Life;I)I" } : Jvm.MethodName)) ∈ lw_all := lw_g (lw_at lw_m11 204 rfl) rfl
theorem q2724 : (Jvm.Cond.code ({ cls := "SpillslotWorksModel", name := "told", desc := "(LSpillslotWorksModel$Life;I)I" } : Jvm.MethodName) prog_17_method_28_code (3 : Nat) (Option.some Jvm.ClassFile.FieldType.int)) ∈ lw_all := lw_g (lw_at lw_m11 205 rfl) rfl
theorem q2725 : (Jvm.Cond.methodLink "SpillslotWorksModel" (206 : Nat) ({ cls := "SpillslotWorksModel$Life", name := "isSpilled", desc := "()Z" } : Jvm.MethodName)) ∈ lw_all := lw_g (lw_at lw_m11 206 rfl) rfl
theorem q2727 : (Jvm.Cond.instanceMethod ({ cls := "SpillslotWorksModel", name := "mapAt", desc := "(II)I" } : Jvm.MethodName)) ∈ lw_all := lw_g (lw_at lw_m11 208 rfl) rfl
theorem q2728 : (Jvm.Cond.selects "SpillslotWorksModel" ({ cls := "SpillslotWorksModel", name := "mapAt", desc := "(II)I" } : Jvm.MethodName) ({ cls := "SpillslotWorksModel", name := "mapAt", desc := "(II)I" } : Jvm.MethodName)) ∈ lw_all := lw_g (lw_at lw_m11 209 rfl) rfl
theorem q2729 : (Jvm.Cond.code ({ cls := "SpillslotWorksModel", name := "mapAt", desc := "(II)I" } : Jvm.MethodName) prog_17_method_31_code (4 : Nat) (Option.some Jvm.ClassFile.FieldType.int)) ∈ lw_all := lw_g (lw_at lw_m11 210 rfl) rfl
theorem q2730 : (Jvm.Cond.methodLink "SpillslotWorksModel" (241 : Nat) ({ cls := "SpillslotWorksModel", name := "mapOf", desc := "(LSpillslotWorksModel$Plan;II)I" } : Jvm.MethodName)) ∈ lw_all := lw_g (lw_at lw_m11 211 rfl) rfl
theorem q2731 : (Jvm.Cond.static ({ cls := "SpillslotWorksModel", name := "mapOf", desc := "(LSpillslotWorksModel$Plan;II)I" } : Jvm.MethodName)) ∈ lw_all := lw_g (lw_at lw_m11 212 rfl) rfl
theorem q2732 : (Jvm.Cond.code ({ cls := "SpillslotWorksModel", name := "mapOf", desc := "(LSpillslotWorksModel$Plan;II)I" } : Jvm.MethodName) prog_17_method_30_code (7 : Nat) (Option.some Jvm.ClassFile.FieldType.int)) ∈ lw_all := lw_g (lw_at lw_m11 213 rfl) rfl
theorem q2733 : (Jvm.Cond.classLink "SpillslotWorksModel" (230 : Nat) "java/lang/Integer") ∈ lw_all := lw_g (lw_at lw_m11 214 rfl) rfl
theorem q2734 : (Jvm.Cond.methodLink "SpillslotWorksModel" (232 : Nat) ({ cls := "java/lang/Integer", name := "intValue", desc := "()I" } : Jvm.MethodName)) ∈ lw_all := lw_g (lw_at lw_m11 215 rfl) rfl
theorem q2735 : (Jvm.Cond.classLink "SpillslotWorksModel" (190 : Nat) "SpillslotWorksModel$Life") ∈ lw_all := lw_g (lw_at lw_m11 216 rfl) rfl
theorem q2736 : (Jvm.Cond.methodLink "SpillslotWorksModel" (238 : Nat) ({ cls := "SpillslotWorksModel$Life", name := "goesOver", desc := "(I)Z" } : Jvm.MethodName)) ∈ lw_all := lw_g (lw_at lw_m11 217 rfl) rfl
theorem q2738 : (Jvm.Cond.instanceMethod ({ cls := "SpillslotWorksModel", name := "cost", desc := "(I)I" } : Jvm.MethodName)) ∈ lw_all := lw_g (lw_at lw_m11 219 rfl) rfl
theorem q2739 : (Jvm.Cond.selects "SpillslotWorksModel" ({ cls := "SpillslotWorksModel", name := "cost", desc := "(I)I" } : Jvm.MethodName) ({ cls := "SpillslotWorksModel", name := "cost", desc := "(I)I" } : Jvm.MethodName)) ∈ lw_all := lw_g (lw_at lw_m11 220 rfl) rfl
theorem q2740 : (Jvm.Cond.code ({ cls := "SpillslotWorksModel", name := "cost", desc := "(I)I" } : Jvm.MethodName) prog_17_method_32_code (2 : Nat) (Option.some Jvm.ClassFile.FieldType.int)) ∈ lw_all := lw_g (lw_at lw_m11 221 rfl) rfl
theorem q2741 : (Jvm.Cond.classLink "SpillslotWorksModel" (245 : Nat) "SpillslotWorksModel$Chooser") ∈ lw_all := lw_g (lw_at lw_m11 222 rfl) rfl
theorem q2742 : (Jvm.Cond.methodLink "SpillslotWorksModel" (247 : Nat) ({ cls := "SpillslotWorksModel$Chooser", name := "<init>", desc := "(LSpillslotWorksModel$Program;LSpillslotWorksModel$Machine;Z)V" } : Jvm.MethodName)) ∈ lw_all := lw_g (lw_at lw_m11 223 rfl) rfl
theorem q2743 : (Jvm.Cond.methodLink "SpillslotWorksModel" (248 : Nat) ({ cls := "SpillslotWorksModel$Chooser", name := "cost", desc := "(I)I" } : Jvm.MethodName)) ∈ lw_all := lw_g (lw_at lw_m11 224 rfl) rfl
theorem q2745 : (Jvm.Cond.instanceMethod ({ cls := "SpillslotWorksModel", name := "code", desc := "(II)I" } : Jvm.MethodName)) ∈ lw_all := lw_g (lw_at lw_m11 226 rfl) rfl
theorem q2746 : (Jvm.Cond.selects "SpillslotWorksModel" ({ cls := "SpillslotWorksModel", name := "code", desc := "(II)I" } : Jvm.MethodName) ({ cls := "SpillslotWorksModel", name := "code", desc := "(II)I" } : Jvm.MethodName)) ∈ lw_all := lw_g (lw_at lw_m11 227 rfl) rfl
theorem q2747 : (Jvm.Cond.code ({ cls := "SpillslotWorksModel", name := "code", desc := "(II)I" } : Jvm.MethodName) prog_17_method_33_code (4 : Nat) (Option.some Jvm.ClassFile.FieldType.int)) ∈ lw_all := lw_g (lw_at lw_m11 228 rfl) rfl
theorem q2749 : (Jvm.Cond.instanceMethod ({ cls := "SpillslotWorksModel", name := "begins", desc := "(I)I" } : Jvm.MethodName)) ∈ lw_all := lw_g (lw_at lw_m11 230 rfl) rfl
theorem q2750 : (Jvm.Cond.selects "SpillslotWorksModel" ({ cls := "SpillslotWorksModel", name := "begins", desc := "(I)I" } : Jvm.MethodName) ({ cls := "SpillslotWorksModel", name := "begins", desc := "(I)I" } : Jvm.MethodName)) ∈ lw_all := lw_g (lw_at lw_m11 231 rfl) rfl
theorem q2751 : (Jvm.Cond.code ({ cls := "SpillslotWorksModel", name := "begins", desc := "(I)I" } : Jvm.MethodName) prog_17_method_34_code (3 : Nat) (Option.some Jvm.ClassFile.FieldType.int)) ∈ lw_all := lw_g (lw_at lw_m11 232 rfl) rfl
theorem q2753 : (Jvm.Cond.instanceMethod ({ cls := "SpillslotWorksModel", name := "answer", desc := "(I)I" } : Jvm.MethodName)) ∈ lw_all := lw_g (lw_at lw_m11 234 rfl) rfl
theorem q2754 : (Jvm.Cond.selects "SpillslotWorksModel" ({ cls := "SpillslotWorksModel", name := "answer", desc := "(I)I" } : Jvm.MethodName) ({ cls := "SpillslotWorksModel", name := "answer", desc := "(I)I" } : Jvm.MethodName)) ∈ lw_all := lw_g (lw_at lw_m11 235 rfl) rfl
theorem q2755 : (Jvm.Cond.code ({ cls := "SpillslotWorksModel", name := "answer", desc := "(I)I" } : Jvm.MethodName) prog_17_method_35_code (2 : Nat) (Option.some Jvm.ClassFile.FieldType.int)) ∈ lw_all := lw_g (lw_at lw_m11 236 rfl) rfl
theorem q2756 : (Jvm.Cond.methodLink "SpillslotWorksModel" (258 : Nat) ({ cls := "SpillslotWorksModel", name := "has", desc := "(II)Z" } : Jvm.MethodName)) ∈ lw_all := lw_g (lw_at lw_m11 237 rfl) rfl
theorem q2757 : (Jvm.Cond.methodLink "SpillslotWorksModel" (261 : Nat) ({ cls := "SpillslotWorksModel$Plan", name := "answer", desc := "(I)I" } : Jvm.MethodName)) ∈ lw_all := lw_g (lw_at lw_m11 238 rfl) rfl
theorem q2762 : (Jvm.Cond.instanceMethod ({ cls := "SpillslotWorksModel", name := "many", desc := "(I)I" } : Jvm.MethodName)) ∈ lw_all := lw_g (lw_at lw_m12 3 rfl) rfl
theorem q2763 : (Jvm.Cond.selects "SpillslotWorksModel" ({ cls := "SpillslotWorksModel", name := "many", desc := "(I)I" } : Jvm.MethodName) ({ cls := "SpillslotWorksModel", name := "many", desc := "(I)I" } : Jvm.MethodName)) ∈ lw_all := lw_g (lw_at lw_m12 4 rfl) rfl
theorem q2764 : (Jvm.Cond.code ({ cls := "SpillslotWorksModel", name := "many", desc := "(I)I" } : Jvm.MethodName) prog_17_method_37_code (2 : Nat) (Option.some Jvm.ClassFile.FieldType.int)) ∈ lw_all := lw_g (lw_at lw_m12 5 rfl) rfl
theorem q2765 : (Jvm.Cond.methodLink "SpillslotWorksModel" (266 : Nat) ({ cls := "SpillslotWorksModel", name := "count", desc := "(LSpillslotWorksModel$Plan;I)I" } : Jvm.MethodName)) ∈ lw_all := lw_g (lw_at lw_m12 6 rfl) rfl
theorem q2766 : (Jvm.Cond.privateMethod ({ cls := "SpillslotWorksModel", name := "count", desc := "(LSpillslotWorksModel$Plan;I)I" } : Jvm.MethodName)) ∈ lw_tbl := lw_at lw_m12 7 rfl
theorem q2767 : (Jvm.Cond.instanceMethod ({ cls := "SpillslotWorksModel", name := "count", desc := "(LSpillslotWorksModel$Plan;I)I" } : Jvm.MethodName)) ∈ lw_all := lw_g (lw_at lw_m12 8 rfl) rfl
theorem q2768 : (Jvm.Cond.code ({ cls := "SpillslotWorksModel", name := "count", desc := "(LSpillslotWorksModel$Plan;I)I" } : Jvm.MethodName) prog_17_method_36_code (6 : Nat) (Option.some Jvm.ClassFile.FieldType.int)) ∈ lw_all := lw_g (lw_at lw_m12 9 rfl) rfl
theorem q2769 : (Jvm.Cond.methodLink "SpillslotWorksModel" (264 : Nat) ({ cls := "SpillslotWorksModel$Plan", name := "told", desc := "(I)I" } : Jvm.MethodName)) ∈ lw_all := lw_g (lw_at lw_m12 10 rfl) rfl
theorem q2797 : (Jvm.Cond.instanceMethod ({ cls := "SpillslotWorksModel", name := "meanStall", desc := "()D" } : Jvm.MethodName)) ∈ lw_all := lw_g (lw_at lw_m12 38 rfl) rfl
theorem q2798 : (Jvm.Cond.selects "SpillslotWorksModel" ({ cls := "SpillslotWorksModel", name := "meanStall", desc := "()D" } : Jvm.MethodName) ({ cls := "SpillslotWorksModel", name := "meanStall", desc := "()D" } : Jvm.MethodName)) ∈ lw_all := lw_g (lw_at lw_m12 39 rfl) rfl
theorem q2799 : (Jvm.Cond.code ({ cls := "SpillslotWorksModel", name := "meanStall", desc := "()D" } : Jvm.MethodName) prog_17_method_38_code (2 : Nat) (Option.some Jvm.ClassFile.FieldType.double)) ∈ lw_all := lw_g (lw_at lw_m12 40 rfl) rfl
theorem q2801 : (Jvm.Cond.instanceMethod ({ cls := "SpillslotWorksModel", name := "with", desc := "(IIZI)I" } : Jvm.MethodName)) ∈ lw_all := lw_g (lw_at lw_m12 42 rfl) rfl
theorem q2802 : (Jvm.Cond.selects "SpillslotWorksModel" ({ cls := "SpillslotWorksModel", name := "with", desc := "(IIZI)I" } : Jvm.MethodName) ({ cls := "SpillslotWorksModel", name := "with", desc := "(IIZI)I" } : Jvm.MethodName)) ∈ lw_all := lw_g (lw_at lw_m12 43 rfl) rfl
theorem q2803 : (Jvm.Cond.code ({ cls := "SpillslotWorksModel", name := "with", desc := "(IIZI)I" } : Jvm.MethodName) prog_17_method_40_code (5 : Nat) (Option.some Jvm.ClassFile.FieldType.int)) ∈ lw_all := lw_g (lw_at lw_m12 44 rfl) rfl
theorem q2804 : (Jvm.Cond.methodLink "SpillslotWorksModel" (282 : Nat) ({ cls := "SpillslotWorksModel", name := "withNow", desc := "(IIZI)I" } : Jvm.MethodName)) ∈ lw_all := lw_g (lw_at lw_m12 45 rfl) rfl
theorem q2805 : (Jvm.Cond.privateMethod ({ cls := "SpillslotWorksModel", name := "withNow", desc := "(IIZI)I" } : Jvm.MethodName)) ∈ lw_tbl := lw_at lw_m12 46 rfl
theorem q2806 : (Jvm.Cond.instanceMethod ({ cls := "SpillslotWorksModel", name := "withNow", desc := "(IIZI)I" } : Jvm.MethodName)) ∈ lw_all := lw_g (lw_at lw_m12 47 rfl) rfl
theorem q2807 : (Jvm.Cond.code ({ cls := "SpillslotWorksModel", name := "withNow", desc := "(IIZI)I" } : Jvm.MethodName) prog_17_method_39_code (5 : Nat) (Option.some Jvm.ClassFile.FieldType.int)) ∈ lw_all := lw_g (lw_at lw_m12 48 rfl) rfl
theorem q2809 : (Jvm.Cond.instanceMethod ({ cls := "SpillslotWorksModel", name := "cyclesWith", desc := "(II)I" } : Jvm.MethodName)) ∈ lw_all := lw_g (lw_at lw_m12 50 rfl) rfl
theorem q2810 : (Jvm.Cond.selects "SpillslotWorksModel" ({ cls := "SpillslotWorksModel", name := "cyclesWith", desc := "(II)I" } : Jvm.MethodName) ({ cls := "SpillslotWorksModel", name := "cyclesWith", desc := "(II)I" } : Jvm.MethodName)) ∈ lw_all := lw_g (lw_at lw_m12 51 rfl) rfl
theorem q2811 : (Jvm.Cond.code ({ cls := "SpillslotWorksModel", name := "cyclesWith", desc := "(II)I" } : Jvm.MethodName) prog_17_method_41_code (5 : Nat) (Option.some Jvm.ClassFile.FieldType.int)) ∈ lw_all := lw_g (lw_at lw_m12 52 rfl) rfl
theorem q2813 : (Jvm.Cond.instanceMethod ({ cls := "SpillslotWorksModel", name := "enough", desc := "()I" } : Jvm.MethodName)) ∈ lw_all := lw_g (lw_at lw_m12 54 rfl) rfl
theorem q2814 : (Jvm.Cond.selects "SpillslotWorksModel" ({ cls := "SpillslotWorksModel", name := "enough", desc := "()I" } : Jvm.MethodName) ({ cls := "SpillslotWorksModel", name := "enough", desc := "()I" } : Jvm.MethodName)) ∈ lw_all := lw_g (lw_at lw_m12 55 rfl) rfl
theorem q2815 : (Jvm.Cond.code ({ cls := "SpillslotWorksModel", name := "enough", desc := "()I" } : Jvm.MethodName) prog_17_method_43_code (1 : Nat) (Option.some Jvm.ClassFile.FieldType.int)) ∈ lw_all := lw_g (lw_at lw_m12 56 rfl) rfl
theorem q2816 : (Jvm.Cond.methodLink "SpillslotWorksModel" (295 : Nat) ({ cls := "SpillslotWorksModel", name := "enoughNow", desc := "()I" } : Jvm.MethodName)) ∈ lw_all := lw_g (lw_at lw_m12 57 rfl) rfl
theorem q2817 : (Jvm.Cond.privateMethod ({ cls := "SpillslotWorksModel", name := "enoughNow", desc := "()I" } : Jvm.MethodName)) ∈ lw_tbl := lw_at lw_m12 58 rfl
theorem q2818 : (Jvm.Cond.instanceMethod ({ cls := "SpillslotWorksModel", name := "enoughNow", desc := "()I" } : Jvm.MethodName)) ∈ lw_all := lw_g (lw_at lw_m12 59 rfl) rfl
theorem q2819 : (Jvm.Cond.code ({ cls := "SpillslotWorksModel", name := "enoughNow", desc := "()I" } : Jvm.MethodName) prog_17_method_42_code (3 : Nat) (Option.some Jvm.ClassFile.FieldType.int)) ∈ lw_all := lw_g (lw_at lw_m12 60 rfl) rfl
theorem q2821 : (Jvm.Cond.instanceMethod ({ cls := "SpillslotWorksModel", name := "unordered", desc := "()I" } : Jvm.MethodName)) ∈ lw_all := lw_g (lw_at lw_m12 62 rfl) rfl
theorem q2822 : (Jvm.Cond.selects "SpillslotWorksModel" ({ cls := "SpillslotWorksModel", name := "unordered", desc := "()I" } : Jvm.MethodName) ({ cls := "SpillslotWorksModel", name := "unordered", desc := "()I" } : Jvm.MethodName)) ∈ lw_all := lw_g (lw_at lw_m12 63 rfl) rfl
theorem q2823 : (Jvm.Cond.code ({ cls := "SpillslotWorksModel", name := "unordered", desc := "()I" } : Jvm.MethodName) prog_17_method_45_code (1 : Nat) (Option.some Jvm.ClassFile.FieldType.int)) ∈ lw_all := lw_g (lw_at lw_m12 64 rfl) rfl
theorem q2824 : (Jvm.Cond.methodLink "SpillslotWorksModel" (298 : Nat) ({ cls := "SpillslotWorksModel", name := "unorderedNow", desc := "()I" } : Jvm.MethodName)) ∈ lw_all := lw_g (lw_at lw_m12 65 rfl) rfl
theorem q2825 : (Jvm.Cond.privateMethod ({ cls := "SpillslotWorksModel", name := "unorderedNow", desc := "()I" } : Jvm.MethodName)) ∈ lw_tbl := lw_at lw_m12 66 rfl
theorem q2826 : (Jvm.Cond.instanceMethod ({ cls := "SpillslotWorksModel", name := "unorderedNow", desc := "()I" } : Jvm.MethodName)) ∈ lw_all := lw_g (lw_at lw_m12 67 rfl) rfl
theorem q2827 : (Jvm.Cond.code ({ cls := "SpillslotWorksModel", name := "unorderedNow", desc := "()I" } : Jvm.MethodName) prog_17_method_44_code (1 : Nat) (Option.some Jvm.ClassFile.FieldType.int)) ∈ lw_all := lw_g (lw_at lw_m12 68 rfl) rfl
theorem q2829 : (Jvm.Cond.instanceMethod ({ cls := "SpillslotWorksModel", name := "digest", desc := "()J" } : Jvm.MethodName)) ∈ lw_all := lw_g (lw_at lw_m12 70 rfl) rfl
theorem q2830 : (Jvm.Cond.selects "SpillslotWorksModel" ({ cls := "SpillslotWorksModel", name := "digest", desc := "()J" } : Jvm.MethodName) ({ cls := "SpillslotWorksModel", name := "digest", desc := "()J" } : Jvm.MethodName)) ∈ lw_all := lw_g (lw_at lw_m12 71 rfl) rfl
theorem q2831 : (Jvm.Cond.code ({ cls := "SpillslotWorksModel", name := "digest", desc := "()J" } : Jvm.MethodName) prog_17_method_47_code (9 : Nat) (Option.some Jvm.ClassFile.FieldType.long)) ∈ lw_all := lw_g (lw_at lw_m12 72 rfl) rfl
theorem q2832 : (Jvm.Cond.constantLong "SpillslotWorksModel" (303 : Nat) (58132 : Int64)) ∈ lw_all := lw_g (lw_at lw_m12 73 rfl) rfl
theorem q2833 : (Jvm.Cond.methodLink "SpillslotWorksModel" (305 : Nat) ({ cls := "SpillslotWorksModel", name := "add", desc := "(JJ)J" } : Jvm.MethodName)) ∈ lw_all := lw_g (lw_at lw_m12 74 rfl) rfl
theorem q2834 : (Jvm.Cond.static ({ cls := "SpillslotWorksModel", name := "add", desc := "(JJ)J" } : Jvm.MethodName)) ∈ lw_all := lw_g (lw_at lw_m12 75 rfl) rfl
theorem q2835 : (Jvm.Cond.code ({ cls := "SpillslotWorksModel", name := "add", desc := "(JJ)J" } : Jvm.MethodName) prog_17_method_46_code (4 : Nat) (Option.some Jvm.ClassFile.FieldType.long)) ∈ lw_all := lw_g (lw_at lw_m12 76 rfl) rfl
theorem q2836 : (Jvm.Cond.constantLong "SpillslotWorksModel" (301 : Nat) (31 : Int64)) ∈ lw_all := lw_g (lw_at lw_m12 77 rfl) rfl
theorem q2873 : (Jvm.Cond.castable "SpillslotWorksModel" "java/lang/Object") ∈ lw_tbl := lw_at lw_m12 114 rfl
theorem in_X13 : ∀ w ∈ wsX130, w ∈ lw_all := lw_in wsX130 [1921, 1923, 1925] (by decide +kernel) (by decide +kernel)
