/-! SignalWaves -/
set_option maxRecDepth 100000
def RX0 : String := "SignalWaves"
def TX0 : u_T := fun k => match k with
  | 0 => ("SignalWaves", "book", "LSignalWaves$Book;", false)
  | 1 => ("SignalWaves", "now", "LSignalWaves$Wave;", false)
  | 2 => ("SignalWaves", "done", "[LSignalWaves$Wave;", true)
  | 3 => ("SignalWaves", "doneMany", "I", false)
  | 4 => ("SignalWaves", "kept", "[LSignalWaves$Wave;", true)
  | 5 => ("SignalWaves", "factTime", "[I", true)
  | 6 => ("SignalWaves", "factValue", "[I", true)
  | 7 => ("SignalWaves", "facts", "I", false)
  | 8 => ("SignalWaves", "text", "[B", true)
  | 9 => ("SignalWaves", "typed", "I", false)
  | 10 => ("SignalWaves", "values", "[I", true)
  | 11 => ("SignalWaves", "waves", "[[I", true)
  | 12 => ("SignalWaves", "unlike", "[I", true)
  | _ => ("SignalWaves", "unlikeMany", "I", false)
def tyX0 : Nat → FieldType := fun k => match k with
  | 0 => .object "SignalWaves$Book"
  | 1 => .object "SignalWaves$Wave"
  | 2 => .array (.object "SignalWaves$Wave")
  | 3 => .int
  | 4 => .array (.object "SignalWaves$Wave")
  | 5 => .array .int
  | 6 => .array .int
  | 7 => .int
  | 8 => .array .byte
  | 9 => .int
  | 10 => .array .int
  | 11 => .array (.array .int)
  | 12 => .array .int
  | _ => .int
abbrev wsX00 : List Cond := u_ws RX0 TX0 14
set_option maxRecDepth 100000 in
theorem nmX0 : ∀ a, a < 14 → ∀ b, b < 14 → a ≠ b → (TX0 a).2.1 ≠ (TX0 b).2.1 := by decide +kernel
set_option maxRecDepth 100000 in
theorem tyX0_ok : ∀ k, k < 14 → parseFieldDescriptor (TX0 k).2.2.1 = some (tyX0 k) := by decide +kernel
abbrev cX0_init : ByteArray := prog_1_method_3_code
def yX0_init : MethodName := ⟨RX0, "<init>", "()V"⟩
def dkwX0_init_4 : List UInt8 := [188, 10, 181, 0, 53, 177]
abbrev dktX0_init_4 : List UInt8 := dkwX0_init_4 ++ []
def dkwX0_init_3 : List UInt8 := [42, 16, 12, 188, 10, 181, 0, 45, 42, 16, 12, 17, 3, 232, 197, 0, 48, 2, 181, 0, 50, 42, 16, 8]
abbrev dktX0_init_3 : List UInt8 := dkwX0_init_3 ++ dktX0_init_4
def dkwX0_init_2 : List UInt8 := [16, 6, 188, 10, 181, 0, 34, 42, 16, 6, 188, 10, 181, 0, 38, 42, 17, 0, 160, 188, 8, 181, 0, 41]
abbrev dktX0_init_2 : List UInt8 := dkwX0_init_2 ++ dktX0_init_3
def dkwX0_init_1 : List UInt8 := [182, 0, 19, 181, 0, 23, 42, 16, 6, 189, 0, 16, 181, 0, 27, 42, 5, 189, 0, 16, 181, 0, 31, 42]
abbrev dktX0_init_1 : List UInt8 := dkwX0_init_1 ++ dktX0_init_2
def dkwX0_init_0 : List UInt8 := [42, 183, 0, 1, 42, 187, 0, 7, 89, 183, 0, 9, 181, 0, 10, 42, 187, 0, 16, 89, 183, 0, 18]
abbrev dktX0_init_0 : List UInt8 := dkwX0_init_0 ++ dktX0_init_1
theorem dksX0_init_0 : cX0_init.data.toList.drop 0 = dktX0_init_0 := by decide +kernel
theorem dksX0_init_1 : cX0_init.data.toList.drop 23 = dktX0_init_1 := dk_seg dksX0_init_0 23 rfl rfl
theorem dksX0_init_2 : cX0_init.data.toList.drop 47 = dktX0_init_2 := dk_seg dksX0_init_1 24 rfl rfl
theorem dksX0_init_3 : cX0_init.data.toList.drop 71 = dktX0_init_3 := dk_seg dksX0_init_2 24 rfl rfl
theorem dksX0_init_4 : cX0_init.data.toList.drop 95 = dktX0_init_4 := dk_seg dksX0_init_3 24 rfl rfl
theorem dX0_init_0 : decode cX0_init 0 = .ok (.aload_n 0, 1) := dk_42 (dk_at dksX0_init_0 0 rfl rfl)
theorem dX0_init_1 : decode cX0_init 1 = .ok (.invokespecial 1, 3) := dk_183 0 1 (dk_at dksX0_init_0 1 rfl rfl)
theorem dX0_init_4 : decode cX0_init 4 = .ok (.aload_n 0, 1) := dk_42 (dk_at dksX0_init_0 4 rfl rfl)
theorem dX0_init_5 : decode cX0_init 5 = .ok (.new 7, 3) := dk_187 0 7 (dk_at dksX0_init_0 5 rfl rfl)
theorem dX0_init_8 : decode cX0_init 8 = .ok (.dup, 1) := dk_89 (dk_at dksX0_init_0 8 rfl rfl)
theorem dX0_init_9 : decode cX0_init 9 = .ok (.invokespecial 9, 3) := dk_183 0 9 (dk_at dksX0_init_0 9 rfl rfl)
theorem dX0_init_12 : decode cX0_init 12 = .ok (.putfield 10, 3) := dk_181 0 10 (dk_at dksX0_init_0 12 rfl rfl)
theorem dX0_init_15 : decode cX0_init 15 = .ok (.aload_n 0, 1) := dk_42 (dk_at dksX0_init_0 15 rfl rfl)
theorem dX0_init_16 : decode cX0_init 16 = .ok (.new 16, 3) := dk_187 0 16 (dk_at dksX0_init_0 16 rfl rfl)
theorem dX0_init_19 : decode cX0_init 19 = .ok (.dup, 1) := dk_89 (dk_at dksX0_init_0 19 rfl rfl)
theorem dX0_init_20 : decode cX0_init 20 = .ok (.invokespecial 18, 3) := dk_183 0 18 (dk_at dksX0_init_0 20 rfl rfl)
theorem dX0_init_23 : decode cX0_init 23 = .ok (.invokevirtual 19, 3) := dk_182 0 19 (dk_at dksX0_init_1 0 rfl rfl)
theorem dX0_init_26 : decode cX0_init 26 = .ok (.putfield 23, 3) := dk_181 0 23 (dk_at dksX0_init_1 3 rfl rfl)
theorem dX0_init_29 : decode cX0_init 29 = .ok (.aload_n 0, 1) := dk_42 (dk_at dksX0_init_1 6 rfl rfl)
theorem dX0_init_30 : decode cX0_init 30 = .ok (.bipush 6, 2) := dk_16 6 (dk_at dksX0_init_1 7 rfl rfl)
theorem dX0_init_32 : decode cX0_init 32 = .ok (.anewarray 16, 3) := dk_189 0 16 (dk_at dksX0_init_1 9 rfl rfl)
theorem dX0_init_35 : decode cX0_init 35 = .ok (.putfield 27, 3) := dk_181 0 27 (dk_at dksX0_init_1 12 rfl rfl)
theorem dX0_init_38 : decode cX0_init 38 = .ok (.aload_n 0, 1) := dk_42 (dk_at dksX0_init_1 15 rfl rfl)
theorem dX0_init_39 : decode cX0_init 39 = .ok (.iconst 2, 1) := dk_5 (dk_at dksX0_init_1 16 rfl rfl)
theorem dX0_init_40 : decode cX0_init 40 = .ok (.anewarray 16, 3) := dk_189 0 16 (dk_at dksX0_init_1 17 rfl rfl)
theorem dX0_init_43 : decode cX0_init 43 = .ok (.putfield 31, 3) := dk_181 0 31 (dk_at dksX0_init_1 20 rfl rfl)
theorem dX0_init_46 : decode cX0_init 46 = .ok (.aload_n 0, 1) := dk_42 (dk_at dksX0_init_1 23 rfl rfl)
theorem dX0_init_47 : decode cX0_init 47 = .ok (.bipush 6, 2) := dk_16 6 (dk_at dksX0_init_2 0 rfl rfl)
theorem dX0_init_49 : decode cX0_init 49 = .ok (.newarray .int, 2) := dk_188_10 (dk_at dksX0_init_2 2 rfl rfl)
theorem dX0_init_51 : decode cX0_init 51 = .ok (.putfield 34, 3) := dk_181 0 34 (dk_at dksX0_init_2 4 rfl rfl)
theorem dX0_init_54 : decode cX0_init 54 = .ok (.aload_n 0, 1) := dk_42 (dk_at dksX0_init_2 7 rfl rfl)
theorem dX0_init_55 : decode cX0_init 55 = .ok (.bipush 6, 2) := dk_16 6 (dk_at dksX0_init_2 8 rfl rfl)
theorem dX0_init_57 : decode cX0_init 57 = .ok (.newarray .int, 2) := dk_188_10 (dk_at dksX0_init_2 10 rfl rfl)
theorem dX0_init_59 : decode cX0_init 59 = .ok (.putfield 38, 3) := dk_181 0 38 (dk_at dksX0_init_2 12 rfl rfl)
theorem dX0_init_62 : decode cX0_init 62 = .ok (.aload_n 0, 1) := dk_42 (dk_at dksX0_init_2 15 rfl rfl)
theorem dX0_init_63 : decode cX0_init 63 = .ok (.sipush 160, 3) := dk_17 0 160 (dk_at dksX0_init_2 16 rfl rfl)
theorem dX0_init_66 : decode cX0_init 66 = .ok (.newarray .byte, 2) := dk_188_8 (dk_at dksX0_init_2 19 rfl rfl)
theorem dX0_init_68 : decode cX0_init 68 = .ok (.putfield 41, 3) := dk_181 0 41 (dk_at dksX0_init_2 21 rfl rfl)
theorem dX0_init_71 : decode cX0_init 71 = .ok (.aload_n 0, 1) := dk_42 (dk_at dksX0_init_3 0 rfl rfl)
theorem dX0_init_72 : decode cX0_init 72 = .ok (.bipush 12, 2) := dk_16 12 (dk_at dksX0_init_3 1 rfl rfl)
theorem dX0_init_74 : decode cX0_init 74 = .ok (.newarray .int, 2) := dk_188_10 (dk_at dksX0_init_3 3 rfl rfl)
theorem dX0_init_76 : decode cX0_init 76 = .ok (.putfield 45, 3) := dk_181 0 45 (dk_at dksX0_init_3 5 rfl rfl)
theorem dX0_init_79 : decode cX0_init 79 = .ok (.aload_n 0, 1) := dk_42 (dk_at dksX0_init_3 8 rfl rfl)
theorem dX0_init_80 : decode cX0_init 80 = .ok (.bipush 12, 2) := dk_16 12 (dk_at dksX0_init_3 9 rfl rfl)
theorem dX0_init_82 : decode cX0_init 82 = .ok (.sipush 1000, 3) := dk_17 3 232 (dk_at dksX0_init_3 11 rfl rfl)
theorem dX0_init_85 : decode cX0_init 85 = .ok (.multianewarray 48 2, 4) := by decide +kernel
theorem dX0_init_89 : decode cX0_init 89 = .ok (.putfield 50, 3) := dk_181 0 50 (dk_at dksX0_init_3 18 rfl rfl)
theorem dX0_init_92 : decode cX0_init 92 = .ok (.aload_n 0, 1) := dk_42 (dk_at dksX0_init_3 21 rfl rfl)
theorem dX0_init_93 : decode cX0_init 93 = .ok (.bipush 8, 2) := dk_16 8 (dk_at dksX0_init_3 22 rfl rfl)
theorem dX0_init_95 : decode cX0_init 95 = .ok (.newarray .int, 2) := dk_188_10 (dk_at dksX0_init_4 0 rfl rfl)
theorem dX0_init_97 : decode cX0_init 97 = .ok (.putfield 53, 3) := dk_181 0 53 (dk_at dksX0_init_4 2 rfl rfl)
theorem dX0_init_100 : decode cX0_init 100 = .ok (.return_, 1) := dk_177 (dk_at dksX0_init_4 5 rfl rfl)
abbrev cX0_type : ByteArray := prog_1_method_5_code
def yX0_type : MethodName := ⟨RX0, "type", "(I)I"⟩
def dkwX0_type_2 : List UInt8 := [42, 180, 0, 73, 172]
abbrev dktX0_type_2 : List UInt8 := dkwX0_type_2 ++ []
def dkwX0_type_1 : List UInt8 := [16, 253, 172, 42, 180, 0, 41, 42, 180, 0, 73, 27, 145, 84, 42, 89, 180, 0, 73, 4, 96, 181, 0, 73]
abbrev dktX0_type_1 : List UInt8 := dkwX0_type_1 ++ dktX0_type_2
def dkwX0_type_0 : List UInt8 := [27, 3, 17, 0, 255, 184, 0, 69, 154, 0, 5, 2, 172, 42, 180, 0, 73, 17, 0, 160, 160, 0, 6]
abbrev dktX0_type_0 : List UInt8 := dkwX0_type_0 ++ dktX0_type_1
theorem dksX0_type_0 : cX0_type.data.toList.drop 0 = dktX0_type_0 := by decide +kernel
theorem dksX0_type_1 : cX0_type.data.toList.drop 23 = dktX0_type_1 := dk_seg dksX0_type_0 23 rfl rfl
theorem dksX0_type_2 : cX0_type.data.toList.drop 47 = dktX0_type_2 := dk_seg dksX0_type_1 24 rfl rfl
theorem dX0_type_0 : decode cX0_type 0 = .ok (.iload_n 1, 1) := dk_27 (dk_at dksX0_type_0 0 rfl rfl)
theorem dX0_type_1 : decode cX0_type 1 = .ok (.iconst 0, 1) := dk_3 (dk_at dksX0_type_0 1 rfl rfl)
theorem dX0_type_2 : decode cX0_type 2 = .ok (.sipush 255, 3) := dk_17 0 255 (dk_at dksX0_type_0 2 rfl rfl)
theorem dX0_type_5 : decode cX0_type 5 = .ok (.invokestatic 69, 3) := dk_184 0 69 (dk_at dksX0_type_0 5 rfl rfl)
theorem dX0_type_8 : decode cX0_type 8 = .ok (.ifCond .ne 5, 3) := dk_154 0 5 (dk_at dksX0_type_0 8 rfl rfl)
theorem dX0_type_11 : decode cX0_type 11 = .ok (.iconst (-1), 1) := dk_2 (dk_at dksX0_type_0 11 rfl rfl)
theorem dX0_type_12 : decode cX0_type 12 = .ok (.ireturn, 1) := dk_172 (dk_at dksX0_type_0 12 rfl rfl)
theorem dX0_type_13 : decode cX0_type 13 = .ok (.aload_n 0, 1) := dk_42 (dk_at dksX0_type_0 13 rfl rfl)
theorem dX0_type_14 : decode cX0_type 14 = .ok (.getfield 73, 3) := dk_180 0 73 (dk_at dksX0_type_0 14 rfl rfl)
theorem dX0_type_17 : decode cX0_type 17 = .ok (.sipush 160, 3) := dk_17 0 160 (dk_at dksX0_type_0 17 rfl rfl)
theorem dX0_type_20 : decode cX0_type 20 = .ok (.if_icmp .ne 6, 3) := dk_160 0 6 (dk_at dksX0_type_0 20 rfl rfl)
theorem dX0_type_23 : decode cX0_type 23 = .ok (.bipush (-3), 2) := dk_16 253 (dk_at dksX0_type_1 0 rfl rfl)
theorem dX0_type_25 : decode cX0_type 25 = .ok (.ireturn, 1) := dk_172 (dk_at dksX0_type_1 2 rfl rfl)
theorem dX0_type_26 : decode cX0_type 26 = .ok (.aload_n 0, 1) := dk_42 (dk_at dksX0_type_1 3 rfl rfl)
theorem dX0_type_27 : decode cX0_type 27 = .ok (.getfield 41, 3) := dk_180 0 41 (dk_at dksX0_type_1 4 rfl rfl)
theorem dX0_type_30 : decode cX0_type 30 = .ok (.aload_n 0, 1) := dk_42 (dk_at dksX0_type_1 7 rfl rfl)
theorem dX0_type_31 : decode cX0_type 31 = .ok (.getfield 73, 3) := dk_180 0 73 (dk_at dksX0_type_1 8 rfl rfl)
theorem dX0_type_34 : decode cX0_type 34 = .ok (.iload_n 1, 1) := dk_27 (dk_at dksX0_type_1 11 rfl rfl)
theorem dX0_type_35 : decode cX0_type 35 = .ok (.i2b, 1) := dk_145 (dk_at dksX0_type_1 12 rfl rfl)
theorem dX0_type_36 : decode cX0_type 36 = .ok (.bastore, 1) := dk_84 (dk_at dksX0_type_1 13 rfl rfl)
theorem dX0_type_37 : decode cX0_type 37 = .ok (.aload_n 0, 1) := dk_42 (dk_at dksX0_type_1 14 rfl rfl)
theorem dX0_type_38 : decode cX0_type 38 = .ok (.dup, 1) := dk_89 (dk_at dksX0_type_1 15 rfl rfl)
theorem dX0_type_39 : decode cX0_type 39 = .ok (.getfield 73, 3) := dk_180 0 73 (dk_at dksX0_type_1 16 rfl rfl)
theorem dX0_type_42 : decode cX0_type 42 = .ok (.iconst 1, 1) := dk_4 (dk_at dksX0_type_1 19 rfl rfl)
theorem dX0_type_43 : decode cX0_type 43 = .ok (.iadd, 1) := dk_96 (dk_at dksX0_type_1 20 rfl rfl)
theorem dX0_type_44 : decode cX0_type 44 = .ok (.putfield 73, 3) := dk_181 0 73 (dk_at dksX0_type_1 21 rfl rfl)
theorem dX0_type_47 : decode cX0_type 47 = .ok (.aload_n 0, 1) := dk_42 (dk_at dksX0_type_2 0 rfl rfl)
theorem dX0_type_48 : decode cX0_type 48 = .ok (.getfield 73, 3) := dk_180 0 73 (dk_at dksX0_type_2 1 rfl rfl)
theorem dX0_type_51 : decode cX0_type 51 = .ok (.ireturn, 1) := dk_172 (dk_at dksX0_type_2 4 rfl rfl)
abbrev cX0_in : ByteArray := prog_1_method_1_code
def yX0_in : MethodName := ⟨RX0, "in", "(III)Z"⟩
def dkwX0_in_0 : List UInt8 := [26, 27, 161, 0, 12, 26, 28, 163, 0, 7, 4, 167, 0, 4, 3, 172]
abbrev dktX0_in_0 : List UInt8 := dkwX0_in_0 ++ []
theorem dksX0_in_0 : cX0_in.data.toList.drop 0 = dktX0_in_0 := by decide +kernel
theorem dX0_in_0 : decode cX0_in 0 = .ok (.iload_n 0, 1) := dk_26 (dk_at dksX0_in_0 0 rfl rfl)
theorem dX0_in_1 : decode cX0_in 1 = .ok (.iload_n 1, 1) := dk_27 (dk_at dksX0_in_0 1 rfl rfl)
theorem dX0_in_2 : decode cX0_in 2 = .ok (.if_icmp .lt 12, 3) := dk_161 0 12 (dk_at dksX0_in_0 2 rfl rfl)
theorem dX0_in_5 : decode cX0_in 5 = .ok (.iload_n 0, 1) := dk_26 (dk_at dksX0_in_0 5 rfl rfl)
theorem dX0_in_6 : decode cX0_in 6 = .ok (.iload_n 2, 1) := dk_28 (dk_at dksX0_in_0 6 rfl rfl)
theorem dX0_in_7 : decode cX0_in 7 = .ok (.if_icmp .gt 7, 3) := dk_163 0 7 (dk_at dksX0_in_0 7 rfl rfl)
theorem dX0_in_10 : decode cX0_in 10 = .ok (.iconst 1, 1) := dk_4 (dk_at dksX0_in_0 10 rfl rfl)
theorem dX0_in_11 : decode cX0_in 11 = .ok (.goto 4, 3) := dk_167 0 4 (dk_at dksX0_in_0 11 rfl rfl)
theorem dX0_in_14 : decode cX0_in 14 = .ok (.iconst 0, 1) := dk_3 (dk_at dksX0_in_0 14 rfl rfl)
theorem dX0_in_15 : decode cX0_in 15 = .ok (.ireturn, 1) := dk_172 (dk_at dksX0_in_0 15 rfl rfl)
abbrev cX0_clear : ByteArray := prog_1_method_6_code
def yX0_clear : MethodName := ⟨RX0, "clear", "()I"⟩
def dkwX0_clear_0 : List UInt8 := [42, 180, 0, 73, 60, 42, 3, 181, 0, 73, 27, 172]
abbrev dktX0_clear_0 : List UInt8 := dkwX0_clear_0 ++ []
theorem dksX0_clear_0 : cX0_clear.data.toList.drop 0 = dktX0_clear_0 := by decide +kernel
theorem dX0_clear_0 : decode cX0_clear 0 = .ok (.aload_n 0, 1) := dk_42 (dk_at dksX0_clear_0 0 rfl rfl)
theorem dX0_clear_1 : decode cX0_clear 1 = .ok (.getfield 73, 3) := dk_180 0 73 (dk_at dksX0_clear_0 1 rfl rfl)
theorem dX0_clear_4 : decode cX0_clear 4 = .ok (.istore_n 1, 1) := dk_60 (dk_at dksX0_clear_0 4 rfl rfl)
theorem dX0_clear_5 : decode cX0_clear 5 = .ok (.aload_n 0, 1) := dk_42 (dk_at dksX0_clear_0 5 rfl rfl)
theorem dX0_clear_6 : decode cX0_clear 6 = .ok (.iconst 0, 1) := dk_3 (dk_at dksX0_clear_0 6 rfl rfl)
theorem dX0_clear_7 : decode cX0_clear 7 = .ok (.putfield 73, 3) := dk_181 0 73 (dk_at dksX0_clear_0 7 rfl rfl)
theorem dX0_clear_10 : decode cX0_clear 10 = .ok (.iload_n 1, 1) := dk_27 (dk_at dksX0_clear_0 10 rfl rfl)
theorem dX0_clear_11 : decode cX0_clear 11 = .ok (.ireturn, 1) := dk_172 (dk_at dksX0_clear_0 11 rfl rfl)
abbrev cX0_tells : ByteArray := prog_1_method_7_code
def yX0_tells : MethodName := ⟨RX0, "tells", "()I"⟩
def dkwX0_tells_3 : List UInt8 := [43, 180, 0, 93, 172]
abbrev dktX0_tells_3 : List UInt8 := dkwX0_tells_3 ++ []
def dkwX0_tells_2 : List UInt8 := [42, 3, 181, 0, 90, 42, 180, 0, 31, 3, 1, 83, 42, 180, 0, 31, 4, 1, 83, 42, 3, 181, 0, 73]
abbrev dktX0_tells_2 : List UInt8 := dkwX0_tells_2 ++ dktX0_tells_3
def dkwX0_tells_1 : List UInt8 := [180, 0, 87, 100, 172, 42, 187, 0, 16, 89, 183, 0, 18, 182, 0, 19, 181, 0, 23, 42, 3, 181, 0, 56]
abbrev dktX0_tells_1 : List UInt8 := dkwX0_tells_1 ++ dktX0_tells_2
def dkwX0_tells_0 : List UInt8 := [187, 0, 76, 89, 42, 183, 0, 78, 76, 42, 43, 182, 0, 81, 181, 0, 10, 167, 0, 12, 77, 16, 246, 44]
abbrev dktX0_tells_0 : List UInt8 := dkwX0_tells_0 ++ dktX0_tells_1
theorem dksX0_tells_0 : cX0_tells.data.toList.drop 0 = dktX0_tells_0 := by decide +kernel
theorem dksX0_tells_1 : cX0_tells.data.toList.drop 24 = dktX0_tells_1 := dk_seg dksX0_tells_0 24 rfl rfl
theorem dksX0_tells_2 : cX0_tells.data.toList.drop 48 = dktX0_tells_2 := dk_seg dksX0_tells_1 24 rfl rfl
theorem dksX0_tells_3 : cX0_tells.data.toList.drop 72 = dktX0_tells_3 := dk_seg dksX0_tells_2 24 rfl rfl
theorem dX0_tells_0 : decode cX0_tells 0 = .ok (.new 76, 3) := dk_187 0 76 (dk_at dksX0_tells_0 0 rfl rfl)
theorem dX0_tells_3 : decode cX0_tells 3 = .ok (.dup, 1) := dk_89 (dk_at dksX0_tells_0 3 rfl rfl)
theorem dX0_tells_4 : decode cX0_tells 4 = .ok (.aload_n 0, 1) := dk_42 (dk_at dksX0_tells_0 4 rfl rfl)
theorem dX0_tells_5 : decode cX0_tells 5 = .ok (.invokespecial 78, 3) := dk_183 0 78 (dk_at dksX0_tells_0 5 rfl rfl)
theorem dX0_tells_8 : decode cX0_tells 8 = .ok (.astore_n 1, 1) := dk_76 (dk_at dksX0_tells_0 8 rfl rfl)
theorem dX0_tells_9 : decode cX0_tells 9 = .ok (.aload_n 0, 1) := dk_42 (dk_at dksX0_tells_0 9 rfl rfl)
theorem dX0_tells_10 : decode cX0_tells 10 = .ok (.aload_n 1, 1) := dk_43 (dk_at dksX0_tells_0 10 rfl rfl)
theorem dX0_tells_11 : decode cX0_tells 11 = .ok (.invokevirtual 81, 3) := dk_182 0 81 (dk_at dksX0_tells_0 11 rfl rfl)
theorem dX0_tells_14 : decode cX0_tells 14 = .ok (.putfield 10, 3) := dk_181 0 10 (dk_at dksX0_tells_0 14 rfl rfl)
theorem dX0_tells_17 : decode cX0_tells 17 = .ok (.goto 12, 3) := dk_167 0 12 (dk_at dksX0_tells_0 17 rfl rfl)
theorem dX0_tells_20 : decode cX0_tells 20 = .ok (.astore_n 2, 1) := dk_77 (dk_at dksX0_tells_0 20 rfl rfl)
theorem dX0_tells_21 : decode cX0_tells 21 = .ok (.bipush (-10), 2) := dk_16 246 (dk_at dksX0_tells_0 21 rfl rfl)
theorem dX0_tells_23 : decode cX0_tells 23 = .ok (.aload_n 2, 1) := dk_44 (dk_at dksX0_tells_0 23 rfl rfl)
theorem dX0_tells_24 : decode cX0_tells 24 = .ok (.getfield 87, 3) := dk_180 0 87 (dk_at dksX0_tells_1 0 rfl rfl)
theorem dX0_tells_27 : decode cX0_tells 27 = .ok (.isub, 1) := dk_100 (dk_at dksX0_tells_1 3 rfl rfl)
theorem dX0_tells_28 : decode cX0_tells 28 = .ok (.ireturn, 1) := dk_172 (dk_at dksX0_tells_1 4 rfl rfl)
theorem dX0_tells_29 : decode cX0_tells 29 = .ok (.aload_n 0, 1) := dk_42 (dk_at dksX0_tells_1 5 rfl rfl)
theorem dX0_tells_30 : decode cX0_tells 30 = .ok (.new 16, 3) := dk_187 0 16 (dk_at dksX0_tells_1 6 rfl rfl)
theorem dX0_tells_33 : decode cX0_tells 33 = .ok (.dup, 1) := dk_89 (dk_at dksX0_tells_1 9 rfl rfl)
theorem dX0_tells_34 : decode cX0_tells 34 = .ok (.invokespecial 18, 3) := dk_183 0 18 (dk_at dksX0_tells_1 10 rfl rfl)
theorem dX0_tells_37 : decode cX0_tells 37 = .ok (.invokevirtual 19, 3) := dk_182 0 19 (dk_at dksX0_tells_1 13 rfl rfl)
theorem dX0_tells_40 : decode cX0_tells 40 = .ok (.putfield 23, 3) := dk_181 0 23 (dk_at dksX0_tells_1 16 rfl rfl)
theorem dX0_tells_43 : decode cX0_tells 43 = .ok (.aload_n 0, 1) := dk_42 (dk_at dksX0_tells_1 19 rfl rfl)
theorem dX0_tells_44 : decode cX0_tells 44 = .ok (.iconst 0, 1) := dk_3 (dk_at dksX0_tells_1 20 rfl rfl)
theorem dX0_tells_45 : decode cX0_tells 45 = .ok (.putfield 56, 3) := dk_181 0 56 (dk_at dksX0_tells_1 21 rfl rfl)
theorem dX0_tells_48 : decode cX0_tells 48 = .ok (.aload_n 0, 1) := dk_42 (dk_at dksX0_tells_2 0 rfl rfl)
theorem dX0_tells_49 : decode cX0_tells 49 = .ok (.iconst 0, 1) := dk_3 (dk_at dksX0_tells_2 1 rfl rfl)
theorem dX0_tells_50 : decode cX0_tells 50 = .ok (.putfield 90, 3) := dk_181 0 90 (dk_at dksX0_tells_2 2 rfl rfl)
theorem dX0_tells_53 : decode cX0_tells 53 = .ok (.aload_n 0, 1) := dk_42 (dk_at dksX0_tells_2 5 rfl rfl)
theorem dX0_tells_54 : decode cX0_tells 54 = .ok (.getfield 31, 3) := dk_180 0 31 (dk_at dksX0_tells_2 6 rfl rfl)
theorem dX0_tells_57 : decode cX0_tells 57 = .ok (.iconst 0, 1) := dk_3 (dk_at dksX0_tells_2 9 rfl rfl)
theorem dX0_tells_58 : decode cX0_tells 58 = .ok (.aconst_null, 1) := dk_1 (dk_at dksX0_tells_2 10 rfl rfl)
theorem dX0_tells_59 : decode cX0_tells 59 = .ok (.aastore, 1) := dk_83 (dk_at dksX0_tells_2 11 rfl rfl)
theorem dX0_tells_60 : decode cX0_tells 60 = .ok (.aload_n 0, 1) := dk_42 (dk_at dksX0_tells_2 12 rfl rfl)
theorem dX0_tells_61 : decode cX0_tells 61 = .ok (.getfield 31, 3) := dk_180 0 31 (dk_at dksX0_tells_2 13 rfl rfl)
theorem dX0_tells_64 : decode cX0_tells 64 = .ok (.iconst 1, 1) := dk_4 (dk_at dksX0_tells_2 16 rfl rfl)
theorem dX0_tells_65 : decode cX0_tells 65 = .ok (.aconst_null, 1) := dk_1 (dk_at dksX0_tells_2 17 rfl rfl)
theorem dX0_tells_66 : decode cX0_tells 66 = .ok (.aastore, 1) := dk_83 (dk_at dksX0_tells_2 18 rfl rfl)
theorem dX0_tells_67 : decode cX0_tells 67 = .ok (.aload_n 0, 1) := dk_42 (dk_at dksX0_tells_2 19 rfl rfl)
theorem dX0_tells_68 : decode cX0_tells 68 = .ok (.iconst 0, 1) := dk_3 (dk_at dksX0_tells_2 20 rfl rfl)
theorem dX0_tells_69 : decode cX0_tells 69 = .ok (.putfield 73, 3) := dk_181 0 73 (dk_at dksX0_tells_2 21 rfl rfl)
theorem dX0_tells_72 : decode cX0_tells 72 = .ok (.aload_n 1, 1) := dk_43 (dk_at dksX0_tells_3 0 rfl rfl)
theorem dX0_tells_73 : decode cX0_tells 73 = .ok (.getfield 93, 3) := dk_180 0 93 (dk_at dksX0_tells_3 1 rfl rfl)
theorem dX0_tells_76 : decode cX0_tells 76 = .ok (.ireturn, 1) := dk_172 (dk_at dksX0_tells_3 4 rfl rfl)
abbrev cX0_node : ByteArray := prog_1_method_8_code
def yX0_node : MethodName := ⟨RX0, "node", "()I"⟩
def dkwX0_node_3 : List UInt8 := [153, 0, 8, 45, 180, 0, 127, 172, 167, 255, 219, 16, 247, 172]
abbrev dktX0_node_3 : List UInt8 := dkwX0_node_3 ++ []
def dkwX0_node_2 : List UInt8 := [153, 0, 34, 44, 185, 0, 116, 1, 0, 192, 0, 120, 78, 45, 182, 0, 122, 43, 185, 0, 123, 2, 0]
abbrev dktX0_node_2 : List UInt8 := dkwX0_node_2 ++ dktX0_node_3
def dkwX0_node_1 : List UInt8 := [42, 3, 181, 0, 73, 42, 180, 0, 10, 180, 0, 100, 185, 0, 104, 1, 0, 77, 44, 185, 0, 110, 1, 0]
abbrev dktX0_node_1 : List UInt8 := dkwX0_node_1 ++ dktX0_node_2
def dkwX0_node_0 : List UInt8 := [187, 0, 76, 89, 42, 183, 0, 78, 182, 0, 96, 76, 167, 0, 12, 77, 16, 246, 44, 180, 0, 87, 100, 172]
abbrev dktX0_node_0 : List UInt8 := dkwX0_node_0 ++ dktX0_node_1
theorem dksX0_node_0 : cX0_node.data.toList.drop 0 = dktX0_node_0 := by decide +kernel
theorem dksX0_node_1 : cX0_node.data.toList.drop 24 = dktX0_node_1 := dk_seg dksX0_node_0 24 rfl rfl
theorem dksX0_node_2 : cX0_node.data.toList.drop 48 = dktX0_node_2 := dk_seg dksX0_node_1 24 rfl rfl
theorem dksX0_node_3 : cX0_node.data.toList.drop 71 = dktX0_node_3 := dk_seg dksX0_node_2 23 rfl rfl
theorem dX0_node_0 : decode cX0_node 0 = .ok (.new 76, 3) := dk_187 0 76 (dk_at dksX0_node_0 0 rfl rfl)
theorem dX0_node_3 : decode cX0_node 3 = .ok (.dup, 1) := dk_89 (dk_at dksX0_node_0 3 rfl rfl)
theorem dX0_node_4 : decode cX0_node 4 = .ok (.aload_n 0, 1) := dk_42 (dk_at dksX0_node_0 4 rfl rfl)
theorem dX0_node_5 : decode cX0_node 5 = .ok (.invokespecial 78, 3) := dk_183 0 78 (dk_at dksX0_node_0 5 rfl rfl)
theorem dX0_node_8 : decode cX0_node 8 = .ok (.invokevirtual 96, 3) := dk_182 0 96 (dk_at dksX0_node_0 8 rfl rfl)
theorem dX0_node_11 : decode cX0_node 11 = .ok (.astore_n 1, 1) := dk_76 (dk_at dksX0_node_0 11 rfl rfl)
theorem dX0_node_12 : decode cX0_node 12 = .ok (.goto 12, 3) := dk_167 0 12 (dk_at dksX0_node_0 12 rfl rfl)
theorem dX0_node_15 : decode cX0_node 15 = .ok (.astore_n 2, 1) := dk_77 (dk_at dksX0_node_0 15 rfl rfl)
theorem dX0_node_16 : decode cX0_node 16 = .ok (.bipush (-10), 2) := dk_16 246 (dk_at dksX0_node_0 16 rfl rfl)
theorem dX0_node_18 : decode cX0_node 18 = .ok (.aload_n 2, 1) := dk_44 (dk_at dksX0_node_0 18 rfl rfl)
theorem dX0_node_19 : decode cX0_node 19 = .ok (.getfield 87, 3) := dk_180 0 87 (dk_at dksX0_node_0 19 rfl rfl)
theorem dX0_node_22 : decode cX0_node 22 = .ok (.isub, 1) := dk_100 (dk_at dksX0_node_0 22 rfl rfl)
theorem dX0_node_23 : decode cX0_node 23 = .ok (.ireturn, 1) := dk_172 (dk_at dksX0_node_0 23 rfl rfl)
theorem dX0_node_24 : decode cX0_node 24 = .ok (.aload_n 0, 1) := dk_42 (dk_at dksX0_node_1 0 rfl rfl)
theorem dX0_node_25 : decode cX0_node 25 = .ok (.iconst 0, 1) := dk_3 (dk_at dksX0_node_1 1 rfl rfl)
theorem dX0_node_26 : decode cX0_node 26 = .ok (.putfield 73, 3) := dk_181 0 73 (dk_at dksX0_node_1 2 rfl rfl)
theorem dX0_node_29 : decode cX0_node 29 = .ok (.aload_n 0, 1) := dk_42 (dk_at dksX0_node_1 5 rfl rfl)
theorem dX0_node_30 : decode cX0_node 30 = .ok (.getfield 10, 3) := dk_180 0 10 (dk_at dksX0_node_1 6 rfl rfl)
theorem dX0_node_33 : decode cX0_node 33 = .ok (.getfield 100, 3) := dk_180 0 100 (dk_at dksX0_node_1 9 rfl rfl)
theorem dX0_node_36 : decode cX0_node 36 = .ok (.invokeinterface 104 1, 5) := by decide +kernel
theorem dX0_node_41 : decode cX0_node 41 = .ok (.astore_n 2, 1) := dk_77 (dk_at dksX0_node_1 17 rfl rfl)
theorem dX0_node_42 : decode cX0_node 42 = .ok (.aload_n 2, 1) := dk_44 (dk_at dksX0_node_1 18 rfl rfl)
theorem dX0_node_43 : decode cX0_node 43 = .ok (.invokeinterface 110 1, 5) := by decide +kernel
theorem dX0_node_48 : decode cX0_node 48 = .ok (.ifCond .eq 34, 3) := dk_153 0 34 (dk_at dksX0_node_2 0 rfl rfl)
theorem dX0_node_51 : decode cX0_node 51 = .ok (.aload_n 2, 1) := dk_44 (dk_at dksX0_node_2 3 rfl rfl)
theorem dX0_node_52 : decode cX0_node 52 = .ok (.invokeinterface 116 1, 5) := by decide +kernel
theorem dX0_node_57 : decode cX0_node 57 = .ok (.checkcast 120, 3) := dk_192 0 120 (dk_at dksX0_node_2 9 rfl rfl)
theorem dX0_node_60 : decode cX0_node 60 = .ok (.astore_n 3, 1) := dk_78 (dk_at dksX0_node_2 12 rfl rfl)
theorem dX0_node_61 : decode cX0_node 61 = .ok (.aload_n 3, 1) := dk_45 (dk_at dksX0_node_2 13 rfl rfl)
theorem dX0_node_62 : decode cX0_node 62 = .ok (.invokevirtual 122, 3) := dk_182 0 122 (dk_at dksX0_node_2 14 rfl rfl)
theorem dX0_node_65 : decode cX0_node 65 = .ok (.aload_n 1, 1) := dk_43 (dk_at dksX0_node_2 17 rfl rfl)
theorem dX0_node_66 : decode cX0_node 66 = .ok (.invokeinterface 123 2, 5) := by decide +kernel
theorem dX0_node_71 : decode cX0_node 71 = .ok (.ifCond .eq 8, 3) := dk_153 0 8 (dk_at dksX0_node_3 0 rfl rfl)
theorem dX0_node_74 : decode cX0_node 74 = .ok (.aload_n 3, 1) := dk_45 (dk_at dksX0_node_3 3 rfl rfl)
theorem dX0_node_75 : decode cX0_node 75 = .ok (.getfield 127, 3) := dk_180 0 127 (dk_at dksX0_node_3 4 rfl rfl)
theorem dX0_node_78 : decode cX0_node 78 = .ok (.ireturn, 1) := dk_172 (dk_at dksX0_node_3 7 rfl rfl)
theorem dX0_node_79 : decode cX0_node 79 = .ok (.goto (-37), 3) := dk_167 255 219 (dk_at dksX0_node_3 8 rfl rfl)
theorem dX0_node_82 : decode cX0_node 82 = .ok (.bipush (-9), 2) := dk_16 247 (dk_at dksX0_node_3 11 rfl rfl)
theorem dX0_node_84 : decode cX0_node 84 = .ok (.ireturn, 1) := dk_172 (dk_at dksX0_node_3 13 rfl rfl)
abbrev cX0_about : ByteArray := prog_1_method_12_code
def yX0_about : MethodName := ⟨RX0, "about", "(II)I"⟩
def dkwX0_about_6 : List UInt8 := [172, 2, 172]
abbrev dktX0_about_6 : List UInt8 := dkwX0_about_6 ++ []
def dkwX0_about_5 : List UInt8 := [180, 0, 167, 182, 0, 168, 192, 0, 169, 58, 4, 42, 180, 0, 10, 25, 4, 182, 0, 172, 25, 4, 27, 46]
abbrev dktX0_about_5 : List UInt8 := dkwX0_about_5 ++ dktX0_about_6
def dkwX0_about_4 : List UInt8 := [180, 0, 151, 180, 0, 127, 172, 45, 180, 0, 155, 182, 0, 159, 172, 45, 180, 0, 164, 172, 42, 180, 0, 23]
abbrev dktX0_about_4 : List UInt8 := dkwX0_about_4 ++ dktX0_about_5
def dkwX0_about_3 : List UInt8 := [45, 180, 0, 142, 172, 45, 180, 0, 148, 172, 45, 180, 0, 151, 199, 0, 8, 16, 247, 167, 0, 10, 45]
abbrev dktX0_about_3 : List UInt8 := dkwX0_about_3 ++ dktX0_about_4
def dkwX0_about_2 : List UInt8 := [170, 0, 0, 0, 0, 0, 0, 112, 0, 0, 0, 0, 0, 0, 0, 5, 0, 0, 0, 40, 0, 0, 0, 45, 0, 0, 0, 50, 0, 0, 0, 70, 0, 0, 0, 78, 0, 0, 0, 83]
abbrev dktX0_about_2 : List UInt8 := dkwX0_about_2 ++ dktX0_about_3
def dkwX0_about_1 : List UInt8 := [192, 0, 120, 78, 28]
abbrev dktX0_about_1 : List UInt8 := dkwX0_about_1 ++ dktX0_about_2
def dkwX0_about_0 : List UInt8 := [42, 27, 182, 0, 134, 154, 0, 5, 2, 172, 42, 180, 0, 10, 180, 0, 100, 27, 185, 0, 138, 2, 0]
abbrev dktX0_about_0 : List UInt8 := dkwX0_about_0 ++ dktX0_about_1
theorem dksX0_about_0 : cX0_about.data.toList.drop 0 = dktX0_about_0 := by decide +kernel
theorem dksX0_about_1 : cX0_about.data.toList.drop 23 = dktX0_about_1 := dk_seg dksX0_about_0 23 rfl rfl
theorem dksX0_about_2 : cX0_about.data.toList.drop 28 = dktX0_about_2 := dk_seg dksX0_about_1 5 rfl rfl
theorem dksX0_about_3 : cX0_about.data.toList.drop 68 = dktX0_about_3 := dk_seg dksX0_about_2 40 rfl rfl
theorem dksX0_about_4 : cX0_about.data.toList.drop 91 = dktX0_about_4 := dk_seg dksX0_about_3 23 rfl rfl
theorem dksX0_about_5 : cX0_about.data.toList.drop 115 = dktX0_about_5 := dk_seg dksX0_about_4 24 rfl rfl
theorem dksX0_about_6 : cX0_about.data.toList.drop 139 = dktX0_about_6 := dk_seg dksX0_about_5 24 rfl rfl
theorem dX0_about_0 : decode cX0_about 0 = .ok (.aload_n 0, 1) := dk_42 (dk_at dksX0_about_0 0 rfl rfl)
theorem dX0_about_1 : decode cX0_about 1 = .ok (.iload_n 1, 1) := dk_27 (dk_at dksX0_about_0 1 rfl rfl)
theorem dX0_about_2 : decode cX0_about 2 = .ok (.invokevirtual 134, 3) := dk_182 0 134 (dk_at dksX0_about_0 2 rfl rfl)
theorem dX0_about_5 : decode cX0_about 5 = .ok (.ifCond .ne 5, 3) := dk_154 0 5 (dk_at dksX0_about_0 5 rfl rfl)
theorem dX0_about_8 : decode cX0_about 8 = .ok (.iconst (-1), 1) := dk_2 (dk_at dksX0_about_0 8 rfl rfl)
theorem dX0_about_9 : decode cX0_about 9 = .ok (.ireturn, 1) := dk_172 (dk_at dksX0_about_0 9 rfl rfl)
theorem dX0_about_10 : decode cX0_about 10 = .ok (.aload_n 0, 1) := dk_42 (dk_at dksX0_about_0 10 rfl rfl)
theorem dX0_about_11 : decode cX0_about 11 = .ok (.getfield 10, 3) := dk_180 0 10 (dk_at dksX0_about_0 11 rfl rfl)
theorem dX0_about_14 : decode cX0_about 14 = .ok (.getfield 100, 3) := dk_180 0 100 (dk_at dksX0_about_0 14 rfl rfl)
theorem dX0_about_17 : decode cX0_about 17 = .ok (.iload_n 1, 1) := dk_27 (dk_at dksX0_about_0 17 rfl rfl)
theorem dX0_about_18 : decode cX0_about 18 = .ok (.invokeinterface 138 2, 5) := by decide +kernel
theorem dX0_about_23 : decode cX0_about 23 = .ok (.checkcast 120, 3) := dk_192 0 120 (dk_at dksX0_about_1 0 rfl rfl)
theorem dX0_about_26 : decode cX0_about 26 = .ok (.astore_n 3, 1) := dk_78 (dk_at dksX0_about_1 3 rfl rfl)
theorem dX0_about_27 : decode cX0_about 27 = .ok (.iload_n 2, 1) := dk_28 (dk_at dksX0_about_1 4 rfl rfl)
theorem dX0_about_28 : decode cX0_about 28 = .ok (.tableswitch 112 0 5 #[40, 45, 50, 70, 78, 83], 40) := by decide +kernel
theorem dX0_about_68 : decode cX0_about 68 = .ok (.aload_n 3, 1) := dk_45 (dk_at dksX0_about_3 0 rfl rfl)
theorem dX0_about_69 : decode cX0_about 69 = .ok (.getfield 142, 3) := dk_180 0 142 (dk_at dksX0_about_3 1 rfl rfl)
theorem dX0_about_72 : decode cX0_about 72 = .ok (.ireturn, 1) := dk_172 (dk_at dksX0_about_3 4 rfl rfl)
theorem dX0_about_73 : decode cX0_about 73 = .ok (.aload_n 3, 1) := dk_45 (dk_at dksX0_about_3 5 rfl rfl)
theorem dX0_about_74 : decode cX0_about 74 = .ok (.getfield 148, 3) := dk_180 0 148 (dk_at dksX0_about_3 6 rfl rfl)
theorem dX0_about_77 : decode cX0_about 77 = .ok (.ireturn, 1) := dk_172 (dk_at dksX0_about_3 9 rfl rfl)
theorem dX0_about_78 : decode cX0_about 78 = .ok (.aload_n 3, 1) := dk_45 (dk_at dksX0_about_3 10 rfl rfl)
theorem dX0_about_79 : decode cX0_about 79 = .ok (.getfield 151, 3) := dk_180 0 151 (dk_at dksX0_about_3 11 rfl rfl)
theorem dX0_about_82 : decode cX0_about 82 = .ok (.ifnonnull 8, 3) := dk_199 0 8 (dk_at dksX0_about_3 14 rfl rfl)
theorem dX0_about_85 : decode cX0_about 85 = .ok (.bipush (-9), 2) := dk_16 247 (dk_at dksX0_about_3 17 rfl rfl)
theorem dX0_about_87 : decode cX0_about 87 = .ok (.goto 10, 3) := dk_167 0 10 (dk_at dksX0_about_3 19 rfl rfl)
theorem dX0_about_90 : decode cX0_about 90 = .ok (.aload_n 3, 1) := dk_45 (dk_at dksX0_about_3 22 rfl rfl)
theorem dX0_about_91 : decode cX0_about 91 = .ok (.getfield 151, 3) := dk_180 0 151 (dk_at dksX0_about_4 0 rfl rfl)
theorem dX0_about_94 : decode cX0_about 94 = .ok (.getfield 127, 3) := dk_180 0 127 (dk_at dksX0_about_4 3 rfl rfl)
theorem dX0_about_97 : decode cX0_about 97 = .ok (.ireturn, 1) := dk_172 (dk_at dksX0_about_4 6 rfl rfl)
theorem dX0_about_98 : decode cX0_about 98 = .ok (.aload_n 3, 1) := dk_45 (dk_at dksX0_about_4 7 rfl rfl)
theorem dX0_about_99 : decode cX0_about 99 = .ok (.getfield 155, 3) := dk_180 0 155 (dk_at dksX0_about_4 8 rfl rfl)
theorem dX0_about_102 : decode cX0_about 102 = .ok (.invokevirtual 159, 3) := dk_182 0 159 (dk_at dksX0_about_4 11 rfl rfl)
theorem dX0_about_105 : decode cX0_about 105 = .ok (.ireturn, 1) := dk_172 (dk_at dksX0_about_4 14 rfl rfl)
theorem dX0_about_106 : decode cX0_about 106 = .ok (.aload_n 3, 1) := dk_45 (dk_at dksX0_about_4 15 rfl rfl)
theorem dX0_about_107 : decode cX0_about 107 = .ok (.getfield 164, 3) := dk_180 0 164 (dk_at dksX0_about_4 16 rfl rfl)
theorem dX0_about_110 : decode cX0_about 110 = .ok (.ireturn, 1) := dk_172 (dk_at dksX0_about_4 19 rfl rfl)
theorem dX0_about_111 : decode cX0_about 111 = .ok (.aload_n 0, 1) := dk_42 (dk_at dksX0_about_4 20 rfl rfl)
theorem dX0_about_112 : decode cX0_about 112 = .ok (.getfield 23, 3) := dk_180 0 23 (dk_at dksX0_about_4 21 rfl rfl)
theorem dX0_about_115 : decode cX0_about 115 = .ok (.getfield 167, 3) := dk_180 0 167 (dk_at dksX0_about_5 0 rfl rfl)
theorem dX0_about_118 : decode cX0_about 118 = .ok (.invokevirtual 168, 3) := dk_182 0 168 (dk_at dksX0_about_5 3 rfl rfl)
theorem dX0_about_121 : decode cX0_about 121 = .ok (.checkcast 169, 3) := dk_192 0 169 (dk_at dksX0_about_5 6 rfl rfl)
theorem dX0_about_124 : decode cX0_about 124 = .ok (.astore 4, 2) := dk_58 4 (dk_at dksX0_about_5 9 rfl rfl)
theorem dX0_about_126 : decode cX0_about 126 = .ok (.aload_n 0, 1) := dk_42 (dk_at dksX0_about_5 11 rfl rfl)
theorem dX0_about_127 : decode cX0_about 127 = .ok (.getfield 10, 3) := dk_180 0 10 (dk_at dksX0_about_5 12 rfl rfl)
theorem dX0_about_130 : decode cX0_about 130 = .ok (.aload 4, 2) := dk_25 4 (dk_at dksX0_about_5 15 rfl rfl)
theorem dX0_about_132 : decode cX0_about 132 = .ok (.invokevirtual 172, 3) := dk_182 0 172 (dk_at dksX0_about_5 17 rfl rfl)
theorem dX0_about_135 : decode cX0_about 135 = .ok (.aload 4, 2) := dk_25 4 (dk_at dksX0_about_5 20 rfl rfl)
theorem dX0_about_137 : decode cX0_about 137 = .ok (.iload_n 1, 1) := dk_27 (dk_at dksX0_about_5 22 rfl rfl)
theorem dX0_about_138 : decode cX0_about 138 = .ok (.iaload, 1) := dk_46 (dk_at dksX0_about_5 23 rfl rfl)
theorem dX0_about_139 : decode cX0_about 139 = .ok (.ireturn, 1) := dk_172 (dk_at dksX0_about_6 0 rfl rfl)
theorem dX0_about_140 : decode cX0_about 140 = .ok (.iconst (-1), 1) := dk_2 (dk_at dksX0_about_6 1 rfl rfl)
theorem dX0_about_141 : decode cX0_about 141 = .ok (.ireturn, 1) := dk_172 (dk_at dksX0_about_6 2 rfl rfl)
abbrev cX0_isNode : ByteArray := prog_1_method_9_code
def yX0_isNode : MethodName := ⟨RX0, "isNode", "(I)Z"⟩
def dkwX0_isNode_0 : List UInt8 := [27, 3, 42, 180, 0, 10, 180, 0, 100, 185, 0, 130, 1, 0, 4, 100, 184, 0, 69, 172]
abbrev dktX0_isNode_0 : List UInt8 := dkwX0_isNode_0 ++ []
theorem dksX0_isNode_0 : cX0_isNode.data.toList.drop 0 = dktX0_isNode_0 := by decide +kernel
theorem dX0_isNode_0 : decode cX0_isNode 0 = .ok (.iload_n 1, 1) := dk_27 (dk_at dksX0_isNode_0 0 rfl rfl)
theorem dX0_isNode_1 : decode cX0_isNode 1 = .ok (.iconst 0, 1) := dk_3 (dk_at dksX0_isNode_0 1 rfl rfl)
theorem dX0_isNode_2 : decode cX0_isNode 2 = .ok (.aload_n 0, 1) := dk_42 (dk_at dksX0_isNode_0 2 rfl rfl)
theorem dX0_isNode_3 : decode cX0_isNode 3 = .ok (.getfield 10, 3) := dk_180 0 10 (dk_at dksX0_isNode_0 3 rfl rfl)
theorem dX0_isNode_6 : decode cX0_isNode 6 = .ok (.getfield 100, 3) := dk_180 0 100 (dk_at dksX0_isNode_0 6 rfl rfl)
theorem dX0_isNode_9 : decode cX0_isNode 9 = .ok (.invokeinterface 130 1, 5) := by decide +kernel
theorem dX0_isNode_14 : decode cX0_isNode 14 = .ok (.iconst 1, 1) := dk_4 (dk_at dksX0_isNode_0 14 rfl rfl)
theorem dX0_isNode_15 : decode cX0_isNode 15 = .ok (.isub, 1) := dk_100 (dk_at dksX0_isNode_0 15 rfl rfl)
theorem dX0_isNode_16 : decode cX0_isNode 16 = .ok (.invokestatic 69, 3) := dk_184 0 69 (dk_at dksX0_isNode_0 16 rfl rfl)
theorem dX0_isNode_19 : decode cX0_isNode 19 = .ok (.ireturn, 1) := dk_172 (dk_at dksX0_isNode_0 19 rfl rfl)
abbrev cX0_scope : ByteArray := prog_1_method_13_code
def yX0_scope : MethodName := ⟨RX0, "scope", "(II)I"⟩
def dkwX0_scope_2 : List UInt8 := [192, 0, 160, 78, 28, 154, 0, 13, 45, 180, 0, 179, 182, 0, 159, 167, 0, 7, 45, 180, 0, 180, 172]
abbrev dktX0_scope_2 : List UInt8 := dkwX0_scope_2 ++ []
def dkwX0_scope_1 : List UInt8 := [4, 184, 0, 69, 154, 0, 5, 2, 172, 42, 180, 0, 10, 180, 0, 176, 27, 185, 0, 138, 2, 0]
abbrev dktX0_scope_1 : List UInt8 := dkwX0_scope_1 ++ dktX0_scope_2
def dkwX0_scope_0 : List UInt8 := [27, 3, 42, 180, 0, 10, 180, 0, 176, 185, 0, 130, 1, 0, 4, 100, 184, 0, 69, 153, 0, 12, 28, 3]
abbrev dktX0_scope_0 : List UInt8 := dkwX0_scope_0 ++ dktX0_scope_1
theorem dksX0_scope_0 : cX0_scope.data.toList.drop 0 = dktX0_scope_0 := by decide +kernel
theorem dksX0_scope_1 : cX0_scope.data.toList.drop 24 = dktX0_scope_1 := dk_seg dksX0_scope_0 24 rfl rfl
theorem dksX0_scope_2 : cX0_scope.data.toList.drop 46 = dktX0_scope_2 := dk_seg dksX0_scope_1 22 rfl rfl
theorem dX0_scope_0 : decode cX0_scope 0 = .ok (.iload_n 1, 1) := dk_27 (dk_at dksX0_scope_0 0 rfl rfl)
theorem dX0_scope_1 : decode cX0_scope 1 = .ok (.iconst 0, 1) := dk_3 (dk_at dksX0_scope_0 1 rfl rfl)
theorem dX0_scope_2 : decode cX0_scope 2 = .ok (.aload_n 0, 1) := dk_42 (dk_at dksX0_scope_0 2 rfl rfl)
theorem dX0_scope_3 : decode cX0_scope 3 = .ok (.getfield 10, 3) := dk_180 0 10 (dk_at dksX0_scope_0 3 rfl rfl)
theorem dX0_scope_6 : decode cX0_scope 6 = .ok (.getfield 176, 3) := dk_180 0 176 (dk_at dksX0_scope_0 6 rfl rfl)
theorem dX0_scope_9 : decode cX0_scope 9 = .ok (.invokeinterface 130 1, 5) := by decide +kernel
theorem dX0_scope_14 : decode cX0_scope 14 = .ok (.iconst 1, 1) := dk_4 (dk_at dksX0_scope_0 14 rfl rfl)
theorem dX0_scope_15 : decode cX0_scope 15 = .ok (.isub, 1) := dk_100 (dk_at dksX0_scope_0 15 rfl rfl)
theorem dX0_scope_16 : decode cX0_scope 16 = .ok (.invokestatic 69, 3) := dk_184 0 69 (dk_at dksX0_scope_0 16 rfl rfl)
theorem dX0_scope_19 : decode cX0_scope 19 = .ok (.ifCond .eq 12, 3) := dk_153 0 12 (dk_at dksX0_scope_0 19 rfl rfl)
theorem dX0_scope_22 : decode cX0_scope 22 = .ok (.iload_n 2, 1) := dk_28 (dk_at dksX0_scope_0 22 rfl rfl)
theorem dX0_scope_23 : decode cX0_scope 23 = .ok (.iconst 0, 1) := dk_3 (dk_at dksX0_scope_0 23 rfl rfl)
theorem dX0_scope_24 : decode cX0_scope 24 = .ok (.iconst 1, 1) := dk_4 (dk_at dksX0_scope_1 0 rfl rfl)
theorem dX0_scope_25 : decode cX0_scope 25 = .ok (.invokestatic 69, 3) := dk_184 0 69 (dk_at dksX0_scope_1 1 rfl rfl)
theorem dX0_scope_28 : decode cX0_scope 28 = .ok (.ifCond .ne 5, 3) := dk_154 0 5 (dk_at dksX0_scope_1 4 rfl rfl)
theorem dX0_scope_31 : decode cX0_scope 31 = .ok (.iconst (-1), 1) := dk_2 (dk_at dksX0_scope_1 7 rfl rfl)
theorem dX0_scope_32 : decode cX0_scope 32 = .ok (.ireturn, 1) := dk_172 (dk_at dksX0_scope_1 8 rfl rfl)
theorem dX0_scope_33 : decode cX0_scope 33 = .ok (.aload_n 0, 1) := dk_42 (dk_at dksX0_scope_1 9 rfl rfl)
theorem dX0_scope_34 : decode cX0_scope 34 = .ok (.getfield 10, 3) := dk_180 0 10 (dk_at dksX0_scope_1 10 rfl rfl)
theorem dX0_scope_37 : decode cX0_scope 37 = .ok (.getfield 176, 3) := dk_180 0 176 (dk_at dksX0_scope_1 13 rfl rfl)
theorem dX0_scope_40 : decode cX0_scope 40 = .ok (.iload_n 1, 1) := dk_27 (dk_at dksX0_scope_1 16 rfl rfl)
theorem dX0_scope_41 : decode cX0_scope 41 = .ok (.invokeinterface 138 2, 5) := by decide +kernel
theorem dX0_scope_46 : decode cX0_scope 46 = .ok (.checkcast 160, 3) := dk_192 0 160 (dk_at dksX0_scope_2 0 rfl rfl)
theorem dX0_scope_49 : decode cX0_scope 49 = .ok (.astore_n 3, 1) := dk_78 (dk_at dksX0_scope_2 3 rfl rfl)
theorem dX0_scope_50 : decode cX0_scope 50 = .ok (.iload_n 2, 1) := dk_28 (dk_at dksX0_scope_2 4 rfl rfl)
theorem dX0_scope_51 : decode cX0_scope 51 = .ok (.ifCond .ne 13, 3) := dk_154 0 13 (dk_at dksX0_scope_2 5 rfl rfl)
theorem dX0_scope_54 : decode cX0_scope 54 = .ok (.aload_n 3, 1) := dk_45 (dk_at dksX0_scope_2 8 rfl rfl)
theorem dX0_scope_55 : decode cX0_scope 55 = .ok (.getfield 179, 3) := dk_180 0 179 (dk_at dksX0_scope_2 9 rfl rfl)
theorem dX0_scope_58 : decode cX0_scope 58 = .ok (.invokevirtual 159, 3) := dk_182 0 159 (dk_at dksX0_scope_2 12 rfl rfl)
theorem dX0_scope_61 : decode cX0_scope 61 = .ok (.goto 7, 3) := dk_167 0 7 (dk_at dksX0_scope_2 15 rfl rfl)
theorem dX0_scope_64 : decode cX0_scope 64 = .ok (.aload_n 3, 1) := dk_45 (dk_at dksX0_scope_2 18 rfl rfl)
theorem dX0_scope_65 : decode cX0_scope 65 = .ok (.getfield 180, 3) := dk_180 0 180 (dk_at dksX0_scope_2 19 rfl rfl)
theorem dX0_scope_68 : decode cX0_scope 68 = .ok (.ireturn, 1) := dk_172 (dk_at dksX0_scope_2 22 rfl rfl)
abbrev cX0_listed : ByteArray := prog_1_method_14_code
def yX0_listed : MethodName := ⟨RX0, "listed", "(II)I"⟩
def dkwX0_listed_4 : List UInt8 := [192, 0, 196, 58, 5, 29, 154, 0, 9, 25, 5, 182, 0, 198, 172, 132, 3, 255, 167, 255, 221, 16, 247, 172]
abbrev dktX0_listed_4 : List UInt8 := dkwX0_listed_4 ++ []
def dkwX0_listed_3 : List UInt8 := [185, 0, 193, 1, 0, 58, 4, 25, 4, 185, 0, 110, 1, 0, 153, 0, 31, 25, 4, 185, 0, 116, 1, 0]
abbrev dktX0_listed_3 : List UInt8 := dkwX0_listed_3 ++ dktX0_listed_4
def dkwX0_listed_2 : List UInt8 := [180, 0, 10, 180, 0, 176, 27, 185, 0, 138, 2, 0, 192, 0, 160, 180, 0, 184, 182, 0, 188]
abbrev dktX0_listed_2 : List UInt8 := dkwX0_listed_2 ++ dktX0_listed_3
def dkwX0_listed_1 : List UInt8 := [156, 0, 5, 2, 172, 28, 62, 27, 156, 0, 13, 42, 180, 0, 10, 180, 0, 181, 167, 0, 19, 42]
abbrev dktX0_listed_1 : List UInt8 := dkwX0_listed_1 ++ dktX0_listed_2
def dkwX0_listed_0 : List UInt8 := [27, 2, 42, 180, 0, 10, 180, 0, 176, 185, 0, 130, 1, 0, 4, 100, 184, 0, 69, 153, 0, 7, 28]
abbrev dktX0_listed_0 : List UInt8 := dkwX0_listed_0 ++ dktX0_listed_1
theorem dksX0_listed_0 : cX0_listed.data.toList.drop 0 = dktX0_listed_0 := by decide +kernel
theorem dksX0_listed_1 : cX0_listed.data.toList.drop 23 = dktX0_listed_1 := dk_seg dksX0_listed_0 23 rfl rfl
theorem dksX0_listed_2 : cX0_listed.data.toList.drop 45 = dktX0_listed_2 := dk_seg dksX0_listed_1 22 rfl rfl
theorem dksX0_listed_3 : cX0_listed.data.toList.drop 66 = dktX0_listed_3 := dk_seg dksX0_listed_2 21 rfl rfl
theorem dksX0_listed_4 : cX0_listed.data.toList.drop 90 = dktX0_listed_4 := dk_seg dksX0_listed_3 24 rfl rfl
theorem dX0_listed_0 : decode cX0_listed 0 = .ok (.iload_n 1, 1) := dk_27 (dk_at dksX0_listed_0 0 rfl rfl)
theorem dX0_listed_1 : decode cX0_listed 1 = .ok (.iconst (-1), 1) := dk_2 (dk_at dksX0_listed_0 1 rfl rfl)
theorem dX0_listed_2 : decode cX0_listed 2 = .ok (.aload_n 0, 1) := dk_42 (dk_at dksX0_listed_0 2 rfl rfl)
theorem dX0_listed_3 : decode cX0_listed 3 = .ok (.getfield 10, 3) := dk_180 0 10 (dk_at dksX0_listed_0 3 rfl rfl)
theorem dX0_listed_6 : decode cX0_listed 6 = .ok (.getfield 176, 3) := dk_180 0 176 (dk_at dksX0_listed_0 6 rfl rfl)
theorem dX0_listed_9 : decode cX0_listed 9 = .ok (.invokeinterface 130 1, 5) := by decide +kernel
theorem dX0_listed_14 : decode cX0_listed 14 = .ok (.iconst 1, 1) := dk_4 (dk_at dksX0_listed_0 14 rfl rfl)
theorem dX0_listed_15 : decode cX0_listed 15 = .ok (.isub, 1) := dk_100 (dk_at dksX0_listed_0 15 rfl rfl)
theorem dX0_listed_16 : decode cX0_listed 16 = .ok (.invokestatic 69, 3) := dk_184 0 69 (dk_at dksX0_listed_0 16 rfl rfl)
theorem dX0_listed_19 : decode cX0_listed 19 = .ok (.ifCond .eq 7, 3) := dk_153 0 7 (dk_at dksX0_listed_0 19 rfl rfl)
theorem dX0_listed_22 : decode cX0_listed 22 = .ok (.iload_n 2, 1) := dk_28 (dk_at dksX0_listed_0 22 rfl rfl)
theorem dX0_listed_23 : decode cX0_listed 23 = .ok (.ifCond .ge 5, 3) := dk_156 0 5 (dk_at dksX0_listed_1 0 rfl rfl)
theorem dX0_listed_26 : decode cX0_listed 26 = .ok (.iconst (-1), 1) := dk_2 (dk_at dksX0_listed_1 3 rfl rfl)
theorem dX0_listed_27 : decode cX0_listed 27 = .ok (.ireturn, 1) := dk_172 (dk_at dksX0_listed_1 4 rfl rfl)
theorem dX0_listed_28 : decode cX0_listed 28 = .ok (.iload_n 2, 1) := dk_28 (dk_at dksX0_listed_1 5 rfl rfl)
theorem dX0_listed_29 : decode cX0_listed 29 = .ok (.istore_n 3, 1) := dk_62 (dk_at dksX0_listed_1 6 rfl rfl)
theorem dX0_listed_30 : decode cX0_listed 30 = .ok (.iload_n 1, 1) := dk_27 (dk_at dksX0_listed_1 7 rfl rfl)
theorem dX0_listed_31 : decode cX0_listed 31 = .ok (.ifCond .ge 13, 3) := dk_156 0 13 (dk_at dksX0_listed_1 8 rfl rfl)
theorem dX0_listed_34 : decode cX0_listed 34 = .ok (.aload_n 0, 1) := dk_42 (dk_at dksX0_listed_1 11 rfl rfl)
theorem dX0_listed_35 : decode cX0_listed 35 = .ok (.getfield 10, 3) := dk_180 0 10 (dk_at dksX0_listed_1 12 rfl rfl)
theorem dX0_listed_38 : decode cX0_listed 38 = .ok (.getfield 181, 3) := dk_180 0 181 (dk_at dksX0_listed_1 15 rfl rfl)
theorem dX0_listed_41 : decode cX0_listed 41 = .ok (.goto 19, 3) := dk_167 0 19 (dk_at dksX0_listed_1 18 rfl rfl)
theorem dX0_listed_44 : decode cX0_listed 44 = .ok (.aload_n 0, 1) := dk_42 (dk_at dksX0_listed_1 21 rfl rfl)
theorem dX0_listed_45 : decode cX0_listed 45 = .ok (.getfield 10, 3) := dk_180 0 10 (dk_at dksX0_listed_2 0 rfl rfl)
theorem dX0_listed_48 : decode cX0_listed 48 = .ok (.getfield 176, 3) := dk_180 0 176 (dk_at dksX0_listed_2 3 rfl rfl)
theorem dX0_listed_51 : decode cX0_listed 51 = .ok (.iload_n 1, 1) := dk_27 (dk_at dksX0_listed_2 6 rfl rfl)
theorem dX0_listed_52 : decode cX0_listed 52 = .ok (.invokeinterface 138 2, 5) := by decide +kernel
theorem dX0_listed_57 : decode cX0_listed 57 = .ok (.checkcast 160, 3) := dk_192 0 160 (dk_at dksX0_listed_2 12 rfl rfl)
theorem dX0_listed_60 : decode cX0_listed 60 = .ok (.getfield 184, 3) := dk_180 0 184 (dk_at dksX0_listed_2 15 rfl rfl)
theorem dX0_listed_63 : decode cX0_listed 63 = .ok (.invokevirtual 188, 3) := dk_182 0 188 (dk_at dksX0_listed_2 18 rfl rfl)
theorem dX0_listed_66 : decode cX0_listed 66 = .ok (.invokeinterface 193 1, 5) := by decide +kernel
theorem dX0_listed_71 : decode cX0_listed 71 = .ok (.astore 4, 2) := dk_58 4 (dk_at dksX0_listed_3 5 rfl rfl)
theorem dX0_listed_73 : decode cX0_listed 73 = .ok (.aload 4, 2) := dk_25 4 (dk_at dksX0_listed_3 7 rfl rfl)
theorem dX0_listed_75 : decode cX0_listed 75 = .ok (.invokeinterface 110 1, 5) := by decide +kernel
theorem dX0_listed_80 : decode cX0_listed 80 = .ok (.ifCond .eq 31, 3) := dk_153 0 31 (dk_at dksX0_listed_3 14 rfl rfl)
theorem dX0_listed_83 : decode cX0_listed 83 = .ok (.aload 4, 2) := dk_25 4 (dk_at dksX0_listed_3 17 rfl rfl)
theorem dX0_listed_85 : decode cX0_listed 85 = .ok (.invokeinterface 116 1, 5) := by decide +kernel
theorem dX0_listed_90 : decode cX0_listed 90 = .ok (.checkcast 196, 3) := dk_192 0 196 (dk_at dksX0_listed_4 0 rfl rfl)
theorem dX0_listed_93 : decode cX0_listed 93 = .ok (.astore 5, 2) := dk_58 5 (dk_at dksX0_listed_4 3 rfl rfl)
theorem dX0_listed_95 : decode cX0_listed 95 = .ok (.iload_n 3, 1) := dk_29 (dk_at dksX0_listed_4 5 rfl rfl)
theorem dX0_listed_96 : decode cX0_listed 96 = .ok (.ifCond .ne 9, 3) := dk_154 0 9 (dk_at dksX0_listed_4 6 rfl rfl)
theorem dX0_listed_99 : decode cX0_listed 99 = .ok (.aload 5, 2) := dk_25 5 (dk_at dksX0_listed_4 9 rfl rfl)
theorem dX0_listed_101 : decode cX0_listed 101 = .ok (.invokevirtual 198, 3) := dk_182 0 198 (dk_at dksX0_listed_4 11 rfl rfl)
theorem dX0_listed_104 : decode cX0_listed 104 = .ok (.ireturn, 1) := dk_172 (dk_at dksX0_listed_4 14 rfl rfl)
theorem dX0_listed_105 : decode cX0_listed 105 = .ok (.iinc 3 (-1), 3) := dk_132 3 255 (dk_at dksX0_listed_4 15 rfl rfl)
theorem dX0_listed_108 : decode cX0_listed 108 = .ok (.goto (-35), 3) := dk_167 255 221 (dk_at dksX0_listed_4 18 rfl rfl)
theorem dX0_listed_111 : decode cX0_listed 111 = .ok (.bipush (-9), 2) := dk_16 247 (dk_at dksX0_listed_4 21 rfl rfl)
theorem dX0_listed_113 : decode cX0_listed 113 = .ok (.ireturn, 1) := dk_172 (dk_at dksX0_listed_4 23 rfl rfl)
abbrev cX0_path : ByteArray := prog_1_method_15_code
def yX0_path : MethodName := ⟨RX0, "path", "(II)I"⟩
def dkwX0_path_2 : List UInt8 := [185, 0, 138, 2, 0, 192, 0, 201, 182, 0, 203, 167, 0, 5, 16, 247, 172]
abbrev dktX0_path_2 : List UInt8 := dkwX0_path_2 ++ []
def dkwX0_path_1 : List UInt8 := [185, 0, 138, 2, 0, 192, 0, 120, 182, 0, 122, 78, 28, 45, 185, 0, 130, 1, 0, 162, 0, 19, 45, 28]
abbrev dktX0_path_1 : List UInt8 := dkwX0_path_1 ++ dktX0_path_2
def dkwX0_path_0 : List UInt8 := [42, 27, 182, 0, 134, 153, 0, 7, 28, 156, 0, 5, 2, 172, 42, 180, 0, 10, 180, 0, 100, 27]
abbrev dktX0_path_0 : List UInt8 := dkwX0_path_0 ++ dktX0_path_1
theorem dksX0_path_0 : cX0_path.data.toList.drop 0 = dktX0_path_0 := by decide +kernel
theorem dksX0_path_1 : cX0_path.data.toList.drop 22 = dktX0_path_1 := dk_seg dksX0_path_0 22 rfl rfl
theorem dksX0_path_2 : cX0_path.data.toList.drop 46 = dktX0_path_2 := dk_seg dksX0_path_1 24 rfl rfl
theorem dX0_path_0 : decode cX0_path 0 = .ok (.aload_n 0, 1) := dk_42 (dk_at dksX0_path_0 0 rfl rfl)
theorem dX0_path_1 : decode cX0_path 1 = .ok (.iload_n 1, 1) := dk_27 (dk_at dksX0_path_0 1 rfl rfl)
theorem dX0_path_2 : decode cX0_path 2 = .ok (.invokevirtual 134, 3) := dk_182 0 134 (dk_at dksX0_path_0 2 rfl rfl)
theorem dX0_path_5 : decode cX0_path 5 = .ok (.ifCond .eq 7, 3) := dk_153 0 7 (dk_at dksX0_path_0 5 rfl rfl)
theorem dX0_path_8 : decode cX0_path 8 = .ok (.iload_n 2, 1) := dk_28 (dk_at dksX0_path_0 8 rfl rfl)
theorem dX0_path_9 : decode cX0_path 9 = .ok (.ifCond .ge 5, 3) := dk_156 0 5 (dk_at dksX0_path_0 9 rfl rfl)
theorem dX0_path_12 : decode cX0_path 12 = .ok (.iconst (-1), 1) := dk_2 (dk_at dksX0_path_0 12 rfl rfl)
theorem dX0_path_13 : decode cX0_path 13 = .ok (.ireturn, 1) := dk_172 (dk_at dksX0_path_0 13 rfl rfl)
theorem dX0_path_14 : decode cX0_path 14 = .ok (.aload_n 0, 1) := dk_42 (dk_at dksX0_path_0 14 rfl rfl)
theorem dX0_path_15 : decode cX0_path 15 = .ok (.getfield 10, 3) := dk_180 0 10 (dk_at dksX0_path_0 15 rfl rfl)
theorem dX0_path_18 : decode cX0_path 18 = .ok (.getfield 100, 3) := dk_180 0 100 (dk_at dksX0_path_0 18 rfl rfl)
theorem dX0_path_21 : decode cX0_path 21 = .ok (.iload_n 1, 1) := dk_27 (dk_at dksX0_path_0 21 rfl rfl)
theorem dX0_path_22 : decode cX0_path 22 = .ok (.invokeinterface 138 2, 5) := by decide +kernel
theorem dX0_path_27 : decode cX0_path 27 = .ok (.checkcast 120, 3) := dk_192 0 120 (dk_at dksX0_path_1 5 rfl rfl)
theorem dX0_path_30 : decode cX0_path 30 = .ok (.invokevirtual 122, 3) := dk_182 0 122 (dk_at dksX0_path_1 8 rfl rfl)
theorem dX0_path_33 : decode cX0_path 33 = .ok (.astore_n 3, 1) := dk_78 (dk_at dksX0_path_1 11 rfl rfl)
theorem dX0_path_34 : decode cX0_path 34 = .ok (.iload_n 2, 1) := dk_28 (dk_at dksX0_path_1 12 rfl rfl)
theorem dX0_path_35 : decode cX0_path 35 = .ok (.aload_n 3, 1) := dk_45 (dk_at dksX0_path_1 13 rfl rfl)
theorem dX0_path_36 : decode cX0_path 36 = .ok (.invokeinterface 130 1, 5) := by decide +kernel
theorem dX0_path_41 : decode cX0_path 41 = .ok (.if_icmp .ge 19, 3) := dk_162 0 19 (dk_at dksX0_path_1 19 rfl rfl)
theorem dX0_path_44 : decode cX0_path 44 = .ok (.aload_n 3, 1) := dk_45 (dk_at dksX0_path_1 22 rfl rfl)
theorem dX0_path_45 : decode cX0_path 45 = .ok (.iload_n 2, 1) := dk_28 (dk_at dksX0_path_1 23 rfl rfl)
theorem dX0_path_46 : decode cX0_path 46 = .ok (.invokeinterface 138 2, 5) := by decide +kernel
theorem dX0_path_51 : decode cX0_path 51 = .ok (.checkcast 201, 3) := dk_192 0 201 (dk_at dksX0_path_2 5 rfl rfl)
theorem dX0_path_54 : decode cX0_path 54 = .ok (.invokevirtual 203, 3) := dk_182 0 203 (dk_at dksX0_path_2 8 rfl rfl)
theorem dX0_path_57 : decode cX0_path 57 = .ok (.goto 5, 3) := dk_167 0 5 (dk_at dksX0_path_2 11 rfl rfl)
theorem dX0_path_60 : decode cX0_path 60 = .ok (.bipush (-9), 2) := dk_16 247 (dk_at dksX0_path_2 14 rfl rfl)
theorem dX0_path_62 : decode cX0_path 62 = .ok (.ireturn, 1) := dk_172 (dk_at dksX0_path_2 16 rfl rfl)
abbrev cX0_sets : ByteArray := prog_1_method_16_code
def yX0_sets : MethodName := ⟨RX0, "sets", "(II)I"⟩
def dkwX0_sets_3 : List UInt8 := [180, 0, 23, 180, 0, 216, 153, 0, 7, 4, 167, 0, 4, 3, 172]
abbrev dktX0_sets_3 : List UInt8 := dkwX0_sets_3 ++ []
def dkwX0_sets_2 : List UInt8 := [27, 46, 28, 160, 0, 6, 16, 254, 172, 42, 182, 0, 209, 42, 180, 0, 23, 27, 28, 182, 0, 212, 42]
abbrev dktX0_sets_2 : List UInt8 := dkwX0_sets_2 ++ dktX0_sets_3
def dkwX0_sets_1 : List UInt8 := [192, 0, 120, 180, 0, 148, 120, 4, 100, 184, 0, 69, 154, 0, 5, 2, 172, 42, 180, 0, 23, 180, 0, 167]
abbrev dktX0_sets_1 : List UInt8 := dkwX0_sets_1 ++ dktX0_sets_2
def dkwX0_sets_0 : List UInt8 := [42, 27, 182, 0, 206, 153, 0, 34, 28, 3, 4, 42, 180, 0, 10, 180, 0, 100, 27, 185, 0, 138, 2, 0]
abbrev dktX0_sets_0 : List UInt8 := dkwX0_sets_0 ++ dktX0_sets_1
theorem dksX0_sets_0 : cX0_sets.data.toList.drop 0 = dktX0_sets_0 := by decide +kernel
theorem dksX0_sets_1 : cX0_sets.data.toList.drop 24 = dktX0_sets_1 := dk_seg dksX0_sets_0 24 rfl rfl
theorem dksX0_sets_2 : cX0_sets.data.toList.drop 48 = dktX0_sets_2 := dk_seg dksX0_sets_1 24 rfl rfl
theorem dksX0_sets_3 : cX0_sets.data.toList.drop 71 = dktX0_sets_3 := dk_seg dksX0_sets_2 23 rfl rfl
theorem dX0_sets_0 : decode cX0_sets 0 = .ok (.aload_n 0, 1) := dk_42 (dk_at dksX0_sets_0 0 rfl rfl)
theorem dX0_sets_1 : decode cX0_sets 1 = .ok (.iload_n 1, 1) := dk_27 (dk_at dksX0_sets_0 1 rfl rfl)
theorem dX0_sets_2 : decode cX0_sets 2 = .ok (.invokevirtual 206, 3) := dk_182 0 206 (dk_at dksX0_sets_0 2 rfl rfl)
theorem dX0_sets_5 : decode cX0_sets 5 = .ok (.ifCond .eq 34, 3) := dk_153 0 34 (dk_at dksX0_sets_0 5 rfl rfl)
theorem dX0_sets_8 : decode cX0_sets 8 = .ok (.iload_n 2, 1) := dk_28 (dk_at dksX0_sets_0 8 rfl rfl)
theorem dX0_sets_9 : decode cX0_sets 9 = .ok (.iconst 0, 1) := dk_3 (dk_at dksX0_sets_0 9 rfl rfl)
theorem dX0_sets_10 : decode cX0_sets 10 = .ok (.iconst 1, 1) := dk_4 (dk_at dksX0_sets_0 10 rfl rfl)
theorem dX0_sets_11 : decode cX0_sets 11 = .ok (.aload_n 0, 1) := dk_42 (dk_at dksX0_sets_0 11 rfl rfl)
theorem dX0_sets_12 : decode cX0_sets 12 = .ok (.getfield 10, 3) := dk_180 0 10 (dk_at dksX0_sets_0 12 rfl rfl)
theorem dX0_sets_15 : decode cX0_sets 15 = .ok (.getfield 100, 3) := dk_180 0 100 (dk_at dksX0_sets_0 15 rfl rfl)
theorem dX0_sets_18 : decode cX0_sets 18 = .ok (.iload_n 1, 1) := dk_27 (dk_at dksX0_sets_0 18 rfl rfl)
theorem dX0_sets_19 : decode cX0_sets 19 = .ok (.invokeinterface 138 2, 5) := by decide +kernel
theorem dX0_sets_24 : decode cX0_sets 24 = .ok (.checkcast 120, 3) := dk_192 0 120 (dk_at dksX0_sets_1 0 rfl rfl)
theorem dX0_sets_27 : decode cX0_sets 27 = .ok (.getfield 148, 3) := dk_180 0 148 (dk_at dksX0_sets_1 3 rfl rfl)
theorem dX0_sets_30 : decode cX0_sets 30 = .ok (.ishl, 1) := dk_120 (dk_at dksX0_sets_1 6 rfl rfl)
theorem dX0_sets_31 : decode cX0_sets 31 = .ok (.iconst 1, 1) := dk_4 (dk_at dksX0_sets_1 7 rfl rfl)
theorem dX0_sets_32 : decode cX0_sets 32 = .ok (.isub, 1) := dk_100 (dk_at dksX0_sets_1 8 rfl rfl)
theorem dX0_sets_33 : decode cX0_sets 33 = .ok (.invokestatic 69, 3) := dk_184 0 69 (dk_at dksX0_sets_1 9 rfl rfl)
theorem dX0_sets_36 : decode cX0_sets 36 = .ok (.ifCond .ne 5, 3) := dk_154 0 5 (dk_at dksX0_sets_1 12 rfl rfl)
theorem dX0_sets_39 : decode cX0_sets 39 = .ok (.iconst (-1), 1) := dk_2 (dk_at dksX0_sets_1 15 rfl rfl)
theorem dX0_sets_40 : decode cX0_sets 40 = .ok (.ireturn, 1) := dk_172 (dk_at dksX0_sets_1 16 rfl rfl)
theorem dX0_sets_41 : decode cX0_sets 41 = .ok (.aload_n 0, 1) := dk_42 (dk_at dksX0_sets_1 17 rfl rfl)
theorem dX0_sets_42 : decode cX0_sets 42 = .ok (.getfield 23, 3) := dk_180 0 23 (dk_at dksX0_sets_1 18 rfl rfl)
theorem dX0_sets_45 : decode cX0_sets 45 = .ok (.getfield 167, 3) := dk_180 0 167 (dk_at dksX0_sets_1 21 rfl rfl)
theorem dX0_sets_48 : decode cX0_sets 48 = .ok (.iload_n 1, 1) := dk_27 (dk_at dksX0_sets_2 0 rfl rfl)
theorem dX0_sets_49 : decode cX0_sets 49 = .ok (.iaload, 1) := dk_46 (dk_at dksX0_sets_2 1 rfl rfl)
theorem dX0_sets_50 : decode cX0_sets 50 = .ok (.iload_n 2, 1) := dk_28 (dk_at dksX0_sets_2 2 rfl rfl)
theorem dX0_sets_51 : decode cX0_sets 51 = .ok (.if_icmp .ne 6, 3) := dk_160 0 6 (dk_at dksX0_sets_2 3 rfl rfl)
theorem dX0_sets_54 : decode cX0_sets 54 = .ok (.bipush (-2), 2) := dk_16 254 (dk_at dksX0_sets_2 6 rfl rfl)
theorem dX0_sets_56 : decode cX0_sets 56 = .ok (.ireturn, 1) := dk_172 (dk_at dksX0_sets_2 8 rfl rfl)
theorem dX0_sets_57 : decode cX0_sets 57 = .ok (.aload_n 0, 1) := dk_42 (dk_at dksX0_sets_2 9 rfl rfl)
theorem dX0_sets_58 : decode cX0_sets 58 = .ok (.invokevirtual 209, 3) := dk_182 0 209 (dk_at dksX0_sets_2 10 rfl rfl)
theorem dX0_sets_61 : decode cX0_sets 61 = .ok (.aload_n 0, 1) := dk_42 (dk_at dksX0_sets_2 13 rfl rfl)
theorem dX0_sets_62 : decode cX0_sets 62 = .ok (.getfield 23, 3) := dk_180 0 23 (dk_at dksX0_sets_2 14 rfl rfl)
theorem dX0_sets_65 : decode cX0_sets 65 = .ok (.iload_n 1, 1) := dk_27 (dk_at dksX0_sets_2 17 rfl rfl)
theorem dX0_sets_66 : decode cX0_sets 66 = .ok (.iload_n 2, 1) := dk_28 (dk_at dksX0_sets_2 18 rfl rfl)
theorem dX0_sets_67 : decode cX0_sets 67 = .ok (.invokevirtual 212, 3) := dk_182 0 212 (dk_at dksX0_sets_2 19 rfl rfl)
theorem dX0_sets_70 : decode cX0_sets 70 = .ok (.aload_n 0, 1) := dk_42 (dk_at dksX0_sets_2 22 rfl rfl)
theorem dX0_sets_71 : decode cX0_sets 71 = .ok (.getfield 23, 3) := dk_180 0 23 (dk_at dksX0_sets_3 0 rfl rfl)
theorem dX0_sets_74 : decode cX0_sets 74 = .ok (.getfield 216, 3) := dk_180 0 216 (dk_at dksX0_sets_3 3 rfl rfl)
theorem dX0_sets_77 : decode cX0_sets 77 = .ok (.ifCond .eq 7, 3) := dk_153 0 7 (dk_at dksX0_sets_3 6 rfl rfl)
theorem dX0_sets_80 : decode cX0_sets 80 = .ok (.iconst 1, 1) := dk_4 (dk_at dksX0_sets_3 9 rfl rfl)
theorem dX0_sets_81 : decode cX0_sets 81 = .ok (.goto 4, 3) := dk_167 0 4 (dk_at dksX0_sets_3 10 rfl rfl)
theorem dX0_sets_84 : decode cX0_sets 84 = .ok (.iconst 0, 1) := dk_3 (dk_at dksX0_sets_3 13 rfl rfl)
theorem dX0_sets_85 : decode cX0_sets 85 = .ok (.ireturn, 1) := dk_172 (dk_at dksX0_sets_3 14 rfl rfl)
abbrev cX0_isWire : ByteArray := prog_1_method_10_code
def yX0_isWire : MethodName := ⟨RX0, "isWire", "(I)Z"⟩
def dkwX0_isWire_1 : List UInt8 := [180, 0, 142, 154, 0, 7, 4, 167, 0, 4, 3, 172]
abbrev dktX0_isWire_1 : List UInt8 := dkwX0_isWire_1 ++ []
def dkwX0_isWire_0 : List UInt8 := [42, 27, 182, 0, 134, 153, 0, 29, 42, 180, 0, 10, 180, 0, 100, 27, 185, 0, 138, 2, 0, 192, 0, 120]
abbrev dktX0_isWire_0 : List UInt8 := dkwX0_isWire_0 ++ dktX0_isWire_1
theorem dksX0_isWire_0 : cX0_isWire.data.toList.drop 0 = dktX0_isWire_0 := by decide +kernel
theorem dksX0_isWire_1 : cX0_isWire.data.toList.drop 24 = dktX0_isWire_1 := dk_seg dksX0_isWire_0 24 rfl rfl
theorem dX0_isWire_0 : decode cX0_isWire 0 = .ok (.aload_n 0, 1) := dk_42 (dk_at dksX0_isWire_0 0 rfl rfl)
theorem dX0_isWire_1 : decode cX0_isWire 1 = .ok (.iload_n 1, 1) := dk_27 (dk_at dksX0_isWire_0 1 rfl rfl)
theorem dX0_isWire_2 : decode cX0_isWire 2 = .ok (.invokevirtual 134, 3) := dk_182 0 134 (dk_at dksX0_isWire_0 2 rfl rfl)
theorem dX0_isWire_5 : decode cX0_isWire 5 = .ok (.ifCond .eq 29, 3) := dk_153 0 29 (dk_at dksX0_isWire_0 5 rfl rfl)
theorem dX0_isWire_8 : decode cX0_isWire 8 = .ok (.aload_n 0, 1) := dk_42 (dk_at dksX0_isWire_0 8 rfl rfl)
theorem dX0_isWire_9 : decode cX0_isWire 9 = .ok (.getfield 10, 3) := dk_180 0 10 (dk_at dksX0_isWire_0 9 rfl rfl)
theorem dX0_isWire_12 : decode cX0_isWire 12 = .ok (.getfield 100, 3) := dk_180 0 100 (dk_at dksX0_isWire_0 12 rfl rfl)
theorem dX0_isWire_15 : decode cX0_isWire 15 = .ok (.iload_n 1, 1) := dk_27 (dk_at dksX0_isWire_0 15 rfl rfl)
theorem dX0_isWire_16 : decode cX0_isWire 16 = .ok (.invokeinterface 138 2, 5) := by decide +kernel
theorem dX0_isWire_21 : decode cX0_isWire 21 = .ok (.checkcast 120, 3) := dk_192 0 120 (dk_at dksX0_isWire_0 21 rfl rfl)
theorem dX0_isWire_24 : decode cX0_isWire 24 = .ok (.getfield 142, 3) := dk_180 0 142 (dk_at dksX0_isWire_1 0 rfl rfl)
theorem dX0_isWire_27 : decode cX0_isWire 27 = .ok (.ifCond .ne 7, 3) := dk_154 0 7 (dk_at dksX0_isWire_1 3 rfl rfl)
theorem dX0_isWire_30 : decode cX0_isWire 30 = .ok (.iconst 1, 1) := dk_4 (dk_at dksX0_isWire_1 6 rfl rfl)
theorem dX0_isWire_31 : decode cX0_isWire 31 = .ok (.goto 4, 3) := dk_167 0 4 (dk_at dksX0_isWire_1 7 rfl rfl)
theorem dX0_isWire_34 : decode cX0_isWire 34 = .ok (.iconst 0, 1) := dk_3 (dk_at dksX0_isWire_1 10 rfl rfl)
theorem dX0_isWire_35 : decode cX0_isWire 35 = .ok (.ireturn, 1) := dk_172 (dk_at dksX0_isWire_1 11 rfl rfl)
abbrev cX0_notes : ByteArray := prog_1_method_4_code
def yX0_notes : MethodName := ⟨RX0, "notes", "()V"⟩
def dkwX0_notes_2 : List UInt8 := [83, 42, 89, 180, 0, 56, 4, 96, 181, 0, 56, 177]
abbrev dktX0_notes_2 : List UInt8 := dkwX0_notes_2 ++ []
def dkwX0_notes_1 : List UInt8 := [89, 180, 0, 56, 4, 100, 181, 0, 56, 42, 180, 0, 27, 42, 180, 0, 56, 42, 180, 0, 23, 182, 0, 66]
abbrev dktX0_notes_1 : List UInt8 := dkwX0_notes_1 ++ dktX0_notes_2
def dkwX0_notes_0 : List UInt8 := [42, 180, 0, 56, 16, 6, 160, 0, 27, 42, 180, 0, 27, 4, 42, 180, 0, 27, 3, 8, 184, 0, 60, 42]
abbrev dktX0_notes_0 : List UInt8 := dkwX0_notes_0 ++ dktX0_notes_1
theorem dksX0_notes_0 : cX0_notes.data.toList.drop 0 = dktX0_notes_0 := by decide +kernel
theorem dksX0_notes_1 : cX0_notes.data.toList.drop 24 = dktX0_notes_1 := dk_seg dksX0_notes_0 24 rfl rfl
theorem dksX0_notes_2 : cX0_notes.data.toList.drop 48 = dktX0_notes_2 := dk_seg dksX0_notes_1 24 rfl rfl
theorem dX0_notes_0 : decode cX0_notes 0 = .ok (.aload_n 0, 1) := dk_42 (dk_at dksX0_notes_0 0 rfl rfl)
theorem dX0_notes_1 : decode cX0_notes 1 = .ok (.getfield 56, 3) := dk_180 0 56 (dk_at dksX0_notes_0 1 rfl rfl)
theorem dX0_notes_4 : decode cX0_notes 4 = .ok (.bipush 6, 2) := dk_16 6 (dk_at dksX0_notes_0 4 rfl rfl)
theorem dX0_notes_6 : decode cX0_notes 6 = .ok (.if_icmp .ne 27, 3) := dk_160 0 27 (dk_at dksX0_notes_0 6 rfl rfl)
theorem dX0_notes_9 : decode cX0_notes 9 = .ok (.aload_n 0, 1) := dk_42 (dk_at dksX0_notes_0 9 rfl rfl)
theorem dX0_notes_10 : decode cX0_notes 10 = .ok (.getfield 27, 3) := dk_180 0 27 (dk_at dksX0_notes_0 10 rfl rfl)
theorem dX0_notes_13 : decode cX0_notes 13 = .ok (.iconst 1, 1) := dk_4 (dk_at dksX0_notes_0 13 rfl rfl)
theorem dX0_notes_14 : decode cX0_notes 14 = .ok (.aload_n 0, 1) := dk_42 (dk_at dksX0_notes_0 14 rfl rfl)
theorem dX0_notes_15 : decode cX0_notes 15 = .ok (.getfield 27, 3) := dk_180 0 27 (dk_at dksX0_notes_0 15 rfl rfl)
theorem dX0_notes_18 : decode cX0_notes 18 = .ok (.iconst 0, 1) := dk_3 (dk_at dksX0_notes_0 18 rfl rfl)
theorem dX0_notes_19 : decode cX0_notes 19 = .ok (.iconst 5, 1) := dk_8 (dk_at dksX0_notes_0 19 rfl rfl)
theorem dX0_notes_20 : decode cX0_notes 20 = .ok (.invokestatic 60, 3) := dk_184 0 60 (dk_at dksX0_notes_0 20 rfl rfl)
theorem dX0_notes_23 : decode cX0_notes 23 = .ok (.aload_n 0, 1) := dk_42 (dk_at dksX0_notes_0 23 rfl rfl)
theorem dX0_notes_24 : decode cX0_notes 24 = .ok (.dup, 1) := dk_89 (dk_at dksX0_notes_1 0 rfl rfl)
theorem dX0_notes_25 : decode cX0_notes 25 = .ok (.getfield 56, 3) := dk_180 0 56 (dk_at dksX0_notes_1 1 rfl rfl)
theorem dX0_notes_28 : decode cX0_notes 28 = .ok (.iconst 1, 1) := dk_4 (dk_at dksX0_notes_1 4 rfl rfl)
theorem dX0_notes_29 : decode cX0_notes 29 = .ok (.isub, 1) := dk_100 (dk_at dksX0_notes_1 5 rfl rfl)
theorem dX0_notes_30 : decode cX0_notes 30 = .ok (.putfield 56, 3) := dk_181 0 56 (dk_at dksX0_notes_1 6 rfl rfl)
theorem dX0_notes_33 : decode cX0_notes 33 = .ok (.aload_n 0, 1) := dk_42 (dk_at dksX0_notes_1 9 rfl rfl)
theorem dX0_notes_34 : decode cX0_notes 34 = .ok (.getfield 27, 3) := dk_180 0 27 (dk_at dksX0_notes_1 10 rfl rfl)
theorem dX0_notes_37 : decode cX0_notes 37 = .ok (.aload_n 0, 1) := dk_42 (dk_at dksX0_notes_1 13 rfl rfl)
theorem dX0_notes_38 : decode cX0_notes 38 = .ok (.getfield 56, 3) := dk_180 0 56 (dk_at dksX0_notes_1 14 rfl rfl)
theorem dX0_notes_41 : decode cX0_notes 41 = .ok (.aload_n 0, 1) := dk_42 (dk_at dksX0_notes_1 17 rfl rfl)
theorem dX0_notes_42 : decode cX0_notes 42 = .ok (.getfield 23, 3) := dk_180 0 23 (dk_at dksX0_notes_1 18 rfl rfl)
theorem dX0_notes_45 : decode cX0_notes 45 = .ok (.invokevirtual 66, 3) := dk_182 0 66 (dk_at dksX0_notes_1 21 rfl rfl)
theorem dX0_notes_48 : decode cX0_notes 48 = .ok (.aastore, 1) := dk_83 (dk_at dksX0_notes_2 0 rfl rfl)
theorem dX0_notes_49 : decode cX0_notes 49 = .ok (.aload_n 0, 1) := dk_42 (dk_at dksX0_notes_2 1 rfl rfl)
theorem dX0_notes_50 : decode cX0_notes 50 = .ok (.dup, 1) := dk_89 (dk_at dksX0_notes_2 2 rfl rfl)
theorem dX0_notes_51 : decode cX0_notes 51 = .ok (.getfield 56, 3) := dk_180 0 56 (dk_at dksX0_notes_2 3 rfl rfl)
theorem dX0_notes_54 : decode cX0_notes 54 = .ok (.iconst 1, 1) := dk_4 (dk_at dksX0_notes_2 6 rfl rfl)
theorem dX0_notes_55 : decode cX0_notes 55 = .ok (.iadd, 1) := dk_96 (dk_at dksX0_notes_2 7 rfl rfl)
theorem dX0_notes_56 : decode cX0_notes 56 = .ok (.putfield 56, 3) := dk_181 0 56 (dk_at dksX0_notes_2 8 rfl rfl)
theorem dX0_notes_59 : decode cX0_notes 59 = .ok (.return_, 1) := dk_177 (dk_at dksX0_notes_2 11 rfl rfl)
abbrev cX0_passes : ByteArray := prog_1_method_17_code
def yX0_passes : MethodName := ⟨RX0, "passes", "(I)I"⟩
def dkwX0_passes_2 : List UInt8 := [180, 0, 23, 180, 0, 145, 172]
abbrev dktX0_passes_2 : List UInt8 := dkwX0_passes_2 ++ []
def dkwX0_passes_1 : List UInt8 := [164, 0, 6, 16, 254, 172, 42, 182, 0, 209, 42, 180, 0, 23, 89, 180, 0, 145, 27, 96, 181, 0, 145, 42]
abbrev dktX0_passes_1 : List UInt8 := dkwX0_passes_1 ++ dktX0_passes_2
def dkwX0_passes_0 : List UInt8 := [27, 4, 16, 99, 184, 0, 69, 154, 0, 5, 2, 172, 42, 180, 0, 23, 180, 0, 145, 27, 96, 17, 3, 231]
abbrev dktX0_passes_0 : List UInt8 := dkwX0_passes_0 ++ dktX0_passes_1
theorem dksX0_passes_0 : cX0_passes.data.toList.drop 0 = dktX0_passes_0 := by decide +kernel
theorem dksX0_passes_1 : cX0_passes.data.toList.drop 24 = dktX0_passes_1 := dk_seg dksX0_passes_0 24 rfl rfl
theorem dksX0_passes_2 : cX0_passes.data.toList.drop 48 = dktX0_passes_2 := dk_seg dksX0_passes_1 24 rfl rfl
theorem dX0_passes_0 : decode cX0_passes 0 = .ok (.iload_n 1, 1) := dk_27 (dk_at dksX0_passes_0 0 rfl rfl)
theorem dX0_passes_1 : decode cX0_passes 1 = .ok (.iconst 1, 1) := dk_4 (dk_at dksX0_passes_0 1 rfl rfl)
theorem dX0_passes_2 : decode cX0_passes 2 = .ok (.bipush 99, 2) := dk_16 99 (dk_at dksX0_passes_0 2 rfl rfl)
theorem dX0_passes_4 : decode cX0_passes 4 = .ok (.invokestatic 69, 3) := dk_184 0 69 (dk_at dksX0_passes_0 4 rfl rfl)
theorem dX0_passes_7 : decode cX0_passes 7 = .ok (.ifCond .ne 5, 3) := dk_154 0 5 (dk_at dksX0_passes_0 7 rfl rfl)
theorem dX0_passes_10 : decode cX0_passes 10 = .ok (.iconst (-1), 1) := dk_2 (dk_at dksX0_passes_0 10 rfl rfl)
theorem dX0_passes_11 : decode cX0_passes 11 = .ok (.ireturn, 1) := dk_172 (dk_at dksX0_passes_0 11 rfl rfl)
theorem dX0_passes_12 : decode cX0_passes 12 = .ok (.aload_n 0, 1) := dk_42 (dk_at dksX0_passes_0 12 rfl rfl)
theorem dX0_passes_13 : decode cX0_passes 13 = .ok (.getfield 23, 3) := dk_180 0 23 (dk_at dksX0_passes_0 13 rfl rfl)
theorem dX0_passes_16 : decode cX0_passes 16 = .ok (.getfield 145, 3) := dk_180 0 145 (dk_at dksX0_passes_0 16 rfl rfl)
theorem dX0_passes_19 : decode cX0_passes 19 = .ok (.iload_n 1, 1) := dk_27 (dk_at dksX0_passes_0 19 rfl rfl)
theorem dX0_passes_20 : decode cX0_passes 20 = .ok (.iadd, 1) := dk_96 (dk_at dksX0_passes_0 20 rfl rfl)
theorem dX0_passes_21 : decode cX0_passes 21 = .ok (.sipush 999, 3) := dk_17 3 231 (dk_at dksX0_passes_0 21 rfl rfl)
theorem dX0_passes_24 : decode cX0_passes 24 = .ok (.if_icmp .le 6, 3) := dk_164 0 6 (dk_at dksX0_passes_1 0 rfl rfl)
theorem dX0_passes_27 : decode cX0_passes 27 = .ok (.bipush (-2), 2) := dk_16 254 (dk_at dksX0_passes_1 3 rfl rfl)
theorem dX0_passes_29 : decode cX0_passes 29 = .ok (.ireturn, 1) := dk_172 (dk_at dksX0_passes_1 5 rfl rfl)
theorem dX0_passes_30 : decode cX0_passes 30 = .ok (.aload_n 0, 1) := dk_42 (dk_at dksX0_passes_1 6 rfl rfl)
theorem dX0_passes_31 : decode cX0_passes 31 = .ok (.invokevirtual 209, 3) := dk_182 0 209 (dk_at dksX0_passes_1 7 rfl rfl)
theorem dX0_passes_34 : decode cX0_passes 34 = .ok (.aload_n 0, 1) := dk_42 (dk_at dksX0_passes_1 10 rfl rfl)
theorem dX0_passes_35 : decode cX0_passes 35 = .ok (.getfield 23, 3) := dk_180 0 23 (dk_at dksX0_passes_1 11 rfl rfl)
theorem dX0_passes_38 : decode cX0_passes 38 = .ok (.dup, 1) := dk_89 (dk_at dksX0_passes_1 14 rfl rfl)
theorem dX0_passes_39 : decode cX0_passes 39 = .ok (.getfield 145, 3) := dk_180 0 145 (dk_at dksX0_passes_1 15 rfl rfl)
theorem dX0_passes_42 : decode cX0_passes 42 = .ok (.iload_n 1, 1) := dk_27 (dk_at dksX0_passes_1 18 rfl rfl)
theorem dX0_passes_43 : decode cX0_passes 43 = .ok (.iadd, 1) := dk_96 (dk_at dksX0_passes_1 19 rfl rfl)
theorem dX0_passes_44 : decode cX0_passes 44 = .ok (.putfield 145, 3) := dk_181 0 145 (dk_at dksX0_passes_1 20 rfl rfl)
theorem dX0_passes_47 : decode cX0_passes 47 = .ok (.aload_n 0, 1) := dk_42 (dk_at dksX0_passes_1 23 rfl rfl)
theorem dX0_passes_48 : decode cX0_passes 48 = .ok (.getfield 23, 3) := dk_180 0 23 (dk_at dksX0_passes_2 0 rfl rfl)
theorem dX0_passes_51 : decode cX0_passes 51 = .ok (.getfield 145, 3) := dk_180 0 145 (dk_at dksX0_passes_2 3 rfl rfl)
theorem dX0_passes_54 : decode cX0_passes 54 = .ok (.ireturn, 1) := dk_172 (dk_at dksX0_passes_2 6 rfl rfl)
abbrev cX0_dumps : ByteArray := prog_1_method_18_code
def yX0_dumps : MethodName := ⟨RX0, "dumps", "(I)I"⟩
def dkwX0_dumps_3 : List UInt8 := [180, 0, 23, 180, 0, 223, 182, 0, 227, 172]
abbrev dktX0_dumps_3 : List UInt8 := dkwX0_dumps_3 ++ []
def dkwX0_dumps_2 : List UInt8 := [181, 0, 216, 42, 180, 0, 23, 182, 0, 19, 87, 167, 0, 10, 42, 180, 0, 23, 182, 0, 220, 42]
abbrev dktX0_dumps_2 : List UInt8 := dkwX0_dumps_2 ++ dktX0_dumps_3
def dkwX0_dumps_1 : List UInt8 := [167, 0, 4, 3, 160, 0, 6, 16, 254, 172, 42, 182, 0, 209, 27, 4, 160, 0, 22, 42, 180, 0, 23, 4]
abbrev dktX0_dumps_1 : List UInt8 := dkwX0_dumps_1 ++ dktX0_dumps_2
def dkwX0_dumps_0 : List UInt8 := [27, 3, 4, 184, 0, 69, 154, 0, 5, 2, 172, 42, 180, 0, 23, 180, 0, 216, 27, 4, 160, 0, 7, 4]
abbrev dktX0_dumps_0 : List UInt8 := dkwX0_dumps_0 ++ dktX0_dumps_1
theorem dksX0_dumps_0 : cX0_dumps.data.toList.drop 0 = dktX0_dumps_0 := by decide +kernel
theorem dksX0_dumps_1 : cX0_dumps.data.toList.drop 24 = dktX0_dumps_1 := dk_seg dksX0_dumps_0 24 rfl rfl
theorem dksX0_dumps_2 : cX0_dumps.data.toList.drop 48 = dktX0_dumps_2 := dk_seg dksX0_dumps_1 24 rfl rfl
theorem dksX0_dumps_3 : cX0_dumps.data.toList.drop 70 = dktX0_dumps_3 := dk_seg dksX0_dumps_2 22 rfl rfl
theorem dX0_dumps_0 : decode cX0_dumps 0 = .ok (.iload_n 1, 1) := dk_27 (dk_at dksX0_dumps_0 0 rfl rfl)
theorem dX0_dumps_1 : decode cX0_dumps 1 = .ok (.iconst 0, 1) := dk_3 (dk_at dksX0_dumps_0 1 rfl rfl)
theorem dX0_dumps_2 : decode cX0_dumps 2 = .ok (.iconst 1, 1) := dk_4 (dk_at dksX0_dumps_0 2 rfl rfl)
theorem dX0_dumps_3 : decode cX0_dumps 3 = .ok (.invokestatic 69, 3) := dk_184 0 69 (dk_at dksX0_dumps_0 3 rfl rfl)
theorem dX0_dumps_6 : decode cX0_dumps 6 = .ok (.ifCond .ne 5, 3) := dk_154 0 5 (dk_at dksX0_dumps_0 6 rfl rfl)
theorem dX0_dumps_9 : decode cX0_dumps 9 = .ok (.iconst (-1), 1) := dk_2 (dk_at dksX0_dumps_0 9 rfl rfl)
theorem dX0_dumps_10 : decode cX0_dumps 10 = .ok (.ireturn, 1) := dk_172 (dk_at dksX0_dumps_0 10 rfl rfl)
theorem dX0_dumps_11 : decode cX0_dumps 11 = .ok (.aload_n 0, 1) := dk_42 (dk_at dksX0_dumps_0 11 rfl rfl)
theorem dX0_dumps_12 : decode cX0_dumps 12 = .ok (.getfield 23, 3) := dk_180 0 23 (dk_at dksX0_dumps_0 12 rfl rfl)
theorem dX0_dumps_15 : decode cX0_dumps 15 = .ok (.getfield 216, 3) := dk_180 0 216 (dk_at dksX0_dumps_0 15 rfl rfl)
theorem dX0_dumps_18 : decode cX0_dumps 18 = .ok (.iload_n 1, 1) := dk_27 (dk_at dksX0_dumps_0 18 rfl rfl)
theorem dX0_dumps_19 : decode cX0_dumps 19 = .ok (.iconst 1, 1) := dk_4 (dk_at dksX0_dumps_0 19 rfl rfl)
theorem dX0_dumps_20 : decode cX0_dumps 20 = .ok (.if_icmp .ne 7, 3) := dk_160 0 7 (dk_at dksX0_dumps_0 20 rfl rfl)
theorem dX0_dumps_23 : decode cX0_dumps 23 = .ok (.iconst 1, 1) := dk_4 (dk_at dksX0_dumps_0 23 rfl rfl)
theorem dX0_dumps_24 : decode cX0_dumps 24 = .ok (.goto 4, 3) := dk_167 0 4 (dk_at dksX0_dumps_1 0 rfl rfl)
theorem dX0_dumps_27 : decode cX0_dumps 27 = .ok (.iconst 0, 1) := dk_3 (dk_at dksX0_dumps_1 3 rfl rfl)
theorem dX0_dumps_28 : decode cX0_dumps 28 = .ok (.if_icmp .ne 6, 3) := dk_160 0 6 (dk_at dksX0_dumps_1 4 rfl rfl)
theorem dX0_dumps_31 : decode cX0_dumps 31 = .ok (.bipush (-2), 2) := dk_16 254 (dk_at dksX0_dumps_1 7 rfl rfl)
theorem dX0_dumps_33 : decode cX0_dumps 33 = .ok (.ireturn, 1) := dk_172 (dk_at dksX0_dumps_1 9 rfl rfl)
theorem dX0_dumps_34 : decode cX0_dumps 34 = .ok (.aload_n 0, 1) := dk_42 (dk_at dksX0_dumps_1 10 rfl rfl)
theorem dX0_dumps_35 : decode cX0_dumps 35 = .ok (.invokevirtual 209, 3) := dk_182 0 209 (dk_at dksX0_dumps_1 11 rfl rfl)
theorem dX0_dumps_38 : decode cX0_dumps 38 = .ok (.iload_n 1, 1) := dk_27 (dk_at dksX0_dumps_1 14 rfl rfl)
theorem dX0_dumps_39 : decode cX0_dumps 39 = .ok (.iconst 1, 1) := dk_4 (dk_at dksX0_dumps_1 15 rfl rfl)
theorem dX0_dumps_40 : decode cX0_dumps 40 = .ok (.if_icmp .ne 22, 3) := dk_160 0 22 (dk_at dksX0_dumps_1 16 rfl rfl)
theorem dX0_dumps_43 : decode cX0_dumps 43 = .ok (.aload_n 0, 1) := dk_42 (dk_at dksX0_dumps_1 19 rfl rfl)
theorem dX0_dumps_44 : decode cX0_dumps 44 = .ok (.getfield 23, 3) := dk_180 0 23 (dk_at dksX0_dumps_1 20 rfl rfl)
theorem dX0_dumps_47 : decode cX0_dumps 47 = .ok (.iconst 1, 1) := dk_4 (dk_at dksX0_dumps_1 23 rfl rfl)
theorem dX0_dumps_48 : decode cX0_dumps 48 = .ok (.putfield 216, 3) := dk_181 0 216 (dk_at dksX0_dumps_2 0 rfl rfl)
theorem dX0_dumps_51 : decode cX0_dumps 51 = .ok (.aload_n 0, 1) := dk_42 (dk_at dksX0_dumps_2 3 rfl rfl)
theorem dX0_dumps_52 : decode cX0_dumps 52 = .ok (.getfield 23, 3) := dk_180 0 23 (dk_at dksX0_dumps_2 4 rfl rfl)
theorem dX0_dumps_55 : decode cX0_dumps 55 = .ok (.invokevirtual 19, 3) := dk_182 0 19 (dk_at dksX0_dumps_2 7 rfl rfl)
theorem dX0_dumps_58 : decode cX0_dumps 58 = .ok (.pop, 1) := dk_87 (dk_at dksX0_dumps_2 10 rfl rfl)
theorem dX0_dumps_59 : decode cX0_dumps 59 = .ok (.goto 10, 3) := dk_167 0 10 (dk_at dksX0_dumps_2 11 rfl rfl)
theorem dX0_dumps_62 : decode cX0_dumps 62 = .ok (.aload_n 0, 1) := dk_42 (dk_at dksX0_dumps_2 14 rfl rfl)
theorem dX0_dumps_63 : decode cX0_dumps 63 = .ok (.getfield 23, 3) := dk_180 0 23 (dk_at dksX0_dumps_2 15 rfl rfl)
theorem dX0_dumps_66 : decode cX0_dumps 66 = .ok (.invokevirtual 220, 3) := dk_182 0 220 (dk_at dksX0_dumps_2 18 rfl rfl)
theorem dX0_dumps_69 : decode cX0_dumps 69 = .ok (.aload_n 0, 1) := dk_42 (dk_at dksX0_dumps_2 21 rfl rfl)
theorem dX0_dumps_70 : decode cX0_dumps 70 = .ok (.getfield 23, 3) := dk_180 0 23 (dk_at dksX0_dumps_3 0 rfl rfl)
theorem dX0_dumps_73 : decode cX0_dumps 73 = .ok (.getfield 223, 3) := dk_180 0 223 (dk_at dksX0_dumps_3 3 rfl rfl)
theorem dX0_dumps_76 : decode cX0_dumps 76 = .ok (.invokevirtual 227, 3) := dk_182 0 227 (dk_at dksX0_dumps_3 6 rfl rfl)
theorem dX0_dumps_79 : decode cX0_dumps 79 = .ok (.ireturn, 1) := dk_172 (dk_at dksX0_dumps_3 9 rfl rfl)
abbrev cX0_sizes : ByteArray := prog_1_method_19_code
def yX0_sizes : MethodName := ⟨RX0, "sizes", "(I)I"⟩
def dkwX0_sizes_2 : List UInt8 := [172]
abbrev dktX0_sizes_2 : List UInt8 := dkwX0_sizes_2 ++ []
def dkwX0_sizes_1 : List UInt8 := [16, 254, 172, 42, 182, 0, 209, 42, 180, 0, 23, 180, 0, 230, 61, 42, 180, 0, 23, 27, 181, 0, 230, 28]
abbrev dktX0_sizes_1 : List UInt8 := dkwX0_sizes_1 ++ dktX0_sizes_2
def dkwX0_sizes_0 : List UInt8 := [27, 4, 16, 8, 184, 0, 69, 154, 0, 5, 2, 172, 42, 180, 0, 23, 180, 0, 230, 27, 160, 0, 6]
abbrev dktX0_sizes_0 : List UInt8 := dkwX0_sizes_0 ++ dktX0_sizes_1
theorem dksX0_sizes_0 : cX0_sizes.data.toList.drop 0 = dktX0_sizes_0 := by decide +kernel
theorem dksX0_sizes_1 : cX0_sizes.data.toList.drop 23 = dktX0_sizes_1 := dk_seg dksX0_sizes_0 23 rfl rfl
theorem dksX0_sizes_2 : cX0_sizes.data.toList.drop 47 = dktX0_sizes_2 := dk_seg dksX0_sizes_1 24 rfl rfl
theorem dX0_sizes_0 : decode cX0_sizes 0 = .ok (.iload_n 1, 1) := dk_27 (dk_at dksX0_sizes_0 0 rfl rfl)
theorem dX0_sizes_1 : decode cX0_sizes 1 = .ok (.iconst 1, 1) := dk_4 (dk_at dksX0_sizes_0 1 rfl rfl)
theorem dX0_sizes_2 : decode cX0_sizes 2 = .ok (.bipush 8, 2) := dk_16 8 (dk_at dksX0_sizes_0 2 rfl rfl)
theorem dX0_sizes_4 : decode cX0_sizes 4 = .ok (.invokestatic 69, 3) := dk_184 0 69 (dk_at dksX0_sizes_0 4 rfl rfl)
theorem dX0_sizes_7 : decode cX0_sizes 7 = .ok (.ifCond .ne 5, 3) := dk_154 0 5 (dk_at dksX0_sizes_0 7 rfl rfl)
theorem dX0_sizes_10 : decode cX0_sizes 10 = .ok (.iconst (-1), 1) := dk_2 (dk_at dksX0_sizes_0 10 rfl rfl)
theorem dX0_sizes_11 : decode cX0_sizes 11 = .ok (.ireturn, 1) := dk_172 (dk_at dksX0_sizes_0 11 rfl rfl)
theorem dX0_sizes_12 : decode cX0_sizes 12 = .ok (.aload_n 0, 1) := dk_42 (dk_at dksX0_sizes_0 12 rfl rfl)
theorem dX0_sizes_13 : decode cX0_sizes 13 = .ok (.getfield 23, 3) := dk_180 0 23 (dk_at dksX0_sizes_0 13 rfl rfl)
theorem dX0_sizes_16 : decode cX0_sizes 16 = .ok (.getfield 230, 3) := dk_180 0 230 (dk_at dksX0_sizes_0 16 rfl rfl)
theorem dX0_sizes_19 : decode cX0_sizes 19 = .ok (.iload_n 1, 1) := dk_27 (dk_at dksX0_sizes_0 19 rfl rfl)
theorem dX0_sizes_20 : decode cX0_sizes 20 = .ok (.if_icmp .ne 6, 3) := dk_160 0 6 (dk_at dksX0_sizes_0 20 rfl rfl)
theorem dX0_sizes_23 : decode cX0_sizes 23 = .ok (.bipush (-2), 2) := dk_16 254 (dk_at dksX0_sizes_1 0 rfl rfl)
theorem dX0_sizes_25 : decode cX0_sizes 25 = .ok (.ireturn, 1) := dk_172 (dk_at dksX0_sizes_1 2 rfl rfl)
theorem dX0_sizes_26 : decode cX0_sizes 26 = .ok (.aload_n 0, 1) := dk_42 (dk_at dksX0_sizes_1 3 rfl rfl)
theorem dX0_sizes_27 : decode cX0_sizes 27 = .ok (.invokevirtual 209, 3) := dk_182 0 209 (dk_at dksX0_sizes_1 4 rfl rfl)
theorem dX0_sizes_30 : decode cX0_sizes 30 = .ok (.aload_n 0, 1) := dk_42 (dk_at dksX0_sizes_1 7 rfl rfl)
theorem dX0_sizes_31 : decode cX0_sizes 31 = .ok (.getfield 23, 3) := dk_180 0 23 (dk_at dksX0_sizes_1 8 rfl rfl)
theorem dX0_sizes_34 : decode cX0_sizes 34 = .ok (.getfield 230, 3) := dk_180 0 230 (dk_at dksX0_sizes_1 11 rfl rfl)
theorem dX0_sizes_37 : decode cX0_sizes 37 = .ok (.istore_n 2, 1) := dk_61 (dk_at dksX0_sizes_1 14 rfl rfl)
theorem dX0_sizes_38 : decode cX0_sizes 38 = .ok (.aload_n 0, 1) := dk_42 (dk_at dksX0_sizes_1 15 rfl rfl)
theorem dX0_sizes_39 : decode cX0_sizes 39 = .ok (.getfield 23, 3) := dk_180 0 23 (dk_at dksX0_sizes_1 16 rfl rfl)
theorem dX0_sizes_42 : decode cX0_sizes 42 = .ok (.iload_n 1, 1) := dk_27 (dk_at dksX0_sizes_1 19 rfl rfl)
theorem dX0_sizes_43 : decode cX0_sizes 43 = .ok (.putfield 230, 3) := dk_181 0 230 (dk_at dksX0_sizes_1 20 rfl rfl)
theorem dX0_sizes_46 : decode cX0_sizes 46 = .ok (.iload_n 2, 1) := dk_28 (dk_at dksX0_sizes_1 23 rfl rfl)
theorem dX0_sizes_47 : decode cX0_sizes 47 = .ok (.ireturn, 1) := dk_172 (dk_at dksX0_sizes_2 0 rfl rfl)
abbrev cX0_undo : ByteArray := prog_1_method_20_code
def yX0_undo : MethodName := ⟨RX0, "undo", "()I"⟩
def dkwX0_undo_1 : List UInt8 := [180, 0, 27, 42, 180, 0, 56, 50, 181, 0, 23, 42, 180, 0, 56, 172]
abbrev dktX0_undo_1 : List UInt8 := dkwX0_undo_1 ++ []
def dkwX0_undo_0 : List UInt8 := [42, 180, 0, 56, 154, 0, 6, 16, 254, 172, 42, 89, 180, 0, 56, 4, 100, 181, 0, 56, 42, 42]
abbrev dktX0_undo_0 : List UInt8 := dkwX0_undo_0 ++ dktX0_undo_1
theorem dksX0_undo_0 : cX0_undo.data.toList.drop 0 = dktX0_undo_0 := by decide +kernel
theorem dksX0_undo_1 : cX0_undo.data.toList.drop 22 = dktX0_undo_1 := dk_seg dksX0_undo_0 22 rfl rfl
theorem dX0_undo_0 : decode cX0_undo 0 = .ok (.aload_n 0, 1) := dk_42 (dk_at dksX0_undo_0 0 rfl rfl)
theorem dX0_undo_1 : decode cX0_undo 1 = .ok (.getfield 56, 3) := dk_180 0 56 (dk_at dksX0_undo_0 1 rfl rfl)
theorem dX0_undo_4 : decode cX0_undo 4 = .ok (.ifCond .ne 6, 3) := dk_154 0 6 (dk_at dksX0_undo_0 4 rfl rfl)
theorem dX0_undo_7 : decode cX0_undo 7 = .ok (.bipush (-2), 2) := dk_16 254 (dk_at dksX0_undo_0 7 rfl rfl)
theorem dX0_undo_9 : decode cX0_undo 9 = .ok (.ireturn, 1) := dk_172 (dk_at dksX0_undo_0 9 rfl rfl)
theorem dX0_undo_10 : decode cX0_undo 10 = .ok (.aload_n 0, 1) := dk_42 (dk_at dksX0_undo_0 10 rfl rfl)
theorem dX0_undo_11 : decode cX0_undo 11 = .ok (.dup, 1) := dk_89 (dk_at dksX0_undo_0 11 rfl rfl)
theorem dX0_undo_12 : decode cX0_undo 12 = .ok (.getfield 56, 3) := dk_180 0 56 (dk_at dksX0_undo_0 12 rfl rfl)
theorem dX0_undo_15 : decode cX0_undo 15 = .ok (.iconst 1, 1) := dk_4 (dk_at dksX0_undo_0 15 rfl rfl)
theorem dX0_undo_16 : decode cX0_undo 16 = .ok (.isub, 1) := dk_100 (dk_at dksX0_undo_0 16 rfl rfl)
theorem dX0_undo_17 : decode cX0_undo 17 = .ok (.putfield 56, 3) := dk_181 0 56 (dk_at dksX0_undo_0 17 rfl rfl)
theorem dX0_undo_20 : decode cX0_undo 20 = .ok (.aload_n 0, 1) := dk_42 (dk_at dksX0_undo_0 20 rfl rfl)
theorem dX0_undo_21 : decode cX0_undo 21 = .ok (.aload_n 0, 1) := dk_42 (dk_at dksX0_undo_0 21 rfl rfl)
theorem dX0_undo_22 : decode cX0_undo 22 = .ok (.getfield 27, 3) := dk_180 0 27 (dk_at dksX0_undo_1 0 rfl rfl)
theorem dX0_undo_25 : decode cX0_undo 25 = .ok (.aload_n 0, 1) := dk_42 (dk_at dksX0_undo_1 3 rfl rfl)
theorem dX0_undo_26 : decode cX0_undo 26 = .ok (.getfield 56, 3) := dk_180 0 56 (dk_at dksX0_undo_1 4 rfl rfl)
theorem dX0_undo_29 : decode cX0_undo 29 = .ok (.aaload, 1) := dk_50 (dk_at dksX0_undo_1 7 rfl rfl)
theorem dX0_undo_30 : decode cX0_undo 30 = .ok (.putfield 23, 3) := dk_181 0 23 (dk_at dksX0_undo_1 8 rfl rfl)
theorem dX0_undo_33 : decode cX0_undo 33 = .ok (.aload_n 0, 1) := dk_42 (dk_at dksX0_undo_1 11 rfl rfl)
theorem dX0_undo_34 : decode cX0_undo 34 = .ok (.getfield 56, 3) := dk_180 0 56 (dk_at dksX0_undo_1 12 rfl rfl)
theorem dX0_undo_37 : decode cX0_undo 37 = .ok (.ireturn, 1) := dk_172 (dk_at dksX0_undo_1 15 rfl rfl)
abbrev cX0_at : ByteArray := prog_1_method_24_code
def yX0_at : MethodName := ⟨RX0, "at", "(II)I"⟩
def dkwX0_at_1 : List UInt8 := [167, 0, 4, 2, 172]
abbrev dktX0_at_1 : List UInt8 := dkwX0_at_1 ++ []
def dkwX0_at_0 : List UInt8 := [42, 27, 182, 0, 134, 153, 0, 21, 42, 28, 182, 1, 0, 153, 0, 13, 42, 28, 182, 0, 252, 27, 46]
abbrev dktX0_at_0 : List UInt8 := dkwX0_at_0 ++ dktX0_at_1
theorem dksX0_at_0 : cX0_at.data.toList.drop 0 = dktX0_at_0 := by decide +kernel
theorem dksX0_at_1 : cX0_at.data.toList.drop 23 = dktX0_at_1 := dk_seg dksX0_at_0 23 rfl rfl
theorem dX0_at_0 : decode cX0_at 0 = .ok (.aload_n 0, 1) := dk_42 (dk_at dksX0_at_0 0 rfl rfl)
theorem dX0_at_1 : decode cX0_at 1 = .ok (.iload_n 1, 1) := dk_27 (dk_at dksX0_at_0 1 rfl rfl)
theorem dX0_at_2 : decode cX0_at 2 = .ok (.invokevirtual 134, 3) := dk_182 0 134 (dk_at dksX0_at_0 2 rfl rfl)
theorem dX0_at_5 : decode cX0_at 5 = .ok (.ifCond .eq 21, 3) := dk_153 0 21 (dk_at dksX0_at_0 5 rfl rfl)
theorem dX0_at_8 : decode cX0_at 8 = .ok (.aload_n 0, 1) := dk_42 (dk_at dksX0_at_0 8 rfl rfl)
theorem dX0_at_9 : decode cX0_at 9 = .ok (.iload_n 2, 1) := dk_28 (dk_at dksX0_at_0 9 rfl rfl)
theorem dX0_at_10 : decode cX0_at 10 = .ok (.invokevirtual 256, 3) := dk_182 1 0 (dk_at dksX0_at_0 10 rfl rfl)
theorem dX0_at_13 : decode cX0_at 13 = .ok (.ifCond .eq 13, 3) := dk_153 0 13 (dk_at dksX0_at_0 13 rfl rfl)
theorem dX0_at_16 : decode cX0_at 16 = .ok (.aload_n 0, 1) := dk_42 (dk_at dksX0_at_0 16 rfl rfl)
theorem dX0_at_17 : decode cX0_at 17 = .ok (.iload_n 2, 1) := dk_28 (dk_at dksX0_at_0 17 rfl rfl)
theorem dX0_at_18 : decode cX0_at 18 = .ok (.invokevirtual 252, 3) := dk_182 0 252 (dk_at dksX0_at_0 18 rfl rfl)
theorem dX0_at_21 : decode cX0_at 21 = .ok (.iload_n 1, 1) := dk_27 (dk_at dksX0_at_0 21 rfl rfl)
theorem dX0_at_22 : decode cX0_at 22 = .ok (.iaload, 1) := dk_46 (dk_at dksX0_at_0 22 rfl rfl)
theorem dX0_at_23 : decode cX0_at 23 = .ok (.goto 4, 3) := dk_167 0 4 (dk_at dksX0_at_1 0 rfl rfl)
theorem dX0_at_26 : decode cX0_at 26 = .ok (.iconst (-1), 1) := dk_2 (dk_at dksX0_at_1 3 rfl rfl)
theorem dX0_at_27 : decode cX0_at 27 = .ok (.ireturn, 1) := dk_172 (dk_at dksX0_at_1 4 rfl rfl)
abbrev cX0_isTime : ByteArray := prog_1_method_11_code
def yX0_isTime : MethodName := ⟨RX0, "isTime", "(I)Z"⟩
def dkwX0_isTime_0 : List UInt8 := [27, 3, 42, 180, 0, 23, 180, 0, 145, 184, 0, 69, 172]
abbrev dktX0_isTime_0 : List UInt8 := dkwX0_isTime_0 ++ []
theorem dksX0_isTime_0 : cX0_isTime.data.toList.drop 0 = dktX0_isTime_0 := by decide +kernel
theorem dX0_isTime_0 : decode cX0_isTime 0 = .ok (.iload_n 1, 1) := dk_27 (dk_at dksX0_isTime_0 0 rfl rfl)
theorem dX0_isTime_1 : decode cX0_isTime 1 = .ok (.iconst 0, 1) := dk_3 (dk_at dksX0_isTime_0 1 rfl rfl)
theorem dX0_isTime_2 : decode cX0_isTime 2 = .ok (.aload_n 0, 1) := dk_42 (dk_at dksX0_isTime_0 2 rfl rfl)
theorem dX0_isTime_3 : decode cX0_isTime 3 = .ok (.getfield 23, 3) := dk_180 0 23 (dk_at dksX0_isTime_0 3 rfl rfl)
theorem dX0_isTime_6 : decode cX0_isTime 6 = .ok (.getfield 145, 3) := dk_180 0 145 (dk_at dksX0_isTime_0 6 rfl rfl)
theorem dX0_isTime_9 : decode cX0_isTime 9 = .ok (.invokestatic 69, 3) := dk_184 0 69 (dk_at dksX0_isTime_0 9 rfl rfl)
theorem dX0_isTime_12 : decode cX0_isTime 12 = .ok (.ireturn, 1) := dk_172 (dk_at dksX0_isTime_0 12 rfl rfl)
abbrev cX0_rowAt : ByteArray := prog_1_method_21_code
def yX0_rowAt : MethodName := ⟨RX0, "rowAt", "(I)[I"⟩
def dkwX0_rowAt_5 : List UInt8 := [132, 3, 1, 167, 255, 184, 42, 180, 0, 10, 42, 180, 0, 45, 182, 0, 172, 42, 180, 0, 45, 176]
abbrev dktX0_rowAt_5 : List UInt8 := dkwX0_rowAt_5 ++ []
def dkwX0_rowAt_4 : List UInt8 := [27, 163, 0, 11, 25, 4, 180, 0, 249, 167, 0, 13, 42, 180, 0, 45, 25, 4, 180, 0, 245, 46, 79]
abbrev dktX0_rowAt_4 : List UInt8 := dkwX0_rowAt_4 ++ dktX0_rowAt_5
def dkwX0_rowAt_3 : List UInt8 := [185, 0, 138, 2, 0, 192, 0, 243, 58, 4, 42, 180, 0, 45, 25, 4, 180, 0, 245, 25, 4, 180, 0, 248]
abbrev dktX0_rowAt_3 : List UInt8 := dkwX0_rowAt_3 ++ dktX0_rowAt_4
def dkwX0_rowAt_2 : List UInt8 := [198, 0, 74, 29, 44, 180, 0, 241, 185, 0, 130, 1, 0, 162, 0, 61, 44, 180, 0, 241, 29]
abbrev dktX0_rowAt_2 : List UInt8 := dkwX0_rowAt_2 ++ dktX0_rowAt_3
def dkwX0_rowAt_1 : List UInt8 := [199, 0, 8, 16, 249, 167, 0, 9, 44, 180, 0, 236, 29, 46, 79, 132, 3, 1, 167, 255, 226, 3, 62, 44]
abbrev dktX0_rowAt_1 : List UInt8 := dkwX0_rowAt_1 ++ dktX0_rowAt_2
def dkwX0_rowAt_0 : List UInt8 := [42, 180, 0, 23, 27, 182, 0, 232, 77, 3, 62, 29, 16, 12, 162, 0, 30, 42, 180, 0, 45, 29, 44]
abbrev dktX0_rowAt_0 : List UInt8 := dkwX0_rowAt_0 ++ dktX0_rowAt_1
theorem dksX0_rowAt_0 : cX0_rowAt.data.toList.drop 0 = dktX0_rowAt_0 := by decide +kernel
theorem dksX0_rowAt_1 : cX0_rowAt.data.toList.drop 23 = dktX0_rowAt_1 := dk_seg dksX0_rowAt_0 23 rfl rfl
theorem dksX0_rowAt_2 : cX0_rowAt.data.toList.drop 47 = dktX0_rowAt_2 := dk_seg dksX0_rowAt_1 24 rfl rfl
theorem dksX0_rowAt_3 : cX0_rowAt.data.toList.drop 68 = dktX0_rowAt_3 := dk_seg dksX0_rowAt_2 21 rfl rfl
theorem dksX0_rowAt_4 : cX0_rowAt.data.toList.drop 92 = dktX0_rowAt_4 := dk_seg dksX0_rowAt_3 24 rfl rfl
theorem dksX0_rowAt_5 : cX0_rowAt.data.toList.drop 115 = dktX0_rowAt_5 := dk_seg dksX0_rowAt_4 23 rfl rfl
theorem dX0_rowAt_0 : decode cX0_rowAt 0 = .ok (.aload_n 0, 1) := dk_42 (dk_at dksX0_rowAt_0 0 rfl rfl)
theorem dX0_rowAt_1 : decode cX0_rowAt 1 = .ok (.getfield 23, 3) := dk_180 0 23 (dk_at dksX0_rowAt_0 1 rfl rfl)
theorem dX0_rowAt_4 : decode cX0_rowAt 4 = .ok (.iload_n 1, 1) := dk_27 (dk_at dksX0_rowAt_0 4 rfl rfl)
theorem dX0_rowAt_5 : decode cX0_rowAt 5 = .ok (.invokevirtual 232, 3) := dk_182 0 232 (dk_at dksX0_rowAt_0 5 rfl rfl)
theorem dX0_rowAt_8 : decode cX0_rowAt 8 = .ok (.astore_n 2, 1) := dk_77 (dk_at dksX0_rowAt_0 8 rfl rfl)
theorem dX0_rowAt_9 : decode cX0_rowAt 9 = .ok (.iconst 0, 1) := dk_3 (dk_at dksX0_rowAt_0 9 rfl rfl)
theorem dX0_rowAt_10 : decode cX0_rowAt 10 = .ok (.istore_n 3, 1) := dk_62 (dk_at dksX0_rowAt_0 10 rfl rfl)
theorem dX0_rowAt_11 : decode cX0_rowAt 11 = .ok (.iload_n 3, 1) := dk_29 (dk_at dksX0_rowAt_0 11 rfl rfl)
theorem dX0_rowAt_12 : decode cX0_rowAt 12 = .ok (.bipush 12, 2) := dk_16 12 (dk_at dksX0_rowAt_0 12 rfl rfl)
theorem dX0_rowAt_14 : decode cX0_rowAt 14 = .ok (.if_icmp .ge 30, 3) := dk_162 0 30 (dk_at dksX0_rowAt_0 14 rfl rfl)
theorem dX0_rowAt_17 : decode cX0_rowAt 17 = .ok (.aload_n 0, 1) := dk_42 (dk_at dksX0_rowAt_0 17 rfl rfl)
theorem dX0_rowAt_18 : decode cX0_rowAt 18 = .ok (.getfield 45, 3) := dk_180 0 45 (dk_at dksX0_rowAt_0 18 rfl rfl)
theorem dX0_rowAt_21 : decode cX0_rowAt 21 = .ok (.iload_n 3, 1) := dk_29 (dk_at dksX0_rowAt_0 21 rfl rfl)
theorem dX0_rowAt_22 : decode cX0_rowAt 22 = .ok (.aload_n 2, 1) := dk_44 (dk_at dksX0_rowAt_0 22 rfl rfl)
theorem dX0_rowAt_23 : decode cX0_rowAt 23 = .ok (.ifnonnull 8, 3) := dk_199 0 8 (dk_at dksX0_rowAt_1 0 rfl rfl)
theorem dX0_rowAt_26 : decode cX0_rowAt 26 = .ok (.bipush (-7), 2) := dk_16 249 (dk_at dksX0_rowAt_1 3 rfl rfl)
theorem dX0_rowAt_28 : decode cX0_rowAt 28 = .ok (.goto 9, 3) := dk_167 0 9 (dk_at dksX0_rowAt_1 5 rfl rfl)
theorem dX0_rowAt_31 : decode cX0_rowAt 31 = .ok (.aload_n 2, 1) := dk_44 (dk_at dksX0_rowAt_1 8 rfl rfl)
theorem dX0_rowAt_32 : decode cX0_rowAt 32 = .ok (.getfield 236, 3) := dk_180 0 236 (dk_at dksX0_rowAt_1 9 rfl rfl)
theorem dX0_rowAt_35 : decode cX0_rowAt 35 = .ok (.iload_n 3, 1) := dk_29 (dk_at dksX0_rowAt_1 12 rfl rfl)
theorem dX0_rowAt_36 : decode cX0_rowAt 36 = .ok (.iaload, 1) := dk_46 (dk_at dksX0_rowAt_1 13 rfl rfl)
theorem dX0_rowAt_37 : decode cX0_rowAt 37 = .ok (.iastore, 1) := dk_79 (dk_at dksX0_rowAt_1 14 rfl rfl)
theorem dX0_rowAt_38 : decode cX0_rowAt 38 = .ok (.iinc 3 1, 3) := dk_132 3 1 (dk_at dksX0_rowAt_1 15 rfl rfl)
theorem dX0_rowAt_41 : decode cX0_rowAt 41 = .ok (.goto (-30), 3) := dk_167 255 226 (dk_at dksX0_rowAt_1 18 rfl rfl)
theorem dX0_rowAt_44 : decode cX0_rowAt 44 = .ok (.iconst 0, 1) := dk_3 (dk_at dksX0_rowAt_1 21 rfl rfl)
theorem dX0_rowAt_45 : decode cX0_rowAt 45 = .ok (.istore_n 3, 1) := dk_62 (dk_at dksX0_rowAt_1 22 rfl rfl)
theorem dX0_rowAt_46 : decode cX0_rowAt 46 = .ok (.aload_n 2, 1) := dk_44 (dk_at dksX0_rowAt_1 23 rfl rfl)
theorem dX0_rowAt_47 : decode cX0_rowAt 47 = .ok (.ifnull 74, 3) := dk_198 0 74 (dk_at dksX0_rowAt_2 0 rfl rfl)
theorem dX0_rowAt_50 : decode cX0_rowAt 50 = .ok (.iload_n 3, 1) := dk_29 (dk_at dksX0_rowAt_2 3 rfl rfl)
theorem dX0_rowAt_51 : decode cX0_rowAt 51 = .ok (.aload_n 2, 1) := dk_44 (dk_at dksX0_rowAt_2 4 rfl rfl)
theorem dX0_rowAt_52 : decode cX0_rowAt 52 = .ok (.getfield 241, 3) := dk_180 0 241 (dk_at dksX0_rowAt_2 5 rfl rfl)
theorem dX0_rowAt_55 : decode cX0_rowAt 55 = .ok (.invokeinterface 130 1, 5) := by decide +kernel
theorem dX0_rowAt_60 : decode cX0_rowAt 60 = .ok (.if_icmp .ge 61, 3) := dk_162 0 61 (dk_at dksX0_rowAt_2 13 rfl rfl)
theorem dX0_rowAt_63 : decode cX0_rowAt 63 = .ok (.aload_n 2, 1) := dk_44 (dk_at dksX0_rowAt_2 16 rfl rfl)
theorem dX0_rowAt_64 : decode cX0_rowAt 64 = .ok (.getfield 241, 3) := dk_180 0 241 (dk_at dksX0_rowAt_2 17 rfl rfl)
theorem dX0_rowAt_67 : decode cX0_rowAt 67 = .ok (.iload_n 3, 1) := dk_29 (dk_at dksX0_rowAt_2 20 rfl rfl)
theorem dX0_rowAt_68 : decode cX0_rowAt 68 = .ok (.invokeinterface 138 2, 5) := by decide +kernel
theorem dX0_rowAt_73 : decode cX0_rowAt 73 = .ok (.checkcast 243, 3) := dk_192 0 243 (dk_at dksX0_rowAt_3 5 rfl rfl)
theorem dX0_rowAt_76 : decode cX0_rowAt 76 = .ok (.astore 4, 2) := dk_58 4 (dk_at dksX0_rowAt_3 8 rfl rfl)
theorem dX0_rowAt_78 : decode cX0_rowAt 78 = .ok (.aload_n 0, 1) := dk_42 (dk_at dksX0_rowAt_3 10 rfl rfl)
theorem dX0_rowAt_79 : decode cX0_rowAt 79 = .ok (.getfield 45, 3) := dk_180 0 45 (dk_at dksX0_rowAt_3 11 rfl rfl)
theorem dX0_rowAt_82 : decode cX0_rowAt 82 = .ok (.aload 4, 2) := dk_25 4 (dk_at dksX0_rowAt_3 14 rfl rfl)
theorem dX0_rowAt_84 : decode cX0_rowAt 84 = .ok (.getfield 245, 3) := dk_180 0 245 (dk_at dksX0_rowAt_3 16 rfl rfl)
theorem dX0_rowAt_87 : decode cX0_rowAt 87 = .ok (.aload 4, 2) := dk_25 4 (dk_at dksX0_rowAt_3 19 rfl rfl)
theorem dX0_rowAt_89 : decode cX0_rowAt 89 = .ok (.getfield 248, 3) := dk_180 0 248 (dk_at dksX0_rowAt_3 21 rfl rfl)
theorem dX0_rowAt_92 : decode cX0_rowAt 92 = .ok (.iload_n 1, 1) := dk_27 (dk_at dksX0_rowAt_4 0 rfl rfl)
theorem dX0_rowAt_93 : decode cX0_rowAt 93 = .ok (.if_icmp .gt 11, 3) := dk_163 0 11 (dk_at dksX0_rowAt_4 1 rfl rfl)
theorem dX0_rowAt_96 : decode cX0_rowAt 96 = .ok (.aload 4, 2) := dk_25 4 (dk_at dksX0_rowAt_4 4 rfl rfl)
theorem dX0_rowAt_98 : decode cX0_rowAt 98 = .ok (.getfield 249, 3) := dk_180 0 249 (dk_at dksX0_rowAt_4 6 rfl rfl)
theorem dX0_rowAt_101 : decode cX0_rowAt 101 = .ok (.goto 13, 3) := dk_167 0 13 (dk_at dksX0_rowAt_4 9 rfl rfl)
theorem dX0_rowAt_104 : decode cX0_rowAt 104 = .ok (.aload_n 0, 1) := dk_42 (dk_at dksX0_rowAt_4 12 rfl rfl)
theorem dX0_rowAt_105 : decode cX0_rowAt 105 = .ok (.getfield 45, 3) := dk_180 0 45 (dk_at dksX0_rowAt_4 13 rfl rfl)
theorem dX0_rowAt_108 : decode cX0_rowAt 108 = .ok (.aload 4, 2) := dk_25 4 (dk_at dksX0_rowAt_4 16 rfl rfl)
theorem dX0_rowAt_110 : decode cX0_rowAt 110 = .ok (.getfield 245, 3) := dk_180 0 245 (dk_at dksX0_rowAt_4 18 rfl rfl)
theorem dX0_rowAt_113 : decode cX0_rowAt 113 = .ok (.iaload, 1) := dk_46 (dk_at dksX0_rowAt_4 21 rfl rfl)
theorem dX0_rowAt_114 : decode cX0_rowAt 114 = .ok (.iastore, 1) := dk_79 (dk_at dksX0_rowAt_4 22 rfl rfl)
theorem dX0_rowAt_115 : decode cX0_rowAt 115 = .ok (.iinc 3 1, 3) := dk_132 3 1 (dk_at dksX0_rowAt_5 0 rfl rfl)
theorem dX0_rowAt_118 : decode cX0_rowAt 118 = .ok (.goto (-72), 3) := dk_167 255 184 (dk_at dksX0_rowAt_5 3 rfl rfl)
theorem dX0_rowAt_121 : decode cX0_rowAt 121 = .ok (.aload_n 0, 1) := dk_42 (dk_at dksX0_rowAt_5 6 rfl rfl)
theorem dX0_rowAt_122 : decode cX0_rowAt 122 = .ok (.getfield 10, 3) := dk_180 0 10 (dk_at dksX0_rowAt_5 7 rfl rfl)
theorem dX0_rowAt_125 : decode cX0_rowAt 125 = .ok (.aload_n 0, 1) := dk_42 (dk_at dksX0_rowAt_5 10 rfl rfl)
theorem dX0_rowAt_126 : decode cX0_rowAt 126 = .ok (.getfield 45, 3) := dk_180 0 45 (dk_at dksX0_rowAt_5 11 rfl rfl)
theorem dX0_rowAt_129 : decode cX0_rowAt 129 = .ok (.invokevirtual 172, 3) := dk_182 0 172 (dk_at dksX0_rowAt_5 14 rfl rfl)
theorem dX0_rowAt_132 : decode cX0_rowAt 132 = .ok (.aload_n 0, 1) := dk_42 (dk_at dksX0_rowAt_5 17 rfl rfl)
theorem dX0_rowAt_133 : decode cX0_rowAt 133 = .ok (.getfield 45, 3) := dk_180 0 45 (dk_at dksX0_rowAt_5 18 rfl rfl)
theorem dX0_rowAt_136 : decode cX0_rowAt 136 = .ok (.areturn, 1) := dk_176 (dk_at dksX0_rowAt_5 21 rfl rfl)
abbrev cX0_edges : ByteArray := prog_1_method_26_code
def yX0_edges : MethodName := ⟨RX0, "edges", "(IIII)I"⟩
def dkwX0_edges_3 : List UInt8 := [182, 1, 9, 153, 0, 7, 4, 167, 0, 4, 3, 96, 54, 6, 132, 7, 1, 167, 255, 224, 21, 6, 172]
abbrev dktX0_edges_3 : List UInt8 := dkwX0_edges_3 ++ []
def dkwX0_edges_2 : List UInt8 := [58, 5, 3, 54, 6, 29, 54, 7, 21, 7, 21, 4, 163, 0, 31, 21, 6, 42, 25, 5, 28, 21, 7]
abbrev dktX0_edges_2 : List UInt8 := dkwX0_edges_2 ++ dktX0_edges_3
def dkwX0_edges_1 : List UInt8 := [21, 4, 29, 42, 180, 0, 23, 180, 0, 145, 184, 0, 69, 154, 0, 5, 2, 172, 42, 27, 182, 1, 6]
abbrev dktX0_edges_1 : List UInt8 := dkwX0_edges_1 ++ dktX0_edges_2
def dkwX0_edges_0 : List UInt8 := [42, 27, 182, 0, 134, 153, 0, 34, 28, 184, 1, 3, 153, 0, 27, 42, 29, 182, 1, 0, 153, 0, 19]
abbrev dktX0_edges_0 : List UInt8 := dkwX0_edges_0 ++ dktX0_edges_1
theorem dksX0_edges_0 : cX0_edges.data.toList.drop 0 = dktX0_edges_0 := by decide +kernel
theorem dksX0_edges_1 : cX0_edges.data.toList.drop 23 = dktX0_edges_1 := dk_seg dksX0_edges_0 23 rfl rfl
theorem dksX0_edges_2 : cX0_edges.data.toList.drop 46 = dktX0_edges_2 := dk_seg dksX0_edges_1 23 rfl rfl
theorem dksX0_edges_3 : cX0_edges.data.toList.drop 69 = dktX0_edges_3 := dk_seg dksX0_edges_2 23 rfl rfl
theorem dX0_edges_0 : decode cX0_edges 0 = .ok (.aload_n 0, 1) := dk_42 (dk_at dksX0_edges_0 0 rfl rfl)
theorem dX0_edges_1 : decode cX0_edges 1 = .ok (.iload_n 1, 1) := dk_27 (dk_at dksX0_edges_0 1 rfl rfl)
theorem dX0_edges_2 : decode cX0_edges 2 = .ok (.invokevirtual 134, 3) := dk_182 0 134 (dk_at dksX0_edges_0 2 rfl rfl)
theorem dX0_edges_5 : decode cX0_edges 5 = .ok (.ifCond .eq 34, 3) := dk_153 0 34 (dk_at dksX0_edges_0 5 rfl rfl)
theorem dX0_edges_8 : decode cX0_edges 8 = .ok (.iload_n 2, 1) := dk_28 (dk_at dksX0_edges_0 8 rfl rfl)
theorem dX0_edges_9 : decode cX0_edges 9 = .ok (.invokestatic 259, 3) := dk_184 1 3 (dk_at dksX0_edges_0 9 rfl rfl)
theorem dX0_edges_12 : decode cX0_edges 12 = .ok (.ifCond .eq 27, 3) := dk_153 0 27 (dk_at dksX0_edges_0 12 rfl rfl)
theorem dX0_edges_15 : decode cX0_edges 15 = .ok (.aload_n 0, 1) := dk_42 (dk_at dksX0_edges_0 15 rfl rfl)
theorem dX0_edges_16 : decode cX0_edges 16 = .ok (.iload_n 3, 1) := dk_29 (dk_at dksX0_edges_0 16 rfl rfl)
theorem dX0_edges_17 : decode cX0_edges 17 = .ok (.invokevirtual 256, 3) := dk_182 1 0 (dk_at dksX0_edges_0 17 rfl rfl)
theorem dX0_edges_20 : decode cX0_edges 20 = .ok (.ifCond .eq 19, 3) := dk_153 0 19 (dk_at dksX0_edges_0 20 rfl rfl)
theorem dX0_edges_23 : decode cX0_edges 23 = .ok (.iload 4, 2) := dk_21 4 (dk_at dksX0_edges_1 0 rfl rfl)
theorem dX0_edges_25 : decode cX0_edges 25 = .ok (.iload_n 3, 1) := dk_29 (dk_at dksX0_edges_1 2 rfl rfl)
theorem dX0_edges_26 : decode cX0_edges 26 = .ok (.aload_n 0, 1) := dk_42 (dk_at dksX0_edges_1 3 rfl rfl)
theorem dX0_edges_27 : decode cX0_edges 27 = .ok (.getfield 23, 3) := dk_180 0 23 (dk_at dksX0_edges_1 4 rfl rfl)
theorem dX0_edges_30 : decode cX0_edges 30 = .ok (.getfield 145, 3) := dk_180 0 145 (dk_at dksX0_edges_1 7 rfl rfl)
theorem dX0_edges_33 : decode cX0_edges 33 = .ok (.invokestatic 69, 3) := dk_184 0 69 (dk_at dksX0_edges_1 10 rfl rfl)
theorem dX0_edges_36 : decode cX0_edges 36 = .ok (.ifCond .ne 5, 3) := dk_154 0 5 (dk_at dksX0_edges_1 13 rfl rfl)
theorem dX0_edges_39 : decode cX0_edges 39 = .ok (.iconst (-1), 1) := dk_2 (dk_at dksX0_edges_1 16 rfl rfl)
theorem dX0_edges_40 : decode cX0_edges 40 = .ok (.ireturn, 1) := dk_172 (dk_at dksX0_edges_1 17 rfl rfl)
theorem dX0_edges_41 : decode cX0_edges 41 = .ok (.aload_n 0, 1) := dk_42 (dk_at dksX0_edges_1 18 rfl rfl)
theorem dX0_edges_42 : decode cX0_edges 42 = .ok (.iload_n 1, 1) := dk_27 (dk_at dksX0_edges_1 19 rfl rfl)
theorem dX0_edges_43 : decode cX0_edges 43 = .ok (.invokevirtual 262, 3) := dk_182 1 6 (dk_at dksX0_edges_1 20 rfl rfl)
theorem dX0_edges_46 : decode cX0_edges 46 = .ok (.astore 5, 2) := dk_58 5 (dk_at dksX0_edges_2 0 rfl rfl)
theorem dX0_edges_48 : decode cX0_edges 48 = .ok (.iconst 0, 1) := dk_3 (dk_at dksX0_edges_2 2 rfl rfl)
theorem dX0_edges_49 : decode cX0_edges 49 = .ok (.istore 6, 2) := dk_54 6 (dk_at dksX0_edges_2 3 rfl rfl)
theorem dX0_edges_51 : decode cX0_edges 51 = .ok (.iload_n 3, 1) := dk_29 (dk_at dksX0_edges_2 5 rfl rfl)
theorem dX0_edges_52 : decode cX0_edges 52 = .ok (.istore 7, 2) := dk_54 7 (dk_at dksX0_edges_2 6 rfl rfl)
theorem dX0_edges_54 : decode cX0_edges 54 = .ok (.iload 7, 2) := dk_21 7 (dk_at dksX0_edges_2 8 rfl rfl)
theorem dX0_edges_56 : decode cX0_edges 56 = .ok (.iload 4, 2) := dk_21 4 (dk_at dksX0_edges_2 10 rfl rfl)
theorem dX0_edges_58 : decode cX0_edges 58 = .ok (.if_icmp .gt 31, 3) := dk_163 0 31 (dk_at dksX0_edges_2 12 rfl rfl)
theorem dX0_edges_61 : decode cX0_edges 61 = .ok (.iload 6, 2) := dk_21 6 (dk_at dksX0_edges_2 15 rfl rfl)
theorem dX0_edges_63 : decode cX0_edges 63 = .ok (.aload_n 0, 1) := dk_42 (dk_at dksX0_edges_2 17 rfl rfl)
theorem dX0_edges_64 : decode cX0_edges 64 = .ok (.aload 5, 2) := dk_25 5 (dk_at dksX0_edges_2 18 rfl rfl)
theorem dX0_edges_66 : decode cX0_edges 66 = .ok (.iload_n 2, 1) := dk_28 (dk_at dksX0_edges_2 20 rfl rfl)
theorem dX0_edges_67 : decode cX0_edges 67 = .ok (.iload 7, 2) := dk_21 7 (dk_at dksX0_edges_2 21 rfl rfl)
theorem dX0_edges_69 : decode cX0_edges 69 = .ok (.invokevirtual 265, 3) := dk_182 1 9 (dk_at dksX0_edges_3 0 rfl rfl)
theorem dX0_edges_72 : decode cX0_edges 72 = .ok (.ifCond .eq 7, 3) := dk_153 0 7 (dk_at dksX0_edges_3 3 rfl rfl)
theorem dX0_edges_75 : decode cX0_edges 75 = .ok (.iconst 1, 1) := dk_4 (dk_at dksX0_edges_3 6 rfl rfl)
theorem dX0_edges_76 : decode cX0_edges 76 = .ok (.goto 4, 3) := dk_167 0 4 (dk_at dksX0_edges_3 7 rfl rfl)
theorem dX0_edges_79 : decode cX0_edges 79 = .ok (.iconst 0, 1) := dk_3 (dk_at dksX0_edges_3 10 rfl rfl)
theorem dX0_edges_80 : decode cX0_edges 80 = .ok (.iadd, 1) := dk_96 (dk_at dksX0_edges_3 11 rfl rfl)
theorem dX0_edges_81 : decode cX0_edges 81 = .ok (.istore 6, 2) := dk_54 6 (dk_at dksX0_edges_3 12 rfl rfl)
theorem dX0_edges_83 : decode cX0_edges 83 = .ok (.iinc 7 1, 3) := dk_132 7 1 (dk_at dksX0_edges_3 14 rfl rfl)
theorem dX0_edges_86 : decode cX0_edges 86 = .ok (.goto (-32), 3) := dk_167 255 224 (dk_at dksX0_edges_3 17 rfl rfl)
theorem dX0_edges_89 : decode cX0_edges 89 = .ok (.iload 6, 2) := dk_21 6 (dk_at dksX0_edges_3 20 rfl rfl)
theorem dX0_edges_91 : decode cX0_edges 91 = .ok (.ireturn, 1) := dk_172 (dk_at dksX0_edges_3 22 rfl rfl)
abbrev cX0_isKind : ByteArray := prog_1_method_25_code
def yX0_isKind : MethodName := ⟨RX0, "isKind", "(I)Z"⟩
def dkwX0_isKind_0 : List UInt8 := [26, 3, 5, 184, 0, 69, 172]
abbrev dktX0_isKind_0 : List UInt8 := dkwX0_isKind_0 ++ []
theorem dksX0_isKind_0 : cX0_isKind.data.toList.drop 0 = dktX0_isKind_0 := by decide +kernel
theorem dX0_isKind_0 : decode cX0_isKind 0 = .ok (.iload_n 0, 1) := dk_26 (dk_at dksX0_isKind_0 0 rfl rfl)
theorem dX0_isKind_1 : decode cX0_isKind 1 = .ok (.iconst 0, 1) := dk_3 (dk_at dksX0_isKind_0 1 rfl rfl)
theorem dX0_isKind_2 : decode cX0_isKind 2 = .ok (.iconst 2, 1) := dk_5 (dk_at dksX0_isKind_0 2 rfl rfl)
theorem dX0_isKind_3 : decode cX0_isKind 3 = .ok (.invokestatic 69, 3) := dk_184 0 69 (dk_at dksX0_isKind_0 3 rfl rfl)
theorem dX0_isKind_6 : decode cX0_isKind 6 = .ok (.ireturn, 1) := dk_172 (dk_at dksX0_isKind_0 6 rfl rfl)
abbrev cX0_wave : ByteArray := prog_1_method_22_code
def yX0_wave : MethodName := ⟨RX0, "wave", "(I)[I"⟩
def dkwX0_wave_1 : List UInt8 := [182, 0, 252, 27, 46, 79, 132, 3, 1, 167, 255, 232, 44, 176]
abbrev dktX0_wave_1 : List UInt8 := dkwX0_wave_1 ++ []
def dkwX0_wave_0 : List UInt8 := [42, 180, 0, 50, 27, 50, 77, 3, 62, 29, 42, 180, 0, 23, 180, 0, 145, 163, 0, 19, 44, 29, 42, 29]
abbrev dktX0_wave_0 : List UInt8 := dkwX0_wave_0 ++ dktX0_wave_1
theorem dksX0_wave_0 : cX0_wave.data.toList.drop 0 = dktX0_wave_0 := by decide +kernel
theorem dksX0_wave_1 : cX0_wave.data.toList.drop 24 = dktX0_wave_1 := dk_seg dksX0_wave_0 24 rfl rfl
theorem dX0_wave_0 : decode cX0_wave 0 = .ok (.aload_n 0, 1) := dk_42 (dk_at dksX0_wave_0 0 rfl rfl)
theorem dX0_wave_1 : decode cX0_wave 1 = .ok (.getfield 50, 3) := dk_180 0 50 (dk_at dksX0_wave_0 1 rfl rfl)
theorem dX0_wave_4 : decode cX0_wave 4 = .ok (.iload_n 1, 1) := dk_27 (dk_at dksX0_wave_0 4 rfl rfl)
theorem dX0_wave_5 : decode cX0_wave 5 = .ok (.aaload, 1) := dk_50 (dk_at dksX0_wave_0 5 rfl rfl)
theorem dX0_wave_6 : decode cX0_wave 6 = .ok (.astore_n 2, 1) := dk_77 (dk_at dksX0_wave_0 6 rfl rfl)
theorem dX0_wave_7 : decode cX0_wave 7 = .ok (.iconst 0, 1) := dk_3 (dk_at dksX0_wave_0 7 rfl rfl)
theorem dX0_wave_8 : decode cX0_wave 8 = .ok (.istore_n 3, 1) := dk_62 (dk_at dksX0_wave_0 8 rfl rfl)
theorem dX0_wave_9 : decode cX0_wave 9 = .ok (.iload_n 3, 1) := dk_29 (dk_at dksX0_wave_0 9 rfl rfl)
theorem dX0_wave_10 : decode cX0_wave 10 = .ok (.aload_n 0, 1) := dk_42 (dk_at dksX0_wave_0 10 rfl rfl)
theorem dX0_wave_11 : decode cX0_wave 11 = .ok (.getfield 23, 3) := dk_180 0 23 (dk_at dksX0_wave_0 11 rfl rfl)
theorem dX0_wave_14 : decode cX0_wave 14 = .ok (.getfield 145, 3) := dk_180 0 145 (dk_at dksX0_wave_0 14 rfl rfl)
theorem dX0_wave_17 : decode cX0_wave 17 = .ok (.if_icmp .gt 19, 3) := dk_163 0 19 (dk_at dksX0_wave_0 17 rfl rfl)
theorem dX0_wave_20 : decode cX0_wave 20 = .ok (.aload_n 2, 1) := dk_44 (dk_at dksX0_wave_0 20 rfl rfl)
theorem dX0_wave_21 : decode cX0_wave 21 = .ok (.iload_n 3, 1) := dk_29 (dk_at dksX0_wave_0 21 rfl rfl)
theorem dX0_wave_22 : decode cX0_wave 22 = .ok (.aload_n 0, 1) := dk_42 (dk_at dksX0_wave_0 22 rfl rfl)
theorem dX0_wave_23 : decode cX0_wave 23 = .ok (.iload_n 3, 1) := dk_29 (dk_at dksX0_wave_0 23 rfl rfl)
theorem dX0_wave_24 : decode cX0_wave 24 = .ok (.invokevirtual 252, 3) := dk_182 0 252 (dk_at dksX0_wave_1 0 rfl rfl)
theorem dX0_wave_27 : decode cX0_wave 27 = .ok (.iload_n 1, 1) := dk_27 (dk_at dksX0_wave_1 3 rfl rfl)
theorem dX0_wave_28 : decode cX0_wave 28 = .ok (.iaload, 1) := dk_46 (dk_at dksX0_wave_1 4 rfl rfl)
theorem dX0_wave_29 : decode cX0_wave 29 = .ok (.iastore, 1) := dk_79 (dk_at dksX0_wave_1 5 rfl rfl)
theorem dX0_wave_30 : decode cX0_wave 30 = .ok (.iinc 3 1, 3) := dk_132 3 1 (dk_at dksX0_wave_1 6 rfl rfl)
theorem dX0_wave_33 : decode cX0_wave 33 = .ok (.goto (-24), 3) := dk_167 255 232 (dk_at dksX0_wave_1 9 rfl rfl)
theorem dX0_wave_36 : decode cX0_wave 36 = .ok (.aload_n 2, 1) := dk_44 (dk_at dksX0_wave_1 12 rfl rfl)
theorem dX0_wave_37 : decode cX0_wave 37 = .ok (.areturn, 1) := dk_176 (dk_at dksX0_wave_1 13 rfl rfl)
abbrev cX0_isEdge : ByteArray := prog_1_method_23_code
def yX0_isEdge : MethodName := ⟨RX0, "isEdge", "([III)Z"⟩
def dkwX0_isEdge_4 : List UInt8 := [167, 0, 4, 3, 172]
abbrev dktX0_isEdge_4 : List UInt8 := dkwX0_isEdge_4 ++ []
def dkwX0_isEdge_3 : List UInt8 := [46, 164, 0, 7, 4, 167, 0, 23, 3, 167, 0, 19, 43, 29, 46, 43, 29, 4, 100, 46, 162, 0, 7, 4]
abbrev dktX0_isEdge_3 : List UInt8 := dkwX0_isEdge_3 ++ dktX0_isEdge_4
def dkwX0_isEdge_2 : List UInt8 := [46, 159, 0, 7, 4, 167, 0, 47, 3, 167, 0, 43, 28, 4, 160, 0, 22, 43, 29, 46, 43, 29, 4, 100]
abbrev dktX0_isEdge_2 : List UInt8 := dkwX0_isEdge_2 ++ dktX0_isEdge_3
def dkwX0_isEdge_1 : List UInt8 := [159, 0, 11, 43, 29, 46, 16, 249, 160, 0, 5, 3, 172, 28, 154, 0, 22, 43, 29, 46, 43, 29, 4, 100]
abbrev dktX0_isEdge_1 : List UInt8 := dkwX0_isEdge_1 ++ dktX0_isEdge_2
def dkwX0_isEdge_0 : List UInt8 := [29, 4, 42, 180, 0, 23, 180, 0, 145, 184, 0, 69, 153, 0, 21, 43, 29, 4, 100, 46, 16, 249]
abbrev dktX0_isEdge_0 : List UInt8 := dkwX0_isEdge_0 ++ dktX0_isEdge_1
theorem dksX0_isEdge_0 : cX0_isEdge.data.toList.drop 0 = dktX0_isEdge_0 := by decide +kernel
theorem dksX0_isEdge_1 : cX0_isEdge.data.toList.drop 22 = dktX0_isEdge_1 := dk_seg dksX0_isEdge_0 22 rfl rfl
theorem dksX0_isEdge_2 : cX0_isEdge.data.toList.drop 46 = dktX0_isEdge_2 := dk_seg dksX0_isEdge_1 24 rfl rfl
theorem dksX0_isEdge_3 : cX0_isEdge.data.toList.drop 70 = dktX0_isEdge_3 := dk_seg dksX0_isEdge_2 24 rfl rfl
theorem dksX0_isEdge_4 : cX0_isEdge.data.toList.drop 94 = dktX0_isEdge_4 := dk_seg dksX0_isEdge_3 24 rfl rfl
theorem dX0_isEdge_0 : decode cX0_isEdge 0 = .ok (.iload_n 3, 1) := dk_29 (dk_at dksX0_isEdge_0 0 rfl rfl)
theorem dX0_isEdge_1 : decode cX0_isEdge 1 = .ok (.iconst 1, 1) := dk_4 (dk_at dksX0_isEdge_0 1 rfl rfl)
theorem dX0_isEdge_2 : decode cX0_isEdge 2 = .ok (.aload_n 0, 1) := dk_42 (dk_at dksX0_isEdge_0 2 rfl rfl)
theorem dX0_isEdge_3 : decode cX0_isEdge 3 = .ok (.getfield 23, 3) := dk_180 0 23 (dk_at dksX0_isEdge_0 3 rfl rfl)
theorem dX0_isEdge_6 : decode cX0_isEdge 6 = .ok (.getfield 145, 3) := dk_180 0 145 (dk_at dksX0_isEdge_0 6 rfl rfl)
theorem dX0_isEdge_9 : decode cX0_isEdge 9 = .ok (.invokestatic 69, 3) := dk_184 0 69 (dk_at dksX0_isEdge_0 9 rfl rfl)
theorem dX0_isEdge_12 : decode cX0_isEdge 12 = .ok (.ifCond .eq 21, 3) := dk_153 0 21 (dk_at dksX0_isEdge_0 12 rfl rfl)
theorem dX0_isEdge_15 : decode cX0_isEdge 15 = .ok (.aload_n 1, 1) := dk_43 (dk_at dksX0_isEdge_0 15 rfl rfl)
theorem dX0_isEdge_16 : decode cX0_isEdge 16 = .ok (.iload_n 3, 1) := dk_29 (dk_at dksX0_isEdge_0 16 rfl rfl)
theorem dX0_isEdge_17 : decode cX0_isEdge 17 = .ok (.iconst 1, 1) := dk_4 (dk_at dksX0_isEdge_0 17 rfl rfl)
theorem dX0_isEdge_18 : decode cX0_isEdge 18 = .ok (.isub, 1) := dk_100 (dk_at dksX0_isEdge_0 18 rfl rfl)
theorem dX0_isEdge_19 : decode cX0_isEdge 19 = .ok (.iaload, 1) := dk_46 (dk_at dksX0_isEdge_0 19 rfl rfl)
theorem dX0_isEdge_20 : decode cX0_isEdge 20 = .ok (.bipush (-7), 2) := dk_16 249 (dk_at dksX0_isEdge_0 20 rfl rfl)
theorem dX0_isEdge_22 : decode cX0_isEdge 22 = .ok (.if_icmp .eq 11, 3) := dk_159 0 11 (dk_at dksX0_isEdge_1 0 rfl rfl)
theorem dX0_isEdge_25 : decode cX0_isEdge 25 = .ok (.aload_n 1, 1) := dk_43 (dk_at dksX0_isEdge_1 3 rfl rfl)
theorem dX0_isEdge_26 : decode cX0_isEdge 26 = .ok (.iload_n 3, 1) := dk_29 (dk_at dksX0_isEdge_1 4 rfl rfl)
theorem dX0_isEdge_27 : decode cX0_isEdge 27 = .ok (.iaload, 1) := dk_46 (dk_at dksX0_isEdge_1 5 rfl rfl)
theorem dX0_isEdge_28 : decode cX0_isEdge 28 = .ok (.bipush (-7), 2) := dk_16 249 (dk_at dksX0_isEdge_1 6 rfl rfl)
theorem dX0_isEdge_30 : decode cX0_isEdge 30 = .ok (.if_icmp .ne 5, 3) := dk_160 0 5 (dk_at dksX0_isEdge_1 8 rfl rfl)
theorem dX0_isEdge_33 : decode cX0_isEdge 33 = .ok (.iconst 0, 1) := dk_3 (dk_at dksX0_isEdge_1 11 rfl rfl)
theorem dX0_isEdge_34 : decode cX0_isEdge 34 = .ok (.ireturn, 1) := dk_172 (dk_at dksX0_isEdge_1 12 rfl rfl)
theorem dX0_isEdge_35 : decode cX0_isEdge 35 = .ok (.iload_n 2, 1) := dk_28 (dk_at dksX0_isEdge_1 13 rfl rfl)
theorem dX0_isEdge_36 : decode cX0_isEdge 36 = .ok (.ifCond .ne 22, 3) := dk_154 0 22 (dk_at dksX0_isEdge_1 14 rfl rfl)
theorem dX0_isEdge_39 : decode cX0_isEdge 39 = .ok (.aload_n 1, 1) := dk_43 (dk_at dksX0_isEdge_1 17 rfl rfl)
theorem dX0_isEdge_40 : decode cX0_isEdge 40 = .ok (.iload_n 3, 1) := dk_29 (dk_at dksX0_isEdge_1 18 rfl rfl)
theorem dX0_isEdge_41 : decode cX0_isEdge 41 = .ok (.iaload, 1) := dk_46 (dk_at dksX0_isEdge_1 19 rfl rfl)
theorem dX0_isEdge_42 : decode cX0_isEdge 42 = .ok (.aload_n 1, 1) := dk_43 (dk_at dksX0_isEdge_1 20 rfl rfl)
theorem dX0_isEdge_43 : decode cX0_isEdge 43 = .ok (.iload_n 3, 1) := dk_29 (dk_at dksX0_isEdge_1 21 rfl rfl)
theorem dX0_isEdge_44 : decode cX0_isEdge 44 = .ok (.iconst 1, 1) := dk_4 (dk_at dksX0_isEdge_1 22 rfl rfl)
theorem dX0_isEdge_45 : decode cX0_isEdge 45 = .ok (.isub, 1) := dk_100 (dk_at dksX0_isEdge_1 23 rfl rfl)
theorem dX0_isEdge_46 : decode cX0_isEdge 46 = .ok (.iaload, 1) := dk_46 (dk_at dksX0_isEdge_2 0 rfl rfl)
theorem dX0_isEdge_47 : decode cX0_isEdge 47 = .ok (.if_icmp .eq 7, 3) := dk_159 0 7 (dk_at dksX0_isEdge_2 1 rfl rfl)
theorem dX0_isEdge_50 : decode cX0_isEdge 50 = .ok (.iconst 1, 1) := dk_4 (dk_at dksX0_isEdge_2 4 rfl rfl)
theorem dX0_isEdge_51 : decode cX0_isEdge 51 = .ok (.goto 47, 3) := dk_167 0 47 (dk_at dksX0_isEdge_2 5 rfl rfl)
theorem dX0_isEdge_54 : decode cX0_isEdge 54 = .ok (.iconst 0, 1) := dk_3 (dk_at dksX0_isEdge_2 8 rfl rfl)
theorem dX0_isEdge_55 : decode cX0_isEdge 55 = .ok (.goto 43, 3) := dk_167 0 43 (dk_at dksX0_isEdge_2 9 rfl rfl)
theorem dX0_isEdge_58 : decode cX0_isEdge 58 = .ok (.iload_n 2, 1) := dk_28 (dk_at dksX0_isEdge_2 12 rfl rfl)
theorem dX0_isEdge_59 : decode cX0_isEdge 59 = .ok (.iconst 1, 1) := dk_4 (dk_at dksX0_isEdge_2 13 rfl rfl)
theorem dX0_isEdge_60 : decode cX0_isEdge 60 = .ok (.if_icmp .ne 22, 3) := dk_160 0 22 (dk_at dksX0_isEdge_2 14 rfl rfl)
theorem dX0_isEdge_63 : decode cX0_isEdge 63 = .ok (.aload_n 1, 1) := dk_43 (dk_at dksX0_isEdge_2 17 rfl rfl)
theorem dX0_isEdge_64 : decode cX0_isEdge 64 = .ok (.iload_n 3, 1) := dk_29 (dk_at dksX0_isEdge_2 18 rfl rfl)
theorem dX0_isEdge_65 : decode cX0_isEdge 65 = .ok (.iaload, 1) := dk_46 (dk_at dksX0_isEdge_2 19 rfl rfl)
theorem dX0_isEdge_66 : decode cX0_isEdge 66 = .ok (.aload_n 1, 1) := dk_43 (dk_at dksX0_isEdge_2 20 rfl rfl)
theorem dX0_isEdge_67 : decode cX0_isEdge 67 = .ok (.iload_n 3, 1) := dk_29 (dk_at dksX0_isEdge_2 21 rfl rfl)
theorem dX0_isEdge_68 : decode cX0_isEdge 68 = .ok (.iconst 1, 1) := dk_4 (dk_at dksX0_isEdge_2 22 rfl rfl)
theorem dX0_isEdge_69 : decode cX0_isEdge 69 = .ok (.isub, 1) := dk_100 (dk_at dksX0_isEdge_2 23 rfl rfl)
theorem dX0_isEdge_70 : decode cX0_isEdge 70 = .ok (.iaload, 1) := dk_46 (dk_at dksX0_isEdge_3 0 rfl rfl)
theorem dX0_isEdge_71 : decode cX0_isEdge 71 = .ok (.if_icmp .le 7, 3) := dk_164 0 7 (dk_at dksX0_isEdge_3 1 rfl rfl)
theorem dX0_isEdge_74 : decode cX0_isEdge 74 = .ok (.iconst 1, 1) := dk_4 (dk_at dksX0_isEdge_3 4 rfl rfl)
theorem dX0_isEdge_75 : decode cX0_isEdge 75 = .ok (.goto 23, 3) := dk_167 0 23 (dk_at dksX0_isEdge_3 5 rfl rfl)
theorem dX0_isEdge_78 : decode cX0_isEdge 78 = .ok (.iconst 0, 1) := dk_3 (dk_at dksX0_isEdge_3 8 rfl rfl)
theorem dX0_isEdge_79 : decode cX0_isEdge 79 = .ok (.goto 19, 3) := dk_167 0 19 (dk_at dksX0_isEdge_3 9 rfl rfl)
theorem dX0_isEdge_82 : decode cX0_isEdge 82 = .ok (.aload_n 1, 1) := dk_43 (dk_at dksX0_isEdge_3 12 rfl rfl)
theorem dX0_isEdge_83 : decode cX0_isEdge 83 = .ok (.iload_n 3, 1) := dk_29 (dk_at dksX0_isEdge_3 13 rfl rfl)
theorem dX0_isEdge_84 : decode cX0_isEdge 84 = .ok (.iaload, 1) := dk_46 (dk_at dksX0_isEdge_3 14 rfl rfl)
theorem dX0_isEdge_85 : decode cX0_isEdge 85 = .ok (.aload_n 1, 1) := dk_43 (dk_at dksX0_isEdge_3 15 rfl rfl)
theorem dX0_isEdge_86 : decode cX0_isEdge 86 = .ok (.iload_n 3, 1) := dk_29 (dk_at dksX0_isEdge_3 16 rfl rfl)
theorem dX0_isEdge_87 : decode cX0_isEdge 87 = .ok (.iconst 1, 1) := dk_4 (dk_at dksX0_isEdge_3 17 rfl rfl)
theorem dX0_isEdge_88 : decode cX0_isEdge 88 = .ok (.isub, 1) := dk_100 (dk_at dksX0_isEdge_3 18 rfl rfl)
theorem dX0_isEdge_89 : decode cX0_isEdge 89 = .ok (.iaload, 1) := dk_46 (dk_at dksX0_isEdge_3 19 rfl rfl)
theorem dX0_isEdge_90 : decode cX0_isEdge 90 = .ok (.if_icmp .ge 7, 3) := dk_162 0 7 (dk_at dksX0_isEdge_3 20 rfl rfl)
theorem dX0_isEdge_93 : decode cX0_isEdge 93 = .ok (.iconst 1, 1) := dk_4 (dk_at dksX0_isEdge_3 23 rfl rfl)
theorem dX0_isEdge_94 : decode cX0_isEdge 94 = .ok (.goto 4, 3) := dk_167 0 4 (dk_at dksX0_isEdge_4 0 rfl rfl)
theorem dX0_isEdge_97 : decode cX0_isEdge 97 = .ok (.iconst 0, 1) := dk_3 (dk_at dksX0_isEdge_4 3 rfl rfl)
theorem dX0_isEdge_98 : decode cX0_isEdge 98 = .ok (.ireturn, 1) := dk_172 (dk_at dksX0_isEdge_4 4 rfl rfl)
abbrev cX0_next : ByteArray := prog_1_method_27_code
def yX0_next : MethodName := ⟨RX0, "next", "(III)I"⟩
def dkwX0_next_1 : List UInt8 := [172, 42, 42, 27, 182, 1, 6, 28, 29, 4, 96, 182, 1, 13, 172]
abbrev dktX0_next_1 : List UInt8 := dkwX0_next_1 ++ []
def dkwX0_next_0 : List UInt8 := [42, 27, 182, 0, 134, 153, 0, 18, 28, 184, 1, 3, 153, 0, 11, 42, 29, 182, 1, 0, 154, 0, 5, 2]
abbrev dktX0_next_0 : List UInt8 := dkwX0_next_0 ++ dktX0_next_1
theorem dksX0_next_0 : cX0_next.data.toList.drop 0 = dktX0_next_0 := by decide +kernel
theorem dksX0_next_1 : cX0_next.data.toList.drop 24 = dktX0_next_1 := dk_seg dksX0_next_0 24 rfl rfl
theorem dX0_next_0 : decode cX0_next 0 = .ok (.aload_n 0, 1) := dk_42 (dk_at dksX0_next_0 0 rfl rfl)
theorem dX0_next_1 : decode cX0_next 1 = .ok (.iload_n 1, 1) := dk_27 (dk_at dksX0_next_0 1 rfl rfl)
theorem dX0_next_2 : decode cX0_next 2 = .ok (.invokevirtual 134, 3) := dk_182 0 134 (dk_at dksX0_next_0 2 rfl rfl)
theorem dX0_next_5 : decode cX0_next 5 = .ok (.ifCond .eq 18, 3) := dk_153 0 18 (dk_at dksX0_next_0 5 rfl rfl)
theorem dX0_next_8 : decode cX0_next 8 = .ok (.iload_n 2, 1) := dk_28 (dk_at dksX0_next_0 8 rfl rfl)
theorem dX0_next_9 : decode cX0_next 9 = .ok (.invokestatic 259, 3) := dk_184 1 3 (dk_at dksX0_next_0 9 rfl rfl)
theorem dX0_next_12 : decode cX0_next 12 = .ok (.ifCond .eq 11, 3) := dk_153 0 11 (dk_at dksX0_next_0 12 rfl rfl)
theorem dX0_next_15 : decode cX0_next 15 = .ok (.aload_n 0, 1) := dk_42 (dk_at dksX0_next_0 15 rfl rfl)
theorem dX0_next_16 : decode cX0_next 16 = .ok (.iload_n 3, 1) := dk_29 (dk_at dksX0_next_0 16 rfl rfl)
theorem dX0_next_17 : decode cX0_next 17 = .ok (.invokevirtual 256, 3) := dk_182 1 0 (dk_at dksX0_next_0 17 rfl rfl)
theorem dX0_next_20 : decode cX0_next 20 = .ok (.ifCond .ne 5, 3) := dk_154 0 5 (dk_at dksX0_next_0 20 rfl rfl)
theorem dX0_next_23 : decode cX0_next 23 = .ok (.iconst (-1), 1) := dk_2 (dk_at dksX0_next_0 23 rfl rfl)
theorem dX0_next_24 : decode cX0_next 24 = .ok (.ireturn, 1) := dk_172 (dk_at dksX0_next_1 0 rfl rfl)
theorem dX0_next_25 : decode cX0_next 25 = .ok (.aload_n 0, 1) := dk_42 (dk_at dksX0_next_1 1 rfl rfl)
theorem dX0_next_26 : decode cX0_next 26 = .ok (.aload_n 0, 1) := dk_42 (dk_at dksX0_next_1 2 rfl rfl)
theorem dX0_next_27 : decode cX0_next 27 = .ok (.iload_n 1, 1) := dk_27 (dk_at dksX0_next_1 3 rfl rfl)
theorem dX0_next_28 : decode cX0_next 28 = .ok (.invokevirtual 262, 3) := dk_182 1 6 (dk_at dksX0_next_1 4 rfl rfl)
theorem dX0_next_31 : decode cX0_next 31 = .ok (.iload_n 2, 1) := dk_28 (dk_at dksX0_next_1 7 rfl rfl)
theorem dX0_next_32 : decode cX0_next 32 = .ok (.iload_n 3, 1) := dk_29 (dk_at dksX0_next_1 8 rfl rfl)
theorem dX0_next_33 : decode cX0_next 33 = .ok (.iconst 1, 1) := dk_4 (dk_at dksX0_next_1 9 rfl rfl)
theorem dX0_next_34 : decode cX0_next 34 = .ok (.iadd, 1) := dk_96 (dk_at dksX0_next_1 10 rfl rfl)
theorem dX0_next_35 : decode cX0_next 35 = .ok (.invokevirtual 269, 3) := dk_182 1 13 (dk_at dksX0_next_1 11 rfl rfl)
theorem dX0_next_38 : decode cX0_next 38 = .ok (.ireturn, 1) := dk_172 (dk_at dksX0_next_1 14 rfl rfl)
abbrev cX0_edgeFrom : ByteArray := prog_1_method_28_code
def yX0_edgeFrom : MethodName := ⟨RX0, "edgeFrom", "([III)I"⟩
def dkwX0_edgeFrom_1 : List UInt8 := [153, 0, 6, 21, 4, 172, 132, 4, 1, 167, 255, 227, 16, 247, 172]
abbrev dktX0_edgeFrom_1 : List UInt8 := dkwX0_edgeFrom_1 ++ []
def dkwX0_edgeFrom_0 : List UInt8 := [29, 54, 4, 21, 4, 42, 180, 0, 23, 180, 0, 145, 163, 0, 23, 42, 43, 28, 21, 4, 182, 1, 9]
abbrev dktX0_edgeFrom_0 : List UInt8 := dkwX0_edgeFrom_0 ++ dktX0_edgeFrom_1
theorem dksX0_edgeFrom_0 : cX0_edgeFrom.data.toList.drop 0 = dktX0_edgeFrom_0 := by decide +kernel
theorem dksX0_edgeFrom_1 : cX0_edgeFrom.data.toList.drop 23 = dktX0_edgeFrom_1 := dk_seg dksX0_edgeFrom_0 23 rfl rfl
theorem dX0_edgeFrom_0 : decode cX0_edgeFrom 0 = .ok (.iload_n 3, 1) := dk_29 (dk_at dksX0_edgeFrom_0 0 rfl rfl)
theorem dX0_edgeFrom_1 : decode cX0_edgeFrom 1 = .ok (.istore 4, 2) := dk_54 4 (dk_at dksX0_edgeFrom_0 1 rfl rfl)
theorem dX0_edgeFrom_3 : decode cX0_edgeFrom 3 = .ok (.iload 4, 2) := dk_21 4 (dk_at dksX0_edgeFrom_0 3 rfl rfl)
theorem dX0_edgeFrom_5 : decode cX0_edgeFrom 5 = .ok (.aload_n 0, 1) := dk_42 (dk_at dksX0_edgeFrom_0 5 rfl rfl)
theorem dX0_edgeFrom_6 : decode cX0_edgeFrom 6 = .ok (.getfield 23, 3) := dk_180 0 23 (dk_at dksX0_edgeFrom_0 6 rfl rfl)
theorem dX0_edgeFrom_9 : decode cX0_edgeFrom 9 = .ok (.getfield 145, 3) := dk_180 0 145 (dk_at dksX0_edgeFrom_0 9 rfl rfl)
theorem dX0_edgeFrom_12 : decode cX0_edgeFrom 12 = .ok (.if_icmp .gt 23, 3) := dk_163 0 23 (dk_at dksX0_edgeFrom_0 12 rfl rfl)
theorem dX0_edgeFrom_15 : decode cX0_edgeFrom 15 = .ok (.aload_n 0, 1) := dk_42 (dk_at dksX0_edgeFrom_0 15 rfl rfl)
theorem dX0_edgeFrom_16 : decode cX0_edgeFrom 16 = .ok (.aload_n 1, 1) := dk_43 (dk_at dksX0_edgeFrom_0 16 rfl rfl)
theorem dX0_edgeFrom_17 : decode cX0_edgeFrom 17 = .ok (.iload_n 2, 1) := dk_28 (dk_at dksX0_edgeFrom_0 17 rfl rfl)
theorem dX0_edgeFrom_18 : decode cX0_edgeFrom 18 = .ok (.iload 4, 2) := dk_21 4 (dk_at dksX0_edgeFrom_0 18 rfl rfl)
theorem dX0_edgeFrom_20 : decode cX0_edgeFrom 20 = .ok (.invokevirtual 265, 3) := dk_182 1 9 (dk_at dksX0_edgeFrom_0 20 rfl rfl)
theorem dX0_edgeFrom_23 : decode cX0_edgeFrom 23 = .ok (.ifCond .eq 6, 3) := dk_153 0 6 (dk_at dksX0_edgeFrom_1 0 rfl rfl)
theorem dX0_edgeFrom_26 : decode cX0_edgeFrom 26 = .ok (.iload 4, 2) := dk_21 4 (dk_at dksX0_edgeFrom_1 3 rfl rfl)
theorem dX0_edgeFrom_28 : decode cX0_edgeFrom 28 = .ok (.ireturn, 1) := dk_172 (dk_at dksX0_edgeFrom_1 5 rfl rfl)
theorem dX0_edgeFrom_29 : decode cX0_edgeFrom 29 = .ok (.iinc 4 1, 3) := dk_132 4 1 (dk_at dksX0_edgeFrom_1 6 rfl rfl)
theorem dX0_edgeFrom_32 : decode cX0_edgeFrom 32 = .ok (.goto (-29), 3) := dk_167 255 227 (dk_at dksX0_edgeFrom_1 9 rfl rfl)
theorem dX0_edgeFrom_35 : decode cX0_edgeFrom 35 = .ok (.bipush (-9), 2) := dk_16 247 (dk_at dksX0_edgeFrom_1 12 rfl rfl)
theorem dX0_edgeFrom_37 : decode cX0_edgeFrom 37 = .ok (.ireturn, 1) := dk_172 (dk_at dksX0_edgeFrom_1 14 rfl rfl)
abbrev cX0_previous : ByteArray := prog_1_method_29_code
def yX0_previous : MethodName := ⟨RX0, "previous", "(III)I"⟩
def dkwX0_previous_2 : List UInt8 := [182, 1, 9, 153, 0, 6, 21, 5, 172, 132, 5, 255, 167, 255, 233, 16, 247, 172]
abbrev dktX0_previous_2 : List UInt8 := dkwX0_previous_2 ++ []
def dkwX0_previous_1 : List UInt8 := [172, 42, 27, 182, 1, 6, 58, 4, 29, 4, 100, 54, 5, 21, 5, 158, 0, 24, 42, 25, 4, 28, 21, 5]
abbrev dktX0_previous_1 : List UInt8 := dkwX0_previous_1 ++ dktX0_previous_2
def dkwX0_previous_0 : List UInt8 := [42, 27, 182, 0, 134, 153, 0, 18, 28, 184, 1, 3, 153, 0, 11, 42, 29, 182, 1, 0, 154, 0, 5, 2]
abbrev dktX0_previous_0 : List UInt8 := dkwX0_previous_0 ++ dktX0_previous_1
theorem dksX0_previous_0 : cX0_previous.data.toList.drop 0 = dktX0_previous_0 := by decide +kernel
theorem dksX0_previous_1 : cX0_previous.data.toList.drop 24 = dktX0_previous_1 := dk_seg dksX0_previous_0 24 rfl rfl
theorem dksX0_previous_2 : cX0_previous.data.toList.drop 48 = dktX0_previous_2 := dk_seg dksX0_previous_1 24 rfl rfl
theorem dX0_previous_0 : decode cX0_previous 0 = .ok (.aload_n 0, 1) := dk_42 (dk_at dksX0_previous_0 0 rfl rfl)
theorem dX0_previous_1 : decode cX0_previous 1 = .ok (.iload_n 1, 1) := dk_27 (dk_at dksX0_previous_0 1 rfl rfl)
theorem dX0_previous_2 : decode cX0_previous 2 = .ok (.invokevirtual 134, 3) := dk_182 0 134 (dk_at dksX0_previous_0 2 rfl rfl)
theorem dX0_previous_5 : decode cX0_previous 5 = .ok (.ifCond .eq 18, 3) := dk_153 0 18 (dk_at dksX0_previous_0 5 rfl rfl)
theorem dX0_previous_8 : decode cX0_previous 8 = .ok (.iload_n 2, 1) := dk_28 (dk_at dksX0_previous_0 8 rfl rfl)
theorem dX0_previous_9 : decode cX0_previous 9 = .ok (.invokestatic 259, 3) := dk_184 1 3 (dk_at dksX0_previous_0 9 rfl rfl)
theorem dX0_previous_12 : decode cX0_previous 12 = .ok (.ifCond .eq 11, 3) := dk_153 0 11 (dk_at dksX0_previous_0 12 rfl rfl)
theorem dX0_previous_15 : decode cX0_previous 15 = .ok (.aload_n 0, 1) := dk_42 (dk_at dksX0_previous_0 15 rfl rfl)
theorem dX0_previous_16 : decode cX0_previous 16 = .ok (.iload_n 3, 1) := dk_29 (dk_at dksX0_previous_0 16 rfl rfl)
theorem dX0_previous_17 : decode cX0_previous 17 = .ok (.invokevirtual 256, 3) := dk_182 1 0 (dk_at dksX0_previous_0 17 rfl rfl)
theorem dX0_previous_20 : decode cX0_previous 20 = .ok (.ifCond .ne 5, 3) := dk_154 0 5 (dk_at dksX0_previous_0 20 rfl rfl)
theorem dX0_previous_23 : decode cX0_previous 23 = .ok (.iconst (-1), 1) := dk_2 (dk_at dksX0_previous_0 23 rfl rfl)
theorem dX0_previous_24 : decode cX0_previous 24 = .ok (.ireturn, 1) := dk_172 (dk_at dksX0_previous_1 0 rfl rfl)
theorem dX0_previous_25 : decode cX0_previous 25 = .ok (.aload_n 0, 1) := dk_42 (dk_at dksX0_previous_1 1 rfl rfl)
theorem dX0_previous_26 : decode cX0_previous 26 = .ok (.iload_n 1, 1) := dk_27 (dk_at dksX0_previous_1 2 rfl rfl)
theorem dX0_previous_27 : decode cX0_previous 27 = .ok (.invokevirtual 262, 3) := dk_182 1 6 (dk_at dksX0_previous_1 3 rfl rfl)
theorem dX0_previous_30 : decode cX0_previous 30 = .ok (.astore 4, 2) := dk_58 4 (dk_at dksX0_previous_1 6 rfl rfl)
theorem dX0_previous_32 : decode cX0_previous 32 = .ok (.iload_n 3, 1) := dk_29 (dk_at dksX0_previous_1 8 rfl rfl)
theorem dX0_previous_33 : decode cX0_previous 33 = .ok (.iconst 1, 1) := dk_4 (dk_at dksX0_previous_1 9 rfl rfl)
theorem dX0_previous_34 : decode cX0_previous 34 = .ok (.isub, 1) := dk_100 (dk_at dksX0_previous_1 10 rfl rfl)
theorem dX0_previous_35 : decode cX0_previous 35 = .ok (.istore 5, 2) := dk_54 5 (dk_at dksX0_previous_1 11 rfl rfl)
theorem dX0_previous_37 : decode cX0_previous 37 = .ok (.iload 5, 2) := dk_21 5 (dk_at dksX0_previous_1 13 rfl rfl)
theorem dX0_previous_39 : decode cX0_previous 39 = .ok (.ifCond .le 24, 3) := dk_158 0 24 (dk_at dksX0_previous_1 15 rfl rfl)
theorem dX0_previous_42 : decode cX0_previous 42 = .ok (.aload_n 0, 1) := dk_42 (dk_at dksX0_previous_1 18 rfl rfl)
theorem dX0_previous_43 : decode cX0_previous 43 = .ok (.aload 4, 2) := dk_25 4 (dk_at dksX0_previous_1 19 rfl rfl)
theorem dX0_previous_45 : decode cX0_previous 45 = .ok (.iload_n 2, 1) := dk_28 (dk_at dksX0_previous_1 21 rfl rfl)
theorem dX0_previous_46 : decode cX0_previous 46 = .ok (.iload 5, 2) := dk_21 5 (dk_at dksX0_previous_1 22 rfl rfl)
theorem dX0_previous_48 : decode cX0_previous 48 = .ok (.invokevirtual 265, 3) := dk_182 1 9 (dk_at dksX0_previous_2 0 rfl rfl)
theorem dX0_previous_51 : decode cX0_previous 51 = .ok (.ifCond .eq 6, 3) := dk_153 0 6 (dk_at dksX0_previous_2 3 rfl rfl)
theorem dX0_previous_54 : decode cX0_previous 54 = .ok (.iload 5, 2) := dk_21 5 (dk_at dksX0_previous_2 6 rfl rfl)
theorem dX0_previous_56 : decode cX0_previous 56 = .ok (.ireturn, 1) := dk_172 (dk_at dksX0_previous_2 8 rfl rfl)
theorem dX0_previous_57 : decode cX0_previous 57 = .ok (.iinc 5 (-1), 3) := dk_132 5 255 (dk_at dksX0_previous_2 9 rfl rfl)
theorem dX0_previous_60 : decode cX0_previous 60 = .ok (.goto (-23), 3) := dk_167 255 233 (dk_at dksX0_previous_2 12 rfl rfl)
theorem dX0_previous_63 : decode cX0_previous 63 = .ok (.bipush (-9), 2) := dk_16 247 (dk_at dksX0_previous_2 15 rfl rfl)
theorem dX0_previous_65 : decode cX0_previous 65 = .ok (.ireturn, 1) := dk_172 (dk_at dksX0_previous_2 17 rfl rfl)
abbrev cX0_first : ByteArray := prog_1_method_31_code
def yX0_first : MethodName := ⟨RX0, "first", "(III)I"⟩
def dkwX0_first_2 : List UInt8 := [25, 4, 21, 5, 46, 28, 160, 0, 6, 21, 5, 172, 132, 5, 1, 167, 255, 229, 16, 247, 172]
abbrev dktX0_first_2 : List UInt8 := dkwX0_first_2 ++ []
def dkwX0_first_1 : List UInt8 := [172, 42, 27, 182, 1, 6, 58, 4, 29, 54, 5, 21, 5, 42, 180, 0, 23, 180, 0, 145, 163, 0, 21]
abbrev dktX0_first_1 : List UInt8 := dkwX0_first_1 ++ dktX0_first_2
def dkwX0_first_0 : List UInt8 := [42, 27, 182, 0, 134, 153, 0, 18, 28, 184, 1, 17, 153, 0, 11, 42, 29, 182, 1, 0, 154, 0, 5, 2]
abbrev dktX0_first_0 : List UInt8 := dkwX0_first_0 ++ dktX0_first_1
theorem dksX0_first_0 : cX0_first.data.toList.drop 0 = dktX0_first_0 := by decide +kernel
theorem dksX0_first_1 : cX0_first.data.toList.drop 24 = dktX0_first_1 := dk_seg dksX0_first_0 24 rfl rfl
theorem dksX0_first_2 : cX0_first.data.toList.drop 47 = dktX0_first_2 := dk_seg dksX0_first_1 23 rfl rfl
theorem dX0_first_0 : decode cX0_first 0 = .ok (.aload_n 0, 1) := dk_42 (dk_at dksX0_first_0 0 rfl rfl)
theorem dX0_first_1 : decode cX0_first 1 = .ok (.iload_n 1, 1) := dk_27 (dk_at dksX0_first_0 1 rfl rfl)
theorem dX0_first_2 : decode cX0_first 2 = .ok (.invokevirtual 134, 3) := dk_182 0 134 (dk_at dksX0_first_0 2 rfl rfl)
theorem dX0_first_5 : decode cX0_first 5 = .ok (.ifCond .eq 18, 3) := dk_153 0 18 (dk_at dksX0_first_0 5 rfl rfl)
theorem dX0_first_8 : decode cX0_first 8 = .ok (.iload_n 2, 1) := dk_28 (dk_at dksX0_first_0 8 rfl rfl)
theorem dX0_first_9 : decode cX0_first 9 = .ok (.invokestatic 273, 3) := dk_184 1 17 (dk_at dksX0_first_0 9 rfl rfl)
theorem dX0_first_12 : decode cX0_first 12 = .ok (.ifCond .eq 11, 3) := dk_153 0 11 (dk_at dksX0_first_0 12 rfl rfl)
theorem dX0_first_15 : decode cX0_first 15 = .ok (.aload_n 0, 1) := dk_42 (dk_at dksX0_first_0 15 rfl rfl)
theorem dX0_first_16 : decode cX0_first 16 = .ok (.iload_n 3, 1) := dk_29 (dk_at dksX0_first_0 16 rfl rfl)
theorem dX0_first_17 : decode cX0_first 17 = .ok (.invokevirtual 256, 3) := dk_182 1 0 (dk_at dksX0_first_0 17 rfl rfl)
theorem dX0_first_20 : decode cX0_first 20 = .ok (.ifCond .ne 5, 3) := dk_154 0 5 (dk_at dksX0_first_0 20 rfl rfl)
theorem dX0_first_23 : decode cX0_first 23 = .ok (.iconst (-1), 1) := dk_2 (dk_at dksX0_first_0 23 rfl rfl)
theorem dX0_first_24 : decode cX0_first 24 = .ok (.ireturn, 1) := dk_172 (dk_at dksX0_first_1 0 rfl rfl)
theorem dX0_first_25 : decode cX0_first 25 = .ok (.aload_n 0, 1) := dk_42 (dk_at dksX0_first_1 1 rfl rfl)
theorem dX0_first_26 : decode cX0_first 26 = .ok (.iload_n 1, 1) := dk_27 (dk_at dksX0_first_1 2 rfl rfl)
theorem dX0_first_27 : decode cX0_first 27 = .ok (.invokevirtual 262, 3) := dk_182 1 6 (dk_at dksX0_first_1 3 rfl rfl)
theorem dX0_first_30 : decode cX0_first 30 = .ok (.astore 4, 2) := dk_58 4 (dk_at dksX0_first_1 6 rfl rfl)
theorem dX0_first_32 : decode cX0_first 32 = .ok (.iload_n 3, 1) := dk_29 (dk_at dksX0_first_1 8 rfl rfl)
theorem dX0_first_33 : decode cX0_first 33 = .ok (.istore 5, 2) := dk_54 5 (dk_at dksX0_first_1 9 rfl rfl)
theorem dX0_first_35 : decode cX0_first 35 = .ok (.iload 5, 2) := dk_21 5 (dk_at dksX0_first_1 11 rfl rfl)
theorem dX0_first_37 : decode cX0_first 37 = .ok (.aload_n 0, 1) := dk_42 (dk_at dksX0_first_1 13 rfl rfl)
theorem dX0_first_38 : decode cX0_first 38 = .ok (.getfield 23, 3) := dk_180 0 23 (dk_at dksX0_first_1 14 rfl rfl)
theorem dX0_first_41 : decode cX0_first 41 = .ok (.getfield 145, 3) := dk_180 0 145 (dk_at dksX0_first_1 17 rfl rfl)
theorem dX0_first_44 : decode cX0_first 44 = .ok (.if_icmp .gt 21, 3) := dk_163 0 21 (dk_at dksX0_first_1 20 rfl rfl)
theorem dX0_first_47 : decode cX0_first 47 = .ok (.aload 4, 2) := dk_25 4 (dk_at dksX0_first_2 0 rfl rfl)
theorem dX0_first_49 : decode cX0_first 49 = .ok (.iload 5, 2) := dk_21 5 (dk_at dksX0_first_2 2 rfl rfl)
theorem dX0_first_51 : decode cX0_first 51 = .ok (.iaload, 1) := dk_46 (dk_at dksX0_first_2 4 rfl rfl)
theorem dX0_first_52 : decode cX0_first 52 = .ok (.iload_n 2, 1) := dk_28 (dk_at dksX0_first_2 5 rfl rfl)
theorem dX0_first_53 : decode cX0_first 53 = .ok (.if_icmp .ne 6, 3) := dk_160 0 6 (dk_at dksX0_first_2 6 rfl rfl)
theorem dX0_first_56 : decode cX0_first 56 = .ok (.iload 5, 2) := dk_21 5 (dk_at dksX0_first_2 9 rfl rfl)
theorem dX0_first_58 : decode cX0_first 58 = .ok (.ireturn, 1) := dk_172 (dk_at dksX0_first_2 11 rfl rfl)
theorem dX0_first_59 : decode cX0_first 59 = .ok (.iinc 5 1, 3) := dk_132 5 1 (dk_at dksX0_first_2 12 rfl rfl)
theorem dX0_first_62 : decode cX0_first 62 = .ok (.goto (-27), 3) := dk_167 255 229 (dk_at dksX0_first_2 15 rfl rfl)
theorem dX0_first_65 : decode cX0_first 65 = .ok (.bipush (-9), 2) := dk_16 247 (dk_at dksX0_first_2 18 rfl rfl)
theorem dX0_first_67 : decode cX0_first 67 = .ok (.ireturn, 1) := dk_172 (dk_at dksX0_first_2 20 rfl rfl)
abbrev cX0_isValue : ByteArray := prog_1_method_30_code
def yX0_isValue : MethodName := ⟨RX0, "isValue", "(I)Z"⟩
def dkwX0_isValue_0 : List UInt8 := [26, 3, 17, 0, 255, 184, 0, 69, 154, 0, 9, 26, 16, 249, 160, 0, 7, 4, 167, 0, 4, 3, 172]
abbrev dktX0_isValue_0 : List UInt8 := dkwX0_isValue_0 ++ []
theorem dksX0_isValue_0 : cX0_isValue.data.toList.drop 0 = dktX0_isValue_0 := by decide +kernel
theorem dX0_isValue_0 : decode cX0_isValue 0 = .ok (.iload_n 0, 1) := dk_26 (dk_at dksX0_isValue_0 0 rfl rfl)
theorem dX0_isValue_1 : decode cX0_isValue 1 = .ok (.iconst 0, 1) := dk_3 (dk_at dksX0_isValue_0 1 rfl rfl)
theorem dX0_isValue_2 : decode cX0_isValue 2 = .ok (.sipush 255, 3) := dk_17 0 255 (dk_at dksX0_isValue_0 2 rfl rfl)
theorem dX0_isValue_5 : decode cX0_isValue 5 = .ok (.invokestatic 69, 3) := dk_184 0 69 (dk_at dksX0_isValue_0 5 rfl rfl)
theorem dX0_isValue_8 : decode cX0_isValue 8 = .ok (.ifCond .ne 9, 3) := dk_154 0 9 (dk_at dksX0_isValue_0 8 rfl rfl)
theorem dX0_isValue_11 : decode cX0_isValue 11 = .ok (.iload_n 0, 1) := dk_26 (dk_at dksX0_isValue_0 11 rfl rfl)
theorem dX0_isValue_12 : decode cX0_isValue 12 = .ok (.bipush (-7), 2) := dk_16 249 (dk_at dksX0_isValue_0 12 rfl rfl)
theorem dX0_isValue_14 : decode cX0_isValue 14 = .ok (.if_icmp .ne 7, 3) := dk_160 0 7 (dk_at dksX0_isValue_0 14 rfl rfl)
theorem dX0_isValue_17 : decode cX0_isValue 17 = .ok (.iconst 1, 1) := dk_4 (dk_at dksX0_isValue_0 17 rfl rfl)
theorem dX0_isValue_18 : decode cX0_isValue 18 = .ok (.goto 4, 3) := dk_167 0 4 (dk_at dksX0_isValue_0 18 rfl rfl)
theorem dX0_isValue_21 : decode cX0_isValue 21 = .ok (.iconst 0, 1) := dk_3 (dk_at dksX0_isValue_0 21 rfl rfl)
theorem dX0_isValue_22 : decode cX0_isValue 22 = .ok (.ireturn, 1) := dk_172 (dk_at dksX0_isValue_0 22 rfl rfl)
abbrev cX0_holds : ByteArray := prog_1_method_32_code
def yX0_holds : MethodName := ⟨RX0, "holds", "(III)I"⟩
def dkwX0_holds_4 : List UInt8 := [132, 6, 1, 167, 255, 200, 16, 247, 172]
abbrev dktX0_holds_4 : List UInt8 := dkwX0_holds_4 ++ []
def dkwX0_holds_3 : List UInt8 := [3, 167, 0, 7, 21, 5, 4, 96, 54, 5, 21, 5, 28, 160, 0, 10, 21, 6, 28, 100, 4, 96, 172]
abbrev dktX0_holds_3 : List UInt8 := dkwX0_holds_3 ++ dktX0_holds_4
def dkwX0_holds_2 : List UInt8 := [180, 0, 145, 163, 0, 50, 25, 4, 21, 6, 46, 16, 249, 159, 0, 11, 25, 4, 21, 6, 46, 154, 0, 7]
abbrev dktX0_holds_2 : List UInt8 := dkwX0_holds_2 ++ dktX0_holds_3
def dkwX0_holds_1 : List UInt8 := [154, 0, 5, 2, 172, 42, 27, 182, 1, 6, 58, 4, 3, 54, 5, 29, 54, 6, 21, 6, 42, 180, 0, 23]
abbrev dktX0_holds_1 : List UInt8 := dkwX0_holds_1 ++ dktX0_holds_2
def dkwX0_holds_0 : List UInt8 := [42, 27, 182, 0, 134, 153, 0, 22, 28, 4, 17, 3, 231, 184, 0, 69, 153, 0, 11, 42, 29, 182, 1, 0]
abbrev dktX0_holds_0 : List UInt8 := dkwX0_holds_0 ++ dktX0_holds_1
theorem dksX0_holds_0 : cX0_holds.data.toList.drop 0 = dktX0_holds_0 := by decide +kernel
theorem dksX0_holds_1 : cX0_holds.data.toList.drop 24 = dktX0_holds_1 := dk_seg dksX0_holds_0 24 rfl rfl
theorem dksX0_holds_2 : cX0_holds.data.toList.drop 48 = dktX0_holds_2 := dk_seg dksX0_holds_1 24 rfl rfl
theorem dksX0_holds_3 : cX0_holds.data.toList.drop 72 = dktX0_holds_3 := dk_seg dksX0_holds_2 24 rfl rfl
theorem dksX0_holds_4 : cX0_holds.data.toList.drop 95 = dktX0_holds_4 := dk_seg dksX0_holds_3 23 rfl rfl
theorem dX0_holds_0 : decode cX0_holds 0 = .ok (.aload_n 0, 1) := dk_42 (dk_at dksX0_holds_0 0 rfl rfl)
theorem dX0_holds_1 : decode cX0_holds 1 = .ok (.iload_n 1, 1) := dk_27 (dk_at dksX0_holds_0 1 rfl rfl)
theorem dX0_holds_2 : decode cX0_holds 2 = .ok (.invokevirtual 134, 3) := dk_182 0 134 (dk_at dksX0_holds_0 2 rfl rfl)
theorem dX0_holds_5 : decode cX0_holds 5 = .ok (.ifCond .eq 22, 3) := dk_153 0 22 (dk_at dksX0_holds_0 5 rfl rfl)
theorem dX0_holds_8 : decode cX0_holds 8 = .ok (.iload_n 2, 1) := dk_28 (dk_at dksX0_holds_0 8 rfl rfl)
theorem dX0_holds_9 : decode cX0_holds 9 = .ok (.iconst 1, 1) := dk_4 (dk_at dksX0_holds_0 9 rfl rfl)
theorem dX0_holds_10 : decode cX0_holds 10 = .ok (.sipush 999, 3) := dk_17 3 231 (dk_at dksX0_holds_0 10 rfl rfl)
theorem dX0_holds_13 : decode cX0_holds 13 = .ok (.invokestatic 69, 3) := dk_184 0 69 (dk_at dksX0_holds_0 13 rfl rfl)
theorem dX0_holds_16 : decode cX0_holds 16 = .ok (.ifCond .eq 11, 3) := dk_153 0 11 (dk_at dksX0_holds_0 16 rfl rfl)
theorem dX0_holds_19 : decode cX0_holds 19 = .ok (.aload_n 0, 1) := dk_42 (dk_at dksX0_holds_0 19 rfl rfl)
theorem dX0_holds_20 : decode cX0_holds 20 = .ok (.iload_n 3, 1) := dk_29 (dk_at dksX0_holds_0 20 rfl rfl)
theorem dX0_holds_21 : decode cX0_holds 21 = .ok (.invokevirtual 256, 3) := dk_182 1 0 (dk_at dksX0_holds_0 21 rfl rfl)
theorem dX0_holds_24 : decode cX0_holds 24 = .ok (.ifCond .ne 5, 3) := dk_154 0 5 (dk_at dksX0_holds_1 0 rfl rfl)
theorem dX0_holds_27 : decode cX0_holds 27 = .ok (.iconst (-1), 1) := dk_2 (dk_at dksX0_holds_1 3 rfl rfl)
theorem dX0_holds_28 : decode cX0_holds 28 = .ok (.ireturn, 1) := dk_172 (dk_at dksX0_holds_1 4 rfl rfl)
theorem dX0_holds_29 : decode cX0_holds 29 = .ok (.aload_n 0, 1) := dk_42 (dk_at dksX0_holds_1 5 rfl rfl)
theorem dX0_holds_30 : decode cX0_holds 30 = .ok (.iload_n 1, 1) := dk_27 (dk_at dksX0_holds_1 6 rfl rfl)
theorem dX0_holds_31 : decode cX0_holds 31 = .ok (.invokevirtual 262, 3) := dk_182 1 6 (dk_at dksX0_holds_1 7 rfl rfl)
theorem dX0_holds_34 : decode cX0_holds 34 = .ok (.astore 4, 2) := dk_58 4 (dk_at dksX0_holds_1 10 rfl rfl)
theorem dX0_holds_36 : decode cX0_holds 36 = .ok (.iconst 0, 1) := dk_3 (dk_at dksX0_holds_1 12 rfl rfl)
theorem dX0_holds_37 : decode cX0_holds 37 = .ok (.istore 5, 2) := dk_54 5 (dk_at dksX0_holds_1 13 rfl rfl)
theorem dX0_holds_39 : decode cX0_holds 39 = .ok (.iload_n 3, 1) := dk_29 (dk_at dksX0_holds_1 15 rfl rfl)
theorem dX0_holds_40 : decode cX0_holds 40 = .ok (.istore 6, 2) := dk_54 6 (dk_at dksX0_holds_1 16 rfl rfl)
theorem dX0_holds_42 : decode cX0_holds 42 = .ok (.iload 6, 2) := dk_21 6 (dk_at dksX0_holds_1 18 rfl rfl)
theorem dX0_holds_44 : decode cX0_holds 44 = .ok (.aload_n 0, 1) := dk_42 (dk_at dksX0_holds_1 20 rfl rfl)
theorem dX0_holds_45 : decode cX0_holds 45 = .ok (.getfield 23, 3) := dk_180 0 23 (dk_at dksX0_holds_1 21 rfl rfl)
theorem dX0_holds_48 : decode cX0_holds 48 = .ok (.getfield 145, 3) := dk_180 0 145 (dk_at dksX0_holds_2 0 rfl rfl)
theorem dX0_holds_51 : decode cX0_holds 51 = .ok (.if_icmp .gt 50, 3) := dk_163 0 50 (dk_at dksX0_holds_2 3 rfl rfl)
theorem dX0_holds_54 : decode cX0_holds 54 = .ok (.aload 4, 2) := dk_25 4 (dk_at dksX0_holds_2 6 rfl rfl)
theorem dX0_holds_56 : decode cX0_holds 56 = .ok (.iload 6, 2) := dk_21 6 (dk_at dksX0_holds_2 8 rfl rfl)
theorem dX0_holds_58 : decode cX0_holds 58 = .ok (.iaload, 1) := dk_46 (dk_at dksX0_holds_2 10 rfl rfl)
theorem dX0_holds_59 : decode cX0_holds 59 = .ok (.bipush (-7), 2) := dk_16 249 (dk_at dksX0_holds_2 11 rfl rfl)
theorem dX0_holds_61 : decode cX0_holds 61 = .ok (.if_icmp .eq 11, 3) := dk_159 0 11 (dk_at dksX0_holds_2 13 rfl rfl)
theorem dX0_holds_64 : decode cX0_holds 64 = .ok (.aload 4, 2) := dk_25 4 (dk_at dksX0_holds_2 16 rfl rfl)
theorem dX0_holds_66 : decode cX0_holds 66 = .ok (.iload 6, 2) := dk_21 6 (dk_at dksX0_holds_2 18 rfl rfl)
theorem dX0_holds_68 : decode cX0_holds 68 = .ok (.iaload, 1) := dk_46 (dk_at dksX0_holds_2 20 rfl rfl)
theorem dX0_holds_69 : decode cX0_holds 69 = .ok (.ifCond .ne 7, 3) := dk_154 0 7 (dk_at dksX0_holds_2 21 rfl rfl)
theorem dX0_holds_72 : decode cX0_holds 72 = .ok (.iconst 0, 1) := dk_3 (dk_at dksX0_holds_3 0 rfl rfl)
theorem dX0_holds_73 : decode cX0_holds 73 = .ok (.goto 7, 3) := dk_167 0 7 (dk_at dksX0_holds_3 1 rfl rfl)
theorem dX0_holds_76 : decode cX0_holds 76 = .ok (.iload 5, 2) := dk_21 5 (dk_at dksX0_holds_3 4 rfl rfl)
theorem dX0_holds_78 : decode cX0_holds 78 = .ok (.iconst 1, 1) := dk_4 (dk_at dksX0_holds_3 6 rfl rfl)
theorem dX0_holds_79 : decode cX0_holds 79 = .ok (.iadd, 1) := dk_96 (dk_at dksX0_holds_3 7 rfl rfl)
theorem dX0_holds_80 : decode cX0_holds 80 = .ok (.istore 5, 2) := dk_54 5 (dk_at dksX0_holds_3 8 rfl rfl)
theorem dX0_holds_82 : decode cX0_holds 82 = .ok (.iload 5, 2) := dk_21 5 (dk_at dksX0_holds_3 10 rfl rfl)
theorem dX0_holds_84 : decode cX0_holds 84 = .ok (.iload_n 2, 1) := dk_28 (dk_at dksX0_holds_3 12 rfl rfl)
theorem dX0_holds_85 : decode cX0_holds 85 = .ok (.if_icmp .ne 10, 3) := dk_160 0 10 (dk_at dksX0_holds_3 13 rfl rfl)
theorem dX0_holds_88 : decode cX0_holds 88 = .ok (.iload 6, 2) := dk_21 6 (dk_at dksX0_holds_3 16 rfl rfl)
theorem dX0_holds_90 : decode cX0_holds 90 = .ok (.iload_n 2, 1) := dk_28 (dk_at dksX0_holds_3 18 rfl rfl)
theorem dX0_holds_91 : decode cX0_holds 91 = .ok (.isub, 1) := dk_100 (dk_at dksX0_holds_3 19 rfl rfl)
theorem dX0_holds_92 : decode cX0_holds 92 = .ok (.iconst 1, 1) := dk_4 (dk_at dksX0_holds_3 20 rfl rfl)
theorem dX0_holds_93 : decode cX0_holds 93 = .ok (.iadd, 1) := dk_96 (dk_at dksX0_holds_3 21 rfl rfl)
theorem dX0_holds_94 : decode cX0_holds 94 = .ok (.ireturn, 1) := dk_172 (dk_at dksX0_holds_3 22 rfl rfl)
theorem dX0_holds_95 : decode cX0_holds 95 = .ok (.iinc 6 1, 3) := dk_132 6 1 (dk_at dksX0_holds_4 0 rfl rfl)
theorem dX0_holds_98 : decode cX0_holds 98 = .ok (.goto (-56), 3) := dk_167 255 200 (dk_at dksX0_holds_4 3 rfl rfl)
theorem dX0_holds_101 : decode cX0_holds 101 = .ok (.bipush (-9), 2) := dk_16 247 (dk_at dksX0_holds_4 6 rfl rfl)
theorem dX0_holds_103 : decode cX0_holds 103 = .ok (.ireturn, 1) := dk_172 (dk_at dksX0_holds_4 8 rfl rfl)
abbrev cX0_ticks : ByteArray := prog_1_method_34_code
def yX0_ticks : MethodName := ⟨RX0, "ticks", "(II)I"⟩
def dkwX0_ticks_8 : List UInt8 := [160, 0, 8, 21, 4, 167, 0, 5, 16, 247, 172]
abbrev dktX0_ticks_8 : List UInt8 := dkwX0_ticks_8 ++ []
def dkwX0_ticks_7 : List UInt8 := [25, 6, 180, 1, 48, 54, 5, 42, 25, 6, 182, 1, 35, 45, 182, 1, 38, 167, 255, 198, 28, 2]
abbrev dktX0_ticks_7 : List UInt8 := dkwX0_ticks_7 ++ dktX0_ticks_8
def dkwX0_ticks_6 : List UInt8 := [180, 1, 48, 21, 5, 159, 0, 25, 21, 4, 28, 160, 0, 9, 25, 6, 180, 1, 48, 172, 132, 4, 1]
abbrev dktX0_ticks_6 : List UInt8 := dkwX0_ticks_6 ++ dktX0_ticks_7
def dkwX0_ticks_5 : List UInt8 := [54, 4, 16, 247, 54, 5, 45, 182, 1, 42, 154, 0, 57, 45, 182, 1, 45, 192, 1, 30, 58, 6, 25, 6]
abbrev dktX0_ticks_5 : List UInt8 := dkwX0_ticks_5 ++ dktX0_ticks_6
def dkwX0_ticks_4 : List UInt8 := [25, 5, 180, 0, 127, 182, 1, 6, 3, 183, 1, 32, 182, 1, 35, 45, 182, 1, 38, 167, 255, 196, 3]
abbrev dktX0_ticks_4 : List UInt8 := dkwX0_ticks_4 ++ dktX0_ticks_5
def dkwX0_ticks_3 : List UInt8 := [192, 0, 120, 58, 5, 27, 25, 5, 180, 0, 127, 184, 1, 26, 153, 0, 29, 42, 187, 1, 30, 89, 42, 42]
abbrev dktX0_ticks_3 : List UInt8 := dkwX0_ticks_3 ++ dktX0_ticks_4
def dkwX0_ticks_2 : List UInt8 := [185, 0, 104, 1, 0, 58, 4, 25, 4, 185, 0, 110, 1, 0, 153, 0, 56, 25, 4, 185, 0, 116, 1, 0]
abbrev dktX0_ticks_2 : List UInt8 := dkwX0_ticks_2 ++ dktX0_ticks_3
def dkwX0_ticks_1 : List UInt8 := [28, 2, 162, 0, 5, 2, 172, 187, 1, 21, 89, 183, 1, 25, 78, 42, 180, 0, 10, 180, 0, 100]
abbrev dktX0_ticks_1 : List UInt8 := dkwX0_ticks_1 ++ dktX0_ticks_2
def dkwX0_ticks_0 : List UInt8 := [27, 3, 4, 42, 180, 0, 10, 180, 0, 100, 185, 0, 130, 1, 0, 120, 4, 100, 184, 0, 69, 153, 0, 8]
abbrev dktX0_ticks_0 : List UInt8 := dkwX0_ticks_0 ++ dktX0_ticks_1
theorem dksX0_ticks_0 : cX0_ticks.data.toList.drop 0 = dktX0_ticks_0 := by decide +kernel
theorem dksX0_ticks_1 : cX0_ticks.data.toList.drop 24 = dktX0_ticks_1 := dk_seg dksX0_ticks_0 24 rfl rfl
theorem dksX0_ticks_2 : cX0_ticks.data.toList.drop 46 = dktX0_ticks_2 := dk_seg dksX0_ticks_1 22 rfl rfl
theorem dksX0_ticks_3 : cX0_ticks.data.toList.drop 70 = dktX0_ticks_3 := dk_seg dksX0_ticks_2 24 rfl rfl
theorem dksX0_ticks_4 : cX0_ticks.data.toList.drop 94 = dktX0_ticks_4 := dk_seg dksX0_ticks_3 24 rfl rfl
theorem dksX0_ticks_5 : cX0_ticks.data.toList.drop 117 = dktX0_ticks_5 := dk_seg dksX0_ticks_4 23 rfl rfl
theorem dksX0_ticks_6 : cX0_ticks.data.toList.drop 141 = dktX0_ticks_6 := dk_seg dksX0_ticks_5 24 rfl rfl
theorem dksX0_ticks_7 : cX0_ticks.data.toList.drop 164 = dktX0_ticks_7 := dk_seg dksX0_ticks_6 23 rfl rfl
theorem dksX0_ticks_8 : cX0_ticks.data.toList.drop 186 = dktX0_ticks_8 := dk_seg dksX0_ticks_7 22 rfl rfl
theorem dX0_ticks_0 : decode cX0_ticks 0 = .ok (.iload_n 1, 1) := dk_27 (dk_at dksX0_ticks_0 0 rfl rfl)
theorem dX0_ticks_1 : decode cX0_ticks 1 = .ok (.iconst 0, 1) := dk_3 (dk_at dksX0_ticks_0 1 rfl rfl)
theorem dX0_ticks_2 : decode cX0_ticks 2 = .ok (.iconst 1, 1) := dk_4 (dk_at dksX0_ticks_0 2 rfl rfl)
theorem dX0_ticks_3 : decode cX0_ticks 3 = .ok (.aload_n 0, 1) := dk_42 (dk_at dksX0_ticks_0 3 rfl rfl)
theorem dX0_ticks_4 : decode cX0_ticks 4 = .ok (.getfield 10, 3) := dk_180 0 10 (dk_at dksX0_ticks_0 4 rfl rfl)
theorem dX0_ticks_7 : decode cX0_ticks 7 = .ok (.getfield 100, 3) := dk_180 0 100 (dk_at dksX0_ticks_0 7 rfl rfl)
theorem dX0_ticks_10 : decode cX0_ticks 10 = .ok (.invokeinterface 130 1, 5) := by decide +kernel
theorem dX0_ticks_15 : decode cX0_ticks 15 = .ok (.ishl, 1) := dk_120 (dk_at dksX0_ticks_0 15 rfl rfl)
theorem dX0_ticks_16 : decode cX0_ticks 16 = .ok (.iconst 1, 1) := dk_4 (dk_at dksX0_ticks_0 16 rfl rfl)
theorem dX0_ticks_17 : decode cX0_ticks 17 = .ok (.isub, 1) := dk_100 (dk_at dksX0_ticks_0 17 rfl rfl)
theorem dX0_ticks_18 : decode cX0_ticks 18 = .ok (.invokestatic 69, 3) := dk_184 0 69 (dk_at dksX0_ticks_0 18 rfl rfl)
theorem dX0_ticks_21 : decode cX0_ticks 21 = .ok (.ifCond .eq 8, 3) := dk_153 0 8 (dk_at dksX0_ticks_0 21 rfl rfl)
theorem dX0_ticks_24 : decode cX0_ticks 24 = .ok (.iload_n 2, 1) := dk_28 (dk_at dksX0_ticks_1 0 rfl rfl)
theorem dX0_ticks_25 : decode cX0_ticks 25 = .ok (.iconst (-1), 1) := dk_2 (dk_at dksX0_ticks_1 1 rfl rfl)
theorem dX0_ticks_26 : decode cX0_ticks 26 = .ok (.if_icmp .ge 5, 3) := dk_162 0 5 (dk_at dksX0_ticks_1 2 rfl rfl)
theorem dX0_ticks_29 : decode cX0_ticks 29 = .ok (.iconst (-1), 1) := dk_2 (dk_at dksX0_ticks_1 5 rfl rfl)
theorem dX0_ticks_30 : decode cX0_ticks 30 = .ok (.ireturn, 1) := dk_172 (dk_at dksX0_ticks_1 6 rfl rfl)
theorem dX0_ticks_31 : decode cX0_ticks 31 = .ok (.new 277, 3) := dk_187 1 21 (dk_at dksX0_ticks_1 7 rfl rfl)
theorem dX0_ticks_34 : decode cX0_ticks 34 = .ok (.dup, 1) := dk_89 (dk_at dksX0_ticks_1 10 rfl rfl)
theorem dX0_ticks_35 : decode cX0_ticks 35 = .ok (.invokespecial 281, 3) := dk_183 1 25 (dk_at dksX0_ticks_1 11 rfl rfl)
theorem dX0_ticks_38 : decode cX0_ticks 38 = .ok (.astore_n 3, 1) := dk_78 (dk_at dksX0_ticks_1 14 rfl rfl)
theorem dX0_ticks_39 : decode cX0_ticks 39 = .ok (.aload_n 0, 1) := dk_42 (dk_at dksX0_ticks_1 15 rfl rfl)
theorem dX0_ticks_40 : decode cX0_ticks 40 = .ok (.getfield 10, 3) := dk_180 0 10 (dk_at dksX0_ticks_1 16 rfl rfl)
theorem dX0_ticks_43 : decode cX0_ticks 43 = .ok (.getfield 100, 3) := dk_180 0 100 (dk_at dksX0_ticks_1 19 rfl rfl)
theorem dX0_ticks_46 : decode cX0_ticks 46 = .ok (.invokeinterface 104 1, 5) := by decide +kernel
theorem dX0_ticks_51 : decode cX0_ticks 51 = .ok (.astore 4, 2) := dk_58 4 (dk_at dksX0_ticks_2 5 rfl rfl)
theorem dX0_ticks_53 : decode cX0_ticks 53 = .ok (.aload 4, 2) := dk_25 4 (dk_at dksX0_ticks_2 7 rfl rfl)
theorem dX0_ticks_55 : decode cX0_ticks 55 = .ok (.invokeinterface 110 1, 5) := by decide +kernel
theorem dX0_ticks_60 : decode cX0_ticks 60 = .ok (.ifCond .eq 56, 3) := dk_153 0 56 (dk_at dksX0_ticks_2 14 rfl rfl)
theorem dX0_ticks_63 : decode cX0_ticks 63 = .ok (.aload 4, 2) := dk_25 4 (dk_at dksX0_ticks_2 17 rfl rfl)
theorem dX0_ticks_65 : decode cX0_ticks 65 = .ok (.invokeinterface 116 1, 5) := by decide +kernel
theorem dX0_ticks_70 : decode cX0_ticks 70 = .ok (.checkcast 120, 3) := dk_192 0 120 (dk_at dksX0_ticks_3 0 rfl rfl)
theorem dX0_ticks_73 : decode cX0_ticks 73 = .ok (.astore 5, 2) := dk_58 5 (dk_at dksX0_ticks_3 3 rfl rfl)
theorem dX0_ticks_75 : decode cX0_ticks 75 = .ok (.iload_n 1, 1) := dk_27 (dk_at dksX0_ticks_3 5 rfl rfl)
theorem dX0_ticks_76 : decode cX0_ticks 76 = .ok (.aload 5, 2) := dk_25 5 (dk_at dksX0_ticks_3 6 rfl rfl)
theorem dX0_ticks_78 : decode cX0_ticks 78 = .ok (.getfield 127, 3) := dk_180 0 127 (dk_at dksX0_ticks_3 8 rfl rfl)
theorem dX0_ticks_81 : decode cX0_ticks 81 = .ok (.invokestatic 282, 3) := dk_184 1 26 (dk_at dksX0_ticks_3 11 rfl rfl)
theorem dX0_ticks_84 : decode cX0_ticks 84 = .ok (.ifCond .eq 29, 3) := dk_153 0 29 (dk_at dksX0_ticks_3 14 rfl rfl)
theorem dX0_ticks_87 : decode cX0_ticks 87 = .ok (.aload_n 0, 1) := dk_42 (dk_at dksX0_ticks_3 17 rfl rfl)
theorem dX0_ticks_88 : decode cX0_ticks 88 = .ok (.new 286, 3) := dk_187 1 30 (dk_at dksX0_ticks_3 18 rfl rfl)
theorem dX0_ticks_91 : decode cX0_ticks 91 = .ok (.dup, 1) := dk_89 (dk_at dksX0_ticks_3 21 rfl rfl)
theorem dX0_ticks_92 : decode cX0_ticks 92 = .ok (.aload_n 0, 1) := dk_42 (dk_at dksX0_ticks_3 22 rfl rfl)
theorem dX0_ticks_93 : decode cX0_ticks 93 = .ok (.aload_n 0, 1) := dk_42 (dk_at dksX0_ticks_3 23 rfl rfl)
theorem dX0_ticks_94 : decode cX0_ticks 94 = .ok (.aload 5, 2) := dk_25 5 (dk_at dksX0_ticks_4 0 rfl rfl)
theorem dX0_ticks_96 : decode cX0_ticks 96 = .ok (.getfield 127, 3) := dk_180 0 127 (dk_at dksX0_ticks_4 2 rfl rfl)
theorem dX0_ticks_99 : decode cX0_ticks 99 = .ok (.invokevirtual 262, 3) := dk_182 1 6 (dk_at dksX0_ticks_4 5 rfl rfl)
theorem dX0_ticks_102 : decode cX0_ticks 102 = .ok (.iconst 0, 1) := dk_3 (dk_at dksX0_ticks_4 8 rfl rfl)
theorem dX0_ticks_103 : decode cX0_ticks 103 = .ok (.invokespecial 288, 3) := dk_183 1 32 (dk_at dksX0_ticks_4 9 rfl rfl)
theorem dX0_ticks_106 : decode cX0_ticks 106 = .ok (.invokevirtual 291, 3) := dk_182 1 35 (dk_at dksX0_ticks_4 12 rfl rfl)
theorem dX0_ticks_109 : decode cX0_ticks 109 = .ok (.aload_n 3, 1) := dk_45 (dk_at dksX0_ticks_4 15 rfl rfl)
theorem dX0_ticks_110 : decode cX0_ticks 110 = .ok (.invokevirtual 294, 3) := dk_182 1 38 (dk_at dksX0_ticks_4 16 rfl rfl)
theorem dX0_ticks_113 : decode cX0_ticks 113 = .ok (.goto (-60), 3) := dk_167 255 196 (dk_at dksX0_ticks_4 19 rfl rfl)
theorem dX0_ticks_116 : decode cX0_ticks 116 = .ok (.iconst 0, 1) := dk_3 (dk_at dksX0_ticks_4 22 rfl rfl)
theorem dX0_ticks_117 : decode cX0_ticks 117 = .ok (.istore 4, 2) := dk_54 4 (dk_at dksX0_ticks_5 0 rfl rfl)
theorem dX0_ticks_119 : decode cX0_ticks 119 = .ok (.bipush (-9), 2) := dk_16 247 (dk_at dksX0_ticks_5 2 rfl rfl)
theorem dX0_ticks_121 : decode cX0_ticks 121 = .ok (.istore 5, 2) := dk_54 5 (dk_at dksX0_ticks_5 4 rfl rfl)
theorem dX0_ticks_123 : decode cX0_ticks 123 = .ok (.aload_n 3, 1) := dk_45 (dk_at dksX0_ticks_5 6 rfl rfl)
theorem dX0_ticks_124 : decode cX0_ticks 124 = .ok (.invokevirtual 298, 3) := dk_182 1 42 (dk_at dksX0_ticks_5 7 rfl rfl)
theorem dX0_ticks_127 : decode cX0_ticks 127 = .ok (.ifCond .ne 57, 3) := dk_154 0 57 (dk_at dksX0_ticks_5 10 rfl rfl)
theorem dX0_ticks_130 : decode cX0_ticks 130 = .ok (.aload_n 3, 1) := dk_45 (dk_at dksX0_ticks_5 13 rfl rfl)
theorem dX0_ticks_131 : decode cX0_ticks 131 = .ok (.invokevirtual 301, 3) := dk_182 1 45 (dk_at dksX0_ticks_5 14 rfl rfl)
theorem dX0_ticks_134 : decode cX0_ticks 134 = .ok (.checkcast 286, 3) := dk_192 1 30 (dk_at dksX0_ticks_5 17 rfl rfl)
theorem dX0_ticks_137 : decode cX0_ticks 137 = .ok (.astore 6, 2) := dk_58 6 (dk_at dksX0_ticks_5 20 rfl rfl)
theorem dX0_ticks_139 : decode cX0_ticks 139 = .ok (.aload 6, 2) := dk_25 6 (dk_at dksX0_ticks_5 22 rfl rfl)
theorem dX0_ticks_141 : decode cX0_ticks 141 = .ok (.getfield 304, 3) := dk_180 1 48 (dk_at dksX0_ticks_6 0 rfl rfl)
theorem dX0_ticks_144 : decode cX0_ticks 144 = .ok (.iload 5, 2) := dk_21 5 (dk_at dksX0_ticks_6 3 rfl rfl)
theorem dX0_ticks_146 : decode cX0_ticks 146 = .ok (.if_icmp .eq 25, 3) := dk_159 0 25 (dk_at dksX0_ticks_6 5 rfl rfl)
theorem dX0_ticks_149 : decode cX0_ticks 149 = .ok (.iload 4, 2) := dk_21 4 (dk_at dksX0_ticks_6 8 rfl rfl)
theorem dX0_ticks_151 : decode cX0_ticks 151 = .ok (.iload_n 2, 1) := dk_28 (dk_at dksX0_ticks_6 10 rfl rfl)
theorem dX0_ticks_152 : decode cX0_ticks 152 = .ok (.if_icmp .ne 9, 3) := dk_160 0 9 (dk_at dksX0_ticks_6 11 rfl rfl)
theorem dX0_ticks_155 : decode cX0_ticks 155 = .ok (.aload 6, 2) := dk_25 6 (dk_at dksX0_ticks_6 14 rfl rfl)
theorem dX0_ticks_157 : decode cX0_ticks 157 = .ok (.getfield 304, 3) := dk_180 1 48 (dk_at dksX0_ticks_6 16 rfl rfl)
theorem dX0_ticks_160 : decode cX0_ticks 160 = .ok (.ireturn, 1) := dk_172 (dk_at dksX0_ticks_6 19 rfl rfl)
theorem dX0_ticks_161 : decode cX0_ticks 161 = .ok (.iinc 4 1, 3) := dk_132 4 1 (dk_at dksX0_ticks_6 20 rfl rfl)
theorem dX0_ticks_164 : decode cX0_ticks 164 = .ok (.aload 6, 2) := dk_25 6 (dk_at dksX0_ticks_7 0 rfl rfl)
theorem dX0_ticks_166 : decode cX0_ticks 166 = .ok (.getfield 304, 3) := dk_180 1 48 (dk_at dksX0_ticks_7 2 rfl rfl)
theorem dX0_ticks_169 : decode cX0_ticks 169 = .ok (.istore 5, 2) := dk_54 5 (dk_at dksX0_ticks_7 5 rfl rfl)
theorem dX0_ticks_171 : decode cX0_ticks 171 = .ok (.aload_n 0, 1) := dk_42 (dk_at dksX0_ticks_7 7 rfl rfl)
theorem dX0_ticks_172 : decode cX0_ticks 172 = .ok (.aload 6, 2) := dk_25 6 (dk_at dksX0_ticks_7 8 rfl rfl)
theorem dX0_ticks_174 : decode cX0_ticks 174 = .ok (.invokevirtual 291, 3) := dk_182 1 35 (dk_at dksX0_ticks_7 10 rfl rfl)
theorem dX0_ticks_177 : decode cX0_ticks 177 = .ok (.aload_n 3, 1) := dk_45 (dk_at dksX0_ticks_7 13 rfl rfl)
theorem dX0_ticks_178 : decode cX0_ticks 178 = .ok (.invokevirtual 294, 3) := dk_182 1 38 (dk_at dksX0_ticks_7 14 rfl rfl)
theorem dX0_ticks_181 : decode cX0_ticks 181 = .ok (.goto (-58), 3) := dk_167 255 198 (dk_at dksX0_ticks_7 17 rfl rfl)
theorem dX0_ticks_184 : decode cX0_ticks 184 = .ok (.iload_n 2, 1) := dk_28 (dk_at dksX0_ticks_7 20 rfl rfl)
theorem dX0_ticks_185 : decode cX0_ticks 185 = .ok (.iconst (-1), 1) := dk_2 (dk_at dksX0_ticks_7 21 rfl rfl)
theorem dX0_ticks_186 : decode cX0_ticks 186 = .ok (.if_icmp .ne 8, 3) := dk_160 0 8 (dk_at dksX0_ticks_8 0 rfl rfl)
theorem dX0_ticks_189 : decode cX0_ticks 189 = .ok (.iload 4, 2) := dk_21 4 (dk_at dksX0_ticks_8 3 rfl rfl)
theorem dX0_ticks_191 : decode cX0_ticks 191 = .ok (.goto 5, 3) := dk_167 0 5 (dk_at dksX0_ticks_8 5 rfl rfl)
theorem dX0_ticks_194 : decode cX0_ticks 194 = .ok (.bipush (-9), 2) := dk_16 247 (dk_at dksX0_ticks_8 8 rfl rfl)
theorem dX0_ticks_196 : decode cX0_ticks 196 = .ok (.ireturn, 1) := dk_172 (dk_at dksX0_ticks_8 10 rfl rfl)
abbrev cX0_has : ByteArray := prog_1_method_2_code
def yX0_has : MethodName := ⟨RX0, "has", "(II)Z"⟩
def dkwX0_has_0 : List UInt8 := [26, 27, 122, 4, 126, 4, 160, 0, 7, 4, 167, 0, 4, 3, 172]
abbrev dktX0_has_0 : List UInt8 := dkwX0_has_0 ++ []
theorem dksX0_has_0 : cX0_has.data.toList.drop 0 = dktX0_has_0 := by decide +kernel
theorem dX0_has_0 : decode cX0_has 0 = .ok (.iload_n 0, 1) := dk_26 (dk_at dksX0_has_0 0 rfl rfl)
theorem dX0_has_1 : decode cX0_has 1 = .ok (.iload_n 1, 1) := dk_27 (dk_at dksX0_has_0 1 rfl rfl)
theorem dX0_has_2 : decode cX0_has 2 = .ok (.ishr, 1) := dk_122 (dk_at dksX0_has_0 2 rfl rfl)
theorem dX0_has_3 : decode cX0_has 3 = .ok (.iconst 1, 1) := dk_4 (dk_at dksX0_has_0 3 rfl rfl)
theorem dX0_has_4 : decode cX0_has 4 = .ok (.iand, 1) := dk_126 (dk_at dksX0_has_0 4 rfl rfl)
theorem dX0_has_5 : decode cX0_has 5 = .ok (.iconst 1, 1) := dk_4 (dk_at dksX0_has_0 5 rfl rfl)
theorem dX0_has_6 : decode cX0_has 6 = .ok (.if_icmp .ne 7, 3) := dk_160 0 7 (dk_at dksX0_has_0 6 rfl rfl)
theorem dX0_has_9 : decode cX0_has 9 = .ok (.iconst 1, 1) := dk_4 (dk_at dksX0_has_0 9 rfl rfl)
theorem dX0_has_10 : decode cX0_has 10 = .ok (.goto 4, 3) := dk_167 0 4 (dk_at dksX0_has_0 10 rfl rfl)
theorem dX0_has_13 : decode cX0_has 13 = .ok (.iconst 0, 1) := dk_3 (dk_at dksX0_has_0 13 rfl rfl)
theorem dX0_has_14 : decode cX0_has 14 = .ok (.ireturn, 1) := dk_172 (dk_at dksX0_has_0 14 rfl rfl)
abbrev cX0_waits : ByteArray := prog_1_method_33_code
def yX0_waits : MethodName := ⟨RX0, "waits", "(LSignalWaves$Tick;Ljava/util/PriorityQueue;)V"⟩
def dkwX0_waits_0 : List UInt8 := [43, 198, 0, 9, 44, 43, 182, 1, 20, 87, 177]
abbrev dktX0_waits_0 : List UInt8 := dkwX0_waits_0 ++ []
theorem dksX0_waits_0 : cX0_waits.data.toList.drop 0 = dktX0_waits_0 := by decide +kernel
theorem dX0_waits_0 : decode cX0_waits 0 = .ok (.aload_n 1, 1) := dk_43 (dk_at dksX0_waits_0 0 rfl rfl)
theorem dX0_waits_1 : decode cX0_waits 1 = .ok (.ifnull 9, 3) := dk_198 0 9 (dk_at dksX0_waits_0 1 rfl rfl)
theorem dX0_waits_4 : decode cX0_waits 4 = .ok (.aload_n 2, 1) := dk_44 (dk_at dksX0_waits_0 4 rfl rfl)
theorem dX0_waits_5 : decode cX0_waits 5 = .ok (.aload_n 1, 1) := dk_43 (dk_at dksX0_waits_0 5 rfl rfl)
theorem dX0_waits_6 : decode cX0_waits 6 = .ok (.invokevirtual 276, 3) := dk_182 1 20 (dk_at dksX0_waits_0 6 rfl rfl)
theorem dX0_waits_9 : decode cX0_waits 9 = .ok (.pop, 1) := dk_87 (dk_at dksX0_waits_0 9 rfl rfl)
theorem dX0_waits_10 : decode cX0_waits 10 = .ok (.return_, 1) := dk_177 (dk_at dksX0_waits_0 10 rfl rfl)
abbrev cX0_delay : ByteArray := prog_1_method_36_code
def yX0_delay : MethodName := ⟨RX0, "delay", "(II)I"⟩
def dkwX0_delay_2 : List UInt8 := [182, 1, 49, 153, 0, 6, 21, 5, 172, 132, 5, 1, 167, 255, 231, 16, 247, 172]
abbrev dktX0_delay_2 : List UInt8 := dkwX0_delay_2 ++ []
def dkwX0_delay_1 : List UInt8 := [42, 28, 182, 1, 6, 58, 4, 3, 54, 5, 21, 5, 16, 50, 163, 0, 24, 42, 45, 25, 4, 21, 5]
abbrev dktX0_delay_1 : List UInt8 := dkwX0_delay_1 ++ dktX0_delay_2
def dkwX0_delay_0 : List UInt8 := [42, 27, 182, 0, 134, 153, 0, 11, 42, 28, 182, 0, 134, 154, 0, 5, 2, 172, 42, 27, 182, 1, 6, 78]
abbrev dktX0_delay_0 : List UInt8 := dkwX0_delay_0 ++ dktX0_delay_1
theorem dksX0_delay_0 : cX0_delay.data.toList.drop 0 = dktX0_delay_0 := by decide +kernel
theorem dksX0_delay_1 : cX0_delay.data.toList.drop 24 = dktX0_delay_1 := dk_seg dksX0_delay_0 24 rfl rfl
theorem dksX0_delay_2 : cX0_delay.data.toList.drop 47 = dktX0_delay_2 := dk_seg dksX0_delay_1 23 rfl rfl
theorem dX0_delay_0 : decode cX0_delay 0 = .ok (.aload_n 0, 1) := dk_42 (dk_at dksX0_delay_0 0 rfl rfl)
theorem dX0_delay_1 : decode cX0_delay 1 = .ok (.iload_n 1, 1) := dk_27 (dk_at dksX0_delay_0 1 rfl rfl)
theorem dX0_delay_2 : decode cX0_delay 2 = .ok (.invokevirtual 134, 3) := dk_182 0 134 (dk_at dksX0_delay_0 2 rfl rfl)
theorem dX0_delay_5 : decode cX0_delay 5 = .ok (.ifCond .eq 11, 3) := dk_153 0 11 (dk_at dksX0_delay_0 5 rfl rfl)
theorem dX0_delay_8 : decode cX0_delay 8 = .ok (.aload_n 0, 1) := dk_42 (dk_at dksX0_delay_0 8 rfl rfl)
theorem dX0_delay_9 : decode cX0_delay 9 = .ok (.iload_n 2, 1) := dk_28 (dk_at dksX0_delay_0 9 rfl rfl)
theorem dX0_delay_10 : decode cX0_delay 10 = .ok (.invokevirtual 134, 3) := dk_182 0 134 (dk_at dksX0_delay_0 10 rfl rfl)
theorem dX0_delay_13 : decode cX0_delay 13 = .ok (.ifCond .ne 5, 3) := dk_154 0 5 (dk_at dksX0_delay_0 13 rfl rfl)
theorem dX0_delay_16 : decode cX0_delay 16 = .ok (.iconst (-1), 1) := dk_2 (dk_at dksX0_delay_0 16 rfl rfl)
theorem dX0_delay_17 : decode cX0_delay 17 = .ok (.ireturn, 1) := dk_172 (dk_at dksX0_delay_0 17 rfl rfl)
theorem dX0_delay_18 : decode cX0_delay 18 = .ok (.aload_n 0, 1) := dk_42 (dk_at dksX0_delay_0 18 rfl rfl)
theorem dX0_delay_19 : decode cX0_delay 19 = .ok (.iload_n 1, 1) := dk_27 (dk_at dksX0_delay_0 19 rfl rfl)
theorem dX0_delay_20 : decode cX0_delay 20 = .ok (.invokevirtual 262, 3) := dk_182 1 6 (dk_at dksX0_delay_0 20 rfl rfl)
theorem dX0_delay_23 : decode cX0_delay 23 = .ok (.astore_n 3, 1) := dk_78 (dk_at dksX0_delay_0 23 rfl rfl)
theorem dX0_delay_24 : decode cX0_delay 24 = .ok (.aload_n 0, 1) := dk_42 (dk_at dksX0_delay_1 0 rfl rfl)
theorem dX0_delay_25 : decode cX0_delay 25 = .ok (.iload_n 2, 1) := dk_28 (dk_at dksX0_delay_1 1 rfl rfl)
theorem dX0_delay_26 : decode cX0_delay 26 = .ok (.invokevirtual 262, 3) := dk_182 1 6 (dk_at dksX0_delay_1 2 rfl rfl)
theorem dX0_delay_29 : decode cX0_delay 29 = .ok (.astore 4, 2) := dk_58 4 (dk_at dksX0_delay_1 5 rfl rfl)
theorem dX0_delay_31 : decode cX0_delay 31 = .ok (.iconst 0, 1) := dk_3 (dk_at dksX0_delay_1 7 rfl rfl)
theorem dX0_delay_32 : decode cX0_delay 32 = .ok (.istore 5, 2) := dk_54 5 (dk_at dksX0_delay_1 8 rfl rfl)
theorem dX0_delay_34 : decode cX0_delay 34 = .ok (.iload 5, 2) := dk_21 5 (dk_at dksX0_delay_1 10 rfl rfl)
theorem dX0_delay_36 : decode cX0_delay 36 = .ok (.bipush 50, 2) := dk_16 50 (dk_at dksX0_delay_1 12 rfl rfl)
theorem dX0_delay_38 : decode cX0_delay 38 = .ok (.if_icmp .gt 24, 3) := dk_163 0 24 (dk_at dksX0_delay_1 14 rfl rfl)
theorem dX0_delay_41 : decode cX0_delay 41 = .ok (.aload_n 0, 1) := dk_42 (dk_at dksX0_delay_1 17 rfl rfl)
theorem dX0_delay_42 : decode cX0_delay 42 = .ok (.aload_n 3, 1) := dk_45 (dk_at dksX0_delay_1 18 rfl rfl)
theorem dX0_delay_43 : decode cX0_delay 43 = .ok (.aload 4, 2) := dk_25 4 (dk_at dksX0_delay_1 19 rfl rfl)
theorem dX0_delay_45 : decode cX0_delay 45 = .ok (.iload 5, 2) := dk_21 5 (dk_at dksX0_delay_1 21 rfl rfl)
theorem dX0_delay_47 : decode cX0_delay 47 = .ok (.invokevirtual 305, 3) := dk_182 1 49 (dk_at dksX0_delay_2 0 rfl rfl)
theorem dX0_delay_50 : decode cX0_delay 50 = .ok (.ifCond .eq 6, 3) := dk_153 0 6 (dk_at dksX0_delay_2 3 rfl rfl)
theorem dX0_delay_53 : decode cX0_delay 53 = .ok (.iload 5, 2) := dk_21 5 (dk_at dksX0_delay_2 6 rfl rfl)
theorem dX0_delay_55 : decode cX0_delay 55 = .ok (.ireturn, 1) := dk_172 (dk_at dksX0_delay_2 8 rfl rfl)
theorem dX0_delay_56 : decode cX0_delay 56 = .ok (.iinc 5 1, 3) := dk_132 5 1 (dk_at dksX0_delay_2 9 rfl rfl)
theorem dX0_delay_59 : decode cX0_delay 59 = .ok (.goto (-25), 3) := dk_167 255 231 (dk_at dksX0_delay_2 12 rfl rfl)
theorem dX0_delay_62 : decode cX0_delay 62 = .ok (.bipush (-9), 2) := dk_16 247 (dk_at dksX0_delay_2 15 rfl rfl)
theorem dX0_delay_64 : decode cX0_delay 64 = .ok (.ireturn, 1) := dk_172 (dk_at dksX0_delay_2 17 rfl rfl)
abbrev cX0_follows : ByteArray := prog_1_method_35_code
def yX0_follows : MethodName := ⟨RX0, "follows", "([I[II)Z"⟩
def dkwX0_follows_2 : List UInt8 := [3, 172, 132, 5, 1, 167, 255, 210, 21, 4, 172]
abbrev dktX0_follows_2 : List UInt8 := dkwX0_follows_2 ++ []
def dkwX0_follows_1 : List UInt8 := [21, 5, 182, 1, 9, 153, 0, 21, 4, 54, 4, 42, 44, 3, 21, 5, 29, 96, 182, 1, 9, 154, 0, 5]
abbrev dktX0_follows_1 : List UInt8 := dkwX0_follows_1 ++ dktX0_follows_2
def dkwX0_follows_0 : List UInt8 := [3, 54, 4, 4, 54, 5, 21, 5, 29, 96, 42, 180, 0, 23, 180, 0, 145, 163, 0, 38, 42, 43, 3]
abbrev dktX0_follows_0 : List UInt8 := dkwX0_follows_0 ++ dktX0_follows_1
theorem dksX0_follows_0 : cX0_follows.data.toList.drop 0 = dktX0_follows_0 := by decide +kernel
theorem dksX0_follows_1 : cX0_follows.data.toList.drop 23 = dktX0_follows_1 := dk_seg dksX0_follows_0 23 rfl rfl
theorem dksX0_follows_2 : cX0_follows.data.toList.drop 47 = dktX0_follows_2 := dk_seg dksX0_follows_1 24 rfl rfl
theorem dX0_follows_0 : decode cX0_follows 0 = .ok (.iconst 0, 1) := dk_3 (dk_at dksX0_follows_0 0 rfl rfl)
theorem dX0_follows_1 : decode cX0_follows 1 = .ok (.istore 4, 2) := dk_54 4 (dk_at dksX0_follows_0 1 rfl rfl)
theorem dX0_follows_3 : decode cX0_follows 3 = .ok (.iconst 1, 1) := dk_4 (dk_at dksX0_follows_0 3 rfl rfl)
theorem dX0_follows_4 : decode cX0_follows 4 = .ok (.istore 5, 2) := dk_54 5 (dk_at dksX0_follows_0 4 rfl rfl)
theorem dX0_follows_6 : decode cX0_follows 6 = .ok (.iload 5, 2) := dk_21 5 (dk_at dksX0_follows_0 6 rfl rfl)
theorem dX0_follows_8 : decode cX0_follows 8 = .ok (.iload_n 3, 1) := dk_29 (dk_at dksX0_follows_0 8 rfl rfl)
theorem dX0_follows_9 : decode cX0_follows 9 = .ok (.iadd, 1) := dk_96 (dk_at dksX0_follows_0 9 rfl rfl)
theorem dX0_follows_10 : decode cX0_follows 10 = .ok (.aload_n 0, 1) := dk_42 (dk_at dksX0_follows_0 10 rfl rfl)
theorem dX0_follows_11 : decode cX0_follows 11 = .ok (.getfield 23, 3) := dk_180 0 23 (dk_at dksX0_follows_0 11 rfl rfl)
theorem dX0_follows_14 : decode cX0_follows 14 = .ok (.getfield 145, 3) := dk_180 0 145 (dk_at dksX0_follows_0 14 rfl rfl)
theorem dX0_follows_17 : decode cX0_follows 17 = .ok (.if_icmp .gt 38, 3) := dk_163 0 38 (dk_at dksX0_follows_0 17 rfl rfl)
theorem dX0_follows_20 : decode cX0_follows 20 = .ok (.aload_n 0, 1) := dk_42 (dk_at dksX0_follows_0 20 rfl rfl)
theorem dX0_follows_21 : decode cX0_follows 21 = .ok (.aload_n 1, 1) := dk_43 (dk_at dksX0_follows_0 21 rfl rfl)
theorem dX0_follows_22 : decode cX0_follows 22 = .ok (.iconst 0, 1) := dk_3 (dk_at dksX0_follows_0 22 rfl rfl)
theorem dX0_follows_23 : decode cX0_follows 23 = .ok (.iload 5, 2) := dk_21 5 (dk_at dksX0_follows_1 0 rfl rfl)
theorem dX0_follows_25 : decode cX0_follows 25 = .ok (.invokevirtual 265, 3) := dk_182 1 9 (dk_at dksX0_follows_1 2 rfl rfl)
theorem dX0_follows_28 : decode cX0_follows 28 = .ok (.ifCond .eq 21, 3) := dk_153 0 21 (dk_at dksX0_follows_1 5 rfl rfl)
theorem dX0_follows_31 : decode cX0_follows 31 = .ok (.iconst 1, 1) := dk_4 (dk_at dksX0_follows_1 8 rfl rfl)
theorem dX0_follows_32 : decode cX0_follows 32 = .ok (.istore 4, 2) := dk_54 4 (dk_at dksX0_follows_1 9 rfl rfl)
theorem dX0_follows_34 : decode cX0_follows 34 = .ok (.aload_n 0, 1) := dk_42 (dk_at dksX0_follows_1 11 rfl rfl)
theorem dX0_follows_35 : decode cX0_follows 35 = .ok (.aload_n 2, 1) := dk_44 (dk_at dksX0_follows_1 12 rfl rfl)
theorem dX0_follows_36 : decode cX0_follows 36 = .ok (.iconst 0, 1) := dk_3 (dk_at dksX0_follows_1 13 rfl rfl)
theorem dX0_follows_37 : decode cX0_follows 37 = .ok (.iload 5, 2) := dk_21 5 (dk_at dksX0_follows_1 14 rfl rfl)
theorem dX0_follows_39 : decode cX0_follows 39 = .ok (.iload_n 3, 1) := dk_29 (dk_at dksX0_follows_1 16 rfl rfl)
theorem dX0_follows_40 : decode cX0_follows 40 = .ok (.iadd, 1) := dk_96 (dk_at dksX0_follows_1 17 rfl rfl)
theorem dX0_follows_41 : decode cX0_follows 41 = .ok (.invokevirtual 265, 3) := dk_182 1 9 (dk_at dksX0_follows_1 18 rfl rfl)
theorem dX0_follows_44 : decode cX0_follows 44 = .ok (.ifCond .ne 5, 3) := dk_154 0 5 (dk_at dksX0_follows_1 21 rfl rfl)
theorem dX0_follows_47 : decode cX0_follows 47 = .ok (.iconst 0, 1) := dk_3 (dk_at dksX0_follows_2 0 rfl rfl)
theorem dX0_follows_48 : decode cX0_follows 48 = .ok (.ireturn, 1) := dk_172 (dk_at dksX0_follows_2 1 rfl rfl)
theorem dX0_follows_49 : decode cX0_follows 49 = .ok (.iinc 5 1, 3) := dk_132 5 1 (dk_at dksX0_follows_2 2 rfl rfl)
theorem dX0_follows_52 : decode cX0_follows 52 = .ok (.goto (-46), 3) := dk_167 255 210 (dk_at dksX0_follows_2 5 rfl rfl)
theorem dX0_follows_55 : decode cX0_follows 55 = .ok (.iload 4, 2) := dk_21 4 (dk_at dksX0_follows_2 8 rfl rfl)
theorem dX0_follows_57 : decode cX0_follows 57 = .ok (.ireturn, 1) := dk_172 (dk_at dksX0_follows_2 10 rfl rfl)
abbrev cX0_jump : ByteArray := prog_1_method_39_code
def yX0_jump : MethodName := ⟨RX0, "jump", "(I)I"⟩
def dkwX0_jump_1 : List UInt8 := [16, 247, 167, 0, 19, 42, 180, 0, 23, 180, 0, 223, 44, 182, 1, 58, 185, 1, 62, 1, 0, 172]
abbrev dktX0_jump_1 : List UInt8 := dkwX0_jump_1 ++ []
def dkwX0_jump_0 : List UInt8 := [42, 27, 182, 1, 0, 154, 0, 5, 2, 172, 42, 180, 0, 23, 27, 182, 0, 232, 77, 44, 199, 0, 8]
abbrev dktX0_jump_0 : List UInt8 := dkwX0_jump_0 ++ dktX0_jump_1
theorem dksX0_jump_0 : cX0_jump.data.toList.drop 0 = dktX0_jump_0 := by decide +kernel
theorem dksX0_jump_1 : cX0_jump.data.toList.drop 23 = dktX0_jump_1 := dk_seg dksX0_jump_0 23 rfl rfl
theorem dX0_jump_0 : decode cX0_jump 0 = .ok (.aload_n 0, 1) := dk_42 (dk_at dksX0_jump_0 0 rfl rfl)
theorem dX0_jump_1 : decode cX0_jump 1 = .ok (.iload_n 1, 1) := dk_27 (dk_at dksX0_jump_0 1 rfl rfl)
theorem dX0_jump_2 : decode cX0_jump 2 = .ok (.invokevirtual 256, 3) := dk_182 1 0 (dk_at dksX0_jump_0 2 rfl rfl)
theorem dX0_jump_5 : decode cX0_jump 5 = .ok (.ifCond .ne 5, 3) := dk_154 0 5 (dk_at dksX0_jump_0 5 rfl rfl)
theorem dX0_jump_8 : decode cX0_jump 8 = .ok (.iconst (-1), 1) := dk_2 (dk_at dksX0_jump_0 8 rfl rfl)
theorem dX0_jump_9 : decode cX0_jump 9 = .ok (.ireturn, 1) := dk_172 (dk_at dksX0_jump_0 9 rfl rfl)
theorem dX0_jump_10 : decode cX0_jump 10 = .ok (.aload_n 0, 1) := dk_42 (dk_at dksX0_jump_0 10 rfl rfl)
theorem dX0_jump_11 : decode cX0_jump 11 = .ok (.getfield 23, 3) := dk_180 0 23 (dk_at dksX0_jump_0 11 rfl rfl)
theorem dX0_jump_14 : decode cX0_jump 14 = .ok (.iload_n 1, 1) := dk_27 (dk_at dksX0_jump_0 14 rfl rfl)
theorem dX0_jump_15 : decode cX0_jump 15 = .ok (.invokevirtual 232, 3) := dk_182 0 232 (dk_at dksX0_jump_0 15 rfl rfl)
theorem dX0_jump_18 : decode cX0_jump 18 = .ok (.astore_n 2, 1) := dk_77 (dk_at dksX0_jump_0 18 rfl rfl)
theorem dX0_jump_19 : decode cX0_jump 19 = .ok (.aload_n 2, 1) := dk_44 (dk_at dksX0_jump_0 19 rfl rfl)
theorem dX0_jump_20 : decode cX0_jump 20 = .ok (.ifnonnull 8, 3) := dk_199 0 8 (dk_at dksX0_jump_0 20 rfl rfl)
theorem dX0_jump_23 : decode cX0_jump 23 = .ok (.bipush (-9), 2) := dk_16 247 (dk_at dksX0_jump_1 0 rfl rfl)
theorem dX0_jump_25 : decode cX0_jump 25 = .ok (.goto 19, 3) := dk_167 0 19 (dk_at dksX0_jump_1 2 rfl rfl)
theorem dX0_jump_28 : decode cX0_jump 28 = .ok (.aload_n 0, 1) := dk_42 (dk_at dksX0_jump_1 5 rfl rfl)
theorem dX0_jump_29 : decode cX0_jump 29 = .ok (.getfield 23, 3) := dk_180 0 23 (dk_at dksX0_jump_1 6 rfl rfl)
theorem dX0_jump_32 : decode cX0_jump 32 = .ok (.getfield 223, 3) := dk_180 0 223 (dk_at dksX0_jump_1 9 rfl rfl)
theorem dX0_jump_35 : decode cX0_jump 35 = .ok (.aload_n 2, 1) := dk_44 (dk_at dksX0_jump_1 12 rfl rfl)
theorem dX0_jump_36 : decode cX0_jump 36 = .ok (.invokevirtual 314, 3) := dk_182 1 58 (dk_at dksX0_jump_1 13 rfl rfl)
theorem dX0_jump_39 : decode cX0_jump 39 = .ok (.invokeinterface 318 1, 5) := by decide +kernel
theorem dX0_jump_44 : decode cX0_jump 44 = .ok (.ireturn, 1) := dk_172 (dk_at dksX0_jump_1 21 rfl rfl)
abbrev cX0_block : ByteArray := prog_1_method_43_code
def yX0_block : MethodName := ⟨RX0, "block", "(II)I"⟩
def dkwX0_block_4 : List UInt8 := [182, 1, 91, 87, 42, 180, 1, 65, 172, 42, 45, 182, 1, 91, 172, 2, 172]
abbrev dktX0_block_4 : List UInt8 := dkwX0_block_4 ++ []
def dkwX0_block_3 : List UInt8 := [45, 180, 1, 75, 172, 45, 180, 1, 88, 172, 45, 180, 0, 241, 185, 0, 130, 1, 0, 172, 42, 45]
abbrev dktX0_block_3 : List UInt8 := dkwX0_block_3 ++ dktX0_block_4
def dkwX0_block_2 : List UInt8 := [170, 0, 0, 0, 0, 0, 72, 0, 0, 0, 0, 0, 0, 0, 4, 0, 0, 0, 35, 0, 0, 0, 40, 0, 0, 0, 45, 0, 0, 0, 55, 0, 0, 0, 66]
abbrev dktX0_block_2 : List UInt8 := dkwX0_block_2 ++ dktX0_block_3
def dkwX0_block_1 : List UInt8 := [28]
abbrev dktX0_block_1 : List UInt8 := dkwX0_block_1 ++ dktX0_block_2
def dkwX0_block_0 : List UInt8 := [42, 27, 182, 1, 82, 154, 0, 5, 2, 172, 42, 182, 1, 85, 27, 185, 0, 138, 2, 0, 192, 0, 237, 78]
abbrev dktX0_block_0 : List UInt8 := dkwX0_block_0 ++ dktX0_block_1
theorem dksX0_block_0 : cX0_block.data.toList.drop 0 = dktX0_block_0 := by decide +kernel
theorem dksX0_block_1 : cX0_block.data.toList.drop 24 = dktX0_block_1 := dk_seg dksX0_block_0 24 rfl rfl
theorem dksX0_block_2 : cX0_block.data.toList.drop 25 = dktX0_block_2 := dk_seg dksX0_block_1 1 rfl rfl
theorem dksX0_block_3 : cX0_block.data.toList.drop 60 = dktX0_block_3 := dk_seg dksX0_block_2 35 rfl rfl
theorem dksX0_block_4 : cX0_block.data.toList.drop 82 = dktX0_block_4 := dk_seg dksX0_block_3 22 rfl rfl
theorem dX0_block_0 : decode cX0_block 0 = .ok (.aload_n 0, 1) := dk_42 (dk_at dksX0_block_0 0 rfl rfl)
theorem dX0_block_1 : decode cX0_block 1 = .ok (.iload_n 1, 1) := dk_27 (dk_at dksX0_block_0 1 rfl rfl)
theorem dX0_block_2 : decode cX0_block 2 = .ok (.invokevirtual 338, 3) := dk_182 1 82 (dk_at dksX0_block_0 2 rfl rfl)
theorem dX0_block_5 : decode cX0_block 5 = .ok (.ifCond .ne 5, 3) := dk_154 0 5 (dk_at dksX0_block_0 5 rfl rfl)
theorem dX0_block_8 : decode cX0_block 8 = .ok (.iconst (-1), 1) := dk_2 (dk_at dksX0_block_0 8 rfl rfl)
theorem dX0_block_9 : decode cX0_block 9 = .ok (.ireturn, 1) := dk_172 (dk_at dksX0_block_0 9 rfl rfl)
theorem dX0_block_10 : decode cX0_block 10 = .ok (.aload_n 0, 1) := dk_42 (dk_at dksX0_block_0 10 rfl rfl)
theorem dX0_block_11 : decode cX0_block 11 = .ok (.invokevirtual 341, 3) := dk_182 1 85 (dk_at dksX0_block_0 11 rfl rfl)
theorem dX0_block_14 : decode cX0_block 14 = .ok (.iload_n 1, 1) := dk_27 (dk_at dksX0_block_0 14 rfl rfl)
theorem dX0_block_15 : decode cX0_block 15 = .ok (.invokeinterface 138 2, 5) := by decide +kernel
theorem dX0_block_20 : decode cX0_block 20 = .ok (.checkcast 237, 3) := dk_192 0 237 (dk_at dksX0_block_0 20 rfl rfl)
theorem dX0_block_23 : decode cX0_block 23 = .ok (.astore_n 3, 1) := dk_78 (dk_at dksX0_block_0 23 rfl rfl)
theorem dX0_block_24 : decode cX0_block 24 = .ok (.iload_n 2, 1) := dk_28 (dk_at dksX0_block_1 0 rfl rfl)
theorem dX0_block_25 : decode cX0_block 25 = .ok (.tableswitch 72 0 4 #[35, 40, 45, 55, 66], 35) := by decide +kernel
theorem dX0_block_60 : decode cX0_block 60 = .ok (.aload_n 3, 1) := dk_45 (dk_at dksX0_block_3 0 rfl rfl)
theorem dX0_block_61 : decode cX0_block 61 = .ok (.getfield 331, 3) := dk_180 1 75 (dk_at dksX0_block_3 1 rfl rfl)
theorem dX0_block_64 : decode cX0_block 64 = .ok (.ireturn, 1) := dk_172 (dk_at dksX0_block_3 4 rfl rfl)
theorem dX0_block_65 : decode cX0_block 65 = .ok (.aload_n 3, 1) := dk_45 (dk_at dksX0_block_3 5 rfl rfl)
theorem dX0_block_66 : decode cX0_block 66 = .ok (.getfield 344, 3) := dk_180 1 88 (dk_at dksX0_block_3 6 rfl rfl)
theorem dX0_block_69 : decode cX0_block 69 = .ok (.ireturn, 1) := dk_172 (dk_at dksX0_block_3 9 rfl rfl)
theorem dX0_block_70 : decode cX0_block 70 = .ok (.aload_n 3, 1) := dk_45 (dk_at dksX0_block_3 10 rfl rfl)
theorem dX0_block_71 : decode cX0_block 71 = .ok (.getfield 241, 3) := dk_180 0 241 (dk_at dksX0_block_3 11 rfl rfl)
theorem dX0_block_74 : decode cX0_block 74 = .ok (.invokeinterface 130 1, 5) := by decide +kernel
theorem dX0_block_79 : decode cX0_block 79 = .ok (.ireturn, 1) := dk_172 (dk_at dksX0_block_3 19 rfl rfl)
theorem dX0_block_80 : decode cX0_block 80 = .ok (.aload_n 0, 1) := dk_42 (dk_at dksX0_block_3 20 rfl rfl)
theorem dX0_block_81 : decode cX0_block 81 = .ok (.aload_n 3, 1) := dk_45 (dk_at dksX0_block_3 21 rfl rfl)
theorem dX0_block_82 : decode cX0_block 82 = .ok (.invokevirtual 347, 3) := dk_182 1 91 (dk_at dksX0_block_4 0 rfl rfl)
theorem dX0_block_85 : decode cX0_block 85 = .ok (.pop, 1) := dk_87 (dk_at dksX0_block_4 3 rfl rfl)
theorem dX0_block_86 : decode cX0_block 86 = .ok (.aload_n 0, 1) := dk_42 (dk_at dksX0_block_4 4 rfl rfl)
theorem dX0_block_87 : decode cX0_block 87 = .ok (.getfield 321, 3) := dk_180 1 65 (dk_at dksX0_block_4 5 rfl rfl)
theorem dX0_block_90 : decode cX0_block 90 = .ok (.ireturn, 1) := dk_172 (dk_at dksX0_block_4 8 rfl rfl)
theorem dX0_block_91 : decode cX0_block 91 = .ok (.aload_n 0, 1) := dk_42 (dk_at dksX0_block_4 9 rfl rfl)
theorem dX0_block_92 : decode cX0_block 92 = .ok (.aload_n 3, 1) := dk_45 (dk_at dksX0_block_4 10 rfl rfl)
theorem dX0_block_93 : decode cX0_block 93 = .ok (.invokevirtual 347, 3) := dk_182 1 91 (dk_at dksX0_block_4 11 rfl rfl)
theorem dX0_block_96 : decode cX0_block 96 = .ok (.ireturn, 1) := dk_172 (dk_at dksX0_block_4 14 rfl rfl)
theorem dX0_block_97 : decode cX0_block 97 = .ok (.iconst (-1), 1) := dk_2 (dk_at dksX0_block_4 15 rfl rfl)
theorem dX0_block_98 : decode cX0_block 98 = .ok (.ireturn, 1) := dk_172 (dk_at dksX0_block_4 16 rfl rfl)
abbrev cX0_isBlock : ByteArray := prog_1_method_38_code
def yX0_isBlock : MethodName := ⟨RX0, "isBlock", "(I)Z"⟩
def dkwX0_isBlock_0 : List UInt8 := [27, 3, 42, 180, 0, 23, 180, 0, 223, 182, 0, 227, 4, 100, 184, 0, 69, 172]
abbrev dktX0_isBlock_0 : List UInt8 := dkwX0_isBlock_0 ++ []
theorem dksX0_isBlock_0 : cX0_isBlock.data.toList.drop 0 = dktX0_isBlock_0 := by decide +kernel
theorem dX0_isBlock_0 : decode cX0_isBlock 0 = .ok (.iload_n 1, 1) := dk_27 (dk_at dksX0_isBlock_0 0 rfl rfl)
theorem dX0_isBlock_1 : decode cX0_isBlock 1 = .ok (.iconst 0, 1) := dk_3 (dk_at dksX0_isBlock_0 1 rfl rfl)
theorem dX0_isBlock_2 : decode cX0_isBlock 2 = .ok (.aload_n 0, 1) := dk_42 (dk_at dksX0_isBlock_0 2 rfl rfl)
theorem dX0_isBlock_3 : decode cX0_isBlock 3 = .ok (.getfield 23, 3) := dk_180 0 23 (dk_at dksX0_isBlock_0 3 rfl rfl)
theorem dX0_isBlock_6 : decode cX0_isBlock 6 = .ok (.getfield 223, 3) := dk_180 0 223 (dk_at dksX0_isBlock_0 6 rfl rfl)
theorem dX0_isBlock_9 : decode cX0_isBlock 9 = .ok (.invokevirtual 227, 3) := dk_182 0 227 (dk_at dksX0_isBlock_0 9 rfl rfl)
theorem dX0_isBlock_12 : decode cX0_isBlock 12 = .ok (.iconst 1, 1) := dk_4 (dk_at dksX0_isBlock_0 12 rfl rfl)
theorem dX0_isBlock_13 : decode cX0_isBlock 13 = .ok (.isub, 1) := dk_100 (dk_at dksX0_isBlock_0 13 rfl rfl)
theorem dX0_isBlock_14 : decode cX0_isBlock 14 = .ok (.invokestatic 69, 3) := dk_184 0 69 (dk_at dksX0_isBlock_0 14 rfl rfl)
theorem dX0_isBlock_17 : decode cX0_isBlock 17 = .ok (.ireturn, 1) := dk_172 (dk_at dksX0_isBlock_0 17 rfl rfl)
abbrev cX0_row : ByteArray := prog_1_method_37_code
def yX0_row : MethodName := ⟨RX0, "row", "()Ljava/util/List;"⟩
def dkwX0_row_0 : List UInt8 := [187, 1, 53, 89, 42, 180, 0, 23, 180, 0, 223, 183, 1, 55, 176]
abbrev dktX0_row_0 : List UInt8 := dkwX0_row_0 ++ []
theorem dksX0_row_0 : cX0_row.data.toList.drop 0 = dktX0_row_0 := by decide +kernel
theorem dX0_row_0 : decode cX0_row 0 = .ok (.new 309, 3) := dk_187 1 53 (dk_at dksX0_row_0 0 rfl rfl)
theorem dX0_row_3 : decode cX0_row 3 = .ok (.dup, 1) := dk_89 (dk_at dksX0_row_0 3 rfl rfl)
theorem dX0_row_4 : decode cX0_row 4 = .ok (.aload_n 0, 1) := dk_42 (dk_at dksX0_row_0 4 rfl rfl)
theorem dX0_row_5 : decode cX0_row 5 = .ok (.getfield 23, 3) := dk_180 0 23 (dk_at dksX0_row_0 5 rfl rfl)
theorem dX0_row_8 : decode cX0_row 8 = .ok (.getfield 223, 3) := dk_180 0 223 (dk_at dksX0_row_0 8 rfl rfl)
theorem dX0_row_11 : decode cX0_row 11 = .ok (.invokespecial 311, 3) := dk_183 1 55 (dk_at dksX0_row_0 11 rfl rfl)
theorem dX0_row_14 : decode cX0_row 14 = .ok (.areturn, 1) := dk_176 (dk_at dksX0_row_0 14 rfl rfl)
abbrev cX0_roomOf : ByteArray := prog_1_method_42_code
def yX0_roomOf : MethodName := ⟨RX0, "roomOf", "(LSignalWaves$Block;)I"⟩
def dkwX0_roomOf_0 : List UInt8 := [42, 43, 180, 1, 75, 43, 180, 0, 241, 3, 43, 180, 0, 241, 185, 0, 130, 1, 0, 182, 1, 78, 172]
abbrev dktX0_roomOf_0 : List UInt8 := dkwX0_roomOf_0 ++ []
theorem dksX0_roomOf_0 : cX0_roomOf.data.toList.drop 0 = dktX0_roomOf_0 := by decide +kernel
theorem dX0_roomOf_0 : decode cX0_roomOf 0 = .ok (.aload_n 0, 1) := dk_42 (dk_at dksX0_roomOf_0 0 rfl rfl)
theorem dX0_roomOf_1 : decode cX0_roomOf 1 = .ok (.aload_n 1, 1) := dk_43 (dk_at dksX0_roomOf_0 1 rfl rfl)
theorem dX0_roomOf_2 : decode cX0_roomOf 2 = .ok (.getfield 331, 3) := dk_180 1 75 (dk_at dksX0_roomOf_0 2 rfl rfl)
theorem dX0_roomOf_5 : decode cX0_roomOf 5 = .ok (.aload_n 1, 1) := dk_43 (dk_at dksX0_roomOf_0 5 rfl rfl)
theorem dX0_roomOf_6 : decode cX0_roomOf 6 = .ok (.getfield 241, 3) := dk_180 0 241 (dk_at dksX0_roomOf_0 6 rfl rfl)
theorem dX0_roomOf_9 : decode cX0_roomOf 9 = .ok (.iconst 0, 1) := dk_3 (dk_at dksX0_roomOf_0 9 rfl rfl)
theorem dX0_roomOf_10 : decode cX0_roomOf 10 = .ok (.aload_n 1, 1) := dk_43 (dk_at dksX0_roomOf_0 10 rfl rfl)
theorem dX0_roomOf_11 : decode cX0_roomOf 11 = .ok (.getfield 241, 3) := dk_180 0 241 (dk_at dksX0_roomOf_0 11 rfl rfl)
theorem dX0_roomOf_14 : decode cX0_roomOf 14 = .ok (.invokeinterface 130 1, 5) := by decide +kernel
theorem dX0_roomOf_19 : decode cX0_roomOf 19 = .ok (.invokevirtual 334, 3) := dk_182 1 78 (dk_at dksX0_roomOf_0 19 rfl rfl)
theorem dX0_roomOf_22 : decode cX0_roomOf 22 = .ok (.ireturn, 1) := dk_172 (dk_at dksX0_roomOf_0 22 rfl rfl)
abbrev cX0_roomOf_2 : ByteArray := prog_1_method_41_code
def yX0_roomOf_2 : MethodName := ⟨RX0, "roomOf", "(ILjava/util/List;II)I"⟩
def dkwX0_roomOf_2_5 : List UInt8 := [42, 180, 1, 65, 104, 96, 172]
abbrev dktX0_roomOf_2_5 : List UInt8 := dkwX0_roomOf_2_5 ++ []
def dkwX0_roomOf_2_4 : List UInt8 := [167, 0, 4, 5, 96, 96, 54, 5, 25, 8, 180, 0, 248, 54, 6, 132, 7, 1, 167, 255, 169, 21, 5, 5]
abbrev dktX0_roomOf_2_4 : List UInt8 := dkwX0_roomOf_2_4 ++ dktX0_roomOf_2_5
def dkwX0_roomOf_2_3 : List UInt8 := [4, 167, 0, 4, 3, 96, 21, 9, 154, 0, 7, 3, 167, 0, 15, 21, 9, 16, 16, 162, 0, 7, 4]
abbrev dktX0_roomOf_2_3 : List UInt8 := dkwX0_roomOf_2_3 ++ dktX0_roomOf_2_4
def dkwX0_roomOf_2_2 : List UInt8 := [180, 0, 248, 21, 6, 100, 54, 9, 21, 5, 4, 42, 25, 8, 180, 0, 249, 182, 1, 72, 4, 164, 0, 7]
abbrev dktX0_roomOf_2_2 : List UInt8 := dkwX0_roomOf_2_2 ++ dktX0_roomOf_2_3
def dkwX0_roomOf_2_1 : List UInt8 := [21, 7, 21, 4, 162, 0, 86, 44, 21, 7, 185, 0, 138, 2, 0, 192, 0, 243, 58, 8, 25, 8]
abbrev dktX0_roomOf_2_1 : List UInt8 := dkwX0_roomOf_2_1 ++ dktX0_roomOf_2_2
def dkwX0_roomOf_2_0 : List UInt8 := [5, 42, 180, 0, 10, 3, 182, 1, 68, 96, 54, 5, 27, 54, 6, 42, 3, 181, 1, 65, 29, 54, 7]
abbrev dktX0_roomOf_2_0 : List UInt8 := dkwX0_roomOf_2_0 ++ dktX0_roomOf_2_1
theorem dksX0_roomOf_2_0 : cX0_roomOf_2.data.toList.drop 0 = dktX0_roomOf_2_0 := by decide +kernel
theorem dksX0_roomOf_2_1 : cX0_roomOf_2.data.toList.drop 23 = dktX0_roomOf_2_1 := dk_seg dksX0_roomOf_2_0 23 rfl rfl
theorem dksX0_roomOf_2_2 : cX0_roomOf_2.data.toList.drop 45 = dktX0_roomOf_2_2 := dk_seg dksX0_roomOf_2_1 22 rfl rfl
theorem dksX0_roomOf_2_3 : cX0_roomOf_2.data.toList.drop 69 = dktX0_roomOf_2_3 := dk_seg dksX0_roomOf_2_2 24 rfl rfl
theorem dksX0_roomOf_2_4 : cX0_roomOf_2.data.toList.drop 92 = dktX0_roomOf_2_4 := dk_seg dksX0_roomOf_2_3 23 rfl rfl
theorem dksX0_roomOf_2_5 : cX0_roomOf_2.data.toList.drop 116 = dktX0_roomOf_2_5 := dk_seg dksX0_roomOf_2_4 24 rfl rfl
theorem dX0_roomOf_2_0 : decode cX0_roomOf_2 0 = .ok (.iconst 2, 1) := dk_5 (dk_at dksX0_roomOf_2_0 0 rfl rfl)
theorem dX0_roomOf_2_1 : decode cX0_roomOf_2 1 = .ok (.aload_n 0, 1) := dk_42 (dk_at dksX0_roomOf_2_0 1 rfl rfl)
theorem dX0_roomOf_2_2 : decode cX0_roomOf_2 2 = .ok (.getfield 10, 3) := dk_180 0 10 (dk_at dksX0_roomOf_2_0 2 rfl rfl)
theorem dX0_roomOf_2_5 : decode cX0_roomOf_2 5 = .ok (.iconst 0, 1) := dk_3 (dk_at dksX0_roomOf_2_0 5 rfl rfl)
theorem dX0_roomOf_2_6 : decode cX0_roomOf_2 6 = .ok (.invokevirtual 324, 3) := dk_182 1 68 (dk_at dksX0_roomOf_2_0 6 rfl rfl)
theorem dX0_roomOf_2_9 : decode cX0_roomOf_2 9 = .ok (.iadd, 1) := dk_96 (dk_at dksX0_roomOf_2_0 9 rfl rfl)
theorem dX0_roomOf_2_10 : decode cX0_roomOf_2 10 = .ok (.istore 5, 2) := dk_54 5 (dk_at dksX0_roomOf_2_0 10 rfl rfl)
theorem dX0_roomOf_2_12 : decode cX0_roomOf_2 12 = .ok (.iload_n 1, 1) := dk_27 (dk_at dksX0_roomOf_2_0 12 rfl rfl)
theorem dX0_roomOf_2_13 : decode cX0_roomOf_2 13 = .ok (.istore 6, 2) := dk_54 6 (dk_at dksX0_roomOf_2_0 13 rfl rfl)
theorem dX0_roomOf_2_15 : decode cX0_roomOf_2 15 = .ok (.aload_n 0, 1) := dk_42 (dk_at dksX0_roomOf_2_0 15 rfl rfl)
theorem dX0_roomOf_2_16 : decode cX0_roomOf_2 16 = .ok (.iconst 0, 1) := dk_3 (dk_at dksX0_roomOf_2_0 16 rfl rfl)
theorem dX0_roomOf_2_17 : decode cX0_roomOf_2 17 = .ok (.putfield 321, 3) := dk_181 1 65 (dk_at dksX0_roomOf_2_0 17 rfl rfl)
theorem dX0_roomOf_2_20 : decode cX0_roomOf_2 20 = .ok (.iload_n 3, 1) := dk_29 (dk_at dksX0_roomOf_2_0 20 rfl rfl)
theorem dX0_roomOf_2_21 : decode cX0_roomOf_2 21 = .ok (.istore 7, 2) := dk_54 7 (dk_at dksX0_roomOf_2_0 21 rfl rfl)
theorem dX0_roomOf_2_23 : decode cX0_roomOf_2 23 = .ok (.iload 7, 2) := dk_21 7 (dk_at dksX0_roomOf_2_1 0 rfl rfl)
theorem dX0_roomOf_2_25 : decode cX0_roomOf_2 25 = .ok (.iload 4, 2) := dk_21 4 (dk_at dksX0_roomOf_2_1 2 rfl rfl)
theorem dX0_roomOf_2_27 : decode cX0_roomOf_2 27 = .ok (.if_icmp .ge 86, 3) := dk_162 0 86 (dk_at dksX0_roomOf_2_1 4 rfl rfl)
theorem dX0_roomOf_2_30 : decode cX0_roomOf_2 30 = .ok (.aload_n 2, 1) := dk_44 (dk_at dksX0_roomOf_2_1 7 rfl rfl)
theorem dX0_roomOf_2_31 : decode cX0_roomOf_2 31 = .ok (.iload 7, 2) := dk_21 7 (dk_at dksX0_roomOf_2_1 8 rfl rfl)
theorem dX0_roomOf_2_33 : decode cX0_roomOf_2 33 = .ok (.invokeinterface 138 2, 5) := by decide +kernel
theorem dX0_roomOf_2_38 : decode cX0_roomOf_2 38 = .ok (.checkcast 243, 3) := dk_192 0 243 (dk_at dksX0_roomOf_2_1 15 rfl rfl)
theorem dX0_roomOf_2_41 : decode cX0_roomOf_2 41 = .ok (.astore 8, 2) := dk_58 8 (dk_at dksX0_roomOf_2_1 18 rfl rfl)
theorem dX0_roomOf_2_43 : decode cX0_roomOf_2 43 = .ok (.aload 8, 2) := dk_25 8 (dk_at dksX0_roomOf_2_1 20 rfl rfl)
theorem dX0_roomOf_2_45 : decode cX0_roomOf_2 45 = .ok (.getfield 248, 3) := dk_180 0 248 (dk_at dksX0_roomOf_2_2 0 rfl rfl)
theorem dX0_roomOf_2_48 : decode cX0_roomOf_2 48 = .ok (.iload 6, 2) := dk_21 6 (dk_at dksX0_roomOf_2_2 3 rfl rfl)
theorem dX0_roomOf_2_50 : decode cX0_roomOf_2 50 = .ok (.isub, 1) := dk_100 (dk_at dksX0_roomOf_2_2 5 rfl rfl)
theorem dX0_roomOf_2_51 : decode cX0_roomOf_2 51 = .ok (.istore 9, 2) := dk_54 9 (dk_at dksX0_roomOf_2_2 6 rfl rfl)
theorem dX0_roomOf_2_53 : decode cX0_roomOf_2 53 = .ok (.iload 5, 2) := dk_21 5 (dk_at dksX0_roomOf_2_2 8 rfl rfl)
theorem dX0_roomOf_2_55 : decode cX0_roomOf_2 55 = .ok (.iconst 1, 1) := dk_4 (dk_at dksX0_roomOf_2_2 10 rfl rfl)
theorem dX0_roomOf_2_56 : decode cX0_roomOf_2 56 = .ok (.aload_n 0, 1) := dk_42 (dk_at dksX0_roomOf_2_2 11 rfl rfl)
theorem dX0_roomOf_2_57 : decode cX0_roomOf_2 57 = .ok (.aload 8, 2) := dk_25 8 (dk_at dksX0_roomOf_2_2 12 rfl rfl)
theorem dX0_roomOf_2_59 : decode cX0_roomOf_2 59 = .ok (.getfield 249, 3) := dk_180 0 249 (dk_at dksX0_roomOf_2_2 14 rfl rfl)
theorem dX0_roomOf_2_62 : decode cX0_roomOf_2 62 = .ok (.invokevirtual 328, 3) := dk_182 1 72 (dk_at dksX0_roomOf_2_2 17 rfl rfl)
theorem dX0_roomOf_2_65 : decode cX0_roomOf_2 65 = .ok (.iconst 1, 1) := dk_4 (dk_at dksX0_roomOf_2_2 20 rfl rfl)
theorem dX0_roomOf_2_66 : decode cX0_roomOf_2 66 = .ok (.if_icmp .le 7, 3) := dk_164 0 7 (dk_at dksX0_roomOf_2_2 21 rfl rfl)
theorem dX0_roomOf_2_69 : decode cX0_roomOf_2 69 = .ok (.iconst 1, 1) := dk_4 (dk_at dksX0_roomOf_2_3 0 rfl rfl)
theorem dX0_roomOf_2_70 : decode cX0_roomOf_2 70 = .ok (.goto 4, 3) := dk_167 0 4 (dk_at dksX0_roomOf_2_3 1 rfl rfl)
theorem dX0_roomOf_2_73 : decode cX0_roomOf_2 73 = .ok (.iconst 0, 1) := dk_3 (dk_at dksX0_roomOf_2_3 4 rfl rfl)
theorem dX0_roomOf_2_74 : decode cX0_roomOf_2 74 = .ok (.iadd, 1) := dk_96 (dk_at dksX0_roomOf_2_3 5 rfl rfl)
theorem dX0_roomOf_2_75 : decode cX0_roomOf_2 75 = .ok (.iload 9, 2) := dk_21 9 (dk_at dksX0_roomOf_2_3 6 rfl rfl)
theorem dX0_roomOf_2_77 : decode cX0_roomOf_2 77 = .ok (.ifCond .ne 7, 3) := dk_154 0 7 (dk_at dksX0_roomOf_2_3 8 rfl rfl)
theorem dX0_roomOf_2_80 : decode cX0_roomOf_2 80 = .ok (.iconst 0, 1) := dk_3 (dk_at dksX0_roomOf_2_3 11 rfl rfl)
theorem dX0_roomOf_2_81 : decode cX0_roomOf_2 81 = .ok (.goto 15, 3) := dk_167 0 15 (dk_at dksX0_roomOf_2_3 12 rfl rfl)
theorem dX0_roomOf_2_84 : decode cX0_roomOf_2 84 = .ok (.iload 9, 2) := dk_21 9 (dk_at dksX0_roomOf_2_3 15 rfl rfl)
theorem dX0_roomOf_2_86 : decode cX0_roomOf_2 86 = .ok (.bipush 16, 2) := dk_16 16 (dk_at dksX0_roomOf_2_3 17 rfl rfl)
theorem dX0_roomOf_2_88 : decode cX0_roomOf_2 88 = .ok (.if_icmp .ge 7, 3) := dk_162 0 7 (dk_at dksX0_roomOf_2_3 19 rfl rfl)
theorem dX0_roomOf_2_91 : decode cX0_roomOf_2 91 = .ok (.iconst 1, 1) := dk_4 (dk_at dksX0_roomOf_2_3 22 rfl rfl)
theorem dX0_roomOf_2_92 : decode cX0_roomOf_2 92 = .ok (.goto 4, 3) := dk_167 0 4 (dk_at dksX0_roomOf_2_4 0 rfl rfl)
theorem dX0_roomOf_2_95 : decode cX0_roomOf_2 95 = .ok (.iconst 2, 1) := dk_5 (dk_at dksX0_roomOf_2_4 3 rfl rfl)
theorem dX0_roomOf_2_96 : decode cX0_roomOf_2 96 = .ok (.iadd, 1) := dk_96 (dk_at dksX0_roomOf_2_4 4 rfl rfl)
theorem dX0_roomOf_2_97 : decode cX0_roomOf_2 97 = .ok (.iadd, 1) := dk_96 (dk_at dksX0_roomOf_2_4 5 rfl rfl)
theorem dX0_roomOf_2_98 : decode cX0_roomOf_2 98 = .ok (.istore 5, 2) := dk_54 5 (dk_at dksX0_roomOf_2_4 6 rfl rfl)
theorem dX0_roomOf_2_100 : decode cX0_roomOf_2 100 = .ok (.aload 8, 2) := dk_25 8 (dk_at dksX0_roomOf_2_4 8 rfl rfl)
theorem dX0_roomOf_2_102 : decode cX0_roomOf_2 102 = .ok (.getfield 248, 3) := dk_180 0 248 (dk_at dksX0_roomOf_2_4 10 rfl rfl)
theorem dX0_roomOf_2_105 : decode cX0_roomOf_2 105 = .ok (.istore 6, 2) := dk_54 6 (dk_at dksX0_roomOf_2_4 13 rfl rfl)
theorem dX0_roomOf_2_107 : decode cX0_roomOf_2 107 = .ok (.iinc 7 1, 3) := dk_132 7 1 (dk_at dksX0_roomOf_2_4 15 rfl rfl)
theorem dX0_roomOf_2_110 : decode cX0_roomOf_2 110 = .ok (.goto (-87), 3) := dk_167 255 169 (dk_at dksX0_roomOf_2_4 18 rfl rfl)
theorem dX0_roomOf_2_113 : decode cX0_roomOf_2 113 = .ok (.iload 5, 2) := dk_21 5 (dk_at dksX0_roomOf_2_4 21 rfl rfl)
theorem dX0_roomOf_2_115 : decode cX0_roomOf_2 115 = .ok (.iconst 2, 1) := dk_5 (dk_at dksX0_roomOf_2_4 23 rfl rfl)
theorem dX0_roomOf_2_116 : decode cX0_roomOf_2 116 = .ok (.aload_n 0, 1) := dk_42 (dk_at dksX0_roomOf_2_5 0 rfl rfl)
theorem dX0_roomOf_2_117 : decode cX0_roomOf_2 117 = .ok (.getfield 321, 3) := dk_180 1 65 (dk_at dksX0_roomOf_2_5 1 rfl rfl)
theorem dX0_roomOf_2_120 : decode cX0_roomOf_2 120 = .ok (.imul, 1) := dk_104 (dk_at dksX0_roomOf_2_5 4 rfl rfl)
theorem dX0_roomOf_2_121 : decode cX0_roomOf_2 121 = .ok (.iadd, 1) := dk_96 (dk_at dksX0_roomOf_2_5 5 rfl rfl)
theorem dX0_roomOf_2_122 : decode cX0_roomOf_2 122 = .ok (.ireturn, 1) := dk_172 (dk_at dksX0_roomOf_2_5 6 rfl rfl)
abbrev cX0_place : ByteArray := prog_1_method_40_code
def yX0_place : MethodName := ⟨RX0, "place", "(I)I"⟩
def dkwX0_place_2 : List UInt8 := [181, 1, 65, 42, 180, 1, 65, 4, 100, 172]
abbrev dktX0_place_2 : List UInt8 := dkwX0_place_2 ++ []
def dkwX0_place_1 : List UInt8 := [132, 2, 1, 167, 255, 233, 42, 180, 0, 53, 42, 180, 1, 65, 27, 79, 42, 89, 180, 1, 65, 4, 96]
abbrev dktX0_place_1 : List UInt8 := dkwX0_place_1 ++ dktX0_place_2
def dkwX0_place_0 : List UInt8 := [3, 61, 28, 42, 180, 1, 65, 162, 0, 21, 42, 180, 0, 53, 28, 46, 27, 160, 0, 5, 28, 172]
abbrev dktX0_place_0 : List UInt8 := dkwX0_place_0 ++ dktX0_place_1
theorem dksX0_place_0 : cX0_place.data.toList.drop 0 = dktX0_place_0 := by decide +kernel
theorem dksX0_place_1 : cX0_place.data.toList.drop 22 = dktX0_place_1 := dk_seg dksX0_place_0 22 rfl rfl
theorem dksX0_place_2 : cX0_place.data.toList.drop 45 = dktX0_place_2 := dk_seg dksX0_place_1 23 rfl rfl
theorem dX0_place_0 : decode cX0_place 0 = .ok (.iconst 0, 1) := dk_3 (dk_at dksX0_place_0 0 rfl rfl)
theorem dX0_place_1 : decode cX0_place 1 = .ok (.istore_n 2, 1) := dk_61 (dk_at dksX0_place_0 1 rfl rfl)
theorem dX0_place_2 : decode cX0_place 2 = .ok (.iload_n 2, 1) := dk_28 (dk_at dksX0_place_0 2 rfl rfl)
theorem dX0_place_3 : decode cX0_place 3 = .ok (.aload_n 0, 1) := dk_42 (dk_at dksX0_place_0 3 rfl rfl)
theorem dX0_place_4 : decode cX0_place 4 = .ok (.getfield 321, 3) := dk_180 1 65 (dk_at dksX0_place_0 4 rfl rfl)
theorem dX0_place_7 : decode cX0_place 7 = .ok (.if_icmp .ge 21, 3) := dk_162 0 21 (dk_at dksX0_place_0 7 rfl rfl)
theorem dX0_place_10 : decode cX0_place 10 = .ok (.aload_n 0, 1) := dk_42 (dk_at dksX0_place_0 10 rfl rfl)
theorem dX0_place_11 : decode cX0_place 11 = .ok (.getfield 53, 3) := dk_180 0 53 (dk_at dksX0_place_0 11 rfl rfl)
theorem dX0_place_14 : decode cX0_place 14 = .ok (.iload_n 2, 1) := dk_28 (dk_at dksX0_place_0 14 rfl rfl)
theorem dX0_place_15 : decode cX0_place 15 = .ok (.iaload, 1) := dk_46 (dk_at dksX0_place_0 15 rfl rfl)
theorem dX0_place_16 : decode cX0_place 16 = .ok (.iload_n 1, 1) := dk_27 (dk_at dksX0_place_0 16 rfl rfl)
theorem dX0_place_17 : decode cX0_place 17 = .ok (.if_icmp .ne 5, 3) := dk_160 0 5 (dk_at dksX0_place_0 17 rfl rfl)
theorem dX0_place_20 : decode cX0_place 20 = .ok (.iload_n 2, 1) := dk_28 (dk_at dksX0_place_0 20 rfl rfl)
theorem dX0_place_21 : decode cX0_place 21 = .ok (.ireturn, 1) := dk_172 (dk_at dksX0_place_0 21 rfl rfl)
theorem dX0_place_22 : decode cX0_place 22 = .ok (.iinc 2 1, 3) := dk_132 2 1 (dk_at dksX0_place_1 0 rfl rfl)
theorem dX0_place_25 : decode cX0_place 25 = .ok (.goto (-23), 3) := dk_167 255 233 (dk_at dksX0_place_1 3 rfl rfl)
theorem dX0_place_28 : decode cX0_place 28 = .ok (.aload_n 0, 1) := dk_42 (dk_at dksX0_place_1 6 rfl rfl)
theorem dX0_place_29 : decode cX0_place 29 = .ok (.getfield 53, 3) := dk_180 0 53 (dk_at dksX0_place_1 7 rfl rfl)
theorem dX0_place_32 : decode cX0_place 32 = .ok (.aload_n 0, 1) := dk_42 (dk_at dksX0_place_1 10 rfl rfl)
theorem dX0_place_33 : decode cX0_place 33 = .ok (.getfield 321, 3) := dk_180 1 65 (dk_at dksX0_place_1 11 rfl rfl)
theorem dX0_place_36 : decode cX0_place 36 = .ok (.iload_n 1, 1) := dk_27 (dk_at dksX0_place_1 14 rfl rfl)
theorem dX0_place_37 : decode cX0_place 37 = .ok (.iastore, 1) := dk_79 (dk_at dksX0_place_1 15 rfl rfl)
theorem dX0_place_38 : decode cX0_place 38 = .ok (.aload_n 0, 1) := dk_42 (dk_at dksX0_place_1 16 rfl rfl)
theorem dX0_place_39 : decode cX0_place 39 = .ok (.dup, 1) := dk_89 (dk_at dksX0_place_1 17 rfl rfl)
theorem dX0_place_40 : decode cX0_place 40 = .ok (.getfield 321, 3) := dk_180 1 65 (dk_at dksX0_place_1 18 rfl rfl)
theorem dX0_place_43 : decode cX0_place 43 = .ok (.iconst 1, 1) := dk_4 (dk_at dksX0_place_1 21 rfl rfl)
theorem dX0_place_44 : decode cX0_place 44 = .ok (.iadd, 1) := dk_96 (dk_at dksX0_place_1 22 rfl rfl)
theorem dX0_place_45 : decode cX0_place 45 = .ok (.putfield 321, 3) := dk_181 1 65 (dk_at dksX0_place_2 0 rfl rfl)
theorem dX0_place_48 : decode cX0_place 48 = .ok (.aload_n 0, 1) := dk_42 (dk_at dksX0_place_2 3 rfl rfl)
theorem dX0_place_49 : decode cX0_place 49 = .ok (.getfield 321, 3) := dk_180 1 65 (dk_at dksX0_place_2 4 rfl rfl)
theorem dX0_place_52 : decode cX0_place 52 = .ok (.iconst 1, 1) := dk_4 (dk_at dksX0_place_2 7 rfl rfl)
theorem dX0_place_53 : decode cX0_place 53 = .ok (.isub, 1) := dk_100 (dk_at dksX0_place_2 8 rfl rfl)
theorem dX0_place_54 : decode cX0_place 54 = .ok (.ireturn, 1) := dk_172 (dk_at dksX0_place_2 9 rfl rfl)
abbrev cX0_frame : ByteArray := prog_1_method_44_code
def yX0_frame : MethodName := ⟨RX0, "frame", "(II)I"⟩
def dkwX0_frame_1 : List UInt8 := [185, 0, 138, 2, 0, 192, 0, 237, 180, 0, 236, 28, 46, 167, 0, 4, 2, 172]
abbrev dktX0_frame_1 : List UInt8 := dkwX0_frame_1 ++ []
def dkwX0_frame_0 : List UInt8 := [42, 27, 182, 1, 82, 153, 0, 32, 42, 28, 182, 0, 206, 153, 0, 24, 42, 182, 1, 85, 27]
abbrev dktX0_frame_0 : List UInt8 := dkwX0_frame_0 ++ dktX0_frame_1
theorem dksX0_frame_0 : cX0_frame.data.toList.drop 0 = dktX0_frame_0 := by decide +kernel
theorem dksX0_frame_1 : cX0_frame.data.toList.drop 21 = dktX0_frame_1 := dk_seg dksX0_frame_0 21 rfl rfl
theorem dX0_frame_0 : decode cX0_frame 0 = .ok (.aload_n 0, 1) := dk_42 (dk_at dksX0_frame_0 0 rfl rfl)
theorem dX0_frame_1 : decode cX0_frame 1 = .ok (.iload_n 1, 1) := dk_27 (dk_at dksX0_frame_0 1 rfl rfl)
theorem dX0_frame_2 : decode cX0_frame 2 = .ok (.invokevirtual 338, 3) := dk_182 1 82 (dk_at dksX0_frame_0 2 rfl rfl)
theorem dX0_frame_5 : decode cX0_frame 5 = .ok (.ifCond .eq 32, 3) := dk_153 0 32 (dk_at dksX0_frame_0 5 rfl rfl)
theorem dX0_frame_8 : decode cX0_frame 8 = .ok (.aload_n 0, 1) := dk_42 (dk_at dksX0_frame_0 8 rfl rfl)
theorem dX0_frame_9 : decode cX0_frame 9 = .ok (.iload_n 2, 1) := dk_28 (dk_at dksX0_frame_0 9 rfl rfl)
theorem dX0_frame_10 : decode cX0_frame 10 = .ok (.invokevirtual 206, 3) := dk_182 0 206 (dk_at dksX0_frame_0 10 rfl rfl)
theorem dX0_frame_13 : decode cX0_frame 13 = .ok (.ifCond .eq 24, 3) := dk_153 0 24 (dk_at dksX0_frame_0 13 rfl rfl)
theorem dX0_frame_16 : decode cX0_frame 16 = .ok (.aload_n 0, 1) := dk_42 (dk_at dksX0_frame_0 16 rfl rfl)
theorem dX0_frame_17 : decode cX0_frame 17 = .ok (.invokevirtual 341, 3) := dk_182 1 85 (dk_at dksX0_frame_0 17 rfl rfl)
theorem dX0_frame_20 : decode cX0_frame 20 = .ok (.iload_n 1, 1) := dk_27 (dk_at dksX0_frame_0 20 rfl rfl)
theorem dX0_frame_21 : decode cX0_frame 21 = .ok (.invokeinterface 138 2, 5) := by decide +kernel
theorem dX0_frame_26 : decode cX0_frame 26 = .ok (.checkcast 237, 3) := dk_192 0 237 (dk_at dksX0_frame_1 5 rfl rfl)
theorem dX0_frame_29 : decode cX0_frame 29 = .ok (.getfield 236, 3) := dk_180 0 236 (dk_at dksX0_frame_1 8 rfl rfl)
theorem dX0_frame_32 : decode cX0_frame 32 = .ok (.iload_n 2, 1) := dk_28 (dk_at dksX0_frame_1 11 rfl rfl)
theorem dX0_frame_33 : decode cX0_frame 33 = .ok (.iaload, 1) := dk_46 (dk_at dksX0_frame_1 12 rfl rfl)
theorem dX0_frame_34 : decode cX0_frame 34 = .ok (.goto 4, 3) := dk_167 0 4 (dk_at dksX0_frame_1 13 rfl rfl)
theorem dX0_frame_37 : decode cX0_frame 37 = .ok (.iconst (-1), 1) := dk_2 (dk_at dksX0_frame_1 16 rfl rfl)
theorem dX0_frame_38 : decode cX0_frame 38 = .ok (.ireturn, 1) := dk_172 (dk_at dksX0_frame_1 17 rfl rfl)
abbrev cX0_change : ByteArray := prog_1_method_45_code
def yX0_change : MethodName := ⟨RX0, "change", "(III)I"⟩
def dkwX0_change_5 : List UInt8 := [25, 5, 180, 0, 249, 167, 0, 12, 42, 25, 5, 180, 0, 249, 182, 1, 72, 172]
abbrev dktX0_change_5 : List UInt8 := dkwX0_change_5 ++ []
def dkwX0_change_4 : List UInt8 := [180, 0, 248, 167, 0, 38, 29, 4, 160, 0, 11, 25, 5, 180, 0, 245, 167, 0, 25, 29, 5, 160, 0, 11]
abbrev dktX0_change_4 : List UInt8 := dkwX0_change_4 ++ dktX0_change_5
def dkwX0_change_3 : List UInt8 := [42, 42, 182, 1, 85, 27, 185, 0, 138, 2, 0, 192, 0, 237, 182, 1, 91, 87, 29, 154, 0, 11, 25, 5]
abbrev dktX0_change_3 : List UInt8 := dkwX0_change_3 ++ dktX0_change_4
def dkwX0_change_2 : List UInt8 := [185, 0, 130, 1, 0, 161, 0, 6, 16, 247, 172, 25, 4, 28, 185, 0, 138, 2, 0, 192, 0, 243, 58, 5]
abbrev dktX0_change_2 : List UInt8 := dkwX0_change_2 ++ dktX0_change_3
def dkwX0_change_1 : List UInt8 := [182, 1, 85, 27, 185, 0, 138, 2, 0, 192, 0, 237, 180, 0, 241, 58, 4, 28, 25, 4]
abbrev dktX0_change_1 : List UInt8 := dkwX0_change_1 ++ dktX0_change_2
def dkwX0_change_0 : List UInt8 := [42, 27, 182, 1, 82, 153, 0, 16, 28, 155, 0, 12, 29, 3, 6, 184, 0, 69, 154, 0, 5, 2, 172, 42]
abbrev dktX0_change_0 : List UInt8 := dkwX0_change_0 ++ dktX0_change_1
theorem dksX0_change_0 : cX0_change.data.toList.drop 0 = dktX0_change_0 := by decide +kernel
theorem dksX0_change_1 : cX0_change.data.toList.drop 24 = dktX0_change_1 := dk_seg dksX0_change_0 24 rfl rfl
theorem dksX0_change_2 : cX0_change.data.toList.drop 44 = dktX0_change_2 := dk_seg dksX0_change_1 20 rfl rfl
theorem dksX0_change_3 : cX0_change.data.toList.drop 68 = dktX0_change_3 := dk_seg dksX0_change_2 24 rfl rfl
theorem dksX0_change_4 : cX0_change.data.toList.drop 92 = dktX0_change_4 := dk_seg dksX0_change_3 24 rfl rfl
theorem dksX0_change_5 : cX0_change.data.toList.drop 116 = dktX0_change_5 := dk_seg dksX0_change_4 24 rfl rfl
theorem dX0_change_0 : decode cX0_change 0 = .ok (.aload_n 0, 1) := dk_42 (dk_at dksX0_change_0 0 rfl rfl)
theorem dX0_change_1 : decode cX0_change 1 = .ok (.iload_n 1, 1) := dk_27 (dk_at dksX0_change_0 1 rfl rfl)
theorem dX0_change_2 : decode cX0_change 2 = .ok (.invokevirtual 338, 3) := dk_182 1 82 (dk_at dksX0_change_0 2 rfl rfl)
theorem dX0_change_5 : decode cX0_change 5 = .ok (.ifCond .eq 16, 3) := dk_153 0 16 (dk_at dksX0_change_0 5 rfl rfl)
theorem dX0_change_8 : decode cX0_change 8 = .ok (.iload_n 2, 1) := dk_28 (dk_at dksX0_change_0 8 rfl rfl)
theorem dX0_change_9 : decode cX0_change 9 = .ok (.ifCond .lt 12, 3) := dk_155 0 12 (dk_at dksX0_change_0 9 rfl rfl)
theorem dX0_change_12 : decode cX0_change 12 = .ok (.iload_n 3, 1) := dk_29 (dk_at dksX0_change_0 12 rfl rfl)
theorem dX0_change_13 : decode cX0_change 13 = .ok (.iconst 0, 1) := dk_3 (dk_at dksX0_change_0 13 rfl rfl)
theorem dX0_change_14 : decode cX0_change 14 = .ok (.iconst 3, 1) := dk_6 (dk_at dksX0_change_0 14 rfl rfl)
theorem dX0_change_15 : decode cX0_change 15 = .ok (.invokestatic 69, 3) := dk_184 0 69 (dk_at dksX0_change_0 15 rfl rfl)
theorem dX0_change_18 : decode cX0_change 18 = .ok (.ifCond .ne 5, 3) := dk_154 0 5 (dk_at dksX0_change_0 18 rfl rfl)
theorem dX0_change_21 : decode cX0_change 21 = .ok (.iconst (-1), 1) := dk_2 (dk_at dksX0_change_0 21 rfl rfl)
theorem dX0_change_22 : decode cX0_change 22 = .ok (.ireturn, 1) := dk_172 (dk_at dksX0_change_0 22 rfl rfl)
theorem dX0_change_23 : decode cX0_change 23 = .ok (.aload_n 0, 1) := dk_42 (dk_at dksX0_change_0 23 rfl rfl)
theorem dX0_change_24 : decode cX0_change 24 = .ok (.invokevirtual 341, 3) := dk_182 1 85 (dk_at dksX0_change_1 0 rfl rfl)
theorem dX0_change_27 : decode cX0_change 27 = .ok (.iload_n 1, 1) := dk_27 (dk_at dksX0_change_1 3 rfl rfl)
theorem dX0_change_28 : decode cX0_change 28 = .ok (.invokeinterface 138 2, 5) := by decide +kernel
theorem dX0_change_33 : decode cX0_change 33 = .ok (.checkcast 237, 3) := dk_192 0 237 (dk_at dksX0_change_1 9 rfl rfl)
theorem dX0_change_36 : decode cX0_change 36 = .ok (.getfield 241, 3) := dk_180 0 241 (dk_at dksX0_change_1 12 rfl rfl)
theorem dX0_change_39 : decode cX0_change 39 = .ok (.astore 4, 2) := dk_58 4 (dk_at dksX0_change_1 15 rfl rfl)
theorem dX0_change_41 : decode cX0_change 41 = .ok (.iload_n 2, 1) := dk_28 (dk_at dksX0_change_1 17 rfl rfl)
theorem dX0_change_42 : decode cX0_change 42 = .ok (.aload 4, 2) := dk_25 4 (dk_at dksX0_change_1 18 rfl rfl)
theorem dX0_change_44 : decode cX0_change 44 = .ok (.invokeinterface 130 1, 5) := by decide +kernel
theorem dX0_change_49 : decode cX0_change 49 = .ok (.if_icmp .lt 6, 3) := dk_161 0 6 (dk_at dksX0_change_2 5 rfl rfl)
theorem dX0_change_52 : decode cX0_change 52 = .ok (.bipush (-9), 2) := dk_16 247 (dk_at dksX0_change_2 8 rfl rfl)
theorem dX0_change_54 : decode cX0_change 54 = .ok (.ireturn, 1) := dk_172 (dk_at dksX0_change_2 10 rfl rfl)
theorem dX0_change_55 : decode cX0_change 55 = .ok (.aload 4, 2) := dk_25 4 (dk_at dksX0_change_2 11 rfl rfl)
theorem dX0_change_57 : decode cX0_change 57 = .ok (.iload_n 2, 1) := dk_28 (dk_at dksX0_change_2 13 rfl rfl)
theorem dX0_change_58 : decode cX0_change 58 = .ok (.invokeinterface 138 2, 5) := by decide +kernel
theorem dX0_change_63 : decode cX0_change 63 = .ok (.checkcast 243, 3) := dk_192 0 243 (dk_at dksX0_change_2 19 rfl rfl)
theorem dX0_change_66 : decode cX0_change 66 = .ok (.astore 5, 2) := dk_58 5 (dk_at dksX0_change_2 22 rfl rfl)
theorem dX0_change_68 : decode cX0_change 68 = .ok (.aload_n 0, 1) := dk_42 (dk_at dksX0_change_3 0 rfl rfl)
theorem dX0_change_69 : decode cX0_change 69 = .ok (.aload_n 0, 1) := dk_42 (dk_at dksX0_change_3 1 rfl rfl)
theorem dX0_change_70 : decode cX0_change 70 = .ok (.invokevirtual 341, 3) := dk_182 1 85 (dk_at dksX0_change_3 2 rfl rfl)
theorem dX0_change_73 : decode cX0_change 73 = .ok (.iload_n 1, 1) := dk_27 (dk_at dksX0_change_3 5 rfl rfl)
theorem dX0_change_74 : decode cX0_change 74 = .ok (.invokeinterface 138 2, 5) := by decide +kernel
theorem dX0_change_79 : decode cX0_change 79 = .ok (.checkcast 237, 3) := dk_192 0 237 (dk_at dksX0_change_3 11 rfl rfl)
theorem dX0_change_82 : decode cX0_change 82 = .ok (.invokevirtual 347, 3) := dk_182 1 91 (dk_at dksX0_change_3 14 rfl rfl)
theorem dX0_change_85 : decode cX0_change 85 = .ok (.pop, 1) := dk_87 (dk_at dksX0_change_3 17 rfl rfl)
theorem dX0_change_86 : decode cX0_change 86 = .ok (.iload_n 3, 1) := dk_29 (dk_at dksX0_change_3 18 rfl rfl)
theorem dX0_change_87 : decode cX0_change 87 = .ok (.ifCond .ne 11, 3) := dk_154 0 11 (dk_at dksX0_change_3 19 rfl rfl)
theorem dX0_change_90 : decode cX0_change 90 = .ok (.aload 5, 2) := dk_25 5 (dk_at dksX0_change_3 22 rfl rfl)
theorem dX0_change_92 : decode cX0_change 92 = .ok (.getfield 248, 3) := dk_180 0 248 (dk_at dksX0_change_4 0 rfl rfl)
theorem dX0_change_95 : decode cX0_change 95 = .ok (.goto 38, 3) := dk_167 0 38 (dk_at dksX0_change_4 3 rfl rfl)
theorem dX0_change_98 : decode cX0_change 98 = .ok (.iload_n 3, 1) := dk_29 (dk_at dksX0_change_4 6 rfl rfl)
theorem dX0_change_99 : decode cX0_change 99 = .ok (.iconst 1, 1) := dk_4 (dk_at dksX0_change_4 7 rfl rfl)
theorem dX0_change_100 : decode cX0_change 100 = .ok (.if_icmp .ne 11, 3) := dk_160 0 11 (dk_at dksX0_change_4 8 rfl rfl)
theorem dX0_change_103 : decode cX0_change 103 = .ok (.aload 5, 2) := dk_25 5 (dk_at dksX0_change_4 11 rfl rfl)
theorem dX0_change_105 : decode cX0_change 105 = .ok (.getfield 245, 3) := dk_180 0 245 (dk_at dksX0_change_4 13 rfl rfl)
theorem dX0_change_108 : decode cX0_change 108 = .ok (.goto 25, 3) := dk_167 0 25 (dk_at dksX0_change_4 16 rfl rfl)
theorem dX0_change_111 : decode cX0_change 111 = .ok (.iload_n 3, 1) := dk_29 (dk_at dksX0_change_4 19 rfl rfl)
theorem dX0_change_112 : decode cX0_change 112 = .ok (.iconst 2, 1) := dk_5 (dk_at dksX0_change_4 20 rfl rfl)
theorem dX0_change_113 : decode cX0_change 113 = .ok (.if_icmp .ne 11, 3) := dk_160 0 11 (dk_at dksX0_change_4 21 rfl rfl)
theorem dX0_change_116 : decode cX0_change 116 = .ok (.aload 5, 2) := dk_25 5 (dk_at dksX0_change_5 0 rfl rfl)
theorem dX0_change_118 : decode cX0_change 118 = .ok (.getfield 249, 3) := dk_180 0 249 (dk_at dksX0_change_5 2 rfl rfl)
theorem dX0_change_121 : decode cX0_change 121 = .ok (.goto 12, 3) := dk_167 0 12 (dk_at dksX0_change_5 5 rfl rfl)
theorem dX0_change_124 : decode cX0_change 124 = .ok (.aload_n 0, 1) := dk_42 (dk_at dksX0_change_5 8 rfl rfl)
theorem dX0_change_125 : decode cX0_change 125 = .ok (.aload 5, 2) := dk_25 5 (dk_at dksX0_change_5 9 rfl rfl)
theorem dX0_change_127 : decode cX0_change 127 = .ok (.getfield 249, 3) := dk_180 0 249 (dk_at dksX0_change_5 11 rfl rfl)
theorem dX0_change_130 : decode cX0_change 130 = .ok (.invokevirtual 328, 3) := dk_182 1 72 (dk_at dksX0_change_5 14 rfl rfl)
theorem dX0_change_133 : decode cX0_change 133 = .ok (.ireturn, 1) := dk_172 (dk_at dksX0_change_5 17 rfl rfl)
abbrev cX0_packed : ByteArray := prog_1_method_48_code
def yX0_packed : MethodName := ⟨RX0, "packed", "(I)I"⟩
def dkwX0_packed_0 : List UInt8 := [27, 4, 16, 8, 184, 0, 69, 153, 0, 11, 42, 27, 182, 1, 116, 167, 0, 4, 2, 172]
abbrev dktX0_packed_0 : List UInt8 := dkwX0_packed_0 ++ []
theorem dksX0_packed_0 : cX0_packed.data.toList.drop 0 = dktX0_packed_0 := by decide +kernel
theorem dX0_packed_0 : decode cX0_packed 0 = .ok (.iload_n 1, 1) := dk_27 (dk_at dksX0_packed_0 0 rfl rfl)
theorem dX0_packed_1 : decode cX0_packed 1 = .ok (.iconst 1, 1) := dk_4 (dk_at dksX0_packed_0 1 rfl rfl)
theorem dX0_packed_2 : decode cX0_packed 2 = .ok (.bipush 8, 2) := dk_16 8 (dk_at dksX0_packed_0 2 rfl rfl)
theorem dX0_packed_4 : decode cX0_packed 4 = .ok (.invokestatic 69, 3) := dk_184 0 69 (dk_at dksX0_packed_0 4 rfl rfl)
theorem dX0_packed_7 : decode cX0_packed 7 = .ok (.ifCond .eq 11, 3) := dk_153 0 11 (dk_at dksX0_packed_0 7 rfl rfl)
theorem dX0_packed_10 : decode cX0_packed 10 = .ok (.aload_n 0, 1) := dk_42 (dk_at dksX0_packed_0 10 rfl rfl)
theorem dX0_packed_11 : decode cX0_packed 11 = .ok (.iload_n 1, 1) := dk_27 (dk_at dksX0_packed_0 11 rfl rfl)
theorem dX0_packed_12 : decode cX0_packed 12 = .ok (.invokevirtual 372, 3) := dk_182 1 116 (dk_at dksX0_packed_0 12 rfl rfl)
theorem dX0_packed_15 : decode cX0_packed 15 = .ok (.goto 4, 3) := dk_167 0 4 (dk_at dksX0_packed_0 15 rfl rfl)
theorem dX0_packed_18 : decode cX0_packed 18 = .ok (.iconst (-1), 1) := dk_2 (dk_at dksX0_packed_0 18 rfl rfl)
theorem dX0_packed_19 : decode cX0_packed 19 = .ok (.ireturn, 1) := dk_172 (dk_at dksX0_packed_0 19 rfl rfl)
abbrev cX0_packedRoom : ByteArray := prog_1_method_47_code
def yX0_packedRoom : MethodName := ⟨RX0, "packedRoom", "(I)I"⟩
def dkwX0_packedRoom_5 : List UInt8 := [25, 4, 185, 1, 113, 1, 0, 167, 255, 159, 28, 172]
abbrev dktX0_packedRoom_5 : List UInt8 := dkwX0_packedRoom_5 ++ []
def dkwX0_packedRoom_4 : List UInt8 := [180, 0, 223, 182, 1, 106, 166, 0, 24, 28, 42, 29, 25, 4, 27, 182, 1, 109, 96, 61, 16, 247, 62]
abbrev dktX0_packedRoom_4 : List UInt8 := dkwX0_packedRoom_4 ++ dktX0_packedRoom_5
def dkwX0_packedRoom_3 : List UInt8 := [185, 1, 102, 2, 0, 87, 25, 6, 180, 1, 88, 16, 247, 160, 0, 18, 25, 6, 42, 180, 0, 23]
abbrev dktX0_packedRoom_3 : List UInt8 := dkwX0_packedRoom_3 ++ dktX0_packedRoom_4
def dkwX0_packedRoom_2 : List UInt8 := [29, 16, 247, 160, 0, 11, 25, 6, 180, 1, 75, 167, 0, 4, 29, 62, 25, 4, 25, 6, 180, 0, 241]
abbrev dktX0_packedRoom_2 : List UInt8 := dkwX0_packedRoom_2 ++ dktX0_packedRoom_3
def dkwX0_packedRoom_1 : List UInt8 := [58, 5, 25, 5, 185, 0, 110, 1, 0, 153, 0, 93, 25, 5, 185, 0, 116, 1, 0, 192, 0, 237, 58, 6]
abbrev dktX0_packedRoom_1 : List UInt8 := dkwX0_packedRoom_1 ++ dktX0_packedRoom_2
def dkwX0_packedRoom_0 : List UInt8 := [3, 61, 16, 247, 62, 187, 1, 53, 89, 183, 1, 100, 58, 4, 42, 180, 0, 23, 180, 0, 223, 182, 1, 101]
abbrev dktX0_packedRoom_0 : List UInt8 := dkwX0_packedRoom_0 ++ dktX0_packedRoom_1
theorem dksX0_packedRoom_0 : cX0_packedRoom.data.toList.drop 0 = dktX0_packedRoom_0 := by decide +kernel
theorem dksX0_packedRoom_1 : cX0_packedRoom.data.toList.drop 24 = dktX0_packedRoom_1 := dk_seg dksX0_packedRoom_0 24 rfl rfl
theorem dksX0_packedRoom_2 : cX0_packedRoom.data.toList.drop 48 = dktX0_packedRoom_2 := dk_seg dksX0_packedRoom_1 24 rfl rfl
theorem dksX0_packedRoom_3 : cX0_packedRoom.data.toList.drop 71 = dktX0_packedRoom_3 := dk_seg dksX0_packedRoom_2 23 rfl rfl
theorem dksX0_packedRoom_4 : cX0_packedRoom.data.toList.drop 93 = dktX0_packedRoom_4 := dk_seg dksX0_packedRoom_3 22 rfl rfl
theorem dksX0_packedRoom_5 : cX0_packedRoom.data.toList.drop 116 = dktX0_packedRoom_5 := dk_seg dksX0_packedRoom_4 23 rfl rfl
theorem dX0_packedRoom_0 : decode cX0_packedRoom 0 = .ok (.iconst 0, 1) := dk_3 (dk_at dksX0_packedRoom_0 0 rfl rfl)
theorem dX0_packedRoom_1 : decode cX0_packedRoom 1 = .ok (.istore_n 2, 1) := dk_61 (dk_at dksX0_packedRoom_0 1 rfl rfl)
theorem dX0_packedRoom_2 : decode cX0_packedRoom 2 = .ok (.bipush (-9), 2) := dk_16 247 (dk_at dksX0_packedRoom_0 2 rfl rfl)
theorem dX0_packedRoom_4 : decode cX0_packedRoom 4 = .ok (.istore_n 3, 1) := dk_62 (dk_at dksX0_packedRoom_0 4 rfl rfl)
theorem dX0_packedRoom_5 : decode cX0_packedRoom 5 = .ok (.new 309, 3) := dk_187 1 53 (dk_at dksX0_packedRoom_0 5 rfl rfl)
theorem dX0_packedRoom_8 : decode cX0_packedRoom 8 = .ok (.dup, 1) := dk_89 (dk_at dksX0_packedRoom_0 8 rfl rfl)
theorem dX0_packedRoom_9 : decode cX0_packedRoom 9 = .ok (.invokespecial 356, 3) := dk_183 1 100 (dk_at dksX0_packedRoom_0 9 rfl rfl)
theorem dX0_packedRoom_12 : decode cX0_packedRoom 12 = .ok (.astore 4, 2) := dk_58 4 (dk_at dksX0_packedRoom_0 12 rfl rfl)
theorem dX0_packedRoom_14 : decode cX0_packedRoom 14 = .ok (.aload_n 0, 1) := dk_42 (dk_at dksX0_packedRoom_0 14 rfl rfl)
theorem dX0_packedRoom_15 : decode cX0_packedRoom 15 = .ok (.getfield 23, 3) := dk_180 0 23 (dk_at dksX0_packedRoom_0 15 rfl rfl)
theorem dX0_packedRoom_18 : decode cX0_packedRoom 18 = .ok (.getfield 223, 3) := dk_180 0 223 (dk_at dksX0_packedRoom_0 18 rfl rfl)
theorem dX0_packedRoom_21 : decode cX0_packedRoom 21 = .ok (.invokevirtual 357, 3) := dk_182 1 101 (dk_at dksX0_packedRoom_0 21 rfl rfl)
theorem dX0_packedRoom_24 : decode cX0_packedRoom 24 = .ok (.astore 5, 2) := dk_58 5 (dk_at dksX0_packedRoom_1 0 rfl rfl)
theorem dX0_packedRoom_26 : decode cX0_packedRoom 26 = .ok (.aload 5, 2) := dk_25 5 (dk_at dksX0_packedRoom_1 2 rfl rfl)
theorem dX0_packedRoom_28 : decode cX0_packedRoom 28 = .ok (.invokeinterface 110 1, 5) := by decide +kernel
theorem dX0_packedRoom_33 : decode cX0_packedRoom 33 = .ok (.ifCond .eq 93, 3) := dk_153 0 93 (dk_at dksX0_packedRoom_1 9 rfl rfl)
theorem dX0_packedRoom_36 : decode cX0_packedRoom 36 = .ok (.aload 5, 2) := dk_25 5 (dk_at dksX0_packedRoom_1 12 rfl rfl)
theorem dX0_packedRoom_38 : decode cX0_packedRoom 38 = .ok (.invokeinterface 116 1, 5) := by decide +kernel
theorem dX0_packedRoom_43 : decode cX0_packedRoom 43 = .ok (.checkcast 237, 3) := dk_192 0 237 (dk_at dksX0_packedRoom_1 19 rfl rfl)
theorem dX0_packedRoom_46 : decode cX0_packedRoom 46 = .ok (.astore 6, 2) := dk_58 6 (dk_at dksX0_packedRoom_1 22 rfl rfl)
theorem dX0_packedRoom_48 : decode cX0_packedRoom 48 = .ok (.iload_n 3, 1) := dk_29 (dk_at dksX0_packedRoom_2 0 rfl rfl)
theorem dX0_packedRoom_49 : decode cX0_packedRoom 49 = .ok (.bipush (-9), 2) := dk_16 247 (dk_at dksX0_packedRoom_2 1 rfl rfl)
theorem dX0_packedRoom_51 : decode cX0_packedRoom 51 = .ok (.if_icmp .ne 11, 3) := dk_160 0 11 (dk_at dksX0_packedRoom_2 3 rfl rfl)
theorem dX0_packedRoom_54 : decode cX0_packedRoom 54 = .ok (.aload 6, 2) := dk_25 6 (dk_at dksX0_packedRoom_2 6 rfl rfl)
theorem dX0_packedRoom_56 : decode cX0_packedRoom 56 = .ok (.getfield 331, 3) := dk_180 1 75 (dk_at dksX0_packedRoom_2 8 rfl rfl)
theorem dX0_packedRoom_59 : decode cX0_packedRoom 59 = .ok (.goto 4, 3) := dk_167 0 4 (dk_at dksX0_packedRoom_2 11 rfl rfl)
theorem dX0_packedRoom_62 : decode cX0_packedRoom 62 = .ok (.iload_n 3, 1) := dk_29 (dk_at dksX0_packedRoom_2 14 rfl rfl)
theorem dX0_packedRoom_63 : decode cX0_packedRoom 63 = .ok (.istore_n 3, 1) := dk_62 (dk_at dksX0_packedRoom_2 15 rfl rfl)
theorem dX0_packedRoom_64 : decode cX0_packedRoom 64 = .ok (.aload 4, 2) := dk_25 4 (dk_at dksX0_packedRoom_2 16 rfl rfl)
theorem dX0_packedRoom_66 : decode cX0_packedRoom 66 = .ok (.aload 6, 2) := dk_25 6 (dk_at dksX0_packedRoom_2 18 rfl rfl)
theorem dX0_packedRoom_68 : decode cX0_packedRoom 68 = .ok (.getfield 241, 3) := dk_180 0 241 (dk_at dksX0_packedRoom_2 20 rfl rfl)
theorem dX0_packedRoom_71 : decode cX0_packedRoom 71 = .ok (.invokeinterface 358 2, 5) := by decide +kernel
theorem dX0_packedRoom_76 : decode cX0_packedRoom 76 = .ok (.pop, 1) := dk_87 (dk_at dksX0_packedRoom_3 5 rfl rfl)
theorem dX0_packedRoom_77 : decode cX0_packedRoom 77 = .ok (.aload 6, 2) := dk_25 6 (dk_at dksX0_packedRoom_3 6 rfl rfl)
theorem dX0_packedRoom_79 : decode cX0_packedRoom 79 = .ok (.getfield 344, 3) := dk_180 1 88 (dk_at dksX0_packedRoom_3 8 rfl rfl)
theorem dX0_packedRoom_82 : decode cX0_packedRoom 82 = .ok (.bipush (-9), 2) := dk_16 247 (dk_at dksX0_packedRoom_3 11 rfl rfl)
theorem dX0_packedRoom_84 : decode cX0_packedRoom 84 = .ok (.if_icmp .ne 18, 3) := dk_160 0 18 (dk_at dksX0_packedRoom_3 13 rfl rfl)
theorem dX0_packedRoom_87 : decode cX0_packedRoom 87 = .ok (.aload 6, 2) := dk_25 6 (dk_at dksX0_packedRoom_3 16 rfl rfl)
theorem dX0_packedRoom_89 : decode cX0_packedRoom 89 = .ok (.aload_n 0, 1) := dk_42 (dk_at dksX0_packedRoom_3 18 rfl rfl)
theorem dX0_packedRoom_90 : decode cX0_packedRoom 90 = .ok (.getfield 23, 3) := dk_180 0 23 (dk_at dksX0_packedRoom_3 19 rfl rfl)
theorem dX0_packedRoom_93 : decode cX0_packedRoom 93 = .ok (.getfield 223, 3) := dk_180 0 223 (dk_at dksX0_packedRoom_4 0 rfl rfl)
theorem dX0_packedRoom_96 : decode cX0_packedRoom 96 = .ok (.invokevirtual 362, 3) := dk_182 1 106 (dk_at dksX0_packedRoom_4 3 rfl rfl)
theorem dX0_packedRoom_99 : decode cX0_packedRoom 99 = .ok (.if_acmp .ne 24, 3) := dk_166 0 24 (dk_at dksX0_packedRoom_4 6 rfl rfl)
theorem dX0_packedRoom_102 : decode cX0_packedRoom 102 = .ok (.iload_n 2, 1) := dk_28 (dk_at dksX0_packedRoom_4 9 rfl rfl)
theorem dX0_packedRoom_103 : decode cX0_packedRoom 103 = .ok (.aload_n 0, 1) := dk_42 (dk_at dksX0_packedRoom_4 10 rfl rfl)
theorem dX0_packedRoom_104 : decode cX0_packedRoom 104 = .ok (.iload_n 3, 1) := dk_29 (dk_at dksX0_packedRoom_4 11 rfl rfl)
theorem dX0_packedRoom_105 : decode cX0_packedRoom 105 = .ok (.aload 4, 2) := dk_25 4 (dk_at dksX0_packedRoom_4 12 rfl rfl)
theorem dX0_packedRoom_107 : decode cX0_packedRoom 107 = .ok (.iload_n 1, 1) := dk_27 (dk_at dksX0_packedRoom_4 14 rfl rfl)
theorem dX0_packedRoom_108 : decode cX0_packedRoom 108 = .ok (.invokevirtual 365, 3) := dk_182 1 109 (dk_at dksX0_packedRoom_4 15 rfl rfl)
theorem dX0_packedRoom_111 : decode cX0_packedRoom 111 = .ok (.iadd, 1) := dk_96 (dk_at dksX0_packedRoom_4 18 rfl rfl)
theorem dX0_packedRoom_112 : decode cX0_packedRoom 112 = .ok (.istore_n 2, 1) := dk_61 (dk_at dksX0_packedRoom_4 19 rfl rfl)
theorem dX0_packedRoom_113 : decode cX0_packedRoom 113 = .ok (.bipush (-9), 2) := dk_16 247 (dk_at dksX0_packedRoom_4 20 rfl rfl)
theorem dX0_packedRoom_115 : decode cX0_packedRoom 115 = .ok (.istore_n 3, 1) := dk_62 (dk_at dksX0_packedRoom_4 22 rfl rfl)
theorem dX0_packedRoom_116 : decode cX0_packedRoom 116 = .ok (.aload 4, 2) := dk_25 4 (dk_at dksX0_packedRoom_5 0 rfl rfl)
theorem dX0_packedRoom_118 : decode cX0_packedRoom 118 = .ok (.invokeinterface 369 1, 5) := by decide +kernel
theorem dX0_packedRoom_123 : decode cX0_packedRoom 123 = .ok (.goto (-97), 3) := dk_167 255 159 (dk_at dksX0_packedRoom_5 7 rfl rfl)
theorem dX0_packedRoom_126 : decode cX0_packedRoom 126 = .ok (.iload_n 2, 1) := dk_28 (dk_at dksX0_packedRoom_5 10 rfl rfl)
theorem dX0_packedRoom_127 : decode cX0_packedRoom 127 = .ok (.ireturn, 1) := dk_172 (dk_at dksX0_packedRoom_5 11 rfl rfl)
abbrev cX0_partedRoom : ByteArray := prog_1_method_46_code
def yX0_partedRoom : MethodName := ⟨RX0, "partedRoom", "(ILjava/util/List;I)I"⟩
def dkwX0_partedRoom_3 : List UInt8 := [161, 255, 192, 21, 4, 172]
abbrev dktX0_partedRoom_3 : List UInt8 := dkwX0_partedRoom_3 ++ []
def dkwX0_partedRoom_2 : List UInt8 := [21, 5, 21, 6, 182, 1, 78, 96, 54, 4, 21, 6, 54, 5, 21, 5, 44, 185, 0, 130, 1, 0]
abbrev dktX0_partedRoom_2 : List UInt8 := dkwX0_partedRoom_2 ++ dktX0_partedRoom_3
def dkwX0_partedRoom_1 : List UInt8 := [21, 5, 154, 0, 7, 27, 167, 0, 17, 44, 21, 5, 185, 0, 138, 2, 0, 192, 0, 243, 180, 0, 248, 44]
abbrev dktX0_partedRoom_1 : List UInt8 := dkwX0_partedRoom_1 ++ dktX0_partedRoom_2
def dkwX0_partedRoom_0 : List UInt8 := [3, 54, 4, 3, 54, 5, 21, 5, 29, 96, 44, 185, 0, 130, 1, 0, 184, 1, 94, 54, 6, 21, 4, 42]
abbrev dktX0_partedRoom_0 : List UInt8 := dkwX0_partedRoom_0 ++ dktX0_partedRoom_1
theorem dksX0_partedRoom_0 : cX0_partedRoom.data.toList.drop 0 = dktX0_partedRoom_0 := by decide +kernel
theorem dksX0_partedRoom_1 : cX0_partedRoom.data.toList.drop 24 = dktX0_partedRoom_1 := dk_seg dksX0_partedRoom_0 24 rfl rfl
theorem dksX0_partedRoom_2 : cX0_partedRoom.data.toList.drop 48 = dktX0_partedRoom_2 := dk_seg dksX0_partedRoom_1 24 rfl rfl
theorem dksX0_partedRoom_3 : cX0_partedRoom.data.toList.drop 70 = dktX0_partedRoom_3 := dk_seg dksX0_partedRoom_2 22 rfl rfl
theorem dX0_partedRoom_0 : decode cX0_partedRoom 0 = .ok (.iconst 0, 1) := dk_3 (dk_at dksX0_partedRoom_0 0 rfl rfl)
theorem dX0_partedRoom_1 : decode cX0_partedRoom 1 = .ok (.istore 4, 2) := dk_54 4 (dk_at dksX0_partedRoom_0 1 rfl rfl)
theorem dX0_partedRoom_3 : decode cX0_partedRoom 3 = .ok (.iconst 0, 1) := dk_3 (dk_at dksX0_partedRoom_0 3 rfl rfl)
theorem dX0_partedRoom_4 : decode cX0_partedRoom 4 = .ok (.istore 5, 2) := dk_54 5 (dk_at dksX0_partedRoom_0 4 rfl rfl)
theorem dX0_partedRoom_6 : decode cX0_partedRoom 6 = .ok (.iload 5, 2) := dk_21 5 (dk_at dksX0_partedRoom_0 6 rfl rfl)
theorem dX0_partedRoom_8 : decode cX0_partedRoom 8 = .ok (.iload_n 3, 1) := dk_29 (dk_at dksX0_partedRoom_0 8 rfl rfl)
theorem dX0_partedRoom_9 : decode cX0_partedRoom 9 = .ok (.iadd, 1) := dk_96 (dk_at dksX0_partedRoom_0 9 rfl rfl)
theorem dX0_partedRoom_10 : decode cX0_partedRoom 10 = .ok (.aload_n 2, 1) := dk_44 (dk_at dksX0_partedRoom_0 10 rfl rfl)
theorem dX0_partedRoom_11 : decode cX0_partedRoom 11 = .ok (.invokeinterface 130 1, 5) := by decide +kernel
theorem dX0_partedRoom_16 : decode cX0_partedRoom 16 = .ok (.invokestatic 350, 3) := dk_184 1 94 (dk_at dksX0_partedRoom_0 16 rfl rfl)
theorem dX0_partedRoom_19 : decode cX0_partedRoom 19 = .ok (.istore 6, 2) := dk_54 6 (dk_at dksX0_partedRoom_0 19 rfl rfl)
theorem dX0_partedRoom_21 : decode cX0_partedRoom 21 = .ok (.iload 4, 2) := dk_21 4 (dk_at dksX0_partedRoom_0 21 rfl rfl)
theorem dX0_partedRoom_23 : decode cX0_partedRoom 23 = .ok (.aload_n 0, 1) := dk_42 (dk_at dksX0_partedRoom_0 23 rfl rfl)
theorem dX0_partedRoom_24 : decode cX0_partedRoom 24 = .ok (.iload 5, 2) := dk_21 5 (dk_at dksX0_partedRoom_1 0 rfl rfl)
theorem dX0_partedRoom_26 : decode cX0_partedRoom 26 = .ok (.ifCond .ne 7, 3) := dk_154 0 7 (dk_at dksX0_partedRoom_1 2 rfl rfl)
theorem dX0_partedRoom_29 : decode cX0_partedRoom 29 = .ok (.iload_n 1, 1) := dk_27 (dk_at dksX0_partedRoom_1 5 rfl rfl)
theorem dX0_partedRoom_30 : decode cX0_partedRoom 30 = .ok (.goto 17, 3) := dk_167 0 17 (dk_at dksX0_partedRoom_1 6 rfl rfl)
theorem dX0_partedRoom_33 : decode cX0_partedRoom 33 = .ok (.aload_n 2, 1) := dk_44 (dk_at dksX0_partedRoom_1 9 rfl rfl)
theorem dX0_partedRoom_34 : decode cX0_partedRoom 34 = .ok (.iload 5, 2) := dk_21 5 (dk_at dksX0_partedRoom_1 10 rfl rfl)
theorem dX0_partedRoom_36 : decode cX0_partedRoom 36 = .ok (.invokeinterface 138 2, 5) := by decide +kernel
theorem dX0_partedRoom_41 : decode cX0_partedRoom 41 = .ok (.checkcast 243, 3) := dk_192 0 243 (dk_at dksX0_partedRoom_1 17 rfl rfl)
theorem dX0_partedRoom_44 : decode cX0_partedRoom 44 = .ok (.getfield 248, 3) := dk_180 0 248 (dk_at dksX0_partedRoom_1 20 rfl rfl)
theorem dX0_partedRoom_47 : decode cX0_partedRoom 47 = .ok (.aload_n 2, 1) := dk_44 (dk_at dksX0_partedRoom_1 23 rfl rfl)
theorem dX0_partedRoom_48 : decode cX0_partedRoom 48 = .ok (.iload 5, 2) := dk_21 5 (dk_at dksX0_partedRoom_2 0 rfl rfl)
theorem dX0_partedRoom_50 : decode cX0_partedRoom 50 = .ok (.iload 6, 2) := dk_21 6 (dk_at dksX0_partedRoom_2 2 rfl rfl)
theorem dX0_partedRoom_52 : decode cX0_partedRoom 52 = .ok (.invokevirtual 334, 3) := dk_182 1 78 (dk_at dksX0_partedRoom_2 4 rfl rfl)
theorem dX0_partedRoom_55 : decode cX0_partedRoom 55 = .ok (.iadd, 1) := dk_96 (dk_at dksX0_partedRoom_2 7 rfl rfl)
theorem dX0_partedRoom_56 : decode cX0_partedRoom 56 = .ok (.istore 4, 2) := dk_54 4 (dk_at dksX0_partedRoom_2 8 rfl rfl)
theorem dX0_partedRoom_58 : decode cX0_partedRoom 58 = .ok (.iload 6, 2) := dk_21 6 (dk_at dksX0_partedRoom_2 10 rfl rfl)
theorem dX0_partedRoom_60 : decode cX0_partedRoom 60 = .ok (.istore 5, 2) := dk_54 5 (dk_at dksX0_partedRoom_2 12 rfl rfl)
theorem dX0_partedRoom_62 : decode cX0_partedRoom 62 = .ok (.iload 5, 2) := dk_21 5 (dk_at dksX0_partedRoom_2 14 rfl rfl)
theorem dX0_partedRoom_64 : decode cX0_partedRoom 64 = .ok (.aload_n 2, 1) := dk_44 (dk_at dksX0_partedRoom_2 16 rfl rfl)
theorem dX0_partedRoom_65 : decode cX0_partedRoom 65 = .ok (.invokeinterface 130 1, 5) := by decide +kernel
theorem dX0_partedRoom_70 : decode cX0_partedRoom 70 = .ok (.if_icmp .lt (-64), 3) := dk_161 255 192 (dk_at dksX0_partedRoom_3 0 rfl rfl)
theorem dX0_partedRoom_73 : decode cX0_partedRoom 73 = .ok (.iload 4, 2) := dk_21 4 (dk_at dksX0_partedRoom_3 3 rfl rfl)
theorem dX0_partedRoom_75 : decode cX0_partedRoom 75 = .ok (.ireturn, 1) := dk_172 (dk_at dksX0_partedRoom_3 5 rfl rfl)
abbrev cX0_best : ByteArray := prog_1_method_49_code
def yX0_best : MethodName := ⟨RX0, "best", "()I"⟩
def dkwX0_best_2 : List UInt8 := [172]
abbrev dktX0_best_2 : List UInt8 := dkwX0_best_2 ++ []
def dkwX0_best_1 : List UInt8 := [28, 162, 0, 7, 29, 167, 0, 4, 27, 60, 28, 21, 4, 184, 1, 94, 61, 132, 3, 1, 167, 255, 221, 27]
abbrev dktX0_best_1 : List UInt8 := dkwX0_best_1 ++ dktX0_best_2
def dkwX0_best_0 : List UInt8 := [16, 247, 60, 19, 1, 119, 61, 4, 62, 29, 16, 8, 163, 0, 35, 42, 29, 182, 1, 116, 54, 4, 21, 4]
abbrev dktX0_best_0 : List UInt8 := dkwX0_best_0 ++ dktX0_best_1
theorem dksX0_best_0 : cX0_best.data.toList.drop 0 = dktX0_best_0 := by decide +kernel
theorem dksX0_best_1 : cX0_best.data.toList.drop 24 = dktX0_best_1 := dk_seg dksX0_best_0 24 rfl rfl
theorem dksX0_best_2 : cX0_best.data.toList.drop 48 = dktX0_best_2 := dk_seg dksX0_best_1 24 rfl rfl
theorem dX0_best_0 : decode cX0_best 0 = .ok (.bipush (-9), 2) := dk_16 247 (dk_at dksX0_best_0 0 rfl rfl)
theorem dX0_best_2 : decode cX0_best 2 = .ok (.istore_n 1, 1) := dk_60 (dk_at dksX0_best_0 2 rfl rfl)
theorem dX0_best_3 : decode cX0_best 3 = .ok (.ldc_w 375, 3) := dk_19 1 119 (dk_at dksX0_best_0 3 rfl rfl)
theorem dX0_best_6 : decode cX0_best 6 = .ok (.istore_n 2, 1) := dk_61 (dk_at dksX0_best_0 6 rfl rfl)
theorem dX0_best_7 : decode cX0_best 7 = .ok (.iconst 1, 1) := dk_4 (dk_at dksX0_best_0 7 rfl rfl)
theorem dX0_best_8 : decode cX0_best 8 = .ok (.istore_n 3, 1) := dk_62 (dk_at dksX0_best_0 8 rfl rfl)
theorem dX0_best_9 : decode cX0_best 9 = .ok (.iload_n 3, 1) := dk_29 (dk_at dksX0_best_0 9 rfl rfl)
theorem dX0_best_10 : decode cX0_best 10 = .ok (.bipush 8, 2) := dk_16 8 (dk_at dksX0_best_0 10 rfl rfl)
theorem dX0_best_12 : decode cX0_best 12 = .ok (.if_icmp .gt 35, 3) := dk_163 0 35 (dk_at dksX0_best_0 12 rfl rfl)
theorem dX0_best_15 : decode cX0_best 15 = .ok (.aload_n 0, 1) := dk_42 (dk_at dksX0_best_0 15 rfl rfl)
theorem dX0_best_16 : decode cX0_best 16 = .ok (.iload_n 3, 1) := dk_29 (dk_at dksX0_best_0 16 rfl rfl)
theorem dX0_best_17 : decode cX0_best 17 = .ok (.invokevirtual 372, 3) := dk_182 1 116 (dk_at dksX0_best_0 17 rfl rfl)
theorem dX0_best_20 : decode cX0_best 20 = .ok (.istore 4, 2) := dk_54 4 (dk_at dksX0_best_0 20 rfl rfl)
theorem dX0_best_22 : decode cX0_best 22 = .ok (.iload 4, 2) := dk_21 4 (dk_at dksX0_best_0 22 rfl rfl)
theorem dX0_best_24 : decode cX0_best 24 = .ok (.iload_n 2, 1) := dk_28 (dk_at dksX0_best_1 0 rfl rfl)
theorem dX0_best_25 : decode cX0_best 25 = .ok (.if_icmp .ge 7, 3) := dk_162 0 7 (dk_at dksX0_best_1 1 rfl rfl)
theorem dX0_best_28 : decode cX0_best 28 = .ok (.iload_n 3, 1) := dk_29 (dk_at dksX0_best_1 4 rfl rfl)
theorem dX0_best_29 : decode cX0_best 29 = .ok (.goto 4, 3) := dk_167 0 4 (dk_at dksX0_best_1 5 rfl rfl)
theorem dX0_best_32 : decode cX0_best 32 = .ok (.iload_n 1, 1) := dk_27 (dk_at dksX0_best_1 8 rfl rfl)
theorem dX0_best_33 : decode cX0_best 33 = .ok (.istore_n 1, 1) := dk_60 (dk_at dksX0_best_1 9 rfl rfl)
theorem dX0_best_34 : decode cX0_best 34 = .ok (.iload_n 2, 1) := dk_28 (dk_at dksX0_best_1 10 rfl rfl)
theorem dX0_best_35 : decode cX0_best 35 = .ok (.iload 4, 2) := dk_21 4 (dk_at dksX0_best_1 11 rfl rfl)
theorem dX0_best_37 : decode cX0_best 37 = .ok (.invokestatic 350, 3) := dk_184 1 94 (dk_at dksX0_best_1 13 rfl rfl)
theorem dX0_best_40 : decode cX0_best 40 = .ok (.istore_n 2, 1) := dk_61 (dk_at dksX0_best_1 16 rfl rfl)
theorem dX0_best_41 : decode cX0_best 41 = .ok (.iinc 3 1, 3) := dk_132 3 1 (dk_at dksX0_best_1 17 rfl rfl)
theorem dX0_best_44 : decode cX0_best 44 = .ok (.goto (-35), 3) := dk_167 255 221 (dk_at dksX0_best_1 20 rfl rfl)
theorem dX0_best_47 : decode cX0_best 47 = .ok (.iload_n 1, 1) := dk_27 (dk_at dksX0_best_1 23 rfl rfl)
theorem dX0_best_48 : decode cX0_best 48 = .ok (.ireturn, 1) := dk_172 (dk_at dksX0_best_2 0 rfl rfl)
abbrev cX0_sees : ByteArray := prog_1_method_50_code
def yX0_sees : MethodName := ⟨RX0, "sees", "(II)I"⟩
def dkwX0_sees_2 : List UInt8 := [180, 0, 90, 28, 79, 42, 89, 180, 0, 90, 4, 96, 181, 0, 90, 42, 180, 0, 90, 172]
abbrev dktX0_sees_2 : List UInt8 := dkwX0_sees_2 ++ []
def dkwX0_sees_1 : List UInt8 := [16, 6, 160, 0, 6, 16, 253, 172, 42, 180, 0, 34, 42, 180, 0, 90, 27, 79, 42, 180, 0, 38, 42]
abbrev dktX0_sees_1 : List UInt8 := dkwX0_sees_1 ++ dktX0_sees_2
def dkwX0_sees_0 : List UInt8 := [27, 3, 17, 3, 231, 184, 0, 69, 153, 0, 10, 28, 184, 1, 17, 154, 0, 5, 2, 172, 42, 180, 0, 90]
abbrev dktX0_sees_0 : List UInt8 := dkwX0_sees_0 ++ dktX0_sees_1
theorem dksX0_sees_0 : cX0_sees.data.toList.drop 0 = dktX0_sees_0 := by decide +kernel
theorem dksX0_sees_1 : cX0_sees.data.toList.drop 24 = dktX0_sees_1 := dk_seg dksX0_sees_0 24 rfl rfl
theorem dksX0_sees_2 : cX0_sees.data.toList.drop 47 = dktX0_sees_2 := dk_seg dksX0_sees_1 23 rfl rfl
theorem dX0_sees_0 : decode cX0_sees 0 = .ok (.iload_n 1, 1) := dk_27 (dk_at dksX0_sees_0 0 rfl rfl)
theorem dX0_sees_1 : decode cX0_sees 1 = .ok (.iconst 0, 1) := dk_3 (dk_at dksX0_sees_0 1 rfl rfl)
theorem dX0_sees_2 : decode cX0_sees 2 = .ok (.sipush 999, 3) := dk_17 3 231 (dk_at dksX0_sees_0 2 rfl rfl)
theorem dX0_sees_5 : decode cX0_sees 5 = .ok (.invokestatic 69, 3) := dk_184 0 69 (dk_at dksX0_sees_0 5 rfl rfl)
theorem dX0_sees_8 : decode cX0_sees 8 = .ok (.ifCond .eq 10, 3) := dk_153 0 10 (dk_at dksX0_sees_0 8 rfl rfl)
theorem dX0_sees_11 : decode cX0_sees 11 = .ok (.iload_n 2, 1) := dk_28 (dk_at dksX0_sees_0 11 rfl rfl)
theorem dX0_sees_12 : decode cX0_sees 12 = .ok (.invokestatic 273, 3) := dk_184 1 17 (dk_at dksX0_sees_0 12 rfl rfl)
theorem dX0_sees_15 : decode cX0_sees 15 = .ok (.ifCond .ne 5, 3) := dk_154 0 5 (dk_at dksX0_sees_0 15 rfl rfl)
theorem dX0_sees_18 : decode cX0_sees 18 = .ok (.iconst (-1), 1) := dk_2 (dk_at dksX0_sees_0 18 rfl rfl)
theorem dX0_sees_19 : decode cX0_sees 19 = .ok (.ireturn, 1) := dk_172 (dk_at dksX0_sees_0 19 rfl rfl)
theorem dX0_sees_20 : decode cX0_sees 20 = .ok (.aload_n 0, 1) := dk_42 (dk_at dksX0_sees_0 20 rfl rfl)
theorem dX0_sees_21 : decode cX0_sees 21 = .ok (.getfield 90, 3) := dk_180 0 90 (dk_at dksX0_sees_0 21 rfl rfl)
theorem dX0_sees_24 : decode cX0_sees 24 = .ok (.bipush 6, 2) := dk_16 6 (dk_at dksX0_sees_1 0 rfl rfl)
theorem dX0_sees_26 : decode cX0_sees 26 = .ok (.if_icmp .ne 6, 3) := dk_160 0 6 (dk_at dksX0_sees_1 2 rfl rfl)
theorem dX0_sees_29 : decode cX0_sees 29 = .ok (.bipush (-3), 2) := dk_16 253 (dk_at dksX0_sees_1 5 rfl rfl)
theorem dX0_sees_31 : decode cX0_sees 31 = .ok (.ireturn, 1) := dk_172 (dk_at dksX0_sees_1 7 rfl rfl)
theorem dX0_sees_32 : decode cX0_sees 32 = .ok (.aload_n 0, 1) := dk_42 (dk_at dksX0_sees_1 8 rfl rfl)
theorem dX0_sees_33 : decode cX0_sees 33 = .ok (.getfield 34, 3) := dk_180 0 34 (dk_at dksX0_sees_1 9 rfl rfl)
theorem dX0_sees_36 : decode cX0_sees 36 = .ok (.aload_n 0, 1) := dk_42 (dk_at dksX0_sees_1 12 rfl rfl)
theorem dX0_sees_37 : decode cX0_sees 37 = .ok (.getfield 90, 3) := dk_180 0 90 (dk_at dksX0_sees_1 13 rfl rfl)
theorem dX0_sees_40 : decode cX0_sees 40 = .ok (.iload_n 1, 1) := dk_27 (dk_at dksX0_sees_1 16 rfl rfl)
theorem dX0_sees_41 : decode cX0_sees 41 = .ok (.iastore, 1) := dk_79 (dk_at dksX0_sees_1 17 rfl rfl)
theorem dX0_sees_42 : decode cX0_sees 42 = .ok (.aload_n 0, 1) := dk_42 (dk_at dksX0_sees_1 18 rfl rfl)
theorem dX0_sees_43 : decode cX0_sees 43 = .ok (.getfield 38, 3) := dk_180 0 38 (dk_at dksX0_sees_1 19 rfl rfl)
theorem dX0_sees_46 : decode cX0_sees 46 = .ok (.aload_n 0, 1) := dk_42 (dk_at dksX0_sees_1 22 rfl rfl)
theorem dX0_sees_47 : decode cX0_sees 47 = .ok (.getfield 90, 3) := dk_180 0 90 (dk_at dksX0_sees_2 0 rfl rfl)
theorem dX0_sees_50 : decode cX0_sees 50 = .ok (.iload_n 2, 1) := dk_28 (dk_at dksX0_sees_2 3 rfl rfl)
theorem dX0_sees_51 : decode cX0_sees 51 = .ok (.iastore, 1) := dk_79 (dk_at dksX0_sees_2 4 rfl rfl)
theorem dX0_sees_52 : decode cX0_sees 52 = .ok (.aload_n 0, 1) := dk_42 (dk_at dksX0_sees_2 5 rfl rfl)
theorem dX0_sees_53 : decode cX0_sees 53 = .ok (.dup, 1) := dk_89 (dk_at dksX0_sees_2 6 rfl rfl)
theorem dX0_sees_54 : decode cX0_sees 54 = .ok (.getfield 90, 3) := dk_180 0 90 (dk_at dksX0_sees_2 7 rfl rfl)
theorem dX0_sees_57 : decode cX0_sees 57 = .ok (.iconst 1, 1) := dk_4 (dk_at dksX0_sees_2 10 rfl rfl)
theorem dX0_sees_58 : decode cX0_sees 58 = .ok (.iadd, 1) := dk_96 (dk_at dksX0_sees_2 11 rfl rfl)
theorem dX0_sees_59 : decode cX0_sees 59 = .ok (.putfield 90, 3) := dk_181 0 90 (dk_at dksX0_sees_2 12 rfl rfl)
theorem dX0_sees_62 : decode cX0_sees 62 = .ok (.aload_n 0, 1) := dk_42 (dk_at dksX0_sees_2 15 rfl rfl)
theorem dX0_sees_63 : decode cX0_sees 63 = .ok (.getfield 90, 3) := dk_180 0 90 (dk_at dksX0_sees_2 16 rfl rfl)
theorem dX0_sees_66 : decode cX0_sees 66 = .ok (.ireturn, 1) := dk_172 (dk_at dksX0_sees_2 19 rfl rfl)
abbrev cX0_forget : ByteArray := prog_1_method_51_code
def yX0_forget : MethodName := ⟨RX0, "forget", "()I"⟩
def dkwX0_forget_0 : List UInt8 := [42, 180, 0, 90, 60, 42, 3, 181, 0, 90, 27, 172]
abbrev dktX0_forget_0 : List UInt8 := dkwX0_forget_0 ++ []
theorem dksX0_forget_0 : cX0_forget.data.toList.drop 0 = dktX0_forget_0 := by decide +kernel
theorem dX0_forget_0 : decode cX0_forget 0 = .ok (.aload_n 0, 1) := dk_42 (dk_at dksX0_forget_0 0 rfl rfl)
theorem dX0_forget_1 : decode cX0_forget 1 = .ok (.getfield 90, 3) := dk_180 0 90 (dk_at dksX0_forget_0 1 rfl rfl)
theorem dX0_forget_4 : decode cX0_forget 4 = .ok (.istore_n 1, 1) := dk_60 (dk_at dksX0_forget_0 4 rfl rfl)
theorem dX0_forget_5 : decode cX0_forget 5 = .ok (.aload_n 0, 1) := dk_42 (dk_at dksX0_forget_0 5 rfl rfl)
theorem dX0_forget_6 : decode cX0_forget 6 = .ok (.iconst 0, 1) := dk_3 (dk_at dksX0_forget_0 6 rfl rfl)
theorem dX0_forget_7 : decode cX0_forget 7 = .ok (.putfield 90, 3) := dk_181 0 90 (dk_at dksX0_forget_0 7 rfl rfl)
theorem dX0_forget_10 : decode cX0_forget 10 = .ok (.iload_n 1, 1) := dk_27 (dk_at dksX0_forget_0 10 rfl rfl)
theorem dX0_forget_11 : decode cX0_forget 11 = .ok (.ireturn, 1) := dk_172 (dk_at dksX0_forget_0 11 rfl rfl)
abbrev cX0_which : ByteArray := prog_1_method_52_code
def yX0_which : MethodName := ⟨RX0, "which", "()I"⟩
def dkwX0_which_5 : List UInt8 := [167, 0, 4, 3, 128, 62, 167, 255, 203, 27, 29, 126, 60, 132, 2, 1, 167, 255, 144, 27, 172]
abbrev dktX0_which_5 : List UInt8 := dkwX0_which_5 ++ []
def dkwX0_which_4 : List UInt8 := [25, 6, 180, 0, 127, 46, 42, 180, 0, 38, 28, 46, 160, 0, 13, 4, 25, 6, 180, 0, 127, 120]
abbrev dktX0_which_4 : List UInt8 := dkwX0_which_4 ++ dktX0_which_5
def dkwX0_which_3 : List UInt8 := [185, 0, 110, 1, 0, 153, 0, 49, 25, 5, 185, 0, 116, 1, 0, 192, 0, 120, 58, 6, 29, 25, 4]
abbrev dktX0_which_3 : List UInt8 := dkwX0_which_3 ++ dktX0_which_4
def dkwX0_which_2 : List UInt8 := [46, 182, 0, 252, 58, 4, 42, 180, 0, 10, 180, 0, 100, 185, 0, 104, 1, 0, 58, 5, 25, 5]
abbrev dktX0_which_2 : List UInt8 := dkwX0_which_2 ++ dktX0_which_3
def dkwX0_which_1 : List UInt8 := [162, 0, 110, 3, 62, 42, 42, 180, 0, 34, 28, 46, 182, 1, 0, 153, 0, 85, 42, 42, 180, 0, 34, 28]
abbrev dktX0_which_1 : List UInt8 := dkwX0_which_1 ++ dktX0_which_2
def dkwX0_which_0 : List UInt8 := [4, 42, 180, 0, 10, 180, 0, 100, 185, 0, 130, 1, 0, 120, 4, 100, 60, 3, 61, 28, 42, 180, 0, 90]
abbrev dktX0_which_0 : List UInt8 := dkwX0_which_0 ++ dktX0_which_1
theorem dksX0_which_0 : cX0_which.data.toList.drop 0 = dktX0_which_0 := by decide +kernel
theorem dksX0_which_1 : cX0_which.data.toList.drop 24 = dktX0_which_1 := dk_seg dksX0_which_0 24 rfl rfl
theorem dksX0_which_2 : cX0_which.data.toList.drop 48 = dktX0_which_2 := dk_seg dksX0_which_1 24 rfl rfl
theorem dksX0_which_3 : cX0_which.data.toList.drop 70 = dktX0_which_3 := dk_seg dksX0_which_2 22 rfl rfl
theorem dksX0_which_4 : cX0_which.data.toList.drop 93 = dktX0_which_4 := dk_seg dksX0_which_3 23 rfl rfl
theorem dksX0_which_5 : cX0_which.data.toList.drop 115 = dktX0_which_5 := dk_seg dksX0_which_4 22 rfl rfl
theorem dX0_which_0 : decode cX0_which 0 = .ok (.iconst 1, 1) := dk_4 (dk_at dksX0_which_0 0 rfl rfl)
theorem dX0_which_1 : decode cX0_which 1 = .ok (.aload_n 0, 1) := dk_42 (dk_at dksX0_which_0 1 rfl rfl)
theorem dX0_which_2 : decode cX0_which 2 = .ok (.getfield 10, 3) := dk_180 0 10 (dk_at dksX0_which_0 2 rfl rfl)
theorem dX0_which_5 : decode cX0_which 5 = .ok (.getfield 100, 3) := dk_180 0 100 (dk_at dksX0_which_0 5 rfl rfl)
theorem dX0_which_8 : decode cX0_which 8 = .ok (.invokeinterface 130 1, 5) := by decide +kernel
theorem dX0_which_13 : decode cX0_which 13 = .ok (.ishl, 1) := dk_120 (dk_at dksX0_which_0 13 rfl rfl)
theorem dX0_which_14 : decode cX0_which 14 = .ok (.iconst 1, 1) := dk_4 (dk_at dksX0_which_0 14 rfl rfl)
theorem dX0_which_15 : decode cX0_which 15 = .ok (.isub, 1) := dk_100 (dk_at dksX0_which_0 15 rfl rfl)
theorem dX0_which_16 : decode cX0_which 16 = .ok (.istore_n 1, 1) := dk_60 (dk_at dksX0_which_0 16 rfl rfl)
theorem dX0_which_17 : decode cX0_which 17 = .ok (.iconst 0, 1) := dk_3 (dk_at dksX0_which_0 17 rfl rfl)
theorem dX0_which_18 : decode cX0_which 18 = .ok (.istore_n 2, 1) := dk_61 (dk_at dksX0_which_0 18 rfl rfl)
theorem dX0_which_19 : decode cX0_which 19 = .ok (.iload_n 2, 1) := dk_28 (dk_at dksX0_which_0 19 rfl rfl)
theorem dX0_which_20 : decode cX0_which 20 = .ok (.aload_n 0, 1) := dk_42 (dk_at dksX0_which_0 20 rfl rfl)
theorem dX0_which_21 : decode cX0_which 21 = .ok (.getfield 90, 3) := dk_180 0 90 (dk_at dksX0_which_0 21 rfl rfl)
theorem dX0_which_24 : decode cX0_which 24 = .ok (.if_icmp .ge 110, 3) := dk_162 0 110 (dk_at dksX0_which_1 0 rfl rfl)
theorem dX0_which_27 : decode cX0_which 27 = .ok (.iconst 0, 1) := dk_3 (dk_at dksX0_which_1 3 rfl rfl)
theorem dX0_which_28 : decode cX0_which 28 = .ok (.istore_n 3, 1) := dk_62 (dk_at dksX0_which_1 4 rfl rfl)
theorem dX0_which_29 : decode cX0_which 29 = .ok (.aload_n 0, 1) := dk_42 (dk_at dksX0_which_1 5 rfl rfl)
theorem dX0_which_30 : decode cX0_which 30 = .ok (.aload_n 0, 1) := dk_42 (dk_at dksX0_which_1 6 rfl rfl)
theorem dX0_which_31 : decode cX0_which 31 = .ok (.getfield 34, 3) := dk_180 0 34 (dk_at dksX0_which_1 7 rfl rfl)
theorem dX0_which_34 : decode cX0_which 34 = .ok (.iload_n 2, 1) := dk_28 (dk_at dksX0_which_1 10 rfl rfl)
theorem dX0_which_35 : decode cX0_which 35 = .ok (.iaload, 1) := dk_46 (dk_at dksX0_which_1 11 rfl rfl)
theorem dX0_which_36 : decode cX0_which 36 = .ok (.invokevirtual 256, 3) := dk_182 1 0 (dk_at dksX0_which_1 12 rfl rfl)
theorem dX0_which_39 : decode cX0_which 39 = .ok (.ifCond .eq 85, 3) := dk_153 0 85 (dk_at dksX0_which_1 15 rfl rfl)
theorem dX0_which_42 : decode cX0_which 42 = .ok (.aload_n 0, 1) := dk_42 (dk_at dksX0_which_1 18 rfl rfl)
theorem dX0_which_43 : decode cX0_which 43 = .ok (.aload_n 0, 1) := dk_42 (dk_at dksX0_which_1 19 rfl rfl)
theorem dX0_which_44 : decode cX0_which 44 = .ok (.getfield 34, 3) := dk_180 0 34 (dk_at dksX0_which_1 20 rfl rfl)
theorem dX0_which_47 : decode cX0_which 47 = .ok (.iload_n 2, 1) := dk_28 (dk_at dksX0_which_1 23 rfl rfl)
theorem dX0_which_48 : decode cX0_which 48 = .ok (.iaload, 1) := dk_46 (dk_at dksX0_which_2 0 rfl rfl)
theorem dX0_which_49 : decode cX0_which 49 = .ok (.invokevirtual 252, 3) := dk_182 0 252 (dk_at dksX0_which_2 1 rfl rfl)
theorem dX0_which_52 : decode cX0_which 52 = .ok (.astore 4, 2) := dk_58 4 (dk_at dksX0_which_2 4 rfl rfl)
theorem dX0_which_54 : decode cX0_which 54 = .ok (.aload_n 0, 1) := dk_42 (dk_at dksX0_which_2 6 rfl rfl)
theorem dX0_which_55 : decode cX0_which 55 = .ok (.getfield 10, 3) := dk_180 0 10 (dk_at dksX0_which_2 7 rfl rfl)
theorem dX0_which_58 : decode cX0_which 58 = .ok (.getfield 100, 3) := dk_180 0 100 (dk_at dksX0_which_2 10 rfl rfl)
theorem dX0_which_61 : decode cX0_which 61 = .ok (.invokeinterface 104 1, 5) := by decide +kernel
theorem dX0_which_66 : decode cX0_which 66 = .ok (.astore 5, 2) := dk_58 5 (dk_at dksX0_which_2 18 rfl rfl)
theorem dX0_which_68 : decode cX0_which 68 = .ok (.aload 5, 2) := dk_25 5 (dk_at dksX0_which_2 20 rfl rfl)
theorem dX0_which_70 : decode cX0_which 70 = .ok (.invokeinterface 110 1, 5) := by decide +kernel
theorem dX0_which_75 : decode cX0_which 75 = .ok (.ifCond .eq 49, 3) := dk_153 0 49 (dk_at dksX0_which_3 5 rfl rfl)
theorem dX0_which_78 : decode cX0_which 78 = .ok (.aload 5, 2) := dk_25 5 (dk_at dksX0_which_3 8 rfl rfl)
theorem dX0_which_80 : decode cX0_which 80 = .ok (.invokeinterface 116 1, 5) := by decide +kernel
theorem dX0_which_85 : decode cX0_which 85 = .ok (.checkcast 120, 3) := dk_192 0 120 (dk_at dksX0_which_3 15 rfl rfl)
theorem dX0_which_88 : decode cX0_which 88 = .ok (.astore 6, 2) := dk_58 6 (dk_at dksX0_which_3 18 rfl rfl)
theorem dX0_which_90 : decode cX0_which 90 = .ok (.iload_n 3, 1) := dk_29 (dk_at dksX0_which_3 20 rfl rfl)
theorem dX0_which_91 : decode cX0_which 91 = .ok (.aload 4, 2) := dk_25 4 (dk_at dksX0_which_3 21 rfl rfl)
theorem dX0_which_93 : decode cX0_which 93 = .ok (.aload 6, 2) := dk_25 6 (dk_at dksX0_which_4 0 rfl rfl)
theorem dX0_which_95 : decode cX0_which 95 = .ok (.getfield 127, 3) := dk_180 0 127 (dk_at dksX0_which_4 2 rfl rfl)
theorem dX0_which_98 : decode cX0_which 98 = .ok (.iaload, 1) := dk_46 (dk_at dksX0_which_4 5 rfl rfl)
theorem dX0_which_99 : decode cX0_which 99 = .ok (.aload_n 0, 1) := dk_42 (dk_at dksX0_which_4 6 rfl rfl)
theorem dX0_which_100 : decode cX0_which 100 = .ok (.getfield 38, 3) := dk_180 0 38 (dk_at dksX0_which_4 7 rfl rfl)
theorem dX0_which_103 : decode cX0_which 103 = .ok (.iload_n 2, 1) := dk_28 (dk_at dksX0_which_4 10 rfl rfl)
theorem dX0_which_104 : decode cX0_which 104 = .ok (.iaload, 1) := dk_46 (dk_at dksX0_which_4 11 rfl rfl)
theorem dX0_which_105 : decode cX0_which 105 = .ok (.if_icmp .ne 13, 3) := dk_160 0 13 (dk_at dksX0_which_4 12 rfl rfl)
theorem dX0_which_108 : decode cX0_which 108 = .ok (.iconst 1, 1) := dk_4 (dk_at dksX0_which_4 15 rfl rfl)
theorem dX0_which_109 : decode cX0_which 109 = .ok (.aload 6, 2) := dk_25 6 (dk_at dksX0_which_4 16 rfl rfl)
theorem dX0_which_111 : decode cX0_which 111 = .ok (.getfield 127, 3) := dk_180 0 127 (dk_at dksX0_which_4 18 rfl rfl)
theorem dX0_which_114 : decode cX0_which 114 = .ok (.ishl, 1) := dk_120 (dk_at dksX0_which_4 21 rfl rfl)
theorem dX0_which_115 : decode cX0_which 115 = .ok (.goto 4, 3) := dk_167 0 4 (dk_at dksX0_which_5 0 rfl rfl)
theorem dX0_which_118 : decode cX0_which 118 = .ok (.iconst 0, 1) := dk_3 (dk_at dksX0_which_5 3 rfl rfl)
theorem dX0_which_119 : decode cX0_which 119 = .ok (.ior, 1) := dk_128 (dk_at dksX0_which_5 4 rfl rfl)
theorem dX0_which_120 : decode cX0_which 120 = .ok (.istore_n 3, 1) := dk_62 (dk_at dksX0_which_5 5 rfl rfl)
theorem dX0_which_121 : decode cX0_which 121 = .ok (.goto (-53), 3) := dk_167 255 203 (dk_at dksX0_which_5 6 rfl rfl)
theorem dX0_which_124 : decode cX0_which 124 = .ok (.iload_n 1, 1) := dk_27 (dk_at dksX0_which_5 9 rfl rfl)
theorem dX0_which_125 : decode cX0_which 125 = .ok (.iload_n 3, 1) := dk_29 (dk_at dksX0_which_5 10 rfl rfl)
theorem dX0_which_126 : decode cX0_which 126 = .ok (.iand, 1) := dk_126 (dk_at dksX0_which_5 11 rfl rfl)
theorem dX0_which_127 : decode cX0_which 127 = .ok (.istore_n 1, 1) := dk_60 (dk_at dksX0_which_5 12 rfl rfl)
theorem dX0_which_128 : decode cX0_which 128 = .ok (.iinc 2 1, 3) := dk_132 2 1 (dk_at dksX0_which_5 13 rfl rfl)
theorem dX0_which_131 : decode cX0_which 131 = .ok (.goto (-112), 3) := dk_167 255 144 (dk_at dksX0_which_5 16 rfl rfl)
theorem dX0_which_134 : decode cX0_which 134 = .ok (.iload_n 1, 1) := dk_27 (dk_at dksX0_which_5 19 rfl rfl)
theorem dX0_which_135 : decode cX0_which 135 = .ok (.ireturn, 1) := dk_172 (dk_at dksX0_which_5 20 rfl rfl)
abbrev cX0_look : ByteArray := prog_1_method_53_code
def yX0_look : MethodName := ⟨RX0, "look", "()I"⟩
def dkwX0_look_3 : List UInt8 := [167, 255, 201, 28, 172]
abbrev dktX0_look_3 : List UInt8 := dkwX0_look_3 ++ []
def dkwX0_look_2 : List UInt8 := [21, 5, 29, 162, 0, 8, 21, 4, 167, 0, 4, 28, 61, 29, 21, 5, 184, 1, 94, 62, 132, 4, 1]
abbrev dktX0_look_2 : List UInt8 := dkwX0_look_2 ++ dktX0_look_3
def dkwX0_look_1 : List UInt8 := [163, 0, 49, 27, 184, 1, 123, 4, 164, 0, 41, 42, 21, 4, 182, 0, 252, 27, 184, 1, 126, 54, 5]
abbrev dktX0_look_1 : List UInt8 := dkwX0_look_1 ++ dktX0_look_2
def dkwX0_look_0 : List UInt8 := [42, 182, 1, 120, 60, 16, 247, 61, 16, 13, 62, 3, 54, 4, 21, 4, 42, 180, 0, 23, 180, 0, 145]
abbrev dktX0_look_0 : List UInt8 := dkwX0_look_0 ++ dktX0_look_1
theorem dksX0_look_0 : cX0_look.data.toList.drop 0 = dktX0_look_0 := by decide +kernel
theorem dksX0_look_1 : cX0_look.data.toList.drop 23 = dktX0_look_1 := dk_seg dksX0_look_0 23 rfl rfl
theorem dksX0_look_2 : cX0_look.data.toList.drop 46 = dktX0_look_2 := dk_seg dksX0_look_1 23 rfl rfl
theorem dksX0_look_3 : cX0_look.data.toList.drop 69 = dktX0_look_3 := dk_seg dksX0_look_2 23 rfl rfl
theorem dX0_look_0 : decode cX0_look 0 = .ok (.aload_n 0, 1) := dk_42 (dk_at dksX0_look_0 0 rfl rfl)
theorem dX0_look_1 : decode cX0_look 1 = .ok (.invokevirtual 376, 3) := dk_182 1 120 (dk_at dksX0_look_0 1 rfl rfl)
theorem dX0_look_4 : decode cX0_look 4 = .ok (.istore_n 1, 1) := dk_60 (dk_at dksX0_look_0 4 rfl rfl)
theorem dX0_look_5 : decode cX0_look 5 = .ok (.bipush (-9), 2) := dk_16 247 (dk_at dksX0_look_0 5 rfl rfl)
theorem dX0_look_7 : decode cX0_look 7 = .ok (.istore_n 2, 1) := dk_61 (dk_at dksX0_look_0 7 rfl rfl)
theorem dX0_look_8 : decode cX0_look 8 = .ok (.bipush 13, 2) := dk_16 13 (dk_at dksX0_look_0 8 rfl rfl)
theorem dX0_look_10 : decode cX0_look 10 = .ok (.istore_n 3, 1) := dk_62 (dk_at dksX0_look_0 10 rfl rfl)
theorem dX0_look_11 : decode cX0_look 11 = .ok (.iconst 0, 1) := dk_3 (dk_at dksX0_look_0 11 rfl rfl)
theorem dX0_look_12 : decode cX0_look 12 = .ok (.istore 4, 2) := dk_54 4 (dk_at dksX0_look_0 12 rfl rfl)
theorem dX0_look_14 : decode cX0_look 14 = .ok (.iload 4, 2) := dk_21 4 (dk_at dksX0_look_0 14 rfl rfl)
theorem dX0_look_16 : decode cX0_look 16 = .ok (.aload_n 0, 1) := dk_42 (dk_at dksX0_look_0 16 rfl rfl)
theorem dX0_look_17 : decode cX0_look 17 = .ok (.getfield 23, 3) := dk_180 0 23 (dk_at dksX0_look_0 17 rfl rfl)
theorem dX0_look_20 : decode cX0_look 20 = .ok (.getfield 145, 3) := dk_180 0 145 (dk_at dksX0_look_0 20 rfl rfl)
theorem dX0_look_23 : decode cX0_look 23 = .ok (.if_icmp .gt 49, 3) := dk_163 0 49 (dk_at dksX0_look_1 0 rfl rfl)
theorem dX0_look_26 : decode cX0_look 26 = .ok (.iload_n 1, 1) := dk_27 (dk_at dksX0_look_1 3 rfl rfl)
theorem dX0_look_27 : decode cX0_look 27 = .ok (.invokestatic 379, 3) := dk_184 1 123 (dk_at dksX0_look_1 4 rfl rfl)
theorem dX0_look_30 : decode cX0_look 30 = .ok (.iconst 1, 1) := dk_4 (dk_at dksX0_look_1 7 rfl rfl)
theorem dX0_look_31 : decode cX0_look 31 = .ok (.if_icmp .le 41, 3) := dk_164 0 41 (dk_at dksX0_look_1 8 rfl rfl)
theorem dX0_look_34 : decode cX0_look 34 = .ok (.aload_n 0, 1) := dk_42 (dk_at dksX0_look_1 11 rfl rfl)
theorem dX0_look_35 : decode cX0_look 35 = .ok (.iload 4, 2) := dk_21 4 (dk_at dksX0_look_1 12 rfl rfl)
theorem dX0_look_37 : decode cX0_look 37 = .ok (.invokevirtual 252, 3) := dk_182 0 252 (dk_at dksX0_look_1 14 rfl rfl)
theorem dX0_look_40 : decode cX0_look 40 = .ok (.iload_n 1, 1) := dk_27 (dk_at dksX0_look_1 17 rfl rfl)
theorem dX0_look_41 : decode cX0_look 41 = .ok (.invokestatic 382, 3) := dk_184 1 126 (dk_at dksX0_look_1 18 rfl rfl)
theorem dX0_look_44 : decode cX0_look 44 = .ok (.istore 5, 2) := dk_54 5 (dk_at dksX0_look_1 21 rfl rfl)
theorem dX0_look_46 : decode cX0_look 46 = .ok (.iload 5, 2) := dk_21 5 (dk_at dksX0_look_2 0 rfl rfl)
theorem dX0_look_48 : decode cX0_look 48 = .ok (.iload_n 3, 1) := dk_29 (dk_at dksX0_look_2 2 rfl rfl)
theorem dX0_look_49 : decode cX0_look 49 = .ok (.if_icmp .ge 8, 3) := dk_162 0 8 (dk_at dksX0_look_2 3 rfl rfl)
theorem dX0_look_52 : decode cX0_look 52 = .ok (.iload 4, 2) := dk_21 4 (dk_at dksX0_look_2 6 rfl rfl)
theorem dX0_look_54 : decode cX0_look 54 = .ok (.goto 4, 3) := dk_167 0 4 (dk_at dksX0_look_2 8 rfl rfl)
theorem dX0_look_57 : decode cX0_look 57 = .ok (.iload_n 2, 1) := dk_28 (dk_at dksX0_look_2 11 rfl rfl)
theorem dX0_look_58 : decode cX0_look 58 = .ok (.istore_n 2, 1) := dk_61 (dk_at dksX0_look_2 12 rfl rfl)
theorem dX0_look_59 : decode cX0_look 59 = .ok (.iload_n 3, 1) := dk_29 (dk_at dksX0_look_2 13 rfl rfl)
theorem dX0_look_60 : decode cX0_look 60 = .ok (.iload 5, 2) := dk_21 5 (dk_at dksX0_look_2 14 rfl rfl)
theorem dX0_look_62 : decode cX0_look 62 = .ok (.invokestatic 350, 3) := dk_184 1 94 (dk_at dksX0_look_2 16 rfl rfl)
theorem dX0_look_65 : decode cX0_look 65 = .ok (.istore_n 3, 1) := dk_62 (dk_at dksX0_look_2 19 rfl rfl)
theorem dX0_look_66 : decode cX0_look 66 = .ok (.iinc 4 1, 3) := dk_132 4 1 (dk_at dksX0_look_2 20 rfl rfl)
theorem dX0_look_69 : decode cX0_look 69 = .ok (.goto (-55), 3) := dk_167 255 201 (dk_at dksX0_look_3 0 rfl rfl)
theorem dX0_look_72 : decode cX0_look 72 = .ok (.iload_n 2, 1) := dk_28 (dk_at dksX0_look_3 3 rfl rfl)
theorem dX0_look_73 : decode cX0_look 73 = .ok (.ireturn, 1) := dk_172 (dk_at dksX0_look_3 4 rfl rfl)
abbrev cX0_mostAlike : ByteArray := prog_1_method_54_code
def yX0_mostAlike : MethodName := ⟨RX0, "mostAlike", "([II)I"⟩
def dkwX0_mostAlike_3 : List UInt8 := [61, 132, 3, 1, 167, 255, 184, 28, 172]
abbrev dktX0_mostAlike_3 : List UInt8 := dkwX0_mostAlike_3 ++ []
def dkwX0_mostAlike_2 : List UInt8 := [46, 160, 0, 7, 4, 167, 0, 4, 3, 96, 54, 4, 132, 5, 1, 167, 255, 209, 28, 21, 4, 184, 1, 130]
abbrev dktX0_mostAlike_2 : List UInt8 := dkwX0_mostAlike_2 ++ dktX0_mostAlike_3
def dkwX0_mostAlike_1 : List UInt8 := [29, 184, 1, 26, 153, 0, 38, 21, 4, 27, 21, 5, 184, 1, 26, 153, 0, 17, 42, 21, 5, 46, 42, 29]
abbrev dktX0_mostAlike_1 : List UInt8 := dkwX0_mostAlike_1 ++ dktX0_mostAlike_2
def dkwX0_mostAlike_0 : List UInt8 := [3, 61, 3, 62, 29, 16, 12, 162, 0, 72, 3, 54, 4, 3, 54, 5, 21, 5, 16, 12, 162, 0, 46, 27]
abbrev dktX0_mostAlike_0 : List UInt8 := dkwX0_mostAlike_0 ++ dktX0_mostAlike_1
theorem dksX0_mostAlike_0 : cX0_mostAlike.data.toList.drop 0 = dktX0_mostAlike_0 := by decide +kernel
theorem dksX0_mostAlike_1 : cX0_mostAlike.data.toList.drop 24 = dktX0_mostAlike_1 := dk_seg dksX0_mostAlike_0 24 rfl rfl
theorem dksX0_mostAlike_2 : cX0_mostAlike.data.toList.drop 48 = dktX0_mostAlike_2 := dk_seg dksX0_mostAlike_1 24 rfl rfl
theorem dksX0_mostAlike_3 : cX0_mostAlike.data.toList.drop 72 = dktX0_mostAlike_3 := dk_seg dksX0_mostAlike_2 24 rfl rfl
theorem dX0_mostAlike_0 : decode cX0_mostAlike 0 = .ok (.iconst 0, 1) := dk_3 (dk_at dksX0_mostAlike_0 0 rfl rfl)
theorem dX0_mostAlike_1 : decode cX0_mostAlike 1 = .ok (.istore_n 2, 1) := dk_61 (dk_at dksX0_mostAlike_0 1 rfl rfl)
theorem dX0_mostAlike_2 : decode cX0_mostAlike 2 = .ok (.iconst 0, 1) := dk_3 (dk_at dksX0_mostAlike_0 2 rfl rfl)
theorem dX0_mostAlike_3 : decode cX0_mostAlike 3 = .ok (.istore_n 3, 1) := dk_62 (dk_at dksX0_mostAlike_0 3 rfl rfl)
theorem dX0_mostAlike_4 : decode cX0_mostAlike 4 = .ok (.iload_n 3, 1) := dk_29 (dk_at dksX0_mostAlike_0 4 rfl rfl)
theorem dX0_mostAlike_5 : decode cX0_mostAlike 5 = .ok (.bipush 12, 2) := dk_16 12 (dk_at dksX0_mostAlike_0 5 rfl rfl)
theorem dX0_mostAlike_7 : decode cX0_mostAlike 7 = .ok (.if_icmp .ge 72, 3) := dk_162 0 72 (dk_at dksX0_mostAlike_0 7 rfl rfl)
theorem dX0_mostAlike_10 : decode cX0_mostAlike 10 = .ok (.iconst 0, 1) := dk_3 (dk_at dksX0_mostAlike_0 10 rfl rfl)
theorem dX0_mostAlike_11 : decode cX0_mostAlike 11 = .ok (.istore 4, 2) := dk_54 4 (dk_at dksX0_mostAlike_0 11 rfl rfl)
theorem dX0_mostAlike_13 : decode cX0_mostAlike 13 = .ok (.iconst 0, 1) := dk_3 (dk_at dksX0_mostAlike_0 13 rfl rfl)
theorem dX0_mostAlike_14 : decode cX0_mostAlike 14 = .ok (.istore 5, 2) := dk_54 5 (dk_at dksX0_mostAlike_0 14 rfl rfl)
theorem dX0_mostAlike_16 : decode cX0_mostAlike 16 = .ok (.iload 5, 2) := dk_21 5 (dk_at dksX0_mostAlike_0 16 rfl rfl)
theorem dX0_mostAlike_18 : decode cX0_mostAlike 18 = .ok (.bipush 12, 2) := dk_16 12 (dk_at dksX0_mostAlike_0 18 rfl rfl)
theorem dX0_mostAlike_20 : decode cX0_mostAlike 20 = .ok (.if_icmp .ge 46, 3) := dk_162 0 46 (dk_at dksX0_mostAlike_0 20 rfl rfl)
theorem dX0_mostAlike_23 : decode cX0_mostAlike 23 = .ok (.iload_n 1, 1) := dk_27 (dk_at dksX0_mostAlike_0 23 rfl rfl)
theorem dX0_mostAlike_24 : decode cX0_mostAlike 24 = .ok (.iload_n 3, 1) := dk_29 (dk_at dksX0_mostAlike_1 0 rfl rfl)
theorem dX0_mostAlike_25 : decode cX0_mostAlike 25 = .ok (.invokestatic 282, 3) := dk_184 1 26 (dk_at dksX0_mostAlike_1 1 rfl rfl)
theorem dX0_mostAlike_28 : decode cX0_mostAlike 28 = .ok (.ifCond .eq 38, 3) := dk_153 0 38 (dk_at dksX0_mostAlike_1 4 rfl rfl)
theorem dX0_mostAlike_31 : decode cX0_mostAlike 31 = .ok (.iload 4, 2) := dk_21 4 (dk_at dksX0_mostAlike_1 7 rfl rfl)
theorem dX0_mostAlike_33 : decode cX0_mostAlike 33 = .ok (.iload_n 1, 1) := dk_27 (dk_at dksX0_mostAlike_1 9 rfl rfl)
theorem dX0_mostAlike_34 : decode cX0_mostAlike 34 = .ok (.iload 5, 2) := dk_21 5 (dk_at dksX0_mostAlike_1 10 rfl rfl)
theorem dX0_mostAlike_36 : decode cX0_mostAlike 36 = .ok (.invokestatic 282, 3) := dk_184 1 26 (dk_at dksX0_mostAlike_1 12 rfl rfl)
theorem dX0_mostAlike_39 : decode cX0_mostAlike 39 = .ok (.ifCond .eq 17, 3) := dk_153 0 17 (dk_at dksX0_mostAlike_1 15 rfl rfl)
theorem dX0_mostAlike_42 : decode cX0_mostAlike 42 = .ok (.aload_n 0, 1) := dk_42 (dk_at dksX0_mostAlike_1 18 rfl rfl)
theorem dX0_mostAlike_43 : decode cX0_mostAlike 43 = .ok (.iload 5, 2) := dk_21 5 (dk_at dksX0_mostAlike_1 19 rfl rfl)
theorem dX0_mostAlike_45 : decode cX0_mostAlike 45 = .ok (.iaload, 1) := dk_46 (dk_at dksX0_mostAlike_1 21 rfl rfl)
theorem dX0_mostAlike_46 : decode cX0_mostAlike 46 = .ok (.aload_n 0, 1) := dk_42 (dk_at dksX0_mostAlike_1 22 rfl rfl)
theorem dX0_mostAlike_47 : decode cX0_mostAlike 47 = .ok (.iload_n 3, 1) := dk_29 (dk_at dksX0_mostAlike_1 23 rfl rfl)
theorem dX0_mostAlike_48 : decode cX0_mostAlike 48 = .ok (.iaload, 1) := dk_46 (dk_at dksX0_mostAlike_2 0 rfl rfl)
theorem dX0_mostAlike_49 : decode cX0_mostAlike 49 = .ok (.if_icmp .ne 7, 3) := dk_160 0 7 (dk_at dksX0_mostAlike_2 1 rfl rfl)
theorem dX0_mostAlike_52 : decode cX0_mostAlike 52 = .ok (.iconst 1, 1) := dk_4 (dk_at dksX0_mostAlike_2 4 rfl rfl)
theorem dX0_mostAlike_53 : decode cX0_mostAlike 53 = .ok (.goto 4, 3) := dk_167 0 4 (dk_at dksX0_mostAlike_2 5 rfl rfl)
theorem dX0_mostAlike_56 : decode cX0_mostAlike 56 = .ok (.iconst 0, 1) := dk_3 (dk_at dksX0_mostAlike_2 8 rfl rfl)
theorem dX0_mostAlike_57 : decode cX0_mostAlike 57 = .ok (.iadd, 1) := dk_96 (dk_at dksX0_mostAlike_2 9 rfl rfl)
theorem dX0_mostAlike_58 : decode cX0_mostAlike 58 = .ok (.istore 4, 2) := dk_54 4 (dk_at dksX0_mostAlike_2 10 rfl rfl)
theorem dX0_mostAlike_60 : decode cX0_mostAlike 60 = .ok (.iinc 5 1, 3) := dk_132 5 1 (dk_at dksX0_mostAlike_2 12 rfl rfl)
theorem dX0_mostAlike_63 : decode cX0_mostAlike 63 = .ok (.goto (-47), 3) := dk_167 255 209 (dk_at dksX0_mostAlike_2 15 rfl rfl)
theorem dX0_mostAlike_66 : decode cX0_mostAlike 66 = .ok (.iload_n 2, 1) := dk_28 (dk_at dksX0_mostAlike_2 18 rfl rfl)
theorem dX0_mostAlike_67 : decode cX0_mostAlike 67 = .ok (.iload 4, 2) := dk_21 4 (dk_at dksX0_mostAlike_2 19 rfl rfl)
theorem dX0_mostAlike_69 : decode cX0_mostAlike 69 = .ok (.invokestatic 386, 3) := dk_184 1 130 (dk_at dksX0_mostAlike_2 21 rfl rfl)
theorem dX0_mostAlike_72 : decode cX0_mostAlike 72 = .ok (.istore_n 2, 1) := dk_61 (dk_at dksX0_mostAlike_3 0 rfl rfl)
theorem dX0_mostAlike_73 : decode cX0_mostAlike 73 = .ok (.iinc 3 1, 3) := dk_132 3 1 (dk_at dksX0_mostAlike_3 1 rfl rfl)
theorem dX0_mostAlike_76 : decode cX0_mostAlike 76 = .ok (.goto (-72), 3) := dk_167 255 184 (dk_at dksX0_mostAlike_3 4 rfl rfl)
theorem dX0_mostAlike_79 : decode cX0_mostAlike 79 = .ok (.iload_n 2, 1) := dk_28 (dk_at dksX0_mostAlike_3 7 rfl rfl)
theorem dX0_mostAlike_80 : decode cX0_mostAlike 80 = .ok (.ireturn, 1) := dk_172 (dk_at dksX0_mostAlike_3 8 rfl rfl)
abbrev cX0_keep : ByteArray := prog_1_method_55_code
def yX0_keep : MethodName := ⟨RX0, "keep", "(I)I"⟩
def dkwX0_keep_1 : List UInt8 := [42, 180, 0, 23, 180, 0, 145, 172]
abbrev dktX0_keep_1 : List UInt8 := dkwX0_keep_1 ++ []
def dkwX0_keep_0 : List UInt8 := [27, 3, 4, 184, 0, 69, 154, 0, 5, 2, 172, 42, 180, 0, 31, 27, 42, 180, 0, 23, 182, 0, 66, 83]
abbrev dktX0_keep_0 : List UInt8 := dkwX0_keep_0 ++ dktX0_keep_1
theorem dksX0_keep_0 : cX0_keep.data.toList.drop 0 = dktX0_keep_0 := by decide +kernel
theorem dksX0_keep_1 : cX0_keep.data.toList.drop 24 = dktX0_keep_1 := dk_seg dksX0_keep_0 24 rfl rfl
theorem dX0_keep_0 : decode cX0_keep 0 = .ok (.iload_n 1, 1) := dk_27 (dk_at dksX0_keep_0 0 rfl rfl)
theorem dX0_keep_1 : decode cX0_keep 1 = .ok (.iconst 0, 1) := dk_3 (dk_at dksX0_keep_0 1 rfl rfl)
theorem dX0_keep_2 : decode cX0_keep 2 = .ok (.iconst 1, 1) := dk_4 (dk_at dksX0_keep_0 2 rfl rfl)
theorem dX0_keep_3 : decode cX0_keep 3 = .ok (.invokestatic 69, 3) := dk_184 0 69 (dk_at dksX0_keep_0 3 rfl rfl)
theorem dX0_keep_6 : decode cX0_keep 6 = .ok (.ifCond .ne 5, 3) := dk_154 0 5 (dk_at dksX0_keep_0 6 rfl rfl)
theorem dX0_keep_9 : decode cX0_keep 9 = .ok (.iconst (-1), 1) := dk_2 (dk_at dksX0_keep_0 9 rfl rfl)
theorem dX0_keep_10 : decode cX0_keep 10 = .ok (.ireturn, 1) := dk_172 (dk_at dksX0_keep_0 10 rfl rfl)
theorem dX0_keep_11 : decode cX0_keep 11 = .ok (.aload_n 0, 1) := dk_42 (dk_at dksX0_keep_0 11 rfl rfl)
theorem dX0_keep_12 : decode cX0_keep 12 = .ok (.getfield 31, 3) := dk_180 0 31 (dk_at dksX0_keep_0 12 rfl rfl)
theorem dX0_keep_15 : decode cX0_keep 15 = .ok (.iload_n 1, 1) := dk_27 (dk_at dksX0_keep_0 15 rfl rfl)
theorem dX0_keep_16 : decode cX0_keep 16 = .ok (.aload_n 0, 1) := dk_42 (dk_at dksX0_keep_0 16 rfl rfl)
theorem dX0_keep_17 : decode cX0_keep 17 = .ok (.getfield 23, 3) := dk_180 0 23 (dk_at dksX0_keep_0 17 rfl rfl)
theorem dX0_keep_20 : decode cX0_keep 20 = .ok (.invokevirtual 66, 3) := dk_182 0 66 (dk_at dksX0_keep_0 20 rfl rfl)
theorem dX0_keep_23 : decode cX0_keep 23 = .ok (.aastore, 1) := dk_83 (dk_at dksX0_keep_0 23 rfl rfl)
theorem dX0_keep_24 : decode cX0_keep 24 = .ok (.aload_n 0, 1) := dk_42 (dk_at dksX0_keep_1 0 rfl rfl)
theorem dX0_keep_25 : decode cX0_keep 25 = .ok (.getfield 23, 3) := dk_180 0 23 (dk_at dksX0_keep_1 1 rfl rfl)
theorem dX0_keep_28 : decode cX0_keep 28 = .ok (.getfield 145, 3) := dk_180 0 145 (dk_at dksX0_keep_1 4 rfl rfl)
theorem dX0_keep_31 : decode cX0_keep 31 = .ok (.ireturn, 1) := dk_172 (dk_at dksX0_keep_1 7 rfl rfl)
abbrev cX0_back : ByteArray := prog_1_method_56_code
def yX0_back : MethodName := ⟨RX0, "back", "(I)I"⟩
def dkwX0_back_2 : List UInt8 := [172]
abbrev dktX0_back_2 : List UInt8 := dkwX0_back_2 ++ []
def dkwX0_back_1 : List UInt8 := [42, 180, 0, 31, 27, 50, 182, 0, 66, 181, 0, 23, 42, 3, 181, 0, 56, 42, 180, 0, 23, 180, 0, 145]
abbrev dktX0_back_1 : List UInt8 := dkwX0_back_1 ++ dktX0_back_2
def dkwX0_back_0 : List UInt8 := [27, 3, 4, 184, 0, 69, 154, 0, 5, 2, 172, 42, 180, 0, 31, 27, 50, 199, 0, 6, 16, 254, 172, 42]
abbrev dktX0_back_0 : List UInt8 := dkwX0_back_0 ++ dktX0_back_1
theorem dksX0_back_0 : cX0_back.data.toList.drop 0 = dktX0_back_0 := by decide +kernel
theorem dksX0_back_1 : cX0_back.data.toList.drop 24 = dktX0_back_1 := dk_seg dksX0_back_0 24 rfl rfl
theorem dksX0_back_2 : cX0_back.data.toList.drop 48 = dktX0_back_2 := dk_seg dksX0_back_1 24 rfl rfl
theorem dX0_back_0 : decode cX0_back 0 = .ok (.iload_n 1, 1) := dk_27 (dk_at dksX0_back_0 0 rfl rfl)
theorem dX0_back_1 : decode cX0_back 1 = .ok (.iconst 0, 1) := dk_3 (dk_at dksX0_back_0 1 rfl rfl)
theorem dX0_back_2 : decode cX0_back 2 = .ok (.iconst 1, 1) := dk_4 (dk_at dksX0_back_0 2 rfl rfl)
theorem dX0_back_3 : decode cX0_back 3 = .ok (.invokestatic 69, 3) := dk_184 0 69 (dk_at dksX0_back_0 3 rfl rfl)
theorem dX0_back_6 : decode cX0_back 6 = .ok (.ifCond .ne 5, 3) := dk_154 0 5 (dk_at dksX0_back_0 6 rfl rfl)
theorem dX0_back_9 : decode cX0_back 9 = .ok (.iconst (-1), 1) := dk_2 (dk_at dksX0_back_0 9 rfl rfl)
theorem dX0_back_10 : decode cX0_back 10 = .ok (.ireturn, 1) := dk_172 (dk_at dksX0_back_0 10 rfl rfl)
theorem dX0_back_11 : decode cX0_back 11 = .ok (.aload_n 0, 1) := dk_42 (dk_at dksX0_back_0 11 rfl rfl)
theorem dX0_back_12 : decode cX0_back 12 = .ok (.getfield 31, 3) := dk_180 0 31 (dk_at dksX0_back_0 12 rfl rfl)
theorem dX0_back_15 : decode cX0_back 15 = .ok (.iload_n 1, 1) := dk_27 (dk_at dksX0_back_0 15 rfl rfl)
theorem dX0_back_16 : decode cX0_back 16 = .ok (.aaload, 1) := dk_50 (dk_at dksX0_back_0 16 rfl rfl)
theorem dX0_back_17 : decode cX0_back 17 = .ok (.ifnonnull 6, 3) := dk_199 0 6 (dk_at dksX0_back_0 17 rfl rfl)
theorem dX0_back_20 : decode cX0_back 20 = .ok (.bipush (-2), 2) := dk_16 254 (dk_at dksX0_back_0 20 rfl rfl)
theorem dX0_back_22 : decode cX0_back 22 = .ok (.ireturn, 1) := dk_172 (dk_at dksX0_back_0 22 rfl rfl)
theorem dX0_back_23 : decode cX0_back 23 = .ok (.aload_n 0, 1) := dk_42 (dk_at dksX0_back_0 23 rfl rfl)
theorem dX0_back_24 : decode cX0_back 24 = .ok (.aload_n 0, 1) := dk_42 (dk_at dksX0_back_1 0 rfl rfl)
theorem dX0_back_25 : decode cX0_back 25 = .ok (.getfield 31, 3) := dk_180 0 31 (dk_at dksX0_back_1 1 rfl rfl)
theorem dX0_back_28 : decode cX0_back 28 = .ok (.iload_n 1, 1) := dk_27 (dk_at dksX0_back_1 4 rfl rfl)
theorem dX0_back_29 : decode cX0_back 29 = .ok (.aaload, 1) := dk_50 (dk_at dksX0_back_1 5 rfl rfl)
theorem dX0_back_30 : decode cX0_back 30 = .ok (.invokevirtual 66, 3) := dk_182 0 66 (dk_at dksX0_back_1 6 rfl rfl)
theorem dX0_back_33 : decode cX0_back 33 = .ok (.putfield 23, 3) := dk_181 0 23 (dk_at dksX0_back_1 9 rfl rfl)
theorem dX0_back_36 : decode cX0_back 36 = .ok (.aload_n 0, 1) := dk_42 (dk_at dksX0_back_1 12 rfl rfl)
theorem dX0_back_37 : decode cX0_back 37 = .ok (.iconst 0, 1) := dk_3 (dk_at dksX0_back_1 13 rfl rfl)
theorem dX0_back_38 : decode cX0_back 38 = .ok (.putfield 56, 3) := dk_181 0 56 (dk_at dksX0_back_1 14 rfl rfl)
theorem dX0_back_41 : decode cX0_back 41 = .ok (.aload_n 0, 1) := dk_42 (dk_at dksX0_back_1 17 rfl rfl)
theorem dX0_back_42 : decode cX0_back 42 = .ok (.getfield 23, 3) := dk_180 0 23 (dk_at dksX0_back_1 18 rfl rfl)
theorem dX0_back_45 : decode cX0_back 45 = .ok (.getfield 145, 3) := dk_180 0 145 (dk_at dksX0_back_1 21 rfl rfl)
theorem dX0_back_48 : decode cX0_back 48 = .ok (.ireturn, 1) := dk_172 (dk_at dksX0_back_2 0 rfl rfl)
abbrev cX0_count : ByteArray := prog_1_method_57_code
def yX0_count : MethodName := ⟨RX0, "count", "(I)I"⟩
def dkwX0_count_10 : List UInt8 := [42, 180, 0, 73, 172, 42, 180, 0, 56, 172, 2, 172]
abbrev dktX0_count_10 : List UInt8 := dkwX0_count_10 ++ []
def dkwX0_count_9 : List UInt8 := [192, 0, 237, 58, 4, 28, 42, 25, 4, 182, 1, 91, 96, 61, 167, 255, 227, 28, 172, 42, 180, 0, 90, 172]
abbrev dktX0_count_9 : List UInt8 := dkwX0_count_9 ++ dktX0_count_10
def dkwX0_count_8 : List UInt8 := [180, 0, 223, 182, 1, 101, 78, 45, 185, 0, 110, 1, 0, 153, 0, 26, 45, 185, 0, 116, 1, 0]
abbrev dktX0_count_8 : List UInt8 := dkwX0_count_8 ++ dktX0_count_9
def dkwX0_count_7 : List UInt8 := [28, 25, 4, 180, 0, 241, 185, 0, 130, 1, 0, 96, 61, 167, 255, 223, 28, 172, 42, 180, 0, 23]
abbrev dktX0_count_7 : List UInt8 := dkwX0_count_7 ++ dktX0_count_8
def dkwX0_count_6 : List UInt8 := [182, 1, 101, 78, 45, 185, 0, 110, 1, 0, 153, 0, 30, 45, 185, 0, 116, 1, 0, 192, 0, 237, 58, 4]
abbrev dktX0_count_6 : List UInt8 := dkwX0_count_6 ++ dktX0_count_7
def dkwX0_count_5 : List UInt8 := [180, 0, 223, 182, 0, 227, 172, 42, 180, 0, 23, 180, 1, 133, 172, 42, 180, 0, 23, 180, 0, 223]
abbrev dktX0_count_5 : List UInt8 := dkwX0_count_5 ++ dktX0_count_6
def dkwX0_count_4 : List UInt8 := [180, 0, 216, 153, 0, 7, 4, 167, 0, 4, 3, 172, 42, 180, 0, 23, 180, 0, 230, 172, 42, 180, 0, 23]
abbrev dktX0_count_4 : List UInt8 := dkwX0_count_4 ++ dktX0_count_5
def dkwX0_count_3 : List UInt8 := [180, 0, 10, 180, 0, 176, 185, 0, 130, 1, 0, 172, 42, 180, 0, 23, 180, 0, 145, 172, 42, 180, 0, 23]
abbrev dktX0_count_3 : List UInt8 := dkwX0_count_3 ++ dktX0_count_4
def dkwX0_count_2 : List UInt8 := [42, 180, 0, 10, 180, 0, 100, 185, 0, 130, 1, 0, 172, 42, 180, 0, 10, 3, 182, 1, 68, 172, 42]
abbrev dktX0_count_2 : List UInt8 := dkwX0_count_2 ++ dktX0_count_3
def dkwX0_count_1 : List UInt8 := [170, 0, 0, 1, 4, 0, 0, 0, 0, 0, 0, 0, 12, 0, 0, 0, 65, 0, 0, 0, 78, 0, 0, 0, 87, 0, 0, 0, 100, 0, 0, 0, 108, 0, 0, 0, 124, 0, 0, 0, 132, 0, 0, 0, 143, 0, 0, 0, 151, 0, 0, 0, 200, 0, 0, 0, 245, 0, 0, 0, 250, 0, 0, 0, 255]
abbrev dktX0_count_1 : List UInt8 := dkwX0_count_1 ++ dktX0_count_2
def dkwX0_count_0 : List UInt8 := [3, 61, 27]
abbrev dktX0_count_0 : List UInt8 := dkwX0_count_0 ++ dktX0_count_1
theorem dksX0_count_0 : cX0_count.data.toList.drop 0 = dktX0_count_0 := by decide +kernel
theorem dksX0_count_1 : cX0_count.data.toList.drop 3 = dktX0_count_1 := dk_seg dksX0_count_0 3 rfl rfl
theorem dksX0_count_2 : cX0_count.data.toList.drop 68 = dktX0_count_2 := dk_seg dksX0_count_1 65 rfl rfl
theorem dksX0_count_3 : cX0_count.data.toList.drop 91 = dktX0_count_3 := dk_seg dksX0_count_2 23 rfl rfl
theorem dksX0_count_4 : cX0_count.data.toList.drop 115 = dktX0_count_4 := dk_seg dksX0_count_3 24 rfl rfl
theorem dksX0_count_5 : cX0_count.data.toList.drop 139 = dktX0_count_5 := dk_seg dksX0_count_4 24 rfl rfl
theorem dksX0_count_6 : cX0_count.data.toList.drop 161 = dktX0_count_6 := dk_seg dksX0_count_5 22 rfl rfl
theorem dksX0_count_7 : cX0_count.data.toList.drop 185 = dktX0_count_7 := dk_seg dksX0_count_6 24 rfl rfl
theorem dksX0_count_8 : cX0_count.data.toList.drop 207 = dktX0_count_8 := dk_seg dksX0_count_7 22 rfl rfl
theorem dksX0_count_9 : cX0_count.data.toList.drop 229 = dktX0_count_9 := dk_seg dksX0_count_8 22 rfl rfl
theorem dksX0_count_10 : cX0_count.data.toList.drop 253 = dktX0_count_10 := dk_seg dksX0_count_9 24 rfl rfl
theorem dX0_count_0 : decode cX0_count 0 = .ok (.iconst 0, 1) := dk_3 (dk_at dksX0_count_0 0 rfl rfl)
theorem dX0_count_1 : decode cX0_count 1 = .ok (.istore_n 2, 1) := dk_61 (dk_at dksX0_count_0 1 rfl rfl)
theorem dX0_count_2 : decode cX0_count 2 = .ok (.iload_n 1, 1) := dk_27 (dk_at dksX0_count_0 2 rfl rfl)
theorem dX0_count_3 : decode cX0_count 3 = .ok (.tableswitch 260 0 12 #[65, 78, 87, 100, 108, 124, 132, 143, 151, 200, 245, 250, 255], 65) := by decide +kernel
theorem dX0_count_68 : decode cX0_count 68 = .ok (.aload_n 0, 1) := dk_42 (dk_at dksX0_count_2 0 rfl rfl)
theorem dX0_count_69 : decode cX0_count 69 = .ok (.getfield 10, 3) := dk_180 0 10 (dk_at dksX0_count_2 1 rfl rfl)
theorem dX0_count_72 : decode cX0_count 72 = .ok (.getfield 100, 3) := dk_180 0 100 (dk_at dksX0_count_2 4 rfl rfl)
theorem dX0_count_75 : decode cX0_count 75 = .ok (.invokeinterface 130 1, 5) := by decide +kernel
theorem dX0_count_80 : decode cX0_count 80 = .ok (.ireturn, 1) := dk_172 (dk_at dksX0_count_2 12 rfl rfl)
theorem dX0_count_81 : decode cX0_count 81 = .ok (.aload_n 0, 1) := dk_42 (dk_at dksX0_count_2 13 rfl rfl)
theorem dX0_count_82 : decode cX0_count 82 = .ok (.getfield 10, 3) := dk_180 0 10 (dk_at dksX0_count_2 14 rfl rfl)
theorem dX0_count_85 : decode cX0_count 85 = .ok (.iconst 0, 1) := dk_3 (dk_at dksX0_count_2 17 rfl rfl)
theorem dX0_count_86 : decode cX0_count 86 = .ok (.invokevirtual 324, 3) := dk_182 1 68 (dk_at dksX0_count_2 18 rfl rfl)
theorem dX0_count_89 : decode cX0_count 89 = .ok (.ireturn, 1) := dk_172 (dk_at dksX0_count_2 21 rfl rfl)
theorem dX0_count_90 : decode cX0_count 90 = .ok (.aload_n 0, 1) := dk_42 (dk_at dksX0_count_2 22 rfl rfl)
theorem dX0_count_91 : decode cX0_count 91 = .ok (.getfield 10, 3) := dk_180 0 10 (dk_at dksX0_count_3 0 rfl rfl)
theorem dX0_count_94 : decode cX0_count 94 = .ok (.getfield 176, 3) := dk_180 0 176 (dk_at dksX0_count_3 3 rfl rfl)
theorem dX0_count_97 : decode cX0_count 97 = .ok (.invokeinterface 130 1, 5) := by decide +kernel
theorem dX0_count_102 : decode cX0_count 102 = .ok (.ireturn, 1) := dk_172 (dk_at dksX0_count_3 11 rfl rfl)
theorem dX0_count_103 : decode cX0_count 103 = .ok (.aload_n 0, 1) := dk_42 (dk_at dksX0_count_3 12 rfl rfl)
theorem dX0_count_104 : decode cX0_count 104 = .ok (.getfield 23, 3) := dk_180 0 23 (dk_at dksX0_count_3 13 rfl rfl)
theorem dX0_count_107 : decode cX0_count 107 = .ok (.getfield 145, 3) := dk_180 0 145 (dk_at dksX0_count_3 16 rfl rfl)
theorem dX0_count_110 : decode cX0_count 110 = .ok (.ireturn, 1) := dk_172 (dk_at dksX0_count_3 19 rfl rfl)
theorem dX0_count_111 : decode cX0_count 111 = .ok (.aload_n 0, 1) := dk_42 (dk_at dksX0_count_3 20 rfl rfl)
theorem dX0_count_112 : decode cX0_count 112 = .ok (.getfield 23, 3) := dk_180 0 23 (dk_at dksX0_count_3 21 rfl rfl)
theorem dX0_count_115 : decode cX0_count 115 = .ok (.getfield 216, 3) := dk_180 0 216 (dk_at dksX0_count_4 0 rfl rfl)
theorem dX0_count_118 : decode cX0_count 118 = .ok (.ifCond .eq 7, 3) := dk_153 0 7 (dk_at dksX0_count_4 3 rfl rfl)
theorem dX0_count_121 : decode cX0_count 121 = .ok (.iconst 1, 1) := dk_4 (dk_at dksX0_count_4 6 rfl rfl)
theorem dX0_count_122 : decode cX0_count 122 = .ok (.goto 4, 3) := dk_167 0 4 (dk_at dksX0_count_4 7 rfl rfl)
theorem dX0_count_125 : decode cX0_count 125 = .ok (.iconst 0, 1) := dk_3 (dk_at dksX0_count_4 10 rfl rfl)
theorem dX0_count_126 : decode cX0_count 126 = .ok (.ireturn, 1) := dk_172 (dk_at dksX0_count_4 11 rfl rfl)
theorem dX0_count_127 : decode cX0_count 127 = .ok (.aload_n 0, 1) := dk_42 (dk_at dksX0_count_4 12 rfl rfl)
theorem dX0_count_128 : decode cX0_count 128 = .ok (.getfield 23, 3) := dk_180 0 23 (dk_at dksX0_count_4 13 rfl rfl)
theorem dX0_count_131 : decode cX0_count 131 = .ok (.getfield 230, 3) := dk_180 0 230 (dk_at dksX0_count_4 16 rfl rfl)
theorem dX0_count_134 : decode cX0_count 134 = .ok (.ireturn, 1) := dk_172 (dk_at dksX0_count_4 19 rfl rfl)
theorem dX0_count_135 : decode cX0_count 135 = .ok (.aload_n 0, 1) := dk_42 (dk_at dksX0_count_4 20 rfl rfl)
theorem dX0_count_136 : decode cX0_count 136 = .ok (.getfield 23, 3) := dk_180 0 23 (dk_at dksX0_count_4 21 rfl rfl)
theorem dX0_count_139 : decode cX0_count 139 = .ok (.getfield 223, 3) := dk_180 0 223 (dk_at dksX0_count_5 0 rfl rfl)
theorem dX0_count_142 : decode cX0_count 142 = .ok (.invokevirtual 227, 3) := dk_182 0 227 (dk_at dksX0_count_5 3 rfl rfl)
theorem dX0_count_145 : decode cX0_count 145 = .ok (.ireturn, 1) := dk_172 (dk_at dksX0_count_5 6 rfl rfl)
theorem dX0_count_146 : decode cX0_count 146 = .ok (.aload_n 0, 1) := dk_42 (dk_at dksX0_count_5 7 rfl rfl)
theorem dX0_count_147 : decode cX0_count 147 = .ok (.getfield 23, 3) := dk_180 0 23 (dk_at dksX0_count_5 8 rfl rfl)
theorem dX0_count_150 : decode cX0_count 150 = .ok (.getfield 389, 3) := dk_180 1 133 (dk_at dksX0_count_5 11 rfl rfl)
theorem dX0_count_153 : decode cX0_count 153 = .ok (.ireturn, 1) := dk_172 (dk_at dksX0_count_5 14 rfl rfl)
theorem dX0_count_154 : decode cX0_count 154 = .ok (.aload_n 0, 1) := dk_42 (dk_at dksX0_count_5 15 rfl rfl)
theorem dX0_count_155 : decode cX0_count 155 = .ok (.getfield 23, 3) := dk_180 0 23 (dk_at dksX0_count_5 16 rfl rfl)
theorem dX0_count_158 : decode cX0_count 158 = .ok (.getfield 223, 3) := dk_180 0 223 (dk_at dksX0_count_5 19 rfl rfl)
theorem dX0_count_161 : decode cX0_count 161 = .ok (.invokevirtual 357, 3) := dk_182 1 101 (dk_at dksX0_count_6 0 rfl rfl)
theorem dX0_count_164 : decode cX0_count 164 = .ok (.astore_n 3, 1) := dk_78 (dk_at dksX0_count_6 3 rfl rfl)
theorem dX0_count_165 : decode cX0_count 165 = .ok (.aload_n 3, 1) := dk_45 (dk_at dksX0_count_6 4 rfl rfl)
theorem dX0_count_166 : decode cX0_count 166 = .ok (.invokeinterface 110 1, 5) := by decide +kernel
theorem dX0_count_171 : decode cX0_count 171 = .ok (.ifCond .eq 30, 3) := dk_153 0 30 (dk_at dksX0_count_6 10 rfl rfl)
theorem dX0_count_174 : decode cX0_count 174 = .ok (.aload_n 3, 1) := dk_45 (dk_at dksX0_count_6 13 rfl rfl)
theorem dX0_count_175 : decode cX0_count 175 = .ok (.invokeinterface 116 1, 5) := by decide +kernel
theorem dX0_count_180 : decode cX0_count 180 = .ok (.checkcast 237, 3) := dk_192 0 237 (dk_at dksX0_count_6 19 rfl rfl)
theorem dX0_count_183 : decode cX0_count 183 = .ok (.astore 4, 2) := dk_58 4 (dk_at dksX0_count_6 22 rfl rfl)
theorem dX0_count_185 : decode cX0_count 185 = .ok (.iload_n 2, 1) := dk_28 (dk_at dksX0_count_7 0 rfl rfl)
theorem dX0_count_186 : decode cX0_count 186 = .ok (.aload 4, 2) := dk_25 4 (dk_at dksX0_count_7 1 rfl rfl)
theorem dX0_count_188 : decode cX0_count 188 = .ok (.getfield 241, 3) := dk_180 0 241 (dk_at dksX0_count_7 3 rfl rfl)
theorem dX0_count_191 : decode cX0_count 191 = .ok (.invokeinterface 130 1, 5) := by decide +kernel
theorem dX0_count_196 : decode cX0_count 196 = .ok (.iadd, 1) := dk_96 (dk_at dksX0_count_7 11 rfl rfl)
theorem dX0_count_197 : decode cX0_count 197 = .ok (.istore_n 2, 1) := dk_61 (dk_at dksX0_count_7 12 rfl rfl)
theorem dX0_count_198 : decode cX0_count 198 = .ok (.goto (-33), 3) := dk_167 255 223 (dk_at dksX0_count_7 13 rfl rfl)
theorem dX0_count_201 : decode cX0_count 201 = .ok (.iload_n 2, 1) := dk_28 (dk_at dksX0_count_7 16 rfl rfl)
theorem dX0_count_202 : decode cX0_count 202 = .ok (.ireturn, 1) := dk_172 (dk_at dksX0_count_7 17 rfl rfl)
theorem dX0_count_203 : decode cX0_count 203 = .ok (.aload_n 0, 1) := dk_42 (dk_at dksX0_count_7 18 rfl rfl)
theorem dX0_count_204 : decode cX0_count 204 = .ok (.getfield 23, 3) := dk_180 0 23 (dk_at dksX0_count_7 19 rfl rfl)
theorem dX0_count_207 : decode cX0_count 207 = .ok (.getfield 223, 3) := dk_180 0 223 (dk_at dksX0_count_8 0 rfl rfl)
theorem dX0_count_210 : decode cX0_count 210 = .ok (.invokevirtual 357, 3) := dk_182 1 101 (dk_at dksX0_count_8 3 rfl rfl)
theorem dX0_count_213 : decode cX0_count 213 = .ok (.astore_n 3, 1) := dk_78 (dk_at dksX0_count_8 6 rfl rfl)
theorem dX0_count_214 : decode cX0_count 214 = .ok (.aload_n 3, 1) := dk_45 (dk_at dksX0_count_8 7 rfl rfl)
theorem dX0_count_215 : decode cX0_count 215 = .ok (.invokeinterface 110 1, 5) := by decide +kernel
theorem dX0_count_220 : decode cX0_count 220 = .ok (.ifCond .eq 26, 3) := dk_153 0 26 (dk_at dksX0_count_8 13 rfl rfl)
theorem dX0_count_223 : decode cX0_count 223 = .ok (.aload_n 3, 1) := dk_45 (dk_at dksX0_count_8 16 rfl rfl)
theorem dX0_count_224 : decode cX0_count 224 = .ok (.invokeinterface 116 1, 5) := by decide +kernel
theorem dX0_count_229 : decode cX0_count 229 = .ok (.checkcast 237, 3) := dk_192 0 237 (dk_at dksX0_count_9 0 rfl rfl)
theorem dX0_count_232 : decode cX0_count 232 = .ok (.astore 4, 2) := dk_58 4 (dk_at dksX0_count_9 3 rfl rfl)
theorem dX0_count_234 : decode cX0_count 234 = .ok (.iload_n 2, 1) := dk_28 (dk_at dksX0_count_9 5 rfl rfl)
theorem dX0_count_235 : decode cX0_count 235 = .ok (.aload_n 0, 1) := dk_42 (dk_at dksX0_count_9 6 rfl rfl)
theorem dX0_count_236 : decode cX0_count 236 = .ok (.aload 4, 2) := dk_25 4 (dk_at dksX0_count_9 7 rfl rfl)
theorem dX0_count_238 : decode cX0_count 238 = .ok (.invokevirtual 347, 3) := dk_182 1 91 (dk_at dksX0_count_9 9 rfl rfl)
theorem dX0_count_241 : decode cX0_count 241 = .ok (.iadd, 1) := dk_96 (dk_at dksX0_count_9 12 rfl rfl)
theorem dX0_count_242 : decode cX0_count 242 = .ok (.istore_n 2, 1) := dk_61 (dk_at dksX0_count_9 13 rfl rfl)
theorem dX0_count_243 : decode cX0_count 243 = .ok (.goto (-29), 3) := dk_167 255 227 (dk_at dksX0_count_9 14 rfl rfl)
theorem dX0_count_246 : decode cX0_count 246 = .ok (.iload_n 2, 1) := dk_28 (dk_at dksX0_count_9 17 rfl rfl)
theorem dX0_count_247 : decode cX0_count 247 = .ok (.ireturn, 1) := dk_172 (dk_at dksX0_count_9 18 rfl rfl)
theorem dX0_count_248 : decode cX0_count 248 = .ok (.aload_n 0, 1) := dk_42 (dk_at dksX0_count_9 19 rfl rfl)
theorem dX0_count_249 : decode cX0_count 249 = .ok (.getfield 90, 3) := dk_180 0 90 (dk_at dksX0_count_9 20 rfl rfl)
theorem dX0_count_252 : decode cX0_count 252 = .ok (.ireturn, 1) := dk_172 (dk_at dksX0_count_9 23 rfl rfl)
theorem dX0_count_253 : decode cX0_count 253 = .ok (.aload_n 0, 1) := dk_42 (dk_at dksX0_count_10 0 rfl rfl)
theorem dX0_count_254 : decode cX0_count 254 = .ok (.getfield 73, 3) := dk_180 0 73 (dk_at dksX0_count_10 1 rfl rfl)
theorem dX0_count_257 : decode cX0_count 257 = .ok (.ireturn, 1) := dk_172 (dk_at dksX0_count_10 4 rfl rfl)
theorem dX0_count_258 : decode cX0_count 258 = .ok (.aload_n 0, 1) := dk_42 (dk_at dksX0_count_10 5 rfl rfl)
theorem dX0_count_259 : decode cX0_count 259 = .ok (.getfield 56, 3) := dk_180 0 56 (dk_at dksX0_count_10 6 rfl rfl)
theorem dX0_count_262 : decode cX0_count 262 = .ok (.ireturn, 1) := dk_172 (dk_at dksX0_count_10 9 rfl rfl)
theorem dX0_count_263 : decode cX0_count 263 = .ok (.iconst (-1), 1) := dk_2 (dk_at dksX0_count_10 10 rfl rfl)
theorem dX0_count_264 : decode cX0_count 264 = .ok (.ireturn, 1) := dk_172 (dk_at dksX0_count_10 11 rfl rfl)
theorem q94 : (Jvm.Cond.initialized "SignalWaves") ∈ lw_all := lw_g (lw_at lw_m1 1 rfl) rfl
theorem q158 : (Jvm.Cond.instantiable "SignalWaves" (14 : Nat)) ∈ lw_all := lw_g (lw_at lw_m1 65 rfl) rfl
theorem q160 : (Jvm.Cond.instanceMethod ({ cls := "SignalWaves", name := "<init>", desc := "()V" } : Jvm.MethodName)) ∈ lw_all := lw_g (lw_at lw_m1 67 rfl) rfl
theorem q161 : (Jvm.Cond.code ({ cls := "SignalWaves", name := "<init>", desc := "()V" } : Jvm.MethodName) prog_1_method_3_code (1 : Nat) (Option.none : Option Jvm.ClassFile.FieldType)) ∈ lw_all := lw_g (lw_at lw_m1 68 rfl) rfl
theorem q162 : (Jvm.Cond.methodLink "SignalWaves" (1 : Nat) ({ cls := "java/lang/Object", name := "<init>", desc := "()V" } : Jvm.MethodName)) ∈ lw_all := lw_g (lw_at lw_m1 69 rfl) rfl
theorem q165 : (Jvm.Cond.classLink "SignalWaves" (7 : Nat) "SignalWaves$Book") ∈ lw_all := lw_g (lw_at lw_m1 72 rfl) rfl
theorem q167 : (Jvm.Cond.methodLinkNest "SignalWaves" (9 : Nat) ({ cls := "SignalWaves$Book", name := "<init>", desc := "()V" } : Jvm.MethodName) "SignalWaves") ∈ lw_tbl := lw_at lw_m1 74 rfl
theorem q220 : (Jvm.Cond.fieldLinkNest "SignalWaves" (184 : Nat) "SignalWaves$Scope" "things" "Ljava/util/TreeMap;" "SignalWaves") ∈ lw_tbl := lw_at lw_m1 127 rfl
theorem q227 : (Jvm.Cond.fieldLink "SignalWaves" (127 : Nat) "SignalWaves$Node" "number" "I") ∈ lw_all := lw_g (lw_at lw_m1 134 rfl) rfl
theorem q231 : (Jvm.Cond.fieldLink "SignalWaves" (155 : Nat) "SignalWaves$Node" "scope" "LSignalWaves$Scope;") ∈ lw_all := lw_g (lw_at lw_m1 138 rfl) rfl
theorem q234 : (Jvm.Cond.fieldLink "SignalWaves" (179 : Nat) "SignalWaves$Scope" "scope" "LSignalWaves$Scope;") ∈ lw_all := lw_g (lw_at lw_m1 141 rfl) rfl
theorem q236 : (Jvm.Cond.fieldLink "SignalWaves" (164 : Nat) "SignalWaves$Node" "name" "I") ∈ lw_all := lw_g (lw_at lw_m1 143 rfl) rfl
theorem q238 : (Jvm.Cond.fieldLink "SignalWaves" (180 : Nat) "SignalWaves$Scope" "name" "I") ∈ lw_all := lw_g (lw_at lw_m1 145 rfl) rfl
theorem q280 : (Jvm.Cond.fieldLinkNest "SignalWaves" (181 : Nat) "SignalWaves$Book" "top" "LSignalWaves$Scope;" "SignalWaves") ∈ lw_tbl := lw_at lw_m1 187 rfl
theorem q283 : (Jvm.Cond.fieldLinkNest "SignalWaves" (176 : Nat) "SignalWaves$Book" "scopes" "Ljava/util/List;" "SignalWaves") ∈ lw_tbl := lw_at lw_m1 190 rfl
theorem q285 : (Jvm.Cond.fieldLinkNest "SignalWaves" (100 : Nat) "SignalWaves$Book" "nodes" "Ljava/util/List;" "SignalWaves") ∈ lw_tbl := lw_at lw_m1 192 rfl
theorem q294 : (Jvm.Cond.classLink "SignalWaves" (16 : Nat) "SignalWaves$Wave") ∈ lw_all := lw_g (lw_at lw_m1 201 rfl) rfl
theorem q296 : (Jvm.Cond.methodLinkNest "SignalWaves" (18 : Nat) ({ cls := "SignalWaves$Wave", name := "<init>", desc := "()V" } : Jvm.MethodName) "SignalWaves") ∈ lw_tbl := lw_at lw_m1 203 rfl
theorem q342 : (Jvm.Cond.fieldLinkNest "SignalWaves" (331 : Nat) "SignalWaves$Block" "begin" "I" "SignalWaves") ∈ lw_tbl := lw_at lw_m2 9 rfl
theorem q344 : (Jvm.Cond.fieldLinkNest "SignalWaves" (236 : Nat) "SignalWaves$Block" "frame" "[I" "SignalWaves") ∈ lw_tbl := lw_at lw_m2 11 rfl
theorem q347 : (Jvm.Cond.fieldLinkNest "SignalWaves" (344 : Nat) "SignalWaves$Block" "end" "I" "SignalWaves") ∈ lw_tbl := lw_at lw_m2 14 rfl
theorem q350 : (Jvm.Cond.fieldLinkNest "SignalWaves" (241 : Nat) "SignalWaves$Block" "changes" "Ljava/util/List;" "SignalWaves") ∈ lw_tbl := lw_at lw_m2 17 rfl
theorem q363 : (Jvm.Cond.fieldLinkNest "SignalWaves" (145 : Nat) "SignalWaves$Wave" "time" "I" "SignalWaves") ∈ lw_tbl := lw_at lw_m2 30 rfl
theorem q365 : (Jvm.Cond.fieldLinkNest "SignalWaves" (216 : Nat) "SignalWaves$Wave" "isOn" "Z" "SignalWaves") ∈ lw_tbl := lw_at lw_m2 32 rfl
theorem q367 : (Jvm.Cond.fieldLinkNest "SignalWaves" (230 : Nat) "SignalWaves$Wave" "size" "I" "SignalWaves") ∈ lw_tbl := lw_at lw_m2 34 rfl
theorem q369 : (Jvm.Cond.fieldLinkNest "SignalWaves" (389 : Nat) "SignalWaves$Wave" "lost" "I" "SignalWaves") ∈ lw_tbl := lw_at lw_m2 36 rfl
theorem q372 : (Jvm.Cond.fieldLinkNest "SignalWaves" (167 : Nat) "SignalWaves$Wave" "values" "[I" "SignalWaves") ∈ lw_tbl := lw_at lw_m2 39 rfl
theorem q374 : (Jvm.Cond.fieldLinkNest "SignalWaves" (223 : Nat) "SignalWaves$Wave" "blocks" "Ljava/util/TreeSet;" "SignalWaves") ∈ lw_tbl := lw_at lw_m2 41 rfl
theorem q393 : (Jvm.Cond.methodLink "SignalWaves" (19 : Nat) ({ cls := "SignalWaves$Wave", name := "begins", desc := "()LSignalWaves$Wave;" } : Jvm.MethodName)) ∈ lw_all := lw_g (lw_at lw_m2 60 rfl) rfl
theorem q1063 : (Jvm.Cond.classLink "SignalWaves" (48 : Nat) "[[I") ∈ lw_all := lw_g (lw_at lw_m5 10 rfl) rfl
theorem q1065 : (Jvm.Cond.fieldLink "SignalWaves" (10 : Nat) "SignalWaves" "book" "LSignalWaves$Book;") ∈ lw_all := lw_g (lw_at lw_m5 12 rfl) rfl
theorem q1066 : (Jvm.Cond.fieldLink "SignalWaves" (23 : Nat) "SignalWaves" "now" "LSignalWaves$Wave;") ∈ lw_all := lw_g (lw_at lw_m5 13 rfl) rfl
theorem q1067 : (Jvm.Cond.fieldLink "SignalWaves" (27 : Nat) "SignalWaves" "done" "[LSignalWaves$Wave;") ∈ lw_all := lw_g (lw_at lw_m5 14 rfl) rfl
theorem q1068 : (Jvm.Cond.fieldLink "SignalWaves" (56 : Nat) "SignalWaves" "doneMany" "I") ∈ lw_all := lw_g (lw_at lw_m5 15 rfl) rfl
theorem q1069 : (Jvm.Cond.fieldLink "SignalWaves" (31 : Nat) "SignalWaves" "kept" "[LSignalWaves$Wave;") ∈ lw_all := lw_g (lw_at lw_m5 16 rfl) rfl
theorem q1070 : (Jvm.Cond.fieldLink "SignalWaves" (34 : Nat) "SignalWaves" "factTime" "[I") ∈ lw_all := lw_g (lw_at lw_m5 17 rfl) rfl
theorem q1071 : (Jvm.Cond.fieldLink "SignalWaves" (38 : Nat) "SignalWaves" "factValue" "[I") ∈ lw_all := lw_g (lw_at lw_m5 18 rfl) rfl
theorem q1072 : (Jvm.Cond.fieldLink "SignalWaves" (90 : Nat) "SignalWaves" "facts" "I") ∈ lw_all := lw_g (lw_at lw_m5 19 rfl) rfl
theorem q1074 : (Jvm.Cond.fieldLink "SignalWaves" (41 : Nat) "SignalWaves" "text" "[B") ∈ lw_all := lw_g (lw_at lw_m5 21 rfl) rfl
theorem q1076 : (Jvm.Cond.fieldLink "SignalWaves" (73 : Nat) "SignalWaves" "typed" "I") ∈ lw_all := lw_g (lw_at lw_m5 23 rfl) rfl
theorem q1077 : (Jvm.Cond.fieldLink "SignalWaves" (45 : Nat) "SignalWaves" "values" "[I") ∈ lw_all := lw_g (lw_at lw_m5 24 rfl) rfl
theorem q1078 : (Jvm.Cond.fieldLink "SignalWaves" (50 : Nat) "SignalWaves" "waves" "[[I") ∈ lw_all := lw_g (lw_at lw_m5 25 rfl) rfl
theorem q1079 : (Jvm.Cond.fieldLink "SignalWaves" (53 : Nat) "SignalWaves" "unlike" "[I") ∈ lw_all := lw_g (lw_at lw_m5 26 rfl) rfl
theorem q1080 : (Jvm.Cond.fieldLink "SignalWaves" (321 : Nat) "SignalWaves" "unlikeMany" "I") ∈ lw_all := lw_g (lw_at lw_m5 27 rfl) rfl
theorem q1081 : (Jvm.Cond.lays "SignalWaves" "SignalWaves" "book" "LSignalWaves$Book;") ∈ lw_all := lw_g (lw_at lw_m5 28 rfl) rfl
theorem q1082 : (Jvm.Cond.soleField "SignalWaves" "book") ∈ lw_all := lw_g (lw_at lw_m5 29 rfl) rfl
theorem q1083 : (Jvm.Cond.lays "SignalWaves" "SignalWaves" "now" "LSignalWaves$Wave;") ∈ lw_all := lw_g (lw_at lw_m5 30 rfl) rfl
theorem q1084 : (Jvm.Cond.soleField "SignalWaves" "now") ∈ lw_all := lw_g (lw_at lw_m5 31 rfl) rfl
theorem q1085 : (Jvm.Cond.laysFinal "SignalWaves" "SignalWaves" "done" "[LSignalWaves$Wave;") ∈ lw_all := lw_g (lw_at lw_m5 32 rfl) rfl
theorem q1086 : (Jvm.Cond.soleField "SignalWaves" "done") ∈ lw_all := lw_g (lw_at lw_m5 33 rfl) rfl
theorem q1087 : (Jvm.Cond.lays "SignalWaves" "SignalWaves" "doneMany" "I") ∈ lw_all := lw_g (lw_at lw_m5 34 rfl) rfl
theorem q1088 : (Jvm.Cond.soleField "SignalWaves" "doneMany") ∈ lw_all := lw_g (lw_at lw_m5 35 rfl) rfl
theorem q1089 : (Jvm.Cond.laysFinal "SignalWaves" "SignalWaves" "kept" "[LSignalWaves$Wave;") ∈ lw_all := lw_g (lw_at lw_m5 36 rfl) rfl
theorem q1090 : (Jvm.Cond.soleField "SignalWaves" "kept") ∈ lw_all := lw_g (lw_at lw_m5 37 rfl) rfl
theorem q1091 : (Jvm.Cond.laysFinal "SignalWaves" "SignalWaves" "factTime" "[I") ∈ lw_all := lw_g (lw_at lw_m5 38 rfl) rfl
theorem q1092 : (Jvm.Cond.soleField "SignalWaves" "factTime") ∈ lw_all := lw_g (lw_at lw_m5 39 rfl) rfl
theorem q1093 : (Jvm.Cond.laysFinal "SignalWaves" "SignalWaves" "factValue" "[I") ∈ lw_all := lw_g (lw_at lw_m5 40 rfl) rfl
theorem q1094 : (Jvm.Cond.soleField "SignalWaves" "factValue") ∈ lw_all := lw_g (lw_at lw_m5 41 rfl) rfl
theorem q1095 : (Jvm.Cond.lays "SignalWaves" "SignalWaves" "facts" "I") ∈ lw_all := lw_g (lw_at lw_m5 42 rfl) rfl
theorem q1096 : (Jvm.Cond.soleField "SignalWaves" "facts") ∈ lw_all := lw_g (lw_at lw_m5 43 rfl) rfl
theorem q1097 : (Jvm.Cond.laysFinal "SignalWaves" "SignalWaves" "text" "[B") ∈ lw_all := lw_g (lw_at lw_m5 44 rfl) rfl
theorem q1098 : (Jvm.Cond.soleField "SignalWaves" "text") ∈ lw_all := lw_g (lw_at lw_m5 45 rfl) rfl
theorem q1099 : (Jvm.Cond.lays "SignalWaves" "SignalWaves" "typed" "I") ∈ lw_all := lw_g (lw_at lw_m5 46 rfl) rfl
theorem q1100 : (Jvm.Cond.soleField "SignalWaves" "typed") ∈ lw_all := lw_g (lw_at lw_m5 47 rfl) rfl
theorem q1101 : (Jvm.Cond.laysFinal "SignalWaves" "SignalWaves" "values" "[I") ∈ lw_all := lw_g (lw_at lw_m5 48 rfl) rfl
theorem q1102 : (Jvm.Cond.soleField "SignalWaves" "values") ∈ lw_all := lw_g (lw_at lw_m5 49 rfl) rfl
theorem q1103 : (Jvm.Cond.laysFinal "SignalWaves" "SignalWaves" "waves" "[[I") ∈ lw_all := lw_g (lw_at lw_m5 50 rfl) rfl
theorem q1104 : (Jvm.Cond.soleField "SignalWaves" "waves") ∈ lw_all := lw_g (lw_at lw_m5 51 rfl) rfl
theorem q1105 : (Jvm.Cond.laysFinal "SignalWaves" "SignalWaves" "unlike" "[I") ∈ lw_all := lw_g (lw_at lw_m5 52 rfl) rfl
theorem q1106 : (Jvm.Cond.soleField "SignalWaves" "unlike") ∈ lw_all := lw_g (lw_at lw_m5 53 rfl) rfl
theorem q1107 : (Jvm.Cond.lays "SignalWaves" "SignalWaves" "unlikeMany" "I") ∈ lw_all := lw_g (lw_at lw_m5 54 rfl) rfl
theorem q1108 : (Jvm.Cond.soleField "SignalWaves" "unlikeMany") ∈ lw_all := lw_g (lw_at lw_m5 55 rfl) rfl
theorem q1109 : (Jvm.Cond.superclass "SignalWaves" "java/lang/Object") ∈ lw_all := lw_g (lw_at lw_m5 56 rfl) rfl
theorem q1112 : (Jvm.Cond.instanceMethod ({ cls := "SignalWaves", name := "type", desc := "(I)I" } : Jvm.MethodName)) ∈ lw_all := lw_g (lw_at lw_m5 59 rfl) rfl
theorem q1113 : (Jvm.Cond.selects "SignalWaves" ({ cls := "SignalWaves", name := "type", desc := "(I)I" } : Jvm.MethodName) ({ cls := "SignalWaves", name := "type", desc := "(I)I" } : Jvm.MethodName)) ∈ lw_all := lw_g (lw_at lw_m5 60 rfl) rfl
theorem q1114 : (Jvm.Cond.code ({ cls := "SignalWaves", name := "type", desc := "(I)I" } : Jvm.MethodName) prog_1_method_5_code (2 : Nat) (Option.some Jvm.ClassFile.FieldType.int)) ∈ lw_all := lw_g (lw_at lw_m5 61 rfl) rfl
theorem q1115 : (Jvm.Cond.methodLink "SignalWaves" (69 : Nat) ({ cls := "SignalWaves", name := "in", desc := "(III)Z" } : Jvm.MethodName)) ∈ lw_all := lw_g (lw_at lw_m5 62 rfl) rfl
theorem q1116 : (Jvm.Cond.static ({ cls := "SignalWaves", name := "in", desc := "(III)Z" } : Jvm.MethodName)) ∈ lw_all := lw_g (lw_at lw_m5 63 rfl) rfl
theorem q1117 : (Jvm.Cond.code ({ cls := "SignalWaves", name := "in", desc := "(III)Z" } : Jvm.MethodName) prog_1_method_1_code (3 : Nat) (Option.some Jvm.ClassFile.FieldType.boolean)) ∈ lw_all := lw_g (lw_at lw_m5 64 rfl) rfl
theorem q1119 : (Jvm.Cond.instanceMethod ({ cls := "SignalWaves", name := "clear", desc := "()I" } : Jvm.MethodName)) ∈ lw_all := lw_g (lw_at lw_m5 66 rfl) rfl
theorem q1120 : (Jvm.Cond.selects "SignalWaves" ({ cls := "SignalWaves", name := "clear", desc := "()I" } : Jvm.MethodName) ({ cls := "SignalWaves", name := "clear", desc := "()I" } : Jvm.MethodName)) ∈ lw_all := lw_g (lw_at lw_m5 67 rfl) rfl
theorem q1121 : (Jvm.Cond.code ({ cls := "SignalWaves", name := "clear", desc := "()I" } : Jvm.MethodName) prog_1_method_6_code (2 : Nat) (Option.some Jvm.ClassFile.FieldType.int)) ∈ lw_all := lw_g (lw_at lw_m5 68 rfl) rfl
theorem q1123 : (Jvm.Cond.instanceMethod ({ cls := "SignalWaves", name := "tells", desc := "()I" } : Jvm.MethodName)) ∈ lw_all := lw_g (lw_at lw_m5 70 rfl) rfl
theorem q1124 : (Jvm.Cond.selects "SignalWaves" ({ cls := "SignalWaves", name := "tells", desc := "()I" } : Jvm.MethodName) ({ cls := "SignalWaves", name := "tells", desc := "()I" } : Jvm.MethodName)) ∈ lw_all := lw_g (lw_at lw_m5 71 rfl) rfl
theorem q1125 : (Jvm.Cond.codeWith ({ cls := "SignalWaves", name := "tells", desc := "()I" } : Jvm.MethodName) prog_1_method_7_code (3 : Nat) (Option.some Jvm.ClassFile.FieldType.int) [((9 : Nat), (17 : Nat), (20 : Nat), (85 : Nat))]) ∈ lw_all := lw_g (lw_at lw_m5 72 rfl) rfl
theorem q1126 : (Jvm.Cond.classLink "SignalWaves" (85 : Nat) "SignalWaves$Wrong") ∈ lw_all := lw_g (lw_at lw_m5 73 rfl) rfl
theorem q1127 : (Jvm.Cond.classLink "SignalWaves" (76 : Nat) "SignalWaves$Reader") ∈ lw_all := lw_g (lw_at lw_m5 74 rfl) rfl
theorem q1129 : (Jvm.Cond.methodLinkNest "SignalWaves" (78 : Nat) ({ cls := "SignalWaves$Reader", name := "<init>", desc := "(LSignalWaves;)V" } : Jvm.MethodName) "SignalWaves") ∈ lw_tbl := lw_at lw_m5 76 rfl
theorem q1139 : (Jvm.Cond.fieldLinkNest "SignalWaves" (93 : Nat) "SignalWaves$Reader" "items" "I" "SignalWaves") ∈ lw_tbl := lw_at lw_m5 86 rfl
theorem q1167 : (Jvm.Cond.methodLink "SignalWaves" (81 : Nat) ({ cls := "SignalWaves$Reader", name := "read", desc := "()LSignalWaves$Book;" } : Jvm.MethodName)) ∈ lw_all := lw_g (lw_at lw_m5 114 rfl) rfl
theorem q1324 : (Jvm.Cond.fieldLinkNest "SignalWaves" (87 : Nat) "SignalWaves$Wrong" "at" "I" "SignalWaves") ∈ lw_tbl := lw_at lw_m6 31 rfl
theorem q1427 : (Jvm.Cond.selects "SignalWaves" ({ cls := "java/lang/Object", name := "getClass", desc := "()Ljava/lang/Class;" } : Jvm.MethodName) ({ cls := "java/lang/Object", name := "getClass", desc := "()Ljava/lang/Class;" } : Jvm.MethodName)) ∈ lw_all := lw_g (lw_at lw_m6 134 rfl) rfl
theorem q1528 : (Jvm.Cond.fieldLinkNest "SignalWaves" (142 : Nat) "SignalWaves$Node" "kind" "I" "SignalWaves") ∈ lw_tbl := lw_at lw_m6 235 rfl
theorem q1530 : (Jvm.Cond.fieldLinkNest "SignalWaves" (148 : Nat) "SignalWaves$Node" "bits" "I" "SignalWaves") ∈ lw_tbl := lw_at lw_m6 237 rfl
theorem q1532 : (Jvm.Cond.fieldLinkNest "SignalWaves" (151 : Nat) "SignalWaves$Node" "of" "LSignalWaves$Node;" "SignalWaves") ∈ lw_tbl := lw_at lw_m6 239 rfl
theorem q1618 : (Jvm.Cond.instanceMethod ({ cls := "SignalWaves", name := "node", desc := "()I" } : Jvm.MethodName)) ∈ lw_all := lw_g (lw_at lw_m7 85 rfl) rfl
theorem q1619 : (Jvm.Cond.selects "SignalWaves" ({ cls := "SignalWaves", name := "node", desc := "()I" } : Jvm.MethodName) ({ cls := "SignalWaves", name := "node", desc := "()I" } : Jvm.MethodName)) ∈ lw_all := lw_g (lw_at lw_m7 86 rfl) rfl
theorem q1620 : (Jvm.Cond.codeWith ({ cls := "SignalWaves", name := "node", desc := "()I" } : Jvm.MethodName) prog_1_method_8_code (4 : Nat) (Option.some Jvm.ClassFile.FieldType.int) [((0 : Nat), (12 : Nat), (15 : Nat), (85 : Nat))]) ∈ lw_all := lw_g (lw_at lw_m7 87 rfl) rfl
theorem q1621 : (Jvm.Cond.methodLink "SignalWaves" (96 : Nat) ({ cls := "SignalWaves$Reader", name := "names", desc := "()Ljava/util/List;" } : Jvm.MethodName)) ∈ lw_all := lw_g (lw_at lw_m7 88 rfl) rfl
theorem q1627 : (Jvm.Cond.interfaceEntry "SignalWaves" (104 : Nat)) ∈ lw_tbl := lw_at lw_m7 94 rfl
theorem q1628 : (Jvm.Cond.methodLink "SignalWaves" (104 : Nat) ({ cls := "java/util/List", name := "iterator", desc := "()Ljava/util/Iterator;" } : Jvm.MethodName)) ∈ lw_all := lw_g (lw_at lw_m7 95 rfl) rfl
theorem q1629 : (Jvm.Cond.interfaceEntry "SignalWaves" (110 : Nat)) ∈ lw_tbl := lw_at lw_m7 96 rfl
theorem q1630 : (Jvm.Cond.methodLink "SignalWaves" (110 : Nat) ({ cls := "java/util/Iterator", name := "hasNext", desc := "()Z" } : Jvm.MethodName)) ∈ lw_all := lw_g (lw_at lw_m7 97 rfl) rfl
theorem q1631 : (Jvm.Cond.interfaceEntry "SignalWaves" (116 : Nat)) ∈ lw_tbl := lw_at lw_m7 98 rfl
theorem q1632 : (Jvm.Cond.methodLink "SignalWaves" (116 : Nat) ({ cls := "java/util/Iterator", name := "next", desc := "()Ljava/lang/Object;" } : Jvm.MethodName)) ∈ lw_all := lw_g (lw_at lw_m7 99 rfl) rfl
theorem q1633 : (Jvm.Cond.classLink "SignalWaves" (120 : Nat) "SignalWaves$Node") ∈ lw_all := lw_g (lw_at lw_m7 100 rfl) rfl
theorem q1634 : (Jvm.Cond.methodLink "SignalWaves" (122 : Nat) ({ cls := "SignalWaves$Node", name := "names", desc := "()Ljava/util/List;" } : Jvm.MethodName)) ∈ lw_all := lw_g (lw_at lw_m7 101 rfl) rfl
theorem q1649 : (Jvm.Cond.interfaceEntry "SignalWaves" (123 : Nat)) ∈ lw_tbl := lw_at lw_m7 116 rfl
theorem q1650 : (Jvm.Cond.methodLink "SignalWaves" (123 : Nat) ({ cls := "java/util/List", name := "equals", desc := "(Ljava/lang/Object;)Z" } : Jvm.MethodName)) ∈ lw_all := lw_g (lw_at lw_m7 117 rfl) rfl
theorem q1672 : (Jvm.Cond.selects "SignalWaves" ({ cls := "java/lang/Object", name := "equals", desc := "(Ljava/lang/Object;)Z" } : Jvm.MethodName) ({ cls := "java/lang/Object", name := "equals", desc := "(Ljava/lang/Object;)Z" } : Jvm.MethodName)) ∈ lw_all := lw_g (lw_at lw_m7 139 rfl) rfl
theorem q1718 : (Jvm.Cond.instanceMethod ({ cls := "SignalWaves", name := "about", desc := "(II)I" } : Jvm.MethodName)) ∈ lw_all := lw_g (lw_at lw_m7 185 rfl) rfl
theorem q1719 : (Jvm.Cond.selects "SignalWaves" ({ cls := "SignalWaves", name := "about", desc := "(II)I" } : Jvm.MethodName) ({ cls := "SignalWaves", name := "about", desc := "(II)I" } : Jvm.MethodName)) ∈ lw_all := lw_g (lw_at lw_m7 186 rfl) rfl
theorem q1720 : (Jvm.Cond.code ({ cls := "SignalWaves", name := "about", desc := "(II)I" } : Jvm.MethodName) prog_1_method_12_code (5 : Nat) (Option.some Jvm.ClassFile.FieldType.int)) ∈ lw_all := lw_g (lw_at lw_m7 187 rfl) rfl
theorem q1721 : (Jvm.Cond.methodLink "SignalWaves" (134 : Nat) ({ cls := "SignalWaves", name := "isNode", desc := "(I)Z" } : Jvm.MethodName)) ∈ lw_all := lw_g (lw_at lw_m7 188 rfl) rfl
theorem q1722 : (Jvm.Cond.privateMethod ({ cls := "SignalWaves", name := "isNode", desc := "(I)Z" } : Jvm.MethodName)) ∈ lw_tbl := lw_at lw_m7 189 rfl
theorem q1723 : (Jvm.Cond.instanceMethod ({ cls := "SignalWaves", name := "isNode", desc := "(I)Z" } : Jvm.MethodName)) ∈ lw_all := lw_g (lw_at lw_m7 190 rfl) rfl
theorem q1724 : (Jvm.Cond.code ({ cls := "SignalWaves", name := "isNode", desc := "(I)Z" } : Jvm.MethodName) prog_1_method_9_code (2 : Nat) (Option.some Jvm.ClassFile.FieldType.boolean)) ∈ lw_all := lw_g (lw_at lw_m7 191 rfl) rfl
theorem q1725 : (Jvm.Cond.interfaceEntry "SignalWaves" (130 : Nat)) ∈ lw_tbl := lw_at lw_m7 192 rfl
theorem q1726 : (Jvm.Cond.methodLink "SignalWaves" (130 : Nat) ({ cls := "java/util/List", name := "size", desc := "()I" } : Jvm.MethodName)) ∈ lw_all := lw_g (lw_at lw_m7 193 rfl) rfl
theorem q1727 : (Jvm.Cond.interfaceEntry "SignalWaves" (138 : Nat)) ∈ lw_tbl := lw_at lw_m7 194 rfl
theorem q1728 : (Jvm.Cond.methodLink "SignalWaves" (138 : Nat) ({ cls := "java/util/List", name := "get", desc := "(I)Ljava/lang/Object;" } : Jvm.MethodName)) ∈ lw_all := lw_g (lw_at lw_m7 195 rfl) rfl
theorem q1746 : (Jvm.Cond.methodLink "SignalWaves" (159 : Nat) ({ cls := "SignalWaves$Scope", name := "numberOrNone", desc := "()I" } : Jvm.MethodName)) ∈ lw_all := lw_g (lw_at lw_m7 213 rfl) rfl
theorem q1750 : (Jvm.Cond.methodLink "SignalWaves" (168 : Nat) ({ cls := "[I", name := "clone", desc := "()Ljava/lang/Object;" } : Jvm.MethodName)) ∈ lw_all := lw_g (lw_at lw_m7 217 rfl) rfl
theorem q1751 : (Jvm.Cond.classLink "SignalWaves" (169 : Nat) "[I") ∈ lw_all := lw_g (lw_at lw_m7 218 rfl) rfl
theorem q1752 : (Jvm.Cond.methodLink "SignalWaves" (172 : Nat) ({ cls := "SignalWaves$Book", name := "works", desc := "([I)V" } : Jvm.MethodName)) ∈ lw_all := lw_g (lw_at lw_m7 219 rfl) rfl
theorem q1778 : (Jvm.Cond.instanceMethod ({ cls := "SignalWaves", name := "scope", desc := "(II)I" } : Jvm.MethodName)) ∈ lw_all := lw_g (lw_at lw_m8 5 rfl) rfl
theorem q1779 : (Jvm.Cond.selects "SignalWaves" ({ cls := "SignalWaves", name := "scope", desc := "(II)I" } : Jvm.MethodName) ({ cls := "SignalWaves", name := "scope", desc := "(II)I" } : Jvm.MethodName)) ∈ lw_all := lw_g (lw_at lw_m8 6 rfl) rfl
theorem q1780 : (Jvm.Cond.code ({ cls := "SignalWaves", name := "scope", desc := "(II)I" } : Jvm.MethodName) prog_1_method_13_code (4 : Nat) (Option.some Jvm.ClassFile.FieldType.int)) ∈ lw_all := lw_g (lw_at lw_m8 7 rfl) rfl
theorem q1781 : (Jvm.Cond.classLink "SignalWaves" (160 : Nat) "SignalWaves$Scope") ∈ lw_all := lw_g (lw_at lw_m8 8 rfl) rfl
theorem q1783 : (Jvm.Cond.instanceMethod ({ cls := "SignalWaves", name := "listed", desc := "(II)I" } : Jvm.MethodName)) ∈ lw_all := lw_g (lw_at lw_m8 10 rfl) rfl
theorem q1784 : (Jvm.Cond.selects "SignalWaves" ({ cls := "SignalWaves", name := "listed", desc := "(II)I" } : Jvm.MethodName) ({ cls := "SignalWaves", name := "listed", desc := "(II)I" } : Jvm.MethodName)) ∈ lw_all := lw_g (lw_at lw_m8 11 rfl) rfl
theorem q1785 : (Jvm.Cond.code ({ cls := "SignalWaves", name := "listed", desc := "(II)I" } : Jvm.MethodName) prog_1_method_14_code (6 : Nat) (Option.some Jvm.ClassFile.FieldType.int)) ∈ lw_all := lw_g (lw_at lw_m8 12 rfl) rfl
theorem q1786 : (Jvm.Cond.methodLink "SignalWaves" (188 : Nat) ({ cls := "java/util/TreeMap", name := "values", desc := "()Ljava/util/Collection;" } : Jvm.MethodName)) ∈ lw_all := lw_g (lw_at lw_m8 13 rfl) rfl
theorem q1800 : (Jvm.Cond.interfaceEntry "SignalWaves" (193 : Nat)) ∈ lw_tbl := lw_at lw_m8 27 rfl
theorem q1801 : (Jvm.Cond.methodLink "SignalWaves" (193 : Nat) ({ cls := "java/util/Collection", name := "iterator", desc := "()Ljava/util/Iterator;" } : Jvm.MethodName)) ∈ lw_all := lw_g (lw_at lw_m8 28 rfl) rfl
theorem q1955 : (Jvm.Cond.classLink "SignalWaves" (196 : Nat) "SignalWaves$Named") ∈ lw_all := lw_g (lw_at lw_m8 182 rfl) rfl
theorem q1956 : (Jvm.Cond.methodLink "SignalWaves" (198 : Nat) ({ cls := "SignalWaves$Named", name := "listed", desc := "()I" } : Jvm.MethodName)) ∈ lw_all := lw_g (lw_at lw_m8 183 rfl) rfl
theorem q1966 : (Jvm.Cond.instanceMethod ({ cls := "SignalWaves", name := "path", desc := "(II)I" } : Jvm.MethodName)) ∈ lw_all := lw_g (lw_at lw_m8 193 rfl) rfl
theorem q1967 : (Jvm.Cond.selects "SignalWaves" ({ cls := "SignalWaves", name := "path", desc := "(II)I" } : Jvm.MethodName) ({ cls := "SignalWaves", name := "path", desc := "(II)I" } : Jvm.MethodName)) ∈ lw_all := lw_g (lw_at lw_m8 194 rfl) rfl
theorem q1968 : (Jvm.Cond.code ({ cls := "SignalWaves", name := "path", desc := "(II)I" } : Jvm.MethodName) prog_1_method_15_code (4 : Nat) (Option.some Jvm.ClassFile.FieldType.int)) ∈ lw_all := lw_g (lw_at lw_m8 195 rfl) rfl
theorem q1969 : (Jvm.Cond.classLink "SignalWaves" (201 : Nat) "java/lang/Integer") ∈ lw_all := lw_g (lw_at lw_m8 196 rfl) rfl
theorem q1970 : (Jvm.Cond.methodLink "SignalWaves" (203 : Nat) ({ cls := "java/lang/Integer", name := "intValue", desc := "()I" } : Jvm.MethodName)) ∈ lw_all := lw_g (lw_at lw_m8 197 rfl) rfl
theorem q1972 : (Jvm.Cond.instanceMethod ({ cls := "SignalWaves", name := "sets", desc := "(II)I" } : Jvm.MethodName)) ∈ lw_all := lw_g (lw_at lw_m8 199 rfl) rfl
theorem q1973 : (Jvm.Cond.selects "SignalWaves" ({ cls := "SignalWaves", name := "sets", desc := "(II)I" } : Jvm.MethodName) ({ cls := "SignalWaves", name := "sets", desc := "(II)I" } : Jvm.MethodName)) ∈ lw_all := lw_g (lw_at lw_m8 200 rfl) rfl
theorem q1974 : (Jvm.Cond.code ({ cls := "SignalWaves", name := "sets", desc := "(II)I" } : Jvm.MethodName) prog_1_method_16_code (3 : Nat) (Option.some Jvm.ClassFile.FieldType.int)) ∈ lw_all := lw_g (lw_at lw_m8 201 rfl) rfl
theorem q1975 : (Jvm.Cond.methodLink "SignalWaves" (206 : Nat) ({ cls := "SignalWaves", name := "isWire", desc := "(I)Z" } : Jvm.MethodName)) ∈ lw_all := lw_g (lw_at lw_m8 202 rfl) rfl
theorem q1976 : (Jvm.Cond.privateMethod ({ cls := "SignalWaves", name := "isWire", desc := "(I)Z" } : Jvm.MethodName)) ∈ lw_tbl := lw_at lw_m8 203 rfl
theorem q1977 : (Jvm.Cond.instanceMethod ({ cls := "SignalWaves", name := "isWire", desc := "(I)Z" } : Jvm.MethodName)) ∈ lw_all := lw_g (lw_at lw_m8 204 rfl) rfl
theorem q1978 : (Jvm.Cond.code ({ cls := "SignalWaves", name := "isWire", desc := "(I)Z" } : Jvm.MethodName) prog_1_method_10_code (2 : Nat) (Option.some Jvm.ClassFile.FieldType.boolean)) ∈ lw_all := lw_g (lw_at lw_m8 205 rfl) rfl
theorem q1979 : (Jvm.Cond.methodLink "SignalWaves" (209 : Nat) ({ cls := "SignalWaves", name := "notes", desc := "()V" } : Jvm.MethodName)) ∈ lw_all := lw_g (lw_at lw_m8 206 rfl) rfl
theorem q1980 : (Jvm.Cond.privateMethod ({ cls := "SignalWaves", name := "notes", desc := "()V" } : Jvm.MethodName)) ∈ lw_tbl := lw_at lw_m8 207 rfl
theorem q1981 : (Jvm.Cond.instanceMethod ({ cls := "SignalWaves", name := "notes", desc := "()V" } : Jvm.MethodName)) ∈ lw_all := lw_g (lw_at lw_m8 208 rfl) rfl
theorem q1982 : (Jvm.Cond.code ({ cls := "SignalWaves", name := "notes", desc := "()V" } : Jvm.MethodName) prog_1_method_4_code (1 : Nat) (Option.none : Option Jvm.ClassFile.FieldType)) ∈ lw_all := lw_g (lw_at lw_m8 209 rfl) rfl
theorem q1983 : (Jvm.Cond.methodLink "SignalWaves" (60 : Nat) ({ cls := "java/lang/System", name := "arraycopy", desc := "(Ljava/lang/Object;ILjava/lang/Object;II)V" } : Jvm.MethodName)) ∈ lw_all := lw_g (lw_at lw_m8 210 rfl) rfl
theorem q1984 : (Jvm.Cond.methodLink "SignalWaves" (66 : Nat) ({ cls := "SignalWaves$Wave", name := "copy", desc := "()LSignalWaves$Wave;" } : Jvm.MethodName)) ∈ lw_all := lw_g (lw_at lw_m8 211 rfl) rfl
theorem q2063 : (Jvm.Cond.methodLink "SignalWaves" (212 : Nat) ({ cls := "SignalWaves$Wave", name := "changes", desc := "(II)V" } : Jvm.MethodName)) ∈ lw_all := lw_g (lw_at lw_m9 50 rfl) rfl
theorem q2123 : (Jvm.Cond.fieldLinkNest "SignalWaves" (248 : Nat) "SignalWaves$Change" "time" "I" "SignalWaves") ∈ lw_tbl := lw_at lw_m9 110 rfl
theorem q2125 : (Jvm.Cond.fieldLinkNest "SignalWaves" (245 : Nat) "SignalWaves$Change" "wire" "I" "SignalWaves") ∈ lw_tbl := lw_at lw_m9 112 rfl
theorem q2127 : (Jvm.Cond.fieldLinkNest "SignalWaves" (249 : Nat) "SignalWaves$Change" "value" "I" "SignalWaves") ∈ lw_tbl := lw_at lw_m9 114 rfl
theorem q2138 : (Jvm.Cond.instanceMethod ({ cls := "SignalWaves", name := "passes", desc := "(I)I" } : Jvm.MethodName)) ∈ lw_all := lw_g (lw_at lw_m9 125 rfl) rfl
theorem q2139 : (Jvm.Cond.selects "SignalWaves" ({ cls := "SignalWaves", name := "passes", desc := "(I)I" } : Jvm.MethodName) ({ cls := "SignalWaves", name := "passes", desc := "(I)I" } : Jvm.MethodName)) ∈ lw_all := lw_g (lw_at lw_m9 126 rfl) rfl
theorem q2140 : (Jvm.Cond.code ({ cls := "SignalWaves", name := "passes", desc := "(I)I" } : Jvm.MethodName) prog_1_method_17_code (2 : Nat) (Option.some Jvm.ClassFile.FieldType.int)) ∈ lw_all := lw_g (lw_at lw_m9 127 rfl) rfl
theorem q2142 : (Jvm.Cond.instanceMethod ({ cls := "SignalWaves", name := "dumps", desc := "(I)I" } : Jvm.MethodName)) ∈ lw_all := lw_g (lw_at lw_m9 129 rfl) rfl
theorem q2143 : (Jvm.Cond.selects "SignalWaves" ({ cls := "SignalWaves", name := "dumps", desc := "(I)I" } : Jvm.MethodName) ({ cls := "SignalWaves", name := "dumps", desc := "(I)I" } : Jvm.MethodName)) ∈ lw_all := lw_g (lw_at lw_m9 130 rfl) rfl
theorem q2144 : (Jvm.Cond.code ({ cls := "SignalWaves", name := "dumps", desc := "(I)I" } : Jvm.MethodName) prog_1_method_18_code (2 : Nat) (Option.some Jvm.ClassFile.FieldType.int)) ∈ lw_all := lw_g (lw_at lw_m9 131 rfl) rfl
theorem q2145 : (Jvm.Cond.methodLink "SignalWaves" (220 : Nat) ({ cls := "SignalWaves$Wave", name := "goesOff", desc := "()V" } : Jvm.MethodName)) ∈ lw_all := lw_g (lw_at lw_m9 132 rfl) rfl
theorem q2149 : (Jvm.Cond.methodLink "SignalWaves" (227 : Nat) ({ cls := "java/util/TreeSet", name := "size", desc := "()I" } : Jvm.MethodName)) ∈ lw_all := lw_g (lw_at lw_m9 136 rfl) rfl
theorem q2151 : (Jvm.Cond.instanceMethod ({ cls := "SignalWaves", name := "sizes", desc := "(I)I" } : Jvm.MethodName)) ∈ lw_all := lw_g (lw_at lw_m9 138 rfl) rfl
theorem q2152 : (Jvm.Cond.selects "SignalWaves" ({ cls := "SignalWaves", name := "sizes", desc := "(I)I" } : Jvm.MethodName) ({ cls := "SignalWaves", name := "sizes", desc := "(I)I" } : Jvm.MethodName)) ∈ lw_all := lw_g (lw_at lw_m9 139 rfl) rfl
theorem q2153 : (Jvm.Cond.code ({ cls := "SignalWaves", name := "sizes", desc := "(I)I" } : Jvm.MethodName) prog_1_method_19_code (3 : Nat) (Option.some Jvm.ClassFile.FieldType.int)) ∈ lw_all := lw_g (lw_at lw_m9 140 rfl) rfl
theorem q2155 : (Jvm.Cond.instanceMethod ({ cls := "SignalWaves", name := "undo", desc := "()I" } : Jvm.MethodName)) ∈ lw_all := lw_g (lw_at lw_m9 142 rfl) rfl
theorem q2156 : (Jvm.Cond.selects "SignalWaves" ({ cls := "SignalWaves", name := "undo", desc := "()I" } : Jvm.MethodName) ({ cls := "SignalWaves", name := "undo", desc := "()I" } : Jvm.MethodName)) ∈ lw_all := lw_g (lw_at lw_m9 143 rfl) rfl
theorem q2157 : (Jvm.Cond.code ({ cls := "SignalWaves", name := "undo", desc := "()I" } : Jvm.MethodName) prog_1_method_20_code (1 : Nat) (Option.some Jvm.ClassFile.FieldType.int)) ∈ lw_all := lw_g (lw_at lw_m9 144 rfl) rfl
theorem q2159 : (Jvm.Cond.instanceMethod ({ cls := "SignalWaves", name := "at", desc := "(II)I" } : Jvm.MethodName)) ∈ lw_all := lw_g (lw_at lw_m9 146 rfl) rfl
theorem q2160 : (Jvm.Cond.selects "SignalWaves" ({ cls := "SignalWaves", name := "at", desc := "(II)I" } : Jvm.MethodName) ({ cls := "SignalWaves", name := "at", desc := "(II)I" } : Jvm.MethodName)) ∈ lw_all := lw_g (lw_at lw_m9 147 rfl) rfl
theorem q2161 : (Jvm.Cond.code ({ cls := "SignalWaves", name := "at", desc := "(II)I" } : Jvm.MethodName) prog_1_method_24_code (3 : Nat) (Option.some Jvm.ClassFile.FieldType.int)) ∈ lw_all := lw_g (lw_at lw_m9 148 rfl) rfl
theorem q2162 : (Jvm.Cond.methodLink "SignalWaves" (256 : Nat) ({ cls := "SignalWaves", name := "isTime", desc := "(I)Z" } : Jvm.MethodName)) ∈ lw_all := lw_g (lw_at lw_m9 149 rfl) rfl
theorem q2163 : (Jvm.Cond.privateMethod ({ cls := "SignalWaves", name := "isTime", desc := "(I)Z" } : Jvm.MethodName)) ∈ lw_tbl := lw_at lw_m9 150 rfl
theorem q2164 : (Jvm.Cond.instanceMethod ({ cls := "SignalWaves", name := "isTime", desc := "(I)Z" } : Jvm.MethodName)) ∈ lw_all := lw_g (lw_at lw_m9 151 rfl) rfl
theorem q2165 : (Jvm.Cond.code ({ cls := "SignalWaves", name := "isTime", desc := "(I)Z" } : Jvm.MethodName) prog_1_method_11_code (2 : Nat) (Option.some Jvm.ClassFile.FieldType.boolean)) ∈ lw_all := lw_g (lw_at lw_m9 152 rfl) rfl
theorem q2166 : (Jvm.Cond.methodLink "SignalWaves" (252 : Nat) ({ cls := "SignalWaves", name := "rowAt", desc := "(I)[I" } : Jvm.MethodName)) ∈ lw_all := lw_g (lw_at lw_m9 153 rfl) rfl
theorem q2167 : (Jvm.Cond.privateMethod ({ cls := "SignalWaves", name := "rowAt", desc := "(I)[I" } : Jvm.MethodName)) ∈ lw_tbl := lw_at lw_m9 154 rfl
theorem q2168 : (Jvm.Cond.instanceMethod ({ cls := "SignalWaves", name := "rowAt", desc := "(I)[I" } : Jvm.MethodName)) ∈ lw_all := lw_g (lw_at lw_m9 155 rfl) rfl
theorem q2169 : (Jvm.Cond.code ({ cls := "SignalWaves", name := "rowAt", desc := "(I)[I" } : Jvm.MethodName) prog_1_method_21_code (5 : Nat) (Option.some (Jvm.ClassFile.FieldType.array Jvm.ClassFile.FieldType.int))) ∈ lw_all := lw_g (lw_at lw_m9 156 rfl) rfl
theorem q2170 : (Jvm.Cond.methodLink "SignalWaves" (232 : Nat) ({ cls := "SignalWaves$Wave", name := "by", desc := "(I)LSignalWaves$Block;" } : Jvm.MethodName)) ∈ lw_all := lw_g (lw_at lw_m9 157 rfl) rfl
theorem q2210 : (Jvm.Cond.classLink "SignalWaves" (243 : Nat) "SignalWaves$Change") ∈ lw_all := lw_g (lw_at lw_m9 197 rfl) rfl
theorem q2212 : (Jvm.Cond.instanceMethod ({ cls := "SignalWaves", name := "edges", desc := "(IIII)I" } : Jvm.MethodName)) ∈ lw_all := lw_g (lw_at lw_m9 199 rfl) rfl
theorem q2213 : (Jvm.Cond.selects "SignalWaves" ({ cls := "SignalWaves", name := "edges", desc := "(IIII)I" } : Jvm.MethodName) ({ cls := "SignalWaves", name := "edges", desc := "(IIII)I" } : Jvm.MethodName)) ∈ lw_all := lw_g (lw_at lw_m9 200 rfl) rfl
theorem q2214 : (Jvm.Cond.code ({ cls := "SignalWaves", name := "edges", desc := "(IIII)I" } : Jvm.MethodName) prog_1_method_26_code (8 : Nat) (Option.some Jvm.ClassFile.FieldType.int)) ∈ lw_all := lw_g (lw_at lw_m9 201 rfl) rfl
theorem q2215 : (Jvm.Cond.methodLink "SignalWaves" (259 : Nat) ({ cls := "SignalWaves", name := "isKind", desc := "(I)Z" } : Jvm.MethodName)) ∈ lw_all := lw_g (lw_at lw_m9 202 rfl) rfl
theorem q2216 : (Jvm.Cond.static ({ cls := "SignalWaves", name := "isKind", desc := "(I)Z" } : Jvm.MethodName)) ∈ lw_all := lw_g (lw_at lw_m9 203 rfl) rfl
theorem q2217 : (Jvm.Cond.code ({ cls := "SignalWaves", name := "isKind", desc := "(I)Z" } : Jvm.MethodName) prog_1_method_25_code (1 : Nat) (Option.some Jvm.ClassFile.FieldType.boolean)) ∈ lw_all := lw_g (lw_at lw_m9 204 rfl) rfl
theorem q2218 : (Jvm.Cond.methodLink "SignalWaves" (262 : Nat) ({ cls := "SignalWaves", name := "wave", desc := "(I)[I" } : Jvm.MethodName)) ∈ lw_all := lw_g (lw_at lw_m9 205 rfl) rfl
theorem q2219 : (Jvm.Cond.privateMethod ({ cls := "SignalWaves", name := "wave", desc := "(I)[I" } : Jvm.MethodName)) ∈ lw_tbl := lw_at lw_m9 206 rfl
theorem q2220 : (Jvm.Cond.instanceMethod ({ cls := "SignalWaves", name := "wave", desc := "(I)[I" } : Jvm.MethodName)) ∈ lw_all := lw_g (lw_at lw_m9 207 rfl) rfl
theorem q2221 : (Jvm.Cond.code ({ cls := "SignalWaves", name := "wave", desc := "(I)[I" } : Jvm.MethodName) prog_1_method_22_code (4 : Nat) (Option.some (Jvm.ClassFile.FieldType.array Jvm.ClassFile.FieldType.int))) ∈ lw_all := lw_g (lw_at lw_m9 208 rfl) rfl
theorem q2222 : (Jvm.Cond.methodLink "SignalWaves" (265 : Nat) ({ cls := "SignalWaves", name := "isEdge", desc := "([III)Z" } : Jvm.MethodName)) ∈ lw_all := lw_g (lw_at lw_m9 209 rfl) rfl
theorem q2223 : (Jvm.Cond.privateMethod ({ cls := "SignalWaves", name := "isEdge", desc := "([III)Z" } : Jvm.MethodName)) ∈ lw_tbl := lw_at lw_m9 210 rfl
theorem q2224 : (Jvm.Cond.instanceMethod ({ cls := "SignalWaves", name := "isEdge", desc := "([III)Z" } : Jvm.MethodName)) ∈ lw_all := lw_g (lw_at lw_m9 211 rfl) rfl
theorem q2225 : (Jvm.Cond.code ({ cls := "SignalWaves", name := "isEdge", desc := "([III)Z" } : Jvm.MethodName) prog_1_method_23_code (4 : Nat) (Option.some Jvm.ClassFile.FieldType.boolean)) ∈ lw_all := lw_g (lw_at lw_m9 212 rfl) rfl
theorem q2227 : (Jvm.Cond.instanceMethod ({ cls := "SignalWaves", name := "next", desc := "(III)I" } : Jvm.MethodName)) ∈ lw_all := lw_g (lw_at lw_m9 214 rfl) rfl
theorem q2228 : (Jvm.Cond.selects "SignalWaves" ({ cls := "SignalWaves", name := "next", desc := "(III)I" } : Jvm.MethodName) ({ cls := "SignalWaves", name := "next", desc := "(III)I" } : Jvm.MethodName)) ∈ lw_all := lw_g (lw_at lw_m9 215 rfl) rfl
theorem q2229 : (Jvm.Cond.code ({ cls := "SignalWaves", name := "next", desc := "(III)I" } : Jvm.MethodName) prog_1_method_27_code (4 : Nat) (Option.some Jvm.ClassFile.FieldType.int)) ∈ lw_all := lw_g (lw_at lw_m9 216 rfl) rfl
theorem q2230 : (Jvm.Cond.methodLink "SignalWaves" (269 : Nat) ({ cls := "SignalWaves", name := "edgeFrom", desc := "([III)I" } : Jvm.MethodName)) ∈ lw_all := lw_g (lw_at lw_m9 217 rfl) rfl
theorem q2231 : (Jvm.Cond.privateMethod ({ cls := "SignalWaves", name := "edgeFrom", desc := "([III)I" } : Jvm.MethodName)) ∈ lw_tbl := lw_at lw_m9 218 rfl
theorem q2232 : (Jvm.Cond.instanceMethod ({ cls := "SignalWaves", name := "edgeFrom", desc := "([III)I" } : Jvm.MethodName)) ∈ lw_all := lw_g (lw_at lw_m9 219 rfl) rfl
theorem q2233 : (Jvm.Cond.code ({ cls := "SignalWaves", name := "edgeFrom", desc := "([III)I" } : Jvm.MethodName) prog_1_method_28_code (5 : Nat) (Option.some Jvm.ClassFile.FieldType.int)) ∈ lw_all := lw_g (lw_at lw_m9 220 rfl) rfl
theorem q2235 : (Jvm.Cond.instanceMethod ({ cls := "SignalWaves", name := "previous", desc := "(III)I" } : Jvm.MethodName)) ∈ lw_all := lw_g (lw_at lw_m9 222 rfl) rfl
theorem q2236 : (Jvm.Cond.selects "SignalWaves" ({ cls := "SignalWaves", name := "previous", desc := "(III)I" } : Jvm.MethodName) ({ cls := "SignalWaves", name := "previous", desc := "(III)I" } : Jvm.MethodName)) ∈ lw_all := lw_g (lw_at lw_m9 223 rfl) rfl
theorem q2237 : (Jvm.Cond.code ({ cls := "SignalWaves", name := "previous", desc := "(III)I" } : Jvm.MethodName) prog_1_method_29_code (6 : Nat) (Option.some Jvm.ClassFile.FieldType.int)) ∈ lw_all := lw_g (lw_at lw_m9 224 rfl) rfl
theorem q2239 : (Jvm.Cond.instanceMethod ({ cls := "SignalWaves", name := "first", desc := "(III)I" } : Jvm.MethodName)) ∈ lw_all := lw_g (lw_at lw_m9 226 rfl) rfl
theorem q2240 : (Jvm.Cond.selects "SignalWaves" ({ cls := "SignalWaves", name := "first", desc := "(III)I" } : Jvm.MethodName) ({ cls := "SignalWaves", name := "first", desc := "(III)I" } : Jvm.MethodName)) ∈ lw_all := lw_g (lw_at lw_m9 227 rfl) rfl
theorem q2241 : (Jvm.Cond.code ({ cls := "SignalWaves", name := "first", desc := "(III)I" } : Jvm.MethodName) prog_1_method_31_code (6 : Nat) (Option.some Jvm.ClassFile.FieldType.int)) ∈ lw_all := lw_g (lw_at lw_m9 228 rfl) rfl
theorem q2242 : (Jvm.Cond.methodLink "SignalWaves" (273 : Nat) ({ cls := "SignalWaves", name := "isValue", desc := "(I)Z" } : Jvm.MethodName)) ∈ lw_all := lw_g (lw_at lw_m9 229 rfl) rfl
theorem q2243 : (Jvm.Cond.static ({ cls := "SignalWaves", name := "isValue", desc := "(I)Z" } : Jvm.MethodName)) ∈ lw_all := lw_g (lw_at lw_m9 230 rfl) rfl
theorem q2244 : (Jvm.Cond.code ({ cls := "SignalWaves", name := "isValue", desc := "(I)Z" } : Jvm.MethodName) prog_1_method_30_code (1 : Nat) (Option.some Jvm.ClassFile.FieldType.boolean)) ∈ lw_all := lw_g (lw_at lw_m9 231 rfl) rfl
theorem q2246 : (Jvm.Cond.instanceMethod ({ cls := "SignalWaves", name := "holds", desc := "(III)I" } : Jvm.MethodName)) ∈ lw_all := lw_g (lw_at lw_m9 233 rfl) rfl
theorem q2247 : (Jvm.Cond.selects "SignalWaves" ({ cls := "SignalWaves", name := "holds", desc := "(III)I" } : Jvm.MethodName) ({ cls := "SignalWaves", name := "holds", desc := "(III)I" } : Jvm.MethodName)) ∈ lw_all := lw_g (lw_at lw_m9 234 rfl) rfl
theorem q2248 : (Jvm.Cond.code ({ cls := "SignalWaves", name := "holds", desc := "(III)I" } : Jvm.MethodName) prog_1_method_32_code (7 : Nat) (Option.some Jvm.ClassFile.FieldType.int)) ∈ lw_all := lw_g (lw_at lw_m9 235 rfl) rfl
theorem q2250 : (Jvm.Cond.instanceMethod ({ cls := "SignalWaves", name := "ticks", desc := "(II)I" } : Jvm.MethodName)) ∈ lw_all := lw_g (lw_at lw_m9 237 rfl) rfl
theorem q2251 : (Jvm.Cond.selects "SignalWaves" ({ cls := "SignalWaves", name := "ticks", desc := "(II)I" } : Jvm.MethodName) ({ cls := "SignalWaves", name := "ticks", desc := "(II)I" } : Jvm.MethodName)) ∈ lw_all := lw_g (lw_at lw_m9 238 rfl) rfl
theorem q2252 : (Jvm.Cond.code ({ cls := "SignalWaves", name := "ticks", desc := "(II)I" } : Jvm.MethodName) prog_1_method_34_code (7 : Nat) (Option.some Jvm.ClassFile.FieldType.int)) ∈ lw_all := lw_g (lw_at lw_m9 239 rfl) rfl
theorem q2253 : (Jvm.Cond.classLink "SignalWaves" (277 : Nat) "java/util/PriorityQueue") ∈ lw_all := lw_g (lw_at lw_m10 0 rfl) rfl
theorem q2255 : (Jvm.Cond.methodLink "SignalWaves" (281 : Nat) ({ cls := "java/util/PriorityQueue", name := "<init>", desc := "()V" } : Jvm.MethodName)) ∈ lw_all := lw_g (lw_at lw_m10 2 rfl) rfl
theorem q2282 : (Jvm.Cond.methodLink "SignalWaves" (282 : Nat) ({ cls := "SignalWaves", name := "has", desc := "(II)Z" } : Jvm.MethodName)) ∈ lw_all := lw_g (lw_at lw_m10 29 rfl) rfl
theorem q2283 : (Jvm.Cond.static ({ cls := "SignalWaves", name := "has", desc := "(II)Z" } : Jvm.MethodName)) ∈ lw_all := lw_g (lw_at lw_m10 30 rfl) rfl
theorem q2284 : (Jvm.Cond.code ({ cls := "SignalWaves", name := "has", desc := "(II)Z" } : Jvm.MethodName) prog_1_method_2_code (2 : Nat) (Option.some Jvm.ClassFile.FieldType.boolean)) ∈ lw_all := lw_g (lw_at lw_m10 31 rfl) rfl
theorem q2285 : (Jvm.Cond.classLink "SignalWaves" (286 : Nat) "SignalWaves$Tick") ∈ lw_all := lw_g (lw_at lw_m10 32 rfl) rfl
theorem q2287 : (Jvm.Cond.methodLink "SignalWaves" (288 : Nat) ({ cls := "SignalWaves$Tick", name := "<init>", desc := "(LSignalWaves;[II)V" } : Jvm.MethodName)) ∈ lw_all := lw_g (lw_at lw_m10 34 rfl) rfl
theorem q2293 : (Jvm.Cond.fieldLinkNest "SignalWaves" (304 : Nat) "SignalWaves$Tick" "time" "I" "SignalWaves") ∈ lw_tbl := lw_at lw_m10 40 rfl
theorem q2302 : (Jvm.Cond.methodLink "SignalWaves" (291 : Nat) ({ cls := "SignalWaves$Tick", name := "next", desc := "()LSignalWaves$Tick;" } : Jvm.MethodName)) ∈ lw_all := lw_g (lw_at lw_m10 49 rfl) rfl
theorem q2308 : (Jvm.Cond.methodLink "SignalWaves" (294 : Nat) ({ cls := "SignalWaves", name := "waits", desc := "(LSignalWaves$Tick;Ljava/util/PriorityQueue;)V" } : Jvm.MethodName)) ∈ lw_all := lw_g (lw_at lw_m10 55 rfl) rfl
theorem q2309 : (Jvm.Cond.privateMethod ({ cls := "SignalWaves", name := "waits", desc := "(LSignalWaves$Tick;Ljava/util/PriorityQueue;)V" } : Jvm.MethodName)) ∈ lw_tbl := lw_at lw_m10 56 rfl
theorem q2310 : (Jvm.Cond.instanceMethod ({ cls := "SignalWaves", name := "waits", desc := "(LSignalWaves$Tick;Ljava/util/PriorityQueue;)V" } : Jvm.MethodName)) ∈ lw_all := lw_g (lw_at lw_m10 57 rfl) rfl
theorem q2311 : (Jvm.Cond.code ({ cls := "SignalWaves", name := "waits", desc := "(LSignalWaves$Tick;Ljava/util/PriorityQueue;)V" } : Jvm.MethodName) prog_1_method_33_code (3 : Nat) (Option.none : Option Jvm.ClassFile.FieldType)) ∈ lw_all := lw_g (lw_at lw_m10 58 rfl) rfl
theorem q2312 : (Jvm.Cond.methodLink "SignalWaves" (276 : Nat) ({ cls := "java/util/PriorityQueue", name := "add", desc := "(Ljava/lang/Object;)Z" } : Jvm.MethodName)) ∈ lw_all := lw_g (lw_at lw_m10 59 rfl) rfl
theorem q2340 : (Jvm.Cond.methodLink "SignalWaves" (298 : Nat) ({ cls := "java/util/PriorityQueue", name := "isEmpty", desc := "()Z" } : Jvm.MethodName)) ∈ lw_all := lw_g (lw_at lw_m10 87 rfl) rfl
theorem q2346 : (Jvm.Cond.methodLink "SignalWaves" (301 : Nat) ({ cls := "java/util/PriorityQueue", name := "poll", desc := "()Ljava/lang/Object;" } : Jvm.MethodName)) ∈ lw_all := lw_g (lw_at lw_m10 93 rfl) rfl
theorem q2357 : (Jvm.Cond.instanceMethod ({ cls := "SignalWaves", name := "delay", desc := "(II)I" } : Jvm.MethodName)) ∈ lw_all := lw_g (lw_at lw_m10 104 rfl) rfl
theorem q2358 : (Jvm.Cond.selects "SignalWaves" ({ cls := "SignalWaves", name := "delay", desc := "(II)I" } : Jvm.MethodName) ({ cls := "SignalWaves", name := "delay", desc := "(II)I" } : Jvm.MethodName)) ∈ lw_all := lw_g (lw_at lw_m10 105 rfl) rfl
theorem q2359 : (Jvm.Cond.code ({ cls := "SignalWaves", name := "delay", desc := "(II)I" } : Jvm.MethodName) prog_1_method_36_code (6 : Nat) (Option.some Jvm.ClassFile.FieldType.int)) ∈ lw_all := lw_g (lw_at lw_m10 106 rfl) rfl
theorem q2360 : (Jvm.Cond.methodLink "SignalWaves" (305 : Nat) ({ cls := "SignalWaves", name := "follows", desc := "([I[II)Z" } : Jvm.MethodName)) ∈ lw_all := lw_g (lw_at lw_m10 107 rfl) rfl
theorem q2361 : (Jvm.Cond.privateMethod ({ cls := "SignalWaves", name := "follows", desc := "([I[II)Z" } : Jvm.MethodName)) ∈ lw_tbl := lw_at lw_m10 108 rfl
theorem q2362 : (Jvm.Cond.instanceMethod ({ cls := "SignalWaves", name := "follows", desc := "([I[II)Z" } : Jvm.MethodName)) ∈ lw_all := lw_g (lw_at lw_m10 109 rfl) rfl
theorem q2363 : (Jvm.Cond.code ({ cls := "SignalWaves", name := "follows", desc := "([I[II)Z" } : Jvm.MethodName) prog_1_method_35_code (6 : Nat) (Option.some Jvm.ClassFile.FieldType.boolean)) ∈ lw_all := lw_g (lw_at lw_m10 110 rfl) rfl
theorem q2365 : (Jvm.Cond.instanceMethod ({ cls := "SignalWaves", name := "jump", desc := "(I)I" } : Jvm.MethodName)) ∈ lw_all := lw_g (lw_at lw_m10 112 rfl) rfl
theorem q2366 : (Jvm.Cond.selects "SignalWaves" ({ cls := "SignalWaves", name := "jump", desc := "(I)I" } : Jvm.MethodName) ({ cls := "SignalWaves", name := "jump", desc := "(I)I" } : Jvm.MethodName)) ∈ lw_all := lw_g (lw_at lw_m10 113 rfl) rfl
theorem q2367 : (Jvm.Cond.code ({ cls := "SignalWaves", name := "jump", desc := "(I)I" } : Jvm.MethodName) prog_1_method_39_code (3 : Nat) (Option.some Jvm.ClassFile.FieldType.int)) ∈ lw_all := lw_g (lw_at lw_m10 114 rfl) rfl
theorem q2368 : (Jvm.Cond.methodLink "SignalWaves" (314 : Nat) ({ cls := "java/util/TreeSet", name := "headSet", desc := "(Ljava/lang/Object;)Ljava/util/SortedSet;" } : Jvm.MethodName)) ∈ lw_all := lw_g (lw_at lw_m10 115 rfl) rfl
theorem q2458 : (Jvm.Cond.interfaceEntry "SignalWaves" (318 : Nat)) ∈ lw_tbl := lw_at lw_m10 205 rfl
theorem q2466 : (Jvm.Cond.instanceMethod ({ cls := "SignalWaves", name := "block", desc := "(II)I" } : Jvm.MethodName)) ∈ lw_all := lw_g (lw_at lw_m10 213 rfl) rfl
theorem q2467 : (Jvm.Cond.selects "SignalWaves" ({ cls := "SignalWaves", name := "block", desc := "(II)I" } : Jvm.MethodName) ({ cls := "SignalWaves", name := "block", desc := "(II)I" } : Jvm.MethodName)) ∈ lw_all := lw_g (lw_at lw_m10 214 rfl) rfl
theorem q2468 : (Jvm.Cond.code ({ cls := "SignalWaves", name := "block", desc := "(II)I" } : Jvm.MethodName) prog_1_method_43_code (4 : Nat) (Option.some Jvm.ClassFile.FieldType.int)) ∈ lw_all := lw_g (lw_at lw_m10 215 rfl) rfl
theorem q2469 : (Jvm.Cond.methodLink "SignalWaves" (338 : Nat) ({ cls := "SignalWaves", name := "isBlock", desc := "(I)Z" } : Jvm.MethodName)) ∈ lw_all := lw_g (lw_at lw_m10 216 rfl) rfl
theorem q2470 : (Jvm.Cond.privateMethod ({ cls := "SignalWaves", name := "isBlock", desc := "(I)Z" } : Jvm.MethodName)) ∈ lw_tbl := lw_at lw_m10 217 rfl
theorem q2471 : (Jvm.Cond.instanceMethod ({ cls := "SignalWaves", name := "isBlock", desc := "(I)Z" } : Jvm.MethodName)) ∈ lw_all := lw_g (lw_at lw_m10 218 rfl) rfl
theorem q2472 : (Jvm.Cond.code ({ cls := "SignalWaves", name := "isBlock", desc := "(I)Z" } : Jvm.MethodName) prog_1_method_38_code (2 : Nat) (Option.some Jvm.ClassFile.FieldType.boolean)) ∈ lw_all := lw_g (lw_at lw_m10 219 rfl) rfl
theorem q2473 : (Jvm.Cond.methodLink "SignalWaves" (341 : Nat) ({ cls := "SignalWaves", name := "row", desc := "()Ljava/util/List;" } : Jvm.MethodName)) ∈ lw_all := lw_g (lw_at lw_m10 220 rfl) rfl
theorem q2474 : (Jvm.Cond.privateMethod ({ cls := "SignalWaves", name := "row", desc := "()Ljava/util/List;" } : Jvm.MethodName)) ∈ lw_tbl := lw_at lw_m10 221 rfl
theorem q2475 : (Jvm.Cond.instanceMethod ({ cls := "SignalWaves", name := "row", desc := "()Ljava/util/List;" } : Jvm.MethodName)) ∈ lw_all := lw_g (lw_at lw_m10 222 rfl) rfl
theorem q2476 : (Jvm.Cond.code ({ cls := "SignalWaves", name := "row", desc := "()Ljava/util/List;" } : Jvm.MethodName) prog_1_method_37_code (1 : Nat) (Option.some (Jvm.ClassFile.FieldType.object "java/util/List"))) ∈ lw_all := lw_g (lw_at lw_m10 223 rfl) rfl
theorem q2477 : (Jvm.Cond.classLink "SignalWaves" (309 : Nat) "java/util/ArrayList") ∈ lw_all := lw_g (lw_at lw_m10 224 rfl) rfl
theorem q2478 : (Jvm.Cond.methodLink "SignalWaves" (311 : Nat) ({ cls := "java/util/ArrayList", name := "<init>", desc := "(Ljava/util/Collection;)V" } : Jvm.MethodName)) ∈ lw_all := lw_g (lw_at lw_m10 225 rfl) rfl
theorem q2496 : (Jvm.Cond.classLink "SignalWaves" (237 : Nat) "SignalWaves$Block") ∈ lw_all := lw_g (lw_at lw_m11 3 rfl) rfl
theorem q2497 : (Jvm.Cond.methodLink "SignalWaves" (347 : Nat) ({ cls := "SignalWaves", name := "roomOf", desc := "(LSignalWaves$Block;)I" } : Jvm.MethodName)) ∈ lw_all := lw_g (lw_at lw_m11 4 rfl) rfl
theorem q2498 : (Jvm.Cond.privateMethod ({ cls := "SignalWaves", name := "roomOf", desc := "(LSignalWaves$Block;)I" } : Jvm.MethodName)) ∈ lw_tbl := lw_at lw_m11 5 rfl
theorem q2499 : (Jvm.Cond.instanceMethod ({ cls := "SignalWaves", name := "roomOf", desc := "(LSignalWaves$Block;)I" } : Jvm.MethodName)) ∈ lw_all := lw_g (lw_at lw_m11 6 rfl) rfl
theorem q2500 : (Jvm.Cond.code ({ cls := "SignalWaves", name := "roomOf", desc := "(LSignalWaves$Block;)I" } : Jvm.MethodName) prog_1_method_42_code (2 : Nat) (Option.some Jvm.ClassFile.FieldType.int)) ∈ lw_all := lw_g (lw_at lw_m11 7 rfl) rfl
theorem q2501 : (Jvm.Cond.methodLink "SignalWaves" (334 : Nat) ({ cls := "SignalWaves", name := "roomOf", desc := "(ILjava/util/List;II)I" } : Jvm.MethodName)) ∈ lw_all := lw_g (lw_at lw_m11 8 rfl) rfl
theorem q2502 : (Jvm.Cond.privateMethod ({ cls := "SignalWaves", name := "roomOf", desc := "(ILjava/util/List;II)I" } : Jvm.MethodName)) ∈ lw_tbl := lw_at lw_m11 9 rfl
theorem q2503 : (Jvm.Cond.instanceMethod ({ cls := "SignalWaves", name := "roomOf", desc := "(ILjava/util/List;II)I" } : Jvm.MethodName)) ∈ lw_all := lw_g (lw_at lw_m11 10 rfl) rfl
theorem q2504 : (Jvm.Cond.code ({ cls := "SignalWaves", name := "roomOf", desc := "(ILjava/util/List;II)I" } : Jvm.MethodName) prog_1_method_41_code (10 : Nat) (Option.some Jvm.ClassFile.FieldType.int)) ∈ lw_all := lw_g (lw_at lw_m11 11 rfl) rfl
theorem q2505 : (Jvm.Cond.methodLink "SignalWaves" (324 : Nat) ({ cls := "SignalWaves$Book", name := "many", desc := "(I)I" } : Jvm.MethodName)) ∈ lw_all := lw_g (lw_at lw_m11 12 rfl) rfl
theorem q2506 : (Jvm.Cond.methodLink "SignalWaves" (328 : Nat) ({ cls := "SignalWaves", name := "place", desc := "(I)I" } : Jvm.MethodName)) ∈ lw_all := lw_g (lw_at lw_m11 13 rfl) rfl
theorem q2507 : (Jvm.Cond.privateMethod ({ cls := "SignalWaves", name := "place", desc := "(I)I" } : Jvm.MethodName)) ∈ lw_tbl := lw_at lw_m11 14 rfl
theorem q2508 : (Jvm.Cond.instanceMethod ({ cls := "SignalWaves", name := "place", desc := "(I)I" } : Jvm.MethodName)) ∈ lw_all := lw_g (lw_at lw_m11 15 rfl) rfl
theorem q2509 : (Jvm.Cond.code ({ cls := "SignalWaves", name := "place", desc := "(I)I" } : Jvm.MethodName) prog_1_method_40_code (3 : Nat) (Option.some Jvm.ClassFile.FieldType.int)) ∈ lw_all := lw_g (lw_at lw_m11 16 rfl) rfl
theorem q2511 : (Jvm.Cond.instanceMethod ({ cls := "SignalWaves", name := "frame", desc := "(II)I" } : Jvm.MethodName)) ∈ lw_all := lw_g (lw_at lw_m11 18 rfl) rfl
theorem q2512 : (Jvm.Cond.selects "SignalWaves" ({ cls := "SignalWaves", name := "frame", desc := "(II)I" } : Jvm.MethodName) ({ cls := "SignalWaves", name := "frame", desc := "(II)I" } : Jvm.MethodName)) ∈ lw_all := lw_g (lw_at lw_m11 19 rfl) rfl
theorem q2513 : (Jvm.Cond.code ({ cls := "SignalWaves", name := "frame", desc := "(II)I" } : Jvm.MethodName) prog_1_method_44_code (3 : Nat) (Option.some Jvm.ClassFile.FieldType.int)) ∈ lw_all := lw_g (lw_at lw_m11 20 rfl) rfl
theorem q2515 : (Jvm.Cond.instanceMethod ({ cls := "SignalWaves", name := "change", desc := "(III)I" } : Jvm.MethodName)) ∈ lw_all := lw_g (lw_at lw_m11 22 rfl) rfl
theorem q2516 : (Jvm.Cond.selects "SignalWaves" ({ cls := "SignalWaves", name := "change", desc := "(III)I" } : Jvm.MethodName) ({ cls := "SignalWaves", name := "change", desc := "(III)I" } : Jvm.MethodName)) ∈ lw_all := lw_g (lw_at lw_m11 23 rfl) rfl
theorem q2517 : (Jvm.Cond.code ({ cls := "SignalWaves", name := "change", desc := "(III)I" } : Jvm.MethodName) prog_1_method_45_code (6 : Nat) (Option.some Jvm.ClassFile.FieldType.int)) ∈ lw_all := lw_g (lw_at lw_m11 24 rfl) rfl
theorem q2519 : (Jvm.Cond.instanceMethod ({ cls := "SignalWaves", name := "packed", desc := "(I)I" } : Jvm.MethodName)) ∈ lw_all := lw_g (lw_at lw_m11 26 rfl) rfl
theorem q2520 : (Jvm.Cond.selects "SignalWaves" ({ cls := "SignalWaves", name := "packed", desc := "(I)I" } : Jvm.MethodName) ({ cls := "SignalWaves", name := "packed", desc := "(I)I" } : Jvm.MethodName)) ∈ lw_all := lw_g (lw_at lw_m11 27 rfl) rfl
theorem q2521 : (Jvm.Cond.code ({ cls := "SignalWaves", name := "packed", desc := "(I)I" } : Jvm.MethodName) prog_1_method_48_code (2 : Nat) (Option.some Jvm.ClassFile.FieldType.int)) ∈ lw_all := lw_g (lw_at lw_m11 28 rfl) rfl
theorem q2522 : (Jvm.Cond.methodLink "SignalWaves" (372 : Nat) ({ cls := "SignalWaves", name := "packedRoom", desc := "(I)I" } : Jvm.MethodName)) ∈ lw_all := lw_g (lw_at lw_m11 29 rfl) rfl
theorem q2523 : (Jvm.Cond.privateMethod ({ cls := "SignalWaves", name := "packedRoom", desc := "(I)I" } : Jvm.MethodName)) ∈ lw_tbl := lw_at lw_m11 30 rfl
theorem q2524 : (Jvm.Cond.instanceMethod ({ cls := "SignalWaves", name := "packedRoom", desc := "(I)I" } : Jvm.MethodName)) ∈ lw_all := lw_g (lw_at lw_m11 31 rfl) rfl
theorem q2525 : (Jvm.Cond.code ({ cls := "SignalWaves", name := "packedRoom", desc := "(I)I" } : Jvm.MethodName) prog_1_method_47_code (7 : Nat) (Option.some Jvm.ClassFile.FieldType.int)) ∈ lw_all := lw_g (lw_at lw_m11 32 rfl) rfl
theorem q2526 : (Jvm.Cond.methodLink "SignalWaves" (356 : Nat) ({ cls := "java/util/ArrayList", name := "<init>", desc := "()V" } : Jvm.MethodName)) ∈ lw_all := lw_g (lw_at lw_m11 33 rfl) rfl
theorem q2527 : (Jvm.Cond.methodLink "SignalWaves" (357 : Nat) ({ cls := "java/util/TreeSet", name := "iterator", desc := "()Ljava/util/Iterator;" } : Jvm.MethodName)) ∈ lw_all := lw_g (lw_at lw_m11 34 rfl) rfl
theorem q2528 : (Jvm.Cond.interfaceEntry "SignalWaves" (358 : Nat)) ∈ lw_tbl := lw_at lw_m11 35 rfl
theorem q2529 : (Jvm.Cond.methodLink "SignalWaves" (358 : Nat) ({ cls := "java/util/List", name := "addAll", desc := "(Ljava/util/Collection;)Z" } : Jvm.MethodName)) ∈ lw_all := lw_g (lw_at lw_m11 36 rfl) rfl
theorem q2530 : (Jvm.Cond.methodLink "SignalWaves" (362 : Nat) ({ cls := "java/util/TreeSet", name := "last", desc := "()Ljava/lang/Object;" } : Jvm.MethodName)) ∈ lw_all := lw_g (lw_at lw_m11 37 rfl) rfl
theorem q2531 : (Jvm.Cond.methodLink "SignalWaves" (365 : Nat) ({ cls := "SignalWaves", name := "partedRoom", desc := "(ILjava/util/List;I)I" } : Jvm.MethodName)) ∈ lw_all := lw_g (lw_at lw_m11 38 rfl) rfl
theorem q2532 : (Jvm.Cond.privateMethod ({ cls := "SignalWaves", name := "partedRoom", desc := "(ILjava/util/List;I)I" } : Jvm.MethodName)) ∈ lw_tbl := lw_at lw_m11 39 rfl
theorem q2533 : (Jvm.Cond.instanceMethod ({ cls := "SignalWaves", name := "partedRoom", desc := "(ILjava/util/List;I)I" } : Jvm.MethodName)) ∈ lw_all := lw_g (lw_at lw_m11 40 rfl) rfl
theorem q2534 : (Jvm.Cond.code ({ cls := "SignalWaves", name := "partedRoom", desc := "(ILjava/util/List;I)I" } : Jvm.MethodName) prog_1_method_46_code (7 : Nat) (Option.some Jvm.ClassFile.FieldType.int)) ∈ lw_all := lw_g (lw_at lw_m11 41 rfl) rfl
theorem q2535 : (Jvm.Cond.methodLink "SignalWaves" (350 : Nat) ({ cls := "java/lang/Math", name := "min", desc := "(II)I" } : Jvm.MethodName)) ∈ lw_all := lw_g (lw_at lw_m11 42 rfl) rfl
theorem q2536 : (Jvm.Cond.interfaceEntry "SignalWaves" (369 : Nat)) ∈ lw_tbl := lw_at lw_m11 43 rfl
theorem q2537 : (Jvm.Cond.methodLink "SignalWaves" (369 : Nat) ({ cls := "java/util/List", name := "clear", desc := "()V" } : Jvm.MethodName)) ∈ lw_all := lw_g (lw_at lw_m11 44 rfl) rfl
theorem q2546 : (Jvm.Cond.instanceMethod ({ cls := "SignalWaves", name := "best", desc := "()I" } : Jvm.MethodName)) ∈ lw_all := lw_g (lw_at lw_m11 53 rfl) rfl
theorem q2547 : (Jvm.Cond.selects "SignalWaves" ({ cls := "SignalWaves", name := "best", desc := "()I" } : Jvm.MethodName) ({ cls := "SignalWaves", name := "best", desc := "()I" } : Jvm.MethodName)) ∈ lw_all := lw_g (lw_at lw_m11 54 rfl) rfl
theorem q2548 : (Jvm.Cond.code ({ cls := "SignalWaves", name := "best", desc := "()I" } : Jvm.MethodName) prog_1_method_49_code (5 : Nat) (Option.some Jvm.ClassFile.FieldType.int)) ∈ lw_all := lw_g (lw_at lw_m11 55 rfl) rfl
theorem q2549 : (Jvm.Cond.constant "SignalWaves" (375 : Nat) (2147483647 : Int32)) ∈ lw_all := lw_g (lw_at lw_m11 56 rfl) rfl
theorem q2551 : (Jvm.Cond.instanceMethod ({ cls := "SignalWaves", name := "sees", desc := "(II)I" } : Jvm.MethodName)) ∈ lw_all := lw_g (lw_at lw_m11 58 rfl) rfl
theorem q2552 : (Jvm.Cond.selects "SignalWaves" ({ cls := "SignalWaves", name := "sees", desc := "(II)I" } : Jvm.MethodName) ({ cls := "SignalWaves", name := "sees", desc := "(II)I" } : Jvm.MethodName)) ∈ lw_all := lw_g (lw_at lw_m11 59 rfl) rfl
theorem q2553 : (Jvm.Cond.code ({ cls := "SignalWaves", name := "sees", desc := "(II)I" } : Jvm.MethodName) prog_1_method_50_code (3 : Nat) (Option.some Jvm.ClassFile.FieldType.int)) ∈ lw_all := lw_g (lw_at lw_m11 60 rfl) rfl
theorem q2555 : (Jvm.Cond.instanceMethod ({ cls := "SignalWaves", name := "forget", desc := "()I" } : Jvm.MethodName)) ∈ lw_all := lw_g (lw_at lw_m11 62 rfl) rfl
theorem q2556 : (Jvm.Cond.selects "SignalWaves" ({ cls := "SignalWaves", name := "forget", desc := "()I" } : Jvm.MethodName) ({ cls := "SignalWaves", name := "forget", desc := "()I" } : Jvm.MethodName)) ∈ lw_all := lw_g (lw_at lw_m11 63 rfl) rfl
theorem q2557 : (Jvm.Cond.code ({ cls := "SignalWaves", name := "forget", desc := "()I" } : Jvm.MethodName) prog_1_method_51_code (2 : Nat) (Option.some Jvm.ClassFile.FieldType.int)) ∈ lw_all := lw_g (lw_at lw_m11 64 rfl) rfl
theorem q2559 : (Jvm.Cond.instanceMethod ({ cls := "SignalWaves", name := "which", desc := "()I" } : Jvm.MethodName)) ∈ lw_all := lw_g (lw_at lw_m11 66 rfl) rfl
theorem q2560 : (Jvm.Cond.selects "SignalWaves" ({ cls := "SignalWaves", name := "which", desc := "()I" } : Jvm.MethodName) ({ cls := "SignalWaves", name := "which", desc := "()I" } : Jvm.MethodName)) ∈ lw_all := lw_g (lw_at lw_m11 67 rfl) rfl
theorem q2561 : (Jvm.Cond.code ({ cls := "SignalWaves", name := "which", desc := "()I" } : Jvm.MethodName) prog_1_method_52_code (7 : Nat) (Option.some Jvm.ClassFile.FieldType.int)) ∈ lw_all := lw_g (lw_at lw_m11 68 rfl) rfl
theorem q2563 : (Jvm.Cond.instanceMethod ({ cls := "SignalWaves", name := "look", desc := "()I" } : Jvm.MethodName)) ∈ lw_all := lw_g (lw_at lw_m11 70 rfl) rfl
theorem q2564 : (Jvm.Cond.selects "SignalWaves" ({ cls := "SignalWaves", name := "look", desc := "()I" } : Jvm.MethodName) ({ cls := "SignalWaves", name := "look", desc := "()I" } : Jvm.MethodName)) ∈ lw_all := lw_g (lw_at lw_m11 71 rfl) rfl
theorem q2565 : (Jvm.Cond.code ({ cls := "SignalWaves", name := "look", desc := "()I" } : Jvm.MethodName) prog_1_method_53_code (6 : Nat) (Option.some Jvm.ClassFile.FieldType.int)) ∈ lw_all := lw_g (lw_at lw_m11 72 rfl) rfl
theorem q2566 : (Jvm.Cond.methodLink "SignalWaves" (376 : Nat) ({ cls := "SignalWaves", name := "which", desc := "()I" } : Jvm.MethodName)) ∈ lw_all := lw_g (lw_at lw_m11 73 rfl) rfl
theorem q2567 : (Jvm.Cond.methodLink "SignalWaves" (379 : Nat) ({ cls := "java/lang/Integer", name := "bitCount", desc := "(I)I" } : Jvm.MethodName)) ∈ lw_all := lw_g (lw_at lw_m11 74 rfl) rfl
theorem q2573 : (Jvm.Cond.methodLink "SignalWaves" (382 : Nat) ({ cls := "SignalWaves", name := "mostAlike", desc := "([II)I" } : Jvm.MethodName)) ∈ lw_all := lw_g (lw_at lw_m11 80 rfl) rfl
theorem q2574 : (Jvm.Cond.static ({ cls := "SignalWaves", name := "mostAlike", desc := "([II)I" } : Jvm.MethodName)) ∈ lw_all := lw_g (lw_at lw_m11 81 rfl) rfl
theorem q2575 : (Jvm.Cond.code ({ cls := "SignalWaves", name := "mostAlike", desc := "([II)I" } : Jvm.MethodName) prog_1_method_54_code (6 : Nat) (Option.some Jvm.ClassFile.FieldType.int)) ∈ lw_all := lw_g (lw_at lw_m11 82 rfl) rfl
theorem q2576 : (Jvm.Cond.methodLink "SignalWaves" (386 : Nat) ({ cls := "java/lang/Math", name := "max", desc := "(II)I" } : Jvm.MethodName)) ∈ lw_all := lw_g (lw_at lw_m11 83 rfl) rfl
theorem q2578 : (Jvm.Cond.instanceMethod ({ cls := "SignalWaves", name := "keep", desc := "(I)I" } : Jvm.MethodName)) ∈ lw_all := lw_g (lw_at lw_m11 85 rfl) rfl
theorem q2579 : (Jvm.Cond.selects "SignalWaves" ({ cls := "SignalWaves", name := "keep", desc := "(I)I" } : Jvm.MethodName) ({ cls := "SignalWaves", name := "keep", desc := "(I)I" } : Jvm.MethodName)) ∈ lw_all := lw_g (lw_at lw_m11 86 rfl) rfl
theorem q2580 : (Jvm.Cond.code ({ cls := "SignalWaves", name := "keep", desc := "(I)I" } : Jvm.MethodName) prog_1_method_55_code (2 : Nat) (Option.some Jvm.ClassFile.FieldType.int)) ∈ lw_all := lw_g (lw_at lw_m11 87 rfl) rfl
theorem q2582 : (Jvm.Cond.instanceMethod ({ cls := "SignalWaves", name := "back", desc := "(I)I" } : Jvm.MethodName)) ∈ lw_all := lw_g (lw_at lw_m11 89 rfl) rfl
theorem q2583 : (Jvm.Cond.selects "SignalWaves" ({ cls := "SignalWaves", name := "back", desc := "(I)I" } : Jvm.MethodName) ({ cls := "SignalWaves", name := "back", desc := "(I)I" } : Jvm.MethodName)) ∈ lw_all := lw_g (lw_at lw_m11 90 rfl) rfl
theorem q2584 : (Jvm.Cond.code ({ cls := "SignalWaves", name := "back", desc := "(I)I" } : Jvm.MethodName) prog_1_method_56_code (2 : Nat) (Option.some Jvm.ClassFile.FieldType.int)) ∈ lw_all := lw_g (lw_at lw_m11 91 rfl) rfl
theorem q2586 : (Jvm.Cond.instanceMethod ({ cls := "SignalWaves", name := "count", desc := "(I)I" } : Jvm.MethodName)) ∈ lw_all := lw_g (lw_at lw_m11 93 rfl) rfl
theorem q2587 : (Jvm.Cond.selects "SignalWaves" ({ cls := "SignalWaves", name := "count", desc := "(I)I" } : Jvm.MethodName) ({ cls := "SignalWaves", name := "count", desc := "(I)I" } : Jvm.MethodName)) ∈ lw_all := lw_g (lw_at lw_m11 94 rfl) rfl
theorem q2588 : (Jvm.Cond.code ({ cls := "SignalWaves", name := "count", desc := "(I)I" } : Jvm.MethodName) prog_1_method_57_code (5 : Nat) (Option.some Jvm.ClassFile.FieldType.int)) ∈ lw_all := lw_g (lw_at lw_m11 95 rfl) rfl
theorem q3108 : (Jvm.Cond.castable "SignalWaves" "java/lang/Object") ∈ lw_tbl := lw_at lw_m13 135 rfl
theorem in_X0 : ∀ w ∈ wsX00, w ∈ lw_all := lw_in wsX00 [1081, 1083, 1085, 1087, 1089, 1091, 1093, 1095, 1097, 1099, 1101, 1103, 1105, 1107] (by decide +kernel) (by decide +kernel)
