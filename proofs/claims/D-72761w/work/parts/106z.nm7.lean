/-! jdk/internal/util/Preconditions -/
set_option maxRecDepth 100000
def RJ24 : String := "jdk/internal/util/Preconditions"
abbrev cJ24_checkFromToIndex : ByteArray := prog_88_method_12_code
def yJ24_checkFromToIndex : MethodName := ⟨RJ24, "checkFromToIndex", "(IIILjava/util/function/BiFunction;)I"⟩
def dkwJ24_checkFromToIndex_0 : List UInt8 := [26, 155, 0, 13, 26, 27, 163, 0, 8, 27, 28, 164, 0, 11, 45, 26, 27, 28, 184, 0, 99, 191, 26, 172]
abbrev dktJ24_checkFromToIndex_0 : List UInt8 := dkwJ24_checkFromToIndex_0 ++ []
theorem dksJ24_checkFromToIndex_0 : cJ24_checkFromToIndex.data.toList.drop 0 = dktJ24_checkFromToIndex_0 := by decide +kernel
theorem dJ24_checkFromToIndex_0 : decode cJ24_checkFromToIndex 0 = .ok (.iload_n 0, 1) := dk_26 (dk_at dksJ24_checkFromToIndex_0 0 rfl rfl)
theorem dJ24_checkFromToIndex_1 : decode cJ24_checkFromToIndex 1 = .ok (.ifCond .lt 13, 3) := dk_155 0 13 (dk_at dksJ24_checkFromToIndex_0 1 rfl rfl)
theorem dJ24_checkFromToIndex_4 : decode cJ24_checkFromToIndex 4 = .ok (.iload_n 0, 1) := dk_26 (dk_at dksJ24_checkFromToIndex_0 4 rfl rfl)
theorem dJ24_checkFromToIndex_5 : decode cJ24_checkFromToIndex 5 = .ok (.iload_n 1, 1) := dk_27 (dk_at dksJ24_checkFromToIndex_0 5 rfl rfl)
theorem dJ24_checkFromToIndex_6 : decode cJ24_checkFromToIndex 6 = .ok (.if_icmp .gt 8, 3) := dk_163 0 8 (dk_at dksJ24_checkFromToIndex_0 6 rfl rfl)
theorem dJ24_checkFromToIndex_9 : decode cJ24_checkFromToIndex 9 = .ok (.iload_n 1, 1) := dk_27 (dk_at dksJ24_checkFromToIndex_0 9 rfl rfl)
theorem dJ24_checkFromToIndex_10 : decode cJ24_checkFromToIndex 10 = .ok (.iload_n 2, 1) := dk_28 (dk_at dksJ24_checkFromToIndex_0 10 rfl rfl)
theorem dJ24_checkFromToIndex_11 : decode cJ24_checkFromToIndex 11 = .ok (.if_icmp .le 11, 3) := dk_164 0 11 (dk_at dksJ24_checkFromToIndex_0 11 rfl rfl)
theorem dJ24_checkFromToIndex_14 : decode cJ24_checkFromToIndex 14 = .ok (.aload_n 3, 1) := dk_45 (dk_at dksJ24_checkFromToIndex_0 14 rfl rfl)
theorem dJ24_checkFromToIndex_15 : decode cJ24_checkFromToIndex 15 = .ok (.iload_n 0, 1) := dk_26 (dk_at dksJ24_checkFromToIndex_0 15 rfl rfl)
theorem dJ24_checkFromToIndex_16 : decode cJ24_checkFromToIndex 16 = .ok (.iload_n 1, 1) := dk_27 (dk_at dksJ24_checkFromToIndex_0 16 rfl rfl)
theorem dJ24_checkFromToIndex_17 : decode cJ24_checkFromToIndex 17 = .ok (.iload_n 2, 1) := dk_28 (dk_at dksJ24_checkFromToIndex_0 17 rfl rfl)
theorem dJ24_checkFromToIndex_18 : decode cJ24_checkFromToIndex 18 = .ok (.invokestatic 99, 3) := dk_184 0 99 (dk_at dksJ24_checkFromToIndex_0 18 rfl rfl)
theorem dJ24_checkFromToIndex_21 : decode cJ24_checkFromToIndex 21 = .ok (.athrow, 1) := dk_191 (dk_at dksJ24_checkFromToIndex_0 21 rfl rfl)
theorem dJ24_checkFromToIndex_22 : decode cJ24_checkFromToIndex 22 = .ok (.iload_n 0, 1) := dk_26 (dk_at dksJ24_checkFromToIndex_0 22 rfl rfl)
theorem dJ24_checkFromToIndex_23 : decode cJ24_checkFromToIndex 23 = .ok (.ireturn, 1) := dk_172 (dk_at dksJ24_checkFromToIndex_0 23 rfl rfl)
abbrev cJ24_checkIndex : ByteArray := prog_88_method_11_code
def yJ24_checkIndex : MethodName := ⟨RJ24, "checkIndex", "(IILjava/util/function/BiFunction;)I"⟩
def dkwJ24_checkIndex_0 : List UInt8 := [26, 155, 0, 8, 26, 27, 161, 0, 10, 44, 26, 27, 184, 0, 95, 191, 26, 172]
abbrev dktJ24_checkIndex_0 : List UInt8 := dkwJ24_checkIndex_0 ++ []
theorem dksJ24_checkIndex_0 : cJ24_checkIndex.data.toList.drop 0 = dktJ24_checkIndex_0 := by decide +kernel
theorem dJ24_checkIndex_0 : decode cJ24_checkIndex 0 = .ok (.iload_n 0, 1) := dk_26 (dk_at dksJ24_checkIndex_0 0 rfl rfl)
theorem dJ24_checkIndex_1 : decode cJ24_checkIndex 1 = .ok (.ifCond .lt 8, 3) := dk_155 0 8 (dk_at dksJ24_checkIndex_0 1 rfl rfl)
theorem dJ24_checkIndex_4 : decode cJ24_checkIndex 4 = .ok (.iload_n 0, 1) := dk_26 (dk_at dksJ24_checkIndex_0 4 rfl rfl)
theorem dJ24_checkIndex_5 : decode cJ24_checkIndex 5 = .ok (.iload_n 1, 1) := dk_27 (dk_at dksJ24_checkIndex_0 5 rfl rfl)
theorem dJ24_checkIndex_6 : decode cJ24_checkIndex 6 = .ok (.if_icmp .lt 10, 3) := dk_161 0 10 (dk_at dksJ24_checkIndex_0 6 rfl rfl)
theorem dJ24_checkIndex_9 : decode cJ24_checkIndex 9 = .ok (.aload_n 2, 1) := dk_44 (dk_at dksJ24_checkIndex_0 9 rfl rfl)
theorem dJ24_checkIndex_10 : decode cJ24_checkIndex 10 = .ok (.iload_n 0, 1) := dk_26 (dk_at dksJ24_checkIndex_0 10 rfl rfl)
theorem dJ24_checkIndex_11 : decode cJ24_checkIndex 11 = .ok (.iload_n 1, 1) := dk_27 (dk_at dksJ24_checkIndex_0 11 rfl rfl)
theorem dJ24_checkIndex_12 : decode cJ24_checkIndex 12 = .ok (.invokestatic 95, 3) := dk_184 0 95 (dk_at dksJ24_checkIndex_0 12 rfl rfl)
theorem dJ24_checkIndex_15 : decode cJ24_checkIndex 15 = .ok (.athrow, 1) := dk_191 (dk_at dksJ24_checkIndex_0 15 rfl rfl)
theorem dJ24_checkIndex_16 : decode cJ24_checkIndex 16 = .ok (.iload_n 0, 1) := dk_26 (dk_at dksJ24_checkIndex_0 16 rfl rfl)
theorem dJ24_checkIndex_17 : decode cJ24_checkIndex 17 = .ok (.ireturn, 1) := dk_172 (dk_at dksJ24_checkIndex_0 17 rfl rfl)
theorem q128 : (Jvm.Cond.initialized "jdk/internal/util/Preconditions") ∈ lw_all := lw_g (lw_at lw_m1 35 rfl) rfl
theorem q1225 : (Jvm.Cond.laysStatic "jdk/internal/util/Preconditions" "SIOOBE_FORMATTER" "Ljava/util/function/BiFunction;") ∈ lw_tbl := lw_at lw_m5 172 rfl
theorem q1227 : (Jvm.Cond.static ({ cls := "jdk/internal/util/Preconditions", name := "checkFromToIndex", desc := "(IIILjava/util/function/BiFunction;)I" } : Jvm.MethodName)) ∈ lw_all := lw_g (lw_at lw_m5 174 rfl) rfl
theorem q1228 : (Jvm.Cond.code ({ cls := "jdk/internal/util/Preconditions", name := "checkFromToIndex", desc := "(IIILjava/util/function/BiFunction;)I" } : Jvm.MethodName) prog_88_method_12_code (4 : Nat) (Option.some Jvm.ClassFile.FieldType.int)) ∈ lw_all := lw_g (lw_at lw_m5 175 rfl) rfl
theorem q1740 : (Jvm.Cond.static ({ cls := "jdk/internal/util/Preconditions", name := "checkIndex", desc := "(IILjava/util/function/BiFunction;)I" } : Jvm.MethodName)) ∈ lw_all := lw_g (lw_at lw_m7 207 rfl) rfl
theorem q1741 : (Jvm.Cond.code ({ cls := "jdk/internal/util/Preconditions", name := "checkIndex", desc := "(IILjava/util/function/BiFunction;)I" } : Jvm.MethodName) prog_88_method_11_code (3 : Nat) (Option.some Jvm.ClassFile.FieldType.int)) ∈ lw_all := lw_g (lw_at lw_m7 208 rfl) rfl
