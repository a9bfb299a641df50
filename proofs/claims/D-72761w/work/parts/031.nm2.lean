/-! java/util/TreeMap -/
set_option maxRecDepth 100000
def RJ1 : String := "java/util/TreeMap"
def TJ1 : u_T := fun k => match k with
  | 0 => ("java/util/AbstractMap", "keySet", "Ljava/util/Set;", false)
  | 1 => ("java/util/AbstractMap", "values", "Ljava/util/Collection;", false)
  | 2 => ("java/util/TreeMap", "comparator", "Ljava/util/Comparator;", true)
  | 3 => ("java/util/TreeMap", "root", "Ljava/util/TreeMap$Entry;", false)
  | 4 => ("java/util/TreeMap", "size", "I", false)
  | 5 => ("java/util/TreeMap", "modCount", "I", false)
  | 6 => ("java/util/TreeMap", "entrySet", "Ljava/util/TreeMap$EntrySet;", false)
  | 7 => ("java/util/TreeMap", "navigableKeySet", "Ljava/util/TreeMap$KeySet;", false)
  | _ => ("java/util/TreeMap", "descendingMap", "Ljava/util/NavigableMap;", false)
def tyJ1 : Nat → FieldType := fun k => match k with
  | 0 => .object "java/util/Set"
  | 1 => .object "java/util/Collection"
  | 2 => .object "java/util/Comparator"
  | 3 => .object "java/util/TreeMap$Entry"
  | 4 => .int
  | 5 => .int
  | 6 => .object "java/util/TreeMap$EntrySet"
  | 7 => .object "java/util/TreeMap$KeySet"
  | _ => .object "java/util/NavigableMap"
abbrev wsJ10 : List Cond := u_ws RJ1 TJ1 9
theorem nmJ1 : ∀ a, a < 9 → ∀ b, b < 9 → a ≠ b → (TJ1 a).2.1 ≠ (TJ1 b).2.1 := by decide +kernel
theorem tyJ1_ok : ∀ k, k < 9 → parseFieldDescriptor (TJ1 k).2.2.1 = some (tyJ1 k) := by decide +kernel
abbrev cJ1_init : ByteArray := prog_70_method_1_code
def yJ1_init : MethodName := ⟨RJ1, "<init>", "()V"⟩
def dkwJ1_init_0 : List UInt8 := [42, 183, 0, 1, 42, 3, 181, 0, 7, 42, 3, 181, 0, 13, 42, 1, 181, 0, 16, 177]
abbrev dktJ1_init_0 : List UInt8 := dkwJ1_init_0 ++ []
theorem dksJ1_init_0 : cJ1_init.data.toList.drop 0 = dktJ1_init_0 := by decide +kernel
theorem dJ1_init_0 : decode cJ1_init 0 = .ok (.aload_n 0, 1) := dk_42 (dk_at dksJ1_init_0 0 rfl rfl)
theorem dJ1_init_1 : decode cJ1_init 1 = .ok (.invokespecial 1, 3) := dk_183 0 1 (dk_at dksJ1_init_0 1 rfl rfl)
theorem dJ1_init_4 : decode cJ1_init 4 = .ok (.aload_n 0, 1) := dk_42 (dk_at dksJ1_init_0 4 rfl rfl)
theorem dJ1_init_5 : decode cJ1_init 5 = .ok (.iconst 0, 1) := dk_3 (dk_at dksJ1_init_0 5 rfl rfl)
theorem dJ1_init_6 : decode cJ1_init 6 = .ok (.putfield 7, 3) := dk_181 0 7 (dk_at dksJ1_init_0 6 rfl rfl)
theorem dJ1_init_9 : decode cJ1_init 9 = .ok (.aload_n 0, 1) := dk_42 (dk_at dksJ1_init_0 9 rfl rfl)
theorem dJ1_init_10 : decode cJ1_init 10 = .ok (.iconst 0, 1) := dk_3 (dk_at dksJ1_init_0 10 rfl rfl)
theorem dJ1_init_11 : decode cJ1_init 11 = .ok (.putfield 13, 3) := dk_181 0 13 (dk_at dksJ1_init_0 11 rfl rfl)
theorem dJ1_init_14 : decode cJ1_init 14 = .ok (.aload_n 0, 1) := dk_42 (dk_at dksJ1_init_0 14 rfl rfl)
theorem dJ1_init_15 : decode cJ1_init 15 = .ok (.aconst_null, 1) := dk_1 (dk_at dksJ1_init_0 15 rfl rfl)
theorem dJ1_init_16 : decode cJ1_init 16 = .ok (.putfield 16, 3) := dk_181 0 16 (dk_at dksJ1_init_0 16 rfl rfl)
theorem dJ1_init_19 : decode cJ1_init 19 = .ok (.return_, 1) := dk_177 (dk_at dksJ1_init_0 19 rfl rfl)
abbrev cJ1_init_2 : ByteArray := prog_70_method_2_code
def yJ1_init_2 : MethodName := ⟨RJ1, "<init>", "(Ljava/util/Comparator;)V"⟩
def dkwJ1_init_2_0 : List UInt8 := [42, 183, 0, 1, 42, 3, 181, 0, 7, 42, 3, 181, 0, 13, 42, 43, 181, 0, 16, 177]
abbrev dktJ1_init_2_0 : List UInt8 := dkwJ1_init_2_0 ++ []
theorem dksJ1_init_2_0 : cJ1_init_2.data.toList.drop 0 = dktJ1_init_2_0 := by decide +kernel
theorem dJ1_init_2_0 : decode cJ1_init_2 0 = .ok (.aload_n 0, 1) := dk_42 (dk_at dksJ1_init_2_0 0 rfl rfl)
theorem dJ1_init_2_1 : decode cJ1_init_2 1 = .ok (.invokespecial 1, 3) := dk_183 0 1 (dk_at dksJ1_init_2_0 1 rfl rfl)
theorem dJ1_init_2_4 : decode cJ1_init_2 4 = .ok (.aload_n 0, 1) := dk_42 (dk_at dksJ1_init_2_0 4 rfl rfl)
theorem dJ1_init_2_5 : decode cJ1_init_2 5 = .ok (.iconst 0, 1) := dk_3 (dk_at dksJ1_init_2_0 5 rfl rfl)
theorem dJ1_init_2_6 : decode cJ1_init_2 6 = .ok (.putfield 7, 3) := dk_181 0 7 (dk_at dksJ1_init_2_0 6 rfl rfl)
theorem dJ1_init_2_9 : decode cJ1_init_2 9 = .ok (.aload_n 0, 1) := dk_42 (dk_at dksJ1_init_2_0 9 rfl rfl)
theorem dJ1_init_2_10 : decode cJ1_init_2 10 = .ok (.iconst 0, 1) := dk_3 (dk_at dksJ1_init_2_0 10 rfl rfl)
theorem dJ1_init_2_11 : decode cJ1_init_2 11 = .ok (.putfield 13, 3) := dk_181 0 13 (dk_at dksJ1_init_2_0 11 rfl rfl)
theorem dJ1_init_2_14 : decode cJ1_init_2 14 = .ok (.aload_n 0, 1) := dk_42 (dk_at dksJ1_init_2_0 14 rfl rfl)
theorem dJ1_init_2_15 : decode cJ1_init_2 15 = .ok (.aload_n 1, 1) := dk_43 (dk_at dksJ1_init_2_0 15 rfl rfl)
theorem dJ1_init_2_16 : decode cJ1_init_2 16 = .ok (.putfield 16, 3) := dk_181 0 16 (dk_at dksJ1_init_2_0 16 rfl rfl)
theorem dJ1_init_2_19 : decode cJ1_init_2 19 = .ok (.return_, 1) := dk_177 (dk_at dksJ1_init_2_0 19 rfl rfl)
abbrev cJ1_put : ByteArray := prog_70_method_21_code
def yJ1_put : MethodName := ⟨RJ1, "put", "(Ljava/lang/Object;Ljava/lang/Object;)Ljava/lang/Object;"⟩
def dkwJ1_put_0 : List UInt8 := [42, 43, 44, 4, 182, 0, 127, 176]
abbrev dktJ1_put_0 : List UInt8 := dkwJ1_put_0 ++ []
theorem dksJ1_put_0 : cJ1_put.data.toList.drop 0 = dktJ1_put_0 := by decide +kernel
theorem dJ1_put_0 : decode cJ1_put 0 = .ok (.aload_n 0, 1) := dk_42 (dk_at dksJ1_put_0 0 rfl rfl)
theorem dJ1_put_1 : decode cJ1_put 1 = .ok (.aload_n 1, 1) := dk_43 (dk_at dksJ1_put_0 1 rfl rfl)
theorem dJ1_put_2 : decode cJ1_put 2 = .ok (.aload_n 2, 1) := dk_44 (dk_at dksJ1_put_0 2 rfl rfl)
theorem dJ1_put_3 : decode cJ1_put 3 = .ok (.iconst 1, 1) := dk_4 (dk_at dksJ1_put_0 3 rfl rfl)
theorem dJ1_put_4 : decode cJ1_put 4 = .ok (.invokevirtual 127, 3) := dk_182 0 127 (dk_at dksJ1_put_0 4 rfl rfl)
theorem dJ1_put_7 : decode cJ1_put 7 = .ok (.areturn, 1) := dk_176 (dk_at dksJ1_put_0 7 rfl rfl)
abbrev cJ1_put_2 : ByteArray := prog_70_method_31_code
def yJ1_put_2 : MethodName := ⟨RJ1, "put", "(Ljava/lang/Object;Ljava/lang/Object;Z)Ljava/lang/Object;"⟩
def dkwJ1_put_2_9 : List UInt8 := [4, 167, 0, 4, 3, 182, 0, 139, 1, 176]
abbrev dktJ1_put_2_9 : List UInt8 := dkwJ1_put_2_9 ++ []
def dkwJ1_put_2_8 : List UInt8 := [25, 4, 44, 181, 0, 58, 25, 9, 176, 25, 4, 199, 255, 181, 42, 43, 44, 25, 6, 21, 5, 156, 0, 7]
abbrev dktJ1_put_2_8 : List UInt8 := dkwJ1_put_2_8 ++ dktJ1_put_2_9
def dkwJ1_put_2_7 : List UInt8 := [180, 0, 114, 58, 4, 167, 0, 28, 25, 4, 180, 0, 58, 58, 9, 29, 154, 0, 8, 25, 9, 199, 0, 9]
abbrev dktJ1_put_2_7 : List UInt8 := dkwJ1_put_2_7 ++ dktJ1_put_2_8
def dkwJ1_put_2_6 : List UInt8 := [21, 5, 156, 0, 13, 25, 4, 180, 0, 111, 58, 4, 167, 0, 43, 21, 5, 158, 0, 13, 25, 4]
abbrev dktJ1_put_2_6 : List UInt8 := dkwJ1_put_2_6 ++ dktJ1_put_2_7
def dkwJ1_put_2_5 : List UInt8 := [192, 0, 99, 58, 8, 25, 4, 58, 6, 25, 8, 25, 4, 180, 0, 105, 185, 0, 107, 2, 0, 54, 5]
abbrev dktJ1_put_2_5 : List UInt8 := dkwJ1_put_2_5 ++ dktJ1_put_2_6
def dkwJ1_put_2_4 : List UInt8 := [25, 4, 44, 181, 0, 58, 25, 8, 176, 25, 4, 199, 255, 180, 167, 0, 92, 43, 184, 0, 95, 87, 43]
abbrev dktJ1_put_2_4 : List UInt8 := dkwJ1_put_2_4 ++ dktJ1_put_2_5
def dkwJ1_put_2_3 : List UInt8 := [180, 0, 114, 58, 4, 167, 0, 28, 25, 4, 180, 0, 58, 58, 8, 29, 154, 0, 8, 25, 8, 199, 0, 9]
abbrev dktJ1_put_2_3 : List UInt8 := dkwJ1_put_2_3 ++ dktJ1_put_2_4
def dkwJ1_put_2_2 : List UInt8 := [54, 5, 21, 5, 156, 0, 13, 25, 4, 180, 0, 111, 58, 4, 167, 0, 43, 21, 5, 158, 0, 13, 25, 4]
abbrev dktJ1_put_2_2 : List UInt8 := dkwJ1_put_2_2 ++ dktJ1_put_2_3
def dkwJ1_put_2_1 : List UInt8 := [58, 7, 25, 7, 198, 0, 85, 25, 4, 58, 6, 25, 7, 43, 25, 4, 180, 0, 105, 185, 0, 117, 3, 0]
abbrev dktJ1_put_2_1 : List UInt8 := dkwJ1_put_2_1 ++ dktJ1_put_2_2
def dkwJ1_put_2_0 : List UInt8 := [42, 180, 0, 101, 58, 4, 25, 4, 199, 0, 11, 42, 43, 44, 182, 0, 135, 1, 176, 42, 180, 0, 16]
abbrev dktJ1_put_2_0 : List UInt8 := dkwJ1_put_2_0 ++ dktJ1_put_2_1
theorem dksJ1_put_2_0 : cJ1_put_2.data.toList.drop 0 = dktJ1_put_2_0 := by decide +kernel
theorem dksJ1_put_2_1 : cJ1_put_2.data.toList.drop 23 = dktJ1_put_2_1 := dk_seg dksJ1_put_2_0 23 rfl rfl
theorem dksJ1_put_2_2 : cJ1_put_2.data.toList.drop 47 = dktJ1_put_2_2 := dk_seg dksJ1_put_2_1 24 rfl rfl
theorem dksJ1_put_2_3 : cJ1_put_2.data.toList.drop 71 = dktJ1_put_2_3 := dk_seg dksJ1_put_2_2 24 rfl rfl
theorem dksJ1_put_2_4 : cJ1_put_2.data.toList.drop 95 = dktJ1_put_2_4 := dk_seg dksJ1_put_2_3 24 rfl rfl
theorem dksJ1_put_2_5 : cJ1_put_2.data.toList.drop 118 = dktJ1_put_2_5 := dk_seg dksJ1_put_2_4 23 rfl rfl
theorem dksJ1_put_2_6 : cJ1_put_2.data.toList.drop 141 = dktJ1_put_2_6 := dk_seg dksJ1_put_2_5 23 rfl rfl
theorem dksJ1_put_2_7 : cJ1_put_2.data.toList.drop 163 = dktJ1_put_2_7 := dk_seg dksJ1_put_2_6 22 rfl rfl
theorem dksJ1_put_2_8 : cJ1_put_2.data.toList.drop 187 = dktJ1_put_2_8 := dk_seg dksJ1_put_2_7 24 rfl rfl
theorem dksJ1_put_2_9 : cJ1_put_2.data.toList.drop 211 = dktJ1_put_2_9 := dk_seg dksJ1_put_2_8 24 rfl rfl
theorem dJ1_put_2_0 : decode cJ1_put_2 0 = .ok (.aload_n 0, 1) := dk_42 (dk_at dksJ1_put_2_0 0 rfl rfl)
theorem dJ1_put_2_1 : decode cJ1_put_2 1 = .ok (.getfield 101, 3) := dk_180 0 101 (dk_at dksJ1_put_2_0 1 rfl rfl)
theorem dJ1_put_2_4 : decode cJ1_put_2 4 = .ok (.astore 4, 2) := dk_58 4 (dk_at dksJ1_put_2_0 4 rfl rfl)
theorem dJ1_put_2_6 : decode cJ1_put_2 6 = .ok (.aload 4, 2) := dk_25 4 (dk_at dksJ1_put_2_0 6 rfl rfl)
theorem dJ1_put_2_8 : decode cJ1_put_2 8 = .ok (.ifnonnull 11, 3) := dk_199 0 11 (dk_at dksJ1_put_2_0 8 rfl rfl)
theorem dJ1_put_2_11 : decode cJ1_put_2 11 = .ok (.aload_n 0, 1) := dk_42 (dk_at dksJ1_put_2_0 11 rfl rfl)
theorem dJ1_put_2_12 : decode cJ1_put_2 12 = .ok (.aload_n 1, 1) := dk_43 (dk_at dksJ1_put_2_0 12 rfl rfl)
theorem dJ1_put_2_13 : decode cJ1_put_2 13 = .ok (.aload_n 2, 1) := dk_44 (dk_at dksJ1_put_2_0 13 rfl rfl)
theorem dJ1_put_2_14 : decode cJ1_put_2 14 = .ok (.invokevirtual 135, 3) := dk_182 0 135 (dk_at dksJ1_put_2_0 14 rfl rfl)
theorem dJ1_put_2_17 : decode cJ1_put_2 17 = .ok (.aconst_null, 1) := dk_1 (dk_at dksJ1_put_2_0 17 rfl rfl)
theorem dJ1_put_2_18 : decode cJ1_put_2 18 = .ok (.areturn, 1) := dk_176 (dk_at dksJ1_put_2_0 18 rfl rfl)
theorem dJ1_put_2_19 : decode cJ1_put_2 19 = .ok (.aload_n 0, 1) := dk_42 (dk_at dksJ1_put_2_0 19 rfl rfl)
theorem dJ1_put_2_20 : decode cJ1_put_2 20 = .ok (.getfield 16, 3) := dk_180 0 16 (dk_at dksJ1_put_2_0 20 rfl rfl)
theorem dJ1_put_2_23 : decode cJ1_put_2 23 = .ok (.astore 7, 2) := dk_58 7 (dk_at dksJ1_put_2_1 0 rfl rfl)
theorem dJ1_put_2_25 : decode cJ1_put_2 25 = .ok (.aload 7, 2) := dk_25 7 (dk_at dksJ1_put_2_1 2 rfl rfl)
theorem dJ1_put_2_27 : decode cJ1_put_2 27 = .ok (.ifnull 85, 3) := dk_198 0 85 (dk_at dksJ1_put_2_1 4 rfl rfl)
theorem dJ1_put_2_30 : decode cJ1_put_2 30 = .ok (.aload 4, 2) := dk_25 4 (dk_at dksJ1_put_2_1 7 rfl rfl)
theorem dJ1_put_2_32 : decode cJ1_put_2 32 = .ok (.astore 6, 2) := dk_58 6 (dk_at dksJ1_put_2_1 9 rfl rfl)
theorem dJ1_put_2_34 : decode cJ1_put_2 34 = .ok (.aload 7, 2) := dk_25 7 (dk_at dksJ1_put_2_1 11 rfl rfl)
theorem dJ1_put_2_36 : decode cJ1_put_2 36 = .ok (.aload_n 1, 1) := dk_43 (dk_at dksJ1_put_2_1 13 rfl rfl)
theorem dJ1_put_2_37 : decode cJ1_put_2 37 = .ok (.aload 4, 2) := dk_25 4 (dk_at dksJ1_put_2_1 14 rfl rfl)
theorem dJ1_put_2_39 : decode cJ1_put_2 39 = .ok (.getfield 105, 3) := dk_180 0 105 (dk_at dksJ1_put_2_1 16 rfl rfl)
theorem dJ1_put_2_42 : decode cJ1_put_2 42 = .ok (.invokeinterface 117 3, 5) := by decide +kernel
theorem dJ1_put_2_47 : decode cJ1_put_2 47 = .ok (.istore 5, 2) := dk_54 5 (dk_at dksJ1_put_2_2 0 rfl rfl)
theorem dJ1_put_2_49 : decode cJ1_put_2 49 = .ok (.iload 5, 2) := dk_21 5 (dk_at dksJ1_put_2_2 2 rfl rfl)
theorem dJ1_put_2_51 : decode cJ1_put_2 51 = .ok (.ifCond .ge 13, 3) := dk_156 0 13 (dk_at dksJ1_put_2_2 4 rfl rfl)
theorem dJ1_put_2_54 : decode cJ1_put_2 54 = .ok (.aload 4, 2) := dk_25 4 (dk_at dksJ1_put_2_2 7 rfl rfl)
theorem dJ1_put_2_56 : decode cJ1_put_2 56 = .ok (.getfield 111, 3) := dk_180 0 111 (dk_at dksJ1_put_2_2 9 rfl rfl)
theorem dJ1_put_2_59 : decode cJ1_put_2 59 = .ok (.astore 4, 2) := dk_58 4 (dk_at dksJ1_put_2_2 12 rfl rfl)
theorem dJ1_put_2_61 : decode cJ1_put_2 61 = .ok (.goto 43, 3) := dk_167 0 43 (dk_at dksJ1_put_2_2 14 rfl rfl)
theorem dJ1_put_2_64 : decode cJ1_put_2 64 = .ok (.iload 5, 2) := dk_21 5 (dk_at dksJ1_put_2_2 17 rfl rfl)
theorem dJ1_put_2_66 : decode cJ1_put_2 66 = .ok (.ifCond .le 13, 3) := dk_158 0 13 (dk_at dksJ1_put_2_2 19 rfl rfl)
theorem dJ1_put_2_69 : decode cJ1_put_2 69 = .ok (.aload 4, 2) := dk_25 4 (dk_at dksJ1_put_2_2 22 rfl rfl)
theorem dJ1_put_2_71 : decode cJ1_put_2 71 = .ok (.getfield 114, 3) := dk_180 0 114 (dk_at dksJ1_put_2_3 0 rfl rfl)
theorem dJ1_put_2_74 : decode cJ1_put_2 74 = .ok (.astore 4, 2) := dk_58 4 (dk_at dksJ1_put_2_3 3 rfl rfl)
theorem dJ1_put_2_76 : decode cJ1_put_2 76 = .ok (.goto 28, 3) := dk_167 0 28 (dk_at dksJ1_put_2_3 5 rfl rfl)
theorem dJ1_put_2_79 : decode cJ1_put_2 79 = .ok (.aload 4, 2) := dk_25 4 (dk_at dksJ1_put_2_3 8 rfl rfl)
theorem dJ1_put_2_81 : decode cJ1_put_2 81 = .ok (.getfield 58, 3) := dk_180 0 58 (dk_at dksJ1_put_2_3 10 rfl rfl)
theorem dJ1_put_2_84 : decode cJ1_put_2 84 = .ok (.astore 8, 2) := dk_58 8 (dk_at dksJ1_put_2_3 13 rfl rfl)
theorem dJ1_put_2_86 : decode cJ1_put_2 86 = .ok (.iload_n 3, 1) := dk_29 (dk_at dksJ1_put_2_3 15 rfl rfl)
theorem dJ1_put_2_87 : decode cJ1_put_2 87 = .ok (.ifCond .ne 8, 3) := dk_154 0 8 (dk_at dksJ1_put_2_3 16 rfl rfl)
theorem dJ1_put_2_90 : decode cJ1_put_2 90 = .ok (.aload 8, 2) := dk_25 8 (dk_at dksJ1_put_2_3 19 rfl rfl)
theorem dJ1_put_2_92 : decode cJ1_put_2 92 = .ok (.ifnonnull 9, 3) := dk_199 0 9 (dk_at dksJ1_put_2_3 21 rfl rfl)
theorem dJ1_put_2_95 : decode cJ1_put_2 95 = .ok (.aload 4, 2) := dk_25 4 (dk_at dksJ1_put_2_4 0 rfl rfl)
theorem dJ1_put_2_97 : decode cJ1_put_2 97 = .ok (.aload_n 2, 1) := dk_44 (dk_at dksJ1_put_2_4 2 rfl rfl)
theorem dJ1_put_2_98 : decode cJ1_put_2 98 = .ok (.putfield 58, 3) := dk_181 0 58 (dk_at dksJ1_put_2_4 3 rfl rfl)
theorem dJ1_put_2_101 : decode cJ1_put_2 101 = .ok (.aload 8, 2) := dk_25 8 (dk_at dksJ1_put_2_4 6 rfl rfl)
theorem dJ1_put_2_103 : decode cJ1_put_2 103 = .ok (.areturn, 1) := dk_176 (dk_at dksJ1_put_2_4 8 rfl rfl)
theorem dJ1_put_2_104 : decode cJ1_put_2 104 = .ok (.aload 4, 2) := dk_25 4 (dk_at dksJ1_put_2_4 9 rfl rfl)
theorem dJ1_put_2_106 : decode cJ1_put_2 106 = .ok (.ifnonnull (-76), 3) := dk_199 255 180 (dk_at dksJ1_put_2_4 11 rfl rfl)
theorem dJ1_put_2_109 : decode cJ1_put_2 109 = .ok (.goto 92, 3) := dk_167 0 92 (dk_at dksJ1_put_2_4 14 rfl rfl)
theorem dJ1_put_2_112 : decode cJ1_put_2 112 = .ok (.aload_n 1, 1) := dk_43 (dk_at dksJ1_put_2_4 17 rfl rfl)
theorem dJ1_put_2_113 : decode cJ1_put_2 113 = .ok (.invokestatic 95, 3) := dk_184 0 95 (dk_at dksJ1_put_2_4 18 rfl rfl)
theorem dJ1_put_2_116 : decode cJ1_put_2 116 = .ok (.pop, 1) := dk_87 (dk_at dksJ1_put_2_4 21 rfl rfl)
theorem dJ1_put_2_117 : decode cJ1_put_2 117 = .ok (.aload_n 1, 1) := dk_43 (dk_at dksJ1_put_2_4 22 rfl rfl)
theorem dJ1_put_2_118 : decode cJ1_put_2 118 = .ok (.checkcast 99, 3) := dk_192 0 99 (dk_at dksJ1_put_2_5 0 rfl rfl)
theorem dJ1_put_2_121 : decode cJ1_put_2 121 = .ok (.astore 8, 2) := dk_58 8 (dk_at dksJ1_put_2_5 3 rfl rfl)
theorem dJ1_put_2_123 : decode cJ1_put_2 123 = .ok (.aload 4, 2) := dk_25 4 (dk_at dksJ1_put_2_5 5 rfl rfl)
theorem dJ1_put_2_125 : decode cJ1_put_2 125 = .ok (.astore 6, 2) := dk_58 6 (dk_at dksJ1_put_2_5 7 rfl rfl)
theorem dJ1_put_2_127 : decode cJ1_put_2 127 = .ok (.aload 8, 2) := dk_25 8 (dk_at dksJ1_put_2_5 9 rfl rfl)
theorem dJ1_put_2_129 : decode cJ1_put_2 129 = .ok (.aload 4, 2) := dk_25 4 (dk_at dksJ1_put_2_5 11 rfl rfl)
theorem dJ1_put_2_131 : decode cJ1_put_2 131 = .ok (.getfield 105, 3) := dk_180 0 105 (dk_at dksJ1_put_2_5 13 rfl rfl)
theorem dJ1_put_2_134 : decode cJ1_put_2 134 = .ok (.invokeinterface 107 2, 5) := by decide +kernel
theorem dJ1_put_2_139 : decode cJ1_put_2 139 = .ok (.istore 5, 2) := dk_54 5 (dk_at dksJ1_put_2_5 21 rfl rfl)
theorem dJ1_put_2_141 : decode cJ1_put_2 141 = .ok (.iload 5, 2) := dk_21 5 (dk_at dksJ1_put_2_6 0 rfl rfl)
theorem dJ1_put_2_143 : decode cJ1_put_2 143 = .ok (.ifCond .ge 13, 3) := dk_156 0 13 (dk_at dksJ1_put_2_6 2 rfl rfl)
theorem dJ1_put_2_146 : decode cJ1_put_2 146 = .ok (.aload 4, 2) := dk_25 4 (dk_at dksJ1_put_2_6 5 rfl rfl)
theorem dJ1_put_2_148 : decode cJ1_put_2 148 = .ok (.getfield 111, 3) := dk_180 0 111 (dk_at dksJ1_put_2_6 7 rfl rfl)
theorem dJ1_put_2_151 : decode cJ1_put_2 151 = .ok (.astore 4, 2) := dk_58 4 (dk_at dksJ1_put_2_6 10 rfl rfl)
theorem dJ1_put_2_153 : decode cJ1_put_2 153 = .ok (.goto 43, 3) := dk_167 0 43 (dk_at dksJ1_put_2_6 12 rfl rfl)
theorem dJ1_put_2_156 : decode cJ1_put_2 156 = .ok (.iload 5, 2) := dk_21 5 (dk_at dksJ1_put_2_6 15 rfl rfl)
theorem dJ1_put_2_158 : decode cJ1_put_2 158 = .ok (.ifCond .le 13, 3) := dk_158 0 13 (dk_at dksJ1_put_2_6 17 rfl rfl)
theorem dJ1_put_2_161 : decode cJ1_put_2 161 = .ok (.aload 4, 2) := dk_25 4 (dk_at dksJ1_put_2_6 20 rfl rfl)
theorem dJ1_put_2_163 : decode cJ1_put_2 163 = .ok (.getfield 114, 3) := dk_180 0 114 (dk_at dksJ1_put_2_7 0 rfl rfl)
theorem dJ1_put_2_166 : decode cJ1_put_2 166 = .ok (.astore 4, 2) := dk_58 4 (dk_at dksJ1_put_2_7 3 rfl rfl)
theorem dJ1_put_2_168 : decode cJ1_put_2 168 = .ok (.goto 28, 3) := dk_167 0 28 (dk_at dksJ1_put_2_7 5 rfl rfl)
theorem dJ1_put_2_171 : decode cJ1_put_2 171 = .ok (.aload 4, 2) := dk_25 4 (dk_at dksJ1_put_2_7 8 rfl rfl)
theorem dJ1_put_2_173 : decode cJ1_put_2 173 = .ok (.getfield 58, 3) := dk_180 0 58 (dk_at dksJ1_put_2_7 10 rfl rfl)
theorem dJ1_put_2_176 : decode cJ1_put_2 176 = .ok (.astore 9, 2) := dk_58 9 (dk_at dksJ1_put_2_7 13 rfl rfl)
theorem dJ1_put_2_178 : decode cJ1_put_2 178 = .ok (.iload_n 3, 1) := dk_29 (dk_at dksJ1_put_2_7 15 rfl rfl)
theorem dJ1_put_2_179 : decode cJ1_put_2 179 = .ok (.ifCond .ne 8, 3) := dk_154 0 8 (dk_at dksJ1_put_2_7 16 rfl rfl)
theorem dJ1_put_2_182 : decode cJ1_put_2 182 = .ok (.aload 9, 2) := dk_25 9 (dk_at dksJ1_put_2_7 19 rfl rfl)
theorem dJ1_put_2_184 : decode cJ1_put_2 184 = .ok (.ifnonnull 9, 3) := dk_199 0 9 (dk_at dksJ1_put_2_7 21 rfl rfl)
theorem dJ1_put_2_187 : decode cJ1_put_2 187 = .ok (.aload 4, 2) := dk_25 4 (dk_at dksJ1_put_2_8 0 rfl rfl)
theorem dJ1_put_2_189 : decode cJ1_put_2 189 = .ok (.aload_n 2, 1) := dk_44 (dk_at dksJ1_put_2_8 2 rfl rfl)
theorem dJ1_put_2_190 : decode cJ1_put_2 190 = .ok (.putfield 58, 3) := dk_181 0 58 (dk_at dksJ1_put_2_8 3 rfl rfl)
theorem dJ1_put_2_193 : decode cJ1_put_2 193 = .ok (.aload 9, 2) := dk_25 9 (dk_at dksJ1_put_2_8 6 rfl rfl)
theorem dJ1_put_2_195 : decode cJ1_put_2 195 = .ok (.areturn, 1) := dk_176 (dk_at dksJ1_put_2_8 8 rfl rfl)
theorem dJ1_put_2_196 : decode cJ1_put_2 196 = .ok (.aload 4, 2) := dk_25 4 (dk_at dksJ1_put_2_8 9 rfl rfl)
theorem dJ1_put_2_198 : decode cJ1_put_2 198 = .ok (.ifnonnull (-75), 3) := dk_199 255 181 (dk_at dksJ1_put_2_8 11 rfl rfl)
theorem dJ1_put_2_201 : decode cJ1_put_2 201 = .ok (.aload_n 0, 1) := dk_42 (dk_at dksJ1_put_2_8 14 rfl rfl)
theorem dJ1_put_2_202 : decode cJ1_put_2 202 = .ok (.aload_n 1, 1) := dk_43 (dk_at dksJ1_put_2_8 15 rfl rfl)
theorem dJ1_put_2_203 : decode cJ1_put_2 203 = .ok (.aload_n 2, 1) := dk_44 (dk_at dksJ1_put_2_8 16 rfl rfl)
theorem dJ1_put_2_204 : decode cJ1_put_2 204 = .ok (.aload 6, 2) := dk_25 6 (dk_at dksJ1_put_2_8 17 rfl rfl)
theorem dJ1_put_2_206 : decode cJ1_put_2 206 = .ok (.iload 5, 2) := dk_21 5 (dk_at dksJ1_put_2_8 19 rfl rfl)
theorem dJ1_put_2_208 : decode cJ1_put_2 208 = .ok (.ifCond .ge 7, 3) := dk_156 0 7 (dk_at dksJ1_put_2_8 21 rfl rfl)
theorem dJ1_put_2_211 : decode cJ1_put_2 211 = .ok (.iconst 1, 1) := dk_4 (dk_at dksJ1_put_2_9 0 rfl rfl)
theorem dJ1_put_2_212 : decode cJ1_put_2 212 = .ok (.goto 4, 3) := dk_167 0 4 (dk_at dksJ1_put_2_9 1 rfl rfl)
theorem dJ1_put_2_215 : decode cJ1_put_2 215 = .ok (.iconst 0, 1) := dk_3 (dk_at dksJ1_put_2_9 4 rfl rfl)
theorem dJ1_put_2_216 : decode cJ1_put_2 216 = .ok (.invokevirtual 139, 3) := dk_182 0 139 (dk_at dksJ1_put_2_9 5 rfl rfl)
theorem dJ1_put_2_219 : decode cJ1_put_2 219 = .ok (.aconst_null, 1) := dk_1 (dk_at dksJ1_put_2_9 8 rfl rfl)
theorem dJ1_put_2_220 : decode cJ1_put_2 220 = .ok (.areturn, 1) := dk_176 (dk_at dksJ1_put_2_9 9 rfl rfl)
abbrev cJ1_addEntryToEmptyMap : ByteArray := prog_70_method_30_code
def yJ1_addEntryToEmptyMap : MethodName := ⟨RJ1, "addEntryToEmptyMap", "(Ljava/lang/Object;Ljava/lang/Object;)V"⟩
def dkwJ1_addEntryToEmptyMap_1 : List UInt8 := [181, 0, 7, 42, 89, 180, 0, 13, 4, 96, 181, 0, 13, 177]
abbrev dktJ1_addEntryToEmptyMap_1 : List UInt8 := dkwJ1_addEntryToEmptyMap_1 ++ []
def dkwJ1_addEntryToEmptyMap_0 : List UInt8 := [42, 43, 43, 182, 0, 123, 87, 42, 187, 0, 59, 89, 43, 44, 1, 183, 0, 167, 181, 0, 101, 42, 4]
abbrev dktJ1_addEntryToEmptyMap_0 : List UInt8 := dkwJ1_addEntryToEmptyMap_0 ++ dktJ1_addEntryToEmptyMap_1
theorem dksJ1_addEntryToEmptyMap_0 : cJ1_addEntryToEmptyMap.data.toList.drop 0 = dktJ1_addEntryToEmptyMap_0 := by decide +kernel
theorem dksJ1_addEntryToEmptyMap_1 : cJ1_addEntryToEmptyMap.data.toList.drop 23 = dktJ1_addEntryToEmptyMap_1 := dk_seg dksJ1_addEntryToEmptyMap_0 23 rfl rfl
theorem dJ1_addEntryToEmptyMap_0 : decode cJ1_addEntryToEmptyMap 0 = .ok (.aload_n 0, 1) := dk_42 (dk_at dksJ1_addEntryToEmptyMap_0 0 rfl rfl)
theorem dJ1_addEntryToEmptyMap_1 : decode cJ1_addEntryToEmptyMap 1 = .ok (.aload_n 1, 1) := dk_43 (dk_at dksJ1_addEntryToEmptyMap_0 1 rfl rfl)
theorem dJ1_addEntryToEmptyMap_2 : decode cJ1_addEntryToEmptyMap 2 = .ok (.aload_n 1, 1) := dk_43 (dk_at dksJ1_addEntryToEmptyMap_0 2 rfl rfl)
theorem dJ1_addEntryToEmptyMap_3 : decode cJ1_addEntryToEmptyMap 3 = .ok (.invokevirtual 123, 3) := dk_182 0 123 (dk_at dksJ1_addEntryToEmptyMap_0 3 rfl rfl)
theorem dJ1_addEntryToEmptyMap_6 : decode cJ1_addEntryToEmptyMap 6 = .ok (.pop, 1) := dk_87 (dk_at dksJ1_addEntryToEmptyMap_0 6 rfl rfl)
theorem dJ1_addEntryToEmptyMap_7 : decode cJ1_addEntryToEmptyMap 7 = .ok (.aload_n 0, 1) := dk_42 (dk_at dksJ1_addEntryToEmptyMap_0 7 rfl rfl)
theorem dJ1_addEntryToEmptyMap_8 : decode cJ1_addEntryToEmptyMap 8 = .ok (.new 59, 3) := dk_187 0 59 (dk_at dksJ1_addEntryToEmptyMap_0 8 rfl rfl)
theorem dJ1_addEntryToEmptyMap_11 : decode cJ1_addEntryToEmptyMap 11 = .ok (.dup, 1) := dk_89 (dk_at dksJ1_addEntryToEmptyMap_0 11 rfl rfl)
theorem dJ1_addEntryToEmptyMap_12 : decode cJ1_addEntryToEmptyMap 12 = .ok (.aload_n 1, 1) := dk_43 (dk_at dksJ1_addEntryToEmptyMap_0 12 rfl rfl)
theorem dJ1_addEntryToEmptyMap_13 : decode cJ1_addEntryToEmptyMap 13 = .ok (.aload_n 2, 1) := dk_44 (dk_at dksJ1_addEntryToEmptyMap_0 13 rfl rfl)
theorem dJ1_addEntryToEmptyMap_14 : decode cJ1_addEntryToEmptyMap 14 = .ok (.aconst_null, 1) := dk_1 (dk_at dksJ1_addEntryToEmptyMap_0 14 rfl rfl)
theorem dJ1_addEntryToEmptyMap_15 : decode cJ1_addEntryToEmptyMap 15 = .ok (.invokespecial 167, 3) := dk_183 0 167 (dk_at dksJ1_addEntryToEmptyMap_0 15 rfl rfl)
theorem dJ1_addEntryToEmptyMap_18 : decode cJ1_addEntryToEmptyMap 18 = .ok (.putfield 101, 3) := dk_181 0 101 (dk_at dksJ1_addEntryToEmptyMap_0 18 rfl rfl)
theorem dJ1_addEntryToEmptyMap_21 : decode cJ1_addEntryToEmptyMap 21 = .ok (.aload_n 0, 1) := dk_42 (dk_at dksJ1_addEntryToEmptyMap_0 21 rfl rfl)
theorem dJ1_addEntryToEmptyMap_22 : decode cJ1_addEntryToEmptyMap 22 = .ok (.iconst 1, 1) := dk_4 (dk_at dksJ1_addEntryToEmptyMap_0 22 rfl rfl)
theorem dJ1_addEntryToEmptyMap_23 : decode cJ1_addEntryToEmptyMap 23 = .ok (.putfield 7, 3) := dk_181 0 7 (dk_at dksJ1_addEntryToEmptyMap_1 0 rfl rfl)
theorem dJ1_addEntryToEmptyMap_26 : decode cJ1_addEntryToEmptyMap 26 = .ok (.aload_n 0, 1) := dk_42 (dk_at dksJ1_addEntryToEmptyMap_1 3 rfl rfl)
theorem dJ1_addEntryToEmptyMap_27 : decode cJ1_addEntryToEmptyMap 27 = .ok (.dup, 1) := dk_89 (dk_at dksJ1_addEntryToEmptyMap_1 4 rfl rfl)
theorem dJ1_addEntryToEmptyMap_28 : decode cJ1_addEntryToEmptyMap 28 = .ok (.getfield 13, 3) := dk_180 0 13 (dk_at dksJ1_addEntryToEmptyMap_1 5 rfl rfl)
theorem dJ1_addEntryToEmptyMap_31 : decode cJ1_addEntryToEmptyMap 31 = .ok (.iconst 1, 1) := dk_4 (dk_at dksJ1_addEntryToEmptyMap_1 8 rfl rfl)
theorem dJ1_addEntryToEmptyMap_32 : decode cJ1_addEntryToEmptyMap 32 = .ok (.iadd, 1) := dk_96 (dk_at dksJ1_addEntryToEmptyMap_1 9 rfl rfl)
theorem dJ1_addEntryToEmptyMap_33 : decode cJ1_addEntryToEmptyMap 33 = .ok (.putfield 13, 3) := dk_181 0 13 (dk_at dksJ1_addEntryToEmptyMap_1 10 rfl rfl)
theorem dJ1_addEntryToEmptyMap_36 : decode cJ1_addEntryToEmptyMap 36 = .ok (.return_, 1) := dk_177 (dk_at dksJ1_addEntryToEmptyMap_1 13 rfl rfl)
abbrev cJ1_compare : ByteArray := prog_70_method_67_code
def yJ1_compare : MethodName := ⟨RJ1, "compare", "(Ljava/lang/Object;Ljava/lang/Object;)I"⟩
def dkwJ1_compare_1 : List UInt8 := [43, 44, 185, 0, 117, 3, 0, 172]
abbrev dktJ1_compare_1 : List UInt8 := dkwJ1_compare_1 ++ []
def dkwJ1_compare_0 : List UInt8 := [42, 180, 0, 16, 199, 0, 16, 43, 192, 0, 99, 44, 185, 0, 107, 2, 0, 167, 0, 14, 42, 180, 0, 16]
abbrev dktJ1_compare_0 : List UInt8 := dkwJ1_compare_0 ++ dktJ1_compare_1
theorem dksJ1_compare_0 : cJ1_compare.data.toList.drop 0 = dktJ1_compare_0 := by decide +kernel
theorem dksJ1_compare_1 : cJ1_compare.data.toList.drop 24 = dktJ1_compare_1 := dk_seg dksJ1_compare_0 24 rfl rfl
theorem dJ1_compare_0 : decode cJ1_compare 0 = .ok (.aload_n 0, 1) := dk_42 (dk_at dksJ1_compare_0 0 rfl rfl)
theorem dJ1_compare_1 : decode cJ1_compare 1 = .ok (.getfield 16, 3) := dk_180 0 16 (dk_at dksJ1_compare_0 1 rfl rfl)
theorem dJ1_compare_4 : decode cJ1_compare 4 = .ok (.ifnonnull 16, 3) := dk_199 0 16 (dk_at dksJ1_compare_0 4 rfl rfl)
theorem dJ1_compare_7 : decode cJ1_compare 7 = .ok (.aload_n 1, 1) := dk_43 (dk_at dksJ1_compare_0 7 rfl rfl)
theorem dJ1_compare_8 : decode cJ1_compare 8 = .ok (.checkcast 99, 3) := dk_192 0 99 (dk_at dksJ1_compare_0 8 rfl rfl)
theorem dJ1_compare_11 : decode cJ1_compare 11 = .ok (.aload_n 2, 1) := dk_44 (dk_at dksJ1_compare_0 11 rfl rfl)
theorem dJ1_compare_12 : decode cJ1_compare 12 = .ok (.invokeinterface 107 2, 5) := by decide +kernel
theorem dJ1_compare_17 : decode cJ1_compare 17 = .ok (.goto 14, 3) := dk_167 0 14 (dk_at dksJ1_compare_0 17 rfl rfl)
theorem dJ1_compare_20 : decode cJ1_compare 20 = .ok (.aload_n 0, 1) := dk_42 (dk_at dksJ1_compare_0 20 rfl rfl)
theorem dJ1_compare_21 : decode cJ1_compare 21 = .ok (.getfield 16, 3) := dk_180 0 16 (dk_at dksJ1_compare_0 21 rfl rfl)
theorem dJ1_compare_24 : decode cJ1_compare 24 = .ok (.aload_n 1, 1) := dk_43 (dk_at dksJ1_compare_1 0 rfl rfl)
theorem dJ1_compare_25 : decode cJ1_compare 25 = .ok (.aload_n 2, 1) := dk_44 (dk_at dksJ1_compare_1 1 rfl rfl)
theorem dJ1_compare_26 : decode cJ1_compare 26 = .ok (.invokeinterface 117 3, 5) := by decide +kernel
theorem dJ1_compare_31 : decode cJ1_compare 31 = .ok (.ireturn, 1) := dk_172 (dk_at dksJ1_compare_1 7 rfl rfl)
abbrev cJ1_addEntry : ByteArray := prog_70_method_29_code
def yJ1_addEntry : MethodName := ⟨RJ1, "addEntry", "(Ljava/lang/Object;Ljava/lang/Object;Ljava/util/TreeMap$Entry;Z)V"⟩
def dkwJ1_addEntry_2 : List UInt8 := [181, 0, 7, 42, 89, 180, 0, 13, 4, 96, 181, 0, 13, 177]
abbrev dktJ1_addEntry_2 : List UInt8 := dkwJ1_addEntry_2 ++ []
def dkwJ1_addEntry_1 : List UInt8 := [167, 0, 9, 45, 25, 5, 181, 0, 114, 42, 25, 5, 182, 0, 170, 42, 89, 180, 0, 7, 4, 96]
abbrev dktJ1_addEntry_1 : List UInt8 := dkwJ1_addEntry_1 ++ dktJ1_addEntry_2
def dkwJ1_addEntry_0 : List UInt8 := [187, 0, 59, 89, 43, 44, 45, 183, 0, 167, 58, 5, 21, 4, 153, 0, 12, 45, 25, 5, 181, 0, 111]
abbrev dktJ1_addEntry_0 : List UInt8 := dkwJ1_addEntry_0 ++ dktJ1_addEntry_1
theorem dksJ1_addEntry_0 : cJ1_addEntry.data.toList.drop 0 = dktJ1_addEntry_0 := by decide +kernel
theorem dksJ1_addEntry_1 : cJ1_addEntry.data.toList.drop 23 = dktJ1_addEntry_1 := dk_seg dksJ1_addEntry_0 23 rfl rfl
theorem dksJ1_addEntry_2 : cJ1_addEntry.data.toList.drop 45 = dktJ1_addEntry_2 := dk_seg dksJ1_addEntry_1 22 rfl rfl
theorem dJ1_addEntry_0 : decode cJ1_addEntry 0 = .ok (.new 59, 3) := dk_187 0 59 (dk_at dksJ1_addEntry_0 0 rfl rfl)
theorem dJ1_addEntry_3 : decode cJ1_addEntry 3 = .ok (.dup, 1) := dk_89 (dk_at dksJ1_addEntry_0 3 rfl rfl)
theorem dJ1_addEntry_4 : decode cJ1_addEntry 4 = .ok (.aload_n 1, 1) := dk_43 (dk_at dksJ1_addEntry_0 4 rfl rfl)
theorem dJ1_addEntry_5 : decode cJ1_addEntry 5 = .ok (.aload_n 2, 1) := dk_44 (dk_at dksJ1_addEntry_0 5 rfl rfl)
theorem dJ1_addEntry_6 : decode cJ1_addEntry 6 = .ok (.aload_n 3, 1) := dk_45 (dk_at dksJ1_addEntry_0 6 rfl rfl)
theorem dJ1_addEntry_7 : decode cJ1_addEntry 7 = .ok (.invokespecial 167, 3) := dk_183 0 167 (dk_at dksJ1_addEntry_0 7 rfl rfl)
theorem dJ1_addEntry_10 : decode cJ1_addEntry 10 = .ok (.astore 5, 2) := dk_58 5 (dk_at dksJ1_addEntry_0 10 rfl rfl)
theorem dJ1_addEntry_12 : decode cJ1_addEntry 12 = .ok (.iload 4, 2) := dk_21 4 (dk_at dksJ1_addEntry_0 12 rfl rfl)
theorem dJ1_addEntry_14 : decode cJ1_addEntry 14 = .ok (.ifCond .eq 12, 3) := dk_153 0 12 (dk_at dksJ1_addEntry_0 14 rfl rfl)
theorem dJ1_addEntry_17 : decode cJ1_addEntry 17 = .ok (.aload_n 3, 1) := dk_45 (dk_at dksJ1_addEntry_0 17 rfl rfl)
theorem dJ1_addEntry_18 : decode cJ1_addEntry 18 = .ok (.aload 5, 2) := dk_25 5 (dk_at dksJ1_addEntry_0 18 rfl rfl)
theorem dJ1_addEntry_20 : decode cJ1_addEntry 20 = .ok (.putfield 111, 3) := dk_181 0 111 (dk_at dksJ1_addEntry_0 20 rfl rfl)
theorem dJ1_addEntry_23 : decode cJ1_addEntry 23 = .ok (.goto 9, 3) := dk_167 0 9 (dk_at dksJ1_addEntry_1 0 rfl rfl)
theorem dJ1_addEntry_26 : decode cJ1_addEntry 26 = .ok (.aload_n 3, 1) := dk_45 (dk_at dksJ1_addEntry_1 3 rfl rfl)
theorem dJ1_addEntry_27 : decode cJ1_addEntry 27 = .ok (.aload 5, 2) := dk_25 5 (dk_at dksJ1_addEntry_1 4 rfl rfl)
theorem dJ1_addEntry_29 : decode cJ1_addEntry 29 = .ok (.putfield 114, 3) := dk_181 0 114 (dk_at dksJ1_addEntry_1 6 rfl rfl)
theorem dJ1_addEntry_32 : decode cJ1_addEntry 32 = .ok (.aload_n 0, 1) := dk_42 (dk_at dksJ1_addEntry_1 9 rfl rfl)
theorem dJ1_addEntry_33 : decode cJ1_addEntry 33 = .ok (.aload 5, 2) := dk_25 5 (dk_at dksJ1_addEntry_1 10 rfl rfl)
theorem dJ1_addEntry_35 : decode cJ1_addEntry 35 = .ok (.invokevirtual 170, 3) := dk_182 0 170 (dk_at dksJ1_addEntry_1 12 rfl rfl)
theorem dJ1_addEntry_38 : decode cJ1_addEntry 38 = .ok (.aload_n 0, 1) := dk_42 (dk_at dksJ1_addEntry_1 15 rfl rfl)
theorem dJ1_addEntry_39 : decode cJ1_addEntry 39 = .ok (.dup, 1) := dk_89 (dk_at dksJ1_addEntry_1 16 rfl rfl)
theorem dJ1_addEntry_40 : decode cJ1_addEntry 40 = .ok (.getfield 7, 3) := dk_180 0 7 (dk_at dksJ1_addEntry_1 17 rfl rfl)
theorem dJ1_addEntry_43 : decode cJ1_addEntry 43 = .ok (.iconst 1, 1) := dk_4 (dk_at dksJ1_addEntry_1 20 rfl rfl)
theorem dJ1_addEntry_44 : decode cJ1_addEntry 44 = .ok (.iadd, 1) := dk_96 (dk_at dksJ1_addEntry_1 21 rfl rfl)
theorem dJ1_addEntry_45 : decode cJ1_addEntry 45 = .ok (.putfield 7, 3) := dk_181 0 7 (dk_at dksJ1_addEntry_2 0 rfl rfl)
theorem dJ1_addEntry_48 : decode cJ1_addEntry 48 = .ok (.aload_n 0, 1) := dk_42 (dk_at dksJ1_addEntry_2 3 rfl rfl)
theorem dJ1_addEntry_49 : decode cJ1_addEntry 49 = .ok (.dup, 1) := dk_89 (dk_at dksJ1_addEntry_2 4 rfl rfl)
theorem dJ1_addEntry_50 : decode cJ1_addEntry 50 = .ok (.getfield 13, 3) := dk_180 0 13 (dk_at dksJ1_addEntry_2 5 rfl rfl)
theorem dJ1_addEntry_53 : decode cJ1_addEntry 53 = .ok (.iconst 1, 1) := dk_4 (dk_at dksJ1_addEntry_2 8 rfl rfl)
theorem dJ1_addEntry_54 : decode cJ1_addEntry 54 = .ok (.iadd, 1) := dk_96 (dk_at dksJ1_addEntry_2 9 rfl rfl)
theorem dJ1_addEntry_55 : decode cJ1_addEntry 55 = .ok (.putfield 13, 3) := dk_181 0 13 (dk_at dksJ1_addEntry_2 10 rfl rfl)
theorem dJ1_addEntry_58 : decode cJ1_addEntry 58 = .ok (.return_, 1) := dk_177 (dk_at dksJ1_addEntry_2 13 rfl rfl)
abbrev cJ1_fixAfterInsertion : ByteArray := prog_70_method_83_code
def yJ1_fixAfterInsertion : MethodName := ⟨RJ1, "fixAfterInsertion", "(Ljava/util/TreeMap$Entry;)V"⟩
def dkwJ1_fixAfterInsertion_11 : List UInt8 := [42, 180, 0, 101, 4, 181, 1, 34, 177]
abbrev dktJ1_fixAfterInsertion_11 : List UInt8 := dkwJ1_fixAfterInsertion_11 ++ []
def dkwJ1_fixAfterInsertion_10 : List UInt8 := [184, 1, 38, 184, 1, 38, 3, 184, 1, 51, 42, 43, 184, 1, 38, 184, 1, 38, 182, 1, 55, 167, 255, 6]
abbrev dktJ1_fixAfterInsertion_10 : List UInt8 := dkwJ1_fixAfterInsertion_10 ++ dktJ1_fixAfterInsertion_11
def dkwJ1_fixAfterInsertion_9 : List UInt8 := [166, 0, 13, 43, 184, 1, 38, 76, 42, 43, 182, 1, 58, 43, 184, 1, 38, 4, 184, 1, 51, 43]
abbrev dktJ1_fixAfterInsertion_9 : List UInt8 := dkwJ1_fixAfterInsertion_9 ++ dktJ1_fixAfterInsertion_10
def dkwJ1_fixAfterInsertion_8 : List UInt8 := [184, 1, 51, 43, 184, 1, 38, 184, 1, 38, 76, 167, 0, 54, 43, 43, 184, 1, 38, 184, 1, 41]
abbrev dktJ1_fixAfterInsertion_8 : List UInt8 := dkwJ1_fixAfterInsertion_8 ++ dktJ1_fixAfterInsertion_9
def dkwJ1_fixAfterInsertion_7 : List UInt8 := [154, 0, 38, 43, 184, 1, 38, 4, 184, 1, 51, 44, 4, 184, 1, 51, 43, 184, 1, 38, 184, 1, 38, 3]
abbrev dktJ1_fixAfterInsertion_7 : List UInt8 := dkwJ1_fixAfterInsertion_7 ++ dktJ1_fixAfterInsertion_8
def dkwJ1_fixAfterInsertion_6 : List UInt8 := [184, 1, 38, 182, 1, 58, 167, 255, 113, 43, 184, 1, 38, 184, 1, 38, 184, 1, 41, 77, 44, 184, 1, 47]
abbrev dktJ1_fixAfterInsertion_6 : List UInt8 := dkwJ1_fixAfterInsertion_6 ++ dktJ1_fixAfterInsertion_7
def dkwJ1_fixAfterInsertion_5 : List UInt8 := [43, 184, 1, 38, 4, 184, 1, 51, 43, 184, 1, 38, 184, 1, 38, 3, 184, 1, 51, 42, 43, 184, 1, 38]
abbrev dktJ1_fixAfterInsertion_5 : List UInt8 := dkwJ1_fixAfterInsertion_5 ++ dktJ1_fixAfterInsertion_6
def dkwJ1_fixAfterInsertion_4 : List UInt8 := [167, 0, 54, 43, 43, 184, 1, 38, 184, 1, 44, 166, 0, 13, 43, 184, 1, 38, 76, 42, 43, 182, 1, 55]
abbrev dktJ1_fixAfterInsertion_4 : List UInt8 := dkwJ1_fixAfterInsertion_4 ++ dktJ1_fixAfterInsertion_5
def dkwJ1_fixAfterInsertion_3 : List UInt8 := [184, 1, 51, 43, 184, 1, 38, 184, 1, 38, 3, 184, 1, 51, 43, 184, 1, 38, 184, 1, 38, 76]
abbrev dktJ1_fixAfterInsertion_3 : List UInt8 := dkwJ1_fixAfterInsertion_3 ++ dktJ1_fixAfterInsertion_4
def dkwJ1_fixAfterInsertion_2 : List UInt8 := [184, 1, 38, 184, 1, 44, 77, 44, 184, 1, 47, 154, 0, 38, 43, 184, 1, 38, 4, 184, 1, 51, 44, 4]
abbrev dktJ1_fixAfterInsertion_2 : List UInt8 := dkwJ1_fixAfterInsertion_2 ++ dktJ1_fixAfterInsertion_3
def dkwJ1_fixAfterInsertion_1 : List UInt8 := [154, 0, 234, 43, 184, 1, 38, 43, 184, 1, 38, 184, 1, 38, 184, 1, 41, 166, 0, 110, 43, 184, 1, 38]
abbrev dktJ1_fixAfterInsertion_1 : List UInt8 := dkwJ1_fixAfterInsertion_1 ++ dktJ1_fixAfterInsertion_2
def dkwJ1_fixAfterInsertion_0 : List UInt8 := [43, 3, 181, 1, 34, 43, 198, 0, 252, 43, 42, 180, 0, 101, 165, 0, 244, 43, 180, 0, 124, 180, 1, 34]
abbrev dktJ1_fixAfterInsertion_0 : List UInt8 := dkwJ1_fixAfterInsertion_0 ++ dktJ1_fixAfterInsertion_1
theorem dksJ1_fixAfterInsertion_0 : cJ1_fixAfterInsertion.data.toList.drop 0 = dktJ1_fixAfterInsertion_0 := by decide +kernel
theorem dksJ1_fixAfterInsertion_1 : cJ1_fixAfterInsertion.data.toList.drop 24 = dktJ1_fixAfterInsertion_1 := dk_seg dksJ1_fixAfterInsertion_0 24 rfl rfl
theorem dksJ1_fixAfterInsertion_2 : cJ1_fixAfterInsertion.data.toList.drop 48 = dktJ1_fixAfterInsertion_2 := dk_seg dksJ1_fixAfterInsertion_1 24 rfl rfl
theorem dksJ1_fixAfterInsertion_3 : cJ1_fixAfterInsertion.data.toList.drop 72 = dktJ1_fixAfterInsertion_3 := dk_seg dksJ1_fixAfterInsertion_2 24 rfl rfl
theorem dksJ1_fixAfterInsertion_4 : cJ1_fixAfterInsertion.data.toList.drop 94 = dktJ1_fixAfterInsertion_4 := dk_seg dksJ1_fixAfterInsertion_3 22 rfl rfl
theorem dksJ1_fixAfterInsertion_5 : cJ1_fixAfterInsertion.data.toList.drop 118 = dktJ1_fixAfterInsertion_5 := dk_seg dksJ1_fixAfterInsertion_4 24 rfl rfl
theorem dksJ1_fixAfterInsertion_6 : cJ1_fixAfterInsertion.data.toList.drop 142 = dktJ1_fixAfterInsertion_6 := dk_seg dksJ1_fixAfterInsertion_5 24 rfl rfl
theorem dksJ1_fixAfterInsertion_7 : cJ1_fixAfterInsertion.data.toList.drop 166 = dktJ1_fixAfterInsertion_7 := dk_seg dksJ1_fixAfterInsertion_6 24 rfl rfl
theorem dksJ1_fixAfterInsertion_8 : cJ1_fixAfterInsertion.data.toList.drop 190 = dktJ1_fixAfterInsertion_8 := dk_seg dksJ1_fixAfterInsertion_7 24 rfl rfl
theorem dksJ1_fixAfterInsertion_9 : cJ1_fixAfterInsertion.data.toList.drop 212 = dktJ1_fixAfterInsertion_9 := dk_seg dksJ1_fixAfterInsertion_8 22 rfl rfl
theorem dksJ1_fixAfterInsertion_10 : cJ1_fixAfterInsertion.data.toList.drop 234 = dktJ1_fixAfterInsertion_10 := dk_seg dksJ1_fixAfterInsertion_9 22 rfl rfl
theorem dksJ1_fixAfterInsertion_11 : cJ1_fixAfterInsertion.data.toList.drop 258 = dktJ1_fixAfterInsertion_11 := dk_seg dksJ1_fixAfterInsertion_10 24 rfl rfl
theorem dJ1_fixAfterInsertion_0 : decode cJ1_fixAfterInsertion 0 = .ok (.aload_n 1, 1) := dk_43 (dk_at dksJ1_fixAfterInsertion_0 0 rfl rfl)
theorem dJ1_fixAfterInsertion_1 : decode cJ1_fixAfterInsertion 1 = .ok (.iconst 0, 1) := dk_3 (dk_at dksJ1_fixAfterInsertion_0 1 rfl rfl)
theorem dJ1_fixAfterInsertion_2 : decode cJ1_fixAfterInsertion 2 = .ok (.putfield 290, 3) := dk_181 1 34 (dk_at dksJ1_fixAfterInsertion_0 2 rfl rfl)
theorem dJ1_fixAfterInsertion_5 : decode cJ1_fixAfterInsertion 5 = .ok (.aload_n 1, 1) := dk_43 (dk_at dksJ1_fixAfterInsertion_0 5 rfl rfl)
theorem dJ1_fixAfterInsertion_6 : decode cJ1_fixAfterInsertion 6 = .ok (.ifnull 252, 3) := dk_198 0 252 (dk_at dksJ1_fixAfterInsertion_0 6 rfl rfl)
theorem dJ1_fixAfterInsertion_9 : decode cJ1_fixAfterInsertion 9 = .ok (.aload_n 1, 1) := dk_43 (dk_at dksJ1_fixAfterInsertion_0 9 rfl rfl)
theorem dJ1_fixAfterInsertion_10 : decode cJ1_fixAfterInsertion 10 = .ok (.aload_n 0, 1) := dk_42 (dk_at dksJ1_fixAfterInsertion_0 10 rfl rfl)
theorem dJ1_fixAfterInsertion_11 : decode cJ1_fixAfterInsertion 11 = .ok (.getfield 101, 3) := dk_180 0 101 (dk_at dksJ1_fixAfterInsertion_0 11 rfl rfl)
theorem dJ1_fixAfterInsertion_14 : decode cJ1_fixAfterInsertion 14 = .ok (.if_acmp .eq 244, 3) := dk_165 0 244 (dk_at dksJ1_fixAfterInsertion_0 14 rfl rfl)
theorem dJ1_fixAfterInsertion_17 : decode cJ1_fixAfterInsertion 17 = .ok (.aload_n 1, 1) := dk_43 (dk_at dksJ1_fixAfterInsertion_0 17 rfl rfl)
theorem dJ1_fixAfterInsertion_18 : decode cJ1_fixAfterInsertion 18 = .ok (.getfield 124, 3) := dk_180 0 124 (dk_at dksJ1_fixAfterInsertion_0 18 rfl rfl)
theorem dJ1_fixAfterInsertion_21 : decode cJ1_fixAfterInsertion 21 = .ok (.getfield 290, 3) := dk_180 1 34 (dk_at dksJ1_fixAfterInsertion_0 21 rfl rfl)
theorem dJ1_fixAfterInsertion_24 : decode cJ1_fixAfterInsertion 24 = .ok (.ifCond .ne 234, 3) := dk_154 0 234 (dk_at dksJ1_fixAfterInsertion_1 0 rfl rfl)
theorem dJ1_fixAfterInsertion_27 : decode cJ1_fixAfterInsertion 27 = .ok (.aload_n 1, 1) := dk_43 (dk_at dksJ1_fixAfterInsertion_1 3 rfl rfl)
theorem dJ1_fixAfterInsertion_28 : decode cJ1_fixAfterInsertion 28 = .ok (.invokestatic 294, 3) := dk_184 1 38 (dk_at dksJ1_fixAfterInsertion_1 4 rfl rfl)
theorem dJ1_fixAfterInsertion_31 : decode cJ1_fixAfterInsertion 31 = .ok (.aload_n 1, 1) := dk_43 (dk_at dksJ1_fixAfterInsertion_1 7 rfl rfl)
theorem dJ1_fixAfterInsertion_32 : decode cJ1_fixAfterInsertion 32 = .ok (.invokestatic 294, 3) := dk_184 1 38 (dk_at dksJ1_fixAfterInsertion_1 8 rfl rfl)
theorem dJ1_fixAfterInsertion_35 : decode cJ1_fixAfterInsertion 35 = .ok (.invokestatic 294, 3) := dk_184 1 38 (dk_at dksJ1_fixAfterInsertion_1 11 rfl rfl)
theorem dJ1_fixAfterInsertion_38 : decode cJ1_fixAfterInsertion 38 = .ok (.invokestatic 297, 3) := dk_184 1 41 (dk_at dksJ1_fixAfterInsertion_1 14 rfl rfl)
theorem dJ1_fixAfterInsertion_41 : decode cJ1_fixAfterInsertion 41 = .ok (.if_acmp .ne 110, 3) := dk_166 0 110 (dk_at dksJ1_fixAfterInsertion_1 17 rfl rfl)
theorem dJ1_fixAfterInsertion_44 : decode cJ1_fixAfterInsertion 44 = .ok (.aload_n 1, 1) := dk_43 (dk_at dksJ1_fixAfterInsertion_1 20 rfl rfl)
theorem dJ1_fixAfterInsertion_45 : decode cJ1_fixAfterInsertion 45 = .ok (.invokestatic 294, 3) := dk_184 1 38 (dk_at dksJ1_fixAfterInsertion_1 21 rfl rfl)
theorem dJ1_fixAfterInsertion_48 : decode cJ1_fixAfterInsertion 48 = .ok (.invokestatic 294, 3) := dk_184 1 38 (dk_at dksJ1_fixAfterInsertion_2 0 rfl rfl)
theorem dJ1_fixAfterInsertion_51 : decode cJ1_fixAfterInsertion 51 = .ok (.invokestatic 300, 3) := dk_184 1 44 (dk_at dksJ1_fixAfterInsertion_2 3 rfl rfl)
theorem dJ1_fixAfterInsertion_54 : decode cJ1_fixAfterInsertion 54 = .ok (.astore_n 2, 1) := dk_77 (dk_at dksJ1_fixAfterInsertion_2 6 rfl rfl)
theorem dJ1_fixAfterInsertion_55 : decode cJ1_fixAfterInsertion 55 = .ok (.aload_n 2, 1) := dk_44 (dk_at dksJ1_fixAfterInsertion_2 7 rfl rfl)
theorem dJ1_fixAfterInsertion_56 : decode cJ1_fixAfterInsertion 56 = .ok (.invokestatic 303, 3) := dk_184 1 47 (dk_at dksJ1_fixAfterInsertion_2 8 rfl rfl)
theorem dJ1_fixAfterInsertion_59 : decode cJ1_fixAfterInsertion 59 = .ok (.ifCond .ne 38, 3) := dk_154 0 38 (dk_at dksJ1_fixAfterInsertion_2 11 rfl rfl)
theorem dJ1_fixAfterInsertion_62 : decode cJ1_fixAfterInsertion 62 = .ok (.aload_n 1, 1) := dk_43 (dk_at dksJ1_fixAfterInsertion_2 14 rfl rfl)
theorem dJ1_fixAfterInsertion_63 : decode cJ1_fixAfterInsertion 63 = .ok (.invokestatic 294, 3) := dk_184 1 38 (dk_at dksJ1_fixAfterInsertion_2 15 rfl rfl)
theorem dJ1_fixAfterInsertion_66 : decode cJ1_fixAfterInsertion 66 = .ok (.iconst 1, 1) := dk_4 (dk_at dksJ1_fixAfterInsertion_2 18 rfl rfl)
theorem dJ1_fixAfterInsertion_67 : decode cJ1_fixAfterInsertion 67 = .ok (.invokestatic 307, 3) := dk_184 1 51 (dk_at dksJ1_fixAfterInsertion_2 19 rfl rfl)
theorem dJ1_fixAfterInsertion_70 : decode cJ1_fixAfterInsertion 70 = .ok (.aload_n 2, 1) := dk_44 (dk_at dksJ1_fixAfterInsertion_2 22 rfl rfl)
theorem dJ1_fixAfterInsertion_71 : decode cJ1_fixAfterInsertion 71 = .ok (.iconst 1, 1) := dk_4 (dk_at dksJ1_fixAfterInsertion_2 23 rfl rfl)
theorem dJ1_fixAfterInsertion_72 : decode cJ1_fixAfterInsertion 72 = .ok (.invokestatic 307, 3) := dk_184 1 51 (dk_at dksJ1_fixAfterInsertion_3 0 rfl rfl)
theorem dJ1_fixAfterInsertion_75 : decode cJ1_fixAfterInsertion 75 = .ok (.aload_n 1, 1) := dk_43 (dk_at dksJ1_fixAfterInsertion_3 3 rfl rfl)
theorem dJ1_fixAfterInsertion_76 : decode cJ1_fixAfterInsertion 76 = .ok (.invokestatic 294, 3) := dk_184 1 38 (dk_at dksJ1_fixAfterInsertion_3 4 rfl rfl)
theorem dJ1_fixAfterInsertion_79 : decode cJ1_fixAfterInsertion 79 = .ok (.invokestatic 294, 3) := dk_184 1 38 (dk_at dksJ1_fixAfterInsertion_3 7 rfl rfl)
theorem dJ1_fixAfterInsertion_82 : decode cJ1_fixAfterInsertion 82 = .ok (.iconst 0, 1) := dk_3 (dk_at dksJ1_fixAfterInsertion_3 10 rfl rfl)
theorem dJ1_fixAfterInsertion_83 : decode cJ1_fixAfterInsertion 83 = .ok (.invokestatic 307, 3) := dk_184 1 51 (dk_at dksJ1_fixAfterInsertion_3 11 rfl rfl)
theorem dJ1_fixAfterInsertion_86 : decode cJ1_fixAfterInsertion 86 = .ok (.aload_n 1, 1) := dk_43 (dk_at dksJ1_fixAfterInsertion_3 14 rfl rfl)
theorem dJ1_fixAfterInsertion_87 : decode cJ1_fixAfterInsertion 87 = .ok (.invokestatic 294, 3) := dk_184 1 38 (dk_at dksJ1_fixAfterInsertion_3 15 rfl rfl)
theorem dJ1_fixAfterInsertion_90 : decode cJ1_fixAfterInsertion 90 = .ok (.invokestatic 294, 3) := dk_184 1 38 (dk_at dksJ1_fixAfterInsertion_3 18 rfl rfl)
theorem dJ1_fixAfterInsertion_93 : decode cJ1_fixAfterInsertion 93 = .ok (.astore_n 1, 1) := dk_76 (dk_at dksJ1_fixAfterInsertion_3 21 rfl rfl)
theorem dJ1_fixAfterInsertion_94 : decode cJ1_fixAfterInsertion 94 = .ok (.goto 54, 3) := dk_167 0 54 (dk_at dksJ1_fixAfterInsertion_4 0 rfl rfl)
theorem dJ1_fixAfterInsertion_97 : decode cJ1_fixAfterInsertion 97 = .ok (.aload_n 1, 1) := dk_43 (dk_at dksJ1_fixAfterInsertion_4 3 rfl rfl)
theorem dJ1_fixAfterInsertion_98 : decode cJ1_fixAfterInsertion 98 = .ok (.aload_n 1, 1) := dk_43 (dk_at dksJ1_fixAfterInsertion_4 4 rfl rfl)
theorem dJ1_fixAfterInsertion_99 : decode cJ1_fixAfterInsertion 99 = .ok (.invokestatic 294, 3) := dk_184 1 38 (dk_at dksJ1_fixAfterInsertion_4 5 rfl rfl)
theorem dJ1_fixAfterInsertion_102 : decode cJ1_fixAfterInsertion 102 = .ok (.invokestatic 300, 3) := dk_184 1 44 (dk_at dksJ1_fixAfterInsertion_4 8 rfl rfl)
theorem dJ1_fixAfterInsertion_105 : decode cJ1_fixAfterInsertion 105 = .ok (.if_acmp .ne 13, 3) := dk_166 0 13 (dk_at dksJ1_fixAfterInsertion_4 11 rfl rfl)
theorem dJ1_fixAfterInsertion_108 : decode cJ1_fixAfterInsertion 108 = .ok (.aload_n 1, 1) := dk_43 (dk_at dksJ1_fixAfterInsertion_4 14 rfl rfl)
theorem dJ1_fixAfterInsertion_109 : decode cJ1_fixAfterInsertion 109 = .ok (.invokestatic 294, 3) := dk_184 1 38 (dk_at dksJ1_fixAfterInsertion_4 15 rfl rfl)
theorem dJ1_fixAfterInsertion_112 : decode cJ1_fixAfterInsertion 112 = .ok (.astore_n 1, 1) := dk_76 (dk_at dksJ1_fixAfterInsertion_4 18 rfl rfl)
theorem dJ1_fixAfterInsertion_113 : decode cJ1_fixAfterInsertion 113 = .ok (.aload_n 0, 1) := dk_42 (dk_at dksJ1_fixAfterInsertion_4 19 rfl rfl)
theorem dJ1_fixAfterInsertion_114 : decode cJ1_fixAfterInsertion 114 = .ok (.aload_n 1, 1) := dk_43 (dk_at dksJ1_fixAfterInsertion_4 20 rfl rfl)
theorem dJ1_fixAfterInsertion_115 : decode cJ1_fixAfterInsertion 115 = .ok (.invokevirtual 311, 3) := dk_182 1 55 (dk_at dksJ1_fixAfterInsertion_4 21 rfl rfl)
theorem dJ1_fixAfterInsertion_118 : decode cJ1_fixAfterInsertion 118 = .ok (.aload_n 1, 1) := dk_43 (dk_at dksJ1_fixAfterInsertion_5 0 rfl rfl)
theorem dJ1_fixAfterInsertion_119 : decode cJ1_fixAfterInsertion 119 = .ok (.invokestatic 294, 3) := dk_184 1 38 (dk_at dksJ1_fixAfterInsertion_5 1 rfl rfl)
theorem dJ1_fixAfterInsertion_122 : decode cJ1_fixAfterInsertion 122 = .ok (.iconst 1, 1) := dk_4 (dk_at dksJ1_fixAfterInsertion_5 4 rfl rfl)
theorem dJ1_fixAfterInsertion_123 : decode cJ1_fixAfterInsertion 123 = .ok (.invokestatic 307, 3) := dk_184 1 51 (dk_at dksJ1_fixAfterInsertion_5 5 rfl rfl)
theorem dJ1_fixAfterInsertion_126 : decode cJ1_fixAfterInsertion 126 = .ok (.aload_n 1, 1) := dk_43 (dk_at dksJ1_fixAfterInsertion_5 8 rfl rfl)
theorem dJ1_fixAfterInsertion_127 : decode cJ1_fixAfterInsertion 127 = .ok (.invokestatic 294, 3) := dk_184 1 38 (dk_at dksJ1_fixAfterInsertion_5 9 rfl rfl)
theorem dJ1_fixAfterInsertion_130 : decode cJ1_fixAfterInsertion 130 = .ok (.invokestatic 294, 3) := dk_184 1 38 (dk_at dksJ1_fixAfterInsertion_5 12 rfl rfl)
theorem dJ1_fixAfterInsertion_133 : decode cJ1_fixAfterInsertion 133 = .ok (.iconst 0, 1) := dk_3 (dk_at dksJ1_fixAfterInsertion_5 15 rfl rfl)
theorem dJ1_fixAfterInsertion_134 : decode cJ1_fixAfterInsertion 134 = .ok (.invokestatic 307, 3) := dk_184 1 51 (dk_at dksJ1_fixAfterInsertion_5 16 rfl rfl)
theorem dJ1_fixAfterInsertion_137 : decode cJ1_fixAfterInsertion 137 = .ok (.aload_n 0, 1) := dk_42 (dk_at dksJ1_fixAfterInsertion_5 19 rfl rfl)
theorem dJ1_fixAfterInsertion_138 : decode cJ1_fixAfterInsertion 138 = .ok (.aload_n 1, 1) := dk_43 (dk_at dksJ1_fixAfterInsertion_5 20 rfl rfl)
theorem dJ1_fixAfterInsertion_139 : decode cJ1_fixAfterInsertion 139 = .ok (.invokestatic 294, 3) := dk_184 1 38 (dk_at dksJ1_fixAfterInsertion_5 21 rfl rfl)
theorem dJ1_fixAfterInsertion_142 : decode cJ1_fixAfterInsertion 142 = .ok (.invokestatic 294, 3) := dk_184 1 38 (dk_at dksJ1_fixAfterInsertion_6 0 rfl rfl)
theorem dJ1_fixAfterInsertion_145 : decode cJ1_fixAfterInsertion 145 = .ok (.invokevirtual 314, 3) := dk_182 1 58 (dk_at dksJ1_fixAfterInsertion_6 3 rfl rfl)
theorem dJ1_fixAfterInsertion_148 : decode cJ1_fixAfterInsertion 148 = .ok (.goto (-143), 3) := dk_167 255 113 (dk_at dksJ1_fixAfterInsertion_6 6 rfl rfl)
theorem dJ1_fixAfterInsertion_151 : decode cJ1_fixAfterInsertion 151 = .ok (.aload_n 1, 1) := dk_43 (dk_at dksJ1_fixAfterInsertion_6 9 rfl rfl)
theorem dJ1_fixAfterInsertion_152 : decode cJ1_fixAfterInsertion 152 = .ok (.invokestatic 294, 3) := dk_184 1 38 (dk_at dksJ1_fixAfterInsertion_6 10 rfl rfl)
theorem dJ1_fixAfterInsertion_155 : decode cJ1_fixAfterInsertion 155 = .ok (.invokestatic 294, 3) := dk_184 1 38 (dk_at dksJ1_fixAfterInsertion_6 13 rfl rfl)
theorem dJ1_fixAfterInsertion_158 : decode cJ1_fixAfterInsertion 158 = .ok (.invokestatic 297, 3) := dk_184 1 41 (dk_at dksJ1_fixAfterInsertion_6 16 rfl rfl)
theorem dJ1_fixAfterInsertion_161 : decode cJ1_fixAfterInsertion 161 = .ok (.astore_n 2, 1) := dk_77 (dk_at dksJ1_fixAfterInsertion_6 19 rfl rfl)
theorem dJ1_fixAfterInsertion_162 : decode cJ1_fixAfterInsertion 162 = .ok (.aload_n 2, 1) := dk_44 (dk_at dksJ1_fixAfterInsertion_6 20 rfl rfl)
theorem dJ1_fixAfterInsertion_163 : decode cJ1_fixAfterInsertion 163 = .ok (.invokestatic 303, 3) := dk_184 1 47 (dk_at dksJ1_fixAfterInsertion_6 21 rfl rfl)
theorem dJ1_fixAfterInsertion_166 : decode cJ1_fixAfterInsertion 166 = .ok (.ifCond .ne 38, 3) := dk_154 0 38 (dk_at dksJ1_fixAfterInsertion_7 0 rfl rfl)
theorem dJ1_fixAfterInsertion_169 : decode cJ1_fixAfterInsertion 169 = .ok (.aload_n 1, 1) := dk_43 (dk_at dksJ1_fixAfterInsertion_7 3 rfl rfl)
theorem dJ1_fixAfterInsertion_170 : decode cJ1_fixAfterInsertion 170 = .ok (.invokestatic 294, 3) := dk_184 1 38 (dk_at dksJ1_fixAfterInsertion_7 4 rfl rfl)
theorem dJ1_fixAfterInsertion_173 : decode cJ1_fixAfterInsertion 173 = .ok (.iconst 1, 1) := dk_4 (dk_at dksJ1_fixAfterInsertion_7 7 rfl rfl)
theorem dJ1_fixAfterInsertion_174 : decode cJ1_fixAfterInsertion 174 = .ok (.invokestatic 307, 3) := dk_184 1 51 (dk_at dksJ1_fixAfterInsertion_7 8 rfl rfl)
theorem dJ1_fixAfterInsertion_177 : decode cJ1_fixAfterInsertion 177 = .ok (.aload_n 2, 1) := dk_44 (dk_at dksJ1_fixAfterInsertion_7 11 rfl rfl)
theorem dJ1_fixAfterInsertion_178 : decode cJ1_fixAfterInsertion 178 = .ok (.iconst 1, 1) := dk_4 (dk_at dksJ1_fixAfterInsertion_7 12 rfl rfl)
theorem dJ1_fixAfterInsertion_179 : decode cJ1_fixAfterInsertion 179 = .ok (.invokestatic 307, 3) := dk_184 1 51 (dk_at dksJ1_fixAfterInsertion_7 13 rfl rfl)
theorem dJ1_fixAfterInsertion_182 : decode cJ1_fixAfterInsertion 182 = .ok (.aload_n 1, 1) := dk_43 (dk_at dksJ1_fixAfterInsertion_7 16 rfl rfl)
theorem dJ1_fixAfterInsertion_183 : decode cJ1_fixAfterInsertion 183 = .ok (.invokestatic 294, 3) := dk_184 1 38 (dk_at dksJ1_fixAfterInsertion_7 17 rfl rfl)
theorem dJ1_fixAfterInsertion_186 : decode cJ1_fixAfterInsertion 186 = .ok (.invokestatic 294, 3) := dk_184 1 38 (dk_at dksJ1_fixAfterInsertion_7 20 rfl rfl)
theorem dJ1_fixAfterInsertion_189 : decode cJ1_fixAfterInsertion 189 = .ok (.iconst 0, 1) := dk_3 (dk_at dksJ1_fixAfterInsertion_7 23 rfl rfl)
theorem dJ1_fixAfterInsertion_190 : decode cJ1_fixAfterInsertion 190 = .ok (.invokestatic 307, 3) := dk_184 1 51 (dk_at dksJ1_fixAfterInsertion_8 0 rfl rfl)
theorem dJ1_fixAfterInsertion_193 : decode cJ1_fixAfterInsertion 193 = .ok (.aload_n 1, 1) := dk_43 (dk_at dksJ1_fixAfterInsertion_8 3 rfl rfl)
theorem dJ1_fixAfterInsertion_194 : decode cJ1_fixAfterInsertion 194 = .ok (.invokestatic 294, 3) := dk_184 1 38 (dk_at dksJ1_fixAfterInsertion_8 4 rfl rfl)
theorem dJ1_fixAfterInsertion_197 : decode cJ1_fixAfterInsertion 197 = .ok (.invokestatic 294, 3) := dk_184 1 38 (dk_at dksJ1_fixAfterInsertion_8 7 rfl rfl)
theorem dJ1_fixAfterInsertion_200 : decode cJ1_fixAfterInsertion 200 = .ok (.astore_n 1, 1) := dk_76 (dk_at dksJ1_fixAfterInsertion_8 10 rfl rfl)
theorem dJ1_fixAfterInsertion_201 : decode cJ1_fixAfterInsertion 201 = .ok (.goto 54, 3) := dk_167 0 54 (dk_at dksJ1_fixAfterInsertion_8 11 rfl rfl)
theorem dJ1_fixAfterInsertion_204 : decode cJ1_fixAfterInsertion 204 = .ok (.aload_n 1, 1) := dk_43 (dk_at dksJ1_fixAfterInsertion_8 14 rfl rfl)
theorem dJ1_fixAfterInsertion_205 : decode cJ1_fixAfterInsertion 205 = .ok (.aload_n 1, 1) := dk_43 (dk_at dksJ1_fixAfterInsertion_8 15 rfl rfl)
theorem dJ1_fixAfterInsertion_206 : decode cJ1_fixAfterInsertion 206 = .ok (.invokestatic 294, 3) := dk_184 1 38 (dk_at dksJ1_fixAfterInsertion_8 16 rfl rfl)
theorem dJ1_fixAfterInsertion_209 : decode cJ1_fixAfterInsertion 209 = .ok (.invokestatic 297, 3) := dk_184 1 41 (dk_at dksJ1_fixAfterInsertion_8 19 rfl rfl)
theorem dJ1_fixAfterInsertion_212 : decode cJ1_fixAfterInsertion 212 = .ok (.if_acmp .ne 13, 3) := dk_166 0 13 (dk_at dksJ1_fixAfterInsertion_9 0 rfl rfl)
theorem dJ1_fixAfterInsertion_215 : decode cJ1_fixAfterInsertion 215 = .ok (.aload_n 1, 1) := dk_43 (dk_at dksJ1_fixAfterInsertion_9 3 rfl rfl)
theorem dJ1_fixAfterInsertion_216 : decode cJ1_fixAfterInsertion 216 = .ok (.invokestatic 294, 3) := dk_184 1 38 (dk_at dksJ1_fixAfterInsertion_9 4 rfl rfl)
theorem dJ1_fixAfterInsertion_219 : decode cJ1_fixAfterInsertion 219 = .ok (.astore_n 1, 1) := dk_76 (dk_at dksJ1_fixAfterInsertion_9 7 rfl rfl)
theorem dJ1_fixAfterInsertion_220 : decode cJ1_fixAfterInsertion 220 = .ok (.aload_n 0, 1) := dk_42 (dk_at dksJ1_fixAfterInsertion_9 8 rfl rfl)
theorem dJ1_fixAfterInsertion_221 : decode cJ1_fixAfterInsertion 221 = .ok (.aload_n 1, 1) := dk_43 (dk_at dksJ1_fixAfterInsertion_9 9 rfl rfl)
theorem dJ1_fixAfterInsertion_222 : decode cJ1_fixAfterInsertion 222 = .ok (.invokevirtual 314, 3) := dk_182 1 58 (dk_at dksJ1_fixAfterInsertion_9 10 rfl rfl)
theorem dJ1_fixAfterInsertion_225 : decode cJ1_fixAfterInsertion 225 = .ok (.aload_n 1, 1) := dk_43 (dk_at dksJ1_fixAfterInsertion_9 13 rfl rfl)
theorem dJ1_fixAfterInsertion_226 : decode cJ1_fixAfterInsertion 226 = .ok (.invokestatic 294, 3) := dk_184 1 38 (dk_at dksJ1_fixAfterInsertion_9 14 rfl rfl)
theorem dJ1_fixAfterInsertion_229 : decode cJ1_fixAfterInsertion 229 = .ok (.iconst 1, 1) := dk_4 (dk_at dksJ1_fixAfterInsertion_9 17 rfl rfl)
theorem dJ1_fixAfterInsertion_230 : decode cJ1_fixAfterInsertion 230 = .ok (.invokestatic 307, 3) := dk_184 1 51 (dk_at dksJ1_fixAfterInsertion_9 18 rfl rfl)
theorem dJ1_fixAfterInsertion_233 : decode cJ1_fixAfterInsertion 233 = .ok (.aload_n 1, 1) := dk_43 (dk_at dksJ1_fixAfterInsertion_9 21 rfl rfl)
theorem dJ1_fixAfterInsertion_234 : decode cJ1_fixAfterInsertion 234 = .ok (.invokestatic 294, 3) := dk_184 1 38 (dk_at dksJ1_fixAfterInsertion_10 0 rfl rfl)
theorem dJ1_fixAfterInsertion_237 : decode cJ1_fixAfterInsertion 237 = .ok (.invokestatic 294, 3) := dk_184 1 38 (dk_at dksJ1_fixAfterInsertion_10 3 rfl rfl)
theorem dJ1_fixAfterInsertion_240 : decode cJ1_fixAfterInsertion 240 = .ok (.iconst 0, 1) := dk_3 (dk_at dksJ1_fixAfterInsertion_10 6 rfl rfl)
theorem dJ1_fixAfterInsertion_241 : decode cJ1_fixAfterInsertion 241 = .ok (.invokestatic 307, 3) := dk_184 1 51 (dk_at dksJ1_fixAfterInsertion_10 7 rfl rfl)
theorem dJ1_fixAfterInsertion_244 : decode cJ1_fixAfterInsertion 244 = .ok (.aload_n 0, 1) := dk_42 (dk_at dksJ1_fixAfterInsertion_10 10 rfl rfl)
theorem dJ1_fixAfterInsertion_245 : decode cJ1_fixAfterInsertion 245 = .ok (.aload_n 1, 1) := dk_43 (dk_at dksJ1_fixAfterInsertion_10 11 rfl rfl)
theorem dJ1_fixAfterInsertion_246 : decode cJ1_fixAfterInsertion 246 = .ok (.invokestatic 294, 3) := dk_184 1 38 (dk_at dksJ1_fixAfterInsertion_10 12 rfl rfl)
theorem dJ1_fixAfterInsertion_249 : decode cJ1_fixAfterInsertion 249 = .ok (.invokestatic 294, 3) := dk_184 1 38 (dk_at dksJ1_fixAfterInsertion_10 15 rfl rfl)
theorem dJ1_fixAfterInsertion_252 : decode cJ1_fixAfterInsertion 252 = .ok (.invokevirtual 311, 3) := dk_182 1 55 (dk_at dksJ1_fixAfterInsertion_10 18 rfl rfl)
theorem dJ1_fixAfterInsertion_255 : decode cJ1_fixAfterInsertion 255 = .ok (.goto (-250), 3) := dk_167 255 6 (dk_at dksJ1_fixAfterInsertion_10 21 rfl rfl)
theorem dJ1_fixAfterInsertion_258 : decode cJ1_fixAfterInsertion 258 = .ok (.aload_n 0, 1) := dk_42 (dk_at dksJ1_fixAfterInsertion_11 0 rfl rfl)
theorem dJ1_fixAfterInsertion_259 : decode cJ1_fixAfterInsertion 259 = .ok (.getfield 101, 3) := dk_180 0 101 (dk_at dksJ1_fixAfterInsertion_11 1 rfl rfl)
theorem dJ1_fixAfterInsertion_262 : decode cJ1_fixAfterInsertion 262 = .ok (.iconst 1, 1) := dk_4 (dk_at dksJ1_fixAfterInsertion_11 4 rfl rfl)
theorem dJ1_fixAfterInsertion_263 : decode cJ1_fixAfterInsertion 263 = .ok (.putfield 290, 3) := dk_181 1 34 (dk_at dksJ1_fixAfterInsertion_11 5 rfl rfl)
theorem dJ1_fixAfterInsertion_266 : decode cJ1_fixAfterInsertion 266 = .ok (.return_, 1) := dk_177 (dk_at dksJ1_fixAfterInsertion_11 8 rfl rfl)
abbrev cJ1_parentOf : ByteArray := prog_70_method_77_code
def yJ1_parentOf : MethodName := ⟨RJ1, "parentOf", "(Ljava/util/TreeMap$Entry;)Ljava/util/TreeMap$Entry;"⟩
def dkwJ1_parentOf_0 : List UInt8 := [42, 199, 0, 7, 1, 167, 0, 7, 42, 180, 0, 124, 176]
abbrev dktJ1_parentOf_0 : List UInt8 := dkwJ1_parentOf_0 ++ []
theorem dksJ1_parentOf_0 : cJ1_parentOf.data.toList.drop 0 = dktJ1_parentOf_0 := by decide +kernel
theorem dJ1_parentOf_0 : decode cJ1_parentOf 0 = .ok (.aload_n 0, 1) := dk_42 (dk_at dksJ1_parentOf_0 0 rfl rfl)
theorem dJ1_parentOf_1 : decode cJ1_parentOf 1 = .ok (.ifnonnull 7, 3) := dk_199 0 7 (dk_at dksJ1_parentOf_0 1 rfl rfl)
theorem dJ1_parentOf_4 : decode cJ1_parentOf 4 = .ok (.aconst_null, 1) := dk_1 (dk_at dksJ1_parentOf_0 4 rfl rfl)
theorem dJ1_parentOf_5 : decode cJ1_parentOf 5 = .ok (.goto 7, 3) := dk_167 0 7 (dk_at dksJ1_parentOf_0 5 rfl rfl)
theorem dJ1_parentOf_8 : decode cJ1_parentOf 8 = .ok (.aload_n 0, 1) := dk_42 (dk_at dksJ1_parentOf_0 8 rfl rfl)
theorem dJ1_parentOf_9 : decode cJ1_parentOf 9 = .ok (.getfield 124, 3) := dk_180 0 124 (dk_at dksJ1_parentOf_0 9 rfl rfl)
theorem dJ1_parentOf_12 : decode cJ1_parentOf 12 = .ok (.areturn, 1) := dk_176 (dk_at dksJ1_parentOf_0 12 rfl rfl)
abbrev cJ1_leftOf : ByteArray := prog_70_method_79_code
def yJ1_leftOf : MethodName := ⟨RJ1, "leftOf", "(Ljava/util/TreeMap$Entry;)Ljava/util/TreeMap$Entry;"⟩
def dkwJ1_leftOf_0 : List UInt8 := [42, 199, 0, 7, 1, 167, 0, 7, 42, 180, 0, 111, 176]
abbrev dktJ1_leftOf_0 : List UInt8 := dkwJ1_leftOf_0 ++ []
theorem dksJ1_leftOf_0 : cJ1_leftOf.data.toList.drop 0 = dktJ1_leftOf_0 := by decide +kernel
theorem dJ1_leftOf_0 : decode cJ1_leftOf 0 = .ok (.aload_n 0, 1) := dk_42 (dk_at dksJ1_leftOf_0 0 rfl rfl)
theorem dJ1_leftOf_1 : decode cJ1_leftOf 1 = .ok (.ifnonnull 7, 3) := dk_199 0 7 (dk_at dksJ1_leftOf_0 1 rfl rfl)
theorem dJ1_leftOf_4 : decode cJ1_leftOf 4 = .ok (.aconst_null, 1) := dk_1 (dk_at dksJ1_leftOf_0 4 rfl rfl)
theorem dJ1_leftOf_5 : decode cJ1_leftOf 5 = .ok (.goto 7, 3) := dk_167 0 7 (dk_at dksJ1_leftOf_0 5 rfl rfl)
theorem dJ1_leftOf_8 : decode cJ1_leftOf 8 = .ok (.aload_n 0, 1) := dk_42 (dk_at dksJ1_leftOf_0 8 rfl rfl)
theorem dJ1_leftOf_9 : decode cJ1_leftOf 9 = .ok (.getfield 111, 3) := dk_180 0 111 (dk_at dksJ1_leftOf_0 9 rfl rfl)
theorem dJ1_leftOf_12 : decode cJ1_leftOf 12 = .ok (.areturn, 1) := dk_176 (dk_at dksJ1_leftOf_0 12 rfl rfl)
abbrev cJ1_rightOf : ByteArray := prog_70_method_80_code
def yJ1_rightOf : MethodName := ⟨RJ1, "rightOf", "(Ljava/util/TreeMap$Entry;)Ljava/util/TreeMap$Entry;"⟩
def dkwJ1_rightOf_0 : List UInt8 := [42, 199, 0, 7, 1, 167, 0, 7, 42, 180, 0, 114, 176]
abbrev dktJ1_rightOf_0 : List UInt8 := dkwJ1_rightOf_0 ++ []
theorem dksJ1_rightOf_0 : cJ1_rightOf.data.toList.drop 0 = dktJ1_rightOf_0 := by decide +kernel
theorem dJ1_rightOf_0 : decode cJ1_rightOf 0 = .ok (.aload_n 0, 1) := dk_42 (dk_at dksJ1_rightOf_0 0 rfl rfl)
theorem dJ1_rightOf_1 : decode cJ1_rightOf 1 = .ok (.ifnonnull 7, 3) := dk_199 0 7 (dk_at dksJ1_rightOf_0 1 rfl rfl)
theorem dJ1_rightOf_4 : decode cJ1_rightOf 4 = .ok (.aconst_null, 1) := dk_1 (dk_at dksJ1_rightOf_0 4 rfl rfl)
theorem dJ1_rightOf_5 : decode cJ1_rightOf 5 = .ok (.goto 7, 3) := dk_167 0 7 (dk_at dksJ1_rightOf_0 5 rfl rfl)
theorem dJ1_rightOf_8 : decode cJ1_rightOf 8 = .ok (.aload_n 0, 1) := dk_42 (dk_at dksJ1_rightOf_0 8 rfl rfl)
theorem dJ1_rightOf_9 : decode cJ1_rightOf 9 = .ok (.getfield 114, 3) := dk_180 0 114 (dk_at dksJ1_rightOf_0 9 rfl rfl)
theorem dJ1_rightOf_12 : decode cJ1_rightOf 12 = .ok (.areturn, 1) := dk_176 (dk_at dksJ1_rightOf_0 12 rfl rfl)
abbrev cJ1_colorOf : ByteArray := prog_70_method_76_code
def yJ1_colorOf : MethodName := ⟨RJ1, "colorOf", "(Ljava/util/TreeMap$Entry;)Z"⟩
def dkwJ1_colorOf_0 : List UInt8 := [42, 199, 0, 7, 4, 167, 0, 7, 42, 180, 1, 34, 172]
abbrev dktJ1_colorOf_0 : List UInt8 := dkwJ1_colorOf_0 ++ []
theorem dksJ1_colorOf_0 : cJ1_colorOf.data.toList.drop 0 = dktJ1_colorOf_0 := by decide +kernel
theorem dJ1_colorOf_0 : decode cJ1_colorOf 0 = .ok (.aload_n 0, 1) := dk_42 (dk_at dksJ1_colorOf_0 0 rfl rfl)
theorem dJ1_colorOf_1 : decode cJ1_colorOf 1 = .ok (.ifnonnull 7, 3) := dk_199 0 7 (dk_at dksJ1_colorOf_0 1 rfl rfl)
theorem dJ1_colorOf_4 : decode cJ1_colorOf 4 = .ok (.iconst 1, 1) := dk_4 (dk_at dksJ1_colorOf_0 4 rfl rfl)
theorem dJ1_colorOf_5 : decode cJ1_colorOf 5 = .ok (.goto 7, 3) := dk_167 0 7 (dk_at dksJ1_colorOf_0 5 rfl rfl)
theorem dJ1_colorOf_8 : decode cJ1_colorOf 8 = .ok (.aload_n 0, 1) := dk_42 (dk_at dksJ1_colorOf_0 8 rfl rfl)
theorem dJ1_colorOf_9 : decode cJ1_colorOf 9 = .ok (.getfield 290, 3) := dk_180 1 34 (dk_at dksJ1_colorOf_0 9 rfl rfl)
theorem dJ1_colorOf_12 : decode cJ1_colorOf 12 = .ok (.ireturn, 1) := dk_172 (dk_at dksJ1_colorOf_0 12 rfl rfl)
abbrev cJ1_setColor : ByteArray := prog_70_method_78_code
def yJ1_setColor : MethodName := ⟨RJ1, "setColor", "(Ljava/util/TreeMap$Entry;Z)V"⟩
def dkwJ1_setColor_0 : List UInt8 := [42, 198, 0, 8, 42, 27, 181, 1, 34, 177]
abbrev dktJ1_setColor_0 : List UInt8 := dkwJ1_setColor_0 ++ []
theorem dksJ1_setColor_0 : cJ1_setColor.data.toList.drop 0 = dktJ1_setColor_0 := by decide +kernel
theorem dJ1_setColor_0 : decode cJ1_setColor 0 = .ok (.aload_n 0, 1) := dk_42 (dk_at dksJ1_setColor_0 0 rfl rfl)
theorem dJ1_setColor_1 : decode cJ1_setColor 1 = .ok (.ifnull 8, 3) := dk_198 0 8 (dk_at dksJ1_setColor_0 1 rfl rfl)
theorem dJ1_setColor_4 : decode cJ1_setColor 4 = .ok (.aload_n 0, 1) := dk_42 (dk_at dksJ1_setColor_0 4 rfl rfl)
theorem dJ1_setColor_5 : decode cJ1_setColor 5 = .ok (.iload_n 1, 1) := dk_27 (dk_at dksJ1_setColor_0 5 rfl rfl)
theorem dJ1_setColor_6 : decode cJ1_setColor 6 = .ok (.putfield 290, 3) := dk_181 1 34 (dk_at dksJ1_setColor_0 6 rfl rfl)
theorem dJ1_setColor_9 : decode cJ1_setColor 9 = .ok (.return_, 1) := dk_177 (dk_at dksJ1_setColor_0 9 rfl rfl)
abbrev cJ1_rotateLeft : ByteArray := prog_70_method_81_code
def yJ1_rotateLeft : MethodName := ⟨RJ1, "rotateLeft", "(Ljava/util/TreeMap$Entry;)V"⟩
def dkwJ1_rotateLeft_4 : List UInt8 := [177]
abbrev dktJ1_rotateLeft_4 : List UInt8 := dkwJ1_rotateLeft_4 ++ []
def dkwJ1_rotateLeft_3 : List UInt8 := [181, 0, 111, 167, 0, 11, 43, 180, 0, 124, 44, 181, 0, 114, 44, 43, 181, 0, 111, 43, 44, 181, 0, 124]
abbrev dktJ1_rotateLeft_3 : List UInt8 := dkwJ1_rotateLeft_3 ++ dktJ1_rotateLeft_4
def dkwJ1_rotateLeft_2 : List UInt8 := [44, 181, 0, 101, 167, 0, 33, 43, 180, 0, 124, 180, 0, 111, 43, 166, 0, 14, 43, 180, 0, 124, 44]
abbrev dktJ1_rotateLeft_2 : List UInt8 := dkwJ1_rotateLeft_2 ++ dktJ1_rotateLeft_3
def dkwJ1_rotateLeft_1 : List UInt8 := [44, 180, 0, 111, 43, 181, 0, 124, 44, 43, 180, 0, 124, 181, 0, 124, 43, 180, 0, 124, 199, 0, 11, 42]
abbrev dktJ1_rotateLeft_1 : List UInt8 := dkwJ1_rotateLeft_1 ++ dktJ1_rotateLeft_2
def dkwJ1_rotateLeft_0 : List UInt8 := [43, 198, 0, 94, 43, 180, 0, 114, 77, 43, 44, 180, 0, 111, 181, 0, 114, 44, 180, 0, 111, 198, 0, 11]
abbrev dktJ1_rotateLeft_0 : List UInt8 := dkwJ1_rotateLeft_0 ++ dktJ1_rotateLeft_1
theorem dksJ1_rotateLeft_0 : cJ1_rotateLeft.data.toList.drop 0 = dktJ1_rotateLeft_0 := by decide +kernel
theorem dksJ1_rotateLeft_1 : cJ1_rotateLeft.data.toList.drop 24 = dktJ1_rotateLeft_1 := dk_seg dksJ1_rotateLeft_0 24 rfl rfl
theorem dksJ1_rotateLeft_2 : cJ1_rotateLeft.data.toList.drop 48 = dktJ1_rotateLeft_2 := dk_seg dksJ1_rotateLeft_1 24 rfl rfl
theorem dksJ1_rotateLeft_3 : cJ1_rotateLeft.data.toList.drop 71 = dktJ1_rotateLeft_3 := dk_seg dksJ1_rotateLeft_2 23 rfl rfl
theorem dksJ1_rotateLeft_4 : cJ1_rotateLeft.data.toList.drop 95 = dktJ1_rotateLeft_4 := dk_seg dksJ1_rotateLeft_3 24 rfl rfl
theorem dJ1_rotateLeft_0 : decode cJ1_rotateLeft 0 = .ok (.aload_n 1, 1) := dk_43 (dk_at dksJ1_rotateLeft_0 0 rfl rfl)
theorem dJ1_rotateLeft_1 : decode cJ1_rotateLeft 1 = .ok (.ifnull 94, 3) := dk_198 0 94 (dk_at dksJ1_rotateLeft_0 1 rfl rfl)
theorem dJ1_rotateLeft_4 : decode cJ1_rotateLeft 4 = .ok (.aload_n 1, 1) := dk_43 (dk_at dksJ1_rotateLeft_0 4 rfl rfl)
theorem dJ1_rotateLeft_5 : decode cJ1_rotateLeft 5 = .ok (.getfield 114, 3) := dk_180 0 114 (dk_at dksJ1_rotateLeft_0 5 rfl rfl)
theorem dJ1_rotateLeft_8 : decode cJ1_rotateLeft 8 = .ok (.astore_n 2, 1) := dk_77 (dk_at dksJ1_rotateLeft_0 8 rfl rfl)
theorem dJ1_rotateLeft_9 : decode cJ1_rotateLeft 9 = .ok (.aload_n 1, 1) := dk_43 (dk_at dksJ1_rotateLeft_0 9 rfl rfl)
theorem dJ1_rotateLeft_10 : decode cJ1_rotateLeft 10 = .ok (.aload_n 2, 1) := dk_44 (dk_at dksJ1_rotateLeft_0 10 rfl rfl)
theorem dJ1_rotateLeft_11 : decode cJ1_rotateLeft 11 = .ok (.getfield 111, 3) := dk_180 0 111 (dk_at dksJ1_rotateLeft_0 11 rfl rfl)
theorem dJ1_rotateLeft_14 : decode cJ1_rotateLeft 14 = .ok (.putfield 114, 3) := dk_181 0 114 (dk_at dksJ1_rotateLeft_0 14 rfl rfl)
theorem dJ1_rotateLeft_17 : decode cJ1_rotateLeft 17 = .ok (.aload_n 2, 1) := dk_44 (dk_at dksJ1_rotateLeft_0 17 rfl rfl)
theorem dJ1_rotateLeft_18 : decode cJ1_rotateLeft 18 = .ok (.getfield 111, 3) := dk_180 0 111 (dk_at dksJ1_rotateLeft_0 18 rfl rfl)
theorem dJ1_rotateLeft_21 : decode cJ1_rotateLeft 21 = .ok (.ifnull 11, 3) := dk_198 0 11 (dk_at dksJ1_rotateLeft_0 21 rfl rfl)
theorem dJ1_rotateLeft_24 : decode cJ1_rotateLeft 24 = .ok (.aload_n 2, 1) := dk_44 (dk_at dksJ1_rotateLeft_1 0 rfl rfl)
theorem dJ1_rotateLeft_25 : decode cJ1_rotateLeft 25 = .ok (.getfield 111, 3) := dk_180 0 111 (dk_at dksJ1_rotateLeft_1 1 rfl rfl)
theorem dJ1_rotateLeft_28 : decode cJ1_rotateLeft 28 = .ok (.aload_n 1, 1) := dk_43 (dk_at dksJ1_rotateLeft_1 4 rfl rfl)
theorem dJ1_rotateLeft_29 : decode cJ1_rotateLeft 29 = .ok (.putfield 124, 3) := dk_181 0 124 (dk_at dksJ1_rotateLeft_1 5 rfl rfl)
theorem dJ1_rotateLeft_32 : decode cJ1_rotateLeft 32 = .ok (.aload_n 2, 1) := dk_44 (dk_at dksJ1_rotateLeft_1 8 rfl rfl)
theorem dJ1_rotateLeft_33 : decode cJ1_rotateLeft 33 = .ok (.aload_n 1, 1) := dk_43 (dk_at dksJ1_rotateLeft_1 9 rfl rfl)
theorem dJ1_rotateLeft_34 : decode cJ1_rotateLeft 34 = .ok (.getfield 124, 3) := dk_180 0 124 (dk_at dksJ1_rotateLeft_1 10 rfl rfl)
theorem dJ1_rotateLeft_37 : decode cJ1_rotateLeft 37 = .ok (.putfield 124, 3) := dk_181 0 124 (dk_at dksJ1_rotateLeft_1 13 rfl rfl)
theorem dJ1_rotateLeft_40 : decode cJ1_rotateLeft 40 = .ok (.aload_n 1, 1) := dk_43 (dk_at dksJ1_rotateLeft_1 16 rfl rfl)
theorem dJ1_rotateLeft_41 : decode cJ1_rotateLeft 41 = .ok (.getfield 124, 3) := dk_180 0 124 (dk_at dksJ1_rotateLeft_1 17 rfl rfl)
theorem dJ1_rotateLeft_44 : decode cJ1_rotateLeft 44 = .ok (.ifnonnull 11, 3) := dk_199 0 11 (dk_at dksJ1_rotateLeft_1 20 rfl rfl)
theorem dJ1_rotateLeft_47 : decode cJ1_rotateLeft 47 = .ok (.aload_n 0, 1) := dk_42 (dk_at dksJ1_rotateLeft_1 23 rfl rfl)
theorem dJ1_rotateLeft_48 : decode cJ1_rotateLeft 48 = .ok (.aload_n 2, 1) := dk_44 (dk_at dksJ1_rotateLeft_2 0 rfl rfl)
theorem dJ1_rotateLeft_49 : decode cJ1_rotateLeft 49 = .ok (.putfield 101, 3) := dk_181 0 101 (dk_at dksJ1_rotateLeft_2 1 rfl rfl)
theorem dJ1_rotateLeft_52 : decode cJ1_rotateLeft 52 = .ok (.goto 33, 3) := dk_167 0 33 (dk_at dksJ1_rotateLeft_2 4 rfl rfl)
theorem dJ1_rotateLeft_55 : decode cJ1_rotateLeft 55 = .ok (.aload_n 1, 1) := dk_43 (dk_at dksJ1_rotateLeft_2 7 rfl rfl)
theorem dJ1_rotateLeft_56 : decode cJ1_rotateLeft 56 = .ok (.getfield 124, 3) := dk_180 0 124 (dk_at dksJ1_rotateLeft_2 8 rfl rfl)
theorem dJ1_rotateLeft_59 : decode cJ1_rotateLeft 59 = .ok (.getfield 111, 3) := dk_180 0 111 (dk_at dksJ1_rotateLeft_2 11 rfl rfl)
theorem dJ1_rotateLeft_62 : decode cJ1_rotateLeft 62 = .ok (.aload_n 1, 1) := dk_43 (dk_at dksJ1_rotateLeft_2 14 rfl rfl)
theorem dJ1_rotateLeft_63 : decode cJ1_rotateLeft 63 = .ok (.if_acmp .ne 14, 3) := dk_166 0 14 (dk_at dksJ1_rotateLeft_2 15 rfl rfl)
theorem dJ1_rotateLeft_66 : decode cJ1_rotateLeft 66 = .ok (.aload_n 1, 1) := dk_43 (dk_at dksJ1_rotateLeft_2 18 rfl rfl)
theorem dJ1_rotateLeft_67 : decode cJ1_rotateLeft 67 = .ok (.getfield 124, 3) := dk_180 0 124 (dk_at dksJ1_rotateLeft_2 19 rfl rfl)
theorem dJ1_rotateLeft_70 : decode cJ1_rotateLeft 70 = .ok (.aload_n 2, 1) := dk_44 (dk_at dksJ1_rotateLeft_2 22 rfl rfl)
theorem dJ1_rotateLeft_71 : decode cJ1_rotateLeft 71 = .ok (.putfield 111, 3) := dk_181 0 111 (dk_at dksJ1_rotateLeft_3 0 rfl rfl)
theorem dJ1_rotateLeft_74 : decode cJ1_rotateLeft 74 = .ok (.goto 11, 3) := dk_167 0 11 (dk_at dksJ1_rotateLeft_3 3 rfl rfl)
theorem dJ1_rotateLeft_77 : decode cJ1_rotateLeft 77 = .ok (.aload_n 1, 1) := dk_43 (dk_at dksJ1_rotateLeft_3 6 rfl rfl)
theorem dJ1_rotateLeft_78 : decode cJ1_rotateLeft 78 = .ok (.getfield 124, 3) := dk_180 0 124 (dk_at dksJ1_rotateLeft_3 7 rfl rfl)
theorem dJ1_rotateLeft_81 : decode cJ1_rotateLeft 81 = .ok (.aload_n 2, 1) := dk_44 (dk_at dksJ1_rotateLeft_3 10 rfl rfl)
theorem dJ1_rotateLeft_82 : decode cJ1_rotateLeft 82 = .ok (.putfield 114, 3) := dk_181 0 114 (dk_at dksJ1_rotateLeft_3 11 rfl rfl)
theorem dJ1_rotateLeft_85 : decode cJ1_rotateLeft 85 = .ok (.aload_n 2, 1) := dk_44 (dk_at dksJ1_rotateLeft_3 14 rfl rfl)
theorem dJ1_rotateLeft_86 : decode cJ1_rotateLeft 86 = .ok (.aload_n 1, 1) := dk_43 (dk_at dksJ1_rotateLeft_3 15 rfl rfl)
theorem dJ1_rotateLeft_87 : decode cJ1_rotateLeft 87 = .ok (.putfield 111, 3) := dk_181 0 111 (dk_at dksJ1_rotateLeft_3 16 rfl rfl)
theorem dJ1_rotateLeft_90 : decode cJ1_rotateLeft 90 = .ok (.aload_n 1, 1) := dk_43 (dk_at dksJ1_rotateLeft_3 19 rfl rfl)
theorem dJ1_rotateLeft_91 : decode cJ1_rotateLeft 91 = .ok (.aload_n 2, 1) := dk_44 (dk_at dksJ1_rotateLeft_3 20 rfl rfl)
theorem dJ1_rotateLeft_92 : decode cJ1_rotateLeft 92 = .ok (.putfield 124, 3) := dk_181 0 124 (dk_at dksJ1_rotateLeft_3 21 rfl rfl)
theorem dJ1_rotateLeft_95 : decode cJ1_rotateLeft 95 = .ok (.return_, 1) := dk_177 (dk_at dksJ1_rotateLeft_4 0 rfl rfl)
abbrev cJ1_rotateRight : ByteArray := prog_70_method_82_code
def yJ1_rotateRight : MethodName := ⟨RJ1, "rotateRight", "(Ljava/util/TreeMap$Entry;)V"⟩
def dkwJ1_rotateRight_4 : List UInt8 := [177]
abbrev dktJ1_rotateRight_4 : List UInt8 := dkwJ1_rotateRight_4 ++ []
def dkwJ1_rotateRight_3 : List UInt8 := [181, 0, 114, 167, 0, 11, 43, 180, 0, 124, 44, 181, 0, 111, 44, 43, 181, 0, 114, 43, 44, 181, 0, 124]
abbrev dktJ1_rotateRight_3 : List UInt8 := dkwJ1_rotateRight_3 ++ dktJ1_rotateRight_4
def dkwJ1_rotateRight_2 : List UInt8 := [44, 181, 0, 101, 167, 0, 33, 43, 180, 0, 124, 180, 0, 114, 43, 166, 0, 14, 43, 180, 0, 124, 44]
abbrev dktJ1_rotateRight_2 : List UInt8 := dkwJ1_rotateRight_2 ++ dktJ1_rotateRight_3
def dkwJ1_rotateRight_1 : List UInt8 := [44, 180, 0, 114, 43, 181, 0, 124, 44, 43, 180, 0, 124, 181, 0, 124, 43, 180, 0, 124, 199, 0, 11, 42]
abbrev dktJ1_rotateRight_1 : List UInt8 := dkwJ1_rotateRight_1 ++ dktJ1_rotateRight_2
def dkwJ1_rotateRight_0 : List UInt8 := [43, 198, 0, 94, 43, 180, 0, 111, 77, 43, 44, 180, 0, 114, 181, 0, 111, 44, 180, 0, 114, 198, 0, 11]
abbrev dktJ1_rotateRight_0 : List UInt8 := dkwJ1_rotateRight_0 ++ dktJ1_rotateRight_1
theorem dksJ1_rotateRight_0 : cJ1_rotateRight.data.toList.drop 0 = dktJ1_rotateRight_0 := by decide +kernel
theorem dksJ1_rotateRight_1 : cJ1_rotateRight.data.toList.drop 24 = dktJ1_rotateRight_1 := dk_seg dksJ1_rotateRight_0 24 rfl rfl
theorem dksJ1_rotateRight_2 : cJ1_rotateRight.data.toList.drop 48 = dktJ1_rotateRight_2 := dk_seg dksJ1_rotateRight_1 24 rfl rfl
theorem dksJ1_rotateRight_3 : cJ1_rotateRight.data.toList.drop 71 = dktJ1_rotateRight_3 := dk_seg dksJ1_rotateRight_2 23 rfl rfl
theorem dksJ1_rotateRight_4 : cJ1_rotateRight.data.toList.drop 95 = dktJ1_rotateRight_4 := dk_seg dksJ1_rotateRight_3 24 rfl rfl
theorem dJ1_rotateRight_0 : decode cJ1_rotateRight 0 = .ok (.aload_n 1, 1) := dk_43 (dk_at dksJ1_rotateRight_0 0 rfl rfl)
theorem dJ1_rotateRight_1 : decode cJ1_rotateRight 1 = .ok (.ifnull 94, 3) := dk_198 0 94 (dk_at dksJ1_rotateRight_0 1 rfl rfl)
theorem dJ1_rotateRight_4 : decode cJ1_rotateRight 4 = .ok (.aload_n 1, 1) := dk_43 (dk_at dksJ1_rotateRight_0 4 rfl rfl)
theorem dJ1_rotateRight_5 : decode cJ1_rotateRight 5 = .ok (.getfield 111, 3) := dk_180 0 111 (dk_at dksJ1_rotateRight_0 5 rfl rfl)
theorem dJ1_rotateRight_8 : decode cJ1_rotateRight 8 = .ok (.astore_n 2, 1) := dk_77 (dk_at dksJ1_rotateRight_0 8 rfl rfl)
theorem dJ1_rotateRight_9 : decode cJ1_rotateRight 9 = .ok (.aload_n 1, 1) := dk_43 (dk_at dksJ1_rotateRight_0 9 rfl rfl)
theorem dJ1_rotateRight_10 : decode cJ1_rotateRight 10 = .ok (.aload_n 2, 1) := dk_44 (dk_at dksJ1_rotateRight_0 10 rfl rfl)
theorem dJ1_rotateRight_11 : decode cJ1_rotateRight 11 = .ok (.getfield 114, 3) := dk_180 0 114 (dk_at dksJ1_rotateRight_0 11 rfl rfl)
theorem dJ1_rotateRight_14 : decode cJ1_rotateRight 14 = .ok (.putfield 111, 3) := dk_181 0 111 (dk_at dksJ1_rotateRight_0 14 rfl rfl)
theorem dJ1_rotateRight_17 : decode cJ1_rotateRight 17 = .ok (.aload_n 2, 1) := dk_44 (dk_at dksJ1_rotateRight_0 17 rfl rfl)
theorem dJ1_rotateRight_18 : decode cJ1_rotateRight 18 = .ok (.getfield 114, 3) := dk_180 0 114 (dk_at dksJ1_rotateRight_0 18 rfl rfl)
theorem dJ1_rotateRight_21 : decode cJ1_rotateRight 21 = .ok (.ifnull 11, 3) := dk_198 0 11 (dk_at dksJ1_rotateRight_0 21 rfl rfl)
theorem dJ1_rotateRight_24 : decode cJ1_rotateRight 24 = .ok (.aload_n 2, 1) := dk_44 (dk_at dksJ1_rotateRight_1 0 rfl rfl)
theorem dJ1_rotateRight_25 : decode cJ1_rotateRight 25 = .ok (.getfield 114, 3) := dk_180 0 114 (dk_at dksJ1_rotateRight_1 1 rfl rfl)
theorem dJ1_rotateRight_28 : decode cJ1_rotateRight 28 = .ok (.aload_n 1, 1) := dk_43 (dk_at dksJ1_rotateRight_1 4 rfl rfl)
theorem dJ1_rotateRight_29 : decode cJ1_rotateRight 29 = .ok (.putfield 124, 3) := dk_181 0 124 (dk_at dksJ1_rotateRight_1 5 rfl rfl)
theorem dJ1_rotateRight_32 : decode cJ1_rotateRight 32 = .ok (.aload_n 2, 1) := dk_44 (dk_at dksJ1_rotateRight_1 8 rfl rfl)
theorem dJ1_rotateRight_33 : decode cJ1_rotateRight 33 = .ok (.aload_n 1, 1) := dk_43 (dk_at dksJ1_rotateRight_1 9 rfl rfl)
theorem dJ1_rotateRight_34 : decode cJ1_rotateRight 34 = .ok (.getfield 124, 3) := dk_180 0 124 (dk_at dksJ1_rotateRight_1 10 rfl rfl)
theorem dJ1_rotateRight_37 : decode cJ1_rotateRight 37 = .ok (.putfield 124, 3) := dk_181 0 124 (dk_at dksJ1_rotateRight_1 13 rfl rfl)
theorem dJ1_rotateRight_40 : decode cJ1_rotateRight 40 = .ok (.aload_n 1, 1) := dk_43 (dk_at dksJ1_rotateRight_1 16 rfl rfl)
theorem dJ1_rotateRight_41 : decode cJ1_rotateRight 41 = .ok (.getfield 124, 3) := dk_180 0 124 (dk_at dksJ1_rotateRight_1 17 rfl rfl)
theorem dJ1_rotateRight_44 : decode cJ1_rotateRight 44 = .ok (.ifnonnull 11, 3) := dk_199 0 11 (dk_at dksJ1_rotateRight_1 20 rfl rfl)
theorem dJ1_rotateRight_47 : decode cJ1_rotateRight 47 = .ok (.aload_n 0, 1) := dk_42 (dk_at dksJ1_rotateRight_1 23 rfl rfl)
theorem dJ1_rotateRight_48 : decode cJ1_rotateRight 48 = .ok (.aload_n 2, 1) := dk_44 (dk_at dksJ1_rotateRight_2 0 rfl rfl)
theorem dJ1_rotateRight_49 : decode cJ1_rotateRight 49 = .ok (.putfield 101, 3) := dk_181 0 101 (dk_at dksJ1_rotateRight_2 1 rfl rfl)
theorem dJ1_rotateRight_52 : decode cJ1_rotateRight 52 = .ok (.goto 33, 3) := dk_167 0 33 (dk_at dksJ1_rotateRight_2 4 rfl rfl)
theorem dJ1_rotateRight_55 : decode cJ1_rotateRight 55 = .ok (.aload_n 1, 1) := dk_43 (dk_at dksJ1_rotateRight_2 7 rfl rfl)
theorem dJ1_rotateRight_56 : decode cJ1_rotateRight 56 = .ok (.getfield 124, 3) := dk_180 0 124 (dk_at dksJ1_rotateRight_2 8 rfl rfl)
theorem dJ1_rotateRight_59 : decode cJ1_rotateRight 59 = .ok (.getfield 114, 3) := dk_180 0 114 (dk_at dksJ1_rotateRight_2 11 rfl rfl)
theorem dJ1_rotateRight_62 : decode cJ1_rotateRight 62 = .ok (.aload_n 1, 1) := dk_43 (dk_at dksJ1_rotateRight_2 14 rfl rfl)
theorem dJ1_rotateRight_63 : decode cJ1_rotateRight 63 = .ok (.if_acmp .ne 14, 3) := dk_166 0 14 (dk_at dksJ1_rotateRight_2 15 rfl rfl)
theorem dJ1_rotateRight_66 : decode cJ1_rotateRight 66 = .ok (.aload_n 1, 1) := dk_43 (dk_at dksJ1_rotateRight_2 18 rfl rfl)
theorem dJ1_rotateRight_67 : decode cJ1_rotateRight 67 = .ok (.getfield 124, 3) := dk_180 0 124 (dk_at dksJ1_rotateRight_2 19 rfl rfl)
theorem dJ1_rotateRight_70 : decode cJ1_rotateRight 70 = .ok (.aload_n 2, 1) := dk_44 (dk_at dksJ1_rotateRight_2 22 rfl rfl)
theorem dJ1_rotateRight_71 : decode cJ1_rotateRight 71 = .ok (.putfield 114, 3) := dk_181 0 114 (dk_at dksJ1_rotateRight_3 0 rfl rfl)
theorem dJ1_rotateRight_74 : decode cJ1_rotateRight 74 = .ok (.goto 11, 3) := dk_167 0 11 (dk_at dksJ1_rotateRight_3 3 rfl rfl)
theorem dJ1_rotateRight_77 : decode cJ1_rotateRight 77 = .ok (.aload_n 1, 1) := dk_43 (dk_at dksJ1_rotateRight_3 6 rfl rfl)
theorem dJ1_rotateRight_78 : decode cJ1_rotateRight 78 = .ok (.getfield 124, 3) := dk_180 0 124 (dk_at dksJ1_rotateRight_3 7 rfl rfl)
theorem dJ1_rotateRight_81 : decode cJ1_rotateRight 81 = .ok (.aload_n 2, 1) := dk_44 (dk_at dksJ1_rotateRight_3 10 rfl rfl)
theorem dJ1_rotateRight_82 : decode cJ1_rotateRight 82 = .ok (.putfield 111, 3) := dk_181 0 111 (dk_at dksJ1_rotateRight_3 11 rfl rfl)
theorem dJ1_rotateRight_85 : decode cJ1_rotateRight 85 = .ok (.aload_n 2, 1) := dk_44 (dk_at dksJ1_rotateRight_3 14 rfl rfl)
theorem dJ1_rotateRight_86 : decode cJ1_rotateRight 86 = .ok (.aload_n 1, 1) := dk_43 (dk_at dksJ1_rotateRight_3 15 rfl rfl)
theorem dJ1_rotateRight_87 : decode cJ1_rotateRight 87 = .ok (.putfield 114, 3) := dk_181 0 114 (dk_at dksJ1_rotateRight_3 16 rfl rfl)
theorem dJ1_rotateRight_90 : decode cJ1_rotateRight 90 = .ok (.aload_n 1, 1) := dk_43 (dk_at dksJ1_rotateRight_3 19 rfl rfl)
theorem dJ1_rotateRight_91 : decode cJ1_rotateRight 91 = .ok (.aload_n 2, 1) := dk_44 (dk_at dksJ1_rotateRight_3 20 rfl rfl)
theorem dJ1_rotateRight_92 : decode cJ1_rotateRight 92 = .ok (.putfield 124, 3) := dk_181 0 124 (dk_at dksJ1_rotateRight_3 21 rfl rfl)
theorem dJ1_rotateRight_95 : decode cJ1_rotateRight 95 = .ok (.return_, 1) := dk_177 (dk_at dksJ1_rotateRight_4 0 rfl rfl)
abbrev cJ1_size : ByteArray := prog_70_method_5_code
def yJ1_size : MethodName := ⟨RJ1, "size", "()I"⟩
theorem dJ1_size_0 : decode cJ1_size 0 = .ok (.aload_n 0, 1) := by decide +kernel
theorem dJ1_size_1 : decode cJ1_size 1 = .ok (.getfield 7, 3) := by decide +kernel
theorem dJ1_size_4 : decode cJ1_size 4 = .ok (.ireturn, 1) := by decide +kernel
abbrev cJ1_getFirstEntry : ByteArray := prog_70_method_72_code
def yJ1_getFirstEntry : MethodName := ⟨RJ1, "getFirstEntry", "()Ljava/util/TreeMap$Entry;"⟩
def dkwJ1_getFirstEntry_1 : List UInt8 := [43, 176]
abbrev dktJ1_getFirstEntry_1 : List UInt8 := dkwJ1_getFirstEntry_1 ++ []
def dkwJ1_getFirstEntry_0 : List UInt8 := [42, 180, 0, 101, 76, 43, 198, 0, 18, 43, 180, 0, 111, 198, 0, 11, 43, 180, 0, 111, 76, 167, 255, 244]
abbrev dktJ1_getFirstEntry_0 : List UInt8 := dkwJ1_getFirstEntry_0 ++ dktJ1_getFirstEntry_1
theorem dksJ1_getFirstEntry_0 : cJ1_getFirstEntry.data.toList.drop 0 = dktJ1_getFirstEntry_0 := by decide +kernel
theorem dksJ1_getFirstEntry_1 : cJ1_getFirstEntry.data.toList.drop 24 = dktJ1_getFirstEntry_1 := dk_seg dksJ1_getFirstEntry_0 24 rfl rfl
theorem dJ1_getFirstEntry_0 : decode cJ1_getFirstEntry 0 = .ok (.aload_n 0, 1) := dk_42 (dk_at dksJ1_getFirstEntry_0 0 rfl rfl)
theorem dJ1_getFirstEntry_1 : decode cJ1_getFirstEntry 1 = .ok (.getfield 101, 3) := dk_180 0 101 (dk_at dksJ1_getFirstEntry_0 1 rfl rfl)
theorem dJ1_getFirstEntry_4 : decode cJ1_getFirstEntry 4 = .ok (.astore_n 1, 1) := dk_76 (dk_at dksJ1_getFirstEntry_0 4 rfl rfl)
theorem dJ1_getFirstEntry_5 : decode cJ1_getFirstEntry 5 = .ok (.aload_n 1, 1) := dk_43 (dk_at dksJ1_getFirstEntry_0 5 rfl rfl)
theorem dJ1_getFirstEntry_6 : decode cJ1_getFirstEntry 6 = .ok (.ifnull 18, 3) := dk_198 0 18 (dk_at dksJ1_getFirstEntry_0 6 rfl rfl)
theorem dJ1_getFirstEntry_9 : decode cJ1_getFirstEntry 9 = .ok (.aload_n 1, 1) := dk_43 (dk_at dksJ1_getFirstEntry_0 9 rfl rfl)
theorem dJ1_getFirstEntry_10 : decode cJ1_getFirstEntry 10 = .ok (.getfield 111, 3) := dk_180 0 111 (dk_at dksJ1_getFirstEntry_0 10 rfl rfl)
theorem dJ1_getFirstEntry_13 : decode cJ1_getFirstEntry 13 = .ok (.ifnull 11, 3) := dk_198 0 11 (dk_at dksJ1_getFirstEntry_0 13 rfl rfl)
theorem dJ1_getFirstEntry_16 : decode cJ1_getFirstEntry 16 = .ok (.aload_n 1, 1) := dk_43 (dk_at dksJ1_getFirstEntry_0 16 rfl rfl)
theorem dJ1_getFirstEntry_17 : decode cJ1_getFirstEntry 17 = .ok (.getfield 111, 3) := dk_180 0 111 (dk_at dksJ1_getFirstEntry_0 17 rfl rfl)
theorem dJ1_getFirstEntry_20 : decode cJ1_getFirstEntry 20 = .ok (.astore_n 1, 1) := dk_76 (dk_at dksJ1_getFirstEntry_0 20 rfl rfl)
theorem dJ1_getFirstEntry_21 : decode cJ1_getFirstEntry 21 = .ok (.goto (-12), 3) := dk_167 255 244 (dk_at dksJ1_getFirstEntry_0 21 rfl rfl)
theorem dJ1_getFirstEntry_24 : decode cJ1_getFirstEntry 24 = .ok (.aload_n 1, 1) := dk_43 (dk_at dksJ1_getFirstEntry_1 0 rfl rfl)
theorem dJ1_getFirstEntry_25 : decode cJ1_getFirstEntry 25 = .ok (.areturn, 1) := dk_176 (dk_at dksJ1_getFirstEntry_1 1 rfl rfl)
abbrev cJ1_getCeilingEntry : ByteArray := prog_70_method_17_code
def yJ1_getCeilingEntry : MethodName := ⟨RJ1, "getCeilingEntry", "(Ljava/lang/Object;)Ljava/util/TreeMap$Entry;"⟩
def dkwJ1_getCeilingEntry_4 : List UInt8 := [167, 255, 230, 25, 4, 176, 44, 176, 167, 255, 159, 1, 176]
abbrev dktJ1_getCeilingEntry_4 : List UInt8 := dkwJ1_getCeilingEntry_4 ++ []
def dkwJ1_getCeilingEntry_3 : List UInt8 := [198, 0, 27, 25, 5, 25, 4, 180, 0, 114, 166, 0, 17, 25, 4, 58, 5, 25, 4, 180, 0, 124, 58, 4]
abbrev dktJ1_getCeilingEntry_3 : List UInt8 := dkwJ1_getCeilingEntry_3 ++ dktJ1_getCeilingEntry_4
def dkwJ1_getCeilingEntry_2 : List UInt8 := [198, 0, 11, 44, 180, 0, 114, 77, 167, 0, 46, 44, 180, 0, 124, 58, 4, 44, 58, 5, 25, 4]
abbrev dktJ1_getCeilingEntry_2 : List UInt8 := dkwJ1_getCeilingEntry_2 ++ dktJ1_getCeilingEntry_3
def dkwJ1_getCeilingEntry_1 : List UInt8 := [180, 0, 111, 198, 0, 11, 44, 180, 0, 111, 77, 167, 0, 67, 44, 176, 29, 158, 0, 59, 44, 180, 0, 114]
abbrev dktJ1_getCeilingEntry_1 : List UInt8 := dkwJ1_getCeilingEntry_1 ++ dktJ1_getCeilingEntry_2
def dkwJ1_getCeilingEntry_0 : List UInt8 := [42, 180, 0, 101, 77, 44, 198, 0, 99, 42, 43, 44, 180, 0, 105, 182, 0, 123, 62, 29, 156, 0, 20, 44]
abbrev dktJ1_getCeilingEntry_0 : List UInt8 := dkwJ1_getCeilingEntry_0 ++ dktJ1_getCeilingEntry_1
theorem dksJ1_getCeilingEntry_0 : cJ1_getCeilingEntry.data.toList.drop 0 = dktJ1_getCeilingEntry_0 := by decide +kernel
theorem dksJ1_getCeilingEntry_1 : cJ1_getCeilingEntry.data.toList.drop 24 = dktJ1_getCeilingEntry_1 := dk_seg dksJ1_getCeilingEntry_0 24 rfl rfl
theorem dksJ1_getCeilingEntry_2 : cJ1_getCeilingEntry.data.toList.drop 48 = dktJ1_getCeilingEntry_2 := dk_seg dksJ1_getCeilingEntry_1 24 rfl rfl
theorem dksJ1_getCeilingEntry_3 : cJ1_getCeilingEntry.data.toList.drop 70 = dktJ1_getCeilingEntry_3 := dk_seg dksJ1_getCeilingEntry_2 22 rfl rfl
theorem dksJ1_getCeilingEntry_4 : cJ1_getCeilingEntry.data.toList.drop 94 = dktJ1_getCeilingEntry_4 := dk_seg dksJ1_getCeilingEntry_3 24 rfl rfl
theorem dJ1_getCeilingEntry_0 : decode cJ1_getCeilingEntry 0 = .ok (.aload_n 0, 1) := dk_42 (dk_at dksJ1_getCeilingEntry_0 0 rfl rfl)
theorem dJ1_getCeilingEntry_1 : decode cJ1_getCeilingEntry 1 = .ok (.getfield 101, 3) := dk_180 0 101 (dk_at dksJ1_getCeilingEntry_0 1 rfl rfl)
theorem dJ1_getCeilingEntry_4 : decode cJ1_getCeilingEntry 4 = .ok (.astore_n 2, 1) := dk_77 (dk_at dksJ1_getCeilingEntry_0 4 rfl rfl)
theorem dJ1_getCeilingEntry_5 : decode cJ1_getCeilingEntry 5 = .ok (.aload_n 2, 1) := dk_44 (dk_at dksJ1_getCeilingEntry_0 5 rfl rfl)
theorem dJ1_getCeilingEntry_6 : decode cJ1_getCeilingEntry 6 = .ok (.ifnull 99, 3) := dk_198 0 99 (dk_at dksJ1_getCeilingEntry_0 6 rfl rfl)
theorem dJ1_getCeilingEntry_9 : decode cJ1_getCeilingEntry 9 = .ok (.aload_n 0, 1) := dk_42 (dk_at dksJ1_getCeilingEntry_0 9 rfl rfl)
theorem dJ1_getCeilingEntry_10 : decode cJ1_getCeilingEntry 10 = .ok (.aload_n 1, 1) := dk_43 (dk_at dksJ1_getCeilingEntry_0 10 rfl rfl)
theorem dJ1_getCeilingEntry_11 : decode cJ1_getCeilingEntry 11 = .ok (.aload_n 2, 1) := dk_44 (dk_at dksJ1_getCeilingEntry_0 11 rfl rfl)
theorem dJ1_getCeilingEntry_12 : decode cJ1_getCeilingEntry 12 = .ok (.getfield 105, 3) := dk_180 0 105 (dk_at dksJ1_getCeilingEntry_0 12 rfl rfl)
theorem dJ1_getCeilingEntry_15 : decode cJ1_getCeilingEntry 15 = .ok (.invokevirtual 123, 3) := dk_182 0 123 (dk_at dksJ1_getCeilingEntry_0 15 rfl rfl)
theorem dJ1_getCeilingEntry_18 : decode cJ1_getCeilingEntry 18 = .ok (.istore_n 3, 1) := dk_62 (dk_at dksJ1_getCeilingEntry_0 18 rfl rfl)
theorem dJ1_getCeilingEntry_19 : decode cJ1_getCeilingEntry 19 = .ok (.iload_n 3, 1) := dk_29 (dk_at dksJ1_getCeilingEntry_0 19 rfl rfl)
theorem dJ1_getCeilingEntry_20 : decode cJ1_getCeilingEntry 20 = .ok (.ifCond .ge 20, 3) := dk_156 0 20 (dk_at dksJ1_getCeilingEntry_0 20 rfl rfl)
theorem dJ1_getCeilingEntry_23 : decode cJ1_getCeilingEntry 23 = .ok (.aload_n 2, 1) := dk_44 (dk_at dksJ1_getCeilingEntry_0 23 rfl rfl)
theorem dJ1_getCeilingEntry_24 : decode cJ1_getCeilingEntry 24 = .ok (.getfield 111, 3) := dk_180 0 111 (dk_at dksJ1_getCeilingEntry_1 0 rfl rfl)
theorem dJ1_getCeilingEntry_27 : decode cJ1_getCeilingEntry 27 = .ok (.ifnull 11, 3) := dk_198 0 11 (dk_at dksJ1_getCeilingEntry_1 3 rfl rfl)
theorem dJ1_getCeilingEntry_30 : decode cJ1_getCeilingEntry 30 = .ok (.aload_n 2, 1) := dk_44 (dk_at dksJ1_getCeilingEntry_1 6 rfl rfl)
theorem dJ1_getCeilingEntry_31 : decode cJ1_getCeilingEntry 31 = .ok (.getfield 111, 3) := dk_180 0 111 (dk_at dksJ1_getCeilingEntry_1 7 rfl rfl)
theorem dJ1_getCeilingEntry_34 : decode cJ1_getCeilingEntry 34 = .ok (.astore_n 2, 1) := dk_77 (dk_at dksJ1_getCeilingEntry_1 10 rfl rfl)
theorem dJ1_getCeilingEntry_35 : decode cJ1_getCeilingEntry 35 = .ok (.goto 67, 3) := dk_167 0 67 (dk_at dksJ1_getCeilingEntry_1 11 rfl rfl)
theorem dJ1_getCeilingEntry_38 : decode cJ1_getCeilingEntry 38 = .ok (.aload_n 2, 1) := dk_44 (dk_at dksJ1_getCeilingEntry_1 14 rfl rfl)
theorem dJ1_getCeilingEntry_39 : decode cJ1_getCeilingEntry 39 = .ok (.areturn, 1) := dk_176 (dk_at dksJ1_getCeilingEntry_1 15 rfl rfl)
theorem dJ1_getCeilingEntry_40 : decode cJ1_getCeilingEntry 40 = .ok (.iload_n 3, 1) := dk_29 (dk_at dksJ1_getCeilingEntry_1 16 rfl rfl)
theorem dJ1_getCeilingEntry_41 : decode cJ1_getCeilingEntry 41 = .ok (.ifCond .le 59, 3) := dk_158 0 59 (dk_at dksJ1_getCeilingEntry_1 17 rfl rfl)
theorem dJ1_getCeilingEntry_44 : decode cJ1_getCeilingEntry 44 = .ok (.aload_n 2, 1) := dk_44 (dk_at dksJ1_getCeilingEntry_1 20 rfl rfl)
theorem dJ1_getCeilingEntry_45 : decode cJ1_getCeilingEntry 45 = .ok (.getfield 114, 3) := dk_180 0 114 (dk_at dksJ1_getCeilingEntry_1 21 rfl rfl)
theorem dJ1_getCeilingEntry_48 : decode cJ1_getCeilingEntry 48 = .ok (.ifnull 11, 3) := dk_198 0 11 (dk_at dksJ1_getCeilingEntry_2 0 rfl rfl)
theorem dJ1_getCeilingEntry_51 : decode cJ1_getCeilingEntry 51 = .ok (.aload_n 2, 1) := dk_44 (dk_at dksJ1_getCeilingEntry_2 3 rfl rfl)
theorem dJ1_getCeilingEntry_52 : decode cJ1_getCeilingEntry 52 = .ok (.getfield 114, 3) := dk_180 0 114 (dk_at dksJ1_getCeilingEntry_2 4 rfl rfl)
theorem dJ1_getCeilingEntry_55 : decode cJ1_getCeilingEntry 55 = .ok (.astore_n 2, 1) := dk_77 (dk_at dksJ1_getCeilingEntry_2 7 rfl rfl)
theorem dJ1_getCeilingEntry_56 : decode cJ1_getCeilingEntry 56 = .ok (.goto 46, 3) := dk_167 0 46 (dk_at dksJ1_getCeilingEntry_2 8 rfl rfl)
theorem dJ1_getCeilingEntry_59 : decode cJ1_getCeilingEntry 59 = .ok (.aload_n 2, 1) := dk_44 (dk_at dksJ1_getCeilingEntry_2 11 rfl rfl)
theorem dJ1_getCeilingEntry_60 : decode cJ1_getCeilingEntry 60 = .ok (.getfield 124, 3) := dk_180 0 124 (dk_at dksJ1_getCeilingEntry_2 12 rfl rfl)
theorem dJ1_getCeilingEntry_63 : decode cJ1_getCeilingEntry 63 = .ok (.astore 4, 2) := dk_58 4 (dk_at dksJ1_getCeilingEntry_2 15 rfl rfl)
theorem dJ1_getCeilingEntry_65 : decode cJ1_getCeilingEntry 65 = .ok (.aload_n 2, 1) := dk_44 (dk_at dksJ1_getCeilingEntry_2 17 rfl rfl)
theorem dJ1_getCeilingEntry_66 : decode cJ1_getCeilingEntry 66 = .ok (.astore 5, 2) := dk_58 5 (dk_at dksJ1_getCeilingEntry_2 18 rfl rfl)
theorem dJ1_getCeilingEntry_68 : decode cJ1_getCeilingEntry 68 = .ok (.aload 4, 2) := dk_25 4 (dk_at dksJ1_getCeilingEntry_2 20 rfl rfl)
theorem dJ1_getCeilingEntry_70 : decode cJ1_getCeilingEntry 70 = .ok (.ifnull 27, 3) := dk_198 0 27 (dk_at dksJ1_getCeilingEntry_3 0 rfl rfl)
theorem dJ1_getCeilingEntry_73 : decode cJ1_getCeilingEntry 73 = .ok (.aload 5, 2) := dk_25 5 (dk_at dksJ1_getCeilingEntry_3 3 rfl rfl)
theorem dJ1_getCeilingEntry_75 : decode cJ1_getCeilingEntry 75 = .ok (.aload 4, 2) := dk_25 4 (dk_at dksJ1_getCeilingEntry_3 5 rfl rfl)
theorem dJ1_getCeilingEntry_77 : decode cJ1_getCeilingEntry 77 = .ok (.getfield 114, 3) := dk_180 0 114 (dk_at dksJ1_getCeilingEntry_3 7 rfl rfl)
theorem dJ1_getCeilingEntry_80 : decode cJ1_getCeilingEntry 80 = .ok (.if_acmp .ne 17, 3) := dk_166 0 17 (dk_at dksJ1_getCeilingEntry_3 10 rfl rfl)
theorem dJ1_getCeilingEntry_83 : decode cJ1_getCeilingEntry 83 = .ok (.aload 4, 2) := dk_25 4 (dk_at dksJ1_getCeilingEntry_3 13 rfl rfl)
theorem dJ1_getCeilingEntry_85 : decode cJ1_getCeilingEntry 85 = .ok (.astore 5, 2) := dk_58 5 (dk_at dksJ1_getCeilingEntry_3 15 rfl rfl)
theorem dJ1_getCeilingEntry_87 : decode cJ1_getCeilingEntry 87 = .ok (.aload 4, 2) := dk_25 4 (dk_at dksJ1_getCeilingEntry_3 17 rfl rfl)
theorem dJ1_getCeilingEntry_89 : decode cJ1_getCeilingEntry 89 = .ok (.getfield 124, 3) := dk_180 0 124 (dk_at dksJ1_getCeilingEntry_3 19 rfl rfl)
theorem dJ1_getCeilingEntry_92 : decode cJ1_getCeilingEntry 92 = .ok (.astore 4, 2) := dk_58 4 (dk_at dksJ1_getCeilingEntry_3 22 rfl rfl)
theorem dJ1_getCeilingEntry_94 : decode cJ1_getCeilingEntry 94 = .ok (.goto (-26), 3) := dk_167 255 230 (dk_at dksJ1_getCeilingEntry_4 0 rfl rfl)
theorem dJ1_getCeilingEntry_97 : decode cJ1_getCeilingEntry 97 = .ok (.aload 4, 2) := dk_25 4 (dk_at dksJ1_getCeilingEntry_4 3 rfl rfl)
theorem dJ1_getCeilingEntry_99 : decode cJ1_getCeilingEntry 99 = .ok (.areturn, 1) := dk_176 (dk_at dksJ1_getCeilingEntry_4 5 rfl rfl)
theorem dJ1_getCeilingEntry_100 : decode cJ1_getCeilingEntry 100 = .ok (.aload_n 2, 1) := dk_44 (dk_at dksJ1_getCeilingEntry_4 6 rfl rfl)
theorem dJ1_getCeilingEntry_101 : decode cJ1_getCeilingEntry 101 = .ok (.areturn, 1) := dk_176 (dk_at dksJ1_getCeilingEntry_4 7 rfl rfl)
theorem dJ1_getCeilingEntry_102 : decode cJ1_getCeilingEntry 102 = .ok (.goto (-97), 3) := dk_167 255 159 (dk_at dksJ1_getCeilingEntry_4 8 rfl rfl)
theorem dJ1_getCeilingEntry_105 : decode cJ1_getCeilingEntry 105 = .ok (.aconst_null, 1) := dk_1 (dk_at dksJ1_getCeilingEntry_4 11 rfl rfl)
theorem dJ1_getCeilingEntry_106 : decode cJ1_getCeilingEntry 106 = .ok (.areturn, 1) := dk_176 (dk_at dksJ1_getCeilingEntry_4 12 rfl rfl)
abbrev cJ1_getHigherEntry : ByteArray := prog_70_method_19_code
def yJ1_getHigherEntry : MethodName := ⟨RJ1, "getHigherEntry", "(Ljava/lang/Object;)Ljava/util/TreeMap$Entry;"⟩
def dkwJ1_getHigherEntry_4 : List UInt8 := [176, 167, 255, 165, 1, 176]
abbrev dktJ1_getHigherEntry_4 : List UInt8 := dkwJ1_getHigherEntry_4 ++ []
def dkwJ1_getHigherEntry_3 : List UInt8 := [25, 4, 180, 0, 114, 166, 0, 17, 25, 4, 58, 5, 25, 4, 180, 0, 124, 58, 4, 167, 255, 230, 25, 4]
abbrev dktJ1_getHigherEntry_3 : List UInt8 := dkwJ1_getHigherEntry_3 ++ dktJ1_getHigherEntry_4
def dkwJ1_getHigherEntry_2 : List UInt8 := [180, 0, 114, 77, 167, 0, 44, 44, 180, 0, 124, 58, 4, 44, 58, 5, 25, 4, 198, 0, 27, 25, 5]
abbrev dktJ1_getHigherEntry_2 : List UInt8 := dkwJ1_getHigherEntry_2 ++ dktJ1_getHigherEntry_3
def dkwJ1_getHigherEntry_1 : List UInt8 := [180, 0, 111, 198, 0, 11, 44, 180, 0, 111, 77, 167, 0, 61, 44, 176, 44, 180, 0, 114, 198, 0, 11, 44]
abbrev dktJ1_getHigherEntry_1 : List UInt8 := dkwJ1_getHigherEntry_1 ++ dktJ1_getHigherEntry_2
def dkwJ1_getHigherEntry_0 : List UInt8 := [42, 180, 0, 101, 77, 44, 198, 0, 93, 42, 43, 44, 180, 0, 105, 182, 0, 123, 62, 29, 156, 0, 20, 44]
abbrev dktJ1_getHigherEntry_0 : List UInt8 := dkwJ1_getHigherEntry_0 ++ dktJ1_getHigherEntry_1
theorem dksJ1_getHigherEntry_0 : cJ1_getHigherEntry.data.toList.drop 0 = dktJ1_getHigherEntry_0 := by decide +kernel
theorem dksJ1_getHigherEntry_1 : cJ1_getHigherEntry.data.toList.drop 24 = dktJ1_getHigherEntry_1 := dk_seg dksJ1_getHigherEntry_0 24 rfl rfl
theorem dksJ1_getHigherEntry_2 : cJ1_getHigherEntry.data.toList.drop 48 = dktJ1_getHigherEntry_2 := dk_seg dksJ1_getHigherEntry_1 24 rfl rfl
theorem dksJ1_getHigherEntry_3 : cJ1_getHigherEntry.data.toList.drop 71 = dktJ1_getHigherEntry_3 := dk_seg dksJ1_getHigherEntry_2 23 rfl rfl
theorem dksJ1_getHigherEntry_4 : cJ1_getHigherEntry.data.toList.drop 95 = dktJ1_getHigherEntry_4 := dk_seg dksJ1_getHigherEntry_3 24 rfl rfl
theorem dJ1_getHigherEntry_0 : decode cJ1_getHigherEntry 0 = .ok (.aload_n 0, 1) := dk_42 (dk_at dksJ1_getHigherEntry_0 0 rfl rfl)
theorem dJ1_getHigherEntry_1 : decode cJ1_getHigherEntry 1 = .ok (.getfield 101, 3) := dk_180 0 101 (dk_at dksJ1_getHigherEntry_0 1 rfl rfl)
theorem dJ1_getHigherEntry_4 : decode cJ1_getHigherEntry 4 = .ok (.astore_n 2, 1) := dk_77 (dk_at dksJ1_getHigherEntry_0 4 rfl rfl)
theorem dJ1_getHigherEntry_5 : decode cJ1_getHigherEntry 5 = .ok (.aload_n 2, 1) := dk_44 (dk_at dksJ1_getHigherEntry_0 5 rfl rfl)
theorem dJ1_getHigherEntry_6 : decode cJ1_getHigherEntry 6 = .ok (.ifnull 93, 3) := dk_198 0 93 (dk_at dksJ1_getHigherEntry_0 6 rfl rfl)
theorem dJ1_getHigherEntry_9 : decode cJ1_getHigherEntry 9 = .ok (.aload_n 0, 1) := dk_42 (dk_at dksJ1_getHigherEntry_0 9 rfl rfl)
theorem dJ1_getHigherEntry_10 : decode cJ1_getHigherEntry 10 = .ok (.aload_n 1, 1) := dk_43 (dk_at dksJ1_getHigherEntry_0 10 rfl rfl)
theorem dJ1_getHigherEntry_11 : decode cJ1_getHigherEntry 11 = .ok (.aload_n 2, 1) := dk_44 (dk_at dksJ1_getHigherEntry_0 11 rfl rfl)
theorem dJ1_getHigherEntry_12 : decode cJ1_getHigherEntry 12 = .ok (.getfield 105, 3) := dk_180 0 105 (dk_at dksJ1_getHigherEntry_0 12 rfl rfl)
theorem dJ1_getHigherEntry_15 : decode cJ1_getHigherEntry 15 = .ok (.invokevirtual 123, 3) := dk_182 0 123 (dk_at dksJ1_getHigherEntry_0 15 rfl rfl)
theorem dJ1_getHigherEntry_18 : decode cJ1_getHigherEntry 18 = .ok (.istore_n 3, 1) := dk_62 (dk_at dksJ1_getHigherEntry_0 18 rfl rfl)
theorem dJ1_getHigherEntry_19 : decode cJ1_getHigherEntry 19 = .ok (.iload_n 3, 1) := dk_29 (dk_at dksJ1_getHigherEntry_0 19 rfl rfl)
theorem dJ1_getHigherEntry_20 : decode cJ1_getHigherEntry 20 = .ok (.ifCond .ge 20, 3) := dk_156 0 20 (dk_at dksJ1_getHigherEntry_0 20 rfl rfl)
theorem dJ1_getHigherEntry_23 : decode cJ1_getHigherEntry 23 = .ok (.aload_n 2, 1) := dk_44 (dk_at dksJ1_getHigherEntry_0 23 rfl rfl)
theorem dJ1_getHigherEntry_24 : decode cJ1_getHigherEntry 24 = .ok (.getfield 111, 3) := dk_180 0 111 (dk_at dksJ1_getHigherEntry_1 0 rfl rfl)
theorem dJ1_getHigherEntry_27 : decode cJ1_getHigherEntry 27 = .ok (.ifnull 11, 3) := dk_198 0 11 (dk_at dksJ1_getHigherEntry_1 3 rfl rfl)
theorem dJ1_getHigherEntry_30 : decode cJ1_getHigherEntry 30 = .ok (.aload_n 2, 1) := dk_44 (dk_at dksJ1_getHigherEntry_1 6 rfl rfl)
theorem dJ1_getHigherEntry_31 : decode cJ1_getHigherEntry 31 = .ok (.getfield 111, 3) := dk_180 0 111 (dk_at dksJ1_getHigherEntry_1 7 rfl rfl)
theorem dJ1_getHigherEntry_34 : decode cJ1_getHigherEntry 34 = .ok (.astore_n 2, 1) := dk_77 (dk_at dksJ1_getHigherEntry_1 10 rfl rfl)
theorem dJ1_getHigherEntry_35 : decode cJ1_getHigherEntry 35 = .ok (.goto 61, 3) := dk_167 0 61 (dk_at dksJ1_getHigherEntry_1 11 rfl rfl)
theorem dJ1_getHigherEntry_38 : decode cJ1_getHigherEntry 38 = .ok (.aload_n 2, 1) := dk_44 (dk_at dksJ1_getHigherEntry_1 14 rfl rfl)
theorem dJ1_getHigherEntry_39 : decode cJ1_getHigherEntry 39 = .ok (.areturn, 1) := dk_176 (dk_at dksJ1_getHigherEntry_1 15 rfl rfl)
theorem dJ1_getHigherEntry_40 : decode cJ1_getHigherEntry 40 = .ok (.aload_n 2, 1) := dk_44 (dk_at dksJ1_getHigherEntry_1 16 rfl rfl)
theorem dJ1_getHigherEntry_41 : decode cJ1_getHigherEntry 41 = .ok (.getfield 114, 3) := dk_180 0 114 (dk_at dksJ1_getHigherEntry_1 17 rfl rfl)
theorem dJ1_getHigherEntry_44 : decode cJ1_getHigherEntry 44 = .ok (.ifnull 11, 3) := dk_198 0 11 (dk_at dksJ1_getHigherEntry_1 20 rfl rfl)
theorem dJ1_getHigherEntry_47 : decode cJ1_getHigherEntry 47 = .ok (.aload_n 2, 1) := dk_44 (dk_at dksJ1_getHigherEntry_1 23 rfl rfl)
theorem dJ1_getHigherEntry_48 : decode cJ1_getHigherEntry 48 = .ok (.getfield 114, 3) := dk_180 0 114 (dk_at dksJ1_getHigherEntry_2 0 rfl rfl)
theorem dJ1_getHigherEntry_51 : decode cJ1_getHigherEntry 51 = .ok (.astore_n 2, 1) := dk_77 (dk_at dksJ1_getHigherEntry_2 3 rfl rfl)
theorem dJ1_getHigherEntry_52 : decode cJ1_getHigherEntry 52 = .ok (.goto 44, 3) := dk_167 0 44 (dk_at dksJ1_getHigherEntry_2 4 rfl rfl)
theorem dJ1_getHigherEntry_55 : decode cJ1_getHigherEntry 55 = .ok (.aload_n 2, 1) := dk_44 (dk_at dksJ1_getHigherEntry_2 7 rfl rfl)
theorem dJ1_getHigherEntry_56 : decode cJ1_getHigherEntry 56 = .ok (.getfield 124, 3) := dk_180 0 124 (dk_at dksJ1_getHigherEntry_2 8 rfl rfl)
theorem dJ1_getHigherEntry_59 : decode cJ1_getHigherEntry 59 = .ok (.astore 4, 2) := dk_58 4 (dk_at dksJ1_getHigherEntry_2 11 rfl rfl)
theorem dJ1_getHigherEntry_61 : decode cJ1_getHigherEntry 61 = .ok (.aload_n 2, 1) := dk_44 (dk_at dksJ1_getHigherEntry_2 13 rfl rfl)
theorem dJ1_getHigherEntry_62 : decode cJ1_getHigherEntry 62 = .ok (.astore 5, 2) := dk_58 5 (dk_at dksJ1_getHigherEntry_2 14 rfl rfl)
theorem dJ1_getHigherEntry_64 : decode cJ1_getHigherEntry 64 = .ok (.aload 4, 2) := dk_25 4 (dk_at dksJ1_getHigherEntry_2 16 rfl rfl)
theorem dJ1_getHigherEntry_66 : decode cJ1_getHigherEntry 66 = .ok (.ifnull 27, 3) := dk_198 0 27 (dk_at dksJ1_getHigherEntry_2 18 rfl rfl)
theorem dJ1_getHigherEntry_69 : decode cJ1_getHigherEntry 69 = .ok (.aload 5, 2) := dk_25 5 (dk_at dksJ1_getHigherEntry_2 21 rfl rfl)
theorem dJ1_getHigherEntry_71 : decode cJ1_getHigherEntry 71 = .ok (.aload 4, 2) := dk_25 4 (dk_at dksJ1_getHigherEntry_3 0 rfl rfl)
theorem dJ1_getHigherEntry_73 : decode cJ1_getHigherEntry 73 = .ok (.getfield 114, 3) := dk_180 0 114 (dk_at dksJ1_getHigherEntry_3 2 rfl rfl)
theorem dJ1_getHigherEntry_76 : decode cJ1_getHigherEntry 76 = .ok (.if_acmp .ne 17, 3) := dk_166 0 17 (dk_at dksJ1_getHigherEntry_3 5 rfl rfl)
theorem dJ1_getHigherEntry_79 : decode cJ1_getHigherEntry 79 = .ok (.aload 4, 2) := dk_25 4 (dk_at dksJ1_getHigherEntry_3 8 rfl rfl)
theorem dJ1_getHigherEntry_81 : decode cJ1_getHigherEntry 81 = .ok (.astore 5, 2) := dk_58 5 (dk_at dksJ1_getHigherEntry_3 10 rfl rfl)
theorem dJ1_getHigherEntry_83 : decode cJ1_getHigherEntry 83 = .ok (.aload 4, 2) := dk_25 4 (dk_at dksJ1_getHigherEntry_3 12 rfl rfl)
theorem dJ1_getHigherEntry_85 : decode cJ1_getHigherEntry 85 = .ok (.getfield 124, 3) := dk_180 0 124 (dk_at dksJ1_getHigherEntry_3 14 rfl rfl)
theorem dJ1_getHigherEntry_88 : decode cJ1_getHigherEntry 88 = .ok (.astore 4, 2) := dk_58 4 (dk_at dksJ1_getHigherEntry_3 17 rfl rfl)
theorem dJ1_getHigherEntry_90 : decode cJ1_getHigherEntry 90 = .ok (.goto (-26), 3) := dk_167 255 230 (dk_at dksJ1_getHigherEntry_3 19 rfl rfl)
theorem dJ1_getHigherEntry_93 : decode cJ1_getHigherEntry 93 = .ok (.aload 4, 2) := dk_25 4 (dk_at dksJ1_getHigherEntry_3 22 rfl rfl)
theorem dJ1_getHigherEntry_95 : decode cJ1_getHigherEntry 95 = .ok (.areturn, 1) := dk_176 (dk_at dksJ1_getHigherEntry_4 0 rfl rfl)
theorem dJ1_getHigherEntry_96 : decode cJ1_getHigherEntry 96 = .ok (.goto (-91), 3) := dk_167 255 165 (dk_at dksJ1_getHigherEntry_4 1 rfl rfl)
theorem dJ1_getHigherEntry_99 : decode cJ1_getHigherEntry 99 = .ok (.aconst_null, 1) := dk_1 (dk_at dksJ1_getHigherEntry_4 4 rfl rfl)
theorem dJ1_getHigherEntry_100 : decode cJ1_getHigherEntry 100 = .ok (.areturn, 1) := dk_176 (dk_at dksJ1_getHigherEntry_4 5 rfl rfl)
abbrev cJ1_successor : ByteArray := prog_70_method_74_code
def yJ1_successor : MethodName := ⟨RJ1, "successor", "(Ljava/util/TreeMap$Entry;)Ljava/util/TreeMap$Entry;"⟩
def dkwJ1_successor_2 : List UInt8 := [44, 43, 180, 0, 114, 166, 0, 13, 43, 77, 43, 180, 0, 124, 76, 167, 255, 237, 43, 176]
abbrev dktJ1_successor_2 : List UInt8 := dkwJ1_successor_2 ++ []
def dkwJ1_successor_1 : List UInt8 := [198, 0, 11, 43, 180, 0, 111, 76, 167, 255, 244, 43, 176, 42, 180, 0, 124, 76, 42, 77, 43, 198, 0, 21]
abbrev dktJ1_successor_1 : List UInt8 := dkwJ1_successor_1 ++ dktJ1_successor_2
def dkwJ1_successor_0 : List UInt8 := [42, 199, 0, 5, 1, 176, 42, 180, 0, 114, 198, 0, 25, 42, 180, 0, 114, 76, 43, 180, 0, 111]
abbrev dktJ1_successor_0 : List UInt8 := dkwJ1_successor_0 ++ dktJ1_successor_1
theorem dksJ1_successor_0 : cJ1_successor.data.toList.drop 0 = dktJ1_successor_0 := by decide +kernel
theorem dksJ1_successor_1 : cJ1_successor.data.toList.drop 22 = dktJ1_successor_1 := dk_seg dksJ1_successor_0 22 rfl rfl
theorem dksJ1_successor_2 : cJ1_successor.data.toList.drop 46 = dktJ1_successor_2 := dk_seg dksJ1_successor_1 24 rfl rfl
theorem dJ1_successor_0 : decode cJ1_successor 0 = .ok (.aload_n 0, 1) := dk_42 (dk_at dksJ1_successor_0 0 rfl rfl)
theorem dJ1_successor_1 : decode cJ1_successor 1 = .ok (.ifnonnull 5, 3) := dk_199 0 5 (dk_at dksJ1_successor_0 1 rfl rfl)
theorem dJ1_successor_4 : decode cJ1_successor 4 = .ok (.aconst_null, 1) := dk_1 (dk_at dksJ1_successor_0 4 rfl rfl)
theorem dJ1_successor_5 : decode cJ1_successor 5 = .ok (.areturn, 1) := dk_176 (dk_at dksJ1_successor_0 5 rfl rfl)
theorem dJ1_successor_6 : decode cJ1_successor 6 = .ok (.aload_n 0, 1) := dk_42 (dk_at dksJ1_successor_0 6 rfl rfl)
theorem dJ1_successor_7 : decode cJ1_successor 7 = .ok (.getfield 114, 3) := dk_180 0 114 (dk_at dksJ1_successor_0 7 rfl rfl)
theorem dJ1_successor_10 : decode cJ1_successor 10 = .ok (.ifnull 25, 3) := dk_198 0 25 (dk_at dksJ1_successor_0 10 rfl rfl)
theorem dJ1_successor_13 : decode cJ1_successor 13 = .ok (.aload_n 0, 1) := dk_42 (dk_at dksJ1_successor_0 13 rfl rfl)
theorem dJ1_successor_14 : decode cJ1_successor 14 = .ok (.getfield 114, 3) := dk_180 0 114 (dk_at dksJ1_successor_0 14 rfl rfl)
theorem dJ1_successor_17 : decode cJ1_successor 17 = .ok (.astore_n 1, 1) := dk_76 (dk_at dksJ1_successor_0 17 rfl rfl)
theorem dJ1_successor_18 : decode cJ1_successor 18 = .ok (.aload_n 1, 1) := dk_43 (dk_at dksJ1_successor_0 18 rfl rfl)
theorem dJ1_successor_19 : decode cJ1_successor 19 = .ok (.getfield 111, 3) := dk_180 0 111 (dk_at dksJ1_successor_0 19 rfl rfl)
theorem dJ1_successor_22 : decode cJ1_successor 22 = .ok (.ifnull 11, 3) := dk_198 0 11 (dk_at dksJ1_successor_1 0 rfl rfl)
theorem dJ1_successor_25 : decode cJ1_successor 25 = .ok (.aload_n 1, 1) := dk_43 (dk_at dksJ1_successor_1 3 rfl rfl)
theorem dJ1_successor_26 : decode cJ1_successor 26 = .ok (.getfield 111, 3) := dk_180 0 111 (dk_at dksJ1_successor_1 4 rfl rfl)
theorem dJ1_successor_29 : decode cJ1_successor 29 = .ok (.astore_n 1, 1) := dk_76 (dk_at dksJ1_successor_1 7 rfl rfl)
theorem dJ1_successor_30 : decode cJ1_successor 30 = .ok (.goto (-12), 3) := dk_167 255 244 (dk_at dksJ1_successor_1 8 rfl rfl)
theorem dJ1_successor_33 : decode cJ1_successor 33 = .ok (.aload_n 1, 1) := dk_43 (dk_at dksJ1_successor_1 11 rfl rfl)
theorem dJ1_successor_34 : decode cJ1_successor 34 = .ok (.areturn, 1) := dk_176 (dk_at dksJ1_successor_1 12 rfl rfl)
theorem dJ1_successor_35 : decode cJ1_successor 35 = .ok (.aload_n 0, 1) := dk_42 (dk_at dksJ1_successor_1 13 rfl rfl)
theorem dJ1_successor_36 : decode cJ1_successor 36 = .ok (.getfield 124, 3) := dk_180 0 124 (dk_at dksJ1_successor_1 14 rfl rfl)
theorem dJ1_successor_39 : decode cJ1_successor 39 = .ok (.astore_n 1, 1) := dk_76 (dk_at dksJ1_successor_1 17 rfl rfl)
theorem dJ1_successor_40 : decode cJ1_successor 40 = .ok (.aload_n 0, 1) := dk_42 (dk_at dksJ1_successor_1 18 rfl rfl)
theorem dJ1_successor_41 : decode cJ1_successor 41 = .ok (.astore_n 2, 1) := dk_77 (dk_at dksJ1_successor_1 19 rfl rfl)
theorem dJ1_successor_42 : decode cJ1_successor 42 = .ok (.aload_n 1, 1) := dk_43 (dk_at dksJ1_successor_1 20 rfl rfl)
theorem dJ1_successor_43 : decode cJ1_successor 43 = .ok (.ifnull 21, 3) := dk_198 0 21 (dk_at dksJ1_successor_1 21 rfl rfl)
theorem dJ1_successor_46 : decode cJ1_successor 46 = .ok (.aload_n 2, 1) := dk_44 (dk_at dksJ1_successor_2 0 rfl rfl)
theorem dJ1_successor_47 : decode cJ1_successor 47 = .ok (.aload_n 1, 1) := dk_43 (dk_at dksJ1_successor_2 1 rfl rfl)
theorem dJ1_successor_48 : decode cJ1_successor 48 = .ok (.getfield 114, 3) := dk_180 0 114 (dk_at dksJ1_successor_2 2 rfl rfl)
theorem dJ1_successor_51 : decode cJ1_successor 51 = .ok (.if_acmp .ne 13, 3) := dk_166 0 13 (dk_at dksJ1_successor_2 5 rfl rfl)
theorem dJ1_successor_54 : decode cJ1_successor 54 = .ok (.aload_n 1, 1) := dk_43 (dk_at dksJ1_successor_2 8 rfl rfl)
theorem dJ1_successor_55 : decode cJ1_successor 55 = .ok (.astore_n 2, 1) := dk_77 (dk_at dksJ1_successor_2 9 rfl rfl)
theorem dJ1_successor_56 : decode cJ1_successor 56 = .ok (.aload_n 1, 1) := dk_43 (dk_at dksJ1_successor_2 10 rfl rfl)
theorem dJ1_successor_57 : decode cJ1_successor 57 = .ok (.getfield 124, 3) := dk_180 0 124 (dk_at dksJ1_successor_2 11 rfl rfl)
theorem dJ1_successor_60 : decode cJ1_successor 60 = .ok (.astore_n 1, 1) := dk_76 (dk_at dksJ1_successor_2 14 rfl rfl)
theorem dJ1_successor_61 : decode cJ1_successor 61 = .ok (.goto (-19), 3) := dk_167 255 237 (dk_at dksJ1_successor_2 15 rfl rfl)
theorem dJ1_successor_64 : decode cJ1_successor 64 = .ok (.aload_n 1, 1) := dk_43 (dk_at dksJ1_successor_2 18 rfl rfl)
theorem dJ1_successor_65 : decode cJ1_successor 65 = .ok (.areturn, 1) := dk_176 (dk_at dksJ1_successor_2 19 rfl rfl)
abbrev cJ1_pollFirstEntry : ByteArray := prog_70_method_39_code
def yJ1_pollFirstEntry : MethodName := ⟨RJ1, "pollFirstEntry", "()Ljava/util/Map$Entry;"⟩
def dkwJ1_pollFirstEntry_0 : List UInt8 := [42, 182, 0, 54, 76, 43, 184, 0, 200, 77, 43, 198, 0, 8, 42, 43, 182, 0, 174, 44, 176]
abbrev dktJ1_pollFirstEntry_0 : List UInt8 := dkwJ1_pollFirstEntry_0 ++ []
theorem dksJ1_pollFirstEntry_0 : cJ1_pollFirstEntry.data.toList.drop 0 = dktJ1_pollFirstEntry_0 := by decide +kernel
theorem dJ1_pollFirstEntry_0 : decode cJ1_pollFirstEntry 0 = .ok (.aload_n 0, 1) := dk_42 (dk_at dksJ1_pollFirstEntry_0 0 rfl rfl)
theorem dJ1_pollFirstEntry_1 : decode cJ1_pollFirstEntry 1 = .ok (.invokevirtual 54, 3) := dk_182 0 54 (dk_at dksJ1_pollFirstEntry_0 1 rfl rfl)
theorem dJ1_pollFirstEntry_4 : decode cJ1_pollFirstEntry 4 = .ok (.astore_n 1, 1) := dk_76 (dk_at dksJ1_pollFirstEntry_0 4 rfl rfl)
theorem dJ1_pollFirstEntry_5 : decode cJ1_pollFirstEntry 5 = .ok (.aload_n 1, 1) := dk_43 (dk_at dksJ1_pollFirstEntry_0 5 rfl rfl)
theorem dJ1_pollFirstEntry_6 : decode cJ1_pollFirstEntry 6 = .ok (.invokestatic 200, 3) := dk_184 0 200 (dk_at dksJ1_pollFirstEntry_0 6 rfl rfl)
theorem dJ1_pollFirstEntry_9 : decode cJ1_pollFirstEntry 9 = .ok (.astore_n 2, 1) := dk_77 (dk_at dksJ1_pollFirstEntry_0 9 rfl rfl)
theorem dJ1_pollFirstEntry_10 : decode cJ1_pollFirstEntry 10 = .ok (.aload_n 1, 1) := dk_43 (dk_at dksJ1_pollFirstEntry_0 10 rfl rfl)
theorem dJ1_pollFirstEntry_11 : decode cJ1_pollFirstEntry 11 = .ok (.ifnull 8, 3) := dk_198 0 8 (dk_at dksJ1_pollFirstEntry_0 11 rfl rfl)
theorem dJ1_pollFirstEntry_14 : decode cJ1_pollFirstEntry 14 = .ok (.aload_n 0, 1) := dk_42 (dk_at dksJ1_pollFirstEntry_0 14 rfl rfl)
theorem dJ1_pollFirstEntry_15 : decode cJ1_pollFirstEntry 15 = .ok (.aload_n 1, 1) := dk_43 (dk_at dksJ1_pollFirstEntry_0 15 rfl rfl)
theorem dJ1_pollFirstEntry_16 : decode cJ1_pollFirstEntry 16 = .ok (.invokevirtual 174, 3) := dk_182 0 174 (dk_at dksJ1_pollFirstEntry_0 16 rfl rfl)
theorem dJ1_pollFirstEntry_19 : decode cJ1_pollFirstEntry 19 = .ok (.aload_n 2, 1) := dk_44 (dk_at dksJ1_pollFirstEntry_0 19 rfl rfl)
theorem dJ1_pollFirstEntry_20 : decode cJ1_pollFirstEntry 20 = .ok (.areturn, 1) := dk_176 (dk_at dksJ1_pollFirstEntry_0 20 rfl rfl)
abbrev cJ1_exportEntry : ByteArray := prog_70_method_69_code
def yJ1_exportEntry : MethodName := ⟨RJ1, "exportEntry", "(Ljava/util/TreeMap$Entry;)Ljava/util/Map$Entry;"⟩
def dkwJ1_exportEntry_0 : List UInt8 := [42, 199, 0, 7, 1, 167, 0, 11, 187, 1, 26, 89, 42, 183, 1, 28, 176]
abbrev dktJ1_exportEntry_0 : List UInt8 := dkwJ1_exportEntry_0 ++ []
theorem dksJ1_exportEntry_0 : cJ1_exportEntry.data.toList.drop 0 = dktJ1_exportEntry_0 := by decide +kernel
theorem dJ1_exportEntry_0 : decode cJ1_exportEntry 0 = .ok (.aload_n 0, 1) := dk_42 (dk_at dksJ1_exportEntry_0 0 rfl rfl)
theorem dJ1_exportEntry_1 : decode cJ1_exportEntry 1 = .ok (.ifnonnull 7, 3) := dk_199 0 7 (dk_at dksJ1_exportEntry_0 1 rfl rfl)
theorem dJ1_exportEntry_4 : decode cJ1_exportEntry 4 = .ok (.aconst_null, 1) := dk_1 (dk_at dksJ1_exportEntry_0 4 rfl rfl)
theorem dJ1_exportEntry_5 : decode cJ1_exportEntry 5 = .ok (.goto 11, 3) := dk_167 0 11 (dk_at dksJ1_exportEntry_0 5 rfl rfl)
theorem dJ1_exportEntry_8 : decode cJ1_exportEntry 8 = .ok (.new 282, 3) := dk_187 1 26 (dk_at dksJ1_exportEntry_0 8 rfl rfl)
theorem dJ1_exportEntry_11 : decode cJ1_exportEntry 11 = .ok (.dup, 1) := dk_89 (dk_at dksJ1_exportEntry_0 11 rfl rfl)
theorem dJ1_exportEntry_12 : decode cJ1_exportEntry 12 = .ok (.aload_n 0, 1) := dk_42 (dk_at dksJ1_exportEntry_0 12 rfl rfl)
theorem dJ1_exportEntry_13 : decode cJ1_exportEntry 13 = .ok (.invokespecial 284, 3) := dk_183 1 28 (dk_at dksJ1_exportEntry_0 13 rfl rfl)
theorem dJ1_exportEntry_16 : decode cJ1_exportEntry 16 = .ok (.areturn, 1) := dk_176 (dk_at dksJ1_exportEntry_0 16 rfl rfl)
abbrev cJ1_deleteEntry : ByteArray := prog_70_method_84_code
def yJ1_deleteEntry : MethodName := ⟨RJ1, "deleteEntry", "(Ljava/util/TreeMap$Entry;)V"⟩
def dkwJ1_deleteEntry_10 : List UInt8 := [180, 0, 124, 1, 181, 0, 114, 43, 1, 181, 0, 124, 177]
abbrev dktJ1_deleteEntry_10 : List UInt8 := dkwJ1_deleteEntry_10 ++ []
def dkwJ1_deleteEntry_9 : List UInt8 := [180, 0, 124, 1, 181, 0, 111, 167, 0, 22, 43, 43, 180, 0, 124, 180, 0, 114, 166, 0, 11, 43]
abbrev dktJ1_deleteEntry_9 : List UInt8 := dkwJ1_deleteEntry_9 ++ dktJ1_deleteEntry_10
def dkwJ1_deleteEntry_8 : List UInt8 := [182, 1, 61, 43, 180, 0, 124, 198, 0, 49, 43, 43, 180, 0, 124, 180, 0, 111, 166, 0, 14, 43]
abbrev dktJ1_deleteEntry_8 : List UInt8 := dkwJ1_deleteEntry_8 ++ dktJ1_deleteEntry_9
def dkwJ1_deleteEntry_7 : List UInt8 := [180, 0, 124, 199, 0, 11, 42, 1, 181, 0, 101, 167, 0, 69, 43, 180, 1, 34, 4, 160, 0, 8, 42, 43]
abbrev dktJ1_deleteEntry_7 : List UInt8 := dkwJ1_deleteEntry_7 ++ dktJ1_deleteEntry_8
def dkwJ1_deleteEntry_6 : List UInt8 := [181, 0, 114, 181, 0, 111, 43, 180, 1, 34, 4, 160, 0, 92, 42, 44, 182, 1, 61, 167, 0, 84, 43]
abbrev dktJ1_deleteEntry_6 : List UInt8 := dkwJ1_deleteEntry_6 ++ dktJ1_deleteEntry_7
def dkwJ1_deleteEntry_5 : List UInt8 := [181, 0, 111, 167, 0, 11, 43, 180, 0, 124, 44, 181, 0, 114, 43, 43, 43, 1, 90, 181, 0, 124, 90]
abbrev dktJ1_deleteEntry_5 : List UInt8 := dkwJ1_deleteEntry_5 ++ dktJ1_deleteEntry_6
def dkwJ1_deleteEntry_4 : List UInt8 := [44, 181, 0, 101, 167, 0, 33, 43, 43, 180, 0, 124, 180, 0, 111, 166, 0, 14, 43, 180, 0, 124, 44]
abbrev dktJ1_deleteEntry_4 : List UInt8 := dkwJ1_deleteEntry_4 ++ dktJ1_deleteEntry_5
def dkwJ1_deleteEntry_3 : List UInt8 := [180, 0, 114, 77, 44, 198, 0, 87, 44, 43, 180, 0, 124, 181, 0, 124, 43, 180, 0, 124, 199, 0, 11, 42]
abbrev dktJ1_deleteEntry_3 : List UInt8 := dkwJ1_deleteEntry_3 ++ dktJ1_deleteEntry_4
def dkwJ1_deleteEntry_2 : List UInt8 := [44, 180, 0, 58, 181, 0, 58, 44, 76, 43, 180, 0, 111, 198, 0, 10, 43, 180, 0, 111, 167, 0, 7, 43]
abbrev dktJ1_deleteEntry_2 : List UInt8 := dkwJ1_deleteEntry_2 ++ dktJ1_deleteEntry_3
def dkwJ1_deleteEntry_1 : List UInt8 := [198, 0, 33, 43, 180, 0, 114, 198, 0, 26, 43, 184, 0, 68, 77, 43, 44, 180, 0, 105, 181, 0, 105, 43]
abbrev dktJ1_deleteEntry_1 : List UInt8 := dkwJ1_deleteEntry_1 ++ dktJ1_deleteEntry_2
def dkwJ1_deleteEntry_0 : List UInt8 := [42, 89, 180, 0, 13, 4, 96, 181, 0, 13, 42, 89, 180, 0, 7, 4, 100, 181, 0, 7, 43, 180, 0, 111]
abbrev dktJ1_deleteEntry_0 : List UInt8 := dkwJ1_deleteEntry_0 ++ dktJ1_deleteEntry_1
theorem dksJ1_deleteEntry_0 : cJ1_deleteEntry.data.toList.drop 0 = dktJ1_deleteEntry_0 := by decide +kernel
theorem dksJ1_deleteEntry_1 : cJ1_deleteEntry.data.toList.drop 24 = dktJ1_deleteEntry_1 := dk_seg dksJ1_deleteEntry_0 24 rfl rfl
theorem dksJ1_deleteEntry_2 : cJ1_deleteEntry.data.toList.drop 48 = dktJ1_deleteEntry_2 := dk_seg dksJ1_deleteEntry_1 24 rfl rfl
theorem dksJ1_deleteEntry_3 : cJ1_deleteEntry.data.toList.drop 72 = dktJ1_deleteEntry_3 := dk_seg dksJ1_deleteEntry_2 24 rfl rfl
theorem dksJ1_deleteEntry_4 : cJ1_deleteEntry.data.toList.drop 96 = dktJ1_deleteEntry_4 := dk_seg dksJ1_deleteEntry_3 24 rfl rfl
theorem dksJ1_deleteEntry_5 : cJ1_deleteEntry.data.toList.drop 119 = dktJ1_deleteEntry_5 := dk_seg dksJ1_deleteEntry_4 23 rfl rfl
theorem dksJ1_deleteEntry_6 : cJ1_deleteEntry.data.toList.drop 142 = dktJ1_deleteEntry_6 := dk_seg dksJ1_deleteEntry_5 23 rfl rfl
theorem dksJ1_deleteEntry_7 : cJ1_deleteEntry.data.toList.drop 165 = dktJ1_deleteEntry_7 := dk_seg dksJ1_deleteEntry_6 23 rfl rfl
theorem dksJ1_deleteEntry_8 : cJ1_deleteEntry.data.toList.drop 189 = dktJ1_deleteEntry_8 := dk_seg dksJ1_deleteEntry_7 24 rfl rfl
theorem dksJ1_deleteEntry_9 : cJ1_deleteEntry.data.toList.drop 211 = dktJ1_deleteEntry_9 := dk_seg dksJ1_deleteEntry_8 22 rfl rfl
theorem dksJ1_deleteEntry_10 : cJ1_deleteEntry.data.toList.drop 233 = dktJ1_deleteEntry_10 := dk_seg dksJ1_deleteEntry_9 22 rfl rfl
theorem dJ1_deleteEntry_0 : decode cJ1_deleteEntry 0 = .ok (.aload_n 0, 1) := dk_42 (dk_at dksJ1_deleteEntry_0 0 rfl rfl)
theorem dJ1_deleteEntry_1 : decode cJ1_deleteEntry 1 = .ok (.dup, 1) := dk_89 (dk_at dksJ1_deleteEntry_0 1 rfl rfl)
theorem dJ1_deleteEntry_2 : decode cJ1_deleteEntry 2 = .ok (.getfield 13, 3) := dk_180 0 13 (dk_at dksJ1_deleteEntry_0 2 rfl rfl)
theorem dJ1_deleteEntry_5 : decode cJ1_deleteEntry 5 = .ok (.iconst 1, 1) := dk_4 (dk_at dksJ1_deleteEntry_0 5 rfl rfl)
theorem dJ1_deleteEntry_6 : decode cJ1_deleteEntry 6 = .ok (.iadd, 1) := dk_96 (dk_at dksJ1_deleteEntry_0 6 rfl rfl)
theorem dJ1_deleteEntry_7 : decode cJ1_deleteEntry 7 = .ok (.putfield 13, 3) := dk_181 0 13 (dk_at dksJ1_deleteEntry_0 7 rfl rfl)
theorem dJ1_deleteEntry_10 : decode cJ1_deleteEntry 10 = .ok (.aload_n 0, 1) := dk_42 (dk_at dksJ1_deleteEntry_0 10 rfl rfl)
theorem dJ1_deleteEntry_11 : decode cJ1_deleteEntry 11 = .ok (.dup, 1) := dk_89 (dk_at dksJ1_deleteEntry_0 11 rfl rfl)
theorem dJ1_deleteEntry_12 : decode cJ1_deleteEntry 12 = .ok (.getfield 7, 3) := dk_180 0 7 (dk_at dksJ1_deleteEntry_0 12 rfl rfl)
theorem dJ1_deleteEntry_15 : decode cJ1_deleteEntry 15 = .ok (.iconst 1, 1) := dk_4 (dk_at dksJ1_deleteEntry_0 15 rfl rfl)
theorem dJ1_deleteEntry_16 : decode cJ1_deleteEntry 16 = .ok (.isub, 1) := dk_100 (dk_at dksJ1_deleteEntry_0 16 rfl rfl)
theorem dJ1_deleteEntry_17 : decode cJ1_deleteEntry 17 = .ok (.putfield 7, 3) := dk_181 0 7 (dk_at dksJ1_deleteEntry_0 17 rfl rfl)
theorem dJ1_deleteEntry_20 : decode cJ1_deleteEntry 20 = .ok (.aload_n 1, 1) := dk_43 (dk_at dksJ1_deleteEntry_0 20 rfl rfl)
theorem dJ1_deleteEntry_21 : decode cJ1_deleteEntry 21 = .ok (.getfield 111, 3) := dk_180 0 111 (dk_at dksJ1_deleteEntry_0 21 rfl rfl)
theorem dJ1_deleteEntry_24 : decode cJ1_deleteEntry 24 = .ok (.ifnull 33, 3) := dk_198 0 33 (dk_at dksJ1_deleteEntry_1 0 rfl rfl)
theorem dJ1_deleteEntry_27 : decode cJ1_deleteEntry 27 = .ok (.aload_n 1, 1) := dk_43 (dk_at dksJ1_deleteEntry_1 3 rfl rfl)
theorem dJ1_deleteEntry_28 : decode cJ1_deleteEntry 28 = .ok (.getfield 114, 3) := dk_180 0 114 (dk_at dksJ1_deleteEntry_1 4 rfl rfl)
theorem dJ1_deleteEntry_31 : decode cJ1_deleteEntry 31 = .ok (.ifnull 26, 3) := dk_198 0 26 (dk_at dksJ1_deleteEntry_1 7 rfl rfl)
theorem dJ1_deleteEntry_34 : decode cJ1_deleteEntry 34 = .ok (.aload_n 1, 1) := dk_43 (dk_at dksJ1_deleteEntry_1 10 rfl rfl)
theorem dJ1_deleteEntry_35 : decode cJ1_deleteEntry 35 = .ok (.invokestatic 68, 3) := dk_184 0 68 (dk_at dksJ1_deleteEntry_1 11 rfl rfl)
theorem dJ1_deleteEntry_38 : decode cJ1_deleteEntry 38 = .ok (.astore_n 2, 1) := dk_77 (dk_at dksJ1_deleteEntry_1 14 rfl rfl)
theorem dJ1_deleteEntry_39 : decode cJ1_deleteEntry 39 = .ok (.aload_n 1, 1) := dk_43 (dk_at dksJ1_deleteEntry_1 15 rfl rfl)
theorem dJ1_deleteEntry_40 : decode cJ1_deleteEntry 40 = .ok (.aload_n 2, 1) := dk_44 (dk_at dksJ1_deleteEntry_1 16 rfl rfl)
theorem dJ1_deleteEntry_41 : decode cJ1_deleteEntry 41 = .ok (.getfield 105, 3) := dk_180 0 105 (dk_at dksJ1_deleteEntry_1 17 rfl rfl)
theorem dJ1_deleteEntry_44 : decode cJ1_deleteEntry 44 = .ok (.putfield 105, 3) := dk_181 0 105 (dk_at dksJ1_deleteEntry_1 20 rfl rfl)
theorem dJ1_deleteEntry_47 : decode cJ1_deleteEntry 47 = .ok (.aload_n 1, 1) := dk_43 (dk_at dksJ1_deleteEntry_1 23 rfl rfl)
theorem dJ1_deleteEntry_48 : decode cJ1_deleteEntry 48 = .ok (.aload_n 2, 1) := dk_44 (dk_at dksJ1_deleteEntry_2 0 rfl rfl)
theorem dJ1_deleteEntry_49 : decode cJ1_deleteEntry 49 = .ok (.getfield 58, 3) := dk_180 0 58 (dk_at dksJ1_deleteEntry_2 1 rfl rfl)
theorem dJ1_deleteEntry_52 : decode cJ1_deleteEntry 52 = .ok (.putfield 58, 3) := dk_181 0 58 (dk_at dksJ1_deleteEntry_2 4 rfl rfl)
theorem dJ1_deleteEntry_55 : decode cJ1_deleteEntry 55 = .ok (.aload_n 2, 1) := dk_44 (dk_at dksJ1_deleteEntry_2 7 rfl rfl)
theorem dJ1_deleteEntry_56 : decode cJ1_deleteEntry 56 = .ok (.astore_n 1, 1) := dk_76 (dk_at dksJ1_deleteEntry_2 8 rfl rfl)
theorem dJ1_deleteEntry_57 : decode cJ1_deleteEntry 57 = .ok (.aload_n 1, 1) := dk_43 (dk_at dksJ1_deleteEntry_2 9 rfl rfl)
theorem dJ1_deleteEntry_58 : decode cJ1_deleteEntry 58 = .ok (.getfield 111, 3) := dk_180 0 111 (dk_at dksJ1_deleteEntry_2 10 rfl rfl)
theorem dJ1_deleteEntry_61 : decode cJ1_deleteEntry 61 = .ok (.ifnull 10, 3) := dk_198 0 10 (dk_at dksJ1_deleteEntry_2 13 rfl rfl)
theorem dJ1_deleteEntry_64 : decode cJ1_deleteEntry 64 = .ok (.aload_n 1, 1) := dk_43 (dk_at dksJ1_deleteEntry_2 16 rfl rfl)
theorem dJ1_deleteEntry_65 : decode cJ1_deleteEntry 65 = .ok (.getfield 111, 3) := dk_180 0 111 (dk_at dksJ1_deleteEntry_2 17 rfl rfl)
theorem dJ1_deleteEntry_68 : decode cJ1_deleteEntry 68 = .ok (.goto 7, 3) := dk_167 0 7 (dk_at dksJ1_deleteEntry_2 20 rfl rfl)
theorem dJ1_deleteEntry_71 : decode cJ1_deleteEntry 71 = .ok (.aload_n 1, 1) := dk_43 (dk_at dksJ1_deleteEntry_2 23 rfl rfl)
theorem dJ1_deleteEntry_72 : decode cJ1_deleteEntry 72 = .ok (.getfield 114, 3) := dk_180 0 114 (dk_at dksJ1_deleteEntry_3 0 rfl rfl)
theorem dJ1_deleteEntry_75 : decode cJ1_deleteEntry 75 = .ok (.astore_n 2, 1) := dk_77 (dk_at dksJ1_deleteEntry_3 3 rfl rfl)
theorem dJ1_deleteEntry_76 : decode cJ1_deleteEntry 76 = .ok (.aload_n 2, 1) := dk_44 (dk_at dksJ1_deleteEntry_3 4 rfl rfl)
theorem dJ1_deleteEntry_77 : decode cJ1_deleteEntry 77 = .ok (.ifnull 87, 3) := dk_198 0 87 (dk_at dksJ1_deleteEntry_3 5 rfl rfl)
theorem dJ1_deleteEntry_80 : decode cJ1_deleteEntry 80 = .ok (.aload_n 2, 1) := dk_44 (dk_at dksJ1_deleteEntry_3 8 rfl rfl)
theorem dJ1_deleteEntry_81 : decode cJ1_deleteEntry 81 = .ok (.aload_n 1, 1) := dk_43 (dk_at dksJ1_deleteEntry_3 9 rfl rfl)
theorem dJ1_deleteEntry_82 : decode cJ1_deleteEntry 82 = .ok (.getfield 124, 3) := dk_180 0 124 (dk_at dksJ1_deleteEntry_3 10 rfl rfl)
theorem dJ1_deleteEntry_85 : decode cJ1_deleteEntry 85 = .ok (.putfield 124, 3) := dk_181 0 124 (dk_at dksJ1_deleteEntry_3 13 rfl rfl)
theorem dJ1_deleteEntry_88 : decode cJ1_deleteEntry 88 = .ok (.aload_n 1, 1) := dk_43 (dk_at dksJ1_deleteEntry_3 16 rfl rfl)
theorem dJ1_deleteEntry_89 : decode cJ1_deleteEntry 89 = .ok (.getfield 124, 3) := dk_180 0 124 (dk_at dksJ1_deleteEntry_3 17 rfl rfl)
theorem dJ1_deleteEntry_92 : decode cJ1_deleteEntry 92 = .ok (.ifnonnull 11, 3) := dk_199 0 11 (dk_at dksJ1_deleteEntry_3 20 rfl rfl)
theorem dJ1_deleteEntry_95 : decode cJ1_deleteEntry 95 = .ok (.aload_n 0, 1) := dk_42 (dk_at dksJ1_deleteEntry_3 23 rfl rfl)
theorem dJ1_deleteEntry_96 : decode cJ1_deleteEntry 96 = .ok (.aload_n 2, 1) := dk_44 (dk_at dksJ1_deleteEntry_4 0 rfl rfl)
theorem dJ1_deleteEntry_97 : decode cJ1_deleteEntry 97 = .ok (.putfield 101, 3) := dk_181 0 101 (dk_at dksJ1_deleteEntry_4 1 rfl rfl)
theorem dJ1_deleteEntry_100 : decode cJ1_deleteEntry 100 = .ok (.goto 33, 3) := dk_167 0 33 (dk_at dksJ1_deleteEntry_4 4 rfl rfl)
theorem dJ1_deleteEntry_103 : decode cJ1_deleteEntry 103 = .ok (.aload_n 1, 1) := dk_43 (dk_at dksJ1_deleteEntry_4 7 rfl rfl)
theorem dJ1_deleteEntry_104 : decode cJ1_deleteEntry 104 = .ok (.aload_n 1, 1) := dk_43 (dk_at dksJ1_deleteEntry_4 8 rfl rfl)
theorem dJ1_deleteEntry_105 : decode cJ1_deleteEntry 105 = .ok (.getfield 124, 3) := dk_180 0 124 (dk_at dksJ1_deleteEntry_4 9 rfl rfl)
theorem dJ1_deleteEntry_108 : decode cJ1_deleteEntry 108 = .ok (.getfield 111, 3) := dk_180 0 111 (dk_at dksJ1_deleteEntry_4 12 rfl rfl)
theorem dJ1_deleteEntry_111 : decode cJ1_deleteEntry 111 = .ok (.if_acmp .ne 14, 3) := dk_166 0 14 (dk_at dksJ1_deleteEntry_4 15 rfl rfl)
theorem dJ1_deleteEntry_114 : decode cJ1_deleteEntry 114 = .ok (.aload_n 1, 1) := dk_43 (dk_at dksJ1_deleteEntry_4 18 rfl rfl)
theorem dJ1_deleteEntry_115 : decode cJ1_deleteEntry 115 = .ok (.getfield 124, 3) := dk_180 0 124 (dk_at dksJ1_deleteEntry_4 19 rfl rfl)
theorem dJ1_deleteEntry_118 : decode cJ1_deleteEntry 118 = .ok (.aload_n 2, 1) := dk_44 (dk_at dksJ1_deleteEntry_4 22 rfl rfl)
theorem dJ1_deleteEntry_119 : decode cJ1_deleteEntry 119 = .ok (.putfield 111, 3) := dk_181 0 111 (dk_at dksJ1_deleteEntry_5 0 rfl rfl)
theorem dJ1_deleteEntry_122 : decode cJ1_deleteEntry 122 = .ok (.goto 11, 3) := dk_167 0 11 (dk_at dksJ1_deleteEntry_5 3 rfl rfl)
theorem dJ1_deleteEntry_125 : decode cJ1_deleteEntry 125 = .ok (.aload_n 1, 1) := dk_43 (dk_at dksJ1_deleteEntry_5 6 rfl rfl)
theorem dJ1_deleteEntry_126 : decode cJ1_deleteEntry 126 = .ok (.getfield 124, 3) := dk_180 0 124 (dk_at dksJ1_deleteEntry_5 7 rfl rfl)
theorem dJ1_deleteEntry_129 : decode cJ1_deleteEntry 129 = .ok (.aload_n 2, 1) := dk_44 (dk_at dksJ1_deleteEntry_5 10 rfl rfl)
theorem dJ1_deleteEntry_130 : decode cJ1_deleteEntry 130 = .ok (.putfield 114, 3) := dk_181 0 114 (dk_at dksJ1_deleteEntry_5 11 rfl rfl)
theorem dJ1_deleteEntry_133 : decode cJ1_deleteEntry 133 = .ok (.aload_n 1, 1) := dk_43 (dk_at dksJ1_deleteEntry_5 14 rfl rfl)
theorem dJ1_deleteEntry_134 : decode cJ1_deleteEntry 134 = .ok (.aload_n 1, 1) := dk_43 (dk_at dksJ1_deleteEntry_5 15 rfl rfl)
theorem dJ1_deleteEntry_135 : decode cJ1_deleteEntry 135 = .ok (.aload_n 1, 1) := dk_43 (dk_at dksJ1_deleteEntry_5 16 rfl rfl)
theorem dJ1_deleteEntry_136 : decode cJ1_deleteEntry 136 = .ok (.aconst_null, 1) := dk_1 (dk_at dksJ1_deleteEntry_5 17 rfl rfl)
theorem dJ1_deleteEntry_137 : decode cJ1_deleteEntry 137 = .ok (.dup_x1, 1) := dk_90 (dk_at dksJ1_deleteEntry_5 18 rfl rfl)
theorem dJ1_deleteEntry_138 : decode cJ1_deleteEntry 138 = .ok (.putfield 124, 3) := dk_181 0 124 (dk_at dksJ1_deleteEntry_5 19 rfl rfl)
theorem dJ1_deleteEntry_141 : decode cJ1_deleteEntry 141 = .ok (.dup_x1, 1) := dk_90 (dk_at dksJ1_deleteEntry_5 22 rfl rfl)
theorem dJ1_deleteEntry_142 : decode cJ1_deleteEntry 142 = .ok (.putfield 114, 3) := dk_181 0 114 (dk_at dksJ1_deleteEntry_6 0 rfl rfl)
theorem dJ1_deleteEntry_145 : decode cJ1_deleteEntry 145 = .ok (.putfield 111, 3) := dk_181 0 111 (dk_at dksJ1_deleteEntry_6 3 rfl rfl)
theorem dJ1_deleteEntry_148 : decode cJ1_deleteEntry 148 = .ok (.aload_n 1, 1) := dk_43 (dk_at dksJ1_deleteEntry_6 6 rfl rfl)
theorem dJ1_deleteEntry_149 : decode cJ1_deleteEntry 149 = .ok (.getfield 290, 3) := dk_180 1 34 (dk_at dksJ1_deleteEntry_6 7 rfl rfl)
theorem dJ1_deleteEntry_152 : decode cJ1_deleteEntry 152 = .ok (.iconst 1, 1) := dk_4 (dk_at dksJ1_deleteEntry_6 10 rfl rfl)
theorem dJ1_deleteEntry_153 : decode cJ1_deleteEntry 153 = .ok (.if_icmp .ne 92, 3) := dk_160 0 92 (dk_at dksJ1_deleteEntry_6 11 rfl rfl)
theorem dJ1_deleteEntry_156 : decode cJ1_deleteEntry 156 = .ok (.aload_n 0, 1) := dk_42 (dk_at dksJ1_deleteEntry_6 14 rfl rfl)
theorem dJ1_deleteEntry_157 : decode cJ1_deleteEntry 157 = .ok (.aload_n 2, 1) := dk_44 (dk_at dksJ1_deleteEntry_6 15 rfl rfl)
theorem dJ1_deleteEntry_158 : decode cJ1_deleteEntry 158 = .ok (.invokevirtual 317, 3) := dk_182 1 61 (dk_at dksJ1_deleteEntry_6 16 rfl rfl)
theorem dJ1_deleteEntry_161 : decode cJ1_deleteEntry 161 = .ok (.goto 84, 3) := dk_167 0 84 (dk_at dksJ1_deleteEntry_6 19 rfl rfl)
theorem dJ1_deleteEntry_164 : decode cJ1_deleteEntry 164 = .ok (.aload_n 1, 1) := dk_43 (dk_at dksJ1_deleteEntry_6 22 rfl rfl)
theorem dJ1_deleteEntry_165 : decode cJ1_deleteEntry 165 = .ok (.getfield 124, 3) := dk_180 0 124 (dk_at dksJ1_deleteEntry_7 0 rfl rfl)
theorem dJ1_deleteEntry_168 : decode cJ1_deleteEntry 168 = .ok (.ifnonnull 11, 3) := dk_199 0 11 (dk_at dksJ1_deleteEntry_7 3 rfl rfl)
theorem dJ1_deleteEntry_171 : decode cJ1_deleteEntry 171 = .ok (.aload_n 0, 1) := dk_42 (dk_at dksJ1_deleteEntry_7 6 rfl rfl)
theorem dJ1_deleteEntry_172 : decode cJ1_deleteEntry 172 = .ok (.aconst_null, 1) := dk_1 (dk_at dksJ1_deleteEntry_7 7 rfl rfl)
theorem dJ1_deleteEntry_173 : decode cJ1_deleteEntry 173 = .ok (.putfield 101, 3) := dk_181 0 101 (dk_at dksJ1_deleteEntry_7 8 rfl rfl)
theorem dJ1_deleteEntry_176 : decode cJ1_deleteEntry 176 = .ok (.goto 69, 3) := dk_167 0 69 (dk_at dksJ1_deleteEntry_7 11 rfl rfl)
theorem dJ1_deleteEntry_179 : decode cJ1_deleteEntry 179 = .ok (.aload_n 1, 1) := dk_43 (dk_at dksJ1_deleteEntry_7 14 rfl rfl)
theorem dJ1_deleteEntry_180 : decode cJ1_deleteEntry 180 = .ok (.getfield 290, 3) := dk_180 1 34 (dk_at dksJ1_deleteEntry_7 15 rfl rfl)
theorem dJ1_deleteEntry_183 : decode cJ1_deleteEntry 183 = .ok (.iconst 1, 1) := dk_4 (dk_at dksJ1_deleteEntry_7 18 rfl rfl)
theorem dJ1_deleteEntry_184 : decode cJ1_deleteEntry 184 = .ok (.if_icmp .ne 8, 3) := dk_160 0 8 (dk_at dksJ1_deleteEntry_7 19 rfl rfl)
theorem dJ1_deleteEntry_187 : decode cJ1_deleteEntry 187 = .ok (.aload_n 0, 1) := dk_42 (dk_at dksJ1_deleteEntry_7 22 rfl rfl)
theorem dJ1_deleteEntry_188 : decode cJ1_deleteEntry 188 = .ok (.aload_n 1, 1) := dk_43 (dk_at dksJ1_deleteEntry_7 23 rfl rfl)
theorem dJ1_deleteEntry_189 : decode cJ1_deleteEntry 189 = .ok (.invokevirtual 317, 3) := dk_182 1 61 (dk_at dksJ1_deleteEntry_8 0 rfl rfl)
theorem dJ1_deleteEntry_192 : decode cJ1_deleteEntry 192 = .ok (.aload_n 1, 1) := dk_43 (dk_at dksJ1_deleteEntry_8 3 rfl rfl)
theorem dJ1_deleteEntry_193 : decode cJ1_deleteEntry 193 = .ok (.getfield 124, 3) := dk_180 0 124 (dk_at dksJ1_deleteEntry_8 4 rfl rfl)
theorem dJ1_deleteEntry_196 : decode cJ1_deleteEntry 196 = .ok (.ifnull 49, 3) := dk_198 0 49 (dk_at dksJ1_deleteEntry_8 7 rfl rfl)
theorem dJ1_deleteEntry_199 : decode cJ1_deleteEntry 199 = .ok (.aload_n 1, 1) := dk_43 (dk_at dksJ1_deleteEntry_8 10 rfl rfl)
theorem dJ1_deleteEntry_200 : decode cJ1_deleteEntry 200 = .ok (.aload_n 1, 1) := dk_43 (dk_at dksJ1_deleteEntry_8 11 rfl rfl)
theorem dJ1_deleteEntry_201 : decode cJ1_deleteEntry 201 = .ok (.getfield 124, 3) := dk_180 0 124 (dk_at dksJ1_deleteEntry_8 12 rfl rfl)
theorem dJ1_deleteEntry_204 : decode cJ1_deleteEntry 204 = .ok (.getfield 111, 3) := dk_180 0 111 (dk_at dksJ1_deleteEntry_8 15 rfl rfl)
theorem dJ1_deleteEntry_207 : decode cJ1_deleteEntry 207 = .ok (.if_acmp .ne 14, 3) := dk_166 0 14 (dk_at dksJ1_deleteEntry_8 18 rfl rfl)
theorem dJ1_deleteEntry_210 : decode cJ1_deleteEntry 210 = .ok (.aload_n 1, 1) := dk_43 (dk_at dksJ1_deleteEntry_8 21 rfl rfl)
theorem dJ1_deleteEntry_211 : decode cJ1_deleteEntry 211 = .ok (.getfield 124, 3) := dk_180 0 124 (dk_at dksJ1_deleteEntry_9 0 rfl rfl)
theorem dJ1_deleteEntry_214 : decode cJ1_deleteEntry 214 = .ok (.aconst_null, 1) := dk_1 (dk_at dksJ1_deleteEntry_9 3 rfl rfl)
theorem dJ1_deleteEntry_215 : decode cJ1_deleteEntry 215 = .ok (.putfield 111, 3) := dk_181 0 111 (dk_at dksJ1_deleteEntry_9 4 rfl rfl)
theorem dJ1_deleteEntry_218 : decode cJ1_deleteEntry 218 = .ok (.goto 22, 3) := dk_167 0 22 (dk_at dksJ1_deleteEntry_9 7 rfl rfl)
theorem dJ1_deleteEntry_221 : decode cJ1_deleteEntry 221 = .ok (.aload_n 1, 1) := dk_43 (dk_at dksJ1_deleteEntry_9 10 rfl rfl)
theorem dJ1_deleteEntry_222 : decode cJ1_deleteEntry 222 = .ok (.aload_n 1, 1) := dk_43 (dk_at dksJ1_deleteEntry_9 11 rfl rfl)
theorem dJ1_deleteEntry_223 : decode cJ1_deleteEntry 223 = .ok (.getfield 124, 3) := dk_180 0 124 (dk_at dksJ1_deleteEntry_9 12 rfl rfl)
theorem dJ1_deleteEntry_226 : decode cJ1_deleteEntry 226 = .ok (.getfield 114, 3) := dk_180 0 114 (dk_at dksJ1_deleteEntry_9 15 rfl rfl)
theorem dJ1_deleteEntry_229 : decode cJ1_deleteEntry 229 = .ok (.if_acmp .ne 11, 3) := dk_166 0 11 (dk_at dksJ1_deleteEntry_9 18 rfl rfl)
theorem dJ1_deleteEntry_232 : decode cJ1_deleteEntry 232 = .ok (.aload_n 1, 1) := dk_43 (dk_at dksJ1_deleteEntry_9 21 rfl rfl)
theorem dJ1_deleteEntry_233 : decode cJ1_deleteEntry 233 = .ok (.getfield 124, 3) := dk_180 0 124 (dk_at dksJ1_deleteEntry_10 0 rfl rfl)
theorem dJ1_deleteEntry_236 : decode cJ1_deleteEntry 236 = .ok (.aconst_null, 1) := dk_1 (dk_at dksJ1_deleteEntry_10 3 rfl rfl)
theorem dJ1_deleteEntry_237 : decode cJ1_deleteEntry 237 = .ok (.putfield 114, 3) := dk_181 0 114 (dk_at dksJ1_deleteEntry_10 4 rfl rfl)
theorem dJ1_deleteEntry_240 : decode cJ1_deleteEntry 240 = .ok (.aload_n 1, 1) := dk_43 (dk_at dksJ1_deleteEntry_10 7 rfl rfl)
theorem dJ1_deleteEntry_241 : decode cJ1_deleteEntry 241 = .ok (.aconst_null, 1) := dk_1 (dk_at dksJ1_deleteEntry_10 8 rfl rfl)
theorem dJ1_deleteEntry_242 : decode cJ1_deleteEntry 242 = .ok (.putfield 124, 3) := dk_181 0 124 (dk_at dksJ1_deleteEntry_10 9 rfl rfl)
theorem dJ1_deleteEntry_245 : decode cJ1_deleteEntry 245 = .ok (.return_, 1) := dk_177 (dk_at dksJ1_deleteEntry_10 12 rfl rfl)
abbrev cJ1_fixAfterDeletion : ByteArray := prog_70_method_85_code
def yJ1_fixAfterDeletion : MethodName := ⟨RJ1, "fixAfterDeletion", "(Ljava/util/TreeMap$Entry;)V"⟩
def dkwJ1_fixAfterDeletion_14 : List UInt8 := [182, 1, 58, 42, 180, 0, 101, 76, 167, 254, 170, 43, 4, 184, 1, 51, 177]
abbrev dktJ1_fixAfterDeletion_14 : List UInt8 := dkwJ1_fixAfterDeletion_14 ++ []
def dkwJ1_fixAfterDeletion_13 : List UInt8 := [184, 1, 51, 43, 184, 1, 38, 4, 184, 1, 51, 44, 184, 1, 41, 4, 184, 1, 51, 42, 43, 184, 1, 38]
abbrev dktJ1_fixAfterDeletion_13 : List UInt8 := dkwJ1_fixAfterDeletion_13 ++ dktJ1_fixAfterDeletion_14
def dkwJ1_fixAfterDeletion_12 : List UInt8 := [184, 1, 51, 42, 44, 182, 1, 55, 43, 184, 1, 38, 184, 1, 41, 77, 44, 43, 184, 1, 38, 184, 1, 47]
abbrev dktJ1_fixAfterDeletion_12 : List UInt8 := dkwJ1_fixAfterDeletion_12 ++ dktJ1_fixAfterDeletion_13
def dkwJ1_fixAfterDeletion_11 : List UInt8 := [167, 0, 80, 44, 184, 1, 41, 184, 1, 47, 4, 160, 0, 29, 44, 184, 1, 44, 4, 184, 1, 51, 44, 3]
abbrev dktJ1_fixAfterDeletion_11 : List UInt8 := dkwJ1_fixAfterDeletion_11 ++ dktJ1_fixAfterDeletion_12
def dkwJ1_fixAfterDeletion_10 : List UInt8 := [160, 0, 27, 44, 184, 1, 41, 184, 1, 47, 4, 160, 0, 16, 44, 3, 184, 1, 51, 43, 184, 1, 38, 76]
abbrev dktJ1_fixAfterDeletion_10 : List UInt8 := dkwJ1_fixAfterDeletion_10 ++ dktJ1_fixAfterDeletion_11
def dkwJ1_fixAfterDeletion_9 : List UInt8 := [42, 43, 184, 1, 38, 182, 1, 58, 43, 184, 1, 38, 184, 1, 41, 77, 44, 184, 1, 44, 184, 1, 47, 4]
abbrev dktJ1_fixAfterDeletion_9 : List UInt8 := dkwJ1_fixAfterDeletion_9 ++ dktJ1_fixAfterDeletion_10
def dkwJ1_fixAfterDeletion_8 : List UInt8 := [184, 1, 41, 77, 44, 184, 1, 47, 154, 0, 32, 44, 4, 184, 1, 51, 43, 184, 1, 38, 3, 184, 1, 51]
abbrev dktJ1_fixAfterDeletion_8 : List UInt8 := dkwJ1_fixAfterDeletion_8 ++ dktJ1_fixAfterDeletion_9
def dkwJ1_fixAfterDeletion_7 : List UInt8 := [4, 184, 1, 51, 42, 43, 184, 1, 38, 182, 1, 55, 42, 180, 0, 101, 76, 167, 255, 73, 43, 184, 1, 38]
abbrev dktJ1_fixAfterDeletion_7 : List UInt8 := dkwJ1_fixAfterDeletion_7 ++ dktJ1_fixAfterDeletion_8
def dkwJ1_fixAfterDeletion_6 : List UInt8 := [77, 44, 43, 184, 1, 38, 184, 1, 47, 184, 1, 51, 43, 184, 1, 38, 4, 184, 1, 51, 44, 184, 1, 44]
abbrev dktJ1_fixAfterDeletion_6 : List UInt8 := dkwJ1_fixAfterDeletion_6 ++ dktJ1_fixAfterDeletion_7
def dkwJ1_fixAfterDeletion_5 : List UInt8 := [184, 1, 41, 4, 184, 1, 51, 44, 3, 184, 1, 51, 42, 44, 182, 1, 58, 43, 184, 1, 38, 184, 1, 44]
abbrev dktJ1_fixAfterDeletion_5 : List UInt8 := dkwJ1_fixAfterDeletion_5 ++ dktJ1_fixAfterDeletion_6
def dkwJ1_fixAfterDeletion_4 : List UInt8 := [184, 1, 51, 43, 184, 1, 38, 76, 167, 0, 80, 44, 184, 1, 44, 184, 1, 47, 4, 160, 0, 29, 44]
abbrev dktJ1_fixAfterDeletion_4 : List UInt8 := dkwJ1_fixAfterDeletion_4 ++ dktJ1_fixAfterDeletion_5
def dkwJ1_fixAfterDeletion_3 : List UInt8 := [184, 1, 41, 184, 1, 47, 4, 160, 0, 27, 44, 184, 1, 44, 184, 1, 47, 4, 160, 0, 16, 44, 3]
abbrev dktJ1_fixAfterDeletion_3 : List UInt8 := dkwJ1_fixAfterDeletion_3 ++ dktJ1_fixAfterDeletion_4
def dkwJ1_fixAfterDeletion_2 : List UInt8 := [184, 1, 38, 3, 184, 1, 51, 42, 43, 184, 1, 38, 182, 1, 55, 43, 184, 1, 38, 184, 1, 44, 77, 44]
abbrev dktJ1_fixAfterDeletion_2 : List UInt8 := dkwJ1_fixAfterDeletion_2 ++ dktJ1_fixAfterDeletion_3
def dkwJ1_fixAfterDeletion_1 : List UInt8 := [166, 0, 162, 43, 184, 1, 38, 184, 1, 44, 77, 44, 184, 1, 47, 154, 0, 32, 44, 4, 184, 1, 51, 43]
abbrev dktJ1_fixAfterDeletion_1 : List UInt8 := dkwJ1_fixAfterDeletion_1 ++ dktJ1_fixAfterDeletion_2
def dkwJ1_fixAfterDeletion_0 : List UInt8 := [43, 42, 180, 0, 101, 165, 1, 84, 43, 184, 1, 47, 4, 160, 1, 76, 43, 43, 184, 1, 38, 184, 1, 41]
abbrev dktJ1_fixAfterDeletion_0 : List UInt8 := dkwJ1_fixAfterDeletion_0 ++ dktJ1_fixAfterDeletion_1
theorem dksJ1_fixAfterDeletion_0 : cJ1_fixAfterDeletion.data.toList.drop 0 = dktJ1_fixAfterDeletion_0 := by decide +kernel
theorem dksJ1_fixAfterDeletion_1 : cJ1_fixAfterDeletion.data.toList.drop 24 = dktJ1_fixAfterDeletion_1 := dk_seg dksJ1_fixAfterDeletion_0 24 rfl rfl
theorem dksJ1_fixAfterDeletion_2 : cJ1_fixAfterDeletion.data.toList.drop 48 = dktJ1_fixAfterDeletion_2 := dk_seg dksJ1_fixAfterDeletion_1 24 rfl rfl
theorem dksJ1_fixAfterDeletion_3 : cJ1_fixAfterDeletion.data.toList.drop 72 = dktJ1_fixAfterDeletion_3 := dk_seg dksJ1_fixAfterDeletion_2 24 rfl rfl
theorem dksJ1_fixAfterDeletion_4 : cJ1_fixAfterDeletion.data.toList.drop 95 = dktJ1_fixAfterDeletion_4 := dk_seg dksJ1_fixAfterDeletion_3 23 rfl rfl
theorem dksJ1_fixAfterDeletion_5 : cJ1_fixAfterDeletion.data.toList.drop 118 = dktJ1_fixAfterDeletion_5 := dk_seg dksJ1_fixAfterDeletion_4 23 rfl rfl
theorem dksJ1_fixAfterDeletion_6 : cJ1_fixAfterDeletion.data.toList.drop 142 = dktJ1_fixAfterDeletion_6 := dk_seg dksJ1_fixAfterDeletion_5 24 rfl rfl
theorem dksJ1_fixAfterDeletion_7 : cJ1_fixAfterDeletion.data.toList.drop 166 = dktJ1_fixAfterDeletion_7 := dk_seg dksJ1_fixAfterDeletion_6 24 rfl rfl
theorem dksJ1_fixAfterDeletion_8 : cJ1_fixAfterDeletion.data.toList.drop 190 = dktJ1_fixAfterDeletion_8 := dk_seg dksJ1_fixAfterDeletion_7 24 rfl rfl
theorem dksJ1_fixAfterDeletion_9 : cJ1_fixAfterDeletion.data.toList.drop 214 = dktJ1_fixAfterDeletion_9 := dk_seg dksJ1_fixAfterDeletion_8 24 rfl rfl
theorem dksJ1_fixAfterDeletion_10 : cJ1_fixAfterDeletion.data.toList.drop 238 = dktJ1_fixAfterDeletion_10 := dk_seg dksJ1_fixAfterDeletion_9 24 rfl rfl
theorem dksJ1_fixAfterDeletion_11 : cJ1_fixAfterDeletion.data.toList.drop 262 = dktJ1_fixAfterDeletion_11 := dk_seg dksJ1_fixAfterDeletion_10 24 rfl rfl
theorem dksJ1_fixAfterDeletion_12 : cJ1_fixAfterDeletion.data.toList.drop 286 = dktJ1_fixAfterDeletion_12 := dk_seg dksJ1_fixAfterDeletion_11 24 rfl rfl
theorem dksJ1_fixAfterDeletion_13 : cJ1_fixAfterDeletion.data.toList.drop 310 = dktJ1_fixAfterDeletion_13 := dk_seg dksJ1_fixAfterDeletion_12 24 rfl rfl
theorem dksJ1_fixAfterDeletion_14 : cJ1_fixAfterDeletion.data.toList.drop 334 = dktJ1_fixAfterDeletion_14 := dk_seg dksJ1_fixAfterDeletion_13 24 rfl rfl
theorem dJ1_fixAfterDeletion_0 : decode cJ1_fixAfterDeletion 0 = .ok (.aload_n 1, 1) := dk_43 (dk_at dksJ1_fixAfterDeletion_0 0 rfl rfl)
theorem dJ1_fixAfterDeletion_1 : decode cJ1_fixAfterDeletion 1 = .ok (.aload_n 0, 1) := dk_42 (dk_at dksJ1_fixAfterDeletion_0 1 rfl rfl)
theorem dJ1_fixAfterDeletion_2 : decode cJ1_fixAfterDeletion 2 = .ok (.getfield 101, 3) := dk_180 0 101 (dk_at dksJ1_fixAfterDeletion_0 2 rfl rfl)
theorem dJ1_fixAfterDeletion_5 : decode cJ1_fixAfterDeletion 5 = .ok (.if_acmp .eq 340, 3) := dk_165 1 84 (dk_at dksJ1_fixAfterDeletion_0 5 rfl rfl)
theorem dJ1_fixAfterDeletion_8 : decode cJ1_fixAfterDeletion 8 = .ok (.aload_n 1, 1) := dk_43 (dk_at dksJ1_fixAfterDeletion_0 8 rfl rfl)
theorem dJ1_fixAfterDeletion_9 : decode cJ1_fixAfterDeletion 9 = .ok (.invokestatic 303, 3) := dk_184 1 47 (dk_at dksJ1_fixAfterDeletion_0 9 rfl rfl)
theorem dJ1_fixAfterDeletion_12 : decode cJ1_fixAfterDeletion 12 = .ok (.iconst 1, 1) := dk_4 (dk_at dksJ1_fixAfterDeletion_0 12 rfl rfl)
theorem dJ1_fixAfterDeletion_13 : decode cJ1_fixAfterDeletion 13 = .ok (.if_icmp .ne 332, 3) := dk_160 1 76 (dk_at dksJ1_fixAfterDeletion_0 13 rfl rfl)
theorem dJ1_fixAfterDeletion_16 : decode cJ1_fixAfterDeletion 16 = .ok (.aload_n 1, 1) := dk_43 (dk_at dksJ1_fixAfterDeletion_0 16 rfl rfl)
theorem dJ1_fixAfterDeletion_17 : decode cJ1_fixAfterDeletion 17 = .ok (.aload_n 1, 1) := dk_43 (dk_at dksJ1_fixAfterDeletion_0 17 rfl rfl)
theorem dJ1_fixAfterDeletion_18 : decode cJ1_fixAfterDeletion 18 = .ok (.invokestatic 294, 3) := dk_184 1 38 (dk_at dksJ1_fixAfterDeletion_0 18 rfl rfl)
theorem dJ1_fixAfterDeletion_21 : decode cJ1_fixAfterDeletion 21 = .ok (.invokestatic 297, 3) := dk_184 1 41 (dk_at dksJ1_fixAfterDeletion_0 21 rfl rfl)
theorem dJ1_fixAfterDeletion_24 : decode cJ1_fixAfterDeletion 24 = .ok (.if_acmp .ne 162, 3) := dk_166 0 162 (dk_at dksJ1_fixAfterDeletion_1 0 rfl rfl)
theorem dJ1_fixAfterDeletion_27 : decode cJ1_fixAfterDeletion 27 = .ok (.aload_n 1, 1) := dk_43 (dk_at dksJ1_fixAfterDeletion_1 3 rfl rfl)
theorem dJ1_fixAfterDeletion_28 : decode cJ1_fixAfterDeletion 28 = .ok (.invokestatic 294, 3) := dk_184 1 38 (dk_at dksJ1_fixAfterDeletion_1 4 rfl rfl)
theorem dJ1_fixAfterDeletion_31 : decode cJ1_fixAfterDeletion 31 = .ok (.invokestatic 300, 3) := dk_184 1 44 (dk_at dksJ1_fixAfterDeletion_1 7 rfl rfl)
theorem dJ1_fixAfterDeletion_34 : decode cJ1_fixAfterDeletion 34 = .ok (.astore_n 2, 1) := dk_77 (dk_at dksJ1_fixAfterDeletion_1 10 rfl rfl)
theorem dJ1_fixAfterDeletion_35 : decode cJ1_fixAfterDeletion 35 = .ok (.aload_n 2, 1) := dk_44 (dk_at dksJ1_fixAfterDeletion_1 11 rfl rfl)
theorem dJ1_fixAfterDeletion_36 : decode cJ1_fixAfterDeletion 36 = .ok (.invokestatic 303, 3) := dk_184 1 47 (dk_at dksJ1_fixAfterDeletion_1 12 rfl rfl)
theorem dJ1_fixAfterDeletion_39 : decode cJ1_fixAfterDeletion 39 = .ok (.ifCond .ne 32, 3) := dk_154 0 32 (dk_at dksJ1_fixAfterDeletion_1 15 rfl rfl)
theorem dJ1_fixAfterDeletion_42 : decode cJ1_fixAfterDeletion 42 = .ok (.aload_n 2, 1) := dk_44 (dk_at dksJ1_fixAfterDeletion_1 18 rfl rfl)
theorem dJ1_fixAfterDeletion_43 : decode cJ1_fixAfterDeletion 43 = .ok (.iconst 1, 1) := dk_4 (dk_at dksJ1_fixAfterDeletion_1 19 rfl rfl)
theorem dJ1_fixAfterDeletion_44 : decode cJ1_fixAfterDeletion 44 = .ok (.invokestatic 307, 3) := dk_184 1 51 (dk_at dksJ1_fixAfterDeletion_1 20 rfl rfl)
theorem dJ1_fixAfterDeletion_47 : decode cJ1_fixAfterDeletion 47 = .ok (.aload_n 1, 1) := dk_43 (dk_at dksJ1_fixAfterDeletion_1 23 rfl rfl)
theorem dJ1_fixAfterDeletion_48 : decode cJ1_fixAfterDeletion 48 = .ok (.invokestatic 294, 3) := dk_184 1 38 (dk_at dksJ1_fixAfterDeletion_2 0 rfl rfl)
theorem dJ1_fixAfterDeletion_51 : decode cJ1_fixAfterDeletion 51 = .ok (.iconst 0, 1) := dk_3 (dk_at dksJ1_fixAfterDeletion_2 3 rfl rfl)
theorem dJ1_fixAfterDeletion_52 : decode cJ1_fixAfterDeletion 52 = .ok (.invokestatic 307, 3) := dk_184 1 51 (dk_at dksJ1_fixAfterDeletion_2 4 rfl rfl)
theorem dJ1_fixAfterDeletion_55 : decode cJ1_fixAfterDeletion 55 = .ok (.aload_n 0, 1) := dk_42 (dk_at dksJ1_fixAfterDeletion_2 7 rfl rfl)
theorem dJ1_fixAfterDeletion_56 : decode cJ1_fixAfterDeletion 56 = .ok (.aload_n 1, 1) := dk_43 (dk_at dksJ1_fixAfterDeletion_2 8 rfl rfl)
theorem dJ1_fixAfterDeletion_57 : decode cJ1_fixAfterDeletion 57 = .ok (.invokestatic 294, 3) := dk_184 1 38 (dk_at dksJ1_fixAfterDeletion_2 9 rfl rfl)
theorem dJ1_fixAfterDeletion_60 : decode cJ1_fixAfterDeletion 60 = .ok (.invokevirtual 311, 3) := dk_182 1 55 (dk_at dksJ1_fixAfterDeletion_2 12 rfl rfl)
theorem dJ1_fixAfterDeletion_63 : decode cJ1_fixAfterDeletion 63 = .ok (.aload_n 1, 1) := dk_43 (dk_at dksJ1_fixAfterDeletion_2 15 rfl rfl)
theorem dJ1_fixAfterDeletion_64 : decode cJ1_fixAfterDeletion 64 = .ok (.invokestatic 294, 3) := dk_184 1 38 (dk_at dksJ1_fixAfterDeletion_2 16 rfl rfl)
theorem dJ1_fixAfterDeletion_67 : decode cJ1_fixAfterDeletion 67 = .ok (.invokestatic 300, 3) := dk_184 1 44 (dk_at dksJ1_fixAfterDeletion_2 19 rfl rfl)
theorem dJ1_fixAfterDeletion_70 : decode cJ1_fixAfterDeletion 70 = .ok (.astore_n 2, 1) := dk_77 (dk_at dksJ1_fixAfterDeletion_2 22 rfl rfl)
theorem dJ1_fixAfterDeletion_71 : decode cJ1_fixAfterDeletion 71 = .ok (.aload_n 2, 1) := dk_44 (dk_at dksJ1_fixAfterDeletion_2 23 rfl rfl)
theorem dJ1_fixAfterDeletion_72 : decode cJ1_fixAfterDeletion 72 = .ok (.invokestatic 297, 3) := dk_184 1 41 (dk_at dksJ1_fixAfterDeletion_3 0 rfl rfl)
theorem dJ1_fixAfterDeletion_75 : decode cJ1_fixAfterDeletion 75 = .ok (.invokestatic 303, 3) := dk_184 1 47 (dk_at dksJ1_fixAfterDeletion_3 3 rfl rfl)
theorem dJ1_fixAfterDeletion_78 : decode cJ1_fixAfterDeletion 78 = .ok (.iconst 1, 1) := dk_4 (dk_at dksJ1_fixAfterDeletion_3 6 rfl rfl)
theorem dJ1_fixAfterDeletion_79 : decode cJ1_fixAfterDeletion 79 = .ok (.if_icmp .ne 27, 3) := dk_160 0 27 (dk_at dksJ1_fixAfterDeletion_3 7 rfl rfl)
theorem dJ1_fixAfterDeletion_82 : decode cJ1_fixAfterDeletion 82 = .ok (.aload_n 2, 1) := dk_44 (dk_at dksJ1_fixAfterDeletion_3 10 rfl rfl)
theorem dJ1_fixAfterDeletion_83 : decode cJ1_fixAfterDeletion 83 = .ok (.invokestatic 300, 3) := dk_184 1 44 (dk_at dksJ1_fixAfterDeletion_3 11 rfl rfl)
theorem dJ1_fixAfterDeletion_86 : decode cJ1_fixAfterDeletion 86 = .ok (.invokestatic 303, 3) := dk_184 1 47 (dk_at dksJ1_fixAfterDeletion_3 14 rfl rfl)
theorem dJ1_fixAfterDeletion_89 : decode cJ1_fixAfterDeletion 89 = .ok (.iconst 1, 1) := dk_4 (dk_at dksJ1_fixAfterDeletion_3 17 rfl rfl)
theorem dJ1_fixAfterDeletion_90 : decode cJ1_fixAfterDeletion 90 = .ok (.if_icmp .ne 16, 3) := dk_160 0 16 (dk_at dksJ1_fixAfterDeletion_3 18 rfl rfl)
theorem dJ1_fixAfterDeletion_93 : decode cJ1_fixAfterDeletion 93 = .ok (.aload_n 2, 1) := dk_44 (dk_at dksJ1_fixAfterDeletion_3 21 rfl rfl)
theorem dJ1_fixAfterDeletion_94 : decode cJ1_fixAfterDeletion 94 = .ok (.iconst 0, 1) := dk_3 (dk_at dksJ1_fixAfterDeletion_3 22 rfl rfl)
theorem dJ1_fixAfterDeletion_95 : decode cJ1_fixAfterDeletion 95 = .ok (.invokestatic 307, 3) := dk_184 1 51 (dk_at dksJ1_fixAfterDeletion_4 0 rfl rfl)
theorem dJ1_fixAfterDeletion_98 : decode cJ1_fixAfterDeletion 98 = .ok (.aload_n 1, 1) := dk_43 (dk_at dksJ1_fixAfterDeletion_4 3 rfl rfl)
theorem dJ1_fixAfterDeletion_99 : decode cJ1_fixAfterDeletion 99 = .ok (.invokestatic 294, 3) := dk_184 1 38 (dk_at dksJ1_fixAfterDeletion_4 4 rfl rfl)
theorem dJ1_fixAfterDeletion_102 : decode cJ1_fixAfterDeletion 102 = .ok (.astore_n 1, 1) := dk_76 (dk_at dksJ1_fixAfterDeletion_4 7 rfl rfl)
theorem dJ1_fixAfterDeletion_103 : decode cJ1_fixAfterDeletion 103 = .ok (.goto 80, 3) := dk_167 0 80 (dk_at dksJ1_fixAfterDeletion_4 8 rfl rfl)
theorem dJ1_fixAfterDeletion_106 : decode cJ1_fixAfterDeletion 106 = .ok (.aload_n 2, 1) := dk_44 (dk_at dksJ1_fixAfterDeletion_4 11 rfl rfl)
theorem dJ1_fixAfterDeletion_107 : decode cJ1_fixAfterDeletion 107 = .ok (.invokestatic 300, 3) := dk_184 1 44 (dk_at dksJ1_fixAfterDeletion_4 12 rfl rfl)
theorem dJ1_fixAfterDeletion_110 : decode cJ1_fixAfterDeletion 110 = .ok (.invokestatic 303, 3) := dk_184 1 47 (dk_at dksJ1_fixAfterDeletion_4 15 rfl rfl)
theorem dJ1_fixAfterDeletion_113 : decode cJ1_fixAfterDeletion 113 = .ok (.iconst 1, 1) := dk_4 (dk_at dksJ1_fixAfterDeletion_4 18 rfl rfl)
theorem dJ1_fixAfterDeletion_114 : decode cJ1_fixAfterDeletion 114 = .ok (.if_icmp .ne 29, 3) := dk_160 0 29 (dk_at dksJ1_fixAfterDeletion_4 19 rfl rfl)
theorem dJ1_fixAfterDeletion_117 : decode cJ1_fixAfterDeletion 117 = .ok (.aload_n 2, 1) := dk_44 (dk_at dksJ1_fixAfterDeletion_4 22 rfl rfl)
theorem dJ1_fixAfterDeletion_118 : decode cJ1_fixAfterDeletion 118 = .ok (.invokestatic 297, 3) := dk_184 1 41 (dk_at dksJ1_fixAfterDeletion_5 0 rfl rfl)
theorem dJ1_fixAfterDeletion_121 : decode cJ1_fixAfterDeletion 121 = .ok (.iconst 1, 1) := dk_4 (dk_at dksJ1_fixAfterDeletion_5 3 rfl rfl)
theorem dJ1_fixAfterDeletion_122 : decode cJ1_fixAfterDeletion 122 = .ok (.invokestatic 307, 3) := dk_184 1 51 (dk_at dksJ1_fixAfterDeletion_5 4 rfl rfl)
theorem dJ1_fixAfterDeletion_125 : decode cJ1_fixAfterDeletion 125 = .ok (.aload_n 2, 1) := dk_44 (dk_at dksJ1_fixAfterDeletion_5 7 rfl rfl)
theorem dJ1_fixAfterDeletion_126 : decode cJ1_fixAfterDeletion 126 = .ok (.iconst 0, 1) := dk_3 (dk_at dksJ1_fixAfterDeletion_5 8 rfl rfl)
theorem dJ1_fixAfterDeletion_127 : decode cJ1_fixAfterDeletion 127 = .ok (.invokestatic 307, 3) := dk_184 1 51 (dk_at dksJ1_fixAfterDeletion_5 9 rfl rfl)
theorem dJ1_fixAfterDeletion_130 : decode cJ1_fixAfterDeletion 130 = .ok (.aload_n 0, 1) := dk_42 (dk_at dksJ1_fixAfterDeletion_5 12 rfl rfl)
theorem dJ1_fixAfterDeletion_131 : decode cJ1_fixAfterDeletion 131 = .ok (.aload_n 2, 1) := dk_44 (dk_at dksJ1_fixAfterDeletion_5 13 rfl rfl)
theorem dJ1_fixAfterDeletion_132 : decode cJ1_fixAfterDeletion 132 = .ok (.invokevirtual 314, 3) := dk_182 1 58 (dk_at dksJ1_fixAfterDeletion_5 14 rfl rfl)
theorem dJ1_fixAfterDeletion_135 : decode cJ1_fixAfterDeletion 135 = .ok (.aload_n 1, 1) := dk_43 (dk_at dksJ1_fixAfterDeletion_5 17 rfl rfl)
theorem dJ1_fixAfterDeletion_136 : decode cJ1_fixAfterDeletion 136 = .ok (.invokestatic 294, 3) := dk_184 1 38 (dk_at dksJ1_fixAfterDeletion_5 18 rfl rfl)
theorem dJ1_fixAfterDeletion_139 : decode cJ1_fixAfterDeletion 139 = .ok (.invokestatic 300, 3) := dk_184 1 44 (dk_at dksJ1_fixAfterDeletion_5 21 rfl rfl)
theorem dJ1_fixAfterDeletion_142 : decode cJ1_fixAfterDeletion 142 = .ok (.astore_n 2, 1) := dk_77 (dk_at dksJ1_fixAfterDeletion_6 0 rfl rfl)
theorem dJ1_fixAfterDeletion_143 : decode cJ1_fixAfterDeletion 143 = .ok (.aload_n 2, 1) := dk_44 (dk_at dksJ1_fixAfterDeletion_6 1 rfl rfl)
theorem dJ1_fixAfterDeletion_144 : decode cJ1_fixAfterDeletion 144 = .ok (.aload_n 1, 1) := dk_43 (dk_at dksJ1_fixAfterDeletion_6 2 rfl rfl)
theorem dJ1_fixAfterDeletion_145 : decode cJ1_fixAfterDeletion 145 = .ok (.invokestatic 294, 3) := dk_184 1 38 (dk_at dksJ1_fixAfterDeletion_6 3 rfl rfl)
theorem dJ1_fixAfterDeletion_148 : decode cJ1_fixAfterDeletion 148 = .ok (.invokestatic 303, 3) := dk_184 1 47 (dk_at dksJ1_fixAfterDeletion_6 6 rfl rfl)
theorem dJ1_fixAfterDeletion_151 : decode cJ1_fixAfterDeletion 151 = .ok (.invokestatic 307, 3) := dk_184 1 51 (dk_at dksJ1_fixAfterDeletion_6 9 rfl rfl)
theorem dJ1_fixAfterDeletion_154 : decode cJ1_fixAfterDeletion 154 = .ok (.aload_n 1, 1) := dk_43 (dk_at dksJ1_fixAfterDeletion_6 12 rfl rfl)
theorem dJ1_fixAfterDeletion_155 : decode cJ1_fixAfterDeletion 155 = .ok (.invokestatic 294, 3) := dk_184 1 38 (dk_at dksJ1_fixAfterDeletion_6 13 rfl rfl)
theorem dJ1_fixAfterDeletion_158 : decode cJ1_fixAfterDeletion 158 = .ok (.iconst 1, 1) := dk_4 (dk_at dksJ1_fixAfterDeletion_6 16 rfl rfl)
theorem dJ1_fixAfterDeletion_159 : decode cJ1_fixAfterDeletion 159 = .ok (.invokestatic 307, 3) := dk_184 1 51 (dk_at dksJ1_fixAfterDeletion_6 17 rfl rfl)
theorem dJ1_fixAfterDeletion_162 : decode cJ1_fixAfterDeletion 162 = .ok (.aload_n 2, 1) := dk_44 (dk_at dksJ1_fixAfterDeletion_6 20 rfl rfl)
theorem dJ1_fixAfterDeletion_163 : decode cJ1_fixAfterDeletion 163 = .ok (.invokestatic 300, 3) := dk_184 1 44 (dk_at dksJ1_fixAfterDeletion_6 21 rfl rfl)
theorem dJ1_fixAfterDeletion_166 : decode cJ1_fixAfterDeletion 166 = .ok (.iconst 1, 1) := dk_4 (dk_at dksJ1_fixAfterDeletion_7 0 rfl rfl)
theorem dJ1_fixAfterDeletion_167 : decode cJ1_fixAfterDeletion 167 = .ok (.invokestatic 307, 3) := dk_184 1 51 (dk_at dksJ1_fixAfterDeletion_7 1 rfl rfl)
theorem dJ1_fixAfterDeletion_170 : decode cJ1_fixAfterDeletion 170 = .ok (.aload_n 0, 1) := dk_42 (dk_at dksJ1_fixAfterDeletion_7 4 rfl rfl)
theorem dJ1_fixAfterDeletion_171 : decode cJ1_fixAfterDeletion 171 = .ok (.aload_n 1, 1) := dk_43 (dk_at dksJ1_fixAfterDeletion_7 5 rfl rfl)
theorem dJ1_fixAfterDeletion_172 : decode cJ1_fixAfterDeletion 172 = .ok (.invokestatic 294, 3) := dk_184 1 38 (dk_at dksJ1_fixAfterDeletion_7 6 rfl rfl)
theorem dJ1_fixAfterDeletion_175 : decode cJ1_fixAfterDeletion 175 = .ok (.invokevirtual 311, 3) := dk_182 1 55 (dk_at dksJ1_fixAfterDeletion_7 9 rfl rfl)
theorem dJ1_fixAfterDeletion_178 : decode cJ1_fixAfterDeletion 178 = .ok (.aload_n 0, 1) := dk_42 (dk_at dksJ1_fixAfterDeletion_7 12 rfl rfl)
theorem dJ1_fixAfterDeletion_179 : decode cJ1_fixAfterDeletion 179 = .ok (.getfield 101, 3) := dk_180 0 101 (dk_at dksJ1_fixAfterDeletion_7 13 rfl rfl)
theorem dJ1_fixAfterDeletion_182 : decode cJ1_fixAfterDeletion 182 = .ok (.astore_n 1, 1) := dk_76 (dk_at dksJ1_fixAfterDeletion_7 16 rfl rfl)
theorem dJ1_fixAfterDeletion_183 : decode cJ1_fixAfterDeletion 183 = .ok (.goto (-183), 3) := dk_167 255 73 (dk_at dksJ1_fixAfterDeletion_7 17 rfl rfl)
theorem dJ1_fixAfterDeletion_186 : decode cJ1_fixAfterDeletion 186 = .ok (.aload_n 1, 1) := dk_43 (dk_at dksJ1_fixAfterDeletion_7 20 rfl rfl)
theorem dJ1_fixAfterDeletion_187 : decode cJ1_fixAfterDeletion 187 = .ok (.invokestatic 294, 3) := dk_184 1 38 (dk_at dksJ1_fixAfterDeletion_7 21 rfl rfl)
theorem dJ1_fixAfterDeletion_190 : decode cJ1_fixAfterDeletion 190 = .ok (.invokestatic 297, 3) := dk_184 1 41 (dk_at dksJ1_fixAfterDeletion_8 0 rfl rfl)
theorem dJ1_fixAfterDeletion_193 : decode cJ1_fixAfterDeletion 193 = .ok (.astore_n 2, 1) := dk_77 (dk_at dksJ1_fixAfterDeletion_8 3 rfl rfl)
theorem dJ1_fixAfterDeletion_194 : decode cJ1_fixAfterDeletion 194 = .ok (.aload_n 2, 1) := dk_44 (dk_at dksJ1_fixAfterDeletion_8 4 rfl rfl)
theorem dJ1_fixAfterDeletion_195 : decode cJ1_fixAfterDeletion 195 = .ok (.invokestatic 303, 3) := dk_184 1 47 (dk_at dksJ1_fixAfterDeletion_8 5 rfl rfl)
theorem dJ1_fixAfterDeletion_198 : decode cJ1_fixAfterDeletion 198 = .ok (.ifCond .ne 32, 3) := dk_154 0 32 (dk_at dksJ1_fixAfterDeletion_8 8 rfl rfl)
theorem dJ1_fixAfterDeletion_201 : decode cJ1_fixAfterDeletion 201 = .ok (.aload_n 2, 1) := dk_44 (dk_at dksJ1_fixAfterDeletion_8 11 rfl rfl)
theorem dJ1_fixAfterDeletion_202 : decode cJ1_fixAfterDeletion 202 = .ok (.iconst 1, 1) := dk_4 (dk_at dksJ1_fixAfterDeletion_8 12 rfl rfl)
theorem dJ1_fixAfterDeletion_203 : decode cJ1_fixAfterDeletion 203 = .ok (.invokestatic 307, 3) := dk_184 1 51 (dk_at dksJ1_fixAfterDeletion_8 13 rfl rfl)
theorem dJ1_fixAfterDeletion_206 : decode cJ1_fixAfterDeletion 206 = .ok (.aload_n 1, 1) := dk_43 (dk_at dksJ1_fixAfterDeletion_8 16 rfl rfl)
theorem dJ1_fixAfterDeletion_207 : decode cJ1_fixAfterDeletion 207 = .ok (.invokestatic 294, 3) := dk_184 1 38 (dk_at dksJ1_fixAfterDeletion_8 17 rfl rfl)
theorem dJ1_fixAfterDeletion_210 : decode cJ1_fixAfterDeletion 210 = .ok (.iconst 0, 1) := dk_3 (dk_at dksJ1_fixAfterDeletion_8 20 rfl rfl)
theorem dJ1_fixAfterDeletion_211 : decode cJ1_fixAfterDeletion 211 = .ok (.invokestatic 307, 3) := dk_184 1 51 (dk_at dksJ1_fixAfterDeletion_8 21 rfl rfl)
theorem dJ1_fixAfterDeletion_214 : decode cJ1_fixAfterDeletion 214 = .ok (.aload_n 0, 1) := dk_42 (dk_at dksJ1_fixAfterDeletion_9 0 rfl rfl)
theorem dJ1_fixAfterDeletion_215 : decode cJ1_fixAfterDeletion 215 = .ok (.aload_n 1, 1) := dk_43 (dk_at dksJ1_fixAfterDeletion_9 1 rfl rfl)
theorem dJ1_fixAfterDeletion_216 : decode cJ1_fixAfterDeletion 216 = .ok (.invokestatic 294, 3) := dk_184 1 38 (dk_at dksJ1_fixAfterDeletion_9 2 rfl rfl)
theorem dJ1_fixAfterDeletion_219 : decode cJ1_fixAfterDeletion 219 = .ok (.invokevirtual 314, 3) := dk_182 1 58 (dk_at dksJ1_fixAfterDeletion_9 5 rfl rfl)
theorem dJ1_fixAfterDeletion_222 : decode cJ1_fixAfterDeletion 222 = .ok (.aload_n 1, 1) := dk_43 (dk_at dksJ1_fixAfterDeletion_9 8 rfl rfl)
theorem dJ1_fixAfterDeletion_223 : decode cJ1_fixAfterDeletion 223 = .ok (.invokestatic 294, 3) := dk_184 1 38 (dk_at dksJ1_fixAfterDeletion_9 9 rfl rfl)
theorem dJ1_fixAfterDeletion_226 : decode cJ1_fixAfterDeletion 226 = .ok (.invokestatic 297, 3) := dk_184 1 41 (dk_at dksJ1_fixAfterDeletion_9 12 rfl rfl)
theorem dJ1_fixAfterDeletion_229 : decode cJ1_fixAfterDeletion 229 = .ok (.astore_n 2, 1) := dk_77 (dk_at dksJ1_fixAfterDeletion_9 15 rfl rfl)
theorem dJ1_fixAfterDeletion_230 : decode cJ1_fixAfterDeletion 230 = .ok (.aload_n 2, 1) := dk_44 (dk_at dksJ1_fixAfterDeletion_9 16 rfl rfl)
theorem dJ1_fixAfterDeletion_231 : decode cJ1_fixAfterDeletion 231 = .ok (.invokestatic 300, 3) := dk_184 1 44 (dk_at dksJ1_fixAfterDeletion_9 17 rfl rfl)
theorem dJ1_fixAfterDeletion_234 : decode cJ1_fixAfterDeletion 234 = .ok (.invokestatic 303, 3) := dk_184 1 47 (dk_at dksJ1_fixAfterDeletion_9 20 rfl rfl)
theorem dJ1_fixAfterDeletion_237 : decode cJ1_fixAfterDeletion 237 = .ok (.iconst 1, 1) := dk_4 (dk_at dksJ1_fixAfterDeletion_9 23 rfl rfl)
theorem dJ1_fixAfterDeletion_238 : decode cJ1_fixAfterDeletion 238 = .ok (.if_icmp .ne 27, 3) := dk_160 0 27 (dk_at dksJ1_fixAfterDeletion_10 0 rfl rfl)
theorem dJ1_fixAfterDeletion_241 : decode cJ1_fixAfterDeletion 241 = .ok (.aload_n 2, 1) := dk_44 (dk_at dksJ1_fixAfterDeletion_10 3 rfl rfl)
theorem dJ1_fixAfterDeletion_242 : decode cJ1_fixAfterDeletion 242 = .ok (.invokestatic 297, 3) := dk_184 1 41 (dk_at dksJ1_fixAfterDeletion_10 4 rfl rfl)
theorem dJ1_fixAfterDeletion_245 : decode cJ1_fixAfterDeletion 245 = .ok (.invokestatic 303, 3) := dk_184 1 47 (dk_at dksJ1_fixAfterDeletion_10 7 rfl rfl)
theorem dJ1_fixAfterDeletion_248 : decode cJ1_fixAfterDeletion 248 = .ok (.iconst 1, 1) := dk_4 (dk_at dksJ1_fixAfterDeletion_10 10 rfl rfl)
theorem dJ1_fixAfterDeletion_249 : decode cJ1_fixAfterDeletion 249 = .ok (.if_icmp .ne 16, 3) := dk_160 0 16 (dk_at dksJ1_fixAfterDeletion_10 11 rfl rfl)
theorem dJ1_fixAfterDeletion_252 : decode cJ1_fixAfterDeletion 252 = .ok (.aload_n 2, 1) := dk_44 (dk_at dksJ1_fixAfterDeletion_10 14 rfl rfl)
theorem dJ1_fixAfterDeletion_253 : decode cJ1_fixAfterDeletion 253 = .ok (.iconst 0, 1) := dk_3 (dk_at dksJ1_fixAfterDeletion_10 15 rfl rfl)
theorem dJ1_fixAfterDeletion_254 : decode cJ1_fixAfterDeletion 254 = .ok (.invokestatic 307, 3) := dk_184 1 51 (dk_at dksJ1_fixAfterDeletion_10 16 rfl rfl)
theorem dJ1_fixAfterDeletion_257 : decode cJ1_fixAfterDeletion 257 = .ok (.aload_n 1, 1) := dk_43 (dk_at dksJ1_fixAfterDeletion_10 19 rfl rfl)
theorem dJ1_fixAfterDeletion_258 : decode cJ1_fixAfterDeletion 258 = .ok (.invokestatic 294, 3) := dk_184 1 38 (dk_at dksJ1_fixAfterDeletion_10 20 rfl rfl)
theorem dJ1_fixAfterDeletion_261 : decode cJ1_fixAfterDeletion 261 = .ok (.astore_n 1, 1) := dk_76 (dk_at dksJ1_fixAfterDeletion_10 23 rfl rfl)
theorem dJ1_fixAfterDeletion_262 : decode cJ1_fixAfterDeletion 262 = .ok (.goto 80, 3) := dk_167 0 80 (dk_at dksJ1_fixAfterDeletion_11 0 rfl rfl)
theorem dJ1_fixAfterDeletion_265 : decode cJ1_fixAfterDeletion 265 = .ok (.aload_n 2, 1) := dk_44 (dk_at dksJ1_fixAfterDeletion_11 3 rfl rfl)
theorem dJ1_fixAfterDeletion_266 : decode cJ1_fixAfterDeletion 266 = .ok (.invokestatic 297, 3) := dk_184 1 41 (dk_at dksJ1_fixAfterDeletion_11 4 rfl rfl)
theorem dJ1_fixAfterDeletion_269 : decode cJ1_fixAfterDeletion 269 = .ok (.invokestatic 303, 3) := dk_184 1 47 (dk_at dksJ1_fixAfterDeletion_11 7 rfl rfl)
theorem dJ1_fixAfterDeletion_272 : decode cJ1_fixAfterDeletion 272 = .ok (.iconst 1, 1) := dk_4 (dk_at dksJ1_fixAfterDeletion_11 10 rfl rfl)
theorem dJ1_fixAfterDeletion_273 : decode cJ1_fixAfterDeletion 273 = .ok (.if_icmp .ne 29, 3) := dk_160 0 29 (dk_at dksJ1_fixAfterDeletion_11 11 rfl rfl)
theorem dJ1_fixAfterDeletion_276 : decode cJ1_fixAfterDeletion 276 = .ok (.aload_n 2, 1) := dk_44 (dk_at dksJ1_fixAfterDeletion_11 14 rfl rfl)
theorem dJ1_fixAfterDeletion_277 : decode cJ1_fixAfterDeletion 277 = .ok (.invokestatic 300, 3) := dk_184 1 44 (dk_at dksJ1_fixAfterDeletion_11 15 rfl rfl)
theorem dJ1_fixAfterDeletion_280 : decode cJ1_fixAfterDeletion 280 = .ok (.iconst 1, 1) := dk_4 (dk_at dksJ1_fixAfterDeletion_11 18 rfl rfl)
theorem dJ1_fixAfterDeletion_281 : decode cJ1_fixAfterDeletion 281 = .ok (.invokestatic 307, 3) := dk_184 1 51 (dk_at dksJ1_fixAfterDeletion_11 19 rfl rfl)
theorem dJ1_fixAfterDeletion_284 : decode cJ1_fixAfterDeletion 284 = .ok (.aload_n 2, 1) := dk_44 (dk_at dksJ1_fixAfterDeletion_11 22 rfl rfl)
theorem dJ1_fixAfterDeletion_285 : decode cJ1_fixAfterDeletion 285 = .ok (.iconst 0, 1) := dk_3 (dk_at dksJ1_fixAfterDeletion_11 23 rfl rfl)
theorem dJ1_fixAfterDeletion_286 : decode cJ1_fixAfterDeletion 286 = .ok (.invokestatic 307, 3) := dk_184 1 51 (dk_at dksJ1_fixAfterDeletion_12 0 rfl rfl)
theorem dJ1_fixAfterDeletion_289 : decode cJ1_fixAfterDeletion 289 = .ok (.aload_n 0, 1) := dk_42 (dk_at dksJ1_fixAfterDeletion_12 3 rfl rfl)
theorem dJ1_fixAfterDeletion_290 : decode cJ1_fixAfterDeletion 290 = .ok (.aload_n 2, 1) := dk_44 (dk_at dksJ1_fixAfterDeletion_12 4 rfl rfl)
theorem dJ1_fixAfterDeletion_291 : decode cJ1_fixAfterDeletion 291 = .ok (.invokevirtual 311, 3) := dk_182 1 55 (dk_at dksJ1_fixAfterDeletion_12 5 rfl rfl)
theorem dJ1_fixAfterDeletion_294 : decode cJ1_fixAfterDeletion 294 = .ok (.aload_n 1, 1) := dk_43 (dk_at dksJ1_fixAfterDeletion_12 8 rfl rfl)
theorem dJ1_fixAfterDeletion_295 : decode cJ1_fixAfterDeletion 295 = .ok (.invokestatic 294, 3) := dk_184 1 38 (dk_at dksJ1_fixAfterDeletion_12 9 rfl rfl)
theorem dJ1_fixAfterDeletion_298 : decode cJ1_fixAfterDeletion 298 = .ok (.invokestatic 297, 3) := dk_184 1 41 (dk_at dksJ1_fixAfterDeletion_12 12 rfl rfl)
theorem dJ1_fixAfterDeletion_301 : decode cJ1_fixAfterDeletion 301 = .ok (.astore_n 2, 1) := dk_77 (dk_at dksJ1_fixAfterDeletion_12 15 rfl rfl)
theorem dJ1_fixAfterDeletion_302 : decode cJ1_fixAfterDeletion 302 = .ok (.aload_n 2, 1) := dk_44 (dk_at dksJ1_fixAfterDeletion_12 16 rfl rfl)
theorem dJ1_fixAfterDeletion_303 : decode cJ1_fixAfterDeletion 303 = .ok (.aload_n 1, 1) := dk_43 (dk_at dksJ1_fixAfterDeletion_12 17 rfl rfl)
theorem dJ1_fixAfterDeletion_304 : decode cJ1_fixAfterDeletion 304 = .ok (.invokestatic 294, 3) := dk_184 1 38 (dk_at dksJ1_fixAfterDeletion_12 18 rfl rfl)
theorem dJ1_fixAfterDeletion_307 : decode cJ1_fixAfterDeletion 307 = .ok (.invokestatic 303, 3) := dk_184 1 47 (dk_at dksJ1_fixAfterDeletion_12 21 rfl rfl)
theorem dJ1_fixAfterDeletion_310 : decode cJ1_fixAfterDeletion 310 = .ok (.invokestatic 307, 3) := dk_184 1 51 (dk_at dksJ1_fixAfterDeletion_13 0 rfl rfl)
theorem dJ1_fixAfterDeletion_313 : decode cJ1_fixAfterDeletion 313 = .ok (.aload_n 1, 1) := dk_43 (dk_at dksJ1_fixAfterDeletion_13 3 rfl rfl)
theorem dJ1_fixAfterDeletion_314 : decode cJ1_fixAfterDeletion 314 = .ok (.invokestatic 294, 3) := dk_184 1 38 (dk_at dksJ1_fixAfterDeletion_13 4 rfl rfl)
theorem dJ1_fixAfterDeletion_317 : decode cJ1_fixAfterDeletion 317 = .ok (.iconst 1, 1) := dk_4 (dk_at dksJ1_fixAfterDeletion_13 7 rfl rfl)
theorem dJ1_fixAfterDeletion_318 : decode cJ1_fixAfterDeletion 318 = .ok (.invokestatic 307, 3) := dk_184 1 51 (dk_at dksJ1_fixAfterDeletion_13 8 rfl rfl)
theorem dJ1_fixAfterDeletion_321 : decode cJ1_fixAfterDeletion 321 = .ok (.aload_n 2, 1) := dk_44 (dk_at dksJ1_fixAfterDeletion_13 11 rfl rfl)
theorem dJ1_fixAfterDeletion_322 : decode cJ1_fixAfterDeletion 322 = .ok (.invokestatic 297, 3) := dk_184 1 41 (dk_at dksJ1_fixAfterDeletion_13 12 rfl rfl)
theorem dJ1_fixAfterDeletion_325 : decode cJ1_fixAfterDeletion 325 = .ok (.iconst 1, 1) := dk_4 (dk_at dksJ1_fixAfterDeletion_13 15 rfl rfl)
theorem dJ1_fixAfterDeletion_326 : decode cJ1_fixAfterDeletion 326 = .ok (.invokestatic 307, 3) := dk_184 1 51 (dk_at dksJ1_fixAfterDeletion_13 16 rfl rfl)
theorem dJ1_fixAfterDeletion_329 : decode cJ1_fixAfterDeletion 329 = .ok (.aload_n 0, 1) := dk_42 (dk_at dksJ1_fixAfterDeletion_13 19 rfl rfl)
theorem dJ1_fixAfterDeletion_330 : decode cJ1_fixAfterDeletion 330 = .ok (.aload_n 1, 1) := dk_43 (dk_at dksJ1_fixAfterDeletion_13 20 rfl rfl)
theorem dJ1_fixAfterDeletion_331 : decode cJ1_fixAfterDeletion 331 = .ok (.invokestatic 294, 3) := dk_184 1 38 (dk_at dksJ1_fixAfterDeletion_13 21 rfl rfl)
theorem dJ1_fixAfterDeletion_334 : decode cJ1_fixAfterDeletion 334 = .ok (.invokevirtual 314, 3) := dk_182 1 58 (dk_at dksJ1_fixAfterDeletion_14 0 rfl rfl)
theorem dJ1_fixAfterDeletion_337 : decode cJ1_fixAfterDeletion 337 = .ok (.aload_n 0, 1) := dk_42 (dk_at dksJ1_fixAfterDeletion_14 3 rfl rfl)
theorem dJ1_fixAfterDeletion_338 : decode cJ1_fixAfterDeletion 338 = .ok (.getfield 101, 3) := dk_180 0 101 (dk_at dksJ1_fixAfterDeletion_14 4 rfl rfl)
theorem dJ1_fixAfterDeletion_341 : decode cJ1_fixAfterDeletion 341 = .ok (.astore_n 1, 1) := dk_76 (dk_at dksJ1_fixAfterDeletion_14 7 rfl rfl)
theorem dJ1_fixAfterDeletion_342 : decode cJ1_fixAfterDeletion 342 = .ok (.goto (-342), 3) := dk_167 254 170 (dk_at dksJ1_fixAfterDeletion_14 8 rfl rfl)
theorem dJ1_fixAfterDeletion_345 : decode cJ1_fixAfterDeletion 345 = .ok (.aload_n 1, 1) := dk_43 (dk_at dksJ1_fixAfterDeletion_14 11 rfl rfl)
theorem dJ1_fixAfterDeletion_346 : decode cJ1_fixAfterDeletion 346 = .ok (.iconst 1, 1) := dk_4 (dk_at dksJ1_fixAfterDeletion_14 12 rfl rfl)
theorem dJ1_fixAfterDeletion_347 : decode cJ1_fixAfterDeletion 347 = .ok (.invokestatic 307, 3) := dk_184 1 51 (dk_at dksJ1_fixAfterDeletion_14 13 rfl rfl)
theorem dJ1_fixAfterDeletion_350 : decode cJ1_fixAfterDeletion 350 = .ok (.return_, 1) := dk_177 (dk_at dksJ1_fixAfterDeletion_14 16 rfl rfl)
abbrev cJ1_get : ByteArray := prog_70_method_8_code
def yJ1_get : MethodName := ⟨RJ1, "get", "(Ljava/lang/Object;)Ljava/lang/Object;"⟩
def dkwJ1_get_0 : List UInt8 := [42, 43, 182, 0, 50, 77, 44, 199, 0, 7, 1, 167, 0, 7, 44, 180, 0, 58, 176]
abbrev dktJ1_get_0 : List UInt8 := dkwJ1_get_0 ++ []
theorem dksJ1_get_0 : cJ1_get.data.toList.drop 0 = dktJ1_get_0 := by decide +kernel
theorem dJ1_get_0 : decode cJ1_get 0 = .ok (.aload_n 0, 1) := dk_42 (dk_at dksJ1_get_0 0 rfl rfl)
theorem dJ1_get_1 : decode cJ1_get 1 = .ok (.aload_n 1, 1) := dk_43 (dk_at dksJ1_get_0 1 rfl rfl)
theorem dJ1_get_2 : decode cJ1_get 2 = .ok (.invokevirtual 50, 3) := dk_182 0 50 (dk_at dksJ1_get_0 2 rfl rfl)
theorem dJ1_get_5 : decode cJ1_get 5 = .ok (.astore_n 2, 1) := dk_77 (dk_at dksJ1_get_0 5 rfl rfl)
theorem dJ1_get_6 : decode cJ1_get 6 = .ok (.aload_n 2, 1) := dk_44 (dk_at dksJ1_get_0 6 rfl rfl)
theorem dJ1_get_7 : decode cJ1_get 7 = .ok (.ifnonnull 7, 3) := dk_199 0 7 (dk_at dksJ1_get_0 7 rfl rfl)
theorem dJ1_get_10 : decode cJ1_get 10 = .ok (.aconst_null, 1) := dk_1 (dk_at dksJ1_get_0 10 rfl rfl)
theorem dJ1_get_11 : decode cJ1_get 11 = .ok (.goto 7, 3) := dk_167 0 7 (dk_at dksJ1_get_0 11 rfl rfl)
theorem dJ1_get_14 : decode cJ1_get 14 = .ok (.aload_n 2, 1) := dk_44 (dk_at dksJ1_get_0 14 rfl rfl)
theorem dJ1_get_15 : decode cJ1_get 15 = .ok (.getfield 58, 3) := dk_180 0 58 (dk_at dksJ1_get_0 15 rfl rfl)
theorem dJ1_get_18 : decode cJ1_get 18 = .ok (.areturn, 1) := dk_176 (dk_at dksJ1_get_0 18 rfl rfl)
abbrev cJ1_getEntry : ByteArray := prog_70_method_15_code
def yJ1_getEntry : MethodName := ⟨RJ1, "getEntry", "(Ljava/lang/Object;)Ljava/util/TreeMap$Entry;"⟩
def dkwJ1_getEntry_3 : List UInt8 := [45, 176, 167, 255, 212, 1, 176]
abbrev dktJ1_getEntry_3 : List UInt8 := dkwJ1_getEntry_3 ++ []
def dkwJ1_getEntry_2 : List UInt8 := [156, 0, 11, 45, 180, 0, 111, 78, 167, 0, 18, 21, 4, 158, 0, 11, 45, 180, 0, 114, 78, 167, 0, 5]
abbrev dktJ1_getEntry_2 : List UInt8 := dkwJ1_getEntry_2 ++ dktJ1_getEntry_3
def dkwJ1_getEntry_1 : List UInt8 := [180, 0, 101, 78, 45, 198, 0, 46, 44, 45, 180, 0, 105, 185, 0, 107, 2, 0, 54, 4, 21, 4]
abbrev dktJ1_getEntry_1 : List UInt8 := dkwJ1_getEntry_1 ++ dktJ1_getEntry_2
def dkwJ1_getEntry_0 : List UInt8 := [42, 180, 0, 16, 198, 0, 9, 42, 43, 182, 0, 92, 176, 43, 184, 0, 95, 87, 43, 192, 0, 99, 77, 42]
abbrev dktJ1_getEntry_0 : List UInt8 := dkwJ1_getEntry_0 ++ dktJ1_getEntry_1
theorem dksJ1_getEntry_0 : cJ1_getEntry.data.toList.drop 0 = dktJ1_getEntry_0 := by decide +kernel
theorem dksJ1_getEntry_1 : cJ1_getEntry.data.toList.drop 24 = dktJ1_getEntry_1 := dk_seg dksJ1_getEntry_0 24 rfl rfl
theorem dksJ1_getEntry_2 : cJ1_getEntry.data.toList.drop 46 = dktJ1_getEntry_2 := dk_seg dksJ1_getEntry_1 22 rfl rfl
theorem dksJ1_getEntry_3 : cJ1_getEntry.data.toList.drop 70 = dktJ1_getEntry_3 := dk_seg dksJ1_getEntry_2 24 rfl rfl
theorem dJ1_getEntry_0 : decode cJ1_getEntry 0 = .ok (.aload_n 0, 1) := dk_42 (dk_at dksJ1_getEntry_0 0 rfl rfl)
theorem dJ1_getEntry_1 : decode cJ1_getEntry 1 = .ok (.getfield 16, 3) := dk_180 0 16 (dk_at dksJ1_getEntry_0 1 rfl rfl)
theorem dJ1_getEntry_4 : decode cJ1_getEntry 4 = .ok (.ifnull 9, 3) := dk_198 0 9 (dk_at dksJ1_getEntry_0 4 rfl rfl)
theorem dJ1_getEntry_7 : decode cJ1_getEntry 7 = .ok (.aload_n 0, 1) := dk_42 (dk_at dksJ1_getEntry_0 7 rfl rfl)
theorem dJ1_getEntry_8 : decode cJ1_getEntry 8 = .ok (.aload_n 1, 1) := dk_43 (dk_at dksJ1_getEntry_0 8 rfl rfl)
theorem dJ1_getEntry_9 : decode cJ1_getEntry 9 = .ok (.invokevirtual 92, 3) := dk_182 0 92 (dk_at dksJ1_getEntry_0 9 rfl rfl)
theorem dJ1_getEntry_12 : decode cJ1_getEntry 12 = .ok (.areturn, 1) := dk_176 (dk_at dksJ1_getEntry_0 12 rfl rfl)
theorem dJ1_getEntry_13 : decode cJ1_getEntry 13 = .ok (.aload_n 1, 1) := dk_43 (dk_at dksJ1_getEntry_0 13 rfl rfl)
theorem dJ1_getEntry_14 : decode cJ1_getEntry 14 = .ok (.invokestatic 95, 3) := dk_184 0 95 (dk_at dksJ1_getEntry_0 14 rfl rfl)
theorem dJ1_getEntry_17 : decode cJ1_getEntry 17 = .ok (.pop, 1) := dk_87 (dk_at dksJ1_getEntry_0 17 rfl rfl)
theorem dJ1_getEntry_18 : decode cJ1_getEntry 18 = .ok (.aload_n 1, 1) := dk_43 (dk_at dksJ1_getEntry_0 18 rfl rfl)
theorem dJ1_getEntry_19 : decode cJ1_getEntry 19 = .ok (.checkcast 99, 3) := dk_192 0 99 (dk_at dksJ1_getEntry_0 19 rfl rfl)
theorem dJ1_getEntry_22 : decode cJ1_getEntry 22 = .ok (.astore_n 2, 1) := dk_77 (dk_at dksJ1_getEntry_0 22 rfl rfl)
theorem dJ1_getEntry_23 : decode cJ1_getEntry 23 = .ok (.aload_n 0, 1) := dk_42 (dk_at dksJ1_getEntry_0 23 rfl rfl)
theorem dJ1_getEntry_24 : decode cJ1_getEntry 24 = .ok (.getfield 101, 3) := dk_180 0 101 (dk_at dksJ1_getEntry_1 0 rfl rfl)
theorem dJ1_getEntry_27 : decode cJ1_getEntry 27 = .ok (.astore_n 3, 1) := dk_78 (dk_at dksJ1_getEntry_1 3 rfl rfl)
theorem dJ1_getEntry_28 : decode cJ1_getEntry 28 = .ok (.aload_n 3, 1) := dk_45 (dk_at dksJ1_getEntry_1 4 rfl rfl)
theorem dJ1_getEntry_29 : decode cJ1_getEntry 29 = .ok (.ifnull 46, 3) := dk_198 0 46 (dk_at dksJ1_getEntry_1 5 rfl rfl)
theorem dJ1_getEntry_32 : decode cJ1_getEntry 32 = .ok (.aload_n 2, 1) := dk_44 (dk_at dksJ1_getEntry_1 8 rfl rfl)
theorem dJ1_getEntry_33 : decode cJ1_getEntry 33 = .ok (.aload_n 3, 1) := dk_45 (dk_at dksJ1_getEntry_1 9 rfl rfl)
theorem dJ1_getEntry_34 : decode cJ1_getEntry 34 = .ok (.getfield 105, 3) := dk_180 0 105 (dk_at dksJ1_getEntry_1 10 rfl rfl)
theorem dJ1_getEntry_37 : decode cJ1_getEntry 37 = .ok (.invokeinterface 107 2, 5) := by decide +kernel
theorem dJ1_getEntry_42 : decode cJ1_getEntry 42 = .ok (.istore 4, 2) := dk_54 4 (dk_at dksJ1_getEntry_1 18 rfl rfl)
theorem dJ1_getEntry_44 : decode cJ1_getEntry 44 = .ok (.iload 4, 2) := dk_21 4 (dk_at dksJ1_getEntry_1 20 rfl rfl)
theorem dJ1_getEntry_46 : decode cJ1_getEntry 46 = .ok (.ifCond .ge 11, 3) := dk_156 0 11 (dk_at dksJ1_getEntry_2 0 rfl rfl)
theorem dJ1_getEntry_49 : decode cJ1_getEntry 49 = .ok (.aload_n 3, 1) := dk_45 (dk_at dksJ1_getEntry_2 3 rfl rfl)
theorem dJ1_getEntry_50 : decode cJ1_getEntry 50 = .ok (.getfield 111, 3) := dk_180 0 111 (dk_at dksJ1_getEntry_2 4 rfl rfl)
theorem dJ1_getEntry_53 : decode cJ1_getEntry 53 = .ok (.astore_n 3, 1) := dk_78 (dk_at dksJ1_getEntry_2 7 rfl rfl)
theorem dJ1_getEntry_54 : decode cJ1_getEntry 54 = .ok (.goto 18, 3) := dk_167 0 18 (dk_at dksJ1_getEntry_2 8 rfl rfl)
theorem dJ1_getEntry_57 : decode cJ1_getEntry 57 = .ok (.iload 4, 2) := dk_21 4 (dk_at dksJ1_getEntry_2 11 rfl rfl)
theorem dJ1_getEntry_59 : decode cJ1_getEntry 59 = .ok (.ifCond .le 11, 3) := dk_158 0 11 (dk_at dksJ1_getEntry_2 13 rfl rfl)
theorem dJ1_getEntry_62 : decode cJ1_getEntry 62 = .ok (.aload_n 3, 1) := dk_45 (dk_at dksJ1_getEntry_2 16 rfl rfl)
theorem dJ1_getEntry_63 : decode cJ1_getEntry 63 = .ok (.getfield 114, 3) := dk_180 0 114 (dk_at dksJ1_getEntry_2 17 rfl rfl)
theorem dJ1_getEntry_66 : decode cJ1_getEntry 66 = .ok (.astore_n 3, 1) := dk_78 (dk_at dksJ1_getEntry_2 20 rfl rfl)
theorem dJ1_getEntry_67 : decode cJ1_getEntry 67 = .ok (.goto 5, 3) := dk_167 0 5 (dk_at dksJ1_getEntry_2 21 rfl rfl)
theorem dJ1_getEntry_70 : decode cJ1_getEntry 70 = .ok (.aload_n 3, 1) := dk_45 (dk_at dksJ1_getEntry_3 0 rfl rfl)
theorem dJ1_getEntry_71 : decode cJ1_getEntry 71 = .ok (.areturn, 1) := dk_176 (dk_at dksJ1_getEntry_3 1 rfl rfl)
theorem dJ1_getEntry_72 : decode cJ1_getEntry 72 = .ok (.goto (-44), 3) := dk_167 255 212 (dk_at dksJ1_getEntry_3 2 rfl rfl)
theorem dJ1_getEntry_75 : decode cJ1_getEntry 75 = .ok (.aconst_null, 1) := dk_1 (dk_at dksJ1_getEntry_3 5 rfl rfl)
theorem dJ1_getEntry_76 : decode cJ1_getEntry 76 = .ok (.areturn, 1) := dk_176 (dk_at dksJ1_getEntry_3 6 rfl rfl)
abbrev cJ1_getEntryUsingComparator : ByteArray := prog_70_method_16_code
def yJ1_getEntryUsingComparator : MethodName := ⟨RJ1, "getEntryUsingComparator", "(Ljava/lang/Object;)Ljava/util/TreeMap$Entry;"⟩
def dkwJ1_getEntryUsingComparator_3 : List UInt8 := [1, 176]
abbrev dktJ1_getEntryUsingComparator_3 : List UInt8 := dkwJ1_getEntryUsingComparator_3 ++ []
def dkwJ1_getEntryUsingComparator_2 : List UInt8 := [167, 0, 21, 21, 5, 158, 0, 13, 25, 4, 180, 0, 114, 58, 4, 167, 0, 6, 25, 4, 176, 167, 255, 204]
abbrev dktJ1_getEntryUsingComparator_2 : List UInt8 := dkwJ1_getEntryUsingComparator_2 ++ dktJ1_getEntryUsingComparator_3
def dkwJ1_getEntryUsingComparator_1 : List UInt8 := [25, 4, 180, 0, 105, 185, 0, 117, 3, 0, 54, 5, 21, 5, 156, 0, 13, 25, 4, 180, 0, 111, 58, 4]
abbrev dktJ1_getEntryUsingComparator_1 : List UInt8 := dkwJ1_getEntryUsingComparator_1 ++ dktJ1_getEntryUsingComparator_2
def dkwJ1_getEntryUsingComparator_0 : List UInt8 := [43, 77, 42, 180, 0, 16, 78, 45, 198, 0, 64, 42, 180, 0, 101, 58, 4, 25, 4, 198, 0, 53, 45, 44]
abbrev dktJ1_getEntryUsingComparator_0 : List UInt8 := dkwJ1_getEntryUsingComparator_0 ++ dktJ1_getEntryUsingComparator_1
theorem dksJ1_getEntryUsingComparator_0 : cJ1_getEntryUsingComparator.data.toList.drop 0 = dktJ1_getEntryUsingComparator_0 := by decide +kernel
theorem dksJ1_getEntryUsingComparator_1 : cJ1_getEntryUsingComparator.data.toList.drop 24 = dktJ1_getEntryUsingComparator_1 := dk_seg dksJ1_getEntryUsingComparator_0 24 rfl rfl
theorem dksJ1_getEntryUsingComparator_2 : cJ1_getEntryUsingComparator.data.toList.drop 48 = dktJ1_getEntryUsingComparator_2 := dk_seg dksJ1_getEntryUsingComparator_1 24 rfl rfl
theorem dksJ1_getEntryUsingComparator_3 : cJ1_getEntryUsingComparator.data.toList.drop 72 = dktJ1_getEntryUsingComparator_3 := dk_seg dksJ1_getEntryUsingComparator_2 24 rfl rfl
theorem dJ1_getEntryUsingComparator_0 : decode cJ1_getEntryUsingComparator 0 = .ok (.aload_n 1, 1) := dk_43 (dk_at dksJ1_getEntryUsingComparator_0 0 rfl rfl)
theorem dJ1_getEntryUsingComparator_1 : decode cJ1_getEntryUsingComparator 1 = .ok (.astore_n 2, 1) := dk_77 (dk_at dksJ1_getEntryUsingComparator_0 1 rfl rfl)
theorem dJ1_getEntryUsingComparator_2 : decode cJ1_getEntryUsingComparator 2 = .ok (.aload_n 0, 1) := dk_42 (dk_at dksJ1_getEntryUsingComparator_0 2 rfl rfl)
theorem dJ1_getEntryUsingComparator_3 : decode cJ1_getEntryUsingComparator 3 = .ok (.getfield 16, 3) := dk_180 0 16 (dk_at dksJ1_getEntryUsingComparator_0 3 rfl rfl)
theorem dJ1_getEntryUsingComparator_6 : decode cJ1_getEntryUsingComparator 6 = .ok (.astore_n 3, 1) := dk_78 (dk_at dksJ1_getEntryUsingComparator_0 6 rfl rfl)
theorem dJ1_getEntryUsingComparator_7 : decode cJ1_getEntryUsingComparator 7 = .ok (.aload_n 3, 1) := dk_45 (dk_at dksJ1_getEntryUsingComparator_0 7 rfl rfl)
theorem dJ1_getEntryUsingComparator_8 : decode cJ1_getEntryUsingComparator 8 = .ok (.ifnull 64, 3) := dk_198 0 64 (dk_at dksJ1_getEntryUsingComparator_0 8 rfl rfl)
theorem dJ1_getEntryUsingComparator_11 : decode cJ1_getEntryUsingComparator 11 = .ok (.aload_n 0, 1) := dk_42 (dk_at dksJ1_getEntryUsingComparator_0 11 rfl rfl)
theorem dJ1_getEntryUsingComparator_12 : decode cJ1_getEntryUsingComparator 12 = .ok (.getfield 101, 3) := dk_180 0 101 (dk_at dksJ1_getEntryUsingComparator_0 12 rfl rfl)
theorem dJ1_getEntryUsingComparator_15 : decode cJ1_getEntryUsingComparator 15 = .ok (.astore 4, 2) := dk_58 4 (dk_at dksJ1_getEntryUsingComparator_0 15 rfl rfl)
theorem dJ1_getEntryUsingComparator_17 : decode cJ1_getEntryUsingComparator 17 = .ok (.aload 4, 2) := dk_25 4 (dk_at dksJ1_getEntryUsingComparator_0 17 rfl rfl)
theorem dJ1_getEntryUsingComparator_19 : decode cJ1_getEntryUsingComparator 19 = .ok (.ifnull 53, 3) := dk_198 0 53 (dk_at dksJ1_getEntryUsingComparator_0 19 rfl rfl)
theorem dJ1_getEntryUsingComparator_22 : decode cJ1_getEntryUsingComparator 22 = .ok (.aload_n 3, 1) := dk_45 (dk_at dksJ1_getEntryUsingComparator_0 22 rfl rfl)
theorem dJ1_getEntryUsingComparator_23 : decode cJ1_getEntryUsingComparator 23 = .ok (.aload_n 2, 1) := dk_44 (dk_at dksJ1_getEntryUsingComparator_0 23 rfl rfl)
theorem dJ1_getEntryUsingComparator_24 : decode cJ1_getEntryUsingComparator 24 = .ok (.aload 4, 2) := dk_25 4 (dk_at dksJ1_getEntryUsingComparator_1 0 rfl rfl)
theorem dJ1_getEntryUsingComparator_26 : decode cJ1_getEntryUsingComparator 26 = .ok (.getfield 105, 3) := dk_180 0 105 (dk_at dksJ1_getEntryUsingComparator_1 2 rfl rfl)
theorem dJ1_getEntryUsingComparator_29 : decode cJ1_getEntryUsingComparator 29 = .ok (.invokeinterface 117 3, 5) := by decide +kernel
theorem dJ1_getEntryUsingComparator_34 : decode cJ1_getEntryUsingComparator 34 = .ok (.istore 5, 2) := dk_54 5 (dk_at dksJ1_getEntryUsingComparator_1 10 rfl rfl)
theorem dJ1_getEntryUsingComparator_36 : decode cJ1_getEntryUsingComparator 36 = .ok (.iload 5, 2) := dk_21 5 (dk_at dksJ1_getEntryUsingComparator_1 12 rfl rfl)
theorem dJ1_getEntryUsingComparator_38 : decode cJ1_getEntryUsingComparator 38 = .ok (.ifCond .ge 13, 3) := dk_156 0 13 (dk_at dksJ1_getEntryUsingComparator_1 14 rfl rfl)
theorem dJ1_getEntryUsingComparator_41 : decode cJ1_getEntryUsingComparator 41 = .ok (.aload 4, 2) := dk_25 4 (dk_at dksJ1_getEntryUsingComparator_1 17 rfl rfl)
theorem dJ1_getEntryUsingComparator_43 : decode cJ1_getEntryUsingComparator 43 = .ok (.getfield 111, 3) := dk_180 0 111 (dk_at dksJ1_getEntryUsingComparator_1 19 rfl rfl)
theorem dJ1_getEntryUsingComparator_46 : decode cJ1_getEntryUsingComparator 46 = .ok (.astore 4, 2) := dk_58 4 (dk_at dksJ1_getEntryUsingComparator_1 22 rfl rfl)
theorem dJ1_getEntryUsingComparator_48 : decode cJ1_getEntryUsingComparator 48 = .ok (.goto 21, 3) := dk_167 0 21 (dk_at dksJ1_getEntryUsingComparator_2 0 rfl rfl)
theorem dJ1_getEntryUsingComparator_51 : decode cJ1_getEntryUsingComparator 51 = .ok (.iload 5, 2) := dk_21 5 (dk_at dksJ1_getEntryUsingComparator_2 3 rfl rfl)
theorem dJ1_getEntryUsingComparator_53 : decode cJ1_getEntryUsingComparator 53 = .ok (.ifCond .le 13, 3) := dk_158 0 13 (dk_at dksJ1_getEntryUsingComparator_2 5 rfl rfl)
theorem dJ1_getEntryUsingComparator_56 : decode cJ1_getEntryUsingComparator 56 = .ok (.aload 4, 2) := dk_25 4 (dk_at dksJ1_getEntryUsingComparator_2 8 rfl rfl)
theorem dJ1_getEntryUsingComparator_58 : decode cJ1_getEntryUsingComparator 58 = .ok (.getfield 114, 3) := dk_180 0 114 (dk_at dksJ1_getEntryUsingComparator_2 10 rfl rfl)
theorem dJ1_getEntryUsingComparator_61 : decode cJ1_getEntryUsingComparator 61 = .ok (.astore 4, 2) := dk_58 4 (dk_at dksJ1_getEntryUsingComparator_2 13 rfl rfl)
theorem dJ1_getEntryUsingComparator_63 : decode cJ1_getEntryUsingComparator 63 = .ok (.goto 6, 3) := dk_167 0 6 (dk_at dksJ1_getEntryUsingComparator_2 15 rfl rfl)
theorem dJ1_getEntryUsingComparator_66 : decode cJ1_getEntryUsingComparator 66 = .ok (.aload 4, 2) := dk_25 4 (dk_at dksJ1_getEntryUsingComparator_2 18 rfl rfl)
theorem dJ1_getEntryUsingComparator_68 : decode cJ1_getEntryUsingComparator 68 = .ok (.areturn, 1) := dk_176 (dk_at dksJ1_getEntryUsingComparator_2 20 rfl rfl)
theorem dJ1_getEntryUsingComparator_69 : decode cJ1_getEntryUsingComparator 69 = .ok (.goto (-52), 3) := dk_167 255 204 (dk_at dksJ1_getEntryUsingComparator_2 21 rfl rfl)
theorem dJ1_getEntryUsingComparator_72 : decode cJ1_getEntryUsingComparator 72 = .ok (.aconst_null, 1) := dk_1 (dk_at dksJ1_getEntryUsingComparator_3 0 rfl rfl)
theorem dJ1_getEntryUsingComparator_73 : decode cJ1_getEntryUsingComparator 73 = .ok (.areturn, 1) := dk_176 (dk_at dksJ1_getEntryUsingComparator_3 1 rfl rfl)
abbrev cJ1_values : ByteArray := prog_70_method_52_code
def yJ1_values : MethodName := ⟨RJ1, "values", "()Ljava/util/Collection;"⟩
def dkwJ1_values_1 : List UInt8 := [176]
abbrev dktJ1_values_1 : List UInt8 := dkwJ1_values_1 ++ []
def dkwJ1_values_0 : List UInt8 := [42, 180, 0, 233, 76, 43, 199, 0, 17, 187, 0, 237, 89, 42, 183, 0, 239, 76, 42, 43, 181, 0, 233, 43]
abbrev dktJ1_values_0 : List UInt8 := dkwJ1_values_0 ++ dktJ1_values_1
theorem dksJ1_values_0 : cJ1_values.data.toList.drop 0 = dktJ1_values_0 := by decide +kernel
theorem dksJ1_values_1 : cJ1_values.data.toList.drop 24 = dktJ1_values_1 := dk_seg dksJ1_values_0 24 rfl rfl
theorem dJ1_values_0 : decode cJ1_values 0 = .ok (.aload_n 0, 1) := dk_42 (dk_at dksJ1_values_0 0 rfl rfl)
theorem dJ1_values_1 : decode cJ1_values 1 = .ok (.getfield 233, 3) := dk_180 0 233 (dk_at dksJ1_values_0 1 rfl rfl)
theorem dJ1_values_4 : decode cJ1_values 4 = .ok (.astore_n 1, 1) := dk_76 (dk_at dksJ1_values_0 4 rfl rfl)
theorem dJ1_values_5 : decode cJ1_values 5 = .ok (.aload_n 1, 1) := dk_43 (dk_at dksJ1_values_0 5 rfl rfl)
theorem dJ1_values_6 : decode cJ1_values 6 = .ok (.ifnonnull 17, 3) := dk_199 0 17 (dk_at dksJ1_values_0 6 rfl rfl)
theorem dJ1_values_9 : decode cJ1_values 9 = .ok (.new 237, 3) := dk_187 0 237 (dk_at dksJ1_values_0 9 rfl rfl)
theorem dJ1_values_12 : decode cJ1_values 12 = .ok (.dup, 1) := dk_89 (dk_at dksJ1_values_0 12 rfl rfl)
theorem dJ1_values_13 : decode cJ1_values 13 = .ok (.aload_n 0, 1) := dk_42 (dk_at dksJ1_values_0 13 rfl rfl)
theorem dJ1_values_14 : decode cJ1_values 14 = .ok (.invokespecial 239, 3) := dk_183 0 239 (dk_at dksJ1_values_0 14 rfl rfl)
theorem dJ1_values_17 : decode cJ1_values 17 = .ok (.astore_n 1, 1) := dk_76 (dk_at dksJ1_values_0 17 rfl rfl)
theorem dJ1_values_18 : decode cJ1_values 18 = .ok (.aload_n 0, 1) := dk_42 (dk_at dksJ1_values_0 18 rfl rfl)
theorem dJ1_values_19 : decode cJ1_values 19 = .ok (.aload_n 1, 1) := dk_43 (dk_at dksJ1_values_0 19 rfl rfl)
theorem dJ1_values_20 : decode cJ1_values 20 = .ok (.putfield 233, 3) := dk_181 0 233 (dk_at dksJ1_values_0 20 rfl rfl)
theorem dJ1_values_23 : decode cJ1_values 23 = .ok (.aload_n 1, 1) := dk_43 (dk_at dksJ1_values_0 23 rfl rfl)
theorem dJ1_values_24 : decode cJ1_values 24 = .ok (.areturn, 1) := dk_176 (dk_at dksJ1_values_1 0 rfl rfl)
abbrev cJ1_keyIterator : ByteArray := prog_70_method_65_code
def yJ1_keyIterator : MethodName := ⟨RJ1, "keyIterator", "()Ljava/util/Iterator;"⟩
def dkwJ1_keyIterator_0 : List UInt8 := [187, 1, 13, 89, 42, 42, 182, 0, 54, 183, 1, 15, 176]
abbrev dktJ1_keyIterator_0 : List UInt8 := dkwJ1_keyIterator_0 ++ []
theorem dksJ1_keyIterator_0 : cJ1_keyIterator.data.toList.drop 0 = dktJ1_keyIterator_0 := by decide +kernel
theorem dJ1_keyIterator_0 : decode cJ1_keyIterator 0 = .ok (.new 269, 3) := dk_187 1 13 (dk_at dksJ1_keyIterator_0 0 rfl rfl)
theorem dJ1_keyIterator_3 : decode cJ1_keyIterator 3 = .ok (.dup, 1) := dk_89 (dk_at dksJ1_keyIterator_0 3 rfl rfl)
theorem dJ1_keyIterator_4 : decode cJ1_keyIterator 4 = .ok (.aload_n 0, 1) := dk_42 (dk_at dksJ1_keyIterator_0 4 rfl rfl)
theorem dJ1_keyIterator_5 : decode cJ1_keyIterator 5 = .ok (.aload_n 0, 1) := dk_42 (dk_at dksJ1_keyIterator_0 5 rfl rfl)
theorem dJ1_keyIterator_6 : decode cJ1_keyIterator 6 = .ok (.invokevirtual 54, 3) := dk_182 0 54 (dk_at dksJ1_keyIterator_0 6 rfl rfl)
theorem dJ1_keyIterator_9 : decode cJ1_keyIterator 9 = .ok (.invokespecial 271, 3) := dk_183 1 15 (dk_at dksJ1_keyIterator_0 9 rfl rfl)
theorem dJ1_keyIterator_12 : decode cJ1_keyIterator 12 = .ok (.areturn, 1) := dk_176 (dk_at dksJ1_keyIterator_0 12 rfl rfl)
abbrev cJ1_navigableKeySet : ByteArray := prog_70_method_50_code
def yJ1_navigableKeySet : MethodName := ⟨RJ1, "navigableKeySet", "()Ljava/util/NavigableSet;"⟩
def dkwJ1_navigableKeySet_1 : List UInt8 := [181, 0, 191, 176]
abbrev dktJ1_navigableKeySet_1 : List UInt8 := dkwJ1_navigableKeySet_1 ++ []
def dkwJ1_navigableKeySet_0 : List UInt8 := [42, 180, 0, 191, 76, 43, 198, 0, 7, 43, 167, 0, 16, 42, 187, 0, 222, 89, 42, 183, 0, 224, 90]
abbrev dktJ1_navigableKeySet_0 : List UInt8 := dkwJ1_navigableKeySet_0 ++ dktJ1_navigableKeySet_1
theorem dksJ1_navigableKeySet_0 : cJ1_navigableKeySet.data.toList.drop 0 = dktJ1_navigableKeySet_0 := by decide +kernel
theorem dksJ1_navigableKeySet_1 : cJ1_navigableKeySet.data.toList.drop 23 = dktJ1_navigableKeySet_1 := dk_seg dksJ1_navigableKeySet_0 23 rfl rfl
theorem dJ1_navigableKeySet_0 : decode cJ1_navigableKeySet 0 = .ok (.aload_n 0, 1) := dk_42 (dk_at dksJ1_navigableKeySet_0 0 rfl rfl)
theorem dJ1_navigableKeySet_1 : decode cJ1_navigableKeySet 1 = .ok (.getfield 191, 3) := dk_180 0 191 (dk_at dksJ1_navigableKeySet_0 1 rfl rfl)
theorem dJ1_navigableKeySet_4 : decode cJ1_navigableKeySet 4 = .ok (.astore_n 1, 1) := dk_76 (dk_at dksJ1_navigableKeySet_0 4 rfl rfl)
theorem dJ1_navigableKeySet_5 : decode cJ1_navigableKeySet 5 = .ok (.aload_n 1, 1) := dk_43 (dk_at dksJ1_navigableKeySet_0 5 rfl rfl)
theorem dJ1_navigableKeySet_6 : decode cJ1_navigableKeySet 6 = .ok (.ifnull 7, 3) := dk_198 0 7 (dk_at dksJ1_navigableKeySet_0 6 rfl rfl)
theorem dJ1_navigableKeySet_9 : decode cJ1_navigableKeySet 9 = .ok (.aload_n 1, 1) := dk_43 (dk_at dksJ1_navigableKeySet_0 9 rfl rfl)
theorem dJ1_navigableKeySet_10 : decode cJ1_navigableKeySet 10 = .ok (.goto 16, 3) := dk_167 0 16 (dk_at dksJ1_navigableKeySet_0 10 rfl rfl)
theorem dJ1_navigableKeySet_13 : decode cJ1_navigableKeySet 13 = .ok (.aload_n 0, 1) := dk_42 (dk_at dksJ1_navigableKeySet_0 13 rfl rfl)
theorem dJ1_navigableKeySet_14 : decode cJ1_navigableKeySet 14 = .ok (.new 222, 3) := dk_187 0 222 (dk_at dksJ1_navigableKeySet_0 14 rfl rfl)
theorem dJ1_navigableKeySet_17 : decode cJ1_navigableKeySet 17 = .ok (.dup, 1) := dk_89 (dk_at dksJ1_navigableKeySet_0 17 rfl rfl)
theorem dJ1_navigableKeySet_18 : decode cJ1_navigableKeySet 18 = .ok (.aload_n 0, 1) := dk_42 (dk_at dksJ1_navigableKeySet_0 18 rfl rfl)
theorem dJ1_navigableKeySet_19 : decode cJ1_navigableKeySet 19 = .ok (.invokespecial 224, 3) := dk_183 0 224 (dk_at dksJ1_navigableKeySet_0 19 rfl rfl)
theorem dJ1_navigableKeySet_22 : decode cJ1_navigableKeySet 22 = .ok (.dup_x1, 1) := dk_90 (dk_at dksJ1_navigableKeySet_0 22 rfl rfl)
theorem dJ1_navigableKeySet_23 : decode cJ1_navigableKeySet 23 = .ok (.putfield 191, 3) := dk_181 0 191 (dk_at dksJ1_navigableKeySet_1 0 rfl rfl)
theorem dJ1_navigableKeySet_26 : decode cJ1_navigableKeySet 26 = .ok (.areturn, 1) := dk_176 (dk_at dksJ1_navigableKeySet_1 3 rfl rfl)
abbrev cJ1_lastKey : ByteArray := prog_70_method_11_code
def yJ1_lastKey : MethodName := ⟨RJ1, "lastKey", "()Ljava/lang/Object;"⟩
def dkwJ1_lastKey_0 : List UInt8 := [42, 182, 0, 76, 184, 0, 72, 176]
abbrev dktJ1_lastKey_0 : List UInt8 := dkwJ1_lastKey_0 ++ []
theorem dksJ1_lastKey_0 : cJ1_lastKey.data.toList.drop 0 = dktJ1_lastKey_0 := by decide +kernel
theorem dJ1_lastKey_0 : decode cJ1_lastKey 0 = .ok (.aload_n 0, 1) := dk_42 (dk_at dksJ1_lastKey_0 0 rfl rfl)
theorem dJ1_lastKey_1 : decode cJ1_lastKey 1 = .ok (.invokevirtual 76, 3) := dk_182 0 76 (dk_at dksJ1_lastKey_0 1 rfl rfl)
theorem dJ1_lastKey_4 : decode cJ1_lastKey 4 = .ok (.invokestatic 72, 3) := dk_184 0 72 (dk_at dksJ1_lastKey_0 4 rfl rfl)
theorem dJ1_lastKey_7 : decode cJ1_lastKey 7 = .ok (.areturn, 1) := dk_176 (dk_at dksJ1_lastKey_0 7 rfl rfl)
abbrev cJ1_getLastEntry : ByteArray := prog_70_method_73_code
def yJ1_getLastEntry : MethodName := ⟨RJ1, "getLastEntry", "()Ljava/util/TreeMap$Entry;"⟩
def dkwJ1_getLastEntry_1 : List UInt8 := [43, 176]
abbrev dktJ1_getLastEntry_1 : List UInt8 := dkwJ1_getLastEntry_1 ++ []
def dkwJ1_getLastEntry_0 : List UInt8 := [42, 180, 0, 101, 76, 43, 198, 0, 18, 43, 180, 0, 114, 198, 0, 11, 43, 180, 0, 114, 76, 167, 255, 244]
abbrev dktJ1_getLastEntry_0 : List UInt8 := dkwJ1_getLastEntry_0 ++ dktJ1_getLastEntry_1
theorem dksJ1_getLastEntry_0 : cJ1_getLastEntry.data.toList.drop 0 = dktJ1_getLastEntry_0 := by decide +kernel
theorem dksJ1_getLastEntry_1 : cJ1_getLastEntry.data.toList.drop 24 = dktJ1_getLastEntry_1 := dk_seg dksJ1_getLastEntry_0 24 rfl rfl
theorem dJ1_getLastEntry_0 : decode cJ1_getLastEntry 0 = .ok (.aload_n 0, 1) := dk_42 (dk_at dksJ1_getLastEntry_0 0 rfl rfl)
theorem dJ1_getLastEntry_1 : decode cJ1_getLastEntry 1 = .ok (.getfield 101, 3) := dk_180 0 101 (dk_at dksJ1_getLastEntry_0 1 rfl rfl)
theorem dJ1_getLastEntry_4 : decode cJ1_getLastEntry 4 = .ok (.astore_n 1, 1) := dk_76 (dk_at dksJ1_getLastEntry_0 4 rfl rfl)
theorem dJ1_getLastEntry_5 : decode cJ1_getLastEntry 5 = .ok (.aload_n 1, 1) := dk_43 (dk_at dksJ1_getLastEntry_0 5 rfl rfl)
theorem dJ1_getLastEntry_6 : decode cJ1_getLastEntry 6 = .ok (.ifnull 18, 3) := dk_198 0 18 (dk_at dksJ1_getLastEntry_0 6 rfl rfl)
theorem dJ1_getLastEntry_9 : decode cJ1_getLastEntry 9 = .ok (.aload_n 1, 1) := dk_43 (dk_at dksJ1_getLastEntry_0 9 rfl rfl)
theorem dJ1_getLastEntry_10 : decode cJ1_getLastEntry 10 = .ok (.getfield 114, 3) := dk_180 0 114 (dk_at dksJ1_getLastEntry_0 10 rfl rfl)
theorem dJ1_getLastEntry_13 : decode cJ1_getLastEntry 13 = .ok (.ifnull 11, 3) := dk_198 0 11 (dk_at dksJ1_getLastEntry_0 13 rfl rfl)
theorem dJ1_getLastEntry_16 : decode cJ1_getLastEntry 16 = .ok (.aload_n 1, 1) := dk_43 (dk_at dksJ1_getLastEntry_0 16 rfl rfl)
theorem dJ1_getLastEntry_17 : decode cJ1_getLastEntry 17 = .ok (.getfield 114, 3) := dk_180 0 114 (dk_at dksJ1_getLastEntry_0 17 rfl rfl)
theorem dJ1_getLastEntry_20 : decode cJ1_getLastEntry 20 = .ok (.astore_n 1, 1) := dk_76 (dk_at dksJ1_getLastEntry_0 20 rfl rfl)
theorem dJ1_getLastEntry_21 : decode cJ1_getLastEntry 21 = .ok (.goto (-12), 3) := dk_167 255 244 (dk_at dksJ1_getLastEntry_0 21 rfl rfl)
theorem dJ1_getLastEntry_24 : decode cJ1_getLastEntry 24 = .ok (.aload_n 1, 1) := dk_43 (dk_at dksJ1_getLastEntry_1 0 rfl rfl)
theorem dJ1_getLastEntry_25 : decode cJ1_getLastEntry 25 = .ok (.areturn, 1) := dk_176 (dk_at dksJ1_getLastEntry_1 1 rfl rfl)
abbrev cJ1_key : ByteArray := prog_70_method_71_code
def yJ1_key : MethodName := ⟨RJ1, "key", "(Ljava/util/TreeMap$Entry;)Ljava/lang/Object;"⟩
def dkwJ1_key_0 : List UInt8 := [42, 199, 0, 11, 187, 1, 31, 89, 183, 1, 33, 191, 42, 180, 0, 105, 176]
abbrev dktJ1_key_0 : List UInt8 := dkwJ1_key_0 ++ []
theorem dksJ1_key_0 : cJ1_key.data.toList.drop 0 = dktJ1_key_0 := by decide +kernel
theorem dJ1_key_0 : decode cJ1_key 0 = .ok (.aload_n 0, 1) := dk_42 (dk_at dksJ1_key_0 0 rfl rfl)
theorem dJ1_key_1 : decode cJ1_key 1 = .ok (.ifnonnull 11, 3) := dk_199 0 11 (dk_at dksJ1_key_0 1 rfl rfl)
theorem dJ1_key_4 : decode cJ1_key 4 = .ok (.new 287, 3) := dk_187 1 31 (dk_at dksJ1_key_0 4 rfl rfl)
theorem dJ1_key_7 : decode cJ1_key 7 = .ok (.dup, 1) := dk_89 (dk_at dksJ1_key_0 7 rfl rfl)
theorem dJ1_key_8 : decode cJ1_key 8 = .ok (.invokespecial 289, 3) := dk_183 1 33 (dk_at dksJ1_key_0 8 rfl rfl)
theorem dJ1_key_11 : decode cJ1_key 11 = .ok (.athrow, 1) := dk_191 (dk_at dksJ1_key_0 11 rfl rfl)
theorem dJ1_key_12 : decode cJ1_key 12 = .ok (.aload_n 0, 1) := dk_42 (dk_at dksJ1_key_0 12 rfl rfl)
theorem dJ1_key_13 : decode cJ1_key 13 = .ok (.getfield 105, 3) := dk_180 0 105 (dk_at dksJ1_key_0 13 rfl rfl)
theorem dJ1_key_16 : decode cJ1_key 16 = .ok (.areturn, 1) := dk_176 (dk_at dksJ1_key_0 16 rfl rfl)
abbrev cJ1_getFloorEntry : ByteArray := prog_70_method_18_code
def yJ1_getFloorEntry : MethodName := ⟨RJ1, "getFloorEntry", "(Ljava/lang/Object;)Ljava/util/TreeMap$Entry;"⟩
def dkwJ1_getFloorEntry_4 : List UInt8 := [167, 255, 230, 25, 4, 176, 44, 176, 167, 255, 159, 1, 176]
abbrev dktJ1_getFloorEntry_4 : List UInt8 := dkwJ1_getFloorEntry_4 ++ []
def dkwJ1_getFloorEntry_3 : List UInt8 := [198, 0, 27, 25, 5, 25, 4, 180, 0, 111, 166, 0, 17, 25, 4, 58, 5, 25, 4, 180, 0, 124, 58, 4]
abbrev dktJ1_getFloorEntry_3 : List UInt8 := dkwJ1_getFloorEntry_3 ++ dktJ1_getFloorEntry_4
def dkwJ1_getFloorEntry_2 : List UInt8 := [198, 0, 11, 44, 180, 0, 111, 77, 167, 0, 46, 44, 180, 0, 124, 58, 4, 44, 58, 5, 25, 4]
abbrev dktJ1_getFloorEntry_2 : List UInt8 := dkwJ1_getFloorEntry_2 ++ dktJ1_getFloorEntry_3
def dkwJ1_getFloorEntry_1 : List UInt8 := [180, 0, 114, 198, 0, 11, 44, 180, 0, 114, 77, 167, 0, 67, 44, 176, 29, 156, 0, 59, 44, 180, 0, 111]
abbrev dktJ1_getFloorEntry_1 : List UInt8 := dkwJ1_getFloorEntry_1 ++ dktJ1_getFloorEntry_2
def dkwJ1_getFloorEntry_0 : List UInt8 := [42, 180, 0, 101, 77, 44, 198, 0, 99, 42, 43, 44, 180, 0, 105, 182, 0, 123, 62, 29, 158, 0, 20, 44]
abbrev dktJ1_getFloorEntry_0 : List UInt8 := dkwJ1_getFloorEntry_0 ++ dktJ1_getFloorEntry_1
theorem dksJ1_getFloorEntry_0 : cJ1_getFloorEntry.data.toList.drop 0 = dktJ1_getFloorEntry_0 := by decide +kernel
theorem dksJ1_getFloorEntry_1 : cJ1_getFloorEntry.data.toList.drop 24 = dktJ1_getFloorEntry_1 := dk_seg dksJ1_getFloorEntry_0 24 rfl rfl
theorem dksJ1_getFloorEntry_2 : cJ1_getFloorEntry.data.toList.drop 48 = dktJ1_getFloorEntry_2 := dk_seg dksJ1_getFloorEntry_1 24 rfl rfl
theorem dksJ1_getFloorEntry_3 : cJ1_getFloorEntry.data.toList.drop 70 = dktJ1_getFloorEntry_3 := dk_seg dksJ1_getFloorEntry_2 22 rfl rfl
theorem dksJ1_getFloorEntry_4 : cJ1_getFloorEntry.data.toList.drop 94 = dktJ1_getFloorEntry_4 := dk_seg dksJ1_getFloorEntry_3 24 rfl rfl
theorem dJ1_getFloorEntry_0 : decode cJ1_getFloorEntry 0 = .ok (.aload_n 0, 1) := dk_42 (dk_at dksJ1_getFloorEntry_0 0 rfl rfl)
theorem dJ1_getFloorEntry_1 : decode cJ1_getFloorEntry 1 = .ok (.getfield 101, 3) := dk_180 0 101 (dk_at dksJ1_getFloorEntry_0 1 rfl rfl)
theorem dJ1_getFloorEntry_4 : decode cJ1_getFloorEntry 4 = .ok (.astore_n 2, 1) := dk_77 (dk_at dksJ1_getFloorEntry_0 4 rfl rfl)
theorem dJ1_getFloorEntry_5 : decode cJ1_getFloorEntry 5 = .ok (.aload_n 2, 1) := dk_44 (dk_at dksJ1_getFloorEntry_0 5 rfl rfl)
theorem dJ1_getFloorEntry_6 : decode cJ1_getFloorEntry 6 = .ok (.ifnull 99, 3) := dk_198 0 99 (dk_at dksJ1_getFloorEntry_0 6 rfl rfl)
theorem dJ1_getFloorEntry_9 : decode cJ1_getFloorEntry 9 = .ok (.aload_n 0, 1) := dk_42 (dk_at dksJ1_getFloorEntry_0 9 rfl rfl)
theorem dJ1_getFloorEntry_10 : decode cJ1_getFloorEntry 10 = .ok (.aload_n 1, 1) := dk_43 (dk_at dksJ1_getFloorEntry_0 10 rfl rfl)
theorem dJ1_getFloorEntry_11 : decode cJ1_getFloorEntry 11 = .ok (.aload_n 2, 1) := dk_44 (dk_at dksJ1_getFloorEntry_0 11 rfl rfl)
theorem dJ1_getFloorEntry_12 : decode cJ1_getFloorEntry 12 = .ok (.getfield 105, 3) := dk_180 0 105 (dk_at dksJ1_getFloorEntry_0 12 rfl rfl)
theorem dJ1_getFloorEntry_15 : decode cJ1_getFloorEntry 15 = .ok (.invokevirtual 123, 3) := dk_182 0 123 (dk_at dksJ1_getFloorEntry_0 15 rfl rfl)
theorem dJ1_getFloorEntry_18 : decode cJ1_getFloorEntry 18 = .ok (.istore_n 3, 1) := dk_62 (dk_at dksJ1_getFloorEntry_0 18 rfl rfl)
theorem dJ1_getFloorEntry_19 : decode cJ1_getFloorEntry 19 = .ok (.iload_n 3, 1) := dk_29 (dk_at dksJ1_getFloorEntry_0 19 rfl rfl)
theorem dJ1_getFloorEntry_20 : decode cJ1_getFloorEntry 20 = .ok (.ifCond .le 20, 3) := dk_158 0 20 (dk_at dksJ1_getFloorEntry_0 20 rfl rfl)
theorem dJ1_getFloorEntry_23 : decode cJ1_getFloorEntry 23 = .ok (.aload_n 2, 1) := dk_44 (dk_at dksJ1_getFloorEntry_0 23 rfl rfl)
theorem dJ1_getFloorEntry_24 : decode cJ1_getFloorEntry 24 = .ok (.getfield 114, 3) := dk_180 0 114 (dk_at dksJ1_getFloorEntry_1 0 rfl rfl)
theorem dJ1_getFloorEntry_27 : decode cJ1_getFloorEntry 27 = .ok (.ifnull 11, 3) := dk_198 0 11 (dk_at dksJ1_getFloorEntry_1 3 rfl rfl)
theorem dJ1_getFloorEntry_30 : decode cJ1_getFloorEntry 30 = .ok (.aload_n 2, 1) := dk_44 (dk_at dksJ1_getFloorEntry_1 6 rfl rfl)
theorem dJ1_getFloorEntry_31 : decode cJ1_getFloorEntry 31 = .ok (.getfield 114, 3) := dk_180 0 114 (dk_at dksJ1_getFloorEntry_1 7 rfl rfl)
theorem dJ1_getFloorEntry_34 : decode cJ1_getFloorEntry 34 = .ok (.astore_n 2, 1) := dk_77 (dk_at dksJ1_getFloorEntry_1 10 rfl rfl)
theorem dJ1_getFloorEntry_35 : decode cJ1_getFloorEntry 35 = .ok (.goto 67, 3) := dk_167 0 67 (dk_at dksJ1_getFloorEntry_1 11 rfl rfl)
theorem dJ1_getFloorEntry_38 : decode cJ1_getFloorEntry 38 = .ok (.aload_n 2, 1) := dk_44 (dk_at dksJ1_getFloorEntry_1 14 rfl rfl)
theorem dJ1_getFloorEntry_39 : decode cJ1_getFloorEntry 39 = .ok (.areturn, 1) := dk_176 (dk_at dksJ1_getFloorEntry_1 15 rfl rfl)
theorem dJ1_getFloorEntry_40 : decode cJ1_getFloorEntry 40 = .ok (.iload_n 3, 1) := dk_29 (dk_at dksJ1_getFloorEntry_1 16 rfl rfl)
theorem dJ1_getFloorEntry_41 : decode cJ1_getFloorEntry 41 = .ok (.ifCond .ge 59, 3) := dk_156 0 59 (dk_at dksJ1_getFloorEntry_1 17 rfl rfl)
theorem dJ1_getFloorEntry_44 : decode cJ1_getFloorEntry 44 = .ok (.aload_n 2, 1) := dk_44 (dk_at dksJ1_getFloorEntry_1 20 rfl rfl)
theorem dJ1_getFloorEntry_45 : decode cJ1_getFloorEntry 45 = .ok (.getfield 111, 3) := dk_180 0 111 (dk_at dksJ1_getFloorEntry_1 21 rfl rfl)
theorem dJ1_getFloorEntry_48 : decode cJ1_getFloorEntry 48 = .ok (.ifnull 11, 3) := dk_198 0 11 (dk_at dksJ1_getFloorEntry_2 0 rfl rfl)
theorem dJ1_getFloorEntry_51 : decode cJ1_getFloorEntry 51 = .ok (.aload_n 2, 1) := dk_44 (dk_at dksJ1_getFloorEntry_2 3 rfl rfl)
theorem dJ1_getFloorEntry_52 : decode cJ1_getFloorEntry 52 = .ok (.getfield 111, 3) := dk_180 0 111 (dk_at dksJ1_getFloorEntry_2 4 rfl rfl)
theorem dJ1_getFloorEntry_55 : decode cJ1_getFloorEntry 55 = .ok (.astore_n 2, 1) := dk_77 (dk_at dksJ1_getFloorEntry_2 7 rfl rfl)
theorem dJ1_getFloorEntry_56 : decode cJ1_getFloorEntry 56 = .ok (.goto 46, 3) := dk_167 0 46 (dk_at dksJ1_getFloorEntry_2 8 rfl rfl)
theorem dJ1_getFloorEntry_59 : decode cJ1_getFloorEntry 59 = .ok (.aload_n 2, 1) := dk_44 (dk_at dksJ1_getFloorEntry_2 11 rfl rfl)
theorem dJ1_getFloorEntry_60 : decode cJ1_getFloorEntry 60 = .ok (.getfield 124, 3) := dk_180 0 124 (dk_at dksJ1_getFloorEntry_2 12 rfl rfl)
theorem dJ1_getFloorEntry_63 : decode cJ1_getFloorEntry 63 = .ok (.astore 4, 2) := dk_58 4 (dk_at dksJ1_getFloorEntry_2 15 rfl rfl)
theorem dJ1_getFloorEntry_65 : decode cJ1_getFloorEntry 65 = .ok (.aload_n 2, 1) := dk_44 (dk_at dksJ1_getFloorEntry_2 17 rfl rfl)
theorem dJ1_getFloorEntry_66 : decode cJ1_getFloorEntry 66 = .ok (.astore 5, 2) := dk_58 5 (dk_at dksJ1_getFloorEntry_2 18 rfl rfl)
theorem dJ1_getFloorEntry_68 : decode cJ1_getFloorEntry 68 = .ok (.aload 4, 2) := dk_25 4 (dk_at dksJ1_getFloorEntry_2 20 rfl rfl)
theorem dJ1_getFloorEntry_70 : decode cJ1_getFloorEntry 70 = .ok (.ifnull 27, 3) := dk_198 0 27 (dk_at dksJ1_getFloorEntry_3 0 rfl rfl)
theorem dJ1_getFloorEntry_73 : decode cJ1_getFloorEntry 73 = .ok (.aload 5, 2) := dk_25 5 (dk_at dksJ1_getFloorEntry_3 3 rfl rfl)
theorem dJ1_getFloorEntry_75 : decode cJ1_getFloorEntry 75 = .ok (.aload 4, 2) := dk_25 4 (dk_at dksJ1_getFloorEntry_3 5 rfl rfl)
theorem dJ1_getFloorEntry_77 : decode cJ1_getFloorEntry 77 = .ok (.getfield 111, 3) := dk_180 0 111 (dk_at dksJ1_getFloorEntry_3 7 rfl rfl)
theorem dJ1_getFloorEntry_80 : decode cJ1_getFloorEntry 80 = .ok (.if_acmp .ne 17, 3) := dk_166 0 17 (dk_at dksJ1_getFloorEntry_3 10 rfl rfl)
theorem dJ1_getFloorEntry_83 : decode cJ1_getFloorEntry 83 = .ok (.aload 4, 2) := dk_25 4 (dk_at dksJ1_getFloorEntry_3 13 rfl rfl)
theorem dJ1_getFloorEntry_85 : decode cJ1_getFloorEntry 85 = .ok (.astore 5, 2) := dk_58 5 (dk_at dksJ1_getFloorEntry_3 15 rfl rfl)
theorem dJ1_getFloorEntry_87 : decode cJ1_getFloorEntry 87 = .ok (.aload 4, 2) := dk_25 4 (dk_at dksJ1_getFloorEntry_3 17 rfl rfl)
theorem dJ1_getFloorEntry_89 : decode cJ1_getFloorEntry 89 = .ok (.getfield 124, 3) := dk_180 0 124 (dk_at dksJ1_getFloorEntry_3 19 rfl rfl)
theorem dJ1_getFloorEntry_92 : decode cJ1_getFloorEntry 92 = .ok (.astore 4, 2) := dk_58 4 (dk_at dksJ1_getFloorEntry_3 22 rfl rfl)
theorem dJ1_getFloorEntry_94 : decode cJ1_getFloorEntry 94 = .ok (.goto (-26), 3) := dk_167 255 230 (dk_at dksJ1_getFloorEntry_4 0 rfl rfl)
theorem dJ1_getFloorEntry_97 : decode cJ1_getFloorEntry 97 = .ok (.aload 4, 2) := dk_25 4 (dk_at dksJ1_getFloorEntry_4 3 rfl rfl)
theorem dJ1_getFloorEntry_99 : decode cJ1_getFloorEntry 99 = .ok (.areturn, 1) := dk_176 (dk_at dksJ1_getFloorEntry_4 5 rfl rfl)
theorem dJ1_getFloorEntry_100 : decode cJ1_getFloorEntry 100 = .ok (.aload_n 2, 1) := dk_44 (dk_at dksJ1_getFloorEntry_4 6 rfl rfl)
theorem dJ1_getFloorEntry_101 : decode cJ1_getFloorEntry 101 = .ok (.areturn, 1) := dk_176 (dk_at dksJ1_getFloorEntry_4 7 rfl rfl)
theorem dJ1_getFloorEntry_102 : decode cJ1_getFloorEntry 102 = .ok (.goto (-97), 3) := dk_167 255 159 (dk_at dksJ1_getFloorEntry_4 8 rfl rfl)
theorem dJ1_getFloorEntry_105 : decode cJ1_getFloorEntry 105 = .ok (.aconst_null, 1) := dk_1 (dk_at dksJ1_getFloorEntry_4 11 rfl rfl)
theorem dJ1_getFloorEntry_106 : decode cJ1_getFloorEntry 106 = .ok (.areturn, 1) := dk_176 (dk_at dksJ1_getFloorEntry_4 12 rfl rfl)
abbrev cJ1_getLowerEntry : ByteArray := prog_70_method_20_code
def yJ1_getLowerEntry : MethodName := ⟨RJ1, "getLowerEntry", "(Ljava/lang/Object;)Ljava/util/TreeMap$Entry;"⟩
def dkwJ1_getLowerEntry_4 : List UInt8 := [176, 167, 255, 165, 1, 176]
abbrev dktJ1_getLowerEntry_4 : List UInt8 := dkwJ1_getLowerEntry_4 ++ []
def dkwJ1_getLowerEntry_3 : List UInt8 := [25, 4, 180, 0, 111, 166, 0, 17, 25, 4, 58, 5, 25, 4, 180, 0, 124, 58, 4, 167, 255, 230, 25, 4]
abbrev dktJ1_getLowerEntry_3 : List UInt8 := dkwJ1_getLowerEntry_3 ++ dktJ1_getLowerEntry_4
def dkwJ1_getLowerEntry_2 : List UInt8 := [180, 0, 111, 77, 167, 0, 44, 44, 180, 0, 124, 58, 4, 44, 58, 5, 25, 4, 198, 0, 27, 25, 5]
abbrev dktJ1_getLowerEntry_2 : List UInt8 := dkwJ1_getLowerEntry_2 ++ dktJ1_getLowerEntry_3
def dkwJ1_getLowerEntry_1 : List UInt8 := [180, 0, 114, 198, 0, 11, 44, 180, 0, 114, 77, 167, 0, 61, 44, 176, 44, 180, 0, 111, 198, 0, 11, 44]
abbrev dktJ1_getLowerEntry_1 : List UInt8 := dkwJ1_getLowerEntry_1 ++ dktJ1_getLowerEntry_2
def dkwJ1_getLowerEntry_0 : List UInt8 := [42, 180, 0, 101, 77, 44, 198, 0, 93, 42, 43, 44, 180, 0, 105, 182, 0, 123, 62, 29, 158, 0, 20, 44]
abbrev dktJ1_getLowerEntry_0 : List UInt8 := dkwJ1_getLowerEntry_0 ++ dktJ1_getLowerEntry_1
theorem dksJ1_getLowerEntry_0 : cJ1_getLowerEntry.data.toList.drop 0 = dktJ1_getLowerEntry_0 := by decide +kernel
theorem dksJ1_getLowerEntry_1 : cJ1_getLowerEntry.data.toList.drop 24 = dktJ1_getLowerEntry_1 := dk_seg dksJ1_getLowerEntry_0 24 rfl rfl
theorem dksJ1_getLowerEntry_2 : cJ1_getLowerEntry.data.toList.drop 48 = dktJ1_getLowerEntry_2 := dk_seg dksJ1_getLowerEntry_1 24 rfl rfl
theorem dksJ1_getLowerEntry_3 : cJ1_getLowerEntry.data.toList.drop 71 = dktJ1_getLowerEntry_3 := dk_seg dksJ1_getLowerEntry_2 23 rfl rfl
theorem dksJ1_getLowerEntry_4 : cJ1_getLowerEntry.data.toList.drop 95 = dktJ1_getLowerEntry_4 := dk_seg dksJ1_getLowerEntry_3 24 rfl rfl
theorem dJ1_getLowerEntry_0 : decode cJ1_getLowerEntry 0 = .ok (.aload_n 0, 1) := dk_42 (dk_at dksJ1_getLowerEntry_0 0 rfl rfl)
theorem dJ1_getLowerEntry_1 : decode cJ1_getLowerEntry 1 = .ok (.getfield 101, 3) := dk_180 0 101 (dk_at dksJ1_getLowerEntry_0 1 rfl rfl)
theorem dJ1_getLowerEntry_4 : decode cJ1_getLowerEntry 4 = .ok (.astore_n 2, 1) := dk_77 (dk_at dksJ1_getLowerEntry_0 4 rfl rfl)
theorem dJ1_getLowerEntry_5 : decode cJ1_getLowerEntry 5 = .ok (.aload_n 2, 1) := dk_44 (dk_at dksJ1_getLowerEntry_0 5 rfl rfl)
theorem dJ1_getLowerEntry_6 : decode cJ1_getLowerEntry 6 = .ok (.ifnull 93, 3) := dk_198 0 93 (dk_at dksJ1_getLowerEntry_0 6 rfl rfl)
theorem dJ1_getLowerEntry_9 : decode cJ1_getLowerEntry 9 = .ok (.aload_n 0, 1) := dk_42 (dk_at dksJ1_getLowerEntry_0 9 rfl rfl)
theorem dJ1_getLowerEntry_10 : decode cJ1_getLowerEntry 10 = .ok (.aload_n 1, 1) := dk_43 (dk_at dksJ1_getLowerEntry_0 10 rfl rfl)
theorem dJ1_getLowerEntry_11 : decode cJ1_getLowerEntry 11 = .ok (.aload_n 2, 1) := dk_44 (dk_at dksJ1_getLowerEntry_0 11 rfl rfl)
theorem dJ1_getLowerEntry_12 : decode cJ1_getLowerEntry 12 = .ok (.getfield 105, 3) := dk_180 0 105 (dk_at dksJ1_getLowerEntry_0 12 rfl rfl)
theorem dJ1_getLowerEntry_15 : decode cJ1_getLowerEntry 15 = .ok (.invokevirtual 123, 3) := dk_182 0 123 (dk_at dksJ1_getLowerEntry_0 15 rfl rfl)
theorem dJ1_getLowerEntry_18 : decode cJ1_getLowerEntry 18 = .ok (.istore_n 3, 1) := dk_62 (dk_at dksJ1_getLowerEntry_0 18 rfl rfl)
theorem dJ1_getLowerEntry_19 : decode cJ1_getLowerEntry 19 = .ok (.iload_n 3, 1) := dk_29 (dk_at dksJ1_getLowerEntry_0 19 rfl rfl)
theorem dJ1_getLowerEntry_20 : decode cJ1_getLowerEntry 20 = .ok (.ifCond .le 20, 3) := dk_158 0 20 (dk_at dksJ1_getLowerEntry_0 20 rfl rfl)
theorem dJ1_getLowerEntry_23 : decode cJ1_getLowerEntry 23 = .ok (.aload_n 2, 1) := dk_44 (dk_at dksJ1_getLowerEntry_0 23 rfl rfl)
theorem dJ1_getLowerEntry_24 : decode cJ1_getLowerEntry 24 = .ok (.getfield 114, 3) := dk_180 0 114 (dk_at dksJ1_getLowerEntry_1 0 rfl rfl)
theorem dJ1_getLowerEntry_27 : decode cJ1_getLowerEntry 27 = .ok (.ifnull 11, 3) := dk_198 0 11 (dk_at dksJ1_getLowerEntry_1 3 rfl rfl)
theorem dJ1_getLowerEntry_30 : decode cJ1_getLowerEntry 30 = .ok (.aload_n 2, 1) := dk_44 (dk_at dksJ1_getLowerEntry_1 6 rfl rfl)
theorem dJ1_getLowerEntry_31 : decode cJ1_getLowerEntry 31 = .ok (.getfield 114, 3) := dk_180 0 114 (dk_at dksJ1_getLowerEntry_1 7 rfl rfl)
theorem dJ1_getLowerEntry_34 : decode cJ1_getLowerEntry 34 = .ok (.astore_n 2, 1) := dk_77 (dk_at dksJ1_getLowerEntry_1 10 rfl rfl)
theorem dJ1_getLowerEntry_35 : decode cJ1_getLowerEntry 35 = .ok (.goto 61, 3) := dk_167 0 61 (dk_at dksJ1_getLowerEntry_1 11 rfl rfl)
theorem dJ1_getLowerEntry_38 : decode cJ1_getLowerEntry 38 = .ok (.aload_n 2, 1) := dk_44 (dk_at dksJ1_getLowerEntry_1 14 rfl rfl)
theorem dJ1_getLowerEntry_39 : decode cJ1_getLowerEntry 39 = .ok (.areturn, 1) := dk_176 (dk_at dksJ1_getLowerEntry_1 15 rfl rfl)
theorem dJ1_getLowerEntry_40 : decode cJ1_getLowerEntry 40 = .ok (.aload_n 2, 1) := dk_44 (dk_at dksJ1_getLowerEntry_1 16 rfl rfl)
theorem dJ1_getLowerEntry_41 : decode cJ1_getLowerEntry 41 = .ok (.getfield 111, 3) := dk_180 0 111 (dk_at dksJ1_getLowerEntry_1 17 rfl rfl)
theorem dJ1_getLowerEntry_44 : decode cJ1_getLowerEntry 44 = .ok (.ifnull 11, 3) := dk_198 0 11 (dk_at dksJ1_getLowerEntry_1 20 rfl rfl)
theorem dJ1_getLowerEntry_47 : decode cJ1_getLowerEntry 47 = .ok (.aload_n 2, 1) := dk_44 (dk_at dksJ1_getLowerEntry_1 23 rfl rfl)
theorem dJ1_getLowerEntry_48 : decode cJ1_getLowerEntry 48 = .ok (.getfield 111, 3) := dk_180 0 111 (dk_at dksJ1_getLowerEntry_2 0 rfl rfl)
theorem dJ1_getLowerEntry_51 : decode cJ1_getLowerEntry 51 = .ok (.astore_n 2, 1) := dk_77 (dk_at dksJ1_getLowerEntry_2 3 rfl rfl)
theorem dJ1_getLowerEntry_52 : decode cJ1_getLowerEntry 52 = .ok (.goto 44, 3) := dk_167 0 44 (dk_at dksJ1_getLowerEntry_2 4 rfl rfl)
theorem dJ1_getLowerEntry_55 : decode cJ1_getLowerEntry 55 = .ok (.aload_n 2, 1) := dk_44 (dk_at dksJ1_getLowerEntry_2 7 rfl rfl)
theorem dJ1_getLowerEntry_56 : decode cJ1_getLowerEntry 56 = .ok (.getfield 124, 3) := dk_180 0 124 (dk_at dksJ1_getLowerEntry_2 8 rfl rfl)
theorem dJ1_getLowerEntry_59 : decode cJ1_getLowerEntry 59 = .ok (.astore 4, 2) := dk_58 4 (dk_at dksJ1_getLowerEntry_2 11 rfl rfl)
theorem dJ1_getLowerEntry_61 : decode cJ1_getLowerEntry 61 = .ok (.aload_n 2, 1) := dk_44 (dk_at dksJ1_getLowerEntry_2 13 rfl rfl)
theorem dJ1_getLowerEntry_62 : decode cJ1_getLowerEntry 62 = .ok (.astore 5, 2) := dk_58 5 (dk_at dksJ1_getLowerEntry_2 14 rfl rfl)
theorem dJ1_getLowerEntry_64 : decode cJ1_getLowerEntry 64 = .ok (.aload 4, 2) := dk_25 4 (dk_at dksJ1_getLowerEntry_2 16 rfl rfl)
theorem dJ1_getLowerEntry_66 : decode cJ1_getLowerEntry 66 = .ok (.ifnull 27, 3) := dk_198 0 27 (dk_at dksJ1_getLowerEntry_2 18 rfl rfl)
theorem dJ1_getLowerEntry_69 : decode cJ1_getLowerEntry 69 = .ok (.aload 5, 2) := dk_25 5 (dk_at dksJ1_getLowerEntry_2 21 rfl rfl)
theorem dJ1_getLowerEntry_71 : decode cJ1_getLowerEntry 71 = .ok (.aload 4, 2) := dk_25 4 (dk_at dksJ1_getLowerEntry_3 0 rfl rfl)
theorem dJ1_getLowerEntry_73 : decode cJ1_getLowerEntry 73 = .ok (.getfield 111, 3) := dk_180 0 111 (dk_at dksJ1_getLowerEntry_3 2 rfl rfl)
theorem dJ1_getLowerEntry_76 : decode cJ1_getLowerEntry 76 = .ok (.if_acmp .ne 17, 3) := dk_166 0 17 (dk_at dksJ1_getLowerEntry_3 5 rfl rfl)
theorem dJ1_getLowerEntry_79 : decode cJ1_getLowerEntry 79 = .ok (.aload 4, 2) := dk_25 4 (dk_at dksJ1_getLowerEntry_3 8 rfl rfl)
theorem dJ1_getLowerEntry_81 : decode cJ1_getLowerEntry 81 = .ok (.astore 5, 2) := dk_58 5 (dk_at dksJ1_getLowerEntry_3 10 rfl rfl)
theorem dJ1_getLowerEntry_83 : decode cJ1_getLowerEntry 83 = .ok (.aload 4, 2) := dk_25 4 (dk_at dksJ1_getLowerEntry_3 12 rfl rfl)
theorem dJ1_getLowerEntry_85 : decode cJ1_getLowerEntry 85 = .ok (.getfield 124, 3) := dk_180 0 124 (dk_at dksJ1_getLowerEntry_3 14 rfl rfl)
theorem dJ1_getLowerEntry_88 : decode cJ1_getLowerEntry 88 = .ok (.astore 4, 2) := dk_58 4 (dk_at dksJ1_getLowerEntry_3 17 rfl rfl)
theorem dJ1_getLowerEntry_90 : decode cJ1_getLowerEntry 90 = .ok (.goto (-26), 3) := dk_167 255 230 (dk_at dksJ1_getLowerEntry_3 19 rfl rfl)
theorem dJ1_getLowerEntry_93 : decode cJ1_getLowerEntry 93 = .ok (.aload 4, 2) := dk_25 4 (dk_at dksJ1_getLowerEntry_3 22 rfl rfl)
theorem dJ1_getLowerEntry_95 : decode cJ1_getLowerEntry 95 = .ok (.areturn, 1) := dk_176 (dk_at dksJ1_getLowerEntry_4 0 rfl rfl)
theorem dJ1_getLowerEntry_96 : decode cJ1_getLowerEntry 96 = .ok (.goto (-91), 3) := dk_167 255 165 (dk_at dksJ1_getLowerEntry_4 1 rfl rfl)
theorem dJ1_getLowerEntry_99 : decode cJ1_getLowerEntry 99 = .ok (.aconst_null, 1) := dk_1 (dk_at dksJ1_getLowerEntry_4 4 rfl rfl)
theorem dJ1_getLowerEntry_100 : decode cJ1_getLowerEntry 100 = .ok (.areturn, 1) := dk_176 (dk_at dksJ1_getLowerEntry_4 5 rfl rfl)
abbrev cJ1_floorKey : ByteArray := prog_70_method_44_code
def yJ1_floorKey : MethodName := ⟨RJ1, "floorKey", "(Ljava/lang/Object;)Ljava/lang/Object;"⟩
def dkwJ1_floorKey_0 : List UInt8 := [42, 43, 182, 0, 210, 184, 0, 207, 176]
abbrev dktJ1_floorKey_0 : List UInt8 := dkwJ1_floorKey_0 ++ []
theorem dksJ1_floorKey_0 : cJ1_floorKey.data.toList.drop 0 = dktJ1_floorKey_0 := by decide +kernel
theorem dJ1_floorKey_0 : decode cJ1_floorKey 0 = .ok (.aload_n 0, 1) := dk_42 (dk_at dksJ1_floorKey_0 0 rfl rfl)
theorem dJ1_floorKey_1 : decode cJ1_floorKey 1 = .ok (.aload_n 1, 1) := dk_43 (dk_at dksJ1_floorKey_0 1 rfl rfl)
theorem dJ1_floorKey_2 : decode cJ1_floorKey 2 = .ok (.invokevirtual 210, 3) := dk_182 0 210 (dk_at dksJ1_floorKey_0 2 rfl rfl)
theorem dJ1_floorKey_5 : decode cJ1_floorKey 5 = .ok (.invokestatic 207, 3) := dk_184 0 207 (dk_at dksJ1_floorKey_0 5 rfl rfl)
theorem dJ1_floorKey_8 : decode cJ1_floorKey 8 = .ok (.areturn, 1) := dk_176 (dk_at dksJ1_floorKey_0 8 rfl rfl)
abbrev cJ1_keyOrNull : ByteArray := prog_70_method_70_code
def yJ1_keyOrNull : MethodName := ⟨RJ1, "keyOrNull", "(Ljava/util/TreeMap$Entry;)Ljava/lang/Object;"⟩
def dkwJ1_keyOrNull_0 : List UInt8 := [42, 199, 0, 7, 1, 167, 0, 7, 42, 180, 0, 105, 176]
abbrev dktJ1_keyOrNull_0 : List UInt8 := dkwJ1_keyOrNull_0 ++ []
theorem dksJ1_keyOrNull_0 : cJ1_keyOrNull.data.toList.drop 0 = dktJ1_keyOrNull_0 := by decide +kernel
theorem dJ1_keyOrNull_0 : decode cJ1_keyOrNull 0 = .ok (.aload_n 0, 1) := dk_42 (dk_at dksJ1_keyOrNull_0 0 rfl rfl)
theorem dJ1_keyOrNull_1 : decode cJ1_keyOrNull 1 = .ok (.ifnonnull 7, 3) := dk_199 0 7 (dk_at dksJ1_keyOrNull_0 1 rfl rfl)
theorem dJ1_keyOrNull_4 : decode cJ1_keyOrNull 4 = .ok (.aconst_null, 1) := dk_1 (dk_at dksJ1_keyOrNull_0 4 rfl rfl)
theorem dJ1_keyOrNull_5 : decode cJ1_keyOrNull 5 = .ok (.goto 7, 3) := dk_167 0 7 (dk_at dksJ1_keyOrNull_0 5 rfl rfl)
theorem dJ1_keyOrNull_8 : decode cJ1_keyOrNull 8 = .ok (.aload_n 0, 1) := dk_42 (dk_at dksJ1_keyOrNull_0 8 rfl rfl)
theorem dJ1_keyOrNull_9 : decode cJ1_keyOrNull 9 = .ok (.getfield 105, 3) := dk_180 0 105 (dk_at dksJ1_keyOrNull_0 9 rfl rfl)
theorem dJ1_keyOrNull_12 : decode cJ1_keyOrNull 12 = .ok (.areturn, 1) := dk_176 (dk_at dksJ1_keyOrNull_0 12 rfl rfl)
abbrev cJ1_headMap : ByteArray := prog_70_method_56_code
def yJ1_headMap : MethodName := ⟨RJ1, "headMap", "(Ljava/lang/Object;Z)Ljava/util/NavigableMap;"⟩
def dkwJ1_headMap_0 : List UInt8 := [187, 0, 250, 89, 42, 4, 1, 4, 3, 43, 28, 183, 0, 252, 176]
abbrev dktJ1_headMap_0 : List UInt8 := dkwJ1_headMap_0 ++ []
theorem dksJ1_headMap_0 : cJ1_headMap.data.toList.drop 0 = dktJ1_headMap_0 := by decide +kernel
theorem dJ1_headMap_0 : decode cJ1_headMap 0 = .ok (.new 250, 3) := dk_187 0 250 (dk_at dksJ1_headMap_0 0 rfl rfl)
theorem dJ1_headMap_3 : decode cJ1_headMap 3 = .ok (.dup, 1) := dk_89 (dk_at dksJ1_headMap_0 3 rfl rfl)
theorem dJ1_headMap_4 : decode cJ1_headMap 4 = .ok (.aload_n 0, 1) := dk_42 (dk_at dksJ1_headMap_0 4 rfl rfl)
theorem dJ1_headMap_5 : decode cJ1_headMap 5 = .ok (.iconst 1, 1) := dk_4 (dk_at dksJ1_headMap_0 5 rfl rfl)
theorem dJ1_headMap_6 : decode cJ1_headMap 6 = .ok (.aconst_null, 1) := dk_1 (dk_at dksJ1_headMap_0 6 rfl rfl)
theorem dJ1_headMap_7 : decode cJ1_headMap 7 = .ok (.iconst 1, 1) := dk_4 (dk_at dksJ1_headMap_0 7 rfl rfl)
theorem dJ1_headMap_8 : decode cJ1_headMap 8 = .ok (.iconst 0, 1) := dk_3 (dk_at dksJ1_headMap_0 8 rfl rfl)
theorem dJ1_headMap_9 : decode cJ1_headMap 9 = .ok (.aload_n 1, 1) := dk_43 (dk_at dksJ1_headMap_0 9 rfl rfl)
theorem dJ1_headMap_10 : decode cJ1_headMap 10 = .ok (.iload_n 2, 1) := dk_28 (dk_at dksJ1_headMap_0 10 rfl rfl)
theorem dJ1_headMap_11 : decode cJ1_headMap 11 = .ok (.invokespecial 252, 3) := dk_183 0 252 (dk_at dksJ1_headMap_0 11 rfl rfl)
theorem dJ1_headMap_14 : decode cJ1_headMap 14 = .ok (.areturn, 1) := dk_176 (dk_at dksJ1_headMap_0 14 rfl rfl)
theorem q99 : (Jvm.Cond.initialized "java/util/TreeMap") ∈ lw_all := lw_g (lw_at lw_m1 6 rfl) rfl
theorem q181 : (Jvm.Cond.instantiable "java/util/TreeMap" (9 : Nat)) ∈ lw_all := lw_g (lw_at lw_m1 88 rfl) rfl
theorem q183 : (Jvm.Cond.instanceMethod ({ cls := "java/util/TreeMap", name := "<init>", desc := "()V" } : Jvm.MethodName)) ∈ lw_all := lw_g (lw_at lw_m1 90 rfl) rfl
theorem q184 : (Jvm.Cond.code ({ cls := "java/util/TreeMap", name := "<init>", desc := "()V" } : Jvm.MethodName) prog_70_method_1_code (1 : Nat) (Option.none : Option Jvm.ClassFile.FieldType)) ∈ lw_all := lw_g (lw_at lw_m1 91 rfl) rfl
theorem q185 : (Jvm.Cond.methodLink "java/util/TreeMap" (1 : Nat) ({ cls := "java/util/AbstractMap", name := "<init>", desc := "()V" } : Jvm.MethodName)) ∈ lw_all := lw_g (lw_at lw_m1 92 rfl) rfl
theorem q189 : (Jvm.Cond.fieldLink "java/util/TreeMap" (16 : Nat) "java/util/TreeMap" "comparator" "Ljava/util/Comparator;") ∈ lw_all := lw_g (lw_at lw_m1 96 rfl) rfl
theorem q190 : (Jvm.Cond.fieldLink "java/util/TreeMap" (101 : Nat) "java/util/TreeMap" "root" "Ljava/util/TreeMap$Entry;") ∈ lw_all := lw_g (lw_at lw_m1 97 rfl) rfl
theorem q191 : (Jvm.Cond.fieldLink "java/util/TreeMap" (7 : Nat) "java/util/TreeMap" "size" "I") ∈ lw_all := lw_g (lw_at lw_m1 98 rfl) rfl
theorem q192 : (Jvm.Cond.fieldLink "java/util/TreeMap" (13 : Nat) "java/util/TreeMap" "modCount" "I") ∈ lw_all := lw_g (lw_at lw_m1 99 rfl) rfl
theorem q196 : (Jvm.Cond.fieldLink "java/util/TreeMap" (191 : Nat) "java/util/TreeMap" "navigableKeySet" "Ljava/util/TreeMap$KeySet;") ∈ lw_all := lw_g (lw_at lw_m1 103 rfl) rfl
theorem q197 : (Jvm.Cond.fieldLink "java/util/TreeMap" (233 : Nat) "java/util/TreeMap" "values" "Ljava/util/Collection;") ∈ lw_all := lw_g (lw_at lw_m1 104 rfl) rfl
theorem q198 : (Jvm.Cond.sameField "java/util/TreeMap" "java/util/AbstractMap" "values" "Ljava/util/Collection;") ∈ lw_all := lw_g (lw_at lw_m1 105 rfl) rfl
theorem q199 : (Jvm.Cond.laysFinal "java/util/TreeMap" "java/util/TreeMap" "comparator" "Ljava/util/Comparator;") ∈ lw_all := lw_g (lw_at lw_m1 106 rfl) rfl
theorem q200 : (Jvm.Cond.soleField "java/util/TreeMap" "comparator") ∈ lw_all := lw_g (lw_at lw_m1 107 rfl) rfl
theorem q201 : (Jvm.Cond.lays "java/util/TreeMap" "java/util/TreeMap" "root" "Ljava/util/TreeMap$Entry;") ∈ lw_all := lw_g (lw_at lw_m1 108 rfl) rfl
theorem q202 : (Jvm.Cond.soleField "java/util/TreeMap" "root") ∈ lw_all := lw_g (lw_at lw_m1 109 rfl) rfl
theorem q203 : (Jvm.Cond.lays "java/util/TreeMap" "java/util/TreeMap" "size" "I") ∈ lw_all := lw_g (lw_at lw_m1 110 rfl) rfl
theorem q204 : (Jvm.Cond.soleField "java/util/TreeMap" "size") ∈ lw_all := lw_g (lw_at lw_m1 111 rfl) rfl
theorem q205 : (Jvm.Cond.lays "java/util/TreeMap" "java/util/TreeMap" "modCount" "I") ∈ lw_all := lw_g (lw_at lw_m1 112 rfl) rfl
theorem q206 : (Jvm.Cond.soleField "java/util/TreeMap" "modCount") ∈ lw_all := lw_g (lw_at lw_m1 113 rfl) rfl
theorem q207 : (Jvm.Cond.lays "java/util/TreeMap" "java/util/TreeMap" "entrySet" "Ljava/util/TreeMap$EntrySet;") ∈ lw_all := lw_g (lw_at lw_m1 114 rfl) rfl
theorem q208 : (Jvm.Cond.soleField "java/util/TreeMap" "entrySet") ∈ lw_all := lw_g (lw_at lw_m1 115 rfl) rfl
theorem q209 : (Jvm.Cond.lays "java/util/TreeMap" "java/util/TreeMap" "navigableKeySet" "Ljava/util/TreeMap$KeySet;") ∈ lw_all := lw_g (lw_at lw_m1 116 rfl) rfl
theorem q210 : (Jvm.Cond.soleField "java/util/TreeMap" "navigableKeySet") ∈ lw_all := lw_g (lw_at lw_m1 117 rfl) rfl
theorem q211 : (Jvm.Cond.lays "java/util/TreeMap" "java/util/TreeMap" "descendingMap" "Ljava/util/NavigableMap;") ∈ lw_all := lw_g (lw_at lw_m1 118 rfl) rfl
theorem q212 : (Jvm.Cond.soleField "java/util/TreeMap" "descendingMap") ∈ lw_all := lw_g (lw_at lw_m1 119 rfl) rfl
theorem q213 : (Jvm.Cond.lays "java/util/TreeMap" "java/util/AbstractMap" "keySet" "Ljava/util/Set;") ∈ lw_all := lw_g (lw_at lw_m1 120 rfl) rfl
theorem q215 : (Jvm.Cond.lays "java/util/TreeMap" "java/util/AbstractMap" "values" "Ljava/util/Collection;") ∈ lw_all := lw_g (lw_at lw_m1 122 rfl) rfl
theorem q217 : (Jvm.Cond.superclass "java/util/TreeMap" "java/util/AbstractMap") ∈ lw_all := lw_g (lw_at lw_m1 124 rfl) rfl
theorem q315 : (Jvm.Cond.instanceMethod ({ cls := "java/util/TreeMap", name := "<init>", desc := "(Ljava/util/Comparator;)V" } : Jvm.MethodName)) ∈ lw_all := lw_g (lw_at lw_m1 222 rfl) rfl
theorem q316 : (Jvm.Cond.code ({ cls := "java/util/TreeMap", name := "<init>", desc := "(Ljava/util/Comparator;)V" } : Jvm.MethodName) prog_70_method_2_code (2 : Nat) (Option.none : Option Jvm.ClassFile.FieldType)) ∈ lw_all := lw_g (lw_at lw_m1 223 rfl) rfl
theorem q413 : (Jvm.Cond.castable "java/util/TreeMap" "java/util/NavigableMap") ∈ lw_tbl := lw_at lw_m2 80 rfl
theorem q414 : (Jvm.Cond.selects "java/util/TreeMap" ({ cls := "java/util/Map", name := "put", desc := "(Ljava/lang/Object;Ljava/lang/Object;)Ljava/lang/Object;" } : Jvm.MethodName) ({ cls := "java/util/TreeMap", name := "put", desc := "(Ljava/lang/Object;Ljava/lang/Object;)Ljava/lang/Object;" } : Jvm.MethodName)) ∈ lw_all := lw_g (lw_at lw_m2 81 rfl) rfl
theorem q415 : (Jvm.Cond.unhidden "java/util/TreeMap" "put" "(Ljava/lang/Object;Ljava/lang/Object;)Ljava/lang/Object;") ∈ lw_tbl := lw_at lw_m2 82 rfl
theorem q416 : (Jvm.Cond.instanceMethod ({ cls := "java/util/TreeMap", name := "put", desc := "(Ljava/lang/Object;Ljava/lang/Object;)Ljava/lang/Object;" } : Jvm.MethodName)) ∈ lw_all := lw_g (lw_at lw_m2 83 rfl) rfl
theorem q417 : (Jvm.Cond.publicMethod ({ cls := "java/util/TreeMap", name := "put", desc := "(Ljava/lang/Object;Ljava/lang/Object;)Ljava/lang/Object;" } : Jvm.MethodName)) ∈ lw_tbl := lw_at lw_m2 84 rfl
theorem q418 : (Jvm.Cond.code ({ cls := "java/util/TreeMap", name := "put", desc := "(Ljava/lang/Object;Ljava/lang/Object;)Ljava/lang/Object;" } : Jvm.MethodName) prog_70_method_21_code (3 : Nat) (Option.some (Jvm.ClassFile.FieldType.object "java/lang/Object"))) ∈ lw_all := lw_g (lw_at lw_m2 85 rfl) rfl
theorem q419 : (Jvm.Cond.methodLink "java/util/TreeMap" (127 : Nat) ({ cls := "java/util/TreeMap", name := "put", desc := "(Ljava/lang/Object;Ljava/lang/Object;Z)Ljava/lang/Object;" } : Jvm.MethodName)) ∈ lw_all := lw_g (lw_at lw_m2 86 rfl) rfl
theorem q420 : (Jvm.Cond.privateMethod ({ cls := "java/util/TreeMap", name := "put", desc := "(Ljava/lang/Object;Ljava/lang/Object;Z)Ljava/lang/Object;" } : Jvm.MethodName)) ∈ lw_tbl := lw_at lw_m2 87 rfl
theorem q421 : (Jvm.Cond.instanceMethod ({ cls := "java/util/TreeMap", name := "put", desc := "(Ljava/lang/Object;Ljava/lang/Object;Z)Ljava/lang/Object;" } : Jvm.MethodName)) ∈ lw_all := lw_g (lw_at lw_m2 88 rfl) rfl
theorem q422 : (Jvm.Cond.code ({ cls := "java/util/TreeMap", name := "put", desc := "(Ljava/lang/Object;Ljava/lang/Object;Z)Ljava/lang/Object;" } : Jvm.MethodName) prog_70_method_31_code (10 : Nat) (Option.some (Jvm.ClassFile.FieldType.object "java/lang/Object"))) ∈ lw_all := lw_g (lw_at lw_m2 89 rfl) rfl
theorem q423 : (Jvm.Cond.methodLink "java/util/TreeMap" (135 : Nat) ({ cls := "java/util/TreeMap", name := "addEntryToEmptyMap", desc := "(Ljava/lang/Object;Ljava/lang/Object;)V" } : Jvm.MethodName)) ∈ lw_all := lw_g (lw_at lw_m2 90 rfl) rfl
theorem q424 : (Jvm.Cond.privateMethod ({ cls := "java/util/TreeMap", name := "addEntryToEmptyMap", desc := "(Ljava/lang/Object;Ljava/lang/Object;)V" } : Jvm.MethodName)) ∈ lw_tbl := lw_at lw_m2 91 rfl
theorem q425 : (Jvm.Cond.instanceMethod ({ cls := "java/util/TreeMap", name := "addEntryToEmptyMap", desc := "(Ljava/lang/Object;Ljava/lang/Object;)V" } : Jvm.MethodName)) ∈ lw_all := lw_g (lw_at lw_m2 92 rfl) rfl
theorem q426 : (Jvm.Cond.code ({ cls := "java/util/TreeMap", name := "addEntryToEmptyMap", desc := "(Ljava/lang/Object;Ljava/lang/Object;)V" } : Jvm.MethodName) prog_70_method_30_code (3 : Nat) (Option.none : Option Jvm.ClassFile.FieldType)) ∈ lw_all := lw_g (lw_at lw_m2 93 rfl) rfl
theorem q427 : (Jvm.Cond.methodLink "java/util/TreeMap" (123 : Nat) ({ cls := "java/util/TreeMap", name := "compare", desc := "(Ljava/lang/Object;Ljava/lang/Object;)I" } : Jvm.MethodName)) ∈ lw_all := lw_g (lw_at lw_m2 94 rfl) rfl
theorem q428 : (Jvm.Cond.instanceMethod ({ cls := "java/util/TreeMap", name := "compare", desc := "(Ljava/lang/Object;Ljava/lang/Object;)I" } : Jvm.MethodName)) ∈ lw_all := lw_g (lw_at lw_m2 95 rfl) rfl
theorem q429 : (Jvm.Cond.selects "java/util/TreeMap" ({ cls := "java/util/TreeMap", name := "compare", desc := "(Ljava/lang/Object;Ljava/lang/Object;)I" } : Jvm.MethodName) ({ cls := "java/util/TreeMap", name := "compare", desc := "(Ljava/lang/Object;Ljava/lang/Object;)I" } : Jvm.MethodName)) ∈ lw_all := lw_g (lw_at lw_m2 96 rfl) rfl
theorem q430 : (Jvm.Cond.code ({ cls := "java/util/TreeMap", name := "compare", desc := "(Ljava/lang/Object;Ljava/lang/Object;)I" } : Jvm.MethodName) prog_70_method_67_code (3 : Nat) (Option.some Jvm.ClassFile.FieldType.int)) ∈ lw_all := lw_g (lw_at lw_m2 97 rfl) rfl
theorem q431 : (Jvm.Cond.classLink "java/util/TreeMap" (99 : Nat) "java/lang/Comparable") ∈ lw_all := lw_g (lw_at lw_m2 98 rfl) rfl
theorem q432 : (Jvm.Cond.interfaceEntry "java/util/TreeMap" (107 : Nat)) ∈ lw_tbl := lw_at lw_m2 99 rfl
theorem q433 : (Jvm.Cond.methodLink "java/util/TreeMap" (107 : Nat) ({ cls := "java/lang/Comparable", name := "compareTo", desc := "(Ljava/lang/Object;)I" } : Jvm.MethodName)) ∈ lw_all := lw_g (lw_at lw_m2 100 rfl) rfl
theorem q629 : (Jvm.Cond.interfaceEntry "java/util/TreeMap" (117 : Nat)) ∈ lw_tbl := lw_at lw_m3 56 rfl
theorem q630 : (Jvm.Cond.methodLink "java/util/TreeMap" (117 : Nat) ({ cls := "java/util/Comparator", name := "compare", desc := "(Ljava/lang/Object;Ljava/lang/Object;)I" } : Jvm.MethodName)) ∈ lw_all := lw_g (lw_at lw_m3 57 rfl) rfl
theorem q645 : (Jvm.Cond.classLink "java/util/TreeMap" (59 : Nat) "java/util/TreeMap$Entry") ∈ lw_all := lw_g (lw_at lw_m3 72 rfl) rfl
theorem q647 : (Jvm.Cond.methodLink "java/util/TreeMap" (167 : Nat) ({ cls := "java/util/TreeMap$Entry", name := "<init>", desc := "(Ljava/lang/Object;Ljava/lang/Object;Ljava/util/TreeMap$Entry;)V" } : Jvm.MethodName)) ∈ lw_all := lw_g (lw_at lw_m3 74 rfl) rfl
theorem q656 : (Jvm.Cond.fieldLink "java/util/TreeMap" (105 : Nat) "java/util/TreeMap$Entry" "key" "Ljava/lang/Object;") ∈ lw_all := lw_g (lw_at lw_m3 83 rfl) rfl
theorem q659 : (Jvm.Cond.fieldLink "java/util/TreeMap" (58 : Nat) "java/util/TreeMap$Entry" "value" "Ljava/lang/Object;") ∈ lw_all := lw_g (lw_at lw_m3 86 rfl) rfl
theorem q660 : (Jvm.Cond.fieldLink "java/util/TreeMap" (111 : Nat) "java/util/TreeMap$Entry" "left" "Ljava/util/TreeMap$Entry;") ∈ lw_all := lw_g (lw_at lw_m3 87 rfl) rfl
theorem q661 : (Jvm.Cond.fieldLink "java/util/TreeMap" (114 : Nat) "java/util/TreeMap$Entry" "right" "Ljava/util/TreeMap$Entry;") ∈ lw_all := lw_g (lw_at lw_m3 88 rfl) rfl
theorem q663 : (Jvm.Cond.fieldLink "java/util/TreeMap" (124 : Nat) "java/util/TreeMap$Entry" "parent" "Ljava/util/TreeMap$Entry;") ∈ lw_all := lw_g (lw_at lw_m3 90 rfl) rfl
theorem q665 : (Jvm.Cond.fieldLink "java/util/TreeMap" (290 : Nat) "java/util/TreeMap$Entry" "color" "Z") ∈ lw_all := lw_g (lw_at lw_m3 92 rfl) rfl
theorem q679 : (Jvm.Cond.methodLink "java/util/TreeMap" (95 : Nat) ({ cls := "java/util/Objects", name := "requireNonNull", desc := "(Ljava/lang/Object;)Ljava/lang/Object;" } : Jvm.MethodName)) ∈ lw_all := lw_g (lw_at lw_m3 106 rfl) rfl
theorem q682 : (Jvm.Cond.methodLink "java/util/TreeMap" (139 : Nat) ({ cls := "java/util/TreeMap", name := "addEntry", desc := "(Ljava/lang/Object;Ljava/lang/Object;Ljava/util/TreeMap$Entry;Z)V" } : Jvm.MethodName)) ∈ lw_all := lw_g (lw_at lw_m3 109 rfl) rfl
theorem q683 : (Jvm.Cond.privateMethod ({ cls := "java/util/TreeMap", name := "addEntry", desc := "(Ljava/lang/Object;Ljava/lang/Object;Ljava/util/TreeMap$Entry;Z)V" } : Jvm.MethodName)) ∈ lw_tbl := lw_at lw_m3 110 rfl
theorem q684 : (Jvm.Cond.instanceMethod ({ cls := "java/util/TreeMap", name := "addEntry", desc := "(Ljava/lang/Object;Ljava/lang/Object;Ljava/util/TreeMap$Entry;Z)V" } : Jvm.MethodName)) ∈ lw_all := lw_g (lw_at lw_m3 111 rfl) rfl
theorem q685 : (Jvm.Cond.code ({ cls := "java/util/TreeMap", name := "addEntry", desc := "(Ljava/lang/Object;Ljava/lang/Object;Ljava/util/TreeMap$Entry;Z)V" } : Jvm.MethodName) prog_70_method_29_code (6 : Nat) (Option.none : Option Jvm.ClassFile.FieldType)) ∈ lw_all := lw_g (lw_at lw_m3 112 rfl) rfl
theorem q686 : (Jvm.Cond.methodLink "java/util/TreeMap" (170 : Nat) ({ cls := "java/util/TreeMap", name := "fixAfterInsertion", desc := "(Ljava/util/TreeMap$Entry;)V" } : Jvm.MethodName)) ∈ lw_all := lw_g (lw_at lw_m3 113 rfl) rfl
theorem q687 : (Jvm.Cond.privateMethod ({ cls := "java/util/TreeMap", name := "fixAfterInsertion", desc := "(Ljava/util/TreeMap$Entry;)V" } : Jvm.MethodName)) ∈ lw_tbl := lw_at lw_m3 114 rfl
theorem q688 : (Jvm.Cond.instanceMethod ({ cls := "java/util/TreeMap", name := "fixAfterInsertion", desc := "(Ljava/util/TreeMap$Entry;)V" } : Jvm.MethodName)) ∈ lw_all := lw_g (lw_at lw_m3 115 rfl) rfl
theorem q689 : (Jvm.Cond.code ({ cls := "java/util/TreeMap", name := "fixAfterInsertion", desc := "(Ljava/util/TreeMap$Entry;)V" } : Jvm.MethodName) prog_70_method_83_code (3 : Nat) (Option.none : Option Jvm.ClassFile.FieldType)) ∈ lw_all := lw_g (lw_at lw_m3 116 rfl) rfl
theorem q690 : (Jvm.Cond.methodLink "java/util/TreeMap" (294 : Nat) ({ cls := "java/util/TreeMap", name := "parentOf", desc := "(Ljava/util/TreeMap$Entry;)Ljava/util/TreeMap$Entry;" } : Jvm.MethodName)) ∈ lw_all := lw_g (lw_at lw_m3 117 rfl) rfl
theorem q691 : (Jvm.Cond.static ({ cls := "java/util/TreeMap", name := "parentOf", desc := "(Ljava/util/TreeMap$Entry;)Ljava/util/TreeMap$Entry;" } : Jvm.MethodName)) ∈ lw_all := lw_g (lw_at lw_m3 118 rfl) rfl
theorem q692 : (Jvm.Cond.code ({ cls := "java/util/TreeMap", name := "parentOf", desc := "(Ljava/util/TreeMap$Entry;)Ljava/util/TreeMap$Entry;" } : Jvm.MethodName) prog_70_method_77_code (1 : Nat) (Option.some (Jvm.ClassFile.FieldType.object "java/util/TreeMap$Entry"))) ∈ lw_all := lw_g (lw_at lw_m3 119 rfl) rfl
theorem q693 : (Jvm.Cond.methodLink "java/util/TreeMap" (297 : Nat) ({ cls := "java/util/TreeMap", name := "leftOf", desc := "(Ljava/util/TreeMap$Entry;)Ljava/util/TreeMap$Entry;" } : Jvm.MethodName)) ∈ lw_all := lw_g (lw_at lw_m3 120 rfl) rfl
theorem q694 : (Jvm.Cond.static ({ cls := "java/util/TreeMap", name := "leftOf", desc := "(Ljava/util/TreeMap$Entry;)Ljava/util/TreeMap$Entry;" } : Jvm.MethodName)) ∈ lw_all := lw_g (lw_at lw_m3 121 rfl) rfl
theorem q695 : (Jvm.Cond.code ({ cls := "java/util/TreeMap", name := "leftOf", desc := "(Ljava/util/TreeMap$Entry;)Ljava/util/TreeMap$Entry;" } : Jvm.MethodName) prog_70_method_79_code (1 : Nat) (Option.some (Jvm.ClassFile.FieldType.object "java/util/TreeMap$Entry"))) ∈ lw_all := lw_g (lw_at lw_m3 122 rfl) rfl
theorem q696 : (Jvm.Cond.methodLink "java/util/TreeMap" (300 : Nat) ({ cls := "java/util/TreeMap", name := "rightOf", desc := "(Ljava/util/TreeMap$Entry;)Ljava/util/TreeMap$Entry;" } : Jvm.MethodName)) ∈ lw_all := lw_g (lw_at lw_m3 123 rfl) rfl
theorem q697 : (Jvm.Cond.static ({ cls := "java/util/TreeMap", name := "rightOf", desc := "(Ljava/util/TreeMap$Entry;)Ljava/util/TreeMap$Entry;" } : Jvm.MethodName)) ∈ lw_all := lw_g (lw_at lw_m3 124 rfl) rfl
theorem q698 : (Jvm.Cond.code ({ cls := "java/util/TreeMap", name := "rightOf", desc := "(Ljava/util/TreeMap$Entry;)Ljava/util/TreeMap$Entry;" } : Jvm.MethodName) prog_70_method_80_code (1 : Nat) (Option.some (Jvm.ClassFile.FieldType.object "java/util/TreeMap$Entry"))) ∈ lw_all := lw_g (lw_at lw_m3 125 rfl) rfl
theorem q699 : (Jvm.Cond.methodLink "java/util/TreeMap" (303 : Nat) ({ cls := "java/util/TreeMap", name := "colorOf", desc := "(Ljava/util/TreeMap$Entry;)Z" } : Jvm.MethodName)) ∈ lw_all := lw_g (lw_at lw_m3 126 rfl) rfl
theorem q700 : (Jvm.Cond.static ({ cls := "java/util/TreeMap", name := "colorOf", desc := "(Ljava/util/TreeMap$Entry;)Z" } : Jvm.MethodName)) ∈ lw_all := lw_g (lw_at lw_m3 127 rfl) rfl
theorem q701 : (Jvm.Cond.code ({ cls := "java/util/TreeMap", name := "colorOf", desc := "(Ljava/util/TreeMap$Entry;)Z" } : Jvm.MethodName) prog_70_method_76_code (1 : Nat) (Option.some Jvm.ClassFile.FieldType.boolean)) ∈ lw_all := lw_g (lw_at lw_m3 128 rfl) rfl
theorem q702 : (Jvm.Cond.methodLink "java/util/TreeMap" (307 : Nat) ({ cls := "java/util/TreeMap", name := "setColor", desc := "(Ljava/util/TreeMap$Entry;Z)V" } : Jvm.MethodName)) ∈ lw_all := lw_g (lw_at lw_m3 129 rfl) rfl
theorem q703 : (Jvm.Cond.static ({ cls := "java/util/TreeMap", name := "setColor", desc := "(Ljava/util/TreeMap$Entry;Z)V" } : Jvm.MethodName)) ∈ lw_all := lw_g (lw_at lw_m3 130 rfl) rfl
theorem q704 : (Jvm.Cond.code ({ cls := "java/util/TreeMap", name := "setColor", desc := "(Ljava/util/TreeMap$Entry;Z)V" } : Jvm.MethodName) prog_70_method_78_code (2 : Nat) (Option.none : Option Jvm.ClassFile.FieldType)) ∈ lw_all := lw_g (lw_at lw_m3 131 rfl) rfl
theorem q705 : (Jvm.Cond.methodLink "java/util/TreeMap" (311 : Nat) ({ cls := "java/util/TreeMap", name := "rotateLeft", desc := "(Ljava/util/TreeMap$Entry;)V" } : Jvm.MethodName)) ∈ lw_all := lw_g (lw_at lw_m3 132 rfl) rfl
theorem q706 : (Jvm.Cond.privateMethod ({ cls := "java/util/TreeMap", name := "rotateLeft", desc := "(Ljava/util/TreeMap$Entry;)V" } : Jvm.MethodName)) ∈ lw_tbl := lw_at lw_m3 133 rfl
theorem q707 : (Jvm.Cond.instanceMethod ({ cls := "java/util/TreeMap", name := "rotateLeft", desc := "(Ljava/util/TreeMap$Entry;)V" } : Jvm.MethodName)) ∈ lw_all := lw_g (lw_at lw_m3 134 rfl) rfl
theorem q708 : (Jvm.Cond.code ({ cls := "java/util/TreeMap", name := "rotateLeft", desc := "(Ljava/util/TreeMap$Entry;)V" } : Jvm.MethodName) prog_70_method_81_code (3 : Nat) (Option.none : Option Jvm.ClassFile.FieldType)) ∈ lw_all := lw_g (lw_at lw_m3 135 rfl) rfl
theorem q709 : (Jvm.Cond.methodLink "java/util/TreeMap" (314 : Nat) ({ cls := "java/util/TreeMap", name := "rotateRight", desc := "(Ljava/util/TreeMap$Entry;)V" } : Jvm.MethodName)) ∈ lw_all := lw_g (lw_at lw_m3 136 rfl) rfl
theorem q710 : (Jvm.Cond.privateMethod ({ cls := "java/util/TreeMap", name := "rotateRight", desc := "(Ljava/util/TreeMap$Entry;)V" } : Jvm.MethodName)) ∈ lw_tbl := lw_at lw_m3 137 rfl
theorem q711 : (Jvm.Cond.instanceMethod ({ cls := "java/util/TreeMap", name := "rotateRight", desc := "(Ljava/util/TreeMap$Entry;)V" } : Jvm.MethodName)) ∈ lw_all := lw_g (lw_at lw_m3 138 rfl) rfl
theorem q712 : (Jvm.Cond.code ({ cls := "java/util/TreeMap", name := "rotateRight", desc := "(Ljava/util/TreeMap$Entry;)V" } : Jvm.MethodName) prog_70_method_82_code (3 : Nat) (Option.none : Option Jvm.ClassFile.FieldType)) ∈ lw_all := lw_g (lw_at lw_m3 139 rfl) rfl
theorem q743 : (Jvm.Cond.selects "java/util/TreeMap" ({ cls := "java/util/Map", name := "size", desc := "()I" } : Jvm.MethodName) ({ cls := "java/util/TreeMap", name := "size", desc := "()I" } : Jvm.MethodName)) ∈ lw_all := lw_g (lw_at lw_m3 170 rfl) rfl
theorem q744 : (Jvm.Cond.unhidden "java/util/TreeMap" "size" "()I") ∈ lw_tbl := lw_at lw_m3 171 rfl
theorem q745 : (Jvm.Cond.instanceMethod ({ cls := "java/util/TreeMap", name := "size", desc := "()I" } : Jvm.MethodName)) ∈ lw_all := lw_g (lw_at lw_m3 172 rfl) rfl
theorem q746 : (Jvm.Cond.publicMethod ({ cls := "java/util/TreeMap", name := "size", desc := "()I" } : Jvm.MethodName)) ∈ lw_tbl := lw_at lw_m3 173 rfl
theorem q747 : (Jvm.Cond.code ({ cls := "java/util/TreeMap", name := "size", desc := "()I" } : Jvm.MethodName) prog_70_method_5_code (1 : Nat) (Option.some Jvm.ClassFile.FieldType.int)) ∈ lw_all := lw_g (lw_at lw_m3 174 rfl) rfl
theorem q808 : (Jvm.Cond.instanceMethod ({ cls := "java/util/TreeMap", name := "getFirstEntry", desc := "()Ljava/util/TreeMap$Entry;" } : Jvm.MethodName)) ∈ lw_all := lw_g (lw_at lw_m3 235 rfl) rfl
theorem q809 : (Jvm.Cond.selects "java/util/TreeMap" ({ cls := "java/util/TreeMap", name := "getFirstEntry", desc := "()Ljava/util/TreeMap$Entry;" } : Jvm.MethodName) ({ cls := "java/util/TreeMap", name := "getFirstEntry", desc := "()Ljava/util/TreeMap$Entry;" } : Jvm.MethodName)) ∈ lw_all := lw_g (lw_at lw_m3 236 rfl) rfl
theorem q810 : (Jvm.Cond.code ({ cls := "java/util/TreeMap", name := "getFirstEntry", desc := "()Ljava/util/TreeMap$Entry;" } : Jvm.MethodName) prog_70_method_72_code (2 : Nat) (Option.some (Jvm.ClassFile.FieldType.object "java/util/TreeMap$Entry"))) ∈ lw_all := lw_g (lw_at lw_m3 237 rfl) rfl
theorem q812 : (Jvm.Cond.instanceMethod ({ cls := "java/util/TreeMap", name := "getCeilingEntry", desc := "(Ljava/lang/Object;)Ljava/util/TreeMap$Entry;" } : Jvm.MethodName)) ∈ lw_all := lw_g (lw_at lw_m3 239 rfl) rfl
theorem q813 : (Jvm.Cond.selects "java/util/TreeMap" ({ cls := "java/util/TreeMap", name := "getCeilingEntry", desc := "(Ljava/lang/Object;)Ljava/util/TreeMap$Entry;" } : Jvm.MethodName) ({ cls := "java/util/TreeMap", name := "getCeilingEntry", desc := "(Ljava/lang/Object;)Ljava/util/TreeMap$Entry;" } : Jvm.MethodName)) ∈ lw_all := lw_g (lw_at lw_m4 0 rfl) rfl
theorem q814 : (Jvm.Cond.code ({ cls := "java/util/TreeMap", name := "getCeilingEntry", desc := "(Ljava/lang/Object;)Ljava/util/TreeMap$Entry;" } : Jvm.MethodName) prog_70_method_17_code (6 : Nat) (Option.some (Jvm.ClassFile.FieldType.object "java/util/TreeMap$Entry"))) ∈ lw_all := lw_g (lw_at lw_m4 1 rfl) rfl
theorem q816 : (Jvm.Cond.instanceMethod ({ cls := "java/util/TreeMap", name := "getHigherEntry", desc := "(Ljava/lang/Object;)Ljava/util/TreeMap$Entry;" } : Jvm.MethodName)) ∈ lw_all := lw_g (lw_at lw_m4 3 rfl) rfl
theorem q817 : (Jvm.Cond.selects "java/util/TreeMap" ({ cls := "java/util/TreeMap", name := "getHigherEntry", desc := "(Ljava/lang/Object;)Ljava/util/TreeMap$Entry;" } : Jvm.MethodName) ({ cls := "java/util/TreeMap", name := "getHigherEntry", desc := "(Ljava/lang/Object;)Ljava/util/TreeMap$Entry;" } : Jvm.MethodName)) ∈ lw_all := lw_g (lw_at lw_m4 4 rfl) rfl
theorem q818 : (Jvm.Cond.code ({ cls := "java/util/TreeMap", name := "getHigherEntry", desc := "(Ljava/lang/Object;)Ljava/util/TreeMap$Entry;" } : Jvm.MethodName) prog_70_method_19_code (6 : Nat) (Option.some (Jvm.ClassFile.FieldType.object "java/util/TreeMap$Entry"))) ∈ lw_all := lw_g (lw_at lw_m4 5 rfl) rfl
theorem q833 : (Jvm.Cond.laysStatic "java/util/TreeMap" "UNBOUNDED" "Ljava/lang/Object;") ∈ lw_tbl := lw_at lw_m4 20 rfl
theorem q932 : (Jvm.Cond.static ({ cls := "java/util/TreeMap", name := "successor", desc := "(Ljava/util/TreeMap$Entry;)Ljava/util/TreeMap$Entry;" } : Jvm.MethodName)) ∈ lw_all := lw_g (lw_at lw_m4 119 rfl) rfl
theorem q933 : (Jvm.Cond.code ({ cls := "java/util/TreeMap", name := "successor", desc := "(Ljava/util/TreeMap$Entry;)Ljava/util/TreeMap$Entry;" } : Jvm.MethodName) prog_70_method_74_code (3 : Nat) (Option.some (Jvm.ClassFile.FieldType.object "java/util/TreeMap$Entry"))) ∈ lw_all := lw_g (lw_at lw_m4 120 rfl) rfl
theorem q985 : (Jvm.Cond.selects "java/util/TreeMap" ({ cls := "java/util/NavigableMap", name := "pollFirstEntry", desc := "()Ljava/util/Map$Entry;" } : Jvm.MethodName) ({ cls := "java/util/TreeMap", name := "pollFirstEntry", desc := "()Ljava/util/Map$Entry;" } : Jvm.MethodName)) ∈ lw_all := lw_g (lw_at lw_m4 172 rfl) rfl
theorem q986 : (Jvm.Cond.unhidden "java/util/TreeMap" "pollFirstEntry" "()Ljava/util/Map$Entry;") ∈ lw_tbl := lw_at lw_m4 173 rfl
theorem q987 : (Jvm.Cond.instanceMethod ({ cls := "java/util/TreeMap", name := "pollFirstEntry", desc := "()Ljava/util/Map$Entry;" } : Jvm.MethodName)) ∈ lw_all := lw_g (lw_at lw_m4 174 rfl) rfl
theorem q988 : (Jvm.Cond.publicMethod ({ cls := "java/util/TreeMap", name := "pollFirstEntry", desc := "()Ljava/util/Map$Entry;" } : Jvm.MethodName)) ∈ lw_tbl := lw_at lw_m4 175 rfl
theorem q989 : (Jvm.Cond.code ({ cls := "java/util/TreeMap", name := "pollFirstEntry", desc := "()Ljava/util/Map$Entry;" } : Jvm.MethodName) prog_70_method_39_code (3 : Nat) (Option.some (Jvm.ClassFile.FieldType.object "java/util/Map$Entry"))) ∈ lw_all := lw_g (lw_at lw_m4 176 rfl) rfl
theorem q990 : (Jvm.Cond.methodLink "java/util/TreeMap" (54 : Nat) ({ cls := "java/util/TreeMap", name := "getFirstEntry", desc := "()Ljava/util/TreeMap$Entry;" } : Jvm.MethodName)) ∈ lw_all := lw_g (lw_at lw_m4 177 rfl) rfl
theorem q991 : (Jvm.Cond.methodLink "java/util/TreeMap" (200 : Nat) ({ cls := "java/util/TreeMap", name := "exportEntry", desc := "(Ljava/util/TreeMap$Entry;)Ljava/util/Map$Entry;" } : Jvm.MethodName)) ∈ lw_all := lw_g (lw_at lw_m4 178 rfl) rfl
theorem q992 : (Jvm.Cond.static ({ cls := "java/util/TreeMap", name := "exportEntry", desc := "(Ljava/util/TreeMap$Entry;)Ljava/util/Map$Entry;" } : Jvm.MethodName)) ∈ lw_all := lw_g (lw_at lw_m4 179 rfl) rfl
theorem q993 : (Jvm.Cond.code ({ cls := "java/util/TreeMap", name := "exportEntry", desc := "(Ljava/util/TreeMap$Entry;)Ljava/util/Map$Entry;" } : Jvm.MethodName) prog_70_method_69_code (1 : Nat) (Option.some (Jvm.ClassFile.FieldType.object "java/util/Map$Entry"))) ∈ lw_all := lw_g (lw_at lw_m4 180 rfl) rfl
theorem q994 : (Jvm.Cond.classLink "java/util/TreeMap" (282 : Nat) "java/util/AbstractMap$SimpleImmutableEntry") ∈ lw_all := lw_g (lw_at lw_m4 181 rfl) rfl
theorem q996 : (Jvm.Cond.methodLink "java/util/TreeMap" (284 : Nat) ({ cls := "java/util/AbstractMap$SimpleImmutableEntry", name := "<init>", desc := "(Ljava/util/Map$Entry;)V" } : Jvm.MethodName)) ∈ lw_all := lw_g (lw_at lw_m4 183 rfl) rfl
theorem q1037 : (Jvm.Cond.methodLink "java/util/TreeMap" (174 : Nat) ({ cls := "java/util/TreeMap", name := "deleteEntry", desc := "(Ljava/util/TreeMap$Entry;)V" } : Jvm.MethodName)) ∈ lw_all := lw_g (lw_at lw_m4 224 rfl) rfl
theorem q1038 : (Jvm.Cond.privateMethod ({ cls := "java/util/TreeMap", name := "deleteEntry", desc := "(Ljava/util/TreeMap$Entry;)V" } : Jvm.MethodName)) ∈ lw_tbl := lw_at lw_m4 225 rfl
theorem q1039 : (Jvm.Cond.instanceMethod ({ cls := "java/util/TreeMap", name := "deleteEntry", desc := "(Ljava/util/TreeMap$Entry;)V" } : Jvm.MethodName)) ∈ lw_all := lw_g (lw_at lw_m4 226 rfl) rfl
theorem q1040 : (Jvm.Cond.code ({ cls := "java/util/TreeMap", name := "deleteEntry", desc := "(Ljava/util/TreeMap$Entry;)V" } : Jvm.MethodName) prog_70_method_84_code (3 : Nat) (Option.none : Option Jvm.ClassFile.FieldType)) ∈ lw_all := lw_g (lw_at lw_m4 227 rfl) rfl
theorem q1041 : (Jvm.Cond.methodLink "java/util/TreeMap" (68 : Nat) ({ cls := "java/util/TreeMap", name := "successor", desc := "(Ljava/util/TreeMap$Entry;)Ljava/util/TreeMap$Entry;" } : Jvm.MethodName)) ∈ lw_all := lw_g (lw_at lw_m4 228 rfl) rfl
theorem q1042 : (Jvm.Cond.methodLink "java/util/TreeMap" (317 : Nat) ({ cls := "java/util/TreeMap", name := "fixAfterDeletion", desc := "(Ljava/util/TreeMap$Entry;)V" } : Jvm.MethodName)) ∈ lw_all := lw_g (lw_at lw_m4 229 rfl) rfl
theorem q1043 : (Jvm.Cond.privateMethod ({ cls := "java/util/TreeMap", name := "fixAfterDeletion", desc := "(Ljava/util/TreeMap$Entry;)V" } : Jvm.MethodName)) ∈ lw_tbl := lw_at lw_m4 230 rfl
theorem q1044 : (Jvm.Cond.instanceMethod ({ cls := "java/util/TreeMap", name := "fixAfterDeletion", desc := "(Ljava/util/TreeMap$Entry;)V" } : Jvm.MethodName)) ∈ lw_all := lw_g (lw_at lw_m4 231 rfl) rfl
theorem q1045 : (Jvm.Cond.code ({ cls := "java/util/TreeMap", name := "fixAfterDeletion", desc := "(Ljava/util/TreeMap$Entry;)V" } : Jvm.MethodName) prog_70_method_85_code (3 : Nat) (Option.none : Option Jvm.ClassFile.FieldType)) ∈ lw_all := lw_g (lw_at lw_m4 232 rfl) rfl
theorem q1368 : (Jvm.Cond.instanceMethod ({ cls := "java/util/TreeMap", name := "get", desc := "(Ljava/lang/Object;)Ljava/lang/Object;" } : Jvm.MethodName)) ∈ lw_all := lw_g (lw_at lw_m6 75 rfl) rfl
theorem q1369 : (Jvm.Cond.selects "java/util/TreeMap" ({ cls := "java/util/TreeMap", name := "get", desc := "(Ljava/lang/Object;)Ljava/lang/Object;" } : Jvm.MethodName) ({ cls := "java/util/TreeMap", name := "get", desc := "(Ljava/lang/Object;)Ljava/lang/Object;" } : Jvm.MethodName)) ∈ lw_all := lw_g (lw_at lw_m6 76 rfl) rfl
theorem q1370 : (Jvm.Cond.code ({ cls := "java/util/TreeMap", name := "get", desc := "(Ljava/lang/Object;)Ljava/lang/Object;" } : Jvm.MethodName) prog_70_method_8_code (3 : Nat) (Option.some (Jvm.ClassFile.FieldType.object "java/lang/Object"))) ∈ lw_all := lw_g (lw_at lw_m6 77 rfl) rfl
theorem q1371 : (Jvm.Cond.methodLink "java/util/TreeMap" (50 : Nat) ({ cls := "java/util/TreeMap", name := "getEntry", desc := "(Ljava/lang/Object;)Ljava/util/TreeMap$Entry;" } : Jvm.MethodName)) ∈ lw_all := lw_g (lw_at lw_m6 78 rfl) rfl
theorem q1372 : (Jvm.Cond.instanceMethod ({ cls := "java/util/TreeMap", name := "getEntry", desc := "(Ljava/lang/Object;)Ljava/util/TreeMap$Entry;" } : Jvm.MethodName)) ∈ lw_all := lw_g (lw_at lw_m6 79 rfl) rfl
theorem q1373 : (Jvm.Cond.selects "java/util/TreeMap" ({ cls := "java/util/TreeMap", name := "getEntry", desc := "(Ljava/lang/Object;)Ljava/util/TreeMap$Entry;" } : Jvm.MethodName) ({ cls := "java/util/TreeMap", name := "getEntry", desc := "(Ljava/lang/Object;)Ljava/util/TreeMap$Entry;" } : Jvm.MethodName)) ∈ lw_all := lw_g (lw_at lw_m6 80 rfl) rfl
theorem q1374 : (Jvm.Cond.code ({ cls := "java/util/TreeMap", name := "getEntry", desc := "(Ljava/lang/Object;)Ljava/util/TreeMap$Entry;" } : Jvm.MethodName) prog_70_method_15_code (5 : Nat) (Option.some (Jvm.ClassFile.FieldType.object "java/util/TreeMap$Entry"))) ∈ lw_all := lw_g (lw_at lw_m6 81 rfl) rfl
theorem q1375 : (Jvm.Cond.methodLink "java/util/TreeMap" (92 : Nat) ({ cls := "java/util/TreeMap", name := "getEntryUsingComparator", desc := "(Ljava/lang/Object;)Ljava/util/TreeMap$Entry;" } : Jvm.MethodName)) ∈ lw_all := lw_g (lw_at lw_m6 82 rfl) rfl
theorem q1376 : (Jvm.Cond.instanceMethod ({ cls := "java/util/TreeMap", name := "getEntryUsingComparator", desc := "(Ljava/lang/Object;)Ljava/util/TreeMap$Entry;" } : Jvm.MethodName)) ∈ lw_all := lw_g (lw_at lw_m6 83 rfl) rfl
theorem q1377 : (Jvm.Cond.selects "java/util/TreeMap" ({ cls := "java/util/TreeMap", name := "getEntryUsingComparator", desc := "(Ljava/lang/Object;)Ljava/util/TreeMap$Entry;" } : Jvm.MethodName) ({ cls := "java/util/TreeMap", name := "getEntryUsingComparator", desc := "(Ljava/lang/Object;)Ljava/util/TreeMap$Entry;" } : Jvm.MethodName)) ∈ lw_all := lw_g (lw_at lw_m6 84 rfl) rfl
theorem q1378 : (Jvm.Cond.code ({ cls := "java/util/TreeMap", name := "getEntryUsingComparator", desc := "(Ljava/lang/Object;)Ljava/util/TreeMap$Entry;" } : Jvm.MethodName) prog_70_method_16_code (6 : Nat) (Option.some (Jvm.ClassFile.FieldType.object "java/util/TreeMap$Entry"))) ∈ lw_all := lw_g (lw_at lw_m6 85 rfl) rfl
theorem q1449 : (Jvm.Cond.selects "java/util/TreeMap" ({ cls := "java/lang/Object", name := "getClass", desc := "()Ljava/lang/Class;" } : Jvm.MethodName) ({ cls := "java/lang/Object", name := "getClass", desc := "()Ljava/lang/Class;" } : Jvm.MethodName)) ∈ lw_all := lw_g (lw_at lw_m6 156 rfl) rfl
theorem q1787 : (Jvm.Cond.instanceMethod ({ cls := "java/util/TreeMap", name := "values", desc := "()Ljava/util/Collection;" } : Jvm.MethodName)) ∈ lw_all := lw_g (lw_at lw_m8 14 rfl) rfl
theorem q1788 : (Jvm.Cond.selects "java/util/TreeMap" ({ cls := "java/util/TreeMap", name := "values", desc := "()Ljava/util/Collection;" } : Jvm.MethodName) ({ cls := "java/util/TreeMap", name := "values", desc := "()Ljava/util/Collection;" } : Jvm.MethodName)) ∈ lw_all := lw_g (lw_at lw_m8 15 rfl) rfl
theorem q1789 : (Jvm.Cond.code ({ cls := "java/util/TreeMap", name := "values", desc := "()Ljava/util/Collection;" } : Jvm.MethodName) prog_70_method_52_code (2 : Nat) (Option.some (Jvm.ClassFile.FieldType.object "java/util/Collection"))) ∈ lw_all := lw_g (lw_at lw_m8 16 rfl) rfl
theorem q1790 : (Jvm.Cond.classLink "java/util/TreeMap" (237 : Nat) "java/util/TreeMap$Values") ∈ lw_all := lw_g (lw_at lw_m8 17 rfl) rfl
theorem q1792 : (Jvm.Cond.methodLink "java/util/TreeMap" (239 : Nat) ({ cls := "java/util/TreeMap$Values", name := "<init>", desc := "(Ljava/util/TreeMap;)V" } : Jvm.MethodName)) ∈ lw_all := lw_g (lw_at lw_m8 19 rfl) rfl
theorem q1849 : (Jvm.Cond.instanceMethod ({ cls := "java/util/TreeMap", name := "keyIterator", desc := "()Ljava/util/Iterator;" } : Jvm.MethodName)) ∈ lw_all := lw_g (lw_at lw_m8 76 rfl) rfl
theorem q1850 : (Jvm.Cond.selects "java/util/TreeMap" ({ cls := "java/util/TreeMap", name := "keyIterator", desc := "()Ljava/util/Iterator;" } : Jvm.MethodName) ({ cls := "java/util/TreeMap", name := "keyIterator", desc := "()Ljava/util/Iterator;" } : Jvm.MethodName)) ∈ lw_all := lw_g (lw_at lw_m8 77 rfl) rfl
theorem q1851 : (Jvm.Cond.code ({ cls := "java/util/TreeMap", name := "keyIterator", desc := "()Ljava/util/Iterator;" } : Jvm.MethodName) prog_70_method_65_code (1 : Nat) (Option.some (Jvm.ClassFile.FieldType.object "java/util/Iterator"))) ∈ lw_all := lw_g (lw_at lw_m8 78 rfl) rfl
theorem q1852 : (Jvm.Cond.classLink "java/util/TreeMap" (269 : Nat) "java/util/TreeMap$KeyIterator") ∈ lw_all := lw_g (lw_at lw_m8 79 rfl) rfl
theorem q1854 : (Jvm.Cond.methodLink "java/util/TreeMap" (271 : Nat) ({ cls := "java/util/TreeMap$KeyIterator", name := "<init>", desc := "(Ljava/util/TreeMap;Ljava/util/TreeMap$Entry;)V" } : Jvm.MethodName)) ∈ lw_all := lw_g (lw_at lw_m8 81 rfl) rfl
theorem q1925 : (Jvm.Cond.selects "java/util/TreeMap" ({ cls := "java/util/NavigableMap", name := "navigableKeySet", desc := "()Ljava/util/NavigableSet;" } : Jvm.MethodName) ({ cls := "java/util/TreeMap", name := "navigableKeySet", desc := "()Ljava/util/NavigableSet;" } : Jvm.MethodName)) ∈ lw_all := lw_g (lw_at lw_m8 152 rfl) rfl
theorem q1926 : (Jvm.Cond.unhidden "java/util/TreeMap" "navigableKeySet" "()Ljava/util/NavigableSet;") ∈ lw_tbl := lw_at lw_m8 153 rfl
theorem q1927 : (Jvm.Cond.instanceMethod ({ cls := "java/util/TreeMap", name := "navigableKeySet", desc := "()Ljava/util/NavigableSet;" } : Jvm.MethodName)) ∈ lw_all := lw_g (lw_at lw_m8 154 rfl) rfl
theorem q1928 : (Jvm.Cond.publicMethod ({ cls := "java/util/TreeMap", name := "navigableKeySet", desc := "()Ljava/util/NavigableSet;" } : Jvm.MethodName)) ∈ lw_tbl := lw_at lw_m8 155 rfl
theorem q1929 : (Jvm.Cond.code ({ cls := "java/util/TreeMap", name := "navigableKeySet", desc := "()Ljava/util/NavigableSet;" } : Jvm.MethodName) prog_70_method_50_code (2 : Nat) (Option.some (Jvm.ClassFile.FieldType.object "java/util/NavigableSet"))) ∈ lw_all := lw_g (lw_at lw_m8 156 rfl) rfl
theorem q1930 : (Jvm.Cond.classLink "java/util/TreeMap" (222 : Nat) "java/util/TreeMap$KeySet") ∈ lw_all := lw_g (lw_at lw_m8 157 rfl) rfl
theorem q1932 : (Jvm.Cond.methodLink "java/util/TreeMap" (224 : Nat) ({ cls := "java/util/TreeMap$KeySet", name := "<init>", desc := "(Ljava/util/NavigableMap;)V" } : Jvm.MethodName)) ∈ lw_all := lw_g (lw_at lw_m8 159 rfl) rfl
theorem q2074 : (Jvm.Cond.selects "java/util/TreeMap" ({ cls := "java/util/SortedMap", name := "lastKey", desc := "()Ljava/lang/Object;" } : Jvm.MethodName) ({ cls := "java/util/TreeMap", name := "lastKey", desc := "()Ljava/lang/Object;" } : Jvm.MethodName)) ∈ lw_all := lw_g (lw_at lw_m9 61 rfl) rfl
theorem q2075 : (Jvm.Cond.unhidden "java/util/TreeMap" "lastKey" "()Ljava/lang/Object;") ∈ lw_tbl := lw_at lw_m9 62 rfl
theorem q2076 : (Jvm.Cond.instanceMethod ({ cls := "java/util/TreeMap", name := "lastKey", desc := "()Ljava/lang/Object;" } : Jvm.MethodName)) ∈ lw_all := lw_g (lw_at lw_m9 63 rfl) rfl
theorem q2077 : (Jvm.Cond.publicMethod ({ cls := "java/util/TreeMap", name := "lastKey", desc := "()Ljava/lang/Object;" } : Jvm.MethodName)) ∈ lw_tbl := lw_at lw_m9 64 rfl
theorem q2078 : (Jvm.Cond.code ({ cls := "java/util/TreeMap", name := "lastKey", desc := "()Ljava/lang/Object;" } : Jvm.MethodName) prog_70_method_11_code (1 : Nat) (Option.some (Jvm.ClassFile.FieldType.object "java/lang/Object"))) ∈ lw_all := lw_g (lw_at lw_m9 65 rfl) rfl
theorem q2079 : (Jvm.Cond.methodLink "java/util/TreeMap" (76 : Nat) ({ cls := "java/util/TreeMap", name := "getLastEntry", desc := "()Ljava/util/TreeMap$Entry;" } : Jvm.MethodName)) ∈ lw_all := lw_g (lw_at lw_m9 66 rfl) rfl
theorem q2080 : (Jvm.Cond.instanceMethod ({ cls := "java/util/TreeMap", name := "getLastEntry", desc := "()Ljava/util/TreeMap$Entry;" } : Jvm.MethodName)) ∈ lw_all := lw_g (lw_at lw_m9 67 rfl) rfl
theorem q2081 : (Jvm.Cond.selects "java/util/TreeMap" ({ cls := "java/util/TreeMap", name := "getLastEntry", desc := "()Ljava/util/TreeMap$Entry;" } : Jvm.MethodName) ({ cls := "java/util/TreeMap", name := "getLastEntry", desc := "()Ljava/util/TreeMap$Entry;" } : Jvm.MethodName)) ∈ lw_all := lw_g (lw_at lw_m9 68 rfl) rfl
theorem q2082 : (Jvm.Cond.code ({ cls := "java/util/TreeMap", name := "getLastEntry", desc := "()Ljava/util/TreeMap$Entry;" } : Jvm.MethodName) prog_70_method_73_code (2 : Nat) (Option.some (Jvm.ClassFile.FieldType.object "java/util/TreeMap$Entry"))) ∈ lw_all := lw_g (lw_at lw_m9 69 rfl) rfl
theorem q2083 : (Jvm.Cond.methodLink "java/util/TreeMap" (72 : Nat) ({ cls := "java/util/TreeMap", name := "key", desc := "(Ljava/util/TreeMap$Entry;)Ljava/lang/Object;" } : Jvm.MethodName)) ∈ lw_all := lw_g (lw_at lw_m9 70 rfl) rfl
theorem q2084 : (Jvm.Cond.static ({ cls := "java/util/TreeMap", name := "key", desc := "(Ljava/util/TreeMap$Entry;)Ljava/lang/Object;" } : Jvm.MethodName)) ∈ lw_all := lw_g (lw_at lw_m9 71 rfl) rfl
theorem q2085 : (Jvm.Cond.code ({ cls := "java/util/TreeMap", name := "key", desc := "(Ljava/util/TreeMap$Entry;)Ljava/lang/Object;" } : Jvm.MethodName) prog_70_method_71_code (1 : Nat) (Option.some (Jvm.ClassFile.FieldType.object "java/lang/Object"))) ∈ lw_all := lw_g (lw_at lw_m9 72 rfl) rfl
theorem q2105 : (Jvm.Cond.instanceMethod ({ cls := "java/util/TreeMap", name := "getFloorEntry", desc := "(Ljava/lang/Object;)Ljava/util/TreeMap$Entry;" } : Jvm.MethodName)) ∈ lw_all := lw_g (lw_at lw_m9 92 rfl) rfl
theorem q2106 : (Jvm.Cond.selects "java/util/TreeMap" ({ cls := "java/util/TreeMap", name := "getFloorEntry", desc := "(Ljava/lang/Object;)Ljava/util/TreeMap$Entry;" } : Jvm.MethodName) ({ cls := "java/util/TreeMap", name := "getFloorEntry", desc := "(Ljava/lang/Object;)Ljava/util/TreeMap$Entry;" } : Jvm.MethodName)) ∈ lw_all := lw_g (lw_at lw_m9 93 rfl) rfl
theorem q2107 : (Jvm.Cond.code ({ cls := "java/util/TreeMap", name := "getFloorEntry", desc := "(Ljava/lang/Object;)Ljava/util/TreeMap$Entry;" } : Jvm.MethodName) prog_70_method_18_code (6 : Nat) (Option.some (Jvm.ClassFile.FieldType.object "java/util/TreeMap$Entry"))) ∈ lw_all := lw_g (lw_at lw_m9 94 rfl) rfl
theorem q2109 : (Jvm.Cond.instanceMethod ({ cls := "java/util/TreeMap", name := "getLowerEntry", desc := "(Ljava/lang/Object;)Ljava/util/TreeMap$Entry;" } : Jvm.MethodName)) ∈ lw_all := lw_g (lw_at lw_m9 96 rfl) rfl
theorem q2110 : (Jvm.Cond.selects "java/util/TreeMap" ({ cls := "java/util/TreeMap", name := "getLowerEntry", desc := "(Ljava/lang/Object;)Ljava/util/TreeMap$Entry;" } : Jvm.MethodName) ({ cls := "java/util/TreeMap", name := "getLowerEntry", desc := "(Ljava/lang/Object;)Ljava/util/TreeMap$Entry;" } : Jvm.MethodName)) ∈ lw_all := lw_g (lw_at lw_m9 97 rfl) rfl
theorem q2111 : (Jvm.Cond.code ({ cls := "java/util/TreeMap", name := "getLowerEntry", desc := "(Ljava/lang/Object;)Ljava/util/TreeMap$Entry;" } : Jvm.MethodName) prog_70_method_20_code (6 : Nat) (Option.some (Jvm.ClassFile.FieldType.object "java/util/TreeMap$Entry"))) ∈ lw_all := lw_g (lw_at lw_m9 98 rfl) rfl
theorem q2182 : (Jvm.Cond.selects "java/util/TreeMap" ({ cls := "java/util/NavigableMap", name := "floorKey", desc := "(Ljava/lang/Object;)Ljava/lang/Object;" } : Jvm.MethodName) ({ cls := "java/util/TreeMap", name := "floorKey", desc := "(Ljava/lang/Object;)Ljava/lang/Object;" } : Jvm.MethodName)) ∈ lw_all := lw_g (lw_at lw_m9 169 rfl) rfl
theorem q2183 : (Jvm.Cond.unhidden "java/util/TreeMap" "floorKey" "(Ljava/lang/Object;)Ljava/lang/Object;") ∈ lw_tbl := lw_at lw_m9 170 rfl
theorem q2184 : (Jvm.Cond.instanceMethod ({ cls := "java/util/TreeMap", name := "floorKey", desc := "(Ljava/lang/Object;)Ljava/lang/Object;" } : Jvm.MethodName)) ∈ lw_all := lw_g (lw_at lw_m9 171 rfl) rfl
theorem q2185 : (Jvm.Cond.publicMethod ({ cls := "java/util/TreeMap", name := "floorKey", desc := "(Ljava/lang/Object;)Ljava/lang/Object;" } : Jvm.MethodName)) ∈ lw_tbl := lw_at lw_m9 172 rfl
theorem q2186 : (Jvm.Cond.code ({ cls := "java/util/TreeMap", name := "floorKey", desc := "(Ljava/lang/Object;)Ljava/lang/Object;" } : Jvm.MethodName) prog_70_method_44_code (2 : Nat) (Option.some (Jvm.ClassFile.FieldType.object "java/lang/Object"))) ∈ lw_all := lw_g (lw_at lw_m9 173 rfl) rfl
theorem q2187 : (Jvm.Cond.methodLink "java/util/TreeMap" (210 : Nat) ({ cls := "java/util/TreeMap", name := "getFloorEntry", desc := "(Ljava/lang/Object;)Ljava/util/TreeMap$Entry;" } : Jvm.MethodName)) ∈ lw_all := lw_g (lw_at lw_m9 174 rfl) rfl
theorem q2188 : (Jvm.Cond.methodLink "java/util/TreeMap" (207 : Nat) ({ cls := "java/util/TreeMap", name := "keyOrNull", desc := "(Ljava/util/TreeMap$Entry;)Ljava/lang/Object;" } : Jvm.MethodName)) ∈ lw_all := lw_g (lw_at lw_m9 175 rfl) rfl
theorem q2189 : (Jvm.Cond.static ({ cls := "java/util/TreeMap", name := "keyOrNull", desc := "(Ljava/util/TreeMap$Entry;)Ljava/lang/Object;" } : Jvm.MethodName)) ∈ lw_all := lw_g (lw_at lw_m9 176 rfl) rfl
theorem q2190 : (Jvm.Cond.code ({ cls := "java/util/TreeMap", name := "keyOrNull", desc := "(Ljava/util/TreeMap$Entry;)Ljava/lang/Object;" } : Jvm.MethodName) prog_70_method_70_code (1 : Nat) (Option.some (Jvm.ClassFile.FieldType.object "java/lang/Object"))) ∈ lw_all := lw_g (lw_at lw_m9 177 rfl) rfl
theorem q2381 : (Jvm.Cond.selects "java/util/TreeMap" ({ cls := "java/util/NavigableMap", name := "headMap", desc := "(Ljava/lang/Object;Z)Ljava/util/NavigableMap;" } : Jvm.MethodName) ({ cls := "java/util/TreeMap", name := "headMap", desc := "(Ljava/lang/Object;Z)Ljava/util/NavigableMap;" } : Jvm.MethodName)) ∈ lw_all := lw_g (lw_at lw_m10 128 rfl) rfl
theorem q2382 : (Jvm.Cond.unhidden "java/util/TreeMap" "headMap" "(Ljava/lang/Object;Z)Ljava/util/NavigableMap;") ∈ lw_tbl := lw_at lw_m10 129 rfl
theorem q2383 : (Jvm.Cond.instanceMethod ({ cls := "java/util/TreeMap", name := "headMap", desc := "(Ljava/lang/Object;Z)Ljava/util/NavigableMap;" } : Jvm.MethodName)) ∈ lw_all := lw_g (lw_at lw_m10 130 rfl) rfl
theorem q2384 : (Jvm.Cond.publicMethod ({ cls := "java/util/TreeMap", name := "headMap", desc := "(Ljava/lang/Object;Z)Ljava/util/NavigableMap;" } : Jvm.MethodName)) ∈ lw_tbl := lw_at lw_m10 131 rfl
theorem q2385 : (Jvm.Cond.code ({ cls := "java/util/TreeMap", name := "headMap", desc := "(Ljava/lang/Object;Z)Ljava/util/NavigableMap;" } : Jvm.MethodName) prog_70_method_56_code (3 : Nat) (Option.some (Jvm.ClassFile.FieldType.object "java/util/NavigableMap"))) ∈ lw_all := lw_g (lw_at lw_m10 132 rfl) rfl
theorem q2386 : (Jvm.Cond.classLink "java/util/TreeMap" (250 : Nat) "java/util/TreeMap$AscendingSubMap") ∈ lw_all := lw_g (lw_at lw_m10 133 rfl) rfl
theorem q2388 : (Jvm.Cond.methodLink "java/util/TreeMap" (252 : Nat) ({ cls := "java/util/TreeMap$AscendingSubMap", name := "<init>", desc := "(Ljava/util/TreeMap;ZLjava/lang/Object;ZZLjava/lang/Object;Z)V" } : Jvm.MethodName)) ∈ lw_all := lw_g (lw_at lw_m10 135 rfl) rfl
theorem q3090 : (Jvm.Cond.selects "java/util/TreeMap" ({ cls := "java/util/TreeMap", name := "put", desc := "(Ljava/lang/Object;Ljava/lang/Object;)Ljava/lang/Object;" } : Jvm.MethodName) ({ cls := "java/util/TreeMap", name := "put", desc := "(Ljava/lang/Object;Ljava/lang/Object;)Ljava/lang/Object;" } : Jvm.MethodName)) ∈ lw_all := lw_g (lw_at lw_m13 117 rfl) rfl
theorem q3091 : (Jvm.Cond.selects "java/util/TreeMap" ({ cls := "java/util/TreeMap", name := "size", desc := "()I" } : Jvm.MethodName) ({ cls := "java/util/TreeMap", name := "size", desc := "()I" } : Jvm.MethodName)) ∈ lw_all := lw_g (lw_at lw_m13 118 rfl) rfl
theorem q3111 : (Jvm.Cond.castable "java/util/TreeMap" "java/lang/Object") ∈ lw_tbl := lw_at lw_m13 138 rfl
theorem in_J1 : ∀ w ∈ wsJ10, w ∈ lw_all := lw_in wsJ10 [213, 215, 199, 201, 203, 205, 207, 209, 211] (by decide +kernel) (by decide +kernel)

/-! java/util/TreeSet -/
set_option maxRecDepth 100000
def RJ6 : String := "java/util/TreeSet"
def TJ6 : u_T := fun k => match k with
  | _ => ("java/util/TreeSet", "m", "Ljava/util/NavigableMap;", false)
def tyJ6 : Nat → FieldType := fun k => match k with
  | _ => .object "java/util/NavigableMap"
abbrev wsJ60 : List Cond := u_ws RJ6 TJ6 1
theorem nmJ6 : ∀ a, a < 1 → ∀ b, b < 1 → a ≠ b → (TJ6 a).2.1 ≠ (TJ6 b).2.1 := by decide +kernel
theorem tyJ6_ok : ∀ k, k < 1 → parseFieldDescriptor (TJ6 k).2.2.1 = some (tyJ6 k) := by decide +kernel
abbrev cJ6_init : ByteArray := prog_84_method_3_code
def yJ6_init : MethodName := ⟨RJ6, "<init>", "(Ljava/util/Comparator;)V"⟩
def dkwJ6_init_0 : List UInt8 := [42, 187, 0, 13, 89, 43, 183, 0, 19, 183, 0, 16, 177]
abbrev dktJ6_init_0 : List UInt8 := dkwJ6_init_0 ++ []
theorem dksJ6_init_0 : cJ6_init.data.toList.drop 0 = dktJ6_init_0 := by decide +kernel
theorem dJ6_init_0 : decode cJ6_init 0 = .ok (.aload_n 0, 1) := dk_42 (dk_at dksJ6_init_0 0 rfl rfl)
theorem dJ6_init_1 : decode cJ6_init 1 = .ok (.new 13, 3) := dk_187 0 13 (dk_at dksJ6_init_0 1 rfl rfl)
theorem dJ6_init_4 : decode cJ6_init 4 = .ok (.dup, 1) := dk_89 (dk_at dksJ6_init_0 4 rfl rfl)
theorem dJ6_init_5 : decode cJ6_init 5 = .ok (.aload_n 1, 1) := dk_43 (dk_at dksJ6_init_0 5 rfl rfl)
theorem dJ6_init_6 : decode cJ6_init 6 = .ok (.invokespecial 19, 3) := dk_183 0 19 (dk_at dksJ6_init_0 6 rfl rfl)
theorem dJ6_init_9 : decode cJ6_init 9 = .ok (.invokespecial 16, 3) := dk_183 0 16 (dk_at dksJ6_init_0 9 rfl rfl)
theorem dJ6_init_12 : decode cJ6_init 12 = .ok (.return_, 1) := dk_177 (dk_at dksJ6_init_0 12 rfl rfl)
abbrev cJ6_init_2 : ByteArray := prog_84_method_1_code
def yJ6_init_2 : MethodName := ⟨RJ6, "<init>", "(Ljava/util/NavigableMap;)V"⟩
def dkwJ6_init_2_0 : List UInt8 := [42, 183, 0, 1, 42, 43, 181, 0, 7, 177]
abbrev dktJ6_init_2_0 : List UInt8 := dkwJ6_init_2_0 ++ []
theorem dksJ6_init_2_0 : cJ6_init_2.data.toList.drop 0 = dktJ6_init_2_0 := by decide +kernel
theorem dJ6_init_2_0 : decode cJ6_init_2 0 = .ok (.aload_n 0, 1) := dk_42 (dk_at dksJ6_init_2_0 0 rfl rfl)
theorem dJ6_init_2_1 : decode cJ6_init_2 1 = .ok (.invokespecial 1, 3) := dk_183 0 1 (dk_at dksJ6_init_2_0 1 rfl rfl)
theorem dJ6_init_2_4 : decode cJ6_init_2 4 = .ok (.aload_n 0, 1) := dk_42 (dk_at dksJ6_init_2_0 4 rfl rfl)
theorem dJ6_init_2_5 : decode cJ6_init_2 5 = .ok (.aload_n 1, 1) := dk_43 (dk_at dksJ6_init_2_0 5 rfl rfl)
theorem dJ6_init_2_6 : decode cJ6_init_2 6 = .ok (.putfield 7, 3) := dk_181 0 7 (dk_at dksJ6_init_2_0 6 rfl rfl)
theorem dJ6_init_2_9 : decode cJ6_init_2 9 = .ok (.return_, 1) := dk_177 (dk_at dksJ6_init_2_0 9 rfl rfl)
abbrev cJ6_add : ByteArray := prog_84_method_12_code
def yJ6_add : MethodName := ⟨RJ6, "add", "(Ljava/lang/Object;)Z"⟩
def dkwJ6_add_0 : List UInt8 := [42, 180, 0, 7, 43, 178, 0, 65, 185, 0, 69, 3, 0, 199, 0, 7, 4, 167, 0, 4, 3, 172]
abbrev dktJ6_add_0 : List UInt8 := dkwJ6_add_0 ++ []
theorem dksJ6_add_0 : cJ6_add.data.toList.drop 0 = dktJ6_add_0 := by decide +kernel
theorem dJ6_add_0 : decode cJ6_add 0 = .ok (.aload_n 0, 1) := dk_42 (dk_at dksJ6_add_0 0 rfl rfl)
theorem dJ6_add_1 : decode cJ6_add 1 = .ok (.getfield 7, 3) := dk_180 0 7 (dk_at dksJ6_add_0 1 rfl rfl)
theorem dJ6_add_4 : decode cJ6_add 4 = .ok (.aload_n 1, 1) := dk_43 (dk_at dksJ6_add_0 4 rfl rfl)
theorem dJ6_add_5 : decode cJ6_add 5 = .ok (.getstatic 65, 3) := dk_178 0 65 (dk_at dksJ6_add_0 5 rfl rfl)
theorem dJ6_add_8 : decode cJ6_add 8 = .ok (.invokeinterface 69 3, 5) := by decide +kernel
theorem dJ6_add_13 : decode cJ6_add 13 = .ok (.ifnonnull 7, 3) := dk_199 0 7 (dk_at dksJ6_add_0 13 rfl rfl)
theorem dJ6_add_16 : decode cJ6_add 16 = .ok (.iconst 1, 1) := dk_4 (dk_at dksJ6_add_0 16 rfl rfl)
theorem dJ6_add_17 : decode cJ6_add 17 = .ok (.goto 4, 3) := dk_167 0 4 (dk_at dksJ6_add_0 17 rfl rfl)
theorem dJ6_add_20 : decode cJ6_add 20 = .ok (.iconst 0, 1) := dk_3 (dk_at dksJ6_add_0 20 rfl rfl)
theorem dJ6_add_21 : decode cJ6_add 21 = .ok (.ireturn, 1) := dk_172 (dk_at dksJ6_add_0 21 rfl rfl)
abbrev cJ6_size : ByteArray := prog_84_method_9_code
def yJ6_size : MethodName := ⟨RJ6, "size", "()I"⟩
def dkwJ6_size_0 : List UInt8 := [42, 180, 0, 7, 185, 0, 53, 1, 0, 172]
abbrev dktJ6_size_0 : List UInt8 := dkwJ6_size_0 ++ []
theorem dksJ6_size_0 : cJ6_size.data.toList.drop 0 = dktJ6_size_0 := by decide +kernel
theorem dJ6_size_0 : decode cJ6_size 0 = .ok (.aload_n 0, 1) := dk_42 (dk_at dksJ6_size_0 0 rfl rfl)
theorem dJ6_size_1 : decode cJ6_size 1 = .ok (.getfield 7, 3) := dk_180 0 7 (dk_at dksJ6_size_0 1 rfl rfl)
theorem dJ6_size_4 : decode cJ6_size 4 = .ok (.invokeinterface 53 1, 5) := by decide +kernel
theorem dJ6_size_9 : decode cJ6_size 9 = .ok (.ireturn, 1) := dk_172 (dk_at dksJ6_size_0 9 rfl rfl)
abbrev cJ6_pollFirst : ByteArray := prog_84_method_29_code
def yJ6_pollFirst : MethodName := ⟨RJ6, "pollFirst", "()Ljava/lang/Object;"⟩
def dkwJ6_pollFirst_1 : List UInt8 := [176]
abbrev dktJ6_pollFirst_1 : List UInt8 := dkwJ6_pollFirst_1 ++ []
def dkwJ6_pollFirst_0 : List UInt8 := [42, 180, 0, 7, 185, 0, 137, 1, 0, 76, 43, 199, 0, 7, 1, 167, 0, 9, 43, 185, 0, 141, 1, 0]
abbrev dktJ6_pollFirst_0 : List UInt8 := dkwJ6_pollFirst_0 ++ dktJ6_pollFirst_1
theorem dksJ6_pollFirst_0 : cJ6_pollFirst.data.toList.drop 0 = dktJ6_pollFirst_0 := by decide +kernel
theorem dksJ6_pollFirst_1 : cJ6_pollFirst.data.toList.drop 24 = dktJ6_pollFirst_1 := dk_seg dksJ6_pollFirst_0 24 rfl rfl
theorem dJ6_pollFirst_0 : decode cJ6_pollFirst 0 = .ok (.aload_n 0, 1) := dk_42 (dk_at dksJ6_pollFirst_0 0 rfl rfl)
theorem dJ6_pollFirst_1 : decode cJ6_pollFirst 1 = .ok (.getfield 7, 3) := dk_180 0 7 (dk_at dksJ6_pollFirst_0 1 rfl rfl)
theorem dJ6_pollFirst_4 : decode cJ6_pollFirst 4 = .ok (.invokeinterface 137 1, 5) := by decide +kernel
theorem dJ6_pollFirst_9 : decode cJ6_pollFirst 9 = .ok (.astore_n 1, 1) := dk_76 (dk_at dksJ6_pollFirst_0 9 rfl rfl)
theorem dJ6_pollFirst_10 : decode cJ6_pollFirst 10 = .ok (.aload_n 1, 1) := dk_43 (dk_at dksJ6_pollFirst_0 10 rfl rfl)
theorem dJ6_pollFirst_11 : decode cJ6_pollFirst 11 = .ok (.ifnonnull 7, 3) := dk_199 0 7 (dk_at dksJ6_pollFirst_0 11 rfl rfl)
theorem dJ6_pollFirst_14 : decode cJ6_pollFirst 14 = .ok (.aconst_null, 1) := dk_1 (dk_at dksJ6_pollFirst_0 14 rfl rfl)
theorem dJ6_pollFirst_15 : decode cJ6_pollFirst 15 = .ok (.goto 9, 3) := dk_167 0 9 (dk_at dksJ6_pollFirst_0 15 rfl rfl)
theorem dJ6_pollFirst_18 : decode cJ6_pollFirst 18 = .ok (.aload_n 1, 1) := dk_43 (dk_at dksJ6_pollFirst_0 18 rfl rfl)
theorem dJ6_pollFirst_19 : decode cJ6_pollFirst 19 = .ok (.invokeinterface 141 1, 5) := by decide +kernel
theorem dJ6_pollFirst_24 : decode cJ6_pollFirst 24 = .ok (.areturn, 1) := dk_176 (dk_at dksJ6_pollFirst_1 0 rfl rfl)
abbrev cJ6_iterator : ByteArray := prog_84_method_6_code
def yJ6_iterator : MethodName := ⟨RJ6, "iterator", "()Ljava/util/Iterator;"⟩
def dkwJ6_iterator_0 : List UInt8 := [42, 180, 0, 7, 185, 0, 34, 1, 0, 185, 0, 40, 1, 0, 176]
abbrev dktJ6_iterator_0 : List UInt8 := dkwJ6_iterator_0 ++ []
theorem dksJ6_iterator_0 : cJ6_iterator.data.toList.drop 0 = dktJ6_iterator_0 := by decide +kernel
theorem dJ6_iterator_0 : decode cJ6_iterator 0 = .ok (.aload_n 0, 1) := dk_42 (dk_at dksJ6_iterator_0 0 rfl rfl)
theorem dJ6_iterator_1 : decode cJ6_iterator 1 = .ok (.getfield 7, 3) := dk_180 0 7 (dk_at dksJ6_iterator_0 1 rfl rfl)
theorem dJ6_iterator_4 : decode cJ6_iterator 4 = .ok (.invokeinterface 34 1, 5) := by decide +kernel
theorem dJ6_iterator_9 : decode cJ6_iterator 9 = .ok (.invokeinterface 40 1, 5) := by decide +kernel
theorem dJ6_iterator_14 : decode cJ6_iterator 14 = .ok (.areturn, 1) := dk_176 (dk_at dksJ6_iterator_0 14 rfl rfl)
abbrev cJ6_last : ByteArray := prog_84_method_24_code
def yJ6_last : MethodName := ⟨RJ6, "last", "()Ljava/lang/Object;"⟩
def dkwJ6_last_0 : List UInt8 := [42, 180, 0, 7, 185, 0, 122, 1, 0, 176]
abbrev dktJ6_last_0 : List UInt8 := dkwJ6_last_0 ++ []
theorem dksJ6_last_0 : cJ6_last.data.toList.drop 0 = dktJ6_last_0 := by decide +kernel
theorem dJ6_last_0 : decode cJ6_last 0 = .ok (.aload_n 0, 1) := dk_42 (dk_at dksJ6_last_0 0 rfl rfl)
theorem dJ6_last_1 : decode cJ6_last 1 = .ok (.getfield 7, 3) := dk_180 0 7 (dk_at dksJ6_last_0 1 rfl rfl)
theorem dJ6_last_4 : decode cJ6_last 4 = .ok (.invokeinterface 122 1, 5) := by decide +kernel
theorem dJ6_last_9 : decode cJ6_last 9 = .ok (.areturn, 1) := dk_176 (dk_at dksJ6_last_0 9 rfl rfl)
abbrev cJ6_floor : ByteArray := prog_84_method_26_code
def yJ6_floor : MethodName := ⟨RJ6, "floor", "(Ljava/lang/Object;)Ljava/lang/Object;"⟩
def dkwJ6_floor_0 : List UInt8 := [42, 180, 0, 7, 43, 185, 0, 128, 2, 0, 176]
abbrev dktJ6_floor_0 : List UInt8 := dkwJ6_floor_0 ++ []
theorem dksJ6_floor_0 : cJ6_floor.data.toList.drop 0 = dktJ6_floor_0 := by decide +kernel
theorem dJ6_floor_0 : decode cJ6_floor 0 = .ok (.aload_n 0, 1) := dk_42 (dk_at dksJ6_floor_0 0 rfl rfl)
theorem dJ6_floor_1 : decode cJ6_floor 1 = .ok (.getfield 7, 3) := dk_180 0 7 (dk_at dksJ6_floor_0 1 rfl rfl)
theorem dJ6_floor_4 : decode cJ6_floor 4 = .ok (.aload_n 1, 1) := dk_43 (dk_at dksJ6_floor_0 4 rfl rfl)
theorem dJ6_floor_5 : decode cJ6_floor 5 = .ok (.invokeinterface 128 2, 5) := by decide +kernel
theorem dJ6_floor_10 : decode cJ6_floor 10 = .ok (.areturn, 1) := dk_176 (dk_at dksJ6_floor_0 10 rfl rfl)
abbrev cJ6_headSet : ByteArray := prog_84_method_20_code
def yJ6_headSet : MethodName := ⟨RJ6, "headSet", "(Ljava/lang/Object;)Ljava/util/SortedSet;"⟩
def dkwJ6_headSet_0 : List UInt8 := [42, 43, 3, 182, 0, 110, 176]
abbrev dktJ6_headSet_0 : List UInt8 := dkwJ6_headSet_0 ++ []
theorem dksJ6_headSet_0 : cJ6_headSet.data.toList.drop 0 = dktJ6_headSet_0 := by decide +kernel
theorem dJ6_headSet_0 : decode cJ6_headSet 0 = .ok (.aload_n 0, 1) := dk_42 (dk_at dksJ6_headSet_0 0 rfl rfl)
theorem dJ6_headSet_1 : decode cJ6_headSet 1 = .ok (.aload_n 1, 1) := dk_43 (dk_at dksJ6_headSet_0 1 rfl rfl)
theorem dJ6_headSet_2 : decode cJ6_headSet 2 = .ok (.iconst 0, 1) := dk_3 (dk_at dksJ6_headSet_0 2 rfl rfl)
theorem dJ6_headSet_3 : decode cJ6_headSet 3 = .ok (.invokevirtual 110, 3) := dk_182 0 110 (dk_at dksJ6_headSet_0 3 rfl rfl)
theorem dJ6_headSet_6 : decode cJ6_headSet 6 = .ok (.areturn, 1) := dk_176 (dk_at dksJ6_headSet_0 6 rfl rfl)
abbrev cJ6_headSet_2 : ByteArray := prog_84_method_17_code
def yJ6_headSet_2 : MethodName := ⟨RJ6, "headSet", "(Ljava/lang/Object;Z)Ljava/util/NavigableSet;"⟩
def dkwJ6_headSet_2_0 : List UInt8 := [187, 0, 8, 89, 42, 180, 0, 7, 43, 28, 185, 0, 99, 3, 0, 183, 0, 16, 176]
abbrev dktJ6_headSet_2_0 : List UInt8 := dkwJ6_headSet_2_0 ++ []
theorem dksJ6_headSet_2_0 : cJ6_headSet_2.data.toList.drop 0 = dktJ6_headSet_2_0 := by decide +kernel
theorem dJ6_headSet_2_0 : decode cJ6_headSet_2 0 = .ok (.new 8, 3) := dk_187 0 8 (dk_at dksJ6_headSet_2_0 0 rfl rfl)
theorem dJ6_headSet_2_3 : decode cJ6_headSet_2 3 = .ok (.dup, 1) := dk_89 (dk_at dksJ6_headSet_2_0 3 rfl rfl)
theorem dJ6_headSet_2_4 : decode cJ6_headSet_2 4 = .ok (.aload_n 0, 1) := dk_42 (dk_at dksJ6_headSet_2_0 4 rfl rfl)
theorem dJ6_headSet_2_5 : decode cJ6_headSet_2 5 = .ok (.getfield 7, 3) := dk_180 0 7 (dk_at dksJ6_headSet_2_0 5 rfl rfl)
theorem dJ6_headSet_2_8 : decode cJ6_headSet_2 8 = .ok (.aload_n 1, 1) := dk_43 (dk_at dksJ6_headSet_2_0 8 rfl rfl)
theorem dJ6_headSet_2_9 : decode cJ6_headSet_2 9 = .ok (.iload_n 2, 1) := dk_28 (dk_at dksJ6_headSet_2_0 9 rfl rfl)
theorem dJ6_headSet_2_10 : decode cJ6_headSet_2 10 = .ok (.invokeinterface 99 3, 5) := by decide +kernel
theorem dJ6_headSet_2_15 : decode cJ6_headSet_2 15 = .ok (.invokespecial 16, 3) := dk_183 0 16 (dk_at dksJ6_headSet_2_0 15 rfl rfl)
theorem dJ6_headSet_2_18 : decode cJ6_headSet_2 18 = .ok (.areturn, 1) := dk_176 (dk_at dksJ6_headSet_2_0 18 rfl rfl)
theorem q105 : (Jvm.Cond.initialized "java/util/TreeSet") ∈ lw_all := lw_g (lw_at lw_m1 12 rfl) rfl
theorem q301 : (Jvm.Cond.instantiable "java/util/TreeSet" (1 : Nat)) ∈ lw_all := lw_g (lw_at lw_m1 208 rfl) rfl
theorem q311 : (Jvm.Cond.instanceMethod ({ cls := "java/util/TreeSet", name := "<init>", desc := "(Ljava/util/Comparator;)V" } : Jvm.MethodName)) ∈ lw_all := lw_g (lw_at lw_m1 218 rfl) rfl
theorem q312 : (Jvm.Cond.code ({ cls := "java/util/TreeSet", name := "<init>", desc := "(Ljava/util/Comparator;)V" } : Jvm.MethodName) prog_84_method_3_code (2 : Nat) (Option.none : Option Jvm.ClassFile.FieldType)) ∈ lw_all := lw_g (lw_at lw_m1 219 rfl) rfl
theorem q313 : (Jvm.Cond.classLink "java/util/TreeSet" (13 : Nat) "java/util/TreeMap") ∈ lw_all := lw_g (lw_at lw_m1 220 rfl) rfl
theorem q314 : (Jvm.Cond.methodLink "java/util/TreeSet" (19 : Nat) ({ cls := "java/util/TreeMap", name := "<init>", desc := "(Ljava/util/Comparator;)V" } : Jvm.MethodName)) ∈ lw_all := lw_g (lw_at lw_m1 221 rfl) rfl
theorem q317 : (Jvm.Cond.methodLink "java/util/TreeSet" (16 : Nat) ({ cls := "java/util/TreeSet", name := "<init>", desc := "(Ljava/util/NavigableMap;)V" } : Jvm.MethodName)) ∈ lw_all := lw_g (lw_at lw_m1 224 rfl) rfl
theorem q318 : (Jvm.Cond.instanceMethod ({ cls := "java/util/TreeSet", name := "<init>", desc := "(Ljava/util/NavigableMap;)V" } : Jvm.MethodName)) ∈ lw_all := lw_g (lw_at lw_m1 225 rfl) rfl
theorem q319 : (Jvm.Cond.code ({ cls := "java/util/TreeSet", name := "<init>", desc := "(Ljava/util/NavigableMap;)V" } : Jvm.MethodName) prog_84_method_1_code (2 : Nat) (Option.none : Option Jvm.ClassFile.FieldType)) ∈ lw_all := lw_g (lw_at lw_m1 226 rfl) rfl
theorem q320 : (Jvm.Cond.methodLink "java/util/TreeSet" (1 : Nat) ({ cls := "java/util/AbstractSet", name := "<init>", desc := "()V" } : Jvm.MethodName)) ∈ lw_all := lw_g (lw_at lw_m1 227 rfl) rfl
theorem q324 : (Jvm.Cond.fieldLink "java/util/TreeSet" (7 : Nat) "java/util/TreeSet" "m" "Ljava/util/NavigableMap;") ∈ lw_all := lw_g (lw_at lw_m1 231 rfl) rfl
theorem q325 : (Jvm.Cond.lays "java/util/TreeSet" "java/util/TreeSet" "m" "Ljava/util/NavigableMap;") ∈ lw_all := lw_g (lw_at lw_m1 232 rfl) rfl
theorem q326 : (Jvm.Cond.soleField "java/util/TreeSet" "m") ∈ lw_all := lw_g (lw_at lw_m1 233 rfl) rfl
theorem q327 : (Jvm.Cond.superclass "java/util/TreeSet" "java/util/AbstractSet") ∈ lw_all := lw_g (lw_at lw_m1 234 rfl) rfl
theorem q405 : (Jvm.Cond.instanceMethod ({ cls := "java/util/TreeSet", name := "add", desc := "(Ljava/lang/Object;)Z" } : Jvm.MethodName)) ∈ lw_all := lw_g (lw_at lw_m2 72 rfl) rfl
theorem q406 : (Jvm.Cond.selects "java/util/TreeSet" ({ cls := "java/util/TreeSet", name := "add", desc := "(Ljava/lang/Object;)Z" } : Jvm.MethodName) ({ cls := "java/util/TreeSet", name := "add", desc := "(Ljava/lang/Object;)Z" } : Jvm.MethodName)) ∈ lw_all := lw_g (lw_at lw_m2 73 rfl) rfl
theorem q407 : (Jvm.Cond.code ({ cls := "java/util/TreeSet", name := "add", desc := "(Ljava/lang/Object;)Z" } : Jvm.MethodName) prog_84_method_12_code (2 : Nat) (Option.some Jvm.ClassFile.FieldType.boolean)) ∈ lw_all := lw_g (lw_at lw_m2 74 rfl) rfl
theorem q408 : (Jvm.Cond.fieldLink "java/util/TreeSet" (65 : Nat) "java/util/TreeSet" "PRESENT" "Ljava/lang/Object;") ∈ lw_all := lw_g (lw_at lw_m2 75 rfl) rfl
theorem q409 : (Jvm.Cond.laysStatic "java/util/TreeSet" "PRESENT" "Ljava/lang/Object;") ∈ lw_tbl := lw_at lw_m2 76 rfl
theorem q410 : (Jvm.Cond.interfaceEntry "java/util/TreeSet" (69 : Nat)) ∈ lw_tbl := lw_at lw_m2 77 rfl
theorem q737 : (Jvm.Cond.instanceMethod ({ cls := "java/util/TreeSet", name := "size", desc := "()I" } : Jvm.MethodName)) ∈ lw_all := lw_g (lw_at lw_m3 164 rfl) rfl
theorem q738 : (Jvm.Cond.selects "java/util/TreeSet" ({ cls := "java/util/TreeSet", name := "size", desc := "()I" } : Jvm.MethodName) ({ cls := "java/util/TreeSet", name := "size", desc := "()I" } : Jvm.MethodName)) ∈ lw_all := lw_g (lw_at lw_m3 165 rfl) rfl
theorem q739 : (Jvm.Cond.code ({ cls := "java/util/TreeSet", name := "size", desc := "()I" } : Jvm.MethodName) prog_84_method_9_code (1 : Nat) (Option.some Jvm.ClassFile.FieldType.int)) ∈ lw_all := lw_g (lw_at lw_m3 166 rfl) rfl
theorem q740 : (Jvm.Cond.interfaceEntry "java/util/TreeSet" (53 : Nat)) ∈ lw_tbl := lw_at lw_m3 167 rfl
theorem q973 : (Jvm.Cond.castable "java/util/TreeSet" "java/util/Set") ∈ lw_tbl := lw_at lw_m4 160 rfl
theorem q974 : (Jvm.Cond.selects "java/util/TreeSet" ({ cls := "java/util/Set", name := "size", desc := "()I" } : Jvm.MethodName) ({ cls := "java/util/TreeSet", name := "size", desc := "()I" } : Jvm.MethodName)) ∈ lw_all := lw_g (lw_at lw_m4 161 rfl) rfl
theorem q975 : (Jvm.Cond.unhidden "java/util/TreeSet" "size" "()I") ∈ lw_tbl := lw_at lw_m4 162 rfl
theorem q976 : (Jvm.Cond.publicMethod ({ cls := "java/util/TreeSet", name := "size", desc := "()I" } : Jvm.MethodName)) ∈ lw_tbl := lw_at lw_m4 163 rfl
theorem q978 : (Jvm.Cond.instanceMethod ({ cls := "java/util/TreeSet", name := "pollFirst", desc := "()Ljava/lang/Object;" } : Jvm.MethodName)) ∈ lw_all := lw_g (lw_at lw_m4 165 rfl) rfl
theorem q979 : (Jvm.Cond.selects "java/util/TreeSet" ({ cls := "java/util/TreeSet", name := "pollFirst", desc := "()Ljava/lang/Object;" } : Jvm.MethodName) ({ cls := "java/util/TreeSet", name := "pollFirst", desc := "()Ljava/lang/Object;" } : Jvm.MethodName)) ∈ lw_all := lw_g (lw_at lw_m4 166 rfl) rfl
theorem q980 : (Jvm.Cond.code ({ cls := "java/util/TreeSet", name := "pollFirst", desc := "()Ljava/lang/Object;" } : Jvm.MethodName) prog_84_method_29_code (2 : Nat) (Option.some (Jvm.ClassFile.FieldType.object "java/lang/Object"))) ∈ lw_all := lw_g (lw_at lw_m4 167 rfl) rfl
theorem q981 : (Jvm.Cond.interfaceEntry "java/util/TreeSet" (137 : Nat)) ∈ lw_tbl := lw_at lw_m4 168 rfl
theorem q982 : (Jvm.Cond.methodLink "java/util/TreeSet" (137 : Nat) ({ cls := "java/util/NavigableMap", name := "pollFirstEntry", desc := "()Ljava/util/Map$Entry;" } : Jvm.MethodName)) ∈ lw_all := lw_g (lw_at lw_m4 169 rfl) rfl
theorem q1060 : (Jvm.Cond.interfaceEntry "java/util/TreeSet" (141 : Nat)) ∈ lw_tbl := lw_at lw_m5 7 rfl
theorem q1061 : (Jvm.Cond.methodLink "java/util/TreeSet" (141 : Nat) ({ cls := "java/util/Map$Entry", name := "getKey", desc := "()Ljava/lang/Object;" } : Jvm.MethodName)) ∈ lw_all := lw_g (lw_at lw_m5 8 rfl) rfl
theorem q1459 : (Jvm.Cond.selects "java/util/TreeSet" ({ cls := "java/lang/Object", name := "getClass", desc := "()Ljava/lang/Class;" } : Jvm.MethodName) ({ cls := "java/lang/Object", name := "getClass", desc := "()Ljava/lang/Class;" } : Jvm.MethodName)) ∈ lw_all := lw_g (lw_at lw_m6 166 rfl) rfl
theorem q1915 : (Jvm.Cond.castable "java/util/TreeSet" "java/util/Collection") ∈ lw_tbl := lw_at lw_m8 142 rfl
theorem q1916 : (Jvm.Cond.selects "java/util/TreeSet" ({ cls := "java/util/Collection", name := "iterator", desc := "()Ljava/util/Iterator;" } : Jvm.MethodName) ({ cls := "java/util/TreeSet", name := "iterator", desc := "()Ljava/util/Iterator;" } : Jvm.MethodName)) ∈ lw_all := lw_g (lw_at lw_m8 143 rfl) rfl
theorem q1917 : (Jvm.Cond.unhidden "java/util/TreeSet" "iterator" "()Ljava/util/Iterator;") ∈ lw_tbl := lw_at lw_m8 144 rfl
theorem q1918 : (Jvm.Cond.instanceMethod ({ cls := "java/util/TreeSet", name := "iterator", desc := "()Ljava/util/Iterator;" } : Jvm.MethodName)) ∈ lw_all := lw_g (lw_at lw_m8 145 rfl) rfl
theorem q1919 : (Jvm.Cond.publicMethod ({ cls := "java/util/TreeSet", name := "iterator", desc := "()Ljava/util/Iterator;" } : Jvm.MethodName)) ∈ lw_tbl := lw_at lw_m8 146 rfl
theorem q1920 : (Jvm.Cond.code ({ cls := "java/util/TreeSet", name := "iterator", desc := "()Ljava/util/Iterator;" } : Jvm.MethodName) prog_84_method_6_code (1 : Nat) (Option.some (Jvm.ClassFile.FieldType.object "java/util/Iterator"))) ∈ lw_all := lw_g (lw_at lw_m8 147 rfl) rfl
theorem q1921 : (Jvm.Cond.interfaceEntry "java/util/TreeSet" (34 : Nat)) ∈ lw_tbl := lw_at lw_m8 148 rfl
theorem q1922 : (Jvm.Cond.methodLink "java/util/TreeSet" (34 : Nat) ({ cls := "java/util/NavigableMap", name := "navigableKeySet", desc := "()Ljava/util/NavigableSet;" } : Jvm.MethodName)) ∈ lw_all := lw_g (lw_at lw_m8 149 rfl) rfl
theorem q1947 : (Jvm.Cond.interfaceEntry "java/util/TreeSet" (40 : Nat)) ∈ lw_tbl := lw_at lw_m8 174 rfl
theorem q1948 : (Jvm.Cond.methodLink "java/util/TreeSet" (40 : Nat) ({ cls := "java/util/NavigableSet", name := "iterator", desc := "()Ljava/util/Iterator;" } : Jvm.MethodName)) ∈ lw_all := lw_g (lw_at lw_m8 175 rfl) rfl
theorem q1953 : (Jvm.Cond.castable "java/util/TreeSet" "java/util/NavigableSet") ∈ lw_tbl := lw_at lw_m8 180 rfl
theorem q1954 : (Jvm.Cond.selects "java/util/TreeSet" ({ cls := "java/util/NavigableSet", name := "iterator", desc := "()Ljava/util/Iterator;" } : Jvm.MethodName) ({ cls := "java/util/TreeSet", name := "iterator", desc := "()Ljava/util/Iterator;" } : Jvm.MethodName)) ∈ lw_all := lw_g (lw_at lw_m8 181 rfl) rfl
theorem q2044 : (Jvm.Cond.selects "java/util/TreeSet" ({ cls := "java/util/AbstractCollection", name := "size", desc := "()I" } : Jvm.MethodName) ({ cls := "java/util/TreeSet", name := "size", desc := "()I" } : Jvm.MethodName)) ∈ lw_all := lw_g (lw_at lw_m9 31 rfl) rfl
theorem q2060 : (Jvm.Cond.selects "java/util/TreeSet" ({ cls := "java/util/Collection", name := "toArray", desc := "()[Ljava/lang/Object;" } : Jvm.MethodName) ({ cls := "java/util/AbstractCollection", name := "toArray", desc := "()[Ljava/lang/Object;" } : Jvm.MethodName)) ∈ lw_all := lw_g (lw_at lw_m9 47 rfl) rfl
theorem q2061 : (Jvm.Cond.unhidden "java/util/TreeSet" "toArray" "()[Ljava/lang/Object;") ∈ lw_tbl := lw_at lw_m9 48 rfl
theorem q2068 : (Jvm.Cond.instanceMethod ({ cls := "java/util/TreeSet", name := "last", desc := "()Ljava/lang/Object;" } : Jvm.MethodName)) ∈ lw_all := lw_g (lw_at lw_m9 55 rfl) rfl
theorem q2069 : (Jvm.Cond.selects "java/util/TreeSet" ({ cls := "java/util/TreeSet", name := "last", desc := "()Ljava/lang/Object;" } : Jvm.MethodName) ({ cls := "java/util/TreeSet", name := "last", desc := "()Ljava/lang/Object;" } : Jvm.MethodName)) ∈ lw_all := lw_g (lw_at lw_m9 56 rfl) rfl
theorem q2070 : (Jvm.Cond.code ({ cls := "java/util/TreeSet", name := "last", desc := "()Ljava/lang/Object;" } : Jvm.MethodName) prog_84_method_24_code (1 : Nat) (Option.some (Jvm.ClassFile.FieldType.object "java/lang/Object"))) ∈ lw_all := lw_g (lw_at lw_m9 57 rfl) rfl
theorem q2071 : (Jvm.Cond.interfaceEntry "java/util/TreeSet" (122 : Nat)) ∈ lw_tbl := lw_at lw_m9 58 rfl
theorem q2175 : (Jvm.Cond.instanceMethod ({ cls := "java/util/TreeSet", name := "floor", desc := "(Ljava/lang/Object;)Ljava/lang/Object;" } : Jvm.MethodName)) ∈ lw_all := lw_g (lw_at lw_m9 162 rfl) rfl
theorem q2176 : (Jvm.Cond.selects "java/util/TreeSet" ({ cls := "java/util/TreeSet", name := "floor", desc := "(Ljava/lang/Object;)Ljava/lang/Object;" } : Jvm.MethodName) ({ cls := "java/util/TreeSet", name := "floor", desc := "(Ljava/lang/Object;)Ljava/lang/Object;" } : Jvm.MethodName)) ∈ lw_all := lw_g (lw_at lw_m9 163 rfl) rfl
theorem q2177 : (Jvm.Cond.code ({ cls := "java/util/TreeSet", name := "floor", desc := "(Ljava/lang/Object;)Ljava/lang/Object;" } : Jvm.MethodName) prog_84_method_26_code (2 : Nat) (Option.some (Jvm.ClassFile.FieldType.object "java/lang/Object"))) ∈ lw_all := lw_g (lw_at lw_m9 164 rfl) rfl
theorem q2178 : (Jvm.Cond.interfaceEntry "java/util/TreeSet" (128 : Nat)) ∈ lw_tbl := lw_at lw_m9 165 rfl
theorem q2179 : (Jvm.Cond.methodLink "java/util/TreeSet" (128 : Nat) ({ cls := "java/util/NavigableMap", name := "floorKey", desc := "(Ljava/lang/Object;)Ljava/lang/Object;" } : Jvm.MethodName)) ∈ lw_all := lw_g (lw_at lw_m9 166 rfl) rfl
theorem q2369 : (Jvm.Cond.instanceMethod ({ cls := "java/util/TreeSet", name := "headSet", desc := "(Ljava/lang/Object;)Ljava/util/SortedSet;" } : Jvm.MethodName)) ∈ lw_all := lw_g (lw_at lw_m10 116 rfl) rfl
theorem q2370 : (Jvm.Cond.selects "java/util/TreeSet" ({ cls := "java/util/TreeSet", name := "headSet", desc := "(Ljava/lang/Object;)Ljava/util/SortedSet;" } : Jvm.MethodName) ({ cls := "java/util/TreeSet", name := "headSet", desc := "(Ljava/lang/Object;)Ljava/util/SortedSet;" } : Jvm.MethodName)) ∈ lw_all := lw_g (lw_at lw_m10 117 rfl) rfl
theorem q2371 : (Jvm.Cond.code ({ cls := "java/util/TreeSet", name := "headSet", desc := "(Ljava/lang/Object;)Ljava/util/SortedSet;" } : Jvm.MethodName) prog_84_method_20_code (2 : Nat) (Option.some (Jvm.ClassFile.FieldType.object "java/util/SortedSet"))) ∈ lw_all := lw_g (lw_at lw_m10 118 rfl) rfl
theorem q2372 : (Jvm.Cond.methodLink "java/util/TreeSet" (110 : Nat) ({ cls := "java/util/TreeSet", name := "headSet", desc := "(Ljava/lang/Object;Z)Ljava/util/NavigableSet;" } : Jvm.MethodName)) ∈ lw_all := lw_g (lw_at lw_m10 119 rfl) rfl
theorem q2373 : (Jvm.Cond.instanceMethod ({ cls := "java/util/TreeSet", name := "headSet", desc := "(Ljava/lang/Object;Z)Ljava/util/NavigableSet;" } : Jvm.MethodName)) ∈ lw_all := lw_g (lw_at lw_m10 120 rfl) rfl
theorem q2374 : (Jvm.Cond.selects "java/util/TreeSet" ({ cls := "java/util/TreeSet", name := "headSet", desc := "(Ljava/lang/Object;Z)Ljava/util/NavigableSet;" } : Jvm.MethodName) ({ cls := "java/util/TreeSet", name := "headSet", desc := "(Ljava/lang/Object;Z)Ljava/util/NavigableSet;" } : Jvm.MethodName)) ∈ lw_all := lw_g (lw_at lw_m10 121 rfl) rfl
theorem q2375 : (Jvm.Cond.code ({ cls := "java/util/TreeSet", name := "headSet", desc := "(Ljava/lang/Object;Z)Ljava/util/NavigableSet;" } : Jvm.MethodName) prog_84_method_17_code (3 : Nat) (Option.some (Jvm.ClassFile.FieldType.object "java/util/NavigableSet"))) ∈ lw_all := lw_g (lw_at lw_m10 122 rfl) rfl
theorem q2376 : (Jvm.Cond.classLink "java/util/TreeSet" (8 : Nat) "java/util/TreeSet") ∈ lw_all := lw_g (lw_at lw_m10 123 rfl) rfl
theorem q2377 : (Jvm.Cond.interfaceEntry "java/util/TreeSet" (99 : Nat)) ∈ lw_tbl := lw_at lw_m10 124 rfl
theorem q2378 : (Jvm.Cond.methodLink "java/util/TreeSet" (99 : Nat) ({ cls := "java/util/NavigableMap", name := "headMap", desc := "(Ljava/lang/Object;Z)Ljava/util/NavigableMap;" } : Jvm.MethodName)) ∈ lw_all := lw_g (lw_at lw_m10 125 rfl) rfl
theorem q2463 : (Jvm.Cond.castable "java/util/TreeSet" "java/util/SortedSet") ∈ lw_tbl := lw_at lw_m10 210 rfl
theorem q2464 : (Jvm.Cond.selects "java/util/TreeSet" ({ cls := "java/util/Collection", name := "size", desc := "()I" } : Jvm.MethodName) ({ cls := "java/util/TreeSet", name := "size", desc := "()I" } : Jvm.MethodName)) ∈ lw_all := lw_g (lw_at lw_m10 211 rfl) rfl
theorem q2491 : (Jvm.Cond.unhidden "java/util/TreeSet" "getClass" "()Ljava/lang/Class;") ∈ lw_tbl := lw_at lw_m10 238 rfl
theorem q3093 : (Jvm.Cond.selects "java/util/TreeSet" ({ cls := "java/util/TreeSet", name := "iterator", desc := "()Ljava/util/Iterator;" } : Jvm.MethodName) ({ cls := "java/util/TreeSet", name := "iterator", desc := "()Ljava/util/Iterator;" } : Jvm.MethodName)) ∈ lw_all := lw_g (lw_at lw_m13 120 rfl) rfl
theorem q3100 : (Jvm.Cond.selects "java/util/TreeSet" ({ cls := "java/util/AbstractCollection", name := "iterator", desc := "()Ljava/util/Iterator;" } : Jvm.MethodName) ({ cls := "java/util/TreeSet", name := "iterator", desc := "()Ljava/util/Iterator;" } : Jvm.MethodName)) ∈ lw_all := lw_g (lw_at lw_m13 127 rfl) rfl
theorem q3113 : (Jvm.Cond.castable "java/util/TreeSet" "java/lang/Object") ∈ lw_tbl := lw_at lw_m13 140 rfl
theorem in_J6 : ∀ w ∈ wsJ60, w ∈ lw_all := lw_in wsJ60 [325] (by decide +kernel) (by decide +kernel)

/-! java/util/TreeMap$NavigableSubMap$EntrySetView -/
set_option maxRecDepth 100000
def RJ18 : String := "java/util/TreeMap$NavigableSubMap$EntrySetView"
abbrev cJ18_init : ByteArray := prog_77_method_1_code
def yJ18_init : MethodName := ⟨RJ18, "<init>", "(Ljava/util/TreeMap$NavigableSubMap;)V"⟩
def dkwJ18_init_0 : List UInt8 := [42, 43, 181, 0, 1, 42, 183, 0, 7, 42, 2, 181, 0, 13, 177]
abbrev dktJ18_init_0 : List UInt8 := dkwJ18_init_0 ++ []
theorem dksJ18_init_0 : cJ18_init.data.toList.drop 0 = dktJ18_init_0 := by decide +kernel
theorem dJ18_init_0 : decode cJ18_init 0 = .ok (.aload_n 0, 1) := dk_42 (dk_at dksJ18_init_0 0 rfl rfl)
theorem dJ18_init_1 : decode cJ18_init 1 = .ok (.aload_n 1, 1) := dk_43 (dk_at dksJ18_init_0 1 rfl rfl)
theorem dJ18_init_2 : decode cJ18_init 2 = .ok (.putfield 1, 3) := dk_181 0 1 (dk_at dksJ18_init_0 2 rfl rfl)
theorem dJ18_init_5 : decode cJ18_init 5 = .ok (.aload_n 0, 1) := dk_42 (dk_at dksJ18_init_0 5 rfl rfl)
theorem dJ18_init_6 : decode cJ18_init 6 = .ok (.invokespecial 7, 3) := dk_183 0 7 (dk_at dksJ18_init_0 6 rfl rfl)
theorem dJ18_init_9 : decode cJ18_init 9 = .ok (.aload_n 0, 1) := dk_42 (dk_at dksJ18_init_0 9 rfl rfl)
theorem dJ18_init_10 : decode cJ18_init 10 = .ok (.iconst (-1), 1) := dk_2 (dk_at dksJ18_init_0 10 rfl rfl)
theorem dJ18_init_11 : decode cJ18_init 11 = .ok (.putfield 13, 3) := dk_181 0 13 (dk_at dksJ18_init_0 11 rfl rfl)
theorem dJ18_init_14 : decode cJ18_init 14 = .ok (.return_, 1) := dk_177 (dk_at dksJ18_init_0 14 rfl rfl)
abbrev cJ18_size : ByteArray := prog_77_method_2_code
def yJ18_size : MethodName := ⟨RJ18, "size", "()I"⟩
def dkwJ18_size_4 : List UInt8 := [96, 181, 0, 13, 43, 185, 0, 51, 1, 0, 87, 167, 255, 230, 42, 180, 0, 13, 172]
abbrev dktJ18_size_4 : List UInt8 := dkwJ18_size_4 ++ []
def dkwJ18_size_3 : List UInt8 := [3, 181, 0, 13, 42, 182, 0, 41, 76, 43, 185, 0, 45, 1, 0, 153, 0, 23, 42, 89, 180, 0, 13, 4]
abbrev dktJ18_size_3 : List UInt8 := dkwJ18_size_3 ++ dktJ18_size_4
def dkwJ18_size_2 : List UInt8 := [180, 0, 26, 180, 0, 38, 159, 0, 56, 42, 42, 180, 0, 1, 180, 0, 26, 180, 0, 38, 181, 0, 35, 42]
abbrev dktJ18_size_2 : List UInt8 := dkwJ18_size_2 ++ dktJ18_size_3
def dkwJ18_size_1 : List UInt8 := [180, 0, 26, 182, 0, 30, 172, 42, 180, 0, 13, 2, 159, 0, 20, 42, 180, 0, 35, 42, 180, 0, 1]
abbrev dktJ18_size_1 : List UInt8 := dkwJ18_size_1 ++ dktJ18_size_2
def dkwJ18_size_0 : List UInt8 := [42, 180, 0, 1, 180, 0, 17, 153, 0, 24, 42, 180, 0, 1, 180, 0, 23, 153, 0, 14, 42, 180, 0, 1]
abbrev dktJ18_size_0 : List UInt8 := dkwJ18_size_0 ++ dktJ18_size_1
theorem dksJ18_size_0 : cJ18_size.data.toList.drop 0 = dktJ18_size_0 := by decide +kernel
theorem dksJ18_size_1 : cJ18_size.data.toList.drop 24 = dktJ18_size_1 := dk_seg dksJ18_size_0 24 rfl rfl
theorem dksJ18_size_2 : cJ18_size.data.toList.drop 47 = dktJ18_size_2 := dk_seg dksJ18_size_1 23 rfl rfl
theorem dksJ18_size_3 : cJ18_size.data.toList.drop 71 = dktJ18_size_3 := dk_seg dksJ18_size_2 24 rfl rfl
theorem dksJ18_size_4 : cJ18_size.data.toList.drop 95 = dktJ18_size_4 := dk_seg dksJ18_size_3 24 rfl rfl
theorem dJ18_size_0 : decode cJ18_size 0 = .ok (.aload_n 0, 1) := dk_42 (dk_at dksJ18_size_0 0 rfl rfl)
theorem dJ18_size_1 : decode cJ18_size 1 = .ok (.getfield 1, 3) := dk_180 0 1 (dk_at dksJ18_size_0 1 rfl rfl)
theorem dJ18_size_4 : decode cJ18_size 4 = .ok (.getfield 17, 3) := dk_180 0 17 (dk_at dksJ18_size_0 4 rfl rfl)
theorem dJ18_size_7 : decode cJ18_size 7 = .ok (.ifCond .eq 24, 3) := dk_153 0 24 (dk_at dksJ18_size_0 7 rfl rfl)
theorem dJ18_size_10 : decode cJ18_size 10 = .ok (.aload_n 0, 1) := dk_42 (dk_at dksJ18_size_0 10 rfl rfl)
theorem dJ18_size_11 : decode cJ18_size 11 = .ok (.getfield 1, 3) := dk_180 0 1 (dk_at dksJ18_size_0 11 rfl rfl)
theorem dJ18_size_14 : decode cJ18_size 14 = .ok (.getfield 23, 3) := dk_180 0 23 (dk_at dksJ18_size_0 14 rfl rfl)
theorem dJ18_size_17 : decode cJ18_size 17 = .ok (.ifCond .eq 14, 3) := dk_153 0 14 (dk_at dksJ18_size_0 17 rfl rfl)
theorem dJ18_size_20 : decode cJ18_size 20 = .ok (.aload_n 0, 1) := dk_42 (dk_at dksJ18_size_0 20 rfl rfl)
theorem dJ18_size_21 : decode cJ18_size 21 = .ok (.getfield 1, 3) := dk_180 0 1 (dk_at dksJ18_size_0 21 rfl rfl)
theorem dJ18_size_24 : decode cJ18_size 24 = .ok (.getfield 26, 3) := dk_180 0 26 (dk_at dksJ18_size_1 0 rfl rfl)
theorem dJ18_size_27 : decode cJ18_size 27 = .ok (.invokevirtual 30, 3) := dk_182 0 30 (dk_at dksJ18_size_1 3 rfl rfl)
theorem dJ18_size_30 : decode cJ18_size 30 = .ok (.ireturn, 1) := dk_172 (dk_at dksJ18_size_1 6 rfl rfl)
theorem dJ18_size_31 : decode cJ18_size 31 = .ok (.aload_n 0, 1) := dk_42 (dk_at dksJ18_size_1 7 rfl rfl)
theorem dJ18_size_32 : decode cJ18_size 32 = .ok (.getfield 13, 3) := dk_180 0 13 (dk_at dksJ18_size_1 8 rfl rfl)
theorem dJ18_size_35 : decode cJ18_size 35 = .ok (.iconst (-1), 1) := dk_2 (dk_at dksJ18_size_1 11 rfl rfl)
theorem dJ18_size_36 : decode cJ18_size 36 = .ok (.if_icmp .eq 20, 3) := dk_159 0 20 (dk_at dksJ18_size_1 12 rfl rfl)
theorem dJ18_size_39 : decode cJ18_size 39 = .ok (.aload_n 0, 1) := dk_42 (dk_at dksJ18_size_1 15 rfl rfl)
theorem dJ18_size_40 : decode cJ18_size 40 = .ok (.getfield 35, 3) := dk_180 0 35 (dk_at dksJ18_size_1 16 rfl rfl)
theorem dJ18_size_43 : decode cJ18_size 43 = .ok (.aload_n 0, 1) := dk_42 (dk_at dksJ18_size_1 19 rfl rfl)
theorem dJ18_size_44 : decode cJ18_size 44 = .ok (.getfield 1, 3) := dk_180 0 1 (dk_at dksJ18_size_1 20 rfl rfl)
theorem dJ18_size_47 : decode cJ18_size 47 = .ok (.getfield 26, 3) := dk_180 0 26 (dk_at dksJ18_size_2 0 rfl rfl)
theorem dJ18_size_50 : decode cJ18_size 50 = .ok (.getfield 38, 3) := dk_180 0 38 (dk_at dksJ18_size_2 3 rfl rfl)
theorem dJ18_size_53 : decode cJ18_size 53 = .ok (.if_icmp .eq 56, 3) := dk_159 0 56 (dk_at dksJ18_size_2 6 rfl rfl)
theorem dJ18_size_56 : decode cJ18_size 56 = .ok (.aload_n 0, 1) := dk_42 (dk_at dksJ18_size_2 9 rfl rfl)
theorem dJ18_size_57 : decode cJ18_size 57 = .ok (.aload_n 0, 1) := dk_42 (dk_at dksJ18_size_2 10 rfl rfl)
theorem dJ18_size_58 : decode cJ18_size 58 = .ok (.getfield 1, 3) := dk_180 0 1 (dk_at dksJ18_size_2 11 rfl rfl)
theorem dJ18_size_61 : decode cJ18_size 61 = .ok (.getfield 26, 3) := dk_180 0 26 (dk_at dksJ18_size_2 14 rfl rfl)
theorem dJ18_size_64 : decode cJ18_size 64 = .ok (.getfield 38, 3) := dk_180 0 38 (dk_at dksJ18_size_2 17 rfl rfl)
theorem dJ18_size_67 : decode cJ18_size 67 = .ok (.putfield 35, 3) := dk_181 0 35 (dk_at dksJ18_size_2 20 rfl rfl)
theorem dJ18_size_70 : decode cJ18_size 70 = .ok (.aload_n 0, 1) := dk_42 (dk_at dksJ18_size_2 23 rfl rfl)
theorem dJ18_size_71 : decode cJ18_size 71 = .ok (.iconst 0, 1) := dk_3 (dk_at dksJ18_size_3 0 rfl rfl)
theorem dJ18_size_72 : decode cJ18_size 72 = .ok (.putfield 13, 3) := dk_181 0 13 (dk_at dksJ18_size_3 1 rfl rfl)
theorem dJ18_size_75 : decode cJ18_size 75 = .ok (.aload_n 0, 1) := dk_42 (dk_at dksJ18_size_3 4 rfl rfl)
theorem dJ18_size_76 : decode cJ18_size 76 = .ok (.invokevirtual 41, 3) := dk_182 0 41 (dk_at dksJ18_size_3 5 rfl rfl)
theorem dJ18_size_79 : decode cJ18_size 79 = .ok (.astore_n 1, 1) := dk_76 (dk_at dksJ18_size_3 8 rfl rfl)
theorem dJ18_size_80 : decode cJ18_size 80 = .ok (.aload_n 1, 1) := dk_43 (dk_at dksJ18_size_3 9 rfl rfl)
theorem dJ18_size_81 : decode cJ18_size 81 = .ok (.invokeinterface 45 1, 5) := by decide +kernel
theorem dJ18_size_86 : decode cJ18_size 86 = .ok (.ifCond .eq 23, 3) := dk_153 0 23 (dk_at dksJ18_size_3 15 rfl rfl)
theorem dJ18_size_89 : decode cJ18_size 89 = .ok (.aload_n 0, 1) := dk_42 (dk_at dksJ18_size_3 18 rfl rfl)
theorem dJ18_size_90 : decode cJ18_size 90 = .ok (.dup, 1) := dk_89 (dk_at dksJ18_size_3 19 rfl rfl)
theorem dJ18_size_91 : decode cJ18_size 91 = .ok (.getfield 13, 3) := dk_180 0 13 (dk_at dksJ18_size_3 20 rfl rfl)
theorem dJ18_size_94 : decode cJ18_size 94 = .ok (.iconst 1, 1) := dk_4 (dk_at dksJ18_size_3 23 rfl rfl)
theorem dJ18_size_95 : decode cJ18_size 95 = .ok (.iadd, 1) := dk_96 (dk_at dksJ18_size_4 0 rfl rfl)
theorem dJ18_size_96 : decode cJ18_size 96 = .ok (.putfield 13, 3) := dk_181 0 13 (dk_at dksJ18_size_4 1 rfl rfl)
theorem dJ18_size_99 : decode cJ18_size 99 = .ok (.aload_n 1, 1) := dk_43 (dk_at dksJ18_size_4 4 rfl rfl)
theorem dJ18_size_100 : decode cJ18_size 100 = .ok (.invokeinterface 51 1, 5) := by decide +kernel
theorem dJ18_size_105 : decode cJ18_size 105 = .ok (.pop, 1) := dk_87 (dk_at dksJ18_size_4 10 rfl rfl)
theorem dJ18_size_106 : decode cJ18_size 106 = .ok (.goto (-26), 3) := dk_167 255 230 (dk_at dksJ18_size_4 11 rfl rfl)
theorem dJ18_size_109 : decode cJ18_size 109 = .ok (.aload_n 0, 1) := dk_42 (dk_at dksJ18_size_4 14 rfl rfl)
theorem dJ18_size_110 : decode cJ18_size 110 = .ok (.getfield 13, 3) := dk_180 0 13 (dk_at dksJ18_size_4 15 rfl rfl)
theorem dJ18_size_113 : decode cJ18_size 113 = .ok (.ireturn, 1) := dk_172 (dk_at dksJ18_size_4 18 rfl rfl)
theorem q120 : (Jvm.Cond.initialized "java/util/TreeMap$NavigableSubMap$EntrySetView") ∈ lw_all := lw_g (lw_at lw_m1 27 rfl) rfl
theorem q195 : (Jvm.Cond.fieldLinkNest "java/util/TreeMap$NavigableSubMap$EntrySetView" (38 : Nat) "java/util/TreeMap" "modCount" "I" "java/util/TreeMap") ∈ lw_tbl := lw_at lw_m1 102 rfl
theorem q766 : (Jvm.Cond.instanceMethod ({ cls := "java/util/TreeMap$NavigableSubMap$EntrySetView", name := "<init>", desc := "(Ljava/util/TreeMap$NavigableSubMap;)V" } : Jvm.MethodName)) ∈ lw_all := lw_g (lw_at lw_m3 193 rfl) rfl
theorem q767 : (Jvm.Cond.code ({ cls := "java/util/TreeMap$NavigableSubMap$EntrySetView", name := "<init>", desc := "(Ljava/util/TreeMap$NavigableSubMap;)V" } : Jvm.MethodName) prog_77_method_1_code (2 : Nat) (Option.none : Option Jvm.ClassFile.FieldType)) ∈ lw_all := lw_g (lw_at lw_m3 194 rfl) rfl
theorem q768 : (Jvm.Cond.methodLink "java/util/TreeMap$NavigableSubMap$EntrySetView" (7 : Nat) ({ cls := "java/util/AbstractSet", name := "<init>", desc := "()V" } : Jvm.MethodName)) ∈ lw_all := lw_g (lw_at lw_m3 195 rfl) rfl
theorem q770 : (Jvm.Cond.fieldLink "java/util/TreeMap$NavigableSubMap$EntrySetView" (13 : Nat) "java/util/TreeMap$NavigableSubMap$EntrySetView" "size" "I") ∈ lw_all := lw_g (lw_at lw_m3 197 rfl) rfl
theorem q771 : (Jvm.Cond.fieldLink "java/util/TreeMap$NavigableSubMap$EntrySetView" (35 : Nat) "java/util/TreeMap$NavigableSubMap$EntrySetView" "sizeModCount" "I") ∈ lw_all := lw_g (lw_at lw_m3 198 rfl) rfl
theorem q772 : (Jvm.Cond.fieldLink "java/util/TreeMap$NavigableSubMap$EntrySetView" (1 : Nat) "java/util/TreeMap$NavigableSubMap$EntrySetView" "this$0" "Ljava/util/TreeMap$NavigableSubMap;") ∈ lw_all := lw_g (lw_at lw_m3 199 rfl) rfl
theorem q776 : (Jvm.Cond.soleField "java/util/TreeMap$NavigableSubMap$EntrySetView" "size") ∈ lw_all := lw_g (lw_at lw_m3 203 rfl) rfl
theorem q778 : (Jvm.Cond.soleField "java/util/TreeMap$NavigableSubMap$EntrySetView" "sizeModCount") ∈ lw_all := lw_g (lw_at lw_m3 205 rfl) rfl
theorem q780 : (Jvm.Cond.soleField "java/util/TreeMap$NavigableSubMap$EntrySetView" "this$0") ∈ lw_all := lw_g (lw_at lw_m3 207 rfl) rfl
theorem q789 : (Jvm.Cond.instanceMethod ({ cls := "java/util/TreeMap$NavigableSubMap$EntrySetView", name := "size", desc := "()I" } : Jvm.MethodName)) ∈ lw_all := lw_g (lw_at lw_m3 216 rfl) rfl
theorem q790 : (Jvm.Cond.publicMethod ({ cls := "java/util/TreeMap$NavigableSubMap$EntrySetView", name := "size", desc := "()I" } : Jvm.MethodName)) ∈ lw_tbl := lw_at lw_m3 217 rfl
theorem q791 : (Jvm.Cond.code ({ cls := "java/util/TreeMap$NavigableSubMap$EntrySetView", name := "size", desc := "()I" } : Jvm.MethodName) prog_77_method_2_code (2 : Nat) (Option.some Jvm.ClassFile.FieldType.int)) ∈ lw_all := lw_g (lw_at lw_m3 218 rfl) rfl
theorem q792 : (Jvm.Cond.methodLink "java/util/TreeMap$NavigableSubMap$EntrySetView" (30 : Nat) ({ cls := "java/util/TreeMap", name := "size", desc := "()I" } : Jvm.MethodName)) ∈ lw_all := lw_g (lw_at lw_m3 219 rfl) rfl
theorem q793 : (Jvm.Cond.methodLink "java/util/TreeMap$NavigableSubMap$EntrySetView" (41 : Nat) ({ cls := "java/util/TreeMap$NavigableSubMap$EntrySetView", name := "iterator", desc := "()Ljava/util/Iterator;" } : Jvm.MethodName)) ∈ lw_all := lw_g (lw_at lw_m3 220 rfl) rfl
theorem q794 : (Jvm.Cond.sameMethod "java/util/TreeMap$NavigableSubMap$EntrySetView" "java/util/AbstractCollection" "iterator" "()Ljava/util/Iterator;") ∈ lw_all := lw_g (lw_at lw_m3 221 rfl) rfl
theorem q850 : (Jvm.Cond.interfaceEntry "java/util/TreeMap$NavigableSubMap$EntrySetView" (45 : Nat)) ∈ lw_tbl := lw_at lw_m4 37 rfl
theorem q851 : (Jvm.Cond.methodLink "java/util/TreeMap$NavigableSubMap$EntrySetView" (45 : Nat) ({ cls := "java/util/Iterator", name := "hasNext", desc := "()Z" } : Jvm.MethodName)) ∈ lw_all := lw_g (lw_at lw_m4 38 rfl) rfl
theorem q888 : (Jvm.Cond.interfaceEntry "java/util/TreeMap$NavigableSubMap$EntrySetView" (51 : Nat)) ∈ lw_tbl := lw_at lw_m4 75 rfl
theorem q889 : (Jvm.Cond.methodLink "java/util/TreeMap$NavigableSubMap$EntrySetView" (51 : Nat) ({ cls := "java/util/Iterator", name := "next", desc := "()Ljava/lang/Object;" } : Jvm.MethodName)) ∈ lw_all := lw_g (lw_at lw_m4 76 rfl) rfl
theorem q2397 : (Jvm.Cond.fieldLink "java/util/TreeMap$NavigableSubMap$EntrySetView" (26 : Nat) "java/util/TreeMap$NavigableSubMap" "m" "Ljava/util/TreeMap;") ∈ lw_all := lw_g (lw_at lw_m10 144 rfl) rfl
theorem q2405 : (Jvm.Cond.fieldLink "java/util/TreeMap$NavigableSubMap$EntrySetView" (17 : Nat) "java/util/TreeMap$NavigableSubMap" "fromStart" "Z") ∈ lw_all := lw_g (lw_at lw_m10 152 rfl) rfl
theorem q2409 : (Jvm.Cond.fieldLink "java/util/TreeMap$NavigableSubMap$EntrySetView" (23 : Nat) "java/util/TreeMap$NavigableSubMap" "toEnd" "Z") ∈ lw_all := lw_g (lw_at lw_m10 156 rfl) rfl

/-! java/util/TreeMap$AscendingSubMap$AscendingEntrySetView -/
set_option maxRecDepth 100000
def RJ19 : String := "java/util/TreeMap$AscendingSubMap$AscendingEntrySetView"
def TJ19 : u_T := fun k => match k with
  | 0 => ("java/util/TreeMap$NavigableSubMap$EntrySetView", "size", "I", false)
  | 1 => ("java/util/TreeMap$NavigableSubMap$EntrySetView", "sizeModCount", "I", false)
  | 2 => ("java/util/TreeMap$NavigableSubMap$EntrySetView", "this$0", "Ljava/util/TreeMap$NavigableSubMap;", true)
  | _ => ("java/util/TreeMap$AscendingSubMap$AscendingEntrySetView", "this$0", "Ljava/util/TreeMap$AscendingSubMap;", true)
def tyJ19 : Nat → FieldType := fun k => match k with
  | 0 => .int
  | 1 => .int
  | 2 => .object "java/util/TreeMap$NavigableSubMap"
  | _ => .object "java/util/TreeMap$AscendingSubMap"
abbrev wsJ190 : List Cond := u_ws RJ19 TJ19 4
-- two fields of one name: no nmJ19
theorem tyJ19_ok : ∀ k, k < 4 → parseFieldDescriptor (TJ19 k).2.2.1 = some (tyJ19 k) := by decide +kernel
abbrev cJ19_init : ByteArray := prog_72_method_1_code
def yJ19_init : MethodName := ⟨RJ19, "<init>", "(Ljava/util/TreeMap$AscendingSubMap;)V"⟩
def dkwJ19_init_0 : List UInt8 := [42, 43, 181, 0, 1, 42, 43, 183, 0, 7, 177]
abbrev dktJ19_init_0 : List UInt8 := dkwJ19_init_0 ++ []
theorem dksJ19_init_0 : cJ19_init.data.toList.drop 0 = dktJ19_init_0 := by decide +kernel
theorem dJ19_init_0 : decode cJ19_init 0 = .ok (.aload_n 0, 1) := dk_42 (dk_at dksJ19_init_0 0 rfl rfl)
theorem dJ19_init_1 : decode cJ19_init 1 = .ok (.aload_n 1, 1) := dk_43 (dk_at dksJ19_init_0 1 rfl rfl)
theorem dJ19_init_2 : decode cJ19_init 2 = .ok (.putfield 1, 3) := dk_181 0 1 (dk_at dksJ19_init_0 2 rfl rfl)
theorem dJ19_init_5 : decode cJ19_init 5 = .ok (.aload_n 0, 1) := dk_42 (dk_at dksJ19_init_0 5 rfl rfl)
theorem dJ19_init_6 : decode cJ19_init 6 = .ok (.aload_n 1, 1) := dk_43 (dk_at dksJ19_init_0 6 rfl rfl)
theorem dJ19_init_7 : decode cJ19_init 7 = .ok (.invokespecial 7, 3) := dk_183 0 7 (dk_at dksJ19_init_0 7 rfl rfl)
theorem dJ19_init_10 : decode cJ19_init 10 = .ok (.return_, 1) := dk_177 (dk_at dksJ19_init_0 10 rfl rfl)
abbrev cJ19_iterator : ByteArray := prog_72_method_2_code
def yJ19_iterator : MethodName := ⟨RJ19, "iterator", "()Ljava/util/Iterator;"⟩
def dkwJ19_iterator_1 : List UInt8 := [183, 0, 24, 176]
abbrev dktJ19_iterator_1 : List UInt8 := dkwJ19_iterator_1 ++ []
def dkwJ19_iterator_0 : List UInt8 := [187, 0, 13, 89, 42, 180, 0, 1, 42, 180, 0, 1, 182, 0, 15, 42, 180, 0, 1, 182, 0, 21]
abbrev dktJ19_iterator_0 : List UInt8 := dkwJ19_iterator_0 ++ dktJ19_iterator_1
theorem dksJ19_iterator_0 : cJ19_iterator.data.toList.drop 0 = dktJ19_iterator_0 := by decide +kernel
theorem dksJ19_iterator_1 : cJ19_iterator.data.toList.drop 22 = dktJ19_iterator_1 := dk_seg dksJ19_iterator_0 22 rfl rfl
theorem dJ19_iterator_0 : decode cJ19_iterator 0 = .ok (.new 13, 3) := dk_187 0 13 (dk_at dksJ19_iterator_0 0 rfl rfl)
theorem dJ19_iterator_3 : decode cJ19_iterator 3 = .ok (.dup, 1) := dk_89 (dk_at dksJ19_iterator_0 3 rfl rfl)
theorem dJ19_iterator_4 : decode cJ19_iterator 4 = .ok (.aload_n 0, 1) := dk_42 (dk_at dksJ19_iterator_0 4 rfl rfl)
theorem dJ19_iterator_5 : decode cJ19_iterator 5 = .ok (.getfield 1, 3) := dk_180 0 1 (dk_at dksJ19_iterator_0 5 rfl rfl)
theorem dJ19_iterator_8 : decode cJ19_iterator 8 = .ok (.aload_n 0, 1) := dk_42 (dk_at dksJ19_iterator_0 8 rfl rfl)
theorem dJ19_iterator_9 : decode cJ19_iterator 9 = .ok (.getfield 1, 3) := dk_180 0 1 (dk_at dksJ19_iterator_0 9 rfl rfl)
theorem dJ19_iterator_12 : decode cJ19_iterator 12 = .ok (.invokevirtual 15, 3) := dk_182 0 15 (dk_at dksJ19_iterator_0 12 rfl rfl)
theorem dJ19_iterator_15 : decode cJ19_iterator 15 = .ok (.aload_n 0, 1) := dk_42 (dk_at dksJ19_iterator_0 15 rfl rfl)
theorem dJ19_iterator_16 : decode cJ19_iterator 16 = .ok (.getfield 1, 3) := dk_180 0 1 (dk_at dksJ19_iterator_0 16 rfl rfl)
theorem dJ19_iterator_19 : decode cJ19_iterator 19 = .ok (.invokevirtual 21, 3) := dk_182 0 21 (dk_at dksJ19_iterator_0 19 rfl rfl)
theorem dJ19_iterator_22 : decode cJ19_iterator 22 = .ok (.invokespecial 24, 3) := dk_183 0 24 (dk_at dksJ19_iterator_1 0 rfl rfl)
theorem dJ19_iterator_25 : decode cJ19_iterator 25 = .ok (.areturn, 1) := dk_176 (dk_at dksJ19_iterator_1 3 rfl rfl)
theorem q121 : (Jvm.Cond.initialized "java/util/TreeMap$AscendingSubMap$AscendingEntrySetView") ∈ lw_all := lw_g (lw_at lw_m1 28 rfl) rfl
theorem q761 : (Jvm.Cond.instantiable "java/util/TreeMap$AscendingSubMap$AscendingEntrySetView" (4 : Nat)) ∈ lw_all := lw_g (lw_at lw_m3 188 rfl) rfl
theorem q763 : (Jvm.Cond.instanceMethod ({ cls := "java/util/TreeMap$AscendingSubMap$AscendingEntrySetView", name := "<init>", desc := "(Ljava/util/TreeMap$AscendingSubMap;)V" } : Jvm.MethodName)) ∈ lw_all := lw_g (lw_at lw_m3 190 rfl) rfl
theorem q764 : (Jvm.Cond.code ({ cls := "java/util/TreeMap$AscendingSubMap$AscendingEntrySetView", name := "<init>", desc := "(Ljava/util/TreeMap$AscendingSubMap;)V" } : Jvm.MethodName) prog_72_method_1_code (2 : Nat) (Option.none : Option Jvm.ClassFile.FieldType)) ∈ lw_all := lw_g (lw_at lw_m3 191 rfl) rfl
theorem q765 : (Jvm.Cond.methodLink "java/util/TreeMap$AscendingSubMap$AscendingEntrySetView" (7 : Nat) ({ cls := "java/util/TreeMap$NavigableSubMap$EntrySetView", name := "<init>", desc := "(Ljava/util/TreeMap$NavigableSubMap;)V" } : Jvm.MethodName)) ∈ lw_all := lw_g (lw_at lw_m3 192 rfl) rfl
theorem q769 : (Jvm.Cond.fieldLink "java/util/TreeMap$AscendingSubMap$AscendingEntrySetView" (1 : Nat) "java/util/TreeMap$AscendingSubMap$AscendingEntrySetView" "this$0" "Ljava/util/TreeMap$AscendingSubMap;") ∈ lw_all := lw_g (lw_at lw_m3 196 rfl) rfl
theorem q773 : (Jvm.Cond.laysFinal "java/util/TreeMap$AscendingSubMap$AscendingEntrySetView" "java/util/TreeMap$AscendingSubMap$AscendingEntrySetView" "this$0" "Ljava/util/TreeMap$AscendingSubMap;") ∈ lw_all := lw_g (lw_at lw_m3 200 rfl) rfl
theorem q774 : (Jvm.Cond.soleField "java/util/TreeMap$AscendingSubMap$AscendingEntrySetView" "this$0") ∈ lw_all := lw_g (lw_at lw_m3 201 rfl) rfl
theorem q775 : (Jvm.Cond.lays "java/util/TreeMap$AscendingSubMap$AscendingEntrySetView" "java/util/TreeMap$NavigableSubMap$EntrySetView" "size" "I") ∈ lw_all := lw_g (lw_at lw_m3 202 rfl) rfl
theorem q777 : (Jvm.Cond.lays "java/util/TreeMap$AscendingSubMap$AscendingEntrySetView" "java/util/TreeMap$NavigableSubMap$EntrySetView" "sizeModCount" "I") ∈ lw_all := lw_g (lw_at lw_m3 204 rfl) rfl
theorem q779 : (Jvm.Cond.laysFinal "java/util/TreeMap$AscendingSubMap$AscendingEntrySetView" "java/util/TreeMap$NavigableSubMap$EntrySetView" "this$0" "Ljava/util/TreeMap$NavigableSubMap;") ∈ lw_all := lw_g (lw_at lw_m3 206 rfl) rfl
theorem q781 : (Jvm.Cond.superclass "java/util/TreeMap$AscendingSubMap$AscendingEntrySetView" "java/util/TreeMap$NavigableSubMap$EntrySetView") ∈ lw_all := lw_g (lw_at lw_m3 208 rfl) rfl
theorem q786 : (Jvm.Cond.castable "java/util/TreeMap$AscendingSubMap$AscendingEntrySetView" "java/util/Set") ∈ lw_tbl := lw_at lw_m3 213 rfl
theorem q787 : (Jvm.Cond.selects "java/util/TreeMap$AscendingSubMap$AscendingEntrySetView" ({ cls := "java/util/Set", name := "size", desc := "()I" } : Jvm.MethodName) ({ cls := "java/util/TreeMap$NavigableSubMap$EntrySetView", name := "size", desc := "()I" } : Jvm.MethodName)) ∈ lw_all := lw_g (lw_at lw_m3 214 rfl) rfl
theorem q788 : (Jvm.Cond.unhidden "java/util/TreeMap$AscendingSubMap$AscendingEntrySetView" "size" "()I") ∈ lw_tbl := lw_at lw_m3 215 rfl
theorem q796 : (Jvm.Cond.selects "java/util/TreeMap$AscendingSubMap$AscendingEntrySetView" ({ cls := "java/util/TreeMap$NavigableSubMap$EntrySetView", name := "iterator", desc := "()Ljava/util/Iterator;" } : Jvm.MethodName) ({ cls := "java/util/TreeMap$AscendingSubMap$AscendingEntrySetView", name := "iterator", desc := "()Ljava/util/Iterator;" } : Jvm.MethodName)) ∈ lw_all := lw_g (lw_at lw_m3 223 rfl) rfl
theorem q797 : (Jvm.Cond.instanceMethod ({ cls := "java/util/TreeMap$AscendingSubMap$AscendingEntrySetView", name := "iterator", desc := "()Ljava/util/Iterator;" } : Jvm.MethodName)) ∈ lw_all := lw_g (lw_at lw_m3 224 rfl) rfl
theorem q798 : (Jvm.Cond.code ({ cls := "java/util/TreeMap$AscendingSubMap$AscendingEntrySetView", name := "iterator", desc := "()Ljava/util/Iterator;" } : Jvm.MethodName) prog_72_method_2_code (1 : Nat) (Option.some (Jvm.ClassFile.FieldType.object "java/util/Iterator"))) ∈ lw_all := lw_g (lw_at lw_m3 225 rfl) rfl
theorem q799 : (Jvm.Cond.classLink "java/util/TreeMap$AscendingSubMap$AscendingEntrySetView" (13 : Nat) "java/util/TreeMap$NavigableSubMap$SubMapEntryIterator") ∈ lw_all := lw_g (lw_at lw_m3 226 rfl) rfl
theorem q801 : (Jvm.Cond.methodLink "java/util/TreeMap$AscendingSubMap$AscendingEntrySetView" (15 : Nat) ({ cls := "java/util/TreeMap$AscendingSubMap", name := "absLowest", desc := "()Ljava/util/TreeMap$Entry;" } : Jvm.MethodName)) ∈ lw_all := lw_g (lw_at lw_m3 228 rfl) rfl
theorem q819 : (Jvm.Cond.methodLink "java/util/TreeMap$AscendingSubMap$AscendingEntrySetView" (21 : Nat) ({ cls := "java/util/TreeMap$AscendingSubMap", name := "absHighFence", desc := "()Ljava/util/TreeMap$Entry;" } : Jvm.MethodName)) ∈ lw_all := lw_g (lw_at lw_m4 6 rfl) rfl
theorem q825 : (Jvm.Cond.methodLink "java/util/TreeMap$AscendingSubMap$AscendingEntrySetView" (24 : Nat) ({ cls := "java/util/TreeMap$NavigableSubMap$SubMapEntryIterator", name := "<init>", desc := "(Ljava/util/TreeMap$NavigableSubMap;Ljava/util/TreeMap$Entry;Ljava/util/TreeMap$Entry;)V" } : Jvm.MethodName)) ∈ lw_all := lw_g (lw_at lw_m4 12 rfl) rfl
theorem q1451 : (Jvm.Cond.selects "java/util/TreeMap$AscendingSubMap$AscendingEntrySetView" ({ cls := "java/lang/Object", name := "getClass", desc := "()Ljava/lang/Class;" } : Jvm.MethodName) ({ cls := "java/lang/Object", name := "getClass", desc := "()Ljava/lang/Class;" } : Jvm.MethodName)) ∈ lw_all := lw_g (lw_at lw_m6 158 rfl) rfl
theorem q1837 : (Jvm.Cond.castable "java/util/TreeMap$AscendingSubMap$AscendingEntrySetView" "java/util/Collection") ∈ lw_tbl := lw_at lw_m8 64 rfl
theorem q1838 : (Jvm.Cond.selects "java/util/TreeMap$AscendingSubMap$AscendingEntrySetView" ({ cls := "java/util/Collection", name := "iterator", desc := "()Ljava/util/Iterator;" } : Jvm.MethodName) ({ cls := "java/util/TreeMap$AscendingSubMap$AscendingEntrySetView", name := "iterator", desc := "()Ljava/util/Iterator;" } : Jvm.MethodName)) ∈ lw_all := lw_g (lw_at lw_m8 65 rfl) rfl
theorem q1839 : (Jvm.Cond.unhidden "java/util/TreeMap$AscendingSubMap$AscendingEntrySetView" "iterator" "()Ljava/util/Iterator;") ∈ lw_tbl := lw_at lw_m8 66 rfl
theorem q1840 : (Jvm.Cond.publicMethod ({ cls := "java/util/TreeMap$AscendingSubMap$AscendingEntrySetView", name := "iterator", desc := "()Ljava/util/Iterator;" } : Jvm.MethodName)) ∈ lw_tbl := lw_at lw_m8 67 rfl
theorem q2026 : (Jvm.Cond.selects "java/util/TreeMap$AscendingSubMap$AscendingEntrySetView" ({ cls := "java/util/Collection", name := "toArray", desc := "()[Ljava/lang/Object;" } : Jvm.MethodName) ({ cls := "java/util/AbstractCollection", name := "toArray", desc := "()[Ljava/lang/Object;" } : Jvm.MethodName)) ∈ lw_all := lw_g (lw_at lw_m9 13 rfl) rfl
theorem q2027 : (Jvm.Cond.unhidden "java/util/TreeMap$AscendingSubMap$AscendingEntrySetView" "toArray" "()[Ljava/lang/Object;") ∈ lw_tbl := lw_at lw_m9 14 rfl
theorem q2038 : (Jvm.Cond.selects "java/util/TreeMap$AscendingSubMap$AscendingEntrySetView" ({ cls := "java/util/AbstractCollection", name := "size", desc := "()I" } : Jvm.MethodName) ({ cls := "java/util/TreeMap$NavigableSubMap$EntrySetView", name := "size", desc := "()I" } : Jvm.MethodName)) ∈ lw_all := lw_g (lw_at lw_m9 25 rfl) rfl
theorem q2488 : (Jvm.Cond.unhidden "java/util/TreeMap$AscendingSubMap$AscendingEntrySetView" "getClass" "()Ljava/lang/Class;") ∈ lw_tbl := lw_at lw_m10 235 rfl
theorem q3097 : (Jvm.Cond.selects "java/util/TreeMap$AscendingSubMap$AscendingEntrySetView" ({ cls := "java/util/AbstractCollection", name := "iterator", desc := "()Ljava/util/Iterator;" } : Jvm.MethodName) ({ cls := "java/util/TreeMap$AscendingSubMap$AscendingEntrySetView", name := "iterator", desc := "()Ljava/util/Iterator;" } : Jvm.MethodName)) ∈ lw_all := lw_g (lw_at lw_m13 124 rfl) rfl
theorem q3137 : (Jvm.Cond.castable "java/util/TreeMap$AscendingSubMap$AscendingEntrySetView" "java/lang/Object") ∈ lw_tbl := lw_at lw_m13 164 rfl
theorem in_J19 : ∀ w ∈ wsJ190, w ∈ lw_all := lw_in wsJ190 [775, 777, 779, 773] (by decide +kernel) (by decide +kernel)

/-! java/util/TreeMap$NavigableSubMap$SubMapIterator -/
set_option maxRecDepth 100000
def RJ20 : String := "java/util/TreeMap$NavigableSubMap$SubMapIterator"
abbrev cJ20_init : ByteArray := prog_79_method_1_code
def yJ20_init : MethodName := ⟨RJ20, "<init>", "(Ljava/util/TreeMap$NavigableSubMap;Ljava/util/TreeMap$Entry;Ljava/util/TreeMap$Entry;)V"⟩
def dkwJ20_init_2 : List UInt8 := [181, 0, 44, 177]
abbrev dktJ20_init_2 : List UInt8 := dkwJ20_init_2 ++ []
def dkwJ20_init_1 : List UInt8 := [181, 0, 28, 42, 44, 181, 0, 32, 42, 45, 199, 0, 9, 178, 0, 35, 167, 0, 7, 45, 180, 0, 39]
abbrev dktJ20_init_1 : List UInt8 := dkwJ20_init_1 ++ dktJ20_init_2
def dkwJ20_init_0 : List UInt8 := [42, 43, 181, 0, 1, 42, 183, 0, 7, 42, 43, 180, 0, 13, 180, 0, 19, 181, 0, 25, 42, 1]
abbrev dktJ20_init_0 : List UInt8 := dkwJ20_init_0 ++ dktJ20_init_1
theorem dksJ20_init_0 : cJ20_init.data.toList.drop 0 = dktJ20_init_0 := by decide +kernel
theorem dksJ20_init_1 : cJ20_init.data.toList.drop 22 = dktJ20_init_1 := dk_seg dksJ20_init_0 22 rfl rfl
theorem dksJ20_init_2 : cJ20_init.data.toList.drop 45 = dktJ20_init_2 := dk_seg dksJ20_init_1 23 rfl rfl
theorem dJ20_init_0 : decode cJ20_init 0 = .ok (.aload_n 0, 1) := dk_42 (dk_at dksJ20_init_0 0 rfl rfl)
theorem dJ20_init_1 : decode cJ20_init 1 = .ok (.aload_n 1, 1) := dk_43 (dk_at dksJ20_init_0 1 rfl rfl)
theorem dJ20_init_2 : decode cJ20_init 2 = .ok (.putfield 1, 3) := dk_181 0 1 (dk_at dksJ20_init_0 2 rfl rfl)
theorem dJ20_init_5 : decode cJ20_init 5 = .ok (.aload_n 0, 1) := dk_42 (dk_at dksJ20_init_0 5 rfl rfl)
theorem dJ20_init_6 : decode cJ20_init 6 = .ok (.invokespecial 7, 3) := dk_183 0 7 (dk_at dksJ20_init_0 6 rfl rfl)
theorem dJ20_init_9 : decode cJ20_init 9 = .ok (.aload_n 0, 1) := dk_42 (dk_at dksJ20_init_0 9 rfl rfl)
theorem dJ20_init_10 : decode cJ20_init 10 = .ok (.aload_n 1, 1) := dk_43 (dk_at dksJ20_init_0 10 rfl rfl)
theorem dJ20_init_11 : decode cJ20_init 11 = .ok (.getfield 13, 3) := dk_180 0 13 (dk_at dksJ20_init_0 11 rfl rfl)
theorem dJ20_init_14 : decode cJ20_init 14 = .ok (.getfield 19, 3) := dk_180 0 19 (dk_at dksJ20_init_0 14 rfl rfl)
theorem dJ20_init_17 : decode cJ20_init 17 = .ok (.putfield 25, 3) := dk_181 0 25 (dk_at dksJ20_init_0 17 rfl rfl)
theorem dJ20_init_20 : decode cJ20_init 20 = .ok (.aload_n 0, 1) := dk_42 (dk_at dksJ20_init_0 20 rfl rfl)
theorem dJ20_init_21 : decode cJ20_init 21 = .ok (.aconst_null, 1) := dk_1 (dk_at dksJ20_init_0 21 rfl rfl)
theorem dJ20_init_22 : decode cJ20_init 22 = .ok (.putfield 28, 3) := dk_181 0 28 (dk_at dksJ20_init_1 0 rfl rfl)
theorem dJ20_init_25 : decode cJ20_init 25 = .ok (.aload_n 0, 1) := dk_42 (dk_at dksJ20_init_1 3 rfl rfl)
theorem dJ20_init_26 : decode cJ20_init 26 = .ok (.aload_n 2, 1) := dk_44 (dk_at dksJ20_init_1 4 rfl rfl)
theorem dJ20_init_27 : decode cJ20_init 27 = .ok (.putfield 32, 3) := dk_181 0 32 (dk_at dksJ20_init_1 5 rfl rfl)
theorem dJ20_init_30 : decode cJ20_init 30 = .ok (.aload_n 0, 1) := dk_42 (dk_at dksJ20_init_1 8 rfl rfl)
theorem dJ20_init_31 : decode cJ20_init 31 = .ok (.aload_n 3, 1) := dk_45 (dk_at dksJ20_init_1 9 rfl rfl)
theorem dJ20_init_32 : decode cJ20_init 32 = .ok (.ifnonnull 9, 3) := dk_199 0 9 (dk_at dksJ20_init_1 10 rfl rfl)
theorem dJ20_init_35 : decode cJ20_init 35 = .ok (.getstatic 35, 3) := dk_178 0 35 (dk_at dksJ20_init_1 13 rfl rfl)
theorem dJ20_init_38 : decode cJ20_init 38 = .ok (.goto 7, 3) := dk_167 0 7 (dk_at dksJ20_init_1 16 rfl rfl)
theorem dJ20_init_41 : decode cJ20_init 41 = .ok (.aload_n 3, 1) := dk_45 (dk_at dksJ20_init_1 19 rfl rfl)
theorem dJ20_init_42 : decode cJ20_init 42 = .ok (.getfield 39, 3) := dk_180 0 39 (dk_at dksJ20_init_1 20 rfl rfl)
theorem dJ20_init_45 : decode cJ20_init 45 = .ok (.putfield 44, 3) := dk_181 0 44 (dk_at dksJ20_init_2 0 rfl rfl)
theorem dJ20_init_48 : decode cJ20_init 48 = .ok (.return_, 1) := dk_177 (dk_at dksJ20_init_2 3 rfl rfl)
abbrev cJ20_hasNext : ByteArray := prog_79_method_2_code
def yJ20_hasNext : MethodName := ⟨RJ20, "hasNext", "()Z"⟩
def dkwJ20_hasNext_1 : List UInt8 := [167, 0, 4, 3, 172]
abbrev dktJ20_hasNext_1 : List UInt8 := dkwJ20_hasNext_1 ++ []
def dkwJ20_hasNext_0 : List UInt8 := [42, 180, 0, 32, 198, 0, 21, 42, 180, 0, 32, 180, 0, 39, 42, 180, 0, 44, 165, 0, 7, 4]
abbrev dktJ20_hasNext_0 : List UInt8 := dkwJ20_hasNext_0 ++ dktJ20_hasNext_1
theorem dksJ20_hasNext_0 : cJ20_hasNext.data.toList.drop 0 = dktJ20_hasNext_0 := by decide +kernel
theorem dksJ20_hasNext_1 : cJ20_hasNext.data.toList.drop 22 = dktJ20_hasNext_1 := dk_seg dksJ20_hasNext_0 22 rfl rfl
theorem dJ20_hasNext_0 : decode cJ20_hasNext 0 = .ok (.aload_n 0, 1) := dk_42 (dk_at dksJ20_hasNext_0 0 rfl rfl)
theorem dJ20_hasNext_1 : decode cJ20_hasNext 1 = .ok (.getfield 32, 3) := dk_180 0 32 (dk_at dksJ20_hasNext_0 1 rfl rfl)
theorem dJ20_hasNext_4 : decode cJ20_hasNext 4 = .ok (.ifnull 21, 3) := dk_198 0 21 (dk_at dksJ20_hasNext_0 4 rfl rfl)
theorem dJ20_hasNext_7 : decode cJ20_hasNext 7 = .ok (.aload_n 0, 1) := dk_42 (dk_at dksJ20_hasNext_0 7 rfl rfl)
theorem dJ20_hasNext_8 : decode cJ20_hasNext 8 = .ok (.getfield 32, 3) := dk_180 0 32 (dk_at dksJ20_hasNext_0 8 rfl rfl)
theorem dJ20_hasNext_11 : decode cJ20_hasNext 11 = .ok (.getfield 39, 3) := dk_180 0 39 (dk_at dksJ20_hasNext_0 11 rfl rfl)
theorem dJ20_hasNext_14 : decode cJ20_hasNext 14 = .ok (.aload_n 0, 1) := dk_42 (dk_at dksJ20_hasNext_0 14 rfl rfl)
theorem dJ20_hasNext_15 : decode cJ20_hasNext 15 = .ok (.getfield 44, 3) := dk_180 0 44 (dk_at dksJ20_hasNext_0 15 rfl rfl)
theorem dJ20_hasNext_18 : decode cJ20_hasNext 18 = .ok (.if_acmp .eq 7, 3) := dk_165 0 7 (dk_at dksJ20_hasNext_0 18 rfl rfl)
theorem dJ20_hasNext_21 : decode cJ20_hasNext 21 = .ok (.iconst 1, 1) := dk_4 (dk_at dksJ20_hasNext_0 21 rfl rfl)
theorem dJ20_hasNext_22 : decode cJ20_hasNext 22 = .ok (.goto 4, 3) := dk_167 0 4 (dk_at dksJ20_hasNext_1 0 rfl rfl)
theorem dJ20_hasNext_25 : decode cJ20_hasNext 25 = .ok (.iconst 0, 1) := dk_3 (dk_at dksJ20_hasNext_1 3 rfl rfl)
theorem dJ20_hasNext_26 : decode cJ20_hasNext 26 = .ok (.ireturn, 1) := dk_172 (dk_at dksJ20_hasNext_1 4 rfl rfl)
abbrev cJ20_nextEntry : ByteArray := prog_79_method_3_code
def yJ20_nextEntry : MethodName := ⟨RJ20, "nextEntry", "()Ljava/util/TreeMap$Entry;"⟩
def dkwJ20_nextEntry_2 : List UInt8 := [89, 183, 0, 52, 191, 42, 43, 184, 0, 53, 181, 0, 32, 42, 43, 181, 0, 28, 43, 176]
abbrev dktJ20_nextEntry_2 : List UInt8 := dkwJ20_nextEntry_2 ++ []
def dkwJ20_nextEntry_1 : List UInt8 := [183, 0, 49, 191, 42, 180, 0, 1, 180, 0, 13, 180, 0, 19, 42, 180, 0, 25, 159, 0, 11, 187, 0, 50]
abbrev dktJ20_nextEntry_1 : List UInt8 := dkwJ20_nextEntry_1 ++ dktJ20_nextEntry_2
def dkwJ20_nextEntry_0 : List UInt8 := [42, 180, 0, 32, 76, 43, 198, 0, 14, 43, 180, 0, 39, 42, 180, 0, 44, 166, 0, 11, 187, 0, 47, 89]
abbrev dktJ20_nextEntry_0 : List UInt8 := dkwJ20_nextEntry_0 ++ dktJ20_nextEntry_1
theorem dksJ20_nextEntry_0 : cJ20_nextEntry.data.toList.drop 0 = dktJ20_nextEntry_0 := by decide +kernel
theorem dksJ20_nextEntry_1 : cJ20_nextEntry.data.toList.drop 24 = dktJ20_nextEntry_1 := dk_seg dksJ20_nextEntry_0 24 rfl rfl
theorem dksJ20_nextEntry_2 : cJ20_nextEntry.data.toList.drop 48 = dktJ20_nextEntry_2 := dk_seg dksJ20_nextEntry_1 24 rfl rfl
theorem dJ20_nextEntry_0 : decode cJ20_nextEntry 0 = .ok (.aload_n 0, 1) := dk_42 (dk_at dksJ20_nextEntry_0 0 rfl rfl)
theorem dJ20_nextEntry_1 : decode cJ20_nextEntry 1 = .ok (.getfield 32, 3) := dk_180 0 32 (dk_at dksJ20_nextEntry_0 1 rfl rfl)
theorem dJ20_nextEntry_4 : decode cJ20_nextEntry 4 = .ok (.astore_n 1, 1) := dk_76 (dk_at dksJ20_nextEntry_0 4 rfl rfl)
theorem dJ20_nextEntry_5 : decode cJ20_nextEntry 5 = .ok (.aload_n 1, 1) := dk_43 (dk_at dksJ20_nextEntry_0 5 rfl rfl)
theorem dJ20_nextEntry_6 : decode cJ20_nextEntry 6 = .ok (.ifnull 14, 3) := dk_198 0 14 (dk_at dksJ20_nextEntry_0 6 rfl rfl)
theorem dJ20_nextEntry_9 : decode cJ20_nextEntry 9 = .ok (.aload_n 1, 1) := dk_43 (dk_at dksJ20_nextEntry_0 9 rfl rfl)
theorem dJ20_nextEntry_10 : decode cJ20_nextEntry 10 = .ok (.getfield 39, 3) := dk_180 0 39 (dk_at dksJ20_nextEntry_0 10 rfl rfl)
theorem dJ20_nextEntry_13 : decode cJ20_nextEntry 13 = .ok (.aload_n 0, 1) := dk_42 (dk_at dksJ20_nextEntry_0 13 rfl rfl)
theorem dJ20_nextEntry_14 : decode cJ20_nextEntry 14 = .ok (.getfield 44, 3) := dk_180 0 44 (dk_at dksJ20_nextEntry_0 14 rfl rfl)
theorem dJ20_nextEntry_17 : decode cJ20_nextEntry 17 = .ok (.if_acmp .ne 11, 3) := dk_166 0 11 (dk_at dksJ20_nextEntry_0 17 rfl rfl)
theorem dJ20_nextEntry_20 : decode cJ20_nextEntry 20 = .ok (.new 47, 3) := dk_187 0 47 (dk_at dksJ20_nextEntry_0 20 rfl rfl)
theorem dJ20_nextEntry_23 : decode cJ20_nextEntry 23 = .ok (.dup, 1) := dk_89 (dk_at dksJ20_nextEntry_0 23 rfl rfl)
theorem dJ20_nextEntry_24 : decode cJ20_nextEntry 24 = .ok (.invokespecial 49, 3) := dk_183 0 49 (dk_at dksJ20_nextEntry_1 0 rfl rfl)
theorem dJ20_nextEntry_27 : decode cJ20_nextEntry 27 = .ok (.athrow, 1) := dk_191 (dk_at dksJ20_nextEntry_1 3 rfl rfl)
theorem dJ20_nextEntry_28 : decode cJ20_nextEntry 28 = .ok (.aload_n 0, 1) := dk_42 (dk_at dksJ20_nextEntry_1 4 rfl rfl)
theorem dJ20_nextEntry_29 : decode cJ20_nextEntry 29 = .ok (.getfield 1, 3) := dk_180 0 1 (dk_at dksJ20_nextEntry_1 5 rfl rfl)
theorem dJ20_nextEntry_32 : decode cJ20_nextEntry 32 = .ok (.getfield 13, 3) := dk_180 0 13 (dk_at dksJ20_nextEntry_1 8 rfl rfl)
theorem dJ20_nextEntry_35 : decode cJ20_nextEntry 35 = .ok (.getfield 19, 3) := dk_180 0 19 (dk_at dksJ20_nextEntry_1 11 rfl rfl)
theorem dJ20_nextEntry_38 : decode cJ20_nextEntry 38 = .ok (.aload_n 0, 1) := dk_42 (dk_at dksJ20_nextEntry_1 14 rfl rfl)
theorem dJ20_nextEntry_39 : decode cJ20_nextEntry 39 = .ok (.getfield 25, 3) := dk_180 0 25 (dk_at dksJ20_nextEntry_1 15 rfl rfl)
theorem dJ20_nextEntry_42 : decode cJ20_nextEntry 42 = .ok (.if_icmp .eq 11, 3) := dk_159 0 11 (dk_at dksJ20_nextEntry_1 18 rfl rfl)
theorem dJ20_nextEntry_45 : decode cJ20_nextEntry 45 = .ok (.new 50, 3) := dk_187 0 50 (dk_at dksJ20_nextEntry_1 21 rfl rfl)
theorem dJ20_nextEntry_48 : decode cJ20_nextEntry 48 = .ok (.dup, 1) := dk_89 (dk_at dksJ20_nextEntry_2 0 rfl rfl)
theorem dJ20_nextEntry_49 : decode cJ20_nextEntry 49 = .ok (.invokespecial 52, 3) := dk_183 0 52 (dk_at dksJ20_nextEntry_2 1 rfl rfl)
theorem dJ20_nextEntry_52 : decode cJ20_nextEntry 52 = .ok (.athrow, 1) := dk_191 (dk_at dksJ20_nextEntry_2 4 rfl rfl)
theorem dJ20_nextEntry_53 : decode cJ20_nextEntry 53 = .ok (.aload_n 0, 1) := dk_42 (dk_at dksJ20_nextEntry_2 5 rfl rfl)
theorem dJ20_nextEntry_54 : decode cJ20_nextEntry 54 = .ok (.aload_n 1, 1) := dk_43 (dk_at dksJ20_nextEntry_2 6 rfl rfl)
theorem dJ20_nextEntry_55 : decode cJ20_nextEntry 55 = .ok (.invokestatic 53, 3) := dk_184 0 53 (dk_at dksJ20_nextEntry_2 7 rfl rfl)
theorem dJ20_nextEntry_58 : decode cJ20_nextEntry 58 = .ok (.putfield 32, 3) := dk_181 0 32 (dk_at dksJ20_nextEntry_2 10 rfl rfl)
theorem dJ20_nextEntry_61 : decode cJ20_nextEntry 61 = .ok (.aload_n 0, 1) := dk_42 (dk_at dksJ20_nextEntry_2 13 rfl rfl)
theorem dJ20_nextEntry_62 : decode cJ20_nextEntry 62 = .ok (.aload_n 1, 1) := dk_43 (dk_at dksJ20_nextEntry_2 14 rfl rfl)
theorem dJ20_nextEntry_63 : decode cJ20_nextEntry 63 = .ok (.putfield 28, 3) := dk_181 0 28 (dk_at dksJ20_nextEntry_2 15 rfl rfl)
theorem dJ20_nextEntry_66 : decode cJ20_nextEntry 66 = .ok (.aload_n 1, 1) := dk_43 (dk_at dksJ20_nextEntry_2 18 rfl rfl)
theorem dJ20_nextEntry_67 : decode cJ20_nextEntry 67 = .ok (.areturn, 1) := dk_176 (dk_at dksJ20_nextEntry_2 19 rfl rfl)
theorem q122 : (Jvm.Cond.initialized "java/util/TreeMap$NavigableSubMap$SubMapIterator") ∈ lw_all := lw_g (lw_at lw_m1 29 rfl) rfl
theorem q194 : (Jvm.Cond.fieldLinkNest "java/util/TreeMap$NavigableSubMap$SubMapIterator" (19 : Nat) "java/util/TreeMap" "modCount" "I" "java/util/TreeMap") ∈ lw_tbl := lw_at lw_m1 101 rfl
theorem q652 : (Jvm.Cond.fieldLink "java/util/TreeMap$NavigableSubMap$SubMapIterator" (39 : Nat) "java/util/TreeMap$Entry" "key" "Ljava/lang/Object;") ∈ lw_all := lw_g (lw_at lw_m3 79 rfl) rfl
theorem q829 : (Jvm.Cond.instanceMethod ({ cls := "java/util/TreeMap$NavigableSubMap$SubMapIterator", name := "<init>", desc := "(Ljava/util/TreeMap$NavigableSubMap;Ljava/util/TreeMap$Entry;Ljava/util/TreeMap$Entry;)V" } : Jvm.MethodName)) ∈ lw_all := lw_g (lw_at lw_m4 16 rfl) rfl
theorem q830 : (Jvm.Cond.code ({ cls := "java/util/TreeMap$NavigableSubMap$SubMapIterator", name := "<init>", desc := "(Ljava/util/TreeMap$NavigableSubMap;Ljava/util/TreeMap$Entry;Ljava/util/TreeMap$Entry;)V" } : Jvm.MethodName) prog_79_method_1_code (4 : Nat) (Option.none : Option Jvm.ClassFile.FieldType)) ∈ lw_all := lw_g (lw_at lw_m4 17 rfl) rfl
theorem q831 : (Jvm.Cond.methodLink "java/util/TreeMap$NavigableSubMap$SubMapIterator" (7 : Nat) ({ cls := "java/lang/Object", name := "<init>", desc := "()V" } : Jvm.MethodName)) ∈ lw_all := lw_g (lw_at lw_m4 18 rfl) rfl
theorem q832 : (Jvm.Cond.fieldLinkNest "java/util/TreeMap$NavigableSubMap$SubMapIterator" (35 : Nat) "java/util/TreeMap" "UNBOUNDED" "Ljava/lang/Object;" "java/util/TreeMap") ∈ lw_tbl := lw_at lw_m4 19 rfl
theorem q834 : (Jvm.Cond.fieldLink "java/util/TreeMap$NavigableSubMap$SubMapIterator" (28 : Nat) "java/util/TreeMap$NavigableSubMap$SubMapIterator" "lastReturned" "Ljava/util/TreeMap$Entry;") ∈ lw_all := lw_g (lw_at lw_m4 21 rfl) rfl
theorem q835 : (Jvm.Cond.fieldLink "java/util/TreeMap$NavigableSubMap$SubMapIterator" (32 : Nat) "java/util/TreeMap$NavigableSubMap$SubMapIterator" "next" "Ljava/util/TreeMap$Entry;") ∈ lw_all := lw_g (lw_at lw_m4 22 rfl) rfl
theorem q836 : (Jvm.Cond.fieldLink "java/util/TreeMap$NavigableSubMap$SubMapIterator" (44 : Nat) "java/util/TreeMap$NavigableSubMap$SubMapIterator" "fenceKey" "Ljava/lang/Object;") ∈ lw_all := lw_g (lw_at lw_m4 23 rfl) rfl
theorem q837 : (Jvm.Cond.fieldLink "java/util/TreeMap$NavigableSubMap$SubMapIterator" (25 : Nat) "java/util/TreeMap$NavigableSubMap$SubMapIterator" "expectedModCount" "I") ∈ lw_all := lw_g (lw_at lw_m4 24 rfl) rfl
theorem q838 : (Jvm.Cond.fieldLink "java/util/TreeMap$NavigableSubMap$SubMapIterator" (1 : Nat) "java/util/TreeMap$NavigableSubMap$SubMapIterator" "this$0" "Ljava/util/TreeMap$NavigableSubMap;") ∈ lw_all := lw_g (lw_at lw_m4 25 rfl) rfl
theorem q840 : (Jvm.Cond.soleField "java/util/TreeMap$NavigableSubMap$SubMapIterator" "lastReturned") ∈ lw_all := lw_g (lw_at lw_m4 27 rfl) rfl
theorem q842 : (Jvm.Cond.soleField "java/util/TreeMap$NavigableSubMap$SubMapIterator" "next") ∈ lw_all := lw_g (lw_at lw_m4 29 rfl) rfl
theorem q844 : (Jvm.Cond.soleField "java/util/TreeMap$NavigableSubMap$SubMapIterator" "fenceKey") ∈ lw_all := lw_g (lw_at lw_m4 31 rfl) rfl
theorem q846 : (Jvm.Cond.soleField "java/util/TreeMap$NavigableSubMap$SubMapIterator" "expectedModCount") ∈ lw_all := lw_g (lw_at lw_m4 33 rfl) rfl
theorem q848 : (Jvm.Cond.soleField "java/util/TreeMap$NavigableSubMap$SubMapIterator" "this$0") ∈ lw_all := lw_g (lw_at lw_m4 35 rfl) rfl
theorem q879 : (Jvm.Cond.instanceMethod ({ cls := "java/util/TreeMap$NavigableSubMap$SubMapIterator", name := "hasNext", desc := "()Z" } : Jvm.MethodName)) ∈ lw_all := lw_g (lw_at lw_m4 66 rfl) rfl
theorem q880 : (Jvm.Cond.publicMethod ({ cls := "java/util/TreeMap$NavigableSubMap$SubMapIterator", name := "hasNext", desc := "()Z" } : Jvm.MethodName)) ∈ lw_tbl := lw_at lw_m4 67 rfl
theorem q881 : (Jvm.Cond.code ({ cls := "java/util/TreeMap$NavigableSubMap$SubMapIterator", name := "hasNext", desc := "()Z" } : Jvm.MethodName) prog_79_method_2_code (1 : Nat) (Option.some Jvm.ClassFile.FieldType.boolean)) ∈ lw_all := lw_g (lw_at lw_m4 68 rfl) rfl
theorem q945 : (Jvm.Cond.declares ({ cls := "java/util/TreeMap$NavigableSubMap$SubMapIterator", name := "nextEntry", desc := "()Ljava/util/TreeMap$Entry;" } : Jvm.MethodName)) ∈ lw_tbl := lw_at lw_m4 132 rfl
theorem q947 : (Jvm.Cond.instanceMethod ({ cls := "java/util/TreeMap$NavigableSubMap$SubMapIterator", name := "nextEntry", desc := "()Ljava/util/TreeMap$Entry;" } : Jvm.MethodName)) ∈ lw_all := lw_g (lw_at lw_m4 134 rfl) rfl
theorem q948 : (Jvm.Cond.code ({ cls := "java/util/TreeMap$NavigableSubMap$SubMapIterator", name := "nextEntry", desc := "()Ljava/util/TreeMap$Entry;" } : Jvm.MethodName) prog_79_method_3_code (2 : Nat) (Option.some (Jvm.ClassFile.FieldType.object "java/util/TreeMap$Entry"))) ∈ lw_all := lw_g (lw_at lw_m4 135 rfl) rfl
theorem q949 : (Jvm.Cond.methodLink "java/util/TreeMap$NavigableSubMap$SubMapIterator" (53 : Nat) ({ cls := "java/util/TreeMap", name := "successor", desc := "(Ljava/util/TreeMap$Entry;)Ljava/util/TreeMap$Entry;" } : Jvm.MethodName)) ∈ lw_all := lw_g (lw_at lw_m4 136 rfl) rfl
theorem q2395 : (Jvm.Cond.fieldLink "java/util/TreeMap$NavigableSubMap$SubMapIterator" (13 : Nat) "java/util/TreeMap$NavigableSubMap" "m" "Ljava/util/TreeMap;") ∈ lw_all := lw_g (lw_at lw_m10 142 rfl) rfl

/-! java/util/TreeMap$NavigableSubMap$SubMapEntryIterator -/
set_option maxRecDepth 100000
def RJ21 : String := "java/util/TreeMap$NavigableSubMap$SubMapEntryIterator"
def TJ21 : u_T := fun k => match k with
  | 0 => ("java/util/TreeMap$NavigableSubMap$SubMapIterator", "lastReturned", "Ljava/util/TreeMap$Entry;", false)
  | 1 => ("java/util/TreeMap$NavigableSubMap$SubMapIterator", "next", "Ljava/util/TreeMap$Entry;", false)
  | 2 => ("java/util/TreeMap$NavigableSubMap$SubMapIterator", "fenceKey", "Ljava/lang/Object;", true)
  | 3 => ("java/util/TreeMap$NavigableSubMap$SubMapIterator", "expectedModCount", "I", false)
  | _ => ("java/util/TreeMap$NavigableSubMap$SubMapIterator", "this$0", "Ljava/util/TreeMap$NavigableSubMap;", true)
def tyJ21 : Nat → FieldType := fun k => match k with
  | 0 => .object "java/util/TreeMap$Entry"
  | 1 => .object "java/util/TreeMap$Entry"
  | 2 => .object "java/lang/Object"
  | 3 => .int
  | _ => .object "java/util/TreeMap$NavigableSubMap"
abbrev wsJ210 : List Cond := u_ws RJ21 TJ21 5
theorem nmJ21 : ∀ a, a < 5 → ∀ b, b < 5 → a ≠ b → (TJ21 a).2.1 ≠ (TJ21 b).2.1 := by decide +kernel
theorem tyJ21_ok : ∀ k, k < 5 → parseFieldDescriptor (TJ21 k).2.2.1 = some (tyJ21 k) := by decide +kernel
abbrev cJ21_init : ByteArray := prog_78_method_1_code
def yJ21_init : MethodName := ⟨RJ21, "<init>", "(Ljava/util/TreeMap$NavigableSubMap;Ljava/util/TreeMap$Entry;Ljava/util/TreeMap$Entry;)V"⟩
def dkwJ21_init_0 : List UInt8 := [42, 43, 44, 45, 183, 0, 1, 177]
abbrev dktJ21_init_0 : List UInt8 := dkwJ21_init_0 ++ []
theorem dksJ21_init_0 : cJ21_init.data.toList.drop 0 = dktJ21_init_0 := by decide +kernel
theorem dJ21_init_0 : decode cJ21_init 0 = .ok (.aload_n 0, 1) := dk_42 (dk_at dksJ21_init_0 0 rfl rfl)
theorem dJ21_init_1 : decode cJ21_init 1 = .ok (.aload_n 1, 1) := dk_43 (dk_at dksJ21_init_0 1 rfl rfl)
theorem dJ21_init_2 : decode cJ21_init 2 = .ok (.aload_n 2, 1) := dk_44 (dk_at dksJ21_init_0 2 rfl rfl)
theorem dJ21_init_3 : decode cJ21_init 3 = .ok (.aload_n 3, 1) := dk_45 (dk_at dksJ21_init_0 3 rfl rfl)
theorem dJ21_init_4 : decode cJ21_init 4 = .ok (.invokespecial 1, 3) := dk_183 0 1 (dk_at dksJ21_init_0 4 rfl rfl)
theorem dJ21_init_7 : decode cJ21_init 7 = .ok (.return_, 1) := dk_177 (dk_at dksJ21_init_0 7 rfl rfl)
abbrev cJ21_next : ByteArray := prog_78_method_4_code
def yJ21_next : MethodName := ⟨RJ21, "next", "()Ljava/lang/Object;"⟩
theorem dJ21_next_0 : decode cJ21_next 0 = .ok (.aload_n 0, 1) := by decide +kernel
theorem dJ21_next_1 : decode cJ21_next 1 = .ok (.invokevirtual 17, 3) := by decide +kernel
theorem dJ21_next_4 : decode cJ21_next 4 = .ok (.areturn, 1) := by decide +kernel
abbrev cJ21_next_2 : ByteArray := prog_78_method_2_code
def yJ21_next_2 : MethodName := ⟨RJ21, "next", "()Ljava/util/Map$Entry;"⟩
theorem dJ21_next_2_0 : decode cJ21_next_2 0 = .ok (.aload_n 0, 1) := by decide +kernel
theorem dJ21_next_2_1 : decode cJ21_next_2 1 = .ok (.invokevirtual 7, 3) := by decide +kernel
theorem dJ21_next_2_4 : decode cJ21_next_2 4 = .ok (.areturn, 1) := by decide +kernel
theorem q123 : (Jvm.Cond.initialized "java/util/TreeMap$NavigableSubMap$SubMapEntryIterator") ∈ lw_all := lw_g (lw_at lw_m1 30 rfl) rfl
theorem q800 : (Jvm.Cond.instantiable "java/util/TreeMap$NavigableSubMap$SubMapEntryIterator" (5 : Nat)) ∈ lw_all := lw_g (lw_at lw_m3 227 rfl) rfl
theorem q826 : (Jvm.Cond.instanceMethod ({ cls := "java/util/TreeMap$NavigableSubMap$SubMapEntryIterator", name := "<init>", desc := "(Ljava/util/TreeMap$NavigableSubMap;Ljava/util/TreeMap$Entry;Ljava/util/TreeMap$Entry;)V" } : Jvm.MethodName)) ∈ lw_all := lw_g (lw_at lw_m4 13 rfl) rfl
theorem q827 : (Jvm.Cond.code ({ cls := "java/util/TreeMap$NavigableSubMap$SubMapEntryIterator", name := "<init>", desc := "(Ljava/util/TreeMap$NavigableSubMap;Ljava/util/TreeMap$Entry;Ljava/util/TreeMap$Entry;)V" } : Jvm.MethodName) prog_78_method_1_code (4 : Nat) (Option.none : Option Jvm.ClassFile.FieldType)) ∈ lw_all := lw_g (lw_at lw_m4 14 rfl) rfl
theorem q828 : (Jvm.Cond.methodLink "java/util/TreeMap$NavigableSubMap$SubMapEntryIterator" (1 : Nat) ({ cls := "java/util/TreeMap$NavigableSubMap$SubMapIterator", name := "<init>", desc := "(Ljava/util/TreeMap$NavigableSubMap;Ljava/util/TreeMap$Entry;Ljava/util/TreeMap$Entry;)V" } : Jvm.MethodName)) ∈ lw_all := lw_g (lw_at lw_m4 15 rfl) rfl
theorem q839 : (Jvm.Cond.lays "java/util/TreeMap$NavigableSubMap$SubMapEntryIterator" "java/util/TreeMap$NavigableSubMap$SubMapIterator" "lastReturned" "Ljava/util/TreeMap$Entry;") ∈ lw_all := lw_g (lw_at lw_m4 26 rfl) rfl
theorem q841 : (Jvm.Cond.lays "java/util/TreeMap$NavigableSubMap$SubMapEntryIterator" "java/util/TreeMap$NavigableSubMap$SubMapIterator" "next" "Ljava/util/TreeMap$Entry;") ∈ lw_all := lw_g (lw_at lw_m4 28 rfl) rfl
theorem q843 : (Jvm.Cond.laysFinal "java/util/TreeMap$NavigableSubMap$SubMapEntryIterator" "java/util/TreeMap$NavigableSubMap$SubMapIterator" "fenceKey" "Ljava/lang/Object;") ∈ lw_all := lw_g (lw_at lw_m4 30 rfl) rfl
theorem q845 : (Jvm.Cond.lays "java/util/TreeMap$NavigableSubMap$SubMapEntryIterator" "java/util/TreeMap$NavigableSubMap$SubMapIterator" "expectedModCount" "I") ∈ lw_all := lw_g (lw_at lw_m4 32 rfl) rfl
theorem q847 : (Jvm.Cond.laysFinal "java/util/TreeMap$NavigableSubMap$SubMapEntryIterator" "java/util/TreeMap$NavigableSubMap$SubMapIterator" "this$0" "Ljava/util/TreeMap$NavigableSubMap;") ∈ lw_all := lw_g (lw_at lw_m4 34 rfl) rfl
theorem q849 : (Jvm.Cond.superclass "java/util/TreeMap$NavigableSubMap$SubMapEntryIterator" "java/util/TreeMap$NavigableSubMap$SubMapIterator") ∈ lw_all := lw_g (lw_at lw_m4 36 rfl) rfl
theorem q876 : (Jvm.Cond.castable "java/util/TreeMap$NavigableSubMap$SubMapEntryIterator" "java/util/Iterator") ∈ lw_tbl := lw_at lw_m4 63 rfl
theorem q877 : (Jvm.Cond.selects "java/util/TreeMap$NavigableSubMap$SubMapEntryIterator" ({ cls := "java/util/Iterator", name := "hasNext", desc := "()Z" } : Jvm.MethodName) ({ cls := "java/util/TreeMap$NavigableSubMap$SubMapIterator", name := "hasNext", desc := "()Z" } : Jvm.MethodName)) ∈ lw_all := lw_g (lw_at lw_m4 64 rfl) rfl
theorem q878 : (Jvm.Cond.unhidden "java/util/TreeMap$NavigableSubMap$SubMapEntryIterator" "hasNext" "()Z") ∈ lw_tbl := lw_at lw_m4 65 rfl
theorem q934 : (Jvm.Cond.selects "java/util/TreeMap$NavigableSubMap$SubMapEntryIterator" ({ cls := "java/util/Iterator", name := "next", desc := "()Ljava/lang/Object;" } : Jvm.MethodName) ({ cls := "java/util/TreeMap$NavigableSubMap$SubMapEntryIterator", name := "next", desc := "()Ljava/lang/Object;" } : Jvm.MethodName)) ∈ lw_all := lw_g (lw_at lw_m4 121 rfl) rfl
theorem q935 : (Jvm.Cond.unhidden "java/util/TreeMap$NavigableSubMap$SubMapEntryIterator" "next" "()Ljava/lang/Object;") ∈ lw_tbl := lw_at lw_m4 122 rfl
theorem q936 : (Jvm.Cond.instanceMethod ({ cls := "java/util/TreeMap$NavigableSubMap$SubMapEntryIterator", name := "next", desc := "()Ljava/lang/Object;" } : Jvm.MethodName)) ∈ lw_all := lw_g (lw_at lw_m4 123 rfl) rfl
theorem q937 : (Jvm.Cond.publicMethod ({ cls := "java/util/TreeMap$NavigableSubMap$SubMapEntryIterator", name := "next", desc := "()Ljava/lang/Object;" } : Jvm.MethodName)) ∈ lw_tbl := lw_at lw_m4 124 rfl
theorem q938 : (Jvm.Cond.code ({ cls := "java/util/TreeMap$NavigableSubMap$SubMapEntryIterator", name := "next", desc := "()Ljava/lang/Object;" } : Jvm.MethodName) prog_78_method_4_code (1 : Nat) (Option.some (Jvm.ClassFile.FieldType.object "java/lang/Object"))) ∈ lw_all := lw_g (lw_at lw_m4 125 rfl) rfl
theorem q939 : (Jvm.Cond.methodLink "java/util/TreeMap$NavigableSubMap$SubMapEntryIterator" (17 : Nat) ({ cls := "java/util/TreeMap$NavigableSubMap$SubMapEntryIterator", name := "next", desc := "()Ljava/util/Map$Entry;" } : Jvm.MethodName)) ∈ lw_all := lw_g (lw_at lw_m4 126 rfl) rfl
theorem q940 : (Jvm.Cond.instanceMethod ({ cls := "java/util/TreeMap$NavigableSubMap$SubMapEntryIterator", name := "next", desc := "()Ljava/util/Map$Entry;" } : Jvm.MethodName)) ∈ lw_all := lw_g (lw_at lw_m4 127 rfl) rfl
theorem q941 : (Jvm.Cond.selects "java/util/TreeMap$NavigableSubMap$SubMapEntryIterator" ({ cls := "java/util/TreeMap$NavigableSubMap$SubMapEntryIterator", name := "next", desc := "()Ljava/util/Map$Entry;" } : Jvm.MethodName) ({ cls := "java/util/TreeMap$NavigableSubMap$SubMapEntryIterator", name := "next", desc := "()Ljava/util/Map$Entry;" } : Jvm.MethodName)) ∈ lw_all := lw_g (lw_at lw_m4 128 rfl) rfl
theorem q942 : (Jvm.Cond.code ({ cls := "java/util/TreeMap$NavigableSubMap$SubMapEntryIterator", name := "next", desc := "()Ljava/util/Map$Entry;" } : Jvm.MethodName) prog_78_method_2_code (1 : Nat) (Option.some (Jvm.ClassFile.FieldType.object "java/util/Map$Entry"))) ∈ lw_all := lw_g (lw_at lw_m4 129 rfl) rfl
theorem q943 : (Jvm.Cond.methodLink "java/util/TreeMap$NavigableSubMap$SubMapEntryIterator" (7 : Nat) ({ cls := "java/util/TreeMap$NavigableSubMap$SubMapEntryIterator", name := "nextEntry", desc := "()Ljava/util/TreeMap$Entry;" } : Jvm.MethodName)) ∈ lw_all := lw_g (lw_at lw_m4 130 rfl) rfl
theorem q944 : (Jvm.Cond.sameMethod "java/util/TreeMap$NavigableSubMap$SubMapEntryIterator" "java/util/TreeMap$NavigableSubMap$SubMapIterator" "nextEntry" "()Ljava/util/TreeMap$Entry;") ∈ lw_all := lw_g (lw_at lw_m4 131 rfl) rfl
theorem q946 : (Jvm.Cond.selects "java/util/TreeMap$NavigableSubMap$SubMapEntryIterator" ({ cls := "java/util/TreeMap$NavigableSubMap$SubMapEntryIterator", name := "nextEntry", desc := "()Ljava/util/TreeMap$Entry;" } : Jvm.MethodName) ({ cls := "java/util/TreeMap$NavigableSubMap$SubMapIterator", name := "nextEntry", desc := "()Ljava/util/TreeMap$Entry;" } : Jvm.MethodName)) ∈ lw_all := lw_g (lw_at lw_m4 133 rfl) rfl
theorem q1455 : (Jvm.Cond.selects "java/util/TreeMap$NavigableSubMap$SubMapEntryIterator" ({ cls := "java/lang/Object", name := "getClass", desc := "()Ljava/lang/Class;" } : Jvm.MethodName) ({ cls := "java/lang/Object", name := "getClass", desc := "()Ljava/lang/Class;" } : Jvm.MethodName)) ∈ lw_all := lw_g (lw_at lw_m6 162 rfl) rfl
theorem q3138 : (Jvm.Cond.castable "java/util/TreeMap$NavigableSubMap$SubMapEntryIterator" "java/lang/Object") ∈ lw_tbl := lw_at lw_m13 165 rfl
theorem in_J21 : ∀ w ∈ wsJ210, w ∈ lw_all := lw_in wsJ210 [839, 841, 843, 845, 847] (by decide +kernel) (by decide +kernel)

/-! java/util/AbstractMap$SimpleImmutableEntry -/
set_option maxRecDepth 100000
def RJ23 : String := "java/util/AbstractMap$SimpleImmutableEntry"
def TJ23 : u_T := fun k => match k with
  | 0 => ("java/util/AbstractMap$SimpleImmutableEntry", "key", "Ljava/lang/Object;", true)
  | _ => ("java/util/AbstractMap$SimpleImmutableEntry", "value", "Ljava/lang/Object;", true)
def tyJ23 : Nat → FieldType := fun k => match k with
  | 0 => .object "java/lang/Object"
  | _ => .object "java/lang/Object"
abbrev wsJ230 : List Cond := u_ws RJ23 TJ23 2
theorem nmJ23 : ∀ a, a < 2 → ∀ b, b < 2 → a ≠ b → (TJ23 a).2.1 ≠ (TJ23 b).2.1 := by decide +kernel
theorem tyJ23_ok : ∀ k, k < 2 → parseFieldDescriptor (TJ23 k).2.2.1 = some (tyJ23 k) := by decide +kernel
abbrev cJ23_init : ByteArray := prog_43_method_2_code
def yJ23_init : MethodName := ⟨RJ23, "<init>", "(Ljava/util/Map$Entry;)V"⟩
def dkwJ23_init_1 : List UInt8 := [177]
abbrev dktJ23_init_1 : List UInt8 := dkwJ23_init_1 ++ []
def dkwJ23_init_0 : List UInt8 := [42, 183, 0, 1, 42, 43, 185, 0, 16, 1, 0, 181, 0, 7, 42, 43, 185, 0, 22, 1, 0, 181, 0, 13]
abbrev dktJ23_init_0 : List UInt8 := dkwJ23_init_0 ++ dktJ23_init_1
theorem dksJ23_init_0 : cJ23_init.data.toList.drop 0 = dktJ23_init_0 := by decide +kernel
theorem dksJ23_init_1 : cJ23_init.data.toList.drop 24 = dktJ23_init_1 := dk_seg dksJ23_init_0 24 rfl rfl
theorem dJ23_init_0 : decode cJ23_init 0 = .ok (.aload_n 0, 1) := dk_42 (dk_at dksJ23_init_0 0 rfl rfl)
theorem dJ23_init_1 : decode cJ23_init 1 = .ok (.invokespecial 1, 3) := dk_183 0 1 (dk_at dksJ23_init_0 1 rfl rfl)
theorem dJ23_init_4 : decode cJ23_init 4 = .ok (.aload_n 0, 1) := dk_42 (dk_at dksJ23_init_0 4 rfl rfl)
theorem dJ23_init_5 : decode cJ23_init 5 = .ok (.aload_n 1, 1) := dk_43 (dk_at dksJ23_init_0 5 rfl rfl)
theorem dJ23_init_6 : decode cJ23_init 6 = .ok (.invokeinterface 16 1, 5) := by decide +kernel
theorem dJ23_init_11 : decode cJ23_init 11 = .ok (.putfield 7, 3) := dk_181 0 7 (dk_at dksJ23_init_0 11 rfl rfl)
theorem dJ23_init_14 : decode cJ23_init 14 = .ok (.aload_n 0, 1) := dk_42 (dk_at dksJ23_init_0 14 rfl rfl)
theorem dJ23_init_15 : decode cJ23_init 15 = .ok (.aload_n 1, 1) := dk_43 (dk_at dksJ23_init_0 15 rfl rfl)
theorem dJ23_init_16 : decode cJ23_init 16 = .ok (.invokeinterface 22 1, 5) := by decide +kernel
theorem dJ23_init_21 : decode cJ23_init 21 = .ok (.putfield 13, 3) := dk_181 0 13 (dk_at dksJ23_init_0 21 rfl rfl)
theorem dJ23_init_24 : decode cJ23_init 24 = .ok (.return_, 1) := dk_177 (dk_at dksJ23_init_1 0 rfl rfl)
abbrev cJ23_getKey : ByteArray := prog_43_method_3_code
def yJ23_getKey : MethodName := ⟨RJ23, "getKey", "()Ljava/lang/Object;"⟩
theorem dJ23_getKey_0 : decode cJ23_getKey 0 = .ok (.aload_n 0, 1) := by decide +kernel
theorem dJ23_getKey_1 : decode cJ23_getKey 1 = .ok (.getfield 7, 3) := by decide +kernel
theorem dJ23_getKey_4 : decode cJ23_getKey 4 = .ok (.areturn, 1) := by decide +kernel
abbrev cJ23_getValue : ByteArray := prog_43_method_4_code
def yJ23_getValue : MethodName := ⟨RJ23, "getValue", "()Ljava/lang/Object;"⟩
theorem dJ23_getValue_0 : decode cJ23_getValue 0 = .ok (.aload_n 0, 1) := by decide +kernel
theorem dJ23_getValue_1 : decode cJ23_getValue 1 = .ok (.getfield 13, 3) := by decide +kernel
theorem dJ23_getValue_4 : decode cJ23_getValue 4 = .ok (.areturn, 1) := by decide +kernel
theorem q125 : (Jvm.Cond.initialized "java/util/AbstractMap$SimpleImmutableEntry") ∈ lw_all := lw_g (lw_at lw_m1 32 rfl) rfl
theorem q995 : (Jvm.Cond.instantiable "java/util/AbstractMap$SimpleImmutableEntry" (2 : Nat)) ∈ lw_all := lw_g (lw_at lw_m4 182 rfl) rfl
theorem q997 : (Jvm.Cond.instanceMethod ({ cls := "java/util/AbstractMap$SimpleImmutableEntry", name := "<init>", desc := "(Ljava/util/Map$Entry;)V" } : Jvm.MethodName)) ∈ lw_all := lw_g (lw_at lw_m4 184 rfl) rfl
theorem q998 : (Jvm.Cond.code ({ cls := "java/util/AbstractMap$SimpleImmutableEntry", name := "<init>", desc := "(Ljava/util/Map$Entry;)V" } : Jvm.MethodName) prog_43_method_2_code (2 : Nat) (Option.none : Option Jvm.ClassFile.FieldType)) ∈ lw_all := lw_g (lw_at lw_m4 185 rfl) rfl
theorem q999 : (Jvm.Cond.methodLink "java/util/AbstractMap$SimpleImmutableEntry" (1 : Nat) ({ cls := "java/lang/Object", name := "<init>", desc := "()V" } : Jvm.MethodName)) ∈ lw_all := lw_g (lw_at lw_m4 186 rfl) rfl
theorem q1000 : (Jvm.Cond.interfaceEntry "java/util/AbstractMap$SimpleImmutableEntry" (16 : Nat)) ∈ lw_tbl := lw_at lw_m4 187 rfl
theorem q1001 : (Jvm.Cond.methodLink "java/util/AbstractMap$SimpleImmutableEntry" (16 : Nat) ({ cls := "java/util/Map$Entry", name := "getKey", desc := "()Ljava/lang/Object;" } : Jvm.MethodName)) ∈ lw_all := lw_g (lw_at lw_m4 188 rfl) rfl
theorem q1004 : (Jvm.Cond.castable "java/util/AbstractMap$SimpleImmutableEntry" "java/util/Map$Entry") ∈ lw_tbl := lw_at lw_m4 191 rfl
theorem q1005 : (Jvm.Cond.selects "java/util/AbstractMap$SimpleImmutableEntry" ({ cls := "java/util/Map$Entry", name := "getKey", desc := "()Ljava/lang/Object;" } : Jvm.MethodName) ({ cls := "java/util/AbstractMap$SimpleImmutableEntry", name := "getKey", desc := "()Ljava/lang/Object;" } : Jvm.MethodName)) ∈ lw_all := lw_g (lw_at lw_m4 192 rfl) rfl
theorem q1006 : (Jvm.Cond.unhidden "java/util/AbstractMap$SimpleImmutableEntry" "getKey" "()Ljava/lang/Object;") ∈ lw_tbl := lw_at lw_m4 193 rfl
theorem q1007 : (Jvm.Cond.instanceMethod ({ cls := "java/util/AbstractMap$SimpleImmutableEntry", name := "getKey", desc := "()Ljava/lang/Object;" } : Jvm.MethodName)) ∈ lw_all := lw_g (lw_at lw_m4 194 rfl) rfl
theorem q1008 : (Jvm.Cond.publicMethod ({ cls := "java/util/AbstractMap$SimpleImmutableEntry", name := "getKey", desc := "()Ljava/lang/Object;" } : Jvm.MethodName)) ∈ lw_tbl := lw_at lw_m4 195 rfl
theorem q1009 : (Jvm.Cond.code ({ cls := "java/util/AbstractMap$SimpleImmutableEntry", name := "getKey", desc := "()Ljava/lang/Object;" } : Jvm.MethodName) prog_43_method_3_code (1 : Nat) (Option.some (Jvm.ClassFile.FieldType.object "java/lang/Object"))) ∈ lw_all := lw_g (lw_at lw_m4 196 rfl) rfl
theorem q1016 : (Jvm.Cond.interfaceEntry "java/util/AbstractMap$SimpleImmutableEntry" (22 : Nat)) ∈ lw_tbl := lw_at lw_m4 203 rfl
theorem q1017 : (Jvm.Cond.methodLink "java/util/AbstractMap$SimpleImmutableEntry" (22 : Nat) ({ cls := "java/util/Map$Entry", name := "getValue", desc := "()Ljava/lang/Object;" } : Jvm.MethodName)) ∈ lw_all := lw_g (lw_at lw_m4 204 rfl) rfl
theorem q1020 : (Jvm.Cond.selects "java/util/AbstractMap$SimpleImmutableEntry" ({ cls := "java/util/Map$Entry", name := "getValue", desc := "()Ljava/lang/Object;" } : Jvm.MethodName) ({ cls := "java/util/AbstractMap$SimpleImmutableEntry", name := "getValue", desc := "()Ljava/lang/Object;" } : Jvm.MethodName)) ∈ lw_all := lw_g (lw_at lw_m4 207 rfl) rfl
theorem q1021 : (Jvm.Cond.unhidden "java/util/AbstractMap$SimpleImmutableEntry" "getValue" "()Ljava/lang/Object;") ∈ lw_tbl := lw_at lw_m4 208 rfl
theorem q1022 : (Jvm.Cond.instanceMethod ({ cls := "java/util/AbstractMap$SimpleImmutableEntry", name := "getValue", desc := "()Ljava/lang/Object;" } : Jvm.MethodName)) ∈ lw_all := lw_g (lw_at lw_m4 209 rfl) rfl
theorem q1023 : (Jvm.Cond.publicMethod ({ cls := "java/util/AbstractMap$SimpleImmutableEntry", name := "getValue", desc := "()Ljava/lang/Object;" } : Jvm.MethodName)) ∈ lw_tbl := lw_at lw_m4 210 rfl
theorem q1024 : (Jvm.Cond.code ({ cls := "java/util/AbstractMap$SimpleImmutableEntry", name := "getValue", desc := "()Ljava/lang/Object;" } : Jvm.MethodName) prog_43_method_4_code (1 : Nat) (Option.some (Jvm.ClassFile.FieldType.object "java/lang/Object"))) ∈ lw_all := lw_g (lw_at lw_m4 211 rfl) rfl
theorem q1030 : (Jvm.Cond.fieldLink "java/util/AbstractMap$SimpleImmutableEntry" (7 : Nat) "java/util/AbstractMap$SimpleImmutableEntry" "key" "Ljava/lang/Object;") ∈ lw_all := lw_g (lw_at lw_m4 217 rfl) rfl
theorem q1031 : (Jvm.Cond.fieldLink "java/util/AbstractMap$SimpleImmutableEntry" (13 : Nat) "java/util/AbstractMap$SimpleImmutableEntry" "value" "Ljava/lang/Object;") ∈ lw_all := lw_g (lw_at lw_m4 218 rfl) rfl
theorem q1032 : (Jvm.Cond.laysFinal "java/util/AbstractMap$SimpleImmutableEntry" "java/util/AbstractMap$SimpleImmutableEntry" "key" "Ljava/lang/Object;") ∈ lw_all := lw_g (lw_at lw_m4 219 rfl) rfl
theorem q1033 : (Jvm.Cond.soleField "java/util/AbstractMap$SimpleImmutableEntry" "key") ∈ lw_all := lw_g (lw_at lw_m4 220 rfl) rfl
theorem q1034 : (Jvm.Cond.laysFinal "java/util/AbstractMap$SimpleImmutableEntry" "java/util/AbstractMap$SimpleImmutableEntry" "value" "Ljava/lang/Object;") ∈ lw_all := lw_g (lw_at lw_m4 221 rfl) rfl
theorem q1035 : (Jvm.Cond.soleField "java/util/AbstractMap$SimpleImmutableEntry" "value") ∈ lw_all := lw_g (lw_at lw_m4 222 rfl) rfl
theorem q1036 : (Jvm.Cond.superclass "java/util/AbstractMap$SimpleImmutableEntry" "java/lang/Object") ∈ lw_all := lw_g (lw_at lw_m4 223 rfl) rfl
theorem q1444 : (Jvm.Cond.selects "java/util/AbstractMap$SimpleImmutableEntry" ({ cls := "java/lang/Object", name := "getClass", desc := "()Ljava/lang/Class;" } : Jvm.MethodName) ({ cls := "java/lang/Object", name := "getClass", desc := "()Ljava/lang/Class;" } : Jvm.MethodName)) ∈ lw_all := lw_g (lw_at lw_m6 151 rfl) rfl
theorem q3117 : (Jvm.Cond.castable "java/util/AbstractMap$SimpleImmutableEntry" "java/lang/Object") ∈ lw_tbl := lw_at lw_m13 144 rfl
theorem in_J23 : ∀ w ∈ wsJ230, w ∈ lw_all := lw_in wsJ230 [1032, 1034] (by decide +kernel) (by decide +kernel)

/-! java/util/TreeMap$Values -/
set_option maxRecDepth 100000
def RJ31 : String := "java/util/TreeMap$Values"
def TJ31 : u_T := fun k => match k with
  | _ => ("java/util/TreeMap$Values", "this$0", "Ljava/util/TreeMap;", true)
def tyJ31 : Nat → FieldType := fun k => match k with
  | _ => .object "java/util/TreeMap"
abbrev wsJ310 : List Cond := u_ws RJ31 TJ31 1
theorem nmJ31 : ∀ a, a < 1 → ∀ b, b < 1 → a ≠ b → (TJ31 a).2.1 ≠ (TJ31 b).2.1 := by decide +kernel
theorem tyJ31_ok : ∀ k, k < 1 → parseFieldDescriptor (TJ31 k).2.2.1 = some (tyJ31 k) := by decide +kernel
abbrev cJ31_init : ByteArray := prog_83_method_1_code
def yJ31_init : MethodName := ⟨RJ31, "<init>", "(Ljava/util/TreeMap;)V"⟩
def dkwJ31_init_0 : List UInt8 := [42, 43, 181, 0, 1, 42, 183, 0, 7, 177]
abbrev dktJ31_init_0 : List UInt8 := dkwJ31_init_0 ++ []
theorem dksJ31_init_0 : cJ31_init.data.toList.drop 0 = dktJ31_init_0 := by decide +kernel
theorem dJ31_init_0 : decode cJ31_init 0 = .ok (.aload_n 0, 1) := dk_42 (dk_at dksJ31_init_0 0 rfl rfl)
theorem dJ31_init_1 : decode cJ31_init 1 = .ok (.aload_n 1, 1) := dk_43 (dk_at dksJ31_init_0 1 rfl rfl)
theorem dJ31_init_2 : decode cJ31_init 2 = .ok (.putfield 1, 3) := dk_181 0 1 (dk_at dksJ31_init_0 2 rfl rfl)
theorem dJ31_init_5 : decode cJ31_init 5 = .ok (.aload_n 0, 1) := dk_42 (dk_at dksJ31_init_0 5 rfl rfl)
theorem dJ31_init_6 : decode cJ31_init 6 = .ok (.invokespecial 7, 3) := dk_183 0 7 (dk_at dksJ31_init_0 6 rfl rfl)
theorem dJ31_init_9 : decode cJ31_init 9 = .ok (.return_, 1) := dk_177 (dk_at dksJ31_init_0 9 rfl rfl)
abbrev cJ31_iterator : ByteArray := prog_83_method_2_code
def yJ31_iterator : MethodName := ⟨RJ31, "iterator", "()Ljava/util/Iterator;"⟩
def dkwJ31_iterator_0 : List UInt8 := [187, 0, 13, 89, 42, 180, 0, 1, 42, 180, 0, 1, 182, 0, 15, 183, 0, 21, 176]
abbrev dktJ31_iterator_0 : List UInt8 := dkwJ31_iterator_0 ++ []
theorem dksJ31_iterator_0 : cJ31_iterator.data.toList.drop 0 = dktJ31_iterator_0 := by decide +kernel
theorem dJ31_iterator_0 : decode cJ31_iterator 0 = .ok (.new 13, 3) := dk_187 0 13 (dk_at dksJ31_iterator_0 0 rfl rfl)
theorem dJ31_iterator_3 : decode cJ31_iterator 3 = .ok (.dup, 1) := dk_89 (dk_at dksJ31_iterator_0 3 rfl rfl)
theorem dJ31_iterator_4 : decode cJ31_iterator 4 = .ok (.aload_n 0, 1) := dk_42 (dk_at dksJ31_iterator_0 4 rfl rfl)
theorem dJ31_iterator_5 : decode cJ31_iterator 5 = .ok (.getfield 1, 3) := dk_180 0 1 (dk_at dksJ31_iterator_0 5 rfl rfl)
theorem dJ31_iterator_8 : decode cJ31_iterator 8 = .ok (.aload_n 0, 1) := dk_42 (dk_at dksJ31_iterator_0 8 rfl rfl)
theorem dJ31_iterator_9 : decode cJ31_iterator 9 = .ok (.getfield 1, 3) := dk_180 0 1 (dk_at dksJ31_iterator_0 9 rfl rfl)
theorem dJ31_iterator_12 : decode cJ31_iterator 12 = .ok (.invokevirtual 15, 3) := dk_182 0 15 (dk_at dksJ31_iterator_0 12 rfl rfl)
theorem dJ31_iterator_15 : decode cJ31_iterator 15 = .ok (.invokespecial 21, 3) := dk_183 0 21 (dk_at dksJ31_iterator_0 15 rfl rfl)
theorem dJ31_iterator_18 : decode cJ31_iterator 18 = .ok (.areturn, 1) := dk_176 (dk_at dksJ31_iterator_0 18 rfl rfl)
abbrev cJ31_size : ByteArray := prog_83_method_3_code
def yJ31_size : MethodName := ⟨RJ31, "size", "()I"⟩
def dkwJ31_size_0 : List UInt8 := [42, 180, 0, 1, 182, 0, 24, 172]
abbrev dktJ31_size_0 : List UInt8 := dkwJ31_size_0 ++ []
theorem dksJ31_size_0 : cJ31_size.data.toList.drop 0 = dktJ31_size_0 := by decide +kernel
theorem dJ31_size_0 : decode cJ31_size 0 = .ok (.aload_n 0, 1) := dk_42 (dk_at dksJ31_size_0 0 rfl rfl)
theorem dJ31_size_1 : decode cJ31_size 1 = .ok (.getfield 1, 3) := dk_180 0 1 (dk_at dksJ31_size_0 1 rfl rfl)
theorem dJ31_size_4 : decode cJ31_size 4 = .ok (.invokevirtual 24, 3) := dk_182 0 24 (dk_at dksJ31_size_0 4 rfl rfl)
theorem dJ31_size_7 : decode cJ31_size 7 = .ok (.ireturn, 1) := dk_172 (dk_at dksJ31_size_0 7 rfl rfl)
theorem q144 : (Jvm.Cond.initialized "java/util/TreeMap$Values") ∈ lw_all := lw_g (lw_at lw_m1 51 rfl) rfl
theorem q1458 : (Jvm.Cond.selects "java/util/TreeMap$Values" ({ cls := "java/lang/Object", name := "getClass", desc := "()Ljava/lang/Class;" } : Jvm.MethodName) ({ cls := "java/lang/Object", name := "getClass", desc := "()Ljava/lang/Class;" } : Jvm.MethodName)) ∈ lw_all := lw_g (lw_at lw_m6 165 rfl) rfl
theorem q1791 : (Jvm.Cond.instantiable "java/util/TreeMap$Values" (1 : Nat)) ∈ lw_all := lw_g (lw_at lw_m8 18 rfl) rfl
theorem q1793 : (Jvm.Cond.instanceMethod ({ cls := "java/util/TreeMap$Values", name := "<init>", desc := "(Ljava/util/TreeMap;)V" } : Jvm.MethodName)) ∈ lw_all := lw_g (lw_at lw_m8 20 rfl) rfl
theorem q1794 : (Jvm.Cond.code ({ cls := "java/util/TreeMap$Values", name := "<init>", desc := "(Ljava/util/TreeMap;)V" } : Jvm.MethodName) prog_83_method_1_code (2 : Nat) (Option.none : Option Jvm.ClassFile.FieldType)) ∈ lw_all := lw_g (lw_at lw_m8 21 rfl) rfl
theorem q1795 : (Jvm.Cond.methodLink "java/util/TreeMap$Values" (7 : Nat) ({ cls := "java/util/AbstractCollection", name := "<init>", desc := "()V" } : Jvm.MethodName)) ∈ lw_all := lw_g (lw_at lw_m8 22 rfl) rfl
theorem q1796 : (Jvm.Cond.fieldLink "java/util/TreeMap$Values" (1 : Nat) "java/util/TreeMap$Values" "this$0" "Ljava/util/TreeMap;") ∈ lw_all := lw_g (lw_at lw_m8 23 rfl) rfl
theorem q1797 : (Jvm.Cond.laysFinal "java/util/TreeMap$Values" "java/util/TreeMap$Values" "this$0" "Ljava/util/TreeMap;") ∈ lw_all := lw_g (lw_at lw_m8 24 rfl) rfl
theorem q1798 : (Jvm.Cond.soleField "java/util/TreeMap$Values" "this$0") ∈ lw_all := lw_g (lw_at lw_m8 25 rfl) rfl
theorem q1799 : (Jvm.Cond.superclass "java/util/TreeMap$Values" "java/util/AbstractCollection") ∈ lw_all := lw_g (lw_at lw_m8 26 rfl) rfl
theorem q1897 : (Jvm.Cond.castable "java/util/TreeMap$Values" "java/util/Collection") ∈ lw_tbl := lw_at lw_m8 124 rfl
theorem q1898 : (Jvm.Cond.selects "java/util/TreeMap$Values" ({ cls := "java/util/Collection", name := "iterator", desc := "()Ljava/util/Iterator;" } : Jvm.MethodName) ({ cls := "java/util/TreeMap$Values", name := "iterator", desc := "()Ljava/util/Iterator;" } : Jvm.MethodName)) ∈ lw_all := lw_g (lw_at lw_m8 125 rfl) rfl
theorem q1899 : (Jvm.Cond.unhidden "java/util/TreeMap$Values" "iterator" "()Ljava/util/Iterator;") ∈ lw_tbl := lw_at lw_m8 126 rfl
theorem q1900 : (Jvm.Cond.instanceMethod ({ cls := "java/util/TreeMap$Values", name := "iterator", desc := "()Ljava/util/Iterator;" } : Jvm.MethodName)) ∈ lw_all := lw_g (lw_at lw_m8 127 rfl) rfl
theorem q1901 : (Jvm.Cond.publicMethod ({ cls := "java/util/TreeMap$Values", name := "iterator", desc := "()Ljava/util/Iterator;" } : Jvm.MethodName)) ∈ lw_tbl := lw_at lw_m8 128 rfl
theorem q1902 : (Jvm.Cond.code ({ cls := "java/util/TreeMap$Values", name := "iterator", desc := "()Ljava/util/Iterator;" } : Jvm.MethodName) prog_83_method_2_code (1 : Nat) (Option.some (Jvm.ClassFile.FieldType.object "java/util/Iterator"))) ∈ lw_all := lw_g (lw_at lw_m8 129 rfl) rfl
theorem q1903 : (Jvm.Cond.classLink "java/util/TreeMap$Values" (13 : Nat) "java/util/TreeMap$ValueIterator") ∈ lw_all := lw_g (lw_at lw_m8 130 rfl) rfl
theorem q1905 : (Jvm.Cond.methodLink "java/util/TreeMap$Values" (15 : Nat) ({ cls := "java/util/TreeMap", name := "getFirstEntry", desc := "()Ljava/util/TreeMap$Entry;" } : Jvm.MethodName)) ∈ lw_all := lw_g (lw_at lw_m8 132 rfl) rfl
theorem q1906 : (Jvm.Cond.methodLink "java/util/TreeMap$Values" (21 : Nat) ({ cls := "java/util/TreeMap$ValueIterator", name := "<init>", desc := "(Ljava/util/TreeMap;Ljava/util/TreeMap$Entry;)V" } : Jvm.MethodName)) ∈ lw_all := lw_g (lw_at lw_m8 133 rfl) rfl
theorem q2040 : (Jvm.Cond.selects "java/util/TreeMap$Values" ({ cls := "java/util/AbstractCollection", name := "size", desc := "()I" } : Jvm.MethodName) ({ cls := "java/util/TreeMap$Values", name := "size", desc := "()I" } : Jvm.MethodName)) ∈ lw_all := lw_g (lw_at lw_m9 27 rfl) rfl
theorem q2041 : (Jvm.Cond.instanceMethod ({ cls := "java/util/TreeMap$Values", name := "size", desc := "()I" } : Jvm.MethodName)) ∈ lw_all := lw_g (lw_at lw_m9 28 rfl) rfl
theorem q2042 : (Jvm.Cond.code ({ cls := "java/util/TreeMap$Values", name := "size", desc := "()I" } : Jvm.MethodName) prog_83_method_3_code (1 : Nat) (Option.some Jvm.ClassFile.FieldType.int)) ∈ lw_all := lw_g (lw_at lw_m9 29 rfl) rfl
theorem q2043 : (Jvm.Cond.methodLink "java/util/TreeMap$Values" (24 : Nat) ({ cls := "java/util/TreeMap", name := "size", desc := "()I" } : Jvm.MethodName)) ∈ lw_all := lw_g (lw_at lw_m9 30 rfl) rfl
theorem q2058 : (Jvm.Cond.selects "java/util/TreeMap$Values" ({ cls := "java/util/Collection", name := "toArray", desc := "()[Ljava/lang/Object;" } : Jvm.MethodName) ({ cls := "java/util/AbstractCollection", name := "toArray", desc := "()[Ljava/lang/Object;" } : Jvm.MethodName)) ∈ lw_all := lw_g (lw_at lw_m9 45 rfl) rfl
theorem q2059 : (Jvm.Cond.unhidden "java/util/TreeMap$Values" "toArray" "()[Ljava/lang/Object;") ∈ lw_tbl := lw_at lw_m9 46 rfl
theorem q2490 : (Jvm.Cond.unhidden "java/util/TreeMap$Values" "getClass" "()Ljava/lang/Class;") ∈ lw_tbl := lw_at lw_m10 237 rfl
theorem q3099 : (Jvm.Cond.selects "java/util/TreeMap$Values" ({ cls := "java/util/AbstractCollection", name := "iterator", desc := "()Ljava/util/Iterator;" } : Jvm.MethodName) ({ cls := "java/util/TreeMap$Values", name := "iterator", desc := "()Ljava/util/Iterator;" } : Jvm.MethodName)) ∈ lw_all := lw_g (lw_at lw_m13 126 rfl) rfl
theorem q3129 : (Jvm.Cond.castable "java/util/TreeMap$Values" "java/lang/Object") ∈ lw_tbl := lw_at lw_m13 156 rfl
theorem in_J31 : ∀ w ∈ wsJ310, w ∈ lw_all := lw_in wsJ310 [1797] (by decide +kernel) (by decide +kernel)

/-! java/util/TreeMap$PrivateEntryIterator -/
set_option maxRecDepth 100000
def RJ33 : String := "java/util/TreeMap$PrivateEntryIterator"
abbrev cJ33_hasNext : ByteArray := prog_81_method_2_code
def yJ33_hasNext : MethodName := ⟨RJ33, "hasNext", "()Z"⟩
def dkwJ33_hasNext_0 : List UInt8 := [42, 180, 0, 26, 198, 0, 7, 4, 167, 0, 4, 3, 172]
abbrev dktJ33_hasNext_0 : List UInt8 := dkwJ33_hasNext_0 ++ []
theorem dksJ33_hasNext_0 : cJ33_hasNext.data.toList.drop 0 = dktJ33_hasNext_0 := by decide +kernel
theorem dJ33_hasNext_0 : decode cJ33_hasNext 0 = .ok (.aload_n 0, 1) := dk_42 (dk_at dksJ33_hasNext_0 0 rfl rfl)
theorem dJ33_hasNext_1 : decode cJ33_hasNext 1 = .ok (.getfield 26, 3) := dk_180 0 26 (dk_at dksJ33_hasNext_0 1 rfl rfl)
theorem dJ33_hasNext_4 : decode cJ33_hasNext 4 = .ok (.ifnull 7, 3) := dk_198 0 7 (dk_at dksJ33_hasNext_0 4 rfl rfl)
theorem dJ33_hasNext_7 : decode cJ33_hasNext 7 = .ok (.iconst 1, 1) := dk_4 (dk_at dksJ33_hasNext_0 7 rfl rfl)
theorem dJ33_hasNext_8 : decode cJ33_hasNext 8 = .ok (.goto 4, 3) := dk_167 0 4 (dk_at dksJ33_hasNext_0 8 rfl rfl)
theorem dJ33_hasNext_11 : decode cJ33_hasNext 11 = .ok (.iconst 0, 1) := dk_3 (dk_at dksJ33_hasNext_0 11 rfl rfl)
theorem dJ33_hasNext_12 : decode cJ33_hasNext 12 = .ok (.ireturn, 1) := dk_172 (dk_at dksJ33_hasNext_0 12 rfl rfl)
abbrev cJ33_nextEntry : ByteArray := prog_81_method_3_code
def yJ33_nextEntry : MethodName := ⟨RJ33, "nextEntry", "()Ljava/util/TreeMap$Entry;"⟩
def dkwJ33_nextEntry_2 : List UInt8 := [43, 181, 0, 22, 43, 176]
abbrev dktJ33_nextEntry_2 : List UInt8 := dkwJ33_nextEntry_2 ++ []
def dkwJ33_nextEntry_1 : List UInt8 := [42, 180, 0, 19, 159, 0, 11, 187, 0, 32, 89, 183, 0, 34, 191, 42, 43, 184, 0, 35, 181, 0, 26, 42]
abbrev dktJ33_nextEntry_1 : List UInt8 := dkwJ33_nextEntry_1 ++ dktJ33_nextEntry_2
def dkwJ33_nextEntry_0 : List UInt8 := [42, 180, 0, 26, 76, 43, 199, 0, 11, 187, 0, 29, 89, 183, 0, 31, 191, 42, 180, 0, 1, 180, 0, 13]
abbrev dktJ33_nextEntry_0 : List UInt8 := dkwJ33_nextEntry_0 ++ dktJ33_nextEntry_1
theorem dksJ33_nextEntry_0 : cJ33_nextEntry.data.toList.drop 0 = dktJ33_nextEntry_0 := by decide +kernel
theorem dksJ33_nextEntry_1 : cJ33_nextEntry.data.toList.drop 24 = dktJ33_nextEntry_1 := dk_seg dksJ33_nextEntry_0 24 rfl rfl
theorem dksJ33_nextEntry_2 : cJ33_nextEntry.data.toList.drop 48 = dktJ33_nextEntry_2 := dk_seg dksJ33_nextEntry_1 24 rfl rfl
theorem dJ33_nextEntry_0 : decode cJ33_nextEntry 0 = .ok (.aload_n 0, 1) := dk_42 (dk_at dksJ33_nextEntry_0 0 rfl rfl)
theorem dJ33_nextEntry_1 : decode cJ33_nextEntry 1 = .ok (.getfield 26, 3) := dk_180 0 26 (dk_at dksJ33_nextEntry_0 1 rfl rfl)
theorem dJ33_nextEntry_4 : decode cJ33_nextEntry 4 = .ok (.astore_n 1, 1) := dk_76 (dk_at dksJ33_nextEntry_0 4 rfl rfl)
theorem dJ33_nextEntry_5 : decode cJ33_nextEntry 5 = .ok (.aload_n 1, 1) := dk_43 (dk_at dksJ33_nextEntry_0 5 rfl rfl)
theorem dJ33_nextEntry_6 : decode cJ33_nextEntry 6 = .ok (.ifnonnull 11, 3) := dk_199 0 11 (dk_at dksJ33_nextEntry_0 6 rfl rfl)
theorem dJ33_nextEntry_9 : decode cJ33_nextEntry 9 = .ok (.new 29, 3) := dk_187 0 29 (dk_at dksJ33_nextEntry_0 9 rfl rfl)
theorem dJ33_nextEntry_12 : decode cJ33_nextEntry 12 = .ok (.dup, 1) := dk_89 (dk_at dksJ33_nextEntry_0 12 rfl rfl)
theorem dJ33_nextEntry_13 : decode cJ33_nextEntry 13 = .ok (.invokespecial 31, 3) := dk_183 0 31 (dk_at dksJ33_nextEntry_0 13 rfl rfl)
theorem dJ33_nextEntry_16 : decode cJ33_nextEntry 16 = .ok (.athrow, 1) := dk_191 (dk_at dksJ33_nextEntry_0 16 rfl rfl)
theorem dJ33_nextEntry_17 : decode cJ33_nextEntry 17 = .ok (.aload_n 0, 1) := dk_42 (dk_at dksJ33_nextEntry_0 17 rfl rfl)
theorem dJ33_nextEntry_18 : decode cJ33_nextEntry 18 = .ok (.getfield 1, 3) := dk_180 0 1 (dk_at dksJ33_nextEntry_0 18 rfl rfl)
theorem dJ33_nextEntry_21 : decode cJ33_nextEntry 21 = .ok (.getfield 13, 3) := dk_180 0 13 (dk_at dksJ33_nextEntry_0 21 rfl rfl)
theorem dJ33_nextEntry_24 : decode cJ33_nextEntry 24 = .ok (.aload_n 0, 1) := dk_42 (dk_at dksJ33_nextEntry_1 0 rfl rfl)
theorem dJ33_nextEntry_25 : decode cJ33_nextEntry 25 = .ok (.getfield 19, 3) := dk_180 0 19 (dk_at dksJ33_nextEntry_1 1 rfl rfl)
theorem dJ33_nextEntry_28 : decode cJ33_nextEntry 28 = .ok (.if_icmp .eq 11, 3) := dk_159 0 11 (dk_at dksJ33_nextEntry_1 4 rfl rfl)
theorem dJ33_nextEntry_31 : decode cJ33_nextEntry 31 = .ok (.new 32, 3) := dk_187 0 32 (dk_at dksJ33_nextEntry_1 7 rfl rfl)
theorem dJ33_nextEntry_34 : decode cJ33_nextEntry 34 = .ok (.dup, 1) := dk_89 (dk_at dksJ33_nextEntry_1 10 rfl rfl)
theorem dJ33_nextEntry_35 : decode cJ33_nextEntry 35 = .ok (.invokespecial 34, 3) := dk_183 0 34 (dk_at dksJ33_nextEntry_1 11 rfl rfl)
theorem dJ33_nextEntry_38 : decode cJ33_nextEntry 38 = .ok (.athrow, 1) := dk_191 (dk_at dksJ33_nextEntry_1 14 rfl rfl)
theorem dJ33_nextEntry_39 : decode cJ33_nextEntry 39 = .ok (.aload_n 0, 1) := dk_42 (dk_at dksJ33_nextEntry_1 15 rfl rfl)
theorem dJ33_nextEntry_40 : decode cJ33_nextEntry 40 = .ok (.aload_n 1, 1) := dk_43 (dk_at dksJ33_nextEntry_1 16 rfl rfl)
theorem dJ33_nextEntry_41 : decode cJ33_nextEntry 41 = .ok (.invokestatic 35, 3) := dk_184 0 35 (dk_at dksJ33_nextEntry_1 17 rfl rfl)
theorem dJ33_nextEntry_44 : decode cJ33_nextEntry 44 = .ok (.putfield 26, 3) := dk_181 0 26 (dk_at dksJ33_nextEntry_1 20 rfl rfl)
theorem dJ33_nextEntry_47 : decode cJ33_nextEntry 47 = .ok (.aload_n 0, 1) := dk_42 (dk_at dksJ33_nextEntry_1 23 rfl rfl)
theorem dJ33_nextEntry_48 : decode cJ33_nextEntry 48 = .ok (.aload_n 1, 1) := dk_43 (dk_at dksJ33_nextEntry_2 0 rfl rfl)
theorem dJ33_nextEntry_49 : decode cJ33_nextEntry 49 = .ok (.putfield 22, 3) := dk_181 0 22 (dk_at dksJ33_nextEntry_2 1 rfl rfl)
theorem dJ33_nextEntry_52 : decode cJ33_nextEntry 52 = .ok (.aload_n 1, 1) := dk_43 (dk_at dksJ33_nextEntry_2 4 rfl rfl)
theorem dJ33_nextEntry_53 : decode cJ33_nextEntry 53 = .ok (.areturn, 1) := dk_176 (dk_at dksJ33_nextEntry_2 5 rfl rfl)
abbrev cJ33_init : ByteArray := prog_81_method_1_code
def yJ33_init : MethodName := ⟨RJ33, "<init>", "(Ljava/util/TreeMap;Ljava/util/TreeMap$Entry;)V"⟩
def dkwJ33_init_1 : List UInt8 := [181, 0, 26, 177]
abbrev dktJ33_init_1 : List UInt8 := dkwJ33_init_1 ++ []
def dkwJ33_init_0 : List UInt8 := [42, 43, 181, 0, 1, 42, 183, 0, 7, 42, 43, 180, 0, 13, 181, 0, 19, 42, 1, 181, 0, 22, 42, 44]
abbrev dktJ33_init_0 : List UInt8 := dkwJ33_init_0 ++ dktJ33_init_1
theorem dksJ33_init_0 : cJ33_init.data.toList.drop 0 = dktJ33_init_0 := by decide +kernel
theorem dksJ33_init_1 : cJ33_init.data.toList.drop 24 = dktJ33_init_1 := dk_seg dksJ33_init_0 24 rfl rfl
theorem dJ33_init_0 : decode cJ33_init 0 = .ok (.aload_n 0, 1) := dk_42 (dk_at dksJ33_init_0 0 rfl rfl)
theorem dJ33_init_1 : decode cJ33_init 1 = .ok (.aload_n 1, 1) := dk_43 (dk_at dksJ33_init_0 1 rfl rfl)
theorem dJ33_init_2 : decode cJ33_init 2 = .ok (.putfield 1, 3) := dk_181 0 1 (dk_at dksJ33_init_0 2 rfl rfl)
theorem dJ33_init_5 : decode cJ33_init 5 = .ok (.aload_n 0, 1) := dk_42 (dk_at dksJ33_init_0 5 rfl rfl)
theorem dJ33_init_6 : decode cJ33_init 6 = .ok (.invokespecial 7, 3) := dk_183 0 7 (dk_at dksJ33_init_0 6 rfl rfl)
theorem dJ33_init_9 : decode cJ33_init 9 = .ok (.aload_n 0, 1) := dk_42 (dk_at dksJ33_init_0 9 rfl rfl)
theorem dJ33_init_10 : decode cJ33_init 10 = .ok (.aload_n 1, 1) := dk_43 (dk_at dksJ33_init_0 10 rfl rfl)
theorem dJ33_init_11 : decode cJ33_init 11 = .ok (.getfield 13, 3) := dk_180 0 13 (dk_at dksJ33_init_0 11 rfl rfl)
theorem dJ33_init_14 : decode cJ33_init 14 = .ok (.putfield 19, 3) := dk_181 0 19 (dk_at dksJ33_init_0 14 rfl rfl)
theorem dJ33_init_17 : decode cJ33_init 17 = .ok (.aload_n 0, 1) := dk_42 (dk_at dksJ33_init_0 17 rfl rfl)
theorem dJ33_init_18 : decode cJ33_init 18 = .ok (.aconst_null, 1) := dk_1 (dk_at dksJ33_init_0 18 rfl rfl)
theorem dJ33_init_19 : decode cJ33_init 19 = .ok (.putfield 22, 3) := dk_181 0 22 (dk_at dksJ33_init_0 19 rfl rfl)
theorem dJ33_init_22 : decode cJ33_init 22 = .ok (.aload_n 0, 1) := dk_42 (dk_at dksJ33_init_0 22 rfl rfl)
theorem dJ33_init_23 : decode cJ33_init 23 = .ok (.aload_n 2, 1) := dk_44 (dk_at dksJ33_init_0 23 rfl rfl)
theorem dJ33_init_24 : decode cJ33_init 24 = .ok (.putfield 26, 3) := dk_181 0 26 (dk_at dksJ33_init_1 0 rfl rfl)
theorem dJ33_init_27 : decode cJ33_init 27 = .ok (.return_, 1) := dk_177 (dk_at dksJ33_init_1 3 rfl rfl)
theorem q146 : (Jvm.Cond.initialized "java/util/TreeMap$PrivateEntryIterator") ∈ lw_all := lw_g (lw_at lw_m1 53 rfl) rfl
theorem q193 : (Jvm.Cond.fieldLinkNest "java/util/TreeMap$PrivateEntryIterator" (13 : Nat) "java/util/TreeMap" "modCount" "I" "java/util/TreeMap") ∈ lw_tbl := lw_at lw_m1 100 rfl
theorem q873 : (Jvm.Cond.instanceMethod ({ cls := "java/util/TreeMap$PrivateEntryIterator", name := "hasNext", desc := "()Z" } : Jvm.MethodName)) ∈ lw_all := lw_g (lw_at lw_m4 60 rfl) rfl
theorem q874 : (Jvm.Cond.publicMethod ({ cls := "java/util/TreeMap$PrivateEntryIterator", name := "hasNext", desc := "()Z" } : Jvm.MethodName)) ∈ lw_tbl := lw_at lw_m4 61 rfl
theorem q875 : (Jvm.Cond.code ({ cls := "java/util/TreeMap$PrivateEntryIterator", name := "hasNext", desc := "()Z" } : Jvm.MethodName) prog_81_method_2_code (1 : Nat) (Option.some Jvm.ClassFile.FieldType.boolean)) ∈ lw_all := lw_g (lw_at lw_m4 62 rfl) rfl
theorem q927 : (Jvm.Cond.declares ({ cls := "java/util/TreeMap$PrivateEntryIterator", name := "nextEntry", desc := "()Ljava/util/TreeMap$Entry;" } : Jvm.MethodName)) ∈ lw_tbl := lw_at lw_m4 114 rfl
theorem q929 : (Jvm.Cond.instanceMethod ({ cls := "java/util/TreeMap$PrivateEntryIterator", name := "nextEntry", desc := "()Ljava/util/TreeMap$Entry;" } : Jvm.MethodName)) ∈ lw_all := lw_g (lw_at lw_m4 116 rfl) rfl
theorem q930 : (Jvm.Cond.code ({ cls := "java/util/TreeMap$PrivateEntryIterator", name := "nextEntry", desc := "()Ljava/util/TreeMap$Entry;" } : Jvm.MethodName) prog_81_method_3_code (2 : Nat) (Option.some (Jvm.ClassFile.FieldType.object "java/util/TreeMap$Entry"))) ∈ lw_all := lw_g (lw_at lw_m4 117 rfl) rfl
theorem q931 : (Jvm.Cond.methodLink "java/util/TreeMap$PrivateEntryIterator" (35 : Nat) ({ cls := "java/util/TreeMap", name := "successor", desc := "(Ljava/util/TreeMap$Entry;)Ljava/util/TreeMap$Entry;" } : Jvm.MethodName)) ∈ lw_all := lw_g (lw_at lw_m4 118 rfl) rfl
theorem q1858 : (Jvm.Cond.instanceMethod ({ cls := "java/util/TreeMap$PrivateEntryIterator", name := "<init>", desc := "(Ljava/util/TreeMap;Ljava/util/TreeMap$Entry;)V" } : Jvm.MethodName)) ∈ lw_all := lw_g (lw_at lw_m8 85 rfl) rfl
theorem q1859 : (Jvm.Cond.code ({ cls := "java/util/TreeMap$PrivateEntryIterator", name := "<init>", desc := "(Ljava/util/TreeMap;Ljava/util/TreeMap$Entry;)V" } : Jvm.MethodName) prog_81_method_1_code (3 : Nat) (Option.none : Option Jvm.ClassFile.FieldType)) ∈ lw_all := lw_g (lw_at lw_m8 86 rfl) rfl
theorem q1860 : (Jvm.Cond.methodLink "java/util/TreeMap$PrivateEntryIterator" (7 : Nat) ({ cls := "java/lang/Object", name := "<init>", desc := "()V" } : Jvm.MethodName)) ∈ lw_all := lw_g (lw_at lw_m8 87 rfl) rfl
theorem q1861 : (Jvm.Cond.fieldLink "java/util/TreeMap$PrivateEntryIterator" (26 : Nat) "java/util/TreeMap$PrivateEntryIterator" "next" "Ljava/util/TreeMap$Entry;") ∈ lw_all := lw_g (lw_at lw_m8 88 rfl) rfl
theorem q1862 : (Jvm.Cond.fieldLink "java/util/TreeMap$PrivateEntryIterator" (22 : Nat) "java/util/TreeMap$PrivateEntryIterator" "lastReturned" "Ljava/util/TreeMap$Entry;") ∈ lw_all := lw_g (lw_at lw_m8 89 rfl) rfl
theorem q1863 : (Jvm.Cond.fieldLink "java/util/TreeMap$PrivateEntryIterator" (19 : Nat) "java/util/TreeMap$PrivateEntryIterator" "expectedModCount" "I") ∈ lw_all := lw_g (lw_at lw_m8 90 rfl) rfl
theorem q1864 : (Jvm.Cond.fieldLink "java/util/TreeMap$PrivateEntryIterator" (1 : Nat) "java/util/TreeMap$PrivateEntryIterator" "this$0" "Ljava/util/TreeMap;") ∈ lw_all := lw_g (lw_at lw_m8 91 rfl) rfl
theorem q1866 : (Jvm.Cond.soleField "java/util/TreeMap$PrivateEntryIterator" "next") ∈ lw_all := lw_g (lw_at lw_m8 93 rfl) rfl
theorem q1868 : (Jvm.Cond.soleField "java/util/TreeMap$PrivateEntryIterator" "lastReturned") ∈ lw_all := lw_g (lw_at lw_m8 95 rfl) rfl
theorem q1870 : (Jvm.Cond.soleField "java/util/TreeMap$PrivateEntryIterator" "expectedModCount") ∈ lw_all := lw_g (lw_at lw_m8 97 rfl) rfl
theorem q1872 : (Jvm.Cond.soleField "java/util/TreeMap$PrivateEntryIterator" "this$0") ∈ lw_all := lw_g (lw_at lw_m8 99 rfl) rfl

/-! java/util/TreeMap$KeyIterator -/
set_option maxRecDepth 100000
def RJ34 : String := "java/util/TreeMap$KeyIterator"
def TJ34 : u_T := fun k => match k with
  | 0 => ("java/util/TreeMap$PrivateEntryIterator", "next", "Ljava/util/TreeMap$Entry;", false)
  | 1 => ("java/util/TreeMap$PrivateEntryIterator", "lastReturned", "Ljava/util/TreeMap$Entry;", false)
  | 2 => ("java/util/TreeMap$PrivateEntryIterator", "expectedModCount", "I", false)
  | _ => ("java/util/TreeMap$PrivateEntryIterator", "this$0", "Ljava/util/TreeMap;", true)
def tyJ34 : Nat → FieldType := fun k => match k with
  | 0 => .object "java/util/TreeMap$Entry"
  | 1 => .object "java/util/TreeMap$Entry"
  | 2 => .int
  | _ => .object "java/util/TreeMap"
abbrev wsJ340 : List Cond := u_ws RJ34 TJ34 4
theorem nmJ34 : ∀ a, a < 4 → ∀ b, b < 4 → a ≠ b → (TJ34 a).2.1 ≠ (TJ34 b).2.1 := by decide +kernel
theorem tyJ34_ok : ∀ k, k < 4 → parseFieldDescriptor (TJ34 k).2.2.1 = some (tyJ34 k) := by decide +kernel
abbrev cJ34_next : ByteArray := prog_74_method_2_code
def yJ34_next : MethodName := ⟨RJ34, "next", "()Ljava/lang/Object;"⟩
def dkwJ34_next_0 : List UInt8 := [42, 182, 0, 7, 180, 0, 13, 176]
abbrev dktJ34_next_0 : List UInt8 := dkwJ34_next_0 ++ []
theorem dksJ34_next_0 : cJ34_next.data.toList.drop 0 = dktJ34_next_0 := by decide +kernel
theorem dJ34_next_0 : decode cJ34_next 0 = .ok (.aload_n 0, 1) := dk_42 (dk_at dksJ34_next_0 0 rfl rfl)
theorem dJ34_next_1 : decode cJ34_next 1 = .ok (.invokevirtual 7, 3) := dk_182 0 7 (dk_at dksJ34_next_0 1 rfl rfl)
theorem dJ34_next_4 : decode cJ34_next 4 = .ok (.getfield 13, 3) := dk_180 0 13 (dk_at dksJ34_next_0 4 rfl rfl)
theorem dJ34_next_7 : decode cJ34_next 7 = .ok (.areturn, 1) := dk_176 (dk_at dksJ34_next_0 7 rfl rfl)
abbrev cJ34_init : ByteArray := prog_74_method_1_code
def yJ34_init : MethodName := ⟨RJ34, "<init>", "(Ljava/util/TreeMap;Ljava/util/TreeMap$Entry;)V"⟩
def dkwJ34_init_0 : List UInt8 := [42, 43, 44, 183, 0, 1, 177]
abbrev dktJ34_init_0 : List UInt8 := dkwJ34_init_0 ++ []
theorem dksJ34_init_0 : cJ34_init.data.toList.drop 0 = dktJ34_init_0 := by decide +kernel
theorem dJ34_init_0 : decode cJ34_init 0 = .ok (.aload_n 0, 1) := dk_42 (dk_at dksJ34_init_0 0 rfl rfl)
theorem dJ34_init_1 : decode cJ34_init 1 = .ok (.aload_n 1, 1) := dk_43 (dk_at dksJ34_init_0 1 rfl rfl)
theorem dJ34_init_2 : decode cJ34_init 2 = .ok (.aload_n 2, 1) := dk_44 (dk_at dksJ34_init_0 2 rfl rfl)
theorem dJ34_init_3 : decode cJ34_init 3 = .ok (.invokespecial 1, 3) := dk_183 0 1 (dk_at dksJ34_init_0 3 rfl rfl)
theorem dJ34_init_6 : decode cJ34_init 6 = .ok (.return_, 1) := dk_177 (dk_at dksJ34_init_0 6 rfl rfl)
theorem q147 : (Jvm.Cond.initialized "java/util/TreeMap$KeyIterator") ∈ lw_all := lw_g (lw_at lw_m1 54 rfl) rfl
theorem q653 : (Jvm.Cond.fieldLink "java/util/TreeMap$KeyIterator" (13 : Nat) "java/util/TreeMap$Entry" "key" "Ljava/lang/Object;") ∈ lw_all := lw_g (lw_at lw_m3 80 rfl) rfl
theorem q870 : (Jvm.Cond.castable "java/util/TreeMap$KeyIterator" "java/util/Iterator") ∈ lw_tbl := lw_at lw_m4 57 rfl
theorem q871 : (Jvm.Cond.selects "java/util/TreeMap$KeyIterator" ({ cls := "java/util/Iterator", name := "hasNext", desc := "()Z" } : Jvm.MethodName) ({ cls := "java/util/TreeMap$PrivateEntryIterator", name := "hasNext", desc := "()Z" } : Jvm.MethodName)) ∈ lw_all := lw_g (lw_at lw_m4 58 rfl) rfl
theorem q872 : (Jvm.Cond.unhidden "java/util/TreeMap$KeyIterator" "hasNext" "()Z") ∈ lw_tbl := lw_at lw_m4 59 rfl
theorem q920 : (Jvm.Cond.selects "java/util/TreeMap$KeyIterator" ({ cls := "java/util/Iterator", name := "next", desc := "()Ljava/lang/Object;" } : Jvm.MethodName) ({ cls := "java/util/TreeMap$KeyIterator", name := "next", desc := "()Ljava/lang/Object;" } : Jvm.MethodName)) ∈ lw_all := lw_g (lw_at lw_m4 107 rfl) rfl
theorem q921 : (Jvm.Cond.unhidden "java/util/TreeMap$KeyIterator" "next" "()Ljava/lang/Object;") ∈ lw_tbl := lw_at lw_m4 108 rfl
theorem q922 : (Jvm.Cond.instanceMethod ({ cls := "java/util/TreeMap$KeyIterator", name := "next", desc := "()Ljava/lang/Object;" } : Jvm.MethodName)) ∈ lw_all := lw_g (lw_at lw_m4 109 rfl) rfl
theorem q923 : (Jvm.Cond.publicMethod ({ cls := "java/util/TreeMap$KeyIterator", name := "next", desc := "()Ljava/lang/Object;" } : Jvm.MethodName)) ∈ lw_tbl := lw_at lw_m4 110 rfl
theorem q924 : (Jvm.Cond.code ({ cls := "java/util/TreeMap$KeyIterator", name := "next", desc := "()Ljava/lang/Object;" } : Jvm.MethodName) prog_74_method_2_code (1 : Nat) (Option.some (Jvm.ClassFile.FieldType.object "java/lang/Object"))) ∈ lw_all := lw_g (lw_at lw_m4 111 rfl) rfl
theorem q925 : (Jvm.Cond.methodLink "java/util/TreeMap$KeyIterator" (7 : Nat) ({ cls := "java/util/TreeMap$KeyIterator", name := "nextEntry", desc := "()Ljava/util/TreeMap$Entry;" } : Jvm.MethodName)) ∈ lw_all := lw_g (lw_at lw_m4 112 rfl) rfl
theorem q926 : (Jvm.Cond.sameMethod "java/util/TreeMap$KeyIterator" "java/util/TreeMap$PrivateEntryIterator" "nextEntry" "()Ljava/util/TreeMap$Entry;") ∈ lw_all := lw_g (lw_at lw_m4 113 rfl) rfl
theorem q928 : (Jvm.Cond.selects "java/util/TreeMap$KeyIterator" ({ cls := "java/util/TreeMap$KeyIterator", name := "nextEntry", desc := "()Ljava/util/TreeMap$Entry;" } : Jvm.MethodName) ({ cls := "java/util/TreeMap$PrivateEntryIterator", name := "nextEntry", desc := "()Ljava/util/TreeMap$Entry;" } : Jvm.MethodName)) ∈ lw_all := lw_g (lw_at lw_m4 115 rfl) rfl
theorem q1453 : (Jvm.Cond.selects "java/util/TreeMap$KeyIterator" ({ cls := "java/lang/Object", name := "getClass", desc := "()Ljava/lang/Class;" } : Jvm.MethodName) ({ cls := "java/lang/Object", name := "getClass", desc := "()Ljava/lang/Class;" } : Jvm.MethodName)) ∈ lw_all := lw_g (lw_at lw_m6 160 rfl) rfl
theorem q1853 : (Jvm.Cond.instantiable "java/util/TreeMap$KeyIterator" (4 : Nat)) ∈ lw_all := lw_g (lw_at lw_m8 80 rfl) rfl
theorem q1855 : (Jvm.Cond.instanceMethod ({ cls := "java/util/TreeMap$KeyIterator", name := "<init>", desc := "(Ljava/util/TreeMap;Ljava/util/TreeMap$Entry;)V" } : Jvm.MethodName)) ∈ lw_all := lw_g (lw_at lw_m8 82 rfl) rfl
theorem q1856 : (Jvm.Cond.code ({ cls := "java/util/TreeMap$KeyIterator", name := "<init>", desc := "(Ljava/util/TreeMap;Ljava/util/TreeMap$Entry;)V" } : Jvm.MethodName) prog_74_method_1_code (3 : Nat) (Option.none : Option Jvm.ClassFile.FieldType)) ∈ lw_all := lw_g (lw_at lw_m8 83 rfl) rfl
theorem q1857 : (Jvm.Cond.methodLink "java/util/TreeMap$KeyIterator" (1 : Nat) ({ cls := "java/util/TreeMap$PrivateEntryIterator", name := "<init>", desc := "(Ljava/util/TreeMap;Ljava/util/TreeMap$Entry;)V" } : Jvm.MethodName)) ∈ lw_all := lw_g (lw_at lw_m8 84 rfl) rfl
theorem q1865 : (Jvm.Cond.lays "java/util/TreeMap$KeyIterator" "java/util/TreeMap$PrivateEntryIterator" "next" "Ljava/util/TreeMap$Entry;") ∈ lw_all := lw_g (lw_at lw_m8 92 rfl) rfl
theorem q1867 : (Jvm.Cond.lays "java/util/TreeMap$KeyIterator" "java/util/TreeMap$PrivateEntryIterator" "lastReturned" "Ljava/util/TreeMap$Entry;") ∈ lw_all := lw_g (lw_at lw_m8 94 rfl) rfl
theorem q1869 : (Jvm.Cond.lays "java/util/TreeMap$KeyIterator" "java/util/TreeMap$PrivateEntryIterator" "expectedModCount" "I") ∈ lw_all := lw_g (lw_at lw_m8 96 rfl) rfl
theorem q1871 : (Jvm.Cond.laysFinal "java/util/TreeMap$KeyIterator" "java/util/TreeMap$PrivateEntryIterator" "this$0" "Ljava/util/TreeMap;") ∈ lw_all := lw_g (lw_at lw_m8 98 rfl) rfl
theorem q1873 : (Jvm.Cond.superclass "java/util/TreeMap$KeyIterator" "java/util/TreeMap$PrivateEntryIterator") ∈ lw_all := lw_g (lw_at lw_m8 100 rfl) rfl
theorem q3132 : (Jvm.Cond.castable "java/util/TreeMap$KeyIterator" "java/lang/Object") ∈ lw_tbl := lw_at lw_m13 159 rfl
theorem in_J34 : ∀ w ∈ wsJ340, w ∈ lw_all := lw_in wsJ340 [1865, 1867, 1869, 1871] (by decide +kernel) (by decide +kernel)

/-! java/util/TreeMap$ValueIterator -/
set_option maxRecDepth 100000
def RJ36 : String := "java/util/TreeMap$ValueIterator"
def TJ36 : u_T := fun k => match k with
  | 0 => ("java/util/TreeMap$PrivateEntryIterator", "next", "Ljava/util/TreeMap$Entry;", false)
  | 1 => ("java/util/TreeMap$PrivateEntryIterator", "lastReturned", "Ljava/util/TreeMap$Entry;", false)
  | 2 => ("java/util/TreeMap$PrivateEntryIterator", "expectedModCount", "I", false)
  | _ => ("java/util/TreeMap$PrivateEntryIterator", "this$0", "Ljava/util/TreeMap;", true)
def tyJ36 : Nat → FieldType := fun k => match k with
  | 0 => .object "java/util/TreeMap$Entry"
  | 1 => .object "java/util/TreeMap$Entry"
  | 2 => .int
  | _ => .object "java/util/TreeMap"
abbrev wsJ360 : List Cond := u_ws RJ36 TJ36 4
theorem nmJ36 : ∀ a, a < 4 → ∀ b, b < 4 → a ≠ b → (TJ36 a).2.1 ≠ (TJ36 b).2.1 := by decide +kernel
theorem tyJ36_ok : ∀ k, k < 4 → parseFieldDescriptor (TJ36 k).2.2.1 = some (tyJ36 k) := by decide +kernel
abbrev cJ36_next : ByteArray := prog_82_method_2_code
def yJ36_next : MethodName := ⟨RJ36, "next", "()Ljava/lang/Object;"⟩
def dkwJ36_next_0 : List UInt8 := [42, 182, 0, 7, 180, 0, 13, 176]
abbrev dktJ36_next_0 : List UInt8 := dkwJ36_next_0 ++ []
theorem dksJ36_next_0 : cJ36_next.data.toList.drop 0 = dktJ36_next_0 := by decide +kernel
theorem dJ36_next_0 : decode cJ36_next 0 = .ok (.aload_n 0, 1) := dk_42 (dk_at dksJ36_next_0 0 rfl rfl)
theorem dJ36_next_1 : decode cJ36_next 1 = .ok (.invokevirtual 7, 3) := dk_182 0 7 (dk_at dksJ36_next_0 1 rfl rfl)
theorem dJ36_next_4 : decode cJ36_next 4 = .ok (.getfield 13, 3) := dk_180 0 13 (dk_at dksJ36_next_0 4 rfl rfl)
theorem dJ36_next_7 : decode cJ36_next 7 = .ok (.areturn, 1) := dk_176 (dk_at dksJ36_next_0 7 rfl rfl)
abbrev cJ36_init : ByteArray := prog_82_method_1_code
def yJ36_init : MethodName := ⟨RJ36, "<init>", "(Ljava/util/TreeMap;Ljava/util/TreeMap$Entry;)V"⟩
def dkwJ36_init_0 : List UInt8 := [42, 43, 44, 183, 0, 1, 177]
abbrev dktJ36_init_0 : List UInt8 := dkwJ36_init_0 ++ []
theorem dksJ36_init_0 : cJ36_init.data.toList.drop 0 = dktJ36_init_0 := by decide +kernel
theorem dJ36_init_0 : decode cJ36_init 0 = .ok (.aload_n 0, 1) := dk_42 (dk_at dksJ36_init_0 0 rfl rfl)
theorem dJ36_init_1 : decode cJ36_init 1 = .ok (.aload_n 1, 1) := dk_43 (dk_at dksJ36_init_0 1 rfl rfl)
theorem dJ36_init_2 : decode cJ36_init 2 = .ok (.aload_n 2, 1) := dk_44 (dk_at dksJ36_init_0 2 rfl rfl)
theorem dJ36_init_3 : decode cJ36_init 3 = .ok (.invokespecial 1, 3) := dk_183 0 1 (dk_at dksJ36_init_0 3 rfl rfl)
theorem dJ36_init_6 : decode cJ36_init 6 = .ok (.return_, 1) := dk_177 (dk_at dksJ36_init_0 6 rfl rfl)
theorem q149 : (Jvm.Cond.initialized "java/util/TreeMap$ValueIterator") ∈ lw_all := lw_g (lw_at lw_m1 56 rfl) rfl
theorem q658 : (Jvm.Cond.fieldLink "java/util/TreeMap$ValueIterator" (13 : Nat) "java/util/TreeMap$Entry" "value" "Ljava/lang/Object;") ∈ lw_all := lw_g (lw_at lw_m3 85 rfl) rfl
theorem q885 : (Jvm.Cond.castable "java/util/TreeMap$ValueIterator" "java/util/Iterator") ∈ lw_tbl := lw_at lw_m4 72 rfl
theorem q886 : (Jvm.Cond.selects "java/util/TreeMap$ValueIterator" ({ cls := "java/util/Iterator", name := "hasNext", desc := "()Z" } : Jvm.MethodName) ({ cls := "java/util/TreeMap$PrivateEntryIterator", name := "hasNext", desc := "()Z" } : Jvm.MethodName)) ∈ lw_all := lw_g (lw_at lw_m4 73 rfl) rfl
theorem q887 : (Jvm.Cond.unhidden "java/util/TreeMap$ValueIterator" "hasNext" "()Z") ∈ lw_tbl := lw_at lw_m4 74 rfl
theorem q958 : (Jvm.Cond.selects "java/util/TreeMap$ValueIterator" ({ cls := "java/util/Iterator", name := "next", desc := "()Ljava/lang/Object;" } : Jvm.MethodName) ({ cls := "java/util/TreeMap$ValueIterator", name := "next", desc := "()Ljava/lang/Object;" } : Jvm.MethodName)) ∈ lw_all := lw_g (lw_at lw_m4 145 rfl) rfl
theorem q959 : (Jvm.Cond.unhidden "java/util/TreeMap$ValueIterator" "next" "()Ljava/lang/Object;") ∈ lw_tbl := lw_at lw_m4 146 rfl
theorem q960 : (Jvm.Cond.instanceMethod ({ cls := "java/util/TreeMap$ValueIterator", name := "next", desc := "()Ljava/lang/Object;" } : Jvm.MethodName)) ∈ lw_all := lw_g (lw_at lw_m4 147 rfl) rfl
theorem q961 : (Jvm.Cond.publicMethod ({ cls := "java/util/TreeMap$ValueIterator", name := "next", desc := "()Ljava/lang/Object;" } : Jvm.MethodName)) ∈ lw_tbl := lw_at lw_m4 148 rfl
theorem q962 : (Jvm.Cond.code ({ cls := "java/util/TreeMap$ValueIterator", name := "next", desc := "()Ljava/lang/Object;" } : Jvm.MethodName) prog_82_method_2_code (1 : Nat) (Option.some (Jvm.ClassFile.FieldType.object "java/lang/Object"))) ∈ lw_all := lw_g (lw_at lw_m4 149 rfl) rfl
theorem q963 : (Jvm.Cond.methodLink "java/util/TreeMap$ValueIterator" (7 : Nat) ({ cls := "java/util/TreeMap$ValueIterator", name := "nextEntry", desc := "()Ljava/util/TreeMap$Entry;" } : Jvm.MethodName)) ∈ lw_all := lw_g (lw_at lw_m4 150 rfl) rfl
theorem q964 : (Jvm.Cond.sameMethod "java/util/TreeMap$ValueIterator" "java/util/TreeMap$PrivateEntryIterator" "nextEntry" "()Ljava/util/TreeMap$Entry;") ∈ lw_all := lw_g (lw_at lw_m4 151 rfl) rfl
theorem q965 : (Jvm.Cond.selects "java/util/TreeMap$ValueIterator" ({ cls := "java/util/TreeMap$ValueIterator", name := "nextEntry", desc := "()Ljava/util/TreeMap$Entry;" } : Jvm.MethodName) ({ cls := "java/util/TreeMap$PrivateEntryIterator", name := "nextEntry", desc := "()Ljava/util/TreeMap$Entry;" } : Jvm.MethodName)) ∈ lw_all := lw_g (lw_at lw_m4 152 rfl) rfl
theorem q1457 : (Jvm.Cond.selects "java/util/TreeMap$ValueIterator" ({ cls := "java/lang/Object", name := "getClass", desc := "()Ljava/lang/Class;" } : Jvm.MethodName) ({ cls := "java/lang/Object", name := "getClass", desc := "()Ljava/lang/Class;" } : Jvm.MethodName)) ∈ lw_all := lw_g (lw_at lw_m6 164 rfl) rfl
theorem q1904 : (Jvm.Cond.instantiable "java/util/TreeMap$ValueIterator" (4 : Nat)) ∈ lw_all := lw_g (lw_at lw_m8 131 rfl) rfl
theorem q1907 : (Jvm.Cond.instanceMethod ({ cls := "java/util/TreeMap$ValueIterator", name := "<init>", desc := "(Ljava/util/TreeMap;Ljava/util/TreeMap$Entry;)V" } : Jvm.MethodName)) ∈ lw_all := lw_g (lw_at lw_m8 134 rfl) rfl
theorem q1908 : (Jvm.Cond.code ({ cls := "java/util/TreeMap$ValueIterator", name := "<init>", desc := "(Ljava/util/TreeMap;Ljava/util/TreeMap$Entry;)V" } : Jvm.MethodName) prog_82_method_1_code (3 : Nat) (Option.none : Option Jvm.ClassFile.FieldType)) ∈ lw_all := lw_g (lw_at lw_m8 135 rfl) rfl
theorem q1909 : (Jvm.Cond.methodLink "java/util/TreeMap$ValueIterator" (1 : Nat) ({ cls := "java/util/TreeMap$PrivateEntryIterator", name := "<init>", desc := "(Ljava/util/TreeMap;Ljava/util/TreeMap$Entry;)V" } : Jvm.MethodName)) ∈ lw_all := lw_g (lw_at lw_m8 136 rfl) rfl
theorem q1910 : (Jvm.Cond.lays "java/util/TreeMap$ValueIterator" "java/util/TreeMap$PrivateEntryIterator" "next" "Ljava/util/TreeMap$Entry;") ∈ lw_all := lw_g (lw_at lw_m8 137 rfl) rfl
theorem q1911 : (Jvm.Cond.lays "java/util/TreeMap$ValueIterator" "java/util/TreeMap$PrivateEntryIterator" "lastReturned" "Ljava/util/TreeMap$Entry;") ∈ lw_all := lw_g (lw_at lw_m8 138 rfl) rfl
theorem q1912 : (Jvm.Cond.lays "java/util/TreeMap$ValueIterator" "java/util/TreeMap$PrivateEntryIterator" "expectedModCount" "I") ∈ lw_all := lw_g (lw_at lw_m8 139 rfl) rfl
theorem q1913 : (Jvm.Cond.laysFinal "java/util/TreeMap$ValueIterator" "java/util/TreeMap$PrivateEntryIterator" "this$0" "Ljava/util/TreeMap;") ∈ lw_all := lw_g (lw_at lw_m8 140 rfl) rfl
theorem q1914 : (Jvm.Cond.superclass "java/util/TreeMap$ValueIterator" "java/util/TreeMap$PrivateEntryIterator") ∈ lw_all := lw_g (lw_at lw_m8 141 rfl) rfl
theorem q3130 : (Jvm.Cond.castable "java/util/TreeMap$ValueIterator" "java/lang/Object") ∈ lw_tbl := lw_at lw_m13 157 rfl
theorem in_J36 : ∀ w ∈ wsJ360, w ∈ lw_all := lw_in wsJ360 [1910, 1911, 1912, 1913] (by decide +kernel) (by decide +kernel)

/-! java/util/TreeMap$KeySet -/
set_option maxRecDepth 100000
def RJ37 : String := "java/util/TreeMap$KeySet"
def TJ37 : u_T := fun k => match k with
  | _ => ("java/util/TreeMap$KeySet", "m", "Ljava/util/NavigableMap;", true)
def tyJ37 : Nat → FieldType := fun k => match k with
  | _ => .object "java/util/NavigableMap"
abbrev wsJ370 : List Cond := u_ws RJ37 TJ37 1
theorem nmJ37 : ∀ a, a < 1 → ∀ b, b < 1 → a ≠ b → (TJ37 a).2.1 ≠ (TJ37 b).2.1 := by decide +kernel
theorem tyJ37_ok : ∀ k, k < 1 → parseFieldDescriptor (TJ37 k).2.2.1 = some (tyJ37 k) := by decide +kernel
abbrev cJ37_size : ByteArray := prog_75_method_4_code
def yJ37_size : MethodName := ⟨RJ37, "size", "()I"⟩
def dkwJ37_size_0 : List UInt8 := [42, 180, 0, 7, 185, 0, 26, 1, 0, 172]
abbrev dktJ37_size_0 : List UInt8 := dkwJ37_size_0 ++ []
theorem dksJ37_size_0 : cJ37_size.data.toList.drop 0 = dktJ37_size_0 := by decide +kernel
theorem dJ37_size_0 : decode cJ37_size 0 = .ok (.aload_n 0, 1) := dk_42 (dk_at dksJ37_size_0 0 rfl rfl)
theorem dJ37_size_1 : decode cJ37_size 1 = .ok (.getfield 7, 3) := dk_180 0 7 (dk_at dksJ37_size_0 1 rfl rfl)
theorem dJ37_size_4 : decode cJ37_size 4 = .ok (.invokeinterface 26 1, 5) := by decide +kernel
theorem dJ37_size_9 : decode cJ37_size 9 = .ok (.ireturn, 1) := dk_172 (dk_at dksJ37_size_0 9 rfl rfl)
abbrev cJ37_iterator : ByteArray := prog_75_method_2_code
def yJ37_iterator : MethodName := ⟨RJ37, "iterator", "()Ljava/util/Iterator;"⟩
def dkwJ37_iterator_1 : List UInt8 := [180, 0, 7, 192, 0, 19, 182, 0, 21, 176]
abbrev dktJ37_iterator_1 : List UInt8 := dkwJ37_iterator_1 ++ []
def dkwJ37_iterator_0 : List UInt8 := [42, 180, 0, 7, 193, 0, 13, 153, 0, 14, 42, 180, 0, 7, 192, 0, 13, 182, 0, 15, 176, 42]
abbrev dktJ37_iterator_0 : List UInt8 := dkwJ37_iterator_0 ++ dktJ37_iterator_1
theorem dksJ37_iterator_0 : cJ37_iterator.data.toList.drop 0 = dktJ37_iterator_0 := by decide +kernel
theorem dksJ37_iterator_1 : cJ37_iterator.data.toList.drop 22 = dktJ37_iterator_1 := dk_seg dksJ37_iterator_0 22 rfl rfl
theorem dJ37_iterator_0 : decode cJ37_iterator 0 = .ok (.aload_n 0, 1) := dk_42 (dk_at dksJ37_iterator_0 0 rfl rfl)
theorem dJ37_iterator_1 : decode cJ37_iterator 1 = .ok (.getfield 7, 3) := dk_180 0 7 (dk_at dksJ37_iterator_0 1 rfl rfl)
theorem dJ37_iterator_4 : decode cJ37_iterator 4 = .ok (.instanceof 13, 3) := dk_193 0 13 (dk_at dksJ37_iterator_0 4 rfl rfl)
theorem dJ37_iterator_7 : decode cJ37_iterator 7 = .ok (.ifCond .eq 14, 3) := dk_153 0 14 (dk_at dksJ37_iterator_0 7 rfl rfl)
theorem dJ37_iterator_10 : decode cJ37_iterator 10 = .ok (.aload_n 0, 1) := dk_42 (dk_at dksJ37_iterator_0 10 rfl rfl)
theorem dJ37_iterator_11 : decode cJ37_iterator 11 = .ok (.getfield 7, 3) := dk_180 0 7 (dk_at dksJ37_iterator_0 11 rfl rfl)
theorem dJ37_iterator_14 : decode cJ37_iterator 14 = .ok (.checkcast 13, 3) := dk_192 0 13 (dk_at dksJ37_iterator_0 14 rfl rfl)
theorem dJ37_iterator_17 : decode cJ37_iterator 17 = .ok (.invokevirtual 15, 3) := dk_182 0 15 (dk_at dksJ37_iterator_0 17 rfl rfl)
theorem dJ37_iterator_20 : decode cJ37_iterator 20 = .ok (.areturn, 1) := dk_176 (dk_at dksJ37_iterator_0 20 rfl rfl)
theorem dJ37_iterator_21 : decode cJ37_iterator 21 = .ok (.aload_n 0, 1) := dk_42 (dk_at dksJ37_iterator_0 21 rfl rfl)
theorem dJ37_iterator_22 : decode cJ37_iterator 22 = .ok (.getfield 7, 3) := dk_180 0 7 (dk_at dksJ37_iterator_1 0 rfl rfl)
theorem dJ37_iterator_25 : decode cJ37_iterator 25 = .ok (.checkcast 19, 3) := dk_192 0 19 (dk_at dksJ37_iterator_1 3 rfl rfl)
theorem dJ37_iterator_28 : decode cJ37_iterator 28 = .ok (.invokevirtual 21, 3) := dk_182 0 21 (dk_at dksJ37_iterator_1 6 rfl rfl)
theorem dJ37_iterator_31 : decode cJ37_iterator 31 = .ok (.areturn, 1) := dk_176 (dk_at dksJ37_iterator_1 9 rfl rfl)
abbrev cJ37_init : ByteArray := prog_75_method_1_code
def yJ37_init : MethodName := ⟨RJ37, "<init>", "(Ljava/util/NavigableMap;)V"⟩
def dkwJ37_init_0 : List UInt8 := [42, 183, 0, 1, 42, 43, 181, 0, 7, 177]
abbrev dktJ37_init_0 : List UInt8 := dkwJ37_init_0 ++ []
theorem dksJ37_init_0 : cJ37_init.data.toList.drop 0 = dktJ37_init_0 := by decide +kernel
theorem dJ37_init_0 : decode cJ37_init 0 = .ok (.aload_n 0, 1) := dk_42 (dk_at dksJ37_init_0 0 rfl rfl)
theorem dJ37_init_1 : decode cJ37_init 1 = .ok (.invokespecial 1, 3) := dk_183 0 1 (dk_at dksJ37_init_0 1 rfl rfl)
theorem dJ37_init_4 : decode cJ37_init 4 = .ok (.aload_n 0, 1) := dk_42 (dk_at dksJ37_init_0 4 rfl rfl)
theorem dJ37_init_5 : decode cJ37_init 5 = .ok (.aload_n 1, 1) := dk_43 (dk_at dksJ37_init_0 5 rfl rfl)
theorem dJ37_init_6 : decode cJ37_init 6 = .ok (.putfield 7, 3) := dk_181 0 7 (dk_at dksJ37_init_0 6 rfl rfl)
theorem dJ37_init_9 : decode cJ37_init 9 = .ok (.return_, 1) := dk_177 (dk_at dksJ37_init_0 9 rfl rfl)
theorem q150 : (Jvm.Cond.initialized "java/util/TreeMap$KeySet") ∈ lw_all := lw_g (lw_at lw_m1 57 rfl) rfl
theorem q966 : (Jvm.Cond.castable "java/util/TreeMap$KeySet" "java/util/Set") ∈ lw_tbl := lw_at lw_m4 153 rfl
theorem q967 : (Jvm.Cond.selects "java/util/TreeMap$KeySet" ({ cls := "java/util/Set", name := "size", desc := "()I" } : Jvm.MethodName) ({ cls := "java/util/TreeMap$KeySet", name := "size", desc := "()I" } : Jvm.MethodName)) ∈ lw_all := lw_g (lw_at lw_m4 154 rfl) rfl
theorem q968 : (Jvm.Cond.unhidden "java/util/TreeMap$KeySet" "size" "()I") ∈ lw_tbl := lw_at lw_m4 155 rfl
theorem q969 : (Jvm.Cond.instanceMethod ({ cls := "java/util/TreeMap$KeySet", name := "size", desc := "()I" } : Jvm.MethodName)) ∈ lw_all := lw_g (lw_at lw_m4 156 rfl) rfl
theorem q970 : (Jvm.Cond.publicMethod ({ cls := "java/util/TreeMap$KeySet", name := "size", desc := "()I" } : Jvm.MethodName)) ∈ lw_tbl := lw_at lw_m4 157 rfl
theorem q971 : (Jvm.Cond.code ({ cls := "java/util/TreeMap$KeySet", name := "size", desc := "()I" } : Jvm.MethodName) prog_75_method_4_code (1 : Nat) (Option.some Jvm.ClassFile.FieldType.int)) ∈ lw_all := lw_g (lw_at lw_m4 158 rfl) rfl
theorem q972 : (Jvm.Cond.interfaceEntry "java/util/TreeMap$KeySet" (26 : Nat)) ∈ lw_tbl := lw_at lw_m4 159 rfl
theorem q1454 : (Jvm.Cond.selects "java/util/TreeMap$KeySet" ({ cls := "java/lang/Object", name := "getClass", desc := "()Ljava/lang/Class;" } : Jvm.MethodName) ({ cls := "java/lang/Object", name := "getClass", desc := "()Ljava/lang/Class;" } : Jvm.MethodName)) ∈ lw_all := lw_g (lw_at lw_m6 161 rfl) rfl
theorem q1841 : (Jvm.Cond.castable "java/util/TreeMap$KeySet" "java/util/Collection") ∈ lw_tbl := lw_at lw_m8 68 rfl
theorem q1842 : (Jvm.Cond.selects "java/util/TreeMap$KeySet" ({ cls := "java/util/Collection", name := "iterator", desc := "()Ljava/util/Iterator;" } : Jvm.MethodName) ({ cls := "java/util/TreeMap$KeySet", name := "iterator", desc := "()Ljava/util/Iterator;" } : Jvm.MethodName)) ∈ lw_all := lw_g (lw_at lw_m8 69 rfl) rfl
theorem q1843 : (Jvm.Cond.unhidden "java/util/TreeMap$KeySet" "iterator" "()Ljava/util/Iterator;") ∈ lw_tbl := lw_at lw_m8 70 rfl
theorem q1844 : (Jvm.Cond.instanceMethod ({ cls := "java/util/TreeMap$KeySet", name := "iterator", desc := "()Ljava/util/Iterator;" } : Jvm.MethodName)) ∈ lw_all := lw_g (lw_at lw_m8 71 rfl) rfl
theorem q1845 : (Jvm.Cond.publicMethod ({ cls := "java/util/TreeMap$KeySet", name := "iterator", desc := "()Ljava/util/Iterator;" } : Jvm.MethodName)) ∈ lw_tbl := lw_at lw_m8 72 rfl
theorem q1846 : (Jvm.Cond.code ({ cls := "java/util/TreeMap$KeySet", name := "iterator", desc := "()Ljava/util/Iterator;" } : Jvm.MethodName) prog_75_method_2_code (1 : Nat) (Option.some (Jvm.ClassFile.FieldType.object "java/util/Iterator"))) ∈ lw_all := lw_g (lw_at lw_m8 73 rfl) rfl
theorem q1847 : (Jvm.Cond.classLink "java/util/TreeMap$KeySet" (13 : Nat) "java/util/TreeMap") ∈ lw_all := lw_g (lw_at lw_m8 74 rfl) rfl
theorem q1848 : (Jvm.Cond.methodLink "java/util/TreeMap$KeySet" (15 : Nat) ({ cls := "java/util/TreeMap", name := "keyIterator", desc := "()Ljava/util/Iterator;" } : Jvm.MethodName)) ∈ lw_all := lw_g (lw_at lw_m8 75 rfl) rfl
theorem q1874 : (Jvm.Cond.classLink "java/util/TreeMap$KeySet" (19 : Nat) "java/util/TreeMap$NavigableSubMap") ∈ lw_all := lw_g (lw_at lw_m8 101 rfl) rfl
theorem q1875 : (Jvm.Cond.methodLink "java/util/TreeMap$KeySet" (21 : Nat) ({ cls := "java/util/TreeMap$NavigableSubMap", name := "keyIterator", desc := "()Ljava/util/Iterator;" } : Jvm.MethodName)) ∈ lw_all := lw_g (lw_at lw_m8 102 rfl) rfl
theorem q1931 : (Jvm.Cond.instantiable "java/util/TreeMap$KeySet" (1 : Nat)) ∈ lw_all := lw_g (lw_at lw_m8 158 rfl) rfl
theorem q1933 : (Jvm.Cond.instanceMethod ({ cls := "java/util/TreeMap$KeySet", name := "<init>", desc := "(Ljava/util/NavigableMap;)V" } : Jvm.MethodName)) ∈ lw_all := lw_g (lw_at lw_m8 160 rfl) rfl
theorem q1934 : (Jvm.Cond.code ({ cls := "java/util/TreeMap$KeySet", name := "<init>", desc := "(Ljava/util/NavigableMap;)V" } : Jvm.MethodName) prog_75_method_1_code (2 : Nat) (Option.none : Option Jvm.ClassFile.FieldType)) ∈ lw_all := lw_g (lw_at lw_m8 161 rfl) rfl
theorem q1935 : (Jvm.Cond.methodLink "java/util/TreeMap$KeySet" (1 : Nat) ({ cls := "java/util/AbstractSet", name := "<init>", desc := "()V" } : Jvm.MethodName)) ∈ lw_all := lw_g (lw_at lw_m8 162 rfl) rfl
theorem q1936 : (Jvm.Cond.fieldLink "java/util/TreeMap$KeySet" (7 : Nat) "java/util/TreeMap$KeySet" "m" "Ljava/util/NavigableMap;") ∈ lw_all := lw_g (lw_at lw_m8 163 rfl) rfl
theorem q1937 : (Jvm.Cond.laysFinal "java/util/TreeMap$KeySet" "java/util/TreeMap$KeySet" "m" "Ljava/util/NavigableMap;") ∈ lw_all := lw_g (lw_at lw_m8 164 rfl) rfl
theorem q1938 : (Jvm.Cond.soleField "java/util/TreeMap$KeySet" "m") ∈ lw_all := lw_g (lw_at lw_m8 165 rfl) rfl
theorem q1939 : (Jvm.Cond.superclass "java/util/TreeMap$KeySet" "java/util/AbstractSet") ∈ lw_all := lw_g (lw_at lw_m8 166 rfl) rfl
theorem q1951 : (Jvm.Cond.castable "java/util/TreeMap$KeySet" "java/util/NavigableSet") ∈ lw_tbl := lw_at lw_m8 178 rfl
theorem q1952 : (Jvm.Cond.selects "java/util/TreeMap$KeySet" ({ cls := "java/util/NavigableSet", name := "iterator", desc := "()Ljava/util/Iterator;" } : Jvm.MethodName) ({ cls := "java/util/TreeMap$KeySet", name := "iterator", desc := "()Ljava/util/Iterator;" } : Jvm.MethodName)) ∈ lw_all := lw_g (lw_at lw_m8 179 rfl) rfl
theorem q2039 : (Jvm.Cond.selects "java/util/TreeMap$KeySet" ({ cls := "java/util/AbstractCollection", name := "size", desc := "()I" } : Jvm.MethodName) ({ cls := "java/util/TreeMap$KeySet", name := "size", desc := "()I" } : Jvm.MethodName)) ∈ lw_all := lw_g (lw_at lw_m9 26 rfl) rfl
theorem q2056 : (Jvm.Cond.selects "java/util/TreeMap$KeySet" ({ cls := "java/util/Collection", name := "toArray", desc := "()[Ljava/lang/Object;" } : Jvm.MethodName) ({ cls := "java/util/AbstractCollection", name := "toArray", desc := "()[Ljava/lang/Object;" } : Jvm.MethodName)) ∈ lw_all := lw_g (lw_at lw_m9 43 rfl) rfl
theorem q2057 : (Jvm.Cond.unhidden "java/util/TreeMap$KeySet" "toArray" "()[Ljava/lang/Object;") ∈ lw_tbl := lw_at lw_m9 44 rfl
theorem q2461 : (Jvm.Cond.castable "java/util/TreeMap$KeySet" "java/util/SortedSet") ∈ lw_tbl := lw_at lw_m10 208 rfl
theorem q2462 : (Jvm.Cond.selects "java/util/TreeMap$KeySet" ({ cls := "java/util/Collection", name := "size", desc := "()I" } : Jvm.MethodName) ({ cls := "java/util/TreeMap$KeySet", name := "size", desc := "()I" } : Jvm.MethodName)) ∈ lw_all := lw_g (lw_at lw_m10 209 rfl) rfl
theorem q2489 : (Jvm.Cond.unhidden "java/util/TreeMap$KeySet" "getClass" "()Ljava/lang/Class;") ∈ lw_tbl := lw_at lw_m10 236 rfl
theorem q3098 : (Jvm.Cond.selects "java/util/TreeMap$KeySet" ({ cls := "java/util/AbstractCollection", name := "iterator", desc := "()Ljava/util/Iterator;" } : Jvm.MethodName) ({ cls := "java/util/TreeMap$KeySet", name := "iterator", desc := "()Ljava/util/Iterator;" } : Jvm.MethodName)) ∈ lw_all := lw_g (lw_at lw_m13 125 rfl) rfl
theorem q3131 : (Jvm.Cond.castable "java/util/TreeMap$KeySet" "java/lang/Object") ∈ lw_tbl := lw_at lw_m13 158 rfl
theorem in_J37 : ∀ w ∈ wsJ370, w ∈ lw_all := lw_in wsJ370 [1937] (by decide +kernel) (by decide +kernel)
