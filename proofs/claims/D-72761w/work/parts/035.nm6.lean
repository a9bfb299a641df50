/-! SignalWavesModel -/
set_option maxRecDepth 100000
def RX7 : String := "SignalWavesModel"
def TX7 : u_T := fun k => match k with
  | 0 => ("SignalWavesModel", "node", "[I", true)
  | 1 => ("SignalWavesModel", "nodes", "I", false)
  | 2 => ("SignalWavesModel", "wires", "I", false)
  | 3 => ("SignalWavesModel", "deriveds", "I", false)
  | 4 => ("SignalWavesModel", "within", "[I", true)
  | 5 => ("SignalWavesModel", "scopeName", "[I", true)
  | 6 => ("SignalWavesModel", "scopes", "I", false)
  | 7 => ("SignalWavesModel", "code", "[I", true)
  | 8 => ("SignalWavesModel", "codeMany", "[I", true)
  | 9 => ("SignalWavesModel", "s", "[I", true)
  | 10 => ("SignalWavesModel", "past", "[I", true)
  | 11 => ("SignalWavesModel", "undos", "I", false)
  | 12 => ("SignalWavesModel", "kept", "[I", true)
  | 13 => ("SignalWavesModel", "isKept", "[Z", true)
  | 14 => ("SignalWavesModel", "text", "[I", true)
  | 15 => ("SignalWavesModel", "typed", "I", false)
  | 16 => ("SignalWavesModel", "at", "I", false)
  | 17 => ("SignalWavesModel", "start", "I", false)
  | 18 => ("SignalWavesModel", "sort", "I", false)
  | 19 => ("SignalWavesModel", "value", "I", false)
  | 20 => ("SignalWavesModel", "fault", "I", false)
  | 21 => ("SignalWavesModel", "newNode", "[I", true)
  | 22 => ("SignalWavesModel", "newNodes", "I", false)
  | 23 => ("SignalWavesModel", "newWires", "I", false)
  | 24 => ("SignalWavesModel", "newDeriveds", "I", false)
  | 25 => ("SignalWavesModel", "newWithin", "[I", true)
  | 26 => ("SignalWavesModel", "newScopeName", "[I", true)
  | 27 => ("SignalWavesModel", "newScopes", "I", false)
  | 28 => ("SignalWavesModel", "newCode", "[I", true)
  | 29 => ("SignalWavesModel", "newMany", "[I", true)
  | 30 => ("SignalWavesModel", "open", "I", false)
  | 31 => ("SignalWavesModel", "deep", "I", false)
  | 32 => ("SignalWavesModel", "waits", "[I", true)
  | 33 => ("SignalWavesModel", "waiting", "I", false)
  | 34 => ("SignalWavesModel", "terms", "I", false)
  | 35 => ("SignalWavesModel", "marks", "I", false)
  | 36 => ("SignalWavesModel", "now", "[I", true)
  | 37 => ("SignalWavesModel", "stack", "[I", true)
  | 38 => ("SignalWavesModel", "wire", "[I", true)
  | 39 => ("SignalWavesModel", "isTurn", "[Z", true)
  | 40 => ("SignalWavesModel", "line", "[I", true)
  | 41 => ("SignalWavesModel", "ahead", "[I", true)
  | 42 => ("SignalWavesModel", "isFirst", "[Z", true)
  | 43 => ("SignalWavesModel", "rowTime", "[I", true)
  | 44 => ("SignalWavesModel", "rowValue", "[I", true)
  | 45 => ("SignalWavesModel", "rows", "I", false)
  | 46 => ("SignalWavesModel", "word", "[I", true)
  | 47 => ("SignalWavesModel", "words", "I", false)
  | 48 => ("SignalWavesModel", "sight", "[I", true)
  | _ => ("SignalWavesModel", "sights", "I", false)
def tyX7 : Nat → FieldType := fun k => match k with
  | 0 => .array .int
  | 1 => .int
  | 2 => .int
  | 3 => .int
  | 4 => .array .int
  | 5 => .array .int
  | 6 => .int
  | 7 => .array .int
  | 8 => .array .int
  | 9 => .array .int
  | 10 => .array .int
  | 11 => .int
  | 12 => .array .int
  | 13 => .array .boolean
  | 14 => .array .int
  | 15 => .int
  | 16 => .int
  | 17 => .int
  | 18 => .int
  | 19 => .int
  | 20 => .int
  | 21 => .array .int
  | 22 => .int
  | 23 => .int
  | 24 => .int
  | 25 => .array .int
  | 26 => .array .int
  | 27 => .int
  | 28 => .array .int
  | 29 => .array .int
  | 30 => .int
  | 31 => .int
  | 32 => .array .int
  | 33 => .int
  | 34 => .int
  | 35 => .int
  | 36 => .array .int
  | 37 => .array .int
  | 38 => .array .int
  | 39 => .array .boolean
  | 40 => .array .int
  | 41 => .array .int
  | 42 => .array .boolean
  | 43 => .array .int
  | 44 => .array .int
  | 45 => .int
  | 46 => .array .int
  | 47 => .int
  | 48 => .array .int
  | _ => .int
abbrev wsX70 : List Cond := u_ws RX7 TX7 50
set_option maxRecDepth 100000 in
theorem nmX7 : ∀ a, a < 50 → ∀ b, b < 50 → a ≠ b → (TX7 a).2.1 ≠ (TX7 b).2.1 := by decide +kernel
set_option maxRecDepth 100000 in
theorem tyX7_ok : ∀ k, k < 50 → parseFieldDescriptor (TX7 k).2.2.1 = some (tyX7 k) := by decide +kernel
abbrev cX7_init : ByteArray := prog_19_method_1_code
def yX7_init : MethodName := ⟨RX7, "<init>", "()V"⟩
def dkwX7_init_10 : List UInt8 := [182, 0, 92, 177]
abbrev dktX7_init_10 : List UInt8 := dkwX7_init_10 ++ []
def dkwX7_init_9 : List UInt8 := [188, 10, 181, 0, 83, 42, 16, 8, 188, 10, 181, 0, 86, 42, 16, 12, 188, 10, 181, 0, 89, 42]
abbrev dktX7_init_9 : List UInt8 := dkwX7_init_9 ++ dktX7_init_10
def dkwX7_init_8 : List UInt8 := [181, 0, 74, 42, 17, 3, 232, 188, 4, 181, 0, 77, 42, 16, 48, 188, 10, 181, 0, 80, 42, 16, 48]
abbrev dktX7_init_8 : List UInt8 := dkwX7_init_8 ++ dktX7_init_9
def dkwX7_init_7 : List UInt8 := [17, 3, 234, 188, 4, 181, 0, 68, 42, 17, 3, 232, 188, 10, 181, 0, 71, 42, 16, 12, 188, 10]
abbrev dktX7_init_7 : List UInt8 := dkwX7_init_7 ++ dktX7_init_8
def dkwX7_init_6 : List UInt8 := [188, 10, 181, 0, 59, 42, 16, 8, 188, 10, 181, 0, 62, 42, 16, 6, 188, 10, 181, 0, 65, 42]
abbrev dktX7_init_6 : List UInt8 := dkwX7_init_6 ++ dktX7_init_7
def dkwX7_init_5 : List UInt8 := [188, 10, 181, 0, 50, 42, 7, 188, 10, 181, 0, 53, 42, 16, 16, 188, 10, 181, 0, 56, 42, 16, 12]
abbrev dktX7_init_5 : List UInt8 := dkwX7_init_5 ++ dktX7_init_6
def dkwX7_init_4 : List UInt8 := [181, 0, 41, 42, 16, 6, 188, 10, 181, 0, 44, 42, 16, 6, 188, 10, 181, 0, 47, 42, 17, 0, 160]
abbrev dktX7_init_4 : List UInt8 := dkwX7_init_4 ++ dktX7_init_5
def dkwX7_init_3 : List UInt8 := [181, 0, 31, 42, 5, 188, 4, 181, 0, 34, 42, 17, 0, 160, 188, 10, 181, 0, 38, 42, 16, 72, 188, 10]
abbrev dktX7_init_3 : List UInt8 := dkwX7_init_3 ++ dktX7_init_4
def dkwX7_init_2 : List UInt8 := [17, 0, 209, 188, 10, 181, 0, 25, 42, 17, 4, 230, 188, 10, 181, 0, 28, 42, 17, 1, 162, 188, 10]
abbrev dktX7_init_2 : List UInt8 := dkwX7_init_2 ++ dktX7_init_3
def dkwX7_init_1 : List UInt8 := [188, 10, 181, 0, 16, 42, 17, 0, 160, 188, 10, 181, 0, 19, 42, 7, 188, 10, 181, 0, 22, 42]
abbrev dktX7_init_1 : List UInt8 := dkwX7_init_1 ++ dktX7_init_2
def dkwX7_init_0 : List UInt8 := [42, 183, 0, 1, 42, 16, 72, 188, 10, 181, 0, 7, 42, 16, 6, 188, 10, 181, 0, 13, 42, 16, 6]
abbrev dktX7_init_0 : List UInt8 := dkwX7_init_0 ++ dktX7_init_1
theorem dksX7_init_0 : cX7_init.data.toList.drop 0 = dktX7_init_0 := by decide +kernel
theorem dksX7_init_1 : cX7_init.data.toList.drop 23 = dktX7_init_1 := dk_seg dksX7_init_0 23 rfl rfl
theorem dksX7_init_2 : cX7_init.data.toList.drop 45 = dktX7_init_2 := dk_seg dksX7_init_1 22 rfl rfl
theorem dksX7_init_3 : cX7_init.data.toList.drop 68 = dktX7_init_3 := dk_seg dksX7_init_2 23 rfl rfl
theorem dksX7_init_4 : cX7_init.data.toList.drop 92 = dktX7_init_4 := dk_seg dksX7_init_3 24 rfl rfl
theorem dksX7_init_5 : cX7_init.data.toList.drop 115 = dktX7_init_5 := dk_seg dksX7_init_4 23 rfl rfl
theorem dksX7_init_6 : cX7_init.data.toList.drop 138 = dktX7_init_6 := dk_seg dksX7_init_5 23 rfl rfl
theorem dksX7_init_7 : cX7_init.data.toList.drop 160 = dktX7_init_7 := dk_seg dksX7_init_6 22 rfl rfl
theorem dksX7_init_8 : cX7_init.data.toList.drop 182 = dktX7_init_8 := dk_seg dksX7_init_7 22 rfl rfl
theorem dksX7_init_9 : cX7_init.data.toList.drop 205 = dktX7_init_9 := dk_seg dksX7_init_8 23 rfl rfl
theorem dksX7_init_10 : cX7_init.data.toList.drop 227 = dktX7_init_10 := dk_seg dksX7_init_9 22 rfl rfl
theorem dX7_init_0 : decode cX7_init 0 = .ok (.aload_n 0, 1) := dk_42 (dk_at dksX7_init_0 0 rfl rfl)
theorem dX7_init_1 : decode cX7_init 1 = .ok (.invokespecial 1, 3) := dk_183 0 1 (dk_at dksX7_init_0 1 rfl rfl)
theorem dX7_init_4 : decode cX7_init 4 = .ok (.aload_n 0, 1) := dk_42 (dk_at dksX7_init_0 4 rfl rfl)
theorem dX7_init_5 : decode cX7_init 5 = .ok (.bipush 72, 2) := dk_16 72 (dk_at dksX7_init_0 5 rfl rfl)
theorem dX7_init_7 : decode cX7_init 7 = .ok (.newarray .int, 2) := dk_188_10 (dk_at dksX7_init_0 7 rfl rfl)
theorem dX7_init_9 : decode cX7_init 9 = .ok (.putfield 7, 3) := dk_181 0 7 (dk_at dksX7_init_0 9 rfl rfl)
theorem dX7_init_12 : decode cX7_init 12 = .ok (.aload_n 0, 1) := dk_42 (dk_at dksX7_init_0 12 rfl rfl)
theorem dX7_init_13 : decode cX7_init 13 = .ok (.bipush 6, 2) := dk_16 6 (dk_at dksX7_init_0 13 rfl rfl)
theorem dX7_init_15 : decode cX7_init 15 = .ok (.newarray .int, 2) := dk_188_10 (dk_at dksX7_init_0 15 rfl rfl)
theorem dX7_init_17 : decode cX7_init 17 = .ok (.putfield 13, 3) := dk_181 0 13 (dk_at dksX7_init_0 17 rfl rfl)
theorem dX7_init_20 : decode cX7_init 20 = .ok (.aload_n 0, 1) := dk_42 (dk_at dksX7_init_0 20 rfl rfl)
theorem dX7_init_21 : decode cX7_init 21 = .ok (.bipush 6, 2) := dk_16 6 (dk_at dksX7_init_0 21 rfl rfl)
theorem dX7_init_23 : decode cX7_init 23 = .ok (.newarray .int, 2) := dk_188_10 (dk_at dksX7_init_1 0 rfl rfl)
theorem dX7_init_25 : decode cX7_init 25 = .ok (.putfield 16, 3) := dk_181 0 16 (dk_at dksX7_init_1 2 rfl rfl)
theorem dX7_init_28 : decode cX7_init 28 = .ok (.aload_n 0, 1) := dk_42 (dk_at dksX7_init_1 5 rfl rfl)
theorem dX7_init_29 : decode cX7_init 29 = .ok (.sipush 160, 3) := dk_17 0 160 (dk_at dksX7_init_1 6 rfl rfl)
theorem dX7_init_32 : decode cX7_init 32 = .ok (.newarray .int, 2) := dk_188_10 (dk_at dksX7_init_1 9 rfl rfl)
theorem dX7_init_34 : decode cX7_init 34 = .ok (.putfield 19, 3) := dk_181 0 19 (dk_at dksX7_init_1 11 rfl rfl)
theorem dX7_init_37 : decode cX7_init 37 = .ok (.aload_n 0, 1) := dk_42 (dk_at dksX7_init_1 14 rfl rfl)
theorem dX7_init_38 : decode cX7_init 38 = .ok (.iconst 4, 1) := dk_7 (dk_at dksX7_init_1 15 rfl rfl)
theorem dX7_init_39 : decode cX7_init 39 = .ok (.newarray .int, 2) := dk_188_10 (dk_at dksX7_init_1 16 rfl rfl)
theorem dX7_init_41 : decode cX7_init 41 = .ok (.putfield 22, 3) := dk_181 0 22 (dk_at dksX7_init_1 18 rfl rfl)
theorem dX7_init_44 : decode cX7_init 44 = .ok (.aload_n 0, 1) := dk_42 (dk_at dksX7_init_1 21 rfl rfl)
theorem dX7_init_45 : decode cX7_init 45 = .ok (.sipush 209, 3) := dk_17 0 209 (dk_at dksX7_init_2 0 rfl rfl)
theorem dX7_init_48 : decode cX7_init 48 = .ok (.newarray .int, 2) := dk_188_10 (dk_at dksX7_init_2 3 rfl rfl)
theorem dX7_init_50 : decode cX7_init 50 = .ok (.putfield 25, 3) := dk_181 0 25 (dk_at dksX7_init_2 5 rfl rfl)
theorem dX7_init_53 : decode cX7_init 53 = .ok (.aload_n 0, 1) := dk_42 (dk_at dksX7_init_2 8 rfl rfl)
theorem dX7_init_54 : decode cX7_init 54 = .ok (.sipush 1254, 3) := dk_17 4 230 (dk_at dksX7_init_2 9 rfl rfl)
theorem dX7_init_57 : decode cX7_init 57 = .ok (.newarray .int, 2) := dk_188_10 (dk_at dksX7_init_2 12 rfl rfl)
theorem dX7_init_59 : decode cX7_init 59 = .ok (.putfield 28, 3) := dk_181 0 28 (dk_at dksX7_init_2 14 rfl rfl)
theorem dX7_init_62 : decode cX7_init 62 = .ok (.aload_n 0, 1) := dk_42 (dk_at dksX7_init_2 17 rfl rfl)
theorem dX7_init_63 : decode cX7_init 63 = .ok (.sipush 418, 3) := dk_17 1 162 (dk_at dksX7_init_2 18 rfl rfl)
theorem dX7_init_66 : decode cX7_init 66 = .ok (.newarray .int, 2) := dk_188_10 (dk_at dksX7_init_2 21 rfl rfl)
theorem dX7_init_68 : decode cX7_init 68 = .ok (.putfield 31, 3) := dk_181 0 31 (dk_at dksX7_init_3 0 rfl rfl)
theorem dX7_init_71 : decode cX7_init 71 = .ok (.aload_n 0, 1) := dk_42 (dk_at dksX7_init_3 3 rfl rfl)
theorem dX7_init_72 : decode cX7_init 72 = .ok (.iconst 2, 1) := dk_5 (dk_at dksX7_init_3 4 rfl rfl)
theorem dX7_init_73 : decode cX7_init 73 = .ok (.newarray .boolean, 2) := dk_188_4 (dk_at dksX7_init_3 5 rfl rfl)
theorem dX7_init_75 : decode cX7_init 75 = .ok (.putfield 34, 3) := dk_181 0 34 (dk_at dksX7_init_3 7 rfl rfl)
theorem dX7_init_78 : decode cX7_init 78 = .ok (.aload_n 0, 1) := dk_42 (dk_at dksX7_init_3 10 rfl rfl)
theorem dX7_init_79 : decode cX7_init 79 = .ok (.sipush 160, 3) := dk_17 0 160 (dk_at dksX7_init_3 11 rfl rfl)
theorem dX7_init_82 : decode cX7_init 82 = .ok (.newarray .int, 2) := dk_188_10 (dk_at dksX7_init_3 14 rfl rfl)
theorem dX7_init_84 : decode cX7_init 84 = .ok (.putfield 38, 3) := dk_181 0 38 (dk_at dksX7_init_3 16 rfl rfl)
theorem dX7_init_87 : decode cX7_init 87 = .ok (.aload_n 0, 1) := dk_42 (dk_at dksX7_init_3 19 rfl rfl)
theorem dX7_init_88 : decode cX7_init 88 = .ok (.bipush 72, 2) := dk_16 72 (dk_at dksX7_init_3 20 rfl rfl)
theorem dX7_init_90 : decode cX7_init 90 = .ok (.newarray .int, 2) := dk_188_10 (dk_at dksX7_init_3 22 rfl rfl)
theorem dX7_init_92 : decode cX7_init 92 = .ok (.putfield 41, 3) := dk_181 0 41 (dk_at dksX7_init_4 0 rfl rfl)
theorem dX7_init_95 : decode cX7_init 95 = .ok (.aload_n 0, 1) := dk_42 (dk_at dksX7_init_4 3 rfl rfl)
theorem dX7_init_96 : decode cX7_init 96 = .ok (.bipush 6, 2) := dk_16 6 (dk_at dksX7_init_4 4 rfl rfl)
theorem dX7_init_98 : decode cX7_init 98 = .ok (.newarray .int, 2) := dk_188_10 (dk_at dksX7_init_4 6 rfl rfl)
theorem dX7_init_100 : decode cX7_init 100 = .ok (.putfield 44, 3) := dk_181 0 44 (dk_at dksX7_init_4 8 rfl rfl)
theorem dX7_init_103 : decode cX7_init 103 = .ok (.aload_n 0, 1) := dk_42 (dk_at dksX7_init_4 11 rfl rfl)
theorem dX7_init_104 : decode cX7_init 104 = .ok (.bipush 6, 2) := dk_16 6 (dk_at dksX7_init_4 12 rfl rfl)
theorem dX7_init_106 : decode cX7_init 106 = .ok (.newarray .int, 2) := dk_188_10 (dk_at dksX7_init_4 14 rfl rfl)
theorem dX7_init_108 : decode cX7_init 108 = .ok (.putfield 47, 3) := dk_181 0 47 (dk_at dksX7_init_4 16 rfl rfl)
theorem dX7_init_111 : decode cX7_init 111 = .ok (.aload_n 0, 1) := dk_42 (dk_at dksX7_init_4 19 rfl rfl)
theorem dX7_init_112 : decode cX7_init 112 = .ok (.sipush 160, 3) := dk_17 0 160 (dk_at dksX7_init_4 20 rfl rfl)
theorem dX7_init_115 : decode cX7_init 115 = .ok (.newarray .int, 2) := dk_188_10 (dk_at dksX7_init_5 0 rfl rfl)
theorem dX7_init_117 : decode cX7_init 117 = .ok (.putfield 50, 3) := dk_181 0 50 (dk_at dksX7_init_5 2 rfl rfl)
theorem dX7_init_120 : decode cX7_init 120 = .ok (.aload_n 0, 1) := dk_42 (dk_at dksX7_init_5 5 rfl rfl)
theorem dX7_init_121 : decode cX7_init 121 = .ok (.iconst 4, 1) := dk_7 (dk_at dksX7_init_5 6 rfl rfl)
theorem dX7_init_122 : decode cX7_init 122 = .ok (.newarray .int, 2) := dk_188_10 (dk_at dksX7_init_5 7 rfl rfl)
theorem dX7_init_124 : decode cX7_init 124 = .ok (.putfield 53, 3) := dk_181 0 53 (dk_at dksX7_init_5 9 rfl rfl)
theorem dX7_init_127 : decode cX7_init 127 = .ok (.aload_n 0, 1) := dk_42 (dk_at dksX7_init_5 12 rfl rfl)
theorem dX7_init_128 : decode cX7_init 128 = .ok (.bipush 16, 2) := dk_16 16 (dk_at dksX7_init_5 13 rfl rfl)
theorem dX7_init_130 : decode cX7_init 130 = .ok (.newarray .int, 2) := dk_188_10 (dk_at dksX7_init_5 15 rfl rfl)
theorem dX7_init_132 : decode cX7_init 132 = .ok (.putfield 56, 3) := dk_181 0 56 (dk_at dksX7_init_5 17 rfl rfl)
theorem dX7_init_135 : decode cX7_init 135 = .ok (.aload_n 0, 1) := dk_42 (dk_at dksX7_init_5 20 rfl rfl)
theorem dX7_init_136 : decode cX7_init 136 = .ok (.bipush 12, 2) := dk_16 12 (dk_at dksX7_init_5 21 rfl rfl)
theorem dX7_init_138 : decode cX7_init 138 = .ok (.newarray .int, 2) := dk_188_10 (dk_at dksX7_init_6 0 rfl rfl)
theorem dX7_init_140 : decode cX7_init 140 = .ok (.putfield 59, 3) := dk_181 0 59 (dk_at dksX7_init_6 2 rfl rfl)
theorem dX7_init_143 : decode cX7_init 143 = .ok (.aload_n 0, 1) := dk_42 (dk_at dksX7_init_6 5 rfl rfl)
theorem dX7_init_144 : decode cX7_init 144 = .ok (.bipush 8, 2) := dk_16 8 (dk_at dksX7_init_6 6 rfl rfl)
theorem dX7_init_146 : decode cX7_init 146 = .ok (.newarray .int, 2) := dk_188_10 (dk_at dksX7_init_6 8 rfl rfl)
theorem dX7_init_148 : decode cX7_init 148 = .ok (.putfield 62, 3) := dk_181 0 62 (dk_at dksX7_init_6 10 rfl rfl)
theorem dX7_init_151 : decode cX7_init 151 = .ok (.aload_n 0, 1) := dk_42 (dk_at dksX7_init_6 13 rfl rfl)
theorem dX7_init_152 : decode cX7_init 152 = .ok (.bipush 6, 2) := dk_16 6 (dk_at dksX7_init_6 14 rfl rfl)
theorem dX7_init_154 : decode cX7_init 154 = .ok (.newarray .int, 2) := dk_188_10 (dk_at dksX7_init_6 16 rfl rfl)
theorem dX7_init_156 : decode cX7_init 156 = .ok (.putfield 65, 3) := dk_181 0 65 (dk_at dksX7_init_6 18 rfl rfl)
theorem dX7_init_159 : decode cX7_init 159 = .ok (.aload_n 0, 1) := dk_42 (dk_at dksX7_init_6 21 rfl rfl)
theorem dX7_init_160 : decode cX7_init 160 = .ok (.sipush 1002, 3) := dk_17 3 234 (dk_at dksX7_init_7 0 rfl rfl)
theorem dX7_init_163 : decode cX7_init 163 = .ok (.newarray .boolean, 2) := dk_188_4 (dk_at dksX7_init_7 3 rfl rfl)
theorem dX7_init_165 : decode cX7_init 165 = .ok (.putfield 68, 3) := dk_181 0 68 (dk_at dksX7_init_7 5 rfl rfl)
theorem dX7_init_168 : decode cX7_init 168 = .ok (.aload_n 0, 1) := dk_42 (dk_at dksX7_init_7 8 rfl rfl)
theorem dX7_init_169 : decode cX7_init 169 = .ok (.sipush 1000, 3) := dk_17 3 232 (dk_at dksX7_init_7 9 rfl rfl)
theorem dX7_init_172 : decode cX7_init 172 = .ok (.newarray .int, 2) := dk_188_10 (dk_at dksX7_init_7 12 rfl rfl)
theorem dX7_init_174 : decode cX7_init 174 = .ok (.putfield 71, 3) := dk_181 0 71 (dk_at dksX7_init_7 14 rfl rfl)
theorem dX7_init_177 : decode cX7_init 177 = .ok (.aload_n 0, 1) := dk_42 (dk_at dksX7_init_7 17 rfl rfl)
theorem dX7_init_178 : decode cX7_init 178 = .ok (.bipush 12, 2) := dk_16 12 (dk_at dksX7_init_7 18 rfl rfl)
theorem dX7_init_180 : decode cX7_init 180 = .ok (.newarray .int, 2) := dk_188_10 (dk_at dksX7_init_7 20 rfl rfl)
theorem dX7_init_182 : decode cX7_init 182 = .ok (.putfield 74, 3) := dk_181 0 74 (dk_at dksX7_init_8 0 rfl rfl)
theorem dX7_init_185 : decode cX7_init 185 = .ok (.aload_n 0, 1) := dk_42 (dk_at dksX7_init_8 3 rfl rfl)
theorem dX7_init_186 : decode cX7_init 186 = .ok (.sipush 1000, 3) := dk_17 3 232 (dk_at dksX7_init_8 4 rfl rfl)
theorem dX7_init_189 : decode cX7_init 189 = .ok (.newarray .boolean, 2) := dk_188_4 (dk_at dksX7_init_8 7 rfl rfl)
theorem dX7_init_191 : decode cX7_init 191 = .ok (.putfield 77, 3) := dk_181 0 77 (dk_at dksX7_init_8 9 rfl rfl)
theorem dX7_init_194 : decode cX7_init 194 = .ok (.aload_n 0, 1) := dk_42 (dk_at dksX7_init_8 12 rfl rfl)
theorem dX7_init_195 : decode cX7_init 195 = .ok (.bipush 48, 2) := dk_16 48 (dk_at dksX7_init_8 13 rfl rfl)
theorem dX7_init_197 : decode cX7_init 197 = .ok (.newarray .int, 2) := dk_188_10 (dk_at dksX7_init_8 15 rfl rfl)
theorem dX7_init_199 : decode cX7_init 199 = .ok (.putfield 80, 3) := dk_181 0 80 (dk_at dksX7_init_8 17 rfl rfl)
theorem dX7_init_202 : decode cX7_init 202 = .ok (.aload_n 0, 1) := dk_42 (dk_at dksX7_init_8 20 rfl rfl)
theorem dX7_init_203 : decode cX7_init 203 = .ok (.bipush 48, 2) := dk_16 48 (dk_at dksX7_init_8 21 rfl rfl)
theorem dX7_init_205 : decode cX7_init 205 = .ok (.newarray .int, 2) := dk_188_10 (dk_at dksX7_init_9 0 rfl rfl)
theorem dX7_init_207 : decode cX7_init 207 = .ok (.putfield 83, 3) := dk_181 0 83 (dk_at dksX7_init_9 2 rfl rfl)
theorem dX7_init_210 : decode cX7_init 210 = .ok (.aload_n 0, 1) := dk_42 (dk_at dksX7_init_9 5 rfl rfl)
theorem dX7_init_211 : decode cX7_init 211 = .ok (.bipush 8, 2) := dk_16 8 (dk_at dksX7_init_9 6 rfl rfl)
theorem dX7_init_213 : decode cX7_init 213 = .ok (.newarray .int, 2) := dk_188_10 (dk_at dksX7_init_9 8 rfl rfl)
theorem dX7_init_215 : decode cX7_init 215 = .ok (.putfield 86, 3) := dk_181 0 86 (dk_at dksX7_init_9 10 rfl rfl)
theorem dX7_init_218 : decode cX7_init 218 = .ok (.aload_n 0, 1) := dk_42 (dk_at dksX7_init_9 13 rfl rfl)
theorem dX7_init_219 : decode cX7_init 219 = .ok (.bipush 12, 2) := dk_16 12 (dk_at dksX7_init_9 14 rfl rfl)
theorem dX7_init_221 : decode cX7_init 221 = .ok (.newarray .int, 2) := dk_188_10 (dk_at dksX7_init_9 16 rfl rfl)
theorem dX7_init_223 : decode cX7_init 223 = .ok (.putfield 89, 3) := dk_181 0 89 (dk_at dksX7_init_9 18 rfl rfl)
theorem dX7_init_226 : decode cX7_init 226 = .ok (.aload_n 0, 1) := dk_42 (dk_at dksX7_init_9 21 rfl rfl)
theorem dX7_init_227 : decode cX7_init 227 = .ok (.invokevirtual 92, 3) := dk_182 0 92 (dk_at dksX7_init_10 0 rfl rfl)
theorem dX7_init_230 : decode cX7_init 230 = .ok (.return_, 1) := dk_177 (dk_at dksX7_init_10 3 rfl rfl)
abbrev cX7_begins : ByteArray := prog_19_method_26_code
def yX7_begins : MethodName := ⟨RX7, "begins", "()V"⟩
def dkwX7_begins_2 : List UInt8 := [181, 0, 230, 42, 180, 0, 34, 3, 3, 84, 42, 180, 0, 34, 4, 3, 84, 177]
abbrev dktX7_begins_2 : List UInt8 := dkwX7_begins_2 ++ []
def dkwX7_begins_1 : List UInt8 := [180, 0, 25, 4, 4, 79, 42, 180, 0, 25, 5, 7, 79, 42, 182, 0, 224, 42, 3, 181, 0, 227, 42, 3]
abbrev dktX7_begins_1 : List UInt8 := dkwX7_begins_1 ++ dktX7_begins_2
def dkwX7_begins_0 : List UInt8 := [3, 60, 27, 17, 0, 209, 162, 0, 16, 42, 180, 0, 25, 27, 3, 79, 132, 1, 1, 167, 255, 239, 42]
abbrev dktX7_begins_0 : List UInt8 := dkwX7_begins_0 ++ dktX7_begins_1
theorem dksX7_begins_0 : cX7_begins.data.toList.drop 0 = dktX7_begins_0 := by decide +kernel
theorem dksX7_begins_1 : cX7_begins.data.toList.drop 23 = dktX7_begins_1 := dk_seg dksX7_begins_0 23 rfl rfl
theorem dksX7_begins_2 : cX7_begins.data.toList.drop 47 = dktX7_begins_2 := dk_seg dksX7_begins_1 24 rfl rfl
theorem dX7_begins_0 : decode cX7_begins 0 = .ok (.iconst 0, 1) := dk_3 (dk_at dksX7_begins_0 0 rfl rfl)
theorem dX7_begins_1 : decode cX7_begins 1 = .ok (.istore_n 1, 1) := dk_60 (dk_at dksX7_begins_0 1 rfl rfl)
theorem dX7_begins_2 : decode cX7_begins 2 = .ok (.iload_n 1, 1) := dk_27 (dk_at dksX7_begins_0 2 rfl rfl)
theorem dX7_begins_3 : decode cX7_begins 3 = .ok (.sipush 209, 3) := dk_17 0 209 (dk_at dksX7_begins_0 3 rfl rfl)
theorem dX7_begins_6 : decode cX7_begins 6 = .ok (.if_icmp .ge 16, 3) := dk_162 0 16 (dk_at dksX7_begins_0 6 rfl rfl)
theorem dX7_begins_9 : decode cX7_begins 9 = .ok (.aload_n 0, 1) := dk_42 (dk_at dksX7_begins_0 9 rfl rfl)
theorem dX7_begins_10 : decode cX7_begins 10 = .ok (.getfield 25, 3) := dk_180 0 25 (dk_at dksX7_begins_0 10 rfl rfl)
theorem dX7_begins_13 : decode cX7_begins 13 = .ok (.iload_n 1, 1) := dk_27 (dk_at dksX7_begins_0 13 rfl rfl)
theorem dX7_begins_14 : decode cX7_begins 14 = .ok (.iconst 0, 1) := dk_3 (dk_at dksX7_begins_0 14 rfl rfl)
theorem dX7_begins_15 : decode cX7_begins 15 = .ok (.iastore, 1) := dk_79 (dk_at dksX7_begins_0 15 rfl rfl)
theorem dX7_begins_16 : decode cX7_begins 16 = .ok (.iinc 1 1, 3) := dk_132 1 1 (dk_at dksX7_begins_0 16 rfl rfl)
theorem dX7_begins_19 : decode cX7_begins 19 = .ok (.goto (-17), 3) := dk_167 255 239 (dk_at dksX7_begins_0 19 rfl rfl)
theorem dX7_begins_22 : decode cX7_begins 22 = .ok (.aload_n 0, 1) := dk_42 (dk_at dksX7_begins_0 22 rfl rfl)
theorem dX7_begins_23 : decode cX7_begins 23 = .ok (.getfield 25, 3) := dk_180 0 25 (dk_at dksX7_begins_1 0 rfl rfl)
theorem dX7_begins_26 : decode cX7_begins 26 = .ok (.iconst 1, 1) := dk_4 (dk_at dksX7_begins_1 3 rfl rfl)
theorem dX7_begins_27 : decode cX7_begins 27 = .ok (.iconst 1, 1) := dk_4 (dk_at dksX7_begins_1 4 rfl rfl)
theorem dX7_begins_28 : decode cX7_begins 28 = .ok (.iastore, 1) := dk_79 (dk_at dksX7_begins_1 5 rfl rfl)
theorem dX7_begins_29 : decode cX7_begins 29 = .ok (.aload_n 0, 1) := dk_42 (dk_at dksX7_begins_1 6 rfl rfl)
theorem dX7_begins_30 : decode cX7_begins 30 = .ok (.getfield 25, 3) := dk_180 0 25 (dk_at dksX7_begins_1 7 rfl rfl)
theorem dX7_begins_33 : decode cX7_begins 33 = .ok (.iconst 2, 1) := dk_5 (dk_at dksX7_begins_1 10 rfl rfl)
theorem dX7_begins_34 : decode cX7_begins 34 = .ok (.iconst 4, 1) := dk_7 (dk_at dksX7_begins_1 11 rfl rfl)
theorem dX7_begins_35 : decode cX7_begins 35 = .ok (.iastore, 1) := dk_79 (dk_at dksX7_begins_1 12 rfl rfl)
theorem dX7_begins_36 : decode cX7_begins 36 = .ok (.aload_n 0, 1) := dk_42 (dk_at dksX7_begins_1 13 rfl rfl)
theorem dX7_begins_37 : decode cX7_begins 37 = .ok (.invokevirtual 224, 3) := dk_182 0 224 (dk_at dksX7_begins_1 14 rfl rfl)
theorem dX7_begins_40 : decode cX7_begins 40 = .ok (.aload_n 0, 1) := dk_42 (dk_at dksX7_begins_1 17 rfl rfl)
theorem dX7_begins_41 : decode cX7_begins 41 = .ok (.iconst 0, 1) := dk_3 (dk_at dksX7_begins_1 18 rfl rfl)
theorem dX7_begins_42 : decode cX7_begins 42 = .ok (.putfield 227, 3) := dk_181 0 227 (dk_at dksX7_begins_1 19 rfl rfl)
theorem dX7_begins_45 : decode cX7_begins 45 = .ok (.aload_n 0, 1) := dk_42 (dk_at dksX7_begins_1 22 rfl rfl)
theorem dX7_begins_46 : decode cX7_begins 46 = .ok (.iconst 0, 1) := dk_3 (dk_at dksX7_begins_1 23 rfl rfl)
theorem dX7_begins_47 : decode cX7_begins 47 = .ok (.putfield 230, 3) := dk_181 0 230 (dk_at dksX7_begins_2 0 rfl rfl)
theorem dX7_begins_50 : decode cX7_begins 50 = .ok (.aload_n 0, 1) := dk_42 (dk_at dksX7_begins_2 3 rfl rfl)
theorem dX7_begins_51 : decode cX7_begins 51 = .ok (.getfield 34, 3) := dk_180 0 34 (dk_at dksX7_begins_2 4 rfl rfl)
theorem dX7_begins_54 : decode cX7_begins 54 = .ok (.iconst 0, 1) := dk_3 (dk_at dksX7_begins_2 7 rfl rfl)
theorem dX7_begins_55 : decode cX7_begins 55 = .ok (.iconst 0, 1) := dk_3 (dk_at dksX7_begins_2 8 rfl rfl)
theorem dX7_begins_56 : decode cX7_begins 56 = .ok (.bastore, 1) := dk_84 (dk_at dksX7_begins_2 9 rfl rfl)
theorem dX7_begins_57 : decode cX7_begins 57 = .ok (.aload_n 0, 1) := dk_42 (dk_at dksX7_begins_2 10 rfl rfl)
theorem dX7_begins_58 : decode cX7_begins 58 = .ok (.getfield 34, 3) := dk_180 0 34 (dk_at dksX7_begins_2 11 rfl rfl)
theorem dX7_begins_61 : decode cX7_begins 61 = .ok (.iconst 1, 1) := dk_4 (dk_at dksX7_begins_2 14 rfl rfl)
theorem dX7_begins_62 : decode cX7_begins 62 = .ok (.iconst 0, 1) := dk_3 (dk_at dksX7_begins_2 15 rfl rfl)
theorem dX7_begins_63 : decode cX7_begins 63 = .ok (.bastore, 1) := dk_84 (dk_at dksX7_begins_2 16 rfl rfl)
theorem dX7_begins_64 : decode cX7_begins 64 = .ok (.return_, 1) := dk_177 (dk_at dksX7_begins_2 17 rfl rfl)
abbrev cX7_blockBegins : ByteArray := prog_19_method_40_code
def yX7_blockBegins : MethodName := ⟨RX7, "blockBegins", "()V"⟩
def dkwX7_blockBegins_6 : List UInt8 := [6, 92, 46, 4, 96, 79, 177]
abbrev dktX7_blockBegins_6 : List UInt8 := dkwX7_blockBegins_6 ++ []
def dkwX7_blockBegins_5 : List UInt8 := [27, 6, 96, 28, 96, 42, 180, 0, 25, 8, 28, 96, 46, 79, 132, 2, 1, 167, 255, 229, 42, 180, 0, 25]
abbrev dktX7_blockBegins_5 : List UInt8 := dkwX7_blockBegins_5 ++ dktX7_blockBegins_6
def dkwX7_blockBegins_4 : List UInt8 := [16, 247, 79, 42, 180, 0, 25, 27, 5, 96, 3, 79, 3, 61, 28, 16, 6, 162, 0, 27, 42, 180, 0, 25]
abbrev dktX7_blockBegins_4 : List UInt8 := dkwX7_blockBegins_4 ++ dktX7_blockBegins_5
def dkwX7_blockBegins_3 : List UInt8 := [184, 1, 0, 60, 42, 180, 0, 25, 27, 42, 180, 0, 25, 3, 46, 79, 42, 180, 0, 25, 27, 4, 96]
abbrev dktX7_blockBegins_3 : List UInt8 := dkwX7_blockBegins_3 ++ dktX7_blockBegins_4
def dkwX7_blockBegins_2 : List UInt8 := [6, 92, 46, 4, 100, 79, 42, 180, 0, 25, 7, 92, 46, 4, 96, 79, 42, 180, 0, 25, 6, 46]
abbrev dktX7_blockBegins_2 : List UInt8 := dkwX7_blockBegins_2 ++ dktX7_blockBegins_3
def dkwX7_blockBegins_1 : List UInt8 := [180, 0, 25, 27, 42, 180, 0, 25, 27, 16, 33, 96, 46, 79, 132, 1, 1, 167, 255, 231, 42, 180, 0, 25]
abbrev dktX7_blockBegins_1 : List UInt8 := dkwX7_blockBegins_1 ++ dktX7_blockBegins_2
def dkwX7_blockBegins_0 : List UInt8 := [42, 180, 0, 25, 6, 46, 16, 6, 160, 0, 54, 16, 11, 60, 27, 17, 0, 176, 162, 0, 24, 42]
abbrev dktX7_blockBegins_0 : List UInt8 := dkwX7_blockBegins_0 ++ dktX7_blockBegins_1
theorem dksX7_blockBegins_0 : cX7_blockBegins.data.toList.drop 0 = dktX7_blockBegins_0 := by decide +kernel
theorem dksX7_blockBegins_1 : cX7_blockBegins.data.toList.drop 22 = dktX7_blockBegins_1 := dk_seg dksX7_blockBegins_0 22 rfl rfl
theorem dksX7_blockBegins_2 : cX7_blockBegins.data.toList.drop 46 = dktX7_blockBegins_2 := dk_seg dksX7_blockBegins_1 24 rfl rfl
theorem dksX7_blockBegins_3 : cX7_blockBegins.data.toList.drop 68 = dktX7_blockBegins_3 := dk_seg dksX7_blockBegins_2 22 rfl rfl
theorem dksX7_blockBegins_4 : cX7_blockBegins.data.toList.drop 91 = dktX7_blockBegins_4 := dk_seg dksX7_blockBegins_3 23 rfl rfl
theorem dksX7_blockBegins_5 : cX7_blockBegins.data.toList.drop 115 = dktX7_blockBegins_5 := dk_seg dksX7_blockBegins_4 24 rfl rfl
theorem dksX7_blockBegins_6 : cX7_blockBegins.data.toList.drop 139 = dktX7_blockBegins_6 := dk_seg dksX7_blockBegins_5 24 rfl rfl
theorem dX7_blockBegins_0 : decode cX7_blockBegins 0 = .ok (.aload_n 0, 1) := dk_42 (dk_at dksX7_blockBegins_0 0 rfl rfl)
theorem dX7_blockBegins_1 : decode cX7_blockBegins 1 = .ok (.getfield 25, 3) := dk_180 0 25 (dk_at dksX7_blockBegins_0 1 rfl rfl)
theorem dX7_blockBegins_4 : decode cX7_blockBegins 4 = .ok (.iconst 3, 1) := dk_6 (dk_at dksX7_blockBegins_0 4 rfl rfl)
theorem dX7_blockBegins_5 : decode cX7_blockBegins 5 = .ok (.iaload, 1) := dk_46 (dk_at dksX7_blockBegins_0 5 rfl rfl)
theorem dX7_blockBegins_6 : decode cX7_blockBegins 6 = .ok (.bipush 6, 2) := dk_16 6 (dk_at dksX7_blockBegins_0 6 rfl rfl)
theorem dX7_blockBegins_8 : decode cX7_blockBegins 8 = .ok (.if_icmp .ne 54, 3) := dk_160 0 54 (dk_at dksX7_blockBegins_0 8 rfl rfl)
theorem dX7_blockBegins_11 : decode cX7_blockBegins 11 = .ok (.bipush 11, 2) := dk_16 11 (dk_at dksX7_blockBegins_0 11 rfl rfl)
theorem dX7_blockBegins_13 : decode cX7_blockBegins 13 = .ok (.istore_n 1, 1) := dk_60 (dk_at dksX7_blockBegins_0 13 rfl rfl)
theorem dX7_blockBegins_14 : decode cX7_blockBegins 14 = .ok (.iload_n 1, 1) := dk_27 (dk_at dksX7_blockBegins_0 14 rfl rfl)
theorem dX7_blockBegins_15 : decode cX7_blockBegins 15 = .ok (.sipush 176, 3) := dk_17 0 176 (dk_at dksX7_blockBegins_0 15 rfl rfl)
theorem dX7_blockBegins_18 : decode cX7_blockBegins 18 = .ok (.if_icmp .ge 24, 3) := dk_162 0 24 (dk_at dksX7_blockBegins_0 18 rfl rfl)
theorem dX7_blockBegins_21 : decode cX7_blockBegins 21 = .ok (.aload_n 0, 1) := dk_42 (dk_at dksX7_blockBegins_0 21 rfl rfl)
theorem dX7_blockBegins_22 : decode cX7_blockBegins 22 = .ok (.getfield 25, 3) := dk_180 0 25 (dk_at dksX7_blockBegins_1 0 rfl rfl)
theorem dX7_blockBegins_25 : decode cX7_blockBegins 25 = .ok (.iload_n 1, 1) := dk_27 (dk_at dksX7_blockBegins_1 3 rfl rfl)
theorem dX7_blockBegins_26 : decode cX7_blockBegins 26 = .ok (.aload_n 0, 1) := dk_42 (dk_at dksX7_blockBegins_1 4 rfl rfl)
theorem dX7_blockBegins_27 : decode cX7_blockBegins 27 = .ok (.getfield 25, 3) := dk_180 0 25 (dk_at dksX7_blockBegins_1 5 rfl rfl)
theorem dX7_blockBegins_30 : decode cX7_blockBegins 30 = .ok (.iload_n 1, 1) := dk_27 (dk_at dksX7_blockBegins_1 8 rfl rfl)
theorem dX7_blockBegins_31 : decode cX7_blockBegins 31 = .ok (.bipush 33, 2) := dk_16 33 (dk_at dksX7_blockBegins_1 9 rfl rfl)
theorem dX7_blockBegins_33 : decode cX7_blockBegins 33 = .ok (.iadd, 1) := dk_96 (dk_at dksX7_blockBegins_1 11 rfl rfl)
theorem dX7_blockBegins_34 : decode cX7_blockBegins 34 = .ok (.iaload, 1) := dk_46 (dk_at dksX7_blockBegins_1 12 rfl rfl)
theorem dX7_blockBegins_35 : decode cX7_blockBegins 35 = .ok (.iastore, 1) := dk_79 (dk_at dksX7_blockBegins_1 13 rfl rfl)
theorem dX7_blockBegins_36 : decode cX7_blockBegins 36 = .ok (.iinc 1 1, 3) := dk_132 1 1 (dk_at dksX7_blockBegins_1 14 rfl rfl)
theorem dX7_blockBegins_39 : decode cX7_blockBegins 39 = .ok (.goto (-25), 3) := dk_167 255 231 (dk_at dksX7_blockBegins_1 17 rfl rfl)
theorem dX7_blockBegins_42 : decode cX7_blockBegins 42 = .ok (.aload_n 0, 1) := dk_42 (dk_at dksX7_blockBegins_1 20 rfl rfl)
theorem dX7_blockBegins_43 : decode cX7_blockBegins 43 = .ok (.getfield 25, 3) := dk_180 0 25 (dk_at dksX7_blockBegins_1 21 rfl rfl)
theorem dX7_blockBegins_46 : decode cX7_blockBegins 46 = .ok (.iconst 3, 1) := dk_6 (dk_at dksX7_blockBegins_2 0 rfl rfl)
theorem dX7_blockBegins_47 : decode cX7_blockBegins 47 = .ok (.dup2, 1) := dk_92 (dk_at dksX7_blockBegins_2 1 rfl rfl)
theorem dX7_blockBegins_48 : decode cX7_blockBegins 48 = .ok (.iaload, 1) := dk_46 (dk_at dksX7_blockBegins_2 2 rfl rfl)
theorem dX7_blockBegins_49 : decode cX7_blockBegins 49 = .ok (.iconst 1, 1) := dk_4 (dk_at dksX7_blockBegins_2 3 rfl rfl)
theorem dX7_blockBegins_50 : decode cX7_blockBegins 50 = .ok (.isub, 1) := dk_100 (dk_at dksX7_blockBegins_2 4 rfl rfl)
theorem dX7_blockBegins_51 : decode cX7_blockBegins 51 = .ok (.iastore, 1) := dk_79 (dk_at dksX7_blockBegins_2 5 rfl rfl)
theorem dX7_blockBegins_52 : decode cX7_blockBegins 52 = .ok (.aload_n 0, 1) := dk_42 (dk_at dksX7_blockBegins_2 6 rfl rfl)
theorem dX7_blockBegins_53 : decode cX7_blockBegins 53 = .ok (.getfield 25, 3) := dk_180 0 25 (dk_at dksX7_blockBegins_2 7 rfl rfl)
theorem dX7_blockBegins_56 : decode cX7_blockBegins 56 = .ok (.iconst 4, 1) := dk_7 (dk_at dksX7_blockBegins_2 10 rfl rfl)
theorem dX7_blockBegins_57 : decode cX7_blockBegins 57 = .ok (.dup2, 1) := dk_92 (dk_at dksX7_blockBegins_2 11 rfl rfl)
theorem dX7_blockBegins_58 : decode cX7_blockBegins 58 = .ok (.iaload, 1) := dk_46 (dk_at dksX7_blockBegins_2 12 rfl rfl)
theorem dX7_blockBegins_59 : decode cX7_blockBegins 59 = .ok (.iconst 1, 1) := dk_4 (dk_at dksX7_blockBegins_2 13 rfl rfl)
theorem dX7_blockBegins_60 : decode cX7_blockBegins 60 = .ok (.iadd, 1) := dk_96 (dk_at dksX7_blockBegins_2 14 rfl rfl)
theorem dX7_blockBegins_61 : decode cX7_blockBegins 61 = .ok (.iastore, 1) := dk_79 (dk_at dksX7_blockBegins_2 15 rfl rfl)
theorem dX7_blockBegins_62 : decode cX7_blockBegins 62 = .ok (.aload_n 0, 1) := dk_42 (dk_at dksX7_blockBegins_2 16 rfl rfl)
theorem dX7_blockBegins_63 : decode cX7_blockBegins 63 = .ok (.getfield 25, 3) := dk_180 0 25 (dk_at dksX7_blockBegins_2 17 rfl rfl)
theorem dX7_blockBegins_66 : decode cX7_blockBegins 66 = .ok (.iconst 3, 1) := dk_6 (dk_at dksX7_blockBegins_2 20 rfl rfl)
theorem dX7_blockBegins_67 : decode cX7_blockBegins 67 = .ok (.iaload, 1) := dk_46 (dk_at dksX7_blockBegins_2 21 rfl rfl)
theorem dX7_blockBegins_68 : decode cX7_blockBegins 68 = .ok (.invokestatic 256, 3) := dk_184 1 0 (dk_at dksX7_blockBegins_3 0 rfl rfl)
theorem dX7_blockBegins_71 : decode cX7_blockBegins 71 = .ok (.istore_n 1, 1) := dk_60 (dk_at dksX7_blockBegins_3 3 rfl rfl)
theorem dX7_blockBegins_72 : decode cX7_blockBegins 72 = .ok (.aload_n 0, 1) := dk_42 (dk_at dksX7_blockBegins_3 4 rfl rfl)
theorem dX7_blockBegins_73 : decode cX7_blockBegins 73 = .ok (.getfield 25, 3) := dk_180 0 25 (dk_at dksX7_blockBegins_3 5 rfl rfl)
theorem dX7_blockBegins_76 : decode cX7_blockBegins 76 = .ok (.iload_n 1, 1) := dk_27 (dk_at dksX7_blockBegins_3 8 rfl rfl)
theorem dX7_blockBegins_77 : decode cX7_blockBegins 77 = .ok (.aload_n 0, 1) := dk_42 (dk_at dksX7_blockBegins_3 9 rfl rfl)
theorem dX7_blockBegins_78 : decode cX7_blockBegins 78 = .ok (.getfield 25, 3) := dk_180 0 25 (dk_at dksX7_blockBegins_3 10 rfl rfl)
theorem dX7_blockBegins_81 : decode cX7_blockBegins 81 = .ok (.iconst 0, 1) := dk_3 (dk_at dksX7_blockBegins_3 13 rfl rfl)
theorem dX7_blockBegins_82 : decode cX7_blockBegins 82 = .ok (.iaload, 1) := dk_46 (dk_at dksX7_blockBegins_3 14 rfl rfl)
theorem dX7_blockBegins_83 : decode cX7_blockBegins 83 = .ok (.iastore, 1) := dk_79 (dk_at dksX7_blockBegins_3 15 rfl rfl)
theorem dX7_blockBegins_84 : decode cX7_blockBegins 84 = .ok (.aload_n 0, 1) := dk_42 (dk_at dksX7_blockBegins_3 16 rfl rfl)
theorem dX7_blockBegins_85 : decode cX7_blockBegins 85 = .ok (.getfield 25, 3) := dk_180 0 25 (dk_at dksX7_blockBegins_3 17 rfl rfl)
theorem dX7_blockBegins_88 : decode cX7_blockBegins 88 = .ok (.iload_n 1, 1) := dk_27 (dk_at dksX7_blockBegins_3 20 rfl rfl)
theorem dX7_blockBegins_89 : decode cX7_blockBegins 89 = .ok (.iconst 1, 1) := dk_4 (dk_at dksX7_blockBegins_3 21 rfl rfl)
theorem dX7_blockBegins_90 : decode cX7_blockBegins 90 = .ok (.iadd, 1) := dk_96 (dk_at dksX7_blockBegins_3 22 rfl rfl)
theorem dX7_blockBegins_91 : decode cX7_blockBegins 91 = .ok (.bipush (-9), 2) := dk_16 247 (dk_at dksX7_blockBegins_4 0 rfl rfl)
theorem dX7_blockBegins_93 : decode cX7_blockBegins 93 = .ok (.iastore, 1) := dk_79 (dk_at dksX7_blockBegins_4 2 rfl rfl)
theorem dX7_blockBegins_94 : decode cX7_blockBegins 94 = .ok (.aload_n 0, 1) := dk_42 (dk_at dksX7_blockBegins_4 3 rfl rfl)
theorem dX7_blockBegins_95 : decode cX7_blockBegins 95 = .ok (.getfield 25, 3) := dk_180 0 25 (dk_at dksX7_blockBegins_4 4 rfl rfl)
theorem dX7_blockBegins_98 : decode cX7_blockBegins 98 = .ok (.iload_n 1, 1) := dk_27 (dk_at dksX7_blockBegins_4 7 rfl rfl)
theorem dX7_blockBegins_99 : decode cX7_blockBegins 99 = .ok (.iconst 2, 1) := dk_5 (dk_at dksX7_blockBegins_4 8 rfl rfl)
theorem dX7_blockBegins_100 : decode cX7_blockBegins 100 = .ok (.iadd, 1) := dk_96 (dk_at dksX7_blockBegins_4 9 rfl rfl)
theorem dX7_blockBegins_101 : decode cX7_blockBegins 101 = .ok (.iconst 0, 1) := dk_3 (dk_at dksX7_blockBegins_4 10 rfl rfl)
theorem dX7_blockBegins_102 : decode cX7_blockBegins 102 = .ok (.iastore, 1) := dk_79 (dk_at dksX7_blockBegins_4 11 rfl rfl)
theorem dX7_blockBegins_103 : decode cX7_blockBegins 103 = .ok (.iconst 0, 1) := dk_3 (dk_at dksX7_blockBegins_4 12 rfl rfl)
theorem dX7_blockBegins_104 : decode cX7_blockBegins 104 = .ok (.istore_n 2, 1) := dk_61 (dk_at dksX7_blockBegins_4 13 rfl rfl)
theorem dX7_blockBegins_105 : decode cX7_blockBegins 105 = .ok (.iload_n 2, 1) := dk_28 (dk_at dksX7_blockBegins_4 14 rfl rfl)
theorem dX7_blockBegins_106 : decode cX7_blockBegins 106 = .ok (.bipush 6, 2) := dk_16 6 (dk_at dksX7_blockBegins_4 15 rfl rfl)
theorem dX7_blockBegins_108 : decode cX7_blockBegins 108 = .ok (.if_icmp .ge 27, 3) := dk_162 0 27 (dk_at dksX7_blockBegins_4 17 rfl rfl)
theorem dX7_blockBegins_111 : decode cX7_blockBegins 111 = .ok (.aload_n 0, 1) := dk_42 (dk_at dksX7_blockBegins_4 20 rfl rfl)
theorem dX7_blockBegins_112 : decode cX7_blockBegins 112 = .ok (.getfield 25, 3) := dk_180 0 25 (dk_at dksX7_blockBegins_4 21 rfl rfl)
theorem dX7_blockBegins_115 : decode cX7_blockBegins 115 = .ok (.iload_n 1, 1) := dk_27 (dk_at dksX7_blockBegins_5 0 rfl rfl)
theorem dX7_blockBegins_116 : decode cX7_blockBegins 116 = .ok (.iconst 3, 1) := dk_6 (dk_at dksX7_blockBegins_5 1 rfl rfl)
theorem dX7_blockBegins_117 : decode cX7_blockBegins 117 = .ok (.iadd, 1) := dk_96 (dk_at dksX7_blockBegins_5 2 rfl rfl)
theorem dX7_blockBegins_118 : decode cX7_blockBegins 118 = .ok (.iload_n 2, 1) := dk_28 (dk_at dksX7_blockBegins_5 3 rfl rfl)
theorem dX7_blockBegins_119 : decode cX7_blockBegins 119 = .ok (.iadd, 1) := dk_96 (dk_at dksX7_blockBegins_5 4 rfl rfl)
theorem dX7_blockBegins_120 : decode cX7_blockBegins 120 = .ok (.aload_n 0, 1) := dk_42 (dk_at dksX7_blockBegins_5 5 rfl rfl)
theorem dX7_blockBegins_121 : decode cX7_blockBegins 121 = .ok (.getfield 25, 3) := dk_180 0 25 (dk_at dksX7_blockBegins_5 6 rfl rfl)
theorem dX7_blockBegins_124 : decode cX7_blockBegins 124 = .ok (.iconst 5, 1) := dk_8 (dk_at dksX7_blockBegins_5 9 rfl rfl)
theorem dX7_blockBegins_125 : decode cX7_blockBegins 125 = .ok (.iload_n 2, 1) := dk_28 (dk_at dksX7_blockBegins_5 10 rfl rfl)
theorem dX7_blockBegins_126 : decode cX7_blockBegins 126 = .ok (.iadd, 1) := dk_96 (dk_at dksX7_blockBegins_5 11 rfl rfl)
theorem dX7_blockBegins_127 : decode cX7_blockBegins 127 = .ok (.iaload, 1) := dk_46 (dk_at dksX7_blockBegins_5 12 rfl rfl)
theorem dX7_blockBegins_128 : decode cX7_blockBegins 128 = .ok (.iastore, 1) := dk_79 (dk_at dksX7_blockBegins_5 13 rfl rfl)
theorem dX7_blockBegins_129 : decode cX7_blockBegins 129 = .ok (.iinc 2 1, 3) := dk_132 2 1 (dk_at dksX7_blockBegins_5 14 rfl rfl)
theorem dX7_blockBegins_132 : decode cX7_blockBegins 132 = .ok (.goto (-27), 3) := dk_167 255 229 (dk_at dksX7_blockBegins_5 17 rfl rfl)
theorem dX7_blockBegins_135 : decode cX7_blockBegins 135 = .ok (.aload_n 0, 1) := dk_42 (dk_at dksX7_blockBegins_5 20 rfl rfl)
theorem dX7_blockBegins_136 : decode cX7_blockBegins 136 = .ok (.getfield 25, 3) := dk_180 0 25 (dk_at dksX7_blockBegins_5 21 rfl rfl)
theorem dX7_blockBegins_139 : decode cX7_blockBegins 139 = .ok (.iconst 3, 1) := dk_6 (dk_at dksX7_blockBegins_6 0 rfl rfl)
theorem dX7_blockBegins_140 : decode cX7_blockBegins 140 = .ok (.dup2, 1) := dk_92 (dk_at dksX7_blockBegins_6 1 rfl rfl)
theorem dX7_blockBegins_141 : decode cX7_blockBegins 141 = .ok (.iaload, 1) := dk_46 (dk_at dksX7_blockBegins_6 2 rfl rfl)
theorem dX7_blockBegins_142 : decode cX7_blockBegins 142 = .ok (.iconst 1, 1) := dk_4 (dk_at dksX7_blockBegins_6 3 rfl rfl)
theorem dX7_blockBegins_143 : decode cX7_blockBegins 143 = .ok (.iadd, 1) := dk_96 (dk_at dksX7_blockBegins_6 4 rfl rfl)
theorem dX7_blockBegins_144 : decode cX7_blockBegins 144 = .ok (.iastore, 1) := dk_79 (dk_at dksX7_blockBegins_6 5 rfl rfl)
theorem dX7_blockBegins_145 : decode cX7_blockBegins 145 = .ok (.return_, 1) := dk_177 (dk_at dksX7_blockBegins_6 6 rfl rfl)
abbrev cX7_block0 : ByteArray := prog_19_method_39_code
def yX7_block0 : MethodName := ⟨RX7, "block0", "(I)I"⟩
def dkwX7_block0_0 : List UInt8 := [16, 11, 16, 33, 26, 104, 96, 172]
abbrev dktX7_block0_0 : List UInt8 := dkwX7_block0_0 ++ []
theorem dksX7_block0_0 : cX7_block0.data.toList.drop 0 = dktX7_block0_0 := by decide +kernel
theorem dX7_block0_0 : decode cX7_block0 0 = .ok (.bipush 11, 2) := dk_16 11 (dk_at dksX7_block0_0 0 rfl rfl)
theorem dX7_block0_2 : decode cX7_block0 2 = .ok (.bipush 33, 2) := dk_16 33 (dk_at dksX7_block0_0 2 rfl rfl)
theorem dX7_block0_4 : decode cX7_block0 4 = .ok (.iload_n 0, 1) := dk_26 (dk_at dksX7_block0_0 4 rfl rfl)
theorem dX7_block0_5 : decode cX7_block0 5 = .ok (.imul, 1) := dk_104 (dk_at dksX7_block0_0 5 rfl rfl)
theorem dX7_block0_6 : decode cX7_block0 6 = .ok (.iadd, 1) := dk_96 (dk_at dksX7_block0_0 6 rfl rfl)
theorem dX7_block0_7 : decode cX7_block0 7 = .ok (.ireturn, 1) := dk_172 (dk_at dksX7_block0_0 7 rfl rfl)
abbrev cX7_type : ByteArray := prog_19_method_3_code
def yX7_type : MethodName := ⟨RX7, "type", "(I)I"⟩
def dkwX7_type_2 : List UInt8 := [180, 0, 99, 172]
abbrev dktX7_type_2 : List UInt8 := dkwX7_type_2 ++ []
def dkwX7_type_1 : List UInt8 := [16, 253, 172, 42, 180, 0, 38, 42, 180, 0, 99, 27, 79, 42, 89, 180, 0, 99, 4, 96, 181, 0, 99, 42]
abbrev dktX7_type_1 : List UInt8 := dkwX7_type_1 ++ dktX7_type_2
def dkwX7_type_0 : List UInt8 := [27, 3, 17, 0, 255, 184, 0, 95, 154, 0, 5, 2, 172, 42, 180, 0, 99, 17, 0, 160, 160, 0, 6]
abbrev dktX7_type_0 : List UInt8 := dkwX7_type_0 ++ dktX7_type_1
theorem dksX7_type_0 : cX7_type.data.toList.drop 0 = dktX7_type_0 := by decide +kernel
theorem dksX7_type_1 : cX7_type.data.toList.drop 23 = dktX7_type_1 := dk_seg dksX7_type_0 23 rfl rfl
theorem dksX7_type_2 : cX7_type.data.toList.drop 47 = dktX7_type_2 := dk_seg dksX7_type_1 24 rfl rfl
theorem dX7_type_0 : decode cX7_type 0 = .ok (.iload_n 1, 1) := dk_27 (dk_at dksX7_type_0 0 rfl rfl)
theorem dX7_type_1 : decode cX7_type 1 = .ok (.iconst 0, 1) := dk_3 (dk_at dksX7_type_0 1 rfl rfl)
theorem dX7_type_2 : decode cX7_type 2 = .ok (.sipush 255, 3) := dk_17 0 255 (dk_at dksX7_type_0 2 rfl rfl)
theorem dX7_type_5 : decode cX7_type 5 = .ok (.invokestatic 95, 3) := dk_184 0 95 (dk_at dksX7_type_0 5 rfl rfl)
theorem dX7_type_8 : decode cX7_type 8 = .ok (.ifCond .ne 5, 3) := dk_154 0 5 (dk_at dksX7_type_0 8 rfl rfl)
theorem dX7_type_11 : decode cX7_type 11 = .ok (.iconst (-1), 1) := dk_2 (dk_at dksX7_type_0 11 rfl rfl)
theorem dX7_type_12 : decode cX7_type 12 = .ok (.ireturn, 1) := dk_172 (dk_at dksX7_type_0 12 rfl rfl)
theorem dX7_type_13 : decode cX7_type 13 = .ok (.aload_n 0, 1) := dk_42 (dk_at dksX7_type_0 13 rfl rfl)
theorem dX7_type_14 : decode cX7_type 14 = .ok (.getfield 99, 3) := dk_180 0 99 (dk_at dksX7_type_0 14 rfl rfl)
theorem dX7_type_17 : decode cX7_type 17 = .ok (.sipush 160, 3) := dk_17 0 160 (dk_at dksX7_type_0 17 rfl rfl)
theorem dX7_type_20 : decode cX7_type 20 = .ok (.if_icmp .ne 6, 3) := dk_160 0 6 (dk_at dksX7_type_0 20 rfl rfl)
theorem dX7_type_23 : decode cX7_type 23 = .ok (.bipush (-3), 2) := dk_16 253 (dk_at dksX7_type_1 0 rfl rfl)
theorem dX7_type_25 : decode cX7_type 25 = .ok (.ireturn, 1) := dk_172 (dk_at dksX7_type_1 2 rfl rfl)
theorem dX7_type_26 : decode cX7_type 26 = .ok (.aload_n 0, 1) := dk_42 (dk_at dksX7_type_1 3 rfl rfl)
theorem dX7_type_27 : decode cX7_type 27 = .ok (.getfield 38, 3) := dk_180 0 38 (dk_at dksX7_type_1 4 rfl rfl)
theorem dX7_type_30 : decode cX7_type 30 = .ok (.aload_n 0, 1) := dk_42 (dk_at dksX7_type_1 7 rfl rfl)
theorem dX7_type_31 : decode cX7_type 31 = .ok (.getfield 99, 3) := dk_180 0 99 (dk_at dksX7_type_1 8 rfl rfl)
theorem dX7_type_34 : decode cX7_type 34 = .ok (.iload_n 1, 1) := dk_27 (dk_at dksX7_type_1 11 rfl rfl)
theorem dX7_type_35 : decode cX7_type 35 = .ok (.iastore, 1) := dk_79 (dk_at dksX7_type_1 12 rfl rfl)
theorem dX7_type_36 : decode cX7_type 36 = .ok (.aload_n 0, 1) := dk_42 (dk_at dksX7_type_1 13 rfl rfl)
theorem dX7_type_37 : decode cX7_type 37 = .ok (.dup, 1) := dk_89 (dk_at dksX7_type_1 14 rfl rfl)
theorem dX7_type_38 : decode cX7_type 38 = .ok (.getfield 99, 3) := dk_180 0 99 (dk_at dksX7_type_1 15 rfl rfl)
theorem dX7_type_41 : decode cX7_type 41 = .ok (.iconst 1, 1) := dk_4 (dk_at dksX7_type_1 18 rfl rfl)
theorem dX7_type_42 : decode cX7_type 42 = .ok (.iadd, 1) := dk_96 (dk_at dksX7_type_1 19 rfl rfl)
theorem dX7_type_43 : decode cX7_type 43 = .ok (.putfield 99, 3) := dk_181 0 99 (dk_at dksX7_type_1 20 rfl rfl)
theorem dX7_type_46 : decode cX7_type 46 = .ok (.aload_n 0, 1) := dk_42 (dk_at dksX7_type_1 23 rfl rfl)
theorem dX7_type_47 : decode cX7_type 47 = .ok (.getfield 99, 3) := dk_180 0 99 (dk_at dksX7_type_2 0 rfl rfl)
theorem dX7_type_50 : decode cX7_type 50 = .ok (.ireturn, 1) := dk_172 (dk_at dksX7_type_2 3 rfl rfl)
abbrev cX7_in : ByteArray := prog_19_method_2_code
def yX7_in : MethodName := ⟨RX7, "in", "(III)Z"⟩
def dkwX7_in_0 : List UInt8 := [26, 27, 161, 0, 12, 26, 28, 163, 0, 7, 4, 167, 0, 4, 3, 172]
abbrev dktX7_in_0 : List UInt8 := dkwX7_in_0 ++ []
theorem dksX7_in_0 : cX7_in.data.toList.drop 0 = dktX7_in_0 := by decide +kernel
theorem dX7_in_0 : decode cX7_in 0 = .ok (.iload_n 0, 1) := dk_26 (dk_at dksX7_in_0 0 rfl rfl)
theorem dX7_in_1 : decode cX7_in 1 = .ok (.iload_n 1, 1) := dk_27 (dk_at dksX7_in_0 1 rfl rfl)
theorem dX7_in_2 : decode cX7_in 2 = .ok (.if_icmp .lt 12, 3) := dk_161 0 12 (dk_at dksX7_in_0 2 rfl rfl)
theorem dX7_in_5 : decode cX7_in 5 = .ok (.iload_n 0, 1) := dk_26 (dk_at dksX7_in_0 5 rfl rfl)
theorem dX7_in_6 : decode cX7_in 6 = .ok (.iload_n 2, 1) := dk_28 (dk_at dksX7_in_0 6 rfl rfl)
theorem dX7_in_7 : decode cX7_in 7 = .ok (.if_icmp .gt 7, 3) := dk_163 0 7 (dk_at dksX7_in_0 7 rfl rfl)
theorem dX7_in_10 : decode cX7_in 10 = .ok (.iconst 1, 1) := dk_4 (dk_at dksX7_in_0 10 rfl rfl)
theorem dX7_in_11 : decode cX7_in 11 = .ok (.goto 4, 3) := dk_167 0 4 (dk_at dksX7_in_0 11 rfl rfl)
theorem dX7_in_14 : decode cX7_in 14 = .ok (.iconst 0, 1) := dk_3 (dk_at dksX7_in_0 14 rfl rfl)
theorem dX7_in_15 : decode cX7_in 15 = .ok (.ireturn, 1) := dk_172 (dk_at dksX7_in_0 15 rfl rfl)
abbrev cX7_clear : ByteArray := prog_19_method_4_code
def yX7_clear : MethodName := ⟨RX7, "clear", "()I"⟩
def dkwX7_clear_0 : List UInt8 := [42, 180, 0, 99, 60, 42, 3, 181, 0, 99, 27, 172]
abbrev dktX7_clear_0 : List UInt8 := dkwX7_clear_0 ++ []
theorem dksX7_clear_0 : cX7_clear.data.toList.drop 0 = dktX7_clear_0 := by decide +kernel
theorem dX7_clear_0 : decode cX7_clear 0 = .ok (.aload_n 0, 1) := dk_42 (dk_at dksX7_clear_0 0 rfl rfl)
theorem dX7_clear_1 : decode cX7_clear 1 = .ok (.getfield 99, 3) := dk_180 0 99 (dk_at dksX7_clear_0 1 rfl rfl)
theorem dX7_clear_4 : decode cX7_clear 4 = .ok (.istore_n 1, 1) := dk_60 (dk_at dksX7_clear_0 4 rfl rfl)
theorem dX7_clear_5 : decode cX7_clear 5 = .ok (.aload_n 0, 1) := dk_42 (dk_at dksX7_clear_0 5 rfl rfl)
theorem dX7_clear_6 : decode cX7_clear 6 = .ok (.iconst 0, 1) := dk_3 (dk_at dksX7_clear_0 6 rfl rfl)
theorem dX7_clear_7 : decode cX7_clear 7 = .ok (.putfield 99, 3) := dk_181 0 99 (dk_at dksX7_clear_0 7 rfl rfl)
theorem dX7_clear_10 : decode cX7_clear 10 = .ok (.iload_n 1, 1) := dk_27 (dk_at dksX7_clear_0 10 rfl rfl)
theorem dX7_clear_11 : decode cX7_clear 11 = .ok (.ireturn, 1) := dk_172 (dk_at dksX7_clear_0 11 rfl rfl)
abbrev cX7_tells : ByteArray := prog_19_method_24_code
def yX7_tells : MethodName := ⟨RX7, "tells", "()I"⟩
def dkwX7_tells_4 : List UInt8 := [182, 0, 209, 42, 182, 0, 92, 42, 3, 181, 0, 99, 27, 172]
abbrev dktX7_tells_4 : List UInt8 := dkwX7_tells_4 ++ []
def dkwX7_tells_3 : List UInt8 := [132, 1, 1, 167, 255, 232, 42, 180, 0, 122, 16, 247, 159, 0, 11, 16, 246, 42, 180, 0, 122, 100, 172, 42]
abbrev dktX7_tells_3 : List UInt8 := dkwX7_tells_3 ++ dktX7_tells_4
def dkwX7_tells_2 : List UInt8 := [182, 0, 129, 42, 180, 0, 122, 16, 247, 160, 0, 21, 42, 180, 0, 109, 7, 159, 0, 13, 42, 182, 0, 206]
abbrev dktX7_tells_2 : List UInt8 := dkwX7_tells_2 ++ dktX7_tells_3
def dkwX7_tells_1 : List UInt8 := [181, 0, 157, 42, 3, 181, 0, 135, 42, 16, 247, 181, 0, 144, 42, 3, 181, 0, 138, 3, 60, 42]
abbrev dktX7_tells_1 : List UInt8 := dkwX7_tells_1 ++ dktX7_tells_2
def dkwX7_tells_0 : List UInt8 := [42, 3, 181, 0, 103, 42, 16, 247, 181, 0, 122, 42, 3, 181, 0, 132, 42, 3, 181, 0, 191, 42, 3]
abbrev dktX7_tells_0 : List UInt8 := dkwX7_tells_0 ++ dktX7_tells_1
theorem dksX7_tells_0 : cX7_tells.data.toList.drop 0 = dktX7_tells_0 := by decide +kernel
theorem dksX7_tells_1 : cX7_tells.data.toList.drop 23 = dktX7_tells_1 := dk_seg dksX7_tells_0 23 rfl rfl
theorem dksX7_tells_2 : cX7_tells.data.toList.drop 45 = dktX7_tells_2 := dk_seg dksX7_tells_1 22 rfl rfl
theorem dksX7_tells_3 : cX7_tells.data.toList.drop 69 = dktX7_tells_3 := dk_seg dksX7_tells_2 24 rfl rfl
theorem dksX7_tells_4 : cX7_tells.data.toList.drop 93 = dktX7_tells_4 := dk_seg dksX7_tells_3 24 rfl rfl
theorem dX7_tells_0 : decode cX7_tells 0 = .ok (.aload_n 0, 1) := dk_42 (dk_at dksX7_tells_0 0 rfl rfl)
theorem dX7_tells_1 : decode cX7_tells 1 = .ok (.iconst 0, 1) := dk_3 (dk_at dksX7_tells_0 1 rfl rfl)
theorem dX7_tells_2 : decode cX7_tells 2 = .ok (.putfield 103, 3) := dk_181 0 103 (dk_at dksX7_tells_0 2 rfl rfl)
theorem dX7_tells_5 : decode cX7_tells 5 = .ok (.aload_n 0, 1) := dk_42 (dk_at dksX7_tells_0 5 rfl rfl)
theorem dX7_tells_6 : decode cX7_tells 6 = .ok (.bipush (-9), 2) := dk_16 247 (dk_at dksX7_tells_0 6 rfl rfl)
theorem dX7_tells_8 : decode cX7_tells 8 = .ok (.putfield 122, 3) := dk_181 0 122 (dk_at dksX7_tells_0 8 rfl rfl)
theorem dX7_tells_11 : decode cX7_tells 11 = .ok (.aload_n 0, 1) := dk_42 (dk_at dksX7_tells_0 11 rfl rfl)
theorem dX7_tells_12 : decode cX7_tells 12 = .ok (.iconst 0, 1) := dk_3 (dk_at dksX7_tells_0 12 rfl rfl)
theorem dX7_tells_13 : decode cX7_tells 13 = .ok (.putfield 132, 3) := dk_181 0 132 (dk_at dksX7_tells_0 13 rfl rfl)
theorem dX7_tells_16 : decode cX7_tells 16 = .ok (.aload_n 0, 1) := dk_42 (dk_at dksX7_tells_0 16 rfl rfl)
theorem dX7_tells_17 : decode cX7_tells 17 = .ok (.iconst 0, 1) := dk_3 (dk_at dksX7_tells_0 17 rfl rfl)
theorem dX7_tells_18 : decode cX7_tells 18 = .ok (.putfield 191, 3) := dk_181 0 191 (dk_at dksX7_tells_0 18 rfl rfl)
theorem dX7_tells_21 : decode cX7_tells 21 = .ok (.aload_n 0, 1) := dk_42 (dk_at dksX7_tells_0 21 rfl rfl)
theorem dX7_tells_22 : decode cX7_tells 22 = .ok (.iconst 0, 1) := dk_3 (dk_at dksX7_tells_0 22 rfl rfl)
theorem dX7_tells_23 : decode cX7_tells 23 = .ok (.putfield 157, 3) := dk_181 0 157 (dk_at dksX7_tells_1 0 rfl rfl)
theorem dX7_tells_26 : decode cX7_tells 26 = .ok (.aload_n 0, 1) := dk_42 (dk_at dksX7_tells_1 3 rfl rfl)
theorem dX7_tells_27 : decode cX7_tells 27 = .ok (.iconst 0, 1) := dk_3 (dk_at dksX7_tells_1 4 rfl rfl)
theorem dX7_tells_28 : decode cX7_tells 28 = .ok (.putfield 135, 3) := dk_181 0 135 (dk_at dksX7_tells_1 5 rfl rfl)
theorem dX7_tells_31 : decode cX7_tells 31 = .ok (.aload_n 0, 1) := dk_42 (dk_at dksX7_tells_1 8 rfl rfl)
theorem dX7_tells_32 : decode cX7_tells 32 = .ok (.bipush (-9), 2) := dk_16 247 (dk_at dksX7_tells_1 9 rfl rfl)
theorem dX7_tells_34 : decode cX7_tells 34 = .ok (.putfield 144, 3) := dk_181 0 144 (dk_at dksX7_tells_1 11 rfl rfl)
theorem dX7_tells_37 : decode cX7_tells 37 = .ok (.aload_n 0, 1) := dk_42 (dk_at dksX7_tells_1 14 rfl rfl)
theorem dX7_tells_38 : decode cX7_tells 38 = .ok (.iconst 0, 1) := dk_3 (dk_at dksX7_tells_1 15 rfl rfl)
theorem dX7_tells_39 : decode cX7_tells 39 = .ok (.putfield 138, 3) := dk_181 0 138 (dk_at dksX7_tells_1 16 rfl rfl)
theorem dX7_tells_42 : decode cX7_tells 42 = .ok (.iconst 0, 1) := dk_3 (dk_at dksX7_tells_1 19 rfl rfl)
theorem dX7_tells_43 : decode cX7_tells 43 = .ok (.istore_n 1, 1) := dk_60 (dk_at dksX7_tells_1 20 rfl rfl)
theorem dX7_tells_44 : decode cX7_tells 44 = .ok (.aload_n 0, 1) := dk_42 (dk_at dksX7_tells_1 21 rfl rfl)
theorem dX7_tells_45 : decode cX7_tells 45 = .ok (.invokevirtual 129, 3) := dk_182 0 129 (dk_at dksX7_tells_2 0 rfl rfl)
theorem dX7_tells_48 : decode cX7_tells 48 = .ok (.aload_n 0, 1) := dk_42 (dk_at dksX7_tells_2 3 rfl rfl)
theorem dX7_tells_49 : decode cX7_tells 49 = .ok (.getfield 122, 3) := dk_180 0 122 (dk_at dksX7_tells_2 4 rfl rfl)
theorem dX7_tells_52 : decode cX7_tells 52 = .ok (.bipush (-9), 2) := dk_16 247 (dk_at dksX7_tells_2 7 rfl rfl)
theorem dX7_tells_54 : decode cX7_tells 54 = .ok (.if_icmp .ne 21, 3) := dk_160 0 21 (dk_at dksX7_tells_2 9 rfl rfl)
theorem dX7_tells_57 : decode cX7_tells 57 = .ok (.aload_n 0, 1) := dk_42 (dk_at dksX7_tells_2 12 rfl rfl)
theorem dX7_tells_58 : decode cX7_tells 58 = .ok (.getfield 109, 3) := dk_180 0 109 (dk_at dksX7_tells_2 13 rfl rfl)
theorem dX7_tells_61 : decode cX7_tells 61 = .ok (.iconst 4, 1) := dk_7 (dk_at dksX7_tells_2 16 rfl rfl)
theorem dX7_tells_62 : decode cX7_tells 62 = .ok (.if_icmp .eq 13, 3) := dk_159 0 13 (dk_at dksX7_tells_2 17 rfl rfl)
theorem dX7_tells_65 : decode cX7_tells 65 = .ok (.aload_n 0, 1) := dk_42 (dk_at dksX7_tells_2 20 rfl rfl)
theorem dX7_tells_66 : decode cX7_tells 66 = .ok (.invokevirtual 206, 3) := dk_182 0 206 (dk_at dksX7_tells_2 21 rfl rfl)
theorem dX7_tells_69 : decode cX7_tells 69 = .ok (.iinc 1 1, 3) := dk_132 1 1 (dk_at dksX7_tells_3 0 rfl rfl)
theorem dX7_tells_72 : decode cX7_tells 72 = .ok (.goto (-24), 3) := dk_167 255 232 (dk_at dksX7_tells_3 3 rfl rfl)
theorem dX7_tells_75 : decode cX7_tells 75 = .ok (.aload_n 0, 1) := dk_42 (dk_at dksX7_tells_3 6 rfl rfl)
theorem dX7_tells_76 : decode cX7_tells 76 = .ok (.getfield 122, 3) := dk_180 0 122 (dk_at dksX7_tells_3 7 rfl rfl)
theorem dX7_tells_79 : decode cX7_tells 79 = .ok (.bipush (-9), 2) := dk_16 247 (dk_at dksX7_tells_3 10 rfl rfl)
theorem dX7_tells_81 : decode cX7_tells 81 = .ok (.if_icmp .eq 11, 3) := dk_159 0 11 (dk_at dksX7_tells_3 12 rfl rfl)
theorem dX7_tells_84 : decode cX7_tells 84 = .ok (.bipush (-10), 2) := dk_16 246 (dk_at dksX7_tells_3 15 rfl rfl)
theorem dX7_tells_86 : decode cX7_tells 86 = .ok (.aload_n 0, 1) := dk_42 (dk_at dksX7_tells_3 17 rfl rfl)
theorem dX7_tells_87 : decode cX7_tells 87 = .ok (.getfield 122, 3) := dk_180 0 122 (dk_at dksX7_tells_3 18 rfl rfl)
theorem dX7_tells_90 : decode cX7_tells 90 = .ok (.isub, 1) := dk_100 (dk_at dksX7_tells_3 21 rfl rfl)
theorem dX7_tells_91 : decode cX7_tells 91 = .ok (.ireturn, 1) := dk_172 (dk_at dksX7_tells_3 22 rfl rfl)
theorem dX7_tells_92 : decode cX7_tells 92 = .ok (.aload_n 0, 1) := dk_42 (dk_at dksX7_tells_3 23 rfl rfl)
theorem dX7_tells_93 : decode cX7_tells 93 = .ok (.invokevirtual 209, 3) := dk_182 0 209 (dk_at dksX7_tells_4 0 rfl rfl)
theorem dX7_tells_96 : decode cX7_tells 96 = .ok (.aload_n 0, 1) := dk_42 (dk_at dksX7_tells_4 3 rfl rfl)
theorem dX7_tells_97 : decode cX7_tells 97 = .ok (.invokevirtual 92, 3) := dk_182 0 92 (dk_at dksX7_tells_4 4 rfl rfl)
theorem dX7_tells_100 : decode cX7_tells 100 = .ok (.aload_n 0, 1) := dk_42 (dk_at dksX7_tells_4 7 rfl rfl)
theorem dX7_tells_101 : decode cX7_tells 101 = .ok (.iconst 0, 1) := dk_3 (dk_at dksX7_tells_4 8 rfl rfl)
theorem dX7_tells_102 : decode cX7_tells 102 = .ok (.putfield 99, 3) := dk_181 0 99 (dk_at dksX7_tells_4 9 rfl rfl)
theorem dX7_tells_105 : decode cX7_tells 105 = .ok (.iload_n 1, 1) := dk_27 (dk_at dksX7_tells_4 12 rfl rfl)
theorem dX7_tells_106 : decode cX7_tells 106 = .ok (.ireturn, 1) := dk_172 (dk_at dksX7_tells_4 13 rfl rfl)
abbrev cX7_next : ByteArray := prog_19_method_7_code
def yX7_next : MethodName := ⟨RX7, "next", "()V"⟩
def dkwX7_next_11 : List UInt8 := [181, 0, 109, 177]
abbrev dktX7_next_11 : List UInt8 := dkwX7_next_11 ++ []
def dkwX7_next_10 : List UInt8 := [184, 0, 95, 153, 0, 7, 4, 167, 0, 15, 27, 184, 0, 119, 153, 0, 7, 6, 167, 0, 4, 8]
abbrev dktX7_next_10 : List UInt8 := dkwX7_next_10 ++ dktX7_next_11
def dkwX7_next_9 : List UInt8 := [184, 0, 95, 153, 0, 10, 27, 16, 97, 100, 167, 0, 4, 27, 181, 0, 116, 42, 27, 16, 97, 16, 122]
abbrev dktX7_next_9 : List UInt8 := dkwX7_next_9 ++ dktX7_next_10
def dkwX7_next_8 : List UInt8 := [167, 0, 4, 5, 181, 0, 109, 177, 42, 89, 180, 0, 103, 4, 96, 181, 0, 103, 42, 27, 16, 97, 16, 122]
abbrev dktX7_next_8 : List UInt8 := dkwX7_next_8 ++ dktX7_next_9
def dkwX7_next_7 : List UInt8 := [163, 0, 22, 27, 16, 48, 160, 0, 20, 42, 180, 0, 103, 42, 180, 0, 106, 4, 96, 164, 0, 7, 8]
abbrev dktX7_next_7 : List UInt8 := dkwX7_next_7 ++ dktX7_next_8
def dkwX7_next_6 : List UInt8 := [181, 0, 116, 42, 89, 180, 0, 103, 4, 96, 181, 0, 103, 167, 255, 195, 42, 42, 180, 0, 116, 17, 0, 255]
abbrev dktX7_next_6 : List UInt8 := dkwX7_next_6 ++ dktX7_next_7
def dkwX7_next_5 : List UInt8 := [167, 0, 23, 16, 10, 42, 180, 0, 116, 104, 42, 180, 0, 38, 42, 180, 0, 103, 46, 96, 16, 48, 100]
abbrev dktX7_next_5 : List UInt8 := dkwX7_next_5 ++ dktX7_next_6
def dkwX7_next_4 : List UInt8 := [180, 0, 103, 182, 0, 112, 153, 0, 56, 42, 42, 180, 0, 116, 17, 0, 255, 164, 0, 9, 17, 1, 0]
abbrev dktX7_next_4 : List UInt8 := dkwX7_next_4 ++ dktX7_next_5
def dkwX7_next_3 : List UInt8 := [180, 0, 103, 46, 60, 42, 42, 180, 0, 103, 182, 0, 112, 153, 0, 111, 42, 3, 181, 0, 116, 42, 42]
abbrev dktX7_next_3 : List UInt8 := dkwX7_next_3 ++ dktX7_next_4
def dkwX7_next_2 : List UInt8 := [42, 180, 0, 103, 42, 180, 0, 99, 160, 0, 9, 42, 7, 181, 0, 109, 177, 42, 180, 0, 38, 42]
abbrev dktX7_next_2 : List UInt8 := dkwX7_next_2 ++ dktX7_next_3
def dkwX7_next_1 : List UInt8 := [160, 0, 16, 42, 89, 180, 0, 103, 4, 96, 181, 0, 103, 167, 255, 221, 42, 42, 180, 0, 103, 181, 0, 106]
abbrev dktX7_next_1 : List UInt8 := dkwX7_next_1 ++ dktX7_next_2
def dkwX7_next_0 : List UInt8 := [42, 180, 0, 103, 42, 180, 0, 99, 162, 0, 30, 42, 180, 0, 38, 42, 180, 0, 103, 46, 16, 32]
abbrev dktX7_next_0 : List UInt8 := dkwX7_next_0 ++ dktX7_next_1
theorem dksX7_next_0 : cX7_next.data.toList.drop 0 = dktX7_next_0 := by decide +kernel
theorem dksX7_next_1 : cX7_next.data.toList.drop 22 = dktX7_next_1 := dk_seg dksX7_next_0 22 rfl rfl
theorem dksX7_next_2 : cX7_next.data.toList.drop 46 = dktX7_next_2 := dk_seg dksX7_next_1 24 rfl rfl
theorem dksX7_next_3 : cX7_next.data.toList.drop 68 = dktX7_next_3 := dk_seg dksX7_next_2 22 rfl rfl
theorem dksX7_next_4 : cX7_next.data.toList.drop 91 = dktX7_next_4 := dk_seg dksX7_next_3 23 rfl rfl
theorem dksX7_next_5 : cX7_next.data.toList.drop 114 = dktX7_next_5 := dk_seg dksX7_next_4 23 rfl rfl
theorem dksX7_next_6 : cX7_next.data.toList.drop 137 = dktX7_next_6 := dk_seg dksX7_next_5 23 rfl rfl
theorem dksX7_next_7 : cX7_next.data.toList.drop 161 = dktX7_next_7 := dk_seg dksX7_next_6 24 rfl rfl
theorem dksX7_next_8 : cX7_next.data.toList.drop 184 = dktX7_next_8 := dk_seg dksX7_next_7 23 rfl rfl
theorem dksX7_next_9 : cX7_next.data.toList.drop 208 = dktX7_next_9 := dk_seg dksX7_next_8 24 rfl rfl
theorem dksX7_next_10 : cX7_next.data.toList.drop 231 = dktX7_next_10 := dk_seg dksX7_next_9 23 rfl rfl
theorem dksX7_next_11 : cX7_next.data.toList.drop 253 = dktX7_next_11 := dk_seg dksX7_next_10 22 rfl rfl
theorem dX7_next_0 : decode cX7_next 0 = .ok (.aload_n 0, 1) := dk_42 (dk_at dksX7_next_0 0 rfl rfl)
theorem dX7_next_1 : decode cX7_next 1 = .ok (.getfield 103, 3) := dk_180 0 103 (dk_at dksX7_next_0 1 rfl rfl)
theorem dX7_next_4 : decode cX7_next 4 = .ok (.aload_n 0, 1) := dk_42 (dk_at dksX7_next_0 4 rfl rfl)
theorem dX7_next_5 : decode cX7_next 5 = .ok (.getfield 99, 3) := dk_180 0 99 (dk_at dksX7_next_0 5 rfl rfl)
theorem dX7_next_8 : decode cX7_next 8 = .ok (.if_icmp .ge 30, 3) := dk_162 0 30 (dk_at dksX7_next_0 8 rfl rfl)
theorem dX7_next_11 : decode cX7_next 11 = .ok (.aload_n 0, 1) := dk_42 (dk_at dksX7_next_0 11 rfl rfl)
theorem dX7_next_12 : decode cX7_next 12 = .ok (.getfield 38, 3) := dk_180 0 38 (dk_at dksX7_next_0 12 rfl rfl)
theorem dX7_next_15 : decode cX7_next 15 = .ok (.aload_n 0, 1) := dk_42 (dk_at dksX7_next_0 15 rfl rfl)
theorem dX7_next_16 : decode cX7_next 16 = .ok (.getfield 103, 3) := dk_180 0 103 (dk_at dksX7_next_0 16 rfl rfl)
theorem dX7_next_19 : decode cX7_next 19 = .ok (.iaload, 1) := dk_46 (dk_at dksX7_next_0 19 rfl rfl)
theorem dX7_next_20 : decode cX7_next 20 = .ok (.bipush 32, 2) := dk_16 32 (dk_at dksX7_next_0 20 rfl rfl)
theorem dX7_next_22 : decode cX7_next 22 = .ok (.if_icmp .ne 16, 3) := dk_160 0 16 (dk_at dksX7_next_1 0 rfl rfl)
theorem dX7_next_25 : decode cX7_next 25 = .ok (.aload_n 0, 1) := dk_42 (dk_at dksX7_next_1 3 rfl rfl)
theorem dX7_next_26 : decode cX7_next 26 = .ok (.dup, 1) := dk_89 (dk_at dksX7_next_1 4 rfl rfl)
theorem dX7_next_27 : decode cX7_next 27 = .ok (.getfield 103, 3) := dk_180 0 103 (dk_at dksX7_next_1 5 rfl rfl)
theorem dX7_next_30 : decode cX7_next 30 = .ok (.iconst 1, 1) := dk_4 (dk_at dksX7_next_1 8 rfl rfl)
theorem dX7_next_31 : decode cX7_next 31 = .ok (.iadd, 1) := dk_96 (dk_at dksX7_next_1 9 rfl rfl)
theorem dX7_next_32 : decode cX7_next 32 = .ok (.putfield 103, 3) := dk_181 0 103 (dk_at dksX7_next_1 10 rfl rfl)
theorem dX7_next_35 : decode cX7_next 35 = .ok (.goto (-35), 3) := dk_167 255 221 (dk_at dksX7_next_1 13 rfl rfl)
theorem dX7_next_38 : decode cX7_next 38 = .ok (.aload_n 0, 1) := dk_42 (dk_at dksX7_next_1 16 rfl rfl)
theorem dX7_next_39 : decode cX7_next 39 = .ok (.aload_n 0, 1) := dk_42 (dk_at dksX7_next_1 17 rfl rfl)
theorem dX7_next_40 : decode cX7_next 40 = .ok (.getfield 103, 3) := dk_180 0 103 (dk_at dksX7_next_1 18 rfl rfl)
theorem dX7_next_43 : decode cX7_next 43 = .ok (.putfield 106, 3) := dk_181 0 106 (dk_at dksX7_next_1 21 rfl rfl)
theorem dX7_next_46 : decode cX7_next 46 = .ok (.aload_n 0, 1) := dk_42 (dk_at dksX7_next_2 0 rfl rfl)
theorem dX7_next_47 : decode cX7_next 47 = .ok (.getfield 103, 3) := dk_180 0 103 (dk_at dksX7_next_2 1 rfl rfl)
theorem dX7_next_50 : decode cX7_next 50 = .ok (.aload_n 0, 1) := dk_42 (dk_at dksX7_next_2 4 rfl rfl)
theorem dX7_next_51 : decode cX7_next 51 = .ok (.getfield 99, 3) := dk_180 0 99 (dk_at dksX7_next_2 5 rfl rfl)
theorem dX7_next_54 : decode cX7_next 54 = .ok (.if_icmp .ne 9, 3) := dk_160 0 9 (dk_at dksX7_next_2 8 rfl rfl)
theorem dX7_next_57 : decode cX7_next 57 = .ok (.aload_n 0, 1) := dk_42 (dk_at dksX7_next_2 11 rfl rfl)
theorem dX7_next_58 : decode cX7_next 58 = .ok (.iconst 4, 1) := dk_7 (dk_at dksX7_next_2 12 rfl rfl)
theorem dX7_next_59 : decode cX7_next 59 = .ok (.putfield 109, 3) := dk_181 0 109 (dk_at dksX7_next_2 13 rfl rfl)
theorem dX7_next_62 : decode cX7_next 62 = .ok (.return_, 1) := dk_177 (dk_at dksX7_next_2 16 rfl rfl)
theorem dX7_next_63 : decode cX7_next 63 = .ok (.aload_n 0, 1) := dk_42 (dk_at dksX7_next_2 17 rfl rfl)
theorem dX7_next_64 : decode cX7_next 64 = .ok (.getfield 38, 3) := dk_180 0 38 (dk_at dksX7_next_2 18 rfl rfl)
theorem dX7_next_67 : decode cX7_next 67 = .ok (.aload_n 0, 1) := dk_42 (dk_at dksX7_next_2 21 rfl rfl)
theorem dX7_next_68 : decode cX7_next 68 = .ok (.getfield 103, 3) := dk_180 0 103 (dk_at dksX7_next_3 0 rfl rfl)
theorem dX7_next_71 : decode cX7_next 71 = .ok (.iaload, 1) := dk_46 (dk_at dksX7_next_3 3 rfl rfl)
theorem dX7_next_72 : decode cX7_next 72 = .ok (.istore_n 1, 1) := dk_60 (dk_at dksX7_next_3 4 rfl rfl)
theorem dX7_next_73 : decode cX7_next 73 = .ok (.aload_n 0, 1) := dk_42 (dk_at dksX7_next_3 5 rfl rfl)
theorem dX7_next_74 : decode cX7_next 74 = .ok (.aload_n 0, 1) := dk_42 (dk_at dksX7_next_3 6 rfl rfl)
theorem dX7_next_75 : decode cX7_next 75 = .ok (.getfield 103, 3) := dk_180 0 103 (dk_at dksX7_next_3 7 rfl rfl)
theorem dX7_next_78 : decode cX7_next 78 = .ok (.invokevirtual 112, 3) := dk_182 0 112 (dk_at dksX7_next_3 10 rfl rfl)
theorem dX7_next_81 : decode cX7_next 81 = .ok (.ifCond .eq 111, 3) := dk_153 0 111 (dk_at dksX7_next_3 13 rfl rfl)
theorem dX7_next_84 : decode cX7_next 84 = .ok (.aload_n 0, 1) := dk_42 (dk_at dksX7_next_3 16 rfl rfl)
theorem dX7_next_85 : decode cX7_next 85 = .ok (.iconst 0, 1) := dk_3 (dk_at dksX7_next_3 17 rfl rfl)
theorem dX7_next_86 : decode cX7_next 86 = .ok (.putfield 116, 3) := dk_181 0 116 (dk_at dksX7_next_3 18 rfl rfl)
theorem dX7_next_89 : decode cX7_next 89 = .ok (.aload_n 0, 1) := dk_42 (dk_at dksX7_next_3 21 rfl rfl)
theorem dX7_next_90 : decode cX7_next 90 = .ok (.aload_n 0, 1) := dk_42 (dk_at dksX7_next_3 22 rfl rfl)
theorem dX7_next_91 : decode cX7_next 91 = .ok (.getfield 103, 3) := dk_180 0 103 (dk_at dksX7_next_4 0 rfl rfl)
theorem dX7_next_94 : decode cX7_next 94 = .ok (.invokevirtual 112, 3) := dk_182 0 112 (dk_at dksX7_next_4 3 rfl rfl)
theorem dX7_next_97 : decode cX7_next 97 = .ok (.ifCond .eq 56, 3) := dk_153 0 56 (dk_at dksX7_next_4 6 rfl rfl)
theorem dX7_next_100 : decode cX7_next 100 = .ok (.aload_n 0, 1) := dk_42 (dk_at dksX7_next_4 9 rfl rfl)
theorem dX7_next_101 : decode cX7_next 101 = .ok (.aload_n 0, 1) := dk_42 (dk_at dksX7_next_4 10 rfl rfl)
theorem dX7_next_102 : decode cX7_next 102 = .ok (.getfield 116, 3) := dk_180 0 116 (dk_at dksX7_next_4 11 rfl rfl)
theorem dX7_next_105 : decode cX7_next 105 = .ok (.sipush 255, 3) := dk_17 0 255 (dk_at dksX7_next_4 14 rfl rfl)
theorem dX7_next_108 : decode cX7_next 108 = .ok (.if_icmp .le 9, 3) := dk_164 0 9 (dk_at dksX7_next_4 17 rfl rfl)
theorem dX7_next_111 : decode cX7_next 111 = .ok (.sipush 256, 3) := dk_17 1 0 (dk_at dksX7_next_4 20 rfl rfl)
theorem dX7_next_114 : decode cX7_next 114 = .ok (.goto 23, 3) := dk_167 0 23 (dk_at dksX7_next_5 0 rfl rfl)
theorem dX7_next_117 : decode cX7_next 117 = .ok (.bipush 10, 2) := dk_16 10 (dk_at dksX7_next_5 3 rfl rfl)
theorem dX7_next_119 : decode cX7_next 119 = .ok (.aload_n 0, 1) := dk_42 (dk_at dksX7_next_5 5 rfl rfl)
theorem dX7_next_120 : decode cX7_next 120 = .ok (.getfield 116, 3) := dk_180 0 116 (dk_at dksX7_next_5 6 rfl rfl)
theorem dX7_next_123 : decode cX7_next 123 = .ok (.imul, 1) := dk_104 (dk_at dksX7_next_5 9 rfl rfl)
theorem dX7_next_124 : decode cX7_next 124 = .ok (.aload_n 0, 1) := dk_42 (dk_at dksX7_next_5 10 rfl rfl)
theorem dX7_next_125 : decode cX7_next 125 = .ok (.getfield 38, 3) := dk_180 0 38 (dk_at dksX7_next_5 11 rfl rfl)
theorem dX7_next_128 : decode cX7_next 128 = .ok (.aload_n 0, 1) := dk_42 (dk_at dksX7_next_5 14 rfl rfl)
theorem dX7_next_129 : decode cX7_next 129 = .ok (.getfield 103, 3) := dk_180 0 103 (dk_at dksX7_next_5 15 rfl rfl)
theorem dX7_next_132 : decode cX7_next 132 = .ok (.iaload, 1) := dk_46 (dk_at dksX7_next_5 18 rfl rfl)
theorem dX7_next_133 : decode cX7_next 133 = .ok (.iadd, 1) := dk_96 (dk_at dksX7_next_5 19 rfl rfl)
theorem dX7_next_134 : decode cX7_next 134 = .ok (.bipush 48, 2) := dk_16 48 (dk_at dksX7_next_5 20 rfl rfl)
theorem dX7_next_136 : decode cX7_next 136 = .ok (.isub, 1) := dk_100 (dk_at dksX7_next_5 22 rfl rfl)
theorem dX7_next_137 : decode cX7_next 137 = .ok (.putfield 116, 3) := dk_181 0 116 (dk_at dksX7_next_6 0 rfl rfl)
theorem dX7_next_140 : decode cX7_next 140 = .ok (.aload_n 0, 1) := dk_42 (dk_at dksX7_next_6 3 rfl rfl)
theorem dX7_next_141 : decode cX7_next 141 = .ok (.dup, 1) := dk_89 (dk_at dksX7_next_6 4 rfl rfl)
theorem dX7_next_142 : decode cX7_next 142 = .ok (.getfield 103, 3) := dk_180 0 103 (dk_at dksX7_next_6 5 rfl rfl)
theorem dX7_next_145 : decode cX7_next 145 = .ok (.iconst 1, 1) := dk_4 (dk_at dksX7_next_6 8 rfl rfl)
theorem dX7_next_146 : decode cX7_next 146 = .ok (.iadd, 1) := dk_96 (dk_at dksX7_next_6 9 rfl rfl)
theorem dX7_next_147 : decode cX7_next 147 = .ok (.putfield 103, 3) := dk_181 0 103 (dk_at dksX7_next_6 10 rfl rfl)
theorem dX7_next_150 : decode cX7_next 150 = .ok (.goto (-61), 3) := dk_167 255 195 (dk_at dksX7_next_6 13 rfl rfl)
theorem dX7_next_153 : decode cX7_next 153 = .ok (.aload_n 0, 1) := dk_42 (dk_at dksX7_next_6 16 rfl rfl)
theorem dX7_next_154 : decode cX7_next 154 = .ok (.aload_n 0, 1) := dk_42 (dk_at dksX7_next_6 17 rfl rfl)
theorem dX7_next_155 : decode cX7_next 155 = .ok (.getfield 116, 3) := dk_180 0 116 (dk_at dksX7_next_6 18 rfl rfl)
theorem dX7_next_158 : decode cX7_next 158 = .ok (.sipush 255, 3) := dk_17 0 255 (dk_at dksX7_next_6 21 rfl rfl)
theorem dX7_next_161 : decode cX7_next 161 = .ok (.if_icmp .gt 22, 3) := dk_163 0 22 (dk_at dksX7_next_7 0 rfl rfl)
theorem dX7_next_164 : decode cX7_next 164 = .ok (.iload_n 1, 1) := dk_27 (dk_at dksX7_next_7 3 rfl rfl)
theorem dX7_next_165 : decode cX7_next 165 = .ok (.bipush 48, 2) := dk_16 48 (dk_at dksX7_next_7 4 rfl rfl)
theorem dX7_next_167 : decode cX7_next 167 = .ok (.if_icmp .ne 20, 3) := dk_160 0 20 (dk_at dksX7_next_7 6 rfl rfl)
theorem dX7_next_170 : decode cX7_next 170 = .ok (.aload_n 0, 1) := dk_42 (dk_at dksX7_next_7 9 rfl rfl)
theorem dX7_next_171 : decode cX7_next 171 = .ok (.getfield 103, 3) := dk_180 0 103 (dk_at dksX7_next_7 10 rfl rfl)
theorem dX7_next_174 : decode cX7_next 174 = .ok (.aload_n 0, 1) := dk_42 (dk_at dksX7_next_7 13 rfl rfl)
theorem dX7_next_175 : decode cX7_next 175 = .ok (.getfield 106, 3) := dk_180 0 106 (dk_at dksX7_next_7 14 rfl rfl)
theorem dX7_next_178 : decode cX7_next 178 = .ok (.iconst 1, 1) := dk_4 (dk_at dksX7_next_7 17 rfl rfl)
theorem dX7_next_179 : decode cX7_next 179 = .ok (.iadd, 1) := dk_96 (dk_at dksX7_next_7 18 rfl rfl)
theorem dX7_next_180 : decode cX7_next 180 = .ok (.if_icmp .le 7, 3) := dk_164 0 7 (dk_at dksX7_next_7 19 rfl rfl)
theorem dX7_next_183 : decode cX7_next 183 = .ok (.iconst 5, 1) := dk_8 (dk_at dksX7_next_7 22 rfl rfl)
theorem dX7_next_184 : decode cX7_next 184 = .ok (.goto 4, 3) := dk_167 0 4 (dk_at dksX7_next_8 0 rfl rfl)
theorem dX7_next_187 : decode cX7_next 187 = .ok (.iconst 2, 1) := dk_5 (dk_at dksX7_next_8 3 rfl rfl)
theorem dX7_next_188 : decode cX7_next 188 = .ok (.putfield 109, 3) := dk_181 0 109 (dk_at dksX7_next_8 4 rfl rfl)
theorem dX7_next_191 : decode cX7_next 191 = .ok (.return_, 1) := dk_177 (dk_at dksX7_next_8 7 rfl rfl)
theorem dX7_next_192 : decode cX7_next 192 = .ok (.aload_n 0, 1) := dk_42 (dk_at dksX7_next_8 8 rfl rfl)
theorem dX7_next_193 : decode cX7_next 193 = .ok (.dup, 1) := dk_89 (dk_at dksX7_next_8 9 rfl rfl)
theorem dX7_next_194 : decode cX7_next 194 = .ok (.getfield 103, 3) := dk_180 0 103 (dk_at dksX7_next_8 10 rfl rfl)
theorem dX7_next_197 : decode cX7_next 197 = .ok (.iconst 1, 1) := dk_4 (dk_at dksX7_next_8 13 rfl rfl)
theorem dX7_next_198 : decode cX7_next 198 = .ok (.iadd, 1) := dk_96 (dk_at dksX7_next_8 14 rfl rfl)
theorem dX7_next_199 : decode cX7_next 199 = .ok (.putfield 103, 3) := dk_181 0 103 (dk_at dksX7_next_8 15 rfl rfl)
theorem dX7_next_202 : decode cX7_next 202 = .ok (.aload_n 0, 1) := dk_42 (dk_at dksX7_next_8 18 rfl rfl)
theorem dX7_next_203 : decode cX7_next 203 = .ok (.iload_n 1, 1) := dk_27 (dk_at dksX7_next_8 19 rfl rfl)
theorem dX7_next_204 : decode cX7_next 204 = .ok (.bipush 97, 2) := dk_16 97 (dk_at dksX7_next_8 20 rfl rfl)
theorem dX7_next_206 : decode cX7_next 206 = .ok (.bipush 122, 2) := dk_16 122 (dk_at dksX7_next_8 22 rfl rfl)
theorem dX7_next_208 : decode cX7_next 208 = .ok (.invokestatic 95, 3) := dk_184 0 95 (dk_at dksX7_next_9 0 rfl rfl)
theorem dX7_next_211 : decode cX7_next 211 = .ok (.ifCond .eq 10, 3) := dk_153 0 10 (dk_at dksX7_next_9 3 rfl rfl)
theorem dX7_next_214 : decode cX7_next 214 = .ok (.iload_n 1, 1) := dk_27 (dk_at dksX7_next_9 6 rfl rfl)
theorem dX7_next_215 : decode cX7_next 215 = .ok (.bipush 97, 2) := dk_16 97 (dk_at dksX7_next_9 7 rfl rfl)
theorem dX7_next_217 : decode cX7_next 217 = .ok (.isub, 1) := dk_100 (dk_at dksX7_next_9 9 rfl rfl)
theorem dX7_next_218 : decode cX7_next 218 = .ok (.goto 4, 3) := dk_167 0 4 (dk_at dksX7_next_9 10 rfl rfl)
theorem dX7_next_221 : decode cX7_next 221 = .ok (.iload_n 1, 1) := dk_27 (dk_at dksX7_next_9 13 rfl rfl)
theorem dX7_next_222 : decode cX7_next 222 = .ok (.putfield 116, 3) := dk_181 0 116 (dk_at dksX7_next_9 14 rfl rfl)
theorem dX7_next_225 : decode cX7_next 225 = .ok (.aload_n 0, 1) := dk_42 (dk_at dksX7_next_9 17 rfl rfl)
theorem dX7_next_226 : decode cX7_next 226 = .ok (.iload_n 1, 1) := dk_27 (dk_at dksX7_next_9 18 rfl rfl)
theorem dX7_next_227 : decode cX7_next 227 = .ok (.bipush 97, 2) := dk_16 97 (dk_at dksX7_next_9 19 rfl rfl)
theorem dX7_next_229 : decode cX7_next 229 = .ok (.bipush 122, 2) := dk_16 122 (dk_at dksX7_next_9 21 rfl rfl)
theorem dX7_next_231 : decode cX7_next 231 = .ok (.invokestatic 95, 3) := dk_184 0 95 (dk_at dksX7_next_10 0 rfl rfl)
theorem dX7_next_234 : decode cX7_next 234 = .ok (.ifCond .eq 7, 3) := dk_153 0 7 (dk_at dksX7_next_10 3 rfl rfl)
theorem dX7_next_237 : decode cX7_next 237 = .ok (.iconst 1, 1) := dk_4 (dk_at dksX7_next_10 6 rfl rfl)
theorem dX7_next_238 : decode cX7_next 238 = .ok (.goto 15, 3) := dk_167 0 15 (dk_at dksX7_next_10 7 rfl rfl)
theorem dX7_next_241 : decode cX7_next 241 = .ok (.iload_n 1, 1) := dk_27 (dk_at dksX7_next_10 10 rfl rfl)
theorem dX7_next_242 : decode cX7_next 242 = .ok (.invokestatic 119, 3) := dk_184 0 119 (dk_at dksX7_next_10 11 rfl rfl)
theorem dX7_next_245 : decode cX7_next 245 = .ok (.ifCond .eq 7, 3) := dk_153 0 7 (dk_at dksX7_next_10 14 rfl rfl)
theorem dX7_next_248 : decode cX7_next 248 = .ok (.iconst 3, 1) := dk_6 (dk_at dksX7_next_10 17 rfl rfl)
theorem dX7_next_249 : decode cX7_next 249 = .ok (.goto 4, 3) := dk_167 0 4 (dk_at dksX7_next_10 18 rfl rfl)
theorem dX7_next_252 : decode cX7_next 252 = .ok (.iconst 5, 1) := dk_8 (dk_at dksX7_next_10 21 rfl rfl)
theorem dX7_next_253 : decode cX7_next 253 = .ok (.putfield 109, 3) := dk_181 0 109 (dk_at dksX7_next_11 0 rfl rfl)
theorem dX7_next_256 : decode cX7_next 256 = .ok (.return_, 1) := dk_177 (dk_at dksX7_next_11 3 rfl rfl)
abbrev cX7_isFigure : ByteArray := prog_19_method_5_code
def yX7_isFigure : MethodName := ⟨RX7, "isFigure", "(I)Z"⟩
def dkwX7_isFigure_1 : List UInt8 := [4, 167, 0, 4, 3, 172]
abbrev dktX7_isFigure_1 : List UInt8 := dkwX7_isFigure_1 ++ []
def dkwX7_isFigure_0 : List UInt8 := [27, 42, 180, 0, 99, 162, 0, 23, 42, 180, 0, 38, 27, 46, 16, 48, 16, 57, 184, 0, 95, 153, 0, 7]
abbrev dktX7_isFigure_0 : List UInt8 := dkwX7_isFigure_0 ++ dktX7_isFigure_1
theorem dksX7_isFigure_0 : cX7_isFigure.data.toList.drop 0 = dktX7_isFigure_0 := by decide +kernel
theorem dksX7_isFigure_1 : cX7_isFigure.data.toList.drop 24 = dktX7_isFigure_1 := dk_seg dksX7_isFigure_0 24 rfl rfl
theorem dX7_isFigure_0 : decode cX7_isFigure 0 = .ok (.iload_n 1, 1) := dk_27 (dk_at dksX7_isFigure_0 0 rfl rfl)
theorem dX7_isFigure_1 : decode cX7_isFigure 1 = .ok (.aload_n 0, 1) := dk_42 (dk_at dksX7_isFigure_0 1 rfl rfl)
theorem dX7_isFigure_2 : decode cX7_isFigure 2 = .ok (.getfield 99, 3) := dk_180 0 99 (dk_at dksX7_isFigure_0 2 rfl rfl)
theorem dX7_isFigure_5 : decode cX7_isFigure 5 = .ok (.if_icmp .ge 23, 3) := dk_162 0 23 (dk_at dksX7_isFigure_0 5 rfl rfl)
theorem dX7_isFigure_8 : decode cX7_isFigure 8 = .ok (.aload_n 0, 1) := dk_42 (dk_at dksX7_isFigure_0 8 rfl rfl)
theorem dX7_isFigure_9 : decode cX7_isFigure 9 = .ok (.getfield 38, 3) := dk_180 0 38 (dk_at dksX7_isFigure_0 9 rfl rfl)
theorem dX7_isFigure_12 : decode cX7_isFigure 12 = .ok (.iload_n 1, 1) := dk_27 (dk_at dksX7_isFigure_0 12 rfl rfl)
theorem dX7_isFigure_13 : decode cX7_isFigure 13 = .ok (.iaload, 1) := dk_46 (dk_at dksX7_isFigure_0 13 rfl rfl)
theorem dX7_isFigure_14 : decode cX7_isFigure 14 = .ok (.bipush 48, 2) := dk_16 48 (dk_at dksX7_isFigure_0 14 rfl rfl)
theorem dX7_isFigure_16 : decode cX7_isFigure 16 = .ok (.bipush 57, 2) := dk_16 57 (dk_at dksX7_isFigure_0 16 rfl rfl)
theorem dX7_isFigure_18 : decode cX7_isFigure 18 = .ok (.invokestatic 95, 3) := dk_184 0 95 (dk_at dksX7_isFigure_0 18 rfl rfl)
theorem dX7_isFigure_21 : decode cX7_isFigure 21 = .ok (.ifCond .eq 7, 3) := dk_153 0 7 (dk_at dksX7_isFigure_0 21 rfl rfl)
theorem dX7_isFigure_24 : decode cX7_isFigure 24 = .ok (.iconst 1, 1) := dk_4 (dk_at dksX7_isFigure_1 0 rfl rfl)
theorem dX7_isFigure_25 : decode cX7_isFigure 25 = .ok (.goto 4, 3) := dk_167 0 4 (dk_at dksX7_isFigure_1 1 rfl rfl)
theorem dX7_isFigure_28 : decode cX7_isFigure 28 = .ok (.iconst 0, 1) := dk_3 (dk_at dksX7_isFigure_1 4 rfl rfl)
theorem dX7_isFigure_29 : decode cX7_isFigure 29 = .ok (.ireturn, 1) := dk_172 (dk_at dksX7_isFigure_1 5 rfl rfl)
abbrev cX7_isSign : ByteArray := prog_19_method_6_code
def yX7_isSign : MethodName := ⟨RX7, "isSign", "(I)Z"⟩
def dkwX7_isSign_3 : List UInt8 := [26, 16, 40, 159, 0, 15, 26, 16, 41, 159, 0, 9, 26, 16, 59, 160, 0, 7, 4, 167, 0, 4, 3, 172]
abbrev dktX7_isSign_3 : List UInt8 := dkwX7_isSign_3 ++ []
def dkwX7_isSign_2 : List UInt8 := [26, 16, 94, 159, 0, 39, 26, 16, 43, 159, 0, 33, 26, 16, 45, 159, 0, 27, 26, 16, 33, 159, 0, 21]
abbrev dktX7_isSign_2 : List UInt8 := dkwX7_isSign_2 ++ dktX7_isSign_3
def dkwX7_isSign_1 : List UInt8 := [26, 16, 61, 159, 0, 63, 26, 16, 46, 159, 0, 57, 26, 16, 38, 159, 0, 51, 26, 16, 124, 159, 0, 45]
abbrev dktX7_isSign_1 : List UInt8 := dkwX7_isSign_1 ++ dktX7_isSign_2
def dkwX7_isSign_0 : List UInt8 := [26, 16, 91, 159, 0, 87, 26, 16, 93, 159, 0, 81, 26, 16, 58, 159, 0, 75, 26, 16, 64, 159, 0, 69]
abbrev dktX7_isSign_0 : List UInt8 := dkwX7_isSign_0 ++ dktX7_isSign_1
theorem dksX7_isSign_0 : cX7_isSign.data.toList.drop 0 = dktX7_isSign_0 := by decide +kernel
theorem dksX7_isSign_1 : cX7_isSign.data.toList.drop 24 = dktX7_isSign_1 := dk_seg dksX7_isSign_0 24 rfl rfl
theorem dksX7_isSign_2 : cX7_isSign.data.toList.drop 48 = dktX7_isSign_2 := dk_seg dksX7_isSign_1 24 rfl rfl
theorem dksX7_isSign_3 : cX7_isSign.data.toList.drop 72 = dktX7_isSign_3 := dk_seg dksX7_isSign_2 24 rfl rfl
theorem dX7_isSign_0 : decode cX7_isSign 0 = .ok (.iload_n 0, 1) := dk_26 (dk_at dksX7_isSign_0 0 rfl rfl)
theorem dX7_isSign_1 : decode cX7_isSign 1 = .ok (.bipush 91, 2) := dk_16 91 (dk_at dksX7_isSign_0 1 rfl rfl)
theorem dX7_isSign_3 : decode cX7_isSign 3 = .ok (.if_icmp .eq 87, 3) := dk_159 0 87 (dk_at dksX7_isSign_0 3 rfl rfl)
theorem dX7_isSign_6 : decode cX7_isSign 6 = .ok (.iload_n 0, 1) := dk_26 (dk_at dksX7_isSign_0 6 rfl rfl)
theorem dX7_isSign_7 : decode cX7_isSign 7 = .ok (.bipush 93, 2) := dk_16 93 (dk_at dksX7_isSign_0 7 rfl rfl)
theorem dX7_isSign_9 : decode cX7_isSign 9 = .ok (.if_icmp .eq 81, 3) := dk_159 0 81 (dk_at dksX7_isSign_0 9 rfl rfl)
theorem dX7_isSign_12 : decode cX7_isSign 12 = .ok (.iload_n 0, 1) := dk_26 (dk_at dksX7_isSign_0 12 rfl rfl)
theorem dX7_isSign_13 : decode cX7_isSign 13 = .ok (.bipush 58, 2) := dk_16 58 (dk_at dksX7_isSign_0 13 rfl rfl)
theorem dX7_isSign_15 : decode cX7_isSign 15 = .ok (.if_icmp .eq 75, 3) := dk_159 0 75 (dk_at dksX7_isSign_0 15 rfl rfl)
theorem dX7_isSign_18 : decode cX7_isSign 18 = .ok (.iload_n 0, 1) := dk_26 (dk_at dksX7_isSign_0 18 rfl rfl)
theorem dX7_isSign_19 : decode cX7_isSign 19 = .ok (.bipush 64, 2) := dk_16 64 (dk_at dksX7_isSign_0 19 rfl rfl)
theorem dX7_isSign_21 : decode cX7_isSign 21 = .ok (.if_icmp .eq 69, 3) := dk_159 0 69 (dk_at dksX7_isSign_0 21 rfl rfl)
theorem dX7_isSign_24 : decode cX7_isSign 24 = .ok (.iload_n 0, 1) := dk_26 (dk_at dksX7_isSign_1 0 rfl rfl)
theorem dX7_isSign_25 : decode cX7_isSign 25 = .ok (.bipush 61, 2) := dk_16 61 (dk_at dksX7_isSign_1 1 rfl rfl)
theorem dX7_isSign_27 : decode cX7_isSign 27 = .ok (.if_icmp .eq 63, 3) := dk_159 0 63 (dk_at dksX7_isSign_1 3 rfl rfl)
theorem dX7_isSign_30 : decode cX7_isSign 30 = .ok (.iload_n 0, 1) := dk_26 (dk_at dksX7_isSign_1 6 rfl rfl)
theorem dX7_isSign_31 : decode cX7_isSign 31 = .ok (.bipush 46, 2) := dk_16 46 (dk_at dksX7_isSign_1 7 rfl rfl)
theorem dX7_isSign_33 : decode cX7_isSign 33 = .ok (.if_icmp .eq 57, 3) := dk_159 0 57 (dk_at dksX7_isSign_1 9 rfl rfl)
theorem dX7_isSign_36 : decode cX7_isSign 36 = .ok (.iload_n 0, 1) := dk_26 (dk_at dksX7_isSign_1 12 rfl rfl)
theorem dX7_isSign_37 : decode cX7_isSign 37 = .ok (.bipush 38, 2) := dk_16 38 (dk_at dksX7_isSign_1 13 rfl rfl)
theorem dX7_isSign_39 : decode cX7_isSign 39 = .ok (.if_icmp .eq 51, 3) := dk_159 0 51 (dk_at dksX7_isSign_1 15 rfl rfl)
theorem dX7_isSign_42 : decode cX7_isSign 42 = .ok (.iload_n 0, 1) := dk_26 (dk_at dksX7_isSign_1 18 rfl rfl)
theorem dX7_isSign_43 : decode cX7_isSign 43 = .ok (.bipush 124, 2) := dk_16 124 (dk_at dksX7_isSign_1 19 rfl rfl)
theorem dX7_isSign_45 : decode cX7_isSign 45 = .ok (.if_icmp .eq 45, 3) := dk_159 0 45 (dk_at dksX7_isSign_1 21 rfl rfl)
theorem dX7_isSign_48 : decode cX7_isSign 48 = .ok (.iload_n 0, 1) := dk_26 (dk_at dksX7_isSign_2 0 rfl rfl)
theorem dX7_isSign_49 : decode cX7_isSign 49 = .ok (.bipush 94, 2) := dk_16 94 (dk_at dksX7_isSign_2 1 rfl rfl)
theorem dX7_isSign_51 : decode cX7_isSign 51 = .ok (.if_icmp .eq 39, 3) := dk_159 0 39 (dk_at dksX7_isSign_2 3 rfl rfl)
theorem dX7_isSign_54 : decode cX7_isSign 54 = .ok (.iload_n 0, 1) := dk_26 (dk_at dksX7_isSign_2 6 rfl rfl)
theorem dX7_isSign_55 : decode cX7_isSign 55 = .ok (.bipush 43, 2) := dk_16 43 (dk_at dksX7_isSign_2 7 rfl rfl)
theorem dX7_isSign_57 : decode cX7_isSign 57 = .ok (.if_icmp .eq 33, 3) := dk_159 0 33 (dk_at dksX7_isSign_2 9 rfl rfl)
theorem dX7_isSign_60 : decode cX7_isSign 60 = .ok (.iload_n 0, 1) := dk_26 (dk_at dksX7_isSign_2 12 rfl rfl)
theorem dX7_isSign_61 : decode cX7_isSign 61 = .ok (.bipush 45, 2) := dk_16 45 (dk_at dksX7_isSign_2 13 rfl rfl)
theorem dX7_isSign_63 : decode cX7_isSign 63 = .ok (.if_icmp .eq 27, 3) := dk_159 0 27 (dk_at dksX7_isSign_2 15 rfl rfl)
theorem dX7_isSign_66 : decode cX7_isSign 66 = .ok (.iload_n 0, 1) := dk_26 (dk_at dksX7_isSign_2 18 rfl rfl)
theorem dX7_isSign_67 : decode cX7_isSign 67 = .ok (.bipush 33, 2) := dk_16 33 (dk_at dksX7_isSign_2 19 rfl rfl)
theorem dX7_isSign_69 : decode cX7_isSign 69 = .ok (.if_icmp .eq 21, 3) := dk_159 0 21 (dk_at dksX7_isSign_2 21 rfl rfl)
theorem dX7_isSign_72 : decode cX7_isSign 72 = .ok (.iload_n 0, 1) := dk_26 (dk_at dksX7_isSign_3 0 rfl rfl)
theorem dX7_isSign_73 : decode cX7_isSign 73 = .ok (.bipush 40, 2) := dk_16 40 (dk_at dksX7_isSign_3 1 rfl rfl)
theorem dX7_isSign_75 : decode cX7_isSign 75 = .ok (.if_icmp .eq 15, 3) := dk_159 0 15 (dk_at dksX7_isSign_3 3 rfl rfl)
theorem dX7_isSign_78 : decode cX7_isSign 78 = .ok (.iload_n 0, 1) := dk_26 (dk_at dksX7_isSign_3 6 rfl rfl)
theorem dX7_isSign_79 : decode cX7_isSign 79 = .ok (.bipush 41, 2) := dk_16 41 (dk_at dksX7_isSign_3 7 rfl rfl)
theorem dX7_isSign_81 : decode cX7_isSign 81 = .ok (.if_icmp .eq 9, 3) := dk_159 0 9 (dk_at dksX7_isSign_3 9 rfl rfl)
theorem dX7_isSign_84 : decode cX7_isSign 84 = .ok (.iload_n 0, 1) := dk_26 (dk_at dksX7_isSign_3 12 rfl rfl)
theorem dX7_isSign_85 : decode cX7_isSign 85 = .ok (.bipush 59, 2) := dk_16 59 (dk_at dksX7_isSign_3 13 rfl rfl)
theorem dX7_isSign_87 : decode cX7_isSign 87 = .ok (.if_icmp .ne 7, 3) := dk_160 0 7 (dk_at dksX7_isSign_3 15 rfl rfl)
theorem dX7_isSign_90 : decode cX7_isSign 90 = .ok (.iconst 1, 1) := dk_4 (dk_at dksX7_isSign_3 18 rfl rfl)
theorem dX7_isSign_91 : decode cX7_isSign 91 = .ok (.goto 4, 3) := dk_167 0 4 (dk_at dksX7_isSign_3 19 rfl rfl)
theorem dX7_isSign_94 : decode cX7_isSign 94 = .ok (.iconst 0, 1) := dk_3 (dk_at dksX7_isSign_3 22 rfl rfl)
theorem dX7_isSign_95 : decode cX7_isSign 95 = .ok (.ireturn, 1) := dk_172 (dk_at dksX7_isSign_3 23 rfl rfl)
abbrev cX7_readsItem : ByteArray := prog_19_method_23_code
def yX7_readsItem : MethodName := ⟨RX7, "readsItem", "()V"⟩
def dkwX7_readsItem_2 : List UInt8 := [167, 0, 8, 42, 3, 182, 0, 125, 42, 42, 16, 59, 182, 0, 154, 182, 0, 141, 177]
abbrev dktX7_readsItem_2 : List UInt8 := dkwX7_readsItem_2 ++ []
def dkwX7_readsItem_1 : List UInt8 := [153, 0, 10, 42, 182, 0, 200, 167, 0, 23, 42, 180, 0, 109, 4, 160, 0, 10, 42, 182, 0, 203]
abbrev dktX7_readsItem_1 : List UInt8 := dkwX7_readsItem_1 ++ dktX7_readsItem_2
def dkwX7_readsItem_0 : List UInt8 := [42, 16, 91, 182, 0, 154, 153, 0, 10, 42, 182, 0, 197, 167, 0, 39, 42, 16, 93, 182, 0, 154]
abbrev dktX7_readsItem_0 : List UInt8 := dkwX7_readsItem_0 ++ dktX7_readsItem_1
theorem dksX7_readsItem_0 : cX7_readsItem.data.toList.drop 0 = dktX7_readsItem_0 := by decide +kernel
theorem dksX7_readsItem_1 : cX7_readsItem.data.toList.drop 22 = dktX7_readsItem_1 := dk_seg dksX7_readsItem_0 22 rfl rfl
theorem dksX7_readsItem_2 : cX7_readsItem.data.toList.drop 44 = dktX7_readsItem_2 := dk_seg dksX7_readsItem_1 22 rfl rfl
theorem dX7_readsItem_0 : decode cX7_readsItem 0 = .ok (.aload_n 0, 1) := dk_42 (dk_at dksX7_readsItem_0 0 rfl rfl)
theorem dX7_readsItem_1 : decode cX7_readsItem 1 = .ok (.bipush 91, 2) := dk_16 91 (dk_at dksX7_readsItem_0 1 rfl rfl)
theorem dX7_readsItem_3 : decode cX7_readsItem 3 = .ok (.invokevirtual 154, 3) := dk_182 0 154 (dk_at dksX7_readsItem_0 3 rfl rfl)
theorem dX7_readsItem_6 : decode cX7_readsItem 6 = .ok (.ifCond .eq 10, 3) := dk_153 0 10 (dk_at dksX7_readsItem_0 6 rfl rfl)
theorem dX7_readsItem_9 : decode cX7_readsItem 9 = .ok (.aload_n 0, 1) := dk_42 (dk_at dksX7_readsItem_0 9 rfl rfl)
theorem dX7_readsItem_10 : decode cX7_readsItem 10 = .ok (.invokevirtual 197, 3) := dk_182 0 197 (dk_at dksX7_readsItem_0 10 rfl rfl)
theorem dX7_readsItem_13 : decode cX7_readsItem 13 = .ok (.goto 39, 3) := dk_167 0 39 (dk_at dksX7_readsItem_0 13 rfl rfl)
theorem dX7_readsItem_16 : decode cX7_readsItem 16 = .ok (.aload_n 0, 1) := dk_42 (dk_at dksX7_readsItem_0 16 rfl rfl)
theorem dX7_readsItem_17 : decode cX7_readsItem 17 = .ok (.bipush 93, 2) := dk_16 93 (dk_at dksX7_readsItem_0 17 rfl rfl)
theorem dX7_readsItem_19 : decode cX7_readsItem 19 = .ok (.invokevirtual 154, 3) := dk_182 0 154 (dk_at dksX7_readsItem_0 19 rfl rfl)
theorem dX7_readsItem_22 : decode cX7_readsItem 22 = .ok (.ifCond .eq 10, 3) := dk_153 0 10 (dk_at dksX7_readsItem_1 0 rfl rfl)
theorem dX7_readsItem_25 : decode cX7_readsItem 25 = .ok (.aload_n 0, 1) := dk_42 (dk_at dksX7_readsItem_1 3 rfl rfl)
theorem dX7_readsItem_26 : decode cX7_readsItem 26 = .ok (.invokevirtual 200, 3) := dk_182 0 200 (dk_at dksX7_readsItem_1 4 rfl rfl)
theorem dX7_readsItem_29 : decode cX7_readsItem 29 = .ok (.goto 23, 3) := dk_167 0 23 (dk_at dksX7_readsItem_1 7 rfl rfl)
theorem dX7_readsItem_32 : decode cX7_readsItem 32 = .ok (.aload_n 0, 1) := dk_42 (dk_at dksX7_readsItem_1 10 rfl rfl)
theorem dX7_readsItem_33 : decode cX7_readsItem 33 = .ok (.getfield 109, 3) := dk_180 0 109 (dk_at dksX7_readsItem_1 11 rfl rfl)
theorem dX7_readsItem_36 : decode cX7_readsItem 36 = .ok (.iconst 1, 1) := dk_4 (dk_at dksX7_readsItem_1 14 rfl rfl)
theorem dX7_readsItem_37 : decode cX7_readsItem 37 = .ok (.if_icmp .ne 10, 3) := dk_160 0 10 (dk_at dksX7_readsItem_1 15 rfl rfl)
theorem dX7_readsItem_40 : decode cX7_readsItem 40 = .ok (.aload_n 0, 1) := dk_42 (dk_at dksX7_readsItem_1 18 rfl rfl)
theorem dX7_readsItem_41 : decode cX7_readsItem 41 = .ok (.invokevirtual 203, 3) := dk_182 0 203 (dk_at dksX7_readsItem_1 19 rfl rfl)
theorem dX7_readsItem_44 : decode cX7_readsItem 44 = .ok (.goto 8, 3) := dk_167 0 8 (dk_at dksX7_readsItem_2 0 rfl rfl)
theorem dX7_readsItem_47 : decode cX7_readsItem 47 = .ok (.aload_n 0, 1) := dk_42 (dk_at dksX7_readsItem_2 3 rfl rfl)
theorem dX7_readsItem_48 : decode cX7_readsItem 48 = .ok (.iconst 0, 1) := dk_3 (dk_at dksX7_readsItem_2 4 rfl rfl)
theorem dX7_readsItem_49 : decode cX7_readsItem 49 = .ok (.invokevirtual 125, 3) := dk_182 0 125 (dk_at dksX7_readsItem_2 5 rfl rfl)
theorem dX7_readsItem_52 : decode cX7_readsItem 52 = .ok (.aload_n 0, 1) := dk_42 (dk_at dksX7_readsItem_2 8 rfl rfl)
theorem dX7_readsItem_53 : decode cX7_readsItem 53 = .ok (.aload_n 0, 1) := dk_42 (dk_at dksX7_readsItem_2 9 rfl rfl)
theorem dX7_readsItem_54 : decode cX7_readsItem 54 = .ok (.bipush 59, 2) := dk_16 59 (dk_at dksX7_readsItem_2 10 rfl rfl)
theorem dX7_readsItem_56 : decode cX7_readsItem 56 = .ok (.invokevirtual 154, 3) := dk_182 0 154 (dk_at dksX7_readsItem_2 12 rfl rfl)
theorem dX7_readsItem_59 : decode cX7_readsItem 59 = .ok (.invokevirtual 141, 3) := dk_182 0 141 (dk_at dksX7_readsItem_2 15 rfl rfl)
theorem dX7_readsItem_62 : decode cX7_readsItem 62 = .ok (.return_, 1) := dk_177 (dk_at dksX7_readsItem_2 18 rfl rfl)
abbrev cX7_is : ByteArray := prog_19_method_8_code
def yX7_is : MethodName := ⟨RX7, "is", "(I)Z"⟩
def dkwX7_is_0 : List UInt8 := [42, 180, 0, 109, 6, 160, 0, 15, 42, 180, 0, 116, 27, 160, 0, 7, 4, 167, 0, 4, 3, 172]
abbrev dktX7_is_0 : List UInt8 := dkwX7_is_0 ++ []
theorem dksX7_is_0 : cX7_is.data.toList.drop 0 = dktX7_is_0 := by decide +kernel
theorem dX7_is_0 : decode cX7_is 0 = .ok (.aload_n 0, 1) := dk_42 (dk_at dksX7_is_0 0 rfl rfl)
theorem dX7_is_1 : decode cX7_is 1 = .ok (.getfield 109, 3) := dk_180 0 109 (dk_at dksX7_is_0 1 rfl rfl)
theorem dX7_is_4 : decode cX7_is 4 = .ok (.iconst 3, 1) := dk_6 (dk_at dksX7_is_0 4 rfl rfl)
theorem dX7_is_5 : decode cX7_is 5 = .ok (.if_icmp .ne 15, 3) := dk_160 0 15 (dk_at dksX7_is_0 5 rfl rfl)
theorem dX7_is_8 : decode cX7_is 8 = .ok (.aload_n 0, 1) := dk_42 (dk_at dksX7_is_0 8 rfl rfl)
theorem dX7_is_9 : decode cX7_is 9 = .ok (.getfield 116, 3) := dk_180 0 116 (dk_at dksX7_is_0 9 rfl rfl)
theorem dX7_is_12 : decode cX7_is 12 = .ok (.iload_n 1, 1) := dk_27 (dk_at dksX7_is_0 12 rfl rfl)
theorem dX7_is_13 : decode cX7_is 13 = .ok (.if_icmp .ne 7, 3) := dk_160 0 7 (dk_at dksX7_is_0 13 rfl rfl)
theorem dX7_is_16 : decode cX7_is 16 = .ok (.iconst 1, 1) := dk_4 (dk_at dksX7_is_0 16 rfl rfl)
theorem dX7_is_17 : decode cX7_is 17 = .ok (.goto 4, 3) := dk_167 0 4 (dk_at dksX7_is_0 17 rfl rfl)
theorem dX7_is_20 : decode cX7_is 20 = .ok (.iconst 0, 1) := dk_3 (dk_at dksX7_is_0 20 rfl rfl)
theorem dX7_is_21 : decode cX7_is 21 = .ok (.ireturn, 1) := dk_172 (dk_at dksX7_is_0 21 rfl rfl)
abbrev cX7_opens : ByteArray := prog_19_method_13_code
def yX7_opens : MethodName := ⟨RX7, "opens", "()V"⟩
def dkwX7_opens_7 : List UInt8 := [177]
abbrev dktX7_opens_7 : List UInt8 := dkwX7_opens_7 ++ []
def dkwX7_opens_6 : List UInt8 := [4, 96, 181, 0, 135, 42, 27, 181, 0, 144, 42, 89, 180, 0, 138, 4, 96, 181, 0, 138, 42, 182, 0, 129]
abbrev dktX7_opens_6 : List UInt8 := dkwX7_opens_6 ++ dktX7_opens_7
def dkwX7_opens_5 : List UInt8 := [180, 0, 44, 27, 42, 180, 0, 144, 79, 42, 180, 0, 47, 27, 42, 180, 0, 116, 79, 42, 89, 180, 0, 135]
abbrev dktX7_opens_5 : List UInt8 := dkwX7_opens_5 ++ dktX7_opens_6
def dkwX7_opens_4 : List UInt8 := [167, 0, 4, 3, 182, 0, 125, 42, 180, 0, 122, 16, 247, 159, 0, 4, 177, 42, 180, 0, 135, 60, 42]
abbrev dktX7_opens_4 : List UInt8 := dkwX7_opens_4 ++ dktX7_opens_5
def dkwX7_opens_3 : List UInt8 := [180, 0, 116, 182, 0, 151, 60, 27, 16, 247, 160, 0, 66, 42, 42, 180, 0, 135, 16, 6, 162, 0, 7, 4]
abbrev dktX7_opens_3 : List UInt8 := dkwX7_opens_3 ++ dktX7_opens_4
def dkwX7_opens_2 : List UInt8 := [4, 167, 0, 4, 3, 182, 0, 125, 42, 180, 0, 122, 16, 247, 159, 0, 4, 177, 42, 42, 180, 0, 144, 42]
abbrev dktX7_opens_2 : List UInt8 := dkwX7_opens_2 ++ dktX7_opens_3
def dkwX7_opens_1 : List UInt8 := [180, 0, 109, 4, 160, 0, 24, 42, 42, 180, 0, 144, 42, 180, 0, 116, 182, 0, 147, 16, 247, 160, 0, 7]
abbrev dktX7_opens_1 : List UInt8 := dkwX7_opens_1 ++ dktX7_opens_2
def dkwX7_opens_0 : List UInt8 := [42, 42, 180, 0, 138, 7, 162, 0, 7, 4, 167, 0, 4, 3, 182, 0, 125, 42, 4, 182, 0, 141, 42, 42]
abbrev dktX7_opens_0 : List UInt8 := dkwX7_opens_0 ++ dktX7_opens_1
theorem dksX7_opens_0 : cX7_opens.data.toList.drop 0 = dktX7_opens_0 := by decide +kernel
theorem dksX7_opens_1 : cX7_opens.data.toList.drop 24 = dktX7_opens_1 := dk_seg dksX7_opens_0 24 rfl rfl
theorem dksX7_opens_2 : cX7_opens.data.toList.drop 48 = dktX7_opens_2 := dk_seg dksX7_opens_1 24 rfl rfl
theorem dksX7_opens_3 : cX7_opens.data.toList.drop 72 = dktX7_opens_3 := dk_seg dksX7_opens_2 24 rfl rfl
theorem dksX7_opens_4 : cX7_opens.data.toList.drop 96 = dktX7_opens_4 := dk_seg dksX7_opens_3 24 rfl rfl
theorem dksX7_opens_5 : cX7_opens.data.toList.drop 119 = dktX7_opens_5 := dk_seg dksX7_opens_4 23 rfl rfl
theorem dksX7_opens_6 : cX7_opens.data.toList.drop 143 = dktX7_opens_6 := dk_seg dksX7_opens_5 24 rfl rfl
theorem dksX7_opens_7 : cX7_opens.data.toList.drop 167 = dktX7_opens_7 := dk_seg dksX7_opens_6 24 rfl rfl
theorem dX7_opens_0 : decode cX7_opens 0 = .ok (.aload_n 0, 1) := dk_42 (dk_at dksX7_opens_0 0 rfl rfl)
theorem dX7_opens_1 : decode cX7_opens 1 = .ok (.aload_n 0, 1) := dk_42 (dk_at dksX7_opens_0 1 rfl rfl)
theorem dX7_opens_2 : decode cX7_opens 2 = .ok (.getfield 138, 3) := dk_180 0 138 (dk_at dksX7_opens_0 2 rfl rfl)
theorem dX7_opens_5 : decode cX7_opens 5 = .ok (.iconst 4, 1) := dk_7 (dk_at dksX7_opens_0 5 rfl rfl)
theorem dX7_opens_6 : decode cX7_opens 6 = .ok (.if_icmp .ge 7, 3) := dk_162 0 7 (dk_at dksX7_opens_0 6 rfl rfl)
theorem dX7_opens_9 : decode cX7_opens 9 = .ok (.iconst 1, 1) := dk_4 (dk_at dksX7_opens_0 9 rfl rfl)
theorem dX7_opens_10 : decode cX7_opens 10 = .ok (.goto 4, 3) := dk_167 0 4 (dk_at dksX7_opens_0 10 rfl rfl)
theorem dX7_opens_13 : decode cX7_opens 13 = .ok (.iconst 0, 1) := dk_3 (dk_at dksX7_opens_0 13 rfl rfl)
theorem dX7_opens_14 : decode cX7_opens 14 = .ok (.invokevirtual 125, 3) := dk_182 0 125 (dk_at dksX7_opens_0 14 rfl rfl)
theorem dX7_opens_17 : decode cX7_opens 17 = .ok (.aload_n 0, 1) := dk_42 (dk_at dksX7_opens_0 17 rfl rfl)
theorem dX7_opens_18 : decode cX7_opens 18 = .ok (.iconst 1, 1) := dk_4 (dk_at dksX7_opens_0 18 rfl rfl)
theorem dX7_opens_19 : decode cX7_opens 19 = .ok (.invokevirtual 141, 3) := dk_182 0 141 (dk_at dksX7_opens_0 19 rfl rfl)
theorem dX7_opens_22 : decode cX7_opens 22 = .ok (.aload_n 0, 1) := dk_42 (dk_at dksX7_opens_0 22 rfl rfl)
theorem dX7_opens_23 : decode cX7_opens 23 = .ok (.aload_n 0, 1) := dk_42 (dk_at dksX7_opens_0 23 rfl rfl)
theorem dX7_opens_24 : decode cX7_opens 24 = .ok (.getfield 109, 3) := dk_180 0 109 (dk_at dksX7_opens_1 0 rfl rfl)
theorem dX7_opens_27 : decode cX7_opens 27 = .ok (.iconst 1, 1) := dk_4 (dk_at dksX7_opens_1 3 rfl rfl)
theorem dX7_opens_28 : decode cX7_opens 28 = .ok (.if_icmp .ne 24, 3) := dk_160 0 24 (dk_at dksX7_opens_1 4 rfl rfl)
theorem dX7_opens_31 : decode cX7_opens 31 = .ok (.aload_n 0, 1) := dk_42 (dk_at dksX7_opens_1 7 rfl rfl)
theorem dX7_opens_32 : decode cX7_opens 32 = .ok (.aload_n 0, 1) := dk_42 (dk_at dksX7_opens_1 8 rfl rfl)
theorem dX7_opens_33 : decode cX7_opens 33 = .ok (.getfield 144, 3) := dk_180 0 144 (dk_at dksX7_opens_1 9 rfl rfl)
theorem dX7_opens_36 : decode cX7_opens 36 = .ok (.aload_n 0, 1) := dk_42 (dk_at dksX7_opens_1 12 rfl rfl)
theorem dX7_opens_37 : decode cX7_opens 37 = .ok (.getfield 116, 3) := dk_180 0 116 (dk_at dksX7_opens_1 13 rfl rfl)
theorem dX7_opens_40 : decode cX7_opens 40 = .ok (.invokevirtual 147, 3) := dk_182 0 147 (dk_at dksX7_opens_1 16 rfl rfl)
theorem dX7_opens_43 : decode cX7_opens 43 = .ok (.bipush (-9), 2) := dk_16 247 (dk_at dksX7_opens_1 19 rfl rfl)
theorem dX7_opens_45 : decode cX7_opens 45 = .ok (.if_icmp .ne 7, 3) := dk_160 0 7 (dk_at dksX7_opens_1 21 rfl rfl)
theorem dX7_opens_48 : decode cX7_opens 48 = .ok (.iconst 1, 1) := dk_4 (dk_at dksX7_opens_2 0 rfl rfl)
theorem dX7_opens_49 : decode cX7_opens 49 = .ok (.goto 4, 3) := dk_167 0 4 (dk_at dksX7_opens_2 1 rfl rfl)
theorem dX7_opens_52 : decode cX7_opens 52 = .ok (.iconst 0, 1) := dk_3 (dk_at dksX7_opens_2 4 rfl rfl)
theorem dX7_opens_53 : decode cX7_opens 53 = .ok (.invokevirtual 125, 3) := dk_182 0 125 (dk_at dksX7_opens_2 5 rfl rfl)
theorem dX7_opens_56 : decode cX7_opens 56 = .ok (.aload_n 0, 1) := dk_42 (dk_at dksX7_opens_2 8 rfl rfl)
theorem dX7_opens_57 : decode cX7_opens 57 = .ok (.getfield 122, 3) := dk_180 0 122 (dk_at dksX7_opens_2 9 rfl rfl)
theorem dX7_opens_60 : decode cX7_opens 60 = .ok (.bipush (-9), 2) := dk_16 247 (dk_at dksX7_opens_2 12 rfl rfl)
theorem dX7_opens_62 : decode cX7_opens 62 = .ok (.if_icmp .eq 4, 3) := dk_159 0 4 (dk_at dksX7_opens_2 14 rfl rfl)
theorem dX7_opens_65 : decode cX7_opens 65 = .ok (.return_, 1) := dk_177 (dk_at dksX7_opens_2 17 rfl rfl)
theorem dX7_opens_66 : decode cX7_opens 66 = .ok (.aload_n 0, 1) := dk_42 (dk_at dksX7_opens_2 18 rfl rfl)
theorem dX7_opens_67 : decode cX7_opens 67 = .ok (.aload_n 0, 1) := dk_42 (dk_at dksX7_opens_2 19 rfl rfl)
theorem dX7_opens_68 : decode cX7_opens 68 = .ok (.getfield 144, 3) := dk_180 0 144 (dk_at dksX7_opens_2 20 rfl rfl)
theorem dX7_opens_71 : decode cX7_opens 71 = .ok (.aload_n 0, 1) := dk_42 (dk_at dksX7_opens_2 23 rfl rfl)
theorem dX7_opens_72 : decode cX7_opens 72 = .ok (.getfield 116, 3) := dk_180 0 116 (dk_at dksX7_opens_3 0 rfl rfl)
theorem dX7_opens_75 : decode cX7_opens 75 = .ok (.invokevirtual 151, 3) := dk_182 0 151 (dk_at dksX7_opens_3 3 rfl rfl)
theorem dX7_opens_78 : decode cX7_opens 78 = .ok (.istore_n 1, 1) := dk_60 (dk_at dksX7_opens_3 6 rfl rfl)
theorem dX7_opens_79 : decode cX7_opens 79 = .ok (.iload_n 1, 1) := dk_27 (dk_at dksX7_opens_3 7 rfl rfl)
theorem dX7_opens_80 : decode cX7_opens 80 = .ok (.bipush (-9), 2) := dk_16 247 (dk_at dksX7_opens_3 8 rfl rfl)
theorem dX7_opens_82 : decode cX7_opens 82 = .ok (.if_icmp .ne 66, 3) := dk_160 0 66 (dk_at dksX7_opens_3 10 rfl rfl)
theorem dX7_opens_85 : decode cX7_opens 85 = .ok (.aload_n 0, 1) := dk_42 (dk_at dksX7_opens_3 13 rfl rfl)
theorem dX7_opens_86 : decode cX7_opens 86 = .ok (.aload_n 0, 1) := dk_42 (dk_at dksX7_opens_3 14 rfl rfl)
theorem dX7_opens_87 : decode cX7_opens 87 = .ok (.getfield 135, 3) := dk_180 0 135 (dk_at dksX7_opens_3 15 rfl rfl)
theorem dX7_opens_90 : decode cX7_opens 90 = .ok (.bipush 6, 2) := dk_16 6 (dk_at dksX7_opens_3 18 rfl rfl)
theorem dX7_opens_92 : decode cX7_opens 92 = .ok (.if_icmp .ge 7, 3) := dk_162 0 7 (dk_at dksX7_opens_3 20 rfl rfl)
theorem dX7_opens_95 : decode cX7_opens 95 = .ok (.iconst 1, 1) := dk_4 (dk_at dksX7_opens_3 23 rfl rfl)
theorem dX7_opens_96 : decode cX7_opens 96 = .ok (.goto 4, 3) := dk_167 0 4 (dk_at dksX7_opens_4 0 rfl rfl)
theorem dX7_opens_99 : decode cX7_opens 99 = .ok (.iconst 0, 1) := dk_3 (dk_at dksX7_opens_4 3 rfl rfl)
theorem dX7_opens_100 : decode cX7_opens 100 = .ok (.invokevirtual 125, 3) := dk_182 0 125 (dk_at dksX7_opens_4 4 rfl rfl)
theorem dX7_opens_103 : decode cX7_opens 103 = .ok (.aload_n 0, 1) := dk_42 (dk_at dksX7_opens_4 7 rfl rfl)
theorem dX7_opens_104 : decode cX7_opens 104 = .ok (.getfield 122, 3) := dk_180 0 122 (dk_at dksX7_opens_4 8 rfl rfl)
theorem dX7_opens_107 : decode cX7_opens 107 = .ok (.bipush (-9), 2) := dk_16 247 (dk_at dksX7_opens_4 11 rfl rfl)
theorem dX7_opens_109 : decode cX7_opens 109 = .ok (.if_icmp .eq 4, 3) := dk_159 0 4 (dk_at dksX7_opens_4 13 rfl rfl)
theorem dX7_opens_112 : decode cX7_opens 112 = .ok (.return_, 1) := dk_177 (dk_at dksX7_opens_4 16 rfl rfl)
theorem dX7_opens_113 : decode cX7_opens 113 = .ok (.aload_n 0, 1) := dk_42 (dk_at dksX7_opens_4 17 rfl rfl)
theorem dX7_opens_114 : decode cX7_opens 114 = .ok (.getfield 135, 3) := dk_180 0 135 (dk_at dksX7_opens_4 18 rfl rfl)
theorem dX7_opens_117 : decode cX7_opens 117 = .ok (.istore_n 1, 1) := dk_60 (dk_at dksX7_opens_4 21 rfl rfl)
theorem dX7_opens_118 : decode cX7_opens 118 = .ok (.aload_n 0, 1) := dk_42 (dk_at dksX7_opens_4 22 rfl rfl)
theorem dX7_opens_119 : decode cX7_opens 119 = .ok (.getfield 44, 3) := dk_180 0 44 (dk_at dksX7_opens_5 0 rfl rfl)
theorem dX7_opens_122 : decode cX7_opens 122 = .ok (.iload_n 1, 1) := dk_27 (dk_at dksX7_opens_5 3 rfl rfl)
theorem dX7_opens_123 : decode cX7_opens 123 = .ok (.aload_n 0, 1) := dk_42 (dk_at dksX7_opens_5 4 rfl rfl)
theorem dX7_opens_124 : decode cX7_opens 124 = .ok (.getfield 144, 3) := dk_180 0 144 (dk_at dksX7_opens_5 5 rfl rfl)
theorem dX7_opens_127 : decode cX7_opens 127 = .ok (.iastore, 1) := dk_79 (dk_at dksX7_opens_5 8 rfl rfl)
theorem dX7_opens_128 : decode cX7_opens 128 = .ok (.aload_n 0, 1) := dk_42 (dk_at dksX7_opens_5 9 rfl rfl)
theorem dX7_opens_129 : decode cX7_opens 129 = .ok (.getfield 47, 3) := dk_180 0 47 (dk_at dksX7_opens_5 10 rfl rfl)
theorem dX7_opens_132 : decode cX7_opens 132 = .ok (.iload_n 1, 1) := dk_27 (dk_at dksX7_opens_5 13 rfl rfl)
theorem dX7_opens_133 : decode cX7_opens 133 = .ok (.aload_n 0, 1) := dk_42 (dk_at dksX7_opens_5 14 rfl rfl)
theorem dX7_opens_134 : decode cX7_opens 134 = .ok (.getfield 116, 3) := dk_180 0 116 (dk_at dksX7_opens_5 15 rfl rfl)
theorem dX7_opens_137 : decode cX7_opens 137 = .ok (.iastore, 1) := dk_79 (dk_at dksX7_opens_5 18 rfl rfl)
theorem dX7_opens_138 : decode cX7_opens 138 = .ok (.aload_n 0, 1) := dk_42 (dk_at dksX7_opens_5 19 rfl rfl)
theorem dX7_opens_139 : decode cX7_opens 139 = .ok (.dup, 1) := dk_89 (dk_at dksX7_opens_5 20 rfl rfl)
theorem dX7_opens_140 : decode cX7_opens 140 = .ok (.getfield 135, 3) := dk_180 0 135 (dk_at dksX7_opens_5 21 rfl rfl)
theorem dX7_opens_143 : decode cX7_opens 143 = .ok (.iconst 1, 1) := dk_4 (dk_at dksX7_opens_6 0 rfl rfl)
theorem dX7_opens_144 : decode cX7_opens 144 = .ok (.iadd, 1) := dk_96 (dk_at dksX7_opens_6 1 rfl rfl)
theorem dX7_opens_145 : decode cX7_opens 145 = .ok (.putfield 135, 3) := dk_181 0 135 (dk_at dksX7_opens_6 2 rfl rfl)
theorem dX7_opens_148 : decode cX7_opens 148 = .ok (.aload_n 0, 1) := dk_42 (dk_at dksX7_opens_6 5 rfl rfl)
theorem dX7_opens_149 : decode cX7_opens 149 = .ok (.iload_n 1, 1) := dk_27 (dk_at dksX7_opens_6 6 rfl rfl)
theorem dX7_opens_150 : decode cX7_opens 150 = .ok (.putfield 144, 3) := dk_181 0 144 (dk_at dksX7_opens_6 7 rfl rfl)
theorem dX7_opens_153 : decode cX7_opens 153 = .ok (.aload_n 0, 1) := dk_42 (dk_at dksX7_opens_6 10 rfl rfl)
theorem dX7_opens_154 : decode cX7_opens 154 = .ok (.dup, 1) := dk_89 (dk_at dksX7_opens_6 11 rfl rfl)
theorem dX7_opens_155 : decode cX7_opens 155 = .ok (.getfield 138, 3) := dk_180 0 138 (dk_at dksX7_opens_6 12 rfl rfl)
theorem dX7_opens_158 : decode cX7_opens 158 = .ok (.iconst 1, 1) := dk_4 (dk_at dksX7_opens_6 15 rfl rfl)
theorem dX7_opens_159 : decode cX7_opens 159 = .ok (.iadd, 1) := dk_96 (dk_at dksX7_opens_6 16 rfl rfl)
theorem dX7_opens_160 : decode cX7_opens 160 = .ok (.putfield 138, 3) := dk_181 0 138 (dk_at dksX7_opens_6 17 rfl rfl)
theorem dX7_opens_163 : decode cX7_opens 163 = .ok (.aload_n 0, 1) := dk_42 (dk_at dksX7_opens_6 20 rfl rfl)
theorem dX7_opens_164 : decode cX7_opens 164 = .ok (.invokevirtual 129, 3) := dk_182 0 129 (dk_at dksX7_opens_6 21 rfl rfl)
theorem dX7_opens_167 : decode cX7_opens 167 = .ok (.return_, 1) := dk_177 (dk_at dksX7_opens_7 0 rfl rfl)
abbrev cX7_due : ByteArray := prog_19_method_9_code
def yX7_due : MethodName := ⟨RX7, "due", "(Z)V"⟩
def dkwX7_due_0 : List UInt8 := [27, 154, 0, 20, 42, 180, 0, 122, 16, 247, 160, 0, 11, 42, 42, 180, 0, 106, 181, 0, 122, 177]
abbrev dktX7_due_0 : List UInt8 := dkwX7_due_0 ++ []
theorem dksX7_due_0 : cX7_due.data.toList.drop 0 = dktX7_due_0 := by decide +kernel
theorem dX7_due_0 : decode cX7_due 0 = .ok (.iload_n 1, 1) := dk_27 (dk_at dksX7_due_0 0 rfl rfl)
theorem dX7_due_1 : decode cX7_due 1 = .ok (.ifCond .ne 20, 3) := dk_154 0 20 (dk_at dksX7_due_0 1 rfl rfl)
theorem dX7_due_4 : decode cX7_due 4 = .ok (.aload_n 0, 1) := dk_42 (dk_at dksX7_due_0 4 rfl rfl)
theorem dX7_due_5 : decode cX7_due 5 = .ok (.getfield 122, 3) := dk_180 0 122 (dk_at dksX7_due_0 5 rfl rfl)
theorem dX7_due_8 : decode cX7_due 8 = .ok (.bipush (-9), 2) := dk_16 247 (dk_at dksX7_due_0 8 rfl rfl)
theorem dX7_due_10 : decode cX7_due 10 = .ok (.if_icmp .ne 11, 3) := dk_160 0 11 (dk_at dksX7_due_0 10 rfl rfl)
theorem dX7_due_13 : decode cX7_due 13 = .ok (.aload_n 0, 1) := dk_42 (dk_at dksX7_due_0 13 rfl rfl)
theorem dX7_due_14 : decode cX7_due 14 = .ok (.aload_n 0, 1) := dk_42 (dk_at dksX7_due_0 14 rfl rfl)
theorem dX7_due_15 : decode cX7_due 15 = .ok (.getfield 106, 3) := dk_180 0 106 (dk_at dksX7_due_0 15 rfl rfl)
theorem dX7_due_18 : decode cX7_due 18 = .ok (.putfield 122, 3) := dk_181 0 122 (dk_at dksX7_due_0 18 rfl rfl)
theorem dX7_due_21 : decode cX7_due 21 = .ok (.return_, 1) := dk_177 (dk_at dksX7_due_0 21 rfl rfl)
abbrev cX7_passes : ByteArray := prog_19_method_10_code
def yX7_passes : MethodName := ⟨RX7, "passes", "(Z)V"⟩
def dkwX7_passes_0 : List UInt8 := [42, 27, 182, 0, 125, 42, 180, 0, 122, 16, 247, 160, 0, 7, 42, 182, 0, 129, 177]
abbrev dktX7_passes_0 : List UInt8 := dkwX7_passes_0 ++ []
theorem dksX7_passes_0 : cX7_passes.data.toList.drop 0 = dktX7_passes_0 := by decide +kernel
theorem dX7_passes_0 : decode cX7_passes 0 = .ok (.aload_n 0, 1) := dk_42 (dk_at dksX7_passes_0 0 rfl rfl)
theorem dX7_passes_1 : decode cX7_passes 1 = .ok (.iload_n 1, 1) := dk_27 (dk_at dksX7_passes_0 1 rfl rfl)
theorem dX7_passes_2 : decode cX7_passes 2 = .ok (.invokevirtual 125, 3) := dk_182 0 125 (dk_at dksX7_passes_0 2 rfl rfl)
theorem dX7_passes_5 : decode cX7_passes 5 = .ok (.aload_n 0, 1) := dk_42 (dk_at dksX7_passes_0 5 rfl rfl)
theorem dX7_passes_6 : decode cX7_passes 6 = .ok (.getfield 122, 3) := dk_180 0 122 (dk_at dksX7_passes_0 6 rfl rfl)
theorem dX7_passes_9 : decode cX7_passes 9 = .ok (.bipush (-9), 2) := dk_16 247 (dk_at dksX7_passes_0 9 rfl rfl)
theorem dX7_passes_11 : decode cX7_passes 11 = .ok (.if_icmp .ne 7, 3) := dk_160 0 7 (dk_at dksX7_passes_0 11 rfl rfl)
theorem dX7_passes_14 : decode cX7_passes 14 = .ok (.aload_n 0, 1) := dk_42 (dk_at dksX7_passes_0 14 rfl rfl)
theorem dX7_passes_15 : decode cX7_passes 15 = .ok (.invokevirtual 129, 3) := dk_182 0 129 (dk_at dksX7_passes_0 15 rfl rfl)
theorem dX7_passes_18 : decode cX7_passes 18 = .ok (.return_, 1) := dk_177 (dk_at dksX7_passes_0 18 rfl rfl)
abbrev cX7_newNodeBy : ByteArray := prog_19_method_11_code
def yX7_newNodeBy : MethodName := ⟨RX7, "newNodeBy", "(II)I"⟩
def dkwX7_newNodeBy_2 : List UInt8 := [21, 4, 167, 0, 4, 29, 62, 132, 4, 1, 167, 255, 205, 29, 172]
abbrev dktX7_newNodeBy_2 : List UInt8 := dkwX7_newNodeBy_2 ++ []
def dkwX7_newNodeBy_1 : List UInt8 := [6, 96, 46, 27, 160, 0, 24, 42, 180, 0, 41, 16, 6, 21, 4, 104, 7, 96, 46, 28, 160, 0, 8]
abbrev dktX7_newNodeBy_1 : List UInt8 := dkwX7_newNodeBy_1 ++ dktX7_newNodeBy_2
def dkwX7_newNodeBy_0 : List UInt8 := [16, 247, 62, 3, 54, 4, 21, 4, 42, 180, 0, 132, 162, 0, 48, 42, 180, 0, 41, 16, 6, 21, 4, 104]
abbrev dktX7_newNodeBy_0 : List UInt8 := dkwX7_newNodeBy_0 ++ dktX7_newNodeBy_1
theorem dksX7_newNodeBy_0 : cX7_newNodeBy.data.toList.drop 0 = dktX7_newNodeBy_0 := by decide +kernel
theorem dksX7_newNodeBy_1 : cX7_newNodeBy.data.toList.drop 24 = dktX7_newNodeBy_1 := dk_seg dksX7_newNodeBy_0 24 rfl rfl
theorem dksX7_newNodeBy_2 : cX7_newNodeBy.data.toList.drop 47 = dktX7_newNodeBy_2 := dk_seg dksX7_newNodeBy_1 23 rfl rfl
theorem dX7_newNodeBy_0 : decode cX7_newNodeBy 0 = .ok (.bipush (-9), 2) := dk_16 247 (dk_at dksX7_newNodeBy_0 0 rfl rfl)
theorem dX7_newNodeBy_2 : decode cX7_newNodeBy 2 = .ok (.istore_n 3, 1) := dk_62 (dk_at dksX7_newNodeBy_0 2 rfl rfl)
theorem dX7_newNodeBy_3 : decode cX7_newNodeBy 3 = .ok (.iconst 0, 1) := dk_3 (dk_at dksX7_newNodeBy_0 3 rfl rfl)
theorem dX7_newNodeBy_4 : decode cX7_newNodeBy 4 = .ok (.istore 4, 2) := dk_54 4 (dk_at dksX7_newNodeBy_0 4 rfl rfl)
theorem dX7_newNodeBy_6 : decode cX7_newNodeBy 6 = .ok (.iload 4, 2) := dk_21 4 (dk_at dksX7_newNodeBy_0 6 rfl rfl)
theorem dX7_newNodeBy_8 : decode cX7_newNodeBy 8 = .ok (.aload_n 0, 1) := dk_42 (dk_at dksX7_newNodeBy_0 8 rfl rfl)
theorem dX7_newNodeBy_9 : decode cX7_newNodeBy 9 = .ok (.getfield 132, 3) := dk_180 0 132 (dk_at dksX7_newNodeBy_0 9 rfl rfl)
theorem dX7_newNodeBy_12 : decode cX7_newNodeBy 12 = .ok (.if_icmp .ge 48, 3) := dk_162 0 48 (dk_at dksX7_newNodeBy_0 12 rfl rfl)
theorem dX7_newNodeBy_15 : decode cX7_newNodeBy 15 = .ok (.aload_n 0, 1) := dk_42 (dk_at dksX7_newNodeBy_0 15 rfl rfl)
theorem dX7_newNodeBy_16 : decode cX7_newNodeBy 16 = .ok (.getfield 41, 3) := dk_180 0 41 (dk_at dksX7_newNodeBy_0 16 rfl rfl)
theorem dX7_newNodeBy_19 : decode cX7_newNodeBy 19 = .ok (.bipush 6, 2) := dk_16 6 (dk_at dksX7_newNodeBy_0 19 rfl rfl)
theorem dX7_newNodeBy_21 : decode cX7_newNodeBy 21 = .ok (.iload 4, 2) := dk_21 4 (dk_at dksX7_newNodeBy_0 21 rfl rfl)
theorem dX7_newNodeBy_23 : decode cX7_newNodeBy 23 = .ok (.imul, 1) := dk_104 (dk_at dksX7_newNodeBy_0 23 rfl rfl)
theorem dX7_newNodeBy_24 : decode cX7_newNodeBy 24 = .ok (.iconst 3, 1) := dk_6 (dk_at dksX7_newNodeBy_1 0 rfl rfl)
theorem dX7_newNodeBy_25 : decode cX7_newNodeBy 25 = .ok (.iadd, 1) := dk_96 (dk_at dksX7_newNodeBy_1 1 rfl rfl)
theorem dX7_newNodeBy_26 : decode cX7_newNodeBy 26 = .ok (.iaload, 1) := dk_46 (dk_at dksX7_newNodeBy_1 2 rfl rfl)
theorem dX7_newNodeBy_27 : decode cX7_newNodeBy 27 = .ok (.iload_n 1, 1) := dk_27 (dk_at dksX7_newNodeBy_1 3 rfl rfl)
theorem dX7_newNodeBy_28 : decode cX7_newNodeBy 28 = .ok (.if_icmp .ne 24, 3) := dk_160 0 24 (dk_at dksX7_newNodeBy_1 4 rfl rfl)
theorem dX7_newNodeBy_31 : decode cX7_newNodeBy 31 = .ok (.aload_n 0, 1) := dk_42 (dk_at dksX7_newNodeBy_1 7 rfl rfl)
theorem dX7_newNodeBy_32 : decode cX7_newNodeBy 32 = .ok (.getfield 41, 3) := dk_180 0 41 (dk_at dksX7_newNodeBy_1 8 rfl rfl)
theorem dX7_newNodeBy_35 : decode cX7_newNodeBy 35 = .ok (.bipush 6, 2) := dk_16 6 (dk_at dksX7_newNodeBy_1 11 rfl rfl)
theorem dX7_newNodeBy_37 : decode cX7_newNodeBy 37 = .ok (.iload 4, 2) := dk_21 4 (dk_at dksX7_newNodeBy_1 13 rfl rfl)
theorem dX7_newNodeBy_39 : decode cX7_newNodeBy 39 = .ok (.imul, 1) := dk_104 (dk_at dksX7_newNodeBy_1 15 rfl rfl)
theorem dX7_newNodeBy_40 : decode cX7_newNodeBy 40 = .ok (.iconst 4, 1) := dk_7 (dk_at dksX7_newNodeBy_1 16 rfl rfl)
theorem dX7_newNodeBy_41 : decode cX7_newNodeBy 41 = .ok (.iadd, 1) := dk_96 (dk_at dksX7_newNodeBy_1 17 rfl rfl)
theorem dX7_newNodeBy_42 : decode cX7_newNodeBy 42 = .ok (.iaload, 1) := dk_46 (dk_at dksX7_newNodeBy_1 18 rfl rfl)
theorem dX7_newNodeBy_43 : decode cX7_newNodeBy 43 = .ok (.iload_n 2, 1) := dk_28 (dk_at dksX7_newNodeBy_1 19 rfl rfl)
theorem dX7_newNodeBy_44 : decode cX7_newNodeBy 44 = .ok (.if_icmp .ne 8, 3) := dk_160 0 8 (dk_at dksX7_newNodeBy_1 20 rfl rfl)
theorem dX7_newNodeBy_47 : decode cX7_newNodeBy 47 = .ok (.iload 4, 2) := dk_21 4 (dk_at dksX7_newNodeBy_2 0 rfl rfl)
theorem dX7_newNodeBy_49 : decode cX7_newNodeBy 49 = .ok (.goto 4, 3) := dk_167 0 4 (dk_at dksX7_newNodeBy_2 2 rfl rfl)
theorem dX7_newNodeBy_52 : decode cX7_newNodeBy 52 = .ok (.iload_n 3, 1) := dk_29 (dk_at dksX7_newNodeBy_2 5 rfl rfl)
theorem dX7_newNodeBy_53 : decode cX7_newNodeBy 53 = .ok (.istore_n 3, 1) := dk_62 (dk_at dksX7_newNodeBy_2 6 rfl rfl)
theorem dX7_newNodeBy_54 : decode cX7_newNodeBy 54 = .ok (.iinc 4 1, 3) := dk_132 4 1 (dk_at dksX7_newNodeBy_2 7 rfl rfl)
theorem dX7_newNodeBy_57 : decode cX7_newNodeBy 57 = .ok (.goto (-51), 3) := dk_167 255 205 (dk_at dksX7_newNodeBy_2 10 rfl rfl)
theorem dX7_newNodeBy_60 : decode cX7_newNodeBy 60 = .ok (.iload_n 3, 1) := dk_29 (dk_at dksX7_newNodeBy_2 13 rfl rfl)
theorem dX7_newNodeBy_61 : decode cX7_newNodeBy 61 = .ok (.ireturn, 1) := dk_172 (dk_at dksX7_newNodeBy_2 14 rfl rfl)
abbrev cX7_newScopeBy : ByteArray := prog_19_method_12_code
def yX7_newScopeBy : MethodName := ⟨RX7, "newScopeBy", "(II)I"⟩
def dkwX7_newScopeBy_2 : List UInt8 := [167, 255, 215, 29, 172]
abbrev dktX7_newScopeBy_2 : List UInt8 := dkwX7_newScopeBy_2 ++ []
def dkwX7_newScopeBy_1 : List UInt8 := [160, 0, 19, 42, 180, 0, 47, 21, 4, 46, 28, 160, 0, 8, 21, 4, 167, 0, 4, 29, 62, 132, 4, 1]
abbrev dktX7_newScopeBy_1 : List UInt8 := dkwX7_newScopeBy_1 ++ dktX7_newScopeBy_2
def dkwX7_newScopeBy_0 : List UInt8 := [16, 247, 62, 3, 54, 4, 21, 4, 42, 180, 0, 135, 162, 0, 38, 42, 180, 0, 44, 21, 4, 46, 27]
abbrev dktX7_newScopeBy_0 : List UInt8 := dkwX7_newScopeBy_0 ++ dktX7_newScopeBy_1
theorem dksX7_newScopeBy_0 : cX7_newScopeBy.data.toList.drop 0 = dktX7_newScopeBy_0 := by decide +kernel
theorem dksX7_newScopeBy_1 : cX7_newScopeBy.data.toList.drop 23 = dktX7_newScopeBy_1 := dk_seg dksX7_newScopeBy_0 23 rfl rfl
theorem dksX7_newScopeBy_2 : cX7_newScopeBy.data.toList.drop 47 = dktX7_newScopeBy_2 := dk_seg dksX7_newScopeBy_1 24 rfl rfl
theorem dX7_newScopeBy_0 : decode cX7_newScopeBy 0 = .ok (.bipush (-9), 2) := dk_16 247 (dk_at dksX7_newScopeBy_0 0 rfl rfl)
theorem dX7_newScopeBy_2 : decode cX7_newScopeBy 2 = .ok (.istore_n 3, 1) := dk_62 (dk_at dksX7_newScopeBy_0 2 rfl rfl)
theorem dX7_newScopeBy_3 : decode cX7_newScopeBy 3 = .ok (.iconst 0, 1) := dk_3 (dk_at dksX7_newScopeBy_0 3 rfl rfl)
theorem dX7_newScopeBy_4 : decode cX7_newScopeBy 4 = .ok (.istore 4, 2) := dk_54 4 (dk_at dksX7_newScopeBy_0 4 rfl rfl)
theorem dX7_newScopeBy_6 : decode cX7_newScopeBy 6 = .ok (.iload 4, 2) := dk_21 4 (dk_at dksX7_newScopeBy_0 6 rfl rfl)
theorem dX7_newScopeBy_8 : decode cX7_newScopeBy 8 = .ok (.aload_n 0, 1) := dk_42 (dk_at dksX7_newScopeBy_0 8 rfl rfl)
theorem dX7_newScopeBy_9 : decode cX7_newScopeBy 9 = .ok (.getfield 135, 3) := dk_180 0 135 (dk_at dksX7_newScopeBy_0 9 rfl rfl)
theorem dX7_newScopeBy_12 : decode cX7_newScopeBy 12 = .ok (.if_icmp .ge 38, 3) := dk_162 0 38 (dk_at dksX7_newScopeBy_0 12 rfl rfl)
theorem dX7_newScopeBy_15 : decode cX7_newScopeBy 15 = .ok (.aload_n 0, 1) := dk_42 (dk_at dksX7_newScopeBy_0 15 rfl rfl)
theorem dX7_newScopeBy_16 : decode cX7_newScopeBy 16 = .ok (.getfield 44, 3) := dk_180 0 44 (dk_at dksX7_newScopeBy_0 16 rfl rfl)
theorem dX7_newScopeBy_19 : decode cX7_newScopeBy 19 = .ok (.iload 4, 2) := dk_21 4 (dk_at dksX7_newScopeBy_0 19 rfl rfl)
theorem dX7_newScopeBy_21 : decode cX7_newScopeBy 21 = .ok (.iaload, 1) := dk_46 (dk_at dksX7_newScopeBy_0 21 rfl rfl)
theorem dX7_newScopeBy_22 : decode cX7_newScopeBy 22 = .ok (.iload_n 1, 1) := dk_27 (dk_at dksX7_newScopeBy_0 22 rfl rfl)
theorem dX7_newScopeBy_23 : decode cX7_newScopeBy 23 = .ok (.if_icmp .ne 19, 3) := dk_160 0 19 (dk_at dksX7_newScopeBy_1 0 rfl rfl)
theorem dX7_newScopeBy_26 : decode cX7_newScopeBy 26 = .ok (.aload_n 0, 1) := dk_42 (dk_at dksX7_newScopeBy_1 3 rfl rfl)
theorem dX7_newScopeBy_27 : decode cX7_newScopeBy 27 = .ok (.getfield 47, 3) := dk_180 0 47 (dk_at dksX7_newScopeBy_1 4 rfl rfl)
theorem dX7_newScopeBy_30 : decode cX7_newScopeBy 30 = .ok (.iload 4, 2) := dk_21 4 (dk_at dksX7_newScopeBy_1 7 rfl rfl)
theorem dX7_newScopeBy_32 : decode cX7_newScopeBy 32 = .ok (.iaload, 1) := dk_46 (dk_at dksX7_newScopeBy_1 9 rfl rfl)
theorem dX7_newScopeBy_33 : decode cX7_newScopeBy 33 = .ok (.iload_n 2, 1) := dk_28 (dk_at dksX7_newScopeBy_1 10 rfl rfl)
theorem dX7_newScopeBy_34 : decode cX7_newScopeBy 34 = .ok (.if_icmp .ne 8, 3) := dk_160 0 8 (dk_at dksX7_newScopeBy_1 11 rfl rfl)
theorem dX7_newScopeBy_37 : decode cX7_newScopeBy 37 = .ok (.iload 4, 2) := dk_21 4 (dk_at dksX7_newScopeBy_1 14 rfl rfl)
theorem dX7_newScopeBy_39 : decode cX7_newScopeBy 39 = .ok (.goto 4, 3) := dk_167 0 4 (dk_at dksX7_newScopeBy_1 16 rfl rfl)
theorem dX7_newScopeBy_42 : decode cX7_newScopeBy 42 = .ok (.iload_n 3, 1) := dk_29 (dk_at dksX7_newScopeBy_1 19 rfl rfl)
theorem dX7_newScopeBy_43 : decode cX7_newScopeBy 43 = .ok (.istore_n 3, 1) := dk_62 (dk_at dksX7_newScopeBy_1 20 rfl rfl)
theorem dX7_newScopeBy_44 : decode cX7_newScopeBy 44 = .ok (.iinc 4 1, 3) := dk_132 4 1 (dk_at dksX7_newScopeBy_1 21 rfl rfl)
theorem dX7_newScopeBy_47 : decode cX7_newScopeBy 47 = .ok (.goto (-41), 3) := dk_167 255 215 (dk_at dksX7_newScopeBy_2 0 rfl rfl)
theorem dX7_newScopeBy_50 : decode cX7_newScopeBy 50 = .ok (.iload_n 3, 1) := dk_29 (dk_at dksX7_newScopeBy_2 3 rfl rfl)
theorem dX7_newScopeBy_51 : decode cX7_newScopeBy 51 = .ok (.ireturn, 1) := dk_172 (dk_at dksX7_newScopeBy_2 4 rfl rfl)
abbrev cX7_closes : ByteArray := prog_19_method_14_code
def yX7_closes : MethodName := ⟨RX7, "closes", "()V"⟩
def dkwX7_closes_2 : List UInt8 := [181, 0, 138, 42, 182, 0, 129, 177]
abbrev dktX7_closes_2 : List UInt8 := dkwX7_closes_2 ++ []
def dkwX7_closes_1 : List UInt8 := [160, 0, 30, 42, 42, 180, 0, 44, 42, 180, 0, 144, 46, 181, 0, 144, 42, 89, 180, 0, 138, 4, 100]
abbrev dktX7_closes_1 : List UInt8 := dkwX7_closes_1 ++ dktX7_closes_2
def dkwX7_closes_0 : List UInt8 := [42, 42, 180, 0, 144, 16, 247, 159, 0, 7, 4, 167, 0, 4, 3, 182, 0, 125, 42, 180, 0, 122, 16, 247]
abbrev dktX7_closes_0 : List UInt8 := dkwX7_closes_0 ++ dktX7_closes_1
theorem dksX7_closes_0 : cX7_closes.data.toList.drop 0 = dktX7_closes_0 := by decide +kernel
theorem dksX7_closes_1 : cX7_closes.data.toList.drop 24 = dktX7_closes_1 := dk_seg dksX7_closes_0 24 rfl rfl
theorem dksX7_closes_2 : cX7_closes.data.toList.drop 47 = dktX7_closes_2 := dk_seg dksX7_closes_1 23 rfl rfl
theorem dX7_closes_0 : decode cX7_closes 0 = .ok (.aload_n 0, 1) := dk_42 (dk_at dksX7_closes_0 0 rfl rfl)
theorem dX7_closes_1 : decode cX7_closes 1 = .ok (.aload_n 0, 1) := dk_42 (dk_at dksX7_closes_0 1 rfl rfl)
theorem dX7_closes_2 : decode cX7_closes 2 = .ok (.getfield 144, 3) := dk_180 0 144 (dk_at dksX7_closes_0 2 rfl rfl)
theorem dX7_closes_5 : decode cX7_closes 5 = .ok (.bipush (-9), 2) := dk_16 247 (dk_at dksX7_closes_0 5 rfl rfl)
theorem dX7_closes_7 : decode cX7_closes 7 = .ok (.if_icmp .eq 7, 3) := dk_159 0 7 (dk_at dksX7_closes_0 7 rfl rfl)
theorem dX7_closes_10 : decode cX7_closes 10 = .ok (.iconst 1, 1) := dk_4 (dk_at dksX7_closes_0 10 rfl rfl)
theorem dX7_closes_11 : decode cX7_closes 11 = .ok (.goto 4, 3) := dk_167 0 4 (dk_at dksX7_closes_0 11 rfl rfl)
theorem dX7_closes_14 : decode cX7_closes 14 = .ok (.iconst 0, 1) := dk_3 (dk_at dksX7_closes_0 14 rfl rfl)
theorem dX7_closes_15 : decode cX7_closes 15 = .ok (.invokevirtual 125, 3) := dk_182 0 125 (dk_at dksX7_closes_0 15 rfl rfl)
theorem dX7_closes_18 : decode cX7_closes 18 = .ok (.aload_n 0, 1) := dk_42 (dk_at dksX7_closes_0 18 rfl rfl)
theorem dX7_closes_19 : decode cX7_closes 19 = .ok (.getfield 122, 3) := dk_180 0 122 (dk_at dksX7_closes_0 19 rfl rfl)
theorem dX7_closes_22 : decode cX7_closes 22 = .ok (.bipush (-9), 2) := dk_16 247 (dk_at dksX7_closes_0 22 rfl rfl)
theorem dX7_closes_24 : decode cX7_closes 24 = .ok (.if_icmp .ne 30, 3) := dk_160 0 30 (dk_at dksX7_closes_1 0 rfl rfl)
theorem dX7_closes_27 : decode cX7_closes 27 = .ok (.aload_n 0, 1) := dk_42 (dk_at dksX7_closes_1 3 rfl rfl)
theorem dX7_closes_28 : decode cX7_closes 28 = .ok (.aload_n 0, 1) := dk_42 (dk_at dksX7_closes_1 4 rfl rfl)
theorem dX7_closes_29 : decode cX7_closes 29 = .ok (.getfield 44, 3) := dk_180 0 44 (dk_at dksX7_closes_1 5 rfl rfl)
theorem dX7_closes_32 : decode cX7_closes 32 = .ok (.aload_n 0, 1) := dk_42 (dk_at dksX7_closes_1 8 rfl rfl)
theorem dX7_closes_33 : decode cX7_closes 33 = .ok (.getfield 144, 3) := dk_180 0 144 (dk_at dksX7_closes_1 9 rfl rfl)
theorem dX7_closes_36 : decode cX7_closes 36 = .ok (.iaload, 1) := dk_46 (dk_at dksX7_closes_1 12 rfl rfl)
theorem dX7_closes_37 : decode cX7_closes 37 = .ok (.putfield 144, 3) := dk_181 0 144 (dk_at dksX7_closes_1 13 rfl rfl)
theorem dX7_closes_40 : decode cX7_closes 40 = .ok (.aload_n 0, 1) := dk_42 (dk_at dksX7_closes_1 16 rfl rfl)
theorem dX7_closes_41 : decode cX7_closes 41 = .ok (.dup, 1) := dk_89 (dk_at dksX7_closes_1 17 rfl rfl)
theorem dX7_closes_42 : decode cX7_closes 42 = .ok (.getfield 138, 3) := dk_180 0 138 (dk_at dksX7_closes_1 18 rfl rfl)
theorem dX7_closes_45 : decode cX7_closes 45 = .ok (.iconst 1, 1) := dk_4 (dk_at dksX7_closes_1 21 rfl rfl)
theorem dX7_closes_46 : decode cX7_closes 46 = .ok (.isub, 1) := dk_100 (dk_at dksX7_closes_1 22 rfl rfl)
theorem dX7_closes_47 : decode cX7_closes 47 = .ok (.putfield 138, 3) := dk_181 0 138 (dk_at dksX7_closes_2 0 rfl rfl)
theorem dX7_closes_50 : decode cX7_closes 50 = .ok (.aload_n 0, 1) := dk_42 (dk_at dksX7_closes_2 3 rfl rfl)
theorem dX7_closes_51 : decode cX7_closes 51 = .ok (.invokevirtual 129, 3) := dk_182 0 129 (dk_at dksX7_closes_2 4 rfl rfl)
theorem dX7_closes_54 : decode cX7_closes 54 = .ok (.return_, 1) := dk_177 (dk_at dksX7_closes_2 7 rfl rfl)
abbrev cX7_readsNode : ByteArray := prog_19_method_22_code
def yX7_readsNode : MethodName := ⟨RX7, "readsNode", "()V"⟩
def dkwX7_readsNode_17 : List UInt8 := [167, 0, 4, 3, 96, 181, 0, 157, 177]
abbrev dktX7_readsNode_17 : List UInt8 := dkwX7_readsNode_17 ++ []
def dkwX7_readsNode_16 : List UInt8 := [154, 0, 7, 4, 167, 0, 4, 3, 96, 181, 0, 191, 42, 89, 180, 0, 157, 28, 5, 160, 0, 7, 4]
abbrev dktX7_readsNode_16 : List UInt8 := dkwX7_readsNode_16 ++ dktX7_readsNode_17
def dkwX7_readsNode_15 : List UInt8 := [167, 0, 7, 42, 180, 0, 157, 79, 42, 89, 180, 0, 132, 4, 96, 181, 0, 132, 42, 89, 180, 0, 191, 28]
abbrev dktX7_readsNode_15 : List UInt8 := dkwX7_readsNode_15 ++ dktX7_readsNode_16
def dkwX7_readsNode_14 : List UInt8 := [27, 79, 42, 180, 0, 41, 16, 6, 42, 180, 0, 132, 104, 8, 96, 28, 154, 0, 10, 42, 180, 0, 191]
abbrev dktX7_readsNode_14 : List UInt8 := dkwX7_readsNode_14 ++ dktX7_readsNode_15
def dkwX7_readsNode_13 : List UInt8 := [180, 0, 132, 104, 6, 96, 42, 180, 0, 144, 79, 42, 180, 0, 41, 16, 6, 42, 180, 0, 132, 104, 7, 96]
abbrev dktX7_readsNode_13 : List UInt8 := dkwX7_readsNode_13 ++ dktX7_readsNode_14
def dkwX7_readsNode_12 : List UInt8 := [180, 0, 41, 16, 6, 42, 180, 0, 132, 104, 5, 96, 21, 4, 79, 42, 180, 0, 41, 16, 6, 42]
abbrev dktX7_readsNode_12 : List UInt8 := dkwX7_readsNode_12 ++ dktX7_readsNode_13
def dkwX7_readsNode_11 : List UInt8 := [180, 0, 132, 104, 3, 96, 28, 79, 42, 180, 0, 41, 16, 6, 42, 180, 0, 132, 104, 4, 96, 29, 79, 42]
abbrev dktX7_readsNode_11 : List UInt8 := dkwX7_readsNode_11 ++ dktX7_readsNode_12
def dkwX7_readsNode_10 : List UInt8 := [160, 0, 7, 42, 182, 0, 194, 42, 180, 0, 122, 16, 247, 160, 0, 158, 42, 180, 0, 41, 16, 6, 42]
abbrev dktX7_readsNode_10 : List UInt8 := dkwX7_readsNode_10 ++ dktX7_readsNode_11
def dkwX7_readsNode_9 : List UInt8 := [160, 0, 17, 28, 4, 160, 0, 12, 42, 182, 0, 177, 54, 4, 167, 0, 16, 42, 180, 0, 122, 16, 247]
abbrev dktX7_readsNode_9 : List UInt8 := dkwX7_readsNode_9 ++ dktX7_readsNode_10
def dkwX7_readsNode_8 : List UInt8 := [3, 182, 0, 125, 42, 180, 0, 116, 62, 42, 4, 182, 0, 141, 167, 0, 39, 42, 180, 0, 122, 16, 247]
abbrev dktX7_readsNode_8 : List UInt8 := dkwX7_readsNode_8 ++ dktX7_readsNode_9
def dkwX7_readsNode_7 : List UInt8 := [180, 0, 109, 5, 160, 0, 20, 42, 180, 0, 116, 4, 16, 8, 184, 0, 95, 153, 0, 7, 4, 167, 0, 4]
abbrev dktX7_readsNode_7 : List UInt8 := dkwX7_readsNode_7 ++ dktX7_readsNode_8
def dkwX7_readsNode_6 : List UInt8 := [16, 247, 62, 16, 247, 54, 4, 42, 180, 0, 122, 16, 247, 160, 0, 50, 28, 154, 0, 46, 42, 42]
abbrev dktX7_readsNode_6 : List UInt8 := dkwX7_readsNode_6 ++ dktX7_readsNode_7
def dkwX7_readsNode_5 : List UInt8 := [153, 0, 15, 42, 180, 0, 157, 7, 162, 0, 7, 4, 167, 0, 4, 3, 182, 0, 125, 42, 4, 182, 0, 141]
abbrev dktX7_readsNode_5 : List UInt8 := dkwX7_readsNode_5 ++ dktX7_readsNode_6
def dkwX7_readsNode_4 : List UInt8 := [180, 0, 191, 16, 6, 161, 0, 29, 42, 16, 64, 182, 0, 154, 154, 0, 20, 42, 16, 61, 182, 0, 154]
abbrev dktX7_readsNode_4 : List UInt8 := dkwX7_readsNode_4 ++ dktX7_readsNode_5
def dkwX7_readsNode_3 : List UInt8 := [182, 0, 154, 153, 0, 7, 4, 167, 0, 4, 5, 61, 42, 42, 16, 58, 182, 0, 154, 153, 0, 12, 42]
abbrev dktX7_readsNode_3 : List UInt8 := dkwX7_readsNode_3 ++ dktX7_readsNode_4
def dkwX7_readsNode_2 : List UInt8 := [182, 0, 125, 42, 4, 182, 0, 141, 42, 16, 58, 182, 0, 154, 153, 0, 7, 3, 167, 0, 17, 42, 16, 64]
abbrev dktX7_readsNode_2 : List UInt8 := dkwX7_readsNode_2 ++ dktX7_readsNode_3
def dkwX7_readsNode_1 : List UInt8 := [16, 247, 160, 0, 21, 42, 42, 180, 0, 144, 27, 182, 0, 151, 16, 247, 160, 0, 7, 4, 167, 0, 4, 3]
abbrev dktX7_readsNode_1 : List UInt8 := dkwX7_readsNode_1 ++ dktX7_readsNode_2
def dkwX7_readsNode_0 : List UInt8 := [42, 180, 0, 116, 60, 42, 42, 180, 0, 132, 16, 12, 162, 0, 35, 42, 42, 180, 0, 144, 27, 182, 0, 147]
abbrev dktX7_readsNode_0 : List UInt8 := dkwX7_readsNode_0 ++ dktX7_readsNode_1
theorem dksX7_readsNode_0 : cX7_readsNode.data.toList.drop 0 = dktX7_readsNode_0 := by decide +kernel
theorem dksX7_readsNode_1 : cX7_readsNode.data.toList.drop 24 = dktX7_readsNode_1 := dk_seg dksX7_readsNode_0 24 rfl rfl
theorem dksX7_readsNode_2 : cX7_readsNode.data.toList.drop 48 = dktX7_readsNode_2 := dk_seg dksX7_readsNode_1 24 rfl rfl
theorem dksX7_readsNode_3 : cX7_readsNode.data.toList.drop 72 = dktX7_readsNode_3 := dk_seg dksX7_readsNode_2 24 rfl rfl
theorem dksX7_readsNode_4 : cX7_readsNode.data.toList.drop 95 = dktX7_readsNode_4 := dk_seg dksX7_readsNode_3 23 rfl rfl
theorem dksX7_readsNode_5 : cX7_readsNode.data.toList.drop 118 = dktX7_readsNode_5 := dk_seg dksX7_readsNode_4 23 rfl rfl
theorem dksX7_readsNode_6 : cX7_readsNode.data.toList.drop 142 = dktX7_readsNode_6 := dk_seg dksX7_readsNode_5 24 rfl rfl
theorem dksX7_readsNode_7 : cX7_readsNode.data.toList.drop 164 = dktX7_readsNode_7 := dk_seg dksX7_readsNode_6 22 rfl rfl
theorem dksX7_readsNode_8 : cX7_readsNode.data.toList.drop 188 = dktX7_readsNode_8 := dk_seg dksX7_readsNode_7 24 rfl rfl
theorem dksX7_readsNode_9 : cX7_readsNode.data.toList.drop 211 = dktX7_readsNode_9 := dk_seg dksX7_readsNode_8 23 rfl rfl
theorem dksX7_readsNode_10 : cX7_readsNode.data.toList.drop 234 = dktX7_readsNode_10 := dk_seg dksX7_readsNode_9 23 rfl rfl
theorem dksX7_readsNode_11 : cX7_readsNode.data.toList.drop 257 = dktX7_readsNode_11 := dk_seg dksX7_readsNode_10 23 rfl rfl
theorem dksX7_readsNode_12 : cX7_readsNode.data.toList.drop 281 = dktX7_readsNode_12 := dk_seg dksX7_readsNode_11 24 rfl rfl
theorem dksX7_readsNode_13 : cX7_readsNode.data.toList.drop 303 = dktX7_readsNode_13 := dk_seg dksX7_readsNode_12 22 rfl rfl
theorem dksX7_readsNode_14 : cX7_readsNode.data.toList.drop 327 = dktX7_readsNode_14 := dk_seg dksX7_readsNode_13 24 rfl rfl
theorem dksX7_readsNode_15 : cX7_readsNode.data.toList.drop 350 = dktX7_readsNode_15 := dk_seg dksX7_readsNode_14 23 rfl rfl
theorem dksX7_readsNode_16 : cX7_readsNode.data.toList.drop 374 = dktX7_readsNode_16 := dk_seg dksX7_readsNode_15 24 rfl rfl
theorem dksX7_readsNode_17 : cX7_readsNode.data.toList.drop 397 = dktX7_readsNode_17 := dk_seg dksX7_readsNode_16 23 rfl rfl
theorem dX7_readsNode_0 : decode cX7_readsNode 0 = .ok (.aload_n 0, 1) := dk_42 (dk_at dksX7_readsNode_0 0 rfl rfl)
theorem dX7_readsNode_1 : decode cX7_readsNode 1 = .ok (.getfield 116, 3) := dk_180 0 116 (dk_at dksX7_readsNode_0 1 rfl rfl)
theorem dX7_readsNode_4 : decode cX7_readsNode 4 = .ok (.istore_n 1, 1) := dk_60 (dk_at dksX7_readsNode_0 4 rfl rfl)
theorem dX7_readsNode_5 : decode cX7_readsNode 5 = .ok (.aload_n 0, 1) := dk_42 (dk_at dksX7_readsNode_0 5 rfl rfl)
theorem dX7_readsNode_6 : decode cX7_readsNode 6 = .ok (.aload_n 0, 1) := dk_42 (dk_at dksX7_readsNode_0 6 rfl rfl)
theorem dX7_readsNode_7 : decode cX7_readsNode 7 = .ok (.getfield 132, 3) := dk_180 0 132 (dk_at dksX7_readsNode_0 7 rfl rfl)
theorem dX7_readsNode_10 : decode cX7_readsNode 10 = .ok (.bipush 12, 2) := dk_16 12 (dk_at dksX7_readsNode_0 10 rfl rfl)
theorem dX7_readsNode_12 : decode cX7_readsNode 12 = .ok (.if_icmp .ge 35, 3) := dk_162 0 35 (dk_at dksX7_readsNode_0 12 rfl rfl)
theorem dX7_readsNode_15 : decode cX7_readsNode 15 = .ok (.aload_n 0, 1) := dk_42 (dk_at dksX7_readsNode_0 15 rfl rfl)
theorem dX7_readsNode_16 : decode cX7_readsNode 16 = .ok (.aload_n 0, 1) := dk_42 (dk_at dksX7_readsNode_0 16 rfl rfl)
theorem dX7_readsNode_17 : decode cX7_readsNode 17 = .ok (.getfield 144, 3) := dk_180 0 144 (dk_at dksX7_readsNode_0 17 rfl rfl)
theorem dX7_readsNode_20 : decode cX7_readsNode 20 = .ok (.iload_n 1, 1) := dk_27 (dk_at dksX7_readsNode_0 20 rfl rfl)
theorem dX7_readsNode_21 : decode cX7_readsNode 21 = .ok (.invokevirtual 147, 3) := dk_182 0 147 (dk_at dksX7_readsNode_0 21 rfl rfl)
theorem dX7_readsNode_24 : decode cX7_readsNode 24 = .ok (.bipush (-9), 2) := dk_16 247 (dk_at dksX7_readsNode_1 0 rfl rfl)
theorem dX7_readsNode_26 : decode cX7_readsNode 26 = .ok (.if_icmp .ne 21, 3) := dk_160 0 21 (dk_at dksX7_readsNode_1 2 rfl rfl)
theorem dX7_readsNode_29 : decode cX7_readsNode 29 = .ok (.aload_n 0, 1) := dk_42 (dk_at dksX7_readsNode_1 5 rfl rfl)
theorem dX7_readsNode_30 : decode cX7_readsNode 30 = .ok (.aload_n 0, 1) := dk_42 (dk_at dksX7_readsNode_1 6 rfl rfl)
theorem dX7_readsNode_31 : decode cX7_readsNode 31 = .ok (.getfield 144, 3) := dk_180 0 144 (dk_at dksX7_readsNode_1 7 rfl rfl)
theorem dX7_readsNode_34 : decode cX7_readsNode 34 = .ok (.iload_n 1, 1) := dk_27 (dk_at dksX7_readsNode_1 10 rfl rfl)
theorem dX7_readsNode_35 : decode cX7_readsNode 35 = .ok (.invokevirtual 151, 3) := dk_182 0 151 (dk_at dksX7_readsNode_1 11 rfl rfl)
theorem dX7_readsNode_38 : decode cX7_readsNode 38 = .ok (.bipush (-9), 2) := dk_16 247 (dk_at dksX7_readsNode_1 14 rfl rfl)
theorem dX7_readsNode_40 : decode cX7_readsNode 40 = .ok (.if_icmp .ne 7, 3) := dk_160 0 7 (dk_at dksX7_readsNode_1 16 rfl rfl)
theorem dX7_readsNode_43 : decode cX7_readsNode 43 = .ok (.iconst 1, 1) := dk_4 (dk_at dksX7_readsNode_1 19 rfl rfl)
theorem dX7_readsNode_44 : decode cX7_readsNode 44 = .ok (.goto 4, 3) := dk_167 0 4 (dk_at dksX7_readsNode_1 20 rfl rfl)
theorem dX7_readsNode_47 : decode cX7_readsNode 47 = .ok (.iconst 0, 1) := dk_3 (dk_at dksX7_readsNode_1 23 rfl rfl)
theorem dX7_readsNode_48 : decode cX7_readsNode 48 = .ok (.invokevirtual 125, 3) := dk_182 0 125 (dk_at dksX7_readsNode_2 0 rfl rfl)
theorem dX7_readsNode_51 : decode cX7_readsNode 51 = .ok (.aload_n 0, 1) := dk_42 (dk_at dksX7_readsNode_2 3 rfl rfl)
theorem dX7_readsNode_52 : decode cX7_readsNode 52 = .ok (.iconst 1, 1) := dk_4 (dk_at dksX7_readsNode_2 4 rfl rfl)
theorem dX7_readsNode_53 : decode cX7_readsNode 53 = .ok (.invokevirtual 141, 3) := dk_182 0 141 (dk_at dksX7_readsNode_2 5 rfl rfl)
theorem dX7_readsNode_56 : decode cX7_readsNode 56 = .ok (.aload_n 0, 1) := dk_42 (dk_at dksX7_readsNode_2 8 rfl rfl)
theorem dX7_readsNode_57 : decode cX7_readsNode 57 = .ok (.bipush 58, 2) := dk_16 58 (dk_at dksX7_readsNode_2 9 rfl rfl)
theorem dX7_readsNode_59 : decode cX7_readsNode 59 = .ok (.invokevirtual 154, 3) := dk_182 0 154 (dk_at dksX7_readsNode_2 11 rfl rfl)
theorem dX7_readsNode_62 : decode cX7_readsNode 62 = .ok (.ifCond .eq 7, 3) := dk_153 0 7 (dk_at dksX7_readsNode_2 14 rfl rfl)
theorem dX7_readsNode_65 : decode cX7_readsNode 65 = .ok (.iconst 0, 1) := dk_3 (dk_at dksX7_readsNode_2 17 rfl rfl)
theorem dX7_readsNode_66 : decode cX7_readsNode 66 = .ok (.goto 17, 3) := dk_167 0 17 (dk_at dksX7_readsNode_2 18 rfl rfl)
theorem dX7_readsNode_69 : decode cX7_readsNode 69 = .ok (.aload_n 0, 1) := dk_42 (dk_at dksX7_readsNode_2 21 rfl rfl)
theorem dX7_readsNode_70 : decode cX7_readsNode 70 = .ok (.bipush 64, 2) := dk_16 64 (dk_at dksX7_readsNode_2 22 rfl rfl)
theorem dX7_readsNode_72 : decode cX7_readsNode 72 = .ok (.invokevirtual 154, 3) := dk_182 0 154 (dk_at dksX7_readsNode_3 0 rfl rfl)
theorem dX7_readsNode_75 : decode cX7_readsNode 75 = .ok (.ifCond .eq 7, 3) := dk_153 0 7 (dk_at dksX7_readsNode_3 3 rfl rfl)
theorem dX7_readsNode_78 : decode cX7_readsNode 78 = .ok (.iconst 1, 1) := dk_4 (dk_at dksX7_readsNode_3 6 rfl rfl)
theorem dX7_readsNode_79 : decode cX7_readsNode 79 = .ok (.goto 4, 3) := dk_167 0 4 (dk_at dksX7_readsNode_3 7 rfl rfl)
theorem dX7_readsNode_82 : decode cX7_readsNode 82 = .ok (.iconst 2, 1) := dk_5 (dk_at dksX7_readsNode_3 10 rfl rfl)
theorem dX7_readsNode_83 : decode cX7_readsNode 83 = .ok (.istore_n 2, 1) := dk_61 (dk_at dksX7_readsNode_3 11 rfl rfl)
theorem dX7_readsNode_84 : decode cX7_readsNode 84 = .ok (.aload_n 0, 1) := dk_42 (dk_at dksX7_readsNode_3 12 rfl rfl)
theorem dX7_readsNode_85 : decode cX7_readsNode 85 = .ok (.aload_n 0, 1) := dk_42 (dk_at dksX7_readsNode_3 13 rfl rfl)
theorem dX7_readsNode_86 : decode cX7_readsNode 86 = .ok (.bipush 58, 2) := dk_16 58 (dk_at dksX7_readsNode_3 14 rfl rfl)
theorem dX7_readsNode_88 : decode cX7_readsNode 88 = .ok (.invokevirtual 154, 3) := dk_182 0 154 (dk_at dksX7_readsNode_3 16 rfl rfl)
theorem dX7_readsNode_91 : decode cX7_readsNode 91 = .ok (.ifCond .eq 12, 3) := dk_153 0 12 (dk_at dksX7_readsNode_3 19 rfl rfl)
theorem dX7_readsNode_94 : decode cX7_readsNode 94 = .ok (.aload_n 0, 1) := dk_42 (dk_at dksX7_readsNode_3 22 rfl rfl)
theorem dX7_readsNode_95 : decode cX7_readsNode 95 = .ok (.getfield 191, 3) := dk_180 0 191 (dk_at dksX7_readsNode_4 0 rfl rfl)
theorem dX7_readsNode_98 : decode cX7_readsNode 98 = .ok (.bipush 6, 2) := dk_16 6 (dk_at dksX7_readsNode_4 3 rfl rfl)
theorem dX7_readsNode_100 : decode cX7_readsNode 100 = .ok (.if_icmp .lt 29, 3) := dk_161 0 29 (dk_at dksX7_readsNode_4 5 rfl rfl)
theorem dX7_readsNode_103 : decode cX7_readsNode 103 = .ok (.aload_n 0, 1) := dk_42 (dk_at dksX7_readsNode_4 8 rfl rfl)
theorem dX7_readsNode_104 : decode cX7_readsNode 104 = .ok (.bipush 64, 2) := dk_16 64 (dk_at dksX7_readsNode_4 9 rfl rfl)
theorem dX7_readsNode_106 : decode cX7_readsNode 106 = .ok (.invokevirtual 154, 3) := dk_182 0 154 (dk_at dksX7_readsNode_4 11 rfl rfl)
theorem dX7_readsNode_109 : decode cX7_readsNode 109 = .ok (.ifCond .ne 20, 3) := dk_154 0 20 (dk_at dksX7_readsNode_4 14 rfl rfl)
theorem dX7_readsNode_112 : decode cX7_readsNode 112 = .ok (.aload_n 0, 1) := dk_42 (dk_at dksX7_readsNode_4 17 rfl rfl)
theorem dX7_readsNode_113 : decode cX7_readsNode 113 = .ok (.bipush 61, 2) := dk_16 61 (dk_at dksX7_readsNode_4 18 rfl rfl)
theorem dX7_readsNode_115 : decode cX7_readsNode 115 = .ok (.invokevirtual 154, 3) := dk_182 0 154 (dk_at dksX7_readsNode_4 20 rfl rfl)
theorem dX7_readsNode_118 : decode cX7_readsNode 118 = .ok (.ifCond .eq 15, 3) := dk_153 0 15 (dk_at dksX7_readsNode_5 0 rfl rfl)
theorem dX7_readsNode_121 : decode cX7_readsNode 121 = .ok (.aload_n 0, 1) := dk_42 (dk_at dksX7_readsNode_5 3 rfl rfl)
theorem dX7_readsNode_122 : decode cX7_readsNode 122 = .ok (.getfield 157, 3) := dk_180 0 157 (dk_at dksX7_readsNode_5 4 rfl rfl)
theorem dX7_readsNode_125 : decode cX7_readsNode 125 = .ok (.iconst 4, 1) := dk_7 (dk_at dksX7_readsNode_5 7 rfl rfl)
theorem dX7_readsNode_126 : decode cX7_readsNode 126 = .ok (.if_icmp .ge 7, 3) := dk_162 0 7 (dk_at dksX7_readsNode_5 8 rfl rfl)
theorem dX7_readsNode_129 : decode cX7_readsNode 129 = .ok (.iconst 1, 1) := dk_4 (dk_at dksX7_readsNode_5 11 rfl rfl)
theorem dX7_readsNode_130 : decode cX7_readsNode 130 = .ok (.goto 4, 3) := dk_167 0 4 (dk_at dksX7_readsNode_5 12 rfl rfl)
theorem dX7_readsNode_133 : decode cX7_readsNode 133 = .ok (.iconst 0, 1) := dk_3 (dk_at dksX7_readsNode_5 15 rfl rfl)
theorem dX7_readsNode_134 : decode cX7_readsNode 134 = .ok (.invokevirtual 125, 3) := dk_182 0 125 (dk_at dksX7_readsNode_5 16 rfl rfl)
theorem dX7_readsNode_137 : decode cX7_readsNode 137 = .ok (.aload_n 0, 1) := dk_42 (dk_at dksX7_readsNode_5 19 rfl rfl)
theorem dX7_readsNode_138 : decode cX7_readsNode 138 = .ok (.iconst 1, 1) := dk_4 (dk_at dksX7_readsNode_5 20 rfl rfl)
theorem dX7_readsNode_139 : decode cX7_readsNode 139 = .ok (.invokevirtual 141, 3) := dk_182 0 141 (dk_at dksX7_readsNode_5 21 rfl rfl)
theorem dX7_readsNode_142 : decode cX7_readsNode 142 = .ok (.bipush (-9), 2) := dk_16 247 (dk_at dksX7_readsNode_6 0 rfl rfl)
theorem dX7_readsNode_144 : decode cX7_readsNode 144 = .ok (.istore_n 3, 1) := dk_62 (dk_at dksX7_readsNode_6 2 rfl rfl)
theorem dX7_readsNode_145 : decode cX7_readsNode 145 = .ok (.bipush (-9), 2) := dk_16 247 (dk_at dksX7_readsNode_6 3 rfl rfl)
theorem dX7_readsNode_147 : decode cX7_readsNode 147 = .ok (.istore 4, 2) := dk_54 4 (dk_at dksX7_readsNode_6 5 rfl rfl)
theorem dX7_readsNode_149 : decode cX7_readsNode 149 = .ok (.aload_n 0, 1) := dk_42 (dk_at dksX7_readsNode_6 7 rfl rfl)
theorem dX7_readsNode_150 : decode cX7_readsNode 150 = .ok (.getfield 122, 3) := dk_180 0 122 (dk_at dksX7_readsNode_6 8 rfl rfl)
theorem dX7_readsNode_153 : decode cX7_readsNode 153 = .ok (.bipush (-9), 2) := dk_16 247 (dk_at dksX7_readsNode_6 11 rfl rfl)
theorem dX7_readsNode_155 : decode cX7_readsNode 155 = .ok (.if_icmp .ne 50, 3) := dk_160 0 50 (dk_at dksX7_readsNode_6 13 rfl rfl)
theorem dX7_readsNode_158 : decode cX7_readsNode 158 = .ok (.iload_n 2, 1) := dk_28 (dk_at dksX7_readsNode_6 16 rfl rfl)
theorem dX7_readsNode_159 : decode cX7_readsNode 159 = .ok (.ifCond .ne 46, 3) := dk_154 0 46 (dk_at dksX7_readsNode_6 17 rfl rfl)
theorem dX7_readsNode_162 : decode cX7_readsNode 162 = .ok (.aload_n 0, 1) := dk_42 (dk_at dksX7_readsNode_6 20 rfl rfl)
theorem dX7_readsNode_163 : decode cX7_readsNode 163 = .ok (.aload_n 0, 1) := dk_42 (dk_at dksX7_readsNode_6 21 rfl rfl)
theorem dX7_readsNode_164 : decode cX7_readsNode 164 = .ok (.getfield 109, 3) := dk_180 0 109 (dk_at dksX7_readsNode_7 0 rfl rfl)
theorem dX7_readsNode_167 : decode cX7_readsNode 167 = .ok (.iconst 2, 1) := dk_5 (dk_at dksX7_readsNode_7 3 rfl rfl)
theorem dX7_readsNode_168 : decode cX7_readsNode 168 = .ok (.if_icmp .ne 20, 3) := dk_160 0 20 (dk_at dksX7_readsNode_7 4 rfl rfl)
theorem dX7_readsNode_171 : decode cX7_readsNode 171 = .ok (.aload_n 0, 1) := dk_42 (dk_at dksX7_readsNode_7 7 rfl rfl)
theorem dX7_readsNode_172 : decode cX7_readsNode 172 = .ok (.getfield 116, 3) := dk_180 0 116 (dk_at dksX7_readsNode_7 8 rfl rfl)
theorem dX7_readsNode_175 : decode cX7_readsNode 175 = .ok (.iconst 1, 1) := dk_4 (dk_at dksX7_readsNode_7 11 rfl rfl)
theorem dX7_readsNode_176 : decode cX7_readsNode 176 = .ok (.bipush 8, 2) := dk_16 8 (dk_at dksX7_readsNode_7 12 rfl rfl)
theorem dX7_readsNode_178 : decode cX7_readsNode 178 = .ok (.invokestatic 95, 3) := dk_184 0 95 (dk_at dksX7_readsNode_7 14 rfl rfl)
theorem dX7_readsNode_181 : decode cX7_readsNode 181 = .ok (.ifCond .eq 7, 3) := dk_153 0 7 (dk_at dksX7_readsNode_7 17 rfl rfl)
theorem dX7_readsNode_184 : decode cX7_readsNode 184 = .ok (.iconst 1, 1) := dk_4 (dk_at dksX7_readsNode_7 20 rfl rfl)
theorem dX7_readsNode_185 : decode cX7_readsNode 185 = .ok (.goto 4, 3) := dk_167 0 4 (dk_at dksX7_readsNode_7 21 rfl rfl)
theorem dX7_readsNode_188 : decode cX7_readsNode 188 = .ok (.iconst 0, 1) := dk_3 (dk_at dksX7_readsNode_8 0 rfl rfl)
theorem dX7_readsNode_189 : decode cX7_readsNode 189 = .ok (.invokevirtual 125, 3) := dk_182 0 125 (dk_at dksX7_readsNode_8 1 rfl rfl)
theorem dX7_readsNode_192 : decode cX7_readsNode 192 = .ok (.aload_n 0, 1) := dk_42 (dk_at dksX7_readsNode_8 4 rfl rfl)
theorem dX7_readsNode_193 : decode cX7_readsNode 193 = .ok (.getfield 116, 3) := dk_180 0 116 (dk_at dksX7_readsNode_8 5 rfl rfl)
theorem dX7_readsNode_196 : decode cX7_readsNode 196 = .ok (.istore_n 3, 1) := dk_62 (dk_at dksX7_readsNode_8 8 rfl rfl)
theorem dX7_readsNode_197 : decode cX7_readsNode 197 = .ok (.aload_n 0, 1) := dk_42 (dk_at dksX7_readsNode_8 9 rfl rfl)
theorem dX7_readsNode_198 : decode cX7_readsNode 198 = .ok (.iconst 1, 1) := dk_4 (dk_at dksX7_readsNode_8 10 rfl rfl)
theorem dX7_readsNode_199 : decode cX7_readsNode 199 = .ok (.invokevirtual 141, 3) := dk_182 0 141 (dk_at dksX7_readsNode_8 11 rfl rfl)
theorem dX7_readsNode_202 : decode cX7_readsNode 202 = .ok (.goto 39, 3) := dk_167 0 39 (dk_at dksX7_readsNode_8 14 rfl rfl)
theorem dX7_readsNode_205 : decode cX7_readsNode 205 = .ok (.aload_n 0, 1) := dk_42 (dk_at dksX7_readsNode_8 17 rfl rfl)
theorem dX7_readsNode_206 : decode cX7_readsNode 206 = .ok (.getfield 122, 3) := dk_180 0 122 (dk_at dksX7_readsNode_8 18 rfl rfl)
theorem dX7_readsNode_209 : decode cX7_readsNode 209 = .ok (.bipush (-9), 2) := dk_16 247 (dk_at dksX7_readsNode_8 21 rfl rfl)
theorem dX7_readsNode_211 : decode cX7_readsNode 211 = .ok (.if_icmp .ne 17, 3) := dk_160 0 17 (dk_at dksX7_readsNode_9 0 rfl rfl)
theorem dX7_readsNode_214 : decode cX7_readsNode 214 = .ok (.iload_n 2, 1) := dk_28 (dk_at dksX7_readsNode_9 3 rfl rfl)
theorem dX7_readsNode_215 : decode cX7_readsNode 215 = .ok (.iconst 1, 1) := dk_4 (dk_at dksX7_readsNode_9 4 rfl rfl)
theorem dX7_readsNode_216 : decode cX7_readsNode 216 = .ok (.if_icmp .ne 12, 3) := dk_160 0 12 (dk_at dksX7_readsNode_9 5 rfl rfl)
theorem dX7_readsNode_219 : decode cX7_readsNode 219 = .ok (.aload_n 0, 1) := dk_42 (dk_at dksX7_readsNode_9 8 rfl rfl)
theorem dX7_readsNode_220 : decode cX7_readsNode 220 = .ok (.invokevirtual 177, 3) := dk_182 0 177 (dk_at dksX7_readsNode_9 9 rfl rfl)
theorem dX7_readsNode_223 : decode cX7_readsNode 223 = .ok (.istore 4, 2) := dk_54 4 (dk_at dksX7_readsNode_9 12 rfl rfl)
theorem dX7_readsNode_225 : decode cX7_readsNode 225 = .ok (.goto 16, 3) := dk_167 0 16 (dk_at dksX7_readsNode_9 14 rfl rfl)
theorem dX7_readsNode_228 : decode cX7_readsNode 228 = .ok (.aload_n 0, 1) := dk_42 (dk_at dksX7_readsNode_9 17 rfl rfl)
theorem dX7_readsNode_229 : decode cX7_readsNode 229 = .ok (.getfield 122, 3) := dk_180 0 122 (dk_at dksX7_readsNode_9 18 rfl rfl)
theorem dX7_readsNode_232 : decode cX7_readsNode 232 = .ok (.bipush (-9), 2) := dk_16 247 (dk_at dksX7_readsNode_9 21 rfl rfl)
theorem dX7_readsNode_234 : decode cX7_readsNode 234 = .ok (.if_icmp .ne 7, 3) := dk_160 0 7 (dk_at dksX7_readsNode_10 0 rfl rfl)
theorem dX7_readsNode_237 : decode cX7_readsNode 237 = .ok (.aload_n 0, 1) := dk_42 (dk_at dksX7_readsNode_10 3 rfl rfl)
theorem dX7_readsNode_238 : decode cX7_readsNode 238 = .ok (.invokevirtual 194, 3) := dk_182 0 194 (dk_at dksX7_readsNode_10 4 rfl rfl)
theorem dX7_readsNode_241 : decode cX7_readsNode 241 = .ok (.aload_n 0, 1) := dk_42 (dk_at dksX7_readsNode_10 7 rfl rfl)
theorem dX7_readsNode_242 : decode cX7_readsNode 242 = .ok (.getfield 122, 3) := dk_180 0 122 (dk_at dksX7_readsNode_10 8 rfl rfl)
theorem dX7_readsNode_245 : decode cX7_readsNode 245 = .ok (.bipush (-9), 2) := dk_16 247 (dk_at dksX7_readsNode_10 11 rfl rfl)
theorem dX7_readsNode_247 : decode cX7_readsNode 247 = .ok (.if_icmp .ne 158, 3) := dk_160 0 158 (dk_at dksX7_readsNode_10 13 rfl rfl)
theorem dX7_readsNode_250 : decode cX7_readsNode 250 = .ok (.aload_n 0, 1) := dk_42 (dk_at dksX7_readsNode_10 16 rfl rfl)
theorem dX7_readsNode_251 : decode cX7_readsNode 251 = .ok (.getfield 41, 3) := dk_180 0 41 (dk_at dksX7_readsNode_10 17 rfl rfl)
theorem dX7_readsNode_254 : decode cX7_readsNode 254 = .ok (.bipush 6, 2) := dk_16 6 (dk_at dksX7_readsNode_10 20 rfl rfl)
theorem dX7_readsNode_256 : decode cX7_readsNode 256 = .ok (.aload_n 0, 1) := dk_42 (dk_at dksX7_readsNode_10 22 rfl rfl)
theorem dX7_readsNode_257 : decode cX7_readsNode 257 = .ok (.getfield 132, 3) := dk_180 0 132 (dk_at dksX7_readsNode_11 0 rfl rfl)
theorem dX7_readsNode_260 : decode cX7_readsNode 260 = .ok (.imul, 1) := dk_104 (dk_at dksX7_readsNode_11 3 rfl rfl)
theorem dX7_readsNode_261 : decode cX7_readsNode 261 = .ok (.iconst 0, 1) := dk_3 (dk_at dksX7_readsNode_11 4 rfl rfl)
theorem dX7_readsNode_262 : decode cX7_readsNode 262 = .ok (.iadd, 1) := dk_96 (dk_at dksX7_readsNode_11 5 rfl rfl)
theorem dX7_readsNode_263 : decode cX7_readsNode 263 = .ok (.iload_n 2, 1) := dk_28 (dk_at dksX7_readsNode_11 6 rfl rfl)
theorem dX7_readsNode_264 : decode cX7_readsNode 264 = .ok (.iastore, 1) := dk_79 (dk_at dksX7_readsNode_11 7 rfl rfl)
theorem dX7_readsNode_265 : decode cX7_readsNode 265 = .ok (.aload_n 0, 1) := dk_42 (dk_at dksX7_readsNode_11 8 rfl rfl)
theorem dX7_readsNode_266 : decode cX7_readsNode 266 = .ok (.getfield 41, 3) := dk_180 0 41 (dk_at dksX7_readsNode_11 9 rfl rfl)
theorem dX7_readsNode_269 : decode cX7_readsNode 269 = .ok (.bipush 6, 2) := dk_16 6 (dk_at dksX7_readsNode_11 12 rfl rfl)
theorem dX7_readsNode_271 : decode cX7_readsNode 271 = .ok (.aload_n 0, 1) := dk_42 (dk_at dksX7_readsNode_11 14 rfl rfl)
theorem dX7_readsNode_272 : decode cX7_readsNode 272 = .ok (.getfield 132, 3) := dk_180 0 132 (dk_at dksX7_readsNode_11 15 rfl rfl)
theorem dX7_readsNode_275 : decode cX7_readsNode 275 = .ok (.imul, 1) := dk_104 (dk_at dksX7_readsNode_11 18 rfl rfl)
theorem dX7_readsNode_276 : decode cX7_readsNode 276 = .ok (.iconst 1, 1) := dk_4 (dk_at dksX7_readsNode_11 19 rfl rfl)
theorem dX7_readsNode_277 : decode cX7_readsNode 277 = .ok (.iadd, 1) := dk_96 (dk_at dksX7_readsNode_11 20 rfl rfl)
theorem dX7_readsNode_278 : decode cX7_readsNode 278 = .ok (.iload_n 3, 1) := dk_29 (dk_at dksX7_readsNode_11 21 rfl rfl)
theorem dX7_readsNode_279 : decode cX7_readsNode 279 = .ok (.iastore, 1) := dk_79 (dk_at dksX7_readsNode_11 22 rfl rfl)
theorem dX7_readsNode_280 : decode cX7_readsNode 280 = .ok (.aload_n 0, 1) := dk_42 (dk_at dksX7_readsNode_11 23 rfl rfl)
theorem dX7_readsNode_281 : decode cX7_readsNode 281 = .ok (.getfield 41, 3) := dk_180 0 41 (dk_at dksX7_readsNode_12 0 rfl rfl)
theorem dX7_readsNode_284 : decode cX7_readsNode 284 = .ok (.bipush 6, 2) := dk_16 6 (dk_at dksX7_readsNode_12 3 rfl rfl)
theorem dX7_readsNode_286 : decode cX7_readsNode 286 = .ok (.aload_n 0, 1) := dk_42 (dk_at dksX7_readsNode_12 5 rfl rfl)
theorem dX7_readsNode_287 : decode cX7_readsNode 287 = .ok (.getfield 132, 3) := dk_180 0 132 (dk_at dksX7_readsNode_12 6 rfl rfl)
theorem dX7_readsNode_290 : decode cX7_readsNode 290 = .ok (.imul, 1) := dk_104 (dk_at dksX7_readsNode_12 9 rfl rfl)
theorem dX7_readsNode_291 : decode cX7_readsNode 291 = .ok (.iconst 2, 1) := dk_5 (dk_at dksX7_readsNode_12 10 rfl rfl)
theorem dX7_readsNode_292 : decode cX7_readsNode 292 = .ok (.iadd, 1) := dk_96 (dk_at dksX7_readsNode_12 11 rfl rfl)
theorem dX7_readsNode_293 : decode cX7_readsNode 293 = .ok (.iload 4, 2) := dk_21 4 (dk_at dksX7_readsNode_12 12 rfl rfl)
theorem dX7_readsNode_295 : decode cX7_readsNode 295 = .ok (.iastore, 1) := dk_79 (dk_at dksX7_readsNode_12 14 rfl rfl)
theorem dX7_readsNode_296 : decode cX7_readsNode 296 = .ok (.aload_n 0, 1) := dk_42 (dk_at dksX7_readsNode_12 15 rfl rfl)
theorem dX7_readsNode_297 : decode cX7_readsNode 297 = .ok (.getfield 41, 3) := dk_180 0 41 (dk_at dksX7_readsNode_12 16 rfl rfl)
theorem dX7_readsNode_300 : decode cX7_readsNode 300 = .ok (.bipush 6, 2) := dk_16 6 (dk_at dksX7_readsNode_12 19 rfl rfl)
theorem dX7_readsNode_302 : decode cX7_readsNode 302 = .ok (.aload_n 0, 1) := dk_42 (dk_at dksX7_readsNode_12 21 rfl rfl)
theorem dX7_readsNode_303 : decode cX7_readsNode 303 = .ok (.getfield 132, 3) := dk_180 0 132 (dk_at dksX7_readsNode_13 0 rfl rfl)
theorem dX7_readsNode_306 : decode cX7_readsNode 306 = .ok (.imul, 1) := dk_104 (dk_at dksX7_readsNode_13 3 rfl rfl)
theorem dX7_readsNode_307 : decode cX7_readsNode 307 = .ok (.iconst 3, 1) := dk_6 (dk_at dksX7_readsNode_13 4 rfl rfl)
theorem dX7_readsNode_308 : decode cX7_readsNode 308 = .ok (.iadd, 1) := dk_96 (dk_at dksX7_readsNode_13 5 rfl rfl)
theorem dX7_readsNode_309 : decode cX7_readsNode 309 = .ok (.aload_n 0, 1) := dk_42 (dk_at dksX7_readsNode_13 6 rfl rfl)
theorem dX7_readsNode_310 : decode cX7_readsNode 310 = .ok (.getfield 144, 3) := dk_180 0 144 (dk_at dksX7_readsNode_13 7 rfl rfl)
theorem dX7_readsNode_313 : decode cX7_readsNode 313 = .ok (.iastore, 1) := dk_79 (dk_at dksX7_readsNode_13 10 rfl rfl)
theorem dX7_readsNode_314 : decode cX7_readsNode 314 = .ok (.aload_n 0, 1) := dk_42 (dk_at dksX7_readsNode_13 11 rfl rfl)
theorem dX7_readsNode_315 : decode cX7_readsNode 315 = .ok (.getfield 41, 3) := dk_180 0 41 (dk_at dksX7_readsNode_13 12 rfl rfl)
theorem dX7_readsNode_318 : decode cX7_readsNode 318 = .ok (.bipush 6, 2) := dk_16 6 (dk_at dksX7_readsNode_13 15 rfl rfl)
theorem dX7_readsNode_320 : decode cX7_readsNode 320 = .ok (.aload_n 0, 1) := dk_42 (dk_at dksX7_readsNode_13 17 rfl rfl)
theorem dX7_readsNode_321 : decode cX7_readsNode 321 = .ok (.getfield 132, 3) := dk_180 0 132 (dk_at dksX7_readsNode_13 18 rfl rfl)
theorem dX7_readsNode_324 : decode cX7_readsNode 324 = .ok (.imul, 1) := dk_104 (dk_at dksX7_readsNode_13 21 rfl rfl)
theorem dX7_readsNode_325 : decode cX7_readsNode 325 = .ok (.iconst 4, 1) := dk_7 (dk_at dksX7_readsNode_13 22 rfl rfl)
theorem dX7_readsNode_326 : decode cX7_readsNode 326 = .ok (.iadd, 1) := dk_96 (dk_at dksX7_readsNode_13 23 rfl rfl)
theorem dX7_readsNode_327 : decode cX7_readsNode 327 = .ok (.iload_n 1, 1) := dk_27 (dk_at dksX7_readsNode_14 0 rfl rfl)
theorem dX7_readsNode_328 : decode cX7_readsNode 328 = .ok (.iastore, 1) := dk_79 (dk_at dksX7_readsNode_14 1 rfl rfl)
theorem dX7_readsNode_329 : decode cX7_readsNode 329 = .ok (.aload_n 0, 1) := dk_42 (dk_at dksX7_readsNode_14 2 rfl rfl)
theorem dX7_readsNode_330 : decode cX7_readsNode 330 = .ok (.getfield 41, 3) := dk_180 0 41 (dk_at dksX7_readsNode_14 3 rfl rfl)
theorem dX7_readsNode_333 : decode cX7_readsNode 333 = .ok (.bipush 6, 2) := dk_16 6 (dk_at dksX7_readsNode_14 6 rfl rfl)
theorem dX7_readsNode_335 : decode cX7_readsNode 335 = .ok (.aload_n 0, 1) := dk_42 (dk_at dksX7_readsNode_14 8 rfl rfl)
theorem dX7_readsNode_336 : decode cX7_readsNode 336 = .ok (.getfield 132, 3) := dk_180 0 132 (dk_at dksX7_readsNode_14 9 rfl rfl)
theorem dX7_readsNode_339 : decode cX7_readsNode 339 = .ok (.imul, 1) := dk_104 (dk_at dksX7_readsNode_14 12 rfl rfl)
theorem dX7_readsNode_340 : decode cX7_readsNode 340 = .ok (.iconst 5, 1) := dk_8 (dk_at dksX7_readsNode_14 13 rfl rfl)
theorem dX7_readsNode_341 : decode cX7_readsNode 341 = .ok (.iadd, 1) := dk_96 (dk_at dksX7_readsNode_14 14 rfl rfl)
theorem dX7_readsNode_342 : decode cX7_readsNode 342 = .ok (.iload_n 2, 1) := dk_28 (dk_at dksX7_readsNode_14 15 rfl rfl)
theorem dX7_readsNode_343 : decode cX7_readsNode 343 = .ok (.ifCond .ne 10, 3) := dk_154 0 10 (dk_at dksX7_readsNode_14 16 rfl rfl)
theorem dX7_readsNode_346 : decode cX7_readsNode 346 = .ok (.aload_n 0, 1) := dk_42 (dk_at dksX7_readsNode_14 19 rfl rfl)
theorem dX7_readsNode_347 : decode cX7_readsNode 347 = .ok (.getfield 191, 3) := dk_180 0 191 (dk_at dksX7_readsNode_14 20 rfl rfl)
theorem dX7_readsNode_350 : decode cX7_readsNode 350 = .ok (.goto 7, 3) := dk_167 0 7 (dk_at dksX7_readsNode_15 0 rfl rfl)
theorem dX7_readsNode_353 : decode cX7_readsNode 353 = .ok (.aload_n 0, 1) := dk_42 (dk_at dksX7_readsNode_15 3 rfl rfl)
theorem dX7_readsNode_354 : decode cX7_readsNode 354 = .ok (.getfield 157, 3) := dk_180 0 157 (dk_at dksX7_readsNode_15 4 rfl rfl)
theorem dX7_readsNode_357 : decode cX7_readsNode 357 = .ok (.iastore, 1) := dk_79 (dk_at dksX7_readsNode_15 7 rfl rfl)
theorem dX7_readsNode_358 : decode cX7_readsNode 358 = .ok (.aload_n 0, 1) := dk_42 (dk_at dksX7_readsNode_15 8 rfl rfl)
theorem dX7_readsNode_359 : decode cX7_readsNode 359 = .ok (.dup, 1) := dk_89 (dk_at dksX7_readsNode_15 9 rfl rfl)
theorem dX7_readsNode_360 : decode cX7_readsNode 360 = .ok (.getfield 132, 3) := dk_180 0 132 (dk_at dksX7_readsNode_15 10 rfl rfl)
theorem dX7_readsNode_363 : decode cX7_readsNode 363 = .ok (.iconst 1, 1) := dk_4 (dk_at dksX7_readsNode_15 13 rfl rfl)
theorem dX7_readsNode_364 : decode cX7_readsNode 364 = .ok (.iadd, 1) := dk_96 (dk_at dksX7_readsNode_15 14 rfl rfl)
theorem dX7_readsNode_365 : decode cX7_readsNode 365 = .ok (.putfield 132, 3) := dk_181 0 132 (dk_at dksX7_readsNode_15 15 rfl rfl)
theorem dX7_readsNode_368 : decode cX7_readsNode 368 = .ok (.aload_n 0, 1) := dk_42 (dk_at dksX7_readsNode_15 18 rfl rfl)
theorem dX7_readsNode_369 : decode cX7_readsNode 369 = .ok (.dup, 1) := dk_89 (dk_at dksX7_readsNode_15 19 rfl rfl)
theorem dX7_readsNode_370 : decode cX7_readsNode 370 = .ok (.getfield 191, 3) := dk_180 0 191 (dk_at dksX7_readsNode_15 20 rfl rfl)
theorem dX7_readsNode_373 : decode cX7_readsNode 373 = .ok (.iload_n 2, 1) := dk_28 (dk_at dksX7_readsNode_15 23 rfl rfl)
theorem dX7_readsNode_374 : decode cX7_readsNode 374 = .ok (.ifCond .ne 7, 3) := dk_154 0 7 (dk_at dksX7_readsNode_16 0 rfl rfl)
theorem dX7_readsNode_377 : decode cX7_readsNode 377 = .ok (.iconst 1, 1) := dk_4 (dk_at dksX7_readsNode_16 3 rfl rfl)
theorem dX7_readsNode_378 : decode cX7_readsNode 378 = .ok (.goto 4, 3) := dk_167 0 4 (dk_at dksX7_readsNode_16 4 rfl rfl)
theorem dX7_readsNode_381 : decode cX7_readsNode 381 = .ok (.iconst 0, 1) := dk_3 (dk_at dksX7_readsNode_16 7 rfl rfl)
theorem dX7_readsNode_382 : decode cX7_readsNode 382 = .ok (.iadd, 1) := dk_96 (dk_at dksX7_readsNode_16 8 rfl rfl)
theorem dX7_readsNode_383 : decode cX7_readsNode 383 = .ok (.putfield 191, 3) := dk_181 0 191 (dk_at dksX7_readsNode_16 9 rfl rfl)
theorem dX7_readsNode_386 : decode cX7_readsNode 386 = .ok (.aload_n 0, 1) := dk_42 (dk_at dksX7_readsNode_16 12 rfl rfl)
theorem dX7_readsNode_387 : decode cX7_readsNode 387 = .ok (.dup, 1) := dk_89 (dk_at dksX7_readsNode_16 13 rfl rfl)
theorem dX7_readsNode_388 : decode cX7_readsNode 388 = .ok (.getfield 157, 3) := dk_180 0 157 (dk_at dksX7_readsNode_16 14 rfl rfl)
theorem dX7_readsNode_391 : decode cX7_readsNode 391 = .ok (.iload_n 2, 1) := dk_28 (dk_at dksX7_readsNode_16 17 rfl rfl)
theorem dX7_readsNode_392 : decode cX7_readsNode 392 = .ok (.iconst 2, 1) := dk_5 (dk_at dksX7_readsNode_16 18 rfl rfl)
theorem dX7_readsNode_393 : decode cX7_readsNode 393 = .ok (.if_icmp .ne 7, 3) := dk_160 0 7 (dk_at dksX7_readsNode_16 19 rfl rfl)
theorem dX7_readsNode_396 : decode cX7_readsNode 396 = .ok (.iconst 1, 1) := dk_4 (dk_at dksX7_readsNode_16 22 rfl rfl)
theorem dX7_readsNode_397 : decode cX7_readsNode 397 = .ok (.goto 4, 3) := dk_167 0 4 (dk_at dksX7_readsNode_17 0 rfl rfl)
theorem dX7_readsNode_400 : decode cX7_readsNode 400 = .ok (.iconst 0, 1) := dk_3 (dk_at dksX7_readsNode_17 3 rfl rfl)
theorem dX7_readsNode_401 : decode cX7_readsNode 401 = .ok (.iadd, 1) := dk_96 (dk_at dksX7_readsNode_17 4 rfl rfl)
theorem dX7_readsNode_402 : decode cX7_readsNode 402 = .ok (.putfield 157, 3) := dk_181 0 157 (dk_at dksX7_readsNode_17 5 rfl rfl)
theorem dX7_readsNode_405 : decode cX7_readsNode 405 = .ok (.return_, 1) := dk_177 (dk_at dksX7_readsNode_17 8 rfl rfl)
abbrev cX7_readsPath : ByteArray := prog_19_method_15_code
def yX7_readsPath : MethodName := ⟨RX7, "readsPath", "()I"⟩
def dkwX7_readsPath_4 : List UInt8 := [29, 60, 42, 4, 182, 0, 141, 42, 42, 16, 46, 182, 0, 154, 182, 0, 141, 167, 255, 151, 3, 172]
abbrev dktX7_readsPath_4 : List UInt8 := dkwX7_readsPath_4 ++ []
def dkwX7_readsPath_3 : List UInt8 := [182, 0, 125, 42, 180, 0, 122, 16, 247, 160, 0, 15, 28, 16, 247, 159, 0, 9, 42, 182, 0, 129, 28, 172]
abbrev dktX7_readsPath_3 : List UInt8 := dkwX7_readsPath_3 ++ dktX7_readsPath_4
def dkwX7_readsPath_2 : List UInt8 := [182, 0, 151, 62, 42, 28, 16, 247, 160, 0, 9, 29, 16, 247, 159, 0, 7, 4, 167, 0, 4, 3]
abbrev dktX7_readsPath_2 : List UInt8 := dkwX7_readsPath_2 ++ dktX7_readsPath_3
def dkwX7_readsPath_1 : List UInt8 := [167, 0, 4, 3, 182, 0, 125, 42, 27, 42, 180, 0, 116, 182, 0, 147, 61, 42, 27, 42, 180, 0, 116]
abbrev dktX7_readsPath_1 : List UInt8 := dkwX7_readsPath_1 ++ dktX7_readsPath_2
def dkwX7_readsPath_0 : List UInt8 := [16, 247, 60, 42, 180, 0, 122, 16, 247, 160, 0, 102, 42, 42, 180, 0, 109, 4, 160, 0, 7, 4]
abbrev dktX7_readsPath_0 : List UInt8 := dkwX7_readsPath_0 ++ dktX7_readsPath_1
theorem dksX7_readsPath_0 : cX7_readsPath.data.toList.drop 0 = dktX7_readsPath_0 := by decide +kernel
theorem dksX7_readsPath_1 : cX7_readsPath.data.toList.drop 22 = dktX7_readsPath_1 := dk_seg dksX7_readsPath_0 22 rfl rfl
theorem dksX7_readsPath_2 : cX7_readsPath.data.toList.drop 45 = dktX7_readsPath_2 := dk_seg dksX7_readsPath_1 23 rfl rfl
theorem dksX7_readsPath_3 : cX7_readsPath.data.toList.drop 67 = dktX7_readsPath_3 := dk_seg dksX7_readsPath_2 22 rfl rfl
theorem dksX7_readsPath_4 : cX7_readsPath.data.toList.drop 91 = dktX7_readsPath_4 := dk_seg dksX7_readsPath_3 24 rfl rfl
theorem dX7_readsPath_0 : decode cX7_readsPath 0 = .ok (.bipush (-9), 2) := dk_16 247 (dk_at dksX7_readsPath_0 0 rfl rfl)
theorem dX7_readsPath_2 : decode cX7_readsPath 2 = .ok (.istore_n 1, 1) := dk_60 (dk_at dksX7_readsPath_0 2 rfl rfl)
theorem dX7_readsPath_3 : decode cX7_readsPath 3 = .ok (.aload_n 0, 1) := dk_42 (dk_at dksX7_readsPath_0 3 rfl rfl)
theorem dX7_readsPath_4 : decode cX7_readsPath 4 = .ok (.getfield 122, 3) := dk_180 0 122 (dk_at dksX7_readsPath_0 4 rfl rfl)
theorem dX7_readsPath_7 : decode cX7_readsPath 7 = .ok (.bipush (-9), 2) := dk_16 247 (dk_at dksX7_readsPath_0 7 rfl rfl)
theorem dX7_readsPath_9 : decode cX7_readsPath 9 = .ok (.if_icmp .ne 102, 3) := dk_160 0 102 (dk_at dksX7_readsPath_0 9 rfl rfl)
theorem dX7_readsPath_12 : decode cX7_readsPath 12 = .ok (.aload_n 0, 1) := dk_42 (dk_at dksX7_readsPath_0 12 rfl rfl)
theorem dX7_readsPath_13 : decode cX7_readsPath 13 = .ok (.aload_n 0, 1) := dk_42 (dk_at dksX7_readsPath_0 13 rfl rfl)
theorem dX7_readsPath_14 : decode cX7_readsPath 14 = .ok (.getfield 109, 3) := dk_180 0 109 (dk_at dksX7_readsPath_0 14 rfl rfl)
theorem dX7_readsPath_17 : decode cX7_readsPath 17 = .ok (.iconst 1, 1) := dk_4 (dk_at dksX7_readsPath_0 17 rfl rfl)
theorem dX7_readsPath_18 : decode cX7_readsPath 18 = .ok (.if_icmp .ne 7, 3) := dk_160 0 7 (dk_at dksX7_readsPath_0 18 rfl rfl)
theorem dX7_readsPath_21 : decode cX7_readsPath 21 = .ok (.iconst 1, 1) := dk_4 (dk_at dksX7_readsPath_0 21 rfl rfl)
theorem dX7_readsPath_22 : decode cX7_readsPath 22 = .ok (.goto 4, 3) := dk_167 0 4 (dk_at dksX7_readsPath_1 0 rfl rfl)
theorem dX7_readsPath_25 : decode cX7_readsPath 25 = .ok (.iconst 0, 1) := dk_3 (dk_at dksX7_readsPath_1 3 rfl rfl)
theorem dX7_readsPath_26 : decode cX7_readsPath 26 = .ok (.invokevirtual 125, 3) := dk_182 0 125 (dk_at dksX7_readsPath_1 4 rfl rfl)
theorem dX7_readsPath_29 : decode cX7_readsPath 29 = .ok (.aload_n 0, 1) := dk_42 (dk_at dksX7_readsPath_1 7 rfl rfl)
theorem dX7_readsPath_30 : decode cX7_readsPath 30 = .ok (.iload_n 1, 1) := dk_27 (dk_at dksX7_readsPath_1 8 rfl rfl)
theorem dX7_readsPath_31 : decode cX7_readsPath 31 = .ok (.aload_n 0, 1) := dk_42 (dk_at dksX7_readsPath_1 9 rfl rfl)
theorem dX7_readsPath_32 : decode cX7_readsPath 32 = .ok (.getfield 116, 3) := dk_180 0 116 (dk_at dksX7_readsPath_1 10 rfl rfl)
theorem dX7_readsPath_35 : decode cX7_readsPath 35 = .ok (.invokevirtual 147, 3) := dk_182 0 147 (dk_at dksX7_readsPath_1 13 rfl rfl)
theorem dX7_readsPath_38 : decode cX7_readsPath 38 = .ok (.istore_n 2, 1) := dk_61 (dk_at dksX7_readsPath_1 16 rfl rfl)
theorem dX7_readsPath_39 : decode cX7_readsPath 39 = .ok (.aload_n 0, 1) := dk_42 (dk_at dksX7_readsPath_1 17 rfl rfl)
theorem dX7_readsPath_40 : decode cX7_readsPath 40 = .ok (.iload_n 1, 1) := dk_27 (dk_at dksX7_readsPath_1 18 rfl rfl)
theorem dX7_readsPath_41 : decode cX7_readsPath 41 = .ok (.aload_n 0, 1) := dk_42 (dk_at dksX7_readsPath_1 19 rfl rfl)
theorem dX7_readsPath_42 : decode cX7_readsPath 42 = .ok (.getfield 116, 3) := dk_180 0 116 (dk_at dksX7_readsPath_1 20 rfl rfl)
theorem dX7_readsPath_45 : decode cX7_readsPath 45 = .ok (.invokevirtual 151, 3) := dk_182 0 151 (dk_at dksX7_readsPath_2 0 rfl rfl)
theorem dX7_readsPath_48 : decode cX7_readsPath 48 = .ok (.istore_n 3, 1) := dk_62 (dk_at dksX7_readsPath_2 3 rfl rfl)
theorem dX7_readsPath_49 : decode cX7_readsPath 49 = .ok (.aload_n 0, 1) := dk_42 (dk_at dksX7_readsPath_2 4 rfl rfl)
theorem dX7_readsPath_50 : decode cX7_readsPath 50 = .ok (.iload_n 2, 1) := dk_28 (dk_at dksX7_readsPath_2 5 rfl rfl)
theorem dX7_readsPath_51 : decode cX7_readsPath 51 = .ok (.bipush (-9), 2) := dk_16 247 (dk_at dksX7_readsPath_2 6 rfl rfl)
theorem dX7_readsPath_53 : decode cX7_readsPath 53 = .ok (.if_icmp .ne 9, 3) := dk_160 0 9 (dk_at dksX7_readsPath_2 8 rfl rfl)
theorem dX7_readsPath_56 : decode cX7_readsPath 56 = .ok (.iload_n 3, 1) := dk_29 (dk_at dksX7_readsPath_2 11 rfl rfl)
theorem dX7_readsPath_57 : decode cX7_readsPath 57 = .ok (.bipush (-9), 2) := dk_16 247 (dk_at dksX7_readsPath_2 12 rfl rfl)
theorem dX7_readsPath_59 : decode cX7_readsPath 59 = .ok (.if_icmp .eq 7, 3) := dk_159 0 7 (dk_at dksX7_readsPath_2 14 rfl rfl)
theorem dX7_readsPath_62 : decode cX7_readsPath 62 = .ok (.iconst 1, 1) := dk_4 (dk_at dksX7_readsPath_2 17 rfl rfl)
theorem dX7_readsPath_63 : decode cX7_readsPath 63 = .ok (.goto 4, 3) := dk_167 0 4 (dk_at dksX7_readsPath_2 18 rfl rfl)
theorem dX7_readsPath_66 : decode cX7_readsPath 66 = .ok (.iconst 0, 1) := dk_3 (dk_at dksX7_readsPath_2 21 rfl rfl)
theorem dX7_readsPath_67 : decode cX7_readsPath 67 = .ok (.invokevirtual 125, 3) := dk_182 0 125 (dk_at dksX7_readsPath_3 0 rfl rfl)
theorem dX7_readsPath_70 : decode cX7_readsPath 70 = .ok (.aload_n 0, 1) := dk_42 (dk_at dksX7_readsPath_3 3 rfl rfl)
theorem dX7_readsPath_71 : decode cX7_readsPath 71 = .ok (.getfield 122, 3) := dk_180 0 122 (dk_at dksX7_readsPath_3 4 rfl rfl)
theorem dX7_readsPath_74 : decode cX7_readsPath 74 = .ok (.bipush (-9), 2) := dk_16 247 (dk_at dksX7_readsPath_3 7 rfl rfl)
theorem dX7_readsPath_76 : decode cX7_readsPath 76 = .ok (.if_icmp .ne 15, 3) := dk_160 0 15 (dk_at dksX7_readsPath_3 9 rfl rfl)
theorem dX7_readsPath_79 : decode cX7_readsPath 79 = .ok (.iload_n 2, 1) := dk_28 (dk_at dksX7_readsPath_3 12 rfl rfl)
theorem dX7_readsPath_80 : decode cX7_readsPath 80 = .ok (.bipush (-9), 2) := dk_16 247 (dk_at dksX7_readsPath_3 13 rfl rfl)
theorem dX7_readsPath_82 : decode cX7_readsPath 82 = .ok (.if_icmp .eq 9, 3) := dk_159 0 9 (dk_at dksX7_readsPath_3 15 rfl rfl)
theorem dX7_readsPath_85 : decode cX7_readsPath 85 = .ok (.aload_n 0, 1) := dk_42 (dk_at dksX7_readsPath_3 18 rfl rfl)
theorem dX7_readsPath_86 : decode cX7_readsPath 86 = .ok (.invokevirtual 129, 3) := dk_182 0 129 (dk_at dksX7_readsPath_3 19 rfl rfl)
theorem dX7_readsPath_89 : decode cX7_readsPath 89 = .ok (.iload_n 2, 1) := dk_28 (dk_at dksX7_readsPath_3 22 rfl rfl)
theorem dX7_readsPath_90 : decode cX7_readsPath 90 = .ok (.ireturn, 1) := dk_172 (dk_at dksX7_readsPath_3 23 rfl rfl)
theorem dX7_readsPath_91 : decode cX7_readsPath 91 = .ok (.iload_n 3, 1) := dk_29 (dk_at dksX7_readsPath_4 0 rfl rfl)
theorem dX7_readsPath_92 : decode cX7_readsPath 92 = .ok (.istore_n 1, 1) := dk_60 (dk_at dksX7_readsPath_4 1 rfl rfl)
theorem dX7_readsPath_93 : decode cX7_readsPath 93 = .ok (.aload_n 0, 1) := dk_42 (dk_at dksX7_readsPath_4 2 rfl rfl)
theorem dX7_readsPath_94 : decode cX7_readsPath 94 = .ok (.iconst 1, 1) := dk_4 (dk_at dksX7_readsPath_4 3 rfl rfl)
theorem dX7_readsPath_95 : decode cX7_readsPath 95 = .ok (.invokevirtual 141, 3) := dk_182 0 141 (dk_at dksX7_readsPath_4 4 rfl rfl)
theorem dX7_readsPath_98 : decode cX7_readsPath 98 = .ok (.aload_n 0, 1) := dk_42 (dk_at dksX7_readsPath_4 7 rfl rfl)
theorem dX7_readsPath_99 : decode cX7_readsPath 99 = .ok (.aload_n 0, 1) := dk_42 (dk_at dksX7_readsPath_4 8 rfl rfl)
theorem dX7_readsPath_100 : decode cX7_readsPath 100 = .ok (.bipush 46, 2) := dk_16 46 (dk_at dksX7_readsPath_4 9 rfl rfl)
theorem dX7_readsPath_102 : decode cX7_readsPath 102 = .ok (.invokevirtual 154, 3) := dk_182 0 154 (dk_at dksX7_readsPath_4 11 rfl rfl)
theorem dX7_readsPath_105 : decode cX7_readsPath 105 = .ok (.invokevirtual 141, 3) := dk_182 0 141 (dk_at dksX7_readsPath_4 14 rfl rfl)
theorem dX7_readsPath_108 : decode cX7_readsPath 108 = .ok (.goto (-105), 3) := dk_167 255 151 (dk_at dksX7_readsPath_4 17 rfl rfl)
theorem dX7_readsPath_111 : decode cX7_readsPath 111 = .ok (.iconst 0, 1) := dk_3 (dk_at dksX7_readsPath_4 20 rfl rfl)
theorem dX7_readsPath_112 : decode cX7_readsPath 112 = .ok (.ireturn, 1) := dk_172 (dk_at dksX7_readsPath_4 21 rfl rfl)
abbrev cX7_readsExpression : ByteArray := prog_19_method_21_code
def yX7_readsExpression : MethodName := ⟨RX7, "readsExpression", "()V"⟩
def dkwX7_readsExpression_6 : List UInt8 := [154, 0, 16, 42, 16, 59, 182, 0, 154, 153, 0, 7, 4, 167, 0, 4, 3, 182, 0, 125, 177]
abbrev dktX7_readsExpression_6 : List UInt8 := dkwX7_readsExpression_6 ++ []
def dkwX7_readsExpression_5 : List UInt8 := [153, 255, 165, 42, 42, 180, 0, 116, 182, 0, 170, 42, 182, 0, 129, 167, 255, 150, 42, 42, 180, 0, 160]
abbrev dktX7_readsExpression_5 : List UInt8 := dkwX7_readsExpression_5 ++ dktX7_readsExpression_6
def dkwX7_readsExpression_4 : List UInt8 := [42, 182, 0, 129, 167, 255, 213, 42, 182, 0, 187, 60, 42, 180, 0, 122, 16, 247, 160, 255, 169, 27]
abbrev dktX7_readsExpression_4 : List UInt8 := dkwX7_readsExpression_4 ++ dktX7_readsExpression_5
def dkwX7_readsExpression_3 : List UInt8 := [153, 0, 31, 42, 180, 0, 160, 158, 0, 24, 42, 89, 180, 0, 160, 4, 100, 181, 0, 160, 42, 182, 0, 184]
abbrev dktX7_readsExpression_3 : List UInt8 := dkwX7_readsExpression_3 ++ dktX7_readsExpression_4
def dkwX7_readsExpression_2 : List UInt8 := [16, 247, 160, 0, 7, 42, 182, 0, 184, 42, 180, 0, 122, 16, 247, 160, 0, 40, 42, 16, 41, 182, 0, 154]
abbrev dktX7_readsExpression_2 : List UInt8 := dkwX7_readsExpression_2 ++ dktX7_readsExpression_3
def dkwX7_readsExpression_1 : List UInt8 := [79, 4, 60, 42, 180, 0, 122, 16, 247, 160, 0, 103, 27, 153, 0, 99, 42, 182, 0, 181, 42, 180, 0, 122]
abbrev dktX7_readsExpression_1 : List UInt8 := dkwX7_readsExpression_1 ++ dktX7_readsExpression_2
def dkwX7_readsExpression_0 : List UInt8 := [42, 3, 181, 0, 160, 42, 3, 181, 0, 174, 42, 3, 181, 0, 167, 42, 180, 0, 53, 42, 180, 0, 157, 3]
abbrev dktX7_readsExpression_0 : List UInt8 := dkwX7_readsExpression_0 ++ dktX7_readsExpression_1
theorem dksX7_readsExpression_0 : cX7_readsExpression.data.toList.drop 0 = dktX7_readsExpression_0 := by decide +kernel
theorem dksX7_readsExpression_1 : cX7_readsExpression.data.toList.drop 24 = dktX7_readsExpression_1 := dk_seg dksX7_readsExpression_0 24 rfl rfl
theorem dksX7_readsExpression_2 : cX7_readsExpression.data.toList.drop 48 = dktX7_readsExpression_2 := dk_seg dksX7_readsExpression_1 24 rfl rfl
theorem dksX7_readsExpression_3 : cX7_readsExpression.data.toList.drop 72 = dktX7_readsExpression_3 := dk_seg dksX7_readsExpression_2 24 rfl rfl
theorem dksX7_readsExpression_4 : cX7_readsExpression.data.toList.drop 96 = dktX7_readsExpression_4 := dk_seg dksX7_readsExpression_3 24 rfl rfl
theorem dksX7_readsExpression_5 : cX7_readsExpression.data.toList.drop 118 = dktX7_readsExpression_5 := dk_seg dksX7_readsExpression_4 22 rfl rfl
theorem dksX7_readsExpression_6 : cX7_readsExpression.data.toList.drop 141 = dktX7_readsExpression_6 := dk_seg dksX7_readsExpression_5 23 rfl rfl
theorem dX7_readsExpression_0 : decode cX7_readsExpression 0 = .ok (.aload_n 0, 1) := dk_42 (dk_at dksX7_readsExpression_0 0 rfl rfl)
theorem dX7_readsExpression_1 : decode cX7_readsExpression 1 = .ok (.iconst 0, 1) := dk_3 (dk_at dksX7_readsExpression_0 1 rfl rfl)
theorem dX7_readsExpression_2 : decode cX7_readsExpression 2 = .ok (.putfield 160, 3) := dk_181 0 160 (dk_at dksX7_readsExpression_0 2 rfl rfl)
theorem dX7_readsExpression_5 : decode cX7_readsExpression 5 = .ok (.aload_n 0, 1) := dk_42 (dk_at dksX7_readsExpression_0 5 rfl rfl)
theorem dX7_readsExpression_6 : decode cX7_readsExpression 6 = .ok (.iconst 0, 1) := dk_3 (dk_at dksX7_readsExpression_0 6 rfl rfl)
theorem dX7_readsExpression_7 : decode cX7_readsExpression 7 = .ok (.putfield 174, 3) := dk_181 0 174 (dk_at dksX7_readsExpression_0 7 rfl rfl)
theorem dX7_readsExpression_10 : decode cX7_readsExpression 10 = .ok (.aload_n 0, 1) := dk_42 (dk_at dksX7_readsExpression_0 10 rfl rfl)
theorem dX7_readsExpression_11 : decode cX7_readsExpression 11 = .ok (.iconst 0, 1) := dk_3 (dk_at dksX7_readsExpression_0 11 rfl rfl)
theorem dX7_readsExpression_12 : decode cX7_readsExpression 12 = .ok (.putfield 167, 3) := dk_181 0 167 (dk_at dksX7_readsExpression_0 12 rfl rfl)
theorem dX7_readsExpression_15 : decode cX7_readsExpression 15 = .ok (.aload_n 0, 1) := dk_42 (dk_at dksX7_readsExpression_0 15 rfl rfl)
theorem dX7_readsExpression_16 : decode cX7_readsExpression 16 = .ok (.getfield 53, 3) := dk_180 0 53 (dk_at dksX7_readsExpression_0 16 rfl rfl)
theorem dX7_readsExpression_19 : decode cX7_readsExpression 19 = .ok (.aload_n 0, 1) := dk_42 (dk_at dksX7_readsExpression_0 19 rfl rfl)
theorem dX7_readsExpression_20 : decode cX7_readsExpression 20 = .ok (.getfield 157, 3) := dk_180 0 157 (dk_at dksX7_readsExpression_0 20 rfl rfl)
theorem dX7_readsExpression_23 : decode cX7_readsExpression 23 = .ok (.iconst 0, 1) := dk_3 (dk_at dksX7_readsExpression_0 23 rfl rfl)
theorem dX7_readsExpression_24 : decode cX7_readsExpression 24 = .ok (.iastore, 1) := dk_79 (dk_at dksX7_readsExpression_1 0 rfl rfl)
theorem dX7_readsExpression_25 : decode cX7_readsExpression 25 = .ok (.iconst 1, 1) := dk_4 (dk_at dksX7_readsExpression_1 1 rfl rfl)
theorem dX7_readsExpression_26 : decode cX7_readsExpression 26 = .ok (.istore_n 1, 1) := dk_60 (dk_at dksX7_readsExpression_1 2 rfl rfl)
theorem dX7_readsExpression_27 : decode cX7_readsExpression 27 = .ok (.aload_n 0, 1) := dk_42 (dk_at dksX7_readsExpression_1 3 rfl rfl)
theorem dX7_readsExpression_28 : decode cX7_readsExpression 28 = .ok (.getfield 122, 3) := dk_180 0 122 (dk_at dksX7_readsExpression_1 4 rfl rfl)
theorem dX7_readsExpression_31 : decode cX7_readsExpression 31 = .ok (.bipush (-9), 2) := dk_16 247 (dk_at dksX7_readsExpression_1 7 rfl rfl)
theorem dX7_readsExpression_33 : decode cX7_readsExpression 33 = .ok (.if_icmp .ne 103, 3) := dk_160 0 103 (dk_at dksX7_readsExpression_1 9 rfl rfl)
theorem dX7_readsExpression_36 : decode cX7_readsExpression 36 = .ok (.iload_n 1, 1) := dk_27 (dk_at dksX7_readsExpression_1 12 rfl rfl)
theorem dX7_readsExpression_37 : decode cX7_readsExpression 37 = .ok (.ifCond .eq 99, 3) := dk_153 0 99 (dk_at dksX7_readsExpression_1 13 rfl rfl)
theorem dX7_readsExpression_40 : decode cX7_readsExpression 40 = .ok (.aload_n 0, 1) := dk_42 (dk_at dksX7_readsExpression_1 16 rfl rfl)
theorem dX7_readsExpression_41 : decode cX7_readsExpression 41 = .ok (.invokevirtual 181, 3) := dk_182 0 181 (dk_at dksX7_readsExpression_1 17 rfl rfl)
theorem dX7_readsExpression_44 : decode cX7_readsExpression 44 = .ok (.aload_n 0, 1) := dk_42 (dk_at dksX7_readsExpression_1 20 rfl rfl)
theorem dX7_readsExpression_45 : decode cX7_readsExpression 45 = .ok (.getfield 122, 3) := dk_180 0 122 (dk_at dksX7_readsExpression_1 21 rfl rfl)
theorem dX7_readsExpression_48 : decode cX7_readsExpression 48 = .ok (.bipush (-9), 2) := dk_16 247 (dk_at dksX7_readsExpression_2 0 rfl rfl)
theorem dX7_readsExpression_50 : decode cX7_readsExpression 50 = .ok (.if_icmp .ne 7, 3) := dk_160 0 7 (dk_at dksX7_readsExpression_2 2 rfl rfl)
theorem dX7_readsExpression_53 : decode cX7_readsExpression 53 = .ok (.aload_n 0, 1) := dk_42 (dk_at dksX7_readsExpression_2 5 rfl rfl)
theorem dX7_readsExpression_54 : decode cX7_readsExpression 54 = .ok (.invokevirtual 184, 3) := dk_182 0 184 (dk_at dksX7_readsExpression_2 6 rfl rfl)
theorem dX7_readsExpression_57 : decode cX7_readsExpression 57 = .ok (.aload_n 0, 1) := dk_42 (dk_at dksX7_readsExpression_2 9 rfl rfl)
theorem dX7_readsExpression_58 : decode cX7_readsExpression 58 = .ok (.getfield 122, 3) := dk_180 0 122 (dk_at dksX7_readsExpression_2 10 rfl rfl)
theorem dX7_readsExpression_61 : decode cX7_readsExpression 61 = .ok (.bipush (-9), 2) := dk_16 247 (dk_at dksX7_readsExpression_2 13 rfl rfl)
theorem dX7_readsExpression_63 : decode cX7_readsExpression 63 = .ok (.if_icmp .ne 40, 3) := dk_160 0 40 (dk_at dksX7_readsExpression_2 15 rfl rfl)
theorem dX7_readsExpression_66 : decode cX7_readsExpression 66 = .ok (.aload_n 0, 1) := dk_42 (dk_at dksX7_readsExpression_2 18 rfl rfl)
theorem dX7_readsExpression_67 : decode cX7_readsExpression 67 = .ok (.bipush 41, 2) := dk_16 41 (dk_at dksX7_readsExpression_2 19 rfl rfl)
theorem dX7_readsExpression_69 : decode cX7_readsExpression 69 = .ok (.invokevirtual 154, 3) := dk_182 0 154 (dk_at dksX7_readsExpression_2 21 rfl rfl)
theorem dX7_readsExpression_72 : decode cX7_readsExpression 72 = .ok (.ifCond .eq 31, 3) := dk_153 0 31 (dk_at dksX7_readsExpression_3 0 rfl rfl)
theorem dX7_readsExpression_75 : decode cX7_readsExpression 75 = .ok (.aload_n 0, 1) := dk_42 (dk_at dksX7_readsExpression_3 3 rfl rfl)
theorem dX7_readsExpression_76 : decode cX7_readsExpression 76 = .ok (.getfield 160, 3) := dk_180 0 160 (dk_at dksX7_readsExpression_3 4 rfl rfl)
theorem dX7_readsExpression_79 : decode cX7_readsExpression 79 = .ok (.ifCond .le 24, 3) := dk_158 0 24 (dk_at dksX7_readsExpression_3 7 rfl rfl)
theorem dX7_readsExpression_82 : decode cX7_readsExpression 82 = .ok (.aload_n 0, 1) := dk_42 (dk_at dksX7_readsExpression_3 10 rfl rfl)
theorem dX7_readsExpression_83 : decode cX7_readsExpression 83 = .ok (.dup, 1) := dk_89 (dk_at dksX7_readsExpression_3 11 rfl rfl)
theorem dX7_readsExpression_84 : decode cX7_readsExpression 84 = .ok (.getfield 160, 3) := dk_180 0 160 (dk_at dksX7_readsExpression_3 12 rfl rfl)
theorem dX7_readsExpression_87 : decode cX7_readsExpression 87 = .ok (.iconst 1, 1) := dk_4 (dk_at dksX7_readsExpression_3 15 rfl rfl)
theorem dX7_readsExpression_88 : decode cX7_readsExpression 88 = .ok (.isub, 1) := dk_100 (dk_at dksX7_readsExpression_3 16 rfl rfl)
theorem dX7_readsExpression_89 : decode cX7_readsExpression 89 = .ok (.putfield 160, 3) := dk_181 0 160 (dk_at dksX7_readsExpression_3 17 rfl rfl)
theorem dX7_readsExpression_92 : decode cX7_readsExpression 92 = .ok (.aload_n 0, 1) := dk_42 (dk_at dksX7_readsExpression_3 20 rfl rfl)
theorem dX7_readsExpression_93 : decode cX7_readsExpression 93 = .ok (.invokevirtual 184, 3) := dk_182 0 184 (dk_at dksX7_readsExpression_3 21 rfl rfl)
theorem dX7_readsExpression_96 : decode cX7_readsExpression 96 = .ok (.aload_n 0, 1) := dk_42 (dk_at dksX7_readsExpression_4 0 rfl rfl)
theorem dX7_readsExpression_97 : decode cX7_readsExpression 97 = .ok (.invokevirtual 129, 3) := dk_182 0 129 (dk_at dksX7_readsExpression_4 1 rfl rfl)
theorem dX7_readsExpression_100 : decode cX7_readsExpression 100 = .ok (.goto (-43), 3) := dk_167 255 213 (dk_at dksX7_readsExpression_4 4 rfl rfl)
theorem dX7_readsExpression_103 : decode cX7_readsExpression 103 = .ok (.aload_n 0, 1) := dk_42 (dk_at dksX7_readsExpression_4 7 rfl rfl)
theorem dX7_readsExpression_104 : decode cX7_readsExpression 104 = .ok (.invokevirtual 187, 3) := dk_182 0 187 (dk_at dksX7_readsExpression_4 8 rfl rfl)
theorem dX7_readsExpression_107 : decode cX7_readsExpression 107 = .ok (.istore_n 1, 1) := dk_60 (dk_at dksX7_readsExpression_4 11 rfl rfl)
theorem dX7_readsExpression_108 : decode cX7_readsExpression 108 = .ok (.aload_n 0, 1) := dk_42 (dk_at dksX7_readsExpression_4 12 rfl rfl)
theorem dX7_readsExpression_109 : decode cX7_readsExpression 109 = .ok (.getfield 122, 3) := dk_180 0 122 (dk_at dksX7_readsExpression_4 13 rfl rfl)
theorem dX7_readsExpression_112 : decode cX7_readsExpression 112 = .ok (.bipush (-9), 2) := dk_16 247 (dk_at dksX7_readsExpression_4 16 rfl rfl)
theorem dX7_readsExpression_114 : decode cX7_readsExpression 114 = .ok (.if_icmp .ne (-87), 3) := dk_160 255 169 (dk_at dksX7_readsExpression_4 18 rfl rfl)
theorem dX7_readsExpression_117 : decode cX7_readsExpression 117 = .ok (.iload_n 1, 1) := dk_27 (dk_at dksX7_readsExpression_4 21 rfl rfl)
theorem dX7_readsExpression_118 : decode cX7_readsExpression 118 = .ok (.ifCond .eq (-91), 3) := dk_153 255 165 (dk_at dksX7_readsExpression_5 0 rfl rfl)
theorem dX7_readsExpression_121 : decode cX7_readsExpression 121 = .ok (.aload_n 0, 1) := dk_42 (dk_at dksX7_readsExpression_5 3 rfl rfl)
theorem dX7_readsExpression_122 : decode cX7_readsExpression 122 = .ok (.aload_n 0, 1) := dk_42 (dk_at dksX7_readsExpression_5 4 rfl rfl)
theorem dX7_readsExpression_123 : decode cX7_readsExpression 123 = .ok (.getfield 116, 3) := dk_180 0 116 (dk_at dksX7_readsExpression_5 5 rfl rfl)
theorem dX7_readsExpression_126 : decode cX7_readsExpression 126 = .ok (.invokevirtual 170, 3) := dk_182 0 170 (dk_at dksX7_readsExpression_5 8 rfl rfl)
theorem dX7_readsExpression_129 : decode cX7_readsExpression 129 = .ok (.aload_n 0, 1) := dk_42 (dk_at dksX7_readsExpression_5 11 rfl rfl)
theorem dX7_readsExpression_130 : decode cX7_readsExpression 130 = .ok (.invokevirtual 129, 3) := dk_182 0 129 (dk_at dksX7_readsExpression_5 12 rfl rfl)
theorem dX7_readsExpression_133 : decode cX7_readsExpression 133 = .ok (.goto (-106), 3) := dk_167 255 150 (dk_at dksX7_readsExpression_5 15 rfl rfl)
theorem dX7_readsExpression_136 : decode cX7_readsExpression 136 = .ok (.aload_n 0, 1) := dk_42 (dk_at dksX7_readsExpression_5 18 rfl rfl)
theorem dX7_readsExpression_137 : decode cX7_readsExpression 137 = .ok (.aload_n 0, 1) := dk_42 (dk_at dksX7_readsExpression_5 19 rfl rfl)
theorem dX7_readsExpression_138 : decode cX7_readsExpression 138 = .ok (.getfield 160, 3) := dk_180 0 160 (dk_at dksX7_readsExpression_5 20 rfl rfl)
theorem dX7_readsExpression_141 : decode cX7_readsExpression 141 = .ok (.ifCond .ne 16, 3) := dk_154 0 16 (dk_at dksX7_readsExpression_6 0 rfl rfl)
theorem dX7_readsExpression_144 : decode cX7_readsExpression 144 = .ok (.aload_n 0, 1) := dk_42 (dk_at dksX7_readsExpression_6 3 rfl rfl)
theorem dX7_readsExpression_145 : decode cX7_readsExpression 145 = .ok (.bipush 59, 2) := dk_16 59 (dk_at dksX7_readsExpression_6 4 rfl rfl)
theorem dX7_readsExpression_147 : decode cX7_readsExpression 147 = .ok (.invokevirtual 154, 3) := dk_182 0 154 (dk_at dksX7_readsExpression_6 6 rfl rfl)
theorem dX7_readsExpression_150 : decode cX7_readsExpression 150 = .ok (.ifCond .eq 7, 3) := dk_153 0 7 (dk_at dksX7_readsExpression_6 9 rfl rfl)
theorem dX7_readsExpression_153 : decode cX7_readsExpression 153 = .ok (.iconst 1, 1) := dk_4 (dk_at dksX7_readsExpression_6 12 rfl rfl)
theorem dX7_readsExpression_154 : decode cX7_readsExpression 154 = .ok (.goto 4, 3) := dk_167 0 4 (dk_at dksX7_readsExpression_6 13 rfl rfl)
theorem dX7_readsExpression_157 : decode cX7_readsExpression 157 = .ok (.iconst 0, 1) := dk_3 (dk_at dksX7_readsExpression_6 16 rfl rfl)
theorem dX7_readsExpression_158 : decode cX7_readsExpression 158 = .ok (.invokevirtual 125, 3) := dk_182 0 125 (dk_at dksX7_readsExpression_6 17 rfl rfl)
theorem dX7_readsExpression_161 : decode cX7_readsExpression 161 = .ok (.return_, 1) := dk_177 (dk_at dksX7_readsExpression_6 20 rfl rfl)
abbrev cX7_beginsTerm : ByteArray := prog_19_method_19_code
def yX7_beginsTerm : MethodName := ⟨RX7, "beginsTerm", "()V"⟩
def dkwX7_beginsTerm_7 : List UInt8 := [180, 0, 122, 16, 247, 160, 0, 9, 42, 4, 27, 182, 0, 163, 177]
abbrev dktX7_beginsTerm_7 : List UInt8 := dkwX7_beginsTerm_7 ++ []
def dkwX7_beginsTerm_6 : List UInt8 := [42, 3, 42, 180, 0, 116, 182, 0, 163, 42, 182, 0, 129, 167, 0, 23, 42, 182, 0, 177, 60, 42]
abbrev dktX7_beginsTerm_6 : List UInt8 := dkwX7_beginsTerm_6 ++ dktX7_beginsTerm_7
def dkwX7_beginsTerm_5 : List UInt8 := [16, 247, 159, 0, 4, 177, 42, 89, 180, 0, 174, 4, 96, 181, 0, 174, 42, 180, 0, 109, 5, 160, 0, 19]
abbrev dktX7_beginsTerm_5 : List UInt8 := dkwX7_beginsTerm_5 ++ dktX7_beginsTerm_6
def dkwX7_beginsTerm_4 : List UInt8 := [160, 0, 16, 42, 180, 0, 174, 16, 6, 162, 0, 7, 4, 167, 0, 4, 3, 182, 0, 125, 42, 180, 0, 122]
abbrev dktX7_beginsTerm_4 : List UInt8 := dkwX7_beginsTerm_4 ++ dktX7_beginsTerm_5
def dkwX7_beginsTerm_3 : List UInt8 := [182, 0, 170, 42, 182, 0, 129, 167, 255, 180, 42, 42, 180, 0, 109, 5, 159, 0, 11, 42, 180, 0, 109, 4]
abbrev dktX7_beginsTerm_3 : List UInt8 := dkwX7_beginsTerm_3 ++ dktX7_beginsTerm_4
def dkwX7_beginsTerm_2 : List UInt8 := [180, 0, 122, 16, 247, 160, 255, 205, 42, 89, 180, 0, 167, 4, 96, 181, 0, 167, 42, 42, 180, 0, 116]
abbrev dktX7_beginsTerm_2 : List UInt8 := dkwX7_beginsTerm_2 ++ dktX7_beginsTerm_3
def dkwX7_beginsTerm_1 : List UInt8 := [153, 0, 55, 42, 42, 180, 0, 167, 16, 6, 162, 0, 7, 4, 167, 0, 4, 3, 182, 0, 125, 42]
abbrev dktX7_beginsTerm_1 : List UInt8 := dkwX7_beginsTerm_1 ++ dktX7_beginsTerm_2
def dkwX7_beginsTerm_0 : List UInt8 := [42, 180, 0, 122, 16, 247, 160, 0, 73, 42, 16, 33, 182, 0, 154, 154, 0, 12, 42, 16, 40, 182, 0, 154]
abbrev dktX7_beginsTerm_0 : List UInt8 := dkwX7_beginsTerm_0 ++ dktX7_beginsTerm_1
theorem dksX7_beginsTerm_0 : cX7_beginsTerm.data.toList.drop 0 = dktX7_beginsTerm_0 := by decide +kernel
theorem dksX7_beginsTerm_1 : cX7_beginsTerm.data.toList.drop 24 = dktX7_beginsTerm_1 := dk_seg dksX7_beginsTerm_0 24 rfl rfl
theorem dksX7_beginsTerm_2 : cX7_beginsTerm.data.toList.drop 46 = dktX7_beginsTerm_2 := dk_seg dksX7_beginsTerm_1 22 rfl rfl
theorem dksX7_beginsTerm_3 : cX7_beginsTerm.data.toList.drop 69 = dktX7_beginsTerm_3 := dk_seg dksX7_beginsTerm_2 23 rfl rfl
theorem dksX7_beginsTerm_4 : cX7_beginsTerm.data.toList.drop 93 = dktX7_beginsTerm_4 := dk_seg dksX7_beginsTerm_3 24 rfl rfl
theorem dksX7_beginsTerm_5 : cX7_beginsTerm.data.toList.drop 117 = dktX7_beginsTerm_5 := dk_seg dksX7_beginsTerm_4 24 rfl rfl
theorem dksX7_beginsTerm_6 : cX7_beginsTerm.data.toList.drop 141 = dktX7_beginsTerm_6 := dk_seg dksX7_beginsTerm_5 24 rfl rfl
theorem dksX7_beginsTerm_7 : cX7_beginsTerm.data.toList.drop 163 = dktX7_beginsTerm_7 := dk_seg dksX7_beginsTerm_6 22 rfl rfl
theorem dX7_beginsTerm_0 : decode cX7_beginsTerm 0 = .ok (.aload_n 0, 1) := dk_42 (dk_at dksX7_beginsTerm_0 0 rfl rfl)
theorem dX7_beginsTerm_1 : decode cX7_beginsTerm 1 = .ok (.getfield 122, 3) := dk_180 0 122 (dk_at dksX7_beginsTerm_0 1 rfl rfl)
theorem dX7_beginsTerm_4 : decode cX7_beginsTerm 4 = .ok (.bipush (-9), 2) := dk_16 247 (dk_at dksX7_beginsTerm_0 4 rfl rfl)
theorem dX7_beginsTerm_6 : decode cX7_beginsTerm 6 = .ok (.if_icmp .ne 73, 3) := dk_160 0 73 (dk_at dksX7_beginsTerm_0 6 rfl rfl)
theorem dX7_beginsTerm_9 : decode cX7_beginsTerm 9 = .ok (.aload_n 0, 1) := dk_42 (dk_at dksX7_beginsTerm_0 9 rfl rfl)
theorem dX7_beginsTerm_10 : decode cX7_beginsTerm 10 = .ok (.bipush 33, 2) := dk_16 33 (dk_at dksX7_beginsTerm_0 10 rfl rfl)
theorem dX7_beginsTerm_12 : decode cX7_beginsTerm 12 = .ok (.invokevirtual 154, 3) := dk_182 0 154 (dk_at dksX7_beginsTerm_0 12 rfl rfl)
theorem dX7_beginsTerm_15 : decode cX7_beginsTerm 15 = .ok (.ifCond .ne 12, 3) := dk_154 0 12 (dk_at dksX7_beginsTerm_0 15 rfl rfl)
theorem dX7_beginsTerm_18 : decode cX7_beginsTerm 18 = .ok (.aload_n 0, 1) := dk_42 (dk_at dksX7_beginsTerm_0 18 rfl rfl)
theorem dX7_beginsTerm_19 : decode cX7_beginsTerm 19 = .ok (.bipush 40, 2) := dk_16 40 (dk_at dksX7_beginsTerm_0 19 rfl rfl)
theorem dX7_beginsTerm_21 : decode cX7_beginsTerm 21 = .ok (.invokevirtual 154, 3) := dk_182 0 154 (dk_at dksX7_beginsTerm_0 21 rfl rfl)
theorem dX7_beginsTerm_24 : decode cX7_beginsTerm 24 = .ok (.ifCond .eq 55, 3) := dk_153 0 55 (dk_at dksX7_beginsTerm_1 0 rfl rfl)
theorem dX7_beginsTerm_27 : decode cX7_beginsTerm 27 = .ok (.aload_n 0, 1) := dk_42 (dk_at dksX7_beginsTerm_1 3 rfl rfl)
theorem dX7_beginsTerm_28 : decode cX7_beginsTerm 28 = .ok (.aload_n 0, 1) := dk_42 (dk_at dksX7_beginsTerm_1 4 rfl rfl)
theorem dX7_beginsTerm_29 : decode cX7_beginsTerm 29 = .ok (.getfield 167, 3) := dk_180 0 167 (dk_at dksX7_beginsTerm_1 5 rfl rfl)
theorem dX7_beginsTerm_32 : decode cX7_beginsTerm 32 = .ok (.bipush 6, 2) := dk_16 6 (dk_at dksX7_beginsTerm_1 8 rfl rfl)
theorem dX7_beginsTerm_34 : decode cX7_beginsTerm 34 = .ok (.if_icmp .ge 7, 3) := dk_162 0 7 (dk_at dksX7_beginsTerm_1 10 rfl rfl)
theorem dX7_beginsTerm_37 : decode cX7_beginsTerm 37 = .ok (.iconst 1, 1) := dk_4 (dk_at dksX7_beginsTerm_1 13 rfl rfl)
theorem dX7_beginsTerm_38 : decode cX7_beginsTerm 38 = .ok (.goto 4, 3) := dk_167 0 4 (dk_at dksX7_beginsTerm_1 14 rfl rfl)
theorem dX7_beginsTerm_41 : decode cX7_beginsTerm 41 = .ok (.iconst 0, 1) := dk_3 (dk_at dksX7_beginsTerm_1 17 rfl rfl)
theorem dX7_beginsTerm_42 : decode cX7_beginsTerm 42 = .ok (.invokevirtual 125, 3) := dk_182 0 125 (dk_at dksX7_beginsTerm_1 18 rfl rfl)
theorem dX7_beginsTerm_45 : decode cX7_beginsTerm 45 = .ok (.aload_n 0, 1) := dk_42 (dk_at dksX7_beginsTerm_1 21 rfl rfl)
theorem dX7_beginsTerm_46 : decode cX7_beginsTerm 46 = .ok (.getfield 122, 3) := dk_180 0 122 (dk_at dksX7_beginsTerm_2 0 rfl rfl)
theorem dX7_beginsTerm_49 : decode cX7_beginsTerm 49 = .ok (.bipush (-9), 2) := dk_16 247 (dk_at dksX7_beginsTerm_2 3 rfl rfl)
theorem dX7_beginsTerm_51 : decode cX7_beginsTerm 51 = .ok (.if_icmp .ne (-51), 3) := dk_160 255 205 (dk_at dksX7_beginsTerm_2 5 rfl rfl)
theorem dX7_beginsTerm_54 : decode cX7_beginsTerm 54 = .ok (.aload_n 0, 1) := dk_42 (dk_at dksX7_beginsTerm_2 8 rfl rfl)
theorem dX7_beginsTerm_55 : decode cX7_beginsTerm 55 = .ok (.dup, 1) := dk_89 (dk_at dksX7_beginsTerm_2 9 rfl rfl)
theorem dX7_beginsTerm_56 : decode cX7_beginsTerm 56 = .ok (.getfield 167, 3) := dk_180 0 167 (dk_at dksX7_beginsTerm_2 10 rfl rfl)
theorem dX7_beginsTerm_59 : decode cX7_beginsTerm 59 = .ok (.iconst 1, 1) := dk_4 (dk_at dksX7_beginsTerm_2 13 rfl rfl)
theorem dX7_beginsTerm_60 : decode cX7_beginsTerm 60 = .ok (.iadd, 1) := dk_96 (dk_at dksX7_beginsTerm_2 14 rfl rfl)
theorem dX7_beginsTerm_61 : decode cX7_beginsTerm 61 = .ok (.putfield 167, 3) := dk_181 0 167 (dk_at dksX7_beginsTerm_2 15 rfl rfl)
theorem dX7_beginsTerm_64 : decode cX7_beginsTerm 64 = .ok (.aload_n 0, 1) := dk_42 (dk_at dksX7_beginsTerm_2 18 rfl rfl)
theorem dX7_beginsTerm_65 : decode cX7_beginsTerm 65 = .ok (.aload_n 0, 1) := dk_42 (dk_at dksX7_beginsTerm_2 19 rfl rfl)
theorem dX7_beginsTerm_66 : decode cX7_beginsTerm 66 = .ok (.getfield 116, 3) := dk_180 0 116 (dk_at dksX7_beginsTerm_2 20 rfl rfl)
theorem dX7_beginsTerm_69 : decode cX7_beginsTerm 69 = .ok (.invokevirtual 170, 3) := dk_182 0 170 (dk_at dksX7_beginsTerm_3 0 rfl rfl)
theorem dX7_beginsTerm_72 : decode cX7_beginsTerm 72 = .ok (.aload_n 0, 1) := dk_42 (dk_at dksX7_beginsTerm_3 3 rfl rfl)
theorem dX7_beginsTerm_73 : decode cX7_beginsTerm 73 = .ok (.invokevirtual 129, 3) := dk_182 0 129 (dk_at dksX7_beginsTerm_3 4 rfl rfl)
theorem dX7_beginsTerm_76 : decode cX7_beginsTerm 76 = .ok (.goto (-76), 3) := dk_167 255 180 (dk_at dksX7_beginsTerm_3 7 rfl rfl)
theorem dX7_beginsTerm_79 : decode cX7_beginsTerm 79 = .ok (.aload_n 0, 1) := dk_42 (dk_at dksX7_beginsTerm_3 10 rfl rfl)
theorem dX7_beginsTerm_80 : decode cX7_beginsTerm 80 = .ok (.aload_n 0, 1) := dk_42 (dk_at dksX7_beginsTerm_3 11 rfl rfl)
theorem dX7_beginsTerm_81 : decode cX7_beginsTerm 81 = .ok (.getfield 109, 3) := dk_180 0 109 (dk_at dksX7_beginsTerm_3 12 rfl rfl)
theorem dX7_beginsTerm_84 : decode cX7_beginsTerm 84 = .ok (.iconst 2, 1) := dk_5 (dk_at dksX7_beginsTerm_3 15 rfl rfl)
theorem dX7_beginsTerm_85 : decode cX7_beginsTerm 85 = .ok (.if_icmp .eq 11, 3) := dk_159 0 11 (dk_at dksX7_beginsTerm_3 16 rfl rfl)
theorem dX7_beginsTerm_88 : decode cX7_beginsTerm 88 = .ok (.aload_n 0, 1) := dk_42 (dk_at dksX7_beginsTerm_3 19 rfl rfl)
theorem dX7_beginsTerm_89 : decode cX7_beginsTerm 89 = .ok (.getfield 109, 3) := dk_180 0 109 (dk_at dksX7_beginsTerm_3 20 rfl rfl)
theorem dX7_beginsTerm_92 : decode cX7_beginsTerm 92 = .ok (.iconst 1, 1) := dk_4 (dk_at dksX7_beginsTerm_3 23 rfl rfl)
theorem dX7_beginsTerm_93 : decode cX7_beginsTerm 93 = .ok (.if_icmp .ne 16, 3) := dk_160 0 16 (dk_at dksX7_beginsTerm_4 0 rfl rfl)
theorem dX7_beginsTerm_96 : decode cX7_beginsTerm 96 = .ok (.aload_n 0, 1) := dk_42 (dk_at dksX7_beginsTerm_4 3 rfl rfl)
theorem dX7_beginsTerm_97 : decode cX7_beginsTerm 97 = .ok (.getfield 174, 3) := dk_180 0 174 (dk_at dksX7_beginsTerm_4 4 rfl rfl)
theorem dX7_beginsTerm_100 : decode cX7_beginsTerm 100 = .ok (.bipush 6, 2) := dk_16 6 (dk_at dksX7_beginsTerm_4 7 rfl rfl)
theorem dX7_beginsTerm_102 : decode cX7_beginsTerm 102 = .ok (.if_icmp .ge 7, 3) := dk_162 0 7 (dk_at dksX7_beginsTerm_4 9 rfl rfl)
theorem dX7_beginsTerm_105 : decode cX7_beginsTerm 105 = .ok (.iconst 1, 1) := dk_4 (dk_at dksX7_beginsTerm_4 12 rfl rfl)
theorem dX7_beginsTerm_106 : decode cX7_beginsTerm 106 = .ok (.goto 4, 3) := dk_167 0 4 (dk_at dksX7_beginsTerm_4 13 rfl rfl)
theorem dX7_beginsTerm_109 : decode cX7_beginsTerm 109 = .ok (.iconst 0, 1) := dk_3 (dk_at dksX7_beginsTerm_4 16 rfl rfl)
theorem dX7_beginsTerm_110 : decode cX7_beginsTerm 110 = .ok (.invokevirtual 125, 3) := dk_182 0 125 (dk_at dksX7_beginsTerm_4 17 rfl rfl)
theorem dX7_beginsTerm_113 : decode cX7_beginsTerm 113 = .ok (.aload_n 0, 1) := dk_42 (dk_at dksX7_beginsTerm_4 20 rfl rfl)
theorem dX7_beginsTerm_114 : decode cX7_beginsTerm 114 = .ok (.getfield 122, 3) := dk_180 0 122 (dk_at dksX7_beginsTerm_4 21 rfl rfl)
theorem dX7_beginsTerm_117 : decode cX7_beginsTerm 117 = .ok (.bipush (-9), 2) := dk_16 247 (dk_at dksX7_beginsTerm_5 0 rfl rfl)
theorem dX7_beginsTerm_119 : decode cX7_beginsTerm 119 = .ok (.if_icmp .eq 4, 3) := dk_159 0 4 (dk_at dksX7_beginsTerm_5 2 rfl rfl)
theorem dX7_beginsTerm_122 : decode cX7_beginsTerm 122 = .ok (.return_, 1) := dk_177 (dk_at dksX7_beginsTerm_5 5 rfl rfl)
theorem dX7_beginsTerm_123 : decode cX7_beginsTerm 123 = .ok (.aload_n 0, 1) := dk_42 (dk_at dksX7_beginsTerm_5 6 rfl rfl)
theorem dX7_beginsTerm_124 : decode cX7_beginsTerm 124 = .ok (.dup, 1) := dk_89 (dk_at dksX7_beginsTerm_5 7 rfl rfl)
theorem dX7_beginsTerm_125 : decode cX7_beginsTerm 125 = .ok (.getfield 174, 3) := dk_180 0 174 (dk_at dksX7_beginsTerm_5 8 rfl rfl)
theorem dX7_beginsTerm_128 : decode cX7_beginsTerm 128 = .ok (.iconst 1, 1) := dk_4 (dk_at dksX7_beginsTerm_5 11 rfl rfl)
theorem dX7_beginsTerm_129 : decode cX7_beginsTerm 129 = .ok (.iadd, 1) := dk_96 (dk_at dksX7_beginsTerm_5 12 rfl rfl)
theorem dX7_beginsTerm_130 : decode cX7_beginsTerm 130 = .ok (.putfield 174, 3) := dk_181 0 174 (dk_at dksX7_beginsTerm_5 13 rfl rfl)
theorem dX7_beginsTerm_133 : decode cX7_beginsTerm 133 = .ok (.aload_n 0, 1) := dk_42 (dk_at dksX7_beginsTerm_5 16 rfl rfl)
theorem dX7_beginsTerm_134 : decode cX7_beginsTerm 134 = .ok (.getfield 109, 3) := dk_180 0 109 (dk_at dksX7_beginsTerm_5 17 rfl rfl)
theorem dX7_beginsTerm_137 : decode cX7_beginsTerm 137 = .ok (.iconst 2, 1) := dk_5 (dk_at dksX7_beginsTerm_5 20 rfl rfl)
theorem dX7_beginsTerm_138 : decode cX7_beginsTerm 138 = .ok (.if_icmp .ne 19, 3) := dk_160 0 19 (dk_at dksX7_beginsTerm_5 21 rfl rfl)
theorem dX7_beginsTerm_141 : decode cX7_beginsTerm 141 = .ok (.aload_n 0, 1) := dk_42 (dk_at dksX7_beginsTerm_6 0 rfl rfl)
theorem dX7_beginsTerm_142 : decode cX7_beginsTerm 142 = .ok (.iconst 0, 1) := dk_3 (dk_at dksX7_beginsTerm_6 1 rfl rfl)
theorem dX7_beginsTerm_143 : decode cX7_beginsTerm 143 = .ok (.aload_n 0, 1) := dk_42 (dk_at dksX7_beginsTerm_6 2 rfl rfl)
theorem dX7_beginsTerm_144 : decode cX7_beginsTerm 144 = .ok (.getfield 116, 3) := dk_180 0 116 (dk_at dksX7_beginsTerm_6 3 rfl rfl)
theorem dX7_beginsTerm_147 : decode cX7_beginsTerm 147 = .ok (.invokevirtual 163, 3) := dk_182 0 163 (dk_at dksX7_beginsTerm_6 6 rfl rfl)
theorem dX7_beginsTerm_150 : decode cX7_beginsTerm 150 = .ok (.aload_n 0, 1) := dk_42 (dk_at dksX7_beginsTerm_6 9 rfl rfl)
theorem dX7_beginsTerm_151 : decode cX7_beginsTerm 151 = .ok (.invokevirtual 129, 3) := dk_182 0 129 (dk_at dksX7_beginsTerm_6 10 rfl rfl)
theorem dX7_beginsTerm_154 : decode cX7_beginsTerm 154 = .ok (.goto 23, 3) := dk_167 0 23 (dk_at dksX7_beginsTerm_6 13 rfl rfl)
theorem dX7_beginsTerm_157 : decode cX7_beginsTerm 157 = .ok (.aload_n 0, 1) := dk_42 (dk_at dksX7_beginsTerm_6 16 rfl rfl)
theorem dX7_beginsTerm_158 : decode cX7_beginsTerm 158 = .ok (.invokevirtual 177, 3) := dk_182 0 177 (dk_at dksX7_beginsTerm_6 17 rfl rfl)
theorem dX7_beginsTerm_161 : decode cX7_beginsTerm 161 = .ok (.istore_n 1, 1) := dk_60 (dk_at dksX7_beginsTerm_6 20 rfl rfl)
theorem dX7_beginsTerm_162 : decode cX7_beginsTerm 162 = .ok (.aload_n 0, 1) := dk_42 (dk_at dksX7_beginsTerm_6 21 rfl rfl)
theorem dX7_beginsTerm_163 : decode cX7_beginsTerm 163 = .ok (.getfield 122, 3) := dk_180 0 122 (dk_at dksX7_beginsTerm_7 0 rfl rfl)
theorem dX7_beginsTerm_166 : decode cX7_beginsTerm 166 = .ok (.bipush (-9), 2) := dk_16 247 (dk_at dksX7_beginsTerm_7 3 rfl rfl)
theorem dX7_beginsTerm_168 : decode cX7_beginsTerm 168 = .ok (.if_icmp .ne 9, 3) := dk_160 0 9 (dk_at dksX7_beginsTerm_7 5 rfl rfl)
theorem dX7_beginsTerm_171 : decode cX7_beginsTerm 171 = .ok (.aload_n 0, 1) := dk_42 (dk_at dksX7_beginsTerm_7 8 rfl rfl)
theorem dX7_beginsTerm_172 : decode cX7_beginsTerm 172 = .ok (.iconst 1, 1) := dk_4 (dk_at dksX7_beginsTerm_7 9 rfl rfl)
theorem dX7_beginsTerm_173 : decode cX7_beginsTerm 173 = .ok (.iload_n 1, 1) := dk_27 (dk_at dksX7_beginsTerm_7 10 rfl rfl)
theorem dX7_beginsTerm_174 : decode cX7_beginsTerm 174 = .ok (.invokevirtual 163, 3) := dk_182 0 163 (dk_at dksX7_beginsTerm_7 11 rfl rfl)
theorem dX7_beginsTerm_177 : decode cX7_beginsTerm 177 = .ok (.return_, 1) := dk_177 (dk_at dksX7_beginsTerm_7 14 rfl rfl)
abbrev cX7_waitsFor : ByteArray := prog_19_method_17_code
def yX7_waitsFor : MethodName := ⟨RX7, "waitsFor", "(I)V"⟩
def dkwX7_waitsFor_0 : List UInt8 := [42, 180, 0, 56, 42, 180, 0, 160, 27, 79, 42, 89, 180, 0, 160, 4, 96, 181, 0, 160, 177]
abbrev dktX7_waitsFor_0 : List UInt8 := dkwX7_waitsFor_0 ++ []
theorem dksX7_waitsFor_0 : cX7_waitsFor.data.toList.drop 0 = dktX7_waitsFor_0 := by decide +kernel
theorem dX7_waitsFor_0 : decode cX7_waitsFor 0 = .ok (.aload_n 0, 1) := dk_42 (dk_at dksX7_waitsFor_0 0 rfl rfl)
theorem dX7_waitsFor_1 : decode cX7_waitsFor 1 = .ok (.getfield 56, 3) := dk_180 0 56 (dk_at dksX7_waitsFor_0 1 rfl rfl)
theorem dX7_waitsFor_4 : decode cX7_waitsFor 4 = .ok (.aload_n 0, 1) := dk_42 (dk_at dksX7_waitsFor_0 4 rfl rfl)
theorem dX7_waitsFor_5 : decode cX7_waitsFor 5 = .ok (.getfield 160, 3) := dk_180 0 160 (dk_at dksX7_waitsFor_0 5 rfl rfl)
theorem dX7_waitsFor_8 : decode cX7_waitsFor 8 = .ok (.iload_n 1, 1) := dk_27 (dk_at dksX7_waitsFor_0 8 rfl rfl)
theorem dX7_waitsFor_9 : decode cX7_waitsFor 9 = .ok (.iastore, 1) := dk_79 (dk_at dksX7_waitsFor_0 9 rfl rfl)
theorem dX7_waitsFor_10 : decode cX7_waitsFor 10 = .ok (.aload_n 0, 1) := dk_42 (dk_at dksX7_waitsFor_0 10 rfl rfl)
theorem dX7_waitsFor_11 : decode cX7_waitsFor 11 = .ok (.dup, 1) := dk_89 (dk_at dksX7_waitsFor_0 11 rfl rfl)
theorem dX7_waitsFor_12 : decode cX7_waitsFor 12 = .ok (.getfield 160, 3) := dk_180 0 160 (dk_at dksX7_waitsFor_0 12 rfl rfl)
theorem dX7_waitsFor_15 : decode cX7_waitsFor 15 = .ok (.iconst 1, 1) := dk_4 (dk_at dksX7_waitsFor_0 15 rfl rfl)
theorem dX7_waitsFor_16 : decode cX7_waitsFor 16 = .ok (.iadd, 1) := dk_96 (dk_at dksX7_waitsFor_0 16 rfl rfl)
theorem dX7_waitsFor_17 : decode cX7_waitsFor 17 = .ok (.putfield 160, 3) := dk_181 0 160 (dk_at dksX7_waitsFor_0 17 rfl rfl)
theorem dX7_waitsFor_20 : decode cX7_waitsFor 20 = .ok (.return_, 1) := dk_177 (dk_at dksX7_waitsFor_0 20 rfl rfl)
abbrev cX7_emits : ByteArray := prog_19_method_16_code
def yX7_emits : MethodName := ⟨RX7, "emits", "(II)V"⟩
def dkwX7_emits_2 : List UInt8 := [180, 0, 53, 42, 180, 0, 157, 92, 46, 4, 96, 79, 177]
abbrev dktX7_emits_2 : List UInt8 := dkwX7_emits_2 ++ []
def dkwX7_emits_1 : List UInt8 := [96, 27, 79, 42, 180, 0, 50, 16, 40, 42, 180, 0, 157, 104, 5, 29, 104, 96, 4, 96, 28, 79, 42]
abbrev dktX7_emits_1 : List UInt8 := dkwX7_emits_1 ++ dktX7_emits_2
def dkwX7_emits_0 : List UInt8 := [42, 180, 0, 53, 42, 180, 0, 157, 46, 62, 42, 180, 0, 50, 16, 40, 42, 180, 0, 157, 104, 5, 29, 104]
abbrev dktX7_emits_0 : List UInt8 := dkwX7_emits_0 ++ dktX7_emits_1
theorem dksX7_emits_0 : cX7_emits.data.toList.drop 0 = dktX7_emits_0 := by decide +kernel
theorem dksX7_emits_1 : cX7_emits.data.toList.drop 24 = dktX7_emits_1 := dk_seg dksX7_emits_0 24 rfl rfl
theorem dksX7_emits_2 : cX7_emits.data.toList.drop 47 = dktX7_emits_2 := dk_seg dksX7_emits_1 23 rfl rfl
theorem dX7_emits_0 : decode cX7_emits 0 = .ok (.aload_n 0, 1) := dk_42 (dk_at dksX7_emits_0 0 rfl rfl)
theorem dX7_emits_1 : decode cX7_emits 1 = .ok (.getfield 53, 3) := dk_180 0 53 (dk_at dksX7_emits_0 1 rfl rfl)
theorem dX7_emits_4 : decode cX7_emits 4 = .ok (.aload_n 0, 1) := dk_42 (dk_at dksX7_emits_0 4 rfl rfl)
theorem dX7_emits_5 : decode cX7_emits 5 = .ok (.getfield 157, 3) := dk_180 0 157 (dk_at dksX7_emits_0 5 rfl rfl)
theorem dX7_emits_8 : decode cX7_emits 8 = .ok (.iaload, 1) := dk_46 (dk_at dksX7_emits_0 8 rfl rfl)
theorem dX7_emits_9 : decode cX7_emits 9 = .ok (.istore_n 3, 1) := dk_62 (dk_at dksX7_emits_0 9 rfl rfl)
theorem dX7_emits_10 : decode cX7_emits 10 = .ok (.aload_n 0, 1) := dk_42 (dk_at dksX7_emits_0 10 rfl rfl)
theorem dX7_emits_11 : decode cX7_emits 11 = .ok (.getfield 50, 3) := dk_180 0 50 (dk_at dksX7_emits_0 11 rfl rfl)
theorem dX7_emits_14 : decode cX7_emits 14 = .ok (.bipush 40, 2) := dk_16 40 (dk_at dksX7_emits_0 14 rfl rfl)
theorem dX7_emits_16 : decode cX7_emits 16 = .ok (.aload_n 0, 1) := dk_42 (dk_at dksX7_emits_0 16 rfl rfl)
theorem dX7_emits_17 : decode cX7_emits 17 = .ok (.getfield 157, 3) := dk_180 0 157 (dk_at dksX7_emits_0 17 rfl rfl)
theorem dX7_emits_20 : decode cX7_emits 20 = .ok (.imul, 1) := dk_104 (dk_at dksX7_emits_0 20 rfl rfl)
theorem dX7_emits_21 : decode cX7_emits 21 = .ok (.iconst 2, 1) := dk_5 (dk_at dksX7_emits_0 21 rfl rfl)
theorem dX7_emits_22 : decode cX7_emits 22 = .ok (.iload_n 3, 1) := dk_29 (dk_at dksX7_emits_0 22 rfl rfl)
theorem dX7_emits_23 : decode cX7_emits 23 = .ok (.imul, 1) := dk_104 (dk_at dksX7_emits_0 23 rfl rfl)
theorem dX7_emits_24 : decode cX7_emits 24 = .ok (.iadd, 1) := dk_96 (dk_at dksX7_emits_1 0 rfl rfl)
theorem dX7_emits_25 : decode cX7_emits 25 = .ok (.iload_n 1, 1) := dk_27 (dk_at dksX7_emits_1 1 rfl rfl)
theorem dX7_emits_26 : decode cX7_emits 26 = .ok (.iastore, 1) := dk_79 (dk_at dksX7_emits_1 2 rfl rfl)
theorem dX7_emits_27 : decode cX7_emits 27 = .ok (.aload_n 0, 1) := dk_42 (dk_at dksX7_emits_1 3 rfl rfl)
theorem dX7_emits_28 : decode cX7_emits 28 = .ok (.getfield 50, 3) := dk_180 0 50 (dk_at dksX7_emits_1 4 rfl rfl)
theorem dX7_emits_31 : decode cX7_emits 31 = .ok (.bipush 40, 2) := dk_16 40 (dk_at dksX7_emits_1 7 rfl rfl)
theorem dX7_emits_33 : decode cX7_emits 33 = .ok (.aload_n 0, 1) := dk_42 (dk_at dksX7_emits_1 9 rfl rfl)
theorem dX7_emits_34 : decode cX7_emits 34 = .ok (.getfield 157, 3) := dk_180 0 157 (dk_at dksX7_emits_1 10 rfl rfl)
theorem dX7_emits_37 : decode cX7_emits 37 = .ok (.imul, 1) := dk_104 (dk_at dksX7_emits_1 13 rfl rfl)
theorem dX7_emits_38 : decode cX7_emits 38 = .ok (.iconst 2, 1) := dk_5 (dk_at dksX7_emits_1 14 rfl rfl)
theorem dX7_emits_39 : decode cX7_emits 39 = .ok (.iload_n 3, 1) := dk_29 (dk_at dksX7_emits_1 15 rfl rfl)
theorem dX7_emits_40 : decode cX7_emits 40 = .ok (.imul, 1) := dk_104 (dk_at dksX7_emits_1 16 rfl rfl)
theorem dX7_emits_41 : decode cX7_emits 41 = .ok (.iadd, 1) := dk_96 (dk_at dksX7_emits_1 17 rfl rfl)
theorem dX7_emits_42 : decode cX7_emits 42 = .ok (.iconst 1, 1) := dk_4 (dk_at dksX7_emits_1 18 rfl rfl)
theorem dX7_emits_43 : decode cX7_emits 43 = .ok (.iadd, 1) := dk_96 (dk_at dksX7_emits_1 19 rfl rfl)
theorem dX7_emits_44 : decode cX7_emits 44 = .ok (.iload_n 2, 1) := dk_28 (dk_at dksX7_emits_1 20 rfl rfl)
theorem dX7_emits_45 : decode cX7_emits 45 = .ok (.iastore, 1) := dk_79 (dk_at dksX7_emits_1 21 rfl rfl)
theorem dX7_emits_46 : decode cX7_emits 46 = .ok (.aload_n 0, 1) := dk_42 (dk_at dksX7_emits_1 22 rfl rfl)
theorem dX7_emits_47 : decode cX7_emits 47 = .ok (.getfield 53, 3) := dk_180 0 53 (dk_at dksX7_emits_2 0 rfl rfl)
theorem dX7_emits_50 : decode cX7_emits 50 = .ok (.aload_n 0, 1) := dk_42 (dk_at dksX7_emits_2 3 rfl rfl)
theorem dX7_emits_51 : decode cX7_emits 51 = .ok (.getfield 157, 3) := dk_180 0 157 (dk_at dksX7_emits_2 4 rfl rfl)
theorem dX7_emits_54 : decode cX7_emits 54 = .ok (.dup2, 1) := dk_92 (dk_at dksX7_emits_2 7 rfl rfl)
theorem dX7_emits_55 : decode cX7_emits 55 = .ok (.iaload, 1) := dk_46 (dk_at dksX7_emits_2 8 rfl rfl)
theorem dX7_emits_56 : decode cX7_emits 56 = .ok (.iconst 1, 1) := dk_4 (dk_at dksX7_emits_2 9 rfl rfl)
theorem dX7_emits_57 : decode cX7_emits 57 = .ok (.iadd, 1) := dk_96 (dk_at dksX7_emits_2 10 rfl rfl)
theorem dX7_emits_58 : decode cX7_emits 58 = .ok (.iastore, 1) := dk_79 (dk_at dksX7_emits_2 11 rfl rfl)
theorem dX7_emits_59 : decode cX7_emits 59 = .ok (.return_, 1) := dk_177 (dk_at dksX7_emits_2 12 rfl rfl)
abbrev cX7_wholeTerm : ByteArray := prog_19_method_18_code
def yX7_wholeTerm : MethodName := ⟨RX7, "wholeTerm", "()V"⟩
def dkwX7_wholeTerm_3 : List UInt8 := [4, 100, 181, 0, 160, 42, 6, 42, 180, 0, 56, 42, 180, 0, 160, 46, 182, 0, 163, 177]
abbrev dktX7_wholeTerm_3 : List UInt8 := dkwX7_wholeTerm_3 ++ []
def dkwX7_wholeTerm_2 : List UInt8 := [158, 0, 43, 42, 180, 0, 56, 42, 180, 0, 160, 4, 100, 46, 16, 40, 159, 0, 27, 42, 89, 180, 0, 160]
abbrev dktX7_wholeTerm_2 : List UInt8 := dkwX7_wholeTerm_2 ++ dktX7_wholeTerm_3
def dkwX7_wholeTerm_1 : List UInt8 := [89, 180, 0, 160, 4, 100, 181, 0, 160, 42, 5, 3, 182, 0, 163, 167, 255, 217, 42, 180, 0, 160]
abbrev dktX7_wholeTerm_1 : List UInt8 := dkwX7_wholeTerm_1 ++ dktX7_wholeTerm_2
def dkwX7_wholeTerm_0 : List UInt8 := [42, 180, 0, 160, 158, 0, 38, 42, 180, 0, 56, 42, 180, 0, 160, 4, 100, 46, 16, 33, 160, 0, 22, 42]
abbrev dktX7_wholeTerm_0 : List UInt8 := dkwX7_wholeTerm_0 ++ dktX7_wholeTerm_1
theorem dksX7_wholeTerm_0 : cX7_wholeTerm.data.toList.drop 0 = dktX7_wholeTerm_0 := by decide +kernel
theorem dksX7_wholeTerm_1 : cX7_wholeTerm.data.toList.drop 24 = dktX7_wholeTerm_1 := dk_seg dksX7_wholeTerm_0 24 rfl rfl
theorem dksX7_wholeTerm_2 : cX7_wholeTerm.data.toList.drop 46 = dktX7_wholeTerm_2 := dk_seg dksX7_wholeTerm_1 22 rfl rfl
theorem dksX7_wholeTerm_3 : cX7_wholeTerm.data.toList.drop 70 = dktX7_wholeTerm_3 := dk_seg dksX7_wholeTerm_2 24 rfl rfl
theorem dX7_wholeTerm_0 : decode cX7_wholeTerm 0 = .ok (.aload_n 0, 1) := dk_42 (dk_at dksX7_wholeTerm_0 0 rfl rfl)
theorem dX7_wholeTerm_1 : decode cX7_wholeTerm 1 = .ok (.getfield 160, 3) := dk_180 0 160 (dk_at dksX7_wholeTerm_0 1 rfl rfl)
theorem dX7_wholeTerm_4 : decode cX7_wholeTerm 4 = .ok (.ifCond .le 38, 3) := dk_158 0 38 (dk_at dksX7_wholeTerm_0 4 rfl rfl)
theorem dX7_wholeTerm_7 : decode cX7_wholeTerm 7 = .ok (.aload_n 0, 1) := dk_42 (dk_at dksX7_wholeTerm_0 7 rfl rfl)
theorem dX7_wholeTerm_8 : decode cX7_wholeTerm 8 = .ok (.getfield 56, 3) := dk_180 0 56 (dk_at dksX7_wholeTerm_0 8 rfl rfl)
theorem dX7_wholeTerm_11 : decode cX7_wholeTerm 11 = .ok (.aload_n 0, 1) := dk_42 (dk_at dksX7_wholeTerm_0 11 rfl rfl)
theorem dX7_wholeTerm_12 : decode cX7_wholeTerm 12 = .ok (.getfield 160, 3) := dk_180 0 160 (dk_at dksX7_wholeTerm_0 12 rfl rfl)
theorem dX7_wholeTerm_15 : decode cX7_wholeTerm 15 = .ok (.iconst 1, 1) := dk_4 (dk_at dksX7_wholeTerm_0 15 rfl rfl)
theorem dX7_wholeTerm_16 : decode cX7_wholeTerm 16 = .ok (.isub, 1) := dk_100 (dk_at dksX7_wholeTerm_0 16 rfl rfl)
theorem dX7_wholeTerm_17 : decode cX7_wholeTerm 17 = .ok (.iaload, 1) := dk_46 (dk_at dksX7_wholeTerm_0 17 rfl rfl)
theorem dX7_wholeTerm_18 : decode cX7_wholeTerm 18 = .ok (.bipush 33, 2) := dk_16 33 (dk_at dksX7_wholeTerm_0 18 rfl rfl)
theorem dX7_wholeTerm_20 : decode cX7_wholeTerm 20 = .ok (.if_icmp .ne 22, 3) := dk_160 0 22 (dk_at dksX7_wholeTerm_0 20 rfl rfl)
theorem dX7_wholeTerm_23 : decode cX7_wholeTerm 23 = .ok (.aload_n 0, 1) := dk_42 (dk_at dksX7_wholeTerm_0 23 rfl rfl)
theorem dX7_wholeTerm_24 : decode cX7_wholeTerm 24 = .ok (.dup, 1) := dk_89 (dk_at dksX7_wholeTerm_1 0 rfl rfl)
theorem dX7_wholeTerm_25 : decode cX7_wholeTerm 25 = .ok (.getfield 160, 3) := dk_180 0 160 (dk_at dksX7_wholeTerm_1 1 rfl rfl)
theorem dX7_wholeTerm_28 : decode cX7_wholeTerm 28 = .ok (.iconst 1, 1) := dk_4 (dk_at dksX7_wholeTerm_1 4 rfl rfl)
theorem dX7_wholeTerm_29 : decode cX7_wholeTerm 29 = .ok (.isub, 1) := dk_100 (dk_at dksX7_wholeTerm_1 5 rfl rfl)
theorem dX7_wholeTerm_30 : decode cX7_wholeTerm 30 = .ok (.putfield 160, 3) := dk_181 0 160 (dk_at dksX7_wholeTerm_1 6 rfl rfl)
theorem dX7_wholeTerm_33 : decode cX7_wholeTerm 33 = .ok (.aload_n 0, 1) := dk_42 (dk_at dksX7_wholeTerm_1 9 rfl rfl)
theorem dX7_wholeTerm_34 : decode cX7_wholeTerm 34 = .ok (.iconst 2, 1) := dk_5 (dk_at dksX7_wholeTerm_1 10 rfl rfl)
theorem dX7_wholeTerm_35 : decode cX7_wholeTerm 35 = .ok (.iconst 0, 1) := dk_3 (dk_at dksX7_wholeTerm_1 11 rfl rfl)
theorem dX7_wholeTerm_36 : decode cX7_wholeTerm 36 = .ok (.invokevirtual 163, 3) := dk_182 0 163 (dk_at dksX7_wholeTerm_1 12 rfl rfl)
theorem dX7_wholeTerm_39 : decode cX7_wholeTerm 39 = .ok (.goto (-39), 3) := dk_167 255 217 (dk_at dksX7_wholeTerm_1 15 rfl rfl)
theorem dX7_wholeTerm_42 : decode cX7_wholeTerm 42 = .ok (.aload_n 0, 1) := dk_42 (dk_at dksX7_wholeTerm_1 18 rfl rfl)
theorem dX7_wholeTerm_43 : decode cX7_wholeTerm 43 = .ok (.getfield 160, 3) := dk_180 0 160 (dk_at dksX7_wholeTerm_1 19 rfl rfl)
theorem dX7_wholeTerm_46 : decode cX7_wholeTerm 46 = .ok (.ifCond .le 43, 3) := dk_158 0 43 (dk_at dksX7_wholeTerm_2 0 rfl rfl)
theorem dX7_wholeTerm_49 : decode cX7_wholeTerm 49 = .ok (.aload_n 0, 1) := dk_42 (dk_at dksX7_wholeTerm_2 3 rfl rfl)
theorem dX7_wholeTerm_50 : decode cX7_wholeTerm 50 = .ok (.getfield 56, 3) := dk_180 0 56 (dk_at dksX7_wholeTerm_2 4 rfl rfl)
theorem dX7_wholeTerm_53 : decode cX7_wholeTerm 53 = .ok (.aload_n 0, 1) := dk_42 (dk_at dksX7_wholeTerm_2 7 rfl rfl)
theorem dX7_wholeTerm_54 : decode cX7_wholeTerm 54 = .ok (.getfield 160, 3) := dk_180 0 160 (dk_at dksX7_wholeTerm_2 8 rfl rfl)
theorem dX7_wholeTerm_57 : decode cX7_wholeTerm 57 = .ok (.iconst 1, 1) := dk_4 (dk_at dksX7_wholeTerm_2 11 rfl rfl)
theorem dX7_wholeTerm_58 : decode cX7_wholeTerm 58 = .ok (.isub, 1) := dk_100 (dk_at dksX7_wholeTerm_2 12 rfl rfl)
theorem dX7_wholeTerm_59 : decode cX7_wholeTerm 59 = .ok (.iaload, 1) := dk_46 (dk_at dksX7_wholeTerm_2 13 rfl rfl)
theorem dX7_wholeTerm_60 : decode cX7_wholeTerm 60 = .ok (.bipush 40, 2) := dk_16 40 (dk_at dksX7_wholeTerm_2 14 rfl rfl)
theorem dX7_wholeTerm_62 : decode cX7_wholeTerm 62 = .ok (.if_icmp .eq 27, 3) := dk_159 0 27 (dk_at dksX7_wholeTerm_2 16 rfl rfl)
theorem dX7_wholeTerm_65 : decode cX7_wholeTerm 65 = .ok (.aload_n 0, 1) := dk_42 (dk_at dksX7_wholeTerm_2 19 rfl rfl)
theorem dX7_wholeTerm_66 : decode cX7_wholeTerm 66 = .ok (.dup, 1) := dk_89 (dk_at dksX7_wholeTerm_2 20 rfl rfl)
theorem dX7_wholeTerm_67 : decode cX7_wholeTerm 67 = .ok (.getfield 160, 3) := dk_180 0 160 (dk_at dksX7_wholeTerm_2 21 rfl rfl)
theorem dX7_wholeTerm_70 : decode cX7_wholeTerm 70 = .ok (.iconst 1, 1) := dk_4 (dk_at dksX7_wholeTerm_3 0 rfl rfl)
theorem dX7_wholeTerm_71 : decode cX7_wholeTerm 71 = .ok (.isub, 1) := dk_100 (dk_at dksX7_wholeTerm_3 1 rfl rfl)
theorem dX7_wholeTerm_72 : decode cX7_wholeTerm 72 = .ok (.putfield 160, 3) := dk_181 0 160 (dk_at dksX7_wholeTerm_3 2 rfl rfl)
theorem dX7_wholeTerm_75 : decode cX7_wholeTerm 75 = .ok (.aload_n 0, 1) := dk_42 (dk_at dksX7_wholeTerm_3 5 rfl rfl)
theorem dX7_wholeTerm_76 : decode cX7_wholeTerm 76 = .ok (.iconst 3, 1) := dk_6 (dk_at dksX7_wholeTerm_3 6 rfl rfl)
theorem dX7_wholeTerm_77 : decode cX7_wholeTerm 77 = .ok (.aload_n 0, 1) := dk_42 (dk_at dksX7_wholeTerm_3 7 rfl rfl)
theorem dX7_wholeTerm_78 : decode cX7_wholeTerm 78 = .ok (.getfield 56, 3) := dk_180 0 56 (dk_at dksX7_wholeTerm_3 8 rfl rfl)
theorem dX7_wholeTerm_81 : decode cX7_wholeTerm 81 = .ok (.aload_n 0, 1) := dk_42 (dk_at dksX7_wholeTerm_3 11 rfl rfl)
theorem dX7_wholeTerm_82 : decode cX7_wholeTerm 82 = .ok (.getfield 160, 3) := dk_180 0 160 (dk_at dksX7_wholeTerm_3 12 rfl rfl)
theorem dX7_wholeTerm_85 : decode cX7_wholeTerm 85 = .ok (.iaload, 1) := dk_46 (dk_at dksX7_wholeTerm_3 15 rfl rfl)
theorem dX7_wholeTerm_86 : decode cX7_wholeTerm 86 = .ok (.invokevirtual 163, 3) := dk_182 0 163 (dk_at dksX7_wholeTerm_3 16 rfl rfl)
theorem dX7_wholeTerm_89 : decode cX7_wholeTerm 89 = .ok (.return_, 1) := dk_177 (dk_at dksX7_wholeTerm_3 19 rfl rfl)
abbrev cX7_isBetween : ByteArray := prog_19_method_20_code
def yX7_isBetween : MethodName := ⟨RX7, "isBetween", "()Z"⟩
def dkwX7_isBetween_2 : List UInt8 := [167, 0, 4, 3, 172]
abbrev dktX7_isBetween_2 : List UInt8 := dkwX7_isBetween_2 ++ []
def dkwX7_isBetween_1 : List UInt8 := [154, 0, 21, 42, 16, 43, 182, 0, 154, 154, 0, 12, 42, 16, 45, 182, 0, 154, 153, 0, 7, 4]
abbrev dktX7_isBetween_1 : List UInt8 := dkwX7_isBetween_1 ++ dktX7_isBetween_2
def dkwX7_isBetween_0 : List UInt8 := [42, 16, 38, 182, 0, 154, 154, 0, 39, 42, 16, 124, 182, 0, 154, 154, 0, 30, 42, 16, 94, 182, 0, 154]
abbrev dktX7_isBetween_0 : List UInt8 := dkwX7_isBetween_0 ++ dktX7_isBetween_1
theorem dksX7_isBetween_0 : cX7_isBetween.data.toList.drop 0 = dktX7_isBetween_0 := by decide +kernel
theorem dksX7_isBetween_1 : cX7_isBetween.data.toList.drop 24 = dktX7_isBetween_1 := dk_seg dksX7_isBetween_0 24 rfl rfl
theorem dksX7_isBetween_2 : cX7_isBetween.data.toList.drop 46 = dktX7_isBetween_2 := dk_seg dksX7_isBetween_1 22 rfl rfl
theorem dX7_isBetween_0 : decode cX7_isBetween 0 = .ok (.aload_n 0, 1) := dk_42 (dk_at dksX7_isBetween_0 0 rfl rfl)
theorem dX7_isBetween_1 : decode cX7_isBetween 1 = .ok (.bipush 38, 2) := dk_16 38 (dk_at dksX7_isBetween_0 1 rfl rfl)
theorem dX7_isBetween_3 : decode cX7_isBetween 3 = .ok (.invokevirtual 154, 3) := dk_182 0 154 (dk_at dksX7_isBetween_0 3 rfl rfl)
theorem dX7_isBetween_6 : decode cX7_isBetween 6 = .ok (.ifCond .ne 39, 3) := dk_154 0 39 (dk_at dksX7_isBetween_0 6 rfl rfl)
theorem dX7_isBetween_9 : decode cX7_isBetween 9 = .ok (.aload_n 0, 1) := dk_42 (dk_at dksX7_isBetween_0 9 rfl rfl)
theorem dX7_isBetween_10 : decode cX7_isBetween 10 = .ok (.bipush 124, 2) := dk_16 124 (dk_at dksX7_isBetween_0 10 rfl rfl)
theorem dX7_isBetween_12 : decode cX7_isBetween 12 = .ok (.invokevirtual 154, 3) := dk_182 0 154 (dk_at dksX7_isBetween_0 12 rfl rfl)
theorem dX7_isBetween_15 : decode cX7_isBetween 15 = .ok (.ifCond .ne 30, 3) := dk_154 0 30 (dk_at dksX7_isBetween_0 15 rfl rfl)
theorem dX7_isBetween_18 : decode cX7_isBetween 18 = .ok (.aload_n 0, 1) := dk_42 (dk_at dksX7_isBetween_0 18 rfl rfl)
theorem dX7_isBetween_19 : decode cX7_isBetween 19 = .ok (.bipush 94, 2) := dk_16 94 (dk_at dksX7_isBetween_0 19 rfl rfl)
theorem dX7_isBetween_21 : decode cX7_isBetween 21 = .ok (.invokevirtual 154, 3) := dk_182 0 154 (dk_at dksX7_isBetween_0 21 rfl rfl)
theorem dX7_isBetween_24 : decode cX7_isBetween 24 = .ok (.ifCond .ne 21, 3) := dk_154 0 21 (dk_at dksX7_isBetween_1 0 rfl rfl)
theorem dX7_isBetween_27 : decode cX7_isBetween 27 = .ok (.aload_n 0, 1) := dk_42 (dk_at dksX7_isBetween_1 3 rfl rfl)
theorem dX7_isBetween_28 : decode cX7_isBetween 28 = .ok (.bipush 43, 2) := dk_16 43 (dk_at dksX7_isBetween_1 4 rfl rfl)
theorem dX7_isBetween_30 : decode cX7_isBetween 30 = .ok (.invokevirtual 154, 3) := dk_182 0 154 (dk_at dksX7_isBetween_1 6 rfl rfl)
theorem dX7_isBetween_33 : decode cX7_isBetween 33 = .ok (.ifCond .ne 12, 3) := dk_154 0 12 (dk_at dksX7_isBetween_1 9 rfl rfl)
theorem dX7_isBetween_36 : decode cX7_isBetween 36 = .ok (.aload_n 0, 1) := dk_42 (dk_at dksX7_isBetween_1 12 rfl rfl)
theorem dX7_isBetween_37 : decode cX7_isBetween 37 = .ok (.bipush 45, 2) := dk_16 45 (dk_at dksX7_isBetween_1 13 rfl rfl)
theorem dX7_isBetween_39 : decode cX7_isBetween 39 = .ok (.invokevirtual 154, 3) := dk_182 0 154 (dk_at dksX7_isBetween_1 15 rfl rfl)
theorem dX7_isBetween_42 : decode cX7_isBetween 42 = .ok (.ifCond .eq 7, 3) := dk_153 0 7 (dk_at dksX7_isBetween_1 18 rfl rfl)
theorem dX7_isBetween_45 : decode cX7_isBetween 45 = .ok (.iconst 1, 1) := dk_4 (dk_at dksX7_isBetween_1 21 rfl rfl)
theorem dX7_isBetween_46 : decode cX7_isBetween 46 = .ok (.goto 4, 3) := dk_167 0 4 (dk_at dksX7_isBetween_2 0 rfl rfl)
theorem dX7_isBetween_49 : decode cX7_isBetween 49 = .ok (.iconst 0, 1) := dk_3 (dk_at dksX7_isBetween_2 3 rfl rfl)
theorem dX7_isBetween_50 : decode cX7_isBetween 50 = .ok (.ireturn, 1) := dk_172 (dk_at dksX7_isBetween_2 4 rfl rfl)
abbrev cX7_takesOver : ByteArray := prog_19_method_25_code
def yX7_takesOver : MethodName := ⟨RX7, "takesOver", "()V"⟩
def dkwX7_takesOver_6 : List UInt8 := [79, 132, 1, 1, 167, 255, 236, 177]
abbrev dktX7_takesOver_6 : List UInt8 := dkwX7_takesOver_6 ++ []
def dkwX7_takesOver_5 : List UInt8 := [132, 1, 1, 167, 255, 234, 3, 60, 27, 7, 162, 0, 21, 42, 180, 0, 22, 27, 42, 180, 0, 53, 27, 46]
abbrev dktX7_takesOver_5 : List UInt8 := dkwX7_takesOver_5 ++ dktX7_takesOver_6
def dkwX7_takesOver_4 : List UInt8 := [167, 255, 223, 3, 60, 27, 17, 0, 160, 162, 0, 21, 42, 180, 0, 19, 27, 42, 180, 0, 50, 27, 46, 79]
abbrev dktX7_takesOver_4 : List UInt8 := dkwX7_takesOver_4 ++ dktX7_takesOver_5
def dkwX7_takesOver_3 : List UInt8 := [27, 42, 180, 0, 44, 27, 46, 79, 42, 180, 0, 16, 27, 42, 180, 0, 47, 27, 46, 79, 132, 1, 1]
abbrev dktX7_takesOver_3 : List UInt8 := dkwX7_takesOver_3 ++ dktX7_takesOver_4
def dkwX7_takesOver_2 : List UInt8 := [180, 0, 41, 27, 46, 79, 132, 1, 1, 167, 255, 235, 3, 60, 27, 16, 6, 162, 0, 33, 42, 180, 0, 13]
abbrev dktX7_takesOver_2 : List UInt8 := dkwX7_takesOver_2 ++ dktX7_takesOver_3
def dkwX7_takesOver_1 : List UInt8 := [42, 42, 180, 0, 135, 181, 0, 221, 3, 60, 27, 16, 72, 162, 0, 21, 42, 180, 0, 7, 27, 42]
abbrev dktX7_takesOver_1 : List UInt8 := dkwX7_takesOver_1 ++ dktX7_takesOver_2
def dkwX7_takesOver_0 : List UInt8 := [42, 42, 180, 0, 132, 181, 0, 212, 42, 42, 180, 0, 191, 181, 0, 215, 42, 42, 180, 0, 157, 181, 0, 218]
abbrev dktX7_takesOver_0 : List UInt8 := dkwX7_takesOver_0 ++ dktX7_takesOver_1
theorem dksX7_takesOver_0 : cX7_takesOver.data.toList.drop 0 = dktX7_takesOver_0 := by decide +kernel
theorem dksX7_takesOver_1 : cX7_takesOver.data.toList.drop 24 = dktX7_takesOver_1 := dk_seg dksX7_takesOver_0 24 rfl rfl
theorem dksX7_takesOver_2 : cX7_takesOver.data.toList.drop 46 = dktX7_takesOver_2 := dk_seg dksX7_takesOver_1 22 rfl rfl
theorem dksX7_takesOver_3 : cX7_takesOver.data.toList.drop 70 = dktX7_takesOver_3 := dk_seg dksX7_takesOver_2 24 rfl rfl
theorem dksX7_takesOver_4 : cX7_takesOver.data.toList.drop 93 = dktX7_takesOver_4 := dk_seg dksX7_takesOver_3 23 rfl rfl
theorem dksX7_takesOver_5 : cX7_takesOver.data.toList.drop 117 = dktX7_takesOver_5 := dk_seg dksX7_takesOver_4 24 rfl rfl
theorem dksX7_takesOver_6 : cX7_takesOver.data.toList.drop 141 = dktX7_takesOver_6 := dk_seg dksX7_takesOver_5 24 rfl rfl
theorem dX7_takesOver_0 : decode cX7_takesOver 0 = .ok (.aload_n 0, 1) := dk_42 (dk_at dksX7_takesOver_0 0 rfl rfl)
theorem dX7_takesOver_1 : decode cX7_takesOver 1 = .ok (.aload_n 0, 1) := dk_42 (dk_at dksX7_takesOver_0 1 rfl rfl)
theorem dX7_takesOver_2 : decode cX7_takesOver 2 = .ok (.getfield 132, 3) := dk_180 0 132 (dk_at dksX7_takesOver_0 2 rfl rfl)
theorem dX7_takesOver_5 : decode cX7_takesOver 5 = .ok (.putfield 212, 3) := dk_181 0 212 (dk_at dksX7_takesOver_0 5 rfl rfl)
theorem dX7_takesOver_8 : decode cX7_takesOver 8 = .ok (.aload_n 0, 1) := dk_42 (dk_at dksX7_takesOver_0 8 rfl rfl)
theorem dX7_takesOver_9 : decode cX7_takesOver 9 = .ok (.aload_n 0, 1) := dk_42 (dk_at dksX7_takesOver_0 9 rfl rfl)
theorem dX7_takesOver_10 : decode cX7_takesOver 10 = .ok (.getfield 191, 3) := dk_180 0 191 (dk_at dksX7_takesOver_0 10 rfl rfl)
theorem dX7_takesOver_13 : decode cX7_takesOver 13 = .ok (.putfield 215, 3) := dk_181 0 215 (dk_at dksX7_takesOver_0 13 rfl rfl)
theorem dX7_takesOver_16 : decode cX7_takesOver 16 = .ok (.aload_n 0, 1) := dk_42 (dk_at dksX7_takesOver_0 16 rfl rfl)
theorem dX7_takesOver_17 : decode cX7_takesOver 17 = .ok (.aload_n 0, 1) := dk_42 (dk_at dksX7_takesOver_0 17 rfl rfl)
theorem dX7_takesOver_18 : decode cX7_takesOver 18 = .ok (.getfield 157, 3) := dk_180 0 157 (dk_at dksX7_takesOver_0 18 rfl rfl)
theorem dX7_takesOver_21 : decode cX7_takesOver 21 = .ok (.putfield 218, 3) := dk_181 0 218 (dk_at dksX7_takesOver_0 21 rfl rfl)
theorem dX7_takesOver_24 : decode cX7_takesOver 24 = .ok (.aload_n 0, 1) := dk_42 (dk_at dksX7_takesOver_1 0 rfl rfl)
theorem dX7_takesOver_25 : decode cX7_takesOver 25 = .ok (.aload_n 0, 1) := dk_42 (dk_at dksX7_takesOver_1 1 rfl rfl)
theorem dX7_takesOver_26 : decode cX7_takesOver 26 = .ok (.getfield 135, 3) := dk_180 0 135 (dk_at dksX7_takesOver_1 2 rfl rfl)
theorem dX7_takesOver_29 : decode cX7_takesOver 29 = .ok (.putfield 221, 3) := dk_181 0 221 (dk_at dksX7_takesOver_1 5 rfl rfl)
theorem dX7_takesOver_32 : decode cX7_takesOver 32 = .ok (.iconst 0, 1) := dk_3 (dk_at dksX7_takesOver_1 8 rfl rfl)
theorem dX7_takesOver_33 : decode cX7_takesOver 33 = .ok (.istore_n 1, 1) := dk_60 (dk_at dksX7_takesOver_1 9 rfl rfl)
theorem dX7_takesOver_34 : decode cX7_takesOver 34 = .ok (.iload_n 1, 1) := dk_27 (dk_at dksX7_takesOver_1 10 rfl rfl)
theorem dX7_takesOver_35 : decode cX7_takesOver 35 = .ok (.bipush 72, 2) := dk_16 72 (dk_at dksX7_takesOver_1 11 rfl rfl)
theorem dX7_takesOver_37 : decode cX7_takesOver 37 = .ok (.if_icmp .ge 21, 3) := dk_162 0 21 (dk_at dksX7_takesOver_1 13 rfl rfl)
theorem dX7_takesOver_40 : decode cX7_takesOver 40 = .ok (.aload_n 0, 1) := dk_42 (dk_at dksX7_takesOver_1 16 rfl rfl)
theorem dX7_takesOver_41 : decode cX7_takesOver 41 = .ok (.getfield 7, 3) := dk_180 0 7 (dk_at dksX7_takesOver_1 17 rfl rfl)
theorem dX7_takesOver_44 : decode cX7_takesOver 44 = .ok (.iload_n 1, 1) := dk_27 (dk_at dksX7_takesOver_1 20 rfl rfl)
theorem dX7_takesOver_45 : decode cX7_takesOver 45 = .ok (.aload_n 0, 1) := dk_42 (dk_at dksX7_takesOver_1 21 rfl rfl)
theorem dX7_takesOver_46 : decode cX7_takesOver 46 = .ok (.getfield 41, 3) := dk_180 0 41 (dk_at dksX7_takesOver_2 0 rfl rfl)
theorem dX7_takesOver_49 : decode cX7_takesOver 49 = .ok (.iload_n 1, 1) := dk_27 (dk_at dksX7_takesOver_2 3 rfl rfl)
theorem dX7_takesOver_50 : decode cX7_takesOver 50 = .ok (.iaload, 1) := dk_46 (dk_at dksX7_takesOver_2 4 rfl rfl)
theorem dX7_takesOver_51 : decode cX7_takesOver 51 = .ok (.iastore, 1) := dk_79 (dk_at dksX7_takesOver_2 5 rfl rfl)
theorem dX7_takesOver_52 : decode cX7_takesOver 52 = .ok (.iinc 1 1, 3) := dk_132 1 1 (dk_at dksX7_takesOver_2 6 rfl rfl)
theorem dX7_takesOver_55 : decode cX7_takesOver 55 = .ok (.goto (-21), 3) := dk_167 255 235 (dk_at dksX7_takesOver_2 9 rfl rfl)
theorem dX7_takesOver_58 : decode cX7_takesOver 58 = .ok (.iconst 0, 1) := dk_3 (dk_at dksX7_takesOver_2 12 rfl rfl)
theorem dX7_takesOver_59 : decode cX7_takesOver 59 = .ok (.istore_n 1, 1) := dk_60 (dk_at dksX7_takesOver_2 13 rfl rfl)
theorem dX7_takesOver_60 : decode cX7_takesOver 60 = .ok (.iload_n 1, 1) := dk_27 (dk_at dksX7_takesOver_2 14 rfl rfl)
theorem dX7_takesOver_61 : decode cX7_takesOver 61 = .ok (.bipush 6, 2) := dk_16 6 (dk_at dksX7_takesOver_2 15 rfl rfl)
theorem dX7_takesOver_63 : decode cX7_takesOver 63 = .ok (.if_icmp .ge 33, 3) := dk_162 0 33 (dk_at dksX7_takesOver_2 17 rfl rfl)
theorem dX7_takesOver_66 : decode cX7_takesOver 66 = .ok (.aload_n 0, 1) := dk_42 (dk_at dksX7_takesOver_2 20 rfl rfl)
theorem dX7_takesOver_67 : decode cX7_takesOver 67 = .ok (.getfield 13, 3) := dk_180 0 13 (dk_at dksX7_takesOver_2 21 rfl rfl)
theorem dX7_takesOver_70 : decode cX7_takesOver 70 = .ok (.iload_n 1, 1) := dk_27 (dk_at dksX7_takesOver_3 0 rfl rfl)
theorem dX7_takesOver_71 : decode cX7_takesOver 71 = .ok (.aload_n 0, 1) := dk_42 (dk_at dksX7_takesOver_3 1 rfl rfl)
theorem dX7_takesOver_72 : decode cX7_takesOver 72 = .ok (.getfield 44, 3) := dk_180 0 44 (dk_at dksX7_takesOver_3 2 rfl rfl)
theorem dX7_takesOver_75 : decode cX7_takesOver 75 = .ok (.iload_n 1, 1) := dk_27 (dk_at dksX7_takesOver_3 5 rfl rfl)
theorem dX7_takesOver_76 : decode cX7_takesOver 76 = .ok (.iaload, 1) := dk_46 (dk_at dksX7_takesOver_3 6 rfl rfl)
theorem dX7_takesOver_77 : decode cX7_takesOver 77 = .ok (.iastore, 1) := dk_79 (dk_at dksX7_takesOver_3 7 rfl rfl)
theorem dX7_takesOver_78 : decode cX7_takesOver 78 = .ok (.aload_n 0, 1) := dk_42 (dk_at dksX7_takesOver_3 8 rfl rfl)
theorem dX7_takesOver_79 : decode cX7_takesOver 79 = .ok (.getfield 16, 3) := dk_180 0 16 (dk_at dksX7_takesOver_3 9 rfl rfl)
theorem dX7_takesOver_82 : decode cX7_takesOver 82 = .ok (.iload_n 1, 1) := dk_27 (dk_at dksX7_takesOver_3 12 rfl rfl)
theorem dX7_takesOver_83 : decode cX7_takesOver 83 = .ok (.aload_n 0, 1) := dk_42 (dk_at dksX7_takesOver_3 13 rfl rfl)
theorem dX7_takesOver_84 : decode cX7_takesOver 84 = .ok (.getfield 47, 3) := dk_180 0 47 (dk_at dksX7_takesOver_3 14 rfl rfl)
theorem dX7_takesOver_87 : decode cX7_takesOver 87 = .ok (.iload_n 1, 1) := dk_27 (dk_at dksX7_takesOver_3 17 rfl rfl)
theorem dX7_takesOver_88 : decode cX7_takesOver 88 = .ok (.iaload, 1) := dk_46 (dk_at dksX7_takesOver_3 18 rfl rfl)
theorem dX7_takesOver_89 : decode cX7_takesOver 89 = .ok (.iastore, 1) := dk_79 (dk_at dksX7_takesOver_3 19 rfl rfl)
theorem dX7_takesOver_90 : decode cX7_takesOver 90 = .ok (.iinc 1 1, 3) := dk_132 1 1 (dk_at dksX7_takesOver_3 20 rfl rfl)
theorem dX7_takesOver_93 : decode cX7_takesOver 93 = .ok (.goto (-33), 3) := dk_167 255 223 (dk_at dksX7_takesOver_4 0 rfl rfl)
theorem dX7_takesOver_96 : decode cX7_takesOver 96 = .ok (.iconst 0, 1) := dk_3 (dk_at dksX7_takesOver_4 3 rfl rfl)
theorem dX7_takesOver_97 : decode cX7_takesOver 97 = .ok (.istore_n 1, 1) := dk_60 (dk_at dksX7_takesOver_4 4 rfl rfl)
theorem dX7_takesOver_98 : decode cX7_takesOver 98 = .ok (.iload_n 1, 1) := dk_27 (dk_at dksX7_takesOver_4 5 rfl rfl)
theorem dX7_takesOver_99 : decode cX7_takesOver 99 = .ok (.sipush 160, 3) := dk_17 0 160 (dk_at dksX7_takesOver_4 6 rfl rfl)
theorem dX7_takesOver_102 : decode cX7_takesOver 102 = .ok (.if_icmp .ge 21, 3) := dk_162 0 21 (dk_at dksX7_takesOver_4 9 rfl rfl)
theorem dX7_takesOver_105 : decode cX7_takesOver 105 = .ok (.aload_n 0, 1) := dk_42 (dk_at dksX7_takesOver_4 12 rfl rfl)
theorem dX7_takesOver_106 : decode cX7_takesOver 106 = .ok (.getfield 19, 3) := dk_180 0 19 (dk_at dksX7_takesOver_4 13 rfl rfl)
theorem dX7_takesOver_109 : decode cX7_takesOver 109 = .ok (.iload_n 1, 1) := dk_27 (dk_at dksX7_takesOver_4 16 rfl rfl)
theorem dX7_takesOver_110 : decode cX7_takesOver 110 = .ok (.aload_n 0, 1) := dk_42 (dk_at dksX7_takesOver_4 17 rfl rfl)
theorem dX7_takesOver_111 : decode cX7_takesOver 111 = .ok (.getfield 50, 3) := dk_180 0 50 (dk_at dksX7_takesOver_4 18 rfl rfl)
theorem dX7_takesOver_114 : decode cX7_takesOver 114 = .ok (.iload_n 1, 1) := dk_27 (dk_at dksX7_takesOver_4 21 rfl rfl)
theorem dX7_takesOver_115 : decode cX7_takesOver 115 = .ok (.iaload, 1) := dk_46 (dk_at dksX7_takesOver_4 22 rfl rfl)
theorem dX7_takesOver_116 : decode cX7_takesOver 116 = .ok (.iastore, 1) := dk_79 (dk_at dksX7_takesOver_4 23 rfl rfl)
theorem dX7_takesOver_117 : decode cX7_takesOver 117 = .ok (.iinc 1 1, 3) := dk_132 1 1 (dk_at dksX7_takesOver_5 0 rfl rfl)
theorem dX7_takesOver_120 : decode cX7_takesOver 120 = .ok (.goto (-22), 3) := dk_167 255 234 (dk_at dksX7_takesOver_5 3 rfl rfl)
theorem dX7_takesOver_123 : decode cX7_takesOver 123 = .ok (.iconst 0, 1) := dk_3 (dk_at dksX7_takesOver_5 6 rfl rfl)
theorem dX7_takesOver_124 : decode cX7_takesOver 124 = .ok (.istore_n 1, 1) := dk_60 (dk_at dksX7_takesOver_5 7 rfl rfl)
theorem dX7_takesOver_125 : decode cX7_takesOver 125 = .ok (.iload_n 1, 1) := dk_27 (dk_at dksX7_takesOver_5 8 rfl rfl)
theorem dX7_takesOver_126 : decode cX7_takesOver 126 = .ok (.iconst 4, 1) := dk_7 (dk_at dksX7_takesOver_5 9 rfl rfl)
theorem dX7_takesOver_127 : decode cX7_takesOver 127 = .ok (.if_icmp .ge 21, 3) := dk_162 0 21 (dk_at dksX7_takesOver_5 10 rfl rfl)
theorem dX7_takesOver_130 : decode cX7_takesOver 130 = .ok (.aload_n 0, 1) := dk_42 (dk_at dksX7_takesOver_5 13 rfl rfl)
theorem dX7_takesOver_131 : decode cX7_takesOver 131 = .ok (.getfield 22, 3) := dk_180 0 22 (dk_at dksX7_takesOver_5 14 rfl rfl)
theorem dX7_takesOver_134 : decode cX7_takesOver 134 = .ok (.iload_n 1, 1) := dk_27 (dk_at dksX7_takesOver_5 17 rfl rfl)
theorem dX7_takesOver_135 : decode cX7_takesOver 135 = .ok (.aload_n 0, 1) := dk_42 (dk_at dksX7_takesOver_5 18 rfl rfl)
theorem dX7_takesOver_136 : decode cX7_takesOver 136 = .ok (.getfield 53, 3) := dk_180 0 53 (dk_at dksX7_takesOver_5 19 rfl rfl)
theorem dX7_takesOver_139 : decode cX7_takesOver 139 = .ok (.iload_n 1, 1) := dk_27 (dk_at dksX7_takesOver_5 22 rfl rfl)
theorem dX7_takesOver_140 : decode cX7_takesOver 140 = .ok (.iaload, 1) := dk_46 (dk_at dksX7_takesOver_5 23 rfl rfl)
theorem dX7_takesOver_141 : decode cX7_takesOver 141 = .ok (.iastore, 1) := dk_79 (dk_at dksX7_takesOver_6 0 rfl rfl)
theorem dX7_takesOver_142 : decode cX7_takesOver 142 = .ok (.iinc 1 1, 3) := dk_132 1 1 (dk_at dksX7_takesOver_6 1 rfl rfl)
theorem dX7_takesOver_145 : decode cX7_takesOver 145 = .ok (.goto (-20), 3) := dk_167 255 236 (dk_at dksX7_takesOver_6 4 rfl rfl)
theorem dX7_takesOver_148 : decode cX7_takesOver 148 = .ok (.return_, 1) := dk_177 (dk_at dksX7_takesOver_6 7 rfl rfl)
abbrev cX7_node : ByteArray := prog_19_method_29_code
def yX7_node : MethodName := ⟨RX7, "node", "()I"⟩
def dkwX7_node_10 : List UInt8 := [167, 0, 4, 28, 172]
abbrev dktX7_node_10 : List UInt8 := dkwX7_node_10 ++ []
def dkwX7_node_9 : List UInt8 := [16, 247, 159, 0, 11, 16, 246, 42, 180, 0, 122, 100, 172, 42, 3, 181, 0, 99, 29, 153, 0, 8, 16, 247]
abbrev dktX7_node_9 : List UInt8 := dkwX7_node_9 ++ dktX7_node_10
def dkwX7_node_8 : List UInt8 := [167, 255, 95, 42, 42, 180, 0, 109, 7, 160, 0, 7, 4, 167, 0, 4, 3, 182, 0, 125, 42, 180, 0, 122]
abbrev dktX7_node_8 : List UInt8 := dkwX7_node_8 ++ dktX7_node_9
def dkwX7_node_7 : List UInt8 := [182, 0, 154, 54, 4, 42, 180, 0, 122, 16, 247, 160, 0, 12, 21, 4, 153, 0, 7, 42, 182, 0, 129]
abbrev dktX7_node_7 : List UInt8 := dkwX7_node_7 ++ dktX7_node_8
def dkwX7_node_6 : List UInt8 := [21, 5, 16, 247, 160, 0, 7, 4, 167, 0, 4, 3, 62, 21, 5, 60, 42, 4, 182, 0, 141, 42, 16, 46]
abbrev dktX7_node_6 : List UInt8 := dkwX7_node_6 ++ dktX7_node_7
def dkwX7_node_5 : List UInt8 := [167, 0, 12, 42, 27, 42, 180, 0, 116, 182, 0, 239, 54, 5, 29, 154, 0, 16, 28, 16, 247, 160, 0, 14]
abbrev dktX7_node_5 : List UInt8 := dkwX7_node_5 ++ dktX7_node_6
def dkwX7_node_4 : List UInt8 := [27, 42, 180, 0, 116, 182, 0, 236, 61, 29, 154, 0, 12, 42, 180, 0, 122, 16, 247, 159, 0, 8, 16, 247]
abbrev dktX7_node_4 : List UInt8 := dkwX7_node_4 ++ dktX7_node_5
def dkwX7_node_3 : List UInt8 := [167, 0, 4, 3, 62, 29, 154, 0, 12, 42, 180, 0, 122, 16, 247, 159, 0, 8, 16, 247, 167, 0, 12, 42]
abbrev dktX7_node_3 : List UInt8 := dkwX7_node_3 ++ dktX7_node_4
def dkwX7_node_2 : List UInt8 := [160, 0, 7, 4, 167, 0, 4, 3, 182, 0, 125, 29, 154, 0, 9, 28, 16, 247, 159, 0, 7, 4]
abbrev dktX7_node_2 : List UInt8 := dkwX7_node_2 ++ dktX7_node_3
def dkwX7_node_1 : List UInt8 := [54, 4, 42, 180, 0, 122, 16, 247, 160, 0, 158, 21, 4, 153, 0, 153, 42, 42, 180, 0, 109, 4]
abbrev dktX7_node_1 : List UInt8 := dkwX7_node_1 ++ dktX7_node_2
def dkwX7_node_0 : List UInt8 := [42, 3, 181, 0, 103, 42, 16, 247, 181, 0, 122, 16, 247, 60, 16, 247, 61, 3, 62, 42, 182, 0, 129, 4]
abbrev dktX7_node_0 : List UInt8 := dkwX7_node_0 ++ dktX7_node_1
theorem dksX7_node_0 : cX7_node.data.toList.drop 0 = dktX7_node_0 := by decide +kernel
theorem dksX7_node_1 : cX7_node.data.toList.drop 24 = dktX7_node_1 := dk_seg dksX7_node_0 24 rfl rfl
theorem dksX7_node_2 : cX7_node.data.toList.drop 46 = dktX7_node_2 := dk_seg dksX7_node_1 22 rfl rfl
theorem dksX7_node_3 : cX7_node.data.toList.drop 68 = dktX7_node_3 := dk_seg dksX7_node_2 22 rfl rfl
theorem dksX7_node_4 : cX7_node.data.toList.drop 92 = dktX7_node_4 := dk_seg dksX7_node_3 24 rfl rfl
theorem dksX7_node_5 : cX7_node.data.toList.drop 116 = dktX7_node_5 := dk_seg dksX7_node_4 24 rfl rfl
theorem dksX7_node_6 : cX7_node.data.toList.drop 140 = dktX7_node_6 := dk_seg dksX7_node_5 24 rfl rfl
theorem dksX7_node_7 : cX7_node.data.toList.drop 164 = dktX7_node_7 := dk_seg dksX7_node_6 24 rfl rfl
theorem dksX7_node_8 : cX7_node.data.toList.drop 187 = dktX7_node_8 := dk_seg dksX7_node_7 23 rfl rfl
theorem dksX7_node_9 : cX7_node.data.toList.drop 211 = dktX7_node_9 := dk_seg dksX7_node_8 24 rfl rfl
theorem dksX7_node_10 : cX7_node.data.toList.drop 235 = dktX7_node_10 := dk_seg dksX7_node_9 24 rfl rfl
theorem dX7_node_0 : decode cX7_node 0 = .ok (.aload_n 0, 1) := dk_42 (dk_at dksX7_node_0 0 rfl rfl)
theorem dX7_node_1 : decode cX7_node 1 = .ok (.iconst 0, 1) := dk_3 (dk_at dksX7_node_0 1 rfl rfl)
theorem dX7_node_2 : decode cX7_node 2 = .ok (.putfield 103, 3) := dk_181 0 103 (dk_at dksX7_node_0 2 rfl rfl)
theorem dX7_node_5 : decode cX7_node 5 = .ok (.aload_n 0, 1) := dk_42 (dk_at dksX7_node_0 5 rfl rfl)
theorem dX7_node_6 : decode cX7_node 6 = .ok (.bipush (-9), 2) := dk_16 247 (dk_at dksX7_node_0 6 rfl rfl)
theorem dX7_node_8 : decode cX7_node 8 = .ok (.putfield 122, 3) := dk_181 0 122 (dk_at dksX7_node_0 8 rfl rfl)
theorem dX7_node_11 : decode cX7_node 11 = .ok (.bipush (-9), 2) := dk_16 247 (dk_at dksX7_node_0 11 rfl rfl)
theorem dX7_node_13 : decode cX7_node 13 = .ok (.istore_n 1, 1) := dk_60 (dk_at dksX7_node_0 13 rfl rfl)
theorem dX7_node_14 : decode cX7_node 14 = .ok (.bipush (-9), 2) := dk_16 247 (dk_at dksX7_node_0 14 rfl rfl)
theorem dX7_node_16 : decode cX7_node 16 = .ok (.istore_n 2, 1) := dk_61 (dk_at dksX7_node_0 16 rfl rfl)
theorem dX7_node_17 : decode cX7_node 17 = .ok (.iconst 0, 1) := dk_3 (dk_at dksX7_node_0 17 rfl rfl)
theorem dX7_node_18 : decode cX7_node 18 = .ok (.istore_n 3, 1) := dk_62 (dk_at dksX7_node_0 18 rfl rfl)
theorem dX7_node_19 : decode cX7_node 19 = .ok (.aload_n 0, 1) := dk_42 (dk_at dksX7_node_0 19 rfl rfl)
theorem dX7_node_20 : decode cX7_node 20 = .ok (.invokevirtual 129, 3) := dk_182 0 129 (dk_at dksX7_node_0 20 rfl rfl)
theorem dX7_node_23 : decode cX7_node 23 = .ok (.iconst 1, 1) := dk_4 (dk_at dksX7_node_0 23 rfl rfl)
theorem dX7_node_24 : decode cX7_node 24 = .ok (.istore 4, 2) := dk_54 4 (dk_at dksX7_node_1 0 rfl rfl)
theorem dX7_node_26 : decode cX7_node 26 = .ok (.aload_n 0, 1) := dk_42 (dk_at dksX7_node_1 2 rfl rfl)
theorem dX7_node_27 : decode cX7_node 27 = .ok (.getfield 122, 3) := dk_180 0 122 (dk_at dksX7_node_1 3 rfl rfl)
theorem dX7_node_30 : decode cX7_node 30 = .ok (.bipush (-9), 2) := dk_16 247 (dk_at dksX7_node_1 6 rfl rfl)
theorem dX7_node_32 : decode cX7_node 32 = .ok (.if_icmp .ne 158, 3) := dk_160 0 158 (dk_at dksX7_node_1 8 rfl rfl)
theorem dX7_node_35 : decode cX7_node 35 = .ok (.iload 4, 2) := dk_21 4 (dk_at dksX7_node_1 11 rfl rfl)
theorem dX7_node_37 : decode cX7_node 37 = .ok (.ifCond .eq 153, 3) := dk_153 0 153 (dk_at dksX7_node_1 13 rfl rfl)
theorem dX7_node_40 : decode cX7_node 40 = .ok (.aload_n 0, 1) := dk_42 (dk_at dksX7_node_1 16 rfl rfl)
theorem dX7_node_41 : decode cX7_node 41 = .ok (.aload_n 0, 1) := dk_42 (dk_at dksX7_node_1 17 rfl rfl)
theorem dX7_node_42 : decode cX7_node 42 = .ok (.getfield 109, 3) := dk_180 0 109 (dk_at dksX7_node_1 18 rfl rfl)
theorem dX7_node_45 : decode cX7_node 45 = .ok (.iconst 1, 1) := dk_4 (dk_at dksX7_node_1 21 rfl rfl)
theorem dX7_node_46 : decode cX7_node 46 = .ok (.if_icmp .ne 7, 3) := dk_160 0 7 (dk_at dksX7_node_2 0 rfl rfl)
theorem dX7_node_49 : decode cX7_node 49 = .ok (.iconst 1, 1) := dk_4 (dk_at dksX7_node_2 3 rfl rfl)
theorem dX7_node_50 : decode cX7_node 50 = .ok (.goto 4, 3) := dk_167 0 4 (dk_at dksX7_node_2 4 rfl rfl)
theorem dX7_node_53 : decode cX7_node 53 = .ok (.iconst 0, 1) := dk_3 (dk_at dksX7_node_2 7 rfl rfl)
theorem dX7_node_54 : decode cX7_node 54 = .ok (.invokevirtual 125, 3) := dk_182 0 125 (dk_at dksX7_node_2 8 rfl rfl)
theorem dX7_node_57 : decode cX7_node 57 = .ok (.iload_n 3, 1) := dk_29 (dk_at dksX7_node_2 11 rfl rfl)
theorem dX7_node_58 : decode cX7_node 58 = .ok (.ifCond .ne 9, 3) := dk_154 0 9 (dk_at dksX7_node_2 12 rfl rfl)
theorem dX7_node_61 : decode cX7_node 61 = .ok (.iload_n 2, 1) := dk_28 (dk_at dksX7_node_2 15 rfl rfl)
theorem dX7_node_62 : decode cX7_node 62 = .ok (.bipush (-9), 2) := dk_16 247 (dk_at dksX7_node_2 16 rfl rfl)
theorem dX7_node_64 : decode cX7_node 64 = .ok (.if_icmp .eq 7, 3) := dk_159 0 7 (dk_at dksX7_node_2 18 rfl rfl)
theorem dX7_node_67 : decode cX7_node 67 = .ok (.iconst 1, 1) := dk_4 (dk_at dksX7_node_2 21 rfl rfl)
theorem dX7_node_68 : decode cX7_node 68 = .ok (.goto 4, 3) := dk_167 0 4 (dk_at dksX7_node_3 0 rfl rfl)
theorem dX7_node_71 : decode cX7_node 71 = .ok (.iconst 0, 1) := dk_3 (dk_at dksX7_node_3 3 rfl rfl)
theorem dX7_node_72 : decode cX7_node 72 = .ok (.istore_n 3, 1) := dk_62 (dk_at dksX7_node_3 4 rfl rfl)
theorem dX7_node_73 : decode cX7_node 73 = .ok (.iload_n 3, 1) := dk_29 (dk_at dksX7_node_3 5 rfl rfl)
theorem dX7_node_74 : decode cX7_node 74 = .ok (.ifCond .ne 12, 3) := dk_154 0 12 (dk_at dksX7_node_3 6 rfl rfl)
theorem dX7_node_77 : decode cX7_node 77 = .ok (.aload_n 0, 1) := dk_42 (dk_at dksX7_node_3 9 rfl rfl)
theorem dX7_node_78 : decode cX7_node 78 = .ok (.getfield 122, 3) := dk_180 0 122 (dk_at dksX7_node_3 10 rfl rfl)
theorem dX7_node_81 : decode cX7_node 81 = .ok (.bipush (-9), 2) := dk_16 247 (dk_at dksX7_node_3 13 rfl rfl)
theorem dX7_node_83 : decode cX7_node 83 = .ok (.if_icmp .eq 8, 3) := dk_159 0 8 (dk_at dksX7_node_3 15 rfl rfl)
theorem dX7_node_86 : decode cX7_node 86 = .ok (.bipush (-9), 2) := dk_16 247 (dk_at dksX7_node_3 18 rfl rfl)
theorem dX7_node_88 : decode cX7_node 88 = .ok (.goto 12, 3) := dk_167 0 12 (dk_at dksX7_node_3 20 rfl rfl)
theorem dX7_node_91 : decode cX7_node 91 = .ok (.aload_n 0, 1) := dk_42 (dk_at dksX7_node_3 23 rfl rfl)
theorem dX7_node_92 : decode cX7_node 92 = .ok (.iload_n 1, 1) := dk_27 (dk_at dksX7_node_4 0 rfl rfl)
theorem dX7_node_93 : decode cX7_node 93 = .ok (.aload_n 0, 1) := dk_42 (dk_at dksX7_node_4 1 rfl rfl)
theorem dX7_node_94 : decode cX7_node 94 = .ok (.getfield 116, 3) := dk_180 0 116 (dk_at dksX7_node_4 2 rfl rfl)
theorem dX7_node_97 : decode cX7_node 97 = .ok (.invokevirtual 236, 3) := dk_182 0 236 (dk_at dksX7_node_4 5 rfl rfl)
theorem dX7_node_100 : decode cX7_node 100 = .ok (.istore_n 2, 1) := dk_61 (dk_at dksX7_node_4 8 rfl rfl)
theorem dX7_node_101 : decode cX7_node 101 = .ok (.iload_n 3, 1) := dk_29 (dk_at dksX7_node_4 9 rfl rfl)
theorem dX7_node_102 : decode cX7_node 102 = .ok (.ifCond .ne 12, 3) := dk_154 0 12 (dk_at dksX7_node_4 10 rfl rfl)
theorem dX7_node_105 : decode cX7_node 105 = .ok (.aload_n 0, 1) := dk_42 (dk_at dksX7_node_4 13 rfl rfl)
theorem dX7_node_106 : decode cX7_node 106 = .ok (.getfield 122, 3) := dk_180 0 122 (dk_at dksX7_node_4 14 rfl rfl)
theorem dX7_node_109 : decode cX7_node 109 = .ok (.bipush (-9), 2) := dk_16 247 (dk_at dksX7_node_4 17 rfl rfl)
theorem dX7_node_111 : decode cX7_node 111 = .ok (.if_icmp .eq 8, 3) := dk_159 0 8 (dk_at dksX7_node_4 19 rfl rfl)
theorem dX7_node_114 : decode cX7_node 114 = .ok (.bipush (-9), 2) := dk_16 247 (dk_at dksX7_node_4 22 rfl rfl)
theorem dX7_node_116 : decode cX7_node 116 = .ok (.goto 12, 3) := dk_167 0 12 (dk_at dksX7_node_5 0 rfl rfl)
theorem dX7_node_119 : decode cX7_node 119 = .ok (.aload_n 0, 1) := dk_42 (dk_at dksX7_node_5 3 rfl rfl)
theorem dX7_node_120 : decode cX7_node 120 = .ok (.iload_n 1, 1) := dk_27 (dk_at dksX7_node_5 4 rfl rfl)
theorem dX7_node_121 : decode cX7_node 121 = .ok (.aload_n 0, 1) := dk_42 (dk_at dksX7_node_5 5 rfl rfl)
theorem dX7_node_122 : decode cX7_node 122 = .ok (.getfield 116, 3) := dk_180 0 116 (dk_at dksX7_node_5 6 rfl rfl)
theorem dX7_node_125 : decode cX7_node 125 = .ok (.invokevirtual 239, 3) := dk_182 0 239 (dk_at dksX7_node_5 9 rfl rfl)
theorem dX7_node_128 : decode cX7_node 128 = .ok (.istore 5, 2) := dk_54 5 (dk_at dksX7_node_5 12 rfl rfl)
theorem dX7_node_130 : decode cX7_node 130 = .ok (.iload_n 3, 1) := dk_29 (dk_at dksX7_node_5 14 rfl rfl)
theorem dX7_node_131 : decode cX7_node 131 = .ok (.ifCond .ne 16, 3) := dk_154 0 16 (dk_at dksX7_node_5 15 rfl rfl)
theorem dX7_node_134 : decode cX7_node 134 = .ok (.iload_n 2, 1) := dk_28 (dk_at dksX7_node_5 18 rfl rfl)
theorem dX7_node_135 : decode cX7_node 135 = .ok (.bipush (-9), 2) := dk_16 247 (dk_at dksX7_node_5 19 rfl rfl)
theorem dX7_node_137 : decode cX7_node 137 = .ok (.if_icmp .ne 14, 3) := dk_160 0 14 (dk_at dksX7_node_5 21 rfl rfl)
theorem dX7_node_140 : decode cX7_node 140 = .ok (.iload 5, 2) := dk_21 5 (dk_at dksX7_node_6 0 rfl rfl)
theorem dX7_node_142 : decode cX7_node 142 = .ok (.bipush (-9), 2) := dk_16 247 (dk_at dksX7_node_6 2 rfl rfl)
theorem dX7_node_144 : decode cX7_node 144 = .ok (.if_icmp .ne 7, 3) := dk_160 0 7 (dk_at dksX7_node_6 4 rfl rfl)
theorem dX7_node_147 : decode cX7_node 147 = .ok (.iconst 1, 1) := dk_4 (dk_at dksX7_node_6 7 rfl rfl)
theorem dX7_node_148 : decode cX7_node 148 = .ok (.goto 4, 3) := dk_167 0 4 (dk_at dksX7_node_6 8 rfl rfl)
theorem dX7_node_151 : decode cX7_node 151 = .ok (.iconst 0, 1) := dk_3 (dk_at dksX7_node_6 11 rfl rfl)
theorem dX7_node_152 : decode cX7_node 152 = .ok (.istore_n 3, 1) := dk_62 (dk_at dksX7_node_6 12 rfl rfl)
theorem dX7_node_153 : decode cX7_node 153 = .ok (.iload 5, 2) := dk_21 5 (dk_at dksX7_node_6 13 rfl rfl)
theorem dX7_node_155 : decode cX7_node 155 = .ok (.istore_n 1, 1) := dk_60 (dk_at dksX7_node_6 15 rfl rfl)
theorem dX7_node_156 : decode cX7_node 156 = .ok (.aload_n 0, 1) := dk_42 (dk_at dksX7_node_6 16 rfl rfl)
theorem dX7_node_157 : decode cX7_node 157 = .ok (.iconst 1, 1) := dk_4 (dk_at dksX7_node_6 17 rfl rfl)
theorem dX7_node_158 : decode cX7_node 158 = .ok (.invokevirtual 141, 3) := dk_182 0 141 (dk_at dksX7_node_6 18 rfl rfl)
theorem dX7_node_161 : decode cX7_node 161 = .ok (.aload_n 0, 1) := dk_42 (dk_at dksX7_node_6 21 rfl rfl)
theorem dX7_node_162 : decode cX7_node 162 = .ok (.bipush 46, 2) := dk_16 46 (dk_at dksX7_node_6 22 rfl rfl)
theorem dX7_node_164 : decode cX7_node 164 = .ok (.invokevirtual 154, 3) := dk_182 0 154 (dk_at dksX7_node_7 0 rfl rfl)
theorem dX7_node_167 : decode cX7_node 167 = .ok (.istore 4, 2) := dk_54 4 (dk_at dksX7_node_7 3 rfl rfl)
theorem dX7_node_169 : decode cX7_node 169 = .ok (.aload_n 0, 1) := dk_42 (dk_at dksX7_node_7 5 rfl rfl)
theorem dX7_node_170 : decode cX7_node 170 = .ok (.getfield 122, 3) := dk_180 0 122 (dk_at dksX7_node_7 6 rfl rfl)
theorem dX7_node_173 : decode cX7_node 173 = .ok (.bipush (-9), 2) := dk_16 247 (dk_at dksX7_node_7 9 rfl rfl)
theorem dX7_node_175 : decode cX7_node 175 = .ok (.if_icmp .ne 12, 3) := dk_160 0 12 (dk_at dksX7_node_7 11 rfl rfl)
theorem dX7_node_178 : decode cX7_node 178 = .ok (.iload 4, 2) := dk_21 4 (dk_at dksX7_node_7 14 rfl rfl)
theorem dX7_node_180 : decode cX7_node 180 = .ok (.ifCond .eq 7, 3) := dk_153 0 7 (dk_at dksX7_node_7 16 rfl rfl)
theorem dX7_node_183 : decode cX7_node 183 = .ok (.aload_n 0, 1) := dk_42 (dk_at dksX7_node_7 19 rfl rfl)
theorem dX7_node_184 : decode cX7_node 184 = .ok (.invokevirtual 129, 3) := dk_182 0 129 (dk_at dksX7_node_7 20 rfl rfl)
theorem dX7_node_187 : decode cX7_node 187 = .ok (.goto (-161), 3) := dk_167 255 95 (dk_at dksX7_node_8 0 rfl rfl)
theorem dX7_node_190 : decode cX7_node 190 = .ok (.aload_n 0, 1) := dk_42 (dk_at dksX7_node_8 3 rfl rfl)
theorem dX7_node_191 : decode cX7_node 191 = .ok (.aload_n 0, 1) := dk_42 (dk_at dksX7_node_8 4 rfl rfl)
theorem dX7_node_192 : decode cX7_node 192 = .ok (.getfield 109, 3) := dk_180 0 109 (dk_at dksX7_node_8 5 rfl rfl)
theorem dX7_node_195 : decode cX7_node 195 = .ok (.iconst 4, 1) := dk_7 (dk_at dksX7_node_8 8 rfl rfl)
theorem dX7_node_196 : decode cX7_node 196 = .ok (.if_icmp .ne 7, 3) := dk_160 0 7 (dk_at dksX7_node_8 9 rfl rfl)
theorem dX7_node_199 : decode cX7_node 199 = .ok (.iconst 1, 1) := dk_4 (dk_at dksX7_node_8 12 rfl rfl)
theorem dX7_node_200 : decode cX7_node 200 = .ok (.goto 4, 3) := dk_167 0 4 (dk_at dksX7_node_8 13 rfl rfl)
theorem dX7_node_203 : decode cX7_node 203 = .ok (.iconst 0, 1) := dk_3 (dk_at dksX7_node_8 16 rfl rfl)
theorem dX7_node_204 : decode cX7_node 204 = .ok (.invokevirtual 125, 3) := dk_182 0 125 (dk_at dksX7_node_8 17 rfl rfl)
theorem dX7_node_207 : decode cX7_node 207 = .ok (.aload_n 0, 1) := dk_42 (dk_at dksX7_node_8 20 rfl rfl)
theorem dX7_node_208 : decode cX7_node 208 = .ok (.getfield 122, 3) := dk_180 0 122 (dk_at dksX7_node_8 21 rfl rfl)
theorem dX7_node_211 : decode cX7_node 211 = .ok (.bipush (-9), 2) := dk_16 247 (dk_at dksX7_node_9 0 rfl rfl)
theorem dX7_node_213 : decode cX7_node 213 = .ok (.if_icmp .eq 11, 3) := dk_159 0 11 (dk_at dksX7_node_9 2 rfl rfl)
theorem dX7_node_216 : decode cX7_node 216 = .ok (.bipush (-10), 2) := dk_16 246 (dk_at dksX7_node_9 5 rfl rfl)
theorem dX7_node_218 : decode cX7_node 218 = .ok (.aload_n 0, 1) := dk_42 (dk_at dksX7_node_9 7 rfl rfl)
theorem dX7_node_219 : decode cX7_node 219 = .ok (.getfield 122, 3) := dk_180 0 122 (dk_at dksX7_node_9 8 rfl rfl)
theorem dX7_node_222 : decode cX7_node 222 = .ok (.isub, 1) := dk_100 (dk_at dksX7_node_9 11 rfl rfl)
theorem dX7_node_223 : decode cX7_node 223 = .ok (.ireturn, 1) := dk_172 (dk_at dksX7_node_9 12 rfl rfl)
theorem dX7_node_224 : decode cX7_node 224 = .ok (.aload_n 0, 1) := dk_42 (dk_at dksX7_node_9 13 rfl rfl)
theorem dX7_node_225 : decode cX7_node 225 = .ok (.iconst 0, 1) := dk_3 (dk_at dksX7_node_9 14 rfl rfl)
theorem dX7_node_226 : decode cX7_node 226 = .ok (.putfield 99, 3) := dk_181 0 99 (dk_at dksX7_node_9 15 rfl rfl)
theorem dX7_node_229 : decode cX7_node 229 = .ok (.iload_n 3, 1) := dk_29 (dk_at dksX7_node_9 18 rfl rfl)
theorem dX7_node_230 : decode cX7_node 230 = .ok (.ifCond .eq 8, 3) := dk_153 0 8 (dk_at dksX7_node_9 19 rfl rfl)
theorem dX7_node_233 : decode cX7_node 233 = .ok (.bipush (-9), 2) := dk_16 247 (dk_at dksX7_node_9 22 rfl rfl)
theorem dX7_node_235 : decode cX7_node 235 = .ok (.goto 4, 3) := dk_167 0 4 (dk_at dksX7_node_10 0 rfl rfl)
theorem dX7_node_238 : decode cX7_node 238 = .ok (.iload_n 2, 1) := dk_28 (dk_at dksX7_node_10 3 rfl rfl)
theorem dX7_node_239 : decode cX7_node 239 = .ok (.ireturn, 1) := dk_172 (dk_at dksX7_node_10 4 rfl rfl)
abbrev cX7_nodeBy : ByteArray := prog_19_method_27_code
def yX7_nodeBy : MethodName := ⟨RX7, "nodeBy", "(II)I"⟩
def dkwX7_nodeBy_2 : List UInt8 := [167, 255, 215, 29, 172]
abbrev dktX7_nodeBy_2 : List UInt8 := dkwX7_nodeBy_2 ++ []
def dkwX7_nodeBy_1 : List UInt8 := [160, 0, 19, 42, 21, 4, 7, 182, 0, 233, 28, 160, 0, 8, 21, 4, 167, 0, 4, 29, 62, 132, 4, 1]
abbrev dktX7_nodeBy_1 : List UInt8 := dkwX7_nodeBy_1 ++ dktX7_nodeBy_2
def dkwX7_nodeBy_0 : List UInt8 := [16, 247, 62, 3, 54, 4, 21, 4, 42, 180, 0, 212, 162, 0, 38, 42, 21, 4, 6, 182, 0, 233, 27]
abbrev dktX7_nodeBy_0 : List UInt8 := dkwX7_nodeBy_0 ++ dktX7_nodeBy_1
theorem dksX7_nodeBy_0 : cX7_nodeBy.data.toList.drop 0 = dktX7_nodeBy_0 := by decide +kernel
theorem dksX7_nodeBy_1 : cX7_nodeBy.data.toList.drop 23 = dktX7_nodeBy_1 := dk_seg dksX7_nodeBy_0 23 rfl rfl
theorem dksX7_nodeBy_2 : cX7_nodeBy.data.toList.drop 47 = dktX7_nodeBy_2 := dk_seg dksX7_nodeBy_1 24 rfl rfl
theorem dX7_nodeBy_0 : decode cX7_nodeBy 0 = .ok (.bipush (-9), 2) := dk_16 247 (dk_at dksX7_nodeBy_0 0 rfl rfl)
theorem dX7_nodeBy_2 : decode cX7_nodeBy 2 = .ok (.istore_n 3, 1) := dk_62 (dk_at dksX7_nodeBy_0 2 rfl rfl)
theorem dX7_nodeBy_3 : decode cX7_nodeBy 3 = .ok (.iconst 0, 1) := dk_3 (dk_at dksX7_nodeBy_0 3 rfl rfl)
theorem dX7_nodeBy_4 : decode cX7_nodeBy 4 = .ok (.istore 4, 2) := dk_54 4 (dk_at dksX7_nodeBy_0 4 rfl rfl)
theorem dX7_nodeBy_6 : decode cX7_nodeBy 6 = .ok (.iload 4, 2) := dk_21 4 (dk_at dksX7_nodeBy_0 6 rfl rfl)
theorem dX7_nodeBy_8 : decode cX7_nodeBy 8 = .ok (.aload_n 0, 1) := dk_42 (dk_at dksX7_nodeBy_0 8 rfl rfl)
theorem dX7_nodeBy_9 : decode cX7_nodeBy 9 = .ok (.getfield 212, 3) := dk_180 0 212 (dk_at dksX7_nodeBy_0 9 rfl rfl)
theorem dX7_nodeBy_12 : decode cX7_nodeBy 12 = .ok (.if_icmp .ge 38, 3) := dk_162 0 38 (dk_at dksX7_nodeBy_0 12 rfl rfl)
theorem dX7_nodeBy_15 : decode cX7_nodeBy 15 = .ok (.aload_n 0, 1) := dk_42 (dk_at dksX7_nodeBy_0 15 rfl rfl)
theorem dX7_nodeBy_16 : decode cX7_nodeBy 16 = .ok (.iload 4, 2) := dk_21 4 (dk_at dksX7_nodeBy_0 16 rfl rfl)
theorem dX7_nodeBy_18 : decode cX7_nodeBy 18 = .ok (.iconst 3, 1) := dk_6 (dk_at dksX7_nodeBy_0 18 rfl rfl)
theorem dX7_nodeBy_19 : decode cX7_nodeBy 19 = .ok (.invokevirtual 233, 3) := dk_182 0 233 (dk_at dksX7_nodeBy_0 19 rfl rfl)
theorem dX7_nodeBy_22 : decode cX7_nodeBy 22 = .ok (.iload_n 1, 1) := dk_27 (dk_at dksX7_nodeBy_0 22 rfl rfl)
theorem dX7_nodeBy_23 : decode cX7_nodeBy 23 = .ok (.if_icmp .ne 19, 3) := dk_160 0 19 (dk_at dksX7_nodeBy_1 0 rfl rfl)
theorem dX7_nodeBy_26 : decode cX7_nodeBy 26 = .ok (.aload_n 0, 1) := dk_42 (dk_at dksX7_nodeBy_1 3 rfl rfl)
theorem dX7_nodeBy_27 : decode cX7_nodeBy 27 = .ok (.iload 4, 2) := dk_21 4 (dk_at dksX7_nodeBy_1 4 rfl rfl)
theorem dX7_nodeBy_29 : decode cX7_nodeBy 29 = .ok (.iconst 4, 1) := dk_7 (dk_at dksX7_nodeBy_1 6 rfl rfl)
theorem dX7_nodeBy_30 : decode cX7_nodeBy 30 = .ok (.invokevirtual 233, 3) := dk_182 0 233 (dk_at dksX7_nodeBy_1 7 rfl rfl)
theorem dX7_nodeBy_33 : decode cX7_nodeBy 33 = .ok (.iload_n 2, 1) := dk_28 (dk_at dksX7_nodeBy_1 10 rfl rfl)
theorem dX7_nodeBy_34 : decode cX7_nodeBy 34 = .ok (.if_icmp .ne 8, 3) := dk_160 0 8 (dk_at dksX7_nodeBy_1 11 rfl rfl)
theorem dX7_nodeBy_37 : decode cX7_nodeBy 37 = .ok (.iload 4, 2) := dk_21 4 (dk_at dksX7_nodeBy_1 14 rfl rfl)
theorem dX7_nodeBy_39 : decode cX7_nodeBy 39 = .ok (.goto 4, 3) := dk_167 0 4 (dk_at dksX7_nodeBy_1 16 rfl rfl)
theorem dX7_nodeBy_42 : decode cX7_nodeBy 42 = .ok (.iload_n 3, 1) := dk_29 (dk_at dksX7_nodeBy_1 19 rfl rfl)
theorem dX7_nodeBy_43 : decode cX7_nodeBy 43 = .ok (.istore_n 3, 1) := dk_62 (dk_at dksX7_nodeBy_1 20 rfl rfl)
theorem dX7_nodeBy_44 : decode cX7_nodeBy 44 = .ok (.iinc 4 1, 3) := dk_132 4 1 (dk_at dksX7_nodeBy_1 21 rfl rfl)
theorem dX7_nodeBy_47 : decode cX7_nodeBy 47 = .ok (.goto (-41), 3) := dk_167 255 215 (dk_at dksX7_nodeBy_2 0 rfl rfl)
theorem dX7_nodeBy_50 : decode cX7_nodeBy 50 = .ok (.iload_n 3, 1) := dk_29 (dk_at dksX7_nodeBy_2 3 rfl rfl)
theorem dX7_nodeBy_51 : decode cX7_nodeBy 51 = .ok (.ireturn, 1) := dk_172 (dk_at dksX7_nodeBy_2 4 rfl rfl)
abbrev cX7_of : ByteArray := prog_19_method_31_code
def yX7_of : MethodName := ⟨RX7, "of", "(II)I"⟩
def dkwX7_of_0 : List UInt8 := [42, 180, 0, 7, 16, 6, 27, 104, 28, 96, 46, 172]
abbrev dktX7_of_0 : List UInt8 := dkwX7_of_0 ++ []
theorem dksX7_of_0 : cX7_of.data.toList.drop 0 = dktX7_of_0 := by decide +kernel
theorem dX7_of_0 : decode cX7_of 0 = .ok (.aload_n 0, 1) := dk_42 (dk_at dksX7_of_0 0 rfl rfl)
theorem dX7_of_1 : decode cX7_of 1 = .ok (.getfield 7, 3) := dk_180 0 7 (dk_at dksX7_of_0 1 rfl rfl)
theorem dX7_of_4 : decode cX7_of 4 = .ok (.bipush 6, 2) := dk_16 6 (dk_at dksX7_of_0 4 rfl rfl)
theorem dX7_of_6 : decode cX7_of 6 = .ok (.iload_n 1, 1) := dk_27 (dk_at dksX7_of_0 6 rfl rfl)
theorem dX7_of_7 : decode cX7_of 7 = .ok (.imul, 1) := dk_104 (dk_at dksX7_of_0 7 rfl rfl)
theorem dX7_of_8 : decode cX7_of 8 = .ok (.iload_n 2, 1) := dk_28 (dk_at dksX7_of_0 8 rfl rfl)
theorem dX7_of_9 : decode cX7_of 9 = .ok (.iadd, 1) := dk_96 (dk_at dksX7_of_0 9 rfl rfl)
theorem dX7_of_10 : decode cX7_of 10 = .ok (.iaload, 1) := dk_46 (dk_at dksX7_of_0 10 rfl rfl)
theorem dX7_of_11 : decode cX7_of 11 = .ok (.ireturn, 1) := dk_172 (dk_at dksX7_of_0 11 rfl rfl)
abbrev cX7_scopeBy : ByteArray := prog_19_method_28_code
def yX7_scopeBy : MethodName := ⟨RX7, "scopeBy", "(II)I"⟩
def dkwX7_scopeBy_2 : List UInt8 := [167, 255, 215, 29, 172]
abbrev dktX7_scopeBy_2 : List UInt8 := dkwX7_scopeBy_2 ++ []
def dkwX7_scopeBy_1 : List UInt8 := [160, 0, 19, 42, 180, 0, 16, 21, 4, 46, 28, 160, 0, 8, 21, 4, 167, 0, 4, 29, 62, 132, 4, 1]
abbrev dktX7_scopeBy_1 : List UInt8 := dkwX7_scopeBy_1 ++ dktX7_scopeBy_2
def dkwX7_scopeBy_0 : List UInt8 := [16, 247, 62, 3, 54, 4, 21, 4, 42, 180, 0, 221, 162, 0, 38, 42, 180, 0, 13, 21, 4, 46, 27]
abbrev dktX7_scopeBy_0 : List UInt8 := dkwX7_scopeBy_0 ++ dktX7_scopeBy_1
theorem dksX7_scopeBy_0 : cX7_scopeBy.data.toList.drop 0 = dktX7_scopeBy_0 := by decide +kernel
theorem dksX7_scopeBy_1 : cX7_scopeBy.data.toList.drop 23 = dktX7_scopeBy_1 := dk_seg dksX7_scopeBy_0 23 rfl rfl
theorem dksX7_scopeBy_2 : cX7_scopeBy.data.toList.drop 47 = dktX7_scopeBy_2 := dk_seg dksX7_scopeBy_1 24 rfl rfl
theorem dX7_scopeBy_0 : decode cX7_scopeBy 0 = .ok (.bipush (-9), 2) := dk_16 247 (dk_at dksX7_scopeBy_0 0 rfl rfl)
theorem dX7_scopeBy_2 : decode cX7_scopeBy 2 = .ok (.istore_n 3, 1) := dk_62 (dk_at dksX7_scopeBy_0 2 rfl rfl)
theorem dX7_scopeBy_3 : decode cX7_scopeBy 3 = .ok (.iconst 0, 1) := dk_3 (dk_at dksX7_scopeBy_0 3 rfl rfl)
theorem dX7_scopeBy_4 : decode cX7_scopeBy 4 = .ok (.istore 4, 2) := dk_54 4 (dk_at dksX7_scopeBy_0 4 rfl rfl)
theorem dX7_scopeBy_6 : decode cX7_scopeBy 6 = .ok (.iload 4, 2) := dk_21 4 (dk_at dksX7_scopeBy_0 6 rfl rfl)
theorem dX7_scopeBy_8 : decode cX7_scopeBy 8 = .ok (.aload_n 0, 1) := dk_42 (dk_at dksX7_scopeBy_0 8 rfl rfl)
theorem dX7_scopeBy_9 : decode cX7_scopeBy 9 = .ok (.getfield 221, 3) := dk_180 0 221 (dk_at dksX7_scopeBy_0 9 rfl rfl)
theorem dX7_scopeBy_12 : decode cX7_scopeBy 12 = .ok (.if_icmp .ge 38, 3) := dk_162 0 38 (dk_at dksX7_scopeBy_0 12 rfl rfl)
theorem dX7_scopeBy_15 : decode cX7_scopeBy 15 = .ok (.aload_n 0, 1) := dk_42 (dk_at dksX7_scopeBy_0 15 rfl rfl)
theorem dX7_scopeBy_16 : decode cX7_scopeBy 16 = .ok (.getfield 13, 3) := dk_180 0 13 (dk_at dksX7_scopeBy_0 16 rfl rfl)
theorem dX7_scopeBy_19 : decode cX7_scopeBy 19 = .ok (.iload 4, 2) := dk_21 4 (dk_at dksX7_scopeBy_0 19 rfl rfl)
theorem dX7_scopeBy_21 : decode cX7_scopeBy 21 = .ok (.iaload, 1) := dk_46 (dk_at dksX7_scopeBy_0 21 rfl rfl)
theorem dX7_scopeBy_22 : decode cX7_scopeBy 22 = .ok (.iload_n 1, 1) := dk_27 (dk_at dksX7_scopeBy_0 22 rfl rfl)
theorem dX7_scopeBy_23 : decode cX7_scopeBy 23 = .ok (.if_icmp .ne 19, 3) := dk_160 0 19 (dk_at dksX7_scopeBy_1 0 rfl rfl)
theorem dX7_scopeBy_26 : decode cX7_scopeBy 26 = .ok (.aload_n 0, 1) := dk_42 (dk_at dksX7_scopeBy_1 3 rfl rfl)
theorem dX7_scopeBy_27 : decode cX7_scopeBy 27 = .ok (.getfield 16, 3) := dk_180 0 16 (dk_at dksX7_scopeBy_1 4 rfl rfl)
theorem dX7_scopeBy_30 : decode cX7_scopeBy 30 = .ok (.iload 4, 2) := dk_21 4 (dk_at dksX7_scopeBy_1 7 rfl rfl)
theorem dX7_scopeBy_32 : decode cX7_scopeBy 32 = .ok (.iaload, 1) := dk_46 (dk_at dksX7_scopeBy_1 9 rfl rfl)
theorem dX7_scopeBy_33 : decode cX7_scopeBy 33 = .ok (.iload_n 2, 1) := dk_28 (dk_at dksX7_scopeBy_1 10 rfl rfl)
theorem dX7_scopeBy_34 : decode cX7_scopeBy 34 = .ok (.if_icmp .ne 8, 3) := dk_160 0 8 (dk_at dksX7_scopeBy_1 11 rfl rfl)
theorem dX7_scopeBy_37 : decode cX7_scopeBy 37 = .ok (.iload 4, 2) := dk_21 4 (dk_at dksX7_scopeBy_1 14 rfl rfl)
theorem dX7_scopeBy_39 : decode cX7_scopeBy 39 = .ok (.goto 4, 3) := dk_167 0 4 (dk_at dksX7_scopeBy_1 16 rfl rfl)
theorem dX7_scopeBy_42 : decode cX7_scopeBy 42 = .ok (.iload_n 3, 1) := dk_29 (dk_at dksX7_scopeBy_1 19 rfl rfl)
theorem dX7_scopeBy_43 : decode cX7_scopeBy 43 = .ok (.istore_n 3, 1) := dk_62 (dk_at dksX7_scopeBy_1 20 rfl rfl)
theorem dX7_scopeBy_44 : decode cX7_scopeBy 44 = .ok (.iinc 4 1, 3) := dk_132 4 1 (dk_at dksX7_scopeBy_1 21 rfl rfl)
theorem dX7_scopeBy_47 : decode cX7_scopeBy 47 = .ok (.goto (-41), 3) := dk_167 255 215 (dk_at dksX7_scopeBy_2 0 rfl rfl)
theorem dX7_scopeBy_50 : decode cX7_scopeBy 50 = .ok (.iload_n 3, 1) := dk_29 (dk_at dksX7_scopeBy_2 3 rfl rfl)
theorem dX7_scopeBy_51 : decode cX7_scopeBy 51 = .ok (.ireturn, 1) := dk_172 (dk_at dksX7_scopeBy_2 4 rfl rfl)
abbrev cX7_about : ByteArray := prog_19_method_35_code
def yX7_about : MethodName := ⟨RX7, "about", "(II)I"⟩
def dkwX7_about_2 : List UInt8 := [132, 3, 1, 167, 255, 233, 42, 182, 0, 253, 42, 180, 0, 59, 27, 46, 172, 42, 27, 28, 182, 0, 233, 172]
abbrev dktX7_about_2 : List UInt8 := dkwX7_about_2 ++ []
def dkwX7_about_1 : List UInt8 := [3, 62, 29, 16, 6, 162, 0, 23, 42, 180, 0, 65, 29, 42, 180, 0, 25, 8, 29, 96, 46, 79]
abbrev dktX7_about_1 : List UInt8 := dkwX7_about_1 ++ dktX7_about_2
def dkwX7_about_0 : List UInt8 := [42, 27, 182, 0, 250, 153, 0, 12, 28, 3, 8, 184, 0, 95, 154, 0, 5, 2, 172, 28, 8, 160, 0, 42]
abbrev dktX7_about_0 : List UInt8 := dkwX7_about_0 ++ dktX7_about_1
theorem dksX7_about_0 : cX7_about.data.toList.drop 0 = dktX7_about_0 := by decide +kernel
theorem dksX7_about_1 : cX7_about.data.toList.drop 24 = dktX7_about_1 := dk_seg dksX7_about_0 24 rfl rfl
theorem dksX7_about_2 : cX7_about.data.toList.drop 46 = dktX7_about_2 := dk_seg dksX7_about_1 22 rfl rfl
theorem dX7_about_0 : decode cX7_about 0 = .ok (.aload_n 0, 1) := dk_42 (dk_at dksX7_about_0 0 rfl rfl)
theorem dX7_about_1 : decode cX7_about 1 = .ok (.iload_n 1, 1) := dk_27 (dk_at dksX7_about_0 1 rfl rfl)
theorem dX7_about_2 : decode cX7_about 2 = .ok (.invokevirtual 250, 3) := dk_182 0 250 (dk_at dksX7_about_0 2 rfl rfl)
theorem dX7_about_5 : decode cX7_about 5 = .ok (.ifCond .eq 12, 3) := dk_153 0 12 (dk_at dksX7_about_0 5 rfl rfl)
theorem dX7_about_8 : decode cX7_about 8 = .ok (.iload_n 2, 1) := dk_28 (dk_at dksX7_about_0 8 rfl rfl)
theorem dX7_about_9 : decode cX7_about 9 = .ok (.iconst 0, 1) := dk_3 (dk_at dksX7_about_0 9 rfl rfl)
theorem dX7_about_10 : decode cX7_about 10 = .ok (.iconst 5, 1) := dk_8 (dk_at dksX7_about_0 10 rfl rfl)
theorem dX7_about_11 : decode cX7_about 11 = .ok (.invokestatic 95, 3) := dk_184 0 95 (dk_at dksX7_about_0 11 rfl rfl)
theorem dX7_about_14 : decode cX7_about 14 = .ok (.ifCond .ne 5, 3) := dk_154 0 5 (dk_at dksX7_about_0 14 rfl rfl)
theorem dX7_about_17 : decode cX7_about 17 = .ok (.iconst (-1), 1) := dk_2 (dk_at dksX7_about_0 17 rfl rfl)
theorem dX7_about_18 : decode cX7_about 18 = .ok (.ireturn, 1) := dk_172 (dk_at dksX7_about_0 18 rfl rfl)
theorem dX7_about_19 : decode cX7_about 19 = .ok (.iload_n 2, 1) := dk_28 (dk_at dksX7_about_0 19 rfl rfl)
theorem dX7_about_20 : decode cX7_about 20 = .ok (.iconst 5, 1) := dk_8 (dk_at dksX7_about_0 20 rfl rfl)
theorem dX7_about_21 : decode cX7_about 21 = .ok (.if_icmp .ne 42, 3) := dk_160 0 42 (dk_at dksX7_about_0 21 rfl rfl)
theorem dX7_about_24 : decode cX7_about 24 = .ok (.iconst 0, 1) := dk_3 (dk_at dksX7_about_1 0 rfl rfl)
theorem dX7_about_25 : decode cX7_about 25 = .ok (.istore_n 3, 1) := dk_62 (dk_at dksX7_about_1 1 rfl rfl)
theorem dX7_about_26 : decode cX7_about 26 = .ok (.iload_n 3, 1) := dk_29 (dk_at dksX7_about_1 2 rfl rfl)
theorem dX7_about_27 : decode cX7_about 27 = .ok (.bipush 6, 2) := dk_16 6 (dk_at dksX7_about_1 3 rfl rfl)
theorem dX7_about_29 : decode cX7_about 29 = .ok (.if_icmp .ge 23, 3) := dk_162 0 23 (dk_at dksX7_about_1 5 rfl rfl)
theorem dX7_about_32 : decode cX7_about 32 = .ok (.aload_n 0, 1) := dk_42 (dk_at dksX7_about_1 8 rfl rfl)
theorem dX7_about_33 : decode cX7_about 33 = .ok (.getfield 65, 3) := dk_180 0 65 (dk_at dksX7_about_1 9 rfl rfl)
theorem dX7_about_36 : decode cX7_about 36 = .ok (.iload_n 3, 1) := dk_29 (dk_at dksX7_about_1 12 rfl rfl)
theorem dX7_about_37 : decode cX7_about 37 = .ok (.aload_n 0, 1) := dk_42 (dk_at dksX7_about_1 13 rfl rfl)
theorem dX7_about_38 : decode cX7_about 38 = .ok (.getfield 25, 3) := dk_180 0 25 (dk_at dksX7_about_1 14 rfl rfl)
theorem dX7_about_41 : decode cX7_about 41 = .ok (.iconst 5, 1) := dk_8 (dk_at dksX7_about_1 17 rfl rfl)
theorem dX7_about_42 : decode cX7_about 42 = .ok (.iload_n 3, 1) := dk_29 (dk_at dksX7_about_1 18 rfl rfl)
theorem dX7_about_43 : decode cX7_about 43 = .ok (.iadd, 1) := dk_96 (dk_at dksX7_about_1 19 rfl rfl)
theorem dX7_about_44 : decode cX7_about 44 = .ok (.iaload, 1) := dk_46 (dk_at dksX7_about_1 20 rfl rfl)
theorem dX7_about_45 : decode cX7_about 45 = .ok (.iastore, 1) := dk_79 (dk_at dksX7_about_1 21 rfl rfl)
theorem dX7_about_46 : decode cX7_about 46 = .ok (.iinc 3 1, 3) := dk_132 3 1 (dk_at dksX7_about_2 0 rfl rfl)
theorem dX7_about_49 : decode cX7_about 49 = .ok (.goto (-23), 3) := dk_167 255 233 (dk_at dksX7_about_2 3 rfl rfl)
theorem dX7_about_52 : decode cX7_about 52 = .ok (.aload_n 0, 1) := dk_42 (dk_at dksX7_about_2 6 rfl rfl)
theorem dX7_about_53 : decode cX7_about 53 = .ok (.invokevirtual 253, 3) := dk_182 0 253 (dk_at dksX7_about_2 7 rfl rfl)
theorem dX7_about_56 : decode cX7_about 56 = .ok (.aload_n 0, 1) := dk_42 (dk_at dksX7_about_2 10 rfl rfl)
theorem dX7_about_57 : decode cX7_about 57 = .ok (.getfield 59, 3) := dk_180 0 59 (dk_at dksX7_about_2 11 rfl rfl)
theorem dX7_about_60 : decode cX7_about 60 = .ok (.iload_n 1, 1) := dk_27 (dk_at dksX7_about_2 14 rfl rfl)
theorem dX7_about_61 : decode cX7_about 61 = .ok (.iaload, 1) := dk_46 (dk_at dksX7_about_2 15 rfl rfl)
theorem dX7_about_62 : decode cX7_about 62 = .ok (.ireturn, 1) := dk_172 (dk_at dksX7_about_2 16 rfl rfl)
theorem dX7_about_63 : decode cX7_about 63 = .ok (.aload_n 0, 1) := dk_42 (dk_at dksX7_about_2 17 rfl rfl)
theorem dX7_about_64 : decode cX7_about 64 = .ok (.iload_n 1, 1) := dk_27 (dk_at dksX7_about_2 18 rfl rfl)
theorem dX7_about_65 : decode cX7_about 65 = .ok (.iload_n 2, 1) := dk_28 (dk_at dksX7_about_2 19 rfl rfl)
theorem dX7_about_66 : decode cX7_about 66 = .ok (.invokevirtual 233, 3) := dk_182 0 233 (dk_at dksX7_about_2 20 rfl rfl)
theorem dX7_about_69 : decode cX7_about 69 = .ok (.ireturn, 1) := dk_172 (dk_at dksX7_about_2 23 rfl rfl)
abbrev cX7_isNode : ByteArray := prog_19_method_30_code
def yX7_isNode : MethodName := ⟨RX7, "isNode", "(I)Z"⟩
def dkwX7_isNode_0 : List UInt8 := [27, 3, 42, 180, 0, 212, 4, 100, 184, 0, 95, 172]
abbrev dktX7_isNode_0 : List UInt8 := dkwX7_isNode_0 ++ []
theorem dksX7_isNode_0 : cX7_isNode.data.toList.drop 0 = dktX7_isNode_0 := by decide +kernel
theorem dX7_isNode_0 : decode cX7_isNode 0 = .ok (.iload_n 1, 1) := dk_27 (dk_at dksX7_isNode_0 0 rfl rfl)
theorem dX7_isNode_1 : decode cX7_isNode 1 = .ok (.iconst 0, 1) := dk_3 (dk_at dksX7_isNode_0 1 rfl rfl)
theorem dX7_isNode_2 : decode cX7_isNode 2 = .ok (.aload_n 0, 1) := dk_42 (dk_at dksX7_isNode_0 2 rfl rfl)
theorem dX7_isNode_3 : decode cX7_isNode 3 = .ok (.getfield 212, 3) := dk_180 0 212 (dk_at dksX7_isNode_0 3 rfl rfl)
theorem dX7_isNode_6 : decode cX7_isNode 6 = .ok (.iconst 1, 1) := dk_4 (dk_at dksX7_isNode_0 6 rfl rfl)
theorem dX7_isNode_7 : decode cX7_isNode 7 = .ok (.isub, 1) := dk_100 (dk_at dksX7_isNode_0 7 rfl rfl)
theorem dX7_isNode_8 : decode cX7_isNode 8 = .ok (.invokestatic 95, 3) := dk_184 0 95 (dk_at dksX7_isNode_0 8 rfl rfl)
theorem dX7_isNode_11 : decode cX7_isNode 11 = .ok (.ireturn, 1) := dk_172 (dk_at dksX7_isNode_0 11 rfl rfl)
abbrev cX7_laysNodes : ByteArray := prog_19_method_34_code
def yX7_laysNodes : MethodName := ⟨RX7, "laysNodes", "()V"⟩
def dkwX7_laysNodes_3 : List UInt8 := [79, 132, 1, 1, 167, 255, 182, 177]
abbrev dktX7_laysNodes_3 : List UInt8 := dkwX7_laysNodes_3 ++ []
def dkwX7_laysNodes_2 : List UInt8 := [42, 180, 0, 59, 42, 27, 5, 182, 0, 233, 46, 167, 0, 13, 42, 42, 27, 8, 182, 0, 233, 182, 0, 246]
abbrev dktX7_laysNodes_2 : List UInt8 := dkwX7_laysNodes_2 ++ dktX7_laysNodes_3
def dkwX7_laysNodes_1 : List UInt8 := [42, 180, 0, 65, 42, 27, 8, 182, 0, 233, 46, 167, 0, 37, 42, 27, 3, 182, 0, 233, 4, 160, 0, 17]
abbrev dktX7_laysNodes_1 : List UInt8 := dkwX7_laysNodes_1 ++ dktX7_laysNodes_2
def dkwX7_laysNodes_0 : List UInt8 := [3, 60, 27, 42, 180, 0, 212, 162, 0, 72, 42, 180, 0, 59, 27, 42, 27, 3, 182, 0, 233, 154, 0, 17]
abbrev dktX7_laysNodes_0 : List UInt8 := dkwX7_laysNodes_0 ++ dktX7_laysNodes_1
theorem dksX7_laysNodes_0 : cX7_laysNodes.data.toList.drop 0 = dktX7_laysNodes_0 := by decide +kernel
theorem dksX7_laysNodes_1 : cX7_laysNodes.data.toList.drop 24 = dktX7_laysNodes_1 := dk_seg dksX7_laysNodes_0 24 rfl rfl
theorem dksX7_laysNodes_2 : cX7_laysNodes.data.toList.drop 48 = dktX7_laysNodes_2 := dk_seg dksX7_laysNodes_1 24 rfl rfl
theorem dksX7_laysNodes_3 : cX7_laysNodes.data.toList.drop 72 = dktX7_laysNodes_3 := dk_seg dksX7_laysNodes_2 24 rfl rfl
theorem dX7_laysNodes_0 : decode cX7_laysNodes 0 = .ok (.iconst 0, 1) := dk_3 (dk_at dksX7_laysNodes_0 0 rfl rfl)
theorem dX7_laysNodes_1 : decode cX7_laysNodes 1 = .ok (.istore_n 1, 1) := dk_60 (dk_at dksX7_laysNodes_0 1 rfl rfl)
theorem dX7_laysNodes_2 : decode cX7_laysNodes 2 = .ok (.iload_n 1, 1) := dk_27 (dk_at dksX7_laysNodes_0 2 rfl rfl)
theorem dX7_laysNodes_3 : decode cX7_laysNodes 3 = .ok (.aload_n 0, 1) := dk_42 (dk_at dksX7_laysNodes_0 3 rfl rfl)
theorem dX7_laysNodes_4 : decode cX7_laysNodes 4 = .ok (.getfield 212, 3) := dk_180 0 212 (dk_at dksX7_laysNodes_0 4 rfl rfl)
theorem dX7_laysNodes_7 : decode cX7_laysNodes 7 = .ok (.if_icmp .ge 72, 3) := dk_162 0 72 (dk_at dksX7_laysNodes_0 7 rfl rfl)
theorem dX7_laysNodes_10 : decode cX7_laysNodes 10 = .ok (.aload_n 0, 1) := dk_42 (dk_at dksX7_laysNodes_0 10 rfl rfl)
theorem dX7_laysNodes_11 : decode cX7_laysNodes 11 = .ok (.getfield 59, 3) := dk_180 0 59 (dk_at dksX7_laysNodes_0 11 rfl rfl)
theorem dX7_laysNodes_14 : decode cX7_laysNodes 14 = .ok (.iload_n 1, 1) := dk_27 (dk_at dksX7_laysNodes_0 14 rfl rfl)
theorem dX7_laysNodes_15 : decode cX7_laysNodes 15 = .ok (.aload_n 0, 1) := dk_42 (dk_at dksX7_laysNodes_0 15 rfl rfl)
theorem dX7_laysNodes_16 : decode cX7_laysNodes 16 = .ok (.iload_n 1, 1) := dk_27 (dk_at dksX7_laysNodes_0 16 rfl rfl)
theorem dX7_laysNodes_17 : decode cX7_laysNodes 17 = .ok (.iconst 0, 1) := dk_3 (dk_at dksX7_laysNodes_0 17 rfl rfl)
theorem dX7_laysNodes_18 : decode cX7_laysNodes 18 = .ok (.invokevirtual 233, 3) := dk_182 0 233 (dk_at dksX7_laysNodes_0 18 rfl rfl)
theorem dX7_laysNodes_21 : decode cX7_laysNodes 21 = .ok (.ifCond .ne 17, 3) := dk_154 0 17 (dk_at dksX7_laysNodes_0 21 rfl rfl)
theorem dX7_laysNodes_24 : decode cX7_laysNodes 24 = .ok (.aload_n 0, 1) := dk_42 (dk_at dksX7_laysNodes_1 0 rfl rfl)
theorem dX7_laysNodes_25 : decode cX7_laysNodes 25 = .ok (.getfield 65, 3) := dk_180 0 65 (dk_at dksX7_laysNodes_1 1 rfl rfl)
theorem dX7_laysNodes_28 : decode cX7_laysNodes 28 = .ok (.aload_n 0, 1) := dk_42 (dk_at dksX7_laysNodes_1 4 rfl rfl)
theorem dX7_laysNodes_29 : decode cX7_laysNodes 29 = .ok (.iload_n 1, 1) := dk_27 (dk_at dksX7_laysNodes_1 5 rfl rfl)
theorem dX7_laysNodes_30 : decode cX7_laysNodes 30 = .ok (.iconst 5, 1) := dk_8 (dk_at dksX7_laysNodes_1 6 rfl rfl)
theorem dX7_laysNodes_31 : decode cX7_laysNodes 31 = .ok (.invokevirtual 233, 3) := dk_182 0 233 (dk_at dksX7_laysNodes_1 7 rfl rfl)
theorem dX7_laysNodes_34 : decode cX7_laysNodes 34 = .ok (.iaload, 1) := dk_46 (dk_at dksX7_laysNodes_1 10 rfl rfl)
theorem dX7_laysNodes_35 : decode cX7_laysNodes 35 = .ok (.goto 37, 3) := dk_167 0 37 (dk_at dksX7_laysNodes_1 11 rfl rfl)
theorem dX7_laysNodes_38 : decode cX7_laysNodes 38 = .ok (.aload_n 0, 1) := dk_42 (dk_at dksX7_laysNodes_1 14 rfl rfl)
theorem dX7_laysNodes_39 : decode cX7_laysNodes 39 = .ok (.iload_n 1, 1) := dk_27 (dk_at dksX7_laysNodes_1 15 rfl rfl)
theorem dX7_laysNodes_40 : decode cX7_laysNodes 40 = .ok (.iconst 0, 1) := dk_3 (dk_at dksX7_laysNodes_1 16 rfl rfl)
theorem dX7_laysNodes_41 : decode cX7_laysNodes 41 = .ok (.invokevirtual 233, 3) := dk_182 0 233 (dk_at dksX7_laysNodes_1 17 rfl rfl)
theorem dX7_laysNodes_44 : decode cX7_laysNodes 44 = .ok (.iconst 1, 1) := dk_4 (dk_at dksX7_laysNodes_1 20 rfl rfl)
theorem dX7_laysNodes_45 : decode cX7_laysNodes 45 = .ok (.if_icmp .ne 17, 3) := dk_160 0 17 (dk_at dksX7_laysNodes_1 21 rfl rfl)
theorem dX7_laysNodes_48 : decode cX7_laysNodes 48 = .ok (.aload_n 0, 1) := dk_42 (dk_at dksX7_laysNodes_2 0 rfl rfl)
theorem dX7_laysNodes_49 : decode cX7_laysNodes 49 = .ok (.getfield 59, 3) := dk_180 0 59 (dk_at dksX7_laysNodes_2 1 rfl rfl)
theorem dX7_laysNodes_52 : decode cX7_laysNodes 52 = .ok (.aload_n 0, 1) := dk_42 (dk_at dksX7_laysNodes_2 4 rfl rfl)
theorem dX7_laysNodes_53 : decode cX7_laysNodes 53 = .ok (.iload_n 1, 1) := dk_27 (dk_at dksX7_laysNodes_2 5 rfl rfl)
theorem dX7_laysNodes_54 : decode cX7_laysNodes 54 = .ok (.iconst 2, 1) := dk_5 (dk_at dksX7_laysNodes_2 6 rfl rfl)
theorem dX7_laysNodes_55 : decode cX7_laysNodes 55 = .ok (.invokevirtual 233, 3) := dk_182 0 233 (dk_at dksX7_laysNodes_2 7 rfl rfl)
theorem dX7_laysNodes_58 : decode cX7_laysNodes 58 = .ok (.iaload, 1) := dk_46 (dk_at dksX7_laysNodes_2 10 rfl rfl)
theorem dX7_laysNodes_59 : decode cX7_laysNodes 59 = .ok (.goto 13, 3) := dk_167 0 13 (dk_at dksX7_laysNodes_2 11 rfl rfl)
theorem dX7_laysNodes_62 : decode cX7_laysNodes 62 = .ok (.aload_n 0, 1) := dk_42 (dk_at dksX7_laysNodes_2 14 rfl rfl)
theorem dX7_laysNodes_63 : decode cX7_laysNodes 63 = .ok (.aload_n 0, 1) := dk_42 (dk_at dksX7_laysNodes_2 15 rfl rfl)
theorem dX7_laysNodes_64 : decode cX7_laysNodes 64 = .ok (.iload_n 1, 1) := dk_27 (dk_at dksX7_laysNodes_2 16 rfl rfl)
theorem dX7_laysNodes_65 : decode cX7_laysNodes 65 = .ok (.iconst 5, 1) := dk_8 (dk_at dksX7_laysNodes_2 17 rfl rfl)
theorem dX7_laysNodes_66 : decode cX7_laysNodes 66 = .ok (.invokevirtual 233, 3) := dk_182 0 233 (dk_at dksX7_laysNodes_2 18 rfl rfl)
theorem dX7_laysNodes_69 : decode cX7_laysNodes 69 = .ok (.invokevirtual 246, 3) := dk_182 0 246 (dk_at dksX7_laysNodes_2 21 rfl rfl)
theorem dX7_laysNodes_72 : decode cX7_laysNodes 72 = .ok (.iastore, 1) := dk_79 (dk_at dksX7_laysNodes_3 0 rfl rfl)
theorem dX7_laysNodes_73 : decode cX7_laysNodes 73 = .ok (.iinc 1 1, 3) := dk_132 1 1 (dk_at dksX7_laysNodes_3 1 rfl rfl)
theorem dX7_laysNodes_76 : decode cX7_laysNodes 76 = .ok (.goto (-74), 3) := dk_167 255 182 (dk_at dksX7_laysNodes_3 4 rfl rfl)
theorem dX7_laysNodes_79 : decode cX7_laysNodes 79 = .ok (.return_, 1) := dk_177 (dk_at dksX7_laysNodes_3 7 rfl rfl)
abbrev cX7_expressed : ByteArray := prog_19_method_33_code
def yX7_expressed : MethodName := ⟨RX7, "expressed", "(I)I"⟩
def dkwX7_expressed_7 : List UInt8 := [167, 255, 97, 42, 180, 0, 62, 3, 46, 172]
abbrev dktX7_expressed_7 : List UInt8 := dkwX7_expressed_7 ++ []
def dkwX7_expressed_6 : List UInt8 := [154, 0, 8, 21, 5, 167, 0, 10, 42, 180, 0, 59, 21, 5, 46, 79, 132, 2, 1, 132, 3, 1]
abbrev dktX7_expressed_6 : List UInt8 := dkwX7_expressed_6 ++ dktX7_expressed_7
def dkwX7_expressed_5 : List UInt8 := [42, 180, 0, 62, 28, 46, 21, 5, 184, 0, 242, 79, 167, 0, 29, 42, 180, 0, 62, 28, 21, 4]
abbrev dktX7_expressed_5 : List UInt8 := dkwX7_expressed_5 ++ dktX7_expressed_6
def dkwX7_expressed_4 : List UInt8 := [21, 4, 6, 160, 0, 36, 132, 2, 255, 42, 180, 0, 62, 28, 4, 100, 42, 180, 0, 62, 28, 4, 100, 46]
abbrev dktX7_expressed_4 : List UInt8 := dkwX7_expressed_4 ++ dktX7_expressed_5
def dkwX7_expressed_3 : List UInt8 := [16, 249, 160, 0, 8, 16, 249, 167, 0, 13, 21, 6, 154, 0, 7, 4, 167, 0, 4, 3, 79, 167, 0, 68]
abbrev dktX7_expressed_3 : List UInt8 := dkwX7_expressed_3 ++ dktX7_expressed_4
def dkwX7_expressed_2 : List UInt8 := [5, 160, 0, 46, 42, 180, 0, 62, 28, 4, 100, 46, 54, 6, 42, 180, 0, 62, 28, 4, 100, 21, 6]
abbrev dktX7_expressed_2 : List UInt8 := dkwX7_expressed_2 ++ dktX7_expressed_3
def dkwX7_expressed_1 : List UInt8 := [104, 96, 46, 54, 4, 42, 180, 0, 19, 16, 40, 27, 104, 5, 29, 104, 96, 4, 96, 46, 54, 5, 21, 4]
abbrev dktX7_expressed_1 : List UInt8 := dkwX7_expressed_1 ++ dktX7_expressed_2
def dkwX7_expressed_0 : List UInt8 := [3, 61, 3, 62, 29, 42, 180, 0, 22, 27, 46, 162, 0, 155, 42, 180, 0, 19, 16, 40, 27, 104, 5, 29]
abbrev dktX7_expressed_0 : List UInt8 := dkwX7_expressed_0 ++ dktX7_expressed_1
theorem dksX7_expressed_0 : cX7_expressed.data.toList.drop 0 = dktX7_expressed_0 := by decide +kernel
theorem dksX7_expressed_1 : cX7_expressed.data.toList.drop 24 = dktX7_expressed_1 := dk_seg dksX7_expressed_0 24 rfl rfl
theorem dksX7_expressed_2 : cX7_expressed.data.toList.drop 48 = dktX7_expressed_2 := dk_seg dksX7_expressed_1 24 rfl rfl
theorem dksX7_expressed_3 : cX7_expressed.data.toList.drop 71 = dktX7_expressed_3 := dk_seg dksX7_expressed_2 23 rfl rfl
theorem dksX7_expressed_4 : cX7_expressed.data.toList.drop 95 = dktX7_expressed_4 := dk_seg dksX7_expressed_3 24 rfl rfl
theorem dksX7_expressed_5 : cX7_expressed.data.toList.drop 119 = dktX7_expressed_5 := dk_seg dksX7_expressed_4 24 rfl rfl
theorem dksX7_expressed_6 : cX7_expressed.data.toList.drop 141 = dktX7_expressed_6 := dk_seg dksX7_expressed_5 22 rfl rfl
theorem dksX7_expressed_7 : cX7_expressed.data.toList.drop 163 = dktX7_expressed_7 := dk_seg dksX7_expressed_6 22 rfl rfl
theorem dX7_expressed_0 : decode cX7_expressed 0 = .ok (.iconst 0, 1) := dk_3 (dk_at dksX7_expressed_0 0 rfl rfl)
theorem dX7_expressed_1 : decode cX7_expressed 1 = .ok (.istore_n 2, 1) := dk_61 (dk_at dksX7_expressed_0 1 rfl rfl)
theorem dX7_expressed_2 : decode cX7_expressed 2 = .ok (.iconst 0, 1) := dk_3 (dk_at dksX7_expressed_0 2 rfl rfl)
theorem dX7_expressed_3 : decode cX7_expressed 3 = .ok (.istore_n 3, 1) := dk_62 (dk_at dksX7_expressed_0 3 rfl rfl)
theorem dX7_expressed_4 : decode cX7_expressed 4 = .ok (.iload_n 3, 1) := dk_29 (dk_at dksX7_expressed_0 4 rfl rfl)
theorem dX7_expressed_5 : decode cX7_expressed 5 = .ok (.aload_n 0, 1) := dk_42 (dk_at dksX7_expressed_0 5 rfl rfl)
theorem dX7_expressed_6 : decode cX7_expressed 6 = .ok (.getfield 22, 3) := dk_180 0 22 (dk_at dksX7_expressed_0 6 rfl rfl)
theorem dX7_expressed_9 : decode cX7_expressed 9 = .ok (.iload_n 1, 1) := dk_27 (dk_at dksX7_expressed_0 9 rfl rfl)
theorem dX7_expressed_10 : decode cX7_expressed 10 = .ok (.iaload, 1) := dk_46 (dk_at dksX7_expressed_0 10 rfl rfl)
theorem dX7_expressed_11 : decode cX7_expressed 11 = .ok (.if_icmp .ge 155, 3) := dk_162 0 155 (dk_at dksX7_expressed_0 11 rfl rfl)
theorem dX7_expressed_14 : decode cX7_expressed 14 = .ok (.aload_n 0, 1) := dk_42 (dk_at dksX7_expressed_0 14 rfl rfl)
theorem dX7_expressed_15 : decode cX7_expressed 15 = .ok (.getfield 19, 3) := dk_180 0 19 (dk_at dksX7_expressed_0 15 rfl rfl)
theorem dX7_expressed_18 : decode cX7_expressed 18 = .ok (.bipush 40, 2) := dk_16 40 (dk_at dksX7_expressed_0 18 rfl rfl)
theorem dX7_expressed_20 : decode cX7_expressed 20 = .ok (.iload_n 1, 1) := dk_27 (dk_at dksX7_expressed_0 20 rfl rfl)
theorem dX7_expressed_21 : decode cX7_expressed 21 = .ok (.imul, 1) := dk_104 (dk_at dksX7_expressed_0 21 rfl rfl)
theorem dX7_expressed_22 : decode cX7_expressed 22 = .ok (.iconst 2, 1) := dk_5 (dk_at dksX7_expressed_0 22 rfl rfl)
theorem dX7_expressed_23 : decode cX7_expressed 23 = .ok (.iload_n 3, 1) := dk_29 (dk_at dksX7_expressed_0 23 rfl rfl)
theorem dX7_expressed_24 : decode cX7_expressed 24 = .ok (.imul, 1) := dk_104 (dk_at dksX7_expressed_1 0 rfl rfl)
theorem dX7_expressed_25 : decode cX7_expressed 25 = .ok (.iadd, 1) := dk_96 (dk_at dksX7_expressed_1 1 rfl rfl)
theorem dX7_expressed_26 : decode cX7_expressed 26 = .ok (.iaload, 1) := dk_46 (dk_at dksX7_expressed_1 2 rfl rfl)
theorem dX7_expressed_27 : decode cX7_expressed 27 = .ok (.istore 4, 2) := dk_54 4 (dk_at dksX7_expressed_1 3 rfl rfl)
theorem dX7_expressed_29 : decode cX7_expressed 29 = .ok (.aload_n 0, 1) := dk_42 (dk_at dksX7_expressed_1 5 rfl rfl)
theorem dX7_expressed_30 : decode cX7_expressed 30 = .ok (.getfield 19, 3) := dk_180 0 19 (dk_at dksX7_expressed_1 6 rfl rfl)
theorem dX7_expressed_33 : decode cX7_expressed 33 = .ok (.bipush 40, 2) := dk_16 40 (dk_at dksX7_expressed_1 9 rfl rfl)
theorem dX7_expressed_35 : decode cX7_expressed 35 = .ok (.iload_n 1, 1) := dk_27 (dk_at dksX7_expressed_1 11 rfl rfl)
theorem dX7_expressed_36 : decode cX7_expressed 36 = .ok (.imul, 1) := dk_104 (dk_at dksX7_expressed_1 12 rfl rfl)
theorem dX7_expressed_37 : decode cX7_expressed 37 = .ok (.iconst 2, 1) := dk_5 (dk_at dksX7_expressed_1 13 rfl rfl)
theorem dX7_expressed_38 : decode cX7_expressed 38 = .ok (.iload_n 3, 1) := dk_29 (dk_at dksX7_expressed_1 14 rfl rfl)
theorem dX7_expressed_39 : decode cX7_expressed 39 = .ok (.imul, 1) := dk_104 (dk_at dksX7_expressed_1 15 rfl rfl)
theorem dX7_expressed_40 : decode cX7_expressed 40 = .ok (.iadd, 1) := dk_96 (dk_at dksX7_expressed_1 16 rfl rfl)
theorem dX7_expressed_41 : decode cX7_expressed 41 = .ok (.iconst 1, 1) := dk_4 (dk_at dksX7_expressed_1 17 rfl rfl)
theorem dX7_expressed_42 : decode cX7_expressed 42 = .ok (.iadd, 1) := dk_96 (dk_at dksX7_expressed_1 18 rfl rfl)
theorem dX7_expressed_43 : decode cX7_expressed 43 = .ok (.iaload, 1) := dk_46 (dk_at dksX7_expressed_1 19 rfl rfl)
theorem dX7_expressed_44 : decode cX7_expressed 44 = .ok (.istore 5, 2) := dk_54 5 (dk_at dksX7_expressed_1 20 rfl rfl)
theorem dX7_expressed_46 : decode cX7_expressed 46 = .ok (.iload 4, 2) := dk_21 4 (dk_at dksX7_expressed_1 22 rfl rfl)
theorem dX7_expressed_48 : decode cX7_expressed 48 = .ok (.iconst 2, 1) := dk_5 (dk_at dksX7_expressed_2 0 rfl rfl)
theorem dX7_expressed_49 : decode cX7_expressed 49 = .ok (.if_icmp .ne 46, 3) := dk_160 0 46 (dk_at dksX7_expressed_2 1 rfl rfl)
theorem dX7_expressed_52 : decode cX7_expressed 52 = .ok (.aload_n 0, 1) := dk_42 (dk_at dksX7_expressed_2 4 rfl rfl)
theorem dX7_expressed_53 : decode cX7_expressed 53 = .ok (.getfield 62, 3) := dk_180 0 62 (dk_at dksX7_expressed_2 5 rfl rfl)
theorem dX7_expressed_56 : decode cX7_expressed 56 = .ok (.iload_n 2, 1) := dk_28 (dk_at dksX7_expressed_2 8 rfl rfl)
theorem dX7_expressed_57 : decode cX7_expressed 57 = .ok (.iconst 1, 1) := dk_4 (dk_at dksX7_expressed_2 9 rfl rfl)
theorem dX7_expressed_58 : decode cX7_expressed 58 = .ok (.isub, 1) := dk_100 (dk_at dksX7_expressed_2 10 rfl rfl)
theorem dX7_expressed_59 : decode cX7_expressed 59 = .ok (.iaload, 1) := dk_46 (dk_at dksX7_expressed_2 11 rfl rfl)
theorem dX7_expressed_60 : decode cX7_expressed 60 = .ok (.istore 6, 2) := dk_54 6 (dk_at dksX7_expressed_2 12 rfl rfl)
theorem dX7_expressed_62 : decode cX7_expressed 62 = .ok (.aload_n 0, 1) := dk_42 (dk_at dksX7_expressed_2 14 rfl rfl)
theorem dX7_expressed_63 : decode cX7_expressed 63 = .ok (.getfield 62, 3) := dk_180 0 62 (dk_at dksX7_expressed_2 15 rfl rfl)
theorem dX7_expressed_66 : decode cX7_expressed 66 = .ok (.iload_n 2, 1) := dk_28 (dk_at dksX7_expressed_2 18 rfl rfl)
theorem dX7_expressed_67 : decode cX7_expressed 67 = .ok (.iconst 1, 1) := dk_4 (dk_at dksX7_expressed_2 19 rfl rfl)
theorem dX7_expressed_68 : decode cX7_expressed 68 = .ok (.isub, 1) := dk_100 (dk_at dksX7_expressed_2 20 rfl rfl)
theorem dX7_expressed_69 : decode cX7_expressed 69 = .ok (.iload 6, 2) := dk_21 6 (dk_at dksX7_expressed_2 21 rfl rfl)
theorem dX7_expressed_71 : decode cX7_expressed 71 = .ok (.bipush (-7), 2) := dk_16 249 (dk_at dksX7_expressed_3 0 rfl rfl)
theorem dX7_expressed_73 : decode cX7_expressed 73 = .ok (.if_icmp .ne 8, 3) := dk_160 0 8 (dk_at dksX7_expressed_3 2 rfl rfl)
theorem dX7_expressed_76 : decode cX7_expressed 76 = .ok (.bipush (-7), 2) := dk_16 249 (dk_at dksX7_expressed_3 5 rfl rfl)
theorem dX7_expressed_78 : decode cX7_expressed 78 = .ok (.goto 13, 3) := dk_167 0 13 (dk_at dksX7_expressed_3 7 rfl rfl)
theorem dX7_expressed_81 : decode cX7_expressed 81 = .ok (.iload 6, 2) := dk_21 6 (dk_at dksX7_expressed_3 10 rfl rfl)
theorem dX7_expressed_83 : decode cX7_expressed 83 = .ok (.ifCond .ne 7, 3) := dk_154 0 7 (dk_at dksX7_expressed_3 12 rfl rfl)
theorem dX7_expressed_86 : decode cX7_expressed 86 = .ok (.iconst 1, 1) := dk_4 (dk_at dksX7_expressed_3 15 rfl rfl)
theorem dX7_expressed_87 : decode cX7_expressed 87 = .ok (.goto 4, 3) := dk_167 0 4 (dk_at dksX7_expressed_3 16 rfl rfl)
theorem dX7_expressed_90 : decode cX7_expressed 90 = .ok (.iconst 0, 1) := dk_3 (dk_at dksX7_expressed_3 19 rfl rfl)
theorem dX7_expressed_91 : decode cX7_expressed 91 = .ok (.iastore, 1) := dk_79 (dk_at dksX7_expressed_3 20 rfl rfl)
theorem dX7_expressed_92 : decode cX7_expressed 92 = .ok (.goto 68, 3) := dk_167 0 68 (dk_at dksX7_expressed_3 21 rfl rfl)
theorem dX7_expressed_95 : decode cX7_expressed 95 = .ok (.iload 4, 2) := dk_21 4 (dk_at dksX7_expressed_4 0 rfl rfl)
theorem dX7_expressed_97 : decode cX7_expressed 97 = .ok (.iconst 3, 1) := dk_6 (dk_at dksX7_expressed_4 2 rfl rfl)
theorem dX7_expressed_98 : decode cX7_expressed 98 = .ok (.if_icmp .ne 36, 3) := dk_160 0 36 (dk_at dksX7_expressed_4 3 rfl rfl)
theorem dX7_expressed_101 : decode cX7_expressed 101 = .ok (.iinc 2 (-1), 3) := dk_132 2 255 (dk_at dksX7_expressed_4 6 rfl rfl)
theorem dX7_expressed_104 : decode cX7_expressed 104 = .ok (.aload_n 0, 1) := dk_42 (dk_at dksX7_expressed_4 9 rfl rfl)
theorem dX7_expressed_105 : decode cX7_expressed 105 = .ok (.getfield 62, 3) := dk_180 0 62 (dk_at dksX7_expressed_4 10 rfl rfl)
theorem dX7_expressed_108 : decode cX7_expressed 108 = .ok (.iload_n 2, 1) := dk_28 (dk_at dksX7_expressed_4 13 rfl rfl)
theorem dX7_expressed_109 : decode cX7_expressed 109 = .ok (.iconst 1, 1) := dk_4 (dk_at dksX7_expressed_4 14 rfl rfl)
theorem dX7_expressed_110 : decode cX7_expressed 110 = .ok (.isub, 1) := dk_100 (dk_at dksX7_expressed_4 15 rfl rfl)
theorem dX7_expressed_111 : decode cX7_expressed 111 = .ok (.aload_n 0, 1) := dk_42 (dk_at dksX7_expressed_4 16 rfl rfl)
theorem dX7_expressed_112 : decode cX7_expressed 112 = .ok (.getfield 62, 3) := dk_180 0 62 (dk_at dksX7_expressed_4 17 rfl rfl)
theorem dX7_expressed_115 : decode cX7_expressed 115 = .ok (.iload_n 2, 1) := dk_28 (dk_at dksX7_expressed_4 20 rfl rfl)
theorem dX7_expressed_116 : decode cX7_expressed 116 = .ok (.iconst 1, 1) := dk_4 (dk_at dksX7_expressed_4 21 rfl rfl)
theorem dX7_expressed_117 : decode cX7_expressed 117 = .ok (.isub, 1) := dk_100 (dk_at dksX7_expressed_4 22 rfl rfl)
theorem dX7_expressed_118 : decode cX7_expressed 118 = .ok (.iaload, 1) := dk_46 (dk_at dksX7_expressed_4 23 rfl rfl)
theorem dX7_expressed_119 : decode cX7_expressed 119 = .ok (.aload_n 0, 1) := dk_42 (dk_at dksX7_expressed_5 0 rfl rfl)
theorem dX7_expressed_120 : decode cX7_expressed 120 = .ok (.getfield 62, 3) := dk_180 0 62 (dk_at dksX7_expressed_5 1 rfl rfl)
theorem dX7_expressed_123 : decode cX7_expressed 123 = .ok (.iload_n 2, 1) := dk_28 (dk_at dksX7_expressed_5 4 rfl rfl)
theorem dX7_expressed_124 : decode cX7_expressed 124 = .ok (.iaload, 1) := dk_46 (dk_at dksX7_expressed_5 5 rfl rfl)
theorem dX7_expressed_125 : decode cX7_expressed 125 = .ok (.iload 5, 2) := dk_21 5 (dk_at dksX7_expressed_5 6 rfl rfl)
theorem dX7_expressed_127 : decode cX7_expressed 127 = .ok (.invokestatic 242, 3) := dk_184 0 242 (dk_at dksX7_expressed_5 8 rfl rfl)
theorem dX7_expressed_130 : decode cX7_expressed 130 = .ok (.iastore, 1) := dk_79 (dk_at dksX7_expressed_5 11 rfl rfl)
theorem dX7_expressed_131 : decode cX7_expressed 131 = .ok (.goto 29, 3) := dk_167 0 29 (dk_at dksX7_expressed_5 12 rfl rfl)
theorem dX7_expressed_134 : decode cX7_expressed 134 = .ok (.aload_n 0, 1) := dk_42 (dk_at dksX7_expressed_5 15 rfl rfl)
theorem dX7_expressed_135 : decode cX7_expressed 135 = .ok (.getfield 62, 3) := dk_180 0 62 (dk_at dksX7_expressed_5 16 rfl rfl)
theorem dX7_expressed_138 : decode cX7_expressed 138 = .ok (.iload_n 2, 1) := dk_28 (dk_at dksX7_expressed_5 19 rfl rfl)
theorem dX7_expressed_139 : decode cX7_expressed 139 = .ok (.iload 4, 2) := dk_21 4 (dk_at dksX7_expressed_5 20 rfl rfl)
theorem dX7_expressed_141 : decode cX7_expressed 141 = .ok (.ifCond .ne 8, 3) := dk_154 0 8 (dk_at dksX7_expressed_6 0 rfl rfl)
theorem dX7_expressed_144 : decode cX7_expressed 144 = .ok (.iload 5, 2) := dk_21 5 (dk_at dksX7_expressed_6 3 rfl rfl)
theorem dX7_expressed_146 : decode cX7_expressed 146 = .ok (.goto 10, 3) := dk_167 0 10 (dk_at dksX7_expressed_6 5 rfl rfl)
theorem dX7_expressed_149 : decode cX7_expressed 149 = .ok (.aload_n 0, 1) := dk_42 (dk_at dksX7_expressed_6 8 rfl rfl)
theorem dX7_expressed_150 : decode cX7_expressed 150 = .ok (.getfield 59, 3) := dk_180 0 59 (dk_at dksX7_expressed_6 9 rfl rfl)
theorem dX7_expressed_153 : decode cX7_expressed 153 = .ok (.iload 5, 2) := dk_21 5 (dk_at dksX7_expressed_6 12 rfl rfl)
theorem dX7_expressed_155 : decode cX7_expressed 155 = .ok (.iaload, 1) := dk_46 (dk_at dksX7_expressed_6 14 rfl rfl)
theorem dX7_expressed_156 : decode cX7_expressed 156 = .ok (.iastore, 1) := dk_79 (dk_at dksX7_expressed_6 15 rfl rfl)
theorem dX7_expressed_157 : decode cX7_expressed 157 = .ok (.iinc 2 1, 3) := dk_132 2 1 (dk_at dksX7_expressed_6 16 rfl rfl)
theorem dX7_expressed_160 : decode cX7_expressed 160 = .ok (.iinc 3 1, 3) := dk_132 3 1 (dk_at dksX7_expressed_6 19 rfl rfl)
theorem dX7_expressed_163 : decode cX7_expressed 163 = .ok (.goto (-159), 3) := dk_167 255 97 (dk_at dksX7_expressed_7 0 rfl rfl)
theorem dX7_expressed_166 : decode cX7_expressed 166 = .ok (.aload_n 0, 1) := dk_42 (dk_at dksX7_expressed_7 3 rfl rfl)
theorem dX7_expressed_167 : decode cX7_expressed 167 = .ok (.getfield 62, 3) := dk_180 0 62 (dk_at dksX7_expressed_7 4 rfl rfl)
theorem dX7_expressed_170 : decode cX7_expressed 170 = .ok (.iconst 0, 1) := dk_3 (dk_at dksX7_expressed_7 7 rfl rfl)
theorem dX7_expressed_171 : decode cX7_expressed 171 = .ok (.iaload, 1) := dk_46 (dk_at dksX7_expressed_7 8 rfl rfl)
theorem dX7_expressed_172 : decode cX7_expressed 172 = .ok (.ireturn, 1) := dk_172 (dk_at dksX7_expressed_7 9 rfl rfl)
abbrev cX7_worked : ByteArray := prog_19_method_32_code
def yX7_worked : MethodName := ⟨RX7, "worked", "(III)I"⟩
def dkwX7_worked_4 : List UInt8 := [100, 17, 0, 255, 126, 172]
abbrev dktX7_worked_4 : List UInt8 := dkwX7_worked_4 ++ []
def dkwX7_worked_3 : List UInt8 := [26, 27, 130, 167, 0, 26, 28, 16, 43, 160, 0, 13, 26, 27, 96, 17, 0, 255, 126, 167, 0, 10, 26, 27]
abbrev dktX7_worked_3 : List UInt8 := dkwX7_worked_3 ++ dktX7_worked_4
def dkwX7_worked_2 : List UInt8 := [160, 0, 6, 16, 249, 172, 28, 16, 124, 160, 0, 9, 26, 27, 128, 167, 0, 38, 28, 16, 94, 160, 0, 9]
abbrev dktX7_worked_2 : List UInt8 := dkwX7_worked_2 ++ dktX7_worked_3
def dkwX7_worked_1 : List UInt8 := [27, 16, 249, 160, 0, 8, 16, 249, 167, 0, 6, 26, 27, 126, 172, 26, 16, 249, 159, 0, 9, 27, 16, 249]
abbrev dktX7_worked_1 : List UInt8 := dkwX7_worked_1 ++ dktX7_worked_2
def dkwX7_worked_0 : List UInt8 := [28, 16, 38, 160, 0, 36, 26, 153, 0, 7, 27, 154, 0, 7, 3, 167, 0, 23, 26, 16, 249, 159, 0, 9]
abbrev dktX7_worked_0 : List UInt8 := dkwX7_worked_0 ++ dktX7_worked_1
theorem dksX7_worked_0 : cX7_worked.data.toList.drop 0 = dktX7_worked_0 := by decide +kernel
theorem dksX7_worked_1 : cX7_worked.data.toList.drop 24 = dktX7_worked_1 := dk_seg dksX7_worked_0 24 rfl rfl
theorem dksX7_worked_2 : cX7_worked.data.toList.drop 48 = dktX7_worked_2 := dk_seg dksX7_worked_1 24 rfl rfl
theorem dksX7_worked_3 : cX7_worked.data.toList.drop 72 = dktX7_worked_3 := dk_seg dksX7_worked_2 24 rfl rfl
theorem dksX7_worked_4 : cX7_worked.data.toList.drop 96 = dktX7_worked_4 := dk_seg dksX7_worked_3 24 rfl rfl
theorem dX7_worked_0 : decode cX7_worked 0 = .ok (.iload_n 2, 1) := dk_28 (dk_at dksX7_worked_0 0 rfl rfl)
theorem dX7_worked_1 : decode cX7_worked 1 = .ok (.bipush 38, 2) := dk_16 38 (dk_at dksX7_worked_0 1 rfl rfl)
theorem dX7_worked_3 : decode cX7_worked 3 = .ok (.if_icmp .ne 36, 3) := dk_160 0 36 (dk_at dksX7_worked_0 3 rfl rfl)
theorem dX7_worked_6 : decode cX7_worked 6 = .ok (.iload_n 0, 1) := dk_26 (dk_at dksX7_worked_0 6 rfl rfl)
theorem dX7_worked_7 : decode cX7_worked 7 = .ok (.ifCond .eq 7, 3) := dk_153 0 7 (dk_at dksX7_worked_0 7 rfl rfl)
theorem dX7_worked_10 : decode cX7_worked 10 = .ok (.iload_n 1, 1) := dk_27 (dk_at dksX7_worked_0 10 rfl rfl)
theorem dX7_worked_11 : decode cX7_worked 11 = .ok (.ifCond .ne 7, 3) := dk_154 0 7 (dk_at dksX7_worked_0 11 rfl rfl)
theorem dX7_worked_14 : decode cX7_worked 14 = .ok (.iconst 0, 1) := dk_3 (dk_at dksX7_worked_0 14 rfl rfl)
theorem dX7_worked_15 : decode cX7_worked 15 = .ok (.goto 23, 3) := dk_167 0 23 (dk_at dksX7_worked_0 15 rfl rfl)
theorem dX7_worked_18 : decode cX7_worked 18 = .ok (.iload_n 0, 1) := dk_26 (dk_at dksX7_worked_0 18 rfl rfl)
theorem dX7_worked_19 : decode cX7_worked 19 = .ok (.bipush (-7), 2) := dk_16 249 (dk_at dksX7_worked_0 19 rfl rfl)
theorem dX7_worked_21 : decode cX7_worked 21 = .ok (.if_icmp .eq 9, 3) := dk_159 0 9 (dk_at dksX7_worked_0 21 rfl rfl)
theorem dX7_worked_24 : decode cX7_worked 24 = .ok (.iload_n 1, 1) := dk_27 (dk_at dksX7_worked_1 0 rfl rfl)
theorem dX7_worked_25 : decode cX7_worked 25 = .ok (.bipush (-7), 2) := dk_16 249 (dk_at dksX7_worked_1 1 rfl rfl)
theorem dX7_worked_27 : decode cX7_worked 27 = .ok (.if_icmp .ne 8, 3) := dk_160 0 8 (dk_at dksX7_worked_1 3 rfl rfl)
theorem dX7_worked_30 : decode cX7_worked 30 = .ok (.bipush (-7), 2) := dk_16 249 (dk_at dksX7_worked_1 6 rfl rfl)
theorem dX7_worked_32 : decode cX7_worked 32 = .ok (.goto 6, 3) := dk_167 0 6 (dk_at dksX7_worked_1 8 rfl rfl)
theorem dX7_worked_35 : decode cX7_worked 35 = .ok (.iload_n 0, 1) := dk_26 (dk_at dksX7_worked_1 11 rfl rfl)
theorem dX7_worked_36 : decode cX7_worked 36 = .ok (.iload_n 1, 1) := dk_27 (dk_at dksX7_worked_1 12 rfl rfl)
theorem dX7_worked_37 : decode cX7_worked 37 = .ok (.iand, 1) := dk_126 (dk_at dksX7_worked_1 13 rfl rfl)
theorem dX7_worked_38 : decode cX7_worked 38 = .ok (.ireturn, 1) := dk_172 (dk_at dksX7_worked_1 14 rfl rfl)
theorem dX7_worked_39 : decode cX7_worked 39 = .ok (.iload_n 0, 1) := dk_26 (dk_at dksX7_worked_1 15 rfl rfl)
theorem dX7_worked_40 : decode cX7_worked 40 = .ok (.bipush (-7), 2) := dk_16 249 (dk_at dksX7_worked_1 16 rfl rfl)
theorem dX7_worked_42 : decode cX7_worked 42 = .ok (.if_icmp .eq 9, 3) := dk_159 0 9 (dk_at dksX7_worked_1 18 rfl rfl)
theorem dX7_worked_45 : decode cX7_worked 45 = .ok (.iload_n 1, 1) := dk_27 (dk_at dksX7_worked_1 21 rfl rfl)
theorem dX7_worked_46 : decode cX7_worked 46 = .ok (.bipush (-7), 2) := dk_16 249 (dk_at dksX7_worked_1 22 rfl rfl)
theorem dX7_worked_48 : decode cX7_worked 48 = .ok (.if_icmp .ne 6, 3) := dk_160 0 6 (dk_at dksX7_worked_2 0 rfl rfl)
theorem dX7_worked_51 : decode cX7_worked 51 = .ok (.bipush (-7), 2) := dk_16 249 (dk_at dksX7_worked_2 3 rfl rfl)
theorem dX7_worked_53 : decode cX7_worked 53 = .ok (.ireturn, 1) := dk_172 (dk_at dksX7_worked_2 5 rfl rfl)
theorem dX7_worked_54 : decode cX7_worked 54 = .ok (.iload_n 2, 1) := dk_28 (dk_at dksX7_worked_2 6 rfl rfl)
theorem dX7_worked_55 : decode cX7_worked 55 = .ok (.bipush 124, 2) := dk_16 124 (dk_at dksX7_worked_2 7 rfl rfl)
theorem dX7_worked_57 : decode cX7_worked 57 = .ok (.if_icmp .ne 9, 3) := dk_160 0 9 (dk_at dksX7_worked_2 9 rfl rfl)
theorem dX7_worked_60 : decode cX7_worked 60 = .ok (.iload_n 0, 1) := dk_26 (dk_at dksX7_worked_2 12 rfl rfl)
theorem dX7_worked_61 : decode cX7_worked 61 = .ok (.iload_n 1, 1) := dk_27 (dk_at dksX7_worked_2 13 rfl rfl)
theorem dX7_worked_62 : decode cX7_worked 62 = .ok (.ior, 1) := dk_128 (dk_at dksX7_worked_2 14 rfl rfl)
theorem dX7_worked_63 : decode cX7_worked 63 = .ok (.goto 38, 3) := dk_167 0 38 (dk_at dksX7_worked_2 15 rfl rfl)
theorem dX7_worked_66 : decode cX7_worked 66 = .ok (.iload_n 2, 1) := dk_28 (dk_at dksX7_worked_2 18 rfl rfl)
theorem dX7_worked_67 : decode cX7_worked 67 = .ok (.bipush 94, 2) := dk_16 94 (dk_at dksX7_worked_2 19 rfl rfl)
theorem dX7_worked_69 : decode cX7_worked 69 = .ok (.if_icmp .ne 9, 3) := dk_160 0 9 (dk_at dksX7_worked_2 21 rfl rfl)
theorem dX7_worked_72 : decode cX7_worked 72 = .ok (.iload_n 0, 1) := dk_26 (dk_at dksX7_worked_3 0 rfl rfl)
theorem dX7_worked_73 : decode cX7_worked 73 = .ok (.iload_n 1, 1) := dk_27 (dk_at dksX7_worked_3 1 rfl rfl)
theorem dX7_worked_74 : decode cX7_worked 74 = .ok (.ixor, 1) := dk_130 (dk_at dksX7_worked_3 2 rfl rfl)
theorem dX7_worked_75 : decode cX7_worked 75 = .ok (.goto 26, 3) := dk_167 0 26 (dk_at dksX7_worked_3 3 rfl rfl)
theorem dX7_worked_78 : decode cX7_worked 78 = .ok (.iload_n 2, 1) := dk_28 (dk_at dksX7_worked_3 6 rfl rfl)
theorem dX7_worked_79 : decode cX7_worked 79 = .ok (.bipush 43, 2) := dk_16 43 (dk_at dksX7_worked_3 7 rfl rfl)
theorem dX7_worked_81 : decode cX7_worked 81 = .ok (.if_icmp .ne 13, 3) := dk_160 0 13 (dk_at dksX7_worked_3 9 rfl rfl)
theorem dX7_worked_84 : decode cX7_worked 84 = .ok (.iload_n 0, 1) := dk_26 (dk_at dksX7_worked_3 12 rfl rfl)
theorem dX7_worked_85 : decode cX7_worked 85 = .ok (.iload_n 1, 1) := dk_27 (dk_at dksX7_worked_3 13 rfl rfl)
theorem dX7_worked_86 : decode cX7_worked 86 = .ok (.iadd, 1) := dk_96 (dk_at dksX7_worked_3 14 rfl rfl)
theorem dX7_worked_87 : decode cX7_worked 87 = .ok (.sipush 255, 3) := dk_17 0 255 (dk_at dksX7_worked_3 15 rfl rfl)
theorem dX7_worked_90 : decode cX7_worked 90 = .ok (.iand, 1) := dk_126 (dk_at dksX7_worked_3 18 rfl rfl)
theorem dX7_worked_91 : decode cX7_worked 91 = .ok (.goto 10, 3) := dk_167 0 10 (dk_at dksX7_worked_3 19 rfl rfl)
theorem dX7_worked_94 : decode cX7_worked 94 = .ok (.iload_n 0, 1) := dk_26 (dk_at dksX7_worked_3 22 rfl rfl)
theorem dX7_worked_95 : decode cX7_worked 95 = .ok (.iload_n 1, 1) := dk_27 (dk_at dksX7_worked_3 23 rfl rfl)
theorem dX7_worked_96 : decode cX7_worked 96 = .ok (.isub, 1) := dk_100 (dk_at dksX7_worked_4 0 rfl rfl)
theorem dX7_worked_97 : decode cX7_worked 97 = .ok (.sipush 255, 3) := dk_17 0 255 (dk_at dksX7_worked_4 1 rfl rfl)
theorem dX7_worked_100 : decode cX7_worked 100 = .ok (.iand, 1) := dk_126 (dk_at dksX7_worked_4 4 rfl rfl)
theorem dX7_worked_101 : decode cX7_worked 101 = .ok (.ireturn, 1) := dk_172 (dk_at dksX7_worked_4 5 rfl rfl)
abbrev cX7_scope : ByteArray := prog_19_method_36_code
def yX7_scope : MethodName := ⟨RX7, "scope", "(II)I"⟩
def dkwX7_scope_1 : List UInt8 := [172, 28, 154, 0, 12, 42, 180, 0, 13, 27, 46, 167, 0, 9, 42, 180, 0, 16, 27, 46, 172]
abbrev dktX7_scope_1 : List UInt8 := dkwX7_scope_1 ++ []
def dkwX7_scope_0 : List UInt8 := [27, 3, 42, 180, 0, 221, 4, 100, 184, 0, 95, 153, 0, 12, 28, 3, 4, 184, 0, 95, 154, 0, 5, 2]
abbrev dktX7_scope_0 : List UInt8 := dkwX7_scope_0 ++ dktX7_scope_1
theorem dksX7_scope_0 : cX7_scope.data.toList.drop 0 = dktX7_scope_0 := by decide +kernel
theorem dksX7_scope_1 : cX7_scope.data.toList.drop 24 = dktX7_scope_1 := dk_seg dksX7_scope_0 24 rfl rfl
theorem dX7_scope_0 : decode cX7_scope 0 = .ok (.iload_n 1, 1) := dk_27 (dk_at dksX7_scope_0 0 rfl rfl)
theorem dX7_scope_1 : decode cX7_scope 1 = .ok (.iconst 0, 1) := dk_3 (dk_at dksX7_scope_0 1 rfl rfl)
theorem dX7_scope_2 : decode cX7_scope 2 = .ok (.aload_n 0, 1) := dk_42 (dk_at dksX7_scope_0 2 rfl rfl)
theorem dX7_scope_3 : decode cX7_scope 3 = .ok (.getfield 221, 3) := dk_180 0 221 (dk_at dksX7_scope_0 3 rfl rfl)
theorem dX7_scope_6 : decode cX7_scope 6 = .ok (.iconst 1, 1) := dk_4 (dk_at dksX7_scope_0 6 rfl rfl)
theorem dX7_scope_7 : decode cX7_scope 7 = .ok (.isub, 1) := dk_100 (dk_at dksX7_scope_0 7 rfl rfl)
theorem dX7_scope_8 : decode cX7_scope 8 = .ok (.invokestatic 95, 3) := dk_184 0 95 (dk_at dksX7_scope_0 8 rfl rfl)
theorem dX7_scope_11 : decode cX7_scope 11 = .ok (.ifCond .eq 12, 3) := dk_153 0 12 (dk_at dksX7_scope_0 11 rfl rfl)
theorem dX7_scope_14 : decode cX7_scope 14 = .ok (.iload_n 2, 1) := dk_28 (dk_at dksX7_scope_0 14 rfl rfl)
theorem dX7_scope_15 : decode cX7_scope 15 = .ok (.iconst 0, 1) := dk_3 (dk_at dksX7_scope_0 15 rfl rfl)
theorem dX7_scope_16 : decode cX7_scope 16 = .ok (.iconst 1, 1) := dk_4 (dk_at dksX7_scope_0 16 rfl rfl)
theorem dX7_scope_17 : decode cX7_scope 17 = .ok (.invokestatic 95, 3) := dk_184 0 95 (dk_at dksX7_scope_0 17 rfl rfl)
theorem dX7_scope_20 : decode cX7_scope 20 = .ok (.ifCond .ne 5, 3) := dk_154 0 5 (dk_at dksX7_scope_0 20 rfl rfl)
theorem dX7_scope_23 : decode cX7_scope 23 = .ok (.iconst (-1), 1) := dk_2 (dk_at dksX7_scope_0 23 rfl rfl)
theorem dX7_scope_24 : decode cX7_scope 24 = .ok (.ireturn, 1) := dk_172 (dk_at dksX7_scope_1 0 rfl rfl)
theorem dX7_scope_25 : decode cX7_scope 25 = .ok (.iload_n 2, 1) := dk_28 (dk_at dksX7_scope_1 1 rfl rfl)
theorem dX7_scope_26 : decode cX7_scope 26 = .ok (.ifCond .ne 12, 3) := dk_154 0 12 (dk_at dksX7_scope_1 2 rfl rfl)
theorem dX7_scope_29 : decode cX7_scope 29 = .ok (.aload_n 0, 1) := dk_42 (dk_at dksX7_scope_1 5 rfl rfl)
theorem dX7_scope_30 : decode cX7_scope 30 = .ok (.getfield 13, 3) := dk_180 0 13 (dk_at dksX7_scope_1 6 rfl rfl)
theorem dX7_scope_33 : decode cX7_scope 33 = .ok (.iload_n 1, 1) := dk_27 (dk_at dksX7_scope_1 9 rfl rfl)
theorem dX7_scope_34 : decode cX7_scope 34 = .ok (.iaload, 1) := dk_46 (dk_at dksX7_scope_1 10 rfl rfl)
theorem dX7_scope_35 : decode cX7_scope 35 = .ok (.goto 9, 3) := dk_167 0 9 (dk_at dksX7_scope_1 11 rfl rfl)
theorem dX7_scope_38 : decode cX7_scope 38 = .ok (.aload_n 0, 1) := dk_42 (dk_at dksX7_scope_1 14 rfl rfl)
theorem dX7_scope_39 : decode cX7_scope 39 = .ok (.getfield 16, 3) := dk_180 0 16 (dk_at dksX7_scope_1 15 rfl rfl)
theorem dX7_scope_42 : decode cX7_scope 42 = .ok (.iload_n 1, 1) := dk_27 (dk_at dksX7_scope_1 18 rfl rfl)
theorem dX7_scope_43 : decode cX7_scope 43 = .ok (.iaload, 1) := dk_46 (dk_at dksX7_scope_1 19 rfl rfl)
theorem dX7_scope_44 : decode cX7_scope 44 = .ok (.ireturn, 1) := dk_172 (dk_at dksX7_scope_1 20 rfl rfl)
abbrev cX7_listed : ByteArray := prog_19_method_37_code
def yX7_listed : MethodName := ⟨RX7, "listed", "(II)I"⟩
def dkwX7_listed_4 : List UInt8 := [21, 7, 96, 172, 132, 4, 255, 132, 5, 1, 167, 255, 188, 16, 247, 172]
abbrev dktX7_listed_4 : List UInt8 := dkwX7_listed_4 ++ []
def dkwX7_listed_3 : List UInt8 := [16, 247, 159, 0, 29, 21, 4, 154, 0, 21, 21, 6, 16, 247, 159, 0, 8, 21, 6, 167, 0, 8, 16, 100]
abbrev dktX7_listed_3 : List UInt8 := dkwX7_listed_3 ++ dktX7_listed_4
def dkwX7_listed_2 : List UInt8 := [182, 0, 236, 54, 6, 42, 29, 21, 5, 182, 0, 239, 54, 7, 21, 6, 16, 247, 160, 0, 10, 21, 7]
abbrev dktX7_listed_2 : List UInt8 := dkwX7_listed_2 ++ dktX7_listed_3
def dkwX7_listed_1 : List UInt8 := [16, 247, 167, 0, 4, 27, 62, 28, 54, 4, 3, 54, 5, 21, 5, 16, 26, 162, 0, 67, 42, 29, 21, 5]
abbrev dktX7_listed_1 : List UInt8 := dkwX7_listed_1 ++ dktX7_listed_2
def dkwX7_listed_0 : List UInt8 := [27, 2, 42, 180, 0, 221, 4, 100, 184, 0, 95, 153, 0, 7, 28, 156, 0, 5, 2, 172, 27, 156, 0, 8]
abbrev dktX7_listed_0 : List UInt8 := dkwX7_listed_0 ++ dktX7_listed_1
theorem dksX7_listed_0 : cX7_listed.data.toList.drop 0 = dktX7_listed_0 := by decide +kernel
theorem dksX7_listed_1 : cX7_listed.data.toList.drop 24 = dktX7_listed_1 := dk_seg dksX7_listed_0 24 rfl rfl
theorem dksX7_listed_2 : cX7_listed.data.toList.drop 48 = dktX7_listed_2 := dk_seg dksX7_listed_1 24 rfl rfl
theorem dksX7_listed_3 : cX7_listed.data.toList.drop 71 = dktX7_listed_3 := dk_seg dksX7_listed_2 23 rfl rfl
theorem dksX7_listed_4 : cX7_listed.data.toList.drop 95 = dktX7_listed_4 := dk_seg dksX7_listed_3 24 rfl rfl
theorem dX7_listed_0 : decode cX7_listed 0 = .ok (.iload_n 1, 1) := dk_27 (dk_at dksX7_listed_0 0 rfl rfl)
theorem dX7_listed_1 : decode cX7_listed 1 = .ok (.iconst (-1), 1) := dk_2 (dk_at dksX7_listed_0 1 rfl rfl)
theorem dX7_listed_2 : decode cX7_listed 2 = .ok (.aload_n 0, 1) := dk_42 (dk_at dksX7_listed_0 2 rfl rfl)
theorem dX7_listed_3 : decode cX7_listed 3 = .ok (.getfield 221, 3) := dk_180 0 221 (dk_at dksX7_listed_0 3 rfl rfl)
theorem dX7_listed_6 : decode cX7_listed 6 = .ok (.iconst 1, 1) := dk_4 (dk_at dksX7_listed_0 6 rfl rfl)
theorem dX7_listed_7 : decode cX7_listed 7 = .ok (.isub, 1) := dk_100 (dk_at dksX7_listed_0 7 rfl rfl)
theorem dX7_listed_8 : decode cX7_listed 8 = .ok (.invokestatic 95, 3) := dk_184 0 95 (dk_at dksX7_listed_0 8 rfl rfl)
theorem dX7_listed_11 : decode cX7_listed 11 = .ok (.ifCond .eq 7, 3) := dk_153 0 7 (dk_at dksX7_listed_0 11 rfl rfl)
theorem dX7_listed_14 : decode cX7_listed 14 = .ok (.iload_n 2, 1) := dk_28 (dk_at dksX7_listed_0 14 rfl rfl)
theorem dX7_listed_15 : decode cX7_listed 15 = .ok (.ifCond .ge 5, 3) := dk_156 0 5 (dk_at dksX7_listed_0 15 rfl rfl)
theorem dX7_listed_18 : decode cX7_listed 18 = .ok (.iconst (-1), 1) := dk_2 (dk_at dksX7_listed_0 18 rfl rfl)
theorem dX7_listed_19 : decode cX7_listed 19 = .ok (.ireturn, 1) := dk_172 (dk_at dksX7_listed_0 19 rfl rfl)
theorem dX7_listed_20 : decode cX7_listed 20 = .ok (.iload_n 1, 1) := dk_27 (dk_at dksX7_listed_0 20 rfl rfl)
theorem dX7_listed_21 : decode cX7_listed 21 = .ok (.ifCond .ge 8, 3) := dk_156 0 8 (dk_at dksX7_listed_0 21 rfl rfl)
theorem dX7_listed_24 : decode cX7_listed 24 = .ok (.bipush (-9), 2) := dk_16 247 (dk_at dksX7_listed_1 0 rfl rfl)
theorem dX7_listed_26 : decode cX7_listed 26 = .ok (.goto 4, 3) := dk_167 0 4 (dk_at dksX7_listed_1 2 rfl rfl)
theorem dX7_listed_29 : decode cX7_listed 29 = .ok (.iload_n 1, 1) := dk_27 (dk_at dksX7_listed_1 5 rfl rfl)
theorem dX7_listed_30 : decode cX7_listed 30 = .ok (.istore_n 3, 1) := dk_62 (dk_at dksX7_listed_1 6 rfl rfl)
theorem dX7_listed_31 : decode cX7_listed 31 = .ok (.iload_n 2, 1) := dk_28 (dk_at dksX7_listed_1 7 rfl rfl)
theorem dX7_listed_32 : decode cX7_listed 32 = .ok (.istore 4, 2) := dk_54 4 (dk_at dksX7_listed_1 8 rfl rfl)
theorem dX7_listed_34 : decode cX7_listed 34 = .ok (.iconst 0, 1) := dk_3 (dk_at dksX7_listed_1 10 rfl rfl)
theorem dX7_listed_35 : decode cX7_listed 35 = .ok (.istore 5, 2) := dk_54 5 (dk_at dksX7_listed_1 11 rfl rfl)
theorem dX7_listed_37 : decode cX7_listed 37 = .ok (.iload 5, 2) := dk_21 5 (dk_at dksX7_listed_1 13 rfl rfl)
theorem dX7_listed_39 : decode cX7_listed 39 = .ok (.bipush 26, 2) := dk_16 26 (dk_at dksX7_listed_1 15 rfl rfl)
theorem dX7_listed_41 : decode cX7_listed 41 = .ok (.if_icmp .ge 67, 3) := dk_162 0 67 (dk_at dksX7_listed_1 17 rfl rfl)
theorem dX7_listed_44 : decode cX7_listed 44 = .ok (.aload_n 0, 1) := dk_42 (dk_at dksX7_listed_1 20 rfl rfl)
theorem dX7_listed_45 : decode cX7_listed 45 = .ok (.iload_n 3, 1) := dk_29 (dk_at dksX7_listed_1 21 rfl rfl)
theorem dX7_listed_46 : decode cX7_listed 46 = .ok (.iload 5, 2) := dk_21 5 (dk_at dksX7_listed_1 22 rfl rfl)
theorem dX7_listed_48 : decode cX7_listed 48 = .ok (.invokevirtual 236, 3) := dk_182 0 236 (dk_at dksX7_listed_2 0 rfl rfl)
theorem dX7_listed_51 : decode cX7_listed 51 = .ok (.istore 6, 2) := dk_54 6 (dk_at dksX7_listed_2 3 rfl rfl)
theorem dX7_listed_53 : decode cX7_listed 53 = .ok (.aload_n 0, 1) := dk_42 (dk_at dksX7_listed_2 5 rfl rfl)
theorem dX7_listed_54 : decode cX7_listed 54 = .ok (.iload_n 3, 1) := dk_29 (dk_at dksX7_listed_2 6 rfl rfl)
theorem dX7_listed_55 : decode cX7_listed 55 = .ok (.iload 5, 2) := dk_21 5 (dk_at dksX7_listed_2 7 rfl rfl)
theorem dX7_listed_57 : decode cX7_listed 57 = .ok (.invokevirtual 239, 3) := dk_182 0 239 (dk_at dksX7_listed_2 9 rfl rfl)
theorem dX7_listed_60 : decode cX7_listed 60 = .ok (.istore 7, 2) := dk_54 7 (dk_at dksX7_listed_2 12 rfl rfl)
theorem dX7_listed_62 : decode cX7_listed 62 = .ok (.iload 6, 2) := dk_21 6 (dk_at dksX7_listed_2 14 rfl rfl)
theorem dX7_listed_64 : decode cX7_listed 64 = .ok (.bipush (-9), 2) := dk_16 247 (dk_at dksX7_listed_2 16 rfl rfl)
theorem dX7_listed_66 : decode cX7_listed 66 = .ok (.if_icmp .ne 10, 3) := dk_160 0 10 (dk_at dksX7_listed_2 18 rfl rfl)
theorem dX7_listed_69 : decode cX7_listed 69 = .ok (.iload 7, 2) := dk_21 7 (dk_at dksX7_listed_2 21 rfl rfl)
theorem dX7_listed_71 : decode cX7_listed 71 = .ok (.bipush (-9), 2) := dk_16 247 (dk_at dksX7_listed_3 0 rfl rfl)
theorem dX7_listed_73 : decode cX7_listed 73 = .ok (.if_icmp .eq 29, 3) := dk_159 0 29 (dk_at dksX7_listed_3 2 rfl rfl)
theorem dX7_listed_76 : decode cX7_listed 76 = .ok (.iload 4, 2) := dk_21 4 (dk_at dksX7_listed_3 5 rfl rfl)
theorem dX7_listed_78 : decode cX7_listed 78 = .ok (.ifCond .ne 21, 3) := dk_154 0 21 (dk_at dksX7_listed_3 7 rfl rfl)
theorem dX7_listed_81 : decode cX7_listed 81 = .ok (.iload 6, 2) := dk_21 6 (dk_at dksX7_listed_3 10 rfl rfl)
theorem dX7_listed_83 : decode cX7_listed 83 = .ok (.bipush (-9), 2) := dk_16 247 (dk_at dksX7_listed_3 12 rfl rfl)
theorem dX7_listed_85 : decode cX7_listed 85 = .ok (.if_icmp .eq 8, 3) := dk_159 0 8 (dk_at dksX7_listed_3 14 rfl rfl)
theorem dX7_listed_88 : decode cX7_listed 88 = .ok (.iload 6, 2) := dk_21 6 (dk_at dksX7_listed_3 17 rfl rfl)
theorem dX7_listed_90 : decode cX7_listed 90 = .ok (.goto 8, 3) := dk_167 0 8 (dk_at dksX7_listed_3 19 rfl rfl)
theorem dX7_listed_93 : decode cX7_listed 93 = .ok (.bipush 100, 2) := dk_16 100 (dk_at dksX7_listed_3 22 rfl rfl)
theorem dX7_listed_95 : decode cX7_listed 95 = .ok (.iload 7, 2) := dk_21 7 (dk_at dksX7_listed_4 0 rfl rfl)
theorem dX7_listed_97 : decode cX7_listed 97 = .ok (.iadd, 1) := dk_96 (dk_at dksX7_listed_4 2 rfl rfl)
theorem dX7_listed_98 : decode cX7_listed 98 = .ok (.ireturn, 1) := dk_172 (dk_at dksX7_listed_4 3 rfl rfl)
theorem dX7_listed_99 : decode cX7_listed 99 = .ok (.iinc 4 (-1), 3) := dk_132 4 255 (dk_at dksX7_listed_4 4 rfl rfl)
theorem dX7_listed_102 : decode cX7_listed 102 = .ok (.iinc 5 1, 3) := dk_132 5 1 (dk_at dksX7_listed_4 7 rfl rfl)
theorem dX7_listed_105 : decode cX7_listed 105 = .ok (.goto (-68), 3) := dk_167 255 188 (dk_at dksX7_listed_4 10 rfl rfl)
theorem dX7_listed_108 : decode cX7_listed 108 = .ok (.bipush (-9), 2) := dk_16 247 (dk_at dksX7_listed_4 13 rfl rfl)
theorem dX7_listed_110 : decode cX7_listed 110 = .ok (.ireturn, 1) := dk_172 (dk_at dksX7_listed_4 15 rfl rfl)
abbrev cX7_path : ByteArray := prog_19_method_38_code
def yX7_path : MethodName := ⟨RX7, "path", "(II)I"⟩
def dkwX7_path_4 : List UInt8 := [46, 54, 5, 132, 6, 255, 167, 255, 229, 21, 4, 172]
abbrev dktX7_path_4 : List UInt8 := dkwX7_path_4 ++ []
def dkwX7_path_3 : List UInt8 := [100, 54, 6, 21, 6, 28, 164, 0, 27, 42, 180, 0, 16, 21, 5, 46, 54, 4, 42, 180, 0, 13, 21, 5]
abbrev dktX7_path_3 : List UInt8 := dkwX7_path_3 ++ dktX7_path_4
def dkwX7_path_2 : List UInt8 := [161, 0, 6, 16, 247, 172, 42, 27, 7, 182, 0, 233, 54, 4, 42, 27, 6, 182, 0, 233, 54, 5, 29, 4]
abbrev dktX7_path_2 : List UInt8 := dkwX7_path_2 ++ dktX7_path_3
def dkwX7_path_1 : List UInt8 := [21, 4, 16, 247, 159, 0, 18, 132, 3, 1, 42, 180, 0, 13, 21, 4, 46, 54, 4, 167, 255, 237, 28, 29]
abbrev dktX7_path_1 : List UInt8 := dkwX7_path_1 ++ dktX7_path_2
def dkwX7_path_0 : List UInt8 := [42, 27, 182, 0, 250, 153, 0, 7, 28, 156, 0, 5, 2, 172, 4, 62, 42, 27, 6, 182, 0, 233, 54, 4]
abbrev dktX7_path_0 : List UInt8 := dkwX7_path_0 ++ dktX7_path_1
theorem dksX7_path_0 : cX7_path.data.toList.drop 0 = dktX7_path_0 := by decide +kernel
theorem dksX7_path_1 : cX7_path.data.toList.drop 24 = dktX7_path_1 := dk_seg dksX7_path_0 24 rfl rfl
theorem dksX7_path_2 : cX7_path.data.toList.drop 48 = dktX7_path_2 := dk_seg dksX7_path_1 24 rfl rfl
theorem dksX7_path_3 : cX7_path.data.toList.drop 72 = dktX7_path_3 := dk_seg dksX7_path_2 24 rfl rfl
theorem dksX7_path_4 : cX7_path.data.toList.drop 96 = dktX7_path_4 := dk_seg dksX7_path_3 24 rfl rfl
theorem dX7_path_0 : decode cX7_path 0 = .ok (.aload_n 0, 1) := dk_42 (dk_at dksX7_path_0 0 rfl rfl)
theorem dX7_path_1 : decode cX7_path 1 = .ok (.iload_n 1, 1) := dk_27 (dk_at dksX7_path_0 1 rfl rfl)
theorem dX7_path_2 : decode cX7_path 2 = .ok (.invokevirtual 250, 3) := dk_182 0 250 (dk_at dksX7_path_0 2 rfl rfl)
theorem dX7_path_5 : decode cX7_path 5 = .ok (.ifCond .eq 7, 3) := dk_153 0 7 (dk_at dksX7_path_0 5 rfl rfl)
theorem dX7_path_8 : decode cX7_path 8 = .ok (.iload_n 2, 1) := dk_28 (dk_at dksX7_path_0 8 rfl rfl)
theorem dX7_path_9 : decode cX7_path 9 = .ok (.ifCond .ge 5, 3) := dk_156 0 5 (dk_at dksX7_path_0 9 rfl rfl)
theorem dX7_path_12 : decode cX7_path 12 = .ok (.iconst (-1), 1) := dk_2 (dk_at dksX7_path_0 12 rfl rfl)
theorem dX7_path_13 : decode cX7_path 13 = .ok (.ireturn, 1) := dk_172 (dk_at dksX7_path_0 13 rfl rfl)
theorem dX7_path_14 : decode cX7_path 14 = .ok (.iconst 1, 1) := dk_4 (dk_at dksX7_path_0 14 rfl rfl)
theorem dX7_path_15 : decode cX7_path 15 = .ok (.istore_n 3, 1) := dk_62 (dk_at dksX7_path_0 15 rfl rfl)
theorem dX7_path_16 : decode cX7_path 16 = .ok (.aload_n 0, 1) := dk_42 (dk_at dksX7_path_0 16 rfl rfl)
theorem dX7_path_17 : decode cX7_path 17 = .ok (.iload_n 1, 1) := dk_27 (dk_at dksX7_path_0 17 rfl rfl)
theorem dX7_path_18 : decode cX7_path 18 = .ok (.iconst 3, 1) := dk_6 (dk_at dksX7_path_0 18 rfl rfl)
theorem dX7_path_19 : decode cX7_path 19 = .ok (.invokevirtual 233, 3) := dk_182 0 233 (dk_at dksX7_path_0 19 rfl rfl)
theorem dX7_path_22 : decode cX7_path 22 = .ok (.istore 4, 2) := dk_54 4 (dk_at dksX7_path_0 22 rfl rfl)
theorem dX7_path_24 : decode cX7_path 24 = .ok (.iload 4, 2) := dk_21 4 (dk_at dksX7_path_1 0 rfl rfl)
theorem dX7_path_26 : decode cX7_path 26 = .ok (.bipush (-9), 2) := dk_16 247 (dk_at dksX7_path_1 2 rfl rfl)
theorem dX7_path_28 : decode cX7_path 28 = .ok (.if_icmp .eq 18, 3) := dk_159 0 18 (dk_at dksX7_path_1 4 rfl rfl)
theorem dX7_path_31 : decode cX7_path 31 = .ok (.iinc 3 1, 3) := dk_132 3 1 (dk_at dksX7_path_1 7 rfl rfl)
theorem dX7_path_34 : decode cX7_path 34 = .ok (.aload_n 0, 1) := dk_42 (dk_at dksX7_path_1 10 rfl rfl)
theorem dX7_path_35 : decode cX7_path 35 = .ok (.getfield 13, 3) := dk_180 0 13 (dk_at dksX7_path_1 11 rfl rfl)
theorem dX7_path_38 : decode cX7_path 38 = .ok (.iload 4, 2) := dk_21 4 (dk_at dksX7_path_1 14 rfl rfl)
theorem dX7_path_40 : decode cX7_path 40 = .ok (.iaload, 1) := dk_46 (dk_at dksX7_path_1 16 rfl rfl)
theorem dX7_path_41 : decode cX7_path 41 = .ok (.istore 4, 2) := dk_54 4 (dk_at dksX7_path_1 17 rfl rfl)
theorem dX7_path_43 : decode cX7_path 43 = .ok (.goto (-19), 3) := dk_167 255 237 (dk_at dksX7_path_1 19 rfl rfl)
theorem dX7_path_46 : decode cX7_path 46 = .ok (.iload_n 2, 1) := dk_28 (dk_at dksX7_path_1 22 rfl rfl)
theorem dX7_path_47 : decode cX7_path 47 = .ok (.iload_n 3, 1) := dk_29 (dk_at dksX7_path_1 23 rfl rfl)
theorem dX7_path_48 : decode cX7_path 48 = .ok (.if_icmp .lt 6, 3) := dk_161 0 6 (dk_at dksX7_path_2 0 rfl rfl)
theorem dX7_path_51 : decode cX7_path 51 = .ok (.bipush (-9), 2) := dk_16 247 (dk_at dksX7_path_2 3 rfl rfl)
theorem dX7_path_53 : decode cX7_path 53 = .ok (.ireturn, 1) := dk_172 (dk_at dksX7_path_2 5 rfl rfl)
theorem dX7_path_54 : decode cX7_path 54 = .ok (.aload_n 0, 1) := dk_42 (dk_at dksX7_path_2 6 rfl rfl)
theorem dX7_path_55 : decode cX7_path 55 = .ok (.iload_n 1, 1) := dk_27 (dk_at dksX7_path_2 7 rfl rfl)
theorem dX7_path_56 : decode cX7_path 56 = .ok (.iconst 4, 1) := dk_7 (dk_at dksX7_path_2 8 rfl rfl)
theorem dX7_path_57 : decode cX7_path 57 = .ok (.invokevirtual 233, 3) := dk_182 0 233 (dk_at dksX7_path_2 9 rfl rfl)
theorem dX7_path_60 : decode cX7_path 60 = .ok (.istore 4, 2) := dk_54 4 (dk_at dksX7_path_2 12 rfl rfl)
theorem dX7_path_62 : decode cX7_path 62 = .ok (.aload_n 0, 1) := dk_42 (dk_at dksX7_path_2 14 rfl rfl)
theorem dX7_path_63 : decode cX7_path 63 = .ok (.iload_n 1, 1) := dk_27 (dk_at dksX7_path_2 15 rfl rfl)
theorem dX7_path_64 : decode cX7_path 64 = .ok (.iconst 3, 1) := dk_6 (dk_at dksX7_path_2 16 rfl rfl)
theorem dX7_path_65 : decode cX7_path 65 = .ok (.invokevirtual 233, 3) := dk_182 0 233 (dk_at dksX7_path_2 17 rfl rfl)
theorem dX7_path_68 : decode cX7_path 68 = .ok (.istore 5, 2) := dk_54 5 (dk_at dksX7_path_2 20 rfl rfl)
theorem dX7_path_70 : decode cX7_path 70 = .ok (.iload_n 3, 1) := dk_29 (dk_at dksX7_path_2 22 rfl rfl)
theorem dX7_path_71 : decode cX7_path 71 = .ok (.iconst 1, 1) := dk_4 (dk_at dksX7_path_2 23 rfl rfl)
theorem dX7_path_72 : decode cX7_path 72 = .ok (.isub, 1) := dk_100 (dk_at dksX7_path_3 0 rfl rfl)
theorem dX7_path_73 : decode cX7_path 73 = .ok (.istore 6, 2) := dk_54 6 (dk_at dksX7_path_3 1 rfl rfl)
theorem dX7_path_75 : decode cX7_path 75 = .ok (.iload 6, 2) := dk_21 6 (dk_at dksX7_path_3 3 rfl rfl)
theorem dX7_path_77 : decode cX7_path 77 = .ok (.iload_n 2, 1) := dk_28 (dk_at dksX7_path_3 5 rfl rfl)
theorem dX7_path_78 : decode cX7_path 78 = .ok (.if_icmp .le 27, 3) := dk_164 0 27 (dk_at dksX7_path_3 6 rfl rfl)
theorem dX7_path_81 : decode cX7_path 81 = .ok (.aload_n 0, 1) := dk_42 (dk_at dksX7_path_3 9 rfl rfl)
theorem dX7_path_82 : decode cX7_path 82 = .ok (.getfield 16, 3) := dk_180 0 16 (dk_at dksX7_path_3 10 rfl rfl)
theorem dX7_path_85 : decode cX7_path 85 = .ok (.iload 5, 2) := dk_21 5 (dk_at dksX7_path_3 13 rfl rfl)
theorem dX7_path_87 : decode cX7_path 87 = .ok (.iaload, 1) := dk_46 (dk_at dksX7_path_3 15 rfl rfl)
theorem dX7_path_88 : decode cX7_path 88 = .ok (.istore 4, 2) := dk_54 4 (dk_at dksX7_path_3 16 rfl rfl)
theorem dX7_path_90 : decode cX7_path 90 = .ok (.aload_n 0, 1) := dk_42 (dk_at dksX7_path_3 18 rfl rfl)
theorem dX7_path_91 : decode cX7_path 91 = .ok (.getfield 13, 3) := dk_180 0 13 (dk_at dksX7_path_3 19 rfl rfl)
theorem dX7_path_94 : decode cX7_path 94 = .ok (.iload 5, 2) := dk_21 5 (dk_at dksX7_path_3 22 rfl rfl)
theorem dX7_path_96 : decode cX7_path 96 = .ok (.iaload, 1) := dk_46 (dk_at dksX7_path_4 0 rfl rfl)
theorem dX7_path_97 : decode cX7_path 97 = .ok (.istore 5, 2) := dk_54 5 (dk_at dksX7_path_4 1 rfl rfl)
theorem dX7_path_99 : decode cX7_path 99 = .ok (.iinc 6 (-1), 3) := dk_132 6 255 (dk_at dksX7_path_4 3 rfl rfl)
theorem dX7_path_102 : decode cX7_path 102 = .ok (.goto (-27), 3) := dk_167 255 229 (dk_at dksX7_path_4 6 rfl rfl)
theorem dX7_path_105 : decode cX7_path 105 = .ok (.iload 4, 2) := dk_21 4 (dk_at dksX7_path_4 9 rfl rfl)
theorem dX7_path_107 : decode cX7_path 107 = .ok (.ireturn, 1) := dk_172 (dk_at dksX7_path_4 11 rfl rfl)
abbrev cX7_sets : ByteArray := prog_19_method_43_code
def yX7_sets : MethodName := ⟨RX7, "sets", "(II)I"⟩
def dkwX7_sets_8 : List UInt8 := [92, 46, 4, 96, 79, 42, 180, 0, 25, 4, 46, 172]
abbrev dktX7_sets_8 : List UInt8 := dkwX7_sets_8 ++ []
def dkwX7_sets_7 : List UInt8 := [21, 5, 4, 96, 29, 79, 42, 180, 0, 25, 21, 5, 5, 96, 28, 79, 42, 180, 0, 25, 21, 4, 5, 96]
abbrev dktX7_sets_7 : List UInt8 := dkwX7_sets_7 ++ dktX7_sets_8
def dkwX7_sets_6 : List UInt8 := [5, 96, 46, 104, 96, 54, 5, 42, 180, 0, 25, 21, 5, 42, 180, 0, 25, 3, 46, 79, 42, 180, 0, 25]
abbrev dktX7_sets_6 : List UInt8 := dkwX7_sets_6 ++ dktX7_sets_7
def dkwX7_sets_5 : List UInt8 := [180, 0, 25, 6, 46, 4, 100, 184, 1, 0, 54, 4, 21, 4, 16, 9, 96, 6, 42, 180, 0, 25, 21, 4]
abbrev dktX7_sets_5 : List UInt8 := dkwX7_sets_5 ++ dktX7_sets_6
def dkwX7_sets_4 : List UInt8 := [182, 0, 224, 42, 180, 0, 25, 8, 29, 96, 28, 79, 42, 180, 0, 25, 4, 46, 4, 160, 0, 81, 42]
abbrev dktX7_sets_4 : List UInt8 := dkwX7_sets_4 ++ dktX7_sets_5
def dkwX7_sets_3 : List UInt8 := [180, 0, 25, 6, 46, 4, 100, 184, 1, 0, 5, 96, 46, 42, 180, 0, 25, 5, 46, 161, 0, 7, 42]
abbrev dktX7_sets_3 : List UInt8 := dkwX7_sets_3 ++ dktX7_sets_4
def dkwX7_sets_2 : List UInt8 := [16, 254, 172, 42, 182, 1, 6, 42, 180, 0, 25, 4, 46, 4, 160, 0, 34, 42, 180, 0, 25, 42]
abbrev dktX7_sets_2 : List UInt8 := dkwX7_sets_2 ++ dktX7_sets_3
def dkwX7_sets_1 : List UInt8 := [154, 0, 5, 2, 172, 42, 27, 8, 182, 0, 233, 62, 42, 180, 0, 25, 8, 29, 96, 46, 28, 160, 0, 6]
abbrev dktX7_sets_1 : List UInt8 := dkwX7_sets_1 ++ dktX7_sets_2
def dkwX7_sets_0 : List UInt8 := [42, 27, 182, 1, 3, 153, 0, 21, 28, 3, 4, 42, 27, 4, 182, 0, 233, 120, 4, 100, 184, 0, 95]
abbrev dktX7_sets_0 : List UInt8 := dkwX7_sets_0 ++ dktX7_sets_1
theorem dksX7_sets_0 : cX7_sets.data.toList.drop 0 = dktX7_sets_0 := by decide +kernel
theorem dksX7_sets_1 : cX7_sets.data.toList.drop 23 = dktX7_sets_1 := dk_seg dksX7_sets_0 23 rfl rfl
theorem dksX7_sets_2 : cX7_sets.data.toList.drop 47 = dktX7_sets_2 := dk_seg dksX7_sets_1 24 rfl rfl
theorem dksX7_sets_3 : cX7_sets.data.toList.drop 69 = dktX7_sets_3 := dk_seg dksX7_sets_2 22 rfl rfl
theorem dksX7_sets_4 : cX7_sets.data.toList.drop 92 = dktX7_sets_4 := dk_seg dksX7_sets_3 23 rfl rfl
theorem dksX7_sets_5 : cX7_sets.data.toList.drop 115 = dktX7_sets_5 := dk_seg dksX7_sets_4 23 rfl rfl
theorem dksX7_sets_6 : cX7_sets.data.toList.drop 139 = dktX7_sets_6 := dk_seg dksX7_sets_5 24 rfl rfl
theorem dksX7_sets_7 : cX7_sets.data.toList.drop 163 = dktX7_sets_7 := dk_seg dksX7_sets_6 24 rfl rfl
theorem dksX7_sets_8 : cX7_sets.data.toList.drop 187 = dktX7_sets_8 := dk_seg dksX7_sets_7 24 rfl rfl
theorem dX7_sets_0 : decode cX7_sets 0 = .ok (.aload_n 0, 1) := dk_42 (dk_at dksX7_sets_0 0 rfl rfl)
theorem dX7_sets_1 : decode cX7_sets 1 = .ok (.iload_n 1, 1) := dk_27 (dk_at dksX7_sets_0 1 rfl rfl)
theorem dX7_sets_2 : decode cX7_sets 2 = .ok (.invokevirtual 259, 3) := dk_182 1 3 (dk_at dksX7_sets_0 2 rfl rfl)
theorem dX7_sets_5 : decode cX7_sets 5 = .ok (.ifCond .eq 21, 3) := dk_153 0 21 (dk_at dksX7_sets_0 5 rfl rfl)
theorem dX7_sets_8 : decode cX7_sets 8 = .ok (.iload_n 2, 1) := dk_28 (dk_at dksX7_sets_0 8 rfl rfl)
theorem dX7_sets_9 : decode cX7_sets 9 = .ok (.iconst 0, 1) := dk_3 (dk_at dksX7_sets_0 9 rfl rfl)
theorem dX7_sets_10 : decode cX7_sets 10 = .ok (.iconst 1, 1) := dk_4 (dk_at dksX7_sets_0 10 rfl rfl)
theorem dX7_sets_11 : decode cX7_sets 11 = .ok (.aload_n 0, 1) := dk_42 (dk_at dksX7_sets_0 11 rfl rfl)
theorem dX7_sets_12 : decode cX7_sets 12 = .ok (.iload_n 1, 1) := dk_27 (dk_at dksX7_sets_0 12 rfl rfl)
theorem dX7_sets_13 : decode cX7_sets 13 = .ok (.iconst 1, 1) := dk_4 (dk_at dksX7_sets_0 13 rfl rfl)
theorem dX7_sets_14 : decode cX7_sets 14 = .ok (.invokevirtual 233, 3) := dk_182 0 233 (dk_at dksX7_sets_0 14 rfl rfl)
theorem dX7_sets_17 : decode cX7_sets 17 = .ok (.ishl, 1) := dk_120 (dk_at dksX7_sets_0 17 rfl rfl)
theorem dX7_sets_18 : decode cX7_sets 18 = .ok (.iconst 1, 1) := dk_4 (dk_at dksX7_sets_0 18 rfl rfl)
theorem dX7_sets_19 : decode cX7_sets 19 = .ok (.isub, 1) := dk_100 (dk_at dksX7_sets_0 19 rfl rfl)
theorem dX7_sets_20 : decode cX7_sets 20 = .ok (.invokestatic 95, 3) := dk_184 0 95 (dk_at dksX7_sets_0 20 rfl rfl)
theorem dX7_sets_23 : decode cX7_sets 23 = .ok (.ifCond .ne 5, 3) := dk_154 0 5 (dk_at dksX7_sets_1 0 rfl rfl)
theorem dX7_sets_26 : decode cX7_sets 26 = .ok (.iconst (-1), 1) := dk_2 (dk_at dksX7_sets_1 3 rfl rfl)
theorem dX7_sets_27 : decode cX7_sets 27 = .ok (.ireturn, 1) := dk_172 (dk_at dksX7_sets_1 4 rfl rfl)
theorem dX7_sets_28 : decode cX7_sets 28 = .ok (.aload_n 0, 1) := dk_42 (dk_at dksX7_sets_1 5 rfl rfl)
theorem dX7_sets_29 : decode cX7_sets 29 = .ok (.iload_n 1, 1) := dk_27 (dk_at dksX7_sets_1 6 rfl rfl)
theorem dX7_sets_30 : decode cX7_sets 30 = .ok (.iconst 5, 1) := dk_8 (dk_at dksX7_sets_1 7 rfl rfl)
theorem dX7_sets_31 : decode cX7_sets 31 = .ok (.invokevirtual 233, 3) := dk_182 0 233 (dk_at dksX7_sets_1 8 rfl rfl)
theorem dX7_sets_34 : decode cX7_sets 34 = .ok (.istore_n 3, 1) := dk_62 (dk_at dksX7_sets_1 11 rfl rfl)
theorem dX7_sets_35 : decode cX7_sets 35 = .ok (.aload_n 0, 1) := dk_42 (dk_at dksX7_sets_1 12 rfl rfl)
theorem dX7_sets_36 : decode cX7_sets 36 = .ok (.getfield 25, 3) := dk_180 0 25 (dk_at dksX7_sets_1 13 rfl rfl)
theorem dX7_sets_39 : decode cX7_sets 39 = .ok (.iconst 5, 1) := dk_8 (dk_at dksX7_sets_1 16 rfl rfl)
theorem dX7_sets_40 : decode cX7_sets 40 = .ok (.iload_n 3, 1) := dk_29 (dk_at dksX7_sets_1 17 rfl rfl)
theorem dX7_sets_41 : decode cX7_sets 41 = .ok (.iadd, 1) := dk_96 (dk_at dksX7_sets_1 18 rfl rfl)
theorem dX7_sets_42 : decode cX7_sets 42 = .ok (.iaload, 1) := dk_46 (dk_at dksX7_sets_1 19 rfl rfl)
theorem dX7_sets_43 : decode cX7_sets 43 = .ok (.iload_n 2, 1) := dk_28 (dk_at dksX7_sets_1 20 rfl rfl)
theorem dX7_sets_44 : decode cX7_sets 44 = .ok (.if_icmp .ne 6, 3) := dk_160 0 6 (dk_at dksX7_sets_1 21 rfl rfl)
theorem dX7_sets_47 : decode cX7_sets 47 = .ok (.bipush (-2), 2) := dk_16 254 (dk_at dksX7_sets_2 0 rfl rfl)
theorem dX7_sets_49 : decode cX7_sets 49 = .ok (.ireturn, 1) := dk_172 (dk_at dksX7_sets_2 2 rfl rfl)
theorem dX7_sets_50 : decode cX7_sets 50 = .ok (.aload_n 0, 1) := dk_42 (dk_at dksX7_sets_2 3 rfl rfl)
theorem dX7_sets_51 : decode cX7_sets 51 = .ok (.invokevirtual 262, 3) := dk_182 1 6 (dk_at dksX7_sets_2 4 rfl rfl)
theorem dX7_sets_54 : decode cX7_sets 54 = .ok (.aload_n 0, 1) := dk_42 (dk_at dksX7_sets_2 7 rfl rfl)
theorem dX7_sets_55 : decode cX7_sets 55 = .ok (.getfield 25, 3) := dk_180 0 25 (dk_at dksX7_sets_2 8 rfl rfl)
theorem dX7_sets_58 : decode cX7_sets 58 = .ok (.iconst 1, 1) := dk_4 (dk_at dksX7_sets_2 11 rfl rfl)
theorem dX7_sets_59 : decode cX7_sets 59 = .ok (.iaload, 1) := dk_46 (dk_at dksX7_sets_2 12 rfl rfl)
theorem dX7_sets_60 : decode cX7_sets 60 = .ok (.iconst 1, 1) := dk_4 (dk_at dksX7_sets_2 13 rfl rfl)
theorem dX7_sets_61 : decode cX7_sets 61 = .ok (.if_icmp .ne 34, 3) := dk_160 0 34 (dk_at dksX7_sets_2 14 rfl rfl)
theorem dX7_sets_64 : decode cX7_sets 64 = .ok (.aload_n 0, 1) := dk_42 (dk_at dksX7_sets_2 17 rfl rfl)
theorem dX7_sets_65 : decode cX7_sets 65 = .ok (.getfield 25, 3) := dk_180 0 25 (dk_at dksX7_sets_2 18 rfl rfl)
theorem dX7_sets_68 : decode cX7_sets 68 = .ok (.aload_n 0, 1) := dk_42 (dk_at dksX7_sets_2 21 rfl rfl)
theorem dX7_sets_69 : decode cX7_sets 69 = .ok (.getfield 25, 3) := dk_180 0 25 (dk_at dksX7_sets_3 0 rfl rfl)
theorem dX7_sets_72 : decode cX7_sets 72 = .ok (.iconst 3, 1) := dk_6 (dk_at dksX7_sets_3 3 rfl rfl)
theorem dX7_sets_73 : decode cX7_sets 73 = .ok (.iaload, 1) := dk_46 (dk_at dksX7_sets_3 4 rfl rfl)
theorem dX7_sets_74 : decode cX7_sets 74 = .ok (.iconst 1, 1) := dk_4 (dk_at dksX7_sets_3 5 rfl rfl)
theorem dX7_sets_75 : decode cX7_sets 75 = .ok (.isub, 1) := dk_100 (dk_at dksX7_sets_3 6 rfl rfl)
theorem dX7_sets_76 : decode cX7_sets 76 = .ok (.invokestatic 256, 3) := dk_184 1 0 (dk_at dksX7_sets_3 7 rfl rfl)
theorem dX7_sets_79 : decode cX7_sets 79 = .ok (.iconst 2, 1) := dk_5 (dk_at dksX7_sets_3 10 rfl rfl)
theorem dX7_sets_80 : decode cX7_sets 80 = .ok (.iadd, 1) := dk_96 (dk_at dksX7_sets_3 11 rfl rfl)
theorem dX7_sets_81 : decode cX7_sets 81 = .ok (.iaload, 1) := dk_46 (dk_at dksX7_sets_3 12 rfl rfl)
theorem dX7_sets_82 : decode cX7_sets 82 = .ok (.aload_n 0, 1) := dk_42 (dk_at dksX7_sets_3 13 rfl rfl)
theorem dX7_sets_83 : decode cX7_sets 83 = .ok (.getfield 25, 3) := dk_180 0 25 (dk_at dksX7_sets_3 14 rfl rfl)
theorem dX7_sets_86 : decode cX7_sets 86 = .ok (.iconst 2, 1) := dk_5 (dk_at dksX7_sets_3 17 rfl rfl)
theorem dX7_sets_87 : decode cX7_sets 87 = .ok (.iaload, 1) := dk_46 (dk_at dksX7_sets_3 18 rfl rfl)
theorem dX7_sets_88 : decode cX7_sets 88 = .ok (.if_icmp .lt 7, 3) := dk_161 0 7 (dk_at dksX7_sets_3 19 rfl rfl)
theorem dX7_sets_91 : decode cX7_sets 91 = .ok (.aload_n 0, 1) := dk_42 (dk_at dksX7_sets_3 22 rfl rfl)
theorem dX7_sets_92 : decode cX7_sets 92 = .ok (.invokevirtual 224, 3) := dk_182 0 224 (dk_at dksX7_sets_4 0 rfl rfl)
theorem dX7_sets_95 : decode cX7_sets 95 = .ok (.aload_n 0, 1) := dk_42 (dk_at dksX7_sets_4 3 rfl rfl)
theorem dX7_sets_96 : decode cX7_sets 96 = .ok (.getfield 25, 3) := dk_180 0 25 (dk_at dksX7_sets_4 4 rfl rfl)
theorem dX7_sets_99 : decode cX7_sets 99 = .ok (.iconst 5, 1) := dk_8 (dk_at dksX7_sets_4 7 rfl rfl)
theorem dX7_sets_100 : decode cX7_sets 100 = .ok (.iload_n 3, 1) := dk_29 (dk_at dksX7_sets_4 8 rfl rfl)
theorem dX7_sets_101 : decode cX7_sets 101 = .ok (.iadd, 1) := dk_96 (dk_at dksX7_sets_4 9 rfl rfl)
theorem dX7_sets_102 : decode cX7_sets 102 = .ok (.iload_n 2, 1) := dk_28 (dk_at dksX7_sets_4 10 rfl rfl)
theorem dX7_sets_103 : decode cX7_sets 103 = .ok (.iastore, 1) := dk_79 (dk_at dksX7_sets_4 11 rfl rfl)
theorem dX7_sets_104 : decode cX7_sets 104 = .ok (.aload_n 0, 1) := dk_42 (dk_at dksX7_sets_4 12 rfl rfl)
theorem dX7_sets_105 : decode cX7_sets 105 = .ok (.getfield 25, 3) := dk_180 0 25 (dk_at dksX7_sets_4 13 rfl rfl)
theorem dX7_sets_108 : decode cX7_sets 108 = .ok (.iconst 1, 1) := dk_4 (dk_at dksX7_sets_4 16 rfl rfl)
theorem dX7_sets_109 : decode cX7_sets 109 = .ok (.iaload, 1) := dk_46 (dk_at dksX7_sets_4 17 rfl rfl)
theorem dX7_sets_110 : decode cX7_sets 110 = .ok (.iconst 1, 1) := dk_4 (dk_at dksX7_sets_4 18 rfl rfl)
theorem dX7_sets_111 : decode cX7_sets 111 = .ok (.if_icmp .ne 81, 3) := dk_160 0 81 (dk_at dksX7_sets_4 19 rfl rfl)
theorem dX7_sets_114 : decode cX7_sets 114 = .ok (.aload_n 0, 1) := dk_42 (dk_at dksX7_sets_4 22 rfl rfl)
theorem dX7_sets_115 : decode cX7_sets 115 = .ok (.getfield 25, 3) := dk_180 0 25 (dk_at dksX7_sets_5 0 rfl rfl)
theorem dX7_sets_118 : decode cX7_sets 118 = .ok (.iconst 3, 1) := dk_6 (dk_at dksX7_sets_5 3 rfl rfl)
theorem dX7_sets_119 : decode cX7_sets 119 = .ok (.iaload, 1) := dk_46 (dk_at dksX7_sets_5 4 rfl rfl)
theorem dX7_sets_120 : decode cX7_sets 120 = .ok (.iconst 1, 1) := dk_4 (dk_at dksX7_sets_5 5 rfl rfl)
theorem dX7_sets_121 : decode cX7_sets 121 = .ok (.isub, 1) := dk_100 (dk_at dksX7_sets_5 6 rfl rfl)
theorem dX7_sets_122 : decode cX7_sets 122 = .ok (.invokestatic 256, 3) := dk_184 1 0 (dk_at dksX7_sets_5 7 rfl rfl)
theorem dX7_sets_125 : decode cX7_sets 125 = .ok (.istore 4, 2) := dk_54 4 (dk_at dksX7_sets_5 10 rfl rfl)
theorem dX7_sets_127 : decode cX7_sets 127 = .ok (.iload 4, 2) := dk_21 4 (dk_at dksX7_sets_5 12 rfl rfl)
theorem dX7_sets_129 : decode cX7_sets 129 = .ok (.bipush 9, 2) := dk_16 9 (dk_at dksX7_sets_5 14 rfl rfl)
theorem dX7_sets_131 : decode cX7_sets 131 = .ok (.iadd, 1) := dk_96 (dk_at dksX7_sets_5 16 rfl rfl)
theorem dX7_sets_132 : decode cX7_sets 132 = .ok (.iconst 3, 1) := dk_6 (dk_at dksX7_sets_5 17 rfl rfl)
theorem dX7_sets_133 : decode cX7_sets 133 = .ok (.aload_n 0, 1) := dk_42 (dk_at dksX7_sets_5 18 rfl rfl)
theorem dX7_sets_134 : decode cX7_sets 134 = .ok (.getfield 25, 3) := dk_180 0 25 (dk_at dksX7_sets_5 19 rfl rfl)
theorem dX7_sets_137 : decode cX7_sets 137 = .ok (.iload 4, 2) := dk_21 4 (dk_at dksX7_sets_5 22 rfl rfl)
theorem dX7_sets_139 : decode cX7_sets 139 = .ok (.iconst 2, 1) := dk_5 (dk_at dksX7_sets_6 0 rfl rfl)
theorem dX7_sets_140 : decode cX7_sets 140 = .ok (.iadd, 1) := dk_96 (dk_at dksX7_sets_6 1 rfl rfl)
theorem dX7_sets_141 : decode cX7_sets 141 = .ok (.iaload, 1) := dk_46 (dk_at dksX7_sets_6 2 rfl rfl)
theorem dX7_sets_142 : decode cX7_sets 142 = .ok (.imul, 1) := dk_104 (dk_at dksX7_sets_6 3 rfl rfl)
theorem dX7_sets_143 : decode cX7_sets 143 = .ok (.iadd, 1) := dk_96 (dk_at dksX7_sets_6 4 rfl rfl)
theorem dX7_sets_144 : decode cX7_sets 144 = .ok (.istore 5, 2) := dk_54 5 (dk_at dksX7_sets_6 5 rfl rfl)
theorem dX7_sets_146 : decode cX7_sets 146 = .ok (.aload_n 0, 1) := dk_42 (dk_at dksX7_sets_6 7 rfl rfl)
theorem dX7_sets_147 : decode cX7_sets 147 = .ok (.getfield 25, 3) := dk_180 0 25 (dk_at dksX7_sets_6 8 rfl rfl)
theorem dX7_sets_150 : decode cX7_sets 150 = .ok (.iload 5, 2) := dk_21 5 (dk_at dksX7_sets_6 11 rfl rfl)
theorem dX7_sets_152 : decode cX7_sets 152 = .ok (.aload_n 0, 1) := dk_42 (dk_at dksX7_sets_6 13 rfl rfl)
theorem dX7_sets_153 : decode cX7_sets 153 = .ok (.getfield 25, 3) := dk_180 0 25 (dk_at dksX7_sets_6 14 rfl rfl)
theorem dX7_sets_156 : decode cX7_sets 156 = .ok (.iconst 0, 1) := dk_3 (dk_at dksX7_sets_6 17 rfl rfl)
theorem dX7_sets_157 : decode cX7_sets 157 = .ok (.iaload, 1) := dk_46 (dk_at dksX7_sets_6 18 rfl rfl)
theorem dX7_sets_158 : decode cX7_sets 158 = .ok (.iastore, 1) := dk_79 (dk_at dksX7_sets_6 19 rfl rfl)
theorem dX7_sets_159 : decode cX7_sets 159 = .ok (.aload_n 0, 1) := dk_42 (dk_at dksX7_sets_6 20 rfl rfl)
theorem dX7_sets_160 : decode cX7_sets 160 = .ok (.getfield 25, 3) := dk_180 0 25 (dk_at dksX7_sets_6 21 rfl rfl)
theorem dX7_sets_163 : decode cX7_sets 163 = .ok (.iload 5, 2) := dk_21 5 (dk_at dksX7_sets_7 0 rfl rfl)
theorem dX7_sets_165 : decode cX7_sets 165 = .ok (.iconst 1, 1) := dk_4 (dk_at dksX7_sets_7 2 rfl rfl)
theorem dX7_sets_166 : decode cX7_sets 166 = .ok (.iadd, 1) := dk_96 (dk_at dksX7_sets_7 3 rfl rfl)
theorem dX7_sets_167 : decode cX7_sets 167 = .ok (.iload_n 3, 1) := dk_29 (dk_at dksX7_sets_7 4 rfl rfl)
theorem dX7_sets_168 : decode cX7_sets 168 = .ok (.iastore, 1) := dk_79 (dk_at dksX7_sets_7 5 rfl rfl)
theorem dX7_sets_169 : decode cX7_sets 169 = .ok (.aload_n 0, 1) := dk_42 (dk_at dksX7_sets_7 6 rfl rfl)
theorem dX7_sets_170 : decode cX7_sets 170 = .ok (.getfield 25, 3) := dk_180 0 25 (dk_at dksX7_sets_7 7 rfl rfl)
theorem dX7_sets_173 : decode cX7_sets 173 = .ok (.iload 5, 2) := dk_21 5 (dk_at dksX7_sets_7 10 rfl rfl)
theorem dX7_sets_175 : decode cX7_sets 175 = .ok (.iconst 2, 1) := dk_5 (dk_at dksX7_sets_7 12 rfl rfl)
theorem dX7_sets_176 : decode cX7_sets 176 = .ok (.iadd, 1) := dk_96 (dk_at dksX7_sets_7 13 rfl rfl)
theorem dX7_sets_177 : decode cX7_sets 177 = .ok (.iload_n 2, 1) := dk_28 (dk_at dksX7_sets_7 14 rfl rfl)
theorem dX7_sets_178 : decode cX7_sets 178 = .ok (.iastore, 1) := dk_79 (dk_at dksX7_sets_7 15 rfl rfl)
theorem dX7_sets_179 : decode cX7_sets 179 = .ok (.aload_n 0, 1) := dk_42 (dk_at dksX7_sets_7 16 rfl rfl)
theorem dX7_sets_180 : decode cX7_sets 180 = .ok (.getfield 25, 3) := dk_180 0 25 (dk_at dksX7_sets_7 17 rfl rfl)
theorem dX7_sets_183 : decode cX7_sets 183 = .ok (.iload 4, 2) := dk_21 4 (dk_at dksX7_sets_7 20 rfl rfl)
theorem dX7_sets_185 : decode cX7_sets 185 = .ok (.iconst 2, 1) := dk_5 (dk_at dksX7_sets_7 22 rfl rfl)
theorem dX7_sets_186 : decode cX7_sets 186 = .ok (.iadd, 1) := dk_96 (dk_at dksX7_sets_7 23 rfl rfl)
theorem dX7_sets_187 : decode cX7_sets 187 = .ok (.dup2, 1) := dk_92 (dk_at dksX7_sets_8 0 rfl rfl)
theorem dX7_sets_188 : decode cX7_sets 188 = .ok (.iaload, 1) := dk_46 (dk_at dksX7_sets_8 1 rfl rfl)
theorem dX7_sets_189 : decode cX7_sets 189 = .ok (.iconst 1, 1) := dk_4 (dk_at dksX7_sets_8 2 rfl rfl)
theorem dX7_sets_190 : decode cX7_sets 190 = .ok (.iadd, 1) := dk_96 (dk_at dksX7_sets_8 3 rfl rfl)
theorem dX7_sets_191 : decode cX7_sets 191 = .ok (.iastore, 1) := dk_79 (dk_at dksX7_sets_8 4 rfl rfl)
theorem dX7_sets_192 : decode cX7_sets 192 = .ok (.aload_n 0, 1) := dk_42 (dk_at dksX7_sets_8 5 rfl rfl)
theorem dX7_sets_193 : decode cX7_sets 193 = .ok (.getfield 25, 3) := dk_180 0 25 (dk_at dksX7_sets_8 6 rfl rfl)
theorem dX7_sets_196 : decode cX7_sets 196 = .ok (.iconst 1, 1) := dk_4 (dk_at dksX7_sets_8 9 rfl rfl)
theorem dX7_sets_197 : decode cX7_sets 197 = .ok (.iaload, 1) := dk_46 (dk_at dksX7_sets_8 10 rfl rfl)
theorem dX7_sets_198 : decode cX7_sets 198 = .ok (.ireturn, 1) := dk_172 (dk_at dksX7_sets_8 11 rfl rfl)
abbrev cX7_isWire : ByteArray := prog_19_method_42_code
def yX7_isWire : MethodName := ⟨RX7, "isWire", "(I)Z"⟩
def dkwX7_isWire_0 : List UInt8 := [42, 27, 182, 0, 250, 153, 0, 16, 42, 27, 3, 182, 0, 233, 154, 0, 7, 4, 167, 0, 4, 3, 172]
abbrev dktX7_isWire_0 : List UInt8 := dkwX7_isWire_0 ++ []
theorem dksX7_isWire_0 : cX7_isWire.data.toList.drop 0 = dktX7_isWire_0 := by decide +kernel
theorem dX7_isWire_0 : decode cX7_isWire 0 = .ok (.aload_n 0, 1) := dk_42 (dk_at dksX7_isWire_0 0 rfl rfl)
theorem dX7_isWire_1 : decode cX7_isWire 1 = .ok (.iload_n 1, 1) := dk_27 (dk_at dksX7_isWire_0 1 rfl rfl)
theorem dX7_isWire_2 : decode cX7_isWire 2 = .ok (.invokevirtual 250, 3) := dk_182 0 250 (dk_at dksX7_isWire_0 2 rfl rfl)
theorem dX7_isWire_5 : decode cX7_isWire 5 = .ok (.ifCond .eq 16, 3) := dk_153 0 16 (dk_at dksX7_isWire_0 5 rfl rfl)
theorem dX7_isWire_8 : decode cX7_isWire 8 = .ok (.aload_n 0, 1) := dk_42 (dk_at dksX7_isWire_0 8 rfl rfl)
theorem dX7_isWire_9 : decode cX7_isWire 9 = .ok (.iload_n 1, 1) := dk_27 (dk_at dksX7_isWire_0 9 rfl rfl)
theorem dX7_isWire_10 : decode cX7_isWire 10 = .ok (.iconst 0, 1) := dk_3 (dk_at dksX7_isWire_0 10 rfl rfl)
theorem dX7_isWire_11 : decode cX7_isWire 11 = .ok (.invokevirtual 233, 3) := dk_182 0 233 (dk_at dksX7_isWire_0 11 rfl rfl)
theorem dX7_isWire_14 : decode cX7_isWire 14 = .ok (.ifCond .ne 7, 3) := dk_154 0 7 (dk_at dksX7_isWire_0 14 rfl rfl)
theorem dX7_isWire_17 : decode cX7_isWire 17 = .ok (.iconst 1, 1) := dk_4 (dk_at dksX7_isWire_0 17 rfl rfl)
theorem dX7_isWire_18 : decode cX7_isWire 18 = .ok (.goto 4, 3) := dk_167 0 4 (dk_at dksX7_isWire_0 18 rfl rfl)
theorem dX7_isWire_21 : decode cX7_isWire 21 = .ok (.iconst 0, 1) := dk_3 (dk_at dksX7_isWire_0 21 rfl rfl)
theorem dX7_isWire_22 : decode cX7_isWire 22 = .ok (.ireturn, 1) := dk_172 (dk_at dksX7_isWire_0 22 rfl rfl)
abbrev cX7_notes : ByteArray := prog_19_method_41_code
def yX7_notes : MethodName := ⟨RX7, "notes", "()V"⟩
def dkwX7_notes_4 : List UInt8 := [181, 0, 227, 177]
abbrev dktX7_notes_4 : List UInt8 := dkwX7_notes_4 ++ []
def dkwX7_notes_3 : List UInt8 := [27, 96, 42, 180, 0, 25, 27, 46, 79, 132, 1, 1, 167, 255, 225, 42, 89, 180, 0, 227, 4, 96]
abbrev dktX7_notes_3 : List UInt8 := dkwX7_notes_3 ++ dktX7_notes_4
def dkwX7_notes_2 : List UInt8 := [181, 0, 227, 3, 60, 27, 17, 0, 209, 162, 0, 30, 42, 180, 0, 28, 17, 0, 209, 42, 180, 0, 227, 104]
abbrev dktX7_notes_2 : List UInt8 := dkwX7_notes_2 ++ dktX7_notes_3
def dkwX7_notes_1 : List UInt8 := [180, 0, 28, 27, 17, 0, 209, 96, 46, 79, 132, 1, 1, 167, 255, 230, 42, 89, 180, 0, 227, 4, 100]
abbrev dktX7_notes_1 : List UInt8 := dkwX7_notes_1 ++ dktX7_notes_2
def dkwX7_notes_0 : List UInt8 := [42, 180, 0, 227, 16, 6, 160, 0, 44, 3, 60, 27, 17, 4, 21, 162, 0, 25, 42, 180, 0, 28, 27, 42]
abbrev dktX7_notes_0 : List UInt8 := dkwX7_notes_0 ++ dktX7_notes_1
theorem dksX7_notes_0 : cX7_notes.data.toList.drop 0 = dktX7_notes_0 := by decide +kernel
theorem dksX7_notes_1 : cX7_notes.data.toList.drop 24 = dktX7_notes_1 := dk_seg dksX7_notes_0 24 rfl rfl
theorem dksX7_notes_2 : cX7_notes.data.toList.drop 47 = dktX7_notes_2 := dk_seg dksX7_notes_1 23 rfl rfl
theorem dksX7_notes_3 : cX7_notes.data.toList.drop 71 = dktX7_notes_3 := dk_seg dksX7_notes_2 24 rfl rfl
theorem dksX7_notes_4 : cX7_notes.data.toList.drop 93 = dktX7_notes_4 := dk_seg dksX7_notes_3 22 rfl rfl
theorem dX7_notes_0 : decode cX7_notes 0 = .ok (.aload_n 0, 1) := dk_42 (dk_at dksX7_notes_0 0 rfl rfl)
theorem dX7_notes_1 : decode cX7_notes 1 = .ok (.getfield 227, 3) := dk_180 0 227 (dk_at dksX7_notes_0 1 rfl rfl)
theorem dX7_notes_4 : decode cX7_notes 4 = .ok (.bipush 6, 2) := dk_16 6 (dk_at dksX7_notes_0 4 rfl rfl)
theorem dX7_notes_6 : decode cX7_notes 6 = .ok (.if_icmp .ne 44, 3) := dk_160 0 44 (dk_at dksX7_notes_0 6 rfl rfl)
theorem dX7_notes_9 : decode cX7_notes 9 = .ok (.iconst 0, 1) := dk_3 (dk_at dksX7_notes_0 9 rfl rfl)
theorem dX7_notes_10 : decode cX7_notes 10 = .ok (.istore_n 1, 1) := dk_60 (dk_at dksX7_notes_0 10 rfl rfl)
theorem dX7_notes_11 : decode cX7_notes 11 = .ok (.iload_n 1, 1) := dk_27 (dk_at dksX7_notes_0 11 rfl rfl)
theorem dX7_notes_12 : decode cX7_notes 12 = .ok (.sipush 1045, 3) := dk_17 4 21 (dk_at dksX7_notes_0 12 rfl rfl)
theorem dX7_notes_15 : decode cX7_notes 15 = .ok (.if_icmp .ge 25, 3) := dk_162 0 25 (dk_at dksX7_notes_0 15 rfl rfl)
theorem dX7_notes_18 : decode cX7_notes 18 = .ok (.aload_n 0, 1) := dk_42 (dk_at dksX7_notes_0 18 rfl rfl)
theorem dX7_notes_19 : decode cX7_notes 19 = .ok (.getfield 28, 3) := dk_180 0 28 (dk_at dksX7_notes_0 19 rfl rfl)
theorem dX7_notes_22 : decode cX7_notes 22 = .ok (.iload_n 1, 1) := dk_27 (dk_at dksX7_notes_0 22 rfl rfl)
theorem dX7_notes_23 : decode cX7_notes 23 = .ok (.aload_n 0, 1) := dk_42 (dk_at dksX7_notes_0 23 rfl rfl)
theorem dX7_notes_24 : decode cX7_notes 24 = .ok (.getfield 28, 3) := dk_180 0 28 (dk_at dksX7_notes_1 0 rfl rfl)
theorem dX7_notes_27 : decode cX7_notes 27 = .ok (.iload_n 1, 1) := dk_27 (dk_at dksX7_notes_1 3 rfl rfl)
theorem dX7_notes_28 : decode cX7_notes 28 = .ok (.sipush 209, 3) := dk_17 0 209 (dk_at dksX7_notes_1 4 rfl rfl)
theorem dX7_notes_31 : decode cX7_notes 31 = .ok (.iadd, 1) := dk_96 (dk_at dksX7_notes_1 7 rfl rfl)
theorem dX7_notes_32 : decode cX7_notes 32 = .ok (.iaload, 1) := dk_46 (dk_at dksX7_notes_1 8 rfl rfl)
theorem dX7_notes_33 : decode cX7_notes 33 = .ok (.iastore, 1) := dk_79 (dk_at dksX7_notes_1 9 rfl rfl)
theorem dX7_notes_34 : decode cX7_notes 34 = .ok (.iinc 1 1, 3) := dk_132 1 1 (dk_at dksX7_notes_1 10 rfl rfl)
theorem dX7_notes_37 : decode cX7_notes 37 = .ok (.goto (-26), 3) := dk_167 255 230 (dk_at dksX7_notes_1 13 rfl rfl)
theorem dX7_notes_40 : decode cX7_notes 40 = .ok (.aload_n 0, 1) := dk_42 (dk_at dksX7_notes_1 16 rfl rfl)
theorem dX7_notes_41 : decode cX7_notes 41 = .ok (.dup, 1) := dk_89 (dk_at dksX7_notes_1 17 rfl rfl)
theorem dX7_notes_42 : decode cX7_notes 42 = .ok (.getfield 227, 3) := dk_180 0 227 (dk_at dksX7_notes_1 18 rfl rfl)
theorem dX7_notes_45 : decode cX7_notes 45 = .ok (.iconst 1, 1) := dk_4 (dk_at dksX7_notes_1 21 rfl rfl)
theorem dX7_notes_46 : decode cX7_notes 46 = .ok (.isub, 1) := dk_100 (dk_at dksX7_notes_1 22 rfl rfl)
theorem dX7_notes_47 : decode cX7_notes 47 = .ok (.putfield 227, 3) := dk_181 0 227 (dk_at dksX7_notes_2 0 rfl rfl)
theorem dX7_notes_50 : decode cX7_notes 50 = .ok (.iconst 0, 1) := dk_3 (dk_at dksX7_notes_2 3 rfl rfl)
theorem dX7_notes_51 : decode cX7_notes 51 = .ok (.istore_n 1, 1) := dk_60 (dk_at dksX7_notes_2 4 rfl rfl)
theorem dX7_notes_52 : decode cX7_notes 52 = .ok (.iload_n 1, 1) := dk_27 (dk_at dksX7_notes_2 5 rfl rfl)
theorem dX7_notes_53 : decode cX7_notes 53 = .ok (.sipush 209, 3) := dk_17 0 209 (dk_at dksX7_notes_2 6 rfl rfl)
theorem dX7_notes_56 : decode cX7_notes 56 = .ok (.if_icmp .ge 30, 3) := dk_162 0 30 (dk_at dksX7_notes_2 9 rfl rfl)
theorem dX7_notes_59 : decode cX7_notes 59 = .ok (.aload_n 0, 1) := dk_42 (dk_at dksX7_notes_2 12 rfl rfl)
theorem dX7_notes_60 : decode cX7_notes 60 = .ok (.getfield 28, 3) := dk_180 0 28 (dk_at dksX7_notes_2 13 rfl rfl)
theorem dX7_notes_63 : decode cX7_notes 63 = .ok (.sipush 209, 3) := dk_17 0 209 (dk_at dksX7_notes_2 16 rfl rfl)
theorem dX7_notes_66 : decode cX7_notes 66 = .ok (.aload_n 0, 1) := dk_42 (dk_at dksX7_notes_2 19 rfl rfl)
theorem dX7_notes_67 : decode cX7_notes 67 = .ok (.getfield 227, 3) := dk_180 0 227 (dk_at dksX7_notes_2 20 rfl rfl)
theorem dX7_notes_70 : decode cX7_notes 70 = .ok (.imul, 1) := dk_104 (dk_at dksX7_notes_2 23 rfl rfl)
theorem dX7_notes_71 : decode cX7_notes 71 = .ok (.iload_n 1, 1) := dk_27 (dk_at dksX7_notes_3 0 rfl rfl)
theorem dX7_notes_72 : decode cX7_notes 72 = .ok (.iadd, 1) := dk_96 (dk_at dksX7_notes_3 1 rfl rfl)
theorem dX7_notes_73 : decode cX7_notes 73 = .ok (.aload_n 0, 1) := dk_42 (dk_at dksX7_notes_3 2 rfl rfl)
theorem dX7_notes_74 : decode cX7_notes 74 = .ok (.getfield 25, 3) := dk_180 0 25 (dk_at dksX7_notes_3 3 rfl rfl)
theorem dX7_notes_77 : decode cX7_notes 77 = .ok (.iload_n 1, 1) := dk_27 (dk_at dksX7_notes_3 6 rfl rfl)
theorem dX7_notes_78 : decode cX7_notes 78 = .ok (.iaload, 1) := dk_46 (dk_at dksX7_notes_3 7 rfl rfl)
theorem dX7_notes_79 : decode cX7_notes 79 = .ok (.iastore, 1) := dk_79 (dk_at dksX7_notes_3 8 rfl rfl)
theorem dX7_notes_80 : decode cX7_notes 80 = .ok (.iinc 1 1, 3) := dk_132 1 1 (dk_at dksX7_notes_3 9 rfl rfl)
theorem dX7_notes_83 : decode cX7_notes 83 = .ok (.goto (-31), 3) := dk_167 255 225 (dk_at dksX7_notes_3 12 rfl rfl)
theorem dX7_notes_86 : decode cX7_notes 86 = .ok (.aload_n 0, 1) := dk_42 (dk_at dksX7_notes_3 15 rfl rfl)
theorem dX7_notes_87 : decode cX7_notes 87 = .ok (.dup, 1) := dk_89 (dk_at dksX7_notes_3 16 rfl rfl)
theorem dX7_notes_88 : decode cX7_notes 88 = .ok (.getfield 227, 3) := dk_180 0 227 (dk_at dksX7_notes_3 17 rfl rfl)
theorem dX7_notes_91 : decode cX7_notes 91 = .ok (.iconst 1, 1) := dk_4 (dk_at dksX7_notes_3 20 rfl rfl)
theorem dX7_notes_92 : decode cX7_notes 92 = .ok (.iadd, 1) := dk_96 (dk_at dksX7_notes_3 21 rfl rfl)
theorem dX7_notes_93 : decode cX7_notes 93 = .ok (.putfield 227, 3) := dk_181 0 227 (dk_at dksX7_notes_4 0 rfl rfl)
theorem dX7_notes_96 : decode cX7_notes 96 = .ok (.return_, 1) := dk_177 (dk_at dksX7_notes_4 3 rfl rfl)
abbrev cX7_passes_2 : ByteArray := prog_19_method_44_code
def yX7_passes_2 : MethodName := ⟨RX7, "passes", "(I)I"⟩
def dkwX7_passes_2_2 : List UInt8 := [3, 46, 172]
abbrev dktX7_passes_2_2 : List UInt8 := dkwX7_passes_2_2 ++ []
def dkwX7_passes_2_1 : List UInt8 := [164, 0, 6, 16, 254, 172, 42, 182, 1, 6, 42, 180, 0, 25, 3, 92, 46, 27, 96, 79, 42, 180, 0, 25]
abbrev dktX7_passes_2_1 : List UInt8 := dkwX7_passes_2_1 ++ dktX7_passes_2_2
def dkwX7_passes_2_0 : List UInt8 := [27, 4, 16, 99, 184, 0, 95, 154, 0, 5, 2, 172, 42, 180, 0, 25, 3, 46, 27, 96, 17, 3, 231]
abbrev dktX7_passes_2_0 : List UInt8 := dkwX7_passes_2_0 ++ dktX7_passes_2_1
theorem dksX7_passes_2_0 : cX7_passes_2.data.toList.drop 0 = dktX7_passes_2_0 := by decide +kernel
theorem dksX7_passes_2_1 : cX7_passes_2.data.toList.drop 23 = dktX7_passes_2_1 := dk_seg dksX7_passes_2_0 23 rfl rfl
theorem dksX7_passes_2_2 : cX7_passes_2.data.toList.drop 47 = dktX7_passes_2_2 := dk_seg dksX7_passes_2_1 24 rfl rfl
theorem dX7_passes_2_0 : decode cX7_passes_2 0 = .ok (.iload_n 1, 1) := dk_27 (dk_at dksX7_passes_2_0 0 rfl rfl)
theorem dX7_passes_2_1 : decode cX7_passes_2 1 = .ok (.iconst 1, 1) := dk_4 (dk_at dksX7_passes_2_0 1 rfl rfl)
theorem dX7_passes_2_2 : decode cX7_passes_2 2 = .ok (.bipush 99, 2) := dk_16 99 (dk_at dksX7_passes_2_0 2 rfl rfl)
theorem dX7_passes_2_4 : decode cX7_passes_2 4 = .ok (.invokestatic 95, 3) := dk_184 0 95 (dk_at dksX7_passes_2_0 4 rfl rfl)
theorem dX7_passes_2_7 : decode cX7_passes_2 7 = .ok (.ifCond .ne 5, 3) := dk_154 0 5 (dk_at dksX7_passes_2_0 7 rfl rfl)
theorem dX7_passes_2_10 : decode cX7_passes_2 10 = .ok (.iconst (-1), 1) := dk_2 (dk_at dksX7_passes_2_0 10 rfl rfl)
theorem dX7_passes_2_11 : decode cX7_passes_2 11 = .ok (.ireturn, 1) := dk_172 (dk_at dksX7_passes_2_0 11 rfl rfl)
theorem dX7_passes_2_12 : decode cX7_passes_2 12 = .ok (.aload_n 0, 1) := dk_42 (dk_at dksX7_passes_2_0 12 rfl rfl)
theorem dX7_passes_2_13 : decode cX7_passes_2 13 = .ok (.getfield 25, 3) := dk_180 0 25 (dk_at dksX7_passes_2_0 13 rfl rfl)
theorem dX7_passes_2_16 : decode cX7_passes_2 16 = .ok (.iconst 0, 1) := dk_3 (dk_at dksX7_passes_2_0 16 rfl rfl)
theorem dX7_passes_2_17 : decode cX7_passes_2 17 = .ok (.iaload, 1) := dk_46 (dk_at dksX7_passes_2_0 17 rfl rfl)
theorem dX7_passes_2_18 : decode cX7_passes_2 18 = .ok (.iload_n 1, 1) := dk_27 (dk_at dksX7_passes_2_0 18 rfl rfl)
theorem dX7_passes_2_19 : decode cX7_passes_2 19 = .ok (.iadd, 1) := dk_96 (dk_at dksX7_passes_2_0 19 rfl rfl)
theorem dX7_passes_2_20 : decode cX7_passes_2 20 = .ok (.sipush 999, 3) := dk_17 3 231 (dk_at dksX7_passes_2_0 20 rfl rfl)
theorem dX7_passes_2_23 : decode cX7_passes_2 23 = .ok (.if_icmp .le 6, 3) := dk_164 0 6 (dk_at dksX7_passes_2_1 0 rfl rfl)
theorem dX7_passes_2_26 : decode cX7_passes_2 26 = .ok (.bipush (-2), 2) := dk_16 254 (dk_at dksX7_passes_2_1 3 rfl rfl)
theorem dX7_passes_2_28 : decode cX7_passes_2 28 = .ok (.ireturn, 1) := dk_172 (dk_at dksX7_passes_2_1 5 rfl rfl)
theorem dX7_passes_2_29 : decode cX7_passes_2 29 = .ok (.aload_n 0, 1) := dk_42 (dk_at dksX7_passes_2_1 6 rfl rfl)
theorem dX7_passes_2_30 : decode cX7_passes_2 30 = .ok (.invokevirtual 262, 3) := dk_182 1 6 (dk_at dksX7_passes_2_1 7 rfl rfl)
theorem dX7_passes_2_33 : decode cX7_passes_2 33 = .ok (.aload_n 0, 1) := dk_42 (dk_at dksX7_passes_2_1 10 rfl rfl)
theorem dX7_passes_2_34 : decode cX7_passes_2 34 = .ok (.getfield 25, 3) := dk_180 0 25 (dk_at dksX7_passes_2_1 11 rfl rfl)
theorem dX7_passes_2_37 : decode cX7_passes_2 37 = .ok (.iconst 0, 1) := dk_3 (dk_at dksX7_passes_2_1 14 rfl rfl)
theorem dX7_passes_2_38 : decode cX7_passes_2 38 = .ok (.dup2, 1) := dk_92 (dk_at dksX7_passes_2_1 15 rfl rfl)
theorem dX7_passes_2_39 : decode cX7_passes_2 39 = .ok (.iaload, 1) := dk_46 (dk_at dksX7_passes_2_1 16 rfl rfl)
theorem dX7_passes_2_40 : decode cX7_passes_2 40 = .ok (.iload_n 1, 1) := dk_27 (dk_at dksX7_passes_2_1 17 rfl rfl)
theorem dX7_passes_2_41 : decode cX7_passes_2 41 = .ok (.iadd, 1) := dk_96 (dk_at dksX7_passes_2_1 18 rfl rfl)
theorem dX7_passes_2_42 : decode cX7_passes_2 42 = .ok (.iastore, 1) := dk_79 (dk_at dksX7_passes_2_1 19 rfl rfl)
theorem dX7_passes_2_43 : decode cX7_passes_2 43 = .ok (.aload_n 0, 1) := dk_42 (dk_at dksX7_passes_2_1 20 rfl rfl)
theorem dX7_passes_2_44 : decode cX7_passes_2 44 = .ok (.getfield 25, 3) := dk_180 0 25 (dk_at dksX7_passes_2_1 21 rfl rfl)
theorem dX7_passes_2_47 : decode cX7_passes_2 47 = .ok (.iconst 0, 1) := dk_3 (dk_at dksX7_passes_2_2 0 rfl rfl)
theorem dX7_passes_2_48 : decode cX7_passes_2 48 = .ok (.iaload, 1) := dk_46 (dk_at dksX7_passes_2_2 1 rfl rfl)
theorem dX7_passes_2_49 : decode cX7_passes_2 49 = .ok (.ireturn, 1) := dk_172 (dk_at dksX7_passes_2_2 2 rfl rfl)
abbrev cX7_dumps : ByteArray := prog_19_method_45_code
def yX7_dumps : MethodName := ⟨RX7, "dumps", "(I)I"⟩
def dkwX7_dumps_3 : List UInt8 := [180, 0, 25, 6, 46, 172]
abbrev dktX7_dumps_3 : List UInt8 := dkwX7_dumps_3 ++ []
def dkwX7_dumps_2 : List UInt8 := [180, 0, 25, 42, 180, 0, 25, 6, 46, 4, 100, 184, 1, 0, 4, 96, 42, 180, 0, 25, 3, 46, 79, 42]
abbrev dktX7_dumps_2 : List UInt8 := dkwX7_dumps_2 ++ dktX7_dumps_3
def dkwX7_dumps_1 : List UInt8 := [42, 182, 1, 6, 42, 180, 0, 25, 4, 27, 79, 27, 4, 160, 0, 10, 42, 182, 0, 224, 167, 0, 27, 42]
abbrev dktX7_dumps_1 : List UInt8 := dkwX7_dumps_1 ++ dktX7_dumps_2
def dkwX7_dumps_0 : List UInt8 := [27, 3, 4, 184, 0, 95, 154, 0, 5, 2, 172, 42, 180, 0, 25, 4, 46, 27, 160, 0, 6, 16, 254, 172]
abbrev dktX7_dumps_0 : List UInt8 := dkwX7_dumps_0 ++ dktX7_dumps_1
theorem dksX7_dumps_0 : cX7_dumps.data.toList.drop 0 = dktX7_dumps_0 := by decide +kernel
theorem dksX7_dumps_1 : cX7_dumps.data.toList.drop 24 = dktX7_dumps_1 := dk_seg dksX7_dumps_0 24 rfl rfl
theorem dksX7_dumps_2 : cX7_dumps.data.toList.drop 48 = dktX7_dumps_2 := dk_seg dksX7_dumps_1 24 rfl rfl
theorem dksX7_dumps_3 : cX7_dumps.data.toList.drop 72 = dktX7_dumps_3 := dk_seg dksX7_dumps_2 24 rfl rfl
theorem dX7_dumps_0 : decode cX7_dumps 0 = .ok (.iload_n 1, 1) := dk_27 (dk_at dksX7_dumps_0 0 rfl rfl)
theorem dX7_dumps_1 : decode cX7_dumps 1 = .ok (.iconst 0, 1) := dk_3 (dk_at dksX7_dumps_0 1 rfl rfl)
theorem dX7_dumps_2 : decode cX7_dumps 2 = .ok (.iconst 1, 1) := dk_4 (dk_at dksX7_dumps_0 2 rfl rfl)
theorem dX7_dumps_3 : decode cX7_dumps 3 = .ok (.invokestatic 95, 3) := dk_184 0 95 (dk_at dksX7_dumps_0 3 rfl rfl)
theorem dX7_dumps_6 : decode cX7_dumps 6 = .ok (.ifCond .ne 5, 3) := dk_154 0 5 (dk_at dksX7_dumps_0 6 rfl rfl)
theorem dX7_dumps_9 : decode cX7_dumps 9 = .ok (.iconst (-1), 1) := dk_2 (dk_at dksX7_dumps_0 9 rfl rfl)
theorem dX7_dumps_10 : decode cX7_dumps 10 = .ok (.ireturn, 1) := dk_172 (dk_at dksX7_dumps_0 10 rfl rfl)
theorem dX7_dumps_11 : decode cX7_dumps 11 = .ok (.aload_n 0, 1) := dk_42 (dk_at dksX7_dumps_0 11 rfl rfl)
theorem dX7_dumps_12 : decode cX7_dumps 12 = .ok (.getfield 25, 3) := dk_180 0 25 (dk_at dksX7_dumps_0 12 rfl rfl)
theorem dX7_dumps_15 : decode cX7_dumps 15 = .ok (.iconst 1, 1) := dk_4 (dk_at dksX7_dumps_0 15 rfl rfl)
theorem dX7_dumps_16 : decode cX7_dumps 16 = .ok (.iaload, 1) := dk_46 (dk_at dksX7_dumps_0 16 rfl rfl)
theorem dX7_dumps_17 : decode cX7_dumps 17 = .ok (.iload_n 1, 1) := dk_27 (dk_at dksX7_dumps_0 17 rfl rfl)
theorem dX7_dumps_18 : decode cX7_dumps 18 = .ok (.if_icmp .ne 6, 3) := dk_160 0 6 (dk_at dksX7_dumps_0 18 rfl rfl)
theorem dX7_dumps_21 : decode cX7_dumps 21 = .ok (.bipush (-2), 2) := dk_16 254 (dk_at dksX7_dumps_0 21 rfl rfl)
theorem dX7_dumps_23 : decode cX7_dumps 23 = .ok (.ireturn, 1) := dk_172 (dk_at dksX7_dumps_0 23 rfl rfl)
theorem dX7_dumps_24 : decode cX7_dumps 24 = .ok (.aload_n 0, 1) := dk_42 (dk_at dksX7_dumps_1 0 rfl rfl)
theorem dX7_dumps_25 : decode cX7_dumps 25 = .ok (.invokevirtual 262, 3) := dk_182 1 6 (dk_at dksX7_dumps_1 1 rfl rfl)
theorem dX7_dumps_28 : decode cX7_dumps 28 = .ok (.aload_n 0, 1) := dk_42 (dk_at dksX7_dumps_1 4 rfl rfl)
theorem dX7_dumps_29 : decode cX7_dumps 29 = .ok (.getfield 25, 3) := dk_180 0 25 (dk_at dksX7_dumps_1 5 rfl rfl)
theorem dX7_dumps_32 : decode cX7_dumps 32 = .ok (.iconst 1, 1) := dk_4 (dk_at dksX7_dumps_1 8 rfl rfl)
theorem dX7_dumps_33 : decode cX7_dumps 33 = .ok (.iload_n 1, 1) := dk_27 (dk_at dksX7_dumps_1 9 rfl rfl)
theorem dX7_dumps_34 : decode cX7_dumps 34 = .ok (.iastore, 1) := dk_79 (dk_at dksX7_dumps_1 10 rfl rfl)
theorem dX7_dumps_35 : decode cX7_dumps 35 = .ok (.iload_n 1, 1) := dk_27 (dk_at dksX7_dumps_1 11 rfl rfl)
theorem dX7_dumps_36 : decode cX7_dumps 36 = .ok (.iconst 1, 1) := dk_4 (dk_at dksX7_dumps_1 12 rfl rfl)
theorem dX7_dumps_37 : decode cX7_dumps 37 = .ok (.if_icmp .ne 10, 3) := dk_160 0 10 (dk_at dksX7_dumps_1 13 rfl rfl)
theorem dX7_dumps_40 : decode cX7_dumps 40 = .ok (.aload_n 0, 1) := dk_42 (dk_at dksX7_dumps_1 16 rfl rfl)
theorem dX7_dumps_41 : decode cX7_dumps 41 = .ok (.invokevirtual 224, 3) := dk_182 0 224 (dk_at dksX7_dumps_1 17 rfl rfl)
theorem dX7_dumps_44 : decode cX7_dumps 44 = .ok (.goto 27, 3) := dk_167 0 27 (dk_at dksX7_dumps_1 20 rfl rfl)
theorem dX7_dumps_47 : decode cX7_dumps 47 = .ok (.aload_n 0, 1) := dk_42 (dk_at dksX7_dumps_1 23 rfl rfl)
theorem dX7_dumps_48 : decode cX7_dumps 48 = .ok (.getfield 25, 3) := dk_180 0 25 (dk_at dksX7_dumps_2 0 rfl rfl)
theorem dX7_dumps_51 : decode cX7_dumps 51 = .ok (.aload_n 0, 1) := dk_42 (dk_at dksX7_dumps_2 3 rfl rfl)
theorem dX7_dumps_52 : decode cX7_dumps 52 = .ok (.getfield 25, 3) := dk_180 0 25 (dk_at dksX7_dumps_2 4 rfl rfl)
theorem dX7_dumps_55 : decode cX7_dumps 55 = .ok (.iconst 3, 1) := dk_6 (dk_at dksX7_dumps_2 7 rfl rfl)
theorem dX7_dumps_56 : decode cX7_dumps 56 = .ok (.iaload, 1) := dk_46 (dk_at dksX7_dumps_2 8 rfl rfl)
theorem dX7_dumps_57 : decode cX7_dumps 57 = .ok (.iconst 1, 1) := dk_4 (dk_at dksX7_dumps_2 9 rfl rfl)
theorem dX7_dumps_58 : decode cX7_dumps 58 = .ok (.isub, 1) := dk_100 (dk_at dksX7_dumps_2 10 rfl rfl)
theorem dX7_dumps_59 : decode cX7_dumps 59 = .ok (.invokestatic 256, 3) := dk_184 1 0 (dk_at dksX7_dumps_2 11 rfl rfl)
theorem dX7_dumps_62 : decode cX7_dumps 62 = .ok (.iconst 1, 1) := dk_4 (dk_at dksX7_dumps_2 14 rfl rfl)
theorem dX7_dumps_63 : decode cX7_dumps 63 = .ok (.iadd, 1) := dk_96 (dk_at dksX7_dumps_2 15 rfl rfl)
theorem dX7_dumps_64 : decode cX7_dumps 64 = .ok (.aload_n 0, 1) := dk_42 (dk_at dksX7_dumps_2 16 rfl rfl)
theorem dX7_dumps_65 : decode cX7_dumps 65 = .ok (.getfield 25, 3) := dk_180 0 25 (dk_at dksX7_dumps_2 17 rfl rfl)
theorem dX7_dumps_68 : decode cX7_dumps 68 = .ok (.iconst 0, 1) := dk_3 (dk_at dksX7_dumps_2 20 rfl rfl)
theorem dX7_dumps_69 : decode cX7_dumps 69 = .ok (.iaload, 1) := dk_46 (dk_at dksX7_dumps_2 21 rfl rfl)
theorem dX7_dumps_70 : decode cX7_dumps 70 = .ok (.iastore, 1) := dk_79 (dk_at dksX7_dumps_2 22 rfl rfl)
theorem dX7_dumps_71 : decode cX7_dumps 71 = .ok (.aload_n 0, 1) := dk_42 (dk_at dksX7_dumps_2 23 rfl rfl)
theorem dX7_dumps_72 : decode cX7_dumps 72 = .ok (.getfield 25, 3) := dk_180 0 25 (dk_at dksX7_dumps_3 0 rfl rfl)
theorem dX7_dumps_75 : decode cX7_dumps 75 = .ok (.iconst 3, 1) := dk_6 (dk_at dksX7_dumps_3 3 rfl rfl)
theorem dX7_dumps_76 : decode cX7_dumps 76 = .ok (.iaload, 1) := dk_46 (dk_at dksX7_dumps_3 4 rfl rfl)
theorem dX7_dumps_77 : decode cX7_dumps 77 = .ok (.ireturn, 1) := dk_172 (dk_at dksX7_dumps_3 5 rfl rfl)
abbrev cX7_sizes : ByteArray := prog_19_method_46_code
def yX7_sizes : MethodName := ⟨RX7, "sizes", "(I)I"⟩
def dkwX7_sizes_1 : List UInt8 := [172, 42, 182, 1, 6, 42, 180, 0, 25, 5, 46, 61, 42, 180, 0, 25, 5, 27, 79, 28, 172]
abbrev dktX7_sizes_1 : List UInt8 := dkwX7_sizes_1 ++ []
def dkwX7_sizes_0 : List UInt8 := [27, 4, 16, 8, 184, 0, 95, 154, 0, 5, 2, 172, 42, 180, 0, 25, 5, 46, 27, 160, 0, 6, 16, 254]
abbrev dktX7_sizes_0 : List UInt8 := dkwX7_sizes_0 ++ dktX7_sizes_1
theorem dksX7_sizes_0 : cX7_sizes.data.toList.drop 0 = dktX7_sizes_0 := by decide +kernel
theorem dksX7_sizes_1 : cX7_sizes.data.toList.drop 24 = dktX7_sizes_1 := dk_seg dksX7_sizes_0 24 rfl rfl
theorem dX7_sizes_0 : decode cX7_sizes 0 = .ok (.iload_n 1, 1) := dk_27 (dk_at dksX7_sizes_0 0 rfl rfl)
theorem dX7_sizes_1 : decode cX7_sizes 1 = .ok (.iconst 1, 1) := dk_4 (dk_at dksX7_sizes_0 1 rfl rfl)
theorem dX7_sizes_2 : decode cX7_sizes 2 = .ok (.bipush 8, 2) := dk_16 8 (dk_at dksX7_sizes_0 2 rfl rfl)
theorem dX7_sizes_4 : decode cX7_sizes 4 = .ok (.invokestatic 95, 3) := dk_184 0 95 (dk_at dksX7_sizes_0 4 rfl rfl)
theorem dX7_sizes_7 : decode cX7_sizes 7 = .ok (.ifCond .ne 5, 3) := dk_154 0 5 (dk_at dksX7_sizes_0 7 rfl rfl)
theorem dX7_sizes_10 : decode cX7_sizes 10 = .ok (.iconst (-1), 1) := dk_2 (dk_at dksX7_sizes_0 10 rfl rfl)
theorem dX7_sizes_11 : decode cX7_sizes 11 = .ok (.ireturn, 1) := dk_172 (dk_at dksX7_sizes_0 11 rfl rfl)
theorem dX7_sizes_12 : decode cX7_sizes 12 = .ok (.aload_n 0, 1) := dk_42 (dk_at dksX7_sizes_0 12 rfl rfl)
theorem dX7_sizes_13 : decode cX7_sizes 13 = .ok (.getfield 25, 3) := dk_180 0 25 (dk_at dksX7_sizes_0 13 rfl rfl)
theorem dX7_sizes_16 : decode cX7_sizes 16 = .ok (.iconst 2, 1) := dk_5 (dk_at dksX7_sizes_0 16 rfl rfl)
theorem dX7_sizes_17 : decode cX7_sizes 17 = .ok (.iaload, 1) := dk_46 (dk_at dksX7_sizes_0 17 rfl rfl)
theorem dX7_sizes_18 : decode cX7_sizes 18 = .ok (.iload_n 1, 1) := dk_27 (dk_at dksX7_sizes_0 18 rfl rfl)
theorem dX7_sizes_19 : decode cX7_sizes 19 = .ok (.if_icmp .ne 6, 3) := dk_160 0 6 (dk_at dksX7_sizes_0 19 rfl rfl)
theorem dX7_sizes_22 : decode cX7_sizes 22 = .ok (.bipush (-2), 2) := dk_16 254 (dk_at dksX7_sizes_0 22 rfl rfl)
theorem dX7_sizes_24 : decode cX7_sizes 24 = .ok (.ireturn, 1) := dk_172 (dk_at dksX7_sizes_1 0 rfl rfl)
theorem dX7_sizes_25 : decode cX7_sizes 25 = .ok (.aload_n 0, 1) := dk_42 (dk_at dksX7_sizes_1 1 rfl rfl)
theorem dX7_sizes_26 : decode cX7_sizes 26 = .ok (.invokevirtual 262, 3) := dk_182 1 6 (dk_at dksX7_sizes_1 2 rfl rfl)
theorem dX7_sizes_29 : decode cX7_sizes 29 = .ok (.aload_n 0, 1) := dk_42 (dk_at dksX7_sizes_1 5 rfl rfl)
theorem dX7_sizes_30 : decode cX7_sizes 30 = .ok (.getfield 25, 3) := dk_180 0 25 (dk_at dksX7_sizes_1 6 rfl rfl)
theorem dX7_sizes_33 : decode cX7_sizes 33 = .ok (.iconst 2, 1) := dk_5 (dk_at dksX7_sizes_1 9 rfl rfl)
theorem dX7_sizes_34 : decode cX7_sizes 34 = .ok (.iaload, 1) := dk_46 (dk_at dksX7_sizes_1 10 rfl rfl)
theorem dX7_sizes_35 : decode cX7_sizes 35 = .ok (.istore_n 2, 1) := dk_61 (dk_at dksX7_sizes_1 11 rfl rfl)
theorem dX7_sizes_36 : decode cX7_sizes 36 = .ok (.aload_n 0, 1) := dk_42 (dk_at dksX7_sizes_1 12 rfl rfl)
theorem dX7_sizes_37 : decode cX7_sizes 37 = .ok (.getfield 25, 3) := dk_180 0 25 (dk_at dksX7_sizes_1 13 rfl rfl)
theorem dX7_sizes_40 : decode cX7_sizes 40 = .ok (.iconst 2, 1) := dk_5 (dk_at dksX7_sizes_1 16 rfl rfl)
theorem dX7_sizes_41 : decode cX7_sizes 41 = .ok (.iload_n 1, 1) := dk_27 (dk_at dksX7_sizes_1 17 rfl rfl)
theorem dX7_sizes_42 : decode cX7_sizes 42 = .ok (.iastore, 1) := dk_79 (dk_at dksX7_sizes_1 18 rfl rfl)
theorem dX7_sizes_43 : decode cX7_sizes 43 = .ok (.iload_n 2, 1) := dk_28 (dk_at dksX7_sizes_1 19 rfl rfl)
theorem dX7_sizes_44 : decode cX7_sizes 44 = .ok (.ireturn, 1) := dk_172 (dk_at dksX7_sizes_1 20 rfl rfl)
abbrev cX7_undo : ByteArray := prog_19_method_47_code
def yX7_undo : MethodName := ⟨RX7, "undo", "()I"⟩
def dkwX7_undo_2 : List UInt8 := [96, 46, 79, 132, 1, 1, 167, 255, 225, 42, 180, 0, 227, 172]
abbrev dktX7_undo_2 : List UInt8 := dkwX7_undo_2 ++ []
def dkwX7_undo_1 : List UInt8 := [17, 0, 209, 162, 0, 30, 42, 180, 0, 25, 27, 42, 180, 0, 28, 17, 0, 209, 42, 180, 0, 227, 104, 27]
abbrev dktX7_undo_1 : List UInt8 := dkwX7_undo_1 ++ dktX7_undo_2
def dkwX7_undo_0 : List UInt8 := [42, 180, 0, 227, 154, 0, 6, 16, 254, 172, 42, 89, 180, 0, 227, 4, 100, 181, 0, 227, 3, 60, 27]
abbrev dktX7_undo_0 : List UInt8 := dkwX7_undo_0 ++ dktX7_undo_1
theorem dksX7_undo_0 : cX7_undo.data.toList.drop 0 = dktX7_undo_0 := by decide +kernel
theorem dksX7_undo_1 : cX7_undo.data.toList.drop 23 = dktX7_undo_1 := dk_seg dksX7_undo_0 23 rfl rfl
theorem dksX7_undo_2 : cX7_undo.data.toList.drop 47 = dktX7_undo_2 := dk_seg dksX7_undo_1 24 rfl rfl
theorem dX7_undo_0 : decode cX7_undo 0 = .ok (.aload_n 0, 1) := dk_42 (dk_at dksX7_undo_0 0 rfl rfl)
theorem dX7_undo_1 : decode cX7_undo 1 = .ok (.getfield 227, 3) := dk_180 0 227 (dk_at dksX7_undo_0 1 rfl rfl)
theorem dX7_undo_4 : decode cX7_undo 4 = .ok (.ifCond .ne 6, 3) := dk_154 0 6 (dk_at dksX7_undo_0 4 rfl rfl)
theorem dX7_undo_7 : decode cX7_undo 7 = .ok (.bipush (-2), 2) := dk_16 254 (dk_at dksX7_undo_0 7 rfl rfl)
theorem dX7_undo_9 : decode cX7_undo 9 = .ok (.ireturn, 1) := dk_172 (dk_at dksX7_undo_0 9 rfl rfl)
theorem dX7_undo_10 : decode cX7_undo 10 = .ok (.aload_n 0, 1) := dk_42 (dk_at dksX7_undo_0 10 rfl rfl)
theorem dX7_undo_11 : decode cX7_undo 11 = .ok (.dup, 1) := dk_89 (dk_at dksX7_undo_0 11 rfl rfl)
theorem dX7_undo_12 : decode cX7_undo 12 = .ok (.getfield 227, 3) := dk_180 0 227 (dk_at dksX7_undo_0 12 rfl rfl)
theorem dX7_undo_15 : decode cX7_undo 15 = .ok (.iconst 1, 1) := dk_4 (dk_at dksX7_undo_0 15 rfl rfl)
theorem dX7_undo_16 : decode cX7_undo 16 = .ok (.isub, 1) := dk_100 (dk_at dksX7_undo_0 16 rfl rfl)
theorem dX7_undo_17 : decode cX7_undo 17 = .ok (.putfield 227, 3) := dk_181 0 227 (dk_at dksX7_undo_0 17 rfl rfl)
theorem dX7_undo_20 : decode cX7_undo 20 = .ok (.iconst 0, 1) := dk_3 (dk_at dksX7_undo_0 20 rfl rfl)
theorem dX7_undo_21 : decode cX7_undo 21 = .ok (.istore_n 1, 1) := dk_60 (dk_at dksX7_undo_0 21 rfl rfl)
theorem dX7_undo_22 : decode cX7_undo 22 = .ok (.iload_n 1, 1) := dk_27 (dk_at dksX7_undo_0 22 rfl rfl)
theorem dX7_undo_23 : decode cX7_undo 23 = .ok (.sipush 209, 3) := dk_17 0 209 (dk_at dksX7_undo_1 0 rfl rfl)
theorem dX7_undo_26 : decode cX7_undo 26 = .ok (.if_icmp .ge 30, 3) := dk_162 0 30 (dk_at dksX7_undo_1 3 rfl rfl)
theorem dX7_undo_29 : decode cX7_undo 29 = .ok (.aload_n 0, 1) := dk_42 (dk_at dksX7_undo_1 6 rfl rfl)
theorem dX7_undo_30 : decode cX7_undo 30 = .ok (.getfield 25, 3) := dk_180 0 25 (dk_at dksX7_undo_1 7 rfl rfl)
theorem dX7_undo_33 : decode cX7_undo 33 = .ok (.iload_n 1, 1) := dk_27 (dk_at dksX7_undo_1 10 rfl rfl)
theorem dX7_undo_34 : decode cX7_undo 34 = .ok (.aload_n 0, 1) := dk_42 (dk_at dksX7_undo_1 11 rfl rfl)
theorem dX7_undo_35 : decode cX7_undo 35 = .ok (.getfield 28, 3) := dk_180 0 28 (dk_at dksX7_undo_1 12 rfl rfl)
theorem dX7_undo_38 : decode cX7_undo 38 = .ok (.sipush 209, 3) := dk_17 0 209 (dk_at dksX7_undo_1 15 rfl rfl)
theorem dX7_undo_41 : decode cX7_undo 41 = .ok (.aload_n 0, 1) := dk_42 (dk_at dksX7_undo_1 18 rfl rfl)
theorem dX7_undo_42 : decode cX7_undo 42 = .ok (.getfield 227, 3) := dk_180 0 227 (dk_at dksX7_undo_1 19 rfl rfl)
theorem dX7_undo_45 : decode cX7_undo 45 = .ok (.imul, 1) := dk_104 (dk_at dksX7_undo_1 22 rfl rfl)
theorem dX7_undo_46 : decode cX7_undo 46 = .ok (.iload_n 1, 1) := dk_27 (dk_at dksX7_undo_1 23 rfl rfl)
theorem dX7_undo_47 : decode cX7_undo 47 = .ok (.iadd, 1) := dk_96 (dk_at dksX7_undo_2 0 rfl rfl)
theorem dX7_undo_48 : decode cX7_undo 48 = .ok (.iaload, 1) := dk_46 (dk_at dksX7_undo_2 1 rfl rfl)
theorem dX7_undo_49 : decode cX7_undo 49 = .ok (.iastore, 1) := dk_79 (dk_at dksX7_undo_2 2 rfl rfl)
theorem dX7_undo_50 : decode cX7_undo 50 = .ok (.iinc 1 1, 3) := dk_132 1 1 (dk_at dksX7_undo_2 3 rfl rfl)
theorem dX7_undo_53 : decode cX7_undo 53 = .ok (.goto (-31), 3) := dk_167 255 225 (dk_at dksX7_undo_2 6 rfl rfl)
theorem dX7_undo_56 : decode cX7_undo 56 = .ok (.aload_n 0, 1) := dk_42 (dk_at dksX7_undo_2 9 rfl rfl)
theorem dX7_undo_57 : decode cX7_undo 57 = .ok (.getfield 227, 3) := dk_180 0 227 (dk_at dksX7_undo_2 10 rfl rfl)
theorem dX7_undo_60 : decode cX7_undo 60 = .ok (.ireturn, 1) := dk_172 (dk_at dksX7_undo_2 13 rfl rfl)
abbrev cX7_at : ByteArray := prog_19_method_51_code
def yX7_at : MethodName := ⟨RX7, "at", "(II)I"⟩
def dkwX7_at_1 : List UInt8 := [180, 0, 59, 27, 46, 172]
abbrev dktX7_at_1 : List UInt8 := dkwX7_at_1 ++ []
def dkwX7_at_0 : List UInt8 := [42, 27, 182, 0, 250, 153, 0, 11, 42, 28, 182, 1, 12, 154, 0, 5, 2, 172, 42, 28, 182, 1, 15, 42]
abbrev dktX7_at_0 : List UInt8 := dkwX7_at_0 ++ dktX7_at_1
theorem dksX7_at_0 : cX7_at.data.toList.drop 0 = dktX7_at_0 := by decide +kernel
theorem dksX7_at_1 : cX7_at.data.toList.drop 24 = dktX7_at_1 := dk_seg dksX7_at_0 24 rfl rfl
theorem dX7_at_0 : decode cX7_at 0 = .ok (.aload_n 0, 1) := dk_42 (dk_at dksX7_at_0 0 rfl rfl)
theorem dX7_at_1 : decode cX7_at 1 = .ok (.iload_n 1, 1) := dk_27 (dk_at dksX7_at_0 1 rfl rfl)
theorem dX7_at_2 : decode cX7_at 2 = .ok (.invokevirtual 250, 3) := dk_182 0 250 (dk_at dksX7_at_0 2 rfl rfl)
theorem dX7_at_5 : decode cX7_at 5 = .ok (.ifCond .eq 11, 3) := dk_153 0 11 (dk_at dksX7_at_0 5 rfl rfl)
theorem dX7_at_8 : decode cX7_at 8 = .ok (.aload_n 0, 1) := dk_42 (dk_at dksX7_at_0 8 rfl rfl)
theorem dX7_at_9 : decode cX7_at 9 = .ok (.iload_n 2, 1) := dk_28 (dk_at dksX7_at_0 9 rfl rfl)
theorem dX7_at_10 : decode cX7_at 10 = .ok (.invokevirtual 268, 3) := dk_182 1 12 (dk_at dksX7_at_0 10 rfl rfl)
theorem dX7_at_13 : decode cX7_at 13 = .ok (.ifCond .ne 5, 3) := dk_154 0 5 (dk_at dksX7_at_0 13 rfl rfl)
theorem dX7_at_16 : decode cX7_at 16 = .ok (.iconst (-1), 1) := dk_2 (dk_at dksX7_at_0 16 rfl rfl)
theorem dX7_at_17 : decode cX7_at 17 = .ok (.ireturn, 1) := dk_172 (dk_at dksX7_at_0 17 rfl rfl)
theorem dX7_at_18 : decode cX7_at 18 = .ok (.aload_n 0, 1) := dk_42 (dk_at dksX7_at_0 18 rfl rfl)
theorem dX7_at_19 : decode cX7_at 19 = .ok (.iload_n 2, 1) := dk_28 (dk_at dksX7_at_0 19 rfl rfl)
theorem dX7_at_20 : decode cX7_at 20 = .ok (.invokevirtual 271, 3) := dk_182 1 15 (dk_at dksX7_at_0 20 rfl rfl)
theorem dX7_at_23 : decode cX7_at 23 = .ok (.aload_n 0, 1) := dk_42 (dk_at dksX7_at_0 23 rfl rfl)
theorem dX7_at_24 : decode cX7_at 24 = .ok (.getfield 59, 3) := dk_180 0 59 (dk_at dksX7_at_1 0 rfl rfl)
theorem dX7_at_27 : decode cX7_at 27 = .ok (.iload_n 1, 1) := dk_27 (dk_at dksX7_at_1 3 rfl rfl)
theorem dX7_at_28 : decode cX7_at 28 = .ok (.iaload, 1) := dk_46 (dk_at dksX7_at_1 4 rfl rfl)
theorem dX7_at_29 : decode cX7_at 29 = .ok (.ireturn, 1) := dk_172 (dk_at dksX7_at_1 5 rfl rfl)
abbrev cX7_isTime : ByteArray := prog_19_method_48_code
def yX7_isTime : MethodName := ⟨RX7, "isTime", "(I)Z"⟩
def dkwX7_isTime_0 : List UInt8 := [27, 3, 42, 180, 0, 25, 3, 46, 184, 0, 95, 172]
abbrev dktX7_isTime_0 : List UInt8 := dkwX7_isTime_0 ++ []
theorem dksX7_isTime_0 : cX7_isTime.data.toList.drop 0 = dktX7_isTime_0 := by decide +kernel
theorem dX7_isTime_0 : decode cX7_isTime 0 = .ok (.iload_n 1, 1) := dk_27 (dk_at dksX7_isTime_0 0 rfl rfl)
theorem dX7_isTime_1 : decode cX7_isTime 1 = .ok (.iconst 0, 1) := dk_3 (dk_at dksX7_isTime_0 1 rfl rfl)
theorem dX7_isTime_2 : decode cX7_isTime 2 = .ok (.aload_n 0, 1) := dk_42 (dk_at dksX7_isTime_0 2 rfl rfl)
theorem dX7_isTime_3 : decode cX7_isTime 3 = .ok (.getfield 25, 3) := dk_180 0 25 (dk_at dksX7_isTime_0 3 rfl rfl)
theorem dX7_isTime_6 : decode cX7_isTime 6 = .ok (.iconst 0, 1) := dk_3 (dk_at dksX7_isTime_0 6 rfl rfl)
theorem dX7_isTime_7 : decode cX7_isTime 7 = .ok (.iaload, 1) := dk_46 (dk_at dksX7_isTime_0 7 rfl rfl)
theorem dX7_isTime_8 : decode cX7_isTime 8 = .ok (.invokestatic 95, 3) := dk_184 0 95 (dk_at dksX7_isTime_0 8 rfl rfl)
theorem dX7_isTime_11 : decode cX7_isTime 11 = .ok (.ireturn, 1) := dk_172 (dk_at dksX7_isTime_0 11 rfl rfl)
abbrev cX7_laysAt : ByteArray := prog_19_method_50_code
def yX7_laysAt : MethodName := ⟨RX7, "laysAt", "(I)V"⟩
def dkwX7_laysAt_5 : List UInt8 := [5, 96, 46, 79, 132, 3, 1, 167, 255, 185, 42, 182, 0, 253, 177]
abbrev dktX7_laysAt_5 : List UInt8 := dkwX7_laysAt_5 ++ []
def dkwX7_laysAt_4 : List UInt8 := [46, 27, 163, 0, 26, 42, 180, 0, 65, 42, 180, 0, 25, 21, 4, 4, 96, 46, 42, 180, 0, 25, 21, 4]
abbrev dktX7_laysAt_4 : List UInt8 := dkwX7_laysAt_4 ++ dktX7_laysAt_5
def dkwX7_laysAt_3 : List UInt8 := [96, 46, 162, 0, 56, 28, 184, 1, 0, 16, 9, 96, 6, 29, 104, 96, 54, 4, 42, 180, 0, 25, 21, 4]
abbrev dktX7_laysAt_3 : List UInt8 := dkwX7_laysAt_3 ++ dktX7_laysAt_4
def dkwX7_laysAt_2 : List UInt8 := [132, 3, 1, 167, 255, 217, 3, 62, 28, 16, 247, 159, 0, 71, 29, 42, 180, 0, 25, 28, 184, 1, 0, 5]
abbrev dktX7_laysAt_2 : List UInt8 := dkwX7_laysAt_2 ++ dktX7_laysAt_3
def dkwX7_laysAt_1 : List UInt8 := [160, 0, 8, 16, 249, 167, 0, 16, 42, 180, 0, 25, 28, 184, 1, 0, 6, 96, 29, 96, 46, 79]
abbrev dktX7_laysAt_1 : List UInt8 := dkwX7_laysAt_1 ++ dktX7_laysAt_2
def dkwX7_laysAt_0 : List UInt8 := [42, 27, 182, 1, 9, 61, 3, 62, 29, 16, 6, 162, 0, 39, 42, 180, 0, 65, 29, 28, 16, 247]
abbrev dktX7_laysAt_0 : List UInt8 := dkwX7_laysAt_0 ++ dktX7_laysAt_1
theorem dksX7_laysAt_0 : cX7_laysAt.data.toList.drop 0 = dktX7_laysAt_0 := by decide +kernel
theorem dksX7_laysAt_1 : cX7_laysAt.data.toList.drop 22 = dktX7_laysAt_1 := dk_seg dksX7_laysAt_0 22 rfl rfl
theorem dksX7_laysAt_2 : cX7_laysAt.data.toList.drop 44 = dktX7_laysAt_2 := dk_seg dksX7_laysAt_1 22 rfl rfl
theorem dksX7_laysAt_3 : cX7_laysAt.data.toList.drop 68 = dktX7_laysAt_3 := dk_seg dksX7_laysAt_2 24 rfl rfl
theorem dksX7_laysAt_4 : cX7_laysAt.data.toList.drop 92 = dktX7_laysAt_4 := dk_seg dksX7_laysAt_3 24 rfl rfl
theorem dksX7_laysAt_5 : cX7_laysAt.data.toList.drop 116 = dktX7_laysAt_5 := dk_seg dksX7_laysAt_4 24 rfl rfl
theorem dX7_laysAt_0 : decode cX7_laysAt 0 = .ok (.aload_n 0, 1) := dk_42 (dk_at dksX7_laysAt_0 0 rfl rfl)
theorem dX7_laysAt_1 : decode cX7_laysAt 1 = .ok (.iload_n 1, 1) := dk_27 (dk_at dksX7_laysAt_0 1 rfl rfl)
theorem dX7_laysAt_2 : decode cX7_laysAt 2 = .ok (.invokevirtual 265, 3) := dk_182 1 9 (dk_at dksX7_laysAt_0 2 rfl rfl)
theorem dX7_laysAt_5 : decode cX7_laysAt 5 = .ok (.istore_n 2, 1) := dk_61 (dk_at dksX7_laysAt_0 5 rfl rfl)
theorem dX7_laysAt_6 : decode cX7_laysAt 6 = .ok (.iconst 0, 1) := dk_3 (dk_at dksX7_laysAt_0 6 rfl rfl)
theorem dX7_laysAt_7 : decode cX7_laysAt 7 = .ok (.istore_n 3, 1) := dk_62 (dk_at dksX7_laysAt_0 7 rfl rfl)
theorem dX7_laysAt_8 : decode cX7_laysAt 8 = .ok (.iload_n 3, 1) := dk_29 (dk_at dksX7_laysAt_0 8 rfl rfl)
theorem dX7_laysAt_9 : decode cX7_laysAt 9 = .ok (.bipush 6, 2) := dk_16 6 (dk_at dksX7_laysAt_0 9 rfl rfl)
theorem dX7_laysAt_11 : decode cX7_laysAt 11 = .ok (.if_icmp .ge 39, 3) := dk_162 0 39 (dk_at dksX7_laysAt_0 11 rfl rfl)
theorem dX7_laysAt_14 : decode cX7_laysAt 14 = .ok (.aload_n 0, 1) := dk_42 (dk_at dksX7_laysAt_0 14 rfl rfl)
theorem dX7_laysAt_15 : decode cX7_laysAt 15 = .ok (.getfield 65, 3) := dk_180 0 65 (dk_at dksX7_laysAt_0 15 rfl rfl)
theorem dX7_laysAt_18 : decode cX7_laysAt 18 = .ok (.iload_n 3, 1) := dk_29 (dk_at dksX7_laysAt_0 18 rfl rfl)
theorem dX7_laysAt_19 : decode cX7_laysAt 19 = .ok (.iload_n 2, 1) := dk_28 (dk_at dksX7_laysAt_0 19 rfl rfl)
theorem dX7_laysAt_20 : decode cX7_laysAt 20 = .ok (.bipush (-9), 2) := dk_16 247 (dk_at dksX7_laysAt_0 20 rfl rfl)
theorem dX7_laysAt_22 : decode cX7_laysAt 22 = .ok (.if_icmp .ne 8, 3) := dk_160 0 8 (dk_at dksX7_laysAt_1 0 rfl rfl)
theorem dX7_laysAt_25 : decode cX7_laysAt 25 = .ok (.bipush (-7), 2) := dk_16 249 (dk_at dksX7_laysAt_1 3 rfl rfl)
theorem dX7_laysAt_27 : decode cX7_laysAt 27 = .ok (.goto 16, 3) := dk_167 0 16 (dk_at dksX7_laysAt_1 5 rfl rfl)
theorem dX7_laysAt_30 : decode cX7_laysAt 30 = .ok (.aload_n 0, 1) := dk_42 (dk_at dksX7_laysAt_1 8 rfl rfl)
theorem dX7_laysAt_31 : decode cX7_laysAt 31 = .ok (.getfield 25, 3) := dk_180 0 25 (dk_at dksX7_laysAt_1 9 rfl rfl)
theorem dX7_laysAt_34 : decode cX7_laysAt 34 = .ok (.iload_n 2, 1) := dk_28 (dk_at dksX7_laysAt_1 12 rfl rfl)
theorem dX7_laysAt_35 : decode cX7_laysAt 35 = .ok (.invokestatic 256, 3) := dk_184 1 0 (dk_at dksX7_laysAt_1 13 rfl rfl)
theorem dX7_laysAt_38 : decode cX7_laysAt 38 = .ok (.iconst 3, 1) := dk_6 (dk_at dksX7_laysAt_1 16 rfl rfl)
theorem dX7_laysAt_39 : decode cX7_laysAt 39 = .ok (.iadd, 1) := dk_96 (dk_at dksX7_laysAt_1 17 rfl rfl)
theorem dX7_laysAt_40 : decode cX7_laysAt 40 = .ok (.iload_n 3, 1) := dk_29 (dk_at dksX7_laysAt_1 18 rfl rfl)
theorem dX7_laysAt_41 : decode cX7_laysAt 41 = .ok (.iadd, 1) := dk_96 (dk_at dksX7_laysAt_1 19 rfl rfl)
theorem dX7_laysAt_42 : decode cX7_laysAt 42 = .ok (.iaload, 1) := dk_46 (dk_at dksX7_laysAt_1 20 rfl rfl)
theorem dX7_laysAt_43 : decode cX7_laysAt 43 = .ok (.iastore, 1) := dk_79 (dk_at dksX7_laysAt_1 21 rfl rfl)
theorem dX7_laysAt_44 : decode cX7_laysAt 44 = .ok (.iinc 3 1, 3) := dk_132 3 1 (dk_at dksX7_laysAt_2 0 rfl rfl)
theorem dX7_laysAt_47 : decode cX7_laysAt 47 = .ok (.goto (-39), 3) := dk_167 255 217 (dk_at dksX7_laysAt_2 3 rfl rfl)
theorem dX7_laysAt_50 : decode cX7_laysAt 50 = .ok (.iconst 0, 1) := dk_3 (dk_at dksX7_laysAt_2 6 rfl rfl)
theorem dX7_laysAt_51 : decode cX7_laysAt 51 = .ok (.istore_n 3, 1) := dk_62 (dk_at dksX7_laysAt_2 7 rfl rfl)
theorem dX7_laysAt_52 : decode cX7_laysAt 52 = .ok (.iload_n 2, 1) := dk_28 (dk_at dksX7_laysAt_2 8 rfl rfl)
theorem dX7_laysAt_53 : decode cX7_laysAt 53 = .ok (.bipush (-9), 2) := dk_16 247 (dk_at dksX7_laysAt_2 9 rfl rfl)
theorem dX7_laysAt_55 : decode cX7_laysAt 55 = .ok (.if_icmp .eq 71, 3) := dk_159 0 71 (dk_at dksX7_laysAt_2 11 rfl rfl)
theorem dX7_laysAt_58 : decode cX7_laysAt 58 = .ok (.iload_n 3, 1) := dk_29 (dk_at dksX7_laysAt_2 14 rfl rfl)
theorem dX7_laysAt_59 : decode cX7_laysAt 59 = .ok (.aload_n 0, 1) := dk_42 (dk_at dksX7_laysAt_2 15 rfl rfl)
theorem dX7_laysAt_60 : decode cX7_laysAt 60 = .ok (.getfield 25, 3) := dk_180 0 25 (dk_at dksX7_laysAt_2 16 rfl rfl)
theorem dX7_laysAt_63 : decode cX7_laysAt 63 = .ok (.iload_n 2, 1) := dk_28 (dk_at dksX7_laysAt_2 19 rfl rfl)
theorem dX7_laysAt_64 : decode cX7_laysAt 64 = .ok (.invokestatic 256, 3) := dk_184 1 0 (dk_at dksX7_laysAt_2 20 rfl rfl)
theorem dX7_laysAt_67 : decode cX7_laysAt 67 = .ok (.iconst 2, 1) := dk_5 (dk_at dksX7_laysAt_2 23 rfl rfl)
theorem dX7_laysAt_68 : decode cX7_laysAt 68 = .ok (.iadd, 1) := dk_96 (dk_at dksX7_laysAt_3 0 rfl rfl)
theorem dX7_laysAt_69 : decode cX7_laysAt 69 = .ok (.iaload, 1) := dk_46 (dk_at dksX7_laysAt_3 1 rfl rfl)
theorem dX7_laysAt_70 : decode cX7_laysAt 70 = .ok (.if_icmp .ge 56, 3) := dk_162 0 56 (dk_at dksX7_laysAt_3 2 rfl rfl)
theorem dX7_laysAt_73 : decode cX7_laysAt 73 = .ok (.iload_n 2, 1) := dk_28 (dk_at dksX7_laysAt_3 5 rfl rfl)
theorem dX7_laysAt_74 : decode cX7_laysAt 74 = .ok (.invokestatic 256, 3) := dk_184 1 0 (dk_at dksX7_laysAt_3 6 rfl rfl)
theorem dX7_laysAt_77 : decode cX7_laysAt 77 = .ok (.bipush 9, 2) := dk_16 9 (dk_at dksX7_laysAt_3 9 rfl rfl)
theorem dX7_laysAt_79 : decode cX7_laysAt 79 = .ok (.iadd, 1) := dk_96 (dk_at dksX7_laysAt_3 11 rfl rfl)
theorem dX7_laysAt_80 : decode cX7_laysAt 80 = .ok (.iconst 3, 1) := dk_6 (dk_at dksX7_laysAt_3 12 rfl rfl)
theorem dX7_laysAt_81 : decode cX7_laysAt 81 = .ok (.iload_n 3, 1) := dk_29 (dk_at dksX7_laysAt_3 13 rfl rfl)
theorem dX7_laysAt_82 : decode cX7_laysAt 82 = .ok (.imul, 1) := dk_104 (dk_at dksX7_laysAt_3 14 rfl rfl)
theorem dX7_laysAt_83 : decode cX7_laysAt 83 = .ok (.iadd, 1) := dk_96 (dk_at dksX7_laysAt_3 15 rfl rfl)
theorem dX7_laysAt_84 : decode cX7_laysAt 84 = .ok (.istore 4, 2) := dk_54 4 (dk_at dksX7_laysAt_3 16 rfl rfl)
theorem dX7_laysAt_86 : decode cX7_laysAt 86 = .ok (.aload_n 0, 1) := dk_42 (dk_at dksX7_laysAt_3 18 rfl rfl)
theorem dX7_laysAt_87 : decode cX7_laysAt 87 = .ok (.getfield 25, 3) := dk_180 0 25 (dk_at dksX7_laysAt_3 19 rfl rfl)
theorem dX7_laysAt_90 : decode cX7_laysAt 90 = .ok (.iload 4, 2) := dk_21 4 (dk_at dksX7_laysAt_3 22 rfl rfl)
theorem dX7_laysAt_92 : decode cX7_laysAt 92 = .ok (.iaload, 1) := dk_46 (dk_at dksX7_laysAt_4 0 rfl rfl)
theorem dX7_laysAt_93 : decode cX7_laysAt 93 = .ok (.iload_n 1, 1) := dk_27 (dk_at dksX7_laysAt_4 1 rfl rfl)
theorem dX7_laysAt_94 : decode cX7_laysAt 94 = .ok (.if_icmp .gt 26, 3) := dk_163 0 26 (dk_at dksX7_laysAt_4 2 rfl rfl)
theorem dX7_laysAt_97 : decode cX7_laysAt 97 = .ok (.aload_n 0, 1) := dk_42 (dk_at dksX7_laysAt_4 5 rfl rfl)
theorem dX7_laysAt_98 : decode cX7_laysAt 98 = .ok (.getfield 65, 3) := dk_180 0 65 (dk_at dksX7_laysAt_4 6 rfl rfl)
theorem dX7_laysAt_101 : decode cX7_laysAt 101 = .ok (.aload_n 0, 1) := dk_42 (dk_at dksX7_laysAt_4 9 rfl rfl)
theorem dX7_laysAt_102 : decode cX7_laysAt 102 = .ok (.getfield 25, 3) := dk_180 0 25 (dk_at dksX7_laysAt_4 10 rfl rfl)
theorem dX7_laysAt_105 : decode cX7_laysAt 105 = .ok (.iload 4, 2) := dk_21 4 (dk_at dksX7_laysAt_4 13 rfl rfl)
theorem dX7_laysAt_107 : decode cX7_laysAt 107 = .ok (.iconst 1, 1) := dk_4 (dk_at dksX7_laysAt_4 15 rfl rfl)
theorem dX7_laysAt_108 : decode cX7_laysAt 108 = .ok (.iadd, 1) := dk_96 (dk_at dksX7_laysAt_4 16 rfl rfl)
theorem dX7_laysAt_109 : decode cX7_laysAt 109 = .ok (.iaload, 1) := dk_46 (dk_at dksX7_laysAt_4 17 rfl rfl)
theorem dX7_laysAt_110 : decode cX7_laysAt 110 = .ok (.aload_n 0, 1) := dk_42 (dk_at dksX7_laysAt_4 18 rfl rfl)
theorem dX7_laysAt_111 : decode cX7_laysAt 111 = .ok (.getfield 25, 3) := dk_180 0 25 (dk_at dksX7_laysAt_4 19 rfl rfl)
theorem dX7_laysAt_114 : decode cX7_laysAt 114 = .ok (.iload 4, 2) := dk_21 4 (dk_at dksX7_laysAt_4 22 rfl rfl)
theorem dX7_laysAt_116 : decode cX7_laysAt 116 = .ok (.iconst 2, 1) := dk_5 (dk_at dksX7_laysAt_5 0 rfl rfl)
theorem dX7_laysAt_117 : decode cX7_laysAt 117 = .ok (.iadd, 1) := dk_96 (dk_at dksX7_laysAt_5 1 rfl rfl)
theorem dX7_laysAt_118 : decode cX7_laysAt 118 = .ok (.iaload, 1) := dk_46 (dk_at dksX7_laysAt_5 2 rfl rfl)
theorem dX7_laysAt_119 : decode cX7_laysAt 119 = .ok (.iastore, 1) := dk_79 (dk_at dksX7_laysAt_5 3 rfl rfl)
theorem dX7_laysAt_120 : decode cX7_laysAt 120 = .ok (.iinc 3 1, 3) := dk_132 3 1 (dk_at dksX7_laysAt_5 4 rfl rfl)
theorem dX7_laysAt_123 : decode cX7_laysAt 123 = .ok (.goto (-71), 3) := dk_167 255 185 (dk_at dksX7_laysAt_5 7 rfl rfl)
theorem dX7_laysAt_126 : decode cX7_laysAt 126 = .ok (.aload_n 0, 1) := dk_42 (dk_at dksX7_laysAt_5 10 rfl rfl)
theorem dX7_laysAt_127 : decode cX7_laysAt 127 = .ok (.invokevirtual 253, 3) := dk_182 0 253 (dk_at dksX7_laysAt_5 11 rfl rfl)
theorem dX7_laysAt_130 : decode cX7_laysAt 130 = .ok (.return_, 1) := dk_177 (dk_at dksX7_laysAt_5 14 rfl rfl)
abbrev cX7_blockAt : ByteArray := prog_19_method_49_code
def yX7_blockAt : MethodName := ⟨RX7, "blockAt", "(I)I"⟩
def dkwX7_blockAt_3 : List UInt8 := [96, 46, 27, 162, 0, 7, 4, 167, 0, 4, 3, 62, 29, 153, 0, 8, 16, 247, 167, 0, 4, 28, 172]
abbrev dktX7_blockAt_3 : List UInt8 := dkwX7_blockAt_3 ++ []
def dkwX7_blockAt_2 : List UInt8 := [180, 0, 25, 28, 184, 1, 0, 4, 96, 46, 16, 247, 159, 0, 22, 42, 180, 0, 25, 28, 184, 1, 0, 4]
abbrev dktX7_blockAt_2 : List UInt8 := dkwX7_blockAt_2 ++ dktX7_blockAt_3
def dkwX7_blockAt_1 : List UInt8 := [27, 163, 0, 7, 29, 167, 0, 4, 28, 61, 132, 3, 1, 167, 255, 224, 28, 16, 247, 159, 0, 38, 42]
abbrev dktX7_blockAt_1 : List UInt8 := dkwX7_blockAt_1 ++ dktX7_blockAt_2
def dkwX7_blockAt_0 : List UInt8 := [16, 247, 61, 3, 62, 29, 42, 180, 0, 25, 6, 46, 162, 0, 28, 42, 180, 0, 25, 29, 184, 1, 0, 46]
abbrev dktX7_blockAt_0 : List UInt8 := dkwX7_blockAt_0 ++ dktX7_blockAt_1
theorem dksX7_blockAt_0 : cX7_blockAt.data.toList.drop 0 = dktX7_blockAt_0 := by decide +kernel
theorem dksX7_blockAt_1 : cX7_blockAt.data.toList.drop 24 = dktX7_blockAt_1 := dk_seg dksX7_blockAt_0 24 rfl rfl
theorem dksX7_blockAt_2 : cX7_blockAt.data.toList.drop 47 = dktX7_blockAt_2 := dk_seg dksX7_blockAt_1 23 rfl rfl
theorem dksX7_blockAt_3 : cX7_blockAt.data.toList.drop 71 = dktX7_blockAt_3 := dk_seg dksX7_blockAt_2 24 rfl rfl
theorem dX7_blockAt_0 : decode cX7_blockAt 0 = .ok (.bipush (-9), 2) := dk_16 247 (dk_at dksX7_blockAt_0 0 rfl rfl)
theorem dX7_blockAt_2 : decode cX7_blockAt 2 = .ok (.istore_n 2, 1) := dk_61 (dk_at dksX7_blockAt_0 2 rfl rfl)
theorem dX7_blockAt_3 : decode cX7_blockAt 3 = .ok (.iconst 0, 1) := dk_3 (dk_at dksX7_blockAt_0 3 rfl rfl)
theorem dX7_blockAt_4 : decode cX7_blockAt 4 = .ok (.istore_n 3, 1) := dk_62 (dk_at dksX7_blockAt_0 4 rfl rfl)
theorem dX7_blockAt_5 : decode cX7_blockAt 5 = .ok (.iload_n 3, 1) := dk_29 (dk_at dksX7_blockAt_0 5 rfl rfl)
theorem dX7_blockAt_6 : decode cX7_blockAt 6 = .ok (.aload_n 0, 1) := dk_42 (dk_at dksX7_blockAt_0 6 rfl rfl)
theorem dX7_blockAt_7 : decode cX7_blockAt 7 = .ok (.getfield 25, 3) := dk_180 0 25 (dk_at dksX7_blockAt_0 7 rfl rfl)
theorem dX7_blockAt_10 : decode cX7_blockAt 10 = .ok (.iconst 3, 1) := dk_6 (dk_at dksX7_blockAt_0 10 rfl rfl)
theorem dX7_blockAt_11 : decode cX7_blockAt 11 = .ok (.iaload, 1) := dk_46 (dk_at dksX7_blockAt_0 11 rfl rfl)
theorem dX7_blockAt_12 : decode cX7_blockAt 12 = .ok (.if_icmp .ge 28, 3) := dk_162 0 28 (dk_at dksX7_blockAt_0 12 rfl rfl)
theorem dX7_blockAt_15 : decode cX7_blockAt 15 = .ok (.aload_n 0, 1) := dk_42 (dk_at dksX7_blockAt_0 15 rfl rfl)
theorem dX7_blockAt_16 : decode cX7_blockAt 16 = .ok (.getfield 25, 3) := dk_180 0 25 (dk_at dksX7_blockAt_0 16 rfl rfl)
theorem dX7_blockAt_19 : decode cX7_blockAt 19 = .ok (.iload_n 3, 1) := dk_29 (dk_at dksX7_blockAt_0 19 rfl rfl)
theorem dX7_blockAt_20 : decode cX7_blockAt 20 = .ok (.invokestatic 256, 3) := dk_184 1 0 (dk_at dksX7_blockAt_0 20 rfl rfl)
theorem dX7_blockAt_23 : decode cX7_blockAt 23 = .ok (.iaload, 1) := dk_46 (dk_at dksX7_blockAt_0 23 rfl rfl)
theorem dX7_blockAt_24 : decode cX7_blockAt 24 = .ok (.iload_n 1, 1) := dk_27 (dk_at dksX7_blockAt_1 0 rfl rfl)
theorem dX7_blockAt_25 : decode cX7_blockAt 25 = .ok (.if_icmp .gt 7, 3) := dk_163 0 7 (dk_at dksX7_blockAt_1 1 rfl rfl)
theorem dX7_blockAt_28 : decode cX7_blockAt 28 = .ok (.iload_n 3, 1) := dk_29 (dk_at dksX7_blockAt_1 4 rfl rfl)
theorem dX7_blockAt_29 : decode cX7_blockAt 29 = .ok (.goto 4, 3) := dk_167 0 4 (dk_at dksX7_blockAt_1 5 rfl rfl)
theorem dX7_blockAt_32 : decode cX7_blockAt 32 = .ok (.iload_n 2, 1) := dk_28 (dk_at dksX7_blockAt_1 8 rfl rfl)
theorem dX7_blockAt_33 : decode cX7_blockAt 33 = .ok (.istore_n 2, 1) := dk_61 (dk_at dksX7_blockAt_1 9 rfl rfl)
theorem dX7_blockAt_34 : decode cX7_blockAt 34 = .ok (.iinc 3 1, 3) := dk_132 3 1 (dk_at dksX7_blockAt_1 10 rfl rfl)
theorem dX7_blockAt_37 : decode cX7_blockAt 37 = .ok (.goto (-32), 3) := dk_167 255 224 (dk_at dksX7_blockAt_1 13 rfl rfl)
theorem dX7_blockAt_40 : decode cX7_blockAt 40 = .ok (.iload_n 2, 1) := dk_28 (dk_at dksX7_blockAt_1 16 rfl rfl)
theorem dX7_blockAt_41 : decode cX7_blockAt 41 = .ok (.bipush (-9), 2) := dk_16 247 (dk_at dksX7_blockAt_1 17 rfl rfl)
theorem dX7_blockAt_43 : decode cX7_blockAt 43 = .ok (.if_icmp .eq 38, 3) := dk_159 0 38 (dk_at dksX7_blockAt_1 19 rfl rfl)
theorem dX7_blockAt_46 : decode cX7_blockAt 46 = .ok (.aload_n 0, 1) := dk_42 (dk_at dksX7_blockAt_1 22 rfl rfl)
theorem dX7_blockAt_47 : decode cX7_blockAt 47 = .ok (.getfield 25, 3) := dk_180 0 25 (dk_at dksX7_blockAt_2 0 rfl rfl)
theorem dX7_blockAt_50 : decode cX7_blockAt 50 = .ok (.iload_n 2, 1) := dk_28 (dk_at dksX7_blockAt_2 3 rfl rfl)
theorem dX7_blockAt_51 : decode cX7_blockAt 51 = .ok (.invokestatic 256, 3) := dk_184 1 0 (dk_at dksX7_blockAt_2 4 rfl rfl)
theorem dX7_blockAt_54 : decode cX7_blockAt 54 = .ok (.iconst 1, 1) := dk_4 (dk_at dksX7_blockAt_2 7 rfl rfl)
theorem dX7_blockAt_55 : decode cX7_blockAt 55 = .ok (.iadd, 1) := dk_96 (dk_at dksX7_blockAt_2 8 rfl rfl)
theorem dX7_blockAt_56 : decode cX7_blockAt 56 = .ok (.iaload, 1) := dk_46 (dk_at dksX7_blockAt_2 9 rfl rfl)
theorem dX7_blockAt_57 : decode cX7_blockAt 57 = .ok (.bipush (-9), 2) := dk_16 247 (dk_at dksX7_blockAt_2 10 rfl rfl)
theorem dX7_blockAt_59 : decode cX7_blockAt 59 = .ok (.if_icmp .eq 22, 3) := dk_159 0 22 (dk_at dksX7_blockAt_2 12 rfl rfl)
theorem dX7_blockAt_62 : decode cX7_blockAt 62 = .ok (.aload_n 0, 1) := dk_42 (dk_at dksX7_blockAt_2 15 rfl rfl)
theorem dX7_blockAt_63 : decode cX7_blockAt 63 = .ok (.getfield 25, 3) := dk_180 0 25 (dk_at dksX7_blockAt_2 16 rfl rfl)
theorem dX7_blockAt_66 : decode cX7_blockAt 66 = .ok (.iload_n 2, 1) := dk_28 (dk_at dksX7_blockAt_2 19 rfl rfl)
theorem dX7_blockAt_67 : decode cX7_blockAt 67 = .ok (.invokestatic 256, 3) := dk_184 1 0 (dk_at dksX7_blockAt_2 20 rfl rfl)
theorem dX7_blockAt_70 : decode cX7_blockAt 70 = .ok (.iconst 1, 1) := dk_4 (dk_at dksX7_blockAt_2 23 rfl rfl)
theorem dX7_blockAt_71 : decode cX7_blockAt 71 = .ok (.iadd, 1) := dk_96 (dk_at dksX7_blockAt_3 0 rfl rfl)
theorem dX7_blockAt_72 : decode cX7_blockAt 72 = .ok (.iaload, 1) := dk_46 (dk_at dksX7_blockAt_3 1 rfl rfl)
theorem dX7_blockAt_73 : decode cX7_blockAt 73 = .ok (.iload_n 1, 1) := dk_27 (dk_at dksX7_blockAt_3 2 rfl rfl)
theorem dX7_blockAt_74 : decode cX7_blockAt 74 = .ok (.if_icmp .ge 7, 3) := dk_162 0 7 (dk_at dksX7_blockAt_3 3 rfl rfl)
theorem dX7_blockAt_77 : decode cX7_blockAt 77 = .ok (.iconst 1, 1) := dk_4 (dk_at dksX7_blockAt_3 6 rfl rfl)
theorem dX7_blockAt_78 : decode cX7_blockAt 78 = .ok (.goto 4, 3) := dk_167 0 4 (dk_at dksX7_blockAt_3 7 rfl rfl)
theorem dX7_blockAt_81 : decode cX7_blockAt 81 = .ok (.iconst 0, 1) := dk_3 (dk_at dksX7_blockAt_3 10 rfl rfl)
theorem dX7_blockAt_82 : decode cX7_blockAt 82 = .ok (.istore_n 3, 1) := dk_62 (dk_at dksX7_blockAt_3 11 rfl rfl)
theorem dX7_blockAt_83 : decode cX7_blockAt 83 = .ok (.iload_n 3, 1) := dk_29 (dk_at dksX7_blockAt_3 12 rfl rfl)
theorem dX7_blockAt_84 : decode cX7_blockAt 84 = .ok (.ifCond .eq 8, 3) := dk_153 0 8 (dk_at dksX7_blockAt_3 13 rfl rfl)
theorem dX7_blockAt_87 : decode cX7_blockAt 87 = .ok (.bipush (-9), 2) := dk_16 247 (dk_at dksX7_blockAt_3 16 rfl rfl)
theorem dX7_blockAt_89 : decode cX7_blockAt 89 = .ok (.goto 4, 3) := dk_167 0 4 (dk_at dksX7_blockAt_3 18 rfl rfl)
theorem dX7_blockAt_92 : decode cX7_blockAt 92 = .ok (.iload_n 2, 1) := dk_28 (dk_at dksX7_blockAt_3 21 rfl rfl)
theorem dX7_blockAt_93 : decode cX7_blockAt 93 = .ok (.ireturn, 1) := dk_172 (dk_at dksX7_blockAt_3 22 rfl rfl)
abbrev cX7_edges : ByteArray := prog_19_method_56_code
def yX7_edges : MethodName := ⟨RX7, "edges", "(IIII)I"⟩
def dkwX7_edges_3 : List UInt8 := [4, 167, 0, 4, 3, 96, 54, 5, 132, 6, 1, 167, 255, 226, 21, 5, 172]
abbrev dktX7_edges_3 : List UInt8 := dkwX7_edges_3 ++ []
def dkwX7_edges_2 : List UInt8 := [54, 5, 29, 54, 6, 21, 6, 21, 4, 163, 0, 29, 21, 5, 42, 21, 6, 28, 182, 1, 27, 153, 0, 7]
abbrev dktX7_edges_2 : List UInt8 := dkwX7_edges_2 ++ dktX7_edges_3
def dkwX7_edges_1 : List UInt8 := [21, 4, 29, 42, 180, 0, 25, 3, 46, 184, 0, 95, 154, 0, 5, 2, 172, 42, 27, 182, 1, 24, 3]
abbrev dktX7_edges_1 : List UInt8 := dkwX7_edges_1 ++ dktX7_edges_2
def dkwX7_edges_0 : List UInt8 := [42, 27, 182, 0, 250, 153, 0, 33, 28, 184, 1, 21, 153, 0, 26, 42, 29, 182, 1, 12, 153, 0, 18]
abbrev dktX7_edges_0 : List UInt8 := dkwX7_edges_0 ++ dktX7_edges_1
theorem dksX7_edges_0 : cX7_edges.data.toList.drop 0 = dktX7_edges_0 := by decide +kernel
theorem dksX7_edges_1 : cX7_edges.data.toList.drop 23 = dktX7_edges_1 := dk_seg dksX7_edges_0 23 rfl rfl
theorem dksX7_edges_2 : cX7_edges.data.toList.drop 46 = dktX7_edges_2 := dk_seg dksX7_edges_1 23 rfl rfl
theorem dksX7_edges_3 : cX7_edges.data.toList.drop 70 = dktX7_edges_3 := dk_seg dksX7_edges_2 24 rfl rfl
theorem dX7_edges_0 : decode cX7_edges 0 = .ok (.aload_n 0, 1) := dk_42 (dk_at dksX7_edges_0 0 rfl rfl)
theorem dX7_edges_1 : decode cX7_edges 1 = .ok (.iload_n 1, 1) := dk_27 (dk_at dksX7_edges_0 1 rfl rfl)
theorem dX7_edges_2 : decode cX7_edges 2 = .ok (.invokevirtual 250, 3) := dk_182 0 250 (dk_at dksX7_edges_0 2 rfl rfl)
theorem dX7_edges_5 : decode cX7_edges 5 = .ok (.ifCond .eq 33, 3) := dk_153 0 33 (dk_at dksX7_edges_0 5 rfl rfl)
theorem dX7_edges_8 : decode cX7_edges 8 = .ok (.iload_n 2, 1) := dk_28 (dk_at dksX7_edges_0 8 rfl rfl)
theorem dX7_edges_9 : decode cX7_edges 9 = .ok (.invokestatic 277, 3) := dk_184 1 21 (dk_at dksX7_edges_0 9 rfl rfl)
theorem dX7_edges_12 : decode cX7_edges 12 = .ok (.ifCond .eq 26, 3) := dk_153 0 26 (dk_at dksX7_edges_0 12 rfl rfl)
theorem dX7_edges_15 : decode cX7_edges 15 = .ok (.aload_n 0, 1) := dk_42 (dk_at dksX7_edges_0 15 rfl rfl)
theorem dX7_edges_16 : decode cX7_edges 16 = .ok (.iload_n 3, 1) := dk_29 (dk_at dksX7_edges_0 16 rfl rfl)
theorem dX7_edges_17 : decode cX7_edges 17 = .ok (.invokevirtual 268, 3) := dk_182 1 12 (dk_at dksX7_edges_0 17 rfl rfl)
theorem dX7_edges_20 : decode cX7_edges 20 = .ok (.ifCond .eq 18, 3) := dk_153 0 18 (dk_at dksX7_edges_0 20 rfl rfl)
theorem dX7_edges_23 : decode cX7_edges 23 = .ok (.iload 4, 2) := dk_21 4 (dk_at dksX7_edges_1 0 rfl rfl)
theorem dX7_edges_25 : decode cX7_edges 25 = .ok (.iload_n 3, 1) := dk_29 (dk_at dksX7_edges_1 2 rfl rfl)
theorem dX7_edges_26 : decode cX7_edges 26 = .ok (.aload_n 0, 1) := dk_42 (dk_at dksX7_edges_1 3 rfl rfl)
theorem dX7_edges_27 : decode cX7_edges 27 = .ok (.getfield 25, 3) := dk_180 0 25 (dk_at dksX7_edges_1 4 rfl rfl)
theorem dX7_edges_30 : decode cX7_edges 30 = .ok (.iconst 0, 1) := dk_3 (dk_at dksX7_edges_1 7 rfl rfl)
theorem dX7_edges_31 : decode cX7_edges 31 = .ok (.iaload, 1) := dk_46 (dk_at dksX7_edges_1 8 rfl rfl)
theorem dX7_edges_32 : decode cX7_edges 32 = .ok (.invokestatic 95, 3) := dk_184 0 95 (dk_at dksX7_edges_1 9 rfl rfl)
theorem dX7_edges_35 : decode cX7_edges 35 = .ok (.ifCond .ne 5, 3) := dk_154 0 5 (dk_at dksX7_edges_1 12 rfl rfl)
theorem dX7_edges_38 : decode cX7_edges 38 = .ok (.iconst (-1), 1) := dk_2 (dk_at dksX7_edges_1 15 rfl rfl)
theorem dX7_edges_39 : decode cX7_edges 39 = .ok (.ireturn, 1) := dk_172 (dk_at dksX7_edges_1 16 rfl rfl)
theorem dX7_edges_40 : decode cX7_edges 40 = .ok (.aload_n 0, 1) := dk_42 (dk_at dksX7_edges_1 17 rfl rfl)
theorem dX7_edges_41 : decode cX7_edges 41 = .ok (.iload_n 1, 1) := dk_27 (dk_at dksX7_edges_1 18 rfl rfl)
theorem dX7_edges_42 : decode cX7_edges 42 = .ok (.invokevirtual 280, 3) := dk_182 1 24 (dk_at dksX7_edges_1 19 rfl rfl)
theorem dX7_edges_45 : decode cX7_edges 45 = .ok (.iconst 0, 1) := dk_3 (dk_at dksX7_edges_1 22 rfl rfl)
theorem dX7_edges_46 : decode cX7_edges 46 = .ok (.istore 5, 2) := dk_54 5 (dk_at dksX7_edges_2 0 rfl rfl)
theorem dX7_edges_48 : decode cX7_edges 48 = .ok (.iload_n 3, 1) := dk_29 (dk_at dksX7_edges_2 2 rfl rfl)
theorem dX7_edges_49 : decode cX7_edges 49 = .ok (.istore 6, 2) := dk_54 6 (dk_at dksX7_edges_2 3 rfl rfl)
theorem dX7_edges_51 : decode cX7_edges 51 = .ok (.iload 6, 2) := dk_21 6 (dk_at dksX7_edges_2 5 rfl rfl)
theorem dX7_edges_53 : decode cX7_edges 53 = .ok (.iload 4, 2) := dk_21 4 (dk_at dksX7_edges_2 7 rfl rfl)
theorem dX7_edges_55 : decode cX7_edges 55 = .ok (.if_icmp .gt 29, 3) := dk_163 0 29 (dk_at dksX7_edges_2 9 rfl rfl)
theorem dX7_edges_58 : decode cX7_edges 58 = .ok (.iload 5, 2) := dk_21 5 (dk_at dksX7_edges_2 12 rfl rfl)
theorem dX7_edges_60 : decode cX7_edges 60 = .ok (.aload_n 0, 1) := dk_42 (dk_at dksX7_edges_2 14 rfl rfl)
theorem dX7_edges_61 : decode cX7_edges 61 = .ok (.iload 6, 2) := dk_21 6 (dk_at dksX7_edges_2 15 rfl rfl)
theorem dX7_edges_63 : decode cX7_edges 63 = .ok (.iload_n 2, 1) := dk_28 (dk_at dksX7_edges_2 17 rfl rfl)
theorem dX7_edges_64 : decode cX7_edges 64 = .ok (.invokevirtual 283, 3) := dk_182 1 27 (dk_at dksX7_edges_2 18 rfl rfl)
theorem dX7_edges_67 : decode cX7_edges 67 = .ok (.ifCond .eq 7, 3) := dk_153 0 7 (dk_at dksX7_edges_2 21 rfl rfl)
theorem dX7_edges_70 : decode cX7_edges 70 = .ok (.iconst 1, 1) := dk_4 (dk_at dksX7_edges_3 0 rfl rfl)
theorem dX7_edges_71 : decode cX7_edges 71 = .ok (.goto 4, 3) := dk_167 0 4 (dk_at dksX7_edges_3 1 rfl rfl)
theorem dX7_edges_74 : decode cX7_edges 74 = .ok (.iconst 0, 1) := dk_3 (dk_at dksX7_edges_3 4 rfl rfl)
theorem dX7_edges_75 : decode cX7_edges 75 = .ok (.iadd, 1) := dk_96 (dk_at dksX7_edges_3 5 rfl rfl)
theorem dX7_edges_76 : decode cX7_edges 76 = .ok (.istore 5, 2) := dk_54 5 (dk_at dksX7_edges_3 6 rfl rfl)
theorem dX7_edges_78 : decode cX7_edges 78 = .ok (.iinc 6 1, 3) := dk_132 6 1 (dk_at dksX7_edges_3 8 rfl rfl)
theorem dX7_edges_81 : decode cX7_edges 81 = .ok (.goto (-30), 3) := dk_167 255 226 (dk_at dksX7_edges_3 11 rfl rfl)
theorem dX7_edges_84 : decode cX7_edges 84 = .ok (.iload 5, 2) := dk_21 5 (dk_at dksX7_edges_3 14 rfl rfl)
theorem dX7_edges_86 : decode cX7_edges 86 = .ok (.ireturn, 1) := dk_172 (dk_at dksX7_edges_3 16 rfl rfl)
abbrev cX7_isKind : ByteArray := prog_19_method_55_code
def yX7_isKind : MethodName := ⟨RX7, "isKind", "(I)Z"⟩
def dkwX7_isKind_0 : List UInt8 := [26, 3, 5, 184, 0, 95, 172]
abbrev dktX7_isKind_0 : List UInt8 := dkwX7_isKind_0 ++ []
theorem dksX7_isKind_0 : cX7_isKind.data.toList.drop 0 = dktX7_isKind_0 := by decide +kernel
theorem dX7_isKind_0 : decode cX7_isKind 0 = .ok (.iload_n 0, 1) := dk_26 (dk_at dksX7_isKind_0 0 rfl rfl)
theorem dX7_isKind_1 : decode cX7_isKind 1 = .ok (.iconst 0, 1) := dk_3 (dk_at dksX7_isKind_0 1 rfl rfl)
theorem dX7_isKind_2 : decode cX7_isKind 2 = .ok (.iconst 2, 1) := dk_5 (dk_at dksX7_isKind_0 2 rfl rfl)
theorem dX7_isKind_3 : decode cX7_isKind 3 = .ok (.invokestatic 95, 3) := dk_184 0 95 (dk_at dksX7_isKind_0 3 rfl rfl)
theorem dX7_isKind_6 : decode cX7_isKind 6 = .ok (.ireturn, 1) := dk_172 (dk_at dksX7_isKind_0 6 rfl rfl)
abbrev cX7_laysLine : ByteArray := prog_19_method_53_code
def yX7_laysLine : MethodName := ⟨RX7, "laysLine", "(I)V"⟩
def dkwX7_laysLine_2 : List UInt8 := [167, 255, 217, 177]
abbrev dktX7_laysLine_2 : List UInt8 := dkwX7_laysLine_2 ++ []
def dkwX7_laysLine_1 : List UInt8 := [153, 0, 8, 42, 28, 182, 1, 15, 42, 180, 0, 71, 28, 42, 180, 0, 59, 27, 46, 79, 132, 2, 1]
abbrev dktX7_laysLine_1 : List UInt8 := dkwX7_laysLine_1 ++ dktX7_laysLine_2
def dkwX7_laysLine_0 : List UInt8 := [42, 182, 1, 18, 3, 61, 28, 42, 180, 0, 25, 3, 46, 163, 0, 35, 42, 180, 0, 68, 28, 51]
abbrev dktX7_laysLine_0 : List UInt8 := dkwX7_laysLine_0 ++ dktX7_laysLine_1
theorem dksX7_laysLine_0 : cX7_laysLine.data.toList.drop 0 = dktX7_laysLine_0 := by decide +kernel
theorem dksX7_laysLine_1 : cX7_laysLine.data.toList.drop 22 = dktX7_laysLine_1 := dk_seg dksX7_laysLine_0 22 rfl rfl
theorem dksX7_laysLine_2 : cX7_laysLine.data.toList.drop 45 = dktX7_laysLine_2 := dk_seg dksX7_laysLine_1 23 rfl rfl
theorem dX7_laysLine_0 : decode cX7_laysLine 0 = .ok (.aload_n 0, 1) := dk_42 (dk_at dksX7_laysLine_0 0 rfl rfl)
theorem dX7_laysLine_1 : decode cX7_laysLine 1 = .ok (.invokevirtual 274, 3) := dk_182 1 18 (dk_at dksX7_laysLine_0 1 rfl rfl)
theorem dX7_laysLine_4 : decode cX7_laysLine 4 = .ok (.iconst 0, 1) := dk_3 (dk_at dksX7_laysLine_0 4 rfl rfl)
theorem dX7_laysLine_5 : decode cX7_laysLine 5 = .ok (.istore_n 2, 1) := dk_61 (dk_at dksX7_laysLine_0 5 rfl rfl)
theorem dX7_laysLine_6 : decode cX7_laysLine 6 = .ok (.iload_n 2, 1) := dk_28 (dk_at dksX7_laysLine_0 6 rfl rfl)
theorem dX7_laysLine_7 : decode cX7_laysLine 7 = .ok (.aload_n 0, 1) := dk_42 (dk_at dksX7_laysLine_0 7 rfl rfl)
theorem dX7_laysLine_8 : decode cX7_laysLine 8 = .ok (.getfield 25, 3) := dk_180 0 25 (dk_at dksX7_laysLine_0 8 rfl rfl)
theorem dX7_laysLine_11 : decode cX7_laysLine 11 = .ok (.iconst 0, 1) := dk_3 (dk_at dksX7_laysLine_0 11 rfl rfl)
theorem dX7_laysLine_12 : decode cX7_laysLine 12 = .ok (.iaload, 1) := dk_46 (dk_at dksX7_laysLine_0 12 rfl rfl)
theorem dX7_laysLine_13 : decode cX7_laysLine 13 = .ok (.if_icmp .gt 35, 3) := dk_163 0 35 (dk_at dksX7_laysLine_0 13 rfl rfl)
theorem dX7_laysLine_16 : decode cX7_laysLine 16 = .ok (.aload_n 0, 1) := dk_42 (dk_at dksX7_laysLine_0 16 rfl rfl)
theorem dX7_laysLine_17 : decode cX7_laysLine 17 = .ok (.getfield 68, 3) := dk_180 0 68 (dk_at dksX7_laysLine_0 17 rfl rfl)
theorem dX7_laysLine_20 : decode cX7_laysLine 20 = .ok (.iload_n 2, 1) := dk_28 (dk_at dksX7_laysLine_0 20 rfl rfl)
theorem dX7_laysLine_21 : decode cX7_laysLine 21 = .ok (.baload, 1) := dk_51 (dk_at dksX7_laysLine_0 21 rfl rfl)
theorem dX7_laysLine_22 : decode cX7_laysLine 22 = .ok (.ifCond .eq 8, 3) := dk_153 0 8 (dk_at dksX7_laysLine_1 0 rfl rfl)
theorem dX7_laysLine_25 : decode cX7_laysLine 25 = .ok (.aload_n 0, 1) := dk_42 (dk_at dksX7_laysLine_1 3 rfl rfl)
theorem dX7_laysLine_26 : decode cX7_laysLine 26 = .ok (.iload_n 2, 1) := dk_28 (dk_at dksX7_laysLine_1 4 rfl rfl)
theorem dX7_laysLine_27 : decode cX7_laysLine 27 = .ok (.invokevirtual 271, 3) := dk_182 1 15 (dk_at dksX7_laysLine_1 5 rfl rfl)
theorem dX7_laysLine_30 : decode cX7_laysLine 30 = .ok (.aload_n 0, 1) := dk_42 (dk_at dksX7_laysLine_1 8 rfl rfl)
theorem dX7_laysLine_31 : decode cX7_laysLine 31 = .ok (.getfield 71, 3) := dk_180 0 71 (dk_at dksX7_laysLine_1 9 rfl rfl)
theorem dX7_laysLine_34 : decode cX7_laysLine 34 = .ok (.iload_n 2, 1) := dk_28 (dk_at dksX7_laysLine_1 12 rfl rfl)
theorem dX7_laysLine_35 : decode cX7_laysLine 35 = .ok (.aload_n 0, 1) := dk_42 (dk_at dksX7_laysLine_1 13 rfl rfl)
theorem dX7_laysLine_36 : decode cX7_laysLine 36 = .ok (.getfield 59, 3) := dk_180 0 59 (dk_at dksX7_laysLine_1 14 rfl rfl)
theorem dX7_laysLine_39 : decode cX7_laysLine 39 = .ok (.iload_n 1, 1) := dk_27 (dk_at dksX7_laysLine_1 17 rfl rfl)
theorem dX7_laysLine_40 : decode cX7_laysLine 40 = .ok (.iaload, 1) := dk_46 (dk_at dksX7_laysLine_1 18 rfl rfl)
theorem dX7_laysLine_41 : decode cX7_laysLine 41 = .ok (.iastore, 1) := dk_79 (dk_at dksX7_laysLine_1 19 rfl rfl)
theorem dX7_laysLine_42 : decode cX7_laysLine 42 = .ok (.iinc 2 1, 3) := dk_132 2 1 (dk_at dksX7_laysLine_1 20 rfl rfl)
theorem dX7_laysLine_45 : decode cX7_laysLine 45 = .ok (.goto (-39), 3) := dk_167 255 217 (dk_at dksX7_laysLine_2 0 rfl rfl)
theorem dX7_laysLine_48 : decode cX7_laysLine 48 = .ok (.return_, 1) := dk_177 (dk_at dksX7_laysLine_2 3 rfl rfl)
abbrev cX7_laysTurns : ByteArray := prog_19_method_52_code
def yX7_laysTurns : MethodName := ⟨RX7, "laysTurns", "()V"⟩
def dkwX7_laysTurns_5 : List UInt8 := [84, 132, 3, 1, 167, 255, 222, 132, 1, 1, 167, 255, 158, 177]
abbrev dktX7_laysTurns_5 : List UInt8 := dkwX7_laysTurns_5 ++ []
def dkwX7_laysTurns_4 : List UInt8 := [5, 96, 46, 162, 0, 28, 42, 180, 0, 68, 42, 180, 0, 25, 28, 16, 9, 96, 6, 29, 104, 96, 46, 4]
abbrev dktX7_laysTurns_4 : List UInt8 := dkwX7_laysTurns_4 ++ dktX7_laysTurns_5
def dkwX7_laysTurns_3 : List UInt8 := [42, 180, 0, 68, 42, 180, 0, 25, 28, 4, 96, 46, 4, 96, 4, 84, 3, 62, 29, 42, 180, 0, 25, 28]
abbrev dktX7_laysTurns_3 : List UInt8 := dkwX7_laysTurns_3 ++ dktX7_laysTurns_4
def dkwX7_laysTurns_2 : List UInt8 := [180, 0, 68, 42, 180, 0, 25, 28, 46, 4, 84, 42, 180, 0, 25, 28, 4, 96, 46, 16, 247, 159, 0, 19]
abbrev dktX7_laysTurns_2 : List UInt8 := dkwX7_laysTurns_2 ++ dktX7_laysTurns_3
def dkwX7_laysTurns_1 : List UInt8 := [132, 1, 1, 167, 255, 231, 3, 60, 27, 42, 180, 0, 25, 6, 46, 162, 0, 94, 27, 184, 1, 0, 61, 42]
abbrev dktX7_laysTurns_1 : List UInt8 := dkwX7_laysTurns_1 ++ dktX7_laysTurns_2
def dkwX7_laysTurns_0 : List UInt8 := [3, 60, 27, 17, 3, 234, 162, 0, 24, 42, 180, 0, 68, 27, 27, 154, 0, 7, 4, 167, 0, 4, 3, 84]
abbrev dktX7_laysTurns_0 : List UInt8 := dkwX7_laysTurns_0 ++ dktX7_laysTurns_1
theorem dksX7_laysTurns_0 : cX7_laysTurns.data.toList.drop 0 = dktX7_laysTurns_0 := by decide +kernel
theorem dksX7_laysTurns_1 : cX7_laysTurns.data.toList.drop 24 = dktX7_laysTurns_1 := dk_seg dksX7_laysTurns_0 24 rfl rfl
theorem dksX7_laysTurns_2 : cX7_laysTurns.data.toList.drop 48 = dktX7_laysTurns_2 := dk_seg dksX7_laysTurns_1 24 rfl rfl
theorem dksX7_laysTurns_3 : cX7_laysTurns.data.toList.drop 72 = dktX7_laysTurns_3 := dk_seg dksX7_laysTurns_2 24 rfl rfl
theorem dksX7_laysTurns_4 : cX7_laysTurns.data.toList.drop 96 = dktX7_laysTurns_4 := dk_seg dksX7_laysTurns_3 24 rfl rfl
theorem dksX7_laysTurns_5 : cX7_laysTurns.data.toList.drop 120 = dktX7_laysTurns_5 := dk_seg dksX7_laysTurns_4 24 rfl rfl
theorem dX7_laysTurns_0 : decode cX7_laysTurns 0 = .ok (.iconst 0, 1) := dk_3 (dk_at dksX7_laysTurns_0 0 rfl rfl)
theorem dX7_laysTurns_1 : decode cX7_laysTurns 1 = .ok (.istore_n 1, 1) := dk_60 (dk_at dksX7_laysTurns_0 1 rfl rfl)
theorem dX7_laysTurns_2 : decode cX7_laysTurns 2 = .ok (.iload_n 1, 1) := dk_27 (dk_at dksX7_laysTurns_0 2 rfl rfl)
theorem dX7_laysTurns_3 : decode cX7_laysTurns 3 = .ok (.sipush 1002, 3) := dk_17 3 234 (dk_at dksX7_laysTurns_0 3 rfl rfl)
theorem dX7_laysTurns_6 : decode cX7_laysTurns 6 = .ok (.if_icmp .ge 24, 3) := dk_162 0 24 (dk_at dksX7_laysTurns_0 6 rfl rfl)
theorem dX7_laysTurns_9 : decode cX7_laysTurns 9 = .ok (.aload_n 0, 1) := dk_42 (dk_at dksX7_laysTurns_0 9 rfl rfl)
theorem dX7_laysTurns_10 : decode cX7_laysTurns 10 = .ok (.getfield 68, 3) := dk_180 0 68 (dk_at dksX7_laysTurns_0 10 rfl rfl)
theorem dX7_laysTurns_13 : decode cX7_laysTurns 13 = .ok (.iload_n 1, 1) := dk_27 (dk_at dksX7_laysTurns_0 13 rfl rfl)
theorem dX7_laysTurns_14 : decode cX7_laysTurns 14 = .ok (.iload_n 1, 1) := dk_27 (dk_at dksX7_laysTurns_0 14 rfl rfl)
theorem dX7_laysTurns_15 : decode cX7_laysTurns 15 = .ok (.ifCond .ne 7, 3) := dk_154 0 7 (dk_at dksX7_laysTurns_0 15 rfl rfl)
theorem dX7_laysTurns_18 : decode cX7_laysTurns 18 = .ok (.iconst 1, 1) := dk_4 (dk_at dksX7_laysTurns_0 18 rfl rfl)
theorem dX7_laysTurns_19 : decode cX7_laysTurns 19 = .ok (.goto 4, 3) := dk_167 0 4 (dk_at dksX7_laysTurns_0 19 rfl rfl)
theorem dX7_laysTurns_22 : decode cX7_laysTurns 22 = .ok (.iconst 0, 1) := dk_3 (dk_at dksX7_laysTurns_0 22 rfl rfl)
theorem dX7_laysTurns_23 : decode cX7_laysTurns 23 = .ok (.bastore, 1) := dk_84 (dk_at dksX7_laysTurns_0 23 rfl rfl)
theorem dX7_laysTurns_24 : decode cX7_laysTurns 24 = .ok (.iinc 1 1, 3) := dk_132 1 1 (dk_at dksX7_laysTurns_1 0 rfl rfl)
theorem dX7_laysTurns_27 : decode cX7_laysTurns 27 = .ok (.goto (-25), 3) := dk_167 255 231 (dk_at dksX7_laysTurns_1 3 rfl rfl)
theorem dX7_laysTurns_30 : decode cX7_laysTurns 30 = .ok (.iconst 0, 1) := dk_3 (dk_at dksX7_laysTurns_1 6 rfl rfl)
theorem dX7_laysTurns_31 : decode cX7_laysTurns 31 = .ok (.istore_n 1, 1) := dk_60 (dk_at dksX7_laysTurns_1 7 rfl rfl)
theorem dX7_laysTurns_32 : decode cX7_laysTurns 32 = .ok (.iload_n 1, 1) := dk_27 (dk_at dksX7_laysTurns_1 8 rfl rfl)
theorem dX7_laysTurns_33 : decode cX7_laysTurns 33 = .ok (.aload_n 0, 1) := dk_42 (dk_at dksX7_laysTurns_1 9 rfl rfl)
theorem dX7_laysTurns_34 : decode cX7_laysTurns 34 = .ok (.getfield 25, 3) := dk_180 0 25 (dk_at dksX7_laysTurns_1 10 rfl rfl)
theorem dX7_laysTurns_37 : decode cX7_laysTurns 37 = .ok (.iconst 3, 1) := dk_6 (dk_at dksX7_laysTurns_1 13 rfl rfl)
theorem dX7_laysTurns_38 : decode cX7_laysTurns 38 = .ok (.iaload, 1) := dk_46 (dk_at dksX7_laysTurns_1 14 rfl rfl)
theorem dX7_laysTurns_39 : decode cX7_laysTurns 39 = .ok (.if_icmp .ge 94, 3) := dk_162 0 94 (dk_at dksX7_laysTurns_1 15 rfl rfl)
theorem dX7_laysTurns_42 : decode cX7_laysTurns 42 = .ok (.iload_n 1, 1) := dk_27 (dk_at dksX7_laysTurns_1 18 rfl rfl)
theorem dX7_laysTurns_43 : decode cX7_laysTurns 43 = .ok (.invokestatic 256, 3) := dk_184 1 0 (dk_at dksX7_laysTurns_1 19 rfl rfl)
theorem dX7_laysTurns_46 : decode cX7_laysTurns 46 = .ok (.istore_n 2, 1) := dk_61 (dk_at dksX7_laysTurns_1 22 rfl rfl)
theorem dX7_laysTurns_47 : decode cX7_laysTurns 47 = .ok (.aload_n 0, 1) := dk_42 (dk_at dksX7_laysTurns_1 23 rfl rfl)
theorem dX7_laysTurns_48 : decode cX7_laysTurns 48 = .ok (.getfield 68, 3) := dk_180 0 68 (dk_at dksX7_laysTurns_2 0 rfl rfl)
theorem dX7_laysTurns_51 : decode cX7_laysTurns 51 = .ok (.aload_n 0, 1) := dk_42 (dk_at dksX7_laysTurns_2 3 rfl rfl)
theorem dX7_laysTurns_52 : decode cX7_laysTurns 52 = .ok (.getfield 25, 3) := dk_180 0 25 (dk_at dksX7_laysTurns_2 4 rfl rfl)
theorem dX7_laysTurns_55 : decode cX7_laysTurns 55 = .ok (.iload_n 2, 1) := dk_28 (dk_at dksX7_laysTurns_2 7 rfl rfl)
theorem dX7_laysTurns_56 : decode cX7_laysTurns 56 = .ok (.iaload, 1) := dk_46 (dk_at dksX7_laysTurns_2 8 rfl rfl)
theorem dX7_laysTurns_57 : decode cX7_laysTurns 57 = .ok (.iconst 1, 1) := dk_4 (dk_at dksX7_laysTurns_2 9 rfl rfl)
theorem dX7_laysTurns_58 : decode cX7_laysTurns 58 = .ok (.bastore, 1) := dk_84 (dk_at dksX7_laysTurns_2 10 rfl rfl)
theorem dX7_laysTurns_59 : decode cX7_laysTurns 59 = .ok (.aload_n 0, 1) := dk_42 (dk_at dksX7_laysTurns_2 11 rfl rfl)
theorem dX7_laysTurns_60 : decode cX7_laysTurns 60 = .ok (.getfield 25, 3) := dk_180 0 25 (dk_at dksX7_laysTurns_2 12 rfl rfl)
theorem dX7_laysTurns_63 : decode cX7_laysTurns 63 = .ok (.iload_n 2, 1) := dk_28 (dk_at dksX7_laysTurns_2 15 rfl rfl)
theorem dX7_laysTurns_64 : decode cX7_laysTurns 64 = .ok (.iconst 1, 1) := dk_4 (dk_at dksX7_laysTurns_2 16 rfl rfl)
theorem dX7_laysTurns_65 : decode cX7_laysTurns 65 = .ok (.iadd, 1) := dk_96 (dk_at dksX7_laysTurns_2 17 rfl rfl)
theorem dX7_laysTurns_66 : decode cX7_laysTurns 66 = .ok (.iaload, 1) := dk_46 (dk_at dksX7_laysTurns_2 18 rfl rfl)
theorem dX7_laysTurns_67 : decode cX7_laysTurns 67 = .ok (.bipush (-9), 2) := dk_16 247 (dk_at dksX7_laysTurns_2 19 rfl rfl)
theorem dX7_laysTurns_69 : decode cX7_laysTurns 69 = .ok (.if_icmp .eq 19, 3) := dk_159 0 19 (dk_at dksX7_laysTurns_2 21 rfl rfl)
theorem dX7_laysTurns_72 : decode cX7_laysTurns 72 = .ok (.aload_n 0, 1) := dk_42 (dk_at dksX7_laysTurns_3 0 rfl rfl)
theorem dX7_laysTurns_73 : decode cX7_laysTurns 73 = .ok (.getfield 68, 3) := dk_180 0 68 (dk_at dksX7_laysTurns_3 1 rfl rfl)
theorem dX7_laysTurns_76 : decode cX7_laysTurns 76 = .ok (.aload_n 0, 1) := dk_42 (dk_at dksX7_laysTurns_3 4 rfl rfl)
theorem dX7_laysTurns_77 : decode cX7_laysTurns 77 = .ok (.getfield 25, 3) := dk_180 0 25 (dk_at dksX7_laysTurns_3 5 rfl rfl)
theorem dX7_laysTurns_80 : decode cX7_laysTurns 80 = .ok (.iload_n 2, 1) := dk_28 (dk_at dksX7_laysTurns_3 8 rfl rfl)
theorem dX7_laysTurns_81 : decode cX7_laysTurns 81 = .ok (.iconst 1, 1) := dk_4 (dk_at dksX7_laysTurns_3 9 rfl rfl)
theorem dX7_laysTurns_82 : decode cX7_laysTurns 82 = .ok (.iadd, 1) := dk_96 (dk_at dksX7_laysTurns_3 10 rfl rfl)
theorem dX7_laysTurns_83 : decode cX7_laysTurns 83 = .ok (.iaload, 1) := dk_46 (dk_at dksX7_laysTurns_3 11 rfl rfl)
theorem dX7_laysTurns_84 : decode cX7_laysTurns 84 = .ok (.iconst 1, 1) := dk_4 (dk_at dksX7_laysTurns_3 12 rfl rfl)
theorem dX7_laysTurns_85 : decode cX7_laysTurns 85 = .ok (.iadd, 1) := dk_96 (dk_at dksX7_laysTurns_3 13 rfl rfl)
theorem dX7_laysTurns_86 : decode cX7_laysTurns 86 = .ok (.iconst 1, 1) := dk_4 (dk_at dksX7_laysTurns_3 14 rfl rfl)
theorem dX7_laysTurns_87 : decode cX7_laysTurns 87 = .ok (.bastore, 1) := dk_84 (dk_at dksX7_laysTurns_3 15 rfl rfl)
theorem dX7_laysTurns_88 : decode cX7_laysTurns 88 = .ok (.iconst 0, 1) := dk_3 (dk_at dksX7_laysTurns_3 16 rfl rfl)
theorem dX7_laysTurns_89 : decode cX7_laysTurns 89 = .ok (.istore_n 3, 1) := dk_62 (dk_at dksX7_laysTurns_3 17 rfl rfl)
theorem dX7_laysTurns_90 : decode cX7_laysTurns 90 = .ok (.iload_n 3, 1) := dk_29 (dk_at dksX7_laysTurns_3 18 rfl rfl)
theorem dX7_laysTurns_91 : decode cX7_laysTurns 91 = .ok (.aload_n 0, 1) := dk_42 (dk_at dksX7_laysTurns_3 19 rfl rfl)
theorem dX7_laysTurns_92 : decode cX7_laysTurns 92 = .ok (.getfield 25, 3) := dk_180 0 25 (dk_at dksX7_laysTurns_3 20 rfl rfl)
theorem dX7_laysTurns_95 : decode cX7_laysTurns 95 = .ok (.iload_n 2, 1) := dk_28 (dk_at dksX7_laysTurns_3 23 rfl rfl)
theorem dX7_laysTurns_96 : decode cX7_laysTurns 96 = .ok (.iconst 2, 1) := dk_5 (dk_at dksX7_laysTurns_4 0 rfl rfl)
theorem dX7_laysTurns_97 : decode cX7_laysTurns 97 = .ok (.iadd, 1) := dk_96 (dk_at dksX7_laysTurns_4 1 rfl rfl)
theorem dX7_laysTurns_98 : decode cX7_laysTurns 98 = .ok (.iaload, 1) := dk_46 (dk_at dksX7_laysTurns_4 2 rfl rfl)
theorem dX7_laysTurns_99 : decode cX7_laysTurns 99 = .ok (.if_icmp .ge 28, 3) := dk_162 0 28 (dk_at dksX7_laysTurns_4 3 rfl rfl)
theorem dX7_laysTurns_102 : decode cX7_laysTurns 102 = .ok (.aload_n 0, 1) := dk_42 (dk_at dksX7_laysTurns_4 6 rfl rfl)
theorem dX7_laysTurns_103 : decode cX7_laysTurns 103 = .ok (.getfield 68, 3) := dk_180 0 68 (dk_at dksX7_laysTurns_4 7 rfl rfl)
theorem dX7_laysTurns_106 : decode cX7_laysTurns 106 = .ok (.aload_n 0, 1) := dk_42 (dk_at dksX7_laysTurns_4 10 rfl rfl)
theorem dX7_laysTurns_107 : decode cX7_laysTurns 107 = .ok (.getfield 25, 3) := dk_180 0 25 (dk_at dksX7_laysTurns_4 11 rfl rfl)
theorem dX7_laysTurns_110 : decode cX7_laysTurns 110 = .ok (.iload_n 2, 1) := dk_28 (dk_at dksX7_laysTurns_4 14 rfl rfl)
theorem dX7_laysTurns_111 : decode cX7_laysTurns 111 = .ok (.bipush 9, 2) := dk_16 9 (dk_at dksX7_laysTurns_4 15 rfl rfl)
theorem dX7_laysTurns_113 : decode cX7_laysTurns 113 = .ok (.iadd, 1) := dk_96 (dk_at dksX7_laysTurns_4 17 rfl rfl)
theorem dX7_laysTurns_114 : decode cX7_laysTurns 114 = .ok (.iconst 3, 1) := dk_6 (dk_at dksX7_laysTurns_4 18 rfl rfl)
theorem dX7_laysTurns_115 : decode cX7_laysTurns 115 = .ok (.iload_n 3, 1) := dk_29 (dk_at dksX7_laysTurns_4 19 rfl rfl)
theorem dX7_laysTurns_116 : decode cX7_laysTurns 116 = .ok (.imul, 1) := dk_104 (dk_at dksX7_laysTurns_4 20 rfl rfl)
theorem dX7_laysTurns_117 : decode cX7_laysTurns 117 = .ok (.iadd, 1) := dk_96 (dk_at dksX7_laysTurns_4 21 rfl rfl)
theorem dX7_laysTurns_118 : decode cX7_laysTurns 118 = .ok (.iaload, 1) := dk_46 (dk_at dksX7_laysTurns_4 22 rfl rfl)
theorem dX7_laysTurns_119 : decode cX7_laysTurns 119 = .ok (.iconst 1, 1) := dk_4 (dk_at dksX7_laysTurns_4 23 rfl rfl)
theorem dX7_laysTurns_120 : decode cX7_laysTurns 120 = .ok (.bastore, 1) := dk_84 (dk_at dksX7_laysTurns_5 0 rfl rfl)
theorem dX7_laysTurns_121 : decode cX7_laysTurns 121 = .ok (.iinc 3 1, 3) := dk_132 3 1 (dk_at dksX7_laysTurns_5 1 rfl rfl)
theorem dX7_laysTurns_124 : decode cX7_laysTurns 124 = .ok (.goto (-34), 3) := dk_167 255 222 (dk_at dksX7_laysTurns_5 4 rfl rfl)
theorem dX7_laysTurns_127 : decode cX7_laysTurns 127 = .ok (.iinc 1 1, 3) := dk_132 1 1 (dk_at dksX7_laysTurns_5 7 rfl rfl)
theorem dX7_laysTurns_130 : decode cX7_laysTurns 130 = .ok (.goto (-98), 3) := dk_167 255 158 (dk_at dksX7_laysTurns_5 10 rfl rfl)
theorem dX7_laysTurns_133 : decode cX7_laysTurns 133 = .ok (.return_, 1) := dk_177 (dk_at dksX7_laysTurns_5 13 rfl rfl)
abbrev cX7_isEdge : ByteArray := prog_19_method_54_code
def yX7_isEdge : MethodName := ⟨RX7, "isEdge", "(II)Z"⟩
def dkwX7_isEdge_3 : List UInt8 := [27, 4, 100, 46, 164, 0, 7, 4, 167, 0, 4, 3, 160, 0, 7, 4, 167, 0, 4, 3, 172]
abbrev dktX7_isEdge_3 : List UInt8 := dkwX7_isEdge_3 ++ []
def dkwX7_isEdge_2 : List UInt8 := [28, 153, 0, 38, 28, 4, 160, 0, 7, 4, 167, 0, 4, 3, 42, 180, 0, 71, 27, 46, 42, 180, 0, 71]
abbrev dktX7_isEdge_2 : List UInt8 := dkwX7_isEdge_2 ++ dktX7_isEdge_3
def dkwX7_isEdge_1 : List UInt8 := [16, 249, 159, 0, 20, 42, 180, 0, 71, 27, 46, 42, 180, 0, 71, 27, 4, 100, 46, 160, 0, 5, 3, 172]
abbrev dktX7_isEdge_1 : List UInt8 := dkwX7_isEdge_1 ++ dktX7_isEdge_2
def dkwX7_isEdge_0 : List UInt8 := [27, 4, 161, 0, 44, 42, 180, 0, 71, 27, 4, 100, 46, 16, 249, 159, 0, 31, 42, 180, 0, 71, 27, 46]
abbrev dktX7_isEdge_0 : List UInt8 := dkwX7_isEdge_0 ++ dktX7_isEdge_1
theorem dksX7_isEdge_0 : cX7_isEdge.data.toList.drop 0 = dktX7_isEdge_0 := by decide +kernel
theorem dksX7_isEdge_1 : cX7_isEdge.data.toList.drop 24 = dktX7_isEdge_1 := dk_seg dksX7_isEdge_0 24 rfl rfl
theorem dksX7_isEdge_2 : cX7_isEdge.data.toList.drop 48 = dktX7_isEdge_2 := dk_seg dksX7_isEdge_1 24 rfl rfl
theorem dksX7_isEdge_3 : cX7_isEdge.data.toList.drop 72 = dktX7_isEdge_3 := dk_seg dksX7_isEdge_2 24 rfl rfl
theorem dX7_isEdge_0 : decode cX7_isEdge 0 = .ok (.iload_n 1, 1) := dk_27 (dk_at dksX7_isEdge_0 0 rfl rfl)
theorem dX7_isEdge_1 : decode cX7_isEdge 1 = .ok (.iconst 1, 1) := dk_4 (dk_at dksX7_isEdge_0 1 rfl rfl)
theorem dX7_isEdge_2 : decode cX7_isEdge 2 = .ok (.if_icmp .lt 44, 3) := dk_161 0 44 (dk_at dksX7_isEdge_0 2 rfl rfl)
theorem dX7_isEdge_5 : decode cX7_isEdge 5 = .ok (.aload_n 0, 1) := dk_42 (dk_at dksX7_isEdge_0 5 rfl rfl)
theorem dX7_isEdge_6 : decode cX7_isEdge 6 = .ok (.getfield 71, 3) := dk_180 0 71 (dk_at dksX7_isEdge_0 6 rfl rfl)
theorem dX7_isEdge_9 : decode cX7_isEdge 9 = .ok (.iload_n 1, 1) := dk_27 (dk_at dksX7_isEdge_0 9 rfl rfl)
theorem dX7_isEdge_10 : decode cX7_isEdge 10 = .ok (.iconst 1, 1) := dk_4 (dk_at dksX7_isEdge_0 10 rfl rfl)
theorem dX7_isEdge_11 : decode cX7_isEdge 11 = .ok (.isub, 1) := dk_100 (dk_at dksX7_isEdge_0 11 rfl rfl)
theorem dX7_isEdge_12 : decode cX7_isEdge 12 = .ok (.iaload, 1) := dk_46 (dk_at dksX7_isEdge_0 12 rfl rfl)
theorem dX7_isEdge_13 : decode cX7_isEdge 13 = .ok (.bipush (-7), 2) := dk_16 249 (dk_at dksX7_isEdge_0 13 rfl rfl)
theorem dX7_isEdge_15 : decode cX7_isEdge 15 = .ok (.if_icmp .eq 31, 3) := dk_159 0 31 (dk_at dksX7_isEdge_0 15 rfl rfl)
theorem dX7_isEdge_18 : decode cX7_isEdge 18 = .ok (.aload_n 0, 1) := dk_42 (dk_at dksX7_isEdge_0 18 rfl rfl)
theorem dX7_isEdge_19 : decode cX7_isEdge 19 = .ok (.getfield 71, 3) := dk_180 0 71 (dk_at dksX7_isEdge_0 19 rfl rfl)
theorem dX7_isEdge_22 : decode cX7_isEdge 22 = .ok (.iload_n 1, 1) := dk_27 (dk_at dksX7_isEdge_0 22 rfl rfl)
theorem dX7_isEdge_23 : decode cX7_isEdge 23 = .ok (.iaload, 1) := dk_46 (dk_at dksX7_isEdge_0 23 rfl rfl)
theorem dX7_isEdge_24 : decode cX7_isEdge 24 = .ok (.bipush (-7), 2) := dk_16 249 (dk_at dksX7_isEdge_1 0 rfl rfl)
theorem dX7_isEdge_26 : decode cX7_isEdge 26 = .ok (.if_icmp .eq 20, 3) := dk_159 0 20 (dk_at dksX7_isEdge_1 2 rfl rfl)
theorem dX7_isEdge_29 : decode cX7_isEdge 29 = .ok (.aload_n 0, 1) := dk_42 (dk_at dksX7_isEdge_1 5 rfl rfl)
theorem dX7_isEdge_30 : decode cX7_isEdge 30 = .ok (.getfield 71, 3) := dk_180 0 71 (dk_at dksX7_isEdge_1 6 rfl rfl)
theorem dX7_isEdge_33 : decode cX7_isEdge 33 = .ok (.iload_n 1, 1) := dk_27 (dk_at dksX7_isEdge_1 9 rfl rfl)
theorem dX7_isEdge_34 : decode cX7_isEdge 34 = .ok (.iaload, 1) := dk_46 (dk_at dksX7_isEdge_1 10 rfl rfl)
theorem dX7_isEdge_35 : decode cX7_isEdge 35 = .ok (.aload_n 0, 1) := dk_42 (dk_at dksX7_isEdge_1 11 rfl rfl)
theorem dX7_isEdge_36 : decode cX7_isEdge 36 = .ok (.getfield 71, 3) := dk_180 0 71 (dk_at dksX7_isEdge_1 12 rfl rfl)
theorem dX7_isEdge_39 : decode cX7_isEdge 39 = .ok (.iload_n 1, 1) := dk_27 (dk_at dksX7_isEdge_1 15 rfl rfl)
theorem dX7_isEdge_40 : decode cX7_isEdge 40 = .ok (.iconst 1, 1) := dk_4 (dk_at dksX7_isEdge_1 16 rfl rfl)
theorem dX7_isEdge_41 : decode cX7_isEdge 41 = .ok (.isub, 1) := dk_100 (dk_at dksX7_isEdge_1 17 rfl rfl)
theorem dX7_isEdge_42 : decode cX7_isEdge 42 = .ok (.iaload, 1) := dk_46 (dk_at dksX7_isEdge_1 18 rfl rfl)
theorem dX7_isEdge_43 : decode cX7_isEdge 43 = .ok (.if_icmp .ne 5, 3) := dk_160 0 5 (dk_at dksX7_isEdge_1 19 rfl rfl)
theorem dX7_isEdge_46 : decode cX7_isEdge 46 = .ok (.iconst 0, 1) := dk_3 (dk_at dksX7_isEdge_1 22 rfl rfl)
theorem dX7_isEdge_47 : decode cX7_isEdge 47 = .ok (.ireturn, 1) := dk_172 (dk_at dksX7_isEdge_1 23 rfl rfl)
theorem dX7_isEdge_48 : decode cX7_isEdge 48 = .ok (.iload_n 2, 1) := dk_28 (dk_at dksX7_isEdge_2 0 rfl rfl)
theorem dX7_isEdge_49 : decode cX7_isEdge 49 = .ok (.ifCond .eq 38, 3) := dk_153 0 38 (dk_at dksX7_isEdge_2 1 rfl rfl)
theorem dX7_isEdge_52 : decode cX7_isEdge 52 = .ok (.iload_n 2, 1) := dk_28 (dk_at dksX7_isEdge_2 4 rfl rfl)
theorem dX7_isEdge_53 : decode cX7_isEdge 53 = .ok (.iconst 1, 1) := dk_4 (dk_at dksX7_isEdge_2 5 rfl rfl)
theorem dX7_isEdge_54 : decode cX7_isEdge 54 = .ok (.if_icmp .ne 7, 3) := dk_160 0 7 (dk_at dksX7_isEdge_2 6 rfl rfl)
theorem dX7_isEdge_57 : decode cX7_isEdge 57 = .ok (.iconst 1, 1) := dk_4 (dk_at dksX7_isEdge_2 9 rfl rfl)
theorem dX7_isEdge_58 : decode cX7_isEdge 58 = .ok (.goto 4, 3) := dk_167 0 4 (dk_at dksX7_isEdge_2 10 rfl rfl)
theorem dX7_isEdge_61 : decode cX7_isEdge 61 = .ok (.iconst 0, 1) := dk_3 (dk_at dksX7_isEdge_2 13 rfl rfl)
theorem dX7_isEdge_62 : decode cX7_isEdge 62 = .ok (.aload_n 0, 1) := dk_42 (dk_at dksX7_isEdge_2 14 rfl rfl)
theorem dX7_isEdge_63 : decode cX7_isEdge 63 = .ok (.getfield 71, 3) := dk_180 0 71 (dk_at dksX7_isEdge_2 15 rfl rfl)
theorem dX7_isEdge_66 : decode cX7_isEdge 66 = .ok (.iload_n 1, 1) := dk_27 (dk_at dksX7_isEdge_2 18 rfl rfl)
theorem dX7_isEdge_67 : decode cX7_isEdge 67 = .ok (.iaload, 1) := dk_46 (dk_at dksX7_isEdge_2 19 rfl rfl)
theorem dX7_isEdge_68 : decode cX7_isEdge 68 = .ok (.aload_n 0, 1) := dk_42 (dk_at dksX7_isEdge_2 20 rfl rfl)
theorem dX7_isEdge_69 : decode cX7_isEdge 69 = .ok (.getfield 71, 3) := dk_180 0 71 (dk_at dksX7_isEdge_2 21 rfl rfl)
theorem dX7_isEdge_72 : decode cX7_isEdge 72 = .ok (.iload_n 1, 1) := dk_27 (dk_at dksX7_isEdge_3 0 rfl rfl)
theorem dX7_isEdge_73 : decode cX7_isEdge 73 = .ok (.iconst 1, 1) := dk_4 (dk_at dksX7_isEdge_3 1 rfl rfl)
theorem dX7_isEdge_74 : decode cX7_isEdge 74 = .ok (.isub, 1) := dk_100 (dk_at dksX7_isEdge_3 2 rfl rfl)
theorem dX7_isEdge_75 : decode cX7_isEdge 75 = .ok (.iaload, 1) := dk_46 (dk_at dksX7_isEdge_3 3 rfl rfl)
theorem dX7_isEdge_76 : decode cX7_isEdge 76 = .ok (.if_icmp .le 7, 3) := dk_164 0 7 (dk_at dksX7_isEdge_3 4 rfl rfl)
theorem dX7_isEdge_79 : decode cX7_isEdge 79 = .ok (.iconst 1, 1) := dk_4 (dk_at dksX7_isEdge_3 7 rfl rfl)
theorem dX7_isEdge_80 : decode cX7_isEdge 80 = .ok (.goto 4, 3) := dk_167 0 4 (dk_at dksX7_isEdge_3 8 rfl rfl)
theorem dX7_isEdge_83 : decode cX7_isEdge 83 = .ok (.iconst 0, 1) := dk_3 (dk_at dksX7_isEdge_3 11 rfl rfl)
theorem dX7_isEdge_84 : decode cX7_isEdge 84 = .ok (.if_icmp .ne 7, 3) := dk_160 0 7 (dk_at dksX7_isEdge_3 12 rfl rfl)
theorem dX7_isEdge_87 : decode cX7_isEdge 87 = .ok (.iconst 1, 1) := dk_4 (dk_at dksX7_isEdge_3 15 rfl rfl)
theorem dX7_isEdge_88 : decode cX7_isEdge 88 = .ok (.goto 4, 3) := dk_167 0 4 (dk_at dksX7_isEdge_3 16 rfl rfl)
theorem dX7_isEdge_91 : decode cX7_isEdge 91 = .ok (.iconst 0, 1) := dk_3 (dk_at dksX7_isEdge_3 19 rfl rfl)
theorem dX7_isEdge_92 : decode cX7_isEdge 92 = .ok (.ireturn, 1) := dk_172 (dk_at dksX7_isEdge_3 20 rfl rfl)
abbrev cX7_next_2 : ByteArray := prog_19_method_57_code
def yX7_next_2 : MethodName := ⟨RX7, "next", "(III)I"⟩
def dkwX7_next_2_2 : List UInt8 := [21, 4, 28, 182, 1, 27, 153, 0, 6, 21, 4, 172, 132, 4, 1, 167, 255, 229, 16, 247, 172]
abbrev dktX7_next_2_2 : List UInt8 := dkwX7_next_2_2 ++ []
def dkwX7_next_2_1 : List UInt8 := [172, 42, 27, 182, 1, 24, 29, 4, 96, 54, 4, 21, 4, 42, 180, 0, 25, 3, 46, 163, 0, 22, 42]
abbrev dktX7_next_2_1 : List UInt8 := dkwX7_next_2_1 ++ dktX7_next_2_2
def dkwX7_next_2_0 : List UInt8 := [42, 27, 182, 0, 250, 153, 0, 18, 28, 184, 1, 21, 153, 0, 11, 42, 29, 182, 1, 12, 154, 0, 5, 2]
abbrev dktX7_next_2_0 : List UInt8 := dkwX7_next_2_0 ++ dktX7_next_2_1
theorem dksX7_next_2_0 : cX7_next_2.data.toList.drop 0 = dktX7_next_2_0 := by decide +kernel
theorem dksX7_next_2_1 : cX7_next_2.data.toList.drop 24 = dktX7_next_2_1 := dk_seg dksX7_next_2_0 24 rfl rfl
theorem dksX7_next_2_2 : cX7_next_2.data.toList.drop 47 = dktX7_next_2_2 := dk_seg dksX7_next_2_1 23 rfl rfl
theorem dX7_next_2_0 : decode cX7_next_2 0 = .ok (.aload_n 0, 1) := dk_42 (dk_at dksX7_next_2_0 0 rfl rfl)
theorem dX7_next_2_1 : decode cX7_next_2 1 = .ok (.iload_n 1, 1) := dk_27 (dk_at dksX7_next_2_0 1 rfl rfl)
theorem dX7_next_2_2 : decode cX7_next_2 2 = .ok (.invokevirtual 250, 3) := dk_182 0 250 (dk_at dksX7_next_2_0 2 rfl rfl)
theorem dX7_next_2_5 : decode cX7_next_2 5 = .ok (.ifCond .eq 18, 3) := dk_153 0 18 (dk_at dksX7_next_2_0 5 rfl rfl)
theorem dX7_next_2_8 : decode cX7_next_2 8 = .ok (.iload_n 2, 1) := dk_28 (dk_at dksX7_next_2_0 8 rfl rfl)
theorem dX7_next_2_9 : decode cX7_next_2 9 = .ok (.invokestatic 277, 3) := dk_184 1 21 (dk_at dksX7_next_2_0 9 rfl rfl)
theorem dX7_next_2_12 : decode cX7_next_2 12 = .ok (.ifCond .eq 11, 3) := dk_153 0 11 (dk_at dksX7_next_2_0 12 rfl rfl)
theorem dX7_next_2_15 : decode cX7_next_2 15 = .ok (.aload_n 0, 1) := dk_42 (dk_at dksX7_next_2_0 15 rfl rfl)
theorem dX7_next_2_16 : decode cX7_next_2 16 = .ok (.iload_n 3, 1) := dk_29 (dk_at dksX7_next_2_0 16 rfl rfl)
theorem dX7_next_2_17 : decode cX7_next_2 17 = .ok (.invokevirtual 268, 3) := dk_182 1 12 (dk_at dksX7_next_2_0 17 rfl rfl)
theorem dX7_next_2_20 : decode cX7_next_2 20 = .ok (.ifCond .ne 5, 3) := dk_154 0 5 (dk_at dksX7_next_2_0 20 rfl rfl)
theorem dX7_next_2_23 : decode cX7_next_2 23 = .ok (.iconst (-1), 1) := dk_2 (dk_at dksX7_next_2_0 23 rfl rfl)
theorem dX7_next_2_24 : decode cX7_next_2 24 = .ok (.ireturn, 1) := dk_172 (dk_at dksX7_next_2_1 0 rfl rfl)
theorem dX7_next_2_25 : decode cX7_next_2 25 = .ok (.aload_n 0, 1) := dk_42 (dk_at dksX7_next_2_1 1 rfl rfl)
theorem dX7_next_2_26 : decode cX7_next_2 26 = .ok (.iload_n 1, 1) := dk_27 (dk_at dksX7_next_2_1 2 rfl rfl)
theorem dX7_next_2_27 : decode cX7_next_2 27 = .ok (.invokevirtual 280, 3) := dk_182 1 24 (dk_at dksX7_next_2_1 3 rfl rfl)
theorem dX7_next_2_30 : decode cX7_next_2 30 = .ok (.iload_n 3, 1) := dk_29 (dk_at dksX7_next_2_1 6 rfl rfl)
theorem dX7_next_2_31 : decode cX7_next_2 31 = .ok (.iconst 1, 1) := dk_4 (dk_at dksX7_next_2_1 7 rfl rfl)
theorem dX7_next_2_32 : decode cX7_next_2 32 = .ok (.iadd, 1) := dk_96 (dk_at dksX7_next_2_1 8 rfl rfl)
theorem dX7_next_2_33 : decode cX7_next_2 33 = .ok (.istore 4, 2) := dk_54 4 (dk_at dksX7_next_2_1 9 rfl rfl)
theorem dX7_next_2_35 : decode cX7_next_2 35 = .ok (.iload 4, 2) := dk_21 4 (dk_at dksX7_next_2_1 11 rfl rfl)
theorem dX7_next_2_37 : decode cX7_next_2 37 = .ok (.aload_n 0, 1) := dk_42 (dk_at dksX7_next_2_1 13 rfl rfl)
theorem dX7_next_2_38 : decode cX7_next_2 38 = .ok (.getfield 25, 3) := dk_180 0 25 (dk_at dksX7_next_2_1 14 rfl rfl)
theorem dX7_next_2_41 : decode cX7_next_2 41 = .ok (.iconst 0, 1) := dk_3 (dk_at dksX7_next_2_1 17 rfl rfl)
theorem dX7_next_2_42 : decode cX7_next_2 42 = .ok (.iaload, 1) := dk_46 (dk_at dksX7_next_2_1 18 rfl rfl)
theorem dX7_next_2_43 : decode cX7_next_2 43 = .ok (.if_icmp .gt 22, 3) := dk_163 0 22 (dk_at dksX7_next_2_1 19 rfl rfl)
theorem dX7_next_2_46 : decode cX7_next_2 46 = .ok (.aload_n 0, 1) := dk_42 (dk_at dksX7_next_2_1 22 rfl rfl)
theorem dX7_next_2_47 : decode cX7_next_2 47 = .ok (.iload 4, 2) := dk_21 4 (dk_at dksX7_next_2_2 0 rfl rfl)
theorem dX7_next_2_49 : decode cX7_next_2 49 = .ok (.iload_n 2, 1) := dk_28 (dk_at dksX7_next_2_2 2 rfl rfl)
theorem dX7_next_2_50 : decode cX7_next_2 50 = .ok (.invokevirtual 283, 3) := dk_182 1 27 (dk_at dksX7_next_2_2 3 rfl rfl)
theorem dX7_next_2_53 : decode cX7_next_2 53 = .ok (.ifCond .eq 6, 3) := dk_153 0 6 (dk_at dksX7_next_2_2 6 rfl rfl)
theorem dX7_next_2_56 : decode cX7_next_2 56 = .ok (.iload 4, 2) := dk_21 4 (dk_at dksX7_next_2_2 9 rfl rfl)
theorem dX7_next_2_58 : decode cX7_next_2 58 = .ok (.ireturn, 1) := dk_172 (dk_at dksX7_next_2_2 11 rfl rfl)
theorem dX7_next_2_59 : decode cX7_next_2 59 = .ok (.iinc 4 1, 3) := dk_132 4 1 (dk_at dksX7_next_2_2 12 rfl rfl)
theorem dX7_next_2_62 : decode cX7_next_2 62 = .ok (.goto (-27), 3) := dk_167 255 229 (dk_at dksX7_next_2_2 15 rfl rfl)
theorem dX7_next_2_65 : decode cX7_next_2 65 = .ok (.bipush (-9), 2) := dk_16 247 (dk_at dksX7_next_2_2 18 rfl rfl)
theorem dX7_next_2_67 : decode cX7_next_2 67 = .ok (.ireturn, 1) := dk_172 (dk_at dksX7_next_2_2 20 rfl rfl)
abbrev cX7_previous : ByteArray := prog_19_method_58_code
def yX7_previous : MethodName := ⟨RX7, "previous", "(III)I"⟩
def dkwX7_previous_2 : List UInt8 := [153, 0, 6, 21, 4, 172, 132, 4, 255, 167, 255, 235, 16, 247, 172]
abbrev dktX7_previous_2 : List UInt8 := dkwX7_previous_2 ++ []
def dkwX7_previous_1 : List UInt8 := [172, 42, 27, 182, 1, 24, 29, 4, 100, 54, 4, 21, 4, 158, 0, 22, 42, 21, 4, 28, 182, 1, 27]
abbrev dktX7_previous_1 : List UInt8 := dkwX7_previous_1 ++ dktX7_previous_2
def dkwX7_previous_0 : List UInt8 := [42, 27, 182, 0, 250, 153, 0, 18, 28, 184, 1, 21, 153, 0, 11, 42, 29, 182, 1, 12, 154, 0, 5, 2]
abbrev dktX7_previous_0 : List UInt8 := dkwX7_previous_0 ++ dktX7_previous_1
theorem dksX7_previous_0 : cX7_previous.data.toList.drop 0 = dktX7_previous_0 := by decide +kernel
theorem dksX7_previous_1 : cX7_previous.data.toList.drop 24 = dktX7_previous_1 := dk_seg dksX7_previous_0 24 rfl rfl
theorem dksX7_previous_2 : cX7_previous.data.toList.drop 47 = dktX7_previous_2 := dk_seg dksX7_previous_1 23 rfl rfl
theorem dX7_previous_0 : decode cX7_previous 0 = .ok (.aload_n 0, 1) := dk_42 (dk_at dksX7_previous_0 0 rfl rfl)
theorem dX7_previous_1 : decode cX7_previous 1 = .ok (.iload_n 1, 1) := dk_27 (dk_at dksX7_previous_0 1 rfl rfl)
theorem dX7_previous_2 : decode cX7_previous 2 = .ok (.invokevirtual 250, 3) := dk_182 0 250 (dk_at dksX7_previous_0 2 rfl rfl)
theorem dX7_previous_5 : decode cX7_previous 5 = .ok (.ifCond .eq 18, 3) := dk_153 0 18 (dk_at dksX7_previous_0 5 rfl rfl)
theorem dX7_previous_8 : decode cX7_previous 8 = .ok (.iload_n 2, 1) := dk_28 (dk_at dksX7_previous_0 8 rfl rfl)
theorem dX7_previous_9 : decode cX7_previous 9 = .ok (.invokestatic 277, 3) := dk_184 1 21 (dk_at dksX7_previous_0 9 rfl rfl)
theorem dX7_previous_12 : decode cX7_previous 12 = .ok (.ifCond .eq 11, 3) := dk_153 0 11 (dk_at dksX7_previous_0 12 rfl rfl)
theorem dX7_previous_15 : decode cX7_previous 15 = .ok (.aload_n 0, 1) := dk_42 (dk_at dksX7_previous_0 15 rfl rfl)
theorem dX7_previous_16 : decode cX7_previous 16 = .ok (.iload_n 3, 1) := dk_29 (dk_at dksX7_previous_0 16 rfl rfl)
theorem dX7_previous_17 : decode cX7_previous 17 = .ok (.invokevirtual 268, 3) := dk_182 1 12 (dk_at dksX7_previous_0 17 rfl rfl)
theorem dX7_previous_20 : decode cX7_previous 20 = .ok (.ifCond .ne 5, 3) := dk_154 0 5 (dk_at dksX7_previous_0 20 rfl rfl)
theorem dX7_previous_23 : decode cX7_previous 23 = .ok (.iconst (-1), 1) := dk_2 (dk_at dksX7_previous_0 23 rfl rfl)
theorem dX7_previous_24 : decode cX7_previous 24 = .ok (.ireturn, 1) := dk_172 (dk_at dksX7_previous_1 0 rfl rfl)
theorem dX7_previous_25 : decode cX7_previous 25 = .ok (.aload_n 0, 1) := dk_42 (dk_at dksX7_previous_1 1 rfl rfl)
theorem dX7_previous_26 : decode cX7_previous 26 = .ok (.iload_n 1, 1) := dk_27 (dk_at dksX7_previous_1 2 rfl rfl)
theorem dX7_previous_27 : decode cX7_previous 27 = .ok (.invokevirtual 280, 3) := dk_182 1 24 (dk_at dksX7_previous_1 3 rfl rfl)
theorem dX7_previous_30 : decode cX7_previous 30 = .ok (.iload_n 3, 1) := dk_29 (dk_at dksX7_previous_1 6 rfl rfl)
theorem dX7_previous_31 : decode cX7_previous 31 = .ok (.iconst 1, 1) := dk_4 (dk_at dksX7_previous_1 7 rfl rfl)
theorem dX7_previous_32 : decode cX7_previous 32 = .ok (.isub, 1) := dk_100 (dk_at dksX7_previous_1 8 rfl rfl)
theorem dX7_previous_33 : decode cX7_previous 33 = .ok (.istore 4, 2) := dk_54 4 (dk_at dksX7_previous_1 9 rfl rfl)
theorem dX7_previous_35 : decode cX7_previous 35 = .ok (.iload 4, 2) := dk_21 4 (dk_at dksX7_previous_1 11 rfl rfl)
theorem dX7_previous_37 : decode cX7_previous 37 = .ok (.ifCond .le 22, 3) := dk_158 0 22 (dk_at dksX7_previous_1 13 rfl rfl)
theorem dX7_previous_40 : decode cX7_previous 40 = .ok (.aload_n 0, 1) := dk_42 (dk_at dksX7_previous_1 16 rfl rfl)
theorem dX7_previous_41 : decode cX7_previous 41 = .ok (.iload 4, 2) := dk_21 4 (dk_at dksX7_previous_1 17 rfl rfl)
theorem dX7_previous_43 : decode cX7_previous 43 = .ok (.iload_n 2, 1) := dk_28 (dk_at dksX7_previous_1 19 rfl rfl)
theorem dX7_previous_44 : decode cX7_previous 44 = .ok (.invokevirtual 283, 3) := dk_182 1 27 (dk_at dksX7_previous_1 20 rfl rfl)
theorem dX7_previous_47 : decode cX7_previous 47 = .ok (.ifCond .eq 6, 3) := dk_153 0 6 (dk_at dksX7_previous_2 0 rfl rfl)
theorem dX7_previous_50 : decode cX7_previous 50 = .ok (.iload 4, 2) := dk_21 4 (dk_at dksX7_previous_2 3 rfl rfl)
theorem dX7_previous_52 : decode cX7_previous 52 = .ok (.ireturn, 1) := dk_172 (dk_at dksX7_previous_2 5 rfl rfl)
theorem dX7_previous_53 : decode cX7_previous 53 = .ok (.iinc 4 (-1), 3) := dk_132 4 255 (dk_at dksX7_previous_2 6 rfl rfl)
theorem dX7_previous_56 : decode cX7_previous 56 = .ok (.goto (-21), 3) := dk_167 255 235 (dk_at dksX7_previous_2 9 rfl rfl)
theorem dX7_previous_59 : decode cX7_previous 59 = .ok (.bipush (-9), 2) := dk_16 247 (dk_at dksX7_previous_2 12 rfl rfl)
theorem dX7_previous_61 : decode cX7_previous 61 = .ok (.ireturn, 1) := dk_172 (dk_at dksX7_previous_2 14 rfl rfl)
abbrev cX7_first : ByteArray := prog_19_method_59_code
def yX7_first : MethodName := ⟨RX7, "first", "(III)I"⟩
def dkwX7_first_3 : List UInt8 := [132, 4, 1, 167, 255, 228, 16, 247, 172]
abbrev dktX7_first_3 : List UInt8 := dkwX7_first_3 ++ []
def dkwX7_first_2 : List UInt8 := [180, 0, 25, 3, 46, 163, 0, 23, 42, 180, 0, 71, 21, 4, 46, 28, 160, 0, 6, 21, 4, 172]
abbrev dktX7_first_2 : List UInt8 := dkwX7_first_2 ++ dktX7_first_3
def dkwX7_first_1 : List UInt8 := [160, 0, 11, 42, 29, 182, 1, 12, 154, 0, 5, 2, 172, 42, 27, 182, 1, 24, 29, 54, 4, 21, 4, 42]
abbrev dktX7_first_1 : List UInt8 := dkwX7_first_1 ++ dktX7_first_2
def dkwX7_first_0 : List UInt8 := [42, 27, 182, 0, 250, 153, 0, 28, 28, 3, 17, 0, 255, 184, 0, 95, 154, 0, 9, 28, 16, 249]
abbrev dktX7_first_0 : List UInt8 := dkwX7_first_0 ++ dktX7_first_1
theorem dksX7_first_0 : cX7_first.data.toList.drop 0 = dktX7_first_0 := by decide +kernel
theorem dksX7_first_1 : cX7_first.data.toList.drop 22 = dktX7_first_1 := dk_seg dksX7_first_0 22 rfl rfl
theorem dksX7_first_2 : cX7_first.data.toList.drop 46 = dktX7_first_2 := dk_seg dksX7_first_1 24 rfl rfl
theorem dksX7_first_3 : cX7_first.data.toList.drop 68 = dktX7_first_3 := dk_seg dksX7_first_2 22 rfl rfl
theorem dX7_first_0 : decode cX7_first 0 = .ok (.aload_n 0, 1) := dk_42 (dk_at dksX7_first_0 0 rfl rfl)
theorem dX7_first_1 : decode cX7_first 1 = .ok (.iload_n 1, 1) := dk_27 (dk_at dksX7_first_0 1 rfl rfl)
theorem dX7_first_2 : decode cX7_first 2 = .ok (.invokevirtual 250, 3) := dk_182 0 250 (dk_at dksX7_first_0 2 rfl rfl)
theorem dX7_first_5 : decode cX7_first 5 = .ok (.ifCond .eq 28, 3) := dk_153 0 28 (dk_at dksX7_first_0 5 rfl rfl)
theorem dX7_first_8 : decode cX7_first 8 = .ok (.iload_n 2, 1) := dk_28 (dk_at dksX7_first_0 8 rfl rfl)
theorem dX7_first_9 : decode cX7_first 9 = .ok (.iconst 0, 1) := dk_3 (dk_at dksX7_first_0 9 rfl rfl)
theorem dX7_first_10 : decode cX7_first 10 = .ok (.sipush 255, 3) := dk_17 0 255 (dk_at dksX7_first_0 10 rfl rfl)
theorem dX7_first_13 : decode cX7_first 13 = .ok (.invokestatic 95, 3) := dk_184 0 95 (dk_at dksX7_first_0 13 rfl rfl)
theorem dX7_first_16 : decode cX7_first 16 = .ok (.ifCond .ne 9, 3) := dk_154 0 9 (dk_at dksX7_first_0 16 rfl rfl)
theorem dX7_first_19 : decode cX7_first 19 = .ok (.iload_n 2, 1) := dk_28 (dk_at dksX7_first_0 19 rfl rfl)
theorem dX7_first_20 : decode cX7_first 20 = .ok (.bipush (-7), 2) := dk_16 249 (dk_at dksX7_first_0 20 rfl rfl)
theorem dX7_first_22 : decode cX7_first 22 = .ok (.if_icmp .ne 11, 3) := dk_160 0 11 (dk_at dksX7_first_1 0 rfl rfl)
theorem dX7_first_25 : decode cX7_first 25 = .ok (.aload_n 0, 1) := dk_42 (dk_at dksX7_first_1 3 rfl rfl)
theorem dX7_first_26 : decode cX7_first 26 = .ok (.iload_n 3, 1) := dk_29 (dk_at dksX7_first_1 4 rfl rfl)
theorem dX7_first_27 : decode cX7_first 27 = .ok (.invokevirtual 268, 3) := dk_182 1 12 (dk_at dksX7_first_1 5 rfl rfl)
theorem dX7_first_30 : decode cX7_first 30 = .ok (.ifCond .ne 5, 3) := dk_154 0 5 (dk_at dksX7_first_1 8 rfl rfl)
theorem dX7_first_33 : decode cX7_first 33 = .ok (.iconst (-1), 1) := dk_2 (dk_at dksX7_first_1 11 rfl rfl)
theorem dX7_first_34 : decode cX7_first 34 = .ok (.ireturn, 1) := dk_172 (dk_at dksX7_first_1 12 rfl rfl)
theorem dX7_first_35 : decode cX7_first 35 = .ok (.aload_n 0, 1) := dk_42 (dk_at dksX7_first_1 13 rfl rfl)
theorem dX7_first_36 : decode cX7_first 36 = .ok (.iload_n 1, 1) := dk_27 (dk_at dksX7_first_1 14 rfl rfl)
theorem dX7_first_37 : decode cX7_first 37 = .ok (.invokevirtual 280, 3) := dk_182 1 24 (dk_at dksX7_first_1 15 rfl rfl)
theorem dX7_first_40 : decode cX7_first 40 = .ok (.iload_n 3, 1) := dk_29 (dk_at dksX7_first_1 18 rfl rfl)
theorem dX7_first_41 : decode cX7_first 41 = .ok (.istore 4, 2) := dk_54 4 (dk_at dksX7_first_1 19 rfl rfl)
theorem dX7_first_43 : decode cX7_first 43 = .ok (.iload 4, 2) := dk_21 4 (dk_at dksX7_first_1 21 rfl rfl)
theorem dX7_first_45 : decode cX7_first 45 = .ok (.aload_n 0, 1) := dk_42 (dk_at dksX7_first_1 23 rfl rfl)
theorem dX7_first_46 : decode cX7_first 46 = .ok (.getfield 25, 3) := dk_180 0 25 (dk_at dksX7_first_2 0 rfl rfl)
theorem dX7_first_49 : decode cX7_first 49 = .ok (.iconst 0, 1) := dk_3 (dk_at dksX7_first_2 3 rfl rfl)
theorem dX7_first_50 : decode cX7_first 50 = .ok (.iaload, 1) := dk_46 (dk_at dksX7_first_2 4 rfl rfl)
theorem dX7_first_51 : decode cX7_first 51 = .ok (.if_icmp .gt 23, 3) := dk_163 0 23 (dk_at dksX7_first_2 5 rfl rfl)
theorem dX7_first_54 : decode cX7_first 54 = .ok (.aload_n 0, 1) := dk_42 (dk_at dksX7_first_2 8 rfl rfl)
theorem dX7_first_55 : decode cX7_first 55 = .ok (.getfield 71, 3) := dk_180 0 71 (dk_at dksX7_first_2 9 rfl rfl)
theorem dX7_first_58 : decode cX7_first 58 = .ok (.iload 4, 2) := dk_21 4 (dk_at dksX7_first_2 12 rfl rfl)
theorem dX7_first_60 : decode cX7_first 60 = .ok (.iaload, 1) := dk_46 (dk_at dksX7_first_2 14 rfl rfl)
theorem dX7_first_61 : decode cX7_first 61 = .ok (.iload_n 2, 1) := dk_28 (dk_at dksX7_first_2 15 rfl rfl)
theorem dX7_first_62 : decode cX7_first 62 = .ok (.if_icmp .ne 6, 3) := dk_160 0 6 (dk_at dksX7_first_2 16 rfl rfl)
theorem dX7_first_65 : decode cX7_first 65 = .ok (.iload 4, 2) := dk_21 4 (dk_at dksX7_first_2 19 rfl rfl)
theorem dX7_first_67 : decode cX7_first 67 = .ok (.ireturn, 1) := dk_172 (dk_at dksX7_first_2 21 rfl rfl)
theorem dX7_first_68 : decode cX7_first 68 = .ok (.iinc 4 1, 3) := dk_132 4 1 (dk_at dksX7_first_3 0 rfl rfl)
theorem dX7_first_71 : decode cX7_first 71 = .ok (.goto (-28), 3) := dk_167 255 228 (dk_at dksX7_first_3 3 rfl rfl)
theorem dX7_first_74 : decode cX7_first 74 = .ok (.bipush (-9), 2) := dk_16 247 (dk_at dksX7_first_3 6 rfl rfl)
theorem dX7_first_76 : decode cX7_first 76 = .ok (.ireturn, 1) := dk_172 (dk_at dksX7_first_3 8 rfl rfl)
abbrev cX7_holds : ByteArray := prog_19_method_60_code
def yX7_holds : MethodName := ⟨RX7, "holds", "(III)I"⟩
def dkwX7_holds_4 : List UInt8 := [96, 172, 132, 5, 1, 167, 255, 197, 16, 247, 172]
abbrev dktX7_holds_4 : List UInt8 := dkwX7_holds_4 ++ []
def dkwX7_holds_3 : List UInt8 := [154, 0, 7, 3, 167, 0, 7, 21, 4, 4, 96, 54, 4, 21, 4, 28, 160, 0, 10, 21, 5, 28, 100, 4]
abbrev dktX7_holds_3 : List UInt8 := dkwX7_holds_3 ++ dktX7_holds_4
def dkwX7_holds_2 : List UInt8 := [163, 0, 54, 42, 180, 0, 71, 21, 5, 46, 16, 249, 159, 0, 13, 42, 180, 0, 71, 21, 5, 46]
abbrev dktX7_holds_2 : List UInt8 := dkwX7_holds_2 ++ dktX7_holds_3
def dkwX7_holds_1 : List UInt8 := [154, 0, 5, 2, 172, 42, 27, 182, 1, 24, 3, 54, 4, 29, 54, 5, 21, 5, 42, 180, 0, 25, 3, 46]
abbrev dktX7_holds_1 : List UInt8 := dkwX7_holds_1 ++ dktX7_holds_2
def dkwX7_holds_0 : List UInt8 := [42, 27, 182, 0, 250, 153, 0, 22, 28, 4, 17, 3, 231, 184, 0, 95, 153, 0, 11, 42, 29, 182, 1, 12]
abbrev dktX7_holds_0 : List UInt8 := dkwX7_holds_0 ++ dktX7_holds_1
theorem dksX7_holds_0 : cX7_holds.data.toList.drop 0 = dktX7_holds_0 := by decide +kernel
theorem dksX7_holds_1 : cX7_holds.data.toList.drop 24 = dktX7_holds_1 := dk_seg dksX7_holds_0 24 rfl rfl
theorem dksX7_holds_2 : cX7_holds.data.toList.drop 48 = dktX7_holds_2 := dk_seg dksX7_holds_1 24 rfl rfl
theorem dksX7_holds_3 : cX7_holds.data.toList.drop 70 = dktX7_holds_3 := dk_seg dksX7_holds_2 22 rfl rfl
theorem dksX7_holds_4 : cX7_holds.data.toList.drop 94 = dktX7_holds_4 := dk_seg dksX7_holds_3 24 rfl rfl
theorem dX7_holds_0 : decode cX7_holds 0 = .ok (.aload_n 0, 1) := dk_42 (dk_at dksX7_holds_0 0 rfl rfl)
theorem dX7_holds_1 : decode cX7_holds 1 = .ok (.iload_n 1, 1) := dk_27 (dk_at dksX7_holds_0 1 rfl rfl)
theorem dX7_holds_2 : decode cX7_holds 2 = .ok (.invokevirtual 250, 3) := dk_182 0 250 (dk_at dksX7_holds_0 2 rfl rfl)
theorem dX7_holds_5 : decode cX7_holds 5 = .ok (.ifCond .eq 22, 3) := dk_153 0 22 (dk_at dksX7_holds_0 5 rfl rfl)
theorem dX7_holds_8 : decode cX7_holds 8 = .ok (.iload_n 2, 1) := dk_28 (dk_at dksX7_holds_0 8 rfl rfl)
theorem dX7_holds_9 : decode cX7_holds 9 = .ok (.iconst 1, 1) := dk_4 (dk_at dksX7_holds_0 9 rfl rfl)
theorem dX7_holds_10 : decode cX7_holds 10 = .ok (.sipush 999, 3) := dk_17 3 231 (dk_at dksX7_holds_0 10 rfl rfl)
theorem dX7_holds_13 : decode cX7_holds 13 = .ok (.invokestatic 95, 3) := dk_184 0 95 (dk_at dksX7_holds_0 13 rfl rfl)
theorem dX7_holds_16 : decode cX7_holds 16 = .ok (.ifCond .eq 11, 3) := dk_153 0 11 (dk_at dksX7_holds_0 16 rfl rfl)
theorem dX7_holds_19 : decode cX7_holds 19 = .ok (.aload_n 0, 1) := dk_42 (dk_at dksX7_holds_0 19 rfl rfl)
theorem dX7_holds_20 : decode cX7_holds 20 = .ok (.iload_n 3, 1) := dk_29 (dk_at dksX7_holds_0 20 rfl rfl)
theorem dX7_holds_21 : decode cX7_holds 21 = .ok (.invokevirtual 268, 3) := dk_182 1 12 (dk_at dksX7_holds_0 21 rfl rfl)
theorem dX7_holds_24 : decode cX7_holds 24 = .ok (.ifCond .ne 5, 3) := dk_154 0 5 (dk_at dksX7_holds_1 0 rfl rfl)
theorem dX7_holds_27 : decode cX7_holds 27 = .ok (.iconst (-1), 1) := dk_2 (dk_at dksX7_holds_1 3 rfl rfl)
theorem dX7_holds_28 : decode cX7_holds 28 = .ok (.ireturn, 1) := dk_172 (dk_at dksX7_holds_1 4 rfl rfl)
theorem dX7_holds_29 : decode cX7_holds 29 = .ok (.aload_n 0, 1) := dk_42 (dk_at dksX7_holds_1 5 rfl rfl)
theorem dX7_holds_30 : decode cX7_holds 30 = .ok (.iload_n 1, 1) := dk_27 (dk_at dksX7_holds_1 6 rfl rfl)
theorem dX7_holds_31 : decode cX7_holds 31 = .ok (.invokevirtual 280, 3) := dk_182 1 24 (dk_at dksX7_holds_1 7 rfl rfl)
theorem dX7_holds_34 : decode cX7_holds 34 = .ok (.iconst 0, 1) := dk_3 (dk_at dksX7_holds_1 10 rfl rfl)
theorem dX7_holds_35 : decode cX7_holds 35 = .ok (.istore 4, 2) := dk_54 4 (dk_at dksX7_holds_1 11 rfl rfl)
theorem dX7_holds_37 : decode cX7_holds 37 = .ok (.iload_n 3, 1) := dk_29 (dk_at dksX7_holds_1 13 rfl rfl)
theorem dX7_holds_38 : decode cX7_holds 38 = .ok (.istore 5, 2) := dk_54 5 (dk_at dksX7_holds_1 14 rfl rfl)
theorem dX7_holds_40 : decode cX7_holds 40 = .ok (.iload 5, 2) := dk_21 5 (dk_at dksX7_holds_1 16 rfl rfl)
theorem dX7_holds_42 : decode cX7_holds 42 = .ok (.aload_n 0, 1) := dk_42 (dk_at dksX7_holds_1 18 rfl rfl)
theorem dX7_holds_43 : decode cX7_holds 43 = .ok (.getfield 25, 3) := dk_180 0 25 (dk_at dksX7_holds_1 19 rfl rfl)
theorem dX7_holds_46 : decode cX7_holds 46 = .ok (.iconst 0, 1) := dk_3 (dk_at dksX7_holds_1 22 rfl rfl)
theorem dX7_holds_47 : decode cX7_holds 47 = .ok (.iaload, 1) := dk_46 (dk_at dksX7_holds_1 23 rfl rfl)
theorem dX7_holds_48 : decode cX7_holds 48 = .ok (.if_icmp .gt 54, 3) := dk_163 0 54 (dk_at dksX7_holds_2 0 rfl rfl)
theorem dX7_holds_51 : decode cX7_holds 51 = .ok (.aload_n 0, 1) := dk_42 (dk_at dksX7_holds_2 3 rfl rfl)
theorem dX7_holds_52 : decode cX7_holds 52 = .ok (.getfield 71, 3) := dk_180 0 71 (dk_at dksX7_holds_2 4 rfl rfl)
theorem dX7_holds_55 : decode cX7_holds 55 = .ok (.iload 5, 2) := dk_21 5 (dk_at dksX7_holds_2 7 rfl rfl)
theorem dX7_holds_57 : decode cX7_holds 57 = .ok (.iaload, 1) := dk_46 (dk_at dksX7_holds_2 9 rfl rfl)
theorem dX7_holds_58 : decode cX7_holds 58 = .ok (.bipush (-7), 2) := dk_16 249 (dk_at dksX7_holds_2 10 rfl rfl)
theorem dX7_holds_60 : decode cX7_holds 60 = .ok (.if_icmp .eq 13, 3) := dk_159 0 13 (dk_at dksX7_holds_2 12 rfl rfl)
theorem dX7_holds_63 : decode cX7_holds 63 = .ok (.aload_n 0, 1) := dk_42 (dk_at dksX7_holds_2 15 rfl rfl)
theorem dX7_holds_64 : decode cX7_holds 64 = .ok (.getfield 71, 3) := dk_180 0 71 (dk_at dksX7_holds_2 16 rfl rfl)
theorem dX7_holds_67 : decode cX7_holds 67 = .ok (.iload 5, 2) := dk_21 5 (dk_at dksX7_holds_2 19 rfl rfl)
theorem dX7_holds_69 : decode cX7_holds 69 = .ok (.iaload, 1) := dk_46 (dk_at dksX7_holds_2 21 rfl rfl)
theorem dX7_holds_70 : decode cX7_holds 70 = .ok (.ifCond .ne 7, 3) := dk_154 0 7 (dk_at dksX7_holds_3 0 rfl rfl)
theorem dX7_holds_73 : decode cX7_holds 73 = .ok (.iconst 0, 1) := dk_3 (dk_at dksX7_holds_3 3 rfl rfl)
theorem dX7_holds_74 : decode cX7_holds 74 = .ok (.goto 7, 3) := dk_167 0 7 (dk_at dksX7_holds_3 4 rfl rfl)
theorem dX7_holds_77 : decode cX7_holds 77 = .ok (.iload 4, 2) := dk_21 4 (dk_at dksX7_holds_3 7 rfl rfl)
theorem dX7_holds_79 : decode cX7_holds 79 = .ok (.iconst 1, 1) := dk_4 (dk_at dksX7_holds_3 9 rfl rfl)
theorem dX7_holds_80 : decode cX7_holds 80 = .ok (.iadd, 1) := dk_96 (dk_at dksX7_holds_3 10 rfl rfl)
theorem dX7_holds_81 : decode cX7_holds 81 = .ok (.istore 4, 2) := dk_54 4 (dk_at dksX7_holds_3 11 rfl rfl)
theorem dX7_holds_83 : decode cX7_holds 83 = .ok (.iload 4, 2) := dk_21 4 (dk_at dksX7_holds_3 13 rfl rfl)
theorem dX7_holds_85 : decode cX7_holds 85 = .ok (.iload_n 2, 1) := dk_28 (dk_at dksX7_holds_3 15 rfl rfl)
theorem dX7_holds_86 : decode cX7_holds 86 = .ok (.if_icmp .ne 10, 3) := dk_160 0 10 (dk_at dksX7_holds_3 16 rfl rfl)
theorem dX7_holds_89 : decode cX7_holds 89 = .ok (.iload 5, 2) := dk_21 5 (dk_at dksX7_holds_3 19 rfl rfl)
theorem dX7_holds_91 : decode cX7_holds 91 = .ok (.iload_n 2, 1) := dk_28 (dk_at dksX7_holds_3 21 rfl rfl)
theorem dX7_holds_92 : decode cX7_holds 92 = .ok (.isub, 1) := dk_100 (dk_at dksX7_holds_3 22 rfl rfl)
theorem dX7_holds_93 : decode cX7_holds 93 = .ok (.iconst 1, 1) := dk_4 (dk_at dksX7_holds_3 23 rfl rfl)
theorem dX7_holds_94 : decode cX7_holds 94 = .ok (.iadd, 1) := dk_96 (dk_at dksX7_holds_4 0 rfl rfl)
theorem dX7_holds_95 : decode cX7_holds 95 = .ok (.ireturn, 1) := dk_172 (dk_at dksX7_holds_4 1 rfl rfl)
theorem dX7_holds_96 : decode cX7_holds 96 = .ok (.iinc 5 1, 3) := dk_132 5 1 (dk_at dksX7_holds_4 2 rfl rfl)
theorem dX7_holds_99 : decode cX7_holds 99 = .ok (.goto (-59), 3) := dk_167 255 197 (dk_at dksX7_holds_4 5 rfl rfl)
theorem dX7_holds_102 : decode cX7_holds 102 = .ok (.bipush (-9), 2) := dk_16 247 (dk_at dksX7_holds_4 8 rfl rfl)
theorem dX7_holds_104 : decode cX7_holds 104 = .ok (.ireturn, 1) := dk_172 (dk_at dksX7_holds_4 10 rfl rfl)
abbrev cX7_ticks : ByteArray := prog_19_method_62_code
def yX7_ticks : MethodName := ⟨RX7, "ticks", "(II)I"⟩
def dkwX7_ticks_5 : List UInt8 := [21, 4, 172, 132, 3, 1, 132, 4, 1, 167, 255, 160, 28, 156, 0, 7, 29, 167, 0, 5, 16, 247, 172]
abbrev dktX7_ticks_5 : List UInt8 := dkwX7_ticks_5 ++ []
def dkwX7_ticks_4 : List UInt8 := [21, 4, 182, 1, 15, 21, 4, 158, 0, 22, 42, 27, 182, 1, 31, 153, 0, 14, 29, 28, 160, 0, 6]
abbrev dktX7_ticks_4 : List UInt8 := dkwX7_ticks_4 ++ dktX7_ticks_5
def dkwX7_ticks_3 : List UInt8 := [180, 0, 59, 21, 5, 46, 79, 132, 5, 1, 167, 255, 220, 42, 180, 0, 68, 21, 4, 51, 153, 0, 33, 42]
abbrev dktX7_ticks_3 : List UInt8 := dkwX7_ticks_3 ++ dktX7_ticks_4
def dkwX7_ticks_2 : List UInt8 := [42, 180, 0, 212, 162, 0, 33, 42, 180, 0, 68, 21, 4, 51, 153, 0, 23, 42, 180, 0, 74, 21, 5, 42]
abbrev dktX7_ticks_2 : List UInt8 := dkwX7_ticks_2 ++ dktX7_ticks_3
def dkwX7_ticks_1 : List UInt8 := [182, 1, 18, 3, 62, 3, 54, 4, 21, 4, 42, 180, 0, 25, 3, 46, 163, 0, 91, 3, 54, 5, 21, 5]
abbrev dktX7_ticks_1 : List UInt8 := dkwX7_ticks_1 ++ dktX7_ticks_2
def dkwX7_ticks_0 : List UInt8 := [27, 3, 4, 42, 180, 0, 212, 120, 4, 100, 184, 0, 95, 153, 0, 8, 28, 2, 162, 0, 5, 2, 172, 42]
abbrev dktX7_ticks_0 : List UInt8 := dkwX7_ticks_0 ++ dktX7_ticks_1
theorem dksX7_ticks_0 : cX7_ticks.data.toList.drop 0 = dktX7_ticks_0 := by decide +kernel
theorem dksX7_ticks_1 : cX7_ticks.data.toList.drop 24 = dktX7_ticks_1 := dk_seg dksX7_ticks_0 24 rfl rfl
theorem dksX7_ticks_2 : cX7_ticks.data.toList.drop 48 = dktX7_ticks_2 := dk_seg dksX7_ticks_1 24 rfl rfl
theorem dksX7_ticks_3 : cX7_ticks.data.toList.drop 72 = dktX7_ticks_3 := dk_seg dksX7_ticks_2 24 rfl rfl
theorem dksX7_ticks_4 : cX7_ticks.data.toList.drop 96 = dktX7_ticks_4 := dk_seg dksX7_ticks_3 24 rfl rfl
theorem dksX7_ticks_5 : cX7_ticks.data.toList.drop 119 = dktX7_ticks_5 := dk_seg dksX7_ticks_4 23 rfl rfl
theorem dX7_ticks_0 : decode cX7_ticks 0 = .ok (.iload_n 1, 1) := dk_27 (dk_at dksX7_ticks_0 0 rfl rfl)
theorem dX7_ticks_1 : decode cX7_ticks 1 = .ok (.iconst 0, 1) := dk_3 (dk_at dksX7_ticks_0 1 rfl rfl)
theorem dX7_ticks_2 : decode cX7_ticks 2 = .ok (.iconst 1, 1) := dk_4 (dk_at dksX7_ticks_0 2 rfl rfl)
theorem dX7_ticks_3 : decode cX7_ticks 3 = .ok (.aload_n 0, 1) := dk_42 (dk_at dksX7_ticks_0 3 rfl rfl)
theorem dX7_ticks_4 : decode cX7_ticks 4 = .ok (.getfield 212, 3) := dk_180 0 212 (dk_at dksX7_ticks_0 4 rfl rfl)
theorem dX7_ticks_7 : decode cX7_ticks 7 = .ok (.ishl, 1) := dk_120 (dk_at dksX7_ticks_0 7 rfl rfl)
theorem dX7_ticks_8 : decode cX7_ticks 8 = .ok (.iconst 1, 1) := dk_4 (dk_at dksX7_ticks_0 8 rfl rfl)
theorem dX7_ticks_9 : decode cX7_ticks 9 = .ok (.isub, 1) := dk_100 (dk_at dksX7_ticks_0 9 rfl rfl)
theorem dX7_ticks_10 : decode cX7_ticks 10 = .ok (.invokestatic 95, 3) := dk_184 0 95 (dk_at dksX7_ticks_0 10 rfl rfl)
theorem dX7_ticks_13 : decode cX7_ticks 13 = .ok (.ifCond .eq 8, 3) := dk_153 0 8 (dk_at dksX7_ticks_0 13 rfl rfl)
theorem dX7_ticks_16 : decode cX7_ticks 16 = .ok (.iload_n 2, 1) := dk_28 (dk_at dksX7_ticks_0 16 rfl rfl)
theorem dX7_ticks_17 : decode cX7_ticks 17 = .ok (.iconst (-1), 1) := dk_2 (dk_at dksX7_ticks_0 17 rfl rfl)
theorem dX7_ticks_18 : decode cX7_ticks 18 = .ok (.if_icmp .ge 5, 3) := dk_162 0 5 (dk_at dksX7_ticks_0 18 rfl rfl)
theorem dX7_ticks_21 : decode cX7_ticks 21 = .ok (.iconst (-1), 1) := dk_2 (dk_at dksX7_ticks_0 21 rfl rfl)
theorem dX7_ticks_22 : decode cX7_ticks 22 = .ok (.ireturn, 1) := dk_172 (dk_at dksX7_ticks_0 22 rfl rfl)
theorem dX7_ticks_23 : decode cX7_ticks 23 = .ok (.aload_n 0, 1) := dk_42 (dk_at dksX7_ticks_0 23 rfl rfl)
theorem dX7_ticks_24 : decode cX7_ticks 24 = .ok (.invokevirtual 274, 3) := dk_182 1 18 (dk_at dksX7_ticks_1 0 rfl rfl)
theorem dX7_ticks_27 : decode cX7_ticks 27 = .ok (.iconst 0, 1) := dk_3 (dk_at dksX7_ticks_1 3 rfl rfl)
theorem dX7_ticks_28 : decode cX7_ticks 28 = .ok (.istore_n 3, 1) := dk_62 (dk_at dksX7_ticks_1 4 rfl rfl)
theorem dX7_ticks_29 : decode cX7_ticks 29 = .ok (.iconst 0, 1) := dk_3 (dk_at dksX7_ticks_1 5 rfl rfl)
theorem dX7_ticks_30 : decode cX7_ticks 30 = .ok (.istore 4, 2) := dk_54 4 (dk_at dksX7_ticks_1 6 rfl rfl)
theorem dX7_ticks_32 : decode cX7_ticks 32 = .ok (.iload 4, 2) := dk_21 4 (dk_at dksX7_ticks_1 8 rfl rfl)
theorem dX7_ticks_34 : decode cX7_ticks 34 = .ok (.aload_n 0, 1) := dk_42 (dk_at dksX7_ticks_1 10 rfl rfl)
theorem dX7_ticks_35 : decode cX7_ticks 35 = .ok (.getfield 25, 3) := dk_180 0 25 (dk_at dksX7_ticks_1 11 rfl rfl)
theorem dX7_ticks_38 : decode cX7_ticks 38 = .ok (.iconst 0, 1) := dk_3 (dk_at dksX7_ticks_1 14 rfl rfl)
theorem dX7_ticks_39 : decode cX7_ticks 39 = .ok (.iaload, 1) := dk_46 (dk_at dksX7_ticks_1 15 rfl rfl)
theorem dX7_ticks_40 : decode cX7_ticks 40 = .ok (.if_icmp .gt 91, 3) := dk_163 0 91 (dk_at dksX7_ticks_1 16 rfl rfl)
theorem dX7_ticks_43 : decode cX7_ticks 43 = .ok (.iconst 0, 1) := dk_3 (dk_at dksX7_ticks_1 19 rfl rfl)
theorem dX7_ticks_44 : decode cX7_ticks 44 = .ok (.istore 5, 2) := dk_54 5 (dk_at dksX7_ticks_1 20 rfl rfl)
theorem dX7_ticks_46 : decode cX7_ticks 46 = .ok (.iload 5, 2) := dk_21 5 (dk_at dksX7_ticks_1 22 rfl rfl)
theorem dX7_ticks_48 : decode cX7_ticks 48 = .ok (.aload_n 0, 1) := dk_42 (dk_at dksX7_ticks_2 0 rfl rfl)
theorem dX7_ticks_49 : decode cX7_ticks 49 = .ok (.getfield 212, 3) := dk_180 0 212 (dk_at dksX7_ticks_2 1 rfl rfl)
theorem dX7_ticks_52 : decode cX7_ticks 52 = .ok (.if_icmp .ge 33, 3) := dk_162 0 33 (dk_at dksX7_ticks_2 4 rfl rfl)
theorem dX7_ticks_55 : decode cX7_ticks 55 = .ok (.aload_n 0, 1) := dk_42 (dk_at dksX7_ticks_2 7 rfl rfl)
theorem dX7_ticks_56 : decode cX7_ticks 56 = .ok (.getfield 68, 3) := dk_180 0 68 (dk_at dksX7_ticks_2 8 rfl rfl)
theorem dX7_ticks_59 : decode cX7_ticks 59 = .ok (.iload 4, 2) := dk_21 4 (dk_at dksX7_ticks_2 11 rfl rfl)
theorem dX7_ticks_61 : decode cX7_ticks 61 = .ok (.baload, 1) := dk_51 (dk_at dksX7_ticks_2 13 rfl rfl)
theorem dX7_ticks_62 : decode cX7_ticks 62 = .ok (.ifCond .eq 23, 3) := dk_153 0 23 (dk_at dksX7_ticks_2 14 rfl rfl)
theorem dX7_ticks_65 : decode cX7_ticks 65 = .ok (.aload_n 0, 1) := dk_42 (dk_at dksX7_ticks_2 17 rfl rfl)
theorem dX7_ticks_66 : decode cX7_ticks 66 = .ok (.getfield 74, 3) := dk_180 0 74 (dk_at dksX7_ticks_2 18 rfl rfl)
theorem dX7_ticks_69 : decode cX7_ticks 69 = .ok (.iload 5, 2) := dk_21 5 (dk_at dksX7_ticks_2 21 rfl rfl)
theorem dX7_ticks_71 : decode cX7_ticks 71 = .ok (.aload_n 0, 1) := dk_42 (dk_at dksX7_ticks_2 23 rfl rfl)
theorem dX7_ticks_72 : decode cX7_ticks 72 = .ok (.getfield 59, 3) := dk_180 0 59 (dk_at dksX7_ticks_3 0 rfl rfl)
theorem dX7_ticks_75 : decode cX7_ticks 75 = .ok (.iload 5, 2) := dk_21 5 (dk_at dksX7_ticks_3 3 rfl rfl)
theorem dX7_ticks_77 : decode cX7_ticks 77 = .ok (.iaload, 1) := dk_46 (dk_at dksX7_ticks_3 5 rfl rfl)
theorem dX7_ticks_78 : decode cX7_ticks 78 = .ok (.iastore, 1) := dk_79 (dk_at dksX7_ticks_3 6 rfl rfl)
theorem dX7_ticks_79 : decode cX7_ticks 79 = .ok (.iinc 5 1, 3) := dk_132 5 1 (dk_at dksX7_ticks_3 7 rfl rfl)
theorem dX7_ticks_82 : decode cX7_ticks 82 = .ok (.goto (-36), 3) := dk_167 255 220 (dk_at dksX7_ticks_3 10 rfl rfl)
theorem dX7_ticks_85 : decode cX7_ticks 85 = .ok (.aload_n 0, 1) := dk_42 (dk_at dksX7_ticks_3 13 rfl rfl)
theorem dX7_ticks_86 : decode cX7_ticks 86 = .ok (.getfield 68, 3) := dk_180 0 68 (dk_at dksX7_ticks_3 14 rfl rfl)
theorem dX7_ticks_89 : decode cX7_ticks 89 = .ok (.iload 4, 2) := dk_21 4 (dk_at dksX7_ticks_3 17 rfl rfl)
theorem dX7_ticks_91 : decode cX7_ticks 91 = .ok (.baload, 1) := dk_51 (dk_at dksX7_ticks_3 19 rfl rfl)
theorem dX7_ticks_92 : decode cX7_ticks 92 = .ok (.ifCond .eq 33, 3) := dk_153 0 33 (dk_at dksX7_ticks_3 20 rfl rfl)
theorem dX7_ticks_95 : decode cX7_ticks 95 = .ok (.aload_n 0, 1) := dk_42 (dk_at dksX7_ticks_3 23 rfl rfl)
theorem dX7_ticks_96 : decode cX7_ticks 96 = .ok (.iload 4, 2) := dk_21 4 (dk_at dksX7_ticks_4 0 rfl rfl)
theorem dX7_ticks_98 : decode cX7_ticks 98 = .ok (.invokevirtual 271, 3) := dk_182 1 15 (dk_at dksX7_ticks_4 2 rfl rfl)
theorem dX7_ticks_101 : decode cX7_ticks 101 = .ok (.iload 4, 2) := dk_21 4 (dk_at dksX7_ticks_4 5 rfl rfl)
theorem dX7_ticks_103 : decode cX7_ticks 103 = .ok (.ifCond .le 22, 3) := dk_158 0 22 (dk_at dksX7_ticks_4 7 rfl rfl)
theorem dX7_ticks_106 : decode cX7_ticks 106 = .ok (.aload_n 0, 1) := dk_42 (dk_at dksX7_ticks_4 10 rfl rfl)
theorem dX7_ticks_107 : decode cX7_ticks 107 = .ok (.iload_n 1, 1) := dk_27 (dk_at dksX7_ticks_4 11 rfl rfl)
theorem dX7_ticks_108 : decode cX7_ticks 108 = .ok (.invokevirtual 287, 3) := dk_182 1 31 (dk_at dksX7_ticks_4 12 rfl rfl)
theorem dX7_ticks_111 : decode cX7_ticks 111 = .ok (.ifCond .eq 14, 3) := dk_153 0 14 (dk_at dksX7_ticks_4 15 rfl rfl)
theorem dX7_ticks_114 : decode cX7_ticks 114 = .ok (.iload_n 3, 1) := dk_29 (dk_at dksX7_ticks_4 18 rfl rfl)
theorem dX7_ticks_115 : decode cX7_ticks 115 = .ok (.iload_n 2, 1) := dk_28 (dk_at dksX7_ticks_4 19 rfl rfl)
theorem dX7_ticks_116 : decode cX7_ticks 116 = .ok (.if_icmp .ne 6, 3) := dk_160 0 6 (dk_at dksX7_ticks_4 20 rfl rfl)
theorem dX7_ticks_119 : decode cX7_ticks 119 = .ok (.iload 4, 2) := dk_21 4 (dk_at dksX7_ticks_5 0 rfl rfl)
theorem dX7_ticks_121 : decode cX7_ticks 121 = .ok (.ireturn, 1) := dk_172 (dk_at dksX7_ticks_5 2 rfl rfl)
theorem dX7_ticks_122 : decode cX7_ticks 122 = .ok (.iinc 3 1, 3) := dk_132 3 1 (dk_at dksX7_ticks_5 3 rfl rfl)
theorem dX7_ticks_125 : decode cX7_ticks 125 = .ok (.iinc 4 1, 3) := dk_132 4 1 (dk_at dksX7_ticks_5 6 rfl rfl)
theorem dX7_ticks_128 : decode cX7_ticks 128 = .ok (.goto (-96), 3) := dk_167 255 160 (dk_at dksX7_ticks_5 9 rfl rfl)
theorem dX7_ticks_131 : decode cX7_ticks 131 = .ok (.iload_n 2, 1) := dk_28 (dk_at dksX7_ticks_5 12 rfl rfl)
theorem dX7_ticks_132 : decode cX7_ticks 132 = .ok (.ifCond .ge 7, 3) := dk_156 0 7 (dk_at dksX7_ticks_5 13 rfl rfl)
theorem dX7_ticks_135 : decode cX7_ticks 135 = .ok (.iload_n 3, 1) := dk_29 (dk_at dksX7_ticks_5 16 rfl rfl)
theorem dX7_ticks_136 : decode cX7_ticks 136 = .ok (.goto 5, 3) := dk_167 0 5 (dk_at dksX7_ticks_5 17 rfl rfl)
theorem dX7_ticks_139 : decode cX7_ticks 139 = .ok (.bipush (-9), 2) := dk_16 247 (dk_at dksX7_ticks_5 20 rfl rfl)
theorem dX7_ticks_141 : decode cX7_ticks 141 = .ok (.ireturn, 1) := dk_172 (dk_at dksX7_ticks_5 22 rfl rfl)
abbrev cX7_isTick : ByteArray := prog_19_method_61_code
def yX7_isTick : MethodName := ⟨RX7, "isTick", "(I)Z"⟩
def dkwX7_isTick_3 : List UInt8 := [132, 3, 1, 167, 255, 189, 28, 172]
abbrev dktX7_isTick_3 : List UInt8 := dkwX7_isTick_3 ++ []
def dkwX7_isTick_2 : List UInt8 := [159, 0, 22, 42, 180, 0, 74, 29, 46, 42, 180, 0, 59, 29, 46, 159, 0, 7, 4, 167, 0, 4, 3, 61]
abbrev dktX7_isTick_2 : List UInt8 := dkwX7_isTick_2 ++ dktX7_isTick_3
def dkwX7_isTick_1 : List UInt8 := [160, 0, 44, 42, 180, 0, 74, 29, 46, 16, 249, 159, 0, 33, 42, 180, 0, 59, 29, 46, 16, 249]
abbrev dktX7_isTick_1 : List UInt8 := dkwX7_isTick_1 ++ dktX7_isTick_2
def dkwX7_isTick_0 : List UInt8 := [3, 61, 3, 62, 29, 42, 180, 0, 212, 162, 0, 65, 28, 154, 0, 49, 27, 29, 122, 4, 126, 4]
abbrev dktX7_isTick_0 : List UInt8 := dkwX7_isTick_0 ++ dktX7_isTick_1
theorem dksX7_isTick_0 : cX7_isTick.data.toList.drop 0 = dktX7_isTick_0 := by decide +kernel
theorem dksX7_isTick_1 : cX7_isTick.data.toList.drop 22 = dktX7_isTick_1 := dk_seg dksX7_isTick_0 22 rfl rfl
theorem dksX7_isTick_2 : cX7_isTick.data.toList.drop 44 = dktX7_isTick_2 := dk_seg dksX7_isTick_1 22 rfl rfl
theorem dksX7_isTick_3 : cX7_isTick.data.toList.drop 68 = dktX7_isTick_3 := dk_seg dksX7_isTick_2 24 rfl rfl
theorem dX7_isTick_0 : decode cX7_isTick 0 = .ok (.iconst 0, 1) := dk_3 (dk_at dksX7_isTick_0 0 rfl rfl)
theorem dX7_isTick_1 : decode cX7_isTick 1 = .ok (.istore_n 2, 1) := dk_61 (dk_at dksX7_isTick_0 1 rfl rfl)
theorem dX7_isTick_2 : decode cX7_isTick 2 = .ok (.iconst 0, 1) := dk_3 (dk_at dksX7_isTick_0 2 rfl rfl)
theorem dX7_isTick_3 : decode cX7_isTick 3 = .ok (.istore_n 3, 1) := dk_62 (dk_at dksX7_isTick_0 3 rfl rfl)
theorem dX7_isTick_4 : decode cX7_isTick 4 = .ok (.iload_n 3, 1) := dk_29 (dk_at dksX7_isTick_0 4 rfl rfl)
theorem dX7_isTick_5 : decode cX7_isTick 5 = .ok (.aload_n 0, 1) := dk_42 (dk_at dksX7_isTick_0 5 rfl rfl)
theorem dX7_isTick_6 : decode cX7_isTick 6 = .ok (.getfield 212, 3) := dk_180 0 212 (dk_at dksX7_isTick_0 6 rfl rfl)
theorem dX7_isTick_9 : decode cX7_isTick 9 = .ok (.if_icmp .ge 65, 3) := dk_162 0 65 (dk_at dksX7_isTick_0 9 rfl rfl)
theorem dX7_isTick_12 : decode cX7_isTick 12 = .ok (.iload_n 2, 1) := dk_28 (dk_at dksX7_isTick_0 12 rfl rfl)
theorem dX7_isTick_13 : decode cX7_isTick 13 = .ok (.ifCond .ne 49, 3) := dk_154 0 49 (dk_at dksX7_isTick_0 13 rfl rfl)
theorem dX7_isTick_16 : decode cX7_isTick 16 = .ok (.iload_n 1, 1) := dk_27 (dk_at dksX7_isTick_0 16 rfl rfl)
theorem dX7_isTick_17 : decode cX7_isTick 17 = .ok (.iload_n 3, 1) := dk_29 (dk_at dksX7_isTick_0 17 rfl rfl)
theorem dX7_isTick_18 : decode cX7_isTick 18 = .ok (.ishr, 1) := dk_122 (dk_at dksX7_isTick_0 18 rfl rfl)
theorem dX7_isTick_19 : decode cX7_isTick 19 = .ok (.iconst 1, 1) := dk_4 (dk_at dksX7_isTick_0 19 rfl rfl)
theorem dX7_isTick_20 : decode cX7_isTick 20 = .ok (.iand, 1) := dk_126 (dk_at dksX7_isTick_0 20 rfl rfl)
theorem dX7_isTick_21 : decode cX7_isTick 21 = .ok (.iconst 1, 1) := dk_4 (dk_at dksX7_isTick_0 21 rfl rfl)
theorem dX7_isTick_22 : decode cX7_isTick 22 = .ok (.if_icmp .ne 44, 3) := dk_160 0 44 (dk_at dksX7_isTick_1 0 rfl rfl)
theorem dX7_isTick_25 : decode cX7_isTick 25 = .ok (.aload_n 0, 1) := dk_42 (dk_at dksX7_isTick_1 3 rfl rfl)
theorem dX7_isTick_26 : decode cX7_isTick 26 = .ok (.getfield 74, 3) := dk_180 0 74 (dk_at dksX7_isTick_1 4 rfl rfl)
theorem dX7_isTick_29 : decode cX7_isTick 29 = .ok (.iload_n 3, 1) := dk_29 (dk_at dksX7_isTick_1 7 rfl rfl)
theorem dX7_isTick_30 : decode cX7_isTick 30 = .ok (.iaload, 1) := dk_46 (dk_at dksX7_isTick_1 8 rfl rfl)
theorem dX7_isTick_31 : decode cX7_isTick 31 = .ok (.bipush (-7), 2) := dk_16 249 (dk_at dksX7_isTick_1 9 rfl rfl)
theorem dX7_isTick_33 : decode cX7_isTick 33 = .ok (.if_icmp .eq 33, 3) := dk_159 0 33 (dk_at dksX7_isTick_1 11 rfl rfl)
theorem dX7_isTick_36 : decode cX7_isTick 36 = .ok (.aload_n 0, 1) := dk_42 (dk_at dksX7_isTick_1 14 rfl rfl)
theorem dX7_isTick_37 : decode cX7_isTick 37 = .ok (.getfield 59, 3) := dk_180 0 59 (dk_at dksX7_isTick_1 15 rfl rfl)
theorem dX7_isTick_40 : decode cX7_isTick 40 = .ok (.iload_n 3, 1) := dk_29 (dk_at dksX7_isTick_1 18 rfl rfl)
theorem dX7_isTick_41 : decode cX7_isTick 41 = .ok (.iaload, 1) := dk_46 (dk_at dksX7_isTick_1 19 rfl rfl)
theorem dX7_isTick_42 : decode cX7_isTick 42 = .ok (.bipush (-7), 2) := dk_16 249 (dk_at dksX7_isTick_1 20 rfl rfl)
theorem dX7_isTick_44 : decode cX7_isTick 44 = .ok (.if_icmp .eq 22, 3) := dk_159 0 22 (dk_at dksX7_isTick_2 0 rfl rfl)
theorem dX7_isTick_47 : decode cX7_isTick 47 = .ok (.aload_n 0, 1) := dk_42 (dk_at dksX7_isTick_2 3 rfl rfl)
theorem dX7_isTick_48 : decode cX7_isTick 48 = .ok (.getfield 74, 3) := dk_180 0 74 (dk_at dksX7_isTick_2 4 rfl rfl)
theorem dX7_isTick_51 : decode cX7_isTick 51 = .ok (.iload_n 3, 1) := dk_29 (dk_at dksX7_isTick_2 7 rfl rfl)
theorem dX7_isTick_52 : decode cX7_isTick 52 = .ok (.iaload, 1) := dk_46 (dk_at dksX7_isTick_2 8 rfl rfl)
theorem dX7_isTick_53 : decode cX7_isTick 53 = .ok (.aload_n 0, 1) := dk_42 (dk_at dksX7_isTick_2 9 rfl rfl)
theorem dX7_isTick_54 : decode cX7_isTick 54 = .ok (.getfield 59, 3) := dk_180 0 59 (dk_at dksX7_isTick_2 10 rfl rfl)
theorem dX7_isTick_57 : decode cX7_isTick 57 = .ok (.iload_n 3, 1) := dk_29 (dk_at dksX7_isTick_2 13 rfl rfl)
theorem dX7_isTick_58 : decode cX7_isTick 58 = .ok (.iaload, 1) := dk_46 (dk_at dksX7_isTick_2 14 rfl rfl)
theorem dX7_isTick_59 : decode cX7_isTick 59 = .ok (.if_icmp .eq 7, 3) := dk_159 0 7 (dk_at dksX7_isTick_2 15 rfl rfl)
theorem dX7_isTick_62 : decode cX7_isTick 62 = .ok (.iconst 1, 1) := dk_4 (dk_at dksX7_isTick_2 18 rfl rfl)
theorem dX7_isTick_63 : decode cX7_isTick 63 = .ok (.goto 4, 3) := dk_167 0 4 (dk_at dksX7_isTick_2 19 rfl rfl)
theorem dX7_isTick_66 : decode cX7_isTick 66 = .ok (.iconst 0, 1) := dk_3 (dk_at dksX7_isTick_2 22 rfl rfl)
theorem dX7_isTick_67 : decode cX7_isTick 67 = .ok (.istore_n 2, 1) := dk_61 (dk_at dksX7_isTick_2 23 rfl rfl)
theorem dX7_isTick_68 : decode cX7_isTick 68 = .ok (.iinc 3 1, 3) := dk_132 3 1 (dk_at dksX7_isTick_3 0 rfl rfl)
theorem dX7_isTick_71 : decode cX7_isTick 71 = .ok (.goto (-67), 3) := dk_167 255 189 (dk_at dksX7_isTick_3 3 rfl rfl)
theorem dX7_isTick_74 : decode cX7_isTick 74 = .ok (.iload_n 2, 1) := dk_28 (dk_at dksX7_isTick_3 6 rfl rfl)
theorem dX7_isTick_75 : decode cX7_isTick 75 = .ok (.ireturn, 1) := dk_172 (dk_at dksX7_isTick_3 7 rfl rfl)
abbrev cX7_delay : ByteArray := prog_19_method_63_code
def yX7_delay : MethodName := ⟨RX7, "delay", "(II)I"⟩
def dkwX7_delay_7 : List UInt8 := [132, 3, 1, 167, 255, 151, 16, 247, 172]
abbrev dktX7_delay_7 : List UInt8 := dkwX7_delay_7 ++ []
def dkwX7_delay_6 : List UInt8 := [167, 0, 4, 3, 54, 5, 132, 6, 1, 167, 255, 184, 21, 4, 153, 0, 10, 21, 5, 154, 0, 5, 29, 172]
abbrev dktX7_delay_6 : List UInt8 := dkwX7_delay_6 ++ dktX7_delay_7
def dkwX7_delay_5 : List UInt8 := [180, 0, 77, 21, 6, 51, 153, 0, 19, 42, 21, 6, 29, 96, 3, 182, 1, 27, 154, 0, 7, 4]
abbrev dktX7_delay_5 : List UInt8 := dkwX7_delay_5 ++ dktX7_delay_6
def dkwX7_delay_4 : List UInt8 := [180, 0, 77, 21, 6, 51, 153, 0, 7, 4, 167, 0, 4, 3, 54, 4, 21, 5, 154, 0, 25, 42]
abbrev dktX7_delay_4 : List UInt8 := dkwX7_delay_4 ++ dktX7_delay_5
def dkwX7_delay_3 : List UInt8 := [54, 5, 3, 54, 6, 21, 6, 29, 96, 42, 180, 0, 25, 3, 46, 163, 0, 65, 21, 4, 154, 0, 13, 42]
abbrev dktX7_delay_3 : List UInt8 := dkwX7_delay_3 ++ dktX7_delay_4
def dkwX7_delay_2 : List UInt8 := [132, 3, 1, 167, 255, 231, 42, 28, 182, 1, 24, 3, 62, 29, 16, 51, 162, 0, 105, 3, 54, 4, 3]
abbrev dktX7_delay_2 : List UInt8 := dkwX7_delay_2 ++ dktX7_delay_3
def dkwX7_delay_1 : List UInt8 := [62, 29, 42, 180, 0, 25, 3, 46, 163, 0, 21, 42, 180, 0, 77, 29, 42, 29, 3, 182, 1, 27, 84]
abbrev dktX7_delay_1 : List UInt8 := dkwX7_delay_1 ++ dktX7_delay_2
def dkwX7_delay_0 : List UInt8 := [42, 27, 182, 0, 250, 153, 0, 11, 42, 28, 182, 0, 250, 154, 0, 5, 2, 172, 42, 27, 182, 1, 24, 3]
abbrev dktX7_delay_0 : List UInt8 := dkwX7_delay_0 ++ dktX7_delay_1
theorem dksX7_delay_0 : cX7_delay.data.toList.drop 0 = dktX7_delay_0 := by decide +kernel
theorem dksX7_delay_1 : cX7_delay.data.toList.drop 24 = dktX7_delay_1 := dk_seg dksX7_delay_0 24 rfl rfl
theorem dksX7_delay_2 : cX7_delay.data.toList.drop 47 = dktX7_delay_2 := dk_seg dksX7_delay_1 23 rfl rfl
theorem dksX7_delay_3 : cX7_delay.data.toList.drop 70 = dktX7_delay_3 := dk_seg dksX7_delay_2 23 rfl rfl
theorem dksX7_delay_4 : cX7_delay.data.toList.drop 94 = dktX7_delay_4 := dk_seg dksX7_delay_3 24 rfl rfl
theorem dksX7_delay_5 : cX7_delay.data.toList.drop 116 = dktX7_delay_5 := dk_seg dksX7_delay_4 22 rfl rfl
theorem dksX7_delay_6 : cX7_delay.data.toList.drop 138 = dktX7_delay_6 := dk_seg dksX7_delay_5 22 rfl rfl
theorem dksX7_delay_7 : cX7_delay.data.toList.drop 162 = dktX7_delay_7 := dk_seg dksX7_delay_6 24 rfl rfl
theorem dX7_delay_0 : decode cX7_delay 0 = .ok (.aload_n 0, 1) := dk_42 (dk_at dksX7_delay_0 0 rfl rfl)
theorem dX7_delay_1 : decode cX7_delay 1 = .ok (.iload_n 1, 1) := dk_27 (dk_at dksX7_delay_0 1 rfl rfl)
theorem dX7_delay_2 : decode cX7_delay 2 = .ok (.invokevirtual 250, 3) := dk_182 0 250 (dk_at dksX7_delay_0 2 rfl rfl)
theorem dX7_delay_5 : decode cX7_delay 5 = .ok (.ifCond .eq 11, 3) := dk_153 0 11 (dk_at dksX7_delay_0 5 rfl rfl)
theorem dX7_delay_8 : decode cX7_delay 8 = .ok (.aload_n 0, 1) := dk_42 (dk_at dksX7_delay_0 8 rfl rfl)
theorem dX7_delay_9 : decode cX7_delay 9 = .ok (.iload_n 2, 1) := dk_28 (dk_at dksX7_delay_0 9 rfl rfl)
theorem dX7_delay_10 : decode cX7_delay 10 = .ok (.invokevirtual 250, 3) := dk_182 0 250 (dk_at dksX7_delay_0 10 rfl rfl)
theorem dX7_delay_13 : decode cX7_delay 13 = .ok (.ifCond .ne 5, 3) := dk_154 0 5 (dk_at dksX7_delay_0 13 rfl rfl)
theorem dX7_delay_16 : decode cX7_delay 16 = .ok (.iconst (-1), 1) := dk_2 (dk_at dksX7_delay_0 16 rfl rfl)
theorem dX7_delay_17 : decode cX7_delay 17 = .ok (.ireturn, 1) := dk_172 (dk_at dksX7_delay_0 17 rfl rfl)
theorem dX7_delay_18 : decode cX7_delay 18 = .ok (.aload_n 0, 1) := dk_42 (dk_at dksX7_delay_0 18 rfl rfl)
theorem dX7_delay_19 : decode cX7_delay 19 = .ok (.iload_n 1, 1) := dk_27 (dk_at dksX7_delay_0 19 rfl rfl)
theorem dX7_delay_20 : decode cX7_delay 20 = .ok (.invokevirtual 280, 3) := dk_182 1 24 (dk_at dksX7_delay_0 20 rfl rfl)
theorem dX7_delay_23 : decode cX7_delay 23 = .ok (.iconst 0, 1) := dk_3 (dk_at dksX7_delay_0 23 rfl rfl)
theorem dX7_delay_24 : decode cX7_delay 24 = .ok (.istore_n 3, 1) := dk_62 (dk_at dksX7_delay_1 0 rfl rfl)
theorem dX7_delay_25 : decode cX7_delay 25 = .ok (.iload_n 3, 1) := dk_29 (dk_at dksX7_delay_1 1 rfl rfl)
theorem dX7_delay_26 : decode cX7_delay 26 = .ok (.aload_n 0, 1) := dk_42 (dk_at dksX7_delay_1 2 rfl rfl)
theorem dX7_delay_27 : decode cX7_delay 27 = .ok (.getfield 25, 3) := dk_180 0 25 (dk_at dksX7_delay_1 3 rfl rfl)
theorem dX7_delay_30 : decode cX7_delay 30 = .ok (.iconst 0, 1) := dk_3 (dk_at dksX7_delay_1 6 rfl rfl)
theorem dX7_delay_31 : decode cX7_delay 31 = .ok (.iaload, 1) := dk_46 (dk_at dksX7_delay_1 7 rfl rfl)
theorem dX7_delay_32 : decode cX7_delay 32 = .ok (.if_icmp .gt 21, 3) := dk_163 0 21 (dk_at dksX7_delay_1 8 rfl rfl)
theorem dX7_delay_35 : decode cX7_delay 35 = .ok (.aload_n 0, 1) := dk_42 (dk_at dksX7_delay_1 11 rfl rfl)
theorem dX7_delay_36 : decode cX7_delay 36 = .ok (.getfield 77, 3) := dk_180 0 77 (dk_at dksX7_delay_1 12 rfl rfl)
theorem dX7_delay_39 : decode cX7_delay 39 = .ok (.iload_n 3, 1) := dk_29 (dk_at dksX7_delay_1 15 rfl rfl)
theorem dX7_delay_40 : decode cX7_delay 40 = .ok (.aload_n 0, 1) := dk_42 (dk_at dksX7_delay_1 16 rfl rfl)
theorem dX7_delay_41 : decode cX7_delay 41 = .ok (.iload_n 3, 1) := dk_29 (dk_at dksX7_delay_1 17 rfl rfl)
theorem dX7_delay_42 : decode cX7_delay 42 = .ok (.iconst 0, 1) := dk_3 (dk_at dksX7_delay_1 18 rfl rfl)
theorem dX7_delay_43 : decode cX7_delay 43 = .ok (.invokevirtual 283, 3) := dk_182 1 27 (dk_at dksX7_delay_1 19 rfl rfl)
theorem dX7_delay_46 : decode cX7_delay 46 = .ok (.bastore, 1) := dk_84 (dk_at dksX7_delay_1 22 rfl rfl)
theorem dX7_delay_47 : decode cX7_delay 47 = .ok (.iinc 3 1, 3) := dk_132 3 1 (dk_at dksX7_delay_2 0 rfl rfl)
theorem dX7_delay_50 : decode cX7_delay 50 = .ok (.goto (-25), 3) := dk_167 255 231 (dk_at dksX7_delay_2 3 rfl rfl)
theorem dX7_delay_53 : decode cX7_delay 53 = .ok (.aload_n 0, 1) := dk_42 (dk_at dksX7_delay_2 6 rfl rfl)
theorem dX7_delay_54 : decode cX7_delay 54 = .ok (.iload_n 2, 1) := dk_28 (dk_at dksX7_delay_2 7 rfl rfl)
theorem dX7_delay_55 : decode cX7_delay 55 = .ok (.invokevirtual 280, 3) := dk_182 1 24 (dk_at dksX7_delay_2 8 rfl rfl)
theorem dX7_delay_58 : decode cX7_delay 58 = .ok (.iconst 0, 1) := dk_3 (dk_at dksX7_delay_2 11 rfl rfl)
theorem dX7_delay_59 : decode cX7_delay 59 = .ok (.istore_n 3, 1) := dk_62 (dk_at dksX7_delay_2 12 rfl rfl)
theorem dX7_delay_60 : decode cX7_delay 60 = .ok (.iload_n 3, 1) := dk_29 (dk_at dksX7_delay_2 13 rfl rfl)
theorem dX7_delay_61 : decode cX7_delay 61 = .ok (.bipush 51, 2) := dk_16 51 (dk_at dksX7_delay_2 14 rfl rfl)
theorem dX7_delay_63 : decode cX7_delay 63 = .ok (.if_icmp .ge 105, 3) := dk_162 0 105 (dk_at dksX7_delay_2 16 rfl rfl)
theorem dX7_delay_66 : decode cX7_delay 66 = .ok (.iconst 0, 1) := dk_3 (dk_at dksX7_delay_2 19 rfl rfl)
theorem dX7_delay_67 : decode cX7_delay 67 = .ok (.istore 4, 2) := dk_54 4 (dk_at dksX7_delay_2 20 rfl rfl)
theorem dX7_delay_69 : decode cX7_delay 69 = .ok (.iconst 0, 1) := dk_3 (dk_at dksX7_delay_2 22 rfl rfl)
theorem dX7_delay_70 : decode cX7_delay 70 = .ok (.istore 5, 2) := dk_54 5 (dk_at dksX7_delay_3 0 rfl rfl)
theorem dX7_delay_72 : decode cX7_delay 72 = .ok (.iconst 0, 1) := dk_3 (dk_at dksX7_delay_3 2 rfl rfl)
theorem dX7_delay_73 : decode cX7_delay 73 = .ok (.istore 6, 2) := dk_54 6 (dk_at dksX7_delay_3 3 rfl rfl)
theorem dX7_delay_75 : decode cX7_delay 75 = .ok (.iload 6, 2) := dk_21 6 (dk_at dksX7_delay_3 5 rfl rfl)
theorem dX7_delay_77 : decode cX7_delay 77 = .ok (.iload_n 3, 1) := dk_29 (dk_at dksX7_delay_3 7 rfl rfl)
theorem dX7_delay_78 : decode cX7_delay 78 = .ok (.iadd, 1) := dk_96 (dk_at dksX7_delay_3 8 rfl rfl)
theorem dX7_delay_79 : decode cX7_delay 79 = .ok (.aload_n 0, 1) := dk_42 (dk_at dksX7_delay_3 9 rfl rfl)
theorem dX7_delay_80 : decode cX7_delay 80 = .ok (.getfield 25, 3) := dk_180 0 25 (dk_at dksX7_delay_3 10 rfl rfl)
theorem dX7_delay_83 : decode cX7_delay 83 = .ok (.iconst 0, 1) := dk_3 (dk_at dksX7_delay_3 13 rfl rfl)
theorem dX7_delay_84 : decode cX7_delay 84 = .ok (.iaload, 1) := dk_46 (dk_at dksX7_delay_3 14 rfl rfl)
theorem dX7_delay_85 : decode cX7_delay 85 = .ok (.if_icmp .gt 65, 3) := dk_163 0 65 (dk_at dksX7_delay_3 15 rfl rfl)
theorem dX7_delay_88 : decode cX7_delay 88 = .ok (.iload 4, 2) := dk_21 4 (dk_at dksX7_delay_3 18 rfl rfl)
theorem dX7_delay_90 : decode cX7_delay 90 = .ok (.ifCond .ne 13, 3) := dk_154 0 13 (dk_at dksX7_delay_3 20 rfl rfl)
theorem dX7_delay_93 : decode cX7_delay 93 = .ok (.aload_n 0, 1) := dk_42 (dk_at dksX7_delay_3 23 rfl rfl)
theorem dX7_delay_94 : decode cX7_delay 94 = .ok (.getfield 77, 3) := dk_180 0 77 (dk_at dksX7_delay_4 0 rfl rfl)
theorem dX7_delay_97 : decode cX7_delay 97 = .ok (.iload 6, 2) := dk_21 6 (dk_at dksX7_delay_4 3 rfl rfl)
theorem dX7_delay_99 : decode cX7_delay 99 = .ok (.baload, 1) := dk_51 (dk_at dksX7_delay_4 5 rfl rfl)
theorem dX7_delay_100 : decode cX7_delay 100 = .ok (.ifCond .eq 7, 3) := dk_153 0 7 (dk_at dksX7_delay_4 6 rfl rfl)
theorem dX7_delay_103 : decode cX7_delay 103 = .ok (.iconst 1, 1) := dk_4 (dk_at dksX7_delay_4 9 rfl rfl)
theorem dX7_delay_104 : decode cX7_delay 104 = .ok (.goto 4, 3) := dk_167 0 4 (dk_at dksX7_delay_4 10 rfl rfl)
theorem dX7_delay_107 : decode cX7_delay 107 = .ok (.iconst 0, 1) := dk_3 (dk_at dksX7_delay_4 13 rfl rfl)
theorem dX7_delay_108 : decode cX7_delay 108 = .ok (.istore 4, 2) := dk_54 4 (dk_at dksX7_delay_4 14 rfl rfl)
theorem dX7_delay_110 : decode cX7_delay 110 = .ok (.iload 5, 2) := dk_21 5 (dk_at dksX7_delay_4 16 rfl rfl)
theorem dX7_delay_112 : decode cX7_delay 112 = .ok (.ifCond .ne 25, 3) := dk_154 0 25 (dk_at dksX7_delay_4 18 rfl rfl)
theorem dX7_delay_115 : decode cX7_delay 115 = .ok (.aload_n 0, 1) := dk_42 (dk_at dksX7_delay_4 21 rfl rfl)
theorem dX7_delay_116 : decode cX7_delay 116 = .ok (.getfield 77, 3) := dk_180 0 77 (dk_at dksX7_delay_5 0 rfl rfl)
theorem dX7_delay_119 : decode cX7_delay 119 = .ok (.iload 6, 2) := dk_21 6 (dk_at dksX7_delay_5 3 rfl rfl)
theorem dX7_delay_121 : decode cX7_delay 121 = .ok (.baload, 1) := dk_51 (dk_at dksX7_delay_5 5 rfl rfl)
theorem dX7_delay_122 : decode cX7_delay 122 = .ok (.ifCond .eq 19, 3) := dk_153 0 19 (dk_at dksX7_delay_5 6 rfl rfl)
theorem dX7_delay_125 : decode cX7_delay 125 = .ok (.aload_n 0, 1) := dk_42 (dk_at dksX7_delay_5 9 rfl rfl)
theorem dX7_delay_126 : decode cX7_delay 126 = .ok (.iload 6, 2) := dk_21 6 (dk_at dksX7_delay_5 10 rfl rfl)
theorem dX7_delay_128 : decode cX7_delay 128 = .ok (.iload_n 3, 1) := dk_29 (dk_at dksX7_delay_5 12 rfl rfl)
theorem dX7_delay_129 : decode cX7_delay 129 = .ok (.iadd, 1) := dk_96 (dk_at dksX7_delay_5 13 rfl rfl)
theorem dX7_delay_130 : decode cX7_delay 130 = .ok (.iconst 0, 1) := dk_3 (dk_at dksX7_delay_5 14 rfl rfl)
theorem dX7_delay_131 : decode cX7_delay 131 = .ok (.invokevirtual 283, 3) := dk_182 1 27 (dk_at dksX7_delay_5 15 rfl rfl)
theorem dX7_delay_134 : decode cX7_delay 134 = .ok (.ifCond .ne 7, 3) := dk_154 0 7 (dk_at dksX7_delay_5 18 rfl rfl)
theorem dX7_delay_137 : decode cX7_delay 137 = .ok (.iconst 1, 1) := dk_4 (dk_at dksX7_delay_5 21 rfl rfl)
theorem dX7_delay_138 : decode cX7_delay 138 = .ok (.goto 4, 3) := dk_167 0 4 (dk_at dksX7_delay_6 0 rfl rfl)
theorem dX7_delay_141 : decode cX7_delay 141 = .ok (.iconst 0, 1) := dk_3 (dk_at dksX7_delay_6 3 rfl rfl)
theorem dX7_delay_142 : decode cX7_delay 142 = .ok (.istore 5, 2) := dk_54 5 (dk_at dksX7_delay_6 4 rfl rfl)
theorem dX7_delay_144 : decode cX7_delay 144 = .ok (.iinc 6 1, 3) := dk_132 6 1 (dk_at dksX7_delay_6 6 rfl rfl)
theorem dX7_delay_147 : decode cX7_delay 147 = .ok (.goto (-72), 3) := dk_167 255 184 (dk_at dksX7_delay_6 9 rfl rfl)
theorem dX7_delay_150 : decode cX7_delay 150 = .ok (.iload 4, 2) := dk_21 4 (dk_at dksX7_delay_6 12 rfl rfl)
theorem dX7_delay_152 : decode cX7_delay 152 = .ok (.ifCond .eq 10, 3) := dk_153 0 10 (dk_at dksX7_delay_6 14 rfl rfl)
theorem dX7_delay_155 : decode cX7_delay 155 = .ok (.iload 5, 2) := dk_21 5 (dk_at dksX7_delay_6 17 rfl rfl)
theorem dX7_delay_157 : decode cX7_delay 157 = .ok (.ifCond .ne 5, 3) := dk_154 0 5 (dk_at dksX7_delay_6 19 rfl rfl)
theorem dX7_delay_160 : decode cX7_delay 160 = .ok (.iload_n 3, 1) := dk_29 (dk_at dksX7_delay_6 22 rfl rfl)
theorem dX7_delay_161 : decode cX7_delay 161 = .ok (.ireturn, 1) := dk_172 (dk_at dksX7_delay_6 23 rfl rfl)
theorem dX7_delay_162 : decode cX7_delay 162 = .ok (.iinc 3 1, 3) := dk_132 3 1 (dk_at dksX7_delay_7 0 rfl rfl)
theorem dX7_delay_165 : decode cX7_delay 165 = .ok (.goto (-105), 3) := dk_167 255 151 (dk_at dksX7_delay_7 3 rfl rfl)
theorem dX7_delay_168 : decode cX7_delay 168 = .ok (.bipush (-9), 2) := dk_16 247 (dk_at dksX7_delay_7 6 rfl rfl)
theorem dX7_delay_170 : decode cX7_delay 170 = .ok (.ireturn, 1) := dk_172 (dk_at dksX7_delay_7 8 rfl rfl)
abbrev cX7_jump : ByteArray := prog_19_method_64_code
def yX7_jump : MethodName := ⟨RX7, "jump", "(I)I"⟩
def dkwX7_jump_0 : List UInt8 := [42, 27, 182, 1, 12, 153, 0, 11, 42, 27, 182, 1, 9, 167, 0, 4, 2, 172]
abbrev dktX7_jump_0 : List UInt8 := dkwX7_jump_0 ++ []
theorem dksX7_jump_0 : cX7_jump.data.toList.drop 0 = dktX7_jump_0 := by decide +kernel
theorem dX7_jump_0 : decode cX7_jump 0 = .ok (.aload_n 0, 1) := dk_42 (dk_at dksX7_jump_0 0 rfl rfl)
theorem dX7_jump_1 : decode cX7_jump 1 = .ok (.iload_n 1, 1) := dk_27 (dk_at dksX7_jump_0 1 rfl rfl)
theorem dX7_jump_2 : decode cX7_jump 2 = .ok (.invokevirtual 268, 3) := dk_182 1 12 (dk_at dksX7_jump_0 2 rfl rfl)
theorem dX7_jump_5 : decode cX7_jump 5 = .ok (.ifCond .eq 11, 3) := dk_153 0 11 (dk_at dksX7_jump_0 5 rfl rfl)
theorem dX7_jump_8 : decode cX7_jump 8 = .ok (.aload_n 0, 1) := dk_42 (dk_at dksX7_jump_0 8 rfl rfl)
theorem dX7_jump_9 : decode cX7_jump 9 = .ok (.iload_n 1, 1) := dk_27 (dk_at dksX7_jump_0 9 rfl rfl)
theorem dX7_jump_10 : decode cX7_jump 10 = .ok (.invokevirtual 265, 3) := dk_182 1 9 (dk_at dksX7_jump_0 10 rfl rfl)
theorem dX7_jump_13 : decode cX7_jump 13 = .ok (.goto 4, 3) := dk_167 0 4 (dk_at dksX7_jump_0 13 rfl rfl)
theorem dX7_jump_16 : decode cX7_jump 16 = .ok (.iconst (-1), 1) := dk_2 (dk_at dksX7_jump_0 16 rfl rfl)
theorem dX7_jump_17 : decode cX7_jump 17 = .ok (.ireturn, 1) := dk_172 (dk_at dksX7_jump_0 17 rfl rfl)
abbrev cX7_block : ByteArray := prog_19_method_70_code
def yX7_block : MethodName := ⟨RX7, "block", "(II)I"⟩
def dkwX7_block_2 : List UInt8 := [180, 1, 37, 167, 0, 4, 29, 172]
abbrev dktX7_block_2 : List UInt8 := dkwX7_block_2 ++ []
def dkwX7_block_1 : List UInt8 := [42, 180, 0, 25, 27, 184, 1, 0, 28, 96, 46, 172, 42, 27, 182, 1, 52, 62, 28, 6, 160, 0, 10, 42]
abbrev dktX7_block_1 : List UInt8 := dkwX7_block_1 ++ dktX7_block_2
def dkwX7_block_0 : List UInt8 := [42, 27, 182, 1, 49, 153, 0, 12, 28, 3, 7, 184, 0, 95, 154, 0, 5, 2, 172, 28, 6, 162, 0, 15]
abbrev dktX7_block_0 : List UInt8 := dkwX7_block_0 ++ dktX7_block_1
theorem dksX7_block_0 : cX7_block.data.toList.drop 0 = dktX7_block_0 := by decide +kernel
theorem dksX7_block_1 : cX7_block.data.toList.drop 24 = dktX7_block_1 := dk_seg dksX7_block_0 24 rfl rfl
theorem dksX7_block_2 : cX7_block.data.toList.drop 48 = dktX7_block_2 := dk_seg dksX7_block_1 24 rfl rfl
theorem dX7_block_0 : decode cX7_block 0 = .ok (.aload_n 0, 1) := dk_42 (dk_at dksX7_block_0 0 rfl rfl)
theorem dX7_block_1 : decode cX7_block 1 = .ok (.iload_n 1, 1) := dk_27 (dk_at dksX7_block_0 1 rfl rfl)
theorem dX7_block_2 : decode cX7_block 2 = .ok (.invokevirtual 305, 3) := dk_182 1 49 (dk_at dksX7_block_0 2 rfl rfl)
theorem dX7_block_5 : decode cX7_block 5 = .ok (.ifCond .eq 12, 3) := dk_153 0 12 (dk_at dksX7_block_0 5 rfl rfl)
theorem dX7_block_8 : decode cX7_block 8 = .ok (.iload_n 2, 1) := dk_28 (dk_at dksX7_block_0 8 rfl rfl)
theorem dX7_block_9 : decode cX7_block 9 = .ok (.iconst 0, 1) := dk_3 (dk_at dksX7_block_0 9 rfl rfl)
theorem dX7_block_10 : decode cX7_block 10 = .ok (.iconst 4, 1) := dk_7 (dk_at dksX7_block_0 10 rfl rfl)
theorem dX7_block_11 : decode cX7_block 11 = .ok (.invokestatic 95, 3) := dk_184 0 95 (dk_at dksX7_block_0 11 rfl rfl)
theorem dX7_block_14 : decode cX7_block 14 = .ok (.ifCond .ne 5, 3) := dk_154 0 5 (dk_at dksX7_block_0 14 rfl rfl)
theorem dX7_block_17 : decode cX7_block 17 = .ok (.iconst (-1), 1) := dk_2 (dk_at dksX7_block_0 17 rfl rfl)
theorem dX7_block_18 : decode cX7_block 18 = .ok (.ireturn, 1) := dk_172 (dk_at dksX7_block_0 18 rfl rfl)
theorem dX7_block_19 : decode cX7_block 19 = .ok (.iload_n 2, 1) := dk_28 (dk_at dksX7_block_0 19 rfl rfl)
theorem dX7_block_20 : decode cX7_block 20 = .ok (.iconst 3, 1) := dk_6 (dk_at dksX7_block_0 20 rfl rfl)
theorem dX7_block_21 : decode cX7_block 21 = .ok (.if_icmp .ge 15, 3) := dk_162 0 15 (dk_at dksX7_block_0 21 rfl rfl)
theorem dX7_block_24 : decode cX7_block 24 = .ok (.aload_n 0, 1) := dk_42 (dk_at dksX7_block_1 0 rfl rfl)
theorem dX7_block_25 : decode cX7_block 25 = .ok (.getfield 25, 3) := dk_180 0 25 (dk_at dksX7_block_1 1 rfl rfl)
theorem dX7_block_28 : decode cX7_block 28 = .ok (.iload_n 1, 1) := dk_27 (dk_at dksX7_block_1 4 rfl rfl)
theorem dX7_block_29 : decode cX7_block 29 = .ok (.invokestatic 256, 3) := dk_184 1 0 (dk_at dksX7_block_1 5 rfl rfl)
theorem dX7_block_32 : decode cX7_block 32 = .ok (.iload_n 2, 1) := dk_28 (dk_at dksX7_block_1 8 rfl rfl)
theorem dX7_block_33 : decode cX7_block 33 = .ok (.iadd, 1) := dk_96 (dk_at dksX7_block_1 9 rfl rfl)
theorem dX7_block_34 : decode cX7_block 34 = .ok (.iaload, 1) := dk_46 (dk_at dksX7_block_1 10 rfl rfl)
theorem dX7_block_35 : decode cX7_block 35 = .ok (.ireturn, 1) := dk_172 (dk_at dksX7_block_1 11 rfl rfl)
theorem dX7_block_36 : decode cX7_block 36 = .ok (.aload_n 0, 1) := dk_42 (dk_at dksX7_block_1 12 rfl rfl)
theorem dX7_block_37 : decode cX7_block 37 = .ok (.iload_n 1, 1) := dk_27 (dk_at dksX7_block_1 13 rfl rfl)
theorem dX7_block_38 : decode cX7_block 38 = .ok (.invokevirtual 308, 3) := dk_182 1 52 (dk_at dksX7_block_1 14 rfl rfl)
theorem dX7_block_41 : decode cX7_block 41 = .ok (.istore_n 3, 1) := dk_62 (dk_at dksX7_block_1 17 rfl rfl)
theorem dX7_block_42 : decode cX7_block 42 = .ok (.iload_n 2, 1) := dk_28 (dk_at dksX7_block_1 18 rfl rfl)
theorem dX7_block_43 : decode cX7_block 43 = .ok (.iconst 3, 1) := dk_6 (dk_at dksX7_block_1 19 rfl rfl)
theorem dX7_block_44 : decode cX7_block 44 = .ok (.if_icmp .ne 10, 3) := dk_160 0 10 (dk_at dksX7_block_1 20 rfl rfl)
theorem dX7_block_47 : decode cX7_block 47 = .ok (.aload_n 0, 1) := dk_42 (dk_at dksX7_block_1 23 rfl rfl)
theorem dX7_block_48 : decode cX7_block 48 = .ok (.getfield 293, 3) := dk_180 1 37 (dk_at dksX7_block_2 0 rfl rfl)
theorem dX7_block_51 : decode cX7_block 51 = .ok (.goto 4, 3) := dk_167 0 4 (dk_at dksX7_block_2 3 rfl rfl)
theorem dX7_block_54 : decode cX7_block 54 = .ok (.iload_n 3, 1) := dk_29 (dk_at dksX7_block_2 6 rfl rfl)
theorem dX7_block_55 : decode cX7_block 55 = .ok (.ireturn, 1) := dk_172 (dk_at dksX7_block_2 7 rfl rfl)
abbrev cX7_isBlock : ByteArray := prog_19_method_65_code
def yX7_isBlock : MethodName := ⟨RX7, "isBlock", "(I)Z"⟩
def dkwX7_isBlock_0 : List UInt8 := [27, 3, 42, 180, 0, 25, 6, 46, 4, 100, 184, 0, 95, 172]
abbrev dktX7_isBlock_0 : List UInt8 := dkwX7_isBlock_0 ++ []
theorem dksX7_isBlock_0 : cX7_isBlock.data.toList.drop 0 = dktX7_isBlock_0 := by decide +kernel
theorem dX7_isBlock_0 : decode cX7_isBlock 0 = .ok (.iload_n 1, 1) := dk_27 (dk_at dksX7_isBlock_0 0 rfl rfl)
theorem dX7_isBlock_1 : decode cX7_isBlock 1 = .ok (.iconst 0, 1) := dk_3 (dk_at dksX7_isBlock_0 1 rfl rfl)
theorem dX7_isBlock_2 : decode cX7_isBlock 2 = .ok (.aload_n 0, 1) := dk_42 (dk_at dksX7_isBlock_0 2 rfl rfl)
theorem dX7_isBlock_3 : decode cX7_isBlock 3 = .ok (.getfield 25, 3) := dk_180 0 25 (dk_at dksX7_isBlock_0 3 rfl rfl)
theorem dX7_isBlock_6 : decode cX7_isBlock 6 = .ok (.iconst 3, 1) := dk_6 (dk_at dksX7_isBlock_0 6 rfl rfl)
theorem dX7_isBlock_7 : decode cX7_isBlock 7 = .ok (.iaload, 1) := dk_46 (dk_at dksX7_isBlock_0 7 rfl rfl)
theorem dX7_isBlock_8 : decode cX7_isBlock 8 = .ok (.iconst 1, 1) := dk_4 (dk_at dksX7_isBlock_0 8 rfl rfl)
theorem dX7_isBlock_9 : decode cX7_isBlock 9 = .ok (.isub, 1) := dk_100 (dk_at dksX7_isBlock_0 9 rfl rfl)
theorem dX7_isBlock_10 : decode cX7_isBlock 10 = .ok (.invokestatic 95, 3) := dk_184 0 95 (dk_at dksX7_isBlock_0 10 rfl rfl)
theorem dX7_isBlock_13 : decode cX7_isBlock 13 = .ok (.ireturn, 1) := dk_172 (dk_at dksX7_isBlock_0 13 rfl rfl)
abbrev cX7_roomOfBlock : ByteArray := prog_19_method_69_code
def yX7_roomOfBlock : MethodName := ⟨RX7, "roomOfBlock", "(I)I"⟩
def dkwX7_roomOfBlock_1 : List UInt8 := [46, 182, 1, 46, 172]
abbrev dktX7_roomOfBlock_1 : List UInt8 := dkwX7_roomOfBlock_1 ++ []
def dkwX7_roomOfBlock_0 : List UInt8 := [42, 3, 181, 1, 34, 42, 27, 182, 1, 43, 42, 3, 42, 180, 1, 34, 42, 180, 0, 25, 27, 184, 1, 0]
abbrev dktX7_roomOfBlock_0 : List UInt8 := dkwX7_roomOfBlock_0 ++ dktX7_roomOfBlock_1
theorem dksX7_roomOfBlock_0 : cX7_roomOfBlock.data.toList.drop 0 = dktX7_roomOfBlock_0 := by decide +kernel
theorem dksX7_roomOfBlock_1 : cX7_roomOfBlock.data.toList.drop 24 = dktX7_roomOfBlock_1 := dk_seg dksX7_roomOfBlock_0 24 rfl rfl
theorem dX7_roomOfBlock_0 : decode cX7_roomOfBlock 0 = .ok (.aload_n 0, 1) := dk_42 (dk_at dksX7_roomOfBlock_0 0 rfl rfl)
theorem dX7_roomOfBlock_1 : decode cX7_roomOfBlock 1 = .ok (.iconst 0, 1) := dk_3 (dk_at dksX7_roomOfBlock_0 1 rfl rfl)
theorem dX7_roomOfBlock_2 : decode cX7_roomOfBlock 2 = .ok (.putfield 290, 3) := dk_181 1 34 (dk_at dksX7_roomOfBlock_0 2 rfl rfl)
theorem dX7_roomOfBlock_5 : decode cX7_roomOfBlock 5 = .ok (.aload_n 0, 1) := dk_42 (dk_at dksX7_roomOfBlock_0 5 rfl rfl)
theorem dX7_roomOfBlock_6 : decode cX7_roomOfBlock 6 = .ok (.iload_n 1, 1) := dk_27 (dk_at dksX7_roomOfBlock_0 6 rfl rfl)
theorem dX7_roomOfBlock_7 : decode cX7_roomOfBlock 7 = .ok (.invokevirtual 299, 3) := dk_182 1 43 (dk_at dksX7_roomOfBlock_0 7 rfl rfl)
theorem dX7_roomOfBlock_10 : decode cX7_roomOfBlock 10 = .ok (.aload_n 0, 1) := dk_42 (dk_at dksX7_roomOfBlock_0 10 rfl rfl)
theorem dX7_roomOfBlock_11 : decode cX7_roomOfBlock 11 = .ok (.iconst 0, 1) := dk_3 (dk_at dksX7_roomOfBlock_0 11 rfl rfl)
theorem dX7_roomOfBlock_12 : decode cX7_roomOfBlock 12 = .ok (.aload_n 0, 1) := dk_42 (dk_at dksX7_roomOfBlock_0 12 rfl rfl)
theorem dX7_roomOfBlock_13 : decode cX7_roomOfBlock 13 = .ok (.getfield 290, 3) := dk_180 1 34 (dk_at dksX7_roomOfBlock_0 13 rfl rfl)
theorem dX7_roomOfBlock_16 : decode cX7_roomOfBlock 16 = .ok (.aload_n 0, 1) := dk_42 (dk_at dksX7_roomOfBlock_0 16 rfl rfl)
theorem dX7_roomOfBlock_17 : decode cX7_roomOfBlock 17 = .ok (.getfield 25, 3) := dk_180 0 25 (dk_at dksX7_roomOfBlock_0 17 rfl rfl)
theorem dX7_roomOfBlock_20 : decode cX7_roomOfBlock 20 = .ok (.iload_n 1, 1) := dk_27 (dk_at dksX7_roomOfBlock_0 20 rfl rfl)
theorem dX7_roomOfBlock_21 : decode cX7_roomOfBlock 21 = .ok (.invokestatic 256, 3) := dk_184 1 0 (dk_at dksX7_roomOfBlock_0 21 rfl rfl)
theorem dX7_roomOfBlock_24 : decode cX7_roomOfBlock 24 = .ok (.iaload, 1) := dk_46 (dk_at dksX7_roomOfBlock_1 0 rfl rfl)
theorem dX7_roomOfBlock_25 : decode cX7_roomOfBlock 25 = .ok (.invokevirtual 302, 3) := dk_182 1 46 (dk_at dksX7_roomOfBlock_1 1 rfl rfl)
theorem dX7_roomOfBlock_28 : decode cX7_roomOfBlock 28 = .ok (.ireturn, 1) := dk_172 (dk_at dksX7_roomOfBlock_1 4 rfl rfl)
abbrev cX7_addsRow : ByteArray := prog_19_method_66_code
def yX7_addsRow : MethodName := ⟨RX7, "addsRow", "(I)V"⟩
def dkwX7_addsRow_3 : List UInt8 := [89, 180, 1, 34, 4, 96, 181, 1, 34, 132, 2, 1, 167, 255, 176, 177]
abbrev dktX7_addsRow_3 : List UInt8 := dkwX7_addsRow_3 ++ []
def dkwX7_addsRow_2 : List UInt8 := [42, 180, 1, 34, 42, 180, 0, 25, 27, 184, 1, 0, 16, 9, 96, 6, 28, 104, 96, 5, 96, 46, 79, 42]
abbrev dktX7_addsRow_2 : List UInt8 := dkwX7_addsRow_2 ++ dktX7_addsRow_3
def dkwX7_addsRow_1 : List UInt8 := [180, 1, 34, 42, 180, 0, 25, 27, 184, 1, 0, 16, 9, 96, 6, 28, 104, 96, 46, 79, 42, 180, 0, 83]
abbrev dktX7_addsRow_1 : List UInt8 := dkwX7_addsRow_1 ++ dktX7_addsRow_2
def dkwX7_addsRow_0 : List UInt8 := [3, 61, 28, 42, 180, 0, 25, 27, 184, 1, 0, 5, 96, 46, 162, 0, 71, 42, 180, 0, 80, 42]
abbrev dktX7_addsRow_0 : List UInt8 := dkwX7_addsRow_0 ++ dktX7_addsRow_1
theorem dksX7_addsRow_0 : cX7_addsRow.data.toList.drop 0 = dktX7_addsRow_0 := by decide +kernel
theorem dksX7_addsRow_1 : cX7_addsRow.data.toList.drop 22 = dktX7_addsRow_1 := dk_seg dksX7_addsRow_0 22 rfl rfl
theorem dksX7_addsRow_2 : cX7_addsRow.data.toList.drop 46 = dktX7_addsRow_2 := dk_seg dksX7_addsRow_1 24 rfl rfl
theorem dksX7_addsRow_3 : cX7_addsRow.data.toList.drop 70 = dktX7_addsRow_3 := dk_seg dksX7_addsRow_2 24 rfl rfl
theorem dX7_addsRow_0 : decode cX7_addsRow 0 = .ok (.iconst 0, 1) := dk_3 (dk_at dksX7_addsRow_0 0 rfl rfl)
theorem dX7_addsRow_1 : decode cX7_addsRow 1 = .ok (.istore_n 2, 1) := dk_61 (dk_at dksX7_addsRow_0 1 rfl rfl)
theorem dX7_addsRow_2 : decode cX7_addsRow 2 = .ok (.iload_n 2, 1) := dk_28 (dk_at dksX7_addsRow_0 2 rfl rfl)
theorem dX7_addsRow_3 : decode cX7_addsRow 3 = .ok (.aload_n 0, 1) := dk_42 (dk_at dksX7_addsRow_0 3 rfl rfl)
theorem dX7_addsRow_4 : decode cX7_addsRow 4 = .ok (.getfield 25, 3) := dk_180 0 25 (dk_at dksX7_addsRow_0 4 rfl rfl)
theorem dX7_addsRow_7 : decode cX7_addsRow 7 = .ok (.iload_n 1, 1) := dk_27 (dk_at dksX7_addsRow_0 7 rfl rfl)
theorem dX7_addsRow_8 : decode cX7_addsRow 8 = .ok (.invokestatic 256, 3) := dk_184 1 0 (dk_at dksX7_addsRow_0 8 rfl rfl)
theorem dX7_addsRow_11 : decode cX7_addsRow 11 = .ok (.iconst 2, 1) := dk_5 (dk_at dksX7_addsRow_0 11 rfl rfl)
theorem dX7_addsRow_12 : decode cX7_addsRow 12 = .ok (.iadd, 1) := dk_96 (dk_at dksX7_addsRow_0 12 rfl rfl)
theorem dX7_addsRow_13 : decode cX7_addsRow 13 = .ok (.iaload, 1) := dk_46 (dk_at dksX7_addsRow_0 13 rfl rfl)
theorem dX7_addsRow_14 : decode cX7_addsRow 14 = .ok (.if_icmp .ge 71, 3) := dk_162 0 71 (dk_at dksX7_addsRow_0 14 rfl rfl)
theorem dX7_addsRow_17 : decode cX7_addsRow 17 = .ok (.aload_n 0, 1) := dk_42 (dk_at dksX7_addsRow_0 17 rfl rfl)
theorem dX7_addsRow_18 : decode cX7_addsRow 18 = .ok (.getfield 80, 3) := dk_180 0 80 (dk_at dksX7_addsRow_0 18 rfl rfl)
theorem dX7_addsRow_21 : decode cX7_addsRow 21 = .ok (.aload_n 0, 1) := dk_42 (dk_at dksX7_addsRow_0 21 rfl rfl)
theorem dX7_addsRow_22 : decode cX7_addsRow 22 = .ok (.getfield 290, 3) := dk_180 1 34 (dk_at dksX7_addsRow_1 0 rfl rfl)
theorem dX7_addsRow_25 : decode cX7_addsRow 25 = .ok (.aload_n 0, 1) := dk_42 (dk_at dksX7_addsRow_1 3 rfl rfl)
theorem dX7_addsRow_26 : decode cX7_addsRow 26 = .ok (.getfield 25, 3) := dk_180 0 25 (dk_at dksX7_addsRow_1 4 rfl rfl)
theorem dX7_addsRow_29 : decode cX7_addsRow 29 = .ok (.iload_n 1, 1) := dk_27 (dk_at dksX7_addsRow_1 7 rfl rfl)
theorem dX7_addsRow_30 : decode cX7_addsRow 30 = .ok (.invokestatic 256, 3) := dk_184 1 0 (dk_at dksX7_addsRow_1 8 rfl rfl)
theorem dX7_addsRow_33 : decode cX7_addsRow 33 = .ok (.bipush 9, 2) := dk_16 9 (dk_at dksX7_addsRow_1 11 rfl rfl)
theorem dX7_addsRow_35 : decode cX7_addsRow 35 = .ok (.iadd, 1) := dk_96 (dk_at dksX7_addsRow_1 13 rfl rfl)
theorem dX7_addsRow_36 : decode cX7_addsRow 36 = .ok (.iconst 3, 1) := dk_6 (dk_at dksX7_addsRow_1 14 rfl rfl)
theorem dX7_addsRow_37 : decode cX7_addsRow 37 = .ok (.iload_n 2, 1) := dk_28 (dk_at dksX7_addsRow_1 15 rfl rfl)
theorem dX7_addsRow_38 : decode cX7_addsRow 38 = .ok (.imul, 1) := dk_104 (dk_at dksX7_addsRow_1 16 rfl rfl)
theorem dX7_addsRow_39 : decode cX7_addsRow 39 = .ok (.iadd, 1) := dk_96 (dk_at dksX7_addsRow_1 17 rfl rfl)
theorem dX7_addsRow_40 : decode cX7_addsRow 40 = .ok (.iaload, 1) := dk_46 (dk_at dksX7_addsRow_1 18 rfl rfl)
theorem dX7_addsRow_41 : decode cX7_addsRow 41 = .ok (.iastore, 1) := dk_79 (dk_at dksX7_addsRow_1 19 rfl rfl)
theorem dX7_addsRow_42 : decode cX7_addsRow 42 = .ok (.aload_n 0, 1) := dk_42 (dk_at dksX7_addsRow_1 20 rfl rfl)
theorem dX7_addsRow_43 : decode cX7_addsRow 43 = .ok (.getfield 83, 3) := dk_180 0 83 (dk_at dksX7_addsRow_1 21 rfl rfl)
theorem dX7_addsRow_46 : decode cX7_addsRow 46 = .ok (.aload_n 0, 1) := dk_42 (dk_at dksX7_addsRow_2 0 rfl rfl)
theorem dX7_addsRow_47 : decode cX7_addsRow 47 = .ok (.getfield 290, 3) := dk_180 1 34 (dk_at dksX7_addsRow_2 1 rfl rfl)
theorem dX7_addsRow_50 : decode cX7_addsRow 50 = .ok (.aload_n 0, 1) := dk_42 (dk_at dksX7_addsRow_2 4 rfl rfl)
theorem dX7_addsRow_51 : decode cX7_addsRow 51 = .ok (.getfield 25, 3) := dk_180 0 25 (dk_at dksX7_addsRow_2 5 rfl rfl)
theorem dX7_addsRow_54 : decode cX7_addsRow 54 = .ok (.iload_n 1, 1) := dk_27 (dk_at dksX7_addsRow_2 8 rfl rfl)
theorem dX7_addsRow_55 : decode cX7_addsRow 55 = .ok (.invokestatic 256, 3) := dk_184 1 0 (dk_at dksX7_addsRow_2 9 rfl rfl)
theorem dX7_addsRow_58 : decode cX7_addsRow 58 = .ok (.bipush 9, 2) := dk_16 9 (dk_at dksX7_addsRow_2 12 rfl rfl)
theorem dX7_addsRow_60 : decode cX7_addsRow 60 = .ok (.iadd, 1) := dk_96 (dk_at dksX7_addsRow_2 14 rfl rfl)
theorem dX7_addsRow_61 : decode cX7_addsRow 61 = .ok (.iconst 3, 1) := dk_6 (dk_at dksX7_addsRow_2 15 rfl rfl)
theorem dX7_addsRow_62 : decode cX7_addsRow 62 = .ok (.iload_n 2, 1) := dk_28 (dk_at dksX7_addsRow_2 16 rfl rfl)
theorem dX7_addsRow_63 : decode cX7_addsRow 63 = .ok (.imul, 1) := dk_104 (dk_at dksX7_addsRow_2 17 rfl rfl)
theorem dX7_addsRow_64 : decode cX7_addsRow 64 = .ok (.iadd, 1) := dk_96 (dk_at dksX7_addsRow_2 18 rfl rfl)
theorem dX7_addsRow_65 : decode cX7_addsRow 65 = .ok (.iconst 2, 1) := dk_5 (dk_at dksX7_addsRow_2 19 rfl rfl)
theorem dX7_addsRow_66 : decode cX7_addsRow 66 = .ok (.iadd, 1) := dk_96 (dk_at dksX7_addsRow_2 20 rfl rfl)
theorem dX7_addsRow_67 : decode cX7_addsRow 67 = .ok (.iaload, 1) := dk_46 (dk_at dksX7_addsRow_2 21 rfl rfl)
theorem dX7_addsRow_68 : decode cX7_addsRow 68 = .ok (.iastore, 1) := dk_79 (dk_at dksX7_addsRow_2 22 rfl rfl)
theorem dX7_addsRow_69 : decode cX7_addsRow 69 = .ok (.aload_n 0, 1) := dk_42 (dk_at dksX7_addsRow_2 23 rfl rfl)
theorem dX7_addsRow_70 : decode cX7_addsRow 70 = .ok (.dup, 1) := dk_89 (dk_at dksX7_addsRow_3 0 rfl rfl)
theorem dX7_addsRow_71 : decode cX7_addsRow 71 = .ok (.getfield 290, 3) := dk_180 1 34 (dk_at dksX7_addsRow_3 1 rfl rfl)
theorem dX7_addsRow_74 : decode cX7_addsRow 74 = .ok (.iconst 1, 1) := dk_4 (dk_at dksX7_addsRow_3 4 rfl rfl)
theorem dX7_addsRow_75 : decode cX7_addsRow 75 = .ok (.iadd, 1) := dk_96 (dk_at dksX7_addsRow_3 5 rfl rfl)
theorem dX7_addsRow_76 : decode cX7_addsRow 76 = .ok (.putfield 290, 3) := dk_181 1 34 (dk_at dksX7_addsRow_3 6 rfl rfl)
theorem dX7_addsRow_79 : decode cX7_addsRow 79 = .ok (.iinc 2 1, 3) := dk_132 2 1 (dk_at dksX7_addsRow_3 9 rfl rfl)
theorem dX7_addsRow_82 : decode cX7_addsRow 82 = .ok (.goto (-80), 3) := dk_167 255 176 (dk_at dksX7_addsRow_3 12 rfl rfl)
theorem dX7_addsRow_85 : decode cX7_addsRow 85 = .ok (.return_, 1) := dk_177 (dk_at dksX7_addsRow_3 15 rfl rfl)
abbrev cX7_roomOf : ByteArray := prog_19_method_68_code
def yX7_roomOf : MethodName := ⟨RX7, "roomOf", "(III)I"⟩
def dkwX7_roomOf_4 : List UInt8 := [21, 6, 46, 54, 5, 132, 6, 1, 167, 255, 175, 21, 4, 5, 42, 180, 1, 37, 104, 96, 172]
abbrev dktX7_roomOf_4 : List UInt8 := dkwX7_roomOf_4 ++ []
def dkwX7_roomOf_3 : List UInt8 := [167, 0, 15, 21, 7, 16, 16, 162, 0, 7, 4, 167, 0, 4, 5, 96, 96, 54, 4, 42, 180, 0, 80]
abbrev dktX7_roomOf_3 : List UInt8 := dkwX7_roomOf_3 ++ dktX7_roomOf_4
def dkwX7_roomOf_2 : List UInt8 := [21, 6, 46, 182, 1, 40, 4, 164, 0, 7, 4, 167, 0, 4, 3, 96, 21, 7, 154, 0, 7, 3]
abbrev dktX7_roomOf_2 : List UInt8 := dkwX7_roomOf_2 ++ dktX7_roomOf_3
def dkwX7_roomOf_1 : List UInt8 := [162, 0, 79, 42, 180, 0, 80, 21, 6, 46, 21, 5, 100, 54, 7, 21, 4, 4, 42, 42, 180, 0, 83]
abbrev dktX7_roomOf_1 : List UInt8 := dkwX7_roomOf_1 ++ dktX7_roomOf_2
def dkwX7_roomOf_0 : List UInt8 := [42, 3, 181, 1, 37, 5, 42, 180, 0, 215, 96, 54, 4, 29, 54, 5, 27, 54, 6, 21, 6, 27, 28, 96]
abbrev dktX7_roomOf_0 : List UInt8 := dkwX7_roomOf_0 ++ dktX7_roomOf_1
theorem dksX7_roomOf_0 : cX7_roomOf.data.toList.drop 0 = dktX7_roomOf_0 := by decide +kernel
theorem dksX7_roomOf_1 : cX7_roomOf.data.toList.drop 24 = dktX7_roomOf_1 := dk_seg dksX7_roomOf_0 24 rfl rfl
theorem dksX7_roomOf_2 : cX7_roomOf.data.toList.drop 47 = dktX7_roomOf_2 := dk_seg dksX7_roomOf_1 23 rfl rfl
theorem dksX7_roomOf_3 : cX7_roomOf.data.toList.drop 69 = dktX7_roomOf_3 := dk_seg dksX7_roomOf_2 22 rfl rfl
theorem dksX7_roomOf_4 : cX7_roomOf.data.toList.drop 92 = dktX7_roomOf_4 := dk_seg dksX7_roomOf_3 23 rfl rfl
theorem dX7_roomOf_0 : decode cX7_roomOf 0 = .ok (.aload_n 0, 1) := dk_42 (dk_at dksX7_roomOf_0 0 rfl rfl)
theorem dX7_roomOf_1 : decode cX7_roomOf 1 = .ok (.iconst 0, 1) := dk_3 (dk_at dksX7_roomOf_0 1 rfl rfl)
theorem dX7_roomOf_2 : decode cX7_roomOf 2 = .ok (.putfield 293, 3) := dk_181 1 37 (dk_at dksX7_roomOf_0 2 rfl rfl)
theorem dX7_roomOf_5 : decode cX7_roomOf 5 = .ok (.iconst 2, 1) := dk_5 (dk_at dksX7_roomOf_0 5 rfl rfl)
theorem dX7_roomOf_6 : decode cX7_roomOf 6 = .ok (.aload_n 0, 1) := dk_42 (dk_at dksX7_roomOf_0 6 rfl rfl)
theorem dX7_roomOf_7 : decode cX7_roomOf 7 = .ok (.getfield 215, 3) := dk_180 0 215 (dk_at dksX7_roomOf_0 7 rfl rfl)
theorem dX7_roomOf_10 : decode cX7_roomOf 10 = .ok (.iadd, 1) := dk_96 (dk_at dksX7_roomOf_0 10 rfl rfl)
theorem dX7_roomOf_11 : decode cX7_roomOf 11 = .ok (.istore 4, 2) := dk_54 4 (dk_at dksX7_roomOf_0 11 rfl rfl)
theorem dX7_roomOf_13 : decode cX7_roomOf 13 = .ok (.iload_n 3, 1) := dk_29 (dk_at dksX7_roomOf_0 13 rfl rfl)
theorem dX7_roomOf_14 : decode cX7_roomOf 14 = .ok (.istore 5, 2) := dk_54 5 (dk_at dksX7_roomOf_0 14 rfl rfl)
theorem dX7_roomOf_16 : decode cX7_roomOf 16 = .ok (.iload_n 1, 1) := dk_27 (dk_at dksX7_roomOf_0 16 rfl rfl)
theorem dX7_roomOf_17 : decode cX7_roomOf 17 = .ok (.istore 6, 2) := dk_54 6 (dk_at dksX7_roomOf_0 17 rfl rfl)
theorem dX7_roomOf_19 : decode cX7_roomOf 19 = .ok (.iload 6, 2) := dk_21 6 (dk_at dksX7_roomOf_0 19 rfl rfl)
theorem dX7_roomOf_21 : decode cX7_roomOf 21 = .ok (.iload_n 1, 1) := dk_27 (dk_at dksX7_roomOf_0 21 rfl rfl)
theorem dX7_roomOf_22 : decode cX7_roomOf 22 = .ok (.iload_n 2, 1) := dk_28 (dk_at dksX7_roomOf_0 22 rfl rfl)
theorem dX7_roomOf_23 : decode cX7_roomOf 23 = .ok (.iadd, 1) := dk_96 (dk_at dksX7_roomOf_0 23 rfl rfl)
theorem dX7_roomOf_24 : decode cX7_roomOf 24 = .ok (.if_icmp .ge 79, 3) := dk_162 0 79 (dk_at dksX7_roomOf_1 0 rfl rfl)
theorem dX7_roomOf_27 : decode cX7_roomOf 27 = .ok (.aload_n 0, 1) := dk_42 (dk_at dksX7_roomOf_1 3 rfl rfl)
theorem dX7_roomOf_28 : decode cX7_roomOf 28 = .ok (.getfield 80, 3) := dk_180 0 80 (dk_at dksX7_roomOf_1 4 rfl rfl)
theorem dX7_roomOf_31 : decode cX7_roomOf 31 = .ok (.iload 6, 2) := dk_21 6 (dk_at dksX7_roomOf_1 7 rfl rfl)
theorem dX7_roomOf_33 : decode cX7_roomOf 33 = .ok (.iaload, 1) := dk_46 (dk_at dksX7_roomOf_1 9 rfl rfl)
theorem dX7_roomOf_34 : decode cX7_roomOf 34 = .ok (.iload 5, 2) := dk_21 5 (dk_at dksX7_roomOf_1 10 rfl rfl)
theorem dX7_roomOf_36 : decode cX7_roomOf 36 = .ok (.isub, 1) := dk_100 (dk_at dksX7_roomOf_1 12 rfl rfl)
theorem dX7_roomOf_37 : decode cX7_roomOf 37 = .ok (.istore 7, 2) := dk_54 7 (dk_at dksX7_roomOf_1 13 rfl rfl)
theorem dX7_roomOf_39 : decode cX7_roomOf 39 = .ok (.iload 4, 2) := dk_21 4 (dk_at dksX7_roomOf_1 15 rfl rfl)
theorem dX7_roomOf_41 : decode cX7_roomOf 41 = .ok (.iconst 1, 1) := dk_4 (dk_at dksX7_roomOf_1 17 rfl rfl)
theorem dX7_roomOf_42 : decode cX7_roomOf 42 = .ok (.aload_n 0, 1) := dk_42 (dk_at dksX7_roomOf_1 18 rfl rfl)
theorem dX7_roomOf_43 : decode cX7_roomOf 43 = .ok (.aload_n 0, 1) := dk_42 (dk_at dksX7_roomOf_1 19 rfl rfl)
theorem dX7_roomOf_44 : decode cX7_roomOf 44 = .ok (.getfield 83, 3) := dk_180 0 83 (dk_at dksX7_roomOf_1 20 rfl rfl)
theorem dX7_roomOf_47 : decode cX7_roomOf 47 = .ok (.iload 6, 2) := dk_21 6 (dk_at dksX7_roomOf_2 0 rfl rfl)
theorem dX7_roomOf_49 : decode cX7_roomOf 49 = .ok (.iaload, 1) := dk_46 (dk_at dksX7_roomOf_2 2 rfl rfl)
theorem dX7_roomOf_50 : decode cX7_roomOf 50 = .ok (.invokevirtual 296, 3) := dk_182 1 40 (dk_at dksX7_roomOf_2 3 rfl rfl)
theorem dX7_roomOf_53 : decode cX7_roomOf 53 = .ok (.iconst 1, 1) := dk_4 (dk_at dksX7_roomOf_2 6 rfl rfl)
theorem dX7_roomOf_54 : decode cX7_roomOf 54 = .ok (.if_icmp .le 7, 3) := dk_164 0 7 (dk_at dksX7_roomOf_2 7 rfl rfl)
theorem dX7_roomOf_57 : decode cX7_roomOf 57 = .ok (.iconst 1, 1) := dk_4 (dk_at dksX7_roomOf_2 10 rfl rfl)
theorem dX7_roomOf_58 : decode cX7_roomOf 58 = .ok (.goto 4, 3) := dk_167 0 4 (dk_at dksX7_roomOf_2 11 rfl rfl)
theorem dX7_roomOf_61 : decode cX7_roomOf 61 = .ok (.iconst 0, 1) := dk_3 (dk_at dksX7_roomOf_2 14 rfl rfl)
theorem dX7_roomOf_62 : decode cX7_roomOf 62 = .ok (.iadd, 1) := dk_96 (dk_at dksX7_roomOf_2 15 rfl rfl)
theorem dX7_roomOf_63 : decode cX7_roomOf 63 = .ok (.iload 7, 2) := dk_21 7 (dk_at dksX7_roomOf_2 16 rfl rfl)
theorem dX7_roomOf_65 : decode cX7_roomOf 65 = .ok (.ifCond .ne 7, 3) := dk_154 0 7 (dk_at dksX7_roomOf_2 18 rfl rfl)
theorem dX7_roomOf_68 : decode cX7_roomOf 68 = .ok (.iconst 0, 1) := dk_3 (dk_at dksX7_roomOf_2 21 rfl rfl)
theorem dX7_roomOf_69 : decode cX7_roomOf 69 = .ok (.goto 15, 3) := dk_167 0 15 (dk_at dksX7_roomOf_3 0 rfl rfl)
theorem dX7_roomOf_72 : decode cX7_roomOf 72 = .ok (.iload 7, 2) := dk_21 7 (dk_at dksX7_roomOf_3 3 rfl rfl)
theorem dX7_roomOf_74 : decode cX7_roomOf 74 = .ok (.bipush 16, 2) := dk_16 16 (dk_at dksX7_roomOf_3 5 rfl rfl)
theorem dX7_roomOf_76 : decode cX7_roomOf 76 = .ok (.if_icmp .ge 7, 3) := dk_162 0 7 (dk_at dksX7_roomOf_3 7 rfl rfl)
theorem dX7_roomOf_79 : decode cX7_roomOf 79 = .ok (.iconst 1, 1) := dk_4 (dk_at dksX7_roomOf_3 10 rfl rfl)
theorem dX7_roomOf_80 : decode cX7_roomOf 80 = .ok (.goto 4, 3) := dk_167 0 4 (dk_at dksX7_roomOf_3 11 rfl rfl)
theorem dX7_roomOf_83 : decode cX7_roomOf 83 = .ok (.iconst 2, 1) := dk_5 (dk_at dksX7_roomOf_3 14 rfl rfl)
theorem dX7_roomOf_84 : decode cX7_roomOf 84 = .ok (.iadd, 1) := dk_96 (dk_at dksX7_roomOf_3 15 rfl rfl)
theorem dX7_roomOf_85 : decode cX7_roomOf 85 = .ok (.iadd, 1) := dk_96 (dk_at dksX7_roomOf_3 16 rfl rfl)
theorem dX7_roomOf_86 : decode cX7_roomOf 86 = .ok (.istore 4, 2) := dk_54 4 (dk_at dksX7_roomOf_3 17 rfl rfl)
theorem dX7_roomOf_88 : decode cX7_roomOf 88 = .ok (.aload_n 0, 1) := dk_42 (dk_at dksX7_roomOf_3 19 rfl rfl)
theorem dX7_roomOf_89 : decode cX7_roomOf 89 = .ok (.getfield 80, 3) := dk_180 0 80 (dk_at dksX7_roomOf_3 20 rfl rfl)
theorem dX7_roomOf_92 : decode cX7_roomOf 92 = .ok (.iload 6, 2) := dk_21 6 (dk_at dksX7_roomOf_4 0 rfl rfl)
theorem dX7_roomOf_94 : decode cX7_roomOf 94 = .ok (.iaload, 1) := dk_46 (dk_at dksX7_roomOf_4 2 rfl rfl)
theorem dX7_roomOf_95 : decode cX7_roomOf 95 = .ok (.istore 5, 2) := dk_54 5 (dk_at dksX7_roomOf_4 3 rfl rfl)
theorem dX7_roomOf_97 : decode cX7_roomOf 97 = .ok (.iinc 6 1, 3) := dk_132 6 1 (dk_at dksX7_roomOf_4 5 rfl rfl)
theorem dX7_roomOf_100 : decode cX7_roomOf 100 = .ok (.goto (-81), 3) := dk_167 255 175 (dk_at dksX7_roomOf_4 8 rfl rfl)
theorem dX7_roomOf_103 : decode cX7_roomOf 103 = .ok (.iload 4, 2) := dk_21 4 (dk_at dksX7_roomOf_4 11 rfl rfl)
theorem dX7_roomOf_105 : decode cX7_roomOf 105 = .ok (.iconst 2, 1) := dk_5 (dk_at dksX7_roomOf_4 13 rfl rfl)
theorem dX7_roomOf_106 : decode cX7_roomOf 106 = .ok (.aload_n 0, 1) := dk_42 (dk_at dksX7_roomOf_4 14 rfl rfl)
theorem dX7_roomOf_107 : decode cX7_roomOf 107 = .ok (.getfield 293, 3) := dk_180 1 37 (dk_at dksX7_roomOf_4 15 rfl rfl)
theorem dX7_roomOf_110 : decode cX7_roomOf 110 = .ok (.imul, 1) := dk_104 (dk_at dksX7_roomOf_4 18 rfl rfl)
theorem dX7_roomOf_111 : decode cX7_roomOf 111 = .ok (.iadd, 1) := dk_96 (dk_at dksX7_roomOf_4 19 rfl rfl)
theorem dX7_roomOf_112 : decode cX7_roomOf 112 = .ok (.ireturn, 1) := dk_172 (dk_at dksX7_roomOf_4 20 rfl rfl)
abbrev cX7_placeOf : ByteArray := prog_19_method_67_code
def yX7_placeOf : MethodName := ⟨RX7, "placeOf", "(I)I"⟩
def dkwX7_placeOf_2 : List UInt8 := [181, 1, 37, 42, 180, 1, 37, 4, 100, 172]
abbrev dktX7_placeOf_2 : List UInt8 := dkwX7_placeOf_2 ++ []
def dkwX7_placeOf_1 : List UInt8 := [132, 2, 1, 167, 255, 233, 42, 180, 0, 86, 42, 180, 1, 37, 27, 79, 42, 89, 180, 1, 37, 4, 96]
abbrev dktX7_placeOf_1 : List UInt8 := dkwX7_placeOf_1 ++ dktX7_placeOf_2
def dkwX7_placeOf_0 : List UInt8 := [3, 61, 28, 42, 180, 1, 37, 162, 0, 21, 42, 180, 0, 86, 28, 46, 27, 160, 0, 5, 28, 172]
abbrev dktX7_placeOf_0 : List UInt8 := dkwX7_placeOf_0 ++ dktX7_placeOf_1
theorem dksX7_placeOf_0 : cX7_placeOf.data.toList.drop 0 = dktX7_placeOf_0 := by decide +kernel
theorem dksX7_placeOf_1 : cX7_placeOf.data.toList.drop 22 = dktX7_placeOf_1 := dk_seg dksX7_placeOf_0 22 rfl rfl
theorem dksX7_placeOf_2 : cX7_placeOf.data.toList.drop 45 = dktX7_placeOf_2 := dk_seg dksX7_placeOf_1 23 rfl rfl
theorem dX7_placeOf_0 : decode cX7_placeOf 0 = .ok (.iconst 0, 1) := dk_3 (dk_at dksX7_placeOf_0 0 rfl rfl)
theorem dX7_placeOf_1 : decode cX7_placeOf 1 = .ok (.istore_n 2, 1) := dk_61 (dk_at dksX7_placeOf_0 1 rfl rfl)
theorem dX7_placeOf_2 : decode cX7_placeOf 2 = .ok (.iload_n 2, 1) := dk_28 (dk_at dksX7_placeOf_0 2 rfl rfl)
theorem dX7_placeOf_3 : decode cX7_placeOf 3 = .ok (.aload_n 0, 1) := dk_42 (dk_at dksX7_placeOf_0 3 rfl rfl)
theorem dX7_placeOf_4 : decode cX7_placeOf 4 = .ok (.getfield 293, 3) := dk_180 1 37 (dk_at dksX7_placeOf_0 4 rfl rfl)
theorem dX7_placeOf_7 : decode cX7_placeOf 7 = .ok (.if_icmp .ge 21, 3) := dk_162 0 21 (dk_at dksX7_placeOf_0 7 rfl rfl)
theorem dX7_placeOf_10 : decode cX7_placeOf 10 = .ok (.aload_n 0, 1) := dk_42 (dk_at dksX7_placeOf_0 10 rfl rfl)
theorem dX7_placeOf_11 : decode cX7_placeOf 11 = .ok (.getfield 86, 3) := dk_180 0 86 (dk_at dksX7_placeOf_0 11 rfl rfl)
theorem dX7_placeOf_14 : decode cX7_placeOf 14 = .ok (.iload_n 2, 1) := dk_28 (dk_at dksX7_placeOf_0 14 rfl rfl)
theorem dX7_placeOf_15 : decode cX7_placeOf 15 = .ok (.iaload, 1) := dk_46 (dk_at dksX7_placeOf_0 15 rfl rfl)
theorem dX7_placeOf_16 : decode cX7_placeOf 16 = .ok (.iload_n 1, 1) := dk_27 (dk_at dksX7_placeOf_0 16 rfl rfl)
theorem dX7_placeOf_17 : decode cX7_placeOf 17 = .ok (.if_icmp .ne 5, 3) := dk_160 0 5 (dk_at dksX7_placeOf_0 17 rfl rfl)
theorem dX7_placeOf_20 : decode cX7_placeOf 20 = .ok (.iload_n 2, 1) := dk_28 (dk_at dksX7_placeOf_0 20 rfl rfl)
theorem dX7_placeOf_21 : decode cX7_placeOf 21 = .ok (.ireturn, 1) := dk_172 (dk_at dksX7_placeOf_0 21 rfl rfl)
theorem dX7_placeOf_22 : decode cX7_placeOf 22 = .ok (.iinc 2 1, 3) := dk_132 2 1 (dk_at dksX7_placeOf_1 0 rfl rfl)
theorem dX7_placeOf_25 : decode cX7_placeOf 25 = .ok (.goto (-23), 3) := dk_167 255 233 (dk_at dksX7_placeOf_1 3 rfl rfl)
theorem dX7_placeOf_28 : decode cX7_placeOf 28 = .ok (.aload_n 0, 1) := dk_42 (dk_at dksX7_placeOf_1 6 rfl rfl)
theorem dX7_placeOf_29 : decode cX7_placeOf 29 = .ok (.getfield 86, 3) := dk_180 0 86 (dk_at dksX7_placeOf_1 7 rfl rfl)
theorem dX7_placeOf_32 : decode cX7_placeOf 32 = .ok (.aload_n 0, 1) := dk_42 (dk_at dksX7_placeOf_1 10 rfl rfl)
theorem dX7_placeOf_33 : decode cX7_placeOf 33 = .ok (.getfield 293, 3) := dk_180 1 37 (dk_at dksX7_placeOf_1 11 rfl rfl)
theorem dX7_placeOf_36 : decode cX7_placeOf 36 = .ok (.iload_n 1, 1) := dk_27 (dk_at dksX7_placeOf_1 14 rfl rfl)
theorem dX7_placeOf_37 : decode cX7_placeOf 37 = .ok (.iastore, 1) := dk_79 (dk_at dksX7_placeOf_1 15 rfl rfl)
theorem dX7_placeOf_38 : decode cX7_placeOf 38 = .ok (.aload_n 0, 1) := dk_42 (dk_at dksX7_placeOf_1 16 rfl rfl)
theorem dX7_placeOf_39 : decode cX7_placeOf 39 = .ok (.dup, 1) := dk_89 (dk_at dksX7_placeOf_1 17 rfl rfl)
theorem dX7_placeOf_40 : decode cX7_placeOf 40 = .ok (.getfield 293, 3) := dk_180 1 37 (dk_at dksX7_placeOf_1 18 rfl rfl)
theorem dX7_placeOf_43 : decode cX7_placeOf 43 = .ok (.iconst 1, 1) := dk_4 (dk_at dksX7_placeOf_1 21 rfl rfl)
theorem dX7_placeOf_44 : decode cX7_placeOf 44 = .ok (.iadd, 1) := dk_96 (dk_at dksX7_placeOf_1 22 rfl rfl)
theorem dX7_placeOf_45 : decode cX7_placeOf 45 = .ok (.putfield 293, 3) := dk_181 1 37 (dk_at dksX7_placeOf_2 0 rfl rfl)
theorem dX7_placeOf_48 : decode cX7_placeOf 48 = .ok (.aload_n 0, 1) := dk_42 (dk_at dksX7_placeOf_2 3 rfl rfl)
theorem dX7_placeOf_49 : decode cX7_placeOf 49 = .ok (.getfield 293, 3) := dk_180 1 37 (dk_at dksX7_placeOf_2 4 rfl rfl)
theorem dX7_placeOf_52 : decode cX7_placeOf 52 = .ok (.iconst 1, 1) := dk_4 (dk_at dksX7_placeOf_2 7 rfl rfl)
theorem dX7_placeOf_53 : decode cX7_placeOf 53 = .ok (.isub, 1) := dk_100 (dk_at dksX7_placeOf_2 8 rfl rfl)
theorem dX7_placeOf_54 : decode cX7_placeOf 54 = .ok (.ireturn, 1) := dk_172 (dk_at dksX7_placeOf_2 9 rfl rfl)
abbrev cX7_frame : ByteArray := prog_19_method_71_code
def yX7_frame : MethodName := ⟨RX7, "frame", "(II)I"⟩
def dkwX7_frame_1 : List UInt8 := [6, 96, 42, 28, 8, 182, 0, 233, 96, 46, 167, 0, 4, 2, 172]
abbrev dktX7_frame_1 : List UInt8 := dkwX7_frame_1 ++ []
def dkwX7_frame_0 : List UInt8 := [42, 27, 182, 1, 49, 153, 0, 32, 42, 28, 182, 1, 3, 153, 0, 24, 42, 180, 0, 25, 27, 184, 1, 0]
abbrev dktX7_frame_0 : List UInt8 := dkwX7_frame_0 ++ dktX7_frame_1
theorem dksX7_frame_0 : cX7_frame.data.toList.drop 0 = dktX7_frame_0 := by decide +kernel
theorem dksX7_frame_1 : cX7_frame.data.toList.drop 24 = dktX7_frame_1 := dk_seg dksX7_frame_0 24 rfl rfl
theorem dX7_frame_0 : decode cX7_frame 0 = .ok (.aload_n 0, 1) := dk_42 (dk_at dksX7_frame_0 0 rfl rfl)
theorem dX7_frame_1 : decode cX7_frame 1 = .ok (.iload_n 1, 1) := dk_27 (dk_at dksX7_frame_0 1 rfl rfl)
theorem dX7_frame_2 : decode cX7_frame 2 = .ok (.invokevirtual 305, 3) := dk_182 1 49 (dk_at dksX7_frame_0 2 rfl rfl)
theorem dX7_frame_5 : decode cX7_frame 5 = .ok (.ifCond .eq 32, 3) := dk_153 0 32 (dk_at dksX7_frame_0 5 rfl rfl)
theorem dX7_frame_8 : decode cX7_frame 8 = .ok (.aload_n 0, 1) := dk_42 (dk_at dksX7_frame_0 8 rfl rfl)
theorem dX7_frame_9 : decode cX7_frame 9 = .ok (.iload_n 2, 1) := dk_28 (dk_at dksX7_frame_0 9 rfl rfl)
theorem dX7_frame_10 : decode cX7_frame 10 = .ok (.invokevirtual 259, 3) := dk_182 1 3 (dk_at dksX7_frame_0 10 rfl rfl)
theorem dX7_frame_13 : decode cX7_frame 13 = .ok (.ifCond .eq 24, 3) := dk_153 0 24 (dk_at dksX7_frame_0 13 rfl rfl)
theorem dX7_frame_16 : decode cX7_frame 16 = .ok (.aload_n 0, 1) := dk_42 (dk_at dksX7_frame_0 16 rfl rfl)
theorem dX7_frame_17 : decode cX7_frame 17 = .ok (.getfield 25, 3) := dk_180 0 25 (dk_at dksX7_frame_0 17 rfl rfl)
theorem dX7_frame_20 : decode cX7_frame 20 = .ok (.iload_n 1, 1) := dk_27 (dk_at dksX7_frame_0 20 rfl rfl)
theorem dX7_frame_21 : decode cX7_frame 21 = .ok (.invokestatic 256, 3) := dk_184 1 0 (dk_at dksX7_frame_0 21 rfl rfl)
theorem dX7_frame_24 : decode cX7_frame 24 = .ok (.iconst 3, 1) := dk_6 (dk_at dksX7_frame_1 0 rfl rfl)
theorem dX7_frame_25 : decode cX7_frame 25 = .ok (.iadd, 1) := dk_96 (dk_at dksX7_frame_1 1 rfl rfl)
theorem dX7_frame_26 : decode cX7_frame 26 = .ok (.aload_n 0, 1) := dk_42 (dk_at dksX7_frame_1 2 rfl rfl)
theorem dX7_frame_27 : decode cX7_frame 27 = .ok (.iload_n 2, 1) := dk_28 (dk_at dksX7_frame_1 3 rfl rfl)
theorem dX7_frame_28 : decode cX7_frame 28 = .ok (.iconst 5, 1) := dk_8 (dk_at dksX7_frame_1 4 rfl rfl)
theorem dX7_frame_29 : decode cX7_frame 29 = .ok (.invokevirtual 233, 3) := dk_182 0 233 (dk_at dksX7_frame_1 5 rfl rfl)
theorem dX7_frame_32 : decode cX7_frame 32 = .ok (.iadd, 1) := dk_96 (dk_at dksX7_frame_1 8 rfl rfl)
theorem dX7_frame_33 : decode cX7_frame 33 = .ok (.iaload, 1) := dk_46 (dk_at dksX7_frame_1 9 rfl rfl)
theorem dX7_frame_34 : decode cX7_frame 34 = .ok (.goto 4, 3) := dk_167 0 4 (dk_at dksX7_frame_1 10 rfl rfl)
theorem dX7_frame_37 : decode cX7_frame 37 = .ok (.iconst (-1), 1) := dk_2 (dk_at dksX7_frame_1 13 rfl rfl)
theorem dX7_frame_38 : decode cX7_frame 38 = .ok (.ireturn, 1) := dk_172 (dk_at dksX7_frame_1 14 rfl rfl)
abbrev cX7_change : ByteArray := prog_19_method_73_code
def yX7_change : MethodName := ⟨RX7, "change", "(III)I"⟩
def dkwX7_change_4 : List UInt8 := [167, 0, 5, 21, 4, 172]
abbrev dktX7_change_4 : List UInt8 := dkwX7_change_4 ++ []
def dkwX7_change_3 : List UInt8 := [16, 9, 96, 6, 28, 104, 96, 29, 96, 46, 54, 4, 29, 4, 160, 0, 12, 42, 21, 4, 182, 1, 55]
abbrev dktX7_change_3 : List UInt8 := dkwX7_change_3 ++ dktX7_change_4
def dkwX7_change_2 : List UInt8 := [182, 1, 52, 87, 42, 42, 180, 0, 83, 28, 46, 182, 1, 40, 172, 42, 180, 0, 25, 27, 184, 1, 0]
abbrev dktX7_change_2 : List UInt8 := dkwX7_change_2 ++ dktX7_change_3
def dkwX7_change_1 : List UInt8 := [42, 180, 0, 25, 27, 184, 1, 0, 5, 96, 46, 161, 0, 6, 16, 247, 172, 29, 6, 160, 0, 20, 42, 27]
abbrev dktX7_change_1 : List UInt8 := dkwX7_change_1 ++ dktX7_change_2
def dkwX7_change_0 : List UInt8 := [42, 27, 182, 1, 49, 153, 0, 16, 28, 155, 0, 12, 29, 3, 6, 184, 0, 95, 154, 0, 5, 2, 172, 28]
abbrev dktX7_change_0 : List UInt8 := dkwX7_change_0 ++ dktX7_change_1
theorem dksX7_change_0 : cX7_change.data.toList.drop 0 = dktX7_change_0 := by decide +kernel
theorem dksX7_change_1 : cX7_change.data.toList.drop 24 = dktX7_change_1 := dk_seg dksX7_change_0 24 rfl rfl
theorem dksX7_change_2 : cX7_change.data.toList.drop 48 = dktX7_change_2 := dk_seg dksX7_change_1 24 rfl rfl
theorem dksX7_change_3 : cX7_change.data.toList.drop 71 = dktX7_change_3 := dk_seg dksX7_change_2 23 rfl rfl
theorem dksX7_change_4 : cX7_change.data.toList.drop 94 = dktX7_change_4 := dk_seg dksX7_change_3 23 rfl rfl
theorem dX7_change_0 : decode cX7_change 0 = .ok (.aload_n 0, 1) := dk_42 (dk_at dksX7_change_0 0 rfl rfl)
theorem dX7_change_1 : decode cX7_change 1 = .ok (.iload_n 1, 1) := dk_27 (dk_at dksX7_change_0 1 rfl rfl)
theorem dX7_change_2 : decode cX7_change 2 = .ok (.invokevirtual 305, 3) := dk_182 1 49 (dk_at dksX7_change_0 2 rfl rfl)
theorem dX7_change_5 : decode cX7_change 5 = .ok (.ifCond .eq 16, 3) := dk_153 0 16 (dk_at dksX7_change_0 5 rfl rfl)
theorem dX7_change_8 : decode cX7_change 8 = .ok (.iload_n 2, 1) := dk_28 (dk_at dksX7_change_0 8 rfl rfl)
theorem dX7_change_9 : decode cX7_change 9 = .ok (.ifCond .lt 12, 3) := dk_155 0 12 (dk_at dksX7_change_0 9 rfl rfl)
theorem dX7_change_12 : decode cX7_change 12 = .ok (.iload_n 3, 1) := dk_29 (dk_at dksX7_change_0 12 rfl rfl)
theorem dX7_change_13 : decode cX7_change 13 = .ok (.iconst 0, 1) := dk_3 (dk_at dksX7_change_0 13 rfl rfl)
theorem dX7_change_14 : decode cX7_change 14 = .ok (.iconst 3, 1) := dk_6 (dk_at dksX7_change_0 14 rfl rfl)
theorem dX7_change_15 : decode cX7_change 15 = .ok (.invokestatic 95, 3) := dk_184 0 95 (dk_at dksX7_change_0 15 rfl rfl)
theorem dX7_change_18 : decode cX7_change 18 = .ok (.ifCond .ne 5, 3) := dk_154 0 5 (dk_at dksX7_change_0 18 rfl rfl)
theorem dX7_change_21 : decode cX7_change 21 = .ok (.iconst (-1), 1) := dk_2 (dk_at dksX7_change_0 21 rfl rfl)
theorem dX7_change_22 : decode cX7_change 22 = .ok (.ireturn, 1) := dk_172 (dk_at dksX7_change_0 22 rfl rfl)
theorem dX7_change_23 : decode cX7_change 23 = .ok (.iload_n 2, 1) := dk_28 (dk_at dksX7_change_0 23 rfl rfl)
theorem dX7_change_24 : decode cX7_change 24 = .ok (.aload_n 0, 1) := dk_42 (dk_at dksX7_change_1 0 rfl rfl)
theorem dX7_change_25 : decode cX7_change 25 = .ok (.getfield 25, 3) := dk_180 0 25 (dk_at dksX7_change_1 1 rfl rfl)
theorem dX7_change_28 : decode cX7_change 28 = .ok (.iload_n 1, 1) := dk_27 (dk_at dksX7_change_1 4 rfl rfl)
theorem dX7_change_29 : decode cX7_change 29 = .ok (.invokestatic 256, 3) := dk_184 1 0 (dk_at dksX7_change_1 5 rfl rfl)
theorem dX7_change_32 : decode cX7_change 32 = .ok (.iconst 2, 1) := dk_5 (dk_at dksX7_change_1 8 rfl rfl)
theorem dX7_change_33 : decode cX7_change 33 = .ok (.iadd, 1) := dk_96 (dk_at dksX7_change_1 9 rfl rfl)
theorem dX7_change_34 : decode cX7_change 34 = .ok (.iaload, 1) := dk_46 (dk_at dksX7_change_1 10 rfl rfl)
theorem dX7_change_35 : decode cX7_change 35 = .ok (.if_icmp .lt 6, 3) := dk_161 0 6 (dk_at dksX7_change_1 11 rfl rfl)
theorem dX7_change_38 : decode cX7_change 38 = .ok (.bipush (-9), 2) := dk_16 247 (dk_at dksX7_change_1 14 rfl rfl)
theorem dX7_change_40 : decode cX7_change 40 = .ok (.ireturn, 1) := dk_172 (dk_at dksX7_change_1 16 rfl rfl)
theorem dX7_change_41 : decode cX7_change 41 = .ok (.iload_n 3, 1) := dk_29 (dk_at dksX7_change_1 17 rfl rfl)
theorem dX7_change_42 : decode cX7_change 42 = .ok (.iconst 3, 1) := dk_6 (dk_at dksX7_change_1 18 rfl rfl)
theorem dX7_change_43 : decode cX7_change 43 = .ok (.if_icmp .ne 20, 3) := dk_160 0 20 (dk_at dksX7_change_1 19 rfl rfl)
theorem dX7_change_46 : decode cX7_change 46 = .ok (.aload_n 0, 1) := dk_42 (dk_at dksX7_change_1 22 rfl rfl)
theorem dX7_change_47 : decode cX7_change 47 = .ok (.iload_n 1, 1) := dk_27 (dk_at dksX7_change_1 23 rfl rfl)
theorem dX7_change_48 : decode cX7_change 48 = .ok (.invokevirtual 308, 3) := dk_182 1 52 (dk_at dksX7_change_2 0 rfl rfl)
theorem dX7_change_51 : decode cX7_change 51 = .ok (.pop, 1) := dk_87 (dk_at dksX7_change_2 3 rfl rfl)
theorem dX7_change_52 : decode cX7_change 52 = .ok (.aload_n 0, 1) := dk_42 (dk_at dksX7_change_2 4 rfl rfl)
theorem dX7_change_53 : decode cX7_change 53 = .ok (.aload_n 0, 1) := dk_42 (dk_at dksX7_change_2 5 rfl rfl)
theorem dX7_change_54 : decode cX7_change 54 = .ok (.getfield 83, 3) := dk_180 0 83 (dk_at dksX7_change_2 6 rfl rfl)
theorem dX7_change_57 : decode cX7_change 57 = .ok (.iload_n 2, 1) := dk_28 (dk_at dksX7_change_2 9 rfl rfl)
theorem dX7_change_58 : decode cX7_change 58 = .ok (.iaload, 1) := dk_46 (dk_at dksX7_change_2 10 rfl rfl)
theorem dX7_change_59 : decode cX7_change 59 = .ok (.invokevirtual 296, 3) := dk_182 1 40 (dk_at dksX7_change_2 11 rfl rfl)
theorem dX7_change_62 : decode cX7_change 62 = .ok (.ireturn, 1) := dk_172 (dk_at dksX7_change_2 14 rfl rfl)
theorem dX7_change_63 : decode cX7_change 63 = .ok (.aload_n 0, 1) := dk_42 (dk_at dksX7_change_2 15 rfl rfl)
theorem dX7_change_64 : decode cX7_change 64 = .ok (.getfield 25, 3) := dk_180 0 25 (dk_at dksX7_change_2 16 rfl rfl)
theorem dX7_change_67 : decode cX7_change 67 = .ok (.iload_n 1, 1) := dk_27 (dk_at dksX7_change_2 19 rfl rfl)
theorem dX7_change_68 : decode cX7_change 68 = .ok (.invokestatic 256, 3) := dk_184 1 0 (dk_at dksX7_change_2 20 rfl rfl)
theorem dX7_change_71 : decode cX7_change 71 = .ok (.bipush 9, 2) := dk_16 9 (dk_at dksX7_change_3 0 rfl rfl)
theorem dX7_change_73 : decode cX7_change 73 = .ok (.iadd, 1) := dk_96 (dk_at dksX7_change_3 2 rfl rfl)
theorem dX7_change_74 : decode cX7_change 74 = .ok (.iconst 3, 1) := dk_6 (dk_at dksX7_change_3 3 rfl rfl)
theorem dX7_change_75 : decode cX7_change 75 = .ok (.iload_n 2, 1) := dk_28 (dk_at dksX7_change_3 4 rfl rfl)
theorem dX7_change_76 : decode cX7_change 76 = .ok (.imul, 1) := dk_104 (dk_at dksX7_change_3 5 rfl rfl)
theorem dX7_change_77 : decode cX7_change 77 = .ok (.iadd, 1) := dk_96 (dk_at dksX7_change_3 6 rfl rfl)
theorem dX7_change_78 : decode cX7_change 78 = .ok (.iload_n 3, 1) := dk_29 (dk_at dksX7_change_3 7 rfl rfl)
theorem dX7_change_79 : decode cX7_change 79 = .ok (.iadd, 1) := dk_96 (dk_at dksX7_change_3 8 rfl rfl)
theorem dX7_change_80 : decode cX7_change 80 = .ok (.iaload, 1) := dk_46 (dk_at dksX7_change_3 9 rfl rfl)
theorem dX7_change_81 : decode cX7_change 81 = .ok (.istore 4, 2) := dk_54 4 (dk_at dksX7_change_3 10 rfl rfl)
theorem dX7_change_83 : decode cX7_change 83 = .ok (.iload_n 3, 1) := dk_29 (dk_at dksX7_change_3 12 rfl rfl)
theorem dX7_change_84 : decode cX7_change 84 = .ok (.iconst 1, 1) := dk_4 (dk_at dksX7_change_3 13 rfl rfl)
theorem dX7_change_85 : decode cX7_change 85 = .ok (.if_icmp .ne 12, 3) := dk_160 0 12 (dk_at dksX7_change_3 14 rfl rfl)
theorem dX7_change_88 : decode cX7_change 88 = .ok (.aload_n 0, 1) := dk_42 (dk_at dksX7_change_3 17 rfl rfl)
theorem dX7_change_89 : decode cX7_change 89 = .ok (.iload 4, 2) := dk_21 4 (dk_at dksX7_change_3 18 rfl rfl)
theorem dX7_change_91 : decode cX7_change 91 = .ok (.invokevirtual 311, 3) := dk_182 1 55 (dk_at dksX7_change_3 20 rfl rfl)
theorem dX7_change_94 : decode cX7_change 94 = .ok (.goto 5, 3) := dk_167 0 5 (dk_at dksX7_change_4 0 rfl rfl)
theorem dX7_change_97 : decode cX7_change 97 = .ok (.iload 4, 2) := dk_21 4 (dk_at dksX7_change_4 3 rfl rfl)
theorem dX7_change_99 : decode cX7_change 99 = .ok (.ireturn, 1) := dk_172 (dk_at dksX7_change_4 5 rfl rfl)
abbrev cX7_nodeOfWire : ByteArray := prog_19_method_72_code
def yX7_nodeOfWire : MethodName := ⟨RX7, "nodeOfWire", "(I)I"⟩
def dkwX7_nodeOfWire_1 : List UInt8 := [8, 182, 0, 233, 27, 160, 0, 7, 29, 167, 0, 4, 28, 61, 132, 3, 1, 167, 255, 220, 28, 172]
abbrev dktX7_nodeOfWire_1 : List UInt8 := dkwX7_nodeOfWire_1 ++ []
def dkwX7_nodeOfWire_0 : List UInt8 := [16, 247, 61, 3, 62, 29, 42, 180, 0, 212, 162, 0, 34, 42, 29, 3, 182, 0, 233, 154, 0, 17, 42, 29]
abbrev dktX7_nodeOfWire_0 : List UInt8 := dkwX7_nodeOfWire_0 ++ dktX7_nodeOfWire_1
theorem dksX7_nodeOfWire_0 : cX7_nodeOfWire.data.toList.drop 0 = dktX7_nodeOfWire_0 := by decide +kernel
theorem dksX7_nodeOfWire_1 : cX7_nodeOfWire.data.toList.drop 24 = dktX7_nodeOfWire_1 := dk_seg dksX7_nodeOfWire_0 24 rfl rfl
theorem dX7_nodeOfWire_0 : decode cX7_nodeOfWire 0 = .ok (.bipush (-9), 2) := dk_16 247 (dk_at dksX7_nodeOfWire_0 0 rfl rfl)
theorem dX7_nodeOfWire_2 : decode cX7_nodeOfWire 2 = .ok (.istore_n 2, 1) := dk_61 (dk_at dksX7_nodeOfWire_0 2 rfl rfl)
theorem dX7_nodeOfWire_3 : decode cX7_nodeOfWire 3 = .ok (.iconst 0, 1) := dk_3 (dk_at dksX7_nodeOfWire_0 3 rfl rfl)
theorem dX7_nodeOfWire_4 : decode cX7_nodeOfWire 4 = .ok (.istore_n 3, 1) := dk_62 (dk_at dksX7_nodeOfWire_0 4 rfl rfl)
theorem dX7_nodeOfWire_5 : decode cX7_nodeOfWire 5 = .ok (.iload_n 3, 1) := dk_29 (dk_at dksX7_nodeOfWire_0 5 rfl rfl)
theorem dX7_nodeOfWire_6 : decode cX7_nodeOfWire 6 = .ok (.aload_n 0, 1) := dk_42 (dk_at dksX7_nodeOfWire_0 6 rfl rfl)
theorem dX7_nodeOfWire_7 : decode cX7_nodeOfWire 7 = .ok (.getfield 212, 3) := dk_180 0 212 (dk_at dksX7_nodeOfWire_0 7 rfl rfl)
theorem dX7_nodeOfWire_10 : decode cX7_nodeOfWire 10 = .ok (.if_icmp .ge 34, 3) := dk_162 0 34 (dk_at dksX7_nodeOfWire_0 10 rfl rfl)
theorem dX7_nodeOfWire_13 : decode cX7_nodeOfWire 13 = .ok (.aload_n 0, 1) := dk_42 (dk_at dksX7_nodeOfWire_0 13 rfl rfl)
theorem dX7_nodeOfWire_14 : decode cX7_nodeOfWire 14 = .ok (.iload_n 3, 1) := dk_29 (dk_at dksX7_nodeOfWire_0 14 rfl rfl)
theorem dX7_nodeOfWire_15 : decode cX7_nodeOfWire 15 = .ok (.iconst 0, 1) := dk_3 (dk_at dksX7_nodeOfWire_0 15 rfl rfl)
theorem dX7_nodeOfWire_16 : decode cX7_nodeOfWire 16 = .ok (.invokevirtual 233, 3) := dk_182 0 233 (dk_at dksX7_nodeOfWire_0 16 rfl rfl)
theorem dX7_nodeOfWire_19 : decode cX7_nodeOfWire 19 = .ok (.ifCond .ne 17, 3) := dk_154 0 17 (dk_at dksX7_nodeOfWire_0 19 rfl rfl)
theorem dX7_nodeOfWire_22 : decode cX7_nodeOfWire 22 = .ok (.aload_n 0, 1) := dk_42 (dk_at dksX7_nodeOfWire_0 22 rfl rfl)
theorem dX7_nodeOfWire_23 : decode cX7_nodeOfWire 23 = .ok (.iload_n 3, 1) := dk_29 (dk_at dksX7_nodeOfWire_0 23 rfl rfl)
theorem dX7_nodeOfWire_24 : decode cX7_nodeOfWire 24 = .ok (.iconst 5, 1) := dk_8 (dk_at dksX7_nodeOfWire_1 0 rfl rfl)
theorem dX7_nodeOfWire_25 : decode cX7_nodeOfWire 25 = .ok (.invokevirtual 233, 3) := dk_182 0 233 (dk_at dksX7_nodeOfWire_1 1 rfl rfl)
theorem dX7_nodeOfWire_28 : decode cX7_nodeOfWire 28 = .ok (.iload_n 1, 1) := dk_27 (dk_at dksX7_nodeOfWire_1 4 rfl rfl)
theorem dX7_nodeOfWire_29 : decode cX7_nodeOfWire 29 = .ok (.if_icmp .ne 7, 3) := dk_160 0 7 (dk_at dksX7_nodeOfWire_1 5 rfl rfl)
theorem dX7_nodeOfWire_32 : decode cX7_nodeOfWire 32 = .ok (.iload_n 3, 1) := dk_29 (dk_at dksX7_nodeOfWire_1 8 rfl rfl)
theorem dX7_nodeOfWire_33 : decode cX7_nodeOfWire 33 = .ok (.goto 4, 3) := dk_167 0 4 (dk_at dksX7_nodeOfWire_1 9 rfl rfl)
theorem dX7_nodeOfWire_36 : decode cX7_nodeOfWire 36 = .ok (.iload_n 2, 1) := dk_28 (dk_at dksX7_nodeOfWire_1 12 rfl rfl)
theorem dX7_nodeOfWire_37 : decode cX7_nodeOfWire 37 = .ok (.istore_n 2, 1) := dk_61 (dk_at dksX7_nodeOfWire_1 13 rfl rfl)
theorem dX7_nodeOfWire_38 : decode cX7_nodeOfWire 38 = .ok (.iinc 3 1, 3) := dk_132 3 1 (dk_at dksX7_nodeOfWire_1 14 rfl rfl)
theorem dX7_nodeOfWire_41 : decode cX7_nodeOfWire 41 = .ok (.goto (-36), 3) := dk_167 255 220 (dk_at dksX7_nodeOfWire_1 17 rfl rfl)
theorem dX7_nodeOfWire_44 : decode cX7_nodeOfWire 44 = .ok (.iload_n 2, 1) := dk_28 (dk_at dksX7_nodeOfWire_1 20 rfl rfl)
theorem dX7_nodeOfWire_45 : decode cX7_nodeOfWire 45 = .ok (.ireturn, 1) := dk_172 (dk_at dksX7_nodeOfWire_1 21 rfl rfl)
abbrev cX7_packed : ByteArray := prog_19_method_76_code
def yX7_packed : MethodName := ⟨RX7, "packed", "(I)I"⟩
def dkwX7_packed_0 : List UInt8 := [27, 4, 16, 8, 184, 0, 95, 153, 0, 11, 42, 27, 182, 1, 61, 167, 0, 4, 2, 172]
abbrev dktX7_packed_0 : List UInt8 := dkwX7_packed_0 ++ []
theorem dksX7_packed_0 : cX7_packed.data.toList.drop 0 = dktX7_packed_0 := by decide +kernel
theorem dX7_packed_0 : decode cX7_packed 0 = .ok (.iload_n 1, 1) := dk_27 (dk_at dksX7_packed_0 0 rfl rfl)
theorem dX7_packed_1 : decode cX7_packed 1 = .ok (.iconst 1, 1) := dk_4 (dk_at dksX7_packed_0 1 rfl rfl)
theorem dX7_packed_2 : decode cX7_packed 2 = .ok (.bipush 8, 2) := dk_16 8 (dk_at dksX7_packed_0 2 rfl rfl)
theorem dX7_packed_4 : decode cX7_packed 4 = .ok (.invokestatic 95, 3) := dk_184 0 95 (dk_at dksX7_packed_0 4 rfl rfl)
theorem dX7_packed_7 : decode cX7_packed 7 = .ok (.ifCond .eq 11, 3) := dk_153 0 11 (dk_at dksX7_packed_0 7 rfl rfl)
theorem dX7_packed_10 : decode cX7_packed 10 = .ok (.aload_n 0, 1) := dk_42 (dk_at dksX7_packed_0 10 rfl rfl)
theorem dX7_packed_11 : decode cX7_packed 11 = .ok (.iload_n 1, 1) := dk_27 (dk_at dksX7_packed_0 11 rfl rfl)
theorem dX7_packed_12 : decode cX7_packed 12 = .ok (.invokevirtual 317, 3) := dk_182 1 61 (dk_at dksX7_packed_0 12 rfl rfl)
theorem dX7_packed_15 : decode cX7_packed 15 = .ok (.goto 4, 3) := dk_167 0 4 (dk_at dksX7_packed_0 15 rfl rfl)
theorem dX7_packed_18 : decode cX7_packed 18 = .ok (.iconst (-1), 1) := dk_2 (dk_at dksX7_packed_0 18 rfl rfl)
theorem dX7_packed_19 : decode cX7_packed 19 = .ok (.ireturn, 1) := dk_172 (dk_at dksX7_packed_0 19 rfl rfl)
abbrev cX7_packedBy : ByteArray := prog_19_method_75_code
def yX7_packedBy : MethodName := ⟨RX7, "packedBy", "(I)I"⟩
def dkwX7_packedBy_4 : List UInt8 := [181, 1, 34, 132, 4, 1, 167, 255, 168, 28, 172]
abbrev dktX7_packedBy_4 : List UInt8 := dkwX7_packedBy_4 ++ []
def dkwX7_packedBy_3 : List UInt8 := [180, 0, 25, 6, 46, 4, 100, 160, 0, 20, 28, 42, 27, 29, 182, 1, 58, 96, 61, 16, 247, 62, 42, 3]
abbrev dktX7_packedBy_3 : List UInt8 := dkwX7_packedBy_3 ++ dktX7_packedBy_4
def dkwX7_packedBy_2 : List UInt8 := [182, 1, 43, 42, 180, 0, 25, 21, 4, 184, 1, 0, 4, 96, 46, 16, 247, 160, 0, 16, 21, 4, 42]
abbrev dktX7_packedBy_2 : List UInt8 := dkwX7_packedBy_2 ++ dktX7_packedBy_3
def dkwX7_packedBy_1 : List UInt8 := [29, 16, 247, 160, 0, 16, 42, 180, 0, 25, 21, 4, 184, 1, 0, 46, 167, 0, 4, 29, 62, 42, 21, 4]
abbrev dktX7_packedBy_1 : List UInt8 := dkwX7_packedBy_1 ++ dktX7_packedBy_2
def dkwX7_packedBy_0 : List UInt8 := [3, 61, 16, 247, 62, 42, 3, 181, 1, 34, 3, 54, 4, 21, 4, 42, 180, 0, 25, 6, 46, 162, 0, 83]
abbrev dktX7_packedBy_0 : List UInt8 := dkwX7_packedBy_0 ++ dktX7_packedBy_1
theorem dksX7_packedBy_0 : cX7_packedBy.data.toList.drop 0 = dktX7_packedBy_0 := by decide +kernel
theorem dksX7_packedBy_1 : cX7_packedBy.data.toList.drop 24 = dktX7_packedBy_1 := dk_seg dksX7_packedBy_0 24 rfl rfl
theorem dksX7_packedBy_2 : cX7_packedBy.data.toList.drop 48 = dktX7_packedBy_2 := dk_seg dksX7_packedBy_1 24 rfl rfl
theorem dksX7_packedBy_3 : cX7_packedBy.data.toList.drop 71 = dktX7_packedBy_3 := dk_seg dksX7_packedBy_2 23 rfl rfl
theorem dksX7_packedBy_4 : cX7_packedBy.data.toList.drop 95 = dktX7_packedBy_4 := dk_seg dksX7_packedBy_3 24 rfl rfl
theorem dX7_packedBy_0 : decode cX7_packedBy 0 = .ok (.iconst 0, 1) := dk_3 (dk_at dksX7_packedBy_0 0 rfl rfl)
theorem dX7_packedBy_1 : decode cX7_packedBy 1 = .ok (.istore_n 2, 1) := dk_61 (dk_at dksX7_packedBy_0 1 rfl rfl)
theorem dX7_packedBy_2 : decode cX7_packedBy 2 = .ok (.bipush (-9), 2) := dk_16 247 (dk_at dksX7_packedBy_0 2 rfl rfl)
theorem dX7_packedBy_4 : decode cX7_packedBy 4 = .ok (.istore_n 3, 1) := dk_62 (dk_at dksX7_packedBy_0 4 rfl rfl)
theorem dX7_packedBy_5 : decode cX7_packedBy 5 = .ok (.aload_n 0, 1) := dk_42 (dk_at dksX7_packedBy_0 5 rfl rfl)
theorem dX7_packedBy_6 : decode cX7_packedBy 6 = .ok (.iconst 0, 1) := dk_3 (dk_at dksX7_packedBy_0 6 rfl rfl)
theorem dX7_packedBy_7 : decode cX7_packedBy 7 = .ok (.putfield 290, 3) := dk_181 1 34 (dk_at dksX7_packedBy_0 7 rfl rfl)
theorem dX7_packedBy_10 : decode cX7_packedBy 10 = .ok (.iconst 0, 1) := dk_3 (dk_at dksX7_packedBy_0 10 rfl rfl)
theorem dX7_packedBy_11 : decode cX7_packedBy 11 = .ok (.istore 4, 2) := dk_54 4 (dk_at dksX7_packedBy_0 11 rfl rfl)
theorem dX7_packedBy_13 : decode cX7_packedBy 13 = .ok (.iload 4, 2) := dk_21 4 (dk_at dksX7_packedBy_0 13 rfl rfl)
theorem dX7_packedBy_15 : decode cX7_packedBy 15 = .ok (.aload_n 0, 1) := dk_42 (dk_at dksX7_packedBy_0 15 rfl rfl)
theorem dX7_packedBy_16 : decode cX7_packedBy 16 = .ok (.getfield 25, 3) := dk_180 0 25 (dk_at dksX7_packedBy_0 16 rfl rfl)
theorem dX7_packedBy_19 : decode cX7_packedBy 19 = .ok (.iconst 3, 1) := dk_6 (dk_at dksX7_packedBy_0 19 rfl rfl)
theorem dX7_packedBy_20 : decode cX7_packedBy 20 = .ok (.iaload, 1) := dk_46 (dk_at dksX7_packedBy_0 20 rfl rfl)
theorem dX7_packedBy_21 : decode cX7_packedBy 21 = .ok (.if_icmp .ge 83, 3) := dk_162 0 83 (dk_at dksX7_packedBy_0 21 rfl rfl)
theorem dX7_packedBy_24 : decode cX7_packedBy 24 = .ok (.iload_n 3, 1) := dk_29 (dk_at dksX7_packedBy_1 0 rfl rfl)
theorem dX7_packedBy_25 : decode cX7_packedBy 25 = .ok (.bipush (-9), 2) := dk_16 247 (dk_at dksX7_packedBy_1 1 rfl rfl)
theorem dX7_packedBy_27 : decode cX7_packedBy 27 = .ok (.if_icmp .ne 16, 3) := dk_160 0 16 (dk_at dksX7_packedBy_1 3 rfl rfl)
theorem dX7_packedBy_30 : decode cX7_packedBy 30 = .ok (.aload_n 0, 1) := dk_42 (dk_at dksX7_packedBy_1 6 rfl rfl)
theorem dX7_packedBy_31 : decode cX7_packedBy 31 = .ok (.getfield 25, 3) := dk_180 0 25 (dk_at dksX7_packedBy_1 7 rfl rfl)
theorem dX7_packedBy_34 : decode cX7_packedBy 34 = .ok (.iload 4, 2) := dk_21 4 (dk_at dksX7_packedBy_1 10 rfl rfl)
theorem dX7_packedBy_36 : decode cX7_packedBy 36 = .ok (.invokestatic 256, 3) := dk_184 1 0 (dk_at dksX7_packedBy_1 12 rfl rfl)
theorem dX7_packedBy_39 : decode cX7_packedBy 39 = .ok (.iaload, 1) := dk_46 (dk_at dksX7_packedBy_1 15 rfl rfl)
theorem dX7_packedBy_40 : decode cX7_packedBy 40 = .ok (.goto 4, 3) := dk_167 0 4 (dk_at dksX7_packedBy_1 16 rfl rfl)
theorem dX7_packedBy_43 : decode cX7_packedBy 43 = .ok (.iload_n 3, 1) := dk_29 (dk_at dksX7_packedBy_1 19 rfl rfl)
theorem dX7_packedBy_44 : decode cX7_packedBy 44 = .ok (.istore_n 3, 1) := dk_62 (dk_at dksX7_packedBy_1 20 rfl rfl)
theorem dX7_packedBy_45 : decode cX7_packedBy 45 = .ok (.aload_n 0, 1) := dk_42 (dk_at dksX7_packedBy_1 21 rfl rfl)
theorem dX7_packedBy_46 : decode cX7_packedBy 46 = .ok (.iload 4, 2) := dk_21 4 (dk_at dksX7_packedBy_1 22 rfl rfl)
theorem dX7_packedBy_48 : decode cX7_packedBy 48 = .ok (.invokevirtual 299, 3) := dk_182 1 43 (dk_at dksX7_packedBy_2 0 rfl rfl)
theorem dX7_packedBy_51 : decode cX7_packedBy 51 = .ok (.aload_n 0, 1) := dk_42 (dk_at dksX7_packedBy_2 3 rfl rfl)
theorem dX7_packedBy_52 : decode cX7_packedBy 52 = .ok (.getfield 25, 3) := dk_180 0 25 (dk_at dksX7_packedBy_2 4 rfl rfl)
theorem dX7_packedBy_55 : decode cX7_packedBy 55 = .ok (.iload 4, 2) := dk_21 4 (dk_at dksX7_packedBy_2 7 rfl rfl)
theorem dX7_packedBy_57 : decode cX7_packedBy 57 = .ok (.invokestatic 256, 3) := dk_184 1 0 (dk_at dksX7_packedBy_2 9 rfl rfl)
theorem dX7_packedBy_60 : decode cX7_packedBy 60 = .ok (.iconst 1, 1) := dk_4 (dk_at dksX7_packedBy_2 12 rfl rfl)
theorem dX7_packedBy_61 : decode cX7_packedBy 61 = .ok (.iadd, 1) := dk_96 (dk_at dksX7_packedBy_2 13 rfl rfl)
theorem dX7_packedBy_62 : decode cX7_packedBy 62 = .ok (.iaload, 1) := dk_46 (dk_at dksX7_packedBy_2 14 rfl rfl)
theorem dX7_packedBy_63 : decode cX7_packedBy 63 = .ok (.bipush (-9), 2) := dk_16 247 (dk_at dksX7_packedBy_2 15 rfl rfl)
theorem dX7_packedBy_65 : decode cX7_packedBy 65 = .ok (.if_icmp .ne 16, 3) := dk_160 0 16 (dk_at dksX7_packedBy_2 17 rfl rfl)
theorem dX7_packedBy_68 : decode cX7_packedBy 68 = .ok (.iload 4, 2) := dk_21 4 (dk_at dksX7_packedBy_2 20 rfl rfl)
theorem dX7_packedBy_70 : decode cX7_packedBy 70 = .ok (.aload_n 0, 1) := dk_42 (dk_at dksX7_packedBy_2 22 rfl rfl)
theorem dX7_packedBy_71 : decode cX7_packedBy 71 = .ok (.getfield 25, 3) := dk_180 0 25 (dk_at dksX7_packedBy_3 0 rfl rfl)
theorem dX7_packedBy_74 : decode cX7_packedBy 74 = .ok (.iconst 3, 1) := dk_6 (dk_at dksX7_packedBy_3 3 rfl rfl)
theorem dX7_packedBy_75 : decode cX7_packedBy 75 = .ok (.iaload, 1) := dk_46 (dk_at dksX7_packedBy_3 4 rfl rfl)
theorem dX7_packedBy_76 : decode cX7_packedBy 76 = .ok (.iconst 1, 1) := dk_4 (dk_at dksX7_packedBy_3 5 rfl rfl)
theorem dX7_packedBy_77 : decode cX7_packedBy 77 = .ok (.isub, 1) := dk_100 (dk_at dksX7_packedBy_3 6 rfl rfl)
theorem dX7_packedBy_78 : decode cX7_packedBy 78 = .ok (.if_icmp .ne 20, 3) := dk_160 0 20 (dk_at dksX7_packedBy_3 7 rfl rfl)
theorem dX7_packedBy_81 : decode cX7_packedBy 81 = .ok (.iload_n 2, 1) := dk_28 (dk_at dksX7_packedBy_3 10 rfl rfl)
theorem dX7_packedBy_82 : decode cX7_packedBy 82 = .ok (.aload_n 0, 1) := dk_42 (dk_at dksX7_packedBy_3 11 rfl rfl)
theorem dX7_packedBy_83 : decode cX7_packedBy 83 = .ok (.iload_n 1, 1) := dk_27 (dk_at dksX7_packedBy_3 12 rfl rfl)
theorem dX7_packedBy_84 : decode cX7_packedBy 84 = .ok (.iload_n 3, 1) := dk_29 (dk_at dksX7_packedBy_3 13 rfl rfl)
theorem dX7_packedBy_85 : decode cX7_packedBy 85 = .ok (.invokevirtual 314, 3) := dk_182 1 58 (dk_at dksX7_packedBy_3 14 rfl rfl)
theorem dX7_packedBy_88 : decode cX7_packedBy 88 = .ok (.iadd, 1) := dk_96 (dk_at dksX7_packedBy_3 17 rfl rfl)
theorem dX7_packedBy_89 : decode cX7_packedBy 89 = .ok (.istore_n 2, 1) := dk_61 (dk_at dksX7_packedBy_3 18 rfl rfl)
theorem dX7_packedBy_90 : decode cX7_packedBy 90 = .ok (.bipush (-9), 2) := dk_16 247 (dk_at dksX7_packedBy_3 19 rfl rfl)
theorem dX7_packedBy_92 : decode cX7_packedBy 92 = .ok (.istore_n 3, 1) := dk_62 (dk_at dksX7_packedBy_3 21 rfl rfl)
theorem dX7_packedBy_93 : decode cX7_packedBy 93 = .ok (.aload_n 0, 1) := dk_42 (dk_at dksX7_packedBy_3 22 rfl rfl)
theorem dX7_packedBy_94 : decode cX7_packedBy 94 = .ok (.iconst 0, 1) := dk_3 (dk_at dksX7_packedBy_3 23 rfl rfl)
theorem dX7_packedBy_95 : decode cX7_packedBy 95 = .ok (.putfield 290, 3) := dk_181 1 34 (dk_at dksX7_packedBy_4 0 rfl rfl)
theorem dX7_packedBy_98 : decode cX7_packedBy 98 = .ok (.iinc 4 1, 3) := dk_132 4 1 (dk_at dksX7_packedBy_4 3 rfl rfl)
theorem dX7_packedBy_101 : decode cX7_packedBy 101 = .ok (.goto (-88), 3) := dk_167 255 168 (dk_at dksX7_packedBy_4 6 rfl rfl)
theorem dX7_packedBy_104 : decode cX7_packedBy 104 = .ok (.iload_n 2, 1) := dk_28 (dk_at dksX7_packedBy_4 9 rfl rfl)
theorem dX7_packedBy_105 : decode cX7_packedBy 105 = .ok (.ireturn, 1) := dk_172 (dk_at dksX7_packedBy_4 10 rfl rfl)
abbrev cX7_roomParted : ByteArray := prog_19_method_74_code
def yX7_roomParted : MethodName := ⟨RX7, "roomParted", "(II)I"⟩
def dkwX7_roomParted_3 : List UInt8 := [21, 4, 27, 96, 54, 4, 167, 255, 185, 29, 172]
abbrev dktX7_roomParted_3 : List UInt8 := dkwX7_roomParted_3 ++ []
def dkwX7_roomParted_2 : List UInt8 := [21, 5, 21, 4, 154, 0, 7, 28, 167, 0, 10, 42, 180, 0, 80, 21, 4, 46, 182, 1, 46, 96, 62]
abbrev dktX7_roomParted_2 : List UInt8 := dkwX7_roomParted_2 ++ dktX7_roomParted_3
def dkwX7_roomParted_1 : List UInt8 := [21, 4, 100, 27, 162, 0, 13, 42, 180, 1, 34, 21, 4, 100, 167, 0, 4, 27, 54, 5, 29, 42, 21, 4]
abbrev dktX7_roomParted_1 : List UInt8 := dkwX7_roomParted_1 ++ dktX7_roomParted_2
def dkwX7_roomParted_0 : List UInt8 := [3, 62, 3, 54, 4, 21, 4, 42, 180, 1, 34, 161, 0, 8, 21, 4, 154, 0, 63, 42, 180, 1, 34]
abbrev dktX7_roomParted_0 : List UInt8 := dkwX7_roomParted_0 ++ dktX7_roomParted_1
theorem dksX7_roomParted_0 : cX7_roomParted.data.toList.drop 0 = dktX7_roomParted_0 := by decide +kernel
theorem dksX7_roomParted_1 : cX7_roomParted.data.toList.drop 23 = dktX7_roomParted_1 := dk_seg dksX7_roomParted_0 23 rfl rfl
theorem dksX7_roomParted_2 : cX7_roomParted.data.toList.drop 47 = dktX7_roomParted_2 := dk_seg dksX7_roomParted_1 24 rfl rfl
theorem dksX7_roomParted_3 : cX7_roomParted.data.toList.drop 70 = dktX7_roomParted_3 := dk_seg dksX7_roomParted_2 23 rfl rfl
theorem dX7_roomParted_0 : decode cX7_roomParted 0 = .ok (.iconst 0, 1) := dk_3 (dk_at dksX7_roomParted_0 0 rfl rfl)
theorem dX7_roomParted_1 : decode cX7_roomParted 1 = .ok (.istore_n 3, 1) := dk_62 (dk_at dksX7_roomParted_0 1 rfl rfl)
theorem dX7_roomParted_2 : decode cX7_roomParted 2 = .ok (.iconst 0, 1) := dk_3 (dk_at dksX7_roomParted_0 2 rfl rfl)
theorem dX7_roomParted_3 : decode cX7_roomParted 3 = .ok (.istore 4, 2) := dk_54 4 (dk_at dksX7_roomParted_0 3 rfl rfl)
theorem dX7_roomParted_5 : decode cX7_roomParted 5 = .ok (.iload 4, 2) := dk_21 4 (dk_at dksX7_roomParted_0 5 rfl rfl)
theorem dX7_roomParted_7 : decode cX7_roomParted 7 = .ok (.aload_n 0, 1) := dk_42 (dk_at dksX7_roomParted_0 7 rfl rfl)
theorem dX7_roomParted_8 : decode cX7_roomParted 8 = .ok (.getfield 290, 3) := dk_180 1 34 (dk_at dksX7_roomParted_0 8 rfl rfl)
theorem dX7_roomParted_11 : decode cX7_roomParted 11 = .ok (.if_icmp .lt 8, 3) := dk_161 0 8 (dk_at dksX7_roomParted_0 11 rfl rfl)
theorem dX7_roomParted_14 : decode cX7_roomParted 14 = .ok (.iload 4, 2) := dk_21 4 (dk_at dksX7_roomParted_0 14 rfl rfl)
theorem dX7_roomParted_16 : decode cX7_roomParted 16 = .ok (.ifCond .ne 63, 3) := dk_154 0 63 (dk_at dksX7_roomParted_0 16 rfl rfl)
theorem dX7_roomParted_19 : decode cX7_roomParted 19 = .ok (.aload_n 0, 1) := dk_42 (dk_at dksX7_roomParted_0 19 rfl rfl)
theorem dX7_roomParted_20 : decode cX7_roomParted 20 = .ok (.getfield 290, 3) := dk_180 1 34 (dk_at dksX7_roomParted_0 20 rfl rfl)
theorem dX7_roomParted_23 : decode cX7_roomParted 23 = .ok (.iload 4, 2) := dk_21 4 (dk_at dksX7_roomParted_1 0 rfl rfl)
theorem dX7_roomParted_25 : decode cX7_roomParted 25 = .ok (.isub, 1) := dk_100 (dk_at dksX7_roomParted_1 2 rfl rfl)
theorem dX7_roomParted_26 : decode cX7_roomParted 26 = .ok (.iload_n 1, 1) := dk_27 (dk_at dksX7_roomParted_1 3 rfl rfl)
theorem dX7_roomParted_27 : decode cX7_roomParted 27 = .ok (.if_icmp .ge 13, 3) := dk_162 0 13 (dk_at dksX7_roomParted_1 4 rfl rfl)
theorem dX7_roomParted_30 : decode cX7_roomParted 30 = .ok (.aload_n 0, 1) := dk_42 (dk_at dksX7_roomParted_1 7 rfl rfl)
theorem dX7_roomParted_31 : decode cX7_roomParted 31 = .ok (.getfield 290, 3) := dk_180 1 34 (dk_at dksX7_roomParted_1 8 rfl rfl)
theorem dX7_roomParted_34 : decode cX7_roomParted 34 = .ok (.iload 4, 2) := dk_21 4 (dk_at dksX7_roomParted_1 11 rfl rfl)
theorem dX7_roomParted_36 : decode cX7_roomParted 36 = .ok (.isub, 1) := dk_100 (dk_at dksX7_roomParted_1 13 rfl rfl)
theorem dX7_roomParted_37 : decode cX7_roomParted 37 = .ok (.goto 4, 3) := dk_167 0 4 (dk_at dksX7_roomParted_1 14 rfl rfl)
theorem dX7_roomParted_40 : decode cX7_roomParted 40 = .ok (.iload_n 1, 1) := dk_27 (dk_at dksX7_roomParted_1 17 rfl rfl)
theorem dX7_roomParted_41 : decode cX7_roomParted 41 = .ok (.istore 5, 2) := dk_54 5 (dk_at dksX7_roomParted_1 18 rfl rfl)
theorem dX7_roomParted_43 : decode cX7_roomParted 43 = .ok (.iload_n 3, 1) := dk_29 (dk_at dksX7_roomParted_1 20 rfl rfl)
theorem dX7_roomParted_44 : decode cX7_roomParted 44 = .ok (.aload_n 0, 1) := dk_42 (dk_at dksX7_roomParted_1 21 rfl rfl)
theorem dX7_roomParted_45 : decode cX7_roomParted 45 = .ok (.iload 4, 2) := dk_21 4 (dk_at dksX7_roomParted_1 22 rfl rfl)
theorem dX7_roomParted_47 : decode cX7_roomParted 47 = .ok (.iload 5, 2) := dk_21 5 (dk_at dksX7_roomParted_2 0 rfl rfl)
theorem dX7_roomParted_49 : decode cX7_roomParted 49 = .ok (.iload 4, 2) := dk_21 4 (dk_at dksX7_roomParted_2 2 rfl rfl)
theorem dX7_roomParted_51 : decode cX7_roomParted 51 = .ok (.ifCond .ne 7, 3) := dk_154 0 7 (dk_at dksX7_roomParted_2 4 rfl rfl)
theorem dX7_roomParted_54 : decode cX7_roomParted 54 = .ok (.iload_n 2, 1) := dk_28 (dk_at dksX7_roomParted_2 7 rfl rfl)
theorem dX7_roomParted_55 : decode cX7_roomParted 55 = .ok (.goto 10, 3) := dk_167 0 10 (dk_at dksX7_roomParted_2 8 rfl rfl)
theorem dX7_roomParted_58 : decode cX7_roomParted 58 = .ok (.aload_n 0, 1) := dk_42 (dk_at dksX7_roomParted_2 11 rfl rfl)
theorem dX7_roomParted_59 : decode cX7_roomParted 59 = .ok (.getfield 80, 3) := dk_180 0 80 (dk_at dksX7_roomParted_2 12 rfl rfl)
theorem dX7_roomParted_62 : decode cX7_roomParted 62 = .ok (.iload 4, 2) := dk_21 4 (dk_at dksX7_roomParted_2 15 rfl rfl)
theorem dX7_roomParted_64 : decode cX7_roomParted 64 = .ok (.iaload, 1) := dk_46 (dk_at dksX7_roomParted_2 17 rfl rfl)
theorem dX7_roomParted_65 : decode cX7_roomParted 65 = .ok (.invokevirtual 302, 3) := dk_182 1 46 (dk_at dksX7_roomParted_2 18 rfl rfl)
theorem dX7_roomParted_68 : decode cX7_roomParted 68 = .ok (.iadd, 1) := dk_96 (dk_at dksX7_roomParted_2 21 rfl rfl)
theorem dX7_roomParted_69 : decode cX7_roomParted 69 = .ok (.istore_n 3, 1) := dk_62 (dk_at dksX7_roomParted_2 22 rfl rfl)
theorem dX7_roomParted_70 : decode cX7_roomParted 70 = .ok (.iload 4, 2) := dk_21 4 (dk_at dksX7_roomParted_3 0 rfl rfl)
theorem dX7_roomParted_72 : decode cX7_roomParted 72 = .ok (.iload_n 1, 1) := dk_27 (dk_at dksX7_roomParted_3 2 rfl rfl)
theorem dX7_roomParted_73 : decode cX7_roomParted 73 = .ok (.iadd, 1) := dk_96 (dk_at dksX7_roomParted_3 3 rfl rfl)
theorem dX7_roomParted_74 : decode cX7_roomParted 74 = .ok (.istore 4, 2) := dk_54 4 (dk_at dksX7_roomParted_3 4 rfl rfl)
theorem dX7_roomParted_76 : decode cX7_roomParted 76 = .ok (.goto (-71), 3) := dk_167 255 185 (dk_at dksX7_roomParted_3 6 rfl rfl)
theorem dX7_roomParted_79 : decode cX7_roomParted 79 = .ok (.iload_n 3, 1) := dk_29 (dk_at dksX7_roomParted_3 9 rfl rfl)
theorem dX7_roomParted_80 : decode cX7_roomParted 80 = .ok (.ireturn, 1) := dk_172 (dk_at dksX7_roomParted_3 10 rfl rfl)
abbrev cX7_best : ByteArray := prog_19_method_77_code
def yX7_best : MethodName := ⟨RX7, "best", "()I"⟩
def dkwX7_best_1 : List UInt8 := [167, 0, 4, 27, 60, 132, 2, 1, 167, 255, 228, 27, 172]
abbrev dktX7_best_1 : List UInt8 := dkwX7_best_1 ++ []
def dkwX7_best_0 : List UInt8 := [4, 60, 5, 61, 28, 16, 9, 162, 0, 28, 42, 28, 182, 1, 61, 42, 27, 182, 1, 61, 162, 0, 7, 28]
abbrev dktX7_best_0 : List UInt8 := dkwX7_best_0 ++ dktX7_best_1
theorem dksX7_best_0 : cX7_best.data.toList.drop 0 = dktX7_best_0 := by decide +kernel
theorem dksX7_best_1 : cX7_best.data.toList.drop 24 = dktX7_best_1 := dk_seg dksX7_best_0 24 rfl rfl
theorem dX7_best_0 : decode cX7_best 0 = .ok (.iconst 1, 1) := dk_4 (dk_at dksX7_best_0 0 rfl rfl)
theorem dX7_best_1 : decode cX7_best 1 = .ok (.istore_n 1, 1) := dk_60 (dk_at dksX7_best_0 1 rfl rfl)
theorem dX7_best_2 : decode cX7_best 2 = .ok (.iconst 2, 1) := dk_5 (dk_at dksX7_best_0 2 rfl rfl)
theorem dX7_best_3 : decode cX7_best 3 = .ok (.istore_n 2, 1) := dk_61 (dk_at dksX7_best_0 3 rfl rfl)
theorem dX7_best_4 : decode cX7_best 4 = .ok (.iload_n 2, 1) := dk_28 (dk_at dksX7_best_0 4 rfl rfl)
theorem dX7_best_5 : decode cX7_best 5 = .ok (.bipush 9, 2) := dk_16 9 (dk_at dksX7_best_0 5 rfl rfl)
theorem dX7_best_7 : decode cX7_best 7 = .ok (.if_icmp .ge 28, 3) := dk_162 0 28 (dk_at dksX7_best_0 7 rfl rfl)
theorem dX7_best_10 : decode cX7_best 10 = .ok (.aload_n 0, 1) := dk_42 (dk_at dksX7_best_0 10 rfl rfl)
theorem dX7_best_11 : decode cX7_best 11 = .ok (.iload_n 2, 1) := dk_28 (dk_at dksX7_best_0 11 rfl rfl)
theorem dX7_best_12 : decode cX7_best 12 = .ok (.invokevirtual 317, 3) := dk_182 1 61 (dk_at dksX7_best_0 12 rfl rfl)
theorem dX7_best_15 : decode cX7_best 15 = .ok (.aload_n 0, 1) := dk_42 (dk_at dksX7_best_0 15 rfl rfl)
theorem dX7_best_16 : decode cX7_best 16 = .ok (.iload_n 1, 1) := dk_27 (dk_at dksX7_best_0 16 rfl rfl)
theorem dX7_best_17 : decode cX7_best 17 = .ok (.invokevirtual 317, 3) := dk_182 1 61 (dk_at dksX7_best_0 17 rfl rfl)
theorem dX7_best_20 : decode cX7_best 20 = .ok (.if_icmp .ge 7, 3) := dk_162 0 7 (dk_at dksX7_best_0 20 rfl rfl)
theorem dX7_best_23 : decode cX7_best 23 = .ok (.iload_n 2, 1) := dk_28 (dk_at dksX7_best_0 23 rfl rfl)
theorem dX7_best_24 : decode cX7_best 24 = .ok (.goto 4, 3) := dk_167 0 4 (dk_at dksX7_best_1 0 rfl rfl)
theorem dX7_best_27 : decode cX7_best 27 = .ok (.iload_n 1, 1) := dk_27 (dk_at dksX7_best_1 3 rfl rfl)
theorem dX7_best_28 : decode cX7_best 28 = .ok (.istore_n 1, 1) := dk_60 (dk_at dksX7_best_1 4 rfl rfl)
theorem dX7_best_29 : decode cX7_best 29 = .ok (.iinc 2 1, 3) := dk_132 2 1 (dk_at dksX7_best_1 5 rfl rfl)
theorem dX7_best_32 : decode cX7_best 32 = .ok (.goto (-28), 3) := dk_167 255 228 (dk_at dksX7_best_1 8 rfl rfl)
theorem dX7_best_35 : decode cX7_best 35 = .ok (.iload_n 1, 1) := dk_27 (dk_at dksX7_best_1 11 rfl rfl)
theorem dX7_best_36 : decode cX7_best 36 = .ok (.ireturn, 1) := dk_172 (dk_at dksX7_best_1 12 rfl rfl)
abbrev cX7_sees : ByteArray := prog_19_method_78_code
def yX7_sees : MethodName := ⟨RX7, "sees", "(II)I"⟩
def dkwX7_sees_3 : List UInt8 := [180, 0, 230, 4, 96, 181, 0, 230, 42, 180, 0, 230, 172]
abbrev dktX7_sees_3 : List UInt8 := dkwX7_sees_3 ++ []
def dkwX7_sees_2 : List UInt8 := [42, 180, 0, 230, 104, 27, 79, 42, 180, 0, 89, 5, 42, 180, 0, 230, 104, 4, 96, 28, 79, 42, 89]
abbrev dktX7_sees_2 : List UInt8 := dkwX7_sees_2 ++ dktX7_sees_3
def dkwX7_sees_1 : List UInt8 := [16, 249, 159, 0, 5, 2, 172, 42, 180, 0, 230, 16, 6, 160, 0, 6, 16, 253, 172, 42, 180, 0, 89, 5]
abbrev dktX7_sees_1 : List UInt8 := dkwX7_sees_1 ++ dktX7_sees_2
def dkwX7_sees_0 : List UInt8 := [27, 3, 17, 3, 231, 184, 0, 95, 153, 0, 20, 28, 3, 17, 0, 255, 184, 0, 95, 154, 0, 11, 28]
abbrev dktX7_sees_0 : List UInt8 := dkwX7_sees_0 ++ dktX7_sees_1
theorem dksX7_sees_0 : cX7_sees.data.toList.drop 0 = dktX7_sees_0 := by decide +kernel
theorem dksX7_sees_1 : cX7_sees.data.toList.drop 23 = dktX7_sees_1 := dk_seg dksX7_sees_0 23 rfl rfl
theorem dksX7_sees_2 : cX7_sees.data.toList.drop 47 = dktX7_sees_2 := dk_seg dksX7_sees_1 24 rfl rfl
theorem dksX7_sees_3 : cX7_sees.data.toList.drop 70 = dktX7_sees_3 := dk_seg dksX7_sees_2 23 rfl rfl
theorem dX7_sees_0 : decode cX7_sees 0 = .ok (.iload_n 1, 1) := dk_27 (dk_at dksX7_sees_0 0 rfl rfl)
theorem dX7_sees_1 : decode cX7_sees 1 = .ok (.iconst 0, 1) := dk_3 (dk_at dksX7_sees_0 1 rfl rfl)
theorem dX7_sees_2 : decode cX7_sees 2 = .ok (.sipush 999, 3) := dk_17 3 231 (dk_at dksX7_sees_0 2 rfl rfl)
theorem dX7_sees_5 : decode cX7_sees 5 = .ok (.invokestatic 95, 3) := dk_184 0 95 (dk_at dksX7_sees_0 5 rfl rfl)
theorem dX7_sees_8 : decode cX7_sees 8 = .ok (.ifCond .eq 20, 3) := dk_153 0 20 (dk_at dksX7_sees_0 8 rfl rfl)
theorem dX7_sees_11 : decode cX7_sees 11 = .ok (.iload_n 2, 1) := dk_28 (dk_at dksX7_sees_0 11 rfl rfl)
theorem dX7_sees_12 : decode cX7_sees 12 = .ok (.iconst 0, 1) := dk_3 (dk_at dksX7_sees_0 12 rfl rfl)
theorem dX7_sees_13 : decode cX7_sees 13 = .ok (.sipush 255, 3) := dk_17 0 255 (dk_at dksX7_sees_0 13 rfl rfl)
theorem dX7_sees_16 : decode cX7_sees 16 = .ok (.invokestatic 95, 3) := dk_184 0 95 (dk_at dksX7_sees_0 16 rfl rfl)
theorem dX7_sees_19 : decode cX7_sees 19 = .ok (.ifCond .ne 11, 3) := dk_154 0 11 (dk_at dksX7_sees_0 19 rfl rfl)
theorem dX7_sees_22 : decode cX7_sees 22 = .ok (.iload_n 2, 1) := dk_28 (dk_at dksX7_sees_0 22 rfl rfl)
theorem dX7_sees_23 : decode cX7_sees 23 = .ok (.bipush (-7), 2) := dk_16 249 (dk_at dksX7_sees_1 0 rfl rfl)
theorem dX7_sees_25 : decode cX7_sees 25 = .ok (.if_icmp .eq 5, 3) := dk_159 0 5 (dk_at dksX7_sees_1 2 rfl rfl)
theorem dX7_sees_28 : decode cX7_sees 28 = .ok (.iconst (-1), 1) := dk_2 (dk_at dksX7_sees_1 5 rfl rfl)
theorem dX7_sees_29 : decode cX7_sees 29 = .ok (.ireturn, 1) := dk_172 (dk_at dksX7_sees_1 6 rfl rfl)
theorem dX7_sees_30 : decode cX7_sees 30 = .ok (.aload_n 0, 1) := dk_42 (dk_at dksX7_sees_1 7 rfl rfl)
theorem dX7_sees_31 : decode cX7_sees 31 = .ok (.getfield 230, 3) := dk_180 0 230 (dk_at dksX7_sees_1 8 rfl rfl)
theorem dX7_sees_34 : decode cX7_sees 34 = .ok (.bipush 6, 2) := dk_16 6 (dk_at dksX7_sees_1 11 rfl rfl)
theorem dX7_sees_36 : decode cX7_sees 36 = .ok (.if_icmp .ne 6, 3) := dk_160 0 6 (dk_at dksX7_sees_1 13 rfl rfl)
theorem dX7_sees_39 : decode cX7_sees 39 = .ok (.bipush (-3), 2) := dk_16 253 (dk_at dksX7_sees_1 16 rfl rfl)
theorem dX7_sees_41 : decode cX7_sees 41 = .ok (.ireturn, 1) := dk_172 (dk_at dksX7_sees_1 18 rfl rfl)
theorem dX7_sees_42 : decode cX7_sees 42 = .ok (.aload_n 0, 1) := dk_42 (dk_at dksX7_sees_1 19 rfl rfl)
theorem dX7_sees_43 : decode cX7_sees 43 = .ok (.getfield 89, 3) := dk_180 0 89 (dk_at dksX7_sees_1 20 rfl rfl)
theorem dX7_sees_46 : decode cX7_sees 46 = .ok (.iconst 2, 1) := dk_5 (dk_at dksX7_sees_1 23 rfl rfl)
theorem dX7_sees_47 : decode cX7_sees 47 = .ok (.aload_n 0, 1) := dk_42 (dk_at dksX7_sees_2 0 rfl rfl)
theorem dX7_sees_48 : decode cX7_sees 48 = .ok (.getfield 230, 3) := dk_180 0 230 (dk_at dksX7_sees_2 1 rfl rfl)
theorem dX7_sees_51 : decode cX7_sees 51 = .ok (.imul, 1) := dk_104 (dk_at dksX7_sees_2 4 rfl rfl)
theorem dX7_sees_52 : decode cX7_sees 52 = .ok (.iload_n 1, 1) := dk_27 (dk_at dksX7_sees_2 5 rfl rfl)
theorem dX7_sees_53 : decode cX7_sees 53 = .ok (.iastore, 1) := dk_79 (dk_at dksX7_sees_2 6 rfl rfl)
theorem dX7_sees_54 : decode cX7_sees 54 = .ok (.aload_n 0, 1) := dk_42 (dk_at dksX7_sees_2 7 rfl rfl)
theorem dX7_sees_55 : decode cX7_sees 55 = .ok (.getfield 89, 3) := dk_180 0 89 (dk_at dksX7_sees_2 8 rfl rfl)
theorem dX7_sees_58 : decode cX7_sees 58 = .ok (.iconst 2, 1) := dk_5 (dk_at dksX7_sees_2 11 rfl rfl)
theorem dX7_sees_59 : decode cX7_sees 59 = .ok (.aload_n 0, 1) := dk_42 (dk_at dksX7_sees_2 12 rfl rfl)
theorem dX7_sees_60 : decode cX7_sees 60 = .ok (.getfield 230, 3) := dk_180 0 230 (dk_at dksX7_sees_2 13 rfl rfl)
theorem dX7_sees_63 : decode cX7_sees 63 = .ok (.imul, 1) := dk_104 (dk_at dksX7_sees_2 16 rfl rfl)
theorem dX7_sees_64 : decode cX7_sees 64 = .ok (.iconst 1, 1) := dk_4 (dk_at dksX7_sees_2 17 rfl rfl)
theorem dX7_sees_65 : decode cX7_sees 65 = .ok (.iadd, 1) := dk_96 (dk_at dksX7_sees_2 18 rfl rfl)
theorem dX7_sees_66 : decode cX7_sees 66 = .ok (.iload_n 2, 1) := dk_28 (dk_at dksX7_sees_2 19 rfl rfl)
theorem dX7_sees_67 : decode cX7_sees 67 = .ok (.iastore, 1) := dk_79 (dk_at dksX7_sees_2 20 rfl rfl)
theorem dX7_sees_68 : decode cX7_sees 68 = .ok (.aload_n 0, 1) := dk_42 (dk_at dksX7_sees_2 21 rfl rfl)
theorem dX7_sees_69 : decode cX7_sees 69 = .ok (.dup, 1) := dk_89 (dk_at dksX7_sees_2 22 rfl rfl)
theorem dX7_sees_70 : decode cX7_sees 70 = .ok (.getfield 230, 3) := dk_180 0 230 (dk_at dksX7_sees_3 0 rfl rfl)
theorem dX7_sees_73 : decode cX7_sees 73 = .ok (.iconst 1, 1) := dk_4 (dk_at dksX7_sees_3 3 rfl rfl)
theorem dX7_sees_74 : decode cX7_sees 74 = .ok (.iadd, 1) := dk_96 (dk_at dksX7_sees_3 4 rfl rfl)
theorem dX7_sees_75 : decode cX7_sees 75 = .ok (.putfield 230, 3) := dk_181 0 230 (dk_at dksX7_sees_3 5 rfl rfl)
theorem dX7_sees_78 : decode cX7_sees 78 = .ok (.aload_n 0, 1) := dk_42 (dk_at dksX7_sees_3 8 rfl rfl)
theorem dX7_sees_79 : decode cX7_sees 79 = .ok (.getfield 230, 3) := dk_180 0 230 (dk_at dksX7_sees_3 9 rfl rfl)
theorem dX7_sees_82 : decode cX7_sees 82 = .ok (.ireturn, 1) := dk_172 (dk_at dksX7_sees_3 12 rfl rfl)
abbrev cX7_forget : ByteArray := prog_19_method_79_code
def yX7_forget : MethodName := ⟨RX7, "forget", "()I"⟩
def dkwX7_forget_0 : List UInt8 := [42, 180, 0, 230, 60, 42, 3, 181, 0, 230, 27, 172]
abbrev dktX7_forget_0 : List UInt8 := dkwX7_forget_0 ++ []
theorem dksX7_forget_0 : cX7_forget.data.toList.drop 0 = dktX7_forget_0 := by decide +kernel
theorem dX7_forget_0 : decode cX7_forget 0 = .ok (.aload_n 0, 1) := dk_42 (dk_at dksX7_forget_0 0 rfl rfl)
theorem dX7_forget_1 : decode cX7_forget 1 = .ok (.getfield 230, 3) := dk_180 0 230 (dk_at dksX7_forget_0 1 rfl rfl)
theorem dX7_forget_4 : decode cX7_forget 4 = .ok (.istore_n 1, 1) := dk_60 (dk_at dksX7_forget_0 4 rfl rfl)
theorem dX7_forget_5 : decode cX7_forget 5 = .ok (.aload_n 0, 1) := dk_42 (dk_at dksX7_forget_0 5 rfl rfl)
theorem dX7_forget_6 : decode cX7_forget 6 = .ok (.iconst 0, 1) := dk_3 (dk_at dksX7_forget_0 6 rfl rfl)
theorem dX7_forget_7 : decode cX7_forget 7 = .ok (.putfield 230, 3) := dk_181 0 230 (dk_at dksX7_forget_0 7 rfl rfl)
theorem dX7_forget_10 : decode cX7_forget 10 = .ok (.iload_n 1, 1) := dk_27 (dk_at dksX7_forget_0 10 rfl rfl)
theorem dX7_forget_11 : decode cX7_forget 11 = .ok (.ireturn, 1) := dk_172 (dk_at dksX7_forget_0 11 rfl rfl)
abbrev cX7_which : ByteArray := prog_19_method_81_code
def yX7_which : MethodName := ⟨RX7, "which", "()I"⟩
theorem dX7_which_0 : decode cX7_which 0 = .ok (.aload_n 0, 1) := by decide +kernel
theorem dX7_which_1 : decode cX7_which 1 = .ok (.invokevirtual 320, 3) := by decide +kernel
theorem dX7_which_4 : decode cX7_which 4 = .ok (.ireturn, 1) := by decide +kernel
abbrev cX7_seen : ByteArray := prog_19_method_80_code
def yX7_seen : MethodName := ⟨RX7, "seen", "()I"⟩
def dkwX7_seen_4 : List UInt8 := [60, 132, 4, 1, 167, 255, 207, 132, 2, 1, 167, 255, 161, 27, 172]
abbrev dktX7_seen_4 : List UInt8 := dkwX7_seen_4 ++ []
def dkwX7_seen_3 : List UInt8 := [180, 0, 89, 5, 28, 104, 4, 96, 46, 160, 0, 7, 27, 167, 0, 11, 27, 4, 21, 4, 120, 2, 130, 126]
abbrev dktX7_seen_3 : List UInt8 := dkwX7_seen_3 ++ dktX7_seen_4
def dkwX7_seen_2 : List UInt8 := [3, 54, 4, 21, 4, 42, 180, 0, 212, 162, 0, 46, 29, 153, 0, 27, 42, 180, 0, 59, 21, 4, 46, 42]
abbrev dktX7_seen_2 : List UInt8 := dkwX7_seen_2 ++ dktX7_seen_3
def dkwX7_seen_1 : List UInt8 := [5, 28, 104, 46, 182, 1, 12, 62, 29, 153, 0, 15, 42, 42, 180, 0, 89, 5, 28, 104, 46, 182, 1, 15]
abbrev dktX7_seen_1 : List UInt8 := dkwX7_seen_1 ++ dktX7_seen_2
def dkwX7_seen_0 : List UInt8 := [4, 42, 180, 0, 212, 120, 4, 100, 60, 3, 61, 28, 42, 180, 0, 230, 162, 0, 93, 42, 42, 180, 0, 89]
abbrev dktX7_seen_0 : List UInt8 := dkwX7_seen_0 ++ dktX7_seen_1
theorem dksX7_seen_0 : cX7_seen.data.toList.drop 0 = dktX7_seen_0 := by decide +kernel
theorem dksX7_seen_1 : cX7_seen.data.toList.drop 24 = dktX7_seen_1 := dk_seg dksX7_seen_0 24 rfl rfl
theorem dksX7_seen_2 : cX7_seen.data.toList.drop 48 = dktX7_seen_2 := dk_seg dksX7_seen_1 24 rfl rfl
theorem dksX7_seen_3 : cX7_seen.data.toList.drop 72 = dktX7_seen_3 := dk_seg dksX7_seen_2 24 rfl rfl
theorem dksX7_seen_4 : cX7_seen.data.toList.drop 96 = dktX7_seen_4 := dk_seg dksX7_seen_3 24 rfl rfl
theorem dX7_seen_0 : decode cX7_seen 0 = .ok (.iconst 1, 1) := dk_4 (dk_at dksX7_seen_0 0 rfl rfl)
theorem dX7_seen_1 : decode cX7_seen 1 = .ok (.aload_n 0, 1) := dk_42 (dk_at dksX7_seen_0 1 rfl rfl)
theorem dX7_seen_2 : decode cX7_seen 2 = .ok (.getfield 212, 3) := dk_180 0 212 (dk_at dksX7_seen_0 2 rfl rfl)
theorem dX7_seen_5 : decode cX7_seen 5 = .ok (.ishl, 1) := dk_120 (dk_at dksX7_seen_0 5 rfl rfl)
theorem dX7_seen_6 : decode cX7_seen 6 = .ok (.iconst 1, 1) := dk_4 (dk_at dksX7_seen_0 6 rfl rfl)
theorem dX7_seen_7 : decode cX7_seen 7 = .ok (.isub, 1) := dk_100 (dk_at dksX7_seen_0 7 rfl rfl)
theorem dX7_seen_8 : decode cX7_seen 8 = .ok (.istore_n 1, 1) := dk_60 (dk_at dksX7_seen_0 8 rfl rfl)
theorem dX7_seen_9 : decode cX7_seen 9 = .ok (.iconst 0, 1) := dk_3 (dk_at dksX7_seen_0 9 rfl rfl)
theorem dX7_seen_10 : decode cX7_seen 10 = .ok (.istore_n 2, 1) := dk_61 (dk_at dksX7_seen_0 10 rfl rfl)
theorem dX7_seen_11 : decode cX7_seen 11 = .ok (.iload_n 2, 1) := dk_28 (dk_at dksX7_seen_0 11 rfl rfl)
theorem dX7_seen_12 : decode cX7_seen 12 = .ok (.aload_n 0, 1) := dk_42 (dk_at dksX7_seen_0 12 rfl rfl)
theorem dX7_seen_13 : decode cX7_seen 13 = .ok (.getfield 230, 3) := dk_180 0 230 (dk_at dksX7_seen_0 13 rfl rfl)
theorem dX7_seen_16 : decode cX7_seen 16 = .ok (.if_icmp .ge 93, 3) := dk_162 0 93 (dk_at dksX7_seen_0 16 rfl rfl)
theorem dX7_seen_19 : decode cX7_seen 19 = .ok (.aload_n 0, 1) := dk_42 (dk_at dksX7_seen_0 19 rfl rfl)
theorem dX7_seen_20 : decode cX7_seen 20 = .ok (.aload_n 0, 1) := dk_42 (dk_at dksX7_seen_0 20 rfl rfl)
theorem dX7_seen_21 : decode cX7_seen 21 = .ok (.getfield 89, 3) := dk_180 0 89 (dk_at dksX7_seen_0 21 rfl rfl)
theorem dX7_seen_24 : decode cX7_seen 24 = .ok (.iconst 2, 1) := dk_5 (dk_at dksX7_seen_1 0 rfl rfl)
theorem dX7_seen_25 : decode cX7_seen 25 = .ok (.iload_n 2, 1) := dk_28 (dk_at dksX7_seen_1 1 rfl rfl)
theorem dX7_seen_26 : decode cX7_seen 26 = .ok (.imul, 1) := dk_104 (dk_at dksX7_seen_1 2 rfl rfl)
theorem dX7_seen_27 : decode cX7_seen 27 = .ok (.iaload, 1) := dk_46 (dk_at dksX7_seen_1 3 rfl rfl)
theorem dX7_seen_28 : decode cX7_seen 28 = .ok (.invokevirtual 268, 3) := dk_182 1 12 (dk_at dksX7_seen_1 4 rfl rfl)
theorem dX7_seen_31 : decode cX7_seen 31 = .ok (.istore_n 3, 1) := dk_62 (dk_at dksX7_seen_1 7 rfl rfl)
theorem dX7_seen_32 : decode cX7_seen 32 = .ok (.iload_n 3, 1) := dk_29 (dk_at dksX7_seen_1 8 rfl rfl)
theorem dX7_seen_33 : decode cX7_seen 33 = .ok (.ifCond .eq 15, 3) := dk_153 0 15 (dk_at dksX7_seen_1 9 rfl rfl)
theorem dX7_seen_36 : decode cX7_seen 36 = .ok (.aload_n 0, 1) := dk_42 (dk_at dksX7_seen_1 12 rfl rfl)
theorem dX7_seen_37 : decode cX7_seen 37 = .ok (.aload_n 0, 1) := dk_42 (dk_at dksX7_seen_1 13 rfl rfl)
theorem dX7_seen_38 : decode cX7_seen 38 = .ok (.getfield 89, 3) := dk_180 0 89 (dk_at dksX7_seen_1 14 rfl rfl)
theorem dX7_seen_41 : decode cX7_seen 41 = .ok (.iconst 2, 1) := dk_5 (dk_at dksX7_seen_1 17 rfl rfl)
theorem dX7_seen_42 : decode cX7_seen 42 = .ok (.iload_n 2, 1) := dk_28 (dk_at dksX7_seen_1 18 rfl rfl)
theorem dX7_seen_43 : decode cX7_seen 43 = .ok (.imul, 1) := dk_104 (dk_at dksX7_seen_1 19 rfl rfl)
theorem dX7_seen_44 : decode cX7_seen 44 = .ok (.iaload, 1) := dk_46 (dk_at dksX7_seen_1 20 rfl rfl)
theorem dX7_seen_45 : decode cX7_seen 45 = .ok (.invokevirtual 271, 3) := dk_182 1 15 (dk_at dksX7_seen_1 21 rfl rfl)
theorem dX7_seen_48 : decode cX7_seen 48 = .ok (.iconst 0, 1) := dk_3 (dk_at dksX7_seen_2 0 rfl rfl)
theorem dX7_seen_49 : decode cX7_seen 49 = .ok (.istore 4, 2) := dk_54 4 (dk_at dksX7_seen_2 1 rfl rfl)
theorem dX7_seen_51 : decode cX7_seen 51 = .ok (.iload 4, 2) := dk_21 4 (dk_at dksX7_seen_2 3 rfl rfl)
theorem dX7_seen_53 : decode cX7_seen 53 = .ok (.aload_n 0, 1) := dk_42 (dk_at dksX7_seen_2 5 rfl rfl)
theorem dX7_seen_54 : decode cX7_seen 54 = .ok (.getfield 212, 3) := dk_180 0 212 (dk_at dksX7_seen_2 6 rfl rfl)
theorem dX7_seen_57 : decode cX7_seen 57 = .ok (.if_icmp .ge 46, 3) := dk_162 0 46 (dk_at dksX7_seen_2 9 rfl rfl)
theorem dX7_seen_60 : decode cX7_seen 60 = .ok (.iload_n 3, 1) := dk_29 (dk_at dksX7_seen_2 12 rfl rfl)
theorem dX7_seen_61 : decode cX7_seen 61 = .ok (.ifCond .eq 27, 3) := dk_153 0 27 (dk_at dksX7_seen_2 13 rfl rfl)
theorem dX7_seen_64 : decode cX7_seen 64 = .ok (.aload_n 0, 1) := dk_42 (dk_at dksX7_seen_2 16 rfl rfl)
theorem dX7_seen_65 : decode cX7_seen 65 = .ok (.getfield 59, 3) := dk_180 0 59 (dk_at dksX7_seen_2 17 rfl rfl)
theorem dX7_seen_68 : decode cX7_seen 68 = .ok (.iload 4, 2) := dk_21 4 (dk_at dksX7_seen_2 20 rfl rfl)
theorem dX7_seen_70 : decode cX7_seen 70 = .ok (.iaload, 1) := dk_46 (dk_at dksX7_seen_2 22 rfl rfl)
theorem dX7_seen_71 : decode cX7_seen 71 = .ok (.aload_n 0, 1) := dk_42 (dk_at dksX7_seen_2 23 rfl rfl)
theorem dX7_seen_72 : decode cX7_seen 72 = .ok (.getfield 89, 3) := dk_180 0 89 (dk_at dksX7_seen_3 0 rfl rfl)
theorem dX7_seen_75 : decode cX7_seen 75 = .ok (.iconst 2, 1) := dk_5 (dk_at dksX7_seen_3 3 rfl rfl)
theorem dX7_seen_76 : decode cX7_seen 76 = .ok (.iload_n 2, 1) := dk_28 (dk_at dksX7_seen_3 4 rfl rfl)
theorem dX7_seen_77 : decode cX7_seen 77 = .ok (.imul, 1) := dk_104 (dk_at dksX7_seen_3 5 rfl rfl)
theorem dX7_seen_78 : decode cX7_seen 78 = .ok (.iconst 1, 1) := dk_4 (dk_at dksX7_seen_3 6 rfl rfl)
theorem dX7_seen_79 : decode cX7_seen 79 = .ok (.iadd, 1) := dk_96 (dk_at dksX7_seen_3 7 rfl rfl)
theorem dX7_seen_80 : decode cX7_seen 80 = .ok (.iaload, 1) := dk_46 (dk_at dksX7_seen_3 8 rfl rfl)
theorem dX7_seen_81 : decode cX7_seen 81 = .ok (.if_icmp .ne 7, 3) := dk_160 0 7 (dk_at dksX7_seen_3 9 rfl rfl)
theorem dX7_seen_84 : decode cX7_seen 84 = .ok (.iload_n 1, 1) := dk_27 (dk_at dksX7_seen_3 12 rfl rfl)
theorem dX7_seen_85 : decode cX7_seen 85 = .ok (.goto 11, 3) := dk_167 0 11 (dk_at dksX7_seen_3 13 rfl rfl)
theorem dX7_seen_88 : decode cX7_seen 88 = .ok (.iload_n 1, 1) := dk_27 (dk_at dksX7_seen_3 16 rfl rfl)
theorem dX7_seen_89 : decode cX7_seen 89 = .ok (.iconst 1, 1) := dk_4 (dk_at dksX7_seen_3 17 rfl rfl)
theorem dX7_seen_90 : decode cX7_seen 90 = .ok (.iload 4, 2) := dk_21 4 (dk_at dksX7_seen_3 18 rfl rfl)
theorem dX7_seen_92 : decode cX7_seen 92 = .ok (.ishl, 1) := dk_120 (dk_at dksX7_seen_3 20 rfl rfl)
theorem dX7_seen_93 : decode cX7_seen 93 = .ok (.iconst (-1), 1) := dk_2 (dk_at dksX7_seen_3 21 rfl rfl)
theorem dX7_seen_94 : decode cX7_seen 94 = .ok (.ixor, 1) := dk_130 (dk_at dksX7_seen_3 22 rfl rfl)
theorem dX7_seen_95 : decode cX7_seen 95 = .ok (.iand, 1) := dk_126 (dk_at dksX7_seen_3 23 rfl rfl)
theorem dX7_seen_96 : decode cX7_seen 96 = .ok (.istore_n 1, 1) := dk_60 (dk_at dksX7_seen_4 0 rfl rfl)
theorem dX7_seen_97 : decode cX7_seen 97 = .ok (.iinc 4 1, 3) := dk_132 4 1 (dk_at dksX7_seen_4 1 rfl rfl)
theorem dX7_seen_100 : decode cX7_seen 100 = .ok (.goto (-49), 3) := dk_167 255 207 (dk_at dksX7_seen_4 4 rfl rfl)
theorem dX7_seen_103 : decode cX7_seen 103 = .ok (.iinc 2 1, 3) := dk_132 2 1 (dk_at dksX7_seen_4 7 rfl rfl)
theorem dX7_seen_106 : decode cX7_seen 106 = .ok (.goto (-95), 3) := dk_167 255 161 (dk_at dksX7_seen_4 10 rfl rfl)
theorem dX7_seen_109 : decode cX7_seen 109 = .ok (.iload_n 1, 1) := dk_27 (dk_at dksX7_seen_4 13 rfl rfl)
theorem dX7_seen_110 : decode cX7_seen 110 = .ok (.ireturn, 1) := dk_172 (dk_at dksX7_seen_4 14 rfl rfl)
abbrev cX7_look : ByteArray := prog_19_method_83_code
def yX7_look : MethodName := ⟨RX7, "look", "()I"⟩
def dkwX7_look_3 : List UInt8 := [29, 162, 0, 9, 21, 4, 61, 21, 5, 62, 132, 4, 1, 167, 255, 201, 28, 172]
abbrev dktX7_look_3 : List UInt8 := dkwX7_look_3 ++ []
def dkwX7_look_2 : List UInt8 := [153, 0, 34, 42, 21, 4, 182, 1, 15, 42, 27, 182, 1, 67, 54, 5, 28, 16, 247, 159, 0, 9, 21, 5]
abbrev dktX7_look_2 : List UInt8 := dkwX7_look_2 ++ dktX7_look_3
def dkwX7_look_1 : List UInt8 := [62, 3, 54, 4, 21, 4, 42, 180, 0, 25, 3, 46, 163, 0, 50, 42, 180, 0, 68, 21, 4, 51]
abbrev dktX7_look_1 : List UInt8 := dkwX7_look_1 ++ dktX7_look_2
def dkwX7_look_0 : List UInt8 := [42, 182, 1, 64, 60, 27, 27, 4, 100, 126, 154, 0, 6, 16, 247, 172, 42, 182, 1, 18, 16, 247, 61, 3]
abbrev dktX7_look_0 : List UInt8 := dkwX7_look_0 ++ dktX7_look_1
theorem dksX7_look_0 : cX7_look.data.toList.drop 0 = dktX7_look_0 := by decide +kernel
theorem dksX7_look_1 : cX7_look.data.toList.drop 24 = dktX7_look_1 := dk_seg dksX7_look_0 24 rfl rfl
theorem dksX7_look_2 : cX7_look.data.toList.drop 46 = dktX7_look_2 := dk_seg dksX7_look_1 22 rfl rfl
theorem dksX7_look_3 : cX7_look.data.toList.drop 70 = dktX7_look_3 := dk_seg dksX7_look_2 24 rfl rfl
theorem dX7_look_0 : decode cX7_look 0 = .ok (.aload_n 0, 1) := dk_42 (dk_at dksX7_look_0 0 rfl rfl)
theorem dX7_look_1 : decode cX7_look 1 = .ok (.invokevirtual 320, 3) := dk_182 1 64 (dk_at dksX7_look_0 1 rfl rfl)
theorem dX7_look_4 : decode cX7_look 4 = .ok (.istore_n 1, 1) := dk_60 (dk_at dksX7_look_0 4 rfl rfl)
theorem dX7_look_5 : decode cX7_look 5 = .ok (.iload_n 1, 1) := dk_27 (dk_at dksX7_look_0 5 rfl rfl)
theorem dX7_look_6 : decode cX7_look 6 = .ok (.iload_n 1, 1) := dk_27 (dk_at dksX7_look_0 6 rfl rfl)
theorem dX7_look_7 : decode cX7_look 7 = .ok (.iconst 1, 1) := dk_4 (dk_at dksX7_look_0 7 rfl rfl)
theorem dX7_look_8 : decode cX7_look 8 = .ok (.isub, 1) := dk_100 (dk_at dksX7_look_0 8 rfl rfl)
theorem dX7_look_9 : decode cX7_look 9 = .ok (.iand, 1) := dk_126 (dk_at dksX7_look_0 9 rfl rfl)
theorem dX7_look_10 : decode cX7_look 10 = .ok (.ifCond .ne 6, 3) := dk_154 0 6 (dk_at dksX7_look_0 10 rfl rfl)
theorem dX7_look_13 : decode cX7_look 13 = .ok (.bipush (-9), 2) := dk_16 247 (dk_at dksX7_look_0 13 rfl rfl)
theorem dX7_look_15 : decode cX7_look 15 = .ok (.ireturn, 1) := dk_172 (dk_at dksX7_look_0 15 rfl rfl)
theorem dX7_look_16 : decode cX7_look 16 = .ok (.aload_n 0, 1) := dk_42 (dk_at dksX7_look_0 16 rfl rfl)
theorem dX7_look_17 : decode cX7_look 17 = .ok (.invokevirtual 274, 3) := dk_182 1 18 (dk_at dksX7_look_0 17 rfl rfl)
theorem dX7_look_20 : decode cX7_look 20 = .ok (.bipush (-9), 2) := dk_16 247 (dk_at dksX7_look_0 20 rfl rfl)
theorem dX7_look_22 : decode cX7_look 22 = .ok (.istore_n 2, 1) := dk_61 (dk_at dksX7_look_0 22 rfl rfl)
theorem dX7_look_23 : decode cX7_look 23 = .ok (.iconst 0, 1) := dk_3 (dk_at dksX7_look_0 23 rfl rfl)
theorem dX7_look_24 : decode cX7_look 24 = .ok (.istore_n 3, 1) := dk_62 (dk_at dksX7_look_1 0 rfl rfl)
theorem dX7_look_25 : decode cX7_look 25 = .ok (.iconst 0, 1) := dk_3 (dk_at dksX7_look_1 1 rfl rfl)
theorem dX7_look_26 : decode cX7_look 26 = .ok (.istore 4, 2) := dk_54 4 (dk_at dksX7_look_1 2 rfl rfl)
theorem dX7_look_28 : decode cX7_look 28 = .ok (.iload 4, 2) := dk_21 4 (dk_at dksX7_look_1 4 rfl rfl)
theorem dX7_look_30 : decode cX7_look 30 = .ok (.aload_n 0, 1) := dk_42 (dk_at dksX7_look_1 6 rfl rfl)
theorem dX7_look_31 : decode cX7_look 31 = .ok (.getfield 25, 3) := dk_180 0 25 (dk_at dksX7_look_1 7 rfl rfl)
theorem dX7_look_34 : decode cX7_look 34 = .ok (.iconst 0, 1) := dk_3 (dk_at dksX7_look_1 10 rfl rfl)
theorem dX7_look_35 : decode cX7_look 35 = .ok (.iaload, 1) := dk_46 (dk_at dksX7_look_1 11 rfl rfl)
theorem dX7_look_36 : decode cX7_look 36 = .ok (.if_icmp .gt 50, 3) := dk_163 0 50 (dk_at dksX7_look_1 12 rfl rfl)
theorem dX7_look_39 : decode cX7_look 39 = .ok (.aload_n 0, 1) := dk_42 (dk_at dksX7_look_1 15 rfl rfl)
theorem dX7_look_40 : decode cX7_look 40 = .ok (.getfield 68, 3) := dk_180 0 68 (dk_at dksX7_look_1 16 rfl rfl)
theorem dX7_look_43 : decode cX7_look 43 = .ok (.iload 4, 2) := dk_21 4 (dk_at dksX7_look_1 19 rfl rfl)
theorem dX7_look_45 : decode cX7_look 45 = .ok (.baload, 1) := dk_51 (dk_at dksX7_look_1 21 rfl rfl)
theorem dX7_look_46 : decode cX7_look 46 = .ok (.ifCond .eq 34, 3) := dk_153 0 34 (dk_at dksX7_look_2 0 rfl rfl)
theorem dX7_look_49 : decode cX7_look 49 = .ok (.aload_n 0, 1) := dk_42 (dk_at dksX7_look_2 3 rfl rfl)
theorem dX7_look_50 : decode cX7_look 50 = .ok (.iload 4, 2) := dk_21 4 (dk_at dksX7_look_2 4 rfl rfl)
theorem dX7_look_52 : decode cX7_look 52 = .ok (.invokevirtual 271, 3) := dk_182 1 15 (dk_at dksX7_look_2 6 rfl rfl)
theorem dX7_look_55 : decode cX7_look 55 = .ok (.aload_n 0, 1) := dk_42 (dk_at dksX7_look_2 9 rfl rfl)
theorem dX7_look_56 : decode cX7_look 56 = .ok (.iload_n 1, 1) := dk_27 (dk_at dksX7_look_2 10 rfl rfl)
theorem dX7_look_57 : decode cX7_look 57 = .ok (.invokevirtual 323, 3) := dk_182 1 67 (dk_at dksX7_look_2 11 rfl rfl)
theorem dX7_look_60 : decode cX7_look 60 = .ok (.istore 5, 2) := dk_54 5 (dk_at dksX7_look_2 14 rfl rfl)
theorem dX7_look_62 : decode cX7_look 62 = .ok (.iload_n 2, 1) := dk_28 (dk_at dksX7_look_2 16 rfl rfl)
theorem dX7_look_63 : decode cX7_look 63 = .ok (.bipush (-9), 2) := dk_16 247 (dk_at dksX7_look_2 17 rfl rfl)
theorem dX7_look_65 : decode cX7_look 65 = .ok (.if_icmp .eq 9, 3) := dk_159 0 9 (dk_at dksX7_look_2 19 rfl rfl)
theorem dX7_look_68 : decode cX7_look 68 = .ok (.iload 5, 2) := dk_21 5 (dk_at dksX7_look_2 22 rfl rfl)
theorem dX7_look_70 : decode cX7_look 70 = .ok (.iload_n 3, 1) := dk_29 (dk_at dksX7_look_3 0 rfl rfl)
theorem dX7_look_71 : decode cX7_look 71 = .ok (.if_icmp .ge 9, 3) := dk_162 0 9 (dk_at dksX7_look_3 1 rfl rfl)
theorem dX7_look_74 : decode cX7_look 74 = .ok (.iload 4, 2) := dk_21 4 (dk_at dksX7_look_3 4 rfl rfl)
theorem dX7_look_76 : decode cX7_look 76 = .ok (.istore_n 2, 1) := dk_61 (dk_at dksX7_look_3 6 rfl rfl)
theorem dX7_look_77 : decode cX7_look 77 = .ok (.iload 5, 2) := dk_21 5 (dk_at dksX7_look_3 7 rfl rfl)
theorem dX7_look_79 : decode cX7_look 79 = .ok (.istore_n 3, 1) := dk_62 (dk_at dksX7_look_3 9 rfl rfl)
theorem dX7_look_80 : decode cX7_look 80 = .ok (.iinc 4 1, 3) := dk_132 4 1 (dk_at dksX7_look_3 10 rfl rfl)
theorem dX7_look_83 : decode cX7_look 83 = .ok (.goto (-55), 3) := dk_167 255 201 (dk_at dksX7_look_3 13 rfl rfl)
theorem dX7_look_86 : decode cX7_look 86 = .ok (.iload_n 2, 1) := dk_28 (dk_at dksX7_look_3 16 rfl rfl)
theorem dX7_look_87 : decode cX7_look 87 = .ok (.ireturn, 1) := dk_172 (dk_at dksX7_look_3 17 rfl rfl)
abbrev cX7_mostAlike : ByteArray := prog_19_method_82_code
def yX7_mostAlike : MethodName := ⟨RX7, "mostAlike", "(I)I"⟩
def dkwX7_mostAlike_4 : List UInt8 := [167, 255, 166, 28, 172]
abbrev dktX7_mostAlike_4 : List UInt8 := dkwX7_mostAlike_4 ++ []
def dkwX7_mostAlike_3 : List UInt8 := [132, 5, 1, 167, 255, 199, 21, 4, 28, 164, 0, 8, 21, 4, 167, 0, 4, 28, 61, 132, 3, 1]
abbrev dktX7_mostAlike_3 : List UInt8 := dkwX7_mostAlike_3 ++ dktX7_mostAlike_4
def dkwX7_mostAlike_2 : List UInt8 := [42, 180, 0, 59, 29, 46, 42, 180, 0, 59, 21, 5, 46, 160, 0, 7, 4, 167, 0, 4, 3, 96, 54, 4]
abbrev dktX7_mostAlike_2 : List UInt8 := dkwX7_mostAlike_2 ++ dktX7_mostAlike_3
def dkwX7_mostAlike_1 : List UInt8 := [162, 0, 54, 21, 4, 27, 29, 122, 4, 126, 4, 160, 0, 33, 27, 21, 5, 122, 4, 126, 4, 160, 0, 23]
abbrev dktX7_mostAlike_1 : List UInt8 := dkwX7_mostAlike_1 ++ dktX7_mostAlike_2
def dkwX7_mostAlike_0 : List UInt8 := [3, 61, 3, 62, 29, 42, 180, 0, 212, 162, 0, 88, 3, 54, 4, 3, 54, 5, 21, 5, 42, 180, 0, 212]
abbrev dktX7_mostAlike_0 : List UInt8 := dkwX7_mostAlike_0 ++ dktX7_mostAlike_1
theorem dksX7_mostAlike_0 : cX7_mostAlike.data.toList.drop 0 = dktX7_mostAlike_0 := by decide +kernel
theorem dksX7_mostAlike_1 : cX7_mostAlike.data.toList.drop 24 = dktX7_mostAlike_1 := dk_seg dksX7_mostAlike_0 24 rfl rfl
theorem dksX7_mostAlike_2 : cX7_mostAlike.data.toList.drop 48 = dktX7_mostAlike_2 := dk_seg dksX7_mostAlike_1 24 rfl rfl
theorem dksX7_mostAlike_3 : cX7_mostAlike.data.toList.drop 72 = dktX7_mostAlike_3 := dk_seg dksX7_mostAlike_2 24 rfl rfl
theorem dksX7_mostAlike_4 : cX7_mostAlike.data.toList.drop 94 = dktX7_mostAlike_4 := dk_seg dksX7_mostAlike_3 22 rfl rfl
theorem dX7_mostAlike_0 : decode cX7_mostAlike 0 = .ok (.iconst 0, 1) := dk_3 (dk_at dksX7_mostAlike_0 0 rfl rfl)
theorem dX7_mostAlike_1 : decode cX7_mostAlike 1 = .ok (.istore_n 2, 1) := dk_61 (dk_at dksX7_mostAlike_0 1 rfl rfl)
theorem dX7_mostAlike_2 : decode cX7_mostAlike 2 = .ok (.iconst 0, 1) := dk_3 (dk_at dksX7_mostAlike_0 2 rfl rfl)
theorem dX7_mostAlike_3 : decode cX7_mostAlike 3 = .ok (.istore_n 3, 1) := dk_62 (dk_at dksX7_mostAlike_0 3 rfl rfl)
theorem dX7_mostAlike_4 : decode cX7_mostAlike 4 = .ok (.iload_n 3, 1) := dk_29 (dk_at dksX7_mostAlike_0 4 rfl rfl)
theorem dX7_mostAlike_5 : decode cX7_mostAlike 5 = .ok (.aload_n 0, 1) := dk_42 (dk_at dksX7_mostAlike_0 5 rfl rfl)
theorem dX7_mostAlike_6 : decode cX7_mostAlike 6 = .ok (.getfield 212, 3) := dk_180 0 212 (dk_at dksX7_mostAlike_0 6 rfl rfl)
theorem dX7_mostAlike_9 : decode cX7_mostAlike 9 = .ok (.if_icmp .ge 88, 3) := dk_162 0 88 (dk_at dksX7_mostAlike_0 9 rfl rfl)
theorem dX7_mostAlike_12 : decode cX7_mostAlike 12 = .ok (.iconst 0, 1) := dk_3 (dk_at dksX7_mostAlike_0 12 rfl rfl)
theorem dX7_mostAlike_13 : decode cX7_mostAlike 13 = .ok (.istore 4, 2) := dk_54 4 (dk_at dksX7_mostAlike_0 13 rfl rfl)
theorem dX7_mostAlike_15 : decode cX7_mostAlike 15 = .ok (.iconst 0, 1) := dk_3 (dk_at dksX7_mostAlike_0 15 rfl rfl)
theorem dX7_mostAlike_16 : decode cX7_mostAlike 16 = .ok (.istore 5, 2) := dk_54 5 (dk_at dksX7_mostAlike_0 16 rfl rfl)
theorem dX7_mostAlike_18 : decode cX7_mostAlike 18 = .ok (.iload 5, 2) := dk_21 5 (dk_at dksX7_mostAlike_0 18 rfl rfl)
theorem dX7_mostAlike_20 : decode cX7_mostAlike 20 = .ok (.aload_n 0, 1) := dk_42 (dk_at dksX7_mostAlike_0 20 rfl rfl)
theorem dX7_mostAlike_21 : decode cX7_mostAlike 21 = .ok (.getfield 212, 3) := dk_180 0 212 (dk_at dksX7_mostAlike_0 21 rfl rfl)
theorem dX7_mostAlike_24 : decode cX7_mostAlike 24 = .ok (.if_icmp .ge 54, 3) := dk_162 0 54 (dk_at dksX7_mostAlike_1 0 rfl rfl)
theorem dX7_mostAlike_27 : decode cX7_mostAlike 27 = .ok (.iload 4, 2) := dk_21 4 (dk_at dksX7_mostAlike_1 3 rfl rfl)
theorem dX7_mostAlike_29 : decode cX7_mostAlike 29 = .ok (.iload_n 1, 1) := dk_27 (dk_at dksX7_mostAlike_1 5 rfl rfl)
theorem dX7_mostAlike_30 : decode cX7_mostAlike 30 = .ok (.iload_n 3, 1) := dk_29 (dk_at dksX7_mostAlike_1 6 rfl rfl)
theorem dX7_mostAlike_31 : decode cX7_mostAlike 31 = .ok (.ishr, 1) := dk_122 (dk_at dksX7_mostAlike_1 7 rfl rfl)
theorem dX7_mostAlike_32 : decode cX7_mostAlike 32 = .ok (.iconst 1, 1) := dk_4 (dk_at dksX7_mostAlike_1 8 rfl rfl)
theorem dX7_mostAlike_33 : decode cX7_mostAlike 33 = .ok (.iand, 1) := dk_126 (dk_at dksX7_mostAlike_1 9 rfl rfl)
theorem dX7_mostAlike_34 : decode cX7_mostAlike 34 = .ok (.iconst 1, 1) := dk_4 (dk_at dksX7_mostAlike_1 10 rfl rfl)
theorem dX7_mostAlike_35 : decode cX7_mostAlike 35 = .ok (.if_icmp .ne 33, 3) := dk_160 0 33 (dk_at dksX7_mostAlike_1 11 rfl rfl)
theorem dX7_mostAlike_38 : decode cX7_mostAlike 38 = .ok (.iload_n 1, 1) := dk_27 (dk_at dksX7_mostAlike_1 14 rfl rfl)
theorem dX7_mostAlike_39 : decode cX7_mostAlike 39 = .ok (.iload 5, 2) := dk_21 5 (dk_at dksX7_mostAlike_1 15 rfl rfl)
theorem dX7_mostAlike_41 : decode cX7_mostAlike 41 = .ok (.ishr, 1) := dk_122 (dk_at dksX7_mostAlike_1 17 rfl rfl)
theorem dX7_mostAlike_42 : decode cX7_mostAlike 42 = .ok (.iconst 1, 1) := dk_4 (dk_at dksX7_mostAlike_1 18 rfl rfl)
theorem dX7_mostAlike_43 : decode cX7_mostAlike 43 = .ok (.iand, 1) := dk_126 (dk_at dksX7_mostAlike_1 19 rfl rfl)
theorem dX7_mostAlike_44 : decode cX7_mostAlike 44 = .ok (.iconst 1, 1) := dk_4 (dk_at dksX7_mostAlike_1 20 rfl rfl)
theorem dX7_mostAlike_45 : decode cX7_mostAlike 45 = .ok (.if_icmp .ne 23, 3) := dk_160 0 23 (dk_at dksX7_mostAlike_1 21 rfl rfl)
theorem dX7_mostAlike_48 : decode cX7_mostAlike 48 = .ok (.aload_n 0, 1) := dk_42 (dk_at dksX7_mostAlike_2 0 rfl rfl)
theorem dX7_mostAlike_49 : decode cX7_mostAlike 49 = .ok (.getfield 59, 3) := dk_180 0 59 (dk_at dksX7_mostAlike_2 1 rfl rfl)
theorem dX7_mostAlike_52 : decode cX7_mostAlike 52 = .ok (.iload_n 3, 1) := dk_29 (dk_at dksX7_mostAlike_2 4 rfl rfl)
theorem dX7_mostAlike_53 : decode cX7_mostAlike 53 = .ok (.iaload, 1) := dk_46 (dk_at dksX7_mostAlike_2 5 rfl rfl)
theorem dX7_mostAlike_54 : decode cX7_mostAlike 54 = .ok (.aload_n 0, 1) := dk_42 (dk_at dksX7_mostAlike_2 6 rfl rfl)
theorem dX7_mostAlike_55 : decode cX7_mostAlike 55 = .ok (.getfield 59, 3) := dk_180 0 59 (dk_at dksX7_mostAlike_2 7 rfl rfl)
theorem dX7_mostAlike_58 : decode cX7_mostAlike 58 = .ok (.iload 5, 2) := dk_21 5 (dk_at dksX7_mostAlike_2 10 rfl rfl)
theorem dX7_mostAlike_60 : decode cX7_mostAlike 60 = .ok (.iaload, 1) := dk_46 (dk_at dksX7_mostAlike_2 12 rfl rfl)
theorem dX7_mostAlike_61 : decode cX7_mostAlike 61 = .ok (.if_icmp .ne 7, 3) := dk_160 0 7 (dk_at dksX7_mostAlike_2 13 rfl rfl)
theorem dX7_mostAlike_64 : decode cX7_mostAlike 64 = .ok (.iconst 1, 1) := dk_4 (dk_at dksX7_mostAlike_2 16 rfl rfl)
theorem dX7_mostAlike_65 : decode cX7_mostAlike 65 = .ok (.goto 4, 3) := dk_167 0 4 (dk_at dksX7_mostAlike_2 17 rfl rfl)
theorem dX7_mostAlike_68 : decode cX7_mostAlike 68 = .ok (.iconst 0, 1) := dk_3 (dk_at dksX7_mostAlike_2 20 rfl rfl)
theorem dX7_mostAlike_69 : decode cX7_mostAlike 69 = .ok (.iadd, 1) := dk_96 (dk_at dksX7_mostAlike_2 21 rfl rfl)
theorem dX7_mostAlike_70 : decode cX7_mostAlike 70 = .ok (.istore 4, 2) := dk_54 4 (dk_at dksX7_mostAlike_2 22 rfl rfl)
theorem dX7_mostAlike_72 : decode cX7_mostAlike 72 = .ok (.iinc 5 1, 3) := dk_132 5 1 (dk_at dksX7_mostAlike_3 0 rfl rfl)
theorem dX7_mostAlike_75 : decode cX7_mostAlike 75 = .ok (.goto (-57), 3) := dk_167 255 199 (dk_at dksX7_mostAlike_3 3 rfl rfl)
theorem dX7_mostAlike_78 : decode cX7_mostAlike 78 = .ok (.iload 4, 2) := dk_21 4 (dk_at dksX7_mostAlike_3 6 rfl rfl)
theorem dX7_mostAlike_80 : decode cX7_mostAlike 80 = .ok (.iload_n 2, 1) := dk_28 (dk_at dksX7_mostAlike_3 8 rfl rfl)
theorem dX7_mostAlike_81 : decode cX7_mostAlike 81 = .ok (.if_icmp .le 8, 3) := dk_164 0 8 (dk_at dksX7_mostAlike_3 9 rfl rfl)
theorem dX7_mostAlike_84 : decode cX7_mostAlike 84 = .ok (.iload 4, 2) := dk_21 4 (dk_at dksX7_mostAlike_3 12 rfl rfl)
theorem dX7_mostAlike_86 : decode cX7_mostAlike 86 = .ok (.goto 4, 3) := dk_167 0 4 (dk_at dksX7_mostAlike_3 14 rfl rfl)
theorem dX7_mostAlike_89 : decode cX7_mostAlike 89 = .ok (.iload_n 2, 1) := dk_28 (dk_at dksX7_mostAlike_3 17 rfl rfl)
theorem dX7_mostAlike_90 : decode cX7_mostAlike 90 = .ok (.istore_n 2, 1) := dk_61 (dk_at dksX7_mostAlike_3 18 rfl rfl)
theorem dX7_mostAlike_91 : decode cX7_mostAlike 91 = .ok (.iinc 3 1, 3) := dk_132 3 1 (dk_at dksX7_mostAlike_3 19 rfl rfl)
theorem dX7_mostAlike_94 : decode cX7_mostAlike 94 = .ok (.goto (-90), 3) := dk_167 255 166 (dk_at dksX7_mostAlike_4 0 rfl rfl)
theorem dX7_mostAlike_97 : decode cX7_mostAlike 97 = .ok (.iload_n 2, 1) := dk_28 (dk_at dksX7_mostAlike_4 3 rfl rfl)
theorem dX7_mostAlike_98 : decode cX7_mostAlike 98 = .ok (.ireturn, 1) := dk_172 (dk_at dksX7_mostAlike_4 4 rfl rfl)
abbrev cX7_keep : ByteArray := prog_19_method_84_code
def yX7_keep : MethodName := ⟨RX7, "keep", "(I)I"⟩
def dkwX7_keep_2 : List UInt8 := [27, 4, 84, 42, 180, 0, 25, 3, 46, 172]
abbrev dktX7_keep_2 : List UInt8 := dkwX7_keep_2 ++ []
def dkwX7_keep_1 : List UInt8 := [17, 0, 209, 27, 104, 28, 96, 42, 180, 0, 25, 28, 46, 79, 132, 2, 1, 167, 255, 228, 42, 180, 0, 34]
abbrev dktX7_keep_1 : List UInt8 := dkwX7_keep_1 ++ dktX7_keep_2
def dkwX7_keep_0 : List UInt8 := [27, 3, 4, 184, 0, 95, 154, 0, 5, 2, 172, 3, 61, 28, 17, 0, 209, 162, 0, 27, 42, 180, 0, 31]
abbrev dktX7_keep_0 : List UInt8 := dkwX7_keep_0 ++ dktX7_keep_1
theorem dksX7_keep_0 : cX7_keep.data.toList.drop 0 = dktX7_keep_0 := by decide +kernel
theorem dksX7_keep_1 : cX7_keep.data.toList.drop 24 = dktX7_keep_1 := dk_seg dksX7_keep_0 24 rfl rfl
theorem dksX7_keep_2 : cX7_keep.data.toList.drop 48 = dktX7_keep_2 := dk_seg dksX7_keep_1 24 rfl rfl
theorem dX7_keep_0 : decode cX7_keep 0 = .ok (.iload_n 1, 1) := dk_27 (dk_at dksX7_keep_0 0 rfl rfl)
theorem dX7_keep_1 : decode cX7_keep 1 = .ok (.iconst 0, 1) := dk_3 (dk_at dksX7_keep_0 1 rfl rfl)
theorem dX7_keep_2 : decode cX7_keep 2 = .ok (.iconst 1, 1) := dk_4 (dk_at dksX7_keep_0 2 rfl rfl)
theorem dX7_keep_3 : decode cX7_keep 3 = .ok (.invokestatic 95, 3) := dk_184 0 95 (dk_at dksX7_keep_0 3 rfl rfl)
theorem dX7_keep_6 : decode cX7_keep 6 = .ok (.ifCond .ne 5, 3) := dk_154 0 5 (dk_at dksX7_keep_0 6 rfl rfl)
theorem dX7_keep_9 : decode cX7_keep 9 = .ok (.iconst (-1), 1) := dk_2 (dk_at dksX7_keep_0 9 rfl rfl)
theorem dX7_keep_10 : decode cX7_keep 10 = .ok (.ireturn, 1) := dk_172 (dk_at dksX7_keep_0 10 rfl rfl)
theorem dX7_keep_11 : decode cX7_keep 11 = .ok (.iconst 0, 1) := dk_3 (dk_at dksX7_keep_0 11 rfl rfl)
theorem dX7_keep_12 : decode cX7_keep 12 = .ok (.istore_n 2, 1) := dk_61 (dk_at dksX7_keep_0 12 rfl rfl)
theorem dX7_keep_13 : decode cX7_keep 13 = .ok (.iload_n 2, 1) := dk_28 (dk_at dksX7_keep_0 13 rfl rfl)
theorem dX7_keep_14 : decode cX7_keep 14 = .ok (.sipush 209, 3) := dk_17 0 209 (dk_at dksX7_keep_0 14 rfl rfl)
theorem dX7_keep_17 : decode cX7_keep 17 = .ok (.if_icmp .ge 27, 3) := dk_162 0 27 (dk_at dksX7_keep_0 17 rfl rfl)
theorem dX7_keep_20 : decode cX7_keep 20 = .ok (.aload_n 0, 1) := dk_42 (dk_at dksX7_keep_0 20 rfl rfl)
theorem dX7_keep_21 : decode cX7_keep 21 = .ok (.getfield 31, 3) := dk_180 0 31 (dk_at dksX7_keep_0 21 rfl rfl)
theorem dX7_keep_24 : decode cX7_keep 24 = .ok (.sipush 209, 3) := dk_17 0 209 (dk_at dksX7_keep_1 0 rfl rfl)
theorem dX7_keep_27 : decode cX7_keep 27 = .ok (.iload_n 1, 1) := dk_27 (dk_at dksX7_keep_1 3 rfl rfl)
theorem dX7_keep_28 : decode cX7_keep 28 = .ok (.imul, 1) := dk_104 (dk_at dksX7_keep_1 4 rfl rfl)
theorem dX7_keep_29 : decode cX7_keep 29 = .ok (.iload_n 2, 1) := dk_28 (dk_at dksX7_keep_1 5 rfl rfl)
theorem dX7_keep_30 : decode cX7_keep 30 = .ok (.iadd, 1) := dk_96 (dk_at dksX7_keep_1 6 rfl rfl)
theorem dX7_keep_31 : decode cX7_keep 31 = .ok (.aload_n 0, 1) := dk_42 (dk_at dksX7_keep_1 7 rfl rfl)
theorem dX7_keep_32 : decode cX7_keep 32 = .ok (.getfield 25, 3) := dk_180 0 25 (dk_at dksX7_keep_1 8 rfl rfl)
theorem dX7_keep_35 : decode cX7_keep 35 = .ok (.iload_n 2, 1) := dk_28 (dk_at dksX7_keep_1 11 rfl rfl)
theorem dX7_keep_36 : decode cX7_keep 36 = .ok (.iaload, 1) := dk_46 (dk_at dksX7_keep_1 12 rfl rfl)
theorem dX7_keep_37 : decode cX7_keep 37 = .ok (.iastore, 1) := dk_79 (dk_at dksX7_keep_1 13 rfl rfl)
theorem dX7_keep_38 : decode cX7_keep 38 = .ok (.iinc 2 1, 3) := dk_132 2 1 (dk_at dksX7_keep_1 14 rfl rfl)
theorem dX7_keep_41 : decode cX7_keep 41 = .ok (.goto (-28), 3) := dk_167 255 228 (dk_at dksX7_keep_1 17 rfl rfl)
theorem dX7_keep_44 : decode cX7_keep 44 = .ok (.aload_n 0, 1) := dk_42 (dk_at dksX7_keep_1 20 rfl rfl)
theorem dX7_keep_45 : decode cX7_keep 45 = .ok (.getfield 34, 3) := dk_180 0 34 (dk_at dksX7_keep_1 21 rfl rfl)
theorem dX7_keep_48 : decode cX7_keep 48 = .ok (.iload_n 1, 1) := dk_27 (dk_at dksX7_keep_2 0 rfl rfl)
theorem dX7_keep_49 : decode cX7_keep 49 = .ok (.iconst 1, 1) := dk_4 (dk_at dksX7_keep_2 1 rfl rfl)
theorem dX7_keep_50 : decode cX7_keep 50 = .ok (.bastore, 1) := dk_84 (dk_at dksX7_keep_2 2 rfl rfl)
theorem dX7_keep_51 : decode cX7_keep 51 = .ok (.aload_n 0, 1) := dk_42 (dk_at dksX7_keep_2 3 rfl rfl)
theorem dX7_keep_52 : decode cX7_keep 52 = .ok (.getfield 25, 3) := dk_180 0 25 (dk_at dksX7_keep_2 4 rfl rfl)
theorem dX7_keep_55 : decode cX7_keep 55 = .ok (.iconst 0, 1) := dk_3 (dk_at dksX7_keep_2 7 rfl rfl)
theorem dX7_keep_56 : decode cX7_keep 56 = .ok (.iaload, 1) := dk_46 (dk_at dksX7_keep_2 8 rfl rfl)
theorem dX7_keep_57 : decode cX7_keep 57 = .ok (.ireturn, 1) := dk_172 (dk_at dksX7_keep_2 9 rfl rfl)
abbrev cX7_back : ByteArray := prog_19_method_85_code
def yX7_back : MethodName := ⟨RX7, "back", "(I)I"⟩
def dkwX7_back_2 : List UInt8 := [46, 79, 132, 2, 1, 167, 255, 228, 42, 3, 181, 0, 227, 42, 180, 0, 25, 3, 46, 172]
abbrev dktX7_back_2 : List UInt8 := dkwX7_back_2 ++ []
def dkwX7_back_1 : List UInt8 := [61, 28, 17, 0, 209, 162, 0, 27, 42, 180, 0, 25, 28, 42, 180, 0, 31, 17, 0, 209, 27, 104, 28, 96]
abbrev dktX7_back_1 : List UInt8 := dkwX7_back_1 ++ dktX7_back_2
def dkwX7_back_0 : List UInt8 := [27, 3, 4, 184, 0, 95, 154, 0, 5, 2, 172, 42, 180, 0, 34, 27, 51, 154, 0, 6, 16, 254, 172, 3]
abbrev dktX7_back_0 : List UInt8 := dkwX7_back_0 ++ dktX7_back_1
theorem dksX7_back_0 : cX7_back.data.toList.drop 0 = dktX7_back_0 := by decide +kernel
theorem dksX7_back_1 : cX7_back.data.toList.drop 24 = dktX7_back_1 := dk_seg dksX7_back_0 24 rfl rfl
theorem dksX7_back_2 : cX7_back.data.toList.drop 48 = dktX7_back_2 := dk_seg dksX7_back_1 24 rfl rfl
theorem dX7_back_0 : decode cX7_back 0 = .ok (.iload_n 1, 1) := dk_27 (dk_at dksX7_back_0 0 rfl rfl)
theorem dX7_back_1 : decode cX7_back 1 = .ok (.iconst 0, 1) := dk_3 (dk_at dksX7_back_0 1 rfl rfl)
theorem dX7_back_2 : decode cX7_back 2 = .ok (.iconst 1, 1) := dk_4 (dk_at dksX7_back_0 2 rfl rfl)
theorem dX7_back_3 : decode cX7_back 3 = .ok (.invokestatic 95, 3) := dk_184 0 95 (dk_at dksX7_back_0 3 rfl rfl)
theorem dX7_back_6 : decode cX7_back 6 = .ok (.ifCond .ne 5, 3) := dk_154 0 5 (dk_at dksX7_back_0 6 rfl rfl)
theorem dX7_back_9 : decode cX7_back 9 = .ok (.iconst (-1), 1) := dk_2 (dk_at dksX7_back_0 9 rfl rfl)
theorem dX7_back_10 : decode cX7_back 10 = .ok (.ireturn, 1) := dk_172 (dk_at dksX7_back_0 10 rfl rfl)
theorem dX7_back_11 : decode cX7_back 11 = .ok (.aload_n 0, 1) := dk_42 (dk_at dksX7_back_0 11 rfl rfl)
theorem dX7_back_12 : decode cX7_back 12 = .ok (.getfield 34, 3) := dk_180 0 34 (dk_at dksX7_back_0 12 rfl rfl)
theorem dX7_back_15 : decode cX7_back 15 = .ok (.iload_n 1, 1) := dk_27 (dk_at dksX7_back_0 15 rfl rfl)
theorem dX7_back_16 : decode cX7_back 16 = .ok (.baload, 1) := dk_51 (dk_at dksX7_back_0 16 rfl rfl)
theorem dX7_back_17 : decode cX7_back 17 = .ok (.ifCond .ne 6, 3) := dk_154 0 6 (dk_at dksX7_back_0 17 rfl rfl)
theorem dX7_back_20 : decode cX7_back 20 = .ok (.bipush (-2), 2) := dk_16 254 (dk_at dksX7_back_0 20 rfl rfl)
theorem dX7_back_22 : decode cX7_back 22 = .ok (.ireturn, 1) := dk_172 (dk_at dksX7_back_0 22 rfl rfl)
theorem dX7_back_23 : decode cX7_back 23 = .ok (.iconst 0, 1) := dk_3 (dk_at dksX7_back_0 23 rfl rfl)
theorem dX7_back_24 : decode cX7_back 24 = .ok (.istore_n 2, 1) := dk_61 (dk_at dksX7_back_1 0 rfl rfl)
theorem dX7_back_25 : decode cX7_back 25 = .ok (.iload_n 2, 1) := dk_28 (dk_at dksX7_back_1 1 rfl rfl)
theorem dX7_back_26 : decode cX7_back 26 = .ok (.sipush 209, 3) := dk_17 0 209 (dk_at dksX7_back_1 2 rfl rfl)
theorem dX7_back_29 : decode cX7_back 29 = .ok (.if_icmp .ge 27, 3) := dk_162 0 27 (dk_at dksX7_back_1 5 rfl rfl)
theorem dX7_back_32 : decode cX7_back 32 = .ok (.aload_n 0, 1) := dk_42 (dk_at dksX7_back_1 8 rfl rfl)
theorem dX7_back_33 : decode cX7_back 33 = .ok (.getfield 25, 3) := dk_180 0 25 (dk_at dksX7_back_1 9 rfl rfl)
theorem dX7_back_36 : decode cX7_back 36 = .ok (.iload_n 2, 1) := dk_28 (dk_at dksX7_back_1 12 rfl rfl)
theorem dX7_back_37 : decode cX7_back 37 = .ok (.aload_n 0, 1) := dk_42 (dk_at dksX7_back_1 13 rfl rfl)
theorem dX7_back_38 : decode cX7_back 38 = .ok (.getfield 31, 3) := dk_180 0 31 (dk_at dksX7_back_1 14 rfl rfl)
theorem dX7_back_41 : decode cX7_back 41 = .ok (.sipush 209, 3) := dk_17 0 209 (dk_at dksX7_back_1 17 rfl rfl)
theorem dX7_back_44 : decode cX7_back 44 = .ok (.iload_n 1, 1) := dk_27 (dk_at dksX7_back_1 20 rfl rfl)
theorem dX7_back_45 : decode cX7_back 45 = .ok (.imul, 1) := dk_104 (dk_at dksX7_back_1 21 rfl rfl)
theorem dX7_back_46 : decode cX7_back 46 = .ok (.iload_n 2, 1) := dk_28 (dk_at dksX7_back_1 22 rfl rfl)
theorem dX7_back_47 : decode cX7_back 47 = .ok (.iadd, 1) := dk_96 (dk_at dksX7_back_1 23 rfl rfl)
theorem dX7_back_48 : decode cX7_back 48 = .ok (.iaload, 1) := dk_46 (dk_at dksX7_back_2 0 rfl rfl)
theorem dX7_back_49 : decode cX7_back 49 = .ok (.iastore, 1) := dk_79 (dk_at dksX7_back_2 1 rfl rfl)
theorem dX7_back_50 : decode cX7_back 50 = .ok (.iinc 2 1, 3) := dk_132 2 1 (dk_at dksX7_back_2 2 rfl rfl)
theorem dX7_back_53 : decode cX7_back 53 = .ok (.goto (-28), 3) := dk_167 255 228 (dk_at dksX7_back_2 5 rfl rfl)
theorem dX7_back_56 : decode cX7_back 56 = .ok (.aload_n 0, 1) := dk_42 (dk_at dksX7_back_2 8 rfl rfl)
theorem dX7_back_57 : decode cX7_back 57 = .ok (.iconst 0, 1) := dk_3 (dk_at dksX7_back_2 9 rfl rfl)
theorem dX7_back_58 : decode cX7_back 58 = .ok (.putfield 227, 3) := dk_181 0 227 (dk_at dksX7_back_2 10 rfl rfl)
theorem dX7_back_61 : decode cX7_back 61 = .ok (.aload_n 0, 1) := dk_42 (dk_at dksX7_back_2 13 rfl rfl)
theorem dX7_back_62 : decode cX7_back 62 = .ok (.getfield 25, 3) := dk_180 0 25 (dk_at dksX7_back_2 14 rfl rfl)
theorem dX7_back_65 : decode cX7_back 65 = .ok (.iconst 0, 1) := dk_3 (dk_at dksX7_back_2 17 rfl rfl)
theorem dX7_back_66 : decode cX7_back 66 = .ok (.iaload, 1) := dk_46 (dk_at dksX7_back_2 18 rfl rfl)
theorem dX7_back_67 : decode cX7_back 67 = .ok (.ireturn, 1) := dk_172 (dk_at dksX7_back_2 19 rfl rfl)
abbrev cX7_count : ByteArray := prog_19_method_88_code
def yX7_count : MethodName := ⟨RX7, "count", "(I)I"⟩
def dkwX7_count_5 : List UInt8 := [180, 0, 227, 172, 2, 172]
abbrev dktX7_count_5 : List UInt8 := dkwX7_count_5 ++ []
def dkwX7_count_4 : List UInt8 := [7, 46, 172, 42, 182, 1, 70, 172, 42, 182, 1, 73, 172, 42, 180, 0, 230, 172, 42, 180, 0, 99, 172, 42]
abbrev dktX7_count_4 : List UInt8 := dkwX7_count_4 ++ dktX7_count_5
def dkwX7_count_3 : List UInt8 := [180, 0, 25, 4, 46, 172, 42, 180, 0, 25, 5, 46, 172, 42, 180, 0, 25, 6, 46, 172, 42, 180, 0, 25]
abbrev dktX7_count_3 : List UInt8 := dkwX7_count_3 ++ dktX7_count_4
def dkwX7_count_2 : List UInt8 := [42, 180, 0, 212, 172, 42, 180, 0, 215, 172, 42, 180, 0, 221, 172, 42, 180, 0, 25, 3, 46, 172, 42]
abbrev dktX7_count_2 : List UInt8 := dkwX7_count_2 ++ dktX7_count_3
def dkwX7_count_1 : List UInt8 := [170, 0, 0, 0, 0, 0, 142, 0, 0, 0, 0, 0, 0, 0, 12, 0, 0, 0, 67, 0, 0, 0, 72, 0, 0, 0, 77, 0, 0, 0, 82, 0, 0, 0, 89, 0, 0, 0, 96, 0, 0, 0, 103, 0, 0, 0, 110, 0, 0, 0, 117, 0, 0, 0, 122, 0, 0, 0, 127, 0, 0, 0, 132, 0, 0, 0, 137]
abbrev dktX7_count_1 : List UInt8 := dkwX7_count_1 ++ dktX7_count_2
def dkwX7_count_0 : List UInt8 := [27]
abbrev dktX7_count_0 : List UInt8 := dkwX7_count_0 ++ dktX7_count_1
theorem dksX7_count_0 : cX7_count.data.toList.drop 0 = dktX7_count_0 := by decide +kernel
theorem dksX7_count_1 : cX7_count.data.toList.drop 1 = dktX7_count_1 := dk_seg dksX7_count_0 1 rfl rfl
theorem dksX7_count_2 : cX7_count.data.toList.drop 68 = dktX7_count_2 := dk_seg dksX7_count_1 67 rfl rfl
theorem dksX7_count_3 : cX7_count.data.toList.drop 91 = dktX7_count_3 := dk_seg dksX7_count_2 23 rfl rfl
theorem dksX7_count_4 : cX7_count.data.toList.drop 115 = dktX7_count_4 := dk_seg dksX7_count_3 24 rfl rfl
theorem dksX7_count_5 : cX7_count.data.toList.drop 139 = dktX7_count_5 := dk_seg dksX7_count_4 24 rfl rfl
theorem dX7_count_0 : decode cX7_count 0 = .ok (.iload_n 1, 1) := dk_27 (dk_at dksX7_count_0 0 rfl rfl)
theorem dX7_count_1 : decode cX7_count 1 = .ok (.tableswitch 142 0 12 #[67, 72, 77, 82, 89, 96, 103, 110, 117, 122, 127, 132, 137], 67) := by decide +kernel
theorem dX7_count_68 : decode cX7_count 68 = .ok (.aload_n 0, 1) := dk_42 (dk_at dksX7_count_2 0 rfl rfl)
theorem dX7_count_69 : decode cX7_count 69 = .ok (.getfield 212, 3) := dk_180 0 212 (dk_at dksX7_count_2 1 rfl rfl)
theorem dX7_count_72 : decode cX7_count 72 = .ok (.ireturn, 1) := dk_172 (dk_at dksX7_count_2 4 rfl rfl)
theorem dX7_count_73 : decode cX7_count 73 = .ok (.aload_n 0, 1) := dk_42 (dk_at dksX7_count_2 5 rfl rfl)
theorem dX7_count_74 : decode cX7_count 74 = .ok (.getfield 215, 3) := dk_180 0 215 (dk_at dksX7_count_2 6 rfl rfl)
theorem dX7_count_77 : decode cX7_count 77 = .ok (.ireturn, 1) := dk_172 (dk_at dksX7_count_2 9 rfl rfl)
theorem dX7_count_78 : decode cX7_count 78 = .ok (.aload_n 0, 1) := dk_42 (dk_at dksX7_count_2 10 rfl rfl)
theorem dX7_count_79 : decode cX7_count 79 = .ok (.getfield 221, 3) := dk_180 0 221 (dk_at dksX7_count_2 11 rfl rfl)
theorem dX7_count_82 : decode cX7_count 82 = .ok (.ireturn, 1) := dk_172 (dk_at dksX7_count_2 14 rfl rfl)
theorem dX7_count_83 : decode cX7_count 83 = .ok (.aload_n 0, 1) := dk_42 (dk_at dksX7_count_2 15 rfl rfl)
theorem dX7_count_84 : decode cX7_count 84 = .ok (.getfield 25, 3) := dk_180 0 25 (dk_at dksX7_count_2 16 rfl rfl)
theorem dX7_count_87 : decode cX7_count 87 = .ok (.iconst 0, 1) := dk_3 (dk_at dksX7_count_2 19 rfl rfl)
theorem dX7_count_88 : decode cX7_count 88 = .ok (.iaload, 1) := dk_46 (dk_at dksX7_count_2 20 rfl rfl)
theorem dX7_count_89 : decode cX7_count 89 = .ok (.ireturn, 1) := dk_172 (dk_at dksX7_count_2 21 rfl rfl)
theorem dX7_count_90 : decode cX7_count 90 = .ok (.aload_n 0, 1) := dk_42 (dk_at dksX7_count_2 22 rfl rfl)
theorem dX7_count_91 : decode cX7_count 91 = .ok (.getfield 25, 3) := dk_180 0 25 (dk_at dksX7_count_3 0 rfl rfl)
theorem dX7_count_94 : decode cX7_count 94 = .ok (.iconst 1, 1) := dk_4 (dk_at dksX7_count_3 3 rfl rfl)
theorem dX7_count_95 : decode cX7_count 95 = .ok (.iaload, 1) := dk_46 (dk_at dksX7_count_3 4 rfl rfl)
theorem dX7_count_96 : decode cX7_count 96 = .ok (.ireturn, 1) := dk_172 (dk_at dksX7_count_3 5 rfl rfl)
theorem dX7_count_97 : decode cX7_count 97 = .ok (.aload_n 0, 1) := dk_42 (dk_at dksX7_count_3 6 rfl rfl)
theorem dX7_count_98 : decode cX7_count 98 = .ok (.getfield 25, 3) := dk_180 0 25 (dk_at dksX7_count_3 7 rfl rfl)
theorem dX7_count_101 : decode cX7_count 101 = .ok (.iconst 2, 1) := dk_5 (dk_at dksX7_count_3 10 rfl rfl)
theorem dX7_count_102 : decode cX7_count 102 = .ok (.iaload, 1) := dk_46 (dk_at dksX7_count_3 11 rfl rfl)
theorem dX7_count_103 : decode cX7_count 103 = .ok (.ireturn, 1) := dk_172 (dk_at dksX7_count_3 12 rfl rfl)
theorem dX7_count_104 : decode cX7_count 104 = .ok (.aload_n 0, 1) := dk_42 (dk_at dksX7_count_3 13 rfl rfl)
theorem dX7_count_105 : decode cX7_count 105 = .ok (.getfield 25, 3) := dk_180 0 25 (dk_at dksX7_count_3 14 rfl rfl)
theorem dX7_count_108 : decode cX7_count 108 = .ok (.iconst 3, 1) := dk_6 (dk_at dksX7_count_3 17 rfl rfl)
theorem dX7_count_109 : decode cX7_count 109 = .ok (.iaload, 1) := dk_46 (dk_at dksX7_count_3 18 rfl rfl)
theorem dX7_count_110 : decode cX7_count 110 = .ok (.ireturn, 1) := dk_172 (dk_at dksX7_count_3 19 rfl rfl)
theorem dX7_count_111 : decode cX7_count 111 = .ok (.aload_n 0, 1) := dk_42 (dk_at dksX7_count_3 20 rfl rfl)
theorem dX7_count_112 : decode cX7_count 112 = .ok (.getfield 25, 3) := dk_180 0 25 (dk_at dksX7_count_3 21 rfl rfl)
theorem dX7_count_115 : decode cX7_count 115 = .ok (.iconst 4, 1) := dk_7 (dk_at dksX7_count_4 0 rfl rfl)
theorem dX7_count_116 : decode cX7_count 116 = .ok (.iaload, 1) := dk_46 (dk_at dksX7_count_4 1 rfl rfl)
theorem dX7_count_117 : decode cX7_count 117 = .ok (.ireturn, 1) := dk_172 (dk_at dksX7_count_4 2 rfl rfl)
theorem dX7_count_118 : decode cX7_count 118 = .ok (.aload_n 0, 1) := dk_42 (dk_at dksX7_count_4 3 rfl rfl)
theorem dX7_count_119 : decode cX7_count 119 = .ok (.invokevirtual 326, 3) := dk_182 1 70 (dk_at dksX7_count_4 4 rfl rfl)
theorem dX7_count_122 : decode cX7_count 122 = .ok (.ireturn, 1) := dk_172 (dk_at dksX7_count_4 7 rfl rfl)
theorem dX7_count_123 : decode cX7_count 123 = .ok (.aload_n 0, 1) := dk_42 (dk_at dksX7_count_4 8 rfl rfl)
theorem dX7_count_124 : decode cX7_count 124 = .ok (.invokevirtual 329, 3) := dk_182 1 73 (dk_at dksX7_count_4 9 rfl rfl)
theorem dX7_count_127 : decode cX7_count 127 = .ok (.ireturn, 1) := dk_172 (dk_at dksX7_count_4 12 rfl rfl)
theorem dX7_count_128 : decode cX7_count 128 = .ok (.aload_n 0, 1) := dk_42 (dk_at dksX7_count_4 13 rfl rfl)
theorem dX7_count_129 : decode cX7_count 129 = .ok (.getfield 230, 3) := dk_180 0 230 (dk_at dksX7_count_4 14 rfl rfl)
theorem dX7_count_132 : decode cX7_count 132 = .ok (.ireturn, 1) := dk_172 (dk_at dksX7_count_4 17 rfl rfl)
theorem dX7_count_133 : decode cX7_count 133 = .ok (.aload_n 0, 1) := dk_42 (dk_at dksX7_count_4 18 rfl rfl)
theorem dX7_count_134 : decode cX7_count 134 = .ok (.getfield 99, 3) := dk_180 0 99 (dk_at dksX7_count_4 19 rfl rfl)
theorem dX7_count_137 : decode cX7_count 137 = .ok (.ireturn, 1) := dk_172 (dk_at dksX7_count_4 22 rfl rfl)
theorem dX7_count_138 : decode cX7_count 138 = .ok (.aload_n 0, 1) := dk_42 (dk_at dksX7_count_4 23 rfl rfl)
theorem dX7_count_139 : decode cX7_count 139 = .ok (.getfield 227, 3) := dk_180 0 227 (dk_at dksX7_count_5 0 rfl rfl)
theorem dX7_count_142 : decode cX7_count 142 = .ok (.ireturn, 1) := dk_172 (dk_at dksX7_count_5 3 rfl rfl)
theorem dX7_count_143 : decode cX7_count 143 = .ok (.iconst (-1), 1) := dk_2 (dk_at dksX7_count_5 4 rfl rfl)
theorem dX7_count_144 : decode cX7_count 144 = .ok (.ireturn, 1) := dk_172 (dk_at dksX7_count_5 5 rfl rfl)
abbrev cX7_changes : ByteArray := prog_19_method_86_code
def yX7_changes : MethodName := ⟨RX7, "changes", "()I"⟩
def dkwX7_changes_1 : List UInt8 := [96, 46, 96, 60, 132, 2, 1, 167, 255, 229, 27, 172]
abbrev dktX7_changes_1 : List UInt8 := dkwX7_changes_1 ++ []
def dkwX7_changes_0 : List UInt8 := [3, 60, 3, 61, 28, 42, 180, 0, 25, 6, 46, 162, 0, 23, 27, 42, 180, 0, 25, 28, 184, 1, 0, 5]
abbrev dktX7_changes_0 : List UInt8 := dkwX7_changes_0 ++ dktX7_changes_1
theorem dksX7_changes_0 : cX7_changes.data.toList.drop 0 = dktX7_changes_0 := by decide +kernel
theorem dksX7_changes_1 : cX7_changes.data.toList.drop 24 = dktX7_changes_1 := dk_seg dksX7_changes_0 24 rfl rfl
theorem dX7_changes_0 : decode cX7_changes 0 = .ok (.iconst 0, 1) := dk_3 (dk_at dksX7_changes_0 0 rfl rfl)
theorem dX7_changes_1 : decode cX7_changes 1 = .ok (.istore_n 1, 1) := dk_60 (dk_at dksX7_changes_0 1 rfl rfl)
theorem dX7_changes_2 : decode cX7_changes 2 = .ok (.iconst 0, 1) := dk_3 (dk_at dksX7_changes_0 2 rfl rfl)
theorem dX7_changes_3 : decode cX7_changes 3 = .ok (.istore_n 2, 1) := dk_61 (dk_at dksX7_changes_0 3 rfl rfl)
theorem dX7_changes_4 : decode cX7_changes 4 = .ok (.iload_n 2, 1) := dk_28 (dk_at dksX7_changes_0 4 rfl rfl)
theorem dX7_changes_5 : decode cX7_changes 5 = .ok (.aload_n 0, 1) := dk_42 (dk_at dksX7_changes_0 5 rfl rfl)
theorem dX7_changes_6 : decode cX7_changes 6 = .ok (.getfield 25, 3) := dk_180 0 25 (dk_at dksX7_changes_0 6 rfl rfl)
theorem dX7_changes_9 : decode cX7_changes 9 = .ok (.iconst 3, 1) := dk_6 (dk_at dksX7_changes_0 9 rfl rfl)
theorem dX7_changes_10 : decode cX7_changes 10 = .ok (.iaload, 1) := dk_46 (dk_at dksX7_changes_0 10 rfl rfl)
theorem dX7_changes_11 : decode cX7_changes 11 = .ok (.if_icmp .ge 23, 3) := dk_162 0 23 (dk_at dksX7_changes_0 11 rfl rfl)
theorem dX7_changes_14 : decode cX7_changes 14 = .ok (.iload_n 1, 1) := dk_27 (dk_at dksX7_changes_0 14 rfl rfl)
theorem dX7_changes_15 : decode cX7_changes 15 = .ok (.aload_n 0, 1) := dk_42 (dk_at dksX7_changes_0 15 rfl rfl)
theorem dX7_changes_16 : decode cX7_changes 16 = .ok (.getfield 25, 3) := dk_180 0 25 (dk_at dksX7_changes_0 16 rfl rfl)
theorem dX7_changes_19 : decode cX7_changes 19 = .ok (.iload_n 2, 1) := dk_28 (dk_at dksX7_changes_0 19 rfl rfl)
theorem dX7_changes_20 : decode cX7_changes 20 = .ok (.invokestatic 256, 3) := dk_184 1 0 (dk_at dksX7_changes_0 20 rfl rfl)
theorem dX7_changes_23 : decode cX7_changes 23 = .ok (.iconst 2, 1) := dk_5 (dk_at dksX7_changes_0 23 rfl rfl)
theorem dX7_changes_24 : decode cX7_changes 24 = .ok (.iadd, 1) := dk_96 (dk_at dksX7_changes_1 0 rfl rfl)
theorem dX7_changes_25 : decode cX7_changes 25 = .ok (.iaload, 1) := dk_46 (dk_at dksX7_changes_1 1 rfl rfl)
theorem dX7_changes_26 : decode cX7_changes 26 = .ok (.iadd, 1) := dk_96 (dk_at dksX7_changes_1 2 rfl rfl)
theorem dX7_changes_27 : decode cX7_changes 27 = .ok (.istore_n 1, 1) := dk_60 (dk_at dksX7_changes_1 3 rfl rfl)
theorem dX7_changes_28 : decode cX7_changes 28 = .ok (.iinc 2 1, 3) := dk_132 2 1 (dk_at dksX7_changes_1 4 rfl rfl)
theorem dX7_changes_31 : decode cX7_changes 31 = .ok (.goto (-27), 3) := dk_167 255 229 (dk_at dksX7_changes_1 7 rfl rfl)
theorem dX7_changes_34 : decode cX7_changes 34 = .ok (.iload_n 1, 1) := dk_27 (dk_at dksX7_changes_1 10 rfl rfl)
theorem dX7_changes_35 : decode cX7_changes 35 = .ok (.ireturn, 1) := dk_172 (dk_at dksX7_changes_1 11 rfl rfl)
abbrev cX7_roomOfAll : ByteArray := prog_19_method_87_code
def yX7_roomOfAll : MethodName := ⟨RX7, "roomOfAll", "()I"⟩
def dkwX7_roomOfAll_1 : List UInt8 := [132, 2, 1, 167, 255, 235, 27, 172]
abbrev dktX7_roomOfAll_1 : List UInt8 := dkwX7_roomOfAll_1 ++ []
def dkwX7_roomOfAll_0 : List UInt8 := [3, 60, 3, 61, 28, 42, 180, 0, 25, 6, 46, 162, 0, 17, 27, 42, 28, 182, 1, 52, 96, 60]
abbrev dktX7_roomOfAll_0 : List UInt8 := dkwX7_roomOfAll_0 ++ dktX7_roomOfAll_1
theorem dksX7_roomOfAll_0 : cX7_roomOfAll.data.toList.drop 0 = dktX7_roomOfAll_0 := by decide +kernel
theorem dksX7_roomOfAll_1 : cX7_roomOfAll.data.toList.drop 22 = dktX7_roomOfAll_1 := dk_seg dksX7_roomOfAll_0 22 rfl rfl
theorem dX7_roomOfAll_0 : decode cX7_roomOfAll 0 = .ok (.iconst 0, 1) := dk_3 (dk_at dksX7_roomOfAll_0 0 rfl rfl)
theorem dX7_roomOfAll_1 : decode cX7_roomOfAll 1 = .ok (.istore_n 1, 1) := dk_60 (dk_at dksX7_roomOfAll_0 1 rfl rfl)
theorem dX7_roomOfAll_2 : decode cX7_roomOfAll 2 = .ok (.iconst 0, 1) := dk_3 (dk_at dksX7_roomOfAll_0 2 rfl rfl)
theorem dX7_roomOfAll_3 : decode cX7_roomOfAll 3 = .ok (.istore_n 2, 1) := dk_61 (dk_at dksX7_roomOfAll_0 3 rfl rfl)
theorem dX7_roomOfAll_4 : decode cX7_roomOfAll 4 = .ok (.iload_n 2, 1) := dk_28 (dk_at dksX7_roomOfAll_0 4 rfl rfl)
theorem dX7_roomOfAll_5 : decode cX7_roomOfAll 5 = .ok (.aload_n 0, 1) := dk_42 (dk_at dksX7_roomOfAll_0 5 rfl rfl)
theorem dX7_roomOfAll_6 : decode cX7_roomOfAll 6 = .ok (.getfield 25, 3) := dk_180 0 25 (dk_at dksX7_roomOfAll_0 6 rfl rfl)
theorem dX7_roomOfAll_9 : decode cX7_roomOfAll 9 = .ok (.iconst 3, 1) := dk_6 (dk_at dksX7_roomOfAll_0 9 rfl rfl)
theorem dX7_roomOfAll_10 : decode cX7_roomOfAll 10 = .ok (.iaload, 1) := dk_46 (dk_at dksX7_roomOfAll_0 10 rfl rfl)
theorem dX7_roomOfAll_11 : decode cX7_roomOfAll 11 = .ok (.if_icmp .ge 17, 3) := dk_162 0 17 (dk_at dksX7_roomOfAll_0 11 rfl rfl)
theorem dX7_roomOfAll_14 : decode cX7_roomOfAll 14 = .ok (.iload_n 1, 1) := dk_27 (dk_at dksX7_roomOfAll_0 14 rfl rfl)
theorem dX7_roomOfAll_15 : decode cX7_roomOfAll 15 = .ok (.aload_n 0, 1) := dk_42 (dk_at dksX7_roomOfAll_0 15 rfl rfl)
theorem dX7_roomOfAll_16 : decode cX7_roomOfAll 16 = .ok (.iload_n 2, 1) := dk_28 (dk_at dksX7_roomOfAll_0 16 rfl rfl)
theorem dX7_roomOfAll_17 : decode cX7_roomOfAll 17 = .ok (.invokevirtual 308, 3) := dk_182 1 52 (dk_at dksX7_roomOfAll_0 17 rfl rfl)
theorem dX7_roomOfAll_20 : decode cX7_roomOfAll 20 = .ok (.iadd, 1) := dk_96 (dk_at dksX7_roomOfAll_0 20 rfl rfl)
theorem dX7_roomOfAll_21 : decode cX7_roomOfAll 21 = .ok (.istore_n 1, 1) := dk_60 (dk_at dksX7_roomOfAll_0 21 rfl rfl)
theorem dX7_roomOfAll_22 : decode cX7_roomOfAll 22 = .ok (.iinc 2 1, 3) := dk_132 2 1 (dk_at dksX7_roomOfAll_1 0 rfl rfl)
theorem dX7_roomOfAll_25 : decode cX7_roomOfAll 25 = .ok (.goto (-21), 3) := dk_167 255 235 (dk_at dksX7_roomOfAll_1 3 rfl rfl)
theorem dX7_roomOfAll_28 : decode cX7_roomOfAll 28 = .ok (.iload_n 1, 1) := dk_27 (dk_at dksX7_roomOfAll_1 6 rfl rfl)
theorem dX7_roomOfAll_29 : decode cX7_roomOfAll 29 = .ok (.ireturn, 1) := dk_172 (dk_at dksX7_roomOfAll_1 7 rfl rfl)
theorem q126 : (Jvm.Cond.initialized "SignalWavesModel") ∈ lw_all := lw_g (lw_at lw_m1 33 rfl) rfl
theorem q1442 : (Jvm.Cond.selects "SignalWavesModel" ({ cls := "java/lang/Object", name := "getClass", desc := "()Ljava/lang/Class;" } : Jvm.MethodName) ({ cls := "java/lang/Object", name := "getClass", desc := "()Ljava/lang/Class;" } : Jvm.MethodName)) ∈ lw_all := lw_g (lw_at lw_m6 149 rfl) rfl
theorem q1687 : (Jvm.Cond.selects "SignalWavesModel" ({ cls := "java/lang/Object", name := "equals", desc := "(Ljava/lang/Object;)Z" } : Jvm.MethodName) ({ cls := "java/lang/Object", name := "equals", desc := "(Ljava/lang/Object;)Z" } : Jvm.MethodName)) ∈ lw_all := lw_g (lw_at lw_m7 154 rfl) rfl
theorem q2590 : (Jvm.Cond.instantiable "SignalWavesModel" (50 : Nat)) ∈ lw_all := lw_g (lw_at lw_m11 97 rfl) rfl
theorem q2592 : (Jvm.Cond.instanceMethod ({ cls := "SignalWavesModel", name := "<init>", desc := "()V" } : Jvm.MethodName)) ∈ lw_all := lw_g (lw_at lw_m11 99 rfl) rfl
theorem q2593 : (Jvm.Cond.code ({ cls := "SignalWavesModel", name := "<init>", desc := "()V" } : Jvm.MethodName) prog_19_method_1_code (1 : Nat) (Option.none : Option Jvm.ClassFile.FieldType)) ∈ lw_all := lw_g (lw_at lw_m11 100 rfl) rfl
theorem q2594 : (Jvm.Cond.methodLink "SignalWavesModel" (1 : Nat) ({ cls := "java/lang/Object", name := "<init>", desc := "()V" } : Jvm.MethodName)) ∈ lw_all := lw_g (lw_at lw_m11 101 rfl) rfl
theorem q2595 : (Jvm.Cond.methodLink "SignalWavesModel" (92 : Nat) ({ cls := "SignalWavesModel", name := "begins", desc := "()V" } : Jvm.MethodName)) ∈ lw_all := lw_g (lw_at lw_m11 102 rfl) rfl
theorem q2596 : (Jvm.Cond.privateMethod ({ cls := "SignalWavesModel", name := "begins", desc := "()V" } : Jvm.MethodName)) ∈ lw_tbl := lw_at lw_m11 103 rfl
theorem q2597 : (Jvm.Cond.instanceMethod ({ cls := "SignalWavesModel", name := "begins", desc := "()V" } : Jvm.MethodName)) ∈ lw_all := lw_g (lw_at lw_m11 104 rfl) rfl
theorem q2598 : (Jvm.Cond.code ({ cls := "SignalWavesModel", name := "begins", desc := "()V" } : Jvm.MethodName) prog_19_method_26_code (2 : Nat) (Option.none : Option Jvm.ClassFile.FieldType)) ∈ lw_all := lw_g (lw_at lw_m11 105 rfl) rfl
theorem q2599 : (Jvm.Cond.methodLink "SignalWavesModel" (224 : Nat) ({ cls := "SignalWavesModel", name := "blockBegins", desc := "()V" } : Jvm.MethodName)) ∈ lw_all := lw_g (lw_at lw_m11 106 rfl) rfl
theorem q2600 : (Jvm.Cond.privateMethod ({ cls := "SignalWavesModel", name := "blockBegins", desc := "()V" } : Jvm.MethodName)) ∈ lw_tbl := lw_at lw_m11 107 rfl
theorem q2601 : (Jvm.Cond.instanceMethod ({ cls := "SignalWavesModel", name := "blockBegins", desc := "()V" } : Jvm.MethodName)) ∈ lw_all := lw_g (lw_at lw_m11 108 rfl) rfl
theorem q2602 : (Jvm.Cond.code ({ cls := "SignalWavesModel", name := "blockBegins", desc := "()V" } : Jvm.MethodName) prog_19_method_40_code (3 : Nat) (Option.none : Option Jvm.ClassFile.FieldType)) ∈ lw_all := lw_g (lw_at lw_m11 109 rfl) rfl
theorem q2603 : (Jvm.Cond.methodLink "SignalWavesModel" (256 : Nat) ({ cls := "SignalWavesModel", name := "block0", desc := "(I)I" } : Jvm.MethodName)) ∈ lw_all := lw_g (lw_at lw_m11 110 rfl) rfl
theorem q2604 : (Jvm.Cond.static ({ cls := "SignalWavesModel", name := "block0", desc := "(I)I" } : Jvm.MethodName)) ∈ lw_all := lw_g (lw_at lw_m11 111 rfl) rfl
theorem q2605 : (Jvm.Cond.code ({ cls := "SignalWavesModel", name := "block0", desc := "(I)I" } : Jvm.MethodName) prog_19_method_39_code (1 : Nat) (Option.some Jvm.ClassFile.FieldType.int)) ∈ lw_all := lw_g (lw_at lw_m11 112 rfl) rfl
theorem q2606 : (Jvm.Cond.fieldLink "SignalWavesModel" (7 : Nat) "SignalWavesModel" "node" "[I") ∈ lw_all := lw_g (lw_at lw_m11 113 rfl) rfl
theorem q2607 : (Jvm.Cond.fieldLink "SignalWavesModel" (212 : Nat) "SignalWavesModel" "nodes" "I") ∈ lw_all := lw_g (lw_at lw_m11 114 rfl) rfl
theorem q2608 : (Jvm.Cond.fieldLink "SignalWavesModel" (215 : Nat) "SignalWavesModel" "wires" "I") ∈ lw_all := lw_g (lw_at lw_m11 115 rfl) rfl
theorem q2609 : (Jvm.Cond.fieldLink "SignalWavesModel" (218 : Nat) "SignalWavesModel" "deriveds" "I") ∈ lw_all := lw_g (lw_at lw_m11 116 rfl) rfl
theorem q2610 : (Jvm.Cond.fieldLink "SignalWavesModel" (13 : Nat) "SignalWavesModel" "within" "[I") ∈ lw_all := lw_g (lw_at lw_m11 117 rfl) rfl
theorem q2611 : (Jvm.Cond.fieldLink "SignalWavesModel" (16 : Nat) "SignalWavesModel" "scopeName" "[I") ∈ lw_all := lw_g (lw_at lw_m11 118 rfl) rfl
theorem q2612 : (Jvm.Cond.fieldLink "SignalWavesModel" (221 : Nat) "SignalWavesModel" "scopes" "I") ∈ lw_all := lw_g (lw_at lw_m11 119 rfl) rfl
theorem q2613 : (Jvm.Cond.fieldLink "SignalWavesModel" (19 : Nat) "SignalWavesModel" "code" "[I") ∈ lw_all := lw_g (lw_at lw_m11 120 rfl) rfl
theorem q2614 : (Jvm.Cond.fieldLink "SignalWavesModel" (22 : Nat) "SignalWavesModel" "codeMany" "[I") ∈ lw_all := lw_g (lw_at lw_m11 121 rfl) rfl
theorem q2615 : (Jvm.Cond.fieldLink "SignalWavesModel" (25 : Nat) "SignalWavesModel" "s" "[I") ∈ lw_all := lw_g (lw_at lw_m11 122 rfl) rfl
theorem q2616 : (Jvm.Cond.fieldLink "SignalWavesModel" (28 : Nat) "SignalWavesModel" "past" "[I") ∈ lw_all := lw_g (lw_at lw_m11 123 rfl) rfl
theorem q2617 : (Jvm.Cond.fieldLink "SignalWavesModel" (227 : Nat) "SignalWavesModel" "undos" "I") ∈ lw_all := lw_g (lw_at lw_m11 124 rfl) rfl
theorem q2618 : (Jvm.Cond.fieldLink "SignalWavesModel" (31 : Nat) "SignalWavesModel" "kept" "[I") ∈ lw_all := lw_g (lw_at lw_m11 125 rfl) rfl
theorem q2619 : (Jvm.Cond.fieldLink "SignalWavesModel" (34 : Nat) "SignalWavesModel" "isKept" "[Z") ∈ lw_all := lw_g (lw_at lw_m11 126 rfl) rfl
theorem q2620 : (Jvm.Cond.fieldLink "SignalWavesModel" (38 : Nat) "SignalWavesModel" "text" "[I") ∈ lw_all := lw_g (lw_at lw_m11 127 rfl) rfl
theorem q2621 : (Jvm.Cond.fieldLink "SignalWavesModel" (99 : Nat) "SignalWavesModel" "typed" "I") ∈ lw_all := lw_g (lw_at lw_m11 128 rfl) rfl
theorem q2622 : (Jvm.Cond.fieldLink "SignalWavesModel" (103 : Nat) "SignalWavesModel" "at" "I") ∈ lw_all := lw_g (lw_at lw_m11 129 rfl) rfl
theorem q2623 : (Jvm.Cond.fieldLink "SignalWavesModel" (106 : Nat) "SignalWavesModel" "start" "I") ∈ lw_all := lw_g (lw_at lw_m11 130 rfl) rfl
theorem q2624 : (Jvm.Cond.fieldLink "SignalWavesModel" (109 : Nat) "SignalWavesModel" "sort" "I") ∈ lw_all := lw_g (lw_at lw_m11 131 rfl) rfl
theorem q2625 : (Jvm.Cond.fieldLink "SignalWavesModel" (116 : Nat) "SignalWavesModel" "value" "I") ∈ lw_all := lw_g (lw_at lw_m11 132 rfl) rfl
theorem q2626 : (Jvm.Cond.fieldLink "SignalWavesModel" (122 : Nat) "SignalWavesModel" "fault" "I") ∈ lw_all := lw_g (lw_at lw_m11 133 rfl) rfl
theorem q2627 : (Jvm.Cond.fieldLink "SignalWavesModel" (41 : Nat) "SignalWavesModel" "newNode" "[I") ∈ lw_all := lw_g (lw_at lw_m11 134 rfl) rfl
theorem q2628 : (Jvm.Cond.fieldLink "SignalWavesModel" (132 : Nat) "SignalWavesModel" "newNodes" "I") ∈ lw_all := lw_g (lw_at lw_m11 135 rfl) rfl
theorem q2629 : (Jvm.Cond.fieldLink "SignalWavesModel" (191 : Nat) "SignalWavesModel" "newWires" "I") ∈ lw_all := lw_g (lw_at lw_m11 136 rfl) rfl
theorem q2630 : (Jvm.Cond.fieldLink "SignalWavesModel" (157 : Nat) "SignalWavesModel" "newDeriveds" "I") ∈ lw_all := lw_g (lw_at lw_m11 137 rfl) rfl
theorem q2631 : (Jvm.Cond.fieldLink "SignalWavesModel" (44 : Nat) "SignalWavesModel" "newWithin" "[I") ∈ lw_all := lw_g (lw_at lw_m11 138 rfl) rfl
theorem q2632 : (Jvm.Cond.fieldLink "SignalWavesModel" (47 : Nat) "SignalWavesModel" "newScopeName" "[I") ∈ lw_all := lw_g (lw_at lw_m11 139 rfl) rfl
theorem q2633 : (Jvm.Cond.fieldLink "SignalWavesModel" (135 : Nat) "SignalWavesModel" "newScopes" "I") ∈ lw_all := lw_g (lw_at lw_m11 140 rfl) rfl
theorem q2634 : (Jvm.Cond.fieldLink "SignalWavesModel" (50 : Nat) "SignalWavesModel" "newCode" "[I") ∈ lw_all := lw_g (lw_at lw_m11 141 rfl) rfl
theorem q2635 : (Jvm.Cond.fieldLink "SignalWavesModel" (53 : Nat) "SignalWavesModel" "newMany" "[I") ∈ lw_all := lw_g (lw_at lw_m11 142 rfl) rfl
theorem q2636 : (Jvm.Cond.fieldLink "SignalWavesModel" (144 : Nat) "SignalWavesModel" "open" "I") ∈ lw_all := lw_g (lw_at lw_m11 143 rfl) rfl
theorem q2637 : (Jvm.Cond.fieldLink "SignalWavesModel" (138 : Nat) "SignalWavesModel" "deep" "I") ∈ lw_all := lw_g (lw_at lw_m11 144 rfl) rfl
theorem q2638 : (Jvm.Cond.fieldLink "SignalWavesModel" (56 : Nat) "SignalWavesModel" "waits" "[I") ∈ lw_all := lw_g (lw_at lw_m11 145 rfl) rfl
theorem q2639 : (Jvm.Cond.fieldLink "SignalWavesModel" (160 : Nat) "SignalWavesModel" "waiting" "I") ∈ lw_all := lw_g (lw_at lw_m11 146 rfl) rfl
theorem q2640 : (Jvm.Cond.fieldLink "SignalWavesModel" (174 : Nat) "SignalWavesModel" "terms" "I") ∈ lw_all := lw_g (lw_at lw_m11 147 rfl) rfl
theorem q2641 : (Jvm.Cond.fieldLink "SignalWavesModel" (167 : Nat) "SignalWavesModel" "marks" "I") ∈ lw_all := lw_g (lw_at lw_m11 148 rfl) rfl
theorem q2642 : (Jvm.Cond.fieldLink "SignalWavesModel" (59 : Nat) "SignalWavesModel" "now" "[I") ∈ lw_all := lw_g (lw_at lw_m11 149 rfl) rfl
theorem q2643 : (Jvm.Cond.fieldLink "SignalWavesModel" (62 : Nat) "SignalWavesModel" "stack" "[I") ∈ lw_all := lw_g (lw_at lw_m11 150 rfl) rfl
theorem q2644 : (Jvm.Cond.fieldLink "SignalWavesModel" (65 : Nat) "SignalWavesModel" "wire" "[I") ∈ lw_all := lw_g (lw_at lw_m11 151 rfl) rfl
theorem q2645 : (Jvm.Cond.fieldLink "SignalWavesModel" (68 : Nat) "SignalWavesModel" "isTurn" "[Z") ∈ lw_all := lw_g (lw_at lw_m11 152 rfl) rfl
theorem q2646 : (Jvm.Cond.fieldLink "SignalWavesModel" (71 : Nat) "SignalWavesModel" "line" "[I") ∈ lw_all := lw_g (lw_at lw_m11 153 rfl) rfl
theorem q2647 : (Jvm.Cond.fieldLink "SignalWavesModel" (74 : Nat) "SignalWavesModel" "ahead" "[I") ∈ lw_all := lw_g (lw_at lw_m11 154 rfl) rfl
theorem q2648 : (Jvm.Cond.fieldLink "SignalWavesModel" (77 : Nat) "SignalWavesModel" "isFirst" "[Z") ∈ lw_all := lw_g (lw_at lw_m11 155 rfl) rfl
theorem q2649 : (Jvm.Cond.fieldLink "SignalWavesModel" (80 : Nat) "SignalWavesModel" "rowTime" "[I") ∈ lw_all := lw_g (lw_at lw_m11 156 rfl) rfl
theorem q2650 : (Jvm.Cond.fieldLink "SignalWavesModel" (83 : Nat) "SignalWavesModel" "rowValue" "[I") ∈ lw_all := lw_g (lw_at lw_m11 157 rfl) rfl
theorem q2651 : (Jvm.Cond.fieldLink "SignalWavesModel" (290 : Nat) "SignalWavesModel" "rows" "I") ∈ lw_all := lw_g (lw_at lw_m11 158 rfl) rfl
theorem q2652 : (Jvm.Cond.fieldLink "SignalWavesModel" (86 : Nat) "SignalWavesModel" "word" "[I") ∈ lw_all := lw_g (lw_at lw_m11 159 rfl) rfl
theorem q2653 : (Jvm.Cond.fieldLink "SignalWavesModel" (293 : Nat) "SignalWavesModel" "words" "I") ∈ lw_all := lw_g (lw_at lw_m11 160 rfl) rfl
theorem q2654 : (Jvm.Cond.fieldLink "SignalWavesModel" (89 : Nat) "SignalWavesModel" "sight" "[I") ∈ lw_all := lw_g (lw_at lw_m11 161 rfl) rfl
theorem q2655 : (Jvm.Cond.fieldLink "SignalWavesModel" (230 : Nat) "SignalWavesModel" "sights" "I") ∈ lw_all := lw_g (lw_at lw_m11 162 rfl) rfl
theorem q2656 : (Jvm.Cond.laysFinal "SignalWavesModel" "SignalWavesModel" "node" "[I") ∈ lw_all := lw_g (lw_at lw_m11 163 rfl) rfl
theorem q2657 : (Jvm.Cond.soleField "SignalWavesModel" "node") ∈ lw_all := lw_g (lw_at lw_m11 164 rfl) rfl
theorem q2658 : (Jvm.Cond.lays "SignalWavesModel" "SignalWavesModel" "nodes" "I") ∈ lw_all := lw_g (lw_at lw_m11 165 rfl) rfl
theorem q2659 : (Jvm.Cond.soleField "SignalWavesModel" "nodes") ∈ lw_all := lw_g (lw_at lw_m11 166 rfl) rfl
theorem q2660 : (Jvm.Cond.lays "SignalWavesModel" "SignalWavesModel" "wires" "I") ∈ lw_all := lw_g (lw_at lw_m11 167 rfl) rfl
theorem q2661 : (Jvm.Cond.soleField "SignalWavesModel" "wires") ∈ lw_all := lw_g (lw_at lw_m11 168 rfl) rfl
theorem q2662 : (Jvm.Cond.lays "SignalWavesModel" "SignalWavesModel" "deriveds" "I") ∈ lw_all := lw_g (lw_at lw_m11 169 rfl) rfl
theorem q2663 : (Jvm.Cond.soleField "SignalWavesModel" "deriveds") ∈ lw_all := lw_g (lw_at lw_m11 170 rfl) rfl
theorem q2664 : (Jvm.Cond.laysFinal "SignalWavesModel" "SignalWavesModel" "within" "[I") ∈ lw_all := lw_g (lw_at lw_m11 171 rfl) rfl
theorem q2665 : (Jvm.Cond.soleField "SignalWavesModel" "within") ∈ lw_all := lw_g (lw_at lw_m11 172 rfl) rfl
theorem q2666 : (Jvm.Cond.laysFinal "SignalWavesModel" "SignalWavesModel" "scopeName" "[I") ∈ lw_all := lw_g (lw_at lw_m11 173 rfl) rfl
theorem q2667 : (Jvm.Cond.soleField "SignalWavesModel" "scopeName") ∈ lw_all := lw_g (lw_at lw_m11 174 rfl) rfl
theorem q2668 : (Jvm.Cond.lays "SignalWavesModel" "SignalWavesModel" "scopes" "I") ∈ lw_all := lw_g (lw_at lw_m11 175 rfl) rfl
theorem q2669 : (Jvm.Cond.soleField "SignalWavesModel" "scopes") ∈ lw_all := lw_g (lw_at lw_m11 176 rfl) rfl
theorem q2670 : (Jvm.Cond.laysFinal "SignalWavesModel" "SignalWavesModel" "code" "[I") ∈ lw_all := lw_g (lw_at lw_m11 177 rfl) rfl
theorem q2671 : (Jvm.Cond.soleField "SignalWavesModel" "code") ∈ lw_all := lw_g (lw_at lw_m11 178 rfl) rfl
theorem q2672 : (Jvm.Cond.laysFinal "SignalWavesModel" "SignalWavesModel" "codeMany" "[I") ∈ lw_all := lw_g (lw_at lw_m11 179 rfl) rfl
theorem q2673 : (Jvm.Cond.soleField "SignalWavesModel" "codeMany") ∈ lw_all := lw_g (lw_at lw_m11 180 rfl) rfl
theorem q2674 : (Jvm.Cond.laysFinal "SignalWavesModel" "SignalWavesModel" "s" "[I") ∈ lw_all := lw_g (lw_at lw_m11 181 rfl) rfl
theorem q2675 : (Jvm.Cond.soleField "SignalWavesModel" "s") ∈ lw_all := lw_g (lw_at lw_m11 182 rfl) rfl
theorem q2676 : (Jvm.Cond.laysFinal "SignalWavesModel" "SignalWavesModel" "past" "[I") ∈ lw_all := lw_g (lw_at lw_m11 183 rfl) rfl
theorem q2677 : (Jvm.Cond.soleField "SignalWavesModel" "past") ∈ lw_all := lw_g (lw_at lw_m11 184 rfl) rfl
theorem q2678 : (Jvm.Cond.lays "SignalWavesModel" "SignalWavesModel" "undos" "I") ∈ lw_all := lw_g (lw_at lw_m11 185 rfl) rfl
theorem q2679 : (Jvm.Cond.soleField "SignalWavesModel" "undos") ∈ lw_all := lw_g (lw_at lw_m11 186 rfl) rfl
theorem q2680 : (Jvm.Cond.laysFinal "SignalWavesModel" "SignalWavesModel" "kept" "[I") ∈ lw_all := lw_g (lw_at lw_m11 187 rfl) rfl
theorem q2681 : (Jvm.Cond.soleField "SignalWavesModel" "kept") ∈ lw_all := lw_g (lw_at lw_m11 188 rfl) rfl
theorem q2682 : (Jvm.Cond.laysFinal "SignalWavesModel" "SignalWavesModel" "isKept" "[Z") ∈ lw_all := lw_g (lw_at lw_m11 189 rfl) rfl
theorem q2683 : (Jvm.Cond.soleField "SignalWavesModel" "isKept") ∈ lw_all := lw_g (lw_at lw_m11 190 rfl) rfl
theorem q2684 : (Jvm.Cond.laysFinal "SignalWavesModel" "SignalWavesModel" "text" "[I") ∈ lw_all := lw_g (lw_at lw_m11 191 rfl) rfl
theorem q2685 : (Jvm.Cond.soleField "SignalWavesModel" "text") ∈ lw_all := lw_g (lw_at lw_m11 192 rfl) rfl
theorem q2686 : (Jvm.Cond.lays "SignalWavesModel" "SignalWavesModel" "typed" "I") ∈ lw_all := lw_g (lw_at lw_m11 193 rfl) rfl
theorem q2687 : (Jvm.Cond.soleField "SignalWavesModel" "typed") ∈ lw_all := lw_g (lw_at lw_m11 194 rfl) rfl
theorem q2688 : (Jvm.Cond.lays "SignalWavesModel" "SignalWavesModel" "at" "I") ∈ lw_all := lw_g (lw_at lw_m11 195 rfl) rfl
theorem q2689 : (Jvm.Cond.soleField "SignalWavesModel" "at") ∈ lw_all := lw_g (lw_at lw_m11 196 rfl) rfl
theorem q2690 : (Jvm.Cond.lays "SignalWavesModel" "SignalWavesModel" "start" "I") ∈ lw_all := lw_g (lw_at lw_m11 197 rfl) rfl
theorem q2691 : (Jvm.Cond.soleField "SignalWavesModel" "start") ∈ lw_all := lw_g (lw_at lw_m11 198 rfl) rfl
theorem q2692 : (Jvm.Cond.lays "SignalWavesModel" "SignalWavesModel" "sort" "I") ∈ lw_all := lw_g (lw_at lw_m11 199 rfl) rfl
theorem q2693 : (Jvm.Cond.soleField "SignalWavesModel" "sort") ∈ lw_all := lw_g (lw_at lw_m11 200 rfl) rfl
theorem q2694 : (Jvm.Cond.lays "SignalWavesModel" "SignalWavesModel" "value" "I") ∈ lw_all := lw_g (lw_at lw_m11 201 rfl) rfl
theorem q2695 : (Jvm.Cond.soleField "SignalWavesModel" "value") ∈ lw_all := lw_g (lw_at lw_m11 202 rfl) rfl
theorem q2696 : (Jvm.Cond.lays "SignalWavesModel" "SignalWavesModel" "fault" "I") ∈ lw_all := lw_g (lw_at lw_m11 203 rfl) rfl
theorem q2697 : (Jvm.Cond.soleField "SignalWavesModel" "fault") ∈ lw_all := lw_g (lw_at lw_m11 204 rfl) rfl
theorem q2698 : (Jvm.Cond.laysFinal "SignalWavesModel" "SignalWavesModel" "newNode" "[I") ∈ lw_all := lw_g (lw_at lw_m11 205 rfl) rfl
theorem q2699 : (Jvm.Cond.soleField "SignalWavesModel" "newNode") ∈ lw_all := lw_g (lw_at lw_m11 206 rfl) rfl
theorem q2700 : (Jvm.Cond.lays "SignalWavesModel" "SignalWavesModel" "newNodes" "I") ∈ lw_all := lw_g (lw_at lw_m11 207 rfl) rfl
theorem q2701 : (Jvm.Cond.soleField "SignalWavesModel" "newNodes") ∈ lw_all := lw_g (lw_at lw_m11 208 rfl) rfl
theorem q2702 : (Jvm.Cond.lays "SignalWavesModel" "SignalWavesModel" "newWires" "I") ∈ lw_all := lw_g (lw_at lw_m11 209 rfl) rfl
theorem q2703 : (Jvm.Cond.soleField "SignalWavesModel" "newWires") ∈ lw_all := lw_g (lw_at lw_m11 210 rfl) rfl
theorem q2704 : (Jvm.Cond.lays "SignalWavesModel" "SignalWavesModel" "newDeriveds" "I") ∈ lw_all := lw_g (lw_at lw_m11 211 rfl) rfl
theorem q2705 : (Jvm.Cond.soleField "SignalWavesModel" "newDeriveds") ∈ lw_all := lw_g (lw_at lw_m11 212 rfl) rfl
theorem q2706 : (Jvm.Cond.laysFinal "SignalWavesModel" "SignalWavesModel" "newWithin" "[I") ∈ lw_all := lw_g (lw_at lw_m11 213 rfl) rfl
theorem q2707 : (Jvm.Cond.soleField "SignalWavesModel" "newWithin") ∈ lw_all := lw_g (lw_at lw_m11 214 rfl) rfl
theorem q2708 : (Jvm.Cond.laysFinal "SignalWavesModel" "SignalWavesModel" "newScopeName" "[I") ∈ lw_all := lw_g (lw_at lw_m11 215 rfl) rfl
theorem q2709 : (Jvm.Cond.soleField "SignalWavesModel" "newScopeName") ∈ lw_all := lw_g (lw_at lw_m11 216 rfl) rfl
theorem q2710 : (Jvm.Cond.lays "SignalWavesModel" "SignalWavesModel" "newScopes" "I") ∈ lw_all := lw_g (lw_at lw_m11 217 rfl) rfl
theorem q2711 : (Jvm.Cond.soleField "SignalWavesModel" "newScopes") ∈ lw_all := lw_g (lw_at lw_m11 218 rfl) rfl
theorem q2712 : (Jvm.Cond.laysFinal "SignalWavesModel" "SignalWavesModel" "newCode" "[I") ∈ lw_all := lw_g (lw_at lw_m11 219 rfl) rfl
theorem q2713 : (Jvm.Cond.soleField "SignalWavesModel" "newCode") ∈ lw_all := lw_g (lw_at lw_m11 220 rfl) rfl
theorem q2714 : (Jvm.Cond.laysFinal "SignalWavesModel" "SignalWavesModel" "newMany" "[I") ∈ lw_all := lw_g (lw_at lw_m11 221 rfl) rfl
theorem q2715 : (Jvm.Cond.soleField "SignalWavesModel" "newMany") ∈ lw_all := lw_g (lw_at lw_m11 222 rfl) rfl
theorem q2716 : (Jvm.Cond.lays "SignalWavesModel" "SignalWavesModel" "open" "I") ∈ lw_all := lw_g (lw_at lw_m11 223 rfl) rfl
theorem q2717 : (Jvm.Cond.soleField "SignalWavesModel" "open") ∈ lw_all := lw_g (lw_at lw_m11 224 rfl) rfl
theorem q2718 : (Jvm.Cond.lays "SignalWavesModel" "SignalWavesModel" "deep" "I") ∈ lw_all := lw_g (lw_at lw_m11 225 rfl) rfl
theorem q2719 : (Jvm.Cond.soleField "SignalWavesModel" "deep") ∈ lw_all := lw_g (lw_at lw_m11 226 rfl) rfl
theorem q2720 : (Jvm.Cond.laysFinal "SignalWavesModel" "SignalWavesModel" "waits" "[I") ∈ lw_all := lw_g (lw_at lw_m11 227 rfl) rfl
theorem q2721 : (Jvm.Cond.soleField "SignalWavesModel" "waits") ∈ lw_all := lw_g (lw_at lw_m11 228 rfl) rfl
theorem q2722 : (Jvm.Cond.lays "SignalWavesModel" "SignalWavesModel" "waiting" "I") ∈ lw_all := lw_g (lw_at lw_m11 229 rfl) rfl
theorem q2723 : (Jvm.Cond.soleField "SignalWavesModel" "waiting") ∈ lw_all := lw_g (lw_at lw_m11 230 rfl) rfl
theorem q2724 : (Jvm.Cond.lays "SignalWavesModel" "SignalWavesModel" "terms" "I") ∈ lw_all := lw_g (lw_at lw_m11 231 rfl) rfl
theorem q2725 : (Jvm.Cond.soleField "SignalWavesModel" "terms") ∈ lw_all := lw_g (lw_at lw_m11 232 rfl) rfl
theorem q2726 : (Jvm.Cond.lays "SignalWavesModel" "SignalWavesModel" "marks" "I") ∈ lw_all := lw_g (lw_at lw_m11 233 rfl) rfl
theorem q2727 : (Jvm.Cond.soleField "SignalWavesModel" "marks") ∈ lw_all := lw_g (lw_at lw_m11 234 rfl) rfl
theorem q2728 : (Jvm.Cond.laysFinal "SignalWavesModel" "SignalWavesModel" "now" "[I") ∈ lw_all := lw_g (lw_at lw_m11 235 rfl) rfl
theorem q2729 : (Jvm.Cond.soleField "SignalWavesModel" "now") ∈ lw_all := lw_g (lw_at lw_m11 236 rfl) rfl
theorem q2730 : (Jvm.Cond.laysFinal "SignalWavesModel" "SignalWavesModel" "stack" "[I") ∈ lw_all := lw_g (lw_at lw_m11 237 rfl) rfl
theorem q2731 : (Jvm.Cond.soleField "SignalWavesModel" "stack") ∈ lw_all := lw_g (lw_at lw_m11 238 rfl) rfl
theorem q2732 : (Jvm.Cond.laysFinal "SignalWavesModel" "SignalWavesModel" "wire" "[I") ∈ lw_all := lw_g (lw_at lw_m11 239 rfl) rfl
theorem q2733 : (Jvm.Cond.soleField "SignalWavesModel" "wire") ∈ lw_all := lw_g (lw_at lw_m12 0 rfl) rfl
theorem q2734 : (Jvm.Cond.laysFinal "SignalWavesModel" "SignalWavesModel" "isTurn" "[Z") ∈ lw_all := lw_g (lw_at lw_m12 1 rfl) rfl
theorem q2735 : (Jvm.Cond.soleField "SignalWavesModel" "isTurn") ∈ lw_all := lw_g (lw_at lw_m12 2 rfl) rfl
theorem q2736 : (Jvm.Cond.laysFinal "SignalWavesModel" "SignalWavesModel" "line" "[I") ∈ lw_all := lw_g (lw_at lw_m12 3 rfl) rfl
theorem q2737 : (Jvm.Cond.soleField "SignalWavesModel" "line") ∈ lw_all := lw_g (lw_at lw_m12 4 rfl) rfl
theorem q2738 : (Jvm.Cond.laysFinal "SignalWavesModel" "SignalWavesModel" "ahead" "[I") ∈ lw_all := lw_g (lw_at lw_m12 5 rfl) rfl
theorem q2739 : (Jvm.Cond.soleField "SignalWavesModel" "ahead") ∈ lw_all := lw_g (lw_at lw_m12 6 rfl) rfl
theorem q2740 : (Jvm.Cond.laysFinal "SignalWavesModel" "SignalWavesModel" "isFirst" "[Z") ∈ lw_all := lw_g (lw_at lw_m12 7 rfl) rfl
theorem q2741 : (Jvm.Cond.soleField "SignalWavesModel" "isFirst") ∈ lw_all := lw_g (lw_at lw_m12 8 rfl) rfl
theorem q2742 : (Jvm.Cond.laysFinal "SignalWavesModel" "SignalWavesModel" "rowTime" "[I") ∈ lw_all := lw_g (lw_at lw_m12 9 rfl) rfl
theorem q2743 : (Jvm.Cond.soleField "SignalWavesModel" "rowTime") ∈ lw_all := lw_g (lw_at lw_m12 10 rfl) rfl
theorem q2744 : (Jvm.Cond.laysFinal "SignalWavesModel" "SignalWavesModel" "rowValue" "[I") ∈ lw_all := lw_g (lw_at lw_m12 11 rfl) rfl
theorem q2745 : (Jvm.Cond.soleField "SignalWavesModel" "rowValue") ∈ lw_all := lw_g (lw_at lw_m12 12 rfl) rfl
theorem q2746 : (Jvm.Cond.lays "SignalWavesModel" "SignalWavesModel" "rows" "I") ∈ lw_all := lw_g (lw_at lw_m12 13 rfl) rfl
theorem q2747 : (Jvm.Cond.soleField "SignalWavesModel" "rows") ∈ lw_all := lw_g (lw_at lw_m12 14 rfl) rfl
theorem q2748 : (Jvm.Cond.laysFinal "SignalWavesModel" "SignalWavesModel" "word" "[I") ∈ lw_all := lw_g (lw_at lw_m12 15 rfl) rfl
theorem q2749 : (Jvm.Cond.soleField "SignalWavesModel" "word") ∈ lw_all := lw_g (lw_at lw_m12 16 rfl) rfl
theorem q2750 : (Jvm.Cond.lays "SignalWavesModel" "SignalWavesModel" "words" "I") ∈ lw_all := lw_g (lw_at lw_m12 17 rfl) rfl
theorem q2751 : (Jvm.Cond.soleField "SignalWavesModel" "words") ∈ lw_all := lw_g (lw_at lw_m12 18 rfl) rfl
theorem q2752 : (Jvm.Cond.laysFinal "SignalWavesModel" "SignalWavesModel" "sight" "[I") ∈ lw_all := lw_g (lw_at lw_m12 19 rfl) rfl
theorem q2753 : (Jvm.Cond.soleField "SignalWavesModel" "sight") ∈ lw_all := lw_g (lw_at lw_m12 20 rfl) rfl
theorem q2754 : (Jvm.Cond.lays "SignalWavesModel" "SignalWavesModel" "sights" "I") ∈ lw_all := lw_g (lw_at lw_m12 21 rfl) rfl
theorem q2755 : (Jvm.Cond.soleField "SignalWavesModel" "sights") ∈ lw_all := lw_g (lw_at lw_m12 22 rfl) rfl
theorem q2756 : (Jvm.Cond.superclass "SignalWavesModel" "java/lang/Object") ∈ lw_all := lw_g (lw_at lw_m12 23 rfl) rfl
theorem q2759 : (Jvm.Cond.instanceMethod ({ cls := "SignalWavesModel", name := "type", desc := "(I)I" } : Jvm.MethodName)) ∈ lw_all := lw_g (lw_at lw_m12 26 rfl) rfl
theorem q2760 : (Jvm.Cond.selects "SignalWavesModel" ({ cls := "SignalWavesModel", name := "type", desc := "(I)I" } : Jvm.MethodName) ({ cls := "SignalWavesModel", name := "type", desc := "(I)I" } : Jvm.MethodName)) ∈ lw_all := lw_g (lw_at lw_m12 27 rfl) rfl
theorem q2761 : (Jvm.Cond.code ({ cls := "SignalWavesModel", name := "type", desc := "(I)I" } : Jvm.MethodName) prog_19_method_3_code (2 : Nat) (Option.some Jvm.ClassFile.FieldType.int)) ∈ lw_all := lw_g (lw_at lw_m12 28 rfl) rfl
theorem q2762 : (Jvm.Cond.methodLink "SignalWavesModel" (95 : Nat) ({ cls := "SignalWavesModel", name := "in", desc := "(III)Z" } : Jvm.MethodName)) ∈ lw_all := lw_g (lw_at lw_m12 29 rfl) rfl
theorem q2763 : (Jvm.Cond.static ({ cls := "SignalWavesModel", name := "in", desc := "(III)Z" } : Jvm.MethodName)) ∈ lw_all := lw_g (lw_at lw_m12 30 rfl) rfl
theorem q2764 : (Jvm.Cond.code ({ cls := "SignalWavesModel", name := "in", desc := "(III)Z" } : Jvm.MethodName) prog_19_method_2_code (3 : Nat) (Option.some Jvm.ClassFile.FieldType.boolean)) ∈ lw_all := lw_g (lw_at lw_m12 31 rfl) rfl
theorem q2766 : (Jvm.Cond.instanceMethod ({ cls := "SignalWavesModel", name := "clear", desc := "()I" } : Jvm.MethodName)) ∈ lw_all := lw_g (lw_at lw_m12 33 rfl) rfl
theorem q2767 : (Jvm.Cond.selects "SignalWavesModel" ({ cls := "SignalWavesModel", name := "clear", desc := "()I" } : Jvm.MethodName) ({ cls := "SignalWavesModel", name := "clear", desc := "()I" } : Jvm.MethodName)) ∈ lw_all := lw_g (lw_at lw_m12 34 rfl) rfl
theorem q2768 : (Jvm.Cond.code ({ cls := "SignalWavesModel", name := "clear", desc := "()I" } : Jvm.MethodName) prog_19_method_4_code (2 : Nat) (Option.some Jvm.ClassFile.FieldType.int)) ∈ lw_all := lw_g (lw_at lw_m12 35 rfl) rfl
theorem q2770 : (Jvm.Cond.instanceMethod ({ cls := "SignalWavesModel", name := "tells", desc := "()I" } : Jvm.MethodName)) ∈ lw_all := lw_g (lw_at lw_m12 37 rfl) rfl
theorem q2771 : (Jvm.Cond.selects "SignalWavesModel" ({ cls := "SignalWavesModel", name := "tells", desc := "()I" } : Jvm.MethodName) ({ cls := "SignalWavesModel", name := "tells", desc := "()I" } : Jvm.MethodName)) ∈ lw_all := lw_g (lw_at lw_m12 38 rfl) rfl
theorem q2772 : (Jvm.Cond.code ({ cls := "SignalWavesModel", name := "tells", desc := "()I" } : Jvm.MethodName) prog_19_method_24_code (2 : Nat) (Option.some Jvm.ClassFile.FieldType.int)) ∈ lw_all := lw_g (lw_at lw_m12 39 rfl) rfl
theorem q2773 : (Jvm.Cond.methodLink "SignalWavesModel" (129 : Nat) ({ cls := "SignalWavesModel", name := "next", desc := "()V" } : Jvm.MethodName)) ∈ lw_all := lw_g (lw_at lw_m12 40 rfl) rfl
theorem q2774 : (Jvm.Cond.privateMethod ({ cls := "SignalWavesModel", name := "next", desc := "()V" } : Jvm.MethodName)) ∈ lw_tbl := lw_at lw_m12 41 rfl
theorem q2775 : (Jvm.Cond.instanceMethod ({ cls := "SignalWavesModel", name := "next", desc := "()V" } : Jvm.MethodName)) ∈ lw_all := lw_g (lw_at lw_m12 42 rfl) rfl
theorem q2776 : (Jvm.Cond.code ({ cls := "SignalWavesModel", name := "next", desc := "()V" } : Jvm.MethodName) prog_19_method_7_code (2 : Nat) (Option.none : Option Jvm.ClassFile.FieldType)) ∈ lw_all := lw_g (lw_at lw_m12 43 rfl) rfl
theorem q2777 : (Jvm.Cond.methodLink "SignalWavesModel" (112 : Nat) ({ cls := "SignalWavesModel", name := "isFigure", desc := "(I)Z" } : Jvm.MethodName)) ∈ lw_all := lw_g (lw_at lw_m12 44 rfl) rfl
theorem q2778 : (Jvm.Cond.privateMethod ({ cls := "SignalWavesModel", name := "isFigure", desc := "(I)Z" } : Jvm.MethodName)) ∈ lw_tbl := lw_at lw_m12 45 rfl
theorem q2779 : (Jvm.Cond.instanceMethod ({ cls := "SignalWavesModel", name := "isFigure", desc := "(I)Z" } : Jvm.MethodName)) ∈ lw_all := lw_g (lw_at lw_m12 46 rfl) rfl
theorem q2780 : (Jvm.Cond.code ({ cls := "SignalWavesModel", name := "isFigure", desc := "(I)Z" } : Jvm.MethodName) prog_19_method_5_code (2 : Nat) (Option.some Jvm.ClassFile.FieldType.boolean)) ∈ lw_all := lw_g (lw_at lw_m12 47 rfl) rfl
theorem q2781 : (Jvm.Cond.methodLink "SignalWavesModel" (119 : Nat) ({ cls := "SignalWavesModel", name := "isSign", desc := "(I)Z" } : Jvm.MethodName)) ∈ lw_all := lw_g (lw_at lw_m12 48 rfl) rfl
theorem q2782 : (Jvm.Cond.static ({ cls := "SignalWavesModel", name := "isSign", desc := "(I)Z" } : Jvm.MethodName)) ∈ lw_all := lw_g (lw_at lw_m12 49 rfl) rfl
theorem q2783 : (Jvm.Cond.code ({ cls := "SignalWavesModel", name := "isSign", desc := "(I)Z" } : Jvm.MethodName) prog_19_method_6_code (1 : Nat) (Option.some Jvm.ClassFile.FieldType.boolean)) ∈ lw_all := lw_g (lw_at lw_m12 50 rfl) rfl
theorem q2784 : (Jvm.Cond.methodLink "SignalWavesModel" (206 : Nat) ({ cls := "SignalWavesModel", name := "readsItem", desc := "()V" } : Jvm.MethodName)) ∈ lw_all := lw_g (lw_at lw_m12 51 rfl) rfl
theorem q2785 : (Jvm.Cond.privateMethod ({ cls := "SignalWavesModel", name := "readsItem", desc := "()V" } : Jvm.MethodName)) ∈ lw_tbl := lw_at lw_m12 52 rfl
theorem q2786 : (Jvm.Cond.instanceMethod ({ cls := "SignalWavesModel", name := "readsItem", desc := "()V" } : Jvm.MethodName)) ∈ lw_all := lw_g (lw_at lw_m12 53 rfl) rfl
theorem q2787 : (Jvm.Cond.code ({ cls := "SignalWavesModel", name := "readsItem", desc := "()V" } : Jvm.MethodName) prog_19_method_23_code (1 : Nat) (Option.none : Option Jvm.ClassFile.FieldType)) ∈ lw_all := lw_g (lw_at lw_m12 54 rfl) rfl
theorem q2788 : (Jvm.Cond.methodLink "SignalWavesModel" (154 : Nat) ({ cls := "SignalWavesModel", name := "is", desc := "(I)Z" } : Jvm.MethodName)) ∈ lw_all := lw_g (lw_at lw_m12 55 rfl) rfl
theorem q2789 : (Jvm.Cond.privateMethod ({ cls := "SignalWavesModel", name := "is", desc := "(I)Z" } : Jvm.MethodName)) ∈ lw_tbl := lw_at lw_m12 56 rfl
theorem q2790 : (Jvm.Cond.instanceMethod ({ cls := "SignalWavesModel", name := "is", desc := "(I)Z" } : Jvm.MethodName)) ∈ lw_all := lw_g (lw_at lw_m12 57 rfl) rfl
theorem q2791 : (Jvm.Cond.code ({ cls := "SignalWavesModel", name := "is", desc := "(I)Z" } : Jvm.MethodName) prog_19_method_8_code (2 : Nat) (Option.some Jvm.ClassFile.FieldType.boolean)) ∈ lw_all := lw_g (lw_at lw_m12 58 rfl) rfl
theorem q2792 : (Jvm.Cond.methodLink "SignalWavesModel" (197 : Nat) ({ cls := "SignalWavesModel", name := "opens", desc := "()V" } : Jvm.MethodName)) ∈ lw_all := lw_g (lw_at lw_m12 59 rfl) rfl
theorem q2793 : (Jvm.Cond.privateMethod ({ cls := "SignalWavesModel", name := "opens", desc := "()V" } : Jvm.MethodName)) ∈ lw_tbl := lw_at lw_m12 60 rfl
theorem q2794 : (Jvm.Cond.instanceMethod ({ cls := "SignalWavesModel", name := "opens", desc := "()V" } : Jvm.MethodName)) ∈ lw_all := lw_g (lw_at lw_m12 61 rfl) rfl
theorem q2795 : (Jvm.Cond.code ({ cls := "SignalWavesModel", name := "opens", desc := "()V" } : Jvm.MethodName) prog_19_method_13_code (2 : Nat) (Option.none : Option Jvm.ClassFile.FieldType)) ∈ lw_all := lw_g (lw_at lw_m12 62 rfl) rfl
theorem q2796 : (Jvm.Cond.methodLink "SignalWavesModel" (125 : Nat) ({ cls := "SignalWavesModel", name := "due", desc := "(Z)V" } : Jvm.MethodName)) ∈ lw_all := lw_g (lw_at lw_m12 63 rfl) rfl
theorem q2797 : (Jvm.Cond.privateMethod ({ cls := "SignalWavesModel", name := "due", desc := "(Z)V" } : Jvm.MethodName)) ∈ lw_tbl := lw_at lw_m12 64 rfl
theorem q2798 : (Jvm.Cond.instanceMethod ({ cls := "SignalWavesModel", name := "due", desc := "(Z)V" } : Jvm.MethodName)) ∈ lw_all := lw_g (lw_at lw_m12 65 rfl) rfl
theorem q2799 : (Jvm.Cond.code ({ cls := "SignalWavesModel", name := "due", desc := "(Z)V" } : Jvm.MethodName) prog_19_method_9_code (2 : Nat) (Option.none : Option Jvm.ClassFile.FieldType)) ∈ lw_all := lw_g (lw_at lw_m12 66 rfl) rfl
theorem q2800 : (Jvm.Cond.methodLink "SignalWavesModel" (141 : Nat) ({ cls := "SignalWavesModel", name := "passes", desc := "(Z)V" } : Jvm.MethodName)) ∈ lw_all := lw_g (lw_at lw_m12 67 rfl) rfl
theorem q2801 : (Jvm.Cond.privateMethod ({ cls := "SignalWavesModel", name := "passes", desc := "(Z)V" } : Jvm.MethodName)) ∈ lw_tbl := lw_at lw_m12 68 rfl
theorem q2802 : (Jvm.Cond.instanceMethod ({ cls := "SignalWavesModel", name := "passes", desc := "(Z)V" } : Jvm.MethodName)) ∈ lw_all := lw_g (lw_at lw_m12 69 rfl) rfl
theorem q2803 : (Jvm.Cond.code ({ cls := "SignalWavesModel", name := "passes", desc := "(Z)V" } : Jvm.MethodName) prog_19_method_10_code (2 : Nat) (Option.none : Option Jvm.ClassFile.FieldType)) ∈ lw_all := lw_g (lw_at lw_m12 70 rfl) rfl
theorem q2804 : (Jvm.Cond.methodLink "SignalWavesModel" (147 : Nat) ({ cls := "SignalWavesModel", name := "newNodeBy", desc := "(II)I" } : Jvm.MethodName)) ∈ lw_all := lw_g (lw_at lw_m12 71 rfl) rfl
theorem q2805 : (Jvm.Cond.privateMethod ({ cls := "SignalWavesModel", name := "newNodeBy", desc := "(II)I" } : Jvm.MethodName)) ∈ lw_tbl := lw_at lw_m12 72 rfl
theorem q2806 : (Jvm.Cond.instanceMethod ({ cls := "SignalWavesModel", name := "newNodeBy", desc := "(II)I" } : Jvm.MethodName)) ∈ lw_all := lw_g (lw_at lw_m12 73 rfl) rfl
theorem q2807 : (Jvm.Cond.code ({ cls := "SignalWavesModel", name := "newNodeBy", desc := "(II)I" } : Jvm.MethodName) prog_19_method_11_code (5 : Nat) (Option.some Jvm.ClassFile.FieldType.int)) ∈ lw_all := lw_g (lw_at lw_m12 74 rfl) rfl
theorem q2808 : (Jvm.Cond.methodLink "SignalWavesModel" (151 : Nat) ({ cls := "SignalWavesModel", name := "newScopeBy", desc := "(II)I" } : Jvm.MethodName)) ∈ lw_all := lw_g (lw_at lw_m12 75 rfl) rfl
theorem q2809 : (Jvm.Cond.privateMethod ({ cls := "SignalWavesModel", name := "newScopeBy", desc := "(II)I" } : Jvm.MethodName)) ∈ lw_tbl := lw_at lw_m12 76 rfl
theorem q2810 : (Jvm.Cond.instanceMethod ({ cls := "SignalWavesModel", name := "newScopeBy", desc := "(II)I" } : Jvm.MethodName)) ∈ lw_all := lw_g (lw_at lw_m12 77 rfl) rfl
theorem q2811 : (Jvm.Cond.code ({ cls := "SignalWavesModel", name := "newScopeBy", desc := "(II)I" } : Jvm.MethodName) prog_19_method_12_code (5 : Nat) (Option.some Jvm.ClassFile.FieldType.int)) ∈ lw_all := lw_g (lw_at lw_m12 78 rfl) rfl
theorem q2812 : (Jvm.Cond.methodLink "SignalWavesModel" (200 : Nat) ({ cls := "SignalWavesModel", name := "closes", desc := "()V" } : Jvm.MethodName)) ∈ lw_all := lw_g (lw_at lw_m12 79 rfl) rfl
theorem q2813 : (Jvm.Cond.privateMethod ({ cls := "SignalWavesModel", name := "closes", desc := "()V" } : Jvm.MethodName)) ∈ lw_tbl := lw_at lw_m12 80 rfl
theorem q2814 : (Jvm.Cond.instanceMethod ({ cls := "SignalWavesModel", name := "closes", desc := "()V" } : Jvm.MethodName)) ∈ lw_all := lw_g (lw_at lw_m12 81 rfl) rfl
theorem q2815 : (Jvm.Cond.code ({ cls := "SignalWavesModel", name := "closes", desc := "()V" } : Jvm.MethodName) prog_19_method_14_code (1 : Nat) (Option.none : Option Jvm.ClassFile.FieldType)) ∈ lw_all := lw_g (lw_at lw_m12 82 rfl) rfl
theorem q2816 : (Jvm.Cond.methodLink "SignalWavesModel" (203 : Nat) ({ cls := "SignalWavesModel", name := "readsNode", desc := "()V" } : Jvm.MethodName)) ∈ lw_all := lw_g (lw_at lw_m12 83 rfl) rfl
theorem q2817 : (Jvm.Cond.privateMethod ({ cls := "SignalWavesModel", name := "readsNode", desc := "()V" } : Jvm.MethodName)) ∈ lw_tbl := lw_at lw_m12 84 rfl
theorem q2818 : (Jvm.Cond.instanceMethod ({ cls := "SignalWavesModel", name := "readsNode", desc := "()V" } : Jvm.MethodName)) ∈ lw_all := lw_g (lw_at lw_m12 85 rfl) rfl
theorem q2819 : (Jvm.Cond.code ({ cls := "SignalWavesModel", name := "readsNode", desc := "()V" } : Jvm.MethodName) prog_19_method_22_code (5 : Nat) (Option.none : Option Jvm.ClassFile.FieldType)) ∈ lw_all := lw_g (lw_at lw_m12 86 rfl) rfl
theorem q2820 : (Jvm.Cond.methodLink "SignalWavesModel" (177 : Nat) ({ cls := "SignalWavesModel", name := "readsPath", desc := "()I" } : Jvm.MethodName)) ∈ lw_all := lw_g (lw_at lw_m12 87 rfl) rfl
theorem q2821 : (Jvm.Cond.privateMethod ({ cls := "SignalWavesModel", name := "readsPath", desc := "()I" } : Jvm.MethodName)) ∈ lw_tbl := lw_at lw_m12 88 rfl
theorem q2822 : (Jvm.Cond.instanceMethod ({ cls := "SignalWavesModel", name := "readsPath", desc := "()I" } : Jvm.MethodName)) ∈ lw_all := lw_g (lw_at lw_m12 89 rfl) rfl
theorem q2823 : (Jvm.Cond.code ({ cls := "SignalWavesModel", name := "readsPath", desc := "()I" } : Jvm.MethodName) prog_19_method_15_code (4 : Nat) (Option.some Jvm.ClassFile.FieldType.int)) ∈ lw_all := lw_g (lw_at lw_m12 90 rfl) rfl
theorem q2824 : (Jvm.Cond.methodLink "SignalWavesModel" (194 : Nat) ({ cls := "SignalWavesModel", name := "readsExpression", desc := "()V" } : Jvm.MethodName)) ∈ lw_all := lw_g (lw_at lw_m12 91 rfl) rfl
theorem q2825 : (Jvm.Cond.privateMethod ({ cls := "SignalWavesModel", name := "readsExpression", desc := "()V" } : Jvm.MethodName)) ∈ lw_tbl := lw_at lw_m12 92 rfl
theorem q2826 : (Jvm.Cond.instanceMethod ({ cls := "SignalWavesModel", name := "readsExpression", desc := "()V" } : Jvm.MethodName)) ∈ lw_all := lw_g (lw_at lw_m12 93 rfl) rfl
theorem q2827 : (Jvm.Cond.code ({ cls := "SignalWavesModel", name := "readsExpression", desc := "()V" } : Jvm.MethodName) prog_19_method_21_code (2 : Nat) (Option.none : Option Jvm.ClassFile.FieldType)) ∈ lw_all := lw_g (lw_at lw_m12 94 rfl) rfl
theorem q2828 : (Jvm.Cond.methodLink "SignalWavesModel" (181 : Nat) ({ cls := "SignalWavesModel", name := "beginsTerm", desc := "()V" } : Jvm.MethodName)) ∈ lw_all := lw_g (lw_at lw_m12 95 rfl) rfl
theorem q2829 : (Jvm.Cond.privateMethod ({ cls := "SignalWavesModel", name := "beginsTerm", desc := "()V" } : Jvm.MethodName)) ∈ lw_tbl := lw_at lw_m12 96 rfl
theorem q2830 : (Jvm.Cond.instanceMethod ({ cls := "SignalWavesModel", name := "beginsTerm", desc := "()V" } : Jvm.MethodName)) ∈ lw_all := lw_g (lw_at lw_m12 97 rfl) rfl
theorem q2831 : (Jvm.Cond.code ({ cls := "SignalWavesModel", name := "beginsTerm", desc := "()V" } : Jvm.MethodName) prog_19_method_19_code (2 : Nat) (Option.none : Option Jvm.ClassFile.FieldType)) ∈ lw_all := lw_g (lw_at lw_m12 98 rfl) rfl
theorem q2832 : (Jvm.Cond.methodLink "SignalWavesModel" (170 : Nat) ({ cls := "SignalWavesModel", name := "waitsFor", desc := "(I)V" } : Jvm.MethodName)) ∈ lw_all := lw_g (lw_at lw_m12 99 rfl) rfl
theorem q2833 : (Jvm.Cond.privateMethod ({ cls := "SignalWavesModel", name := "waitsFor", desc := "(I)V" } : Jvm.MethodName)) ∈ lw_tbl := lw_at lw_m12 100 rfl
theorem q2834 : (Jvm.Cond.instanceMethod ({ cls := "SignalWavesModel", name := "waitsFor", desc := "(I)V" } : Jvm.MethodName)) ∈ lw_all := lw_g (lw_at lw_m12 101 rfl) rfl
theorem q2835 : (Jvm.Cond.code ({ cls := "SignalWavesModel", name := "waitsFor", desc := "(I)V" } : Jvm.MethodName) prog_19_method_17_code (2 : Nat) (Option.none : Option Jvm.ClassFile.FieldType)) ∈ lw_all := lw_g (lw_at lw_m12 102 rfl) rfl
theorem q2836 : (Jvm.Cond.methodLink "SignalWavesModel" (163 : Nat) ({ cls := "SignalWavesModel", name := "emits", desc := "(II)V" } : Jvm.MethodName)) ∈ lw_all := lw_g (lw_at lw_m12 103 rfl) rfl
theorem q2837 : (Jvm.Cond.privateMethod ({ cls := "SignalWavesModel", name := "emits", desc := "(II)V" } : Jvm.MethodName)) ∈ lw_tbl := lw_at lw_m12 104 rfl
theorem q2838 : (Jvm.Cond.instanceMethod ({ cls := "SignalWavesModel", name := "emits", desc := "(II)V" } : Jvm.MethodName)) ∈ lw_all := lw_g (lw_at lw_m12 105 rfl) rfl
theorem q2839 : (Jvm.Cond.code ({ cls := "SignalWavesModel", name := "emits", desc := "(II)V" } : Jvm.MethodName) prog_19_method_16_code (4 : Nat) (Option.none : Option Jvm.ClassFile.FieldType)) ∈ lw_all := lw_g (lw_at lw_m12 106 rfl) rfl
theorem q2840 : (Jvm.Cond.methodLink "SignalWavesModel" (184 : Nat) ({ cls := "SignalWavesModel", name := "wholeTerm", desc := "()V" } : Jvm.MethodName)) ∈ lw_all := lw_g (lw_at lw_m12 107 rfl) rfl
theorem q2841 : (Jvm.Cond.privateMethod ({ cls := "SignalWavesModel", name := "wholeTerm", desc := "()V" } : Jvm.MethodName)) ∈ lw_tbl := lw_at lw_m12 108 rfl
theorem q2842 : (Jvm.Cond.instanceMethod ({ cls := "SignalWavesModel", name := "wholeTerm", desc := "()V" } : Jvm.MethodName)) ∈ lw_all := lw_g (lw_at lw_m12 109 rfl) rfl
theorem q2843 : (Jvm.Cond.code ({ cls := "SignalWavesModel", name := "wholeTerm", desc := "()V" } : Jvm.MethodName) prog_19_method_18_code (1 : Nat) (Option.none : Option Jvm.ClassFile.FieldType)) ∈ lw_all := lw_g (lw_at lw_m12 110 rfl) rfl
theorem q2844 : (Jvm.Cond.methodLink "SignalWavesModel" (187 : Nat) ({ cls := "SignalWavesModel", name := "isBetween", desc := "()Z" } : Jvm.MethodName)) ∈ lw_all := lw_g (lw_at lw_m12 111 rfl) rfl
theorem q2845 : (Jvm.Cond.privateMethod ({ cls := "SignalWavesModel", name := "isBetween", desc := "()Z" } : Jvm.MethodName)) ∈ lw_tbl := lw_at lw_m12 112 rfl
theorem q2846 : (Jvm.Cond.instanceMethod ({ cls := "SignalWavesModel", name := "isBetween", desc := "()Z" } : Jvm.MethodName)) ∈ lw_all := lw_g (lw_at lw_m12 113 rfl) rfl
theorem q2847 : (Jvm.Cond.code ({ cls := "SignalWavesModel", name := "isBetween", desc := "()Z" } : Jvm.MethodName) prog_19_method_20_code (1 : Nat) (Option.some Jvm.ClassFile.FieldType.boolean)) ∈ lw_all := lw_g (lw_at lw_m12 114 rfl) rfl
theorem q2848 : (Jvm.Cond.methodLink "SignalWavesModel" (209 : Nat) ({ cls := "SignalWavesModel", name := "takesOver", desc := "()V" } : Jvm.MethodName)) ∈ lw_all := lw_g (lw_at lw_m12 115 rfl) rfl
theorem q2849 : (Jvm.Cond.privateMethod ({ cls := "SignalWavesModel", name := "takesOver", desc := "()V" } : Jvm.MethodName)) ∈ lw_tbl := lw_at lw_m12 116 rfl
theorem q2850 : (Jvm.Cond.instanceMethod ({ cls := "SignalWavesModel", name := "takesOver", desc := "()V" } : Jvm.MethodName)) ∈ lw_all := lw_g (lw_at lw_m12 117 rfl) rfl
theorem q2851 : (Jvm.Cond.code ({ cls := "SignalWavesModel", name := "takesOver", desc := "()V" } : Jvm.MethodName) prog_19_method_25_code (2 : Nat) (Option.none : Option Jvm.ClassFile.FieldType)) ∈ lw_all := lw_g (lw_at lw_m12 118 rfl) rfl
theorem q2853 : (Jvm.Cond.instanceMethod ({ cls := "SignalWavesModel", name := "node", desc := "()I" } : Jvm.MethodName)) ∈ lw_all := lw_g (lw_at lw_m12 120 rfl) rfl
theorem q2854 : (Jvm.Cond.selects "SignalWavesModel" ({ cls := "SignalWavesModel", name := "node", desc := "()I" } : Jvm.MethodName) ({ cls := "SignalWavesModel", name := "node", desc := "()I" } : Jvm.MethodName)) ∈ lw_all := lw_g (lw_at lw_m12 121 rfl) rfl
theorem q2855 : (Jvm.Cond.code ({ cls := "SignalWavesModel", name := "node", desc := "()I" } : Jvm.MethodName) prog_19_method_29_code (6 : Nat) (Option.some Jvm.ClassFile.FieldType.int)) ∈ lw_all := lw_g (lw_at lw_m12 122 rfl) rfl
theorem q2856 : (Jvm.Cond.methodLink "SignalWavesModel" (236 : Nat) ({ cls := "SignalWavesModel", name := "nodeBy", desc := "(II)I" } : Jvm.MethodName)) ∈ lw_all := lw_g (lw_at lw_m12 123 rfl) rfl
theorem q2857 : (Jvm.Cond.privateMethod ({ cls := "SignalWavesModel", name := "nodeBy", desc := "(II)I" } : Jvm.MethodName)) ∈ lw_tbl := lw_at lw_m12 124 rfl
theorem q2858 : (Jvm.Cond.instanceMethod ({ cls := "SignalWavesModel", name := "nodeBy", desc := "(II)I" } : Jvm.MethodName)) ∈ lw_all := lw_g (lw_at lw_m12 125 rfl) rfl
theorem q2859 : (Jvm.Cond.code ({ cls := "SignalWavesModel", name := "nodeBy", desc := "(II)I" } : Jvm.MethodName) prog_19_method_27_code (5 : Nat) (Option.some Jvm.ClassFile.FieldType.int)) ∈ lw_all := lw_g (lw_at lw_m12 126 rfl) rfl
theorem q2860 : (Jvm.Cond.methodLink "SignalWavesModel" (233 : Nat) ({ cls := "SignalWavesModel", name := "of", desc := "(II)I" } : Jvm.MethodName)) ∈ lw_all := lw_g (lw_at lw_m12 127 rfl) rfl
theorem q2861 : (Jvm.Cond.privateMethod ({ cls := "SignalWavesModel", name := "of", desc := "(II)I" } : Jvm.MethodName)) ∈ lw_tbl := lw_at lw_m12 128 rfl
theorem q2862 : (Jvm.Cond.instanceMethod ({ cls := "SignalWavesModel", name := "of", desc := "(II)I" } : Jvm.MethodName)) ∈ lw_all := lw_g (lw_at lw_m12 129 rfl) rfl
theorem q2863 : (Jvm.Cond.code ({ cls := "SignalWavesModel", name := "of", desc := "(II)I" } : Jvm.MethodName) prog_19_method_31_code (3 : Nat) (Option.some Jvm.ClassFile.FieldType.int)) ∈ lw_all := lw_g (lw_at lw_m12 130 rfl) rfl
theorem q2864 : (Jvm.Cond.methodLink "SignalWavesModel" (239 : Nat) ({ cls := "SignalWavesModel", name := "scopeBy", desc := "(II)I" } : Jvm.MethodName)) ∈ lw_all := lw_g (lw_at lw_m12 131 rfl) rfl
theorem q2865 : (Jvm.Cond.privateMethod ({ cls := "SignalWavesModel", name := "scopeBy", desc := "(II)I" } : Jvm.MethodName)) ∈ lw_tbl := lw_at lw_m12 132 rfl
theorem q2866 : (Jvm.Cond.instanceMethod ({ cls := "SignalWavesModel", name := "scopeBy", desc := "(II)I" } : Jvm.MethodName)) ∈ lw_all := lw_g (lw_at lw_m12 133 rfl) rfl
theorem q2867 : (Jvm.Cond.code ({ cls := "SignalWavesModel", name := "scopeBy", desc := "(II)I" } : Jvm.MethodName) prog_19_method_28_code (5 : Nat) (Option.some Jvm.ClassFile.FieldType.int)) ∈ lw_all := lw_g (lw_at lw_m12 134 rfl) rfl
theorem q2869 : (Jvm.Cond.instanceMethod ({ cls := "SignalWavesModel", name := "about", desc := "(II)I" } : Jvm.MethodName)) ∈ lw_all := lw_g (lw_at lw_m12 136 rfl) rfl
theorem q2870 : (Jvm.Cond.selects "SignalWavesModel" ({ cls := "SignalWavesModel", name := "about", desc := "(II)I" } : Jvm.MethodName) ({ cls := "SignalWavesModel", name := "about", desc := "(II)I" } : Jvm.MethodName)) ∈ lw_all := lw_g (lw_at lw_m12 137 rfl) rfl
theorem q2871 : (Jvm.Cond.code ({ cls := "SignalWavesModel", name := "about", desc := "(II)I" } : Jvm.MethodName) prog_19_method_35_code (4 : Nat) (Option.some Jvm.ClassFile.FieldType.int)) ∈ lw_all := lw_g (lw_at lw_m12 138 rfl) rfl
theorem q2872 : (Jvm.Cond.methodLink "SignalWavesModel" (250 : Nat) ({ cls := "SignalWavesModel", name := "isNode", desc := "(I)Z" } : Jvm.MethodName)) ∈ lw_all := lw_g (lw_at lw_m12 139 rfl) rfl
theorem q2873 : (Jvm.Cond.privateMethod ({ cls := "SignalWavesModel", name := "isNode", desc := "(I)Z" } : Jvm.MethodName)) ∈ lw_tbl := lw_at lw_m12 140 rfl
theorem q2874 : (Jvm.Cond.instanceMethod ({ cls := "SignalWavesModel", name := "isNode", desc := "(I)Z" } : Jvm.MethodName)) ∈ lw_all := lw_g (lw_at lw_m12 141 rfl) rfl
theorem q2875 : (Jvm.Cond.code ({ cls := "SignalWavesModel", name := "isNode", desc := "(I)Z" } : Jvm.MethodName) prog_19_method_30_code (2 : Nat) (Option.some Jvm.ClassFile.FieldType.boolean)) ∈ lw_all := lw_g (lw_at lw_m12 142 rfl) rfl
theorem q2876 : (Jvm.Cond.methodLink "SignalWavesModel" (253 : Nat) ({ cls := "SignalWavesModel", name := "laysNodes", desc := "()V" } : Jvm.MethodName)) ∈ lw_all := lw_g (lw_at lw_m12 143 rfl) rfl
theorem q2877 : (Jvm.Cond.privateMethod ({ cls := "SignalWavesModel", name := "laysNodes", desc := "()V" } : Jvm.MethodName)) ∈ lw_tbl := lw_at lw_m12 144 rfl
theorem q2878 : (Jvm.Cond.instanceMethod ({ cls := "SignalWavesModel", name := "laysNodes", desc := "()V" } : Jvm.MethodName)) ∈ lw_all := lw_g (lw_at lw_m12 145 rfl) rfl
theorem q2879 : (Jvm.Cond.code ({ cls := "SignalWavesModel", name := "laysNodes", desc := "()V" } : Jvm.MethodName) prog_19_method_34_code (2 : Nat) (Option.none : Option Jvm.ClassFile.FieldType)) ∈ lw_all := lw_g (lw_at lw_m12 146 rfl) rfl
theorem q2880 : (Jvm.Cond.methodLink "SignalWavesModel" (246 : Nat) ({ cls := "SignalWavesModel", name := "expressed", desc := "(I)I" } : Jvm.MethodName)) ∈ lw_all := lw_g (lw_at lw_m12 147 rfl) rfl
theorem q2881 : (Jvm.Cond.privateMethod ({ cls := "SignalWavesModel", name := "expressed", desc := "(I)I" } : Jvm.MethodName)) ∈ lw_tbl := lw_at lw_m12 148 rfl
theorem q2882 : (Jvm.Cond.instanceMethod ({ cls := "SignalWavesModel", name := "expressed", desc := "(I)I" } : Jvm.MethodName)) ∈ lw_all := lw_g (lw_at lw_m12 149 rfl) rfl
theorem q2883 : (Jvm.Cond.code ({ cls := "SignalWavesModel", name := "expressed", desc := "(I)I" } : Jvm.MethodName) prog_19_method_33_code (7 : Nat) (Option.some Jvm.ClassFile.FieldType.int)) ∈ lw_all := lw_g (lw_at lw_m12 150 rfl) rfl
theorem q2884 : (Jvm.Cond.methodLink "SignalWavesModel" (242 : Nat) ({ cls := "SignalWavesModel", name := "worked", desc := "(III)I" } : Jvm.MethodName)) ∈ lw_all := lw_g (lw_at lw_m12 151 rfl) rfl
theorem q2885 : (Jvm.Cond.static ({ cls := "SignalWavesModel", name := "worked", desc := "(III)I" } : Jvm.MethodName)) ∈ lw_all := lw_g (lw_at lw_m12 152 rfl) rfl
theorem q2886 : (Jvm.Cond.code ({ cls := "SignalWavesModel", name := "worked", desc := "(III)I" } : Jvm.MethodName) prog_19_method_32_code (3 : Nat) (Option.some Jvm.ClassFile.FieldType.int)) ∈ lw_all := lw_g (lw_at lw_m12 153 rfl) rfl
theorem q2888 : (Jvm.Cond.instanceMethod ({ cls := "SignalWavesModel", name := "scope", desc := "(II)I" } : Jvm.MethodName)) ∈ lw_all := lw_g (lw_at lw_m12 155 rfl) rfl
theorem q2889 : (Jvm.Cond.selects "SignalWavesModel" ({ cls := "SignalWavesModel", name := "scope", desc := "(II)I" } : Jvm.MethodName) ({ cls := "SignalWavesModel", name := "scope", desc := "(II)I" } : Jvm.MethodName)) ∈ lw_all := lw_g (lw_at lw_m12 156 rfl) rfl
theorem q2890 : (Jvm.Cond.code ({ cls := "SignalWavesModel", name := "scope", desc := "(II)I" } : Jvm.MethodName) prog_19_method_36_code (3 : Nat) (Option.some Jvm.ClassFile.FieldType.int)) ∈ lw_all := lw_g (lw_at lw_m12 157 rfl) rfl
theorem q2892 : (Jvm.Cond.instanceMethod ({ cls := "SignalWavesModel", name := "listed", desc := "(II)I" } : Jvm.MethodName)) ∈ lw_all := lw_g (lw_at lw_m12 159 rfl) rfl
theorem q2893 : (Jvm.Cond.selects "SignalWavesModel" ({ cls := "SignalWavesModel", name := "listed", desc := "(II)I" } : Jvm.MethodName) ({ cls := "SignalWavesModel", name := "listed", desc := "(II)I" } : Jvm.MethodName)) ∈ lw_all := lw_g (lw_at lw_m12 160 rfl) rfl
theorem q2894 : (Jvm.Cond.code ({ cls := "SignalWavesModel", name := "listed", desc := "(II)I" } : Jvm.MethodName) prog_19_method_37_code (8 : Nat) (Option.some Jvm.ClassFile.FieldType.int)) ∈ lw_all := lw_g (lw_at lw_m12 161 rfl) rfl
theorem q2896 : (Jvm.Cond.instanceMethod ({ cls := "SignalWavesModel", name := "path", desc := "(II)I" } : Jvm.MethodName)) ∈ lw_all := lw_g (lw_at lw_m12 163 rfl) rfl
theorem q2897 : (Jvm.Cond.selects "SignalWavesModel" ({ cls := "SignalWavesModel", name := "path", desc := "(II)I" } : Jvm.MethodName) ({ cls := "SignalWavesModel", name := "path", desc := "(II)I" } : Jvm.MethodName)) ∈ lw_all := lw_g (lw_at lw_m12 164 rfl) rfl
theorem q2898 : (Jvm.Cond.code ({ cls := "SignalWavesModel", name := "path", desc := "(II)I" } : Jvm.MethodName) prog_19_method_38_code (7 : Nat) (Option.some Jvm.ClassFile.FieldType.int)) ∈ lw_all := lw_g (lw_at lw_m12 165 rfl) rfl
theorem q2900 : (Jvm.Cond.instanceMethod ({ cls := "SignalWavesModel", name := "sets", desc := "(II)I" } : Jvm.MethodName)) ∈ lw_all := lw_g (lw_at lw_m12 167 rfl) rfl
theorem q2901 : (Jvm.Cond.selects "SignalWavesModel" ({ cls := "SignalWavesModel", name := "sets", desc := "(II)I" } : Jvm.MethodName) ({ cls := "SignalWavesModel", name := "sets", desc := "(II)I" } : Jvm.MethodName)) ∈ lw_all := lw_g (lw_at lw_m12 168 rfl) rfl
theorem q2902 : (Jvm.Cond.code ({ cls := "SignalWavesModel", name := "sets", desc := "(II)I" } : Jvm.MethodName) prog_19_method_43_code (6 : Nat) (Option.some Jvm.ClassFile.FieldType.int)) ∈ lw_all := lw_g (lw_at lw_m12 169 rfl) rfl
theorem q2903 : (Jvm.Cond.methodLink "SignalWavesModel" (259 : Nat) ({ cls := "SignalWavesModel", name := "isWire", desc := "(I)Z" } : Jvm.MethodName)) ∈ lw_all := lw_g (lw_at lw_m12 170 rfl) rfl
theorem q2904 : (Jvm.Cond.privateMethod ({ cls := "SignalWavesModel", name := "isWire", desc := "(I)Z" } : Jvm.MethodName)) ∈ lw_tbl := lw_at lw_m12 171 rfl
theorem q2905 : (Jvm.Cond.instanceMethod ({ cls := "SignalWavesModel", name := "isWire", desc := "(I)Z" } : Jvm.MethodName)) ∈ lw_all := lw_g (lw_at lw_m12 172 rfl) rfl
theorem q2906 : (Jvm.Cond.code ({ cls := "SignalWavesModel", name := "isWire", desc := "(I)Z" } : Jvm.MethodName) prog_19_method_42_code (2 : Nat) (Option.some Jvm.ClassFile.FieldType.boolean)) ∈ lw_all := lw_g (lw_at lw_m12 173 rfl) rfl
theorem q2907 : (Jvm.Cond.methodLink "SignalWavesModel" (262 : Nat) ({ cls := "SignalWavesModel", name := "notes", desc := "()V" } : Jvm.MethodName)) ∈ lw_all := lw_g (lw_at lw_m12 174 rfl) rfl
theorem q2908 : (Jvm.Cond.privateMethod ({ cls := "SignalWavesModel", name := "notes", desc := "()V" } : Jvm.MethodName)) ∈ lw_tbl := lw_at lw_m12 175 rfl
theorem q2909 : (Jvm.Cond.instanceMethod ({ cls := "SignalWavesModel", name := "notes", desc := "()V" } : Jvm.MethodName)) ∈ lw_all := lw_g (lw_at lw_m12 176 rfl) rfl
theorem q2910 : (Jvm.Cond.code ({ cls := "SignalWavesModel", name := "notes", desc := "()V" } : Jvm.MethodName) prog_19_method_41_code (2 : Nat) (Option.none : Option Jvm.ClassFile.FieldType)) ∈ lw_all := lw_g (lw_at lw_m12 177 rfl) rfl
theorem q2912 : (Jvm.Cond.instanceMethod ({ cls := "SignalWavesModel", name := "passes", desc := "(I)I" } : Jvm.MethodName)) ∈ lw_all := lw_g (lw_at lw_m12 179 rfl) rfl
theorem q2913 : (Jvm.Cond.selects "SignalWavesModel" ({ cls := "SignalWavesModel", name := "passes", desc := "(I)I" } : Jvm.MethodName) ({ cls := "SignalWavesModel", name := "passes", desc := "(I)I" } : Jvm.MethodName)) ∈ lw_all := lw_g (lw_at lw_m12 180 rfl) rfl
theorem q2914 : (Jvm.Cond.code ({ cls := "SignalWavesModel", name := "passes", desc := "(I)I" } : Jvm.MethodName) prog_19_method_44_code (2 : Nat) (Option.some Jvm.ClassFile.FieldType.int)) ∈ lw_all := lw_g (lw_at lw_m12 181 rfl) rfl
theorem q2916 : (Jvm.Cond.instanceMethod ({ cls := "SignalWavesModel", name := "dumps", desc := "(I)I" } : Jvm.MethodName)) ∈ lw_all := lw_g (lw_at lw_m12 183 rfl) rfl
theorem q2917 : (Jvm.Cond.selects "SignalWavesModel" ({ cls := "SignalWavesModel", name := "dumps", desc := "(I)I" } : Jvm.MethodName) ({ cls := "SignalWavesModel", name := "dumps", desc := "(I)I" } : Jvm.MethodName)) ∈ lw_all := lw_g (lw_at lw_m12 184 rfl) rfl
theorem q2918 : (Jvm.Cond.code ({ cls := "SignalWavesModel", name := "dumps", desc := "(I)I" } : Jvm.MethodName) prog_19_method_45_code (2 : Nat) (Option.some Jvm.ClassFile.FieldType.int)) ∈ lw_all := lw_g (lw_at lw_m12 185 rfl) rfl
theorem q2920 : (Jvm.Cond.instanceMethod ({ cls := "SignalWavesModel", name := "sizes", desc := "(I)I" } : Jvm.MethodName)) ∈ lw_all := lw_g (lw_at lw_m12 187 rfl) rfl
theorem q2921 : (Jvm.Cond.selects "SignalWavesModel" ({ cls := "SignalWavesModel", name := "sizes", desc := "(I)I" } : Jvm.MethodName) ({ cls := "SignalWavesModel", name := "sizes", desc := "(I)I" } : Jvm.MethodName)) ∈ lw_all := lw_g (lw_at lw_m12 188 rfl) rfl
theorem q2922 : (Jvm.Cond.code ({ cls := "SignalWavesModel", name := "sizes", desc := "(I)I" } : Jvm.MethodName) prog_19_method_46_code (3 : Nat) (Option.some Jvm.ClassFile.FieldType.int)) ∈ lw_all := lw_g (lw_at lw_m12 189 rfl) rfl
theorem q2924 : (Jvm.Cond.instanceMethod ({ cls := "SignalWavesModel", name := "undo", desc := "()I" } : Jvm.MethodName)) ∈ lw_all := lw_g (lw_at lw_m12 191 rfl) rfl
theorem q2925 : (Jvm.Cond.selects "SignalWavesModel" ({ cls := "SignalWavesModel", name := "undo", desc := "()I" } : Jvm.MethodName) ({ cls := "SignalWavesModel", name := "undo", desc := "()I" } : Jvm.MethodName)) ∈ lw_all := lw_g (lw_at lw_m12 192 rfl) rfl
theorem q2926 : (Jvm.Cond.code ({ cls := "SignalWavesModel", name := "undo", desc := "()I" } : Jvm.MethodName) prog_19_method_47_code (2 : Nat) (Option.some Jvm.ClassFile.FieldType.int)) ∈ lw_all := lw_g (lw_at lw_m12 193 rfl) rfl
theorem q2928 : (Jvm.Cond.instanceMethod ({ cls := "SignalWavesModel", name := "at", desc := "(II)I" } : Jvm.MethodName)) ∈ lw_all := lw_g (lw_at lw_m12 195 rfl) rfl
theorem q2929 : (Jvm.Cond.selects "SignalWavesModel" ({ cls := "SignalWavesModel", name := "at", desc := "(II)I" } : Jvm.MethodName) ({ cls := "SignalWavesModel", name := "at", desc := "(II)I" } : Jvm.MethodName)) ∈ lw_all := lw_g (lw_at lw_m12 196 rfl) rfl
theorem q2930 : (Jvm.Cond.code ({ cls := "SignalWavesModel", name := "at", desc := "(II)I" } : Jvm.MethodName) prog_19_method_51_code (3 : Nat) (Option.some Jvm.ClassFile.FieldType.int)) ∈ lw_all := lw_g (lw_at lw_m12 197 rfl) rfl
theorem q2931 : (Jvm.Cond.methodLink "SignalWavesModel" (268 : Nat) ({ cls := "SignalWavesModel", name := "isTime", desc := "(I)Z" } : Jvm.MethodName)) ∈ lw_all := lw_g (lw_at lw_m12 198 rfl) rfl
theorem q2932 : (Jvm.Cond.privateMethod ({ cls := "SignalWavesModel", name := "isTime", desc := "(I)Z" } : Jvm.MethodName)) ∈ lw_tbl := lw_at lw_m12 199 rfl
theorem q2933 : (Jvm.Cond.instanceMethod ({ cls := "SignalWavesModel", name := "isTime", desc := "(I)Z" } : Jvm.MethodName)) ∈ lw_all := lw_g (lw_at lw_m12 200 rfl) rfl
theorem q2934 : (Jvm.Cond.code ({ cls := "SignalWavesModel", name := "isTime", desc := "(I)Z" } : Jvm.MethodName) prog_19_method_48_code (2 : Nat) (Option.some Jvm.ClassFile.FieldType.boolean)) ∈ lw_all := lw_g (lw_at lw_m12 201 rfl) rfl
theorem q2935 : (Jvm.Cond.methodLink "SignalWavesModel" (271 : Nat) ({ cls := "SignalWavesModel", name := "laysAt", desc := "(I)V" } : Jvm.MethodName)) ∈ lw_all := lw_g (lw_at lw_m12 202 rfl) rfl
theorem q2936 : (Jvm.Cond.privateMethod ({ cls := "SignalWavesModel", name := "laysAt", desc := "(I)V" } : Jvm.MethodName)) ∈ lw_tbl := lw_at lw_m12 203 rfl
theorem q2937 : (Jvm.Cond.instanceMethod ({ cls := "SignalWavesModel", name := "laysAt", desc := "(I)V" } : Jvm.MethodName)) ∈ lw_all := lw_g (lw_at lw_m12 204 rfl) rfl
theorem q2938 : (Jvm.Cond.code ({ cls := "SignalWavesModel", name := "laysAt", desc := "(I)V" } : Jvm.MethodName) prog_19_method_50_code (5 : Nat) (Option.none : Option Jvm.ClassFile.FieldType)) ∈ lw_all := lw_g (lw_at lw_m12 205 rfl) rfl
theorem q2939 : (Jvm.Cond.methodLink "SignalWavesModel" (265 : Nat) ({ cls := "SignalWavesModel", name := "blockAt", desc := "(I)I" } : Jvm.MethodName)) ∈ lw_all := lw_g (lw_at lw_m12 206 rfl) rfl
theorem q2940 : (Jvm.Cond.privateMethod ({ cls := "SignalWavesModel", name := "blockAt", desc := "(I)I" } : Jvm.MethodName)) ∈ lw_tbl := lw_at lw_m12 207 rfl
theorem q2941 : (Jvm.Cond.instanceMethod ({ cls := "SignalWavesModel", name := "blockAt", desc := "(I)I" } : Jvm.MethodName)) ∈ lw_all := lw_g (lw_at lw_m12 208 rfl) rfl
theorem q2942 : (Jvm.Cond.code ({ cls := "SignalWavesModel", name := "blockAt", desc := "(I)I" } : Jvm.MethodName) prog_19_method_49_code (4 : Nat) (Option.some Jvm.ClassFile.FieldType.int)) ∈ lw_all := lw_g (lw_at lw_m12 209 rfl) rfl
theorem q2944 : (Jvm.Cond.instanceMethod ({ cls := "SignalWavesModel", name := "edges", desc := "(IIII)I" } : Jvm.MethodName)) ∈ lw_all := lw_g (lw_at lw_m12 211 rfl) rfl
theorem q2945 : (Jvm.Cond.selects "SignalWavesModel" ({ cls := "SignalWavesModel", name := "edges", desc := "(IIII)I" } : Jvm.MethodName) ({ cls := "SignalWavesModel", name := "edges", desc := "(IIII)I" } : Jvm.MethodName)) ∈ lw_all := lw_g (lw_at lw_m12 212 rfl) rfl
theorem q2946 : (Jvm.Cond.code ({ cls := "SignalWavesModel", name := "edges", desc := "(IIII)I" } : Jvm.MethodName) prog_19_method_56_code (7 : Nat) (Option.some Jvm.ClassFile.FieldType.int)) ∈ lw_all := lw_g (lw_at lw_m12 213 rfl) rfl
theorem q2947 : (Jvm.Cond.methodLink "SignalWavesModel" (277 : Nat) ({ cls := "SignalWavesModel", name := "isKind", desc := "(I)Z" } : Jvm.MethodName)) ∈ lw_all := lw_g (lw_at lw_m12 214 rfl) rfl
theorem q2948 : (Jvm.Cond.static ({ cls := "SignalWavesModel", name := "isKind", desc := "(I)Z" } : Jvm.MethodName)) ∈ lw_all := lw_g (lw_at lw_m12 215 rfl) rfl
theorem q2949 : (Jvm.Cond.code ({ cls := "SignalWavesModel", name := "isKind", desc := "(I)Z" } : Jvm.MethodName) prog_19_method_55_code (1 : Nat) (Option.some Jvm.ClassFile.FieldType.boolean)) ∈ lw_all := lw_g (lw_at lw_m12 216 rfl) rfl
theorem q2950 : (Jvm.Cond.methodLink "SignalWavesModel" (280 : Nat) ({ cls := "SignalWavesModel", name := "laysLine", desc := "(I)V" } : Jvm.MethodName)) ∈ lw_all := lw_g (lw_at lw_m12 217 rfl) rfl
theorem q2951 : (Jvm.Cond.privateMethod ({ cls := "SignalWavesModel", name := "laysLine", desc := "(I)V" } : Jvm.MethodName)) ∈ lw_tbl := lw_at lw_m12 218 rfl
theorem q2952 : (Jvm.Cond.instanceMethod ({ cls := "SignalWavesModel", name := "laysLine", desc := "(I)V" } : Jvm.MethodName)) ∈ lw_all := lw_g (lw_at lw_m12 219 rfl) rfl
theorem q2953 : (Jvm.Cond.code ({ cls := "SignalWavesModel", name := "laysLine", desc := "(I)V" } : Jvm.MethodName) prog_19_method_53_code (3 : Nat) (Option.none : Option Jvm.ClassFile.FieldType)) ∈ lw_all := lw_g (lw_at lw_m12 220 rfl) rfl
theorem q2954 : (Jvm.Cond.methodLink "SignalWavesModel" (274 : Nat) ({ cls := "SignalWavesModel", name := "laysTurns", desc := "()V" } : Jvm.MethodName)) ∈ lw_all := lw_g (lw_at lw_m12 221 rfl) rfl
theorem q2955 : (Jvm.Cond.privateMethod ({ cls := "SignalWavesModel", name := "laysTurns", desc := "()V" } : Jvm.MethodName)) ∈ lw_tbl := lw_at lw_m12 222 rfl
theorem q2956 : (Jvm.Cond.instanceMethod ({ cls := "SignalWavesModel", name := "laysTurns", desc := "()V" } : Jvm.MethodName)) ∈ lw_all := lw_g (lw_at lw_m12 223 rfl) rfl
theorem q2957 : (Jvm.Cond.code ({ cls := "SignalWavesModel", name := "laysTurns", desc := "()V" } : Jvm.MethodName) prog_19_method_52_code (4 : Nat) (Option.none : Option Jvm.ClassFile.FieldType)) ∈ lw_all := lw_g (lw_at lw_m12 224 rfl) rfl
theorem q2958 : (Jvm.Cond.methodLink "SignalWavesModel" (283 : Nat) ({ cls := "SignalWavesModel", name := "isEdge", desc := "(II)Z" } : Jvm.MethodName)) ∈ lw_all := lw_g (lw_at lw_m12 225 rfl) rfl
theorem q2959 : (Jvm.Cond.privateMethod ({ cls := "SignalWavesModel", name := "isEdge", desc := "(II)Z" } : Jvm.MethodName)) ∈ lw_tbl := lw_at lw_m12 226 rfl
theorem q2960 : (Jvm.Cond.instanceMethod ({ cls := "SignalWavesModel", name := "isEdge", desc := "(II)Z" } : Jvm.MethodName)) ∈ lw_all := lw_g (lw_at lw_m12 227 rfl) rfl
theorem q2961 : (Jvm.Cond.code ({ cls := "SignalWavesModel", name := "isEdge", desc := "(II)Z" } : Jvm.MethodName) prog_19_method_54_code (3 : Nat) (Option.some Jvm.ClassFile.FieldType.boolean)) ∈ lw_all := lw_g (lw_at lw_m12 228 rfl) rfl
theorem q2963 : (Jvm.Cond.instanceMethod ({ cls := "SignalWavesModel", name := "next", desc := "(III)I" } : Jvm.MethodName)) ∈ lw_all := lw_g (lw_at lw_m12 230 rfl) rfl
theorem q2964 : (Jvm.Cond.selects "SignalWavesModel" ({ cls := "SignalWavesModel", name := "next", desc := "(III)I" } : Jvm.MethodName) ({ cls := "SignalWavesModel", name := "next", desc := "(III)I" } : Jvm.MethodName)) ∈ lw_all := lw_g (lw_at lw_m12 231 rfl) rfl
theorem q2965 : (Jvm.Cond.code ({ cls := "SignalWavesModel", name := "next", desc := "(III)I" } : Jvm.MethodName) prog_19_method_57_code (5 : Nat) (Option.some Jvm.ClassFile.FieldType.int)) ∈ lw_all := lw_g (lw_at lw_m12 232 rfl) rfl
theorem q2967 : (Jvm.Cond.instanceMethod ({ cls := "SignalWavesModel", name := "previous", desc := "(III)I" } : Jvm.MethodName)) ∈ lw_all := lw_g (lw_at lw_m12 234 rfl) rfl
theorem q2968 : (Jvm.Cond.selects "SignalWavesModel" ({ cls := "SignalWavesModel", name := "previous", desc := "(III)I" } : Jvm.MethodName) ({ cls := "SignalWavesModel", name := "previous", desc := "(III)I" } : Jvm.MethodName)) ∈ lw_all := lw_g (lw_at lw_m12 235 rfl) rfl
theorem q2969 : (Jvm.Cond.code ({ cls := "SignalWavesModel", name := "previous", desc := "(III)I" } : Jvm.MethodName) prog_19_method_58_code (5 : Nat) (Option.some Jvm.ClassFile.FieldType.int)) ∈ lw_all := lw_g (lw_at lw_m12 236 rfl) rfl
theorem q2971 : (Jvm.Cond.instanceMethod ({ cls := "SignalWavesModel", name := "first", desc := "(III)I" } : Jvm.MethodName)) ∈ lw_all := lw_g (lw_at lw_m12 238 rfl) rfl
theorem q2972 : (Jvm.Cond.selects "SignalWavesModel" ({ cls := "SignalWavesModel", name := "first", desc := "(III)I" } : Jvm.MethodName) ({ cls := "SignalWavesModel", name := "first", desc := "(III)I" } : Jvm.MethodName)) ∈ lw_all := lw_g (lw_at lw_m12 239 rfl) rfl
theorem q2973 : (Jvm.Cond.code ({ cls := "SignalWavesModel", name := "first", desc := "(III)I" } : Jvm.MethodName) prog_19_method_59_code (5 : Nat) (Option.some Jvm.ClassFile.FieldType.int)) ∈ lw_all := lw_g (lw_at lw_m13 0 rfl) rfl
theorem q2975 : (Jvm.Cond.instanceMethod ({ cls := "SignalWavesModel", name := "holds", desc := "(III)I" } : Jvm.MethodName)) ∈ lw_all := lw_g (lw_at lw_m13 2 rfl) rfl
theorem q2976 : (Jvm.Cond.selects "SignalWavesModel" ({ cls := "SignalWavesModel", name := "holds", desc := "(III)I" } : Jvm.MethodName) ({ cls := "SignalWavesModel", name := "holds", desc := "(III)I" } : Jvm.MethodName)) ∈ lw_all := lw_g (lw_at lw_m13 3 rfl) rfl
theorem q2977 : (Jvm.Cond.code ({ cls := "SignalWavesModel", name := "holds", desc := "(III)I" } : Jvm.MethodName) prog_19_method_60_code (6 : Nat) (Option.some Jvm.ClassFile.FieldType.int)) ∈ lw_all := lw_g (lw_at lw_m13 4 rfl) rfl
theorem q2979 : (Jvm.Cond.instanceMethod ({ cls := "SignalWavesModel", name := "ticks", desc := "(II)I" } : Jvm.MethodName)) ∈ lw_all := lw_g (lw_at lw_m13 6 rfl) rfl
theorem q2980 : (Jvm.Cond.selects "SignalWavesModel" ({ cls := "SignalWavesModel", name := "ticks", desc := "(II)I" } : Jvm.MethodName) ({ cls := "SignalWavesModel", name := "ticks", desc := "(II)I" } : Jvm.MethodName)) ∈ lw_all := lw_g (lw_at lw_m13 7 rfl) rfl
theorem q2981 : (Jvm.Cond.code ({ cls := "SignalWavesModel", name := "ticks", desc := "(II)I" } : Jvm.MethodName) prog_19_method_62_code (6 : Nat) (Option.some Jvm.ClassFile.FieldType.int)) ∈ lw_all := lw_g (lw_at lw_m13 8 rfl) rfl
theorem q2982 : (Jvm.Cond.methodLink "SignalWavesModel" (287 : Nat) ({ cls := "SignalWavesModel", name := "isTick", desc := "(I)Z" } : Jvm.MethodName)) ∈ lw_all := lw_g (lw_at lw_m13 9 rfl) rfl
theorem q2983 : (Jvm.Cond.privateMethod ({ cls := "SignalWavesModel", name := "isTick", desc := "(I)Z" } : Jvm.MethodName)) ∈ lw_tbl := lw_at lw_m13 10 rfl
theorem q2984 : (Jvm.Cond.instanceMethod ({ cls := "SignalWavesModel", name := "isTick", desc := "(I)Z" } : Jvm.MethodName)) ∈ lw_all := lw_g (lw_at lw_m13 11 rfl) rfl
theorem q2985 : (Jvm.Cond.code ({ cls := "SignalWavesModel", name := "isTick", desc := "(I)Z" } : Jvm.MethodName) prog_19_method_61_code (4 : Nat) (Option.some Jvm.ClassFile.FieldType.boolean)) ∈ lw_all := lw_g (lw_at lw_m13 12 rfl) rfl
theorem q2987 : (Jvm.Cond.instanceMethod ({ cls := "SignalWavesModel", name := "delay", desc := "(II)I" } : Jvm.MethodName)) ∈ lw_all := lw_g (lw_at lw_m13 14 rfl) rfl
theorem q2988 : (Jvm.Cond.selects "SignalWavesModel" ({ cls := "SignalWavesModel", name := "delay", desc := "(II)I" } : Jvm.MethodName) ({ cls := "SignalWavesModel", name := "delay", desc := "(II)I" } : Jvm.MethodName)) ∈ lw_all := lw_g (lw_at lw_m13 15 rfl) rfl
theorem q2989 : (Jvm.Cond.code ({ cls := "SignalWavesModel", name := "delay", desc := "(II)I" } : Jvm.MethodName) prog_19_method_63_code (7 : Nat) (Option.some Jvm.ClassFile.FieldType.int)) ∈ lw_all := lw_g (lw_at lw_m13 16 rfl) rfl
theorem q2991 : (Jvm.Cond.instanceMethod ({ cls := "SignalWavesModel", name := "jump", desc := "(I)I" } : Jvm.MethodName)) ∈ lw_all := lw_g (lw_at lw_m13 18 rfl) rfl
theorem q2992 : (Jvm.Cond.selects "SignalWavesModel" ({ cls := "SignalWavesModel", name := "jump", desc := "(I)I" } : Jvm.MethodName) ({ cls := "SignalWavesModel", name := "jump", desc := "(I)I" } : Jvm.MethodName)) ∈ lw_all := lw_g (lw_at lw_m13 19 rfl) rfl
theorem q2993 : (Jvm.Cond.code ({ cls := "SignalWavesModel", name := "jump", desc := "(I)I" } : Jvm.MethodName) prog_19_method_64_code (2 : Nat) (Option.some Jvm.ClassFile.FieldType.int)) ∈ lw_all := lw_g (lw_at lw_m13 20 rfl) rfl
theorem q2995 : (Jvm.Cond.instanceMethod ({ cls := "SignalWavesModel", name := "block", desc := "(II)I" } : Jvm.MethodName)) ∈ lw_all := lw_g (lw_at lw_m13 22 rfl) rfl
theorem q2996 : (Jvm.Cond.selects "SignalWavesModel" ({ cls := "SignalWavesModel", name := "block", desc := "(II)I" } : Jvm.MethodName) ({ cls := "SignalWavesModel", name := "block", desc := "(II)I" } : Jvm.MethodName)) ∈ lw_all := lw_g (lw_at lw_m13 23 rfl) rfl
theorem q2997 : (Jvm.Cond.code ({ cls := "SignalWavesModel", name := "block", desc := "(II)I" } : Jvm.MethodName) prog_19_method_70_code (4 : Nat) (Option.some Jvm.ClassFile.FieldType.int)) ∈ lw_all := lw_g (lw_at lw_m13 24 rfl) rfl
theorem q2998 : (Jvm.Cond.methodLink "SignalWavesModel" (305 : Nat) ({ cls := "SignalWavesModel", name := "isBlock", desc := "(I)Z" } : Jvm.MethodName)) ∈ lw_all := lw_g (lw_at lw_m13 25 rfl) rfl
theorem q2999 : (Jvm.Cond.privateMethod ({ cls := "SignalWavesModel", name := "isBlock", desc := "(I)Z" } : Jvm.MethodName)) ∈ lw_tbl := lw_at lw_m13 26 rfl
theorem q3000 : (Jvm.Cond.instanceMethod ({ cls := "SignalWavesModel", name := "isBlock", desc := "(I)Z" } : Jvm.MethodName)) ∈ lw_all := lw_g (lw_at lw_m13 27 rfl) rfl
theorem q3001 : (Jvm.Cond.code ({ cls := "SignalWavesModel", name := "isBlock", desc := "(I)Z" } : Jvm.MethodName) prog_19_method_65_code (2 : Nat) (Option.some Jvm.ClassFile.FieldType.boolean)) ∈ lw_all := lw_g (lw_at lw_m13 28 rfl) rfl
theorem q3002 : (Jvm.Cond.methodLink "SignalWavesModel" (308 : Nat) ({ cls := "SignalWavesModel", name := "roomOfBlock", desc := "(I)I" } : Jvm.MethodName)) ∈ lw_all := lw_g (lw_at lw_m13 29 rfl) rfl
theorem q3003 : (Jvm.Cond.privateMethod ({ cls := "SignalWavesModel", name := "roomOfBlock", desc := "(I)I" } : Jvm.MethodName)) ∈ lw_tbl := lw_at lw_m13 30 rfl
theorem q3004 : (Jvm.Cond.instanceMethod ({ cls := "SignalWavesModel", name := "roomOfBlock", desc := "(I)I" } : Jvm.MethodName)) ∈ lw_all := lw_g (lw_at lw_m13 31 rfl) rfl
theorem q3005 : (Jvm.Cond.code ({ cls := "SignalWavesModel", name := "roomOfBlock", desc := "(I)I" } : Jvm.MethodName) prog_19_method_69_code (2 : Nat) (Option.some Jvm.ClassFile.FieldType.int)) ∈ lw_all := lw_g (lw_at lw_m13 32 rfl) rfl
theorem q3006 : (Jvm.Cond.methodLink "SignalWavesModel" (299 : Nat) ({ cls := "SignalWavesModel", name := "addsRow", desc := "(I)V" } : Jvm.MethodName)) ∈ lw_all := lw_g (lw_at lw_m13 33 rfl) rfl
theorem q3007 : (Jvm.Cond.privateMethod ({ cls := "SignalWavesModel", name := "addsRow", desc := "(I)V" } : Jvm.MethodName)) ∈ lw_tbl := lw_at lw_m13 34 rfl
theorem q3008 : (Jvm.Cond.instanceMethod ({ cls := "SignalWavesModel", name := "addsRow", desc := "(I)V" } : Jvm.MethodName)) ∈ lw_all := lw_g (lw_at lw_m13 35 rfl) rfl
theorem q3009 : (Jvm.Cond.code ({ cls := "SignalWavesModel", name := "addsRow", desc := "(I)V" } : Jvm.MethodName) prog_19_method_66_code (3 : Nat) (Option.none : Option Jvm.ClassFile.FieldType)) ∈ lw_all := lw_g (lw_at lw_m13 36 rfl) rfl
theorem q3010 : (Jvm.Cond.methodLink "SignalWavesModel" (302 : Nat) ({ cls := "SignalWavesModel", name := "roomOf", desc := "(III)I" } : Jvm.MethodName)) ∈ lw_all := lw_g (lw_at lw_m13 37 rfl) rfl
theorem q3011 : (Jvm.Cond.privateMethod ({ cls := "SignalWavesModel", name := "roomOf", desc := "(III)I" } : Jvm.MethodName)) ∈ lw_tbl := lw_at lw_m13 38 rfl
theorem q3012 : (Jvm.Cond.instanceMethod ({ cls := "SignalWavesModel", name := "roomOf", desc := "(III)I" } : Jvm.MethodName)) ∈ lw_all := lw_g (lw_at lw_m13 39 rfl) rfl
theorem q3013 : (Jvm.Cond.code ({ cls := "SignalWavesModel", name := "roomOf", desc := "(III)I" } : Jvm.MethodName) prog_19_method_68_code (8 : Nat) (Option.some Jvm.ClassFile.FieldType.int)) ∈ lw_all := lw_g (lw_at lw_m13 40 rfl) rfl
theorem q3014 : (Jvm.Cond.methodLink "SignalWavesModel" (296 : Nat) ({ cls := "SignalWavesModel", name := "placeOf", desc := "(I)I" } : Jvm.MethodName)) ∈ lw_all := lw_g (lw_at lw_m13 41 rfl) rfl
theorem q3015 : (Jvm.Cond.privateMethod ({ cls := "SignalWavesModel", name := "placeOf", desc := "(I)I" } : Jvm.MethodName)) ∈ lw_tbl := lw_at lw_m13 42 rfl
theorem q3016 : (Jvm.Cond.instanceMethod ({ cls := "SignalWavesModel", name := "placeOf", desc := "(I)I" } : Jvm.MethodName)) ∈ lw_all := lw_g (lw_at lw_m13 43 rfl) rfl
theorem q3017 : (Jvm.Cond.code ({ cls := "SignalWavesModel", name := "placeOf", desc := "(I)I" } : Jvm.MethodName) prog_19_method_67_code (3 : Nat) (Option.some Jvm.ClassFile.FieldType.int)) ∈ lw_all := lw_g (lw_at lw_m13 44 rfl) rfl
theorem q3019 : (Jvm.Cond.instanceMethod ({ cls := "SignalWavesModel", name := "frame", desc := "(II)I" } : Jvm.MethodName)) ∈ lw_all := lw_g (lw_at lw_m13 46 rfl) rfl
theorem q3020 : (Jvm.Cond.selects "SignalWavesModel" ({ cls := "SignalWavesModel", name := "frame", desc := "(II)I" } : Jvm.MethodName) ({ cls := "SignalWavesModel", name := "frame", desc := "(II)I" } : Jvm.MethodName)) ∈ lw_all := lw_g (lw_at lw_m13 47 rfl) rfl
theorem q3021 : (Jvm.Cond.code ({ cls := "SignalWavesModel", name := "frame", desc := "(II)I" } : Jvm.MethodName) prog_19_method_71_code (3 : Nat) (Option.some Jvm.ClassFile.FieldType.int)) ∈ lw_all := lw_g (lw_at lw_m13 48 rfl) rfl
theorem q3023 : (Jvm.Cond.instanceMethod ({ cls := "SignalWavesModel", name := "change", desc := "(III)I" } : Jvm.MethodName)) ∈ lw_all := lw_g (lw_at lw_m13 50 rfl) rfl
theorem q3024 : (Jvm.Cond.selects "SignalWavesModel" ({ cls := "SignalWavesModel", name := "change", desc := "(III)I" } : Jvm.MethodName) ({ cls := "SignalWavesModel", name := "change", desc := "(III)I" } : Jvm.MethodName)) ∈ lw_all := lw_g (lw_at lw_m13 51 rfl) rfl
theorem q3025 : (Jvm.Cond.code ({ cls := "SignalWavesModel", name := "change", desc := "(III)I" } : Jvm.MethodName) prog_19_method_73_code (5 : Nat) (Option.some Jvm.ClassFile.FieldType.int)) ∈ lw_all := lw_g (lw_at lw_m13 52 rfl) rfl
theorem q3026 : (Jvm.Cond.methodLink "SignalWavesModel" (311 : Nat) ({ cls := "SignalWavesModel", name := "nodeOfWire", desc := "(I)I" } : Jvm.MethodName)) ∈ lw_all := lw_g (lw_at lw_m13 53 rfl) rfl
theorem q3027 : (Jvm.Cond.privateMethod ({ cls := "SignalWavesModel", name := "nodeOfWire", desc := "(I)I" } : Jvm.MethodName)) ∈ lw_tbl := lw_at lw_m13 54 rfl
theorem q3028 : (Jvm.Cond.instanceMethod ({ cls := "SignalWavesModel", name := "nodeOfWire", desc := "(I)I" } : Jvm.MethodName)) ∈ lw_all := lw_g (lw_at lw_m13 55 rfl) rfl
theorem q3029 : (Jvm.Cond.code ({ cls := "SignalWavesModel", name := "nodeOfWire", desc := "(I)I" } : Jvm.MethodName) prog_19_method_72_code (4 : Nat) (Option.some Jvm.ClassFile.FieldType.int)) ∈ lw_all := lw_g (lw_at lw_m13 56 rfl) rfl
theorem q3031 : (Jvm.Cond.instanceMethod ({ cls := "SignalWavesModel", name := "packed", desc := "(I)I" } : Jvm.MethodName)) ∈ lw_all := lw_g (lw_at lw_m13 58 rfl) rfl
theorem q3032 : (Jvm.Cond.selects "SignalWavesModel" ({ cls := "SignalWavesModel", name := "packed", desc := "(I)I" } : Jvm.MethodName) ({ cls := "SignalWavesModel", name := "packed", desc := "(I)I" } : Jvm.MethodName)) ∈ lw_all := lw_g (lw_at lw_m13 59 rfl) rfl
theorem q3033 : (Jvm.Cond.code ({ cls := "SignalWavesModel", name := "packed", desc := "(I)I" } : Jvm.MethodName) prog_19_method_76_code (2 : Nat) (Option.some Jvm.ClassFile.FieldType.int)) ∈ lw_all := lw_g (lw_at lw_m13 60 rfl) rfl
theorem q3034 : (Jvm.Cond.methodLink "SignalWavesModel" (317 : Nat) ({ cls := "SignalWavesModel", name := "packedBy", desc := "(I)I" } : Jvm.MethodName)) ∈ lw_all := lw_g (lw_at lw_m13 61 rfl) rfl
theorem q3035 : (Jvm.Cond.privateMethod ({ cls := "SignalWavesModel", name := "packedBy", desc := "(I)I" } : Jvm.MethodName)) ∈ lw_tbl := lw_at lw_m13 62 rfl
theorem q3036 : (Jvm.Cond.instanceMethod ({ cls := "SignalWavesModel", name := "packedBy", desc := "(I)I" } : Jvm.MethodName)) ∈ lw_all := lw_g (lw_at lw_m13 63 rfl) rfl
theorem q3037 : (Jvm.Cond.code ({ cls := "SignalWavesModel", name := "packedBy", desc := "(I)I" } : Jvm.MethodName) prog_19_method_75_code (5 : Nat) (Option.some Jvm.ClassFile.FieldType.int)) ∈ lw_all := lw_g (lw_at lw_m13 64 rfl) rfl
theorem q3038 : (Jvm.Cond.methodLink "SignalWavesModel" (314 : Nat) ({ cls := "SignalWavesModel", name := "roomParted", desc := "(II)I" } : Jvm.MethodName)) ∈ lw_all := lw_g (lw_at lw_m13 65 rfl) rfl
theorem q3039 : (Jvm.Cond.privateMethod ({ cls := "SignalWavesModel", name := "roomParted", desc := "(II)I" } : Jvm.MethodName)) ∈ lw_tbl := lw_at lw_m13 66 rfl
theorem q3040 : (Jvm.Cond.instanceMethod ({ cls := "SignalWavesModel", name := "roomParted", desc := "(II)I" } : Jvm.MethodName)) ∈ lw_all := lw_g (lw_at lw_m13 67 rfl) rfl
theorem q3041 : (Jvm.Cond.code ({ cls := "SignalWavesModel", name := "roomParted", desc := "(II)I" } : Jvm.MethodName) prog_19_method_74_code (6 : Nat) (Option.some Jvm.ClassFile.FieldType.int)) ∈ lw_all := lw_g (lw_at lw_m13 68 rfl) rfl
theorem q3043 : (Jvm.Cond.instanceMethod ({ cls := "SignalWavesModel", name := "best", desc := "()I" } : Jvm.MethodName)) ∈ lw_all := lw_g (lw_at lw_m13 70 rfl) rfl
theorem q3044 : (Jvm.Cond.selects "SignalWavesModel" ({ cls := "SignalWavesModel", name := "best", desc := "()I" } : Jvm.MethodName) ({ cls := "SignalWavesModel", name := "best", desc := "()I" } : Jvm.MethodName)) ∈ lw_all := lw_g (lw_at lw_m13 71 rfl) rfl
theorem q3045 : (Jvm.Cond.code ({ cls := "SignalWavesModel", name := "best", desc := "()I" } : Jvm.MethodName) prog_19_method_77_code (3 : Nat) (Option.some Jvm.ClassFile.FieldType.int)) ∈ lw_all := lw_g (lw_at lw_m13 72 rfl) rfl
theorem q3047 : (Jvm.Cond.instanceMethod ({ cls := "SignalWavesModel", name := "sees", desc := "(II)I" } : Jvm.MethodName)) ∈ lw_all := lw_g (lw_at lw_m13 74 rfl) rfl
theorem q3048 : (Jvm.Cond.selects "SignalWavesModel" ({ cls := "SignalWavesModel", name := "sees", desc := "(II)I" } : Jvm.MethodName) ({ cls := "SignalWavesModel", name := "sees", desc := "(II)I" } : Jvm.MethodName)) ∈ lw_all := lw_g (lw_at lw_m13 75 rfl) rfl
theorem q3049 : (Jvm.Cond.code ({ cls := "SignalWavesModel", name := "sees", desc := "(II)I" } : Jvm.MethodName) prog_19_method_78_code (3 : Nat) (Option.some Jvm.ClassFile.FieldType.int)) ∈ lw_all := lw_g (lw_at lw_m13 76 rfl) rfl
theorem q3051 : (Jvm.Cond.instanceMethod ({ cls := "SignalWavesModel", name := "forget", desc := "()I" } : Jvm.MethodName)) ∈ lw_all := lw_g (lw_at lw_m13 78 rfl) rfl
theorem q3052 : (Jvm.Cond.selects "SignalWavesModel" ({ cls := "SignalWavesModel", name := "forget", desc := "()I" } : Jvm.MethodName) ({ cls := "SignalWavesModel", name := "forget", desc := "()I" } : Jvm.MethodName)) ∈ lw_all := lw_g (lw_at lw_m13 79 rfl) rfl
theorem q3053 : (Jvm.Cond.code ({ cls := "SignalWavesModel", name := "forget", desc := "()I" } : Jvm.MethodName) prog_19_method_79_code (2 : Nat) (Option.some Jvm.ClassFile.FieldType.int)) ∈ lw_all := lw_g (lw_at lw_m13 80 rfl) rfl
theorem q3055 : (Jvm.Cond.instanceMethod ({ cls := "SignalWavesModel", name := "which", desc := "()I" } : Jvm.MethodName)) ∈ lw_all := lw_g (lw_at lw_m13 82 rfl) rfl
theorem q3056 : (Jvm.Cond.selects "SignalWavesModel" ({ cls := "SignalWavesModel", name := "which", desc := "()I" } : Jvm.MethodName) ({ cls := "SignalWavesModel", name := "which", desc := "()I" } : Jvm.MethodName)) ∈ lw_all := lw_g (lw_at lw_m13 83 rfl) rfl
theorem q3057 : (Jvm.Cond.code ({ cls := "SignalWavesModel", name := "which", desc := "()I" } : Jvm.MethodName) prog_19_method_81_code (1 : Nat) (Option.some Jvm.ClassFile.FieldType.int)) ∈ lw_all := lw_g (lw_at lw_m13 84 rfl) rfl
theorem q3058 : (Jvm.Cond.methodLink "SignalWavesModel" (320 : Nat) ({ cls := "SignalWavesModel", name := "seen", desc := "()I" } : Jvm.MethodName)) ∈ lw_all := lw_g (lw_at lw_m13 85 rfl) rfl
theorem q3059 : (Jvm.Cond.privateMethod ({ cls := "SignalWavesModel", name := "seen", desc := "()I" } : Jvm.MethodName)) ∈ lw_tbl := lw_at lw_m13 86 rfl
theorem q3060 : (Jvm.Cond.instanceMethod ({ cls := "SignalWavesModel", name := "seen", desc := "()I" } : Jvm.MethodName)) ∈ lw_all := lw_g (lw_at lw_m13 87 rfl) rfl
theorem q3061 : (Jvm.Cond.code ({ cls := "SignalWavesModel", name := "seen", desc := "()I" } : Jvm.MethodName) prog_19_method_80_code (5 : Nat) (Option.some Jvm.ClassFile.FieldType.int)) ∈ lw_all := lw_g (lw_at lw_m13 88 rfl) rfl
theorem q3063 : (Jvm.Cond.instanceMethod ({ cls := "SignalWavesModel", name := "look", desc := "()I" } : Jvm.MethodName)) ∈ lw_all := lw_g (lw_at lw_m13 90 rfl) rfl
theorem q3064 : (Jvm.Cond.selects "SignalWavesModel" ({ cls := "SignalWavesModel", name := "look", desc := "()I" } : Jvm.MethodName) ({ cls := "SignalWavesModel", name := "look", desc := "()I" } : Jvm.MethodName)) ∈ lw_all := lw_g (lw_at lw_m13 91 rfl) rfl
theorem q3065 : (Jvm.Cond.code ({ cls := "SignalWavesModel", name := "look", desc := "()I" } : Jvm.MethodName) prog_19_method_83_code (6 : Nat) (Option.some Jvm.ClassFile.FieldType.int)) ∈ lw_all := lw_g (lw_at lw_m13 92 rfl) rfl
theorem q3066 : (Jvm.Cond.methodLink "SignalWavesModel" (323 : Nat) ({ cls := "SignalWavesModel", name := "mostAlike", desc := "(I)I" } : Jvm.MethodName)) ∈ lw_all := lw_g (lw_at lw_m13 93 rfl) rfl
theorem q3067 : (Jvm.Cond.privateMethod ({ cls := "SignalWavesModel", name := "mostAlike", desc := "(I)I" } : Jvm.MethodName)) ∈ lw_tbl := lw_at lw_m13 94 rfl
theorem q3068 : (Jvm.Cond.instanceMethod ({ cls := "SignalWavesModel", name := "mostAlike", desc := "(I)I" } : Jvm.MethodName)) ∈ lw_all := lw_g (lw_at lw_m13 95 rfl) rfl
theorem q3069 : (Jvm.Cond.code ({ cls := "SignalWavesModel", name := "mostAlike", desc := "(I)I" } : Jvm.MethodName) prog_19_method_82_code (6 : Nat) (Option.some Jvm.ClassFile.FieldType.int)) ∈ lw_all := lw_g (lw_at lw_m13 96 rfl) rfl
theorem q3071 : (Jvm.Cond.instanceMethod ({ cls := "SignalWavesModel", name := "keep", desc := "(I)I" } : Jvm.MethodName)) ∈ lw_all := lw_g (lw_at lw_m13 98 rfl) rfl
theorem q3072 : (Jvm.Cond.selects "SignalWavesModel" ({ cls := "SignalWavesModel", name := "keep", desc := "(I)I" } : Jvm.MethodName) ({ cls := "SignalWavesModel", name := "keep", desc := "(I)I" } : Jvm.MethodName)) ∈ lw_all := lw_g (lw_at lw_m13 99 rfl) rfl
theorem q3073 : (Jvm.Cond.code ({ cls := "SignalWavesModel", name := "keep", desc := "(I)I" } : Jvm.MethodName) prog_19_method_84_code (3 : Nat) (Option.some Jvm.ClassFile.FieldType.int)) ∈ lw_all := lw_g (lw_at lw_m13 100 rfl) rfl
theorem q3075 : (Jvm.Cond.instanceMethod ({ cls := "SignalWavesModel", name := "back", desc := "(I)I" } : Jvm.MethodName)) ∈ lw_all := lw_g (lw_at lw_m13 102 rfl) rfl
theorem q3076 : (Jvm.Cond.selects "SignalWavesModel" ({ cls := "SignalWavesModel", name := "back", desc := "(I)I" } : Jvm.MethodName) ({ cls := "SignalWavesModel", name := "back", desc := "(I)I" } : Jvm.MethodName)) ∈ lw_all := lw_g (lw_at lw_m13 103 rfl) rfl
theorem q3077 : (Jvm.Cond.code ({ cls := "SignalWavesModel", name := "back", desc := "(I)I" } : Jvm.MethodName) prog_19_method_85_code (3 : Nat) (Option.some Jvm.ClassFile.FieldType.int)) ∈ lw_all := lw_g (lw_at lw_m13 104 rfl) rfl
theorem q3079 : (Jvm.Cond.instanceMethod ({ cls := "SignalWavesModel", name := "count", desc := "(I)I" } : Jvm.MethodName)) ∈ lw_all := lw_g (lw_at lw_m13 106 rfl) rfl
theorem q3080 : (Jvm.Cond.selects "SignalWavesModel" ({ cls := "SignalWavesModel", name := "count", desc := "(I)I" } : Jvm.MethodName) ({ cls := "SignalWavesModel", name := "count", desc := "(I)I" } : Jvm.MethodName)) ∈ lw_all := lw_g (lw_at lw_m13 107 rfl) rfl
theorem q3081 : (Jvm.Cond.code ({ cls := "SignalWavesModel", name := "count", desc := "(I)I" } : Jvm.MethodName) prog_19_method_88_code (2 : Nat) (Option.some Jvm.ClassFile.FieldType.int)) ∈ lw_all := lw_g (lw_at lw_m13 108 rfl) rfl
theorem q3082 : (Jvm.Cond.methodLink "SignalWavesModel" (326 : Nat) ({ cls := "SignalWavesModel", name := "changes", desc := "()I" } : Jvm.MethodName)) ∈ lw_all := lw_g (lw_at lw_m13 109 rfl) rfl
theorem q3083 : (Jvm.Cond.privateMethod ({ cls := "SignalWavesModel", name := "changes", desc := "()I" } : Jvm.MethodName)) ∈ lw_tbl := lw_at lw_m13 110 rfl
theorem q3084 : (Jvm.Cond.instanceMethod ({ cls := "SignalWavesModel", name := "changes", desc := "()I" } : Jvm.MethodName)) ∈ lw_all := lw_g (lw_at lw_m13 111 rfl) rfl
theorem q3085 : (Jvm.Cond.code ({ cls := "SignalWavesModel", name := "changes", desc := "()I" } : Jvm.MethodName) prog_19_method_86_code (3 : Nat) (Option.some Jvm.ClassFile.FieldType.int)) ∈ lw_all := lw_g (lw_at lw_m13 112 rfl) rfl
theorem q3086 : (Jvm.Cond.methodLink "SignalWavesModel" (329 : Nat) ({ cls := "SignalWavesModel", name := "roomOfAll", desc := "()I" } : Jvm.MethodName)) ∈ lw_all := lw_g (lw_at lw_m13 113 rfl) rfl
theorem q3087 : (Jvm.Cond.privateMethod ({ cls := "SignalWavesModel", name := "roomOfAll", desc := "()I" } : Jvm.MethodName)) ∈ lw_tbl := lw_at lw_m13 114 rfl
theorem q3088 : (Jvm.Cond.instanceMethod ({ cls := "SignalWavesModel", name := "roomOfAll", desc := "()I" } : Jvm.MethodName)) ∈ lw_all := lw_g (lw_at lw_m13 115 rfl) rfl
theorem q3089 : (Jvm.Cond.code ({ cls := "SignalWavesModel", name := "roomOfAll", desc := "()I" } : Jvm.MethodName) prog_19_method_87_code (3 : Nat) (Option.some Jvm.ClassFile.FieldType.int)) ∈ lw_all := lw_g (lw_at lw_m13 116 rfl) rfl
theorem q3118 : (Jvm.Cond.castable "SignalWavesModel" "java/lang/Object") ∈ lw_tbl := lw_at lw_m13 145 rfl
theorem in_X7 : ∀ w ∈ wsX70, w ∈ lw_all := lw_in wsX70 [2656, 2658, 2660, 2662, 2664, 2666, 2668, 2670, 2672, 2674, 2676, 2678, 2680, 2682, 2684, 2686, 2688, 2690, 2692, 2694, 2696, 2698, 2700, 2702, 2704, 2706, 2708, 2710, 2712, 2714, 2716, 2718, 2720, 2722, 2724, 2726, 2728, 2730, 2732, 2734, 2736, 2738, 2740, 2742, 2744, 2746, 2748, 2750, 2752, 2754] (by decide +kernel) (by decide +kernel)
