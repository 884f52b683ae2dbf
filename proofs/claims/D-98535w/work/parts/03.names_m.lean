/-! OneDrumModel -/
set_option maxRecDepth 100000
def RX5 : String := "OneDrumModel"
def TX5 : u_T := fun k => match k with
  | 0 => ("OneDrumModel", "all", "[I", true)
  | 1 => ("OneDrumModel", "has", "[Z", true)
  | 2 => ("OneDrumModel", "size", "I", false)
  | 3 => ("OneDrumModel", "next", "I", false)
  | 4 => ("OneDrumModel", "where", "I", false)
  | 5 => ("OneDrumModel", "token", "I", false)
  | 6 => ("OneDrumModel", "number", "I", false)
  | 7 => ("OneDrumModel", "word", "I", false)
  | 8 => ("OneDrumModel", "wrong", "Z", false)
  | 9 => ("OneDrumModel", "read", "[I", true)
  | 10 => ("OneDrumModel", "w0", "I", false)
  | 11 => ("OneDrumModel", "g0", "I", false)
  | 12 => ("OneDrumModel", "gives", "[I", true)
  | 13 => ("OneDrumModel", "many", "[I", true)
  | 14 => ("OneDrumModel", "row", "[I", true)
  | 15 => ("OneDrumModel", "giver", "[I", true)
  | 16 => ("OneDrumModel", "sounds", "[I", true)
  | 17 => ("OneDrumModel", "echoes", "[Z", true)
  | 18 => ("OneDrumModel", "length", "I", false)
  | 19 => ("OneDrumModel", "moves", "[I", true)
  | 20 => ("OneDrumModel", "byOrder", "[I", true)
  | 21 => ("OneDrumModel", "begin", "[I", true)
  | 22 => ("OneDrumModel", "made", "[I", true)
  | 23 => ("OneDrumModel", "danced", "[I", true)
  | 24 => ("OneDrumModel", "place", "[I", true)
  | 25 => ("OneDrumModel", "h0", "I", false)
  | 26 => ("OneDrumModel", "left", "[I", true)
  | 27 => ("OneDrumModel", "right", "[I", true)
  | 28 => ("OneDrumModel", "apart", "[I", true)
  | 29 => ("OneDrumModel", "v0", "I", false)
  | 30 => ("OneDrumModel", "versions", "[I", true)
  | 31 => ("OneDrumModel", "long0", "[I", true)
  | 32 => ("OneDrumModel", "line", "[I", true)
  | 33 => ("OneDrumModel", "x0", "I", false)
  | 34 => ("OneDrumModel", "often", "[I", true)
  | 35 => ("OneDrumModel", "waysOn", "[J", true)
  | 36 => ("OneDrumModel", "fewOn", "[I", true)
  | _ => ("OneDrumModel", "hangs", "[I", true)
def tyX5 : Nat → FieldType := fun k => match k with
  | 0 => .array .int
  | 1 => .array .boolean
  | 2 => .int
  | 3 => .int
  | 4 => .int
  | 5 => .int
  | 6 => .int
  | 7 => .int
  | 8 => .boolean
  | 9 => .array .int
  | 10 => .int
  | 11 => .int
  | 12 => .array .int
  | 13 => .array .int
  | 14 => .array .int
  | 15 => .array .int
  | 16 => .array .int
  | 17 => .array .boolean
  | 18 => .int
  | 19 => .array .int
  | 20 => .array .int
  | 21 => .array .int
  | 22 => .array .int
  | 23 => .array .int
  | 24 => .array .int
  | 25 => .int
  | 26 => .array .int
  | 27 => .array .int
  | 28 => .array .int
  | 29 => .int
  | 30 => .array .int
  | 31 => .array .int
  | 32 => .array .int
  | 33 => .int
  | 34 => .array .int
  | 35 => .array .long
  | 36 => .array .int
  | _ => .array .int
abbrev wsX50 : List Cond := u_ws RX5 TX5 38
set_option maxRecDepth 100000 in
theorem nmX5 : ∀ a, a < 38 → ∀ b, b < 38 → a ≠ b → (TX5 a).2.1 ≠ (TX5 b).2.1 := by decide +kernel
set_option maxRecDepth 100000 in
theorem tyX5_ok : ∀ k, k < 38 → parseFieldDescriptor (TX5 k).2.2.1 = some (tyX5 k) := by decide +kernel
abbrev cX5_init : ByteArray := prog_24_method_1_code
def yX5_init : MethodName := ⟨RX5, "<init>", "()V"⟩
def dkwX5_init_8 : List UInt8 := [188, 10, 181, 0, 81, 42, 16, 30, 188, 10, 181, 0, 84, 42, 180, 0, 7, 16, 6, 2, 79, 177]
abbrev dktX5_init_8 : List UInt8 := dkwX5_init_8 ++ []
def dkwX5_init_7 : List UInt8 := [188, 10, 181, 0, 71, 42, 16, 10, 188, 10, 181, 0, 74, 42, 16, 25, 188, 11, 181, 0, 77, 42, 16, 25]
abbrev dktX5_init_7 : List UInt8 := dkwX5_init_7 ++ dktX5_init_8
def dkwX5_init_6 : List UInt8 := [181, 0, 62, 42, 17, 1, 224, 188, 10, 181, 0, 65, 42, 16, 8, 188, 10, 181, 0, 68, 42, 17, 0, 128]
abbrev dktX5_init_6 : List UInt8 := dkwX5_init_6 ++ dktX5_init_7
def dkwX5_init_5 : List UInt8 := [181, 0, 53, 42, 16, 64, 188, 10, 181, 0, 56, 42, 16, 64, 188, 10, 181, 0, 59, 42, 16, 65, 188, 10]
abbrev dktX5_init_5 : List UInt8 := dkwX5_init_5 ++ dktX5_init_6
def dkwX5_init_4 : List UInt8 := [188, 10, 181, 0, 44, 42, 5, 188, 10, 181, 0, 47, 42, 5, 188, 10, 181, 0, 50, 42, 5, 188, 10]
abbrev dktX5_init_4 : List UInt8 := dkwX5_init_4 ++ dktX5_init_5
def dkwX5_init_3 : List UInt8 := [188, 4, 181, 0, 35, 42, 16, 48, 188, 10, 181, 0, 38, 42, 16, 48, 188, 10, 181, 0, 41, 42, 16, 48]
abbrev dktX5_init_3 : List UInt8 := dkwX5_init_3 ++ dktX5_init_4
def dkwX5_init_2 : List UInt8 := [188, 10, 181, 0, 26, 42, 16, 24, 188, 10, 181, 0, 29, 42, 16, 24, 188, 10, 181, 0, 32, 42, 16, 24]
abbrev dktX5_init_2 : List UInt8 := dkwX5_init_2 ++ dktX5_init_3
def dkwX5_init_1 : List UInt8 := [188, 10, 181, 0, 17, 42, 16, 24, 188, 10, 181, 0, 20, 42, 5, 188, 10, 181, 0, 23, 42, 16, 24]
abbrev dktX5_init_1 : List UInt8 := dkwX5_init_1 ++ dktX5_init_2
def dkwX5_init_0 : List UInt8 := [42, 183, 0, 1, 42, 17, 14, 152, 188, 10, 181, 0, 7, 42, 6, 188, 4, 181, 0, 13, 42, 16, 89]
abbrev dktX5_init_0 : List UInt8 := dkwX5_init_0 ++ dktX5_init_1
theorem dksX5_init_0 : cX5_init.data.toList.drop 0 = dktX5_init_0 := by decide +kernel
theorem dksX5_init_1 : cX5_init.data.toList.drop 23 = dktX5_init_1 := dk_seg dksX5_init_0 23 rfl rfl
theorem dksX5_init_2 : cX5_init.data.toList.drop 46 = dktX5_init_2 := dk_seg dksX5_init_1 23 rfl rfl
theorem dksX5_init_3 : cX5_init.data.toList.drop 70 = dktX5_init_3 := dk_seg dksX5_init_2 24 rfl rfl
theorem dksX5_init_4 : cX5_init.data.toList.drop 94 = dktX5_init_4 := dk_seg dksX5_init_3 24 rfl rfl
theorem dksX5_init_5 : cX5_init.data.toList.drop 117 = dktX5_init_5 := dk_seg dksX5_init_4 23 rfl rfl
theorem dksX5_init_6 : cX5_init.data.toList.drop 141 = dktX5_init_6 := dk_seg dksX5_init_5 24 rfl rfl
theorem dksX5_init_7 : cX5_init.data.toList.drop 165 = dktX5_init_7 := dk_seg dksX5_init_6 24 rfl rfl
theorem dksX5_init_8 : cX5_init.data.toList.drop 189 = dktX5_init_8 := dk_seg dksX5_init_7 24 rfl rfl
theorem dX5_init_0 : decode cX5_init 0 = .ok (.aload_n 0, 1) := dk_42 (dk_at dksX5_init_0 0 rfl rfl)
theorem dX5_init_1 : decode cX5_init 1 = .ok (.invokespecial 1, 3) := dk_183 0 1 (dk_at dksX5_init_0 1 rfl rfl)
theorem dX5_init_4 : decode cX5_init 4 = .ok (.aload_n 0, 1) := dk_42 (dk_at dksX5_init_0 4 rfl rfl)
theorem dX5_init_5 : decode cX5_init 5 = .ok (.sipush 3736, 3) := dk_17 14 152 (dk_at dksX5_init_0 5 rfl rfl)
theorem dX5_init_8 : decode cX5_init 8 = .ok (.newarray .int, 2) := dk_188_10 (dk_at dksX5_init_0 8 rfl rfl)
theorem dX5_init_10 : decode cX5_init 10 = .ok (.putfield 7, 3) := dk_181 0 7 (dk_at dksX5_init_0 10 rfl rfl)
theorem dX5_init_13 : decode cX5_init 13 = .ok (.aload_n 0, 1) := dk_42 (dk_at dksX5_init_0 13 rfl rfl)
theorem dX5_init_14 : decode cX5_init 14 = .ok (.iconst 3, 1) := dk_6 (dk_at dksX5_init_0 14 rfl rfl)
theorem dX5_init_15 : decode cX5_init 15 = .ok (.newarray .boolean, 2) := dk_188_4 (dk_at dksX5_init_0 15 rfl rfl)
theorem dX5_init_17 : decode cX5_init 17 = .ok (.putfield 13, 3) := dk_181 0 13 (dk_at dksX5_init_0 17 rfl rfl)
theorem dX5_init_20 : decode cX5_init 20 = .ok (.aload_n 0, 1) := dk_42 (dk_at dksX5_init_0 20 rfl rfl)
theorem dX5_init_21 : decode cX5_init 21 = .ok (.bipush 89, 2) := dk_16 89 (dk_at dksX5_init_0 21 rfl rfl)
theorem dX5_init_23 : decode cX5_init 23 = .ok (.newarray .int, 2) := dk_188_10 (dk_at dksX5_init_1 0 rfl rfl)
theorem dX5_init_25 : decode cX5_init 25 = .ok (.putfield 17, 3) := dk_181 0 17 (dk_at dksX5_init_1 2 rfl rfl)
theorem dX5_init_28 : decode cX5_init 28 = .ok (.aload_n 0, 1) := dk_42 (dk_at dksX5_init_1 5 rfl rfl)
theorem dX5_init_29 : decode cX5_init 29 = .ok (.bipush 24, 2) := dk_16 24 (dk_at dksX5_init_1 6 rfl rfl)
theorem dX5_init_31 : decode cX5_init 31 = .ok (.newarray .int, 2) := dk_188_10 (dk_at dksX5_init_1 8 rfl rfl)
theorem dX5_init_33 : decode cX5_init 33 = .ok (.putfield 20, 3) := dk_181 0 20 (dk_at dksX5_init_1 10 rfl rfl)
theorem dX5_init_36 : decode cX5_init 36 = .ok (.aload_n 0, 1) := dk_42 (dk_at dksX5_init_1 13 rfl rfl)
theorem dX5_init_37 : decode cX5_init 37 = .ok (.iconst 2, 1) := dk_5 (dk_at dksX5_init_1 14 rfl rfl)
theorem dX5_init_38 : decode cX5_init 38 = .ok (.newarray .int, 2) := dk_188_10 (dk_at dksX5_init_1 15 rfl rfl)
theorem dX5_init_40 : decode cX5_init 40 = .ok (.putfield 23, 3) := dk_181 0 23 (dk_at dksX5_init_1 17 rfl rfl)
theorem dX5_init_43 : decode cX5_init 43 = .ok (.aload_n 0, 1) := dk_42 (dk_at dksX5_init_1 20 rfl rfl)
theorem dX5_init_44 : decode cX5_init 44 = .ok (.bipush 24, 2) := dk_16 24 (dk_at dksX5_init_1 21 rfl rfl)
theorem dX5_init_46 : decode cX5_init 46 = .ok (.newarray .int, 2) := dk_188_10 (dk_at dksX5_init_2 0 rfl rfl)
theorem dX5_init_48 : decode cX5_init 48 = .ok (.putfield 26, 3) := dk_181 0 26 (dk_at dksX5_init_2 2 rfl rfl)
theorem dX5_init_51 : decode cX5_init 51 = .ok (.aload_n 0, 1) := dk_42 (dk_at dksX5_init_2 5 rfl rfl)
theorem dX5_init_52 : decode cX5_init 52 = .ok (.bipush 24, 2) := dk_16 24 (dk_at dksX5_init_2 6 rfl rfl)
theorem dX5_init_54 : decode cX5_init 54 = .ok (.newarray .int, 2) := dk_188_10 (dk_at dksX5_init_2 8 rfl rfl)
theorem dX5_init_56 : decode cX5_init 56 = .ok (.putfield 29, 3) := dk_181 0 29 (dk_at dksX5_init_2 10 rfl rfl)
theorem dX5_init_59 : decode cX5_init 59 = .ok (.aload_n 0, 1) := dk_42 (dk_at dksX5_init_2 13 rfl rfl)
theorem dX5_init_60 : decode cX5_init 60 = .ok (.bipush 24, 2) := dk_16 24 (dk_at dksX5_init_2 14 rfl rfl)
theorem dX5_init_62 : decode cX5_init 62 = .ok (.newarray .int, 2) := dk_188_10 (dk_at dksX5_init_2 16 rfl rfl)
theorem dX5_init_64 : decode cX5_init 64 = .ok (.putfield 32, 3) := dk_181 0 32 (dk_at dksX5_init_2 18 rfl rfl)
theorem dX5_init_67 : decode cX5_init 67 = .ok (.aload_n 0, 1) := dk_42 (dk_at dksX5_init_2 21 rfl rfl)
theorem dX5_init_68 : decode cX5_init 68 = .ok (.bipush 24, 2) := dk_16 24 (dk_at dksX5_init_2 22 rfl rfl)
theorem dX5_init_70 : decode cX5_init 70 = .ok (.newarray .boolean, 2) := dk_188_4 (dk_at dksX5_init_3 0 rfl rfl)
theorem dX5_init_72 : decode cX5_init 72 = .ok (.putfield 35, 3) := dk_181 0 35 (dk_at dksX5_init_3 2 rfl rfl)
theorem dX5_init_75 : decode cX5_init 75 = .ok (.aload_n 0, 1) := dk_42 (dk_at dksX5_init_3 5 rfl rfl)
theorem dX5_init_76 : decode cX5_init 76 = .ok (.bipush 48, 2) := dk_16 48 (dk_at dksX5_init_3 6 rfl rfl)
theorem dX5_init_78 : decode cX5_init 78 = .ok (.newarray .int, 2) := dk_188_10 (dk_at dksX5_init_3 8 rfl rfl)
theorem dX5_init_80 : decode cX5_init 80 = .ok (.putfield 38, 3) := dk_181 0 38 (dk_at dksX5_init_3 10 rfl rfl)
theorem dX5_init_83 : decode cX5_init 83 = .ok (.aload_n 0, 1) := dk_42 (dk_at dksX5_init_3 13 rfl rfl)
theorem dX5_init_84 : decode cX5_init 84 = .ok (.bipush 48, 2) := dk_16 48 (dk_at dksX5_init_3 14 rfl rfl)
theorem dX5_init_86 : decode cX5_init 86 = .ok (.newarray .int, 2) := dk_188_10 (dk_at dksX5_init_3 16 rfl rfl)
theorem dX5_init_88 : decode cX5_init 88 = .ok (.putfield 41, 3) := dk_181 0 41 (dk_at dksX5_init_3 18 rfl rfl)
theorem dX5_init_91 : decode cX5_init 91 = .ok (.aload_n 0, 1) := dk_42 (dk_at dksX5_init_3 21 rfl rfl)
theorem dX5_init_92 : decode cX5_init 92 = .ok (.bipush 48, 2) := dk_16 48 (dk_at dksX5_init_3 22 rfl rfl)
theorem dX5_init_94 : decode cX5_init 94 = .ok (.newarray .int, 2) := dk_188_10 (dk_at dksX5_init_4 0 rfl rfl)
theorem dX5_init_96 : decode cX5_init 96 = .ok (.putfield 44, 3) := dk_181 0 44 (dk_at dksX5_init_4 2 rfl rfl)
theorem dX5_init_99 : decode cX5_init 99 = .ok (.aload_n 0, 1) := dk_42 (dk_at dksX5_init_4 5 rfl rfl)
theorem dX5_init_100 : decode cX5_init 100 = .ok (.iconst 2, 1) := dk_5 (dk_at dksX5_init_4 6 rfl rfl)
theorem dX5_init_101 : decode cX5_init 101 = .ok (.newarray .int, 2) := dk_188_10 (dk_at dksX5_init_4 7 rfl rfl)
theorem dX5_init_103 : decode cX5_init 103 = .ok (.putfield 47, 3) := dk_181 0 47 (dk_at dksX5_init_4 9 rfl rfl)
theorem dX5_init_106 : decode cX5_init 106 = .ok (.aload_n 0, 1) := dk_42 (dk_at dksX5_init_4 12 rfl rfl)
theorem dX5_init_107 : decode cX5_init 107 = .ok (.iconst 2, 1) := dk_5 (dk_at dksX5_init_4 13 rfl rfl)
theorem dX5_init_108 : decode cX5_init 108 = .ok (.newarray .int, 2) := dk_188_10 (dk_at dksX5_init_4 14 rfl rfl)
theorem dX5_init_110 : decode cX5_init 110 = .ok (.putfield 50, 3) := dk_181 0 50 (dk_at dksX5_init_4 16 rfl rfl)
theorem dX5_init_113 : decode cX5_init 113 = .ok (.aload_n 0, 1) := dk_42 (dk_at dksX5_init_4 19 rfl rfl)
theorem dX5_init_114 : decode cX5_init 114 = .ok (.iconst 2, 1) := dk_5 (dk_at dksX5_init_4 20 rfl rfl)
theorem dX5_init_115 : decode cX5_init 115 = .ok (.newarray .int, 2) := dk_188_10 (dk_at dksX5_init_4 21 rfl rfl)
theorem dX5_init_117 : decode cX5_init 117 = .ok (.putfield 53, 3) := dk_181 0 53 (dk_at dksX5_init_5 0 rfl rfl)
theorem dX5_init_120 : decode cX5_init 120 = .ok (.aload_n 0, 1) := dk_42 (dk_at dksX5_init_5 3 rfl rfl)
theorem dX5_init_121 : decode cX5_init 121 = .ok (.bipush 64, 2) := dk_16 64 (dk_at dksX5_init_5 4 rfl rfl)
theorem dX5_init_123 : decode cX5_init 123 = .ok (.newarray .int, 2) := dk_188_10 (dk_at dksX5_init_5 6 rfl rfl)
theorem dX5_init_125 : decode cX5_init 125 = .ok (.putfield 56, 3) := dk_181 0 56 (dk_at dksX5_init_5 8 rfl rfl)
theorem dX5_init_128 : decode cX5_init 128 = .ok (.aload_n 0, 1) := dk_42 (dk_at dksX5_init_5 11 rfl rfl)
theorem dX5_init_129 : decode cX5_init 129 = .ok (.bipush 64, 2) := dk_16 64 (dk_at dksX5_init_5 12 rfl rfl)
theorem dX5_init_131 : decode cX5_init 131 = .ok (.newarray .int, 2) := dk_188_10 (dk_at dksX5_init_5 14 rfl rfl)
theorem dX5_init_133 : decode cX5_init 133 = .ok (.putfield 59, 3) := dk_181 0 59 (dk_at dksX5_init_5 16 rfl rfl)
theorem dX5_init_136 : decode cX5_init 136 = .ok (.aload_n 0, 1) := dk_42 (dk_at dksX5_init_5 19 rfl rfl)
theorem dX5_init_137 : decode cX5_init 137 = .ok (.bipush 65, 2) := dk_16 65 (dk_at dksX5_init_5 20 rfl rfl)
theorem dX5_init_139 : decode cX5_init 139 = .ok (.newarray .int, 2) := dk_188_10 (dk_at dksX5_init_5 22 rfl rfl)
theorem dX5_init_141 : decode cX5_init 141 = .ok (.putfield 62, 3) := dk_181 0 62 (dk_at dksX5_init_6 0 rfl rfl)
theorem dX5_init_144 : decode cX5_init 144 = .ok (.aload_n 0, 1) := dk_42 (dk_at dksX5_init_6 3 rfl rfl)
theorem dX5_init_145 : decode cX5_init 145 = .ok (.sipush 480, 3) := dk_17 1 224 (dk_at dksX5_init_6 4 rfl rfl)
theorem dX5_init_148 : decode cX5_init 148 = .ok (.newarray .int, 2) := dk_188_10 (dk_at dksX5_init_6 7 rfl rfl)
theorem dX5_init_150 : decode cX5_init 150 = .ok (.putfield 65, 3) := dk_181 0 65 (dk_at dksX5_init_6 9 rfl rfl)
theorem dX5_init_153 : decode cX5_init 153 = .ok (.aload_n 0, 1) := dk_42 (dk_at dksX5_init_6 12 rfl rfl)
theorem dX5_init_154 : decode cX5_init 154 = .ok (.bipush 8, 2) := dk_16 8 (dk_at dksX5_init_6 13 rfl rfl)
theorem dX5_init_156 : decode cX5_init 156 = .ok (.newarray .int, 2) := dk_188_10 (dk_at dksX5_init_6 15 rfl rfl)
theorem dX5_init_158 : decode cX5_init 158 = .ok (.putfield 68, 3) := dk_181 0 68 (dk_at dksX5_init_6 17 rfl rfl)
theorem dX5_init_161 : decode cX5_init 161 = .ok (.aload_n 0, 1) := dk_42 (dk_at dksX5_init_6 20 rfl rfl)
theorem dX5_init_162 : decode cX5_init 162 = .ok (.sipush 128, 3) := dk_17 0 128 (dk_at dksX5_init_6 21 rfl rfl)
theorem dX5_init_165 : decode cX5_init 165 = .ok (.newarray .int, 2) := dk_188_10 (dk_at dksX5_init_7 0 rfl rfl)
theorem dX5_init_167 : decode cX5_init 167 = .ok (.putfield 71, 3) := dk_181 0 71 (dk_at dksX5_init_7 2 rfl rfl)
theorem dX5_init_170 : decode cX5_init 170 = .ok (.aload_n 0, 1) := dk_42 (dk_at dksX5_init_7 5 rfl rfl)
theorem dX5_init_171 : decode cX5_init 171 = .ok (.bipush 10, 2) := dk_16 10 (dk_at dksX5_init_7 6 rfl rfl)
theorem dX5_init_173 : decode cX5_init 173 = .ok (.newarray .int, 2) := dk_188_10 (dk_at dksX5_init_7 8 rfl rfl)
theorem dX5_init_175 : decode cX5_init 175 = .ok (.putfield 74, 3) := dk_181 0 74 (dk_at dksX5_init_7 10 rfl rfl)
theorem dX5_init_178 : decode cX5_init 178 = .ok (.aload_n 0, 1) := dk_42 (dk_at dksX5_init_7 13 rfl rfl)
theorem dX5_init_179 : decode cX5_init 179 = .ok (.bipush 25, 2) := dk_16 25 (dk_at dksX5_init_7 14 rfl rfl)
theorem dX5_init_181 : decode cX5_init 181 = .ok (.newarray .long, 2) := dk_188_11 (dk_at dksX5_init_7 16 rfl rfl)
theorem dX5_init_183 : decode cX5_init 183 = .ok (.putfield 77, 3) := dk_181 0 77 (dk_at dksX5_init_7 18 rfl rfl)
theorem dX5_init_186 : decode cX5_init 186 = .ok (.aload_n 0, 1) := dk_42 (dk_at dksX5_init_7 21 rfl rfl)
theorem dX5_init_187 : decode cX5_init 187 = .ok (.bipush 25, 2) := dk_16 25 (dk_at dksX5_init_7 22 rfl rfl)
theorem dX5_init_189 : decode cX5_init 189 = .ok (.newarray .int, 2) := dk_188_10 (dk_at dksX5_init_8 0 rfl rfl)
theorem dX5_init_191 : decode cX5_init 191 = .ok (.putfield 81, 3) := dk_181 0 81 (dk_at dksX5_init_8 2 rfl rfl)
theorem dX5_init_194 : decode cX5_init 194 = .ok (.aload_n 0, 1) := dk_42 (dk_at dksX5_init_8 5 rfl rfl)
theorem dX5_init_195 : decode cX5_init 195 = .ok (.bipush 30, 2) := dk_16 30 (dk_at dksX5_init_8 6 rfl rfl)
theorem dX5_init_197 : decode cX5_init 197 = .ok (.newarray .int, 2) := dk_188_10 (dk_at dksX5_init_8 8 rfl rfl)
theorem dX5_init_199 : decode cX5_init 199 = .ok (.putfield 84, 3) := dk_181 0 84 (dk_at dksX5_init_8 10 rfl rfl)
theorem dX5_init_202 : decode cX5_init 202 = .ok (.aload_n 0, 1) := dk_42 (dk_at dksX5_init_8 13 rfl rfl)
theorem dX5_init_203 : decode cX5_init 203 = .ok (.getfield 7, 3) := dk_180 0 7 (dk_at dksX5_init_8 14 rfl rfl)
theorem dX5_init_206 : decode cX5_init 206 = .ok (.bipush 6, 2) := dk_16 6 (dk_at dksX5_init_8 17 rfl rfl)
theorem dX5_init_208 : decode cX5_init 208 = .ok (.iconst (-1), 1) := dk_2 (dk_at dksX5_init_8 19 rfl rfl)
theorem dX5_init_209 : decode cX5_init 209 = .ok (.iastore, 1) := dk_79 (dk_at dksX5_init_8 20 rfl rfl)
theorem dX5_init_210 : decode cX5_init 210 = .ok (.return_, 1) := dk_177 (dk_at dksX5_init_8 21 rfl rfl)
abbrev cX5_feed : ByteArray := prog_24_method_3_code
def yX5_feed : MethodName := ⟨RX5, "feed", "(IIIII)I"⟩
def dkwX5_feed_5 : List UInt8 := [132, 6, 1, 167, 255, 157, 42, 180, 0, 7, 7, 46, 172]
abbrev dktX5_feed_5 : List UInt8 := dkwX5_feed_5 ++ []
def dkwX5_feed_4 : List UInt8 := [21, 6, 7, 112, 104, 100, 122, 17, 0, 255, 126, 79, 42, 180, 0, 7, 7, 92, 46, 4, 96, 79]
abbrev dktX5_feed_4 : List UInt8 := dkwX5_feed_4 ++ dktX5_feed_5
def dkwX5_feed_3 : List UInt8 := [21, 5, 54, 7, 42, 180, 0, 7, 16, 10, 42, 180, 0, 7, 7, 46, 96, 21, 7, 16, 24, 16, 8]
abbrev dktX5_feed_3 : List UInt8 := dkwX5_feed_3 ++ dktX5_feed_4
def dkwX5_feed_2 : List UInt8 := [21, 6, 16, 12, 162, 0, 7, 29, 167, 0, 17, 21, 6, 16, 16, 162, 0, 8, 21, 4, 167, 0, 5]
abbrev dktX5_feed_2 : List UInt8 := dkwX5_feed_2 ++ dktX5_feed_3
def dkwX5_feed_1 : List UInt8 := [162, 0, 98, 21, 6, 7, 162, 0, 7, 27, 167, 0, 39, 21, 6, 16, 8, 162, 0, 7, 28, 167, 0, 28]
abbrev dktX5_feed_1 : List UInt8 := dkwX5_feed_1 ++ dktX5_feed_2
def dkwX5_feed_0 : List UInt8 := [42, 180, 0, 7, 7, 46, 16, 20, 96, 17, 2, 88, 164, 0, 5, 2, 172, 3, 54, 6, 21, 6, 16, 20]
abbrev dktX5_feed_0 : List UInt8 := dkwX5_feed_0 ++ dktX5_feed_1
theorem dksX5_feed_0 : cX5_feed.data.toList.drop 0 = dktX5_feed_0 := by decide +kernel
theorem dksX5_feed_1 : cX5_feed.data.toList.drop 24 = dktX5_feed_1 := dk_seg dksX5_feed_0 24 rfl rfl
theorem dksX5_feed_2 : cX5_feed.data.toList.drop 48 = dktX5_feed_2 := dk_seg dksX5_feed_1 24 rfl rfl
theorem dksX5_feed_3 : cX5_feed.data.toList.drop 71 = dktX5_feed_3 := dk_seg dksX5_feed_2 23 rfl rfl
theorem dksX5_feed_4 : cX5_feed.data.toList.drop 94 = dktX5_feed_4 := dk_seg dksX5_feed_3 23 rfl rfl
theorem dksX5_feed_5 : cX5_feed.data.toList.drop 116 = dktX5_feed_5 := dk_seg dksX5_feed_4 22 rfl rfl
theorem dX5_feed_0 : decode cX5_feed 0 = .ok (.aload_n 0, 1) := dk_42 (dk_at dksX5_feed_0 0 rfl rfl)
theorem dX5_feed_1 : decode cX5_feed 1 = .ok (.getfield 7, 3) := dk_180 0 7 (dk_at dksX5_feed_0 1 rfl rfl)
theorem dX5_feed_4 : decode cX5_feed 4 = .ok (.iconst 4, 1) := dk_7 (dk_at dksX5_feed_0 4 rfl rfl)
theorem dX5_feed_5 : decode cX5_feed 5 = .ok (.iaload, 1) := dk_46 (dk_at dksX5_feed_0 5 rfl rfl)
theorem dX5_feed_6 : decode cX5_feed 6 = .ok (.bipush 20, 2) := dk_16 20 (dk_at dksX5_feed_0 6 rfl rfl)
theorem dX5_feed_8 : decode cX5_feed 8 = .ok (.iadd, 1) := dk_96 (dk_at dksX5_feed_0 8 rfl rfl)
theorem dX5_feed_9 : decode cX5_feed 9 = .ok (.sipush 600, 3) := dk_17 2 88 (dk_at dksX5_feed_0 9 rfl rfl)
theorem dX5_feed_12 : decode cX5_feed 12 = .ok (.if_icmp .le 5, 3) := dk_164 0 5 (dk_at dksX5_feed_0 12 rfl rfl)
theorem dX5_feed_15 : decode cX5_feed 15 = .ok (.iconst (-1), 1) := dk_2 (dk_at dksX5_feed_0 15 rfl rfl)
theorem dX5_feed_16 : decode cX5_feed 16 = .ok (.ireturn, 1) := dk_172 (dk_at dksX5_feed_0 16 rfl rfl)
theorem dX5_feed_17 : decode cX5_feed 17 = .ok (.iconst 0, 1) := dk_3 (dk_at dksX5_feed_0 17 rfl rfl)
theorem dX5_feed_18 : decode cX5_feed 18 = .ok (.istore 6, 2) := dk_54 6 (dk_at dksX5_feed_0 18 rfl rfl)
theorem dX5_feed_20 : decode cX5_feed 20 = .ok (.iload 6, 2) := dk_21 6 (dk_at dksX5_feed_0 20 rfl rfl)
theorem dX5_feed_22 : decode cX5_feed 22 = .ok (.bipush 20, 2) := dk_16 20 (dk_at dksX5_feed_0 22 rfl rfl)
theorem dX5_feed_24 : decode cX5_feed 24 = .ok (.if_icmp .ge 98, 3) := dk_162 0 98 (dk_at dksX5_feed_1 0 rfl rfl)
theorem dX5_feed_27 : decode cX5_feed 27 = .ok (.iload 6, 2) := dk_21 6 (dk_at dksX5_feed_1 3 rfl rfl)
theorem dX5_feed_29 : decode cX5_feed 29 = .ok (.iconst 4, 1) := dk_7 (dk_at dksX5_feed_1 5 rfl rfl)
theorem dX5_feed_30 : decode cX5_feed 30 = .ok (.if_icmp .ge 7, 3) := dk_162 0 7 (dk_at dksX5_feed_1 6 rfl rfl)
theorem dX5_feed_33 : decode cX5_feed 33 = .ok (.iload_n 1, 1) := dk_27 (dk_at dksX5_feed_1 9 rfl rfl)
theorem dX5_feed_34 : decode cX5_feed 34 = .ok (.goto 39, 3) := dk_167 0 39 (dk_at dksX5_feed_1 10 rfl rfl)
theorem dX5_feed_37 : decode cX5_feed 37 = .ok (.iload 6, 2) := dk_21 6 (dk_at dksX5_feed_1 13 rfl rfl)
theorem dX5_feed_39 : decode cX5_feed 39 = .ok (.bipush 8, 2) := dk_16 8 (dk_at dksX5_feed_1 15 rfl rfl)
theorem dX5_feed_41 : decode cX5_feed 41 = .ok (.if_icmp .ge 7, 3) := dk_162 0 7 (dk_at dksX5_feed_1 17 rfl rfl)
theorem dX5_feed_44 : decode cX5_feed 44 = .ok (.iload_n 2, 1) := dk_28 (dk_at dksX5_feed_1 20 rfl rfl)
theorem dX5_feed_45 : decode cX5_feed 45 = .ok (.goto 28, 3) := dk_167 0 28 (dk_at dksX5_feed_1 21 rfl rfl)
theorem dX5_feed_48 : decode cX5_feed 48 = .ok (.iload 6, 2) := dk_21 6 (dk_at dksX5_feed_2 0 rfl rfl)
theorem dX5_feed_50 : decode cX5_feed 50 = .ok (.bipush 12, 2) := dk_16 12 (dk_at dksX5_feed_2 2 rfl rfl)
theorem dX5_feed_52 : decode cX5_feed 52 = .ok (.if_icmp .ge 7, 3) := dk_162 0 7 (dk_at dksX5_feed_2 4 rfl rfl)
theorem dX5_feed_55 : decode cX5_feed 55 = .ok (.iload_n 3, 1) := dk_29 (dk_at dksX5_feed_2 7 rfl rfl)
theorem dX5_feed_56 : decode cX5_feed 56 = .ok (.goto 17, 3) := dk_167 0 17 (dk_at dksX5_feed_2 8 rfl rfl)
theorem dX5_feed_59 : decode cX5_feed 59 = .ok (.iload 6, 2) := dk_21 6 (dk_at dksX5_feed_2 11 rfl rfl)
theorem dX5_feed_61 : decode cX5_feed 61 = .ok (.bipush 16, 2) := dk_16 16 (dk_at dksX5_feed_2 13 rfl rfl)
theorem dX5_feed_63 : decode cX5_feed 63 = .ok (.if_icmp .ge 8, 3) := dk_162 0 8 (dk_at dksX5_feed_2 15 rfl rfl)
theorem dX5_feed_66 : decode cX5_feed 66 = .ok (.iload 4, 2) := dk_21 4 (dk_at dksX5_feed_2 18 rfl rfl)
theorem dX5_feed_68 : decode cX5_feed 68 = .ok (.goto 5, 3) := dk_167 0 5 (dk_at dksX5_feed_2 20 rfl rfl)
theorem dX5_feed_71 : decode cX5_feed 71 = .ok (.iload 5, 2) := dk_21 5 (dk_at dksX5_feed_3 0 rfl rfl)
theorem dX5_feed_73 : decode cX5_feed 73 = .ok (.istore 7, 2) := dk_54 7 (dk_at dksX5_feed_3 2 rfl rfl)
theorem dX5_feed_75 : decode cX5_feed 75 = .ok (.aload_n 0, 1) := dk_42 (dk_at dksX5_feed_3 4 rfl rfl)
theorem dX5_feed_76 : decode cX5_feed 76 = .ok (.getfield 7, 3) := dk_180 0 7 (dk_at dksX5_feed_3 5 rfl rfl)
theorem dX5_feed_79 : decode cX5_feed 79 = .ok (.bipush 10, 2) := dk_16 10 (dk_at dksX5_feed_3 8 rfl rfl)
theorem dX5_feed_81 : decode cX5_feed 81 = .ok (.aload_n 0, 1) := dk_42 (dk_at dksX5_feed_3 10 rfl rfl)
theorem dX5_feed_82 : decode cX5_feed 82 = .ok (.getfield 7, 3) := dk_180 0 7 (dk_at dksX5_feed_3 11 rfl rfl)
theorem dX5_feed_85 : decode cX5_feed 85 = .ok (.iconst 4, 1) := dk_7 (dk_at dksX5_feed_3 14 rfl rfl)
theorem dX5_feed_86 : decode cX5_feed 86 = .ok (.iaload, 1) := dk_46 (dk_at dksX5_feed_3 15 rfl rfl)
theorem dX5_feed_87 : decode cX5_feed 87 = .ok (.iadd, 1) := dk_96 (dk_at dksX5_feed_3 16 rfl rfl)
theorem dX5_feed_88 : decode cX5_feed 88 = .ok (.iload 7, 2) := dk_21 7 (dk_at dksX5_feed_3 17 rfl rfl)
theorem dX5_feed_90 : decode cX5_feed 90 = .ok (.bipush 24, 2) := dk_16 24 (dk_at dksX5_feed_3 19 rfl rfl)
theorem dX5_feed_92 : decode cX5_feed 92 = .ok (.bipush 8, 2) := dk_16 8 (dk_at dksX5_feed_3 21 rfl rfl)
theorem dX5_feed_94 : decode cX5_feed 94 = .ok (.iload 6, 2) := dk_21 6 (dk_at dksX5_feed_4 0 rfl rfl)
theorem dX5_feed_96 : decode cX5_feed 96 = .ok (.iconst 4, 1) := dk_7 (dk_at dksX5_feed_4 2 rfl rfl)
theorem dX5_feed_97 : decode cX5_feed 97 = .ok (.irem, 1) := dk_112 (dk_at dksX5_feed_4 3 rfl rfl)
theorem dX5_feed_98 : decode cX5_feed 98 = .ok (.imul, 1) := dk_104 (dk_at dksX5_feed_4 4 rfl rfl)
theorem dX5_feed_99 : decode cX5_feed 99 = .ok (.isub, 1) := dk_100 (dk_at dksX5_feed_4 5 rfl rfl)
theorem dX5_feed_100 : decode cX5_feed 100 = .ok (.ishr, 1) := dk_122 (dk_at dksX5_feed_4 6 rfl rfl)
theorem dX5_feed_101 : decode cX5_feed 101 = .ok (.sipush 255, 3) := dk_17 0 255 (dk_at dksX5_feed_4 7 rfl rfl)
theorem dX5_feed_104 : decode cX5_feed 104 = .ok (.iand, 1) := dk_126 (dk_at dksX5_feed_4 10 rfl rfl)
theorem dX5_feed_105 : decode cX5_feed 105 = .ok (.iastore, 1) := dk_79 (dk_at dksX5_feed_4 11 rfl rfl)
theorem dX5_feed_106 : decode cX5_feed 106 = .ok (.aload_n 0, 1) := dk_42 (dk_at dksX5_feed_4 12 rfl rfl)
theorem dX5_feed_107 : decode cX5_feed 107 = .ok (.getfield 7, 3) := dk_180 0 7 (dk_at dksX5_feed_4 13 rfl rfl)
theorem dX5_feed_110 : decode cX5_feed 110 = .ok (.iconst 4, 1) := dk_7 (dk_at dksX5_feed_4 16 rfl rfl)
theorem dX5_feed_111 : decode cX5_feed 111 = .ok (.dup2, 1) := dk_92 (dk_at dksX5_feed_4 17 rfl rfl)
theorem dX5_feed_112 : decode cX5_feed 112 = .ok (.iaload, 1) := dk_46 (dk_at dksX5_feed_4 18 rfl rfl)
theorem dX5_feed_113 : decode cX5_feed 113 = .ok (.iconst 1, 1) := dk_4 (dk_at dksX5_feed_4 19 rfl rfl)
theorem dX5_feed_114 : decode cX5_feed 114 = .ok (.iadd, 1) := dk_96 (dk_at dksX5_feed_4 20 rfl rfl)
theorem dX5_feed_115 : decode cX5_feed 115 = .ok (.iastore, 1) := dk_79 (dk_at dksX5_feed_4 21 rfl rfl)
theorem dX5_feed_116 : decode cX5_feed 116 = .ok (.iinc 6 1, 3) := dk_132 6 1 (dk_at dksX5_feed_5 0 rfl rfl)
theorem dX5_feed_119 : decode cX5_feed 119 = .ok (.goto (-99), 3) := dk_167 255 157 (dk_at dksX5_feed_5 3 rfl rfl)
theorem dX5_feed_122 : decode cX5_feed 122 = .ok (.aload_n 0, 1) := dk_42 (dk_at dksX5_feed_5 6 rfl rfl)
theorem dX5_feed_123 : decode cX5_feed 123 = .ok (.getfield 7, 3) := dk_180 0 7 (dk_at dksX5_feed_5 7 rfl rfl)
theorem dX5_feed_126 : decode cX5_feed 126 = .ok (.iconst 4, 1) := dk_7 (dk_at dksX5_feed_5 10 rfl rfl)
theorem dX5_feed_127 : decode cX5_feed 127 = .ok (.iaload, 1) := dk_46 (dk_at dksX5_feed_5 11 rfl rfl)
theorem dX5_feed_128 : decode cX5_feed 128 = .ok (.ireturn, 1) := dk_172 (dk_at dksX5_feed_5 12 rfl rfl)
abbrev cX5_end : ByteArray := prog_24_method_4_code
def yX5_end : MethodName := ⟨RX5, "end", "(I)I"⟩
def dkwX5_end_1 : List UInt8 := [172]
abbrev dktX5_end_1 : List UInt8 := dkwX5_end_1 ++ []
def dkwX5_end_0 : List UInt8 := [27, 155, 0, 13, 27, 42, 180, 0, 7, 7, 46, 164, 0, 5, 2, 172, 42, 180, 0, 7, 7, 27, 79, 27]
abbrev dktX5_end_0 : List UInt8 := dkwX5_end_0 ++ dktX5_end_1
theorem dksX5_end_0 : cX5_end.data.toList.drop 0 = dktX5_end_0 := by decide +kernel
theorem dksX5_end_1 : cX5_end.data.toList.drop 24 = dktX5_end_1 := dk_seg dksX5_end_0 24 rfl rfl
theorem dX5_end_0 : decode cX5_end 0 = .ok (.iload_n 1, 1) := dk_27 (dk_at dksX5_end_0 0 rfl rfl)
theorem dX5_end_1 : decode cX5_end 1 = .ok (.ifCond .lt 13, 3) := dk_155 0 13 (dk_at dksX5_end_0 1 rfl rfl)
theorem dX5_end_4 : decode cX5_end 4 = .ok (.iload_n 1, 1) := dk_27 (dk_at dksX5_end_0 4 rfl rfl)
theorem dX5_end_5 : decode cX5_end 5 = .ok (.aload_n 0, 1) := dk_42 (dk_at dksX5_end_0 5 rfl rfl)
theorem dX5_end_6 : decode cX5_end 6 = .ok (.getfield 7, 3) := dk_180 0 7 (dk_at dksX5_end_0 6 rfl rfl)
theorem dX5_end_9 : decode cX5_end 9 = .ok (.iconst 4, 1) := dk_7 (dk_at dksX5_end_0 9 rfl rfl)
theorem dX5_end_10 : decode cX5_end 10 = .ok (.iaload, 1) := dk_46 (dk_at dksX5_end_0 10 rfl rfl)
theorem dX5_end_11 : decode cX5_end 11 = .ok (.if_icmp .le 5, 3) := dk_164 0 5 (dk_at dksX5_end_0 11 rfl rfl)
theorem dX5_end_14 : decode cX5_end 14 = .ok (.iconst (-1), 1) := dk_2 (dk_at dksX5_end_0 14 rfl rfl)
theorem dX5_end_15 : decode cX5_end 15 = .ok (.ireturn, 1) := dk_172 (dk_at dksX5_end_0 15 rfl rfl)
theorem dX5_end_16 : decode cX5_end 16 = .ok (.aload_n 0, 1) := dk_42 (dk_at dksX5_end_0 16 rfl rfl)
theorem dX5_end_17 : decode cX5_end 17 = .ok (.getfield 7, 3) := dk_180 0 7 (dk_at dksX5_end_0 17 rfl rfl)
theorem dX5_end_20 : decode cX5_end 20 = .ok (.iconst 4, 1) := dk_7 (dk_at dksX5_end_0 20 rfl rfl)
theorem dX5_end_21 : decode cX5_end 21 = .ok (.iload_n 1, 1) := dk_27 (dk_at dksX5_end_0 21 rfl rfl)
theorem dX5_end_22 : decode cX5_end 22 = .ok (.iastore, 1) := dk_79 (dk_at dksX5_end_0 22 rfl rfl)
theorem dX5_end_23 : decode cX5_end 23 = .ok (.iload_n 1, 1) := dk_27 (dk_at dksX5_end_0 23 rfl rfl)
theorem dX5_end_24 : decode cX5_end 24 = .ok (.ireturn, 1) := dk_172 (dk_at dksX5_end_1 0 rfl rfl)
abbrev cX5_text : ByteArray := prog_24_method_31_code
def yX5_text : MethodName := ⟨RX5, "text", "(II)I"⟩
def dkwX5_text_10 : List UInt8 := [96, 42, 180, 0, 17, 21, 4, 46, 79, 132, 4, 1, 167, 255, 224, 29, 172]
abbrev dktX5_text_10 : List UInt8 := dkwX5_text_10 ++ []
def dkwX5_text_9 : List UInt8 := [79, 3, 54, 4, 21, 4, 27, 184, 0, 203, 162, 0, 29, 42, 180, 0, 7, 27, 29, 184, 0, 206, 21, 4]
abbrev dktX5_text_9 : List UInt8 := dkwX5_text_9 ++ dktX5_text_10
def dkwX5_text_8 : List UInt8 := [180, 0, 7, 27, 46, 167, 0, 4, 28, 62, 28, 2, 160, 0, 13, 42, 180, 0, 7, 27, 92, 46, 4, 96]
abbrev dktX5_text_8 : List UInt8 := dkwX5_text_8 ++ dktX5_text_9
def dkwX5_text_7 : List UInt8 := [182, 0, 200, 167, 255, 189, 42, 180, 0, 7, 8, 46, 153, 0, 5, 2, 172, 28, 2, 160, 0, 12, 42]
abbrev dktX5_text_7 : List UInt8 := dkwX5_text_7 ++ dktX5_text_8
def dkwX5_text_6 : List UInt8 := [42, 182, 0, 191, 167, 255, 210, 42, 182, 0, 194, 167, 255, 203, 42, 182, 0, 197, 167, 255, 196, 42]
abbrev dktX5_text_6 : List UInt8 := dkwX5_text_6 ++ dktX5_text_7
def dkwX5_text_5 : List UInt8 := [170, 0, 0, 0, 0, 0, 48, 0, 0, 0, 0, 0, 0, 0, 2, 0, 0, 0, 27, 0, 0, 0, 34, 0, 0, 0, 41]
abbrev dktX5_text_5 : List UInt8 := dkwX5_text_5 ++ dktX5_text_6
def dkwX5_text_4 : List UInt8 := [154, 0, 66, 42, 180, 0, 115, 153, 0, 59, 27]
abbrev dktX5_text_4 : List UInt8 := dkwX5_text_4 ++ dktX5_text_5
def dkwX5_text_3 : List UInt8 := [42, 3, 181, 0, 105, 42, 3, 181, 0, 138, 42, 27, 182, 0, 187, 42, 182, 0, 153, 42, 180, 0, 138]
abbrev dktX5_text_3 : List UInt8 := dkwX5_text_3 ++ dktX5_text_4
def dkwX5_text_2 : List UInt8 := [180, 0, 7, 27, 46, 5, 161, 0, 18, 167, 0, 12, 42, 27, 28, 182, 0, 183, 154, 0, 6, 16, 254, 172]
abbrev dktX5_text_2 : List UInt8 := dkwX5_text_2 ++ dktX5_text_3
def dkwX5_text_1 : List UInt8 := [42, 180, 0, 7, 16, 6, 2, 79, 27, 3, 6, 184, 0, 145, 153, 0, 30, 28, 2, 160, 0, 16, 42]
abbrev dktX5_text_1 : List UInt8 := dkwX5_text_1 ++ dktX5_text_2
def dkwX5_text_0 : List UInt8 := [42, 42, 180, 0, 7, 7, 46, 181, 0, 87, 42, 180, 0, 7, 7, 3, 79, 42, 180, 0, 7, 8, 3, 79]
abbrev dktX5_text_0 : List UInt8 := dkwX5_text_0 ++ dktX5_text_1
theorem dksX5_text_0 : cX5_text.data.toList.drop 0 = dktX5_text_0 := by decide +kernel
theorem dksX5_text_1 : cX5_text.data.toList.drop 24 = dktX5_text_1 := dk_seg dksX5_text_0 24 rfl rfl
theorem dksX5_text_2 : cX5_text.data.toList.drop 47 = dktX5_text_2 := dk_seg dksX5_text_1 23 rfl rfl
theorem dksX5_text_3 : cX5_text.data.toList.drop 71 = dktX5_text_3 := dk_seg dksX5_text_2 24 rfl rfl
theorem dksX5_text_4 : cX5_text.data.toList.drop 94 = dktX5_text_4 := dk_seg dksX5_text_3 23 rfl rfl
theorem dksX5_text_5 : cX5_text.data.toList.drop 105 = dktX5_text_5 := dk_seg dksX5_text_4 11 rfl rfl
theorem dksX5_text_6 : cX5_text.data.toList.drop 132 = dktX5_text_6 := dk_seg dksX5_text_5 27 rfl rfl
theorem dksX5_text_7 : cX5_text.data.toList.drop 154 = dktX5_text_7 := dk_seg dksX5_text_6 22 rfl rfl
theorem dksX5_text_8 : cX5_text.data.toList.drop 177 = dktX5_text_8 := dk_seg dksX5_text_7 23 rfl rfl
theorem dksX5_text_9 : cX5_text.data.toList.drop 201 = dktX5_text_9 := dk_seg dksX5_text_8 24 rfl rfl
theorem dksX5_text_10 : cX5_text.data.toList.drop 225 = dktX5_text_10 := dk_seg dksX5_text_9 24 rfl rfl
theorem dX5_text_0 : decode cX5_text 0 = .ok (.aload_n 0, 1) := dk_42 (dk_at dksX5_text_0 0 rfl rfl)
theorem dX5_text_1 : decode cX5_text 1 = .ok (.aload_n 0, 1) := dk_42 (dk_at dksX5_text_0 1 rfl rfl)
theorem dX5_text_2 : decode cX5_text 2 = .ok (.getfield 7, 3) := dk_180 0 7 (dk_at dksX5_text_0 2 rfl rfl)
theorem dX5_text_5 : decode cX5_text 5 = .ok (.iconst 4, 1) := dk_7 (dk_at dksX5_text_0 5 rfl rfl)
theorem dX5_text_6 : decode cX5_text 6 = .ok (.iaload, 1) := dk_46 (dk_at dksX5_text_0 6 rfl rfl)
theorem dX5_text_7 : decode cX5_text 7 = .ok (.putfield 87, 3) := dk_181 0 87 (dk_at dksX5_text_0 7 rfl rfl)
theorem dX5_text_10 : decode cX5_text 10 = .ok (.aload_n 0, 1) := dk_42 (dk_at dksX5_text_0 10 rfl rfl)
theorem dX5_text_11 : decode cX5_text 11 = .ok (.getfield 7, 3) := dk_180 0 7 (dk_at dksX5_text_0 11 rfl rfl)
theorem dX5_text_14 : decode cX5_text 14 = .ok (.iconst 4, 1) := dk_7 (dk_at dksX5_text_0 14 rfl rfl)
theorem dX5_text_15 : decode cX5_text 15 = .ok (.iconst 0, 1) := dk_3 (dk_at dksX5_text_0 15 rfl rfl)
theorem dX5_text_16 : decode cX5_text 16 = .ok (.iastore, 1) := dk_79 (dk_at dksX5_text_0 16 rfl rfl)
theorem dX5_text_17 : decode cX5_text 17 = .ok (.aload_n 0, 1) := dk_42 (dk_at dksX5_text_0 17 rfl rfl)
theorem dX5_text_18 : decode cX5_text 18 = .ok (.getfield 7, 3) := dk_180 0 7 (dk_at dksX5_text_0 18 rfl rfl)
theorem dX5_text_21 : decode cX5_text 21 = .ok (.iconst 5, 1) := dk_8 (dk_at dksX5_text_0 21 rfl rfl)
theorem dX5_text_22 : decode cX5_text 22 = .ok (.iconst 0, 1) := dk_3 (dk_at dksX5_text_0 22 rfl rfl)
theorem dX5_text_23 : decode cX5_text 23 = .ok (.iastore, 1) := dk_79 (dk_at dksX5_text_0 23 rfl rfl)
theorem dX5_text_24 : decode cX5_text 24 = .ok (.aload_n 0, 1) := dk_42 (dk_at dksX5_text_1 0 rfl rfl)
theorem dX5_text_25 : decode cX5_text 25 = .ok (.getfield 7, 3) := dk_180 0 7 (dk_at dksX5_text_1 1 rfl rfl)
theorem dX5_text_28 : decode cX5_text 28 = .ok (.bipush 6, 2) := dk_16 6 (dk_at dksX5_text_1 4 rfl rfl)
theorem dX5_text_30 : decode cX5_text 30 = .ok (.iconst (-1), 1) := dk_2 (dk_at dksX5_text_1 6 rfl rfl)
theorem dX5_text_31 : decode cX5_text 31 = .ok (.iastore, 1) := dk_79 (dk_at dksX5_text_1 7 rfl rfl)
theorem dX5_text_32 : decode cX5_text 32 = .ok (.iload_n 1, 1) := dk_27 (dk_at dksX5_text_1 8 rfl rfl)
theorem dX5_text_33 : decode cX5_text 33 = .ok (.iconst 0, 1) := dk_3 (dk_at dksX5_text_1 9 rfl rfl)
theorem dX5_text_34 : decode cX5_text 34 = .ok (.iconst 3, 1) := dk_6 (dk_at dksX5_text_1 10 rfl rfl)
theorem dX5_text_35 : decode cX5_text 35 = .ok (.invokestatic 145, 3) := dk_184 0 145 (dk_at dksX5_text_1 11 rfl rfl)
theorem dX5_text_38 : decode cX5_text 38 = .ok (.ifCond .eq 30, 3) := dk_153 0 30 (dk_at dksX5_text_1 14 rfl rfl)
theorem dX5_text_41 : decode cX5_text 41 = .ok (.iload_n 2, 1) := dk_28 (dk_at dksX5_text_1 17 rfl rfl)
theorem dX5_text_42 : decode cX5_text 42 = .ok (.iconst (-1), 1) := dk_2 (dk_at dksX5_text_1 18 rfl rfl)
theorem dX5_text_43 : decode cX5_text 43 = .ok (.if_icmp .ne 16, 3) := dk_160 0 16 (dk_at dksX5_text_1 19 rfl rfl)
theorem dX5_text_46 : decode cX5_text 46 = .ok (.aload_n 0, 1) := dk_42 (dk_at dksX5_text_1 22 rfl rfl)
theorem dX5_text_47 : decode cX5_text 47 = .ok (.getfield 7, 3) := dk_180 0 7 (dk_at dksX5_text_2 0 rfl rfl)
theorem dX5_text_50 : decode cX5_text 50 = .ok (.iload_n 1, 1) := dk_27 (dk_at dksX5_text_2 3 rfl rfl)
theorem dX5_text_51 : decode cX5_text 51 = .ok (.iaload, 1) := dk_46 (dk_at dksX5_text_2 4 rfl rfl)
theorem dX5_text_52 : decode cX5_text 52 = .ok (.iconst 2, 1) := dk_5 (dk_at dksX5_text_2 5 rfl rfl)
theorem dX5_text_53 : decode cX5_text 53 = .ok (.if_icmp .lt 18, 3) := dk_161 0 18 (dk_at dksX5_text_2 6 rfl rfl)
theorem dX5_text_56 : decode cX5_text 56 = .ok (.goto 12, 3) := dk_167 0 12 (dk_at dksX5_text_2 9 rfl rfl)
theorem dX5_text_59 : decode cX5_text 59 = .ok (.aload_n 0, 1) := dk_42 (dk_at dksX5_text_2 12 rfl rfl)
theorem dX5_text_60 : decode cX5_text 60 = .ok (.iload_n 1, 1) := dk_27 (dk_at dksX5_text_2 13 rfl rfl)
theorem dX5_text_61 : decode cX5_text 61 = .ok (.iload_n 2, 1) := dk_28 (dk_at dksX5_text_2 14 rfl rfl)
theorem dX5_text_62 : decode cX5_text 62 = .ok (.invokevirtual 183, 3) := dk_182 0 183 (dk_at dksX5_text_2 15 rfl rfl)
theorem dX5_text_65 : decode cX5_text 65 = .ok (.ifCond .ne 6, 3) := dk_154 0 6 (dk_at dksX5_text_2 18 rfl rfl)
theorem dX5_text_68 : decode cX5_text 68 = .ok (.bipush (-2), 2) := dk_16 254 (dk_at dksX5_text_2 21 rfl rfl)
theorem dX5_text_70 : decode cX5_text 70 = .ok (.ireturn, 1) := dk_172 (dk_at dksX5_text_2 23 rfl rfl)
theorem dX5_text_71 : decode cX5_text 71 = .ok (.aload_n 0, 1) := dk_42 (dk_at dksX5_text_3 0 rfl rfl)
theorem dX5_text_72 : decode cX5_text 72 = .ok (.iconst 0, 1) := dk_3 (dk_at dksX5_text_3 1 rfl rfl)
theorem dX5_text_73 : decode cX5_text 73 = .ok (.putfield 105, 3) := dk_181 0 105 (dk_at dksX5_text_3 2 rfl rfl)
theorem dX5_text_76 : decode cX5_text 76 = .ok (.aload_n 0, 1) := dk_42 (dk_at dksX5_text_3 5 rfl rfl)
theorem dX5_text_77 : decode cX5_text 77 = .ok (.iconst 0, 1) := dk_3 (dk_at dksX5_text_3 6 rfl rfl)
theorem dX5_text_78 : decode cX5_text 78 = .ok (.putfield 138, 3) := dk_181 0 138 (dk_at dksX5_text_3 7 rfl rfl)
theorem dX5_text_81 : decode cX5_text 81 = .ok (.aload_n 0, 1) := dk_42 (dk_at dksX5_text_3 10 rfl rfl)
theorem dX5_text_82 : decode cX5_text 82 = .ok (.iload_n 1, 1) := dk_27 (dk_at dksX5_text_3 11 rfl rfl)
theorem dX5_text_83 : decode cX5_text 83 = .ok (.invokevirtual 187, 3) := dk_182 0 187 (dk_at dksX5_text_3 12 rfl rfl)
theorem dX5_text_86 : decode cX5_text 86 = .ok (.aload_n 0, 1) := dk_42 (dk_at dksX5_text_3 15 rfl rfl)
theorem dX5_text_87 : decode cX5_text 87 = .ok (.invokevirtual 153, 3) := dk_182 0 153 (dk_at dksX5_text_3 16 rfl rfl)
theorem dX5_text_90 : decode cX5_text 90 = .ok (.aload_n 0, 1) := dk_42 (dk_at dksX5_text_3 19 rfl rfl)
theorem dX5_text_91 : decode cX5_text 91 = .ok (.getfield 138, 3) := dk_180 0 138 (dk_at dksX5_text_3 20 rfl rfl)
theorem dX5_text_94 : decode cX5_text 94 = .ok (.ifCond .ne 66, 3) := dk_154 0 66 (dk_at dksX5_text_4 0 rfl rfl)
theorem dX5_text_97 : decode cX5_text 97 = .ok (.aload_n 0, 1) := dk_42 (dk_at dksX5_text_4 3 rfl rfl)
theorem dX5_text_98 : decode cX5_text 98 = .ok (.getfield 115, 3) := dk_180 0 115 (dk_at dksX5_text_4 4 rfl rfl)
theorem dX5_text_101 : decode cX5_text 101 = .ok (.ifCond .eq 59, 3) := dk_153 0 59 (dk_at dksX5_text_4 7 rfl rfl)
theorem dX5_text_104 : decode cX5_text 104 = .ok (.iload_n 1, 1) := dk_27 (dk_at dksX5_text_4 10 rfl rfl)
theorem dX5_text_105 : decode cX5_text 105 = .ok (.tableswitch 48 0 2 #[27, 34, 41], 27) := by decide +kernel
theorem dX5_text_132 : decode cX5_text 132 = .ok (.aload_n 0, 1) := dk_42 (dk_at dksX5_text_6 0 rfl rfl)
theorem dX5_text_133 : decode cX5_text 133 = .ok (.invokevirtual 191, 3) := dk_182 0 191 (dk_at dksX5_text_6 1 rfl rfl)
theorem dX5_text_136 : decode cX5_text 136 = .ok (.goto (-46), 3) := dk_167 255 210 (dk_at dksX5_text_6 4 rfl rfl)
theorem dX5_text_139 : decode cX5_text 139 = .ok (.aload_n 0, 1) := dk_42 (dk_at dksX5_text_6 7 rfl rfl)
theorem dX5_text_140 : decode cX5_text 140 = .ok (.invokevirtual 194, 3) := dk_182 0 194 (dk_at dksX5_text_6 8 rfl rfl)
theorem dX5_text_143 : decode cX5_text 143 = .ok (.goto (-53), 3) := dk_167 255 203 (dk_at dksX5_text_6 11 rfl rfl)
theorem dX5_text_146 : decode cX5_text 146 = .ok (.aload_n 0, 1) := dk_42 (dk_at dksX5_text_6 14 rfl rfl)
theorem dX5_text_147 : decode cX5_text 147 = .ok (.invokevirtual 197, 3) := dk_182 0 197 (dk_at dksX5_text_6 15 rfl rfl)
theorem dX5_text_150 : decode cX5_text 150 = .ok (.goto (-60), 3) := dk_167 255 196 (dk_at dksX5_text_6 18 rfl rfl)
theorem dX5_text_153 : decode cX5_text 153 = .ok (.aload_n 0, 1) := dk_42 (dk_at dksX5_text_6 21 rfl rfl)
theorem dX5_text_154 : decode cX5_text 154 = .ok (.invokevirtual 200, 3) := dk_182 0 200 (dk_at dksX5_text_7 0 rfl rfl)
theorem dX5_text_157 : decode cX5_text 157 = .ok (.goto (-67), 3) := dk_167 255 189 (dk_at dksX5_text_7 3 rfl rfl)
theorem dX5_text_160 : decode cX5_text 160 = .ok (.aload_n 0, 1) := dk_42 (dk_at dksX5_text_7 6 rfl rfl)
theorem dX5_text_161 : decode cX5_text 161 = .ok (.getfield 7, 3) := dk_180 0 7 (dk_at dksX5_text_7 7 rfl rfl)
theorem dX5_text_164 : decode cX5_text 164 = .ok (.iconst 5, 1) := dk_8 (dk_at dksX5_text_7 10 rfl rfl)
theorem dX5_text_165 : decode cX5_text 165 = .ok (.iaload, 1) := dk_46 (dk_at dksX5_text_7 11 rfl rfl)
theorem dX5_text_166 : decode cX5_text 166 = .ok (.ifCond .eq 5, 3) := dk_153 0 5 (dk_at dksX5_text_7 12 rfl rfl)
theorem dX5_text_169 : decode cX5_text 169 = .ok (.iconst (-1), 1) := dk_2 (dk_at dksX5_text_7 15 rfl rfl)
theorem dX5_text_170 : decode cX5_text 170 = .ok (.ireturn, 1) := dk_172 (dk_at dksX5_text_7 16 rfl rfl)
theorem dX5_text_171 : decode cX5_text 171 = .ok (.iload_n 2, 1) := dk_28 (dk_at dksX5_text_7 17 rfl rfl)
theorem dX5_text_172 : decode cX5_text 172 = .ok (.iconst (-1), 1) := dk_2 (dk_at dksX5_text_7 18 rfl rfl)
theorem dX5_text_173 : decode cX5_text 173 = .ok (.if_icmp .ne 12, 3) := dk_160 0 12 (dk_at dksX5_text_7 19 rfl rfl)
theorem dX5_text_176 : decode cX5_text 176 = .ok (.aload_n 0, 1) := dk_42 (dk_at dksX5_text_7 22 rfl rfl)
theorem dX5_text_177 : decode cX5_text 177 = .ok (.getfield 7, 3) := dk_180 0 7 (dk_at dksX5_text_8 0 rfl rfl)
theorem dX5_text_180 : decode cX5_text 180 = .ok (.iload_n 1, 1) := dk_27 (dk_at dksX5_text_8 3 rfl rfl)
theorem dX5_text_181 : decode cX5_text 181 = .ok (.iaload, 1) := dk_46 (dk_at dksX5_text_8 4 rfl rfl)
theorem dX5_text_182 : decode cX5_text 182 = .ok (.goto 4, 3) := dk_167 0 4 (dk_at dksX5_text_8 5 rfl rfl)
theorem dX5_text_185 : decode cX5_text 185 = .ok (.iload_n 2, 1) := dk_28 (dk_at dksX5_text_8 8 rfl rfl)
theorem dX5_text_186 : decode cX5_text 186 = .ok (.istore_n 3, 1) := dk_62 (dk_at dksX5_text_8 9 rfl rfl)
theorem dX5_text_187 : decode cX5_text 187 = .ok (.iload_n 2, 1) := dk_28 (dk_at dksX5_text_8 10 rfl rfl)
theorem dX5_text_188 : decode cX5_text 188 = .ok (.iconst (-1), 1) := dk_2 (dk_at dksX5_text_8 11 rfl rfl)
theorem dX5_text_189 : decode cX5_text 189 = .ok (.if_icmp .ne 13, 3) := dk_160 0 13 (dk_at dksX5_text_8 12 rfl rfl)
theorem dX5_text_192 : decode cX5_text 192 = .ok (.aload_n 0, 1) := dk_42 (dk_at dksX5_text_8 15 rfl rfl)
theorem dX5_text_193 : decode cX5_text 193 = .ok (.getfield 7, 3) := dk_180 0 7 (dk_at dksX5_text_8 16 rfl rfl)
theorem dX5_text_196 : decode cX5_text 196 = .ok (.iload_n 1, 1) := dk_27 (dk_at dksX5_text_8 19 rfl rfl)
theorem dX5_text_197 : decode cX5_text 197 = .ok (.dup2, 1) := dk_92 (dk_at dksX5_text_8 20 rfl rfl)
theorem dX5_text_198 : decode cX5_text 198 = .ok (.iaload, 1) := dk_46 (dk_at dksX5_text_8 21 rfl rfl)
theorem dX5_text_199 : decode cX5_text 199 = .ok (.iconst 1, 1) := dk_4 (dk_at dksX5_text_8 22 rfl rfl)
theorem dX5_text_200 : decode cX5_text 200 = .ok (.iadd, 1) := dk_96 (dk_at dksX5_text_8 23 rfl rfl)
theorem dX5_text_201 : decode cX5_text 201 = .ok (.iastore, 1) := dk_79 (dk_at dksX5_text_9 0 rfl rfl)
theorem dX5_text_202 : decode cX5_text 202 = .ok (.iconst 0, 1) := dk_3 (dk_at dksX5_text_9 1 rfl rfl)
theorem dX5_text_203 : decode cX5_text 203 = .ok (.istore 4, 2) := dk_54 4 (dk_at dksX5_text_9 2 rfl rfl)
theorem dX5_text_205 : decode cX5_text 205 = .ok (.iload 4, 2) := dk_21 4 (dk_at dksX5_text_9 4 rfl rfl)
theorem dX5_text_207 : decode cX5_text 207 = .ok (.iload_n 1, 1) := dk_27 (dk_at dksX5_text_9 6 rfl rfl)
theorem dX5_text_208 : decode cX5_text 208 = .ok (.invokestatic 203, 3) := dk_184 0 203 (dk_at dksX5_text_9 7 rfl rfl)
theorem dX5_text_211 : decode cX5_text 211 = .ok (.if_icmp .ge 29, 3) := dk_162 0 29 (dk_at dksX5_text_9 10 rfl rfl)
theorem dX5_text_214 : decode cX5_text 214 = .ok (.aload_n 0, 1) := dk_42 (dk_at dksX5_text_9 13 rfl rfl)
theorem dX5_text_215 : decode cX5_text 215 = .ok (.getfield 7, 3) := dk_180 0 7 (dk_at dksX5_text_9 14 rfl rfl)
theorem dX5_text_218 : decode cX5_text 218 = .ok (.iload_n 1, 1) := dk_27 (dk_at dksX5_text_9 17 rfl rfl)
theorem dX5_text_219 : decode cX5_text 219 = .ok (.iload_n 3, 1) := dk_29 (dk_at dksX5_text_9 18 rfl rfl)
theorem dX5_text_220 : decode cX5_text 220 = .ok (.invokestatic 206, 3) := dk_184 0 206 (dk_at dksX5_text_9 19 rfl rfl)
theorem dX5_text_223 : decode cX5_text 223 = .ok (.iload 4, 2) := dk_21 4 (dk_at dksX5_text_9 22 rfl rfl)
theorem dX5_text_225 : decode cX5_text 225 = .ok (.iadd, 1) := dk_96 (dk_at dksX5_text_10 0 rfl rfl)
theorem dX5_text_226 : decode cX5_text 226 = .ok (.aload_n 0, 1) := dk_42 (dk_at dksX5_text_10 1 rfl rfl)
theorem dX5_text_227 : decode cX5_text 227 = .ok (.getfield 17, 3) := dk_180 0 17 (dk_at dksX5_text_10 2 rfl rfl)
theorem dX5_text_230 : decode cX5_text 230 = .ok (.iload 4, 2) := dk_21 4 (dk_at dksX5_text_10 5 rfl rfl)
theorem dX5_text_232 : decode cX5_text 232 = .ok (.iaload, 1) := dk_46 (dk_at dksX5_text_10 7 rfl rfl)
theorem dX5_text_233 : decode cX5_text 233 = .ok (.iastore, 1) := dk_79 (dk_at dksX5_text_10 8 rfl rfl)
theorem dX5_text_234 : decode cX5_text 234 = .ok (.iinc 4 1, 3) := dk_132 4 1 (dk_at dksX5_text_10 9 rfl rfl)
theorem dX5_text_237 : decode cX5_text 237 = .ok (.goto (-32), 3) := dk_167 255 224 (dk_at dksX5_text_10 12 rfl rfl)
theorem dX5_text_240 : decode cX5_text 240 = .ok (.iload_n 3, 1) := dk_29 (dk_at dksX5_text_10 15 rfl rfl)
theorem dX5_text_241 : decode cX5_text 241 = .ok (.ireturn, 1) := dk_172 (dk_at dksX5_text_10 16 rfl rfl)
abbrev cX5_isIn : ByteArray := prog_24_method_2_code
def yX5_isIn : MethodName := ⟨RX5, "isIn", "(III)Z"⟩
def dkwX5_isIn_0 : List UInt8 := [26, 27, 161, 0, 12, 26, 28, 163, 0, 7, 4, 167, 0, 4, 3, 172]
abbrev dktX5_isIn_0 : List UInt8 := dkwX5_isIn_0 ++ []
theorem dksX5_isIn_0 : cX5_isIn.data.toList.drop 0 = dktX5_isIn_0 := by decide +kernel
theorem dX5_isIn_0 : decode cX5_isIn 0 = .ok (.iload_n 0, 1) := dk_26 (dk_at dksX5_isIn_0 0 rfl rfl)
theorem dX5_isIn_1 : decode cX5_isIn 1 = .ok (.iload_n 1, 1) := dk_27 (dk_at dksX5_isIn_0 1 rfl rfl)
theorem dX5_isIn_2 : decode cX5_isIn 2 = .ok (.if_icmp .lt 12, 3) := dk_161 0 12 (dk_at dksX5_isIn_0 2 rfl rfl)
theorem dX5_isIn_5 : decode cX5_isIn 5 = .ok (.iload_n 0, 1) := dk_26 (dk_at dksX5_isIn_0 5 rfl rfl)
theorem dX5_isIn_6 : decode cX5_isIn 6 = .ok (.iload_n 2, 1) := dk_28 (dk_at dksX5_isIn_0 6 rfl rfl)
theorem dX5_isIn_7 : decode cX5_isIn 7 = .ok (.if_icmp .gt 7, 3) := dk_163 0 7 (dk_at dksX5_isIn_0 7 rfl rfl)
theorem dX5_isIn_10 : decode cX5_isIn 10 = .ok (.iconst 1, 1) := dk_4 (dk_at dksX5_isIn_0 10 rfl rfl)
theorem dX5_isIn_11 : decode cX5_isIn 11 = .ok (.goto 4, 3) := dk_167 0 4 (dk_at dksX5_isIn_0 11 rfl rfl)
theorem dX5_isIn_14 : decode cX5_isIn 14 = .ok (.iconst 0, 1) := dk_3 (dk_at dksX5_isIn_0 14 rfl rfl)
theorem dX5_isIn_15 : decode cX5_isIn 15 = .ok (.ireturn, 1) := dk_172 (dk_at dksX5_isIn_0 15 rfl rfl)
abbrev cX5_isOf : ByteArray := prog_24_method_29_code
def yX5_isOf : MethodName := ⟨RX5, "isOf", "(II)Z"⟩
def dkwX5_isOf_0 : List UInt8 := [28, 3, 42, 180, 0, 7, 27, 46, 4, 100, 184, 0, 145, 172]
abbrev dktX5_isOf_0 : List UInt8 := dkwX5_isOf_0 ++ []
theorem dksX5_isOf_0 : cX5_isOf.data.toList.drop 0 = dktX5_isOf_0 := by decide +kernel
theorem dX5_isOf_0 : decode cX5_isOf 0 = .ok (.iload_n 2, 1) := dk_28 (dk_at dksX5_isOf_0 0 rfl rfl)
theorem dX5_isOf_1 : decode cX5_isOf 1 = .ok (.iconst 0, 1) := dk_3 (dk_at dksX5_isOf_0 1 rfl rfl)
theorem dX5_isOf_2 : decode cX5_isOf 2 = .ok (.aload_n 0, 1) := dk_42 (dk_at dksX5_isOf_0 2 rfl rfl)
theorem dX5_isOf_3 : decode cX5_isOf 3 = .ok (.getfield 7, 3) := dk_180 0 7 (dk_at dksX5_isOf_0 3 rfl rfl)
theorem dX5_isOf_6 : decode cX5_isOf 6 = .ok (.iload_n 1, 1) := dk_27 (dk_at dksX5_isOf_0 6 rfl rfl)
theorem dX5_isOf_7 : decode cX5_isOf 7 = .ok (.iaload, 1) := dk_46 (dk_at dksX5_isOf_0 7 rfl rfl)
theorem dX5_isOf_8 : decode cX5_isOf 8 = .ok (.iconst 1, 1) := dk_4 (dk_at dksX5_isOf_0 8 rfl rfl)
theorem dX5_isOf_9 : decode cX5_isOf 9 = .ok (.isub, 1) := dk_100 (dk_at dksX5_isOf_0 9 rfl rfl)
theorem dX5_isOf_10 : decode cX5_isOf 10 = .ok (.invokestatic 145, 3) := dk_184 0 145 (dk_at dksX5_isOf_0 10 rfl rfl)
theorem dX5_isOf_13 : decode cX5_isOf 13 = .ok (.ireturn, 1) := dk_172 (dk_at dksX5_isOf_0 13 rfl rfl)
abbrev cX5_clears : ByteArray := prog_24_method_30_code
def yX5_clears : MethodName := ⟨RX5, "clears", "(I)V"⟩
def dkwX5_clears_4 : List UInt8 := [180, 0, 17, 4, 2, 79, 177]
abbrev dktX5_clears_4 : List UInt8 := dkwX5_clears_4 ++ []
def dkwX5_clears_3 : List UInt8 := [42, 180, 0, 17, 16, 14, 16, 10, 79, 27, 5, 160, 0, 17, 42, 180, 0, 17, 3, 2, 79, 42]
abbrev dktX5_clears_3 : List UInt8 := dkwX5_clears_3 ++ dktX5_clears_4
def dkwX5_clears_2 : List UInt8 := [28, 79, 132, 2, 1, 167, 255, 239, 42, 180, 0, 17, 16, 9, 4, 79, 42, 180, 0, 17, 16, 10, 4, 79]
abbrev dktX5_clears_2 : List UInt8 := dkwX5_clears_2 ++ dktX5_clears_3
def dkwX5_clears_1 : List UInt8 := [154, 0, 57, 42, 180, 0, 17, 3, 4, 79, 3, 61, 28, 7, 162, 0, 18, 42, 180, 0, 17, 6, 28, 96]
abbrev dktX5_clears_1 : List UInt8 := dkwX5_clears_1 ++ dktX5_clears_2
def dkwX5_clears_0 : List UInt8 := [3, 61, 28, 16, 89, 162, 0, 16, 42, 180, 0, 17, 28, 3, 79, 132, 2, 1, 167, 255, 240, 27]
abbrev dktX5_clears_0 : List UInt8 := dkwX5_clears_0 ++ dktX5_clears_1
theorem dksX5_clears_0 : cX5_clears.data.toList.drop 0 = dktX5_clears_0 := by decide +kernel
theorem dksX5_clears_1 : cX5_clears.data.toList.drop 22 = dktX5_clears_1 := dk_seg dksX5_clears_0 22 rfl rfl
theorem dksX5_clears_2 : cX5_clears.data.toList.drop 46 = dktX5_clears_2 := dk_seg dksX5_clears_1 24 rfl rfl
theorem dksX5_clears_3 : cX5_clears.data.toList.drop 70 = dktX5_clears_3 := dk_seg dksX5_clears_2 24 rfl rfl
theorem dksX5_clears_4 : cX5_clears.data.toList.drop 92 = dktX5_clears_4 := dk_seg dksX5_clears_3 22 rfl rfl
theorem dX5_clears_0 : decode cX5_clears 0 = .ok (.iconst 0, 1) := dk_3 (dk_at dksX5_clears_0 0 rfl rfl)
theorem dX5_clears_1 : decode cX5_clears 1 = .ok (.istore_n 2, 1) := dk_61 (dk_at dksX5_clears_0 1 rfl rfl)
theorem dX5_clears_2 : decode cX5_clears 2 = .ok (.iload_n 2, 1) := dk_28 (dk_at dksX5_clears_0 2 rfl rfl)
theorem dX5_clears_3 : decode cX5_clears 3 = .ok (.bipush 89, 2) := dk_16 89 (dk_at dksX5_clears_0 3 rfl rfl)
theorem dX5_clears_5 : decode cX5_clears 5 = .ok (.if_icmp .ge 16, 3) := dk_162 0 16 (dk_at dksX5_clears_0 5 rfl rfl)
theorem dX5_clears_8 : decode cX5_clears 8 = .ok (.aload_n 0, 1) := dk_42 (dk_at dksX5_clears_0 8 rfl rfl)
theorem dX5_clears_9 : decode cX5_clears 9 = .ok (.getfield 17, 3) := dk_180 0 17 (dk_at dksX5_clears_0 9 rfl rfl)
theorem dX5_clears_12 : decode cX5_clears 12 = .ok (.iload_n 2, 1) := dk_28 (dk_at dksX5_clears_0 12 rfl rfl)
theorem dX5_clears_13 : decode cX5_clears 13 = .ok (.iconst 0, 1) := dk_3 (dk_at dksX5_clears_0 13 rfl rfl)
theorem dX5_clears_14 : decode cX5_clears 14 = .ok (.iastore, 1) := dk_79 (dk_at dksX5_clears_0 14 rfl rfl)
theorem dX5_clears_15 : decode cX5_clears 15 = .ok (.iinc 2 1, 3) := dk_132 2 1 (dk_at dksX5_clears_0 15 rfl rfl)
theorem dX5_clears_18 : decode cX5_clears 18 = .ok (.goto (-16), 3) := dk_167 255 240 (dk_at dksX5_clears_0 18 rfl rfl)
theorem dX5_clears_21 : decode cX5_clears 21 = .ok (.iload_n 1, 1) := dk_27 (dk_at dksX5_clears_0 21 rfl rfl)
theorem dX5_clears_22 : decode cX5_clears 22 = .ok (.ifCond .ne 57, 3) := dk_154 0 57 (dk_at dksX5_clears_1 0 rfl rfl)
theorem dX5_clears_25 : decode cX5_clears 25 = .ok (.aload_n 0, 1) := dk_42 (dk_at dksX5_clears_1 3 rfl rfl)
theorem dX5_clears_26 : decode cX5_clears 26 = .ok (.getfield 17, 3) := dk_180 0 17 (dk_at dksX5_clears_1 4 rfl rfl)
theorem dX5_clears_29 : decode cX5_clears 29 = .ok (.iconst 0, 1) := dk_3 (dk_at dksX5_clears_1 7 rfl rfl)
theorem dX5_clears_30 : decode cX5_clears 30 = .ok (.iconst 1, 1) := dk_4 (dk_at dksX5_clears_1 8 rfl rfl)
theorem dX5_clears_31 : decode cX5_clears 31 = .ok (.iastore, 1) := dk_79 (dk_at dksX5_clears_1 9 rfl rfl)
theorem dX5_clears_32 : decode cX5_clears 32 = .ok (.iconst 0, 1) := dk_3 (dk_at dksX5_clears_1 10 rfl rfl)
theorem dX5_clears_33 : decode cX5_clears 33 = .ok (.istore_n 2, 1) := dk_61 (dk_at dksX5_clears_1 11 rfl rfl)
theorem dX5_clears_34 : decode cX5_clears 34 = .ok (.iload_n 2, 1) := dk_28 (dk_at dksX5_clears_1 12 rfl rfl)
theorem dX5_clears_35 : decode cX5_clears 35 = .ok (.iconst 4, 1) := dk_7 (dk_at dksX5_clears_1 13 rfl rfl)
theorem dX5_clears_36 : decode cX5_clears 36 = .ok (.if_icmp .ge 18, 3) := dk_162 0 18 (dk_at dksX5_clears_1 14 rfl rfl)
theorem dX5_clears_39 : decode cX5_clears 39 = .ok (.aload_n 0, 1) := dk_42 (dk_at dksX5_clears_1 17 rfl rfl)
theorem dX5_clears_40 : decode cX5_clears 40 = .ok (.getfield 17, 3) := dk_180 0 17 (dk_at dksX5_clears_1 18 rfl rfl)
theorem dX5_clears_43 : decode cX5_clears 43 = .ok (.iconst 3, 1) := dk_6 (dk_at dksX5_clears_1 21 rfl rfl)
theorem dX5_clears_44 : decode cX5_clears 44 = .ok (.iload_n 2, 1) := dk_28 (dk_at dksX5_clears_1 22 rfl rfl)
theorem dX5_clears_45 : decode cX5_clears 45 = .ok (.iadd, 1) := dk_96 (dk_at dksX5_clears_1 23 rfl rfl)
theorem dX5_clears_46 : decode cX5_clears 46 = .ok (.iload_n 2, 1) := dk_28 (dk_at dksX5_clears_2 0 rfl rfl)
theorem dX5_clears_47 : decode cX5_clears 47 = .ok (.iastore, 1) := dk_79 (dk_at dksX5_clears_2 1 rfl rfl)
theorem dX5_clears_48 : decode cX5_clears 48 = .ok (.iinc 2 1, 3) := dk_132 2 1 (dk_at dksX5_clears_2 2 rfl rfl)
theorem dX5_clears_51 : decode cX5_clears 51 = .ok (.goto (-17), 3) := dk_167 255 239 (dk_at dksX5_clears_2 5 rfl rfl)
theorem dX5_clears_54 : decode cX5_clears 54 = .ok (.aload_n 0, 1) := dk_42 (dk_at dksX5_clears_2 8 rfl rfl)
theorem dX5_clears_55 : decode cX5_clears 55 = .ok (.getfield 17, 3) := dk_180 0 17 (dk_at dksX5_clears_2 9 rfl rfl)
theorem dX5_clears_58 : decode cX5_clears 58 = .ok (.bipush 9, 2) := dk_16 9 (dk_at dksX5_clears_2 12 rfl rfl)
theorem dX5_clears_60 : decode cX5_clears 60 = .ok (.iconst 1, 1) := dk_4 (dk_at dksX5_clears_2 14 rfl rfl)
theorem dX5_clears_61 : decode cX5_clears 61 = .ok (.iastore, 1) := dk_79 (dk_at dksX5_clears_2 15 rfl rfl)
theorem dX5_clears_62 : decode cX5_clears 62 = .ok (.aload_n 0, 1) := dk_42 (dk_at dksX5_clears_2 16 rfl rfl)
theorem dX5_clears_63 : decode cX5_clears 63 = .ok (.getfield 17, 3) := dk_180 0 17 (dk_at dksX5_clears_2 17 rfl rfl)
theorem dX5_clears_66 : decode cX5_clears 66 = .ok (.bipush 10, 2) := dk_16 10 (dk_at dksX5_clears_2 20 rfl rfl)
theorem dX5_clears_68 : decode cX5_clears 68 = .ok (.iconst 1, 1) := dk_4 (dk_at dksX5_clears_2 22 rfl rfl)
theorem dX5_clears_69 : decode cX5_clears 69 = .ok (.iastore, 1) := dk_79 (dk_at dksX5_clears_2 23 rfl rfl)
theorem dX5_clears_70 : decode cX5_clears 70 = .ok (.aload_n 0, 1) := dk_42 (dk_at dksX5_clears_3 0 rfl rfl)
theorem dX5_clears_71 : decode cX5_clears 71 = .ok (.getfield 17, 3) := dk_180 0 17 (dk_at dksX5_clears_3 1 rfl rfl)
theorem dX5_clears_74 : decode cX5_clears 74 = .ok (.bipush 14, 2) := dk_16 14 (dk_at dksX5_clears_3 4 rfl rfl)
theorem dX5_clears_76 : decode cX5_clears 76 = .ok (.bipush 10, 2) := dk_16 10 (dk_at dksX5_clears_3 6 rfl rfl)
theorem dX5_clears_78 : decode cX5_clears 78 = .ok (.iastore, 1) := dk_79 (dk_at dksX5_clears_3 8 rfl rfl)
theorem dX5_clears_79 : decode cX5_clears 79 = .ok (.iload_n 1, 1) := dk_27 (dk_at dksX5_clears_3 9 rfl rfl)
theorem dX5_clears_80 : decode cX5_clears 80 = .ok (.iconst 2, 1) := dk_5 (dk_at dksX5_clears_3 10 rfl rfl)
theorem dX5_clears_81 : decode cX5_clears 81 = .ok (.if_icmp .ne 17, 3) := dk_160 0 17 (dk_at dksX5_clears_3 11 rfl rfl)
theorem dX5_clears_84 : decode cX5_clears 84 = .ok (.aload_n 0, 1) := dk_42 (dk_at dksX5_clears_3 14 rfl rfl)
theorem dX5_clears_85 : decode cX5_clears 85 = .ok (.getfield 17, 3) := dk_180 0 17 (dk_at dksX5_clears_3 15 rfl rfl)
theorem dX5_clears_88 : decode cX5_clears 88 = .ok (.iconst 0, 1) := dk_3 (dk_at dksX5_clears_3 18 rfl rfl)
theorem dX5_clears_89 : decode cX5_clears 89 = .ok (.iconst (-1), 1) := dk_2 (dk_at dksX5_clears_3 19 rfl rfl)
theorem dX5_clears_90 : decode cX5_clears 90 = .ok (.iastore, 1) := dk_79 (dk_at dksX5_clears_3 20 rfl rfl)
theorem dX5_clears_91 : decode cX5_clears 91 = .ok (.aload_n 0, 1) := dk_42 (dk_at dksX5_clears_3 21 rfl rfl)
theorem dX5_clears_92 : decode cX5_clears 92 = .ok (.getfield 17, 3) := dk_180 0 17 (dk_at dksX5_clears_4 0 rfl rfl)
theorem dX5_clears_95 : decode cX5_clears 95 = .ok (.iconst 1, 1) := dk_4 (dk_at dksX5_clears_4 3 rfl rfl)
theorem dX5_clears_96 : decode cX5_clears 96 = .ok (.iconst (-1), 1) := dk_2 (dk_at dksX5_clears_4 4 rfl rfl)
theorem dX5_clears_97 : decode cX5_clears 97 = .ok (.iastore, 1) := dk_79 (dk_at dksX5_clears_4 5 rfl rfl)
theorem dX5_clears_98 : decode cX5_clears 98 = .ok (.return_, 1) := dk_177 (dk_at dksX5_clears_4 6 rfl rfl)
abbrev cX5_advance : ByteArray := prog_24_method_12_code
def yX5_advance : MethodName := ⟨RX5, "advance", "()V"⟩
def dkwX5_advance_13 : List UInt8 := [5, 167, 0, 4, 7, 181, 0, 115, 177]
abbrev dktX5_advance_13 : List UInt8 := dkwX5_advance_13 ++ []
def dkwX5_advance_12 : List UInt8 := [4, 181, 0, 115, 167, 0, 28, 42, 89, 180, 0, 105, 4, 96, 181, 0, 105, 42, 27, 16, 59, 160, 0, 7]
abbrev dktX5_advance_12 : List UInt8 := dkwX5_advance_12 ++ dktX5_advance_13
def dkwX5_advance_11 : List UInt8 := [181, 0, 105, 167, 255, 196, 42, 42, 180, 0, 105, 42, 180, 0, 112, 100, 5, 164, 0, 7, 7, 167, 0, 4]
abbrev dktX5_advance_11 : List UInt8 := dkwX5_advance_11 ++ dktX5_advance_12
def dkwX5_advance_10 : List UInt8 := [42, 42, 180, 0, 105, 182, 0, 108, 96, 16, 48, 100, 181, 0, 135, 42, 89, 180, 0, 105, 4, 96]
abbrev dktX5_advance_10 : List UInt8 := dkwX5_advance_10 ++ dktX5_advance_11
def dkwX5_advance_9 : List UInt8 := [153, 0, 52, 42, 180, 0, 105, 42, 180, 0, 112, 100, 5, 162, 0, 26, 42, 16, 10, 42, 180, 0, 135, 104]
abbrev dktX5_advance_9 : List UInt8 := dkwX5_advance_9 ++ dktX5_advance_10
def dkwX5_advance_8 : List UInt8 := [27, 184, 0, 132, 153, 0, 96, 42, 3, 181, 0, 135, 42, 42, 180, 0, 105, 182, 0, 108, 184, 0, 132]
abbrev dktX5_advance_8 : List UInt8 := dkwX5_advance_8 ++ dktX5_advance_9
def dkwX5_advance_7 : List UInt8 := [181, 0, 129, 42, 42, 180, 0, 129, 16, 99, 160, 0, 7, 7, 167, 0, 4, 6, 181, 0, 115, 167, 0, 128]
abbrev dktX5_advance_7 : List UInt8 := dkwX5_advance_7 ++ dktX5_advance_8
def dkwX5_advance_6 : List UInt8 := [42, 180, 0, 105, 42, 180, 0, 112, 100, 16, 8, 164, 0, 8, 16, 99, 167, 0, 7, 32, 184, 0, 126]
abbrev dktX5_advance_6 : List UInt8 := dkwX5_advance_6 ++ dktX5_advance_7
def dkwX5_advance_5 : List UInt8 := [182, 0, 108, 133, 97, 20, 0, 124, 101, 65, 42, 89, 180, 0, 105, 4, 96, 181, 0, 105, 167, 255, 198, 42]
abbrev dktX5_advance_5 : List UInt8 := dkwX5_advance_5 ++ dktX5_advance_6
def dkwX5_advance_4 : List UInt8 := [180, 0, 105, 42, 180, 0, 112, 100, 16, 8, 162, 0, 23, 20, 0, 122, 32, 105, 42, 42, 180, 0, 105]
abbrev dktX5_advance_4 : List UInt8 := dkwX5_advance_4 ++ dktX5_advance_5
def dkwX5_advance_3 : List UInt8 := [184, 0, 118, 153, 0, 114, 9, 65, 42, 42, 180, 0, 105, 182, 0, 108, 184, 0, 118, 153, 0, 50, 42]
abbrev dktX5_advance_3 : List UInt8 := dkwX5_advance_3 ++ dktX5_advance_4
def dkwX5_advance_2 : List UInt8 := [42, 42, 180, 0, 105, 182, 0, 108, 60, 27, 156, 0, 11, 42, 3, 181, 0, 115, 167, 0, 246, 27]
abbrev dktX5_advance_2 : List UInt8 := dkwX5_advance_2 ++ dktX5_advance_3
def dkwX5_advance_1 : List UInt8 := [160, 0, 16, 42, 89, 180, 0, 105, 4, 96, 181, 0, 105, 167, 255, 220, 42, 42, 180, 0, 105, 181, 0, 112]
abbrev dktX5_advance_1 : List UInt8 := dkwX5_advance_1 ++ dktX5_advance_2
def dkwX5_advance_0 : List UInt8 := [42, 42, 180, 0, 105, 182, 0, 108, 16, 10, 159, 0, 16, 42, 42, 180, 0, 105, 182, 0, 108, 16, 32]
abbrev dktX5_advance_0 : List UInt8 := dkwX5_advance_0 ++ dktX5_advance_1
theorem dksX5_advance_0 : cX5_advance.data.toList.drop 0 = dktX5_advance_0 := by decide +kernel
theorem dksX5_advance_1 : cX5_advance.data.toList.drop 23 = dktX5_advance_1 := dk_seg dksX5_advance_0 23 rfl rfl
theorem dksX5_advance_2 : cX5_advance.data.toList.drop 47 = dktX5_advance_2 := dk_seg dksX5_advance_1 24 rfl rfl
theorem dksX5_advance_3 : cX5_advance.data.toList.drop 69 = dktX5_advance_3 := dk_seg dksX5_advance_2 22 rfl rfl
theorem dksX5_advance_4 : cX5_advance.data.toList.drop 92 = dktX5_advance_4 := dk_seg dksX5_advance_3 23 rfl rfl
theorem dksX5_advance_5 : cX5_advance.data.toList.drop 115 = dktX5_advance_5 := dk_seg dksX5_advance_4 23 rfl rfl
theorem dksX5_advance_6 : cX5_advance.data.toList.drop 139 = dktX5_advance_6 := dk_seg dksX5_advance_5 24 rfl rfl
theorem dksX5_advance_7 : cX5_advance.data.toList.drop 162 = dktX5_advance_7 := dk_seg dksX5_advance_6 23 rfl rfl
theorem dksX5_advance_8 : cX5_advance.data.toList.drop 186 = dktX5_advance_8 := dk_seg dksX5_advance_7 24 rfl rfl
theorem dksX5_advance_9 : cX5_advance.data.toList.drop 209 = dktX5_advance_9 := dk_seg dksX5_advance_8 23 rfl rfl
theorem dksX5_advance_10 : cX5_advance.data.toList.drop 233 = dktX5_advance_10 := dk_seg dksX5_advance_9 24 rfl rfl
theorem dksX5_advance_11 : cX5_advance.data.toList.drop 255 = dktX5_advance_11 := dk_seg dksX5_advance_10 22 rfl rfl
theorem dksX5_advance_12 : cX5_advance.data.toList.drop 279 = dktX5_advance_12 := dk_seg dksX5_advance_11 24 rfl rfl
theorem dksX5_advance_13 : cX5_advance.data.toList.drop 303 = dktX5_advance_13 := dk_seg dksX5_advance_12 24 rfl rfl
theorem dX5_advance_0 : decode cX5_advance 0 = .ok (.aload_n 0, 1) := dk_42 (dk_at dksX5_advance_0 0 rfl rfl)
theorem dX5_advance_1 : decode cX5_advance 1 = .ok (.aload_n 0, 1) := dk_42 (dk_at dksX5_advance_0 1 rfl rfl)
theorem dX5_advance_2 : decode cX5_advance 2 = .ok (.getfield 105, 3) := dk_180 0 105 (dk_at dksX5_advance_0 2 rfl rfl)
theorem dX5_advance_5 : decode cX5_advance 5 = .ok (.invokevirtual 108, 3) := dk_182 0 108 (dk_at dksX5_advance_0 5 rfl rfl)
theorem dX5_advance_8 : decode cX5_advance 8 = .ok (.bipush 10, 2) := dk_16 10 (dk_at dksX5_advance_0 8 rfl rfl)
theorem dX5_advance_10 : decode cX5_advance 10 = .ok (.if_icmp .eq 16, 3) := dk_159 0 16 (dk_at dksX5_advance_0 10 rfl rfl)
theorem dX5_advance_13 : decode cX5_advance 13 = .ok (.aload_n 0, 1) := dk_42 (dk_at dksX5_advance_0 13 rfl rfl)
theorem dX5_advance_14 : decode cX5_advance 14 = .ok (.aload_n 0, 1) := dk_42 (dk_at dksX5_advance_0 14 rfl rfl)
theorem dX5_advance_15 : decode cX5_advance 15 = .ok (.getfield 105, 3) := dk_180 0 105 (dk_at dksX5_advance_0 15 rfl rfl)
theorem dX5_advance_18 : decode cX5_advance 18 = .ok (.invokevirtual 108, 3) := dk_182 0 108 (dk_at dksX5_advance_0 18 rfl rfl)
theorem dX5_advance_21 : decode cX5_advance 21 = .ok (.bipush 32, 2) := dk_16 32 (dk_at dksX5_advance_0 21 rfl rfl)
theorem dX5_advance_23 : decode cX5_advance 23 = .ok (.if_icmp .ne 16, 3) := dk_160 0 16 (dk_at dksX5_advance_1 0 rfl rfl)
theorem dX5_advance_26 : decode cX5_advance 26 = .ok (.aload_n 0, 1) := dk_42 (dk_at dksX5_advance_1 3 rfl rfl)
theorem dX5_advance_27 : decode cX5_advance 27 = .ok (.dup, 1) := dk_89 (dk_at dksX5_advance_1 4 rfl rfl)
theorem dX5_advance_28 : decode cX5_advance 28 = .ok (.getfield 105, 3) := dk_180 0 105 (dk_at dksX5_advance_1 5 rfl rfl)
theorem dX5_advance_31 : decode cX5_advance 31 = .ok (.iconst 1, 1) := dk_4 (dk_at dksX5_advance_1 8 rfl rfl)
theorem dX5_advance_32 : decode cX5_advance 32 = .ok (.iadd, 1) := dk_96 (dk_at dksX5_advance_1 9 rfl rfl)
theorem dX5_advance_33 : decode cX5_advance 33 = .ok (.putfield 105, 3) := dk_181 0 105 (dk_at dksX5_advance_1 10 rfl rfl)
theorem dX5_advance_36 : decode cX5_advance 36 = .ok (.goto (-36), 3) := dk_167 255 220 (dk_at dksX5_advance_1 13 rfl rfl)
theorem dX5_advance_39 : decode cX5_advance 39 = .ok (.aload_n 0, 1) := dk_42 (dk_at dksX5_advance_1 16 rfl rfl)
theorem dX5_advance_40 : decode cX5_advance 40 = .ok (.aload_n 0, 1) := dk_42 (dk_at dksX5_advance_1 17 rfl rfl)
theorem dX5_advance_41 : decode cX5_advance 41 = .ok (.getfield 105, 3) := dk_180 0 105 (dk_at dksX5_advance_1 18 rfl rfl)
theorem dX5_advance_44 : decode cX5_advance 44 = .ok (.putfield 112, 3) := dk_181 0 112 (dk_at dksX5_advance_1 21 rfl rfl)
theorem dX5_advance_47 : decode cX5_advance 47 = .ok (.aload_n 0, 1) := dk_42 (dk_at dksX5_advance_2 0 rfl rfl)
theorem dX5_advance_48 : decode cX5_advance 48 = .ok (.aload_n 0, 1) := dk_42 (dk_at dksX5_advance_2 1 rfl rfl)
theorem dX5_advance_49 : decode cX5_advance 49 = .ok (.getfield 105, 3) := dk_180 0 105 (dk_at dksX5_advance_2 2 rfl rfl)
theorem dX5_advance_52 : decode cX5_advance 52 = .ok (.invokevirtual 108, 3) := dk_182 0 108 (dk_at dksX5_advance_2 5 rfl rfl)
theorem dX5_advance_55 : decode cX5_advance 55 = .ok (.istore_n 1, 1) := dk_60 (dk_at dksX5_advance_2 8 rfl rfl)
theorem dX5_advance_56 : decode cX5_advance 56 = .ok (.iload_n 1, 1) := dk_27 (dk_at dksX5_advance_2 9 rfl rfl)
theorem dX5_advance_57 : decode cX5_advance 57 = .ok (.ifCond .ge 11, 3) := dk_156 0 11 (dk_at dksX5_advance_2 10 rfl rfl)
theorem dX5_advance_60 : decode cX5_advance 60 = .ok (.aload_n 0, 1) := dk_42 (dk_at dksX5_advance_2 13 rfl rfl)
theorem dX5_advance_61 : decode cX5_advance 61 = .ok (.iconst 0, 1) := dk_3 (dk_at dksX5_advance_2 14 rfl rfl)
theorem dX5_advance_62 : decode cX5_advance 62 = .ok (.putfield 115, 3) := dk_181 0 115 (dk_at dksX5_advance_2 15 rfl rfl)
theorem dX5_advance_65 : decode cX5_advance 65 = .ok (.goto 246, 3) := dk_167 0 246 (dk_at dksX5_advance_2 18 rfl rfl)
theorem dX5_advance_68 : decode cX5_advance 68 = .ok (.iload_n 1, 1) := dk_27 (dk_at dksX5_advance_2 21 rfl rfl)
theorem dX5_advance_69 : decode cX5_advance 69 = .ok (.invokestatic 118, 3) := dk_184 0 118 (dk_at dksX5_advance_3 0 rfl rfl)
theorem dX5_advance_72 : decode cX5_advance 72 = .ok (.ifCond .eq 114, 3) := dk_153 0 114 (dk_at dksX5_advance_3 3 rfl rfl)
theorem dX5_advance_75 : decode cX5_advance 75 = .ok (.lconst 0, 1) := dk_9 (dk_at dksX5_advance_3 6 rfl rfl)
theorem dX5_advance_76 : decode cX5_advance 76 = .ok (.lstore_n 2, 1) := dk_65 (dk_at dksX5_advance_3 7 rfl rfl)
theorem dX5_advance_77 : decode cX5_advance 77 = .ok (.aload_n 0, 1) := dk_42 (dk_at dksX5_advance_3 8 rfl rfl)
theorem dX5_advance_78 : decode cX5_advance 78 = .ok (.aload_n 0, 1) := dk_42 (dk_at dksX5_advance_3 9 rfl rfl)
theorem dX5_advance_79 : decode cX5_advance 79 = .ok (.getfield 105, 3) := dk_180 0 105 (dk_at dksX5_advance_3 10 rfl rfl)
theorem dX5_advance_82 : decode cX5_advance 82 = .ok (.invokevirtual 108, 3) := dk_182 0 108 (dk_at dksX5_advance_3 13 rfl rfl)
theorem dX5_advance_85 : decode cX5_advance 85 = .ok (.invokestatic 118, 3) := dk_184 0 118 (dk_at dksX5_advance_3 16 rfl rfl)
theorem dX5_advance_88 : decode cX5_advance 88 = .ok (.ifCond .eq 50, 3) := dk_153 0 50 (dk_at dksX5_advance_3 19 rfl rfl)
theorem dX5_advance_91 : decode cX5_advance 91 = .ok (.aload_n 0, 1) := dk_42 (dk_at dksX5_advance_3 22 rfl rfl)
theorem dX5_advance_92 : decode cX5_advance 92 = .ok (.getfield 105, 3) := dk_180 0 105 (dk_at dksX5_advance_4 0 rfl rfl)
theorem dX5_advance_95 : decode cX5_advance 95 = .ok (.aload_n 0, 1) := dk_42 (dk_at dksX5_advance_4 3 rfl rfl)
theorem dX5_advance_96 : decode cX5_advance 96 = .ok (.getfield 112, 3) := dk_180 0 112 (dk_at dksX5_advance_4 4 rfl rfl)
theorem dX5_advance_99 : decode cX5_advance 99 = .ok (.isub, 1) := dk_100 (dk_at dksX5_advance_4 7 rfl rfl)
theorem dX5_advance_100 : decode cX5_advance 100 = .ok (.bipush 8, 2) := dk_16 8 (dk_at dksX5_advance_4 8 rfl rfl)
theorem dX5_advance_102 : decode cX5_advance 102 = .ok (.if_icmp .ge 23, 3) := dk_162 0 23 (dk_at dksX5_advance_4 10 rfl rfl)
theorem dX5_advance_105 : decode cX5_advance 105 = .ok (.ldc2_w 122, 3) := dk_20 0 122 (dk_at dksX5_advance_4 13 rfl rfl)
theorem dX5_advance_108 : decode cX5_advance 108 = .ok (.lload_n 2, 1) := dk_32 (dk_at dksX5_advance_4 16 rfl rfl)
theorem dX5_advance_109 : decode cX5_advance 109 = .ok (.lmul, 1) := dk_105 (dk_at dksX5_advance_4 17 rfl rfl)
theorem dX5_advance_110 : decode cX5_advance 110 = .ok (.aload_n 0, 1) := dk_42 (dk_at dksX5_advance_4 18 rfl rfl)
theorem dX5_advance_111 : decode cX5_advance 111 = .ok (.aload_n 0, 1) := dk_42 (dk_at dksX5_advance_4 19 rfl rfl)
theorem dX5_advance_112 : decode cX5_advance 112 = .ok (.getfield 105, 3) := dk_180 0 105 (dk_at dksX5_advance_4 20 rfl rfl)
theorem dX5_advance_115 : decode cX5_advance 115 = .ok (.invokevirtual 108, 3) := dk_182 0 108 (dk_at dksX5_advance_5 0 rfl rfl)
theorem dX5_advance_118 : decode cX5_advance 118 = .ok (.i2l, 1) := dk_133 (dk_at dksX5_advance_5 3 rfl rfl)
theorem dX5_advance_119 : decode cX5_advance 119 = .ok (.ladd, 1) := dk_97 (dk_at dksX5_advance_5 4 rfl rfl)
theorem dX5_advance_120 : decode cX5_advance 120 = .ok (.ldc2_w 124, 3) := dk_20 0 124 (dk_at dksX5_advance_5 5 rfl rfl)
theorem dX5_advance_123 : decode cX5_advance 123 = .ok (.lsub, 1) := dk_101 (dk_at dksX5_advance_5 8 rfl rfl)
theorem dX5_advance_124 : decode cX5_advance 124 = .ok (.lstore_n 2, 1) := dk_65 (dk_at dksX5_advance_5 9 rfl rfl)
theorem dX5_advance_125 : decode cX5_advance 125 = .ok (.aload_n 0, 1) := dk_42 (dk_at dksX5_advance_5 10 rfl rfl)
theorem dX5_advance_126 : decode cX5_advance 126 = .ok (.dup, 1) := dk_89 (dk_at dksX5_advance_5 11 rfl rfl)
theorem dX5_advance_127 : decode cX5_advance 127 = .ok (.getfield 105, 3) := dk_180 0 105 (dk_at dksX5_advance_5 12 rfl rfl)
theorem dX5_advance_130 : decode cX5_advance 130 = .ok (.iconst 1, 1) := dk_4 (dk_at dksX5_advance_5 15 rfl rfl)
theorem dX5_advance_131 : decode cX5_advance 131 = .ok (.iadd, 1) := dk_96 (dk_at dksX5_advance_5 16 rfl rfl)
theorem dX5_advance_132 : decode cX5_advance 132 = .ok (.putfield 105, 3) := dk_181 0 105 (dk_at dksX5_advance_5 17 rfl rfl)
theorem dX5_advance_135 : decode cX5_advance 135 = .ok (.goto (-58), 3) := dk_167 255 198 (dk_at dksX5_advance_5 20 rfl rfl)
theorem dX5_advance_138 : decode cX5_advance 138 = .ok (.aload_n 0, 1) := dk_42 (dk_at dksX5_advance_5 23 rfl rfl)
theorem dX5_advance_139 : decode cX5_advance 139 = .ok (.aload_n 0, 1) := dk_42 (dk_at dksX5_advance_6 0 rfl rfl)
theorem dX5_advance_140 : decode cX5_advance 140 = .ok (.getfield 105, 3) := dk_180 0 105 (dk_at dksX5_advance_6 1 rfl rfl)
theorem dX5_advance_143 : decode cX5_advance 143 = .ok (.aload_n 0, 1) := dk_42 (dk_at dksX5_advance_6 4 rfl rfl)
theorem dX5_advance_144 : decode cX5_advance 144 = .ok (.getfield 112, 3) := dk_180 0 112 (dk_at dksX5_advance_6 5 rfl rfl)
theorem dX5_advance_147 : decode cX5_advance 147 = .ok (.isub, 1) := dk_100 (dk_at dksX5_advance_6 8 rfl rfl)
theorem dX5_advance_148 : decode cX5_advance 148 = .ok (.bipush 8, 2) := dk_16 8 (dk_at dksX5_advance_6 9 rfl rfl)
theorem dX5_advance_150 : decode cX5_advance 150 = .ok (.if_icmp .le 8, 3) := dk_164 0 8 (dk_at dksX5_advance_6 11 rfl rfl)
theorem dX5_advance_153 : decode cX5_advance 153 = .ok (.bipush 99, 2) := dk_16 99 (dk_at dksX5_advance_6 14 rfl rfl)
theorem dX5_advance_155 : decode cX5_advance 155 = .ok (.goto 7, 3) := dk_167 0 7 (dk_at dksX5_advance_6 16 rfl rfl)
theorem dX5_advance_158 : decode cX5_advance 158 = .ok (.lload_n 2, 1) := dk_32 (dk_at dksX5_advance_6 19 rfl rfl)
theorem dX5_advance_159 : decode cX5_advance 159 = .ok (.invokestatic 126, 3) := dk_184 0 126 (dk_at dksX5_advance_6 20 rfl rfl)
theorem dX5_advance_162 : decode cX5_advance 162 = .ok (.putfield 129, 3) := dk_181 0 129 (dk_at dksX5_advance_7 0 rfl rfl)
theorem dX5_advance_165 : decode cX5_advance 165 = .ok (.aload_n 0, 1) := dk_42 (dk_at dksX5_advance_7 3 rfl rfl)
theorem dX5_advance_166 : decode cX5_advance 166 = .ok (.aload_n 0, 1) := dk_42 (dk_at dksX5_advance_7 4 rfl rfl)
theorem dX5_advance_167 : decode cX5_advance 167 = .ok (.getfield 129, 3) := dk_180 0 129 (dk_at dksX5_advance_7 5 rfl rfl)
theorem dX5_advance_170 : decode cX5_advance 170 = .ok (.bipush 99, 2) := dk_16 99 (dk_at dksX5_advance_7 8 rfl rfl)
theorem dX5_advance_172 : decode cX5_advance 172 = .ok (.if_icmp .ne 7, 3) := dk_160 0 7 (dk_at dksX5_advance_7 10 rfl rfl)
theorem dX5_advance_175 : decode cX5_advance 175 = .ok (.iconst 4, 1) := dk_7 (dk_at dksX5_advance_7 13 rfl rfl)
theorem dX5_advance_176 : decode cX5_advance 176 = .ok (.goto 4, 3) := dk_167 0 4 (dk_at dksX5_advance_7 14 rfl rfl)
theorem dX5_advance_179 : decode cX5_advance 179 = .ok (.iconst 3, 1) := dk_6 (dk_at dksX5_advance_7 17 rfl rfl)
theorem dX5_advance_180 : decode cX5_advance 180 = .ok (.putfield 115, 3) := dk_181 0 115 (dk_at dksX5_advance_7 18 rfl rfl)
theorem dX5_advance_183 : decode cX5_advance 183 = .ok (.goto 128, 3) := dk_167 0 128 (dk_at dksX5_advance_7 21 rfl rfl)
theorem dX5_advance_186 : decode cX5_advance 186 = .ok (.iload_n 1, 1) := dk_27 (dk_at dksX5_advance_8 0 rfl rfl)
theorem dX5_advance_187 : decode cX5_advance 187 = .ok (.invokestatic 132, 3) := dk_184 0 132 (dk_at dksX5_advance_8 1 rfl rfl)
theorem dX5_advance_190 : decode cX5_advance 190 = .ok (.ifCond .eq 96, 3) := dk_153 0 96 (dk_at dksX5_advance_8 4 rfl rfl)
theorem dX5_advance_193 : decode cX5_advance 193 = .ok (.aload_n 0, 1) := dk_42 (dk_at dksX5_advance_8 7 rfl rfl)
theorem dX5_advance_194 : decode cX5_advance 194 = .ok (.iconst 0, 1) := dk_3 (dk_at dksX5_advance_8 8 rfl rfl)
theorem dX5_advance_195 : decode cX5_advance 195 = .ok (.putfield 135, 3) := dk_181 0 135 (dk_at dksX5_advance_8 9 rfl rfl)
theorem dX5_advance_198 : decode cX5_advance 198 = .ok (.aload_n 0, 1) := dk_42 (dk_at dksX5_advance_8 12 rfl rfl)
theorem dX5_advance_199 : decode cX5_advance 199 = .ok (.aload_n 0, 1) := dk_42 (dk_at dksX5_advance_8 13 rfl rfl)
theorem dX5_advance_200 : decode cX5_advance 200 = .ok (.getfield 105, 3) := dk_180 0 105 (dk_at dksX5_advance_8 14 rfl rfl)
theorem dX5_advance_203 : decode cX5_advance 203 = .ok (.invokevirtual 108, 3) := dk_182 0 108 (dk_at dksX5_advance_8 17 rfl rfl)
theorem dX5_advance_206 : decode cX5_advance 206 = .ok (.invokestatic 132, 3) := dk_184 0 132 (dk_at dksX5_advance_8 20 rfl rfl)
theorem dX5_advance_209 : decode cX5_advance 209 = .ok (.ifCond .eq 52, 3) := dk_153 0 52 (dk_at dksX5_advance_9 0 rfl rfl)
theorem dX5_advance_212 : decode cX5_advance 212 = .ok (.aload_n 0, 1) := dk_42 (dk_at dksX5_advance_9 3 rfl rfl)
theorem dX5_advance_213 : decode cX5_advance 213 = .ok (.getfield 105, 3) := dk_180 0 105 (dk_at dksX5_advance_9 4 rfl rfl)
theorem dX5_advance_216 : decode cX5_advance 216 = .ok (.aload_n 0, 1) := dk_42 (dk_at dksX5_advance_9 7 rfl rfl)
theorem dX5_advance_217 : decode cX5_advance 217 = .ok (.getfield 112, 3) := dk_180 0 112 (dk_at dksX5_advance_9 8 rfl rfl)
theorem dX5_advance_220 : decode cX5_advance 220 = .ok (.isub, 1) := dk_100 (dk_at dksX5_advance_9 11 rfl rfl)
theorem dX5_advance_221 : decode cX5_advance 221 = .ok (.iconst 2, 1) := dk_5 (dk_at dksX5_advance_9 12 rfl rfl)
theorem dX5_advance_222 : decode cX5_advance 222 = .ok (.if_icmp .ge 26, 3) := dk_162 0 26 (dk_at dksX5_advance_9 13 rfl rfl)
theorem dX5_advance_225 : decode cX5_advance 225 = .ok (.aload_n 0, 1) := dk_42 (dk_at dksX5_advance_9 16 rfl rfl)
theorem dX5_advance_226 : decode cX5_advance 226 = .ok (.bipush 10, 2) := dk_16 10 (dk_at dksX5_advance_9 17 rfl rfl)
theorem dX5_advance_228 : decode cX5_advance 228 = .ok (.aload_n 0, 1) := dk_42 (dk_at dksX5_advance_9 19 rfl rfl)
theorem dX5_advance_229 : decode cX5_advance 229 = .ok (.getfield 135, 3) := dk_180 0 135 (dk_at dksX5_advance_9 20 rfl rfl)
theorem dX5_advance_232 : decode cX5_advance 232 = .ok (.imul, 1) := dk_104 (dk_at dksX5_advance_9 23 rfl rfl)
theorem dX5_advance_233 : decode cX5_advance 233 = .ok (.aload_n 0, 1) := dk_42 (dk_at dksX5_advance_10 0 rfl rfl)
theorem dX5_advance_234 : decode cX5_advance 234 = .ok (.aload_n 0, 1) := dk_42 (dk_at dksX5_advance_10 1 rfl rfl)
theorem dX5_advance_235 : decode cX5_advance 235 = .ok (.getfield 105, 3) := dk_180 0 105 (dk_at dksX5_advance_10 2 rfl rfl)
theorem dX5_advance_238 : decode cX5_advance 238 = .ok (.invokevirtual 108, 3) := dk_182 0 108 (dk_at dksX5_advance_10 5 rfl rfl)
theorem dX5_advance_241 : decode cX5_advance 241 = .ok (.iadd, 1) := dk_96 (dk_at dksX5_advance_10 8 rfl rfl)
theorem dX5_advance_242 : decode cX5_advance 242 = .ok (.bipush 48, 2) := dk_16 48 (dk_at dksX5_advance_10 9 rfl rfl)
theorem dX5_advance_244 : decode cX5_advance 244 = .ok (.isub, 1) := dk_100 (dk_at dksX5_advance_10 11 rfl rfl)
theorem dX5_advance_245 : decode cX5_advance 245 = .ok (.putfield 135, 3) := dk_181 0 135 (dk_at dksX5_advance_10 12 rfl rfl)
theorem dX5_advance_248 : decode cX5_advance 248 = .ok (.aload_n 0, 1) := dk_42 (dk_at dksX5_advance_10 15 rfl rfl)
theorem dX5_advance_249 : decode cX5_advance 249 = .ok (.dup, 1) := dk_89 (dk_at dksX5_advance_10 16 rfl rfl)
theorem dX5_advance_250 : decode cX5_advance 250 = .ok (.getfield 105, 3) := dk_180 0 105 (dk_at dksX5_advance_10 17 rfl rfl)
theorem dX5_advance_253 : decode cX5_advance 253 = .ok (.iconst 1, 1) := dk_4 (dk_at dksX5_advance_10 20 rfl rfl)
theorem dX5_advance_254 : decode cX5_advance 254 = .ok (.iadd, 1) := dk_96 (dk_at dksX5_advance_10 21 rfl rfl)
theorem dX5_advance_255 : decode cX5_advance 255 = .ok (.putfield 105, 3) := dk_181 0 105 (dk_at dksX5_advance_11 0 rfl rfl)
theorem dX5_advance_258 : decode cX5_advance 258 = .ok (.goto (-60), 3) := dk_167 255 196 (dk_at dksX5_advance_11 3 rfl rfl)
theorem dX5_advance_261 : decode cX5_advance 261 = .ok (.aload_n 0, 1) := dk_42 (dk_at dksX5_advance_11 6 rfl rfl)
theorem dX5_advance_262 : decode cX5_advance 262 = .ok (.aload_n 0, 1) := dk_42 (dk_at dksX5_advance_11 7 rfl rfl)
theorem dX5_advance_263 : decode cX5_advance 263 = .ok (.getfield 105, 3) := dk_180 0 105 (dk_at dksX5_advance_11 8 rfl rfl)
theorem dX5_advance_266 : decode cX5_advance 266 = .ok (.aload_n 0, 1) := dk_42 (dk_at dksX5_advance_11 11 rfl rfl)
theorem dX5_advance_267 : decode cX5_advance 267 = .ok (.getfield 112, 3) := dk_180 0 112 (dk_at dksX5_advance_11 12 rfl rfl)
theorem dX5_advance_270 : decode cX5_advance 270 = .ok (.isub, 1) := dk_100 (dk_at dksX5_advance_11 15 rfl rfl)
theorem dX5_advance_271 : decode cX5_advance 271 = .ok (.iconst 2, 1) := dk_5 (dk_at dksX5_advance_11 16 rfl rfl)
theorem dX5_advance_272 : decode cX5_advance 272 = .ok (.if_icmp .le 7, 3) := dk_164 0 7 (dk_at dksX5_advance_11 17 rfl rfl)
theorem dX5_advance_275 : decode cX5_advance 275 = .ok (.iconst 4, 1) := dk_7 (dk_at dksX5_advance_11 20 rfl rfl)
theorem dX5_advance_276 : decode cX5_advance 276 = .ok (.goto 4, 3) := dk_167 0 4 (dk_at dksX5_advance_11 21 rfl rfl)
theorem dX5_advance_279 : decode cX5_advance 279 = .ok (.iconst 1, 1) := dk_4 (dk_at dksX5_advance_12 0 rfl rfl)
theorem dX5_advance_280 : decode cX5_advance 280 = .ok (.putfield 115, 3) := dk_181 0 115 (dk_at dksX5_advance_12 1 rfl rfl)
theorem dX5_advance_283 : decode cX5_advance 283 = .ok (.goto 28, 3) := dk_167 0 28 (dk_at dksX5_advance_12 4 rfl rfl)
theorem dX5_advance_286 : decode cX5_advance 286 = .ok (.aload_n 0, 1) := dk_42 (dk_at dksX5_advance_12 7 rfl rfl)
theorem dX5_advance_287 : decode cX5_advance 287 = .ok (.dup, 1) := dk_89 (dk_at dksX5_advance_12 8 rfl rfl)
theorem dX5_advance_288 : decode cX5_advance 288 = .ok (.getfield 105, 3) := dk_180 0 105 (dk_at dksX5_advance_12 9 rfl rfl)
theorem dX5_advance_291 : decode cX5_advance 291 = .ok (.iconst 1, 1) := dk_4 (dk_at dksX5_advance_12 12 rfl rfl)
theorem dX5_advance_292 : decode cX5_advance 292 = .ok (.iadd, 1) := dk_96 (dk_at dksX5_advance_12 13 rfl rfl)
theorem dX5_advance_293 : decode cX5_advance 293 = .ok (.putfield 105, 3) := dk_181 0 105 (dk_at dksX5_advance_12 14 rfl rfl)
theorem dX5_advance_296 : decode cX5_advance 296 = .ok (.aload_n 0, 1) := dk_42 (dk_at dksX5_advance_12 17 rfl rfl)
theorem dX5_advance_297 : decode cX5_advance 297 = .ok (.iload_n 1, 1) := dk_27 (dk_at dksX5_advance_12 18 rfl rfl)
theorem dX5_advance_298 : decode cX5_advance 298 = .ok (.bipush 59, 2) := dk_16 59 (dk_at dksX5_advance_12 19 rfl rfl)
theorem dX5_advance_300 : decode cX5_advance 300 = .ok (.if_icmp .ne 7, 3) := dk_160 0 7 (dk_at dksX5_advance_12 21 rfl rfl)
theorem dX5_advance_303 : decode cX5_advance 303 = .ok (.iconst 2, 1) := dk_5 (dk_at dksX5_advance_13 0 rfl rfl)
theorem dX5_advance_304 : decode cX5_advance 304 = .ok (.goto 4, 3) := dk_167 0 4 (dk_at dksX5_advance_13 1 rfl rfl)
theorem dX5_advance_307 : decode cX5_advance 307 = .ok (.iconst 4, 1) := dk_7 (dk_at dksX5_advance_13 4 rfl rfl)
theorem dX5_advance_308 : decode cX5_advance 308 = .ok (.putfield 115, 3) := dk_181 0 115 (dk_at dksX5_advance_13 5 rfl rfl)
theorem dX5_advance_311 : decode cX5_advance 311 = .ok (.return_, 1) := dk_177 (dk_at dksX5_advance_13 8 rfl rfl)
abbrev cX5_byteAt : ByteArray := prog_24_method_5_code
def yX5_byteAt : MethodName := ⟨RX5, "byteAt", "(I)I"⟩
def dkwX5_byteAt_0 : List UInt8 := [27, 42, 180, 0, 87, 162, 0, 15, 42, 180, 0, 7, 16, 10, 27, 96, 46, 167, 0, 4, 2, 172]
abbrev dktX5_byteAt_0 : List UInt8 := dkwX5_byteAt_0 ++ []
theorem dksX5_byteAt_0 : cX5_byteAt.data.toList.drop 0 = dktX5_byteAt_0 := by decide +kernel
theorem dX5_byteAt_0 : decode cX5_byteAt 0 = .ok (.iload_n 1, 1) := dk_27 (dk_at dksX5_byteAt_0 0 rfl rfl)
theorem dX5_byteAt_1 : decode cX5_byteAt 1 = .ok (.aload_n 0, 1) := dk_42 (dk_at dksX5_byteAt_0 1 rfl rfl)
theorem dX5_byteAt_2 : decode cX5_byteAt 2 = .ok (.getfield 87, 3) := dk_180 0 87 (dk_at dksX5_byteAt_0 2 rfl rfl)
theorem dX5_byteAt_5 : decode cX5_byteAt 5 = .ok (.if_icmp .ge 15, 3) := dk_162 0 15 (dk_at dksX5_byteAt_0 5 rfl rfl)
theorem dX5_byteAt_8 : decode cX5_byteAt 8 = .ok (.aload_n 0, 1) := dk_42 (dk_at dksX5_byteAt_0 8 rfl rfl)
theorem dX5_byteAt_9 : decode cX5_byteAt 9 = .ok (.getfield 7, 3) := dk_180 0 7 (dk_at dksX5_byteAt_0 9 rfl rfl)
theorem dX5_byteAt_12 : decode cX5_byteAt 12 = .ok (.bipush 10, 2) := dk_16 10 (dk_at dksX5_byteAt_0 12 rfl rfl)
theorem dX5_byteAt_14 : decode cX5_byteAt 14 = .ok (.iload_n 1, 1) := dk_27 (dk_at dksX5_byteAt_0 14 rfl rfl)
theorem dX5_byteAt_15 : decode cX5_byteAt 15 = .ok (.iadd, 1) := dk_96 (dk_at dksX5_byteAt_0 15 rfl rfl)
theorem dX5_byteAt_16 : decode cX5_byteAt 16 = .ok (.iaload, 1) := dk_46 (dk_at dksX5_byteAt_0 16 rfl rfl)
theorem dX5_byteAt_17 : decode cX5_byteAt 17 = .ok (.goto 4, 3) := dk_167 0 4 (dk_at dksX5_byteAt_0 17 rfl rfl)
theorem dX5_byteAt_20 : decode cX5_byteAt 20 = .ok (.iconst (-1), 1) := dk_2 (dk_at dksX5_byteAt_0 20 rfl rfl)
theorem dX5_byteAt_21 : decode cX5_byteAt 21 = .ok (.ireturn, 1) := dk_172 (dk_at dksX5_byteAt_0 21 rfl rfl)
abbrev cX5_isLetter : ByteArray := prog_24_method_6_code
def yX5_isLetter : MethodName := ⟨RX5, "isLetter", "(I)Z"⟩
def dkwX5_isLetter_0 : List UInt8 := [26, 16, 97, 161, 0, 13, 26, 16, 122, 163, 0, 7, 4, 167, 0, 4, 3, 172]
abbrev dktX5_isLetter_0 : List UInt8 := dkwX5_isLetter_0 ++ []
theorem dksX5_isLetter_0 : cX5_isLetter.data.toList.drop 0 = dktX5_isLetter_0 := by decide +kernel
theorem dX5_isLetter_0 : decode cX5_isLetter 0 = .ok (.iload_n 0, 1) := dk_26 (dk_at dksX5_isLetter_0 0 rfl rfl)
theorem dX5_isLetter_1 : decode cX5_isLetter 1 = .ok (.bipush 97, 2) := dk_16 97 (dk_at dksX5_isLetter_0 1 rfl rfl)
theorem dX5_isLetter_3 : decode cX5_isLetter 3 = .ok (.if_icmp .lt 13, 3) := dk_161 0 13 (dk_at dksX5_isLetter_0 3 rfl rfl)
theorem dX5_isLetter_6 : decode cX5_isLetter 6 = .ok (.iload_n 0, 1) := dk_26 (dk_at dksX5_isLetter_0 6 rfl rfl)
theorem dX5_isLetter_7 : decode cX5_isLetter 7 = .ok (.bipush 122, 2) := dk_16 122 (dk_at dksX5_isLetter_0 7 rfl rfl)
theorem dX5_isLetter_9 : decode cX5_isLetter 9 = .ok (.if_icmp .gt 7, 3) := dk_163 0 7 (dk_at dksX5_isLetter_0 9 rfl rfl)
theorem dX5_isLetter_12 : decode cX5_isLetter 12 = .ok (.iconst 1, 1) := dk_4 (dk_at dksX5_isLetter_0 12 rfl rfl)
theorem dX5_isLetter_13 : decode cX5_isLetter 13 = .ok (.goto 4, 3) := dk_167 0 4 (dk_at dksX5_isLetter_0 13 rfl rfl)
theorem dX5_isLetter_16 : decode cX5_isLetter 16 = .ok (.iconst 0, 1) := dk_3 (dk_at dksX5_isLetter_0 16 rfl rfl)
theorem dX5_isLetter_17 : decode cX5_isLetter 17 = .ok (.ireturn, 1) := dk_172 (dk_at dksX5_isLetter_0 17 rfl rfl)
abbrev cX5_wordOf : ByteArray := prog_24_method_10_code
def yX5_wordOf : MethodName := ⟨RX5, "wordOf", "(J)I"⟩
def dkwX5_wordOf_10 : List UInt8 := [172, 30, 184, 0, 101, 172]
abbrev dktX5_wordOf_10 : List UInt8 := dkwX5_wordOf_10 ++ []
def dkwX5_wordOf_9 : List UInt8 := [154, 0, 6, 16, 12, 172, 30, 16, 18, 16, 15, 16, 12, 16, 12, 184, 0, 91, 148, 154, 0, 6, 16, 13]
abbrev dktX5_wordOf_9 : List UInt8 := dkwX5_wordOf_9 ++ dktX5_wordOf_10
def dkwX5_wordOf_8 : List UInt8 := [16, 16, 184, 0, 91, 148, 154, 0, 6, 16, 11, 172, 30, 16, 6, 16, 12, 4, 16, 13, 184, 0, 91, 148]
abbrev dktX5_wordOf_8 : List UInt8 := dkwX5_wordOf_8 ++ dktX5_wordOf_9
def dkwX5_wordOf_7 : List UInt8 := [172, 30, 16, 18, 8, 16, 19, 16, 20, 184, 0, 91, 148, 154, 0, 6, 16, 10, 172, 30, 3, 16, 20, 4]
abbrev dktX5_wordOf_7 : List UInt8 := dkwX5_wordOf_7 ++ dktX5_wordOf_8
def dkwX5_wordOf_6 : List UInt8 := [16, 8, 172, 30, 3, 3, 3, 16, 15, 16, 18, 7, 8, 16, 18, 184, 0, 97, 148, 154, 0, 6, 16, 9]
abbrev dktX5_wordOf_6 : List UInt8 := dkwX5_wordOf_6 ++ dktX5_wordOf_7
def dkwX5_wordOf_5 : List UInt8 := [154, 0, 6, 16, 7, 172, 30, 3, 3, 3, 16, 16, 16, 12, 4, 6, 8, 184, 0, 97, 148, 154, 0, 6]
abbrev dktX5_wordOf_5 : List UInt8 := dkwX5_wordOf_5 ++ dktX5_wordOf_6
def dkwX5_wordOf_4 : List UInt8 := [8, 16, 16, 184, 0, 91, 148, 154, 0, 6, 16, 6, 172, 30, 3, 16, 12, 4, 16, 7, 184, 0, 91, 148]
abbrev dktX5_wordOf_4 : List UInt8 := dkwX5_wordOf_4 ++ dktX5_wordOf_5
def dkwX5_wordOf_3 : List UInt8 := [172, 30, 16, 6, 16, 18, 16, 15, 16, 13, 184, 0, 91, 148, 154, 0, 5, 8, 172, 30, 16, 19, 16, 20]
abbrev dktX5_wordOf_3 : List UInt8 := dkwX5_wordOf_3 ++ dktX5_wordOf_4
def dkwX5_wordOf_2 : List UInt8 := [184, 0, 91, 148, 154, 0, 5, 6, 172, 30, 3, 16, 23, 8, 16, 20, 184, 0, 91, 148, 154, 0, 5, 7]
abbrev dktX5_wordOf_2 : List UInt8 := dkwX5_wordOf_2 ++ dktX5_wordOf_3
def dkwX5_wordOf_1 : List UInt8 := [16, 9, 16, 18, 8, 7, 184, 0, 97, 148, 154, 0, 5, 5, 172, 30, 8, 6, 16, 8, 16, 15]
abbrev dktX5_wordOf_1 : List UInt8 := dkwX5_wordOf_1 ++ dktX5_wordOf_2
def dkwX5_wordOf_0 : List UInt8 := [30, 16, 20, 16, 21, 16, 18, 16, 14, 184, 0, 91, 148, 154, 0, 5, 4, 172, 30, 3, 3, 3, 16, 20]
abbrev dktX5_wordOf_0 : List UInt8 := dkwX5_wordOf_0 ++ dktX5_wordOf_1
theorem dksX5_wordOf_0 : cX5_wordOf.data.toList.drop 0 = dktX5_wordOf_0 := by decide +kernel
theorem dksX5_wordOf_1 : cX5_wordOf.data.toList.drop 24 = dktX5_wordOf_1 := dk_seg dksX5_wordOf_0 24 rfl rfl
theorem dksX5_wordOf_2 : cX5_wordOf.data.toList.drop 46 = dktX5_wordOf_2 := dk_seg dksX5_wordOf_1 22 rfl rfl
theorem dksX5_wordOf_3 : cX5_wordOf.data.toList.drop 70 = dktX5_wordOf_3 := dk_seg dksX5_wordOf_2 24 rfl rfl
theorem dksX5_wordOf_4 : cX5_wordOf.data.toList.drop 94 = dktX5_wordOf_4 := dk_seg dksX5_wordOf_3 24 rfl rfl
theorem dksX5_wordOf_5 : cX5_wordOf.data.toList.drop 118 = dktX5_wordOf_5 := dk_seg dksX5_wordOf_4 24 rfl rfl
theorem dksX5_wordOf_6 : cX5_wordOf.data.toList.drop 142 = dktX5_wordOf_6 := dk_seg dksX5_wordOf_5 24 rfl rfl
theorem dksX5_wordOf_7 : cX5_wordOf.data.toList.drop 166 = dktX5_wordOf_7 := dk_seg dksX5_wordOf_6 24 rfl rfl
theorem dksX5_wordOf_8 : cX5_wordOf.data.toList.drop 190 = dktX5_wordOf_8 := dk_seg dksX5_wordOf_7 24 rfl rfl
theorem dksX5_wordOf_9 : cX5_wordOf.data.toList.drop 214 = dktX5_wordOf_9 := dk_seg dksX5_wordOf_8 24 rfl rfl
theorem dksX5_wordOf_10 : cX5_wordOf.data.toList.drop 238 = dktX5_wordOf_10 := dk_seg dksX5_wordOf_9 24 rfl rfl
theorem dX5_wordOf_0 : decode cX5_wordOf 0 = .ok (.lload_n 0, 1) := dk_30 (dk_at dksX5_wordOf_0 0 rfl rfl)
theorem dX5_wordOf_1 : decode cX5_wordOf 1 = .ok (.bipush 20, 2) := dk_16 20 (dk_at dksX5_wordOf_0 1 rfl rfl)
theorem dX5_wordOf_3 : decode cX5_wordOf 3 = .ok (.bipush 21, 2) := dk_16 21 (dk_at dksX5_wordOf_0 3 rfl rfl)
theorem dX5_wordOf_5 : decode cX5_wordOf 5 = .ok (.bipush 18, 2) := dk_16 18 (dk_at dksX5_wordOf_0 5 rfl rfl)
theorem dX5_wordOf_7 : decode cX5_wordOf 7 = .ok (.bipush 14, 2) := dk_16 14 (dk_at dksX5_wordOf_0 7 rfl rfl)
theorem dX5_wordOf_9 : decode cX5_wordOf 9 = .ok (.invokestatic 91, 3) := dk_184 0 91 (dk_at dksX5_wordOf_0 9 rfl rfl)
theorem dX5_wordOf_12 : decode cX5_wordOf 12 = .ok (.lcmp, 1) := dk_148 (dk_at dksX5_wordOf_0 12 rfl rfl)
theorem dX5_wordOf_13 : decode cX5_wordOf 13 = .ok (.ifCond .ne 5, 3) := dk_154 0 5 (dk_at dksX5_wordOf_0 13 rfl rfl)
theorem dX5_wordOf_16 : decode cX5_wordOf 16 = .ok (.iconst 1, 1) := dk_4 (dk_at dksX5_wordOf_0 16 rfl rfl)
theorem dX5_wordOf_17 : decode cX5_wordOf 17 = .ok (.ireturn, 1) := dk_172 (dk_at dksX5_wordOf_0 17 rfl rfl)
theorem dX5_wordOf_18 : decode cX5_wordOf 18 = .ok (.lload_n 0, 1) := dk_30 (dk_at dksX5_wordOf_0 18 rfl rfl)
theorem dX5_wordOf_19 : decode cX5_wordOf 19 = .ok (.iconst 0, 1) := dk_3 (dk_at dksX5_wordOf_0 19 rfl rfl)
theorem dX5_wordOf_20 : decode cX5_wordOf 20 = .ok (.iconst 0, 1) := dk_3 (dk_at dksX5_wordOf_0 20 rfl rfl)
theorem dX5_wordOf_21 : decode cX5_wordOf 21 = .ok (.iconst 0, 1) := dk_3 (dk_at dksX5_wordOf_0 21 rfl rfl)
theorem dX5_wordOf_22 : decode cX5_wordOf 22 = .ok (.bipush 20, 2) := dk_16 20 (dk_at dksX5_wordOf_0 22 rfl rfl)
theorem dX5_wordOf_24 : decode cX5_wordOf 24 = .ok (.bipush 9, 2) := dk_16 9 (dk_at dksX5_wordOf_1 0 rfl rfl)
theorem dX5_wordOf_26 : decode cX5_wordOf 26 = .ok (.bipush 18, 2) := dk_16 18 (dk_at dksX5_wordOf_1 2 rfl rfl)
theorem dX5_wordOf_28 : decode cX5_wordOf 28 = .ok (.iconst 5, 1) := dk_8 (dk_at dksX5_wordOf_1 4 rfl rfl)
theorem dX5_wordOf_29 : decode cX5_wordOf 29 = .ok (.iconst 4, 1) := dk_7 (dk_at dksX5_wordOf_1 5 rfl rfl)
theorem dX5_wordOf_30 : decode cX5_wordOf 30 = .ok (.invokestatic 97, 3) := dk_184 0 97 (dk_at dksX5_wordOf_1 6 rfl rfl)
theorem dX5_wordOf_33 : decode cX5_wordOf 33 = .ok (.lcmp, 1) := dk_148 (dk_at dksX5_wordOf_1 9 rfl rfl)
theorem dX5_wordOf_34 : decode cX5_wordOf 34 = .ok (.ifCond .ne 5, 3) := dk_154 0 5 (dk_at dksX5_wordOf_1 10 rfl rfl)
theorem dX5_wordOf_37 : decode cX5_wordOf 37 = .ok (.iconst 2, 1) := dk_5 (dk_at dksX5_wordOf_1 13 rfl rfl)
theorem dX5_wordOf_38 : decode cX5_wordOf 38 = .ok (.ireturn, 1) := dk_172 (dk_at dksX5_wordOf_1 14 rfl rfl)
theorem dX5_wordOf_39 : decode cX5_wordOf 39 = .ok (.lload_n 0, 1) := dk_30 (dk_at dksX5_wordOf_1 15 rfl rfl)
theorem dX5_wordOf_40 : decode cX5_wordOf 40 = .ok (.iconst 5, 1) := dk_8 (dk_at dksX5_wordOf_1 16 rfl rfl)
theorem dX5_wordOf_41 : decode cX5_wordOf 41 = .ok (.iconst 3, 1) := dk_6 (dk_at dksX5_wordOf_1 17 rfl rfl)
theorem dX5_wordOf_42 : decode cX5_wordOf 42 = .ok (.bipush 8, 2) := dk_16 8 (dk_at dksX5_wordOf_1 18 rfl rfl)
theorem dX5_wordOf_44 : decode cX5_wordOf 44 = .ok (.bipush 15, 2) := dk_16 15 (dk_at dksX5_wordOf_1 20 rfl rfl)
theorem dX5_wordOf_46 : decode cX5_wordOf 46 = .ok (.invokestatic 91, 3) := dk_184 0 91 (dk_at dksX5_wordOf_2 0 rfl rfl)
theorem dX5_wordOf_49 : decode cX5_wordOf 49 = .ok (.lcmp, 1) := dk_148 (dk_at dksX5_wordOf_2 3 rfl rfl)
theorem dX5_wordOf_50 : decode cX5_wordOf 50 = .ok (.ifCond .ne 5, 3) := dk_154 0 5 (dk_at dksX5_wordOf_2 4 rfl rfl)
theorem dX5_wordOf_53 : decode cX5_wordOf 53 = .ok (.iconst 3, 1) := dk_6 (dk_at dksX5_wordOf_2 7 rfl rfl)
theorem dX5_wordOf_54 : decode cX5_wordOf 54 = .ok (.ireturn, 1) := dk_172 (dk_at dksX5_wordOf_2 8 rfl rfl)
theorem dX5_wordOf_55 : decode cX5_wordOf 55 = .ok (.lload_n 0, 1) := dk_30 (dk_at dksX5_wordOf_2 9 rfl rfl)
theorem dX5_wordOf_56 : decode cX5_wordOf 56 = .ok (.iconst 0, 1) := dk_3 (dk_at dksX5_wordOf_2 10 rfl rfl)
theorem dX5_wordOf_57 : decode cX5_wordOf 57 = .ok (.bipush 23, 2) := dk_16 23 (dk_at dksX5_wordOf_2 11 rfl rfl)
theorem dX5_wordOf_59 : decode cX5_wordOf 59 = .ok (.iconst 5, 1) := dk_8 (dk_at dksX5_wordOf_2 13 rfl rfl)
theorem dX5_wordOf_60 : decode cX5_wordOf 60 = .ok (.bipush 20, 2) := dk_16 20 (dk_at dksX5_wordOf_2 14 rfl rfl)
theorem dX5_wordOf_62 : decode cX5_wordOf 62 = .ok (.invokestatic 91, 3) := dk_184 0 91 (dk_at dksX5_wordOf_2 16 rfl rfl)
theorem dX5_wordOf_65 : decode cX5_wordOf 65 = .ok (.lcmp, 1) := dk_148 (dk_at dksX5_wordOf_2 19 rfl rfl)
theorem dX5_wordOf_66 : decode cX5_wordOf 66 = .ok (.ifCond .ne 5, 3) := dk_154 0 5 (dk_at dksX5_wordOf_2 20 rfl rfl)
theorem dX5_wordOf_69 : decode cX5_wordOf 69 = .ok (.iconst 4, 1) := dk_7 (dk_at dksX5_wordOf_2 23 rfl rfl)
theorem dX5_wordOf_70 : decode cX5_wordOf 70 = .ok (.ireturn, 1) := dk_172 (dk_at dksX5_wordOf_3 0 rfl rfl)
theorem dX5_wordOf_71 : decode cX5_wordOf 71 = .ok (.lload_n 0, 1) := dk_30 (dk_at dksX5_wordOf_3 1 rfl rfl)
theorem dX5_wordOf_72 : decode cX5_wordOf 72 = .ok (.bipush 6, 2) := dk_16 6 (dk_at dksX5_wordOf_3 2 rfl rfl)
theorem dX5_wordOf_74 : decode cX5_wordOf 74 = .ok (.bipush 18, 2) := dk_16 18 (dk_at dksX5_wordOf_3 4 rfl rfl)
theorem dX5_wordOf_76 : decode cX5_wordOf 76 = .ok (.bipush 15, 2) := dk_16 15 (dk_at dksX5_wordOf_3 6 rfl rfl)
theorem dX5_wordOf_78 : decode cX5_wordOf 78 = .ok (.bipush 13, 2) := dk_16 13 (dk_at dksX5_wordOf_3 8 rfl rfl)
theorem dX5_wordOf_80 : decode cX5_wordOf 80 = .ok (.invokestatic 91, 3) := dk_184 0 91 (dk_at dksX5_wordOf_3 10 rfl rfl)
theorem dX5_wordOf_83 : decode cX5_wordOf 83 = .ok (.lcmp, 1) := dk_148 (dk_at dksX5_wordOf_3 13 rfl rfl)
theorem dX5_wordOf_84 : decode cX5_wordOf 84 = .ok (.ifCond .ne 5, 3) := dk_154 0 5 (dk_at dksX5_wordOf_3 14 rfl rfl)
theorem dX5_wordOf_87 : decode cX5_wordOf 87 = .ok (.iconst 5, 1) := dk_8 (dk_at dksX5_wordOf_3 17 rfl rfl)
theorem dX5_wordOf_88 : decode cX5_wordOf 88 = .ok (.ireturn, 1) := dk_172 (dk_at dksX5_wordOf_3 18 rfl rfl)
theorem dX5_wordOf_89 : decode cX5_wordOf 89 = .ok (.lload_n 0, 1) := dk_30 (dk_at dksX5_wordOf_3 19 rfl rfl)
theorem dX5_wordOf_90 : decode cX5_wordOf 90 = .ok (.bipush 19, 2) := dk_16 19 (dk_at dksX5_wordOf_3 20 rfl rfl)
theorem dX5_wordOf_92 : decode cX5_wordOf 92 = .ok (.bipush 20, 2) := dk_16 20 (dk_at dksX5_wordOf_3 22 rfl rfl)
theorem dX5_wordOf_94 : decode cX5_wordOf 94 = .ok (.iconst 5, 1) := dk_8 (dk_at dksX5_wordOf_4 0 rfl rfl)
theorem dX5_wordOf_95 : decode cX5_wordOf 95 = .ok (.bipush 16, 2) := dk_16 16 (dk_at dksX5_wordOf_4 1 rfl rfl)
theorem dX5_wordOf_97 : decode cX5_wordOf 97 = .ok (.invokestatic 91, 3) := dk_184 0 91 (dk_at dksX5_wordOf_4 3 rfl rfl)
theorem dX5_wordOf_100 : decode cX5_wordOf 100 = .ok (.lcmp, 1) := dk_148 (dk_at dksX5_wordOf_4 6 rfl rfl)
theorem dX5_wordOf_101 : decode cX5_wordOf 101 = .ok (.ifCond .ne 6, 3) := dk_154 0 6 (dk_at dksX5_wordOf_4 7 rfl rfl)
theorem dX5_wordOf_104 : decode cX5_wordOf 104 = .ok (.bipush 6, 2) := dk_16 6 (dk_at dksX5_wordOf_4 10 rfl rfl)
theorem dX5_wordOf_106 : decode cX5_wordOf 106 = .ok (.ireturn, 1) := dk_172 (dk_at dksX5_wordOf_4 12 rfl rfl)
theorem dX5_wordOf_107 : decode cX5_wordOf 107 = .ok (.lload_n 0, 1) := dk_30 (dk_at dksX5_wordOf_4 13 rfl rfl)
theorem dX5_wordOf_108 : decode cX5_wordOf 108 = .ok (.iconst 0, 1) := dk_3 (dk_at dksX5_wordOf_4 14 rfl rfl)
theorem dX5_wordOf_109 : decode cX5_wordOf 109 = .ok (.bipush 12, 2) := dk_16 12 (dk_at dksX5_wordOf_4 15 rfl rfl)
theorem dX5_wordOf_111 : decode cX5_wordOf 111 = .ok (.iconst 1, 1) := dk_4 (dk_at dksX5_wordOf_4 17 rfl rfl)
theorem dX5_wordOf_112 : decode cX5_wordOf 112 = .ok (.bipush 7, 2) := dk_16 7 (dk_at dksX5_wordOf_4 18 rfl rfl)
theorem dX5_wordOf_114 : decode cX5_wordOf 114 = .ok (.invokestatic 91, 3) := dk_184 0 91 (dk_at dksX5_wordOf_4 20 rfl rfl)
theorem dX5_wordOf_117 : decode cX5_wordOf 117 = .ok (.lcmp, 1) := dk_148 (dk_at dksX5_wordOf_4 23 rfl rfl)
theorem dX5_wordOf_118 : decode cX5_wordOf 118 = .ok (.ifCond .ne 6, 3) := dk_154 0 6 (dk_at dksX5_wordOf_5 0 rfl rfl)
theorem dX5_wordOf_121 : decode cX5_wordOf 121 = .ok (.bipush 7, 2) := dk_16 7 (dk_at dksX5_wordOf_5 3 rfl rfl)
theorem dX5_wordOf_123 : decode cX5_wordOf 123 = .ok (.ireturn, 1) := dk_172 (dk_at dksX5_wordOf_5 5 rfl rfl)
theorem dX5_wordOf_124 : decode cX5_wordOf 124 = .ok (.lload_n 0, 1) := dk_30 (dk_at dksX5_wordOf_5 6 rfl rfl)
theorem dX5_wordOf_125 : decode cX5_wordOf 125 = .ok (.iconst 0, 1) := dk_3 (dk_at dksX5_wordOf_5 7 rfl rfl)
theorem dX5_wordOf_126 : decode cX5_wordOf 126 = .ok (.iconst 0, 1) := dk_3 (dk_at dksX5_wordOf_5 8 rfl rfl)
theorem dX5_wordOf_127 : decode cX5_wordOf 127 = .ok (.iconst 0, 1) := dk_3 (dk_at dksX5_wordOf_5 9 rfl rfl)
theorem dX5_wordOf_128 : decode cX5_wordOf 128 = .ok (.bipush 16, 2) := dk_16 16 (dk_at dksX5_wordOf_5 10 rfl rfl)
theorem dX5_wordOf_130 : decode cX5_wordOf 130 = .ok (.bipush 12, 2) := dk_16 12 (dk_at dksX5_wordOf_5 12 rfl rfl)
theorem dX5_wordOf_132 : decode cX5_wordOf 132 = .ok (.iconst 1, 1) := dk_4 (dk_at dksX5_wordOf_5 14 rfl rfl)
theorem dX5_wordOf_133 : decode cX5_wordOf 133 = .ok (.iconst 3, 1) := dk_6 (dk_at dksX5_wordOf_5 15 rfl rfl)
theorem dX5_wordOf_134 : decode cX5_wordOf 134 = .ok (.iconst 5, 1) := dk_8 (dk_at dksX5_wordOf_5 16 rfl rfl)
theorem dX5_wordOf_135 : decode cX5_wordOf 135 = .ok (.invokestatic 97, 3) := dk_184 0 97 (dk_at dksX5_wordOf_5 17 rfl rfl)
theorem dX5_wordOf_138 : decode cX5_wordOf 138 = .ok (.lcmp, 1) := dk_148 (dk_at dksX5_wordOf_5 20 rfl rfl)
theorem dX5_wordOf_139 : decode cX5_wordOf 139 = .ok (.ifCond .ne 6, 3) := dk_154 0 6 (dk_at dksX5_wordOf_5 21 rfl rfl)
theorem dX5_wordOf_142 : decode cX5_wordOf 142 = .ok (.bipush 8, 2) := dk_16 8 (dk_at dksX5_wordOf_6 0 rfl rfl)
theorem dX5_wordOf_144 : decode cX5_wordOf 144 = .ok (.ireturn, 1) := dk_172 (dk_at dksX5_wordOf_6 2 rfl rfl)
theorem dX5_wordOf_145 : decode cX5_wordOf 145 = .ok (.lload_n 0, 1) := dk_30 (dk_at dksX5_wordOf_6 3 rfl rfl)
theorem dX5_wordOf_146 : decode cX5_wordOf 146 = .ok (.iconst 0, 1) := dk_3 (dk_at dksX5_wordOf_6 4 rfl rfl)
theorem dX5_wordOf_147 : decode cX5_wordOf 147 = .ok (.iconst 0, 1) := dk_3 (dk_at dksX5_wordOf_6 5 rfl rfl)
theorem dX5_wordOf_148 : decode cX5_wordOf 148 = .ok (.iconst 0, 1) := dk_3 (dk_at dksX5_wordOf_6 6 rfl rfl)
theorem dX5_wordOf_149 : decode cX5_wordOf 149 = .ok (.bipush 15, 2) := dk_16 15 (dk_at dksX5_wordOf_6 7 rfl rfl)
theorem dX5_wordOf_151 : decode cX5_wordOf 151 = .ok (.bipush 18, 2) := dk_16 18 (dk_at dksX5_wordOf_6 9 rfl rfl)
theorem dX5_wordOf_153 : decode cX5_wordOf 153 = .ok (.iconst 4, 1) := dk_7 (dk_at dksX5_wordOf_6 11 rfl rfl)
theorem dX5_wordOf_154 : decode cX5_wordOf 154 = .ok (.iconst 5, 1) := dk_8 (dk_at dksX5_wordOf_6 12 rfl rfl)
theorem dX5_wordOf_155 : decode cX5_wordOf 155 = .ok (.bipush 18, 2) := dk_16 18 (dk_at dksX5_wordOf_6 13 rfl rfl)
theorem dX5_wordOf_157 : decode cX5_wordOf 157 = .ok (.invokestatic 97, 3) := dk_184 0 97 (dk_at dksX5_wordOf_6 15 rfl rfl)
theorem dX5_wordOf_160 : decode cX5_wordOf 160 = .ok (.lcmp, 1) := dk_148 (dk_at dksX5_wordOf_6 18 rfl rfl)
theorem dX5_wordOf_161 : decode cX5_wordOf 161 = .ok (.ifCond .ne 6, 3) := dk_154 0 6 (dk_at dksX5_wordOf_6 19 rfl rfl)
theorem dX5_wordOf_164 : decode cX5_wordOf 164 = .ok (.bipush 9, 2) := dk_16 9 (dk_at dksX5_wordOf_6 22 rfl rfl)
theorem dX5_wordOf_166 : decode cX5_wordOf 166 = .ok (.ireturn, 1) := dk_172 (dk_at dksX5_wordOf_7 0 rfl rfl)
theorem dX5_wordOf_167 : decode cX5_wordOf 167 = .ok (.lload_n 0, 1) := dk_30 (dk_at dksX5_wordOf_7 1 rfl rfl)
theorem dX5_wordOf_168 : decode cX5_wordOf 168 = .ok (.bipush 18, 2) := dk_16 18 (dk_at dksX5_wordOf_7 2 rfl rfl)
theorem dX5_wordOf_170 : decode cX5_wordOf 170 = .ok (.iconst 5, 1) := dk_8 (dk_at dksX5_wordOf_7 4 rfl rfl)
theorem dX5_wordOf_171 : decode cX5_wordOf 171 = .ok (.bipush 19, 2) := dk_16 19 (dk_at dksX5_wordOf_7 5 rfl rfl)
theorem dX5_wordOf_173 : decode cX5_wordOf 173 = .ok (.bipush 20, 2) := dk_16 20 (dk_at dksX5_wordOf_7 7 rfl rfl)
theorem dX5_wordOf_175 : decode cX5_wordOf 175 = .ok (.invokestatic 91, 3) := dk_184 0 91 (dk_at dksX5_wordOf_7 9 rfl rfl)
theorem dX5_wordOf_178 : decode cX5_wordOf 178 = .ok (.lcmp, 1) := dk_148 (dk_at dksX5_wordOf_7 12 rfl rfl)
theorem dX5_wordOf_179 : decode cX5_wordOf 179 = .ok (.ifCond .ne 6, 3) := dk_154 0 6 (dk_at dksX5_wordOf_7 13 rfl rfl)
theorem dX5_wordOf_182 : decode cX5_wordOf 182 = .ok (.bipush 10, 2) := dk_16 10 (dk_at dksX5_wordOf_7 16 rfl rfl)
theorem dX5_wordOf_184 : decode cX5_wordOf 184 = .ok (.ireturn, 1) := dk_172 (dk_at dksX5_wordOf_7 18 rfl rfl)
theorem dX5_wordOf_185 : decode cX5_wordOf 185 = .ok (.lload_n 0, 1) := dk_30 (dk_at dksX5_wordOf_7 19 rfl rfl)
theorem dX5_wordOf_186 : decode cX5_wordOf 186 = .ok (.iconst 0, 1) := dk_3 (dk_at dksX5_wordOf_7 20 rfl rfl)
theorem dX5_wordOf_187 : decode cX5_wordOf 187 = .ok (.bipush 20, 2) := dk_16 20 (dk_at dksX5_wordOf_7 21 rfl rfl)
theorem dX5_wordOf_189 : decode cX5_wordOf 189 = .ok (.iconst 1, 1) := dk_4 (dk_at dksX5_wordOf_7 23 rfl rfl)
theorem dX5_wordOf_190 : decode cX5_wordOf 190 = .ok (.bipush 16, 2) := dk_16 16 (dk_at dksX5_wordOf_8 0 rfl rfl)
theorem dX5_wordOf_192 : decode cX5_wordOf 192 = .ok (.invokestatic 91, 3) := dk_184 0 91 (dk_at dksX5_wordOf_8 2 rfl rfl)
theorem dX5_wordOf_195 : decode cX5_wordOf 195 = .ok (.lcmp, 1) := dk_148 (dk_at dksX5_wordOf_8 5 rfl rfl)
theorem dX5_wordOf_196 : decode cX5_wordOf 196 = .ok (.ifCond .ne 6, 3) := dk_154 0 6 (dk_at dksX5_wordOf_8 6 rfl rfl)
theorem dX5_wordOf_199 : decode cX5_wordOf 199 = .ok (.bipush 11, 2) := dk_16 11 (dk_at dksX5_wordOf_8 9 rfl rfl)
theorem dX5_wordOf_201 : decode cX5_wordOf 201 = .ok (.ireturn, 1) := dk_172 (dk_at dksX5_wordOf_8 11 rfl rfl)
theorem dX5_wordOf_202 : decode cX5_wordOf 202 = .ok (.lload_n 0, 1) := dk_30 (dk_at dksX5_wordOf_8 12 rfl rfl)
theorem dX5_wordOf_203 : decode cX5_wordOf 203 = .ok (.bipush 6, 2) := dk_16 6 (dk_at dksX5_wordOf_8 13 rfl rfl)
theorem dX5_wordOf_205 : decode cX5_wordOf 205 = .ok (.bipush 12, 2) := dk_16 12 (dk_at dksX5_wordOf_8 15 rfl rfl)
theorem dX5_wordOf_207 : decode cX5_wordOf 207 = .ok (.iconst 1, 1) := dk_4 (dk_at dksX5_wordOf_8 17 rfl rfl)
theorem dX5_wordOf_208 : decode cX5_wordOf 208 = .ok (.bipush 13, 2) := dk_16 13 (dk_at dksX5_wordOf_8 18 rfl rfl)
theorem dX5_wordOf_210 : decode cX5_wordOf 210 = .ok (.invokestatic 91, 3) := dk_184 0 91 (dk_at dksX5_wordOf_8 20 rfl rfl)
theorem dX5_wordOf_213 : decode cX5_wordOf 213 = .ok (.lcmp, 1) := dk_148 (dk_at dksX5_wordOf_8 23 rfl rfl)
theorem dX5_wordOf_214 : decode cX5_wordOf 214 = .ok (.ifCond .ne 6, 3) := dk_154 0 6 (dk_at dksX5_wordOf_9 0 rfl rfl)
theorem dX5_wordOf_217 : decode cX5_wordOf 217 = .ok (.bipush 12, 2) := dk_16 12 (dk_at dksX5_wordOf_9 3 rfl rfl)
theorem dX5_wordOf_219 : decode cX5_wordOf 219 = .ok (.ireturn, 1) := dk_172 (dk_at dksX5_wordOf_9 5 rfl rfl)
theorem dX5_wordOf_220 : decode cX5_wordOf 220 = .ok (.lload_n 0, 1) := dk_30 (dk_at dksX5_wordOf_9 6 rfl rfl)
theorem dX5_wordOf_221 : decode cX5_wordOf 221 = .ok (.bipush 18, 2) := dk_16 18 (dk_at dksX5_wordOf_9 7 rfl rfl)
theorem dX5_wordOf_223 : decode cX5_wordOf 223 = .ok (.bipush 15, 2) := dk_16 15 (dk_at dksX5_wordOf_9 9 rfl rfl)
theorem dX5_wordOf_225 : decode cX5_wordOf 225 = .ok (.bipush 12, 2) := dk_16 12 (dk_at dksX5_wordOf_9 11 rfl rfl)
theorem dX5_wordOf_227 : decode cX5_wordOf 227 = .ok (.bipush 12, 2) := dk_16 12 (dk_at dksX5_wordOf_9 13 rfl rfl)
theorem dX5_wordOf_229 : decode cX5_wordOf 229 = .ok (.invokestatic 91, 3) := dk_184 0 91 (dk_at dksX5_wordOf_9 15 rfl rfl)
theorem dX5_wordOf_232 : decode cX5_wordOf 232 = .ok (.lcmp, 1) := dk_148 (dk_at dksX5_wordOf_9 18 rfl rfl)
theorem dX5_wordOf_233 : decode cX5_wordOf 233 = .ok (.ifCond .ne 6, 3) := dk_154 0 6 (dk_at dksX5_wordOf_9 19 rfl rfl)
theorem dX5_wordOf_236 : decode cX5_wordOf 236 = .ok (.bipush 13, 2) := dk_16 13 (dk_at dksX5_wordOf_9 22 rfl rfl)
theorem dX5_wordOf_238 : decode cX5_wordOf 238 = .ok (.ireturn, 1) := dk_172 (dk_at dksX5_wordOf_10 0 rfl rfl)
theorem dX5_wordOf_239 : decode cX5_wordOf 239 = .ok (.lload_n 0, 1) := dk_30 (dk_at dksX5_wordOf_10 1 rfl rfl)
theorem dX5_wordOf_240 : decode cX5_wordOf 240 = .ok (.invokestatic 101, 3) := dk_184 0 101 (dk_at dksX5_wordOf_10 2 rfl rfl)
theorem dX5_wordOf_243 : decode cX5_wordOf 243 = .ok (.ireturn, 1) := dk_172 (dk_at dksX5_wordOf_10 5 rfl rfl)
abbrev cX5_four : ByteArray := prog_24_method_8_code
def yX5_four : MethodName := ⟨RX5, "four", "(IIII)J"⟩
def dkwX5_four_0 : List UInt8 := [26, 16, 32, 104, 27, 96, 16, 32, 104, 28, 96, 16, 32, 104, 29, 96, 133, 173]
abbrev dktX5_four_0 : List UInt8 := dkwX5_four_0 ++ []
theorem dksX5_four_0 : cX5_four.data.toList.drop 0 = dktX5_four_0 := by decide +kernel
theorem dX5_four_0 : decode cX5_four 0 = .ok (.iload_n 0, 1) := dk_26 (dk_at dksX5_four_0 0 rfl rfl)
theorem dX5_four_1 : decode cX5_four 1 = .ok (.bipush 32, 2) := dk_16 32 (dk_at dksX5_four_0 1 rfl rfl)
theorem dX5_four_3 : decode cX5_four 3 = .ok (.imul, 1) := dk_104 (dk_at dksX5_four_0 3 rfl rfl)
theorem dX5_four_4 : decode cX5_four 4 = .ok (.iload_n 1, 1) := dk_27 (dk_at dksX5_four_0 4 rfl rfl)
theorem dX5_four_5 : decode cX5_four 5 = .ok (.iadd, 1) := dk_96 (dk_at dksX5_four_0 5 rfl rfl)
theorem dX5_four_6 : decode cX5_four 6 = .ok (.bipush 32, 2) := dk_16 32 (dk_at dksX5_four_0 6 rfl rfl)
theorem dX5_four_8 : decode cX5_four 8 = .ok (.imul, 1) := dk_104 (dk_at dksX5_four_0 8 rfl rfl)
theorem dX5_four_9 : decode cX5_four 9 = .ok (.iload_n 2, 1) := dk_28 (dk_at dksX5_four_0 9 rfl rfl)
theorem dX5_four_10 : decode cX5_four 10 = .ok (.iadd, 1) := dk_96 (dk_at dksX5_four_0 10 rfl rfl)
theorem dX5_four_11 : decode cX5_four 11 = .ok (.bipush 32, 2) := dk_16 32 (dk_at dksX5_four_0 11 rfl rfl)
theorem dX5_four_13 : decode cX5_four 13 = .ok (.imul, 1) := dk_104 (dk_at dksX5_four_0 13 rfl rfl)
theorem dX5_four_14 : decode cX5_four 14 = .ok (.iload_n 3, 1) := dk_29 (dk_at dksX5_four_0 14 rfl rfl)
theorem dX5_four_15 : decode cX5_four 15 = .ok (.iadd, 1) := dk_96 (dk_at dksX5_four_0 15 rfl rfl)
theorem dX5_four_16 : decode cX5_four 16 = .ok (.i2l, 1) := dk_133 (dk_at dksX5_four_0 16 rfl rfl)
theorem dX5_four_17 : decode cX5_four 17 = .ok (.lreturn, 1) := dk_173 (dk_at dksX5_four_0 17 rfl rfl)
abbrev cX5_eight : ByteArray := prog_24_method_9_code
def yX5_eight : MethodName := ⟨RX5, "eight", "(IIIIIIII)J"⟩
def dkwX5_eight_0 : List UInt8 := [26, 27, 28, 29, 184, 0, 91, 20, 0, 95, 105, 21, 4, 21, 5, 21, 6, 21, 7, 184, 0, 91, 97, 173]
abbrev dktX5_eight_0 : List UInt8 := dkwX5_eight_0 ++ []
theorem dksX5_eight_0 : cX5_eight.data.toList.drop 0 = dktX5_eight_0 := by decide +kernel
theorem dX5_eight_0 : decode cX5_eight 0 = .ok (.iload_n 0, 1) := dk_26 (dk_at dksX5_eight_0 0 rfl rfl)
theorem dX5_eight_1 : decode cX5_eight 1 = .ok (.iload_n 1, 1) := dk_27 (dk_at dksX5_eight_0 1 rfl rfl)
theorem dX5_eight_2 : decode cX5_eight 2 = .ok (.iload_n 2, 1) := dk_28 (dk_at dksX5_eight_0 2 rfl rfl)
theorem dX5_eight_3 : decode cX5_eight 3 = .ok (.iload_n 3, 1) := dk_29 (dk_at dksX5_eight_0 3 rfl rfl)
theorem dX5_eight_4 : decode cX5_eight 4 = .ok (.invokestatic 91, 3) := dk_184 0 91 (dk_at dksX5_eight_0 4 rfl rfl)
theorem dX5_eight_7 : decode cX5_eight 7 = .ok (.ldc2_w 95, 3) := dk_20 0 95 (dk_at dksX5_eight_0 7 rfl rfl)
theorem dX5_eight_10 : decode cX5_eight 10 = .ok (.lmul, 1) := dk_105 (dk_at dksX5_eight_0 10 rfl rfl)
theorem dX5_eight_11 : decode cX5_eight 11 = .ok (.iload 4, 2) := dk_21 4 (dk_at dksX5_eight_0 11 rfl rfl)
theorem dX5_eight_13 : decode cX5_eight 13 = .ok (.iload 5, 2) := dk_21 5 (dk_at dksX5_eight_0 13 rfl rfl)
theorem dX5_eight_15 : decode cX5_eight 15 = .ok (.iload 6, 2) := dk_21 6 (dk_at dksX5_eight_0 15 rfl rfl)
theorem dX5_eight_17 : decode cX5_eight 17 = .ok (.iload 7, 2) := dk_21 7 (dk_at dksX5_eight_0 17 rfl rfl)
theorem dX5_eight_19 : decode cX5_eight 19 = .ok (.invokestatic 91, 3) := dk_184 0 91 (dk_at dksX5_eight_0 19 rfl rfl)
theorem dX5_eight_22 : decode cX5_eight 22 = .ok (.ladd, 1) := dk_97 (dk_at dksX5_eight_0 22 rfl rfl)
theorem dX5_eight_23 : decode cX5_eight 23 = .ok (.lreturn, 1) := dk_173 (dk_at dksX5_eight_0 23 rfl rfl)
abbrev cX5_otherWord : ByteArray := prog_24_method_11_code
def yX5_otherWord : MethodName := ⟨RX5, "otherWord", "(J)I"⟩
def dkwX5_otherWord_9 : List UInt8 := [184, 0, 91, 148, 154, 0, 8, 16, 24, 167, 0, 5, 16, 99, 172]
abbrev dktX5_otherWord_9 : List UInt8 := dkwX5_otherWord_9 ++ []
def dkwX5_otherWord_8 : List UInt8 := [16, 9, 6, 8, 184, 0, 97, 148, 154, 0, 6, 16, 23, 172, 30, 16, 12, 4, 16, 19, 16, 20]
abbrev dktX5_otherWord_8 : List UInt8 := dkwX5_otherWord_8 ++ dktX5_otherWord_9
def dkwX5_otherWord_7 : List UInt8 := [16, 23, 4, 16, 16, 184, 0, 91, 148, 154, 0, 6, 16, 22, 172, 30, 3, 3, 3, 16, 20, 16, 23]
abbrev dktX5_otherWord_7 : List UInt8 := dkwX5_otherWord_7 ++ dktX5_otherWord_8
def dkwX5_otherWord_6 : List UInt8 := [16, 20, 172, 30, 7, 16, 18, 16, 15, 16, 16, 184, 0, 91, 148, 154, 0, 6, 16, 21, 172, 30, 16, 19]
abbrev dktX5_otherWord_6 : List UInt8 := dkwX5_otherWord_6 ++ dktX5_otherWord_7
def dkwX5_otherWord_5 : List UInt8 := [184, 0, 97, 148, 154, 0, 6, 16, 19, 172, 30, 16, 13, 4, 7, 8, 184, 0, 91, 148, 154, 0, 6]
abbrev dktX5_otherWord_5 : List UInt8 := dkwX5_otherWord_5 ++ dktX5_otherWord_6
def dkwX5_otherWord_4 : List UInt8 := [184, 0, 97, 148, 154, 0, 6, 16, 18, 172, 30, 3, 3, 3, 16, 7, 16, 9, 16, 22, 8, 16, 19]
abbrev dktX5_otherWord_4 : List UInt8 := dkwX5_otherWord_4 ++ dktX5_otherWord_5
def dkwX5_otherWord_3 : List UInt8 := [184, 0, 97, 148, 154, 0, 6, 16, 17, 172, 30, 3, 16, 18, 8, 16, 20, 16, 18, 8, 4, 16, 20]
abbrev dktX5_otherWord_3 : List UInt8 := dkwX5_otherWord_3 ++ dktX5_otherWord_4
def dkwX5_otherWord_2 : List UInt8 := [16, 20, 184, 0, 97, 148, 154, 0, 6, 16, 16, 172, 30, 3, 3, 6, 16, 8, 4, 16, 18, 16, 7, 8]
abbrev dktX5_otherWord_2 : List UInt8 := dkwX5_otherWord_2 ++ dktX5_otherWord_3
def dkwX5_otherWord_1 : List UInt8 := [16, 20, 184, 0, 91, 148, 154, 0, 6, 16, 15, 172, 30, 3, 3, 3, 16, 18, 16, 9, 16, 7, 16, 8]
abbrev dktX5_otherWord_1 : List UInt8 := dkwX5_otherWord_1 ++ dktX5_otherWord_2
def dkwX5_otherWord_0 : List UInt8 := [30, 16, 8, 4, 16, 12, 16, 20, 184, 0, 91, 148, 154, 0, 6, 16, 14, 172, 30, 16, 12, 8, 16, 6]
abbrev dktX5_otherWord_0 : List UInt8 := dkwX5_otherWord_0 ++ dktX5_otherWord_1
theorem dksX5_otherWord_0 : cX5_otherWord.data.toList.drop 0 = dktX5_otherWord_0 := by decide +kernel
theorem dksX5_otherWord_1 : cX5_otherWord.data.toList.drop 24 = dktX5_otherWord_1 := dk_seg dksX5_otherWord_0 24 rfl rfl
theorem dksX5_otherWord_2 : cX5_otherWord.data.toList.drop 48 = dktX5_otherWord_2 := dk_seg dksX5_otherWord_1 24 rfl rfl
theorem dksX5_otherWord_3 : cX5_otherWord.data.toList.drop 72 = dktX5_otherWord_3 := dk_seg dksX5_otherWord_2 24 rfl rfl
theorem dksX5_otherWord_4 : cX5_otherWord.data.toList.drop 95 = dktX5_otherWord_4 := dk_seg dksX5_otherWord_3 23 rfl rfl
theorem dksX5_otherWord_5 : cX5_otherWord.data.toList.drop 118 = dktX5_otherWord_5 := dk_seg dksX5_otherWord_4 23 rfl rfl
theorem dksX5_otherWord_6 : cX5_otherWord.data.toList.drop 141 = dktX5_otherWord_6 := dk_seg dksX5_otherWord_5 23 rfl rfl
theorem dksX5_otherWord_7 : cX5_otherWord.data.toList.drop 165 = dktX5_otherWord_7 := dk_seg dksX5_otherWord_6 24 rfl rfl
theorem dksX5_otherWord_8 : cX5_otherWord.data.toList.drop 188 = dktX5_otherWord_8 := dk_seg dksX5_otherWord_7 23 rfl rfl
theorem dksX5_otherWord_9 : cX5_otherWord.data.toList.drop 210 = dktX5_otherWord_9 := dk_seg dksX5_otherWord_8 22 rfl rfl
theorem dX5_otherWord_0 : decode cX5_otherWord 0 = .ok (.lload_n 0, 1) := dk_30 (dk_at dksX5_otherWord_0 0 rfl rfl)
theorem dX5_otherWord_1 : decode cX5_otherWord 1 = .ok (.bipush 8, 2) := dk_16 8 (dk_at dksX5_otherWord_0 1 rfl rfl)
theorem dX5_otherWord_3 : decode cX5_otherWord 3 = .ok (.iconst 1, 1) := dk_4 (dk_at dksX5_otherWord_0 3 rfl rfl)
theorem dX5_otherWord_4 : decode cX5_otherWord 4 = .ok (.bipush 12, 2) := dk_16 12 (dk_at dksX5_otherWord_0 4 rfl rfl)
theorem dX5_otherWord_6 : decode cX5_otherWord 6 = .ok (.bipush 20, 2) := dk_16 20 (dk_at dksX5_otherWord_0 6 rfl rfl)
theorem dX5_otherWord_8 : decode cX5_otherWord 8 = .ok (.invokestatic 91, 3) := dk_184 0 91 (dk_at dksX5_otherWord_0 8 rfl rfl)
theorem dX5_otherWord_11 : decode cX5_otherWord 11 = .ok (.lcmp, 1) := dk_148 (dk_at dksX5_otherWord_0 11 rfl rfl)
theorem dX5_otherWord_12 : decode cX5_otherWord 12 = .ok (.ifCond .ne 6, 3) := dk_154 0 6 (dk_at dksX5_otherWord_0 12 rfl rfl)
theorem dX5_otherWord_15 : decode cX5_otherWord 15 = .ok (.bipush 14, 2) := dk_16 14 (dk_at dksX5_otherWord_0 15 rfl rfl)
theorem dX5_otherWord_17 : decode cX5_otherWord 17 = .ok (.ireturn, 1) := dk_172 (dk_at dksX5_otherWord_0 17 rfl rfl)
theorem dX5_otherWord_18 : decode cX5_otherWord 18 = .ok (.lload_n 0, 1) := dk_30 (dk_at dksX5_otherWord_0 18 rfl rfl)
theorem dX5_otherWord_19 : decode cX5_otherWord 19 = .ok (.bipush 12, 2) := dk_16 12 (dk_at dksX5_otherWord_0 19 rfl rfl)
theorem dX5_otherWord_21 : decode cX5_otherWord 21 = .ok (.iconst 5, 1) := dk_8 (dk_at dksX5_otherWord_0 21 rfl rfl)
theorem dX5_otherWord_22 : decode cX5_otherWord 22 = .ok (.bipush 6, 2) := dk_16 6 (dk_at dksX5_otherWord_0 22 rfl rfl)
theorem dX5_otherWord_24 : decode cX5_otherWord 24 = .ok (.bipush 20, 2) := dk_16 20 (dk_at dksX5_otherWord_1 0 rfl rfl)
theorem dX5_otherWord_26 : decode cX5_otherWord 26 = .ok (.invokestatic 91, 3) := dk_184 0 91 (dk_at dksX5_otherWord_1 2 rfl rfl)
theorem dX5_otherWord_29 : decode cX5_otherWord 29 = .ok (.lcmp, 1) := dk_148 (dk_at dksX5_otherWord_1 5 rfl rfl)
theorem dX5_otherWord_30 : decode cX5_otherWord 30 = .ok (.ifCond .ne 6, 3) := dk_154 0 6 (dk_at dksX5_otherWord_1 6 rfl rfl)
theorem dX5_otherWord_33 : decode cX5_otherWord 33 = .ok (.bipush 15, 2) := dk_16 15 (dk_at dksX5_otherWord_1 9 rfl rfl)
theorem dX5_otherWord_35 : decode cX5_otherWord 35 = .ok (.ireturn, 1) := dk_172 (dk_at dksX5_otherWord_1 11 rfl rfl)
theorem dX5_otherWord_36 : decode cX5_otherWord 36 = .ok (.lload_n 0, 1) := dk_30 (dk_at dksX5_otherWord_1 12 rfl rfl)
theorem dX5_otherWord_37 : decode cX5_otherWord 37 = .ok (.iconst 0, 1) := dk_3 (dk_at dksX5_otherWord_1 13 rfl rfl)
theorem dX5_otherWord_38 : decode cX5_otherWord 38 = .ok (.iconst 0, 1) := dk_3 (dk_at dksX5_otherWord_1 14 rfl rfl)
theorem dX5_otherWord_39 : decode cX5_otherWord 39 = .ok (.iconst 0, 1) := dk_3 (dk_at dksX5_otherWord_1 15 rfl rfl)
theorem dX5_otherWord_40 : decode cX5_otherWord 40 = .ok (.bipush 18, 2) := dk_16 18 (dk_at dksX5_otherWord_1 16 rfl rfl)
theorem dX5_otherWord_42 : decode cX5_otherWord 42 = .ok (.bipush 9, 2) := dk_16 9 (dk_at dksX5_otherWord_1 18 rfl rfl)
theorem dX5_otherWord_44 : decode cX5_otherWord 44 = .ok (.bipush 7, 2) := dk_16 7 (dk_at dksX5_otherWord_1 20 rfl rfl)
theorem dX5_otherWord_46 : decode cX5_otherWord 46 = .ok (.bipush 8, 2) := dk_16 8 (dk_at dksX5_otherWord_1 22 rfl rfl)
theorem dX5_otherWord_48 : decode cX5_otherWord 48 = .ok (.bipush 20, 2) := dk_16 20 (dk_at dksX5_otherWord_2 0 rfl rfl)
theorem dX5_otherWord_50 : decode cX5_otherWord 50 = .ok (.invokestatic 97, 3) := dk_184 0 97 (dk_at dksX5_otherWord_2 2 rfl rfl)
theorem dX5_otherWord_53 : decode cX5_otherWord 53 = .ok (.lcmp, 1) := dk_148 (dk_at dksX5_otherWord_2 5 rfl rfl)
theorem dX5_otherWord_54 : decode cX5_otherWord 54 = .ok (.ifCond .ne 6, 3) := dk_154 0 6 (dk_at dksX5_otherWord_2 6 rfl rfl)
theorem dX5_otherWord_57 : decode cX5_otherWord 57 = .ok (.bipush 16, 2) := dk_16 16 (dk_at dksX5_otherWord_2 9 rfl rfl)
theorem dX5_otherWord_59 : decode cX5_otherWord 59 = .ok (.ireturn, 1) := dk_172 (dk_at dksX5_otherWord_2 11 rfl rfl)
theorem dX5_otherWord_60 : decode cX5_otherWord 60 = .ok (.lload_n 0, 1) := dk_30 (dk_at dksX5_otherWord_2 12 rfl rfl)
theorem dX5_otherWord_61 : decode cX5_otherWord 61 = .ok (.iconst 0, 1) := dk_3 (dk_at dksX5_otherWord_2 13 rfl rfl)
theorem dX5_otherWord_62 : decode cX5_otherWord 62 = .ok (.iconst 0, 1) := dk_3 (dk_at dksX5_otherWord_2 14 rfl rfl)
theorem dX5_otherWord_63 : decode cX5_otherWord 63 = .ok (.iconst 3, 1) := dk_6 (dk_at dksX5_otherWord_2 15 rfl rfl)
theorem dX5_otherWord_64 : decode cX5_otherWord 64 = .ok (.bipush 8, 2) := dk_16 8 (dk_at dksX5_otherWord_2 16 rfl rfl)
theorem dX5_otherWord_66 : decode cX5_otherWord 66 = .ok (.iconst 1, 1) := dk_4 (dk_at dksX5_otherWord_2 18 rfl rfl)
theorem dX5_otherWord_67 : decode cX5_otherWord 67 = .ok (.bipush 18, 2) := dk_16 18 (dk_at dksX5_otherWord_2 19 rfl rfl)
theorem dX5_otherWord_69 : decode cX5_otherWord 69 = .ok (.bipush 7, 2) := dk_16 7 (dk_at dksX5_otherWord_2 21 rfl rfl)
theorem dX5_otherWord_71 : decode cX5_otherWord 71 = .ok (.iconst 5, 1) := dk_8 (dk_at dksX5_otherWord_2 23 rfl rfl)
theorem dX5_otherWord_72 : decode cX5_otherWord 72 = .ok (.invokestatic 97, 3) := dk_184 0 97 (dk_at dksX5_otherWord_3 0 rfl rfl)
theorem dX5_otherWord_75 : decode cX5_otherWord 75 = .ok (.lcmp, 1) := dk_148 (dk_at dksX5_otherWord_3 3 rfl rfl)
theorem dX5_otherWord_76 : decode cX5_otherWord 76 = .ok (.ifCond .ne 6, 3) := dk_154 0 6 (dk_at dksX5_otherWord_3 4 rfl rfl)
theorem dX5_otherWord_79 : decode cX5_otherWord 79 = .ok (.bipush 17, 2) := dk_16 17 (dk_at dksX5_otherWord_3 7 rfl rfl)
theorem dX5_otherWord_81 : decode cX5_otherWord 81 = .ok (.ireturn, 1) := dk_172 (dk_at dksX5_otherWord_3 9 rfl rfl)
theorem dX5_otherWord_82 : decode cX5_otherWord 82 = .ok (.lload_n 0, 1) := dk_30 (dk_at dksX5_otherWord_3 10 rfl rfl)
theorem dX5_otherWord_83 : decode cX5_otherWord 83 = .ok (.iconst 0, 1) := dk_3 (dk_at dksX5_otherWord_3 11 rfl rfl)
theorem dX5_otherWord_84 : decode cX5_otherWord 84 = .ok (.bipush 18, 2) := dk_16 18 (dk_at dksX5_otherWord_3 12 rfl rfl)
theorem dX5_otherWord_86 : decode cX5_otherWord 86 = .ok (.iconst 5, 1) := dk_8 (dk_at dksX5_otherWord_3 14 rfl rfl)
theorem dX5_otherWord_87 : decode cX5_otherWord 87 = .ok (.bipush 20, 2) := dk_16 20 (dk_at dksX5_otherWord_3 15 rfl rfl)
theorem dX5_otherWord_89 : decode cX5_otherWord 89 = .ok (.bipush 18, 2) := dk_16 18 (dk_at dksX5_otherWord_3 17 rfl rfl)
theorem dX5_otherWord_91 : decode cX5_otherWord 91 = .ok (.iconst 5, 1) := dk_8 (dk_at dksX5_otherWord_3 19 rfl rfl)
theorem dX5_otherWord_92 : decode cX5_otherWord 92 = .ok (.iconst 1, 1) := dk_4 (dk_at dksX5_otherWord_3 20 rfl rfl)
theorem dX5_otherWord_93 : decode cX5_otherWord 93 = .ok (.bipush 20, 2) := dk_16 20 (dk_at dksX5_otherWord_3 21 rfl rfl)
theorem dX5_otherWord_95 : decode cX5_otherWord 95 = .ok (.invokestatic 97, 3) := dk_184 0 97 (dk_at dksX5_otherWord_4 0 rfl rfl)
theorem dX5_otherWord_98 : decode cX5_otherWord 98 = .ok (.lcmp, 1) := dk_148 (dk_at dksX5_otherWord_4 3 rfl rfl)
theorem dX5_otherWord_99 : decode cX5_otherWord 99 = .ok (.ifCond .ne 6, 3) := dk_154 0 6 (dk_at dksX5_otherWord_4 4 rfl rfl)
theorem dX5_otherWord_102 : decode cX5_otherWord 102 = .ok (.bipush 18, 2) := dk_16 18 (dk_at dksX5_otherWord_4 7 rfl rfl)
theorem dX5_otherWord_104 : decode cX5_otherWord 104 = .ok (.ireturn, 1) := dk_172 (dk_at dksX5_otherWord_4 9 rfl rfl)
theorem dX5_otherWord_105 : decode cX5_otherWord 105 = .ok (.lload_n 0, 1) := dk_30 (dk_at dksX5_otherWord_4 10 rfl rfl)
theorem dX5_otherWord_106 : decode cX5_otherWord 106 = .ok (.iconst 0, 1) := dk_3 (dk_at dksX5_otherWord_4 11 rfl rfl)
theorem dX5_otherWord_107 : decode cX5_otherWord 107 = .ok (.iconst 0, 1) := dk_3 (dk_at dksX5_otherWord_4 12 rfl rfl)
theorem dX5_otherWord_108 : decode cX5_otherWord 108 = .ok (.iconst 0, 1) := dk_3 (dk_at dksX5_otherWord_4 13 rfl rfl)
theorem dX5_otherWord_109 : decode cX5_otherWord 109 = .ok (.bipush 7, 2) := dk_16 7 (dk_at dksX5_otherWord_4 14 rfl rfl)
theorem dX5_otherWord_111 : decode cX5_otherWord 111 = .ok (.bipush 9, 2) := dk_16 9 (dk_at dksX5_otherWord_4 16 rfl rfl)
theorem dX5_otherWord_113 : decode cX5_otherWord 113 = .ok (.bipush 22, 2) := dk_16 22 (dk_at dksX5_otherWord_4 18 rfl rfl)
theorem dX5_otherWord_115 : decode cX5_otherWord 115 = .ok (.iconst 5, 1) := dk_8 (dk_at dksX5_otherWord_4 20 rfl rfl)
theorem dX5_otherWord_116 : decode cX5_otherWord 116 = .ok (.bipush 19, 2) := dk_16 19 (dk_at dksX5_otherWord_4 21 rfl rfl)
theorem dX5_otherWord_118 : decode cX5_otherWord 118 = .ok (.invokestatic 97, 3) := dk_184 0 97 (dk_at dksX5_otherWord_5 0 rfl rfl)
theorem dX5_otherWord_121 : decode cX5_otherWord 121 = .ok (.lcmp, 1) := dk_148 (dk_at dksX5_otherWord_5 3 rfl rfl)
theorem dX5_otherWord_122 : decode cX5_otherWord 122 = .ok (.ifCond .ne 6, 3) := dk_154 0 6 (dk_at dksX5_otherWord_5 4 rfl rfl)
theorem dX5_otherWord_125 : decode cX5_otherWord 125 = .ok (.bipush 19, 2) := dk_16 19 (dk_at dksX5_otherWord_5 7 rfl rfl)
theorem dX5_otherWord_127 : decode cX5_otherWord 127 = .ok (.ireturn, 1) := dk_172 (dk_at dksX5_otherWord_5 9 rfl rfl)
theorem dX5_otherWord_128 : decode cX5_otherWord 128 = .ok (.lload_n 0, 1) := dk_30 (dk_at dksX5_otherWord_5 10 rfl rfl)
theorem dX5_otherWord_129 : decode cX5_otherWord 129 = .ok (.bipush 13, 2) := dk_16 13 (dk_at dksX5_otherWord_5 11 rfl rfl)
theorem dX5_otherWord_131 : decode cX5_otherWord 131 = .ok (.iconst 1, 1) := dk_4 (dk_at dksX5_otherWord_5 13 rfl rfl)
theorem dX5_otherWord_132 : decode cX5_otherWord 132 = .ok (.iconst 4, 1) := dk_7 (dk_at dksX5_otherWord_5 14 rfl rfl)
theorem dX5_otherWord_133 : decode cX5_otherWord 133 = .ok (.iconst 5, 1) := dk_8 (dk_at dksX5_otherWord_5 15 rfl rfl)
theorem dX5_otherWord_134 : decode cX5_otherWord 134 = .ok (.invokestatic 91, 3) := dk_184 0 91 (dk_at dksX5_otherWord_5 16 rfl rfl)
theorem dX5_otherWord_137 : decode cX5_otherWord 137 = .ok (.lcmp, 1) := dk_148 (dk_at dksX5_otherWord_5 19 rfl rfl)
theorem dX5_otherWord_138 : decode cX5_otherWord 138 = .ok (.ifCond .ne 6, 3) := dk_154 0 6 (dk_at dksX5_otherWord_5 20 rfl rfl)
theorem dX5_otherWord_141 : decode cX5_otherWord 141 = .ok (.bipush 20, 2) := dk_16 20 (dk_at dksX5_otherWord_6 0 rfl rfl)
theorem dX5_otherWord_143 : decode cX5_otherWord 143 = .ok (.ireturn, 1) := dk_172 (dk_at dksX5_otherWord_6 2 rfl rfl)
theorem dX5_otherWord_144 : decode cX5_otherWord 144 = .ok (.lload_n 0, 1) := dk_30 (dk_at dksX5_otherWord_6 3 rfl rfl)
theorem dX5_otherWord_145 : decode cX5_otherWord 145 = .ok (.iconst 4, 1) := dk_7 (dk_at dksX5_otherWord_6 4 rfl rfl)
theorem dX5_otherWord_146 : decode cX5_otherWord 146 = .ok (.bipush 18, 2) := dk_16 18 (dk_at dksX5_otherWord_6 5 rfl rfl)
theorem dX5_otherWord_148 : decode cX5_otherWord 148 = .ok (.bipush 15, 2) := dk_16 15 (dk_at dksX5_otherWord_6 7 rfl rfl)
theorem dX5_otherWord_150 : decode cX5_otherWord 150 = .ok (.bipush 16, 2) := dk_16 16 (dk_at dksX5_otherWord_6 9 rfl rfl)
theorem dX5_otherWord_152 : decode cX5_otherWord 152 = .ok (.invokestatic 91, 3) := dk_184 0 91 (dk_at dksX5_otherWord_6 11 rfl rfl)
theorem dX5_otherWord_155 : decode cX5_otherWord 155 = .ok (.lcmp, 1) := dk_148 (dk_at dksX5_otherWord_6 14 rfl rfl)
theorem dX5_otherWord_156 : decode cX5_otherWord 156 = .ok (.ifCond .ne 6, 3) := dk_154 0 6 (dk_at dksX5_otherWord_6 15 rfl rfl)
theorem dX5_otherWord_159 : decode cX5_otherWord 159 = .ok (.bipush 21, 2) := dk_16 21 (dk_at dksX5_otherWord_6 18 rfl rfl)
theorem dX5_otherWord_161 : decode cX5_otherWord 161 = .ok (.ireturn, 1) := dk_172 (dk_at dksX5_otherWord_6 20 rfl rfl)
theorem dX5_otherWord_162 : decode cX5_otherWord 162 = .ok (.lload_n 0, 1) := dk_30 (dk_at dksX5_otherWord_6 21 rfl rfl)
theorem dX5_otherWord_163 : decode cX5_otherWord 163 = .ok (.bipush 19, 2) := dk_16 19 (dk_at dksX5_otherWord_6 22 rfl rfl)
theorem dX5_otherWord_165 : decode cX5_otherWord 165 = .ok (.bipush 23, 2) := dk_16 23 (dk_at dksX5_otherWord_7 0 rfl rfl)
theorem dX5_otherWord_167 : decode cX5_otherWord 167 = .ok (.iconst 1, 1) := dk_4 (dk_at dksX5_otherWord_7 2 rfl rfl)
theorem dX5_otherWord_168 : decode cX5_otherWord 168 = .ok (.bipush 16, 2) := dk_16 16 (dk_at dksX5_otherWord_7 3 rfl rfl)
theorem dX5_otherWord_170 : decode cX5_otherWord 170 = .ok (.invokestatic 91, 3) := dk_184 0 91 (dk_at dksX5_otherWord_7 5 rfl rfl)
theorem dX5_otherWord_173 : decode cX5_otherWord 173 = .ok (.lcmp, 1) := dk_148 (dk_at dksX5_otherWord_7 8 rfl rfl)
theorem dX5_otherWord_174 : decode cX5_otherWord 174 = .ok (.ifCond .ne 6, 3) := dk_154 0 6 (dk_at dksX5_otherWord_7 9 rfl rfl)
theorem dX5_otherWord_177 : decode cX5_otherWord 177 = .ok (.bipush 22, 2) := dk_16 22 (dk_at dksX5_otherWord_7 12 rfl rfl)
theorem dX5_otherWord_179 : decode cX5_otherWord 179 = .ok (.ireturn, 1) := dk_172 (dk_at dksX5_otherWord_7 14 rfl rfl)
theorem dX5_otherWord_180 : decode cX5_otherWord 180 = .ok (.lload_n 0, 1) := dk_30 (dk_at dksX5_otherWord_7 15 rfl rfl)
theorem dX5_otherWord_181 : decode cX5_otherWord 181 = .ok (.iconst 0, 1) := dk_3 (dk_at dksX5_otherWord_7 16 rfl rfl)
theorem dX5_otherWord_182 : decode cX5_otherWord 182 = .ok (.iconst 0, 1) := dk_3 (dk_at dksX5_otherWord_7 17 rfl rfl)
theorem dX5_otherWord_183 : decode cX5_otherWord 183 = .ok (.iconst 0, 1) := dk_3 (dk_at dksX5_otherWord_7 18 rfl rfl)
theorem dX5_otherWord_184 : decode cX5_otherWord 184 = .ok (.bipush 20, 2) := dk_16 20 (dk_at dksX5_otherWord_7 19 rfl rfl)
theorem dX5_otherWord_186 : decode cX5_otherWord 186 = .ok (.bipush 23, 2) := dk_16 23 (dk_at dksX5_otherWord_7 21 rfl rfl)
theorem dX5_otherWord_188 : decode cX5_otherWord 188 = .ok (.bipush 9, 2) := dk_16 9 (dk_at dksX5_otherWord_8 0 rfl rfl)
theorem dX5_otherWord_190 : decode cX5_otherWord 190 = .ok (.iconst 3, 1) := dk_6 (dk_at dksX5_otherWord_8 2 rfl rfl)
theorem dX5_otherWord_191 : decode cX5_otherWord 191 = .ok (.iconst 5, 1) := dk_8 (dk_at dksX5_otherWord_8 3 rfl rfl)
theorem dX5_otherWord_192 : decode cX5_otherWord 192 = .ok (.invokestatic 97, 3) := dk_184 0 97 (dk_at dksX5_otherWord_8 4 rfl rfl)
theorem dX5_otherWord_195 : decode cX5_otherWord 195 = .ok (.lcmp, 1) := dk_148 (dk_at dksX5_otherWord_8 7 rfl rfl)
theorem dX5_otherWord_196 : decode cX5_otherWord 196 = .ok (.ifCond .ne 6, 3) := dk_154 0 6 (dk_at dksX5_otherWord_8 8 rfl rfl)
theorem dX5_otherWord_199 : decode cX5_otherWord 199 = .ok (.bipush 23, 2) := dk_16 23 (dk_at dksX5_otherWord_8 11 rfl rfl)
theorem dX5_otherWord_201 : decode cX5_otherWord 201 = .ok (.ireturn, 1) := dk_172 (dk_at dksX5_otherWord_8 13 rfl rfl)
theorem dX5_otherWord_202 : decode cX5_otherWord 202 = .ok (.lload_n 0, 1) := dk_30 (dk_at dksX5_otherWord_8 14 rfl rfl)
theorem dX5_otherWord_203 : decode cX5_otherWord 203 = .ok (.bipush 12, 2) := dk_16 12 (dk_at dksX5_otherWord_8 15 rfl rfl)
theorem dX5_otherWord_205 : decode cX5_otherWord 205 = .ok (.iconst 1, 1) := dk_4 (dk_at dksX5_otherWord_8 17 rfl rfl)
theorem dX5_otherWord_206 : decode cX5_otherWord 206 = .ok (.bipush 19, 2) := dk_16 19 (dk_at dksX5_otherWord_8 18 rfl rfl)
theorem dX5_otherWord_208 : decode cX5_otherWord 208 = .ok (.bipush 20, 2) := dk_16 20 (dk_at dksX5_otherWord_8 20 rfl rfl)
theorem dX5_otherWord_210 : decode cX5_otherWord 210 = .ok (.invokestatic 91, 3) := dk_184 0 91 (dk_at dksX5_otherWord_9 0 rfl rfl)
theorem dX5_otherWord_213 : decode cX5_otherWord 213 = .ok (.lcmp, 1) := dk_148 (dk_at dksX5_otherWord_9 3 rfl rfl)
theorem dX5_otherWord_214 : decode cX5_otherWord 214 = .ok (.ifCond .ne 8, 3) := dk_154 0 8 (dk_at dksX5_otherWord_9 4 rfl rfl)
theorem dX5_otherWord_217 : decode cX5_otherWord 217 = .ok (.bipush 24, 2) := dk_16 24 (dk_at dksX5_otherWord_9 7 rfl rfl)
theorem dX5_otherWord_219 : decode cX5_otherWord 219 = .ok (.goto 5, 3) := dk_167 0 5 (dk_at dksX5_otherWord_9 9 rfl rfl)
theorem dX5_otherWord_222 : decode cX5_otherWord 222 = .ok (.bipush 99, 2) := dk_16 99 (dk_at dksX5_otherWord_9 12 rfl rfl)
theorem dX5_otherWord_224 : decode cX5_otherWord 224 = .ok (.ireturn, 1) := dk_172 (dk_at dksX5_otherWord_9 14 rfl rfl)
abbrev cX5_isDigit : ByteArray := prog_24_method_7_code
def yX5_isDigit : MethodName := ⟨RX5, "isDigit", "(I)Z"⟩
def dkwX5_isDigit_0 : List UInt8 := [26, 16, 48, 161, 0, 13, 26, 16, 57, 163, 0, 7, 4, 167, 0, 4, 3, 172]
abbrev dktX5_isDigit_0 : List UInt8 := dkwX5_isDigit_0 ++ []
theorem dksX5_isDigit_0 : cX5_isDigit.data.toList.drop 0 = dktX5_isDigit_0 := by decide +kernel
theorem dX5_isDigit_0 : decode cX5_isDigit 0 = .ok (.iload_n 0, 1) := dk_26 (dk_at dksX5_isDigit_0 0 rfl rfl)
theorem dX5_isDigit_1 : decode cX5_isDigit 1 = .ok (.bipush 48, 2) := dk_16 48 (dk_at dksX5_isDigit_0 1 rfl rfl)
theorem dX5_isDigit_3 : decode cX5_isDigit 3 = .ok (.if_icmp .lt 13, 3) := dk_161 0 13 (dk_at dksX5_isDigit_0 3 rfl rfl)
theorem dX5_isDigit_6 : decode cX5_isDigit 6 = .ok (.iload_n 0, 1) := dk_26 (dk_at dksX5_isDigit_0 6 rfl rfl)
theorem dX5_isDigit_7 : decode cX5_isDigit 7 = .ok (.bipush 57, 2) := dk_16 57 (dk_at dksX5_isDigit_0 7 rfl rfl)
theorem dX5_isDigit_9 : decode cX5_isDigit 9 = .ok (.if_icmp .gt 7, 3) := dk_163 0 7 (dk_at dksX5_isDigit_0 9 rfl rfl)
theorem dX5_isDigit_12 : decode cX5_isDigit 12 = .ok (.iconst 1, 1) := dk_4 (dk_at dksX5_isDigit_0 12 rfl rfl)
theorem dX5_isDigit_13 : decode cX5_isDigit 13 = .ok (.goto 4, 3) := dk_167 0 4 (dk_at dksX5_isDigit_0 13 rfl rfl)
theorem dX5_isDigit_16 : decode cX5_isDigit 16 = .ok (.iconst 0, 1) := dk_3 (dk_at dksX5_isDigit_0 16 rfl rfl)
theorem dX5_isDigit_17 : decode cX5_isDigit 17 = .ok (.ireturn, 1) := dk_172 (dk_at dksX5_isDigit_0 17 rfl rfl)
abbrev cX5_warLine : ByteArray := prog_24_method_23_code
def yX5_warLine : MethodName := ⟨RX5, "warLine", "()V"⟩
def dkwX5_warLine_10 : List UInt8 := [167, 0, 3, 42, 182, 0, 177, 177]
abbrev dktX5_warLine_10 : List UInt8 := dkwX5_warLine_10 ++ []
def dkwX5_warLine_9 : List UInt8 := [167, 0, 27, 42, 182, 0, 163, 61, 42, 180, 0, 17, 16, 13, 28, 96, 42, 3, 16, 20, 182, 0, 160, 79]
abbrev dktX5_warLine_9 : List UInt8 := dkwX5_warLine_9 ++ dktX5_warLine_10
def dkwX5_warLine_8 : List UInt8 := [167, 0, 50, 42, 182, 0, 163, 61, 42, 180, 0, 17, 16, 11, 28, 96, 42, 3, 6, 182, 0, 160, 79]
abbrev dktX5_warLine_8 : List UInt8 := dkwX5_warLine_8 ++ dktX5_warLine_9
def dkwX5_warLine_7 : List UInt8 := [167, 0, 73, 42, 182, 0, 163, 61, 42, 180, 0, 17, 16, 9, 28, 96, 42, 4, 7, 182, 0, 160, 79]
abbrev dktX5_warLine_7 : List UInt8 := dkwX5_warLine_7 ++ dktX5_warLine_8
def dkwX5_warLine_6 : List UInt8 := [79, 167, 0, 96, 42, 182, 0, 163, 61, 42, 180, 0, 17, 16, 7, 28, 96, 42, 3, 6, 182, 0, 160, 79]
abbrev dktX5_warLine_6 : List UInt8 := dkwX5_warLine_6 ++ dktX5_warLine_7
def dkwX5_warLine_5 : List UInt8 := [182, 0, 171, 61, 42, 182, 0, 171, 62, 42, 180, 0, 138, 154, 0, 108, 42, 180, 0, 17, 6, 28, 96, 29]
abbrev dktX5_warLine_5 : List UInt8 := dkwX5_warLine_5 ++ dktX5_warLine_6
def dkwX5_warLine_4 : List UInt8 := [182, 0, 160, 79, 167, 0, 141, 42, 180, 0, 17, 5, 42, 3, 16, 9, 182, 0, 160, 79, 167, 0, 125, 42]
abbrev dktX5_warLine_4 : List UInt8 := dkwX5_warLine_4 ++ dktX5_warLine_5
def dkwX5_warLine_3 : List UInt8 := [42, 180, 0, 17, 3, 42, 4, 7, 182, 0, 160, 79, 167, 0, 157, 42, 180, 0, 17, 4, 42, 3, 16, 9]
abbrev dktX5_warLine_3 : List UInt8 := dkwX5_warLine_3 ++ dktX5_warLine_4
def dkwX5_warLine_2 : List UInt8 := [170, 0, 0, 0, 0, 215, 0, 0, 0, 1, 0, 0, 0, 8, 0, 0, 0, 46, 0, 0, 0, 61, 0, 0, 0, 77, 0, 0, 0, 93, 0, 0, 0, 122, 0, 0, 0, 145, 0, 0, 0, 168, 0, 0, 0, 191]
abbrev dktX5_warLine_2 : List UInt8 := dkwX5_warLine_2 ++ dktX5_warLine_3
def dkwX5_warLine_1 : List UInt8 := [42, 182, 0, 174, 42, 182, 0, 177, 177, 42, 4, 16, 8, 182, 0, 156, 60, 27]
abbrev dktX5_warLine_1 : List UInt8 := dkwX5_warLine_1 ++ dktX5_warLine_2
def dkwX5_warLine_0 : List UInt8 := [42, 180, 0, 138, 154, 0, 29, 42, 180, 0, 115, 6, 160, 0, 21, 42, 180, 0, 129, 16, 9, 160, 0, 12]
abbrev dktX5_warLine_0 : List UInt8 := dkwX5_warLine_0 ++ dktX5_warLine_1
theorem dksX5_warLine_0 : cX5_warLine.data.toList.drop 0 = dktX5_warLine_0 := by decide +kernel
theorem dksX5_warLine_1 : cX5_warLine.data.toList.drop 24 = dktX5_warLine_1 := dk_seg dksX5_warLine_0 24 rfl rfl
theorem dksX5_warLine_2 : cX5_warLine.data.toList.drop 42 = dktX5_warLine_2 := dk_seg dksX5_warLine_1 18 rfl rfl
theorem dksX5_warLine_3 : cX5_warLine.data.toList.drop 88 = dktX5_warLine_3 := dk_seg dksX5_warLine_2 46 rfl rfl
theorem dksX5_warLine_4 : cX5_warLine.data.toList.drop 112 = dktX5_warLine_4 := dk_seg dksX5_warLine_3 24 rfl rfl
theorem dksX5_warLine_5 : cX5_warLine.data.toList.drop 136 = dktX5_warLine_5 := dk_seg dksX5_warLine_4 24 rfl rfl
theorem dksX5_warLine_6 : cX5_warLine.data.toList.drop 160 = dktX5_warLine_6 := dk_seg dksX5_warLine_5 24 rfl rfl
theorem dksX5_warLine_7 : cX5_warLine.data.toList.drop 184 = dktX5_warLine_7 := dk_seg dksX5_warLine_6 24 rfl rfl
theorem dksX5_warLine_8 : cX5_warLine.data.toList.drop 207 = dktX5_warLine_8 := dk_seg dksX5_warLine_7 23 rfl rfl
theorem dksX5_warLine_9 : cX5_warLine.data.toList.drop 230 = dktX5_warLine_9 := dk_seg dksX5_warLine_8 23 rfl rfl
theorem dksX5_warLine_10 : cX5_warLine.data.toList.drop 254 = dktX5_warLine_10 := dk_seg dksX5_warLine_9 24 rfl rfl
theorem dX5_warLine_0 : decode cX5_warLine 0 = .ok (.aload_n 0, 1) := dk_42 (dk_at dksX5_warLine_0 0 rfl rfl)
theorem dX5_warLine_1 : decode cX5_warLine 1 = .ok (.getfield 138, 3) := dk_180 0 138 (dk_at dksX5_warLine_0 1 rfl rfl)
theorem dX5_warLine_4 : decode cX5_warLine 4 = .ok (.ifCond .ne 29, 3) := dk_154 0 29 (dk_at dksX5_warLine_0 4 rfl rfl)
theorem dX5_warLine_7 : decode cX5_warLine 7 = .ok (.aload_n 0, 1) := dk_42 (dk_at dksX5_warLine_0 7 rfl rfl)
theorem dX5_warLine_8 : decode cX5_warLine 8 = .ok (.getfield 115, 3) := dk_180 0 115 (dk_at dksX5_warLine_0 8 rfl rfl)
theorem dX5_warLine_11 : decode cX5_warLine 11 = .ok (.iconst 3, 1) := dk_6 (dk_at dksX5_warLine_0 11 rfl rfl)
theorem dX5_warLine_12 : decode cX5_warLine 12 = .ok (.if_icmp .ne 21, 3) := dk_160 0 21 (dk_at dksX5_warLine_0 12 rfl rfl)
theorem dX5_warLine_15 : decode cX5_warLine 15 = .ok (.aload_n 0, 1) := dk_42 (dk_at dksX5_warLine_0 15 rfl rfl)
theorem dX5_warLine_16 : decode cX5_warLine 16 = .ok (.getfield 129, 3) := dk_180 0 129 (dk_at dksX5_warLine_0 16 rfl rfl)
theorem dX5_warLine_19 : decode cX5_warLine 19 = .ok (.bipush 9, 2) := dk_16 9 (dk_at dksX5_warLine_0 19 rfl rfl)
theorem dX5_warLine_21 : decode cX5_warLine 21 = .ok (.if_icmp .ne 12, 3) := dk_160 0 12 (dk_at dksX5_warLine_0 21 rfl rfl)
theorem dX5_warLine_24 : decode cX5_warLine 24 = .ok (.aload_n 0, 1) := dk_42 (dk_at dksX5_warLine_1 0 rfl rfl)
theorem dX5_warLine_25 : decode cX5_warLine 25 = .ok (.invokevirtual 174, 3) := dk_182 0 174 (dk_at dksX5_warLine_1 1 rfl rfl)
theorem dX5_warLine_28 : decode cX5_warLine 28 = .ok (.aload_n 0, 1) := dk_42 (dk_at dksX5_warLine_1 4 rfl rfl)
theorem dX5_warLine_29 : decode cX5_warLine 29 = .ok (.invokevirtual 177, 3) := dk_182 0 177 (dk_at dksX5_warLine_1 5 rfl rfl)
theorem dX5_warLine_32 : decode cX5_warLine 32 = .ok (.return_, 1) := dk_177 (dk_at dksX5_warLine_1 8 rfl rfl)
theorem dX5_warLine_33 : decode cX5_warLine 33 = .ok (.aload_n 0, 1) := dk_42 (dk_at dksX5_warLine_1 9 rfl rfl)
theorem dX5_warLine_34 : decode cX5_warLine 34 = .ok (.iconst 1, 1) := dk_4 (dk_at dksX5_warLine_1 10 rfl rfl)
theorem dX5_warLine_35 : decode cX5_warLine 35 = .ok (.bipush 8, 2) := dk_16 8 (dk_at dksX5_warLine_1 11 rfl rfl)
theorem dX5_warLine_37 : decode cX5_warLine 37 = .ok (.invokevirtual 156, 3) := dk_182 0 156 (dk_at dksX5_warLine_1 13 rfl rfl)
theorem dX5_warLine_40 : decode cX5_warLine 40 = .ok (.istore_n 1, 1) := dk_60 (dk_at dksX5_warLine_1 16 rfl rfl)
theorem dX5_warLine_41 : decode cX5_warLine 41 = .ok (.iload_n 1, 1) := dk_27 (dk_at dksX5_warLine_1 17 rfl rfl)
theorem dX5_warLine_42 : decode cX5_warLine 42 = .ok (.tableswitch 215 1 8 #[46, 61, 77, 93, 122, 145, 168, 191], 46) := by decide +kernel
theorem dX5_warLine_88 : decode cX5_warLine 88 = .ok (.aload_n 0, 1) := dk_42 (dk_at dksX5_warLine_3 0 rfl rfl)
theorem dX5_warLine_89 : decode cX5_warLine 89 = .ok (.getfield 17, 3) := dk_180 0 17 (dk_at dksX5_warLine_3 1 rfl rfl)
theorem dX5_warLine_92 : decode cX5_warLine 92 = .ok (.iconst 0, 1) := dk_3 (dk_at dksX5_warLine_3 4 rfl rfl)
theorem dX5_warLine_93 : decode cX5_warLine 93 = .ok (.aload_n 0, 1) := dk_42 (dk_at dksX5_warLine_3 5 rfl rfl)
theorem dX5_warLine_94 : decode cX5_warLine 94 = .ok (.iconst 1, 1) := dk_4 (dk_at dksX5_warLine_3 6 rfl rfl)
theorem dX5_warLine_95 : decode cX5_warLine 95 = .ok (.iconst 4, 1) := dk_7 (dk_at dksX5_warLine_3 7 rfl rfl)
theorem dX5_warLine_96 : decode cX5_warLine 96 = .ok (.invokevirtual 160, 3) := dk_182 0 160 (dk_at dksX5_warLine_3 8 rfl rfl)
theorem dX5_warLine_99 : decode cX5_warLine 99 = .ok (.iastore, 1) := dk_79 (dk_at dksX5_warLine_3 11 rfl rfl)
theorem dX5_warLine_100 : decode cX5_warLine 100 = .ok (.goto 157, 3) := dk_167 0 157 (dk_at dksX5_warLine_3 12 rfl rfl)
theorem dX5_warLine_103 : decode cX5_warLine 103 = .ok (.aload_n 0, 1) := dk_42 (dk_at dksX5_warLine_3 15 rfl rfl)
theorem dX5_warLine_104 : decode cX5_warLine 104 = .ok (.getfield 17, 3) := dk_180 0 17 (dk_at dksX5_warLine_3 16 rfl rfl)
theorem dX5_warLine_107 : decode cX5_warLine 107 = .ok (.iconst 1, 1) := dk_4 (dk_at dksX5_warLine_3 19 rfl rfl)
theorem dX5_warLine_108 : decode cX5_warLine 108 = .ok (.aload_n 0, 1) := dk_42 (dk_at dksX5_warLine_3 20 rfl rfl)
theorem dX5_warLine_109 : decode cX5_warLine 109 = .ok (.iconst 0, 1) := dk_3 (dk_at dksX5_warLine_3 21 rfl rfl)
theorem dX5_warLine_110 : decode cX5_warLine 110 = .ok (.bipush 9, 2) := dk_16 9 (dk_at dksX5_warLine_3 22 rfl rfl)
theorem dX5_warLine_112 : decode cX5_warLine 112 = .ok (.invokevirtual 160, 3) := dk_182 0 160 (dk_at dksX5_warLine_4 0 rfl rfl)
theorem dX5_warLine_115 : decode cX5_warLine 115 = .ok (.iastore, 1) := dk_79 (dk_at dksX5_warLine_4 3 rfl rfl)
theorem dX5_warLine_116 : decode cX5_warLine 116 = .ok (.goto 141, 3) := dk_167 0 141 (dk_at dksX5_warLine_4 4 rfl rfl)
theorem dX5_warLine_119 : decode cX5_warLine 119 = .ok (.aload_n 0, 1) := dk_42 (dk_at dksX5_warLine_4 7 rfl rfl)
theorem dX5_warLine_120 : decode cX5_warLine 120 = .ok (.getfield 17, 3) := dk_180 0 17 (dk_at dksX5_warLine_4 8 rfl rfl)
theorem dX5_warLine_123 : decode cX5_warLine 123 = .ok (.iconst 2, 1) := dk_5 (dk_at dksX5_warLine_4 11 rfl rfl)
theorem dX5_warLine_124 : decode cX5_warLine 124 = .ok (.aload_n 0, 1) := dk_42 (dk_at dksX5_warLine_4 12 rfl rfl)
theorem dX5_warLine_125 : decode cX5_warLine 125 = .ok (.iconst 0, 1) := dk_3 (dk_at dksX5_warLine_4 13 rfl rfl)
theorem dX5_warLine_126 : decode cX5_warLine 126 = .ok (.bipush 9, 2) := dk_16 9 (dk_at dksX5_warLine_4 14 rfl rfl)
theorem dX5_warLine_128 : decode cX5_warLine 128 = .ok (.invokevirtual 160, 3) := dk_182 0 160 (dk_at dksX5_warLine_4 16 rfl rfl)
theorem dX5_warLine_131 : decode cX5_warLine 131 = .ok (.iastore, 1) := dk_79 (dk_at dksX5_warLine_4 19 rfl rfl)
theorem dX5_warLine_132 : decode cX5_warLine 132 = .ok (.goto 125, 3) := dk_167 0 125 (dk_at dksX5_warLine_4 20 rfl rfl)
theorem dX5_warLine_135 : decode cX5_warLine 135 = .ok (.aload_n 0, 1) := dk_42 (dk_at dksX5_warLine_4 23 rfl rfl)
theorem dX5_warLine_136 : decode cX5_warLine 136 = .ok (.invokevirtual 171, 3) := dk_182 0 171 (dk_at dksX5_warLine_5 0 rfl rfl)
theorem dX5_warLine_139 : decode cX5_warLine 139 = .ok (.istore_n 2, 1) := dk_61 (dk_at dksX5_warLine_5 3 rfl rfl)
theorem dX5_warLine_140 : decode cX5_warLine 140 = .ok (.aload_n 0, 1) := dk_42 (dk_at dksX5_warLine_5 4 rfl rfl)
theorem dX5_warLine_141 : decode cX5_warLine 141 = .ok (.invokevirtual 171, 3) := dk_182 0 171 (dk_at dksX5_warLine_5 5 rfl rfl)
theorem dX5_warLine_144 : decode cX5_warLine 144 = .ok (.istore_n 3, 1) := dk_62 (dk_at dksX5_warLine_5 8 rfl rfl)
theorem dX5_warLine_145 : decode cX5_warLine 145 = .ok (.aload_n 0, 1) := dk_42 (dk_at dksX5_warLine_5 9 rfl rfl)
theorem dX5_warLine_146 : decode cX5_warLine 146 = .ok (.getfield 138, 3) := dk_180 0 138 (dk_at dksX5_warLine_5 10 rfl rfl)
theorem dX5_warLine_149 : decode cX5_warLine 149 = .ok (.ifCond .ne 108, 3) := dk_154 0 108 (dk_at dksX5_warLine_5 13 rfl rfl)
theorem dX5_warLine_152 : decode cX5_warLine 152 = .ok (.aload_n 0, 1) := dk_42 (dk_at dksX5_warLine_5 16 rfl rfl)
theorem dX5_warLine_153 : decode cX5_warLine 153 = .ok (.getfield 17, 3) := dk_180 0 17 (dk_at dksX5_warLine_5 17 rfl rfl)
theorem dX5_warLine_156 : decode cX5_warLine 156 = .ok (.iconst 3, 1) := dk_6 (dk_at dksX5_warLine_5 20 rfl rfl)
theorem dX5_warLine_157 : decode cX5_warLine 157 = .ok (.iload_n 2, 1) := dk_28 (dk_at dksX5_warLine_5 21 rfl rfl)
theorem dX5_warLine_158 : decode cX5_warLine 158 = .ok (.iadd, 1) := dk_96 (dk_at dksX5_warLine_5 22 rfl rfl)
theorem dX5_warLine_159 : decode cX5_warLine 159 = .ok (.iload_n 3, 1) := dk_29 (dk_at dksX5_warLine_5 23 rfl rfl)
theorem dX5_warLine_160 : decode cX5_warLine 160 = .ok (.iastore, 1) := dk_79 (dk_at dksX5_warLine_6 0 rfl rfl)
theorem dX5_warLine_161 : decode cX5_warLine 161 = .ok (.goto 96, 3) := dk_167 0 96 (dk_at dksX5_warLine_6 1 rfl rfl)
theorem dX5_warLine_164 : decode cX5_warLine 164 = .ok (.aload_n 0, 1) := dk_42 (dk_at dksX5_warLine_6 4 rfl rfl)
theorem dX5_warLine_165 : decode cX5_warLine 165 = .ok (.invokevirtual 163, 3) := dk_182 0 163 (dk_at dksX5_warLine_6 5 rfl rfl)
theorem dX5_warLine_168 : decode cX5_warLine 168 = .ok (.istore_n 2, 1) := dk_61 (dk_at dksX5_warLine_6 8 rfl rfl)
theorem dX5_warLine_169 : decode cX5_warLine 169 = .ok (.aload_n 0, 1) := dk_42 (dk_at dksX5_warLine_6 9 rfl rfl)
theorem dX5_warLine_170 : decode cX5_warLine 170 = .ok (.getfield 17, 3) := dk_180 0 17 (dk_at dksX5_warLine_6 10 rfl rfl)
theorem dX5_warLine_173 : decode cX5_warLine 173 = .ok (.bipush 7, 2) := dk_16 7 (dk_at dksX5_warLine_6 13 rfl rfl)
theorem dX5_warLine_175 : decode cX5_warLine 175 = .ok (.iload_n 2, 1) := dk_28 (dk_at dksX5_warLine_6 15 rfl rfl)
theorem dX5_warLine_176 : decode cX5_warLine 176 = .ok (.iadd, 1) := dk_96 (dk_at dksX5_warLine_6 16 rfl rfl)
theorem dX5_warLine_177 : decode cX5_warLine 177 = .ok (.aload_n 0, 1) := dk_42 (dk_at dksX5_warLine_6 17 rfl rfl)
theorem dX5_warLine_178 : decode cX5_warLine 178 = .ok (.iconst 0, 1) := dk_3 (dk_at dksX5_warLine_6 18 rfl rfl)
theorem dX5_warLine_179 : decode cX5_warLine 179 = .ok (.iconst 3, 1) := dk_6 (dk_at dksX5_warLine_6 19 rfl rfl)
theorem dX5_warLine_180 : decode cX5_warLine 180 = .ok (.invokevirtual 160, 3) := dk_182 0 160 (dk_at dksX5_warLine_6 20 rfl rfl)
theorem dX5_warLine_183 : decode cX5_warLine 183 = .ok (.iastore, 1) := dk_79 (dk_at dksX5_warLine_6 23 rfl rfl)
theorem dX5_warLine_184 : decode cX5_warLine 184 = .ok (.goto 73, 3) := dk_167 0 73 (dk_at dksX5_warLine_7 0 rfl rfl)
theorem dX5_warLine_187 : decode cX5_warLine 187 = .ok (.aload_n 0, 1) := dk_42 (dk_at dksX5_warLine_7 3 rfl rfl)
theorem dX5_warLine_188 : decode cX5_warLine 188 = .ok (.invokevirtual 163, 3) := dk_182 0 163 (dk_at dksX5_warLine_7 4 rfl rfl)
theorem dX5_warLine_191 : decode cX5_warLine 191 = .ok (.istore_n 2, 1) := dk_61 (dk_at dksX5_warLine_7 7 rfl rfl)
theorem dX5_warLine_192 : decode cX5_warLine 192 = .ok (.aload_n 0, 1) := dk_42 (dk_at dksX5_warLine_7 8 rfl rfl)
theorem dX5_warLine_193 : decode cX5_warLine 193 = .ok (.getfield 17, 3) := dk_180 0 17 (dk_at dksX5_warLine_7 9 rfl rfl)
theorem dX5_warLine_196 : decode cX5_warLine 196 = .ok (.bipush 9, 2) := dk_16 9 (dk_at dksX5_warLine_7 12 rfl rfl)
theorem dX5_warLine_198 : decode cX5_warLine 198 = .ok (.iload_n 2, 1) := dk_28 (dk_at dksX5_warLine_7 14 rfl rfl)
theorem dX5_warLine_199 : decode cX5_warLine 199 = .ok (.iadd, 1) := dk_96 (dk_at dksX5_warLine_7 15 rfl rfl)
theorem dX5_warLine_200 : decode cX5_warLine 200 = .ok (.aload_n 0, 1) := dk_42 (dk_at dksX5_warLine_7 16 rfl rfl)
theorem dX5_warLine_201 : decode cX5_warLine 201 = .ok (.iconst 1, 1) := dk_4 (dk_at dksX5_warLine_7 17 rfl rfl)
theorem dX5_warLine_202 : decode cX5_warLine 202 = .ok (.iconst 4, 1) := dk_7 (dk_at dksX5_warLine_7 18 rfl rfl)
theorem dX5_warLine_203 : decode cX5_warLine 203 = .ok (.invokevirtual 160, 3) := dk_182 0 160 (dk_at dksX5_warLine_7 19 rfl rfl)
theorem dX5_warLine_206 : decode cX5_warLine 206 = .ok (.iastore, 1) := dk_79 (dk_at dksX5_warLine_7 22 rfl rfl)
theorem dX5_warLine_207 : decode cX5_warLine 207 = .ok (.goto 50, 3) := dk_167 0 50 (dk_at dksX5_warLine_8 0 rfl rfl)
theorem dX5_warLine_210 : decode cX5_warLine 210 = .ok (.aload_n 0, 1) := dk_42 (dk_at dksX5_warLine_8 3 rfl rfl)
theorem dX5_warLine_211 : decode cX5_warLine 211 = .ok (.invokevirtual 163, 3) := dk_182 0 163 (dk_at dksX5_warLine_8 4 rfl rfl)
theorem dX5_warLine_214 : decode cX5_warLine 214 = .ok (.istore_n 2, 1) := dk_61 (dk_at dksX5_warLine_8 7 rfl rfl)
theorem dX5_warLine_215 : decode cX5_warLine 215 = .ok (.aload_n 0, 1) := dk_42 (dk_at dksX5_warLine_8 8 rfl rfl)
theorem dX5_warLine_216 : decode cX5_warLine 216 = .ok (.getfield 17, 3) := dk_180 0 17 (dk_at dksX5_warLine_8 9 rfl rfl)
theorem dX5_warLine_219 : decode cX5_warLine 219 = .ok (.bipush 11, 2) := dk_16 11 (dk_at dksX5_warLine_8 12 rfl rfl)
theorem dX5_warLine_221 : decode cX5_warLine 221 = .ok (.iload_n 2, 1) := dk_28 (dk_at dksX5_warLine_8 14 rfl rfl)
theorem dX5_warLine_222 : decode cX5_warLine 222 = .ok (.iadd, 1) := dk_96 (dk_at dksX5_warLine_8 15 rfl rfl)
theorem dX5_warLine_223 : decode cX5_warLine 223 = .ok (.aload_n 0, 1) := dk_42 (dk_at dksX5_warLine_8 16 rfl rfl)
theorem dX5_warLine_224 : decode cX5_warLine 224 = .ok (.iconst 0, 1) := dk_3 (dk_at dksX5_warLine_8 17 rfl rfl)
theorem dX5_warLine_225 : decode cX5_warLine 225 = .ok (.iconst 3, 1) := dk_6 (dk_at dksX5_warLine_8 18 rfl rfl)
theorem dX5_warLine_226 : decode cX5_warLine 226 = .ok (.invokevirtual 160, 3) := dk_182 0 160 (dk_at dksX5_warLine_8 19 rfl rfl)
theorem dX5_warLine_229 : decode cX5_warLine 229 = .ok (.iastore, 1) := dk_79 (dk_at dksX5_warLine_8 22 rfl rfl)
theorem dX5_warLine_230 : decode cX5_warLine 230 = .ok (.goto 27, 3) := dk_167 0 27 (dk_at dksX5_warLine_9 0 rfl rfl)
theorem dX5_warLine_233 : decode cX5_warLine 233 = .ok (.aload_n 0, 1) := dk_42 (dk_at dksX5_warLine_9 3 rfl rfl)
theorem dX5_warLine_234 : decode cX5_warLine 234 = .ok (.invokevirtual 163, 3) := dk_182 0 163 (dk_at dksX5_warLine_9 4 rfl rfl)
theorem dX5_warLine_237 : decode cX5_warLine 237 = .ok (.istore_n 2, 1) := dk_61 (dk_at dksX5_warLine_9 7 rfl rfl)
theorem dX5_warLine_238 : decode cX5_warLine 238 = .ok (.aload_n 0, 1) := dk_42 (dk_at dksX5_warLine_9 8 rfl rfl)
theorem dX5_warLine_239 : decode cX5_warLine 239 = .ok (.getfield 17, 3) := dk_180 0 17 (dk_at dksX5_warLine_9 9 rfl rfl)
theorem dX5_warLine_242 : decode cX5_warLine 242 = .ok (.bipush 13, 2) := dk_16 13 (dk_at dksX5_warLine_9 12 rfl rfl)
theorem dX5_warLine_244 : decode cX5_warLine 244 = .ok (.iload_n 2, 1) := dk_28 (dk_at dksX5_warLine_9 14 rfl rfl)
theorem dX5_warLine_245 : decode cX5_warLine 245 = .ok (.iadd, 1) := dk_96 (dk_at dksX5_warLine_9 15 rfl rfl)
theorem dX5_warLine_246 : decode cX5_warLine 246 = .ok (.aload_n 0, 1) := dk_42 (dk_at dksX5_warLine_9 16 rfl rfl)
theorem dX5_warLine_247 : decode cX5_warLine 247 = .ok (.iconst 0, 1) := dk_3 (dk_at dksX5_warLine_9 17 rfl rfl)
theorem dX5_warLine_248 : decode cX5_warLine 248 = .ok (.bipush 20, 2) := dk_16 20 (dk_at dksX5_warLine_9 18 rfl rfl)
theorem dX5_warLine_250 : decode cX5_warLine 250 = .ok (.invokevirtual 160, 3) := dk_182 0 160 (dk_at dksX5_warLine_9 20 rfl rfl)
theorem dX5_warLine_253 : decode cX5_warLine 253 = .ok (.iastore, 1) := dk_79 (dk_at dksX5_warLine_9 23 rfl rfl)
theorem dX5_warLine_254 : decode cX5_warLine 254 = .ok (.goto 3, 3) := dk_167 0 3 (dk_at dksX5_warLine_10 0 rfl rfl)
theorem dX5_warLine_257 : decode cX5_warLine 257 = .ok (.aload_n 0, 1) := dk_42 (dk_at dksX5_warLine_10 3 rfl rfl)
theorem dX5_warLine_258 : decode cX5_warLine 258 = .ok (.invokevirtual 177, 3) := dk_182 0 177 (dk_at dksX5_warLine_10 4 rfl rfl)
theorem dX5_warLine_261 : decode cX5_warLine 261 = .ok (.return_, 1) := dk_177 (dk_at dksX5_warLine_10 7 rfl rfl)
abbrev cX5_orderLine : ByteArray := prog_24_method_22_code
def yX5_orderLine : MethodName := ⟨RX5, "orderLine", "()V"⟩
def dkwX5_orderLine_11 : List UInt8 := [42, 180, 0, 17, 16, 15, 29, 96, 92, 46, 4, 96, 79, 177]
abbrev dktX5_orderLine_11 : List UInt8 := dkwX5_orderLine_11 ++ []
def dkwX5_orderLine_10 : List UInt8 := [21, 6, 79, 42, 180, 0, 17, 21, 5, 4, 96, 21, 7, 7, 162, 0, 8, 21, 7, 167, 0, 4, 7, 79]
abbrev dktX5_orderLine_10 : List UInt8 := dkwX5_orderLine_10 ++ dktX5_orderLine_11
def dkwX5_orderLine_9 : List UInt8 := [21, 7, 96, 21, 8, 79, 132, 7, 1, 167, 255, 200, 21, 4, 154, 0, 4, 177, 42, 180, 0, 17, 21, 5]
abbrev dktX5_orderLine_9 : List UInt8 := dkwX5_orderLine_9 ++ dktX5_orderLine_10
def dkwX5_orderLine_8 : List UInt8 := [182, 0, 171, 54, 8, 21, 7, 7, 162, 0, 22, 21, 4, 153, 0, 17, 42, 180, 0, 17, 21, 5, 5, 96]
abbrev dktX5_orderLine_8 : List UInt8 := dkwX5_orderLine_8 ++ dktX5_orderLine_9
def dkwX5_orderLine_7 : List UInt8 := [182, 0, 167, 153, 0, 55, 21, 7, 7, 161, 0, 12, 42, 6, 42, 180, 0, 112, 182, 0, 149, 42]
abbrev dktX5_orderLine_7 : List UInt8 := dkwX5_orderLine_7 ++ dktX5_orderLine_8
def dkwX5_orderLine_6 : List UInt8 := [54, 6, 42, 180, 0, 138, 154, 0, 14, 42, 182, 0, 167, 154, 0, 7, 42, 182, 0, 142, 3, 54, 7, 42]
abbrev dktX5_orderLine_6 : List UInt8 := dkwX5_orderLine_6 ++ dktX5_orderLine_7
def dkwX5_orderLine_5 : List UInt8 := [16, 15, 29, 96, 46, 167, 0, 4, 3, 104, 96, 54, 5, 42, 16, 14, 16, 18, 182, 0, 156, 16, 14, 100]
abbrev dktX5_orderLine_5 : List UInt8 := dkwX5_orderLine_5 ++ dktX5_orderLine_6
def dkwX5_orderLine_4 : List UInt8 := [6, 27, 182, 0, 149, 16, 17, 16, 36, 29, 104, 96, 16, 6, 21, 4, 153, 0, 15, 42, 180, 0, 17]
abbrev dktX5_orderLine_4 : List UInt8 := dkwX5_orderLine_4 ++ dktX5_orderLine_5
def dkwX5_orderLine_3 : List UInt8 := [4, 167, 0, 4, 3, 54, 4, 42, 180, 0, 138, 154, 0, 18, 28, 153, 0, 14, 21, 4, 154, 0, 9, 42]
abbrev dktX5_orderLine_3 : List UInt8 := dkwX5_orderLine_3 ++ dktX5_orderLine_4
def dkwX5_orderLine_2 : List UInt8 := [61, 42, 182, 0, 163, 62, 28, 153, 0, 21, 42, 180, 0, 17, 16, 15, 29, 96, 46, 16, 6, 162, 0, 7]
abbrev dktX5_orderLine_2 : List UInt8 := dkwX5_orderLine_2 ++ dktX5_orderLine_3
def dkwX5_orderLine_1 : List UInt8 := [180, 0, 115, 4, 160, 0, 19, 42, 180, 0, 135, 3, 4, 184, 0, 145, 153, 0, 7, 4, 167, 0, 4, 3]
abbrev dktX5_orderLine_1 : List UInt8 := dkwX5_orderLine_1 ++ dktX5_orderLine_2
def dkwX5_orderLine_0 : List UInt8 := [42, 180, 0, 112, 60, 42, 16, 9, 16, 9, 182, 0, 156, 87, 42, 180, 0, 138, 154, 0, 27, 42]
abbrev dktX5_orderLine_0 : List UInt8 := dkwX5_orderLine_0 ++ dktX5_orderLine_1
theorem dksX5_orderLine_0 : cX5_orderLine.data.toList.drop 0 = dktX5_orderLine_0 := by decide +kernel
theorem dksX5_orderLine_1 : cX5_orderLine.data.toList.drop 22 = dktX5_orderLine_1 := dk_seg dksX5_orderLine_0 22 rfl rfl
theorem dksX5_orderLine_2 : cX5_orderLine.data.toList.drop 46 = dktX5_orderLine_2 := dk_seg dksX5_orderLine_1 24 rfl rfl
theorem dksX5_orderLine_3 : cX5_orderLine.data.toList.drop 70 = dktX5_orderLine_3 := dk_seg dksX5_orderLine_2 24 rfl rfl
theorem dksX5_orderLine_4 : cX5_orderLine.data.toList.drop 94 = dktX5_orderLine_4 := dk_seg dksX5_orderLine_3 24 rfl rfl
theorem dksX5_orderLine_5 : cX5_orderLine.data.toList.drop 117 = dktX5_orderLine_5 := dk_seg dksX5_orderLine_4 23 rfl rfl
theorem dksX5_orderLine_6 : cX5_orderLine.data.toList.drop 141 = dktX5_orderLine_6 := dk_seg dksX5_orderLine_5 24 rfl rfl
theorem dksX5_orderLine_7 : cX5_orderLine.data.toList.drop 165 = dktX5_orderLine_7 := dk_seg dksX5_orderLine_6 24 rfl rfl
theorem dksX5_orderLine_8 : cX5_orderLine.data.toList.drop 187 = dktX5_orderLine_8 := dk_seg dksX5_orderLine_7 22 rfl rfl
theorem dksX5_orderLine_9 : cX5_orderLine.data.toList.drop 211 = dktX5_orderLine_9 := dk_seg dksX5_orderLine_8 24 rfl rfl
theorem dksX5_orderLine_10 : cX5_orderLine.data.toList.drop 235 = dktX5_orderLine_10 := dk_seg dksX5_orderLine_9 24 rfl rfl
theorem dksX5_orderLine_11 : cX5_orderLine.data.toList.drop 259 = dktX5_orderLine_11 := dk_seg dksX5_orderLine_10 24 rfl rfl
theorem dX5_orderLine_0 : decode cX5_orderLine 0 = .ok (.aload_n 0, 1) := dk_42 (dk_at dksX5_orderLine_0 0 rfl rfl)
theorem dX5_orderLine_1 : decode cX5_orderLine 1 = .ok (.getfield 112, 3) := dk_180 0 112 (dk_at dksX5_orderLine_0 1 rfl rfl)
theorem dX5_orderLine_4 : decode cX5_orderLine 4 = .ok (.istore_n 1, 1) := dk_60 (dk_at dksX5_orderLine_0 4 rfl rfl)
theorem dX5_orderLine_5 : decode cX5_orderLine 5 = .ok (.aload_n 0, 1) := dk_42 (dk_at dksX5_orderLine_0 5 rfl rfl)
theorem dX5_orderLine_6 : decode cX5_orderLine 6 = .ok (.bipush 9, 2) := dk_16 9 (dk_at dksX5_orderLine_0 6 rfl rfl)
theorem dX5_orderLine_8 : decode cX5_orderLine 8 = .ok (.bipush 9, 2) := dk_16 9 (dk_at dksX5_orderLine_0 8 rfl rfl)
theorem dX5_orderLine_10 : decode cX5_orderLine 10 = .ok (.invokevirtual 156, 3) := dk_182 0 156 (dk_at dksX5_orderLine_0 10 rfl rfl)
theorem dX5_orderLine_13 : decode cX5_orderLine 13 = .ok (.pop, 1) := dk_87 (dk_at dksX5_orderLine_0 13 rfl rfl)
theorem dX5_orderLine_14 : decode cX5_orderLine 14 = .ok (.aload_n 0, 1) := dk_42 (dk_at dksX5_orderLine_0 14 rfl rfl)
theorem dX5_orderLine_15 : decode cX5_orderLine 15 = .ok (.getfield 138, 3) := dk_180 0 138 (dk_at dksX5_orderLine_0 15 rfl rfl)
theorem dX5_orderLine_18 : decode cX5_orderLine 18 = .ok (.ifCond .ne 27, 3) := dk_154 0 27 (dk_at dksX5_orderLine_0 18 rfl rfl)
theorem dX5_orderLine_21 : decode cX5_orderLine 21 = .ok (.aload_n 0, 1) := dk_42 (dk_at dksX5_orderLine_0 21 rfl rfl)
theorem dX5_orderLine_22 : decode cX5_orderLine 22 = .ok (.getfield 115, 3) := dk_180 0 115 (dk_at dksX5_orderLine_1 0 rfl rfl)
theorem dX5_orderLine_25 : decode cX5_orderLine 25 = .ok (.iconst 1, 1) := dk_4 (dk_at dksX5_orderLine_1 3 rfl rfl)
theorem dX5_orderLine_26 : decode cX5_orderLine 26 = .ok (.if_icmp .ne 19, 3) := dk_160 0 19 (dk_at dksX5_orderLine_1 4 rfl rfl)
theorem dX5_orderLine_29 : decode cX5_orderLine 29 = .ok (.aload_n 0, 1) := dk_42 (dk_at dksX5_orderLine_1 7 rfl rfl)
theorem dX5_orderLine_30 : decode cX5_orderLine 30 = .ok (.getfield 135, 3) := dk_180 0 135 (dk_at dksX5_orderLine_1 8 rfl rfl)
theorem dX5_orderLine_33 : decode cX5_orderLine 33 = .ok (.iconst 0, 1) := dk_3 (dk_at dksX5_orderLine_1 11 rfl rfl)
theorem dX5_orderLine_34 : decode cX5_orderLine 34 = .ok (.iconst 1, 1) := dk_4 (dk_at dksX5_orderLine_1 12 rfl rfl)
theorem dX5_orderLine_35 : decode cX5_orderLine 35 = .ok (.invokestatic 145, 3) := dk_184 0 145 (dk_at dksX5_orderLine_1 13 rfl rfl)
theorem dX5_orderLine_38 : decode cX5_orderLine 38 = .ok (.ifCond .eq 7, 3) := dk_153 0 7 (dk_at dksX5_orderLine_1 16 rfl rfl)
theorem dX5_orderLine_41 : decode cX5_orderLine 41 = .ok (.iconst 1, 1) := dk_4 (dk_at dksX5_orderLine_1 19 rfl rfl)
theorem dX5_orderLine_42 : decode cX5_orderLine 42 = .ok (.goto 4, 3) := dk_167 0 4 (dk_at dksX5_orderLine_1 20 rfl rfl)
theorem dX5_orderLine_45 : decode cX5_orderLine 45 = .ok (.iconst 0, 1) := dk_3 (dk_at dksX5_orderLine_1 23 rfl rfl)
theorem dX5_orderLine_46 : decode cX5_orderLine 46 = .ok (.istore_n 2, 1) := dk_61 (dk_at dksX5_orderLine_2 0 rfl rfl)
theorem dX5_orderLine_47 : decode cX5_orderLine 47 = .ok (.aload_n 0, 1) := dk_42 (dk_at dksX5_orderLine_2 1 rfl rfl)
theorem dX5_orderLine_48 : decode cX5_orderLine 48 = .ok (.invokevirtual 163, 3) := dk_182 0 163 (dk_at dksX5_orderLine_2 2 rfl rfl)
theorem dX5_orderLine_51 : decode cX5_orderLine 51 = .ok (.istore_n 3, 1) := dk_62 (dk_at dksX5_orderLine_2 5 rfl rfl)
theorem dX5_orderLine_52 : decode cX5_orderLine 52 = .ok (.iload_n 2, 1) := dk_28 (dk_at dksX5_orderLine_2 6 rfl rfl)
theorem dX5_orderLine_53 : decode cX5_orderLine 53 = .ok (.ifCond .eq 21, 3) := dk_153 0 21 (dk_at dksX5_orderLine_2 7 rfl rfl)
theorem dX5_orderLine_56 : decode cX5_orderLine 56 = .ok (.aload_n 0, 1) := dk_42 (dk_at dksX5_orderLine_2 10 rfl rfl)
theorem dX5_orderLine_57 : decode cX5_orderLine 57 = .ok (.getfield 17, 3) := dk_180 0 17 (dk_at dksX5_orderLine_2 11 rfl rfl)
theorem dX5_orderLine_60 : decode cX5_orderLine 60 = .ok (.bipush 15, 2) := dk_16 15 (dk_at dksX5_orderLine_2 14 rfl rfl)
theorem dX5_orderLine_62 : decode cX5_orderLine 62 = .ok (.iload_n 3, 1) := dk_29 (dk_at dksX5_orderLine_2 16 rfl rfl)
theorem dX5_orderLine_63 : decode cX5_orderLine 63 = .ok (.iadd, 1) := dk_96 (dk_at dksX5_orderLine_2 17 rfl rfl)
theorem dX5_orderLine_64 : decode cX5_orderLine 64 = .ok (.iaload, 1) := dk_46 (dk_at dksX5_orderLine_2 18 rfl rfl)
theorem dX5_orderLine_65 : decode cX5_orderLine 65 = .ok (.bipush 6, 2) := dk_16 6 (dk_at dksX5_orderLine_2 19 rfl rfl)
theorem dX5_orderLine_67 : decode cX5_orderLine 67 = .ok (.if_icmp .ge 7, 3) := dk_162 0 7 (dk_at dksX5_orderLine_2 21 rfl rfl)
theorem dX5_orderLine_70 : decode cX5_orderLine 70 = .ok (.iconst 1, 1) := dk_4 (dk_at dksX5_orderLine_3 0 rfl rfl)
theorem dX5_orderLine_71 : decode cX5_orderLine 71 = .ok (.goto 4, 3) := dk_167 0 4 (dk_at dksX5_orderLine_3 1 rfl rfl)
theorem dX5_orderLine_74 : decode cX5_orderLine 74 = .ok (.iconst 0, 1) := dk_3 (dk_at dksX5_orderLine_3 4 rfl rfl)
theorem dX5_orderLine_75 : decode cX5_orderLine 75 = .ok (.istore 4, 2) := dk_54 4 (dk_at dksX5_orderLine_3 5 rfl rfl)
theorem dX5_orderLine_77 : decode cX5_orderLine 77 = .ok (.aload_n 0, 1) := dk_42 (dk_at dksX5_orderLine_3 7 rfl rfl)
theorem dX5_orderLine_78 : decode cX5_orderLine 78 = .ok (.getfield 138, 3) := dk_180 0 138 (dk_at dksX5_orderLine_3 8 rfl rfl)
theorem dX5_orderLine_81 : decode cX5_orderLine 81 = .ok (.ifCond .ne 18, 3) := dk_154 0 18 (dk_at dksX5_orderLine_3 11 rfl rfl)
theorem dX5_orderLine_84 : decode cX5_orderLine 84 = .ok (.iload_n 2, 1) := dk_28 (dk_at dksX5_orderLine_3 14 rfl rfl)
theorem dX5_orderLine_85 : decode cX5_orderLine 85 = .ok (.ifCond .eq 14, 3) := dk_153 0 14 (dk_at dksX5_orderLine_3 15 rfl rfl)
theorem dX5_orderLine_88 : decode cX5_orderLine 88 = .ok (.iload 4, 2) := dk_21 4 (dk_at dksX5_orderLine_3 18 rfl rfl)
theorem dX5_orderLine_90 : decode cX5_orderLine 90 = .ok (.ifCond .ne 9, 3) := dk_154 0 9 (dk_at dksX5_orderLine_3 20 rfl rfl)
theorem dX5_orderLine_93 : decode cX5_orderLine 93 = .ok (.aload_n 0, 1) := dk_42 (dk_at dksX5_orderLine_3 23 rfl rfl)
theorem dX5_orderLine_94 : decode cX5_orderLine 94 = .ok (.iconst 3, 1) := dk_6 (dk_at dksX5_orderLine_4 0 rfl rfl)
theorem dX5_orderLine_95 : decode cX5_orderLine 95 = .ok (.iload_n 1, 1) := dk_27 (dk_at dksX5_orderLine_4 1 rfl rfl)
theorem dX5_orderLine_96 : decode cX5_orderLine 96 = .ok (.invokevirtual 149, 3) := dk_182 0 149 (dk_at dksX5_orderLine_4 2 rfl rfl)
theorem dX5_orderLine_99 : decode cX5_orderLine 99 = .ok (.bipush 17, 2) := dk_16 17 (dk_at dksX5_orderLine_4 5 rfl rfl)
theorem dX5_orderLine_101 : decode cX5_orderLine 101 = .ok (.bipush 36, 2) := dk_16 36 (dk_at dksX5_orderLine_4 7 rfl rfl)
theorem dX5_orderLine_103 : decode cX5_orderLine 103 = .ok (.iload_n 3, 1) := dk_29 (dk_at dksX5_orderLine_4 9 rfl rfl)
theorem dX5_orderLine_104 : decode cX5_orderLine 104 = .ok (.imul, 1) := dk_104 (dk_at dksX5_orderLine_4 10 rfl rfl)
theorem dX5_orderLine_105 : decode cX5_orderLine 105 = .ok (.iadd, 1) := dk_96 (dk_at dksX5_orderLine_4 11 rfl rfl)
theorem dX5_orderLine_106 : decode cX5_orderLine 106 = .ok (.bipush 6, 2) := dk_16 6 (dk_at dksX5_orderLine_4 12 rfl rfl)
theorem dX5_orderLine_108 : decode cX5_orderLine 108 = .ok (.iload 4, 2) := dk_21 4 (dk_at dksX5_orderLine_4 14 rfl rfl)
theorem dX5_orderLine_110 : decode cX5_orderLine 110 = .ok (.ifCond .eq 15, 3) := dk_153 0 15 (dk_at dksX5_orderLine_4 16 rfl rfl)
theorem dX5_orderLine_113 : decode cX5_orderLine 113 = .ok (.aload_n 0, 1) := dk_42 (dk_at dksX5_orderLine_4 19 rfl rfl)
theorem dX5_orderLine_114 : decode cX5_orderLine 114 = .ok (.getfield 17, 3) := dk_180 0 17 (dk_at dksX5_orderLine_4 20 rfl rfl)
theorem dX5_orderLine_117 : decode cX5_orderLine 117 = .ok (.bipush 15, 2) := dk_16 15 (dk_at dksX5_orderLine_5 0 rfl rfl)
theorem dX5_orderLine_119 : decode cX5_orderLine 119 = .ok (.iload_n 3, 1) := dk_29 (dk_at dksX5_orderLine_5 2 rfl rfl)
theorem dX5_orderLine_120 : decode cX5_orderLine 120 = .ok (.iadd, 1) := dk_96 (dk_at dksX5_orderLine_5 3 rfl rfl)
theorem dX5_orderLine_121 : decode cX5_orderLine 121 = .ok (.iaload, 1) := dk_46 (dk_at dksX5_orderLine_5 4 rfl rfl)
theorem dX5_orderLine_122 : decode cX5_orderLine 122 = .ok (.goto 4, 3) := dk_167 0 4 (dk_at dksX5_orderLine_5 5 rfl rfl)
theorem dX5_orderLine_125 : decode cX5_orderLine 125 = .ok (.iconst 0, 1) := dk_3 (dk_at dksX5_orderLine_5 8 rfl rfl)
theorem dX5_orderLine_126 : decode cX5_orderLine 126 = .ok (.imul, 1) := dk_104 (dk_at dksX5_orderLine_5 9 rfl rfl)
theorem dX5_orderLine_127 : decode cX5_orderLine 127 = .ok (.iadd, 1) := dk_96 (dk_at dksX5_orderLine_5 10 rfl rfl)
theorem dX5_orderLine_128 : decode cX5_orderLine 128 = .ok (.istore 5, 2) := dk_54 5 (dk_at dksX5_orderLine_5 11 rfl rfl)
theorem dX5_orderLine_130 : decode cX5_orderLine 130 = .ok (.aload_n 0, 1) := dk_42 (dk_at dksX5_orderLine_5 13 rfl rfl)
theorem dX5_orderLine_131 : decode cX5_orderLine 131 = .ok (.bipush 14, 2) := dk_16 14 (dk_at dksX5_orderLine_5 14 rfl rfl)
theorem dX5_orderLine_133 : decode cX5_orderLine 133 = .ok (.bipush 18, 2) := dk_16 18 (dk_at dksX5_orderLine_5 16 rfl rfl)
theorem dX5_orderLine_135 : decode cX5_orderLine 135 = .ok (.invokevirtual 156, 3) := dk_182 0 156 (dk_at dksX5_orderLine_5 18 rfl rfl)
theorem dX5_orderLine_138 : decode cX5_orderLine 138 = .ok (.bipush 14, 2) := dk_16 14 (dk_at dksX5_orderLine_5 21 rfl rfl)
theorem dX5_orderLine_140 : decode cX5_orderLine 140 = .ok (.isub, 1) := dk_100 (dk_at dksX5_orderLine_5 23 rfl rfl)
theorem dX5_orderLine_141 : decode cX5_orderLine 141 = .ok (.istore 6, 2) := dk_54 6 (dk_at dksX5_orderLine_6 0 rfl rfl)
theorem dX5_orderLine_143 : decode cX5_orderLine 143 = .ok (.aload_n 0, 1) := dk_42 (dk_at dksX5_orderLine_6 2 rfl rfl)
theorem dX5_orderLine_144 : decode cX5_orderLine 144 = .ok (.getfield 138, 3) := dk_180 0 138 (dk_at dksX5_orderLine_6 3 rfl rfl)
theorem dX5_orderLine_147 : decode cX5_orderLine 147 = .ok (.ifCond .ne 14, 3) := dk_154 0 14 (dk_at dksX5_orderLine_6 6 rfl rfl)
theorem dX5_orderLine_150 : decode cX5_orderLine 150 = .ok (.aload_n 0, 1) := dk_42 (dk_at dksX5_orderLine_6 9 rfl rfl)
theorem dX5_orderLine_151 : decode cX5_orderLine 151 = .ok (.invokevirtual 167, 3) := dk_182 0 167 (dk_at dksX5_orderLine_6 10 rfl rfl)
theorem dX5_orderLine_154 : decode cX5_orderLine 154 = .ok (.ifCond .ne 7, 3) := dk_154 0 7 (dk_at dksX5_orderLine_6 13 rfl rfl)
theorem dX5_orderLine_157 : decode cX5_orderLine 157 = .ok (.aload_n 0, 1) := dk_42 (dk_at dksX5_orderLine_6 16 rfl rfl)
theorem dX5_orderLine_158 : decode cX5_orderLine 158 = .ok (.invokevirtual 142, 3) := dk_182 0 142 (dk_at dksX5_orderLine_6 17 rfl rfl)
theorem dX5_orderLine_161 : decode cX5_orderLine 161 = .ok (.iconst 0, 1) := dk_3 (dk_at dksX5_orderLine_6 20 rfl rfl)
theorem dX5_orderLine_162 : decode cX5_orderLine 162 = .ok (.istore 7, 2) := dk_54 7 (dk_at dksX5_orderLine_6 21 rfl rfl)
theorem dX5_orderLine_164 : decode cX5_orderLine 164 = .ok (.aload_n 0, 1) := dk_42 (dk_at dksX5_orderLine_6 23 rfl rfl)
theorem dX5_orderLine_165 : decode cX5_orderLine 165 = .ok (.invokevirtual 167, 3) := dk_182 0 167 (dk_at dksX5_orderLine_7 0 rfl rfl)
theorem dX5_orderLine_168 : decode cX5_orderLine 168 = .ok (.ifCond .eq 55, 3) := dk_153 0 55 (dk_at dksX5_orderLine_7 3 rfl rfl)
theorem dX5_orderLine_171 : decode cX5_orderLine 171 = .ok (.iload 7, 2) := dk_21 7 (dk_at dksX5_orderLine_7 6 rfl rfl)
theorem dX5_orderLine_173 : decode cX5_orderLine 173 = .ok (.iconst 4, 1) := dk_7 (dk_at dksX5_orderLine_7 8 rfl rfl)
theorem dX5_orderLine_174 : decode cX5_orderLine 174 = .ok (.if_icmp .lt 12, 3) := dk_161 0 12 (dk_at dksX5_orderLine_7 9 rfl rfl)
theorem dX5_orderLine_177 : decode cX5_orderLine 177 = .ok (.aload_n 0, 1) := dk_42 (dk_at dksX5_orderLine_7 12 rfl rfl)
theorem dX5_orderLine_178 : decode cX5_orderLine 178 = .ok (.iconst 3, 1) := dk_6 (dk_at dksX5_orderLine_7 13 rfl rfl)
theorem dX5_orderLine_179 : decode cX5_orderLine 179 = .ok (.aload_n 0, 1) := dk_42 (dk_at dksX5_orderLine_7 14 rfl rfl)
theorem dX5_orderLine_180 : decode cX5_orderLine 180 = .ok (.getfield 112, 3) := dk_180 0 112 (dk_at dksX5_orderLine_7 15 rfl rfl)
theorem dX5_orderLine_183 : decode cX5_orderLine 183 = .ok (.invokevirtual 149, 3) := dk_182 0 149 (dk_at dksX5_orderLine_7 18 rfl rfl)
theorem dX5_orderLine_186 : decode cX5_orderLine 186 = .ok (.aload_n 0, 1) := dk_42 (dk_at dksX5_orderLine_7 21 rfl rfl)
theorem dX5_orderLine_187 : decode cX5_orderLine 187 = .ok (.invokevirtual 171, 3) := dk_182 0 171 (dk_at dksX5_orderLine_8 0 rfl rfl)
theorem dX5_orderLine_190 : decode cX5_orderLine 190 = .ok (.istore 8, 2) := dk_54 8 (dk_at dksX5_orderLine_8 3 rfl rfl)
theorem dX5_orderLine_192 : decode cX5_orderLine 192 = .ok (.iload 7, 2) := dk_21 7 (dk_at dksX5_orderLine_8 5 rfl rfl)
theorem dX5_orderLine_194 : decode cX5_orderLine 194 = .ok (.iconst 4, 1) := dk_7 (dk_at dksX5_orderLine_8 7 rfl rfl)
theorem dX5_orderLine_195 : decode cX5_orderLine 195 = .ok (.if_icmp .ge 22, 3) := dk_162 0 22 (dk_at dksX5_orderLine_8 8 rfl rfl)
theorem dX5_orderLine_198 : decode cX5_orderLine 198 = .ok (.iload 4, 2) := dk_21 4 (dk_at dksX5_orderLine_8 11 rfl rfl)
theorem dX5_orderLine_200 : decode cX5_orderLine 200 = .ok (.ifCond .eq 17, 3) := dk_153 0 17 (dk_at dksX5_orderLine_8 13 rfl rfl)
theorem dX5_orderLine_203 : decode cX5_orderLine 203 = .ok (.aload_n 0, 1) := dk_42 (dk_at dksX5_orderLine_8 16 rfl rfl)
theorem dX5_orderLine_204 : decode cX5_orderLine 204 = .ok (.getfield 17, 3) := dk_180 0 17 (dk_at dksX5_orderLine_8 17 rfl rfl)
theorem dX5_orderLine_207 : decode cX5_orderLine 207 = .ok (.iload 5, 2) := dk_21 5 (dk_at dksX5_orderLine_8 20 rfl rfl)
theorem dX5_orderLine_209 : decode cX5_orderLine 209 = .ok (.iconst 2, 1) := dk_5 (dk_at dksX5_orderLine_8 22 rfl rfl)
theorem dX5_orderLine_210 : decode cX5_orderLine 210 = .ok (.iadd, 1) := dk_96 (dk_at dksX5_orderLine_8 23 rfl rfl)
theorem dX5_orderLine_211 : decode cX5_orderLine 211 = .ok (.iload 7, 2) := dk_21 7 (dk_at dksX5_orderLine_9 0 rfl rfl)
theorem dX5_orderLine_213 : decode cX5_orderLine 213 = .ok (.iadd, 1) := dk_96 (dk_at dksX5_orderLine_9 2 rfl rfl)
theorem dX5_orderLine_214 : decode cX5_orderLine 214 = .ok (.iload 8, 2) := dk_21 8 (dk_at dksX5_orderLine_9 3 rfl rfl)
theorem dX5_orderLine_216 : decode cX5_orderLine 216 = .ok (.iastore, 1) := dk_79 (dk_at dksX5_orderLine_9 5 rfl rfl)
theorem dX5_orderLine_217 : decode cX5_orderLine 217 = .ok (.iinc 7 1, 3) := dk_132 7 1 (dk_at dksX5_orderLine_9 6 rfl rfl)
theorem dX5_orderLine_220 : decode cX5_orderLine 220 = .ok (.goto (-56), 3) := dk_167 255 200 (dk_at dksX5_orderLine_9 9 rfl rfl)
theorem dX5_orderLine_223 : decode cX5_orderLine 223 = .ok (.iload 4, 2) := dk_21 4 (dk_at dksX5_orderLine_9 12 rfl rfl)
theorem dX5_orderLine_225 : decode cX5_orderLine 225 = .ok (.ifCond .ne 4, 3) := dk_154 0 4 (dk_at dksX5_orderLine_9 14 rfl rfl)
theorem dX5_orderLine_228 : decode cX5_orderLine 228 = .ok (.return_, 1) := dk_177 (dk_at dksX5_orderLine_9 17 rfl rfl)
theorem dX5_orderLine_229 : decode cX5_orderLine 229 = .ok (.aload_n 0, 1) := dk_42 (dk_at dksX5_orderLine_9 18 rfl rfl)
theorem dX5_orderLine_230 : decode cX5_orderLine 230 = .ok (.getfield 17, 3) := dk_180 0 17 (dk_at dksX5_orderLine_9 19 rfl rfl)
theorem dX5_orderLine_233 : decode cX5_orderLine 233 = .ok (.iload 5, 2) := dk_21 5 (dk_at dksX5_orderLine_9 22 rfl rfl)
theorem dX5_orderLine_235 : decode cX5_orderLine 235 = .ok (.iload 6, 2) := dk_21 6 (dk_at dksX5_orderLine_10 0 rfl rfl)
theorem dX5_orderLine_237 : decode cX5_orderLine 237 = .ok (.iastore, 1) := dk_79 (dk_at dksX5_orderLine_10 2 rfl rfl)
theorem dX5_orderLine_238 : decode cX5_orderLine 238 = .ok (.aload_n 0, 1) := dk_42 (dk_at dksX5_orderLine_10 3 rfl rfl)
theorem dX5_orderLine_239 : decode cX5_orderLine 239 = .ok (.getfield 17, 3) := dk_180 0 17 (dk_at dksX5_orderLine_10 4 rfl rfl)
theorem dX5_orderLine_242 : decode cX5_orderLine 242 = .ok (.iload 5, 2) := dk_21 5 (dk_at dksX5_orderLine_10 7 rfl rfl)
theorem dX5_orderLine_244 : decode cX5_orderLine 244 = .ok (.iconst 1, 1) := dk_4 (dk_at dksX5_orderLine_10 9 rfl rfl)
theorem dX5_orderLine_245 : decode cX5_orderLine 245 = .ok (.iadd, 1) := dk_96 (dk_at dksX5_orderLine_10 10 rfl rfl)
theorem dX5_orderLine_246 : decode cX5_orderLine 246 = .ok (.iload 7, 2) := dk_21 7 (dk_at dksX5_orderLine_10 11 rfl rfl)
theorem dX5_orderLine_248 : decode cX5_orderLine 248 = .ok (.iconst 4, 1) := dk_7 (dk_at dksX5_orderLine_10 13 rfl rfl)
theorem dX5_orderLine_249 : decode cX5_orderLine 249 = .ok (.if_icmp .ge 8, 3) := dk_162 0 8 (dk_at dksX5_orderLine_10 14 rfl rfl)
theorem dX5_orderLine_252 : decode cX5_orderLine 252 = .ok (.iload 7, 2) := dk_21 7 (dk_at dksX5_orderLine_10 17 rfl rfl)
theorem dX5_orderLine_254 : decode cX5_orderLine 254 = .ok (.goto 4, 3) := dk_167 0 4 (dk_at dksX5_orderLine_10 19 rfl rfl)
theorem dX5_orderLine_257 : decode cX5_orderLine 257 = .ok (.iconst 4, 1) := dk_7 (dk_at dksX5_orderLine_10 22 rfl rfl)
theorem dX5_orderLine_258 : decode cX5_orderLine 258 = .ok (.iastore, 1) := dk_79 (dk_at dksX5_orderLine_10 23 rfl rfl)
theorem dX5_orderLine_259 : decode cX5_orderLine 259 = .ok (.aload_n 0, 1) := dk_42 (dk_at dksX5_orderLine_11 0 rfl rfl)
theorem dX5_orderLine_260 : decode cX5_orderLine 260 = .ok (.getfield 17, 3) := dk_180 0 17 (dk_at dksX5_orderLine_11 1 rfl rfl)
theorem dX5_orderLine_263 : decode cX5_orderLine 263 = .ok (.bipush 15, 2) := dk_16 15 (dk_at dksX5_orderLine_11 4 rfl rfl)
theorem dX5_orderLine_265 : decode cX5_orderLine 265 = .ok (.iload_n 3, 1) := dk_29 (dk_at dksX5_orderLine_11 6 rfl rfl)
theorem dX5_orderLine_266 : decode cX5_orderLine 266 = .ok (.iadd, 1) := dk_96 (dk_at dksX5_orderLine_11 7 rfl rfl)
theorem dX5_orderLine_267 : decode cX5_orderLine 267 = .ok (.dup2, 1) := dk_92 (dk_at dksX5_orderLine_11 8 rfl rfl)
theorem dX5_orderLine_268 : decode cX5_orderLine 268 = .ok (.iaload, 1) := dk_46 (dk_at dksX5_orderLine_11 9 rfl rfl)
theorem dX5_orderLine_269 : decode cX5_orderLine 269 = .ok (.iconst 1, 1) := dk_4 (dk_at dksX5_orderLine_11 10 rfl rfl)
theorem dX5_orderLine_270 : decode cX5_orderLine 270 = .ok (.iadd, 1) := dk_96 (dk_at dksX5_orderLine_11 11 rfl rfl)
theorem dX5_orderLine_271 : decode cX5_orderLine 271 = .ok (.iastore, 1) := dk_79 (dk_at dksX5_orderLine_11 12 rfl rfl)
theorem dX5_orderLine_272 : decode cX5_orderLine 272 = .ok (.return_, 1) := dk_177 (dk_at dksX5_orderLine_11 13 rfl rfl)
abbrev cX5_takes : ByteArray := prog_24_method_16_code
def yX5_takes : MethodName := ⟨RX5, "takes", "(II)I"⟩
def dkwX5_takes_1 : List UInt8 := [154, 0, 9, 42, 182, 0, 142, 3, 172, 42, 180, 0, 129, 62, 42, 182, 0, 153, 29, 172]
abbrev dktX5_takes_1 : List UInt8 := dkwX5_takes_1 ++ []
def dkwX5_takes_0 : List UInt8 := [42, 180, 0, 138, 154, 0, 23, 42, 180, 0, 115, 6, 160, 0, 15, 42, 180, 0, 129, 27, 28, 184, 0, 145]
abbrev dktX5_takes_0 : List UInt8 := dkwX5_takes_0 ++ dktX5_takes_1
theorem dksX5_takes_0 : cX5_takes.data.toList.drop 0 = dktX5_takes_0 := by decide +kernel
theorem dksX5_takes_1 : cX5_takes.data.toList.drop 24 = dktX5_takes_1 := dk_seg dksX5_takes_0 24 rfl rfl
theorem dX5_takes_0 : decode cX5_takes 0 = .ok (.aload_n 0, 1) := dk_42 (dk_at dksX5_takes_0 0 rfl rfl)
theorem dX5_takes_1 : decode cX5_takes 1 = .ok (.getfield 138, 3) := dk_180 0 138 (dk_at dksX5_takes_0 1 rfl rfl)
theorem dX5_takes_4 : decode cX5_takes 4 = .ok (.ifCond .ne 23, 3) := dk_154 0 23 (dk_at dksX5_takes_0 4 rfl rfl)
theorem dX5_takes_7 : decode cX5_takes 7 = .ok (.aload_n 0, 1) := dk_42 (dk_at dksX5_takes_0 7 rfl rfl)
theorem dX5_takes_8 : decode cX5_takes 8 = .ok (.getfield 115, 3) := dk_180 0 115 (dk_at dksX5_takes_0 8 rfl rfl)
theorem dX5_takes_11 : decode cX5_takes 11 = .ok (.iconst 3, 1) := dk_6 (dk_at dksX5_takes_0 11 rfl rfl)
theorem dX5_takes_12 : decode cX5_takes 12 = .ok (.if_icmp .ne 15, 3) := dk_160 0 15 (dk_at dksX5_takes_0 12 rfl rfl)
theorem dX5_takes_15 : decode cX5_takes 15 = .ok (.aload_n 0, 1) := dk_42 (dk_at dksX5_takes_0 15 rfl rfl)
theorem dX5_takes_16 : decode cX5_takes 16 = .ok (.getfield 129, 3) := dk_180 0 129 (dk_at dksX5_takes_0 16 rfl rfl)
theorem dX5_takes_19 : decode cX5_takes 19 = .ok (.iload_n 1, 1) := dk_27 (dk_at dksX5_takes_0 19 rfl rfl)
theorem dX5_takes_20 : decode cX5_takes 20 = .ok (.iload_n 2, 1) := dk_28 (dk_at dksX5_takes_0 20 rfl rfl)
theorem dX5_takes_21 : decode cX5_takes 21 = .ok (.invokestatic 145, 3) := dk_184 0 145 (dk_at dksX5_takes_0 21 rfl rfl)
theorem dX5_takes_24 : decode cX5_takes 24 = .ok (.ifCond .ne 9, 3) := dk_154 0 9 (dk_at dksX5_takes_1 0 rfl rfl)
theorem dX5_takes_27 : decode cX5_takes 27 = .ok (.aload_n 0, 1) := dk_42 (dk_at dksX5_takes_1 3 rfl rfl)
theorem dX5_takes_28 : decode cX5_takes 28 = .ok (.invokevirtual 142, 3) := dk_182 0 142 (dk_at dksX5_takes_1 4 rfl rfl)
theorem dX5_takes_31 : decode cX5_takes 31 = .ok (.iconst 0, 1) := dk_3 (dk_at dksX5_takes_1 7 rfl rfl)
theorem dX5_takes_32 : decode cX5_takes 32 = .ok (.ireturn, 1) := dk_172 (dk_at dksX5_takes_1 8 rfl rfl)
theorem dX5_takes_33 : decode cX5_takes 33 = .ok (.aload_n 0, 1) := dk_42 (dk_at dksX5_takes_1 9 rfl rfl)
theorem dX5_takes_34 : decode cX5_takes 34 = .ok (.getfield 129, 3) := dk_180 0 129 (dk_at dksX5_takes_1 10 rfl rfl)
theorem dX5_takes_37 : decode cX5_takes 37 = .ok (.istore_n 3, 1) := dk_62 (dk_at dksX5_takes_1 13 rfl rfl)
theorem dX5_takes_38 : decode cX5_takes 38 = .ok (.aload_n 0, 1) := dk_42 (dk_at dksX5_takes_1 14 rfl rfl)
theorem dX5_takes_39 : decode cX5_takes 39 = .ok (.invokevirtual 153, 3) := dk_182 0 153 (dk_at dksX5_takes_1 15 rfl rfl)
theorem dX5_takes_42 : decode cX5_takes 42 = .ok (.iload_n 3, 1) := dk_29 (dk_at dksX5_takes_1 18 rfl rfl)
theorem dX5_takes_43 : decode cX5_takes 43 = .ok (.ireturn, 1) := dk_172 (dk_at dksX5_takes_1 19 rfl rfl)
abbrev cX5_ends : ByteArray := prog_24_method_13_code
def yX5_ends : MethodName := ⟨RX5, "ends", "()V"⟩
def dkwX5_ends_1 : List UInt8 := [16, 6, 42, 180, 0, 112, 79, 177]
abbrev dktX5_ends_1 : List UInt8 := dkwX5_ends_1 ++ []
def dkwX5_ends_0 : List UInt8 := [42, 180, 0, 138, 153, 0, 4, 177, 42, 4, 181, 0, 138, 42, 180, 0, 7, 8, 4, 79, 42, 180, 0, 7]
abbrev dktX5_ends_0 : List UInt8 := dkwX5_ends_0 ++ dktX5_ends_1
theorem dksX5_ends_0 : cX5_ends.data.toList.drop 0 = dktX5_ends_0 := by decide +kernel
theorem dksX5_ends_1 : cX5_ends.data.toList.drop 24 = dktX5_ends_1 := dk_seg dksX5_ends_0 24 rfl rfl
theorem dX5_ends_0 : decode cX5_ends 0 = .ok (.aload_n 0, 1) := dk_42 (dk_at dksX5_ends_0 0 rfl rfl)
theorem dX5_ends_1 : decode cX5_ends 1 = .ok (.getfield 138, 3) := dk_180 0 138 (dk_at dksX5_ends_0 1 rfl rfl)
theorem dX5_ends_4 : decode cX5_ends 4 = .ok (.ifCond .eq 4, 3) := dk_153 0 4 (dk_at dksX5_ends_0 4 rfl rfl)
theorem dX5_ends_7 : decode cX5_ends 7 = .ok (.return_, 1) := dk_177 (dk_at dksX5_ends_0 7 rfl rfl)
theorem dX5_ends_8 : decode cX5_ends 8 = .ok (.aload_n 0, 1) := dk_42 (dk_at dksX5_ends_0 8 rfl rfl)
theorem dX5_ends_9 : decode cX5_ends 9 = .ok (.iconst 1, 1) := dk_4 (dk_at dksX5_ends_0 9 rfl rfl)
theorem dX5_ends_10 : decode cX5_ends 10 = .ok (.putfield 138, 3) := dk_181 0 138 (dk_at dksX5_ends_0 10 rfl rfl)
theorem dX5_ends_13 : decode cX5_ends 13 = .ok (.aload_n 0, 1) := dk_42 (dk_at dksX5_ends_0 13 rfl rfl)
theorem dX5_ends_14 : decode cX5_ends 14 = .ok (.getfield 7, 3) := dk_180 0 7 (dk_at dksX5_ends_0 14 rfl rfl)
theorem dX5_ends_17 : decode cX5_ends 17 = .ok (.iconst 5, 1) := dk_8 (dk_at dksX5_ends_0 17 rfl rfl)
theorem dX5_ends_18 : decode cX5_ends 18 = .ok (.iconst 1, 1) := dk_4 (dk_at dksX5_ends_0 18 rfl rfl)
theorem dX5_ends_19 : decode cX5_ends 19 = .ok (.iastore, 1) := dk_79 (dk_at dksX5_ends_0 19 rfl rfl)
theorem dX5_ends_20 : decode cX5_ends 20 = .ok (.aload_n 0, 1) := dk_42 (dk_at dksX5_ends_0 20 rfl rfl)
theorem dX5_ends_21 : decode cX5_ends 21 = .ok (.getfield 7, 3) := dk_180 0 7 (dk_at dksX5_ends_0 21 rfl rfl)
theorem dX5_ends_24 : decode cX5_ends 24 = .ok (.bipush 6, 2) := dk_16 6 (dk_at dksX5_ends_1 0 rfl rfl)
theorem dX5_ends_26 : decode cX5_ends 26 = .ok (.aload_n 0, 1) := dk_42 (dk_at dksX5_ends_1 2 rfl rfl)
theorem dX5_ends_27 : decode cX5_ends 27 = .ok (.getfield 112, 3) := dk_180 0 112 (dk_at dksX5_ends_1 3 rfl rfl)
theorem dX5_ends_30 : decode cX5_ends 30 = .ok (.iastore, 1) := dk_79 (dk_at dksX5_ends_1 6 rfl rfl)
theorem dX5_ends_31 : decode cX5_ends 31 = .ok (.return_, 1) := dk_177 (dk_at dksX5_ends_1 7 rfl rfl)
abbrev cX5_armyTold : ByteArray := prog_24_method_21_code
def yX5_armyTold : MethodName := ⟨RX5, "armyTold", "()I"⟩
def dkwX5_armyTold_0 : List UInt8 := [42, 3, 4, 182, 0, 160, 172]
abbrev dktX5_armyTold_0 : List UInt8 := dkwX5_armyTold_0 ++ []
theorem dksX5_armyTold_0 : cX5_armyTold.data.toList.drop 0 = dktX5_armyTold_0 := by decide +kernel
theorem dX5_armyTold_0 : decode cX5_armyTold 0 = .ok (.aload_n 0, 1) := dk_42 (dk_at dksX5_armyTold_0 0 rfl rfl)
theorem dX5_armyTold_1 : decode cX5_armyTold 1 = .ok (.iconst 0, 1) := dk_3 (dk_at dksX5_armyTold_0 1 rfl rfl)
theorem dX5_armyTold_2 : decode cX5_armyTold 2 = .ok (.iconst 1, 1) := dk_4 (dk_at dksX5_armyTold_0 2 rfl rfl)
theorem dX5_armyTold_3 : decode cX5_armyTold 3 = .ok (.invokevirtual 160, 3) := dk_182 0 160 (dk_at dksX5_armyTold_0 3 rfl rfl)
theorem dX5_armyTold_6 : decode cX5_armyTold 6 = .ok (.ireturn, 1) := dk_172 (dk_at dksX5_armyTold_0 6 rfl rfl)
abbrev cX5_numbered : ByteArray := prog_24_method_15_code
def yX5_numbered : MethodName := ⟨RX5, "numbered", "(II)I"⟩
def dkwX5_numbered_2 : List UInt8 := [182, 0, 153, 29, 27, 28, 184, 0, 145, 153, 0, 7, 29, 167, 0, 4, 27, 172]
abbrev dktX5_numbered_2 : List UInt8 := dkwX5_numbered_2 ++ []
def dkwX5_numbered_1 : List UInt8 := [180, 0, 135, 62, 29, 27, 28, 184, 0, 145, 154, 0, 12, 42, 5, 42, 180, 0, 112, 182, 0, 149, 42]
abbrev dktX5_numbered_1 : List UInt8 := dkwX5_numbered_1 ++ dktX5_numbered_2
def dkwX5_numbered_0 : List UInt8 := [42, 180, 0, 138, 154, 0, 11, 42, 180, 0, 115, 4, 159, 0, 9, 42, 182, 0, 142, 27, 172, 42]
abbrev dktX5_numbered_0 : List UInt8 := dkwX5_numbered_0 ++ dktX5_numbered_1
theorem dksX5_numbered_0 : cX5_numbered.data.toList.drop 0 = dktX5_numbered_0 := by decide +kernel
theorem dksX5_numbered_1 : cX5_numbered.data.toList.drop 22 = dktX5_numbered_1 := dk_seg dksX5_numbered_0 22 rfl rfl
theorem dksX5_numbered_2 : cX5_numbered.data.toList.drop 45 = dktX5_numbered_2 := dk_seg dksX5_numbered_1 23 rfl rfl
theorem dX5_numbered_0 : decode cX5_numbered 0 = .ok (.aload_n 0, 1) := dk_42 (dk_at dksX5_numbered_0 0 rfl rfl)
theorem dX5_numbered_1 : decode cX5_numbered 1 = .ok (.getfield 138, 3) := dk_180 0 138 (dk_at dksX5_numbered_0 1 rfl rfl)
theorem dX5_numbered_4 : decode cX5_numbered 4 = .ok (.ifCond .ne 11, 3) := dk_154 0 11 (dk_at dksX5_numbered_0 4 rfl rfl)
theorem dX5_numbered_7 : decode cX5_numbered 7 = .ok (.aload_n 0, 1) := dk_42 (dk_at dksX5_numbered_0 7 rfl rfl)
theorem dX5_numbered_8 : decode cX5_numbered 8 = .ok (.getfield 115, 3) := dk_180 0 115 (dk_at dksX5_numbered_0 8 rfl rfl)
theorem dX5_numbered_11 : decode cX5_numbered 11 = .ok (.iconst 1, 1) := dk_4 (dk_at dksX5_numbered_0 11 rfl rfl)
theorem dX5_numbered_12 : decode cX5_numbered 12 = .ok (.if_icmp .eq 9, 3) := dk_159 0 9 (dk_at dksX5_numbered_0 12 rfl rfl)
theorem dX5_numbered_15 : decode cX5_numbered 15 = .ok (.aload_n 0, 1) := dk_42 (dk_at dksX5_numbered_0 15 rfl rfl)
theorem dX5_numbered_16 : decode cX5_numbered 16 = .ok (.invokevirtual 142, 3) := dk_182 0 142 (dk_at dksX5_numbered_0 16 rfl rfl)
theorem dX5_numbered_19 : decode cX5_numbered 19 = .ok (.iload_n 1, 1) := dk_27 (dk_at dksX5_numbered_0 19 rfl rfl)
theorem dX5_numbered_20 : decode cX5_numbered 20 = .ok (.ireturn, 1) := dk_172 (dk_at dksX5_numbered_0 20 rfl rfl)
theorem dX5_numbered_21 : decode cX5_numbered 21 = .ok (.aload_n 0, 1) := dk_42 (dk_at dksX5_numbered_0 21 rfl rfl)
theorem dX5_numbered_22 : decode cX5_numbered 22 = .ok (.getfield 135, 3) := dk_180 0 135 (dk_at dksX5_numbered_1 0 rfl rfl)
theorem dX5_numbered_25 : decode cX5_numbered 25 = .ok (.istore_n 3, 1) := dk_62 (dk_at dksX5_numbered_1 3 rfl rfl)
theorem dX5_numbered_26 : decode cX5_numbered 26 = .ok (.iload_n 3, 1) := dk_29 (dk_at dksX5_numbered_1 4 rfl rfl)
theorem dX5_numbered_27 : decode cX5_numbered 27 = .ok (.iload_n 1, 1) := dk_27 (dk_at dksX5_numbered_1 5 rfl rfl)
theorem dX5_numbered_28 : decode cX5_numbered 28 = .ok (.iload_n 2, 1) := dk_28 (dk_at dksX5_numbered_1 6 rfl rfl)
theorem dX5_numbered_29 : decode cX5_numbered 29 = .ok (.invokestatic 145, 3) := dk_184 0 145 (dk_at dksX5_numbered_1 7 rfl rfl)
theorem dX5_numbered_32 : decode cX5_numbered 32 = .ok (.ifCond .ne 12, 3) := dk_154 0 12 (dk_at dksX5_numbered_1 10 rfl rfl)
theorem dX5_numbered_35 : decode cX5_numbered 35 = .ok (.aload_n 0, 1) := dk_42 (dk_at dksX5_numbered_1 13 rfl rfl)
theorem dX5_numbered_36 : decode cX5_numbered 36 = .ok (.iconst 2, 1) := dk_5 (dk_at dksX5_numbered_1 14 rfl rfl)
theorem dX5_numbered_37 : decode cX5_numbered 37 = .ok (.aload_n 0, 1) := dk_42 (dk_at dksX5_numbered_1 15 rfl rfl)
theorem dX5_numbered_38 : decode cX5_numbered 38 = .ok (.getfield 112, 3) := dk_180 0 112 (dk_at dksX5_numbered_1 16 rfl rfl)
theorem dX5_numbered_41 : decode cX5_numbered 41 = .ok (.invokevirtual 149, 3) := dk_182 0 149 (dk_at dksX5_numbered_1 19 rfl rfl)
theorem dX5_numbered_44 : decode cX5_numbered 44 = .ok (.aload_n 0, 1) := dk_42 (dk_at dksX5_numbered_1 22 rfl rfl)
theorem dX5_numbered_45 : decode cX5_numbered 45 = .ok (.invokevirtual 153, 3) := dk_182 0 153 (dk_at dksX5_numbered_2 0 rfl rfl)
theorem dX5_numbered_48 : decode cX5_numbered 48 = .ok (.iload_n 3, 1) := dk_29 (dk_at dksX5_numbered_2 3 rfl rfl)
theorem dX5_numbered_49 : decode cX5_numbered 49 = .ok (.iload_n 1, 1) := dk_27 (dk_at dksX5_numbered_2 4 rfl rfl)
theorem dX5_numbered_50 : decode cX5_numbered 50 = .ok (.iload_n 2, 1) := dk_28 (dk_at dksX5_numbered_2 5 rfl rfl)
theorem dX5_numbered_51 : decode cX5_numbered 51 = .ok (.invokestatic 145, 3) := dk_184 0 145 (dk_at dksX5_numbered_2 6 rfl rfl)
theorem dX5_numbered_54 : decode cX5_numbered 54 = .ok (.ifCond .eq 7, 3) := dk_153 0 7 (dk_at dksX5_numbered_2 9 rfl rfl)
theorem dX5_numbered_57 : decode cX5_numbered 57 = .ok (.iload_n 3, 1) := dk_29 (dk_at dksX5_numbered_2 12 rfl rfl)
theorem dX5_numbered_58 : decode cX5_numbered 58 = .ok (.goto 4, 3) := dk_167 0 4 (dk_at dksX5_numbered_2 13 rfl rfl)
theorem dX5_numbered_61 : decode cX5_numbered 61 = .ok (.iload_n 1, 1) := dk_27 (dk_at dksX5_numbered_2 16 rfl rfl)
theorem dX5_numbered_62 : decode cX5_numbered 62 = .ok (.ireturn, 1) := dk_172 (dk_at dksX5_numbered_2 17 rfl rfl)
abbrev cX5_also : ByteArray := prog_24_method_14_code
def yX5_also : MethodName := ⟨RX5, "also", "(II)V"⟩
def dkwX5_also_2 : List UInt8 := [177, 42, 180, 0, 7, 8, 27, 79, 42, 180, 0, 7, 16, 6, 28, 79, 177]
abbrev dktX5_also_2 : List UInt8 := dkwX5_also_2 ++ []
def dkwX5_also_1 : List UInt8 := [161, 0, 24, 42, 180, 0, 7, 16, 6, 46, 28, 160, 0, 14, 42, 180, 0, 7, 8, 46, 27, 163, 0, 4]
abbrev dktX5_also_1 : List UInt8 := dkwX5_also_1 ++ dktX5_also_2
def dkwX5_also_0 : List UInt8 := [42, 180, 0, 138, 154, 0, 44, 42, 180, 0, 7, 8, 46, 153, 0, 36, 42, 180, 0, 7, 16, 6, 46, 28]
abbrev dktX5_also_0 : List UInt8 := dkwX5_also_0 ++ dktX5_also_1
theorem dksX5_also_0 : cX5_also.data.toList.drop 0 = dktX5_also_0 := by decide +kernel
theorem dksX5_also_1 : cX5_also.data.toList.drop 24 = dktX5_also_1 := dk_seg dksX5_also_0 24 rfl rfl
theorem dksX5_also_2 : cX5_also.data.toList.drop 48 = dktX5_also_2 := dk_seg dksX5_also_1 24 rfl rfl
theorem dX5_also_0 : decode cX5_also 0 = .ok (.aload_n 0, 1) := dk_42 (dk_at dksX5_also_0 0 rfl rfl)
theorem dX5_also_1 : decode cX5_also 1 = .ok (.getfield 138, 3) := dk_180 0 138 (dk_at dksX5_also_0 1 rfl rfl)
theorem dX5_also_4 : decode cX5_also 4 = .ok (.ifCond .ne 44, 3) := dk_154 0 44 (dk_at dksX5_also_0 4 rfl rfl)
theorem dX5_also_7 : decode cX5_also 7 = .ok (.aload_n 0, 1) := dk_42 (dk_at dksX5_also_0 7 rfl rfl)
theorem dX5_also_8 : decode cX5_also 8 = .ok (.getfield 7, 3) := dk_180 0 7 (dk_at dksX5_also_0 8 rfl rfl)
theorem dX5_also_11 : decode cX5_also 11 = .ok (.iconst 5, 1) := dk_8 (dk_at dksX5_also_0 11 rfl rfl)
theorem dX5_also_12 : decode cX5_also 12 = .ok (.iaload, 1) := dk_46 (dk_at dksX5_also_0 12 rfl rfl)
theorem dX5_also_13 : decode cX5_also 13 = .ok (.ifCond .eq 36, 3) := dk_153 0 36 (dk_at dksX5_also_0 13 rfl rfl)
theorem dX5_also_16 : decode cX5_also 16 = .ok (.aload_n 0, 1) := dk_42 (dk_at dksX5_also_0 16 rfl rfl)
theorem dX5_also_17 : decode cX5_also 17 = .ok (.getfield 7, 3) := dk_180 0 7 (dk_at dksX5_also_0 17 rfl rfl)
theorem dX5_also_20 : decode cX5_also 20 = .ok (.bipush 6, 2) := dk_16 6 (dk_at dksX5_also_0 20 rfl rfl)
theorem dX5_also_22 : decode cX5_also 22 = .ok (.iaload, 1) := dk_46 (dk_at dksX5_also_0 22 rfl rfl)
theorem dX5_also_23 : decode cX5_also 23 = .ok (.iload_n 2, 1) := dk_28 (dk_at dksX5_also_0 23 rfl rfl)
theorem dX5_also_24 : decode cX5_also 24 = .ok (.if_icmp .lt 24, 3) := dk_161 0 24 (dk_at dksX5_also_1 0 rfl rfl)
theorem dX5_also_27 : decode cX5_also 27 = .ok (.aload_n 0, 1) := dk_42 (dk_at dksX5_also_1 3 rfl rfl)
theorem dX5_also_28 : decode cX5_also 28 = .ok (.getfield 7, 3) := dk_180 0 7 (dk_at dksX5_also_1 4 rfl rfl)
theorem dX5_also_31 : decode cX5_also 31 = .ok (.bipush 6, 2) := dk_16 6 (dk_at dksX5_also_1 7 rfl rfl)
theorem dX5_also_33 : decode cX5_also 33 = .ok (.iaload, 1) := dk_46 (dk_at dksX5_also_1 9 rfl rfl)
theorem dX5_also_34 : decode cX5_also 34 = .ok (.iload_n 2, 1) := dk_28 (dk_at dksX5_also_1 10 rfl rfl)
theorem dX5_also_35 : decode cX5_also 35 = .ok (.if_icmp .ne 14, 3) := dk_160 0 14 (dk_at dksX5_also_1 11 rfl rfl)
theorem dX5_also_38 : decode cX5_also 38 = .ok (.aload_n 0, 1) := dk_42 (dk_at dksX5_also_1 14 rfl rfl)
theorem dX5_also_39 : decode cX5_also 39 = .ok (.getfield 7, 3) := dk_180 0 7 (dk_at dksX5_also_1 15 rfl rfl)
theorem dX5_also_42 : decode cX5_also 42 = .ok (.iconst 5, 1) := dk_8 (dk_at dksX5_also_1 18 rfl rfl)
theorem dX5_also_43 : decode cX5_also 43 = .ok (.iaload, 1) := dk_46 (dk_at dksX5_also_1 19 rfl rfl)
theorem dX5_also_44 : decode cX5_also 44 = .ok (.iload_n 1, 1) := dk_27 (dk_at dksX5_also_1 20 rfl rfl)
theorem dX5_also_45 : decode cX5_also 45 = .ok (.if_icmp .gt 4, 3) := dk_163 0 4 (dk_at dksX5_also_1 21 rfl rfl)
theorem dX5_also_48 : decode cX5_also 48 = .ok (.return_, 1) := dk_177 (dk_at dksX5_also_2 0 rfl rfl)
theorem dX5_also_49 : decode cX5_also 49 = .ok (.aload_n 0, 1) := dk_42 (dk_at dksX5_also_2 1 rfl rfl)
theorem dX5_also_50 : decode cX5_also 50 = .ok (.getfield 7, 3) := dk_180 0 7 (dk_at dksX5_also_2 2 rfl rfl)
theorem dX5_also_53 : decode cX5_also 53 = .ok (.iconst 5, 1) := dk_8 (dk_at dksX5_also_2 5 rfl rfl)
theorem dX5_also_54 : decode cX5_also 54 = .ok (.iload_n 1, 1) := dk_27 (dk_at dksX5_also_2 6 rfl rfl)
theorem dX5_also_55 : decode cX5_also 55 = .ok (.iastore, 1) := dk_79 (dk_at dksX5_also_2 7 rfl rfl)
theorem dX5_also_56 : decode cX5_also 56 = .ok (.aload_n 0, 1) := dk_42 (dk_at dksX5_also_2 8 rfl rfl)
theorem dX5_also_57 : decode cX5_also 57 = .ok (.getfield 7, 3) := dk_180 0 7 (dk_at dksX5_also_2 9 rfl rfl)
theorem dX5_also_60 : decode cX5_also 60 = .ok (.bipush 6, 2) := dk_16 6 (dk_at dksX5_also_2 12 rfl rfl)
theorem dX5_also_62 : decode cX5_also 62 = .ok (.iload_n 2, 1) := dk_28 (dk_at dksX5_also_2 14 rfl rfl)
theorem dX5_also_63 : decode cX5_also 63 = .ok (.iastore, 1) := dk_79 (dk_at dksX5_also_2 15 rfl rfl)
theorem dX5_also_64 : decode cX5_also 64 = .ok (.return_, 1) := dk_177 (dk_at dksX5_also_2 16 rfl rfl)
abbrev cX5_isBeat : ByteArray := prog_24_method_19_code
def yX5_isBeat : MethodName := ⟨RX5, "isBeat", "()Z"⟩
def dkwX5_isBeat_1 : List UInt8 := [184, 0, 145, 153, 0, 7, 4, 167, 0, 4, 3, 172]
abbrev dktX5_isBeat_1 : List UInt8 := dkwX5_isBeat_1 ++ []
def dkwX5_isBeat_0 : List UInt8 := [42, 180, 0, 138, 154, 0, 29, 42, 180, 0, 115, 6, 160, 0, 21, 42, 180, 0, 129, 16, 10, 16, 13]
abbrev dktX5_isBeat_0 : List UInt8 := dkwX5_isBeat_0 ++ dktX5_isBeat_1
theorem dksX5_isBeat_0 : cX5_isBeat.data.toList.drop 0 = dktX5_isBeat_0 := by decide +kernel
theorem dksX5_isBeat_1 : cX5_isBeat.data.toList.drop 23 = dktX5_isBeat_1 := dk_seg dksX5_isBeat_0 23 rfl rfl
theorem dX5_isBeat_0 : decode cX5_isBeat 0 = .ok (.aload_n 0, 1) := dk_42 (dk_at dksX5_isBeat_0 0 rfl rfl)
theorem dX5_isBeat_1 : decode cX5_isBeat 1 = .ok (.getfield 138, 3) := dk_180 0 138 (dk_at dksX5_isBeat_0 1 rfl rfl)
theorem dX5_isBeat_4 : decode cX5_isBeat 4 = .ok (.ifCond .ne 29, 3) := dk_154 0 29 (dk_at dksX5_isBeat_0 4 rfl rfl)
theorem dX5_isBeat_7 : decode cX5_isBeat 7 = .ok (.aload_n 0, 1) := dk_42 (dk_at dksX5_isBeat_0 7 rfl rfl)
theorem dX5_isBeat_8 : decode cX5_isBeat 8 = .ok (.getfield 115, 3) := dk_180 0 115 (dk_at dksX5_isBeat_0 8 rfl rfl)
theorem dX5_isBeat_11 : decode cX5_isBeat 11 = .ok (.iconst 3, 1) := dk_6 (dk_at dksX5_isBeat_0 11 rfl rfl)
theorem dX5_isBeat_12 : decode cX5_isBeat 12 = .ok (.if_icmp .ne 21, 3) := dk_160 0 21 (dk_at dksX5_isBeat_0 12 rfl rfl)
theorem dX5_isBeat_15 : decode cX5_isBeat 15 = .ok (.aload_n 0, 1) := dk_42 (dk_at dksX5_isBeat_0 15 rfl rfl)
theorem dX5_isBeat_16 : decode cX5_isBeat 16 = .ok (.getfield 129, 3) := dk_180 0 129 (dk_at dksX5_isBeat_0 16 rfl rfl)
theorem dX5_isBeat_19 : decode cX5_isBeat 19 = .ok (.bipush 10, 2) := dk_16 10 (dk_at dksX5_isBeat_0 19 rfl rfl)
theorem dX5_isBeat_21 : decode cX5_isBeat 21 = .ok (.bipush 13, 2) := dk_16 13 (dk_at dksX5_isBeat_0 21 rfl rfl)
theorem dX5_isBeat_23 : decode cX5_isBeat 23 = .ok (.invokestatic 145, 3) := dk_184 0 145 (dk_at dksX5_isBeat_1 0 rfl rfl)
theorem dX5_isBeat_26 : decode cX5_isBeat 26 = .ok (.ifCond .eq 7, 3) := dk_153 0 7 (dk_at dksX5_isBeat_1 3 rfl rfl)
theorem dX5_isBeat_29 : decode cX5_isBeat 29 = .ok (.iconst 1, 1) := dk_4 (dk_at dksX5_isBeat_1 6 rfl rfl)
theorem dX5_isBeat_30 : decode cX5_isBeat 30 = .ok (.goto 4, 3) := dk_167 0 4 (dk_at dksX5_isBeat_1 7 rfl rfl)
theorem dX5_isBeat_33 : decode cX5_isBeat 33 = .ok (.iconst 0, 1) := dk_3 (dk_at dksX5_isBeat_1 10 rfl rfl)
theorem dX5_isBeat_34 : decode cX5_isBeat 34 = .ok (.ireturn, 1) := dk_172 (dk_at dksX5_isBeat_1 11 rfl rfl)
abbrev cX5_beatTold : ByteArray := prog_24_method_18_code
def yX5_beatTold : MethodName := ⟨RX5, "beatTold", "()I"⟩
def dkwX5_beatTold_0 : List UInt8 := [42, 16, 10, 16, 13, 182, 0, 156, 16, 10, 100, 172]
abbrev dktX5_beatTold_0 : List UInt8 := dkwX5_beatTold_0 ++ []
theorem dksX5_beatTold_0 : cX5_beatTold.data.toList.drop 0 = dktX5_beatTold_0 := by decide +kernel
theorem dX5_beatTold_0 : decode cX5_beatTold 0 = .ok (.aload_n 0, 1) := dk_42 (dk_at dksX5_beatTold_0 0 rfl rfl)
theorem dX5_beatTold_1 : decode cX5_beatTold 1 = .ok (.bipush 10, 2) := dk_16 10 (dk_at dksX5_beatTold_0 1 rfl rfl)
theorem dX5_beatTold_3 : decode cX5_beatTold 3 = .ok (.bipush 13, 2) := dk_16 13 (dk_at dksX5_beatTold_0 3 rfl rfl)
theorem dX5_beatTold_5 : decode cX5_beatTold 5 = .ok (.invokevirtual 156, 3) := dk_182 0 156 (dk_at dksX5_beatTold_0 5 rfl rfl)
theorem dX5_beatTold_8 : decode cX5_beatTold 8 = .ok (.bipush 10, 2) := dk_16 10 (dk_at dksX5_beatTold_0 8 rfl rfl)
theorem dX5_beatTold_10 : decode cX5_beatTold 10 = .ok (.isub, 1) := dk_100 (dk_at dksX5_beatTold_0 10 rfl rfl)
theorem dX5_beatTold_11 : decode cX5_beatTold 11 = .ok (.ireturn, 1) := dk_172 (dk_at dksX5_beatTold_0 11 rfl rfl)
abbrev cX5_endsLine : ByteArray := prog_24_method_17_code
def yX5_endsLine : MethodName := ⟨RX5, "endsLine", "()V"⟩
def dkwX5_endsLine_1 : List UInt8 := [182, 0, 142, 177]
abbrev dktX5_endsLine_1 : List UInt8 := dkwX5_endsLine_1 ++ []
def dkwX5_endsLine_0 : List UInt8 := [42, 180, 0, 138, 154, 0, 18, 42, 180, 0, 115, 5, 160, 0, 10, 42, 182, 0, 153, 167, 0, 7, 42]
abbrev dktX5_endsLine_0 : List UInt8 := dkwX5_endsLine_0 ++ dktX5_endsLine_1
theorem dksX5_endsLine_0 : cX5_endsLine.data.toList.drop 0 = dktX5_endsLine_0 := by decide +kernel
theorem dksX5_endsLine_1 : cX5_endsLine.data.toList.drop 23 = dktX5_endsLine_1 := dk_seg dksX5_endsLine_0 23 rfl rfl
theorem dX5_endsLine_0 : decode cX5_endsLine 0 = .ok (.aload_n 0, 1) := dk_42 (dk_at dksX5_endsLine_0 0 rfl rfl)
theorem dX5_endsLine_1 : decode cX5_endsLine 1 = .ok (.getfield 138, 3) := dk_180 0 138 (dk_at dksX5_endsLine_0 1 rfl rfl)
theorem dX5_endsLine_4 : decode cX5_endsLine 4 = .ok (.ifCond .ne 18, 3) := dk_154 0 18 (dk_at dksX5_endsLine_0 4 rfl rfl)
theorem dX5_endsLine_7 : decode cX5_endsLine 7 = .ok (.aload_n 0, 1) := dk_42 (dk_at dksX5_endsLine_0 7 rfl rfl)
theorem dX5_endsLine_8 : decode cX5_endsLine 8 = .ok (.getfield 115, 3) := dk_180 0 115 (dk_at dksX5_endsLine_0 8 rfl rfl)
theorem dX5_endsLine_11 : decode cX5_endsLine 11 = .ok (.iconst 2, 1) := dk_5 (dk_at dksX5_endsLine_0 11 rfl rfl)
theorem dX5_endsLine_12 : decode cX5_endsLine 12 = .ok (.if_icmp .ne 10, 3) := dk_160 0 10 (dk_at dksX5_endsLine_0 12 rfl rfl)
theorem dX5_endsLine_15 : decode cX5_endsLine 15 = .ok (.aload_n 0, 1) := dk_42 (dk_at dksX5_endsLine_0 15 rfl rfl)
theorem dX5_endsLine_16 : decode cX5_endsLine 16 = .ok (.invokevirtual 153, 3) := dk_182 0 153 (dk_at dksX5_endsLine_0 16 rfl rfl)
theorem dX5_endsLine_19 : decode cX5_endsLine 19 = .ok (.goto 7, 3) := dk_167 0 7 (dk_at dksX5_endsLine_0 19 rfl rfl)
theorem dX5_endsLine_22 : decode cX5_endsLine 22 = .ok (.aload_n 0, 1) := dk_42 (dk_at dksX5_endsLine_0 22 rfl rfl)
theorem dX5_endsLine_23 : decode cX5_endsLine 23 = .ok (.invokevirtual 142, 3) := dk_182 0 142 (dk_at dksX5_endsLine_1 0 rfl rfl)
theorem dX5_endsLine_26 : decode cX5_endsLine 26 = .ok (.return_, 1) := dk_177 (dk_at dksX5_endsLine_1 3 rfl rfl)
abbrev cX5_scoreLine : ByteArray := prog_24_method_24_code
def yX5_scoreLine : MethodName := ⟨RX5, "scoreLine", "()V"⟩
def dkwX5_scoreLine_5 : List UInt8 := [182, 0, 177, 177]
abbrev dktX5_scoreLine_5 : List UInt8 := dkwX5_scoreLine_5 ++ []
def dkwX5_scoreLine_4 : List UInt8 := [180, 0, 17, 27, 46, 96, 29, 79, 42, 180, 0, 17, 27, 92, 46, 4, 96, 79, 167, 255, 178, 42]
abbrev dktX5_scoreLine_4 : List UInt8 := dkwX5_scoreLine_4 ++ dktX5_scoreLine_5
def dkwX5_scoreLine_3 : List UInt8 := [42, 182, 0, 171, 62, 28, 154, 0, 6, 167, 255, 210, 42, 180, 0, 17, 5, 16, 12, 27, 104, 96, 42]
abbrev dktX5_scoreLine_3 : List UInt8 := dkwX5_scoreLine_3 ++ dktX5_scoreLine_4
def dkwX5_scoreLine_2 : List UInt8 := [16, 12, 162, 0, 7, 4, 167, 0, 4, 3, 61, 28, 154, 0, 12, 42, 6, 42, 180, 0, 112, 182, 0, 149]
abbrev dktX5_scoreLine_2 : List UInt8 := dkwX5_scoreLine_2 ++ dktX5_scoreLine_3
def dkwX5_scoreLine_1 : List UInt8 := [182, 0, 167, 154, 0, 7, 42, 182, 0, 142, 42, 182, 0, 167, 153, 0, 77, 42, 180, 0, 17, 27, 46]
abbrev dktX5_scoreLine_1 : List UInt8 := dkwX5_scoreLine_1 ++ dktX5_scoreLine_2
def dkwX5_scoreLine_0 : List UInt8 := [42, 16, 19, 16, 19, 182, 0, 156, 87, 42, 3, 4, 182, 0, 160, 60, 42, 180, 0, 138, 154, 0, 14, 42]
abbrev dktX5_scoreLine_0 : List UInt8 := dkwX5_scoreLine_0 ++ dktX5_scoreLine_1
theorem dksX5_scoreLine_0 : cX5_scoreLine.data.toList.drop 0 = dktX5_scoreLine_0 := by decide +kernel
theorem dksX5_scoreLine_1 : cX5_scoreLine.data.toList.drop 24 = dktX5_scoreLine_1 := dk_seg dksX5_scoreLine_0 24 rfl rfl
theorem dksX5_scoreLine_2 : cX5_scoreLine.data.toList.drop 47 = dktX5_scoreLine_2 := dk_seg dksX5_scoreLine_1 23 rfl rfl
theorem dksX5_scoreLine_3 : cX5_scoreLine.data.toList.drop 71 = dktX5_scoreLine_3 := dk_seg dksX5_scoreLine_2 24 rfl rfl
theorem dksX5_scoreLine_4 : cX5_scoreLine.data.toList.drop 94 = dktX5_scoreLine_4 := dk_seg dksX5_scoreLine_3 23 rfl rfl
theorem dksX5_scoreLine_5 : cX5_scoreLine.data.toList.drop 116 = dktX5_scoreLine_5 := dk_seg dksX5_scoreLine_4 22 rfl rfl
theorem dX5_scoreLine_0 : decode cX5_scoreLine 0 = .ok (.aload_n 0, 1) := dk_42 (dk_at dksX5_scoreLine_0 0 rfl rfl)
theorem dX5_scoreLine_1 : decode cX5_scoreLine 1 = .ok (.bipush 19, 2) := dk_16 19 (dk_at dksX5_scoreLine_0 1 rfl rfl)
theorem dX5_scoreLine_3 : decode cX5_scoreLine 3 = .ok (.bipush 19, 2) := dk_16 19 (dk_at dksX5_scoreLine_0 3 rfl rfl)
theorem dX5_scoreLine_5 : decode cX5_scoreLine 5 = .ok (.invokevirtual 156, 3) := dk_182 0 156 (dk_at dksX5_scoreLine_0 5 rfl rfl)
theorem dX5_scoreLine_8 : decode cX5_scoreLine 8 = .ok (.pop, 1) := dk_87 (dk_at dksX5_scoreLine_0 8 rfl rfl)
theorem dX5_scoreLine_9 : decode cX5_scoreLine 9 = .ok (.aload_n 0, 1) := dk_42 (dk_at dksX5_scoreLine_0 9 rfl rfl)
theorem dX5_scoreLine_10 : decode cX5_scoreLine 10 = .ok (.iconst 0, 1) := dk_3 (dk_at dksX5_scoreLine_0 10 rfl rfl)
theorem dX5_scoreLine_11 : decode cX5_scoreLine 11 = .ok (.iconst 1, 1) := dk_4 (dk_at dksX5_scoreLine_0 11 rfl rfl)
theorem dX5_scoreLine_12 : decode cX5_scoreLine 12 = .ok (.invokevirtual 160, 3) := dk_182 0 160 (dk_at dksX5_scoreLine_0 12 rfl rfl)
theorem dX5_scoreLine_15 : decode cX5_scoreLine 15 = .ok (.istore_n 1, 1) := dk_60 (dk_at dksX5_scoreLine_0 15 rfl rfl)
theorem dX5_scoreLine_16 : decode cX5_scoreLine 16 = .ok (.aload_n 0, 1) := dk_42 (dk_at dksX5_scoreLine_0 16 rfl rfl)
theorem dX5_scoreLine_17 : decode cX5_scoreLine 17 = .ok (.getfield 138, 3) := dk_180 0 138 (dk_at dksX5_scoreLine_0 17 rfl rfl)
theorem dX5_scoreLine_20 : decode cX5_scoreLine 20 = .ok (.ifCond .ne 14, 3) := dk_154 0 14 (dk_at dksX5_scoreLine_0 20 rfl rfl)
theorem dX5_scoreLine_23 : decode cX5_scoreLine 23 = .ok (.aload_n 0, 1) := dk_42 (dk_at dksX5_scoreLine_0 23 rfl rfl)
theorem dX5_scoreLine_24 : decode cX5_scoreLine 24 = .ok (.invokevirtual 167, 3) := dk_182 0 167 (dk_at dksX5_scoreLine_1 0 rfl rfl)
theorem dX5_scoreLine_27 : decode cX5_scoreLine 27 = .ok (.ifCond .ne 7, 3) := dk_154 0 7 (dk_at dksX5_scoreLine_1 3 rfl rfl)
theorem dX5_scoreLine_30 : decode cX5_scoreLine 30 = .ok (.aload_n 0, 1) := dk_42 (dk_at dksX5_scoreLine_1 6 rfl rfl)
theorem dX5_scoreLine_31 : decode cX5_scoreLine 31 = .ok (.invokevirtual 142, 3) := dk_182 0 142 (dk_at dksX5_scoreLine_1 7 rfl rfl)
theorem dX5_scoreLine_34 : decode cX5_scoreLine 34 = .ok (.aload_n 0, 1) := dk_42 (dk_at dksX5_scoreLine_1 10 rfl rfl)
theorem dX5_scoreLine_35 : decode cX5_scoreLine 35 = .ok (.invokevirtual 167, 3) := dk_182 0 167 (dk_at dksX5_scoreLine_1 11 rfl rfl)
theorem dX5_scoreLine_38 : decode cX5_scoreLine 38 = .ok (.ifCond .eq 77, 3) := dk_153 0 77 (dk_at dksX5_scoreLine_1 14 rfl rfl)
theorem dX5_scoreLine_41 : decode cX5_scoreLine 41 = .ok (.aload_n 0, 1) := dk_42 (dk_at dksX5_scoreLine_1 17 rfl rfl)
theorem dX5_scoreLine_42 : decode cX5_scoreLine 42 = .ok (.getfield 17, 3) := dk_180 0 17 (dk_at dksX5_scoreLine_1 18 rfl rfl)
theorem dX5_scoreLine_45 : decode cX5_scoreLine 45 = .ok (.iload_n 1, 1) := dk_27 (dk_at dksX5_scoreLine_1 21 rfl rfl)
theorem dX5_scoreLine_46 : decode cX5_scoreLine 46 = .ok (.iaload, 1) := dk_46 (dk_at dksX5_scoreLine_1 22 rfl rfl)
theorem dX5_scoreLine_47 : decode cX5_scoreLine 47 = .ok (.bipush 12, 2) := dk_16 12 (dk_at dksX5_scoreLine_2 0 rfl rfl)
theorem dX5_scoreLine_49 : decode cX5_scoreLine 49 = .ok (.if_icmp .ge 7, 3) := dk_162 0 7 (dk_at dksX5_scoreLine_2 2 rfl rfl)
theorem dX5_scoreLine_52 : decode cX5_scoreLine 52 = .ok (.iconst 1, 1) := dk_4 (dk_at dksX5_scoreLine_2 5 rfl rfl)
theorem dX5_scoreLine_53 : decode cX5_scoreLine 53 = .ok (.goto 4, 3) := dk_167 0 4 (dk_at dksX5_scoreLine_2 6 rfl rfl)
theorem dX5_scoreLine_56 : decode cX5_scoreLine 56 = .ok (.iconst 0, 1) := dk_3 (dk_at dksX5_scoreLine_2 9 rfl rfl)
theorem dX5_scoreLine_57 : decode cX5_scoreLine 57 = .ok (.istore_n 2, 1) := dk_61 (dk_at dksX5_scoreLine_2 10 rfl rfl)
theorem dX5_scoreLine_58 : decode cX5_scoreLine 58 = .ok (.iload_n 2, 1) := dk_28 (dk_at dksX5_scoreLine_2 11 rfl rfl)
theorem dX5_scoreLine_59 : decode cX5_scoreLine 59 = .ok (.ifCond .ne 12, 3) := dk_154 0 12 (dk_at dksX5_scoreLine_2 12 rfl rfl)
theorem dX5_scoreLine_62 : decode cX5_scoreLine 62 = .ok (.aload_n 0, 1) := dk_42 (dk_at dksX5_scoreLine_2 15 rfl rfl)
theorem dX5_scoreLine_63 : decode cX5_scoreLine 63 = .ok (.iconst 3, 1) := dk_6 (dk_at dksX5_scoreLine_2 16 rfl rfl)
theorem dX5_scoreLine_64 : decode cX5_scoreLine 64 = .ok (.aload_n 0, 1) := dk_42 (dk_at dksX5_scoreLine_2 17 rfl rfl)
theorem dX5_scoreLine_65 : decode cX5_scoreLine 65 = .ok (.getfield 112, 3) := dk_180 0 112 (dk_at dksX5_scoreLine_2 18 rfl rfl)
theorem dX5_scoreLine_68 : decode cX5_scoreLine 68 = .ok (.invokevirtual 149, 3) := dk_182 0 149 (dk_at dksX5_scoreLine_2 21 rfl rfl)
theorem dX5_scoreLine_71 : decode cX5_scoreLine 71 = .ok (.aload_n 0, 1) := dk_42 (dk_at dksX5_scoreLine_3 0 rfl rfl)
theorem dX5_scoreLine_72 : decode cX5_scoreLine 72 = .ok (.invokevirtual 171, 3) := dk_182 0 171 (dk_at dksX5_scoreLine_3 1 rfl rfl)
theorem dX5_scoreLine_75 : decode cX5_scoreLine 75 = .ok (.istore_n 3, 1) := dk_62 (dk_at dksX5_scoreLine_3 4 rfl rfl)
theorem dX5_scoreLine_76 : decode cX5_scoreLine 76 = .ok (.iload_n 2, 1) := dk_28 (dk_at dksX5_scoreLine_3 5 rfl rfl)
theorem dX5_scoreLine_77 : decode cX5_scoreLine 77 = .ok (.ifCond .ne 6, 3) := dk_154 0 6 (dk_at dksX5_scoreLine_3 6 rfl rfl)
theorem dX5_scoreLine_80 : decode cX5_scoreLine 80 = .ok (.goto (-46), 3) := dk_167 255 210 (dk_at dksX5_scoreLine_3 9 rfl rfl)
theorem dX5_scoreLine_83 : decode cX5_scoreLine 83 = .ok (.aload_n 0, 1) := dk_42 (dk_at dksX5_scoreLine_3 12 rfl rfl)
theorem dX5_scoreLine_84 : decode cX5_scoreLine 84 = .ok (.getfield 17, 3) := dk_180 0 17 (dk_at dksX5_scoreLine_3 13 rfl rfl)
theorem dX5_scoreLine_87 : decode cX5_scoreLine 87 = .ok (.iconst 2, 1) := dk_5 (dk_at dksX5_scoreLine_3 16 rfl rfl)
theorem dX5_scoreLine_88 : decode cX5_scoreLine 88 = .ok (.bipush 12, 2) := dk_16 12 (dk_at dksX5_scoreLine_3 17 rfl rfl)
theorem dX5_scoreLine_90 : decode cX5_scoreLine 90 = .ok (.iload_n 1, 1) := dk_27 (dk_at dksX5_scoreLine_3 19 rfl rfl)
theorem dX5_scoreLine_91 : decode cX5_scoreLine 91 = .ok (.imul, 1) := dk_104 (dk_at dksX5_scoreLine_3 20 rfl rfl)
theorem dX5_scoreLine_92 : decode cX5_scoreLine 92 = .ok (.iadd, 1) := dk_96 (dk_at dksX5_scoreLine_3 21 rfl rfl)
theorem dX5_scoreLine_93 : decode cX5_scoreLine 93 = .ok (.aload_n 0, 1) := dk_42 (dk_at dksX5_scoreLine_3 22 rfl rfl)
theorem dX5_scoreLine_94 : decode cX5_scoreLine 94 = .ok (.getfield 17, 3) := dk_180 0 17 (dk_at dksX5_scoreLine_4 0 rfl rfl)
theorem dX5_scoreLine_97 : decode cX5_scoreLine 97 = .ok (.iload_n 1, 1) := dk_27 (dk_at dksX5_scoreLine_4 3 rfl rfl)
theorem dX5_scoreLine_98 : decode cX5_scoreLine 98 = .ok (.iaload, 1) := dk_46 (dk_at dksX5_scoreLine_4 4 rfl rfl)
theorem dX5_scoreLine_99 : decode cX5_scoreLine 99 = .ok (.iadd, 1) := dk_96 (dk_at dksX5_scoreLine_4 5 rfl rfl)
theorem dX5_scoreLine_100 : decode cX5_scoreLine 100 = .ok (.iload_n 3, 1) := dk_29 (dk_at dksX5_scoreLine_4 6 rfl rfl)
theorem dX5_scoreLine_101 : decode cX5_scoreLine 101 = .ok (.iastore, 1) := dk_79 (dk_at dksX5_scoreLine_4 7 rfl rfl)
theorem dX5_scoreLine_102 : decode cX5_scoreLine 102 = .ok (.aload_n 0, 1) := dk_42 (dk_at dksX5_scoreLine_4 8 rfl rfl)
theorem dX5_scoreLine_103 : decode cX5_scoreLine 103 = .ok (.getfield 17, 3) := dk_180 0 17 (dk_at dksX5_scoreLine_4 9 rfl rfl)
theorem dX5_scoreLine_106 : decode cX5_scoreLine 106 = .ok (.iload_n 1, 1) := dk_27 (dk_at dksX5_scoreLine_4 12 rfl rfl)
theorem dX5_scoreLine_107 : decode cX5_scoreLine 107 = .ok (.dup2, 1) := dk_92 (dk_at dksX5_scoreLine_4 13 rfl rfl)
theorem dX5_scoreLine_108 : decode cX5_scoreLine 108 = .ok (.iaload, 1) := dk_46 (dk_at dksX5_scoreLine_4 14 rfl rfl)
theorem dX5_scoreLine_109 : decode cX5_scoreLine 109 = .ok (.iconst 1, 1) := dk_4 (dk_at dksX5_scoreLine_4 15 rfl rfl)
theorem dX5_scoreLine_110 : decode cX5_scoreLine 110 = .ok (.iadd, 1) := dk_96 (dk_at dksX5_scoreLine_4 16 rfl rfl)
theorem dX5_scoreLine_111 : decode cX5_scoreLine 111 = .ok (.iastore, 1) := dk_79 (dk_at dksX5_scoreLine_4 17 rfl rfl)
theorem dX5_scoreLine_112 : decode cX5_scoreLine 112 = .ok (.goto (-78), 3) := dk_167 255 178 (dk_at dksX5_scoreLine_4 18 rfl rfl)
theorem dX5_scoreLine_115 : decode cX5_scoreLine 115 = .ok (.aload_n 0, 1) := dk_42 (dk_at dksX5_scoreLine_4 21 rfl rfl)
theorem dX5_scoreLine_116 : decode cX5_scoreLine 116 = .ok (.invokevirtual 177, 3) := dk_182 0 177 (dk_at dksX5_scoreLine_5 0 rfl rfl)
theorem dX5_scoreLine_119 : decode cX5_scoreLine 119 = .ok (.return_, 1) := dk_177 (dk_at dksX5_scoreLine_5 3 rfl rfl)
abbrev cX5_hearingLine : ByteArray := prog_24_method_25_code
def yX5_hearingLine : MethodName := ⟨RX5, "hearingLine", "()V"⟩
def dkwX5_hearingLine_4 : List UInt8 := [42, 182, 0, 177, 177]
abbrev dktX5_hearingLine_4 : List UInt8 := dkwX5_hearingLine_4 ++ []
def dkwX5_hearingLine_3 : List UInt8 := [132, 2, 1, 167, 255, 199, 42, 180, 0, 17, 27, 28, 16, 6, 162, 0, 7, 28, 167, 0, 5, 16, 6, 79]
abbrev dktX5_hearingLine_3 : List UInt8 := dkwX5_hearingLine_3 ++ dktX5_hearingLine_4
def dkwX5_hearingLine_2 : List UInt8 := [100, 62, 28, 16, 6, 162, 0, 17, 42, 180, 0, 17, 5, 16, 6, 27, 104, 96, 28, 96, 29, 79]
abbrev dktX5_hearingLine_2 : List UInt8 := dkwX5_hearingLine_2 ++ dktX5_hearingLine_3
def dkwX5_hearingLine_1 : List UInt8 := [16, 6, 161, 0, 12, 42, 6, 42, 180, 0, 112, 182, 0, 149, 42, 16, 14, 16, 18, 182, 0, 156, 16, 14]
abbrev dktX5_hearingLine_1 : List UInt8 := dkwX5_hearingLine_1 ++ dktX5_hearingLine_2
def dkwX5_hearingLine_0 : List UInt8 := [42, 16, 20, 16, 20, 182, 0, 156, 87, 42, 182, 0, 163, 60, 3, 61, 42, 182, 0, 180, 153, 0, 56, 28]
abbrev dktX5_hearingLine_0 : List UInt8 := dkwX5_hearingLine_0 ++ dktX5_hearingLine_1
theorem dksX5_hearingLine_0 : cX5_hearingLine.data.toList.drop 0 = dktX5_hearingLine_0 := by decide +kernel
theorem dksX5_hearingLine_1 : cX5_hearingLine.data.toList.drop 24 = dktX5_hearingLine_1 := dk_seg dksX5_hearingLine_0 24 rfl rfl
theorem dksX5_hearingLine_2 : cX5_hearingLine.data.toList.drop 48 = dktX5_hearingLine_2 := dk_seg dksX5_hearingLine_1 24 rfl rfl
theorem dksX5_hearingLine_3 : cX5_hearingLine.data.toList.drop 70 = dktX5_hearingLine_3 := dk_seg dksX5_hearingLine_2 22 rfl rfl
theorem dksX5_hearingLine_4 : cX5_hearingLine.data.toList.drop 94 = dktX5_hearingLine_4 := dk_seg dksX5_hearingLine_3 24 rfl rfl
theorem dX5_hearingLine_0 : decode cX5_hearingLine 0 = .ok (.aload_n 0, 1) := dk_42 (dk_at dksX5_hearingLine_0 0 rfl rfl)
theorem dX5_hearingLine_1 : decode cX5_hearingLine 1 = .ok (.bipush 20, 2) := dk_16 20 (dk_at dksX5_hearingLine_0 1 rfl rfl)
theorem dX5_hearingLine_3 : decode cX5_hearingLine 3 = .ok (.bipush 20, 2) := dk_16 20 (dk_at dksX5_hearingLine_0 3 rfl rfl)
theorem dX5_hearingLine_5 : decode cX5_hearingLine 5 = .ok (.invokevirtual 156, 3) := dk_182 0 156 (dk_at dksX5_hearingLine_0 5 rfl rfl)
theorem dX5_hearingLine_8 : decode cX5_hearingLine 8 = .ok (.pop, 1) := dk_87 (dk_at dksX5_hearingLine_0 8 rfl rfl)
theorem dX5_hearingLine_9 : decode cX5_hearingLine 9 = .ok (.aload_n 0, 1) := dk_42 (dk_at dksX5_hearingLine_0 9 rfl rfl)
theorem dX5_hearingLine_10 : decode cX5_hearingLine 10 = .ok (.invokevirtual 163, 3) := dk_182 0 163 (dk_at dksX5_hearingLine_0 10 rfl rfl)
theorem dX5_hearingLine_13 : decode cX5_hearingLine 13 = .ok (.istore_n 1, 1) := dk_60 (dk_at dksX5_hearingLine_0 13 rfl rfl)
theorem dX5_hearingLine_14 : decode cX5_hearingLine 14 = .ok (.iconst 0, 1) := dk_3 (dk_at dksX5_hearingLine_0 14 rfl rfl)
theorem dX5_hearingLine_15 : decode cX5_hearingLine 15 = .ok (.istore_n 2, 1) := dk_61 (dk_at dksX5_hearingLine_0 15 rfl rfl)
theorem dX5_hearingLine_16 : decode cX5_hearingLine 16 = .ok (.aload_n 0, 1) := dk_42 (dk_at dksX5_hearingLine_0 16 rfl rfl)
theorem dX5_hearingLine_17 : decode cX5_hearingLine 17 = .ok (.invokevirtual 180, 3) := dk_182 0 180 (dk_at dksX5_hearingLine_0 17 rfl rfl)
theorem dX5_hearingLine_20 : decode cX5_hearingLine 20 = .ok (.ifCond .eq 56, 3) := dk_153 0 56 (dk_at dksX5_hearingLine_0 20 rfl rfl)
theorem dX5_hearingLine_23 : decode cX5_hearingLine 23 = .ok (.iload_n 2, 1) := dk_28 (dk_at dksX5_hearingLine_0 23 rfl rfl)
theorem dX5_hearingLine_24 : decode cX5_hearingLine 24 = .ok (.bipush 6, 2) := dk_16 6 (dk_at dksX5_hearingLine_1 0 rfl rfl)
theorem dX5_hearingLine_26 : decode cX5_hearingLine 26 = .ok (.if_icmp .lt 12, 3) := dk_161 0 12 (dk_at dksX5_hearingLine_1 2 rfl rfl)
theorem dX5_hearingLine_29 : decode cX5_hearingLine 29 = .ok (.aload_n 0, 1) := dk_42 (dk_at dksX5_hearingLine_1 5 rfl rfl)
theorem dX5_hearingLine_30 : decode cX5_hearingLine 30 = .ok (.iconst 3, 1) := dk_6 (dk_at dksX5_hearingLine_1 6 rfl rfl)
theorem dX5_hearingLine_31 : decode cX5_hearingLine 31 = .ok (.aload_n 0, 1) := dk_42 (dk_at dksX5_hearingLine_1 7 rfl rfl)
theorem dX5_hearingLine_32 : decode cX5_hearingLine 32 = .ok (.getfield 112, 3) := dk_180 0 112 (dk_at dksX5_hearingLine_1 8 rfl rfl)
theorem dX5_hearingLine_35 : decode cX5_hearingLine 35 = .ok (.invokevirtual 149, 3) := dk_182 0 149 (dk_at dksX5_hearingLine_1 11 rfl rfl)
theorem dX5_hearingLine_38 : decode cX5_hearingLine 38 = .ok (.aload_n 0, 1) := dk_42 (dk_at dksX5_hearingLine_1 14 rfl rfl)
theorem dX5_hearingLine_39 : decode cX5_hearingLine 39 = .ok (.bipush 14, 2) := dk_16 14 (dk_at dksX5_hearingLine_1 15 rfl rfl)
theorem dX5_hearingLine_41 : decode cX5_hearingLine 41 = .ok (.bipush 18, 2) := dk_16 18 (dk_at dksX5_hearingLine_1 17 rfl rfl)
theorem dX5_hearingLine_43 : decode cX5_hearingLine 43 = .ok (.invokevirtual 156, 3) := dk_182 0 156 (dk_at dksX5_hearingLine_1 19 rfl rfl)
theorem dX5_hearingLine_46 : decode cX5_hearingLine 46 = .ok (.bipush 14, 2) := dk_16 14 (dk_at dksX5_hearingLine_1 22 rfl rfl)
theorem dX5_hearingLine_48 : decode cX5_hearingLine 48 = .ok (.isub, 1) := dk_100 (dk_at dksX5_hearingLine_2 0 rfl rfl)
theorem dX5_hearingLine_49 : decode cX5_hearingLine 49 = .ok (.istore_n 3, 1) := dk_62 (dk_at dksX5_hearingLine_2 1 rfl rfl)
theorem dX5_hearingLine_50 : decode cX5_hearingLine 50 = .ok (.iload_n 2, 1) := dk_28 (dk_at dksX5_hearingLine_2 2 rfl rfl)
theorem dX5_hearingLine_51 : decode cX5_hearingLine 51 = .ok (.bipush 6, 2) := dk_16 6 (dk_at dksX5_hearingLine_2 3 rfl rfl)
theorem dX5_hearingLine_53 : decode cX5_hearingLine 53 = .ok (.if_icmp .ge 17, 3) := dk_162 0 17 (dk_at dksX5_hearingLine_2 5 rfl rfl)
theorem dX5_hearingLine_56 : decode cX5_hearingLine 56 = .ok (.aload_n 0, 1) := dk_42 (dk_at dksX5_hearingLine_2 8 rfl rfl)
theorem dX5_hearingLine_57 : decode cX5_hearingLine 57 = .ok (.getfield 17, 3) := dk_180 0 17 (dk_at dksX5_hearingLine_2 9 rfl rfl)
theorem dX5_hearingLine_60 : decode cX5_hearingLine 60 = .ok (.iconst 2, 1) := dk_5 (dk_at dksX5_hearingLine_2 12 rfl rfl)
theorem dX5_hearingLine_61 : decode cX5_hearingLine 61 = .ok (.bipush 6, 2) := dk_16 6 (dk_at dksX5_hearingLine_2 13 rfl rfl)
theorem dX5_hearingLine_63 : decode cX5_hearingLine 63 = .ok (.iload_n 1, 1) := dk_27 (dk_at dksX5_hearingLine_2 15 rfl rfl)
theorem dX5_hearingLine_64 : decode cX5_hearingLine 64 = .ok (.imul, 1) := dk_104 (dk_at dksX5_hearingLine_2 16 rfl rfl)
theorem dX5_hearingLine_65 : decode cX5_hearingLine 65 = .ok (.iadd, 1) := dk_96 (dk_at dksX5_hearingLine_2 17 rfl rfl)
theorem dX5_hearingLine_66 : decode cX5_hearingLine 66 = .ok (.iload_n 2, 1) := dk_28 (dk_at dksX5_hearingLine_2 18 rfl rfl)
theorem dX5_hearingLine_67 : decode cX5_hearingLine 67 = .ok (.iadd, 1) := dk_96 (dk_at dksX5_hearingLine_2 19 rfl rfl)
theorem dX5_hearingLine_68 : decode cX5_hearingLine 68 = .ok (.iload_n 3, 1) := dk_29 (dk_at dksX5_hearingLine_2 20 rfl rfl)
theorem dX5_hearingLine_69 : decode cX5_hearingLine 69 = .ok (.iastore, 1) := dk_79 (dk_at dksX5_hearingLine_2 21 rfl rfl)
theorem dX5_hearingLine_70 : decode cX5_hearingLine 70 = .ok (.iinc 2 1, 3) := dk_132 2 1 (dk_at dksX5_hearingLine_3 0 rfl rfl)
theorem dX5_hearingLine_73 : decode cX5_hearingLine 73 = .ok (.goto (-57), 3) := dk_167 255 199 (dk_at dksX5_hearingLine_3 3 rfl rfl)
theorem dX5_hearingLine_76 : decode cX5_hearingLine 76 = .ok (.aload_n 0, 1) := dk_42 (dk_at dksX5_hearingLine_3 6 rfl rfl)
theorem dX5_hearingLine_77 : decode cX5_hearingLine 77 = .ok (.getfield 17, 3) := dk_180 0 17 (dk_at dksX5_hearingLine_3 7 rfl rfl)
theorem dX5_hearingLine_80 : decode cX5_hearingLine 80 = .ok (.iload_n 1, 1) := dk_27 (dk_at dksX5_hearingLine_3 10 rfl rfl)
theorem dX5_hearingLine_81 : decode cX5_hearingLine 81 = .ok (.iload_n 2, 1) := dk_28 (dk_at dksX5_hearingLine_3 11 rfl rfl)
theorem dX5_hearingLine_82 : decode cX5_hearingLine 82 = .ok (.bipush 6, 2) := dk_16 6 (dk_at dksX5_hearingLine_3 12 rfl rfl)
theorem dX5_hearingLine_84 : decode cX5_hearingLine 84 = .ok (.if_icmp .ge 7, 3) := dk_162 0 7 (dk_at dksX5_hearingLine_3 14 rfl rfl)
theorem dX5_hearingLine_87 : decode cX5_hearingLine 87 = .ok (.iload_n 2, 1) := dk_28 (dk_at dksX5_hearingLine_3 17 rfl rfl)
theorem dX5_hearingLine_88 : decode cX5_hearingLine 88 = .ok (.goto 5, 3) := dk_167 0 5 (dk_at dksX5_hearingLine_3 18 rfl rfl)
theorem dX5_hearingLine_91 : decode cX5_hearingLine 91 = .ok (.bipush 6, 2) := dk_16 6 (dk_at dksX5_hearingLine_3 21 rfl rfl)
theorem dX5_hearingLine_93 : decode cX5_hearingLine 93 = .ok (.iastore, 1) := dk_79 (dk_at dksX5_hearingLine_3 23 rfl rfl)
theorem dX5_hearingLine_94 : decode cX5_hearingLine 94 = .ok (.aload_n 0, 1) := dk_42 (dk_at dksX5_hearingLine_4 0 rfl rfl)
theorem dX5_hearingLine_95 : decode cX5_hearingLine 95 = .ok (.invokevirtual 177, 3) := dk_182 0 177 (dk_at dksX5_hearingLine_4 1 rfl rfl)
theorem dX5_hearingLine_98 : decode cX5_hearingLine 98 = .ok (.return_, 1) := dk_177 (dk_at dksX5_hearingLine_4 4 rfl rfl)
abbrev cX5_isMove : ByteArray := prog_24_method_20_code
def yX5_isMove : MethodName := ⟨RX5, "isMove", "()Z"⟩
def dkwX5_isMove_1 : List UInt8 := [184, 0, 145, 153, 0, 7, 4, 167, 0, 4, 3, 172]
abbrev dktX5_isMove_1 : List UInt8 := dkwX5_isMove_1 ++ []
def dkwX5_isMove_0 : List UInt8 := [42, 180, 0, 138, 154, 0, 29, 42, 180, 0, 115, 6, 160, 0, 21, 42, 180, 0, 129, 16, 14, 16, 18]
abbrev dktX5_isMove_0 : List UInt8 := dkwX5_isMove_0 ++ dktX5_isMove_1
theorem dksX5_isMove_0 : cX5_isMove.data.toList.drop 0 = dktX5_isMove_0 := by decide +kernel
theorem dksX5_isMove_1 : cX5_isMove.data.toList.drop 23 = dktX5_isMove_1 := dk_seg dksX5_isMove_0 23 rfl rfl
theorem dX5_isMove_0 : decode cX5_isMove 0 = .ok (.aload_n 0, 1) := dk_42 (dk_at dksX5_isMove_0 0 rfl rfl)
theorem dX5_isMove_1 : decode cX5_isMove 1 = .ok (.getfield 138, 3) := dk_180 0 138 (dk_at dksX5_isMove_0 1 rfl rfl)
theorem dX5_isMove_4 : decode cX5_isMove 4 = .ok (.ifCond .ne 29, 3) := dk_154 0 29 (dk_at dksX5_isMove_0 4 rfl rfl)
theorem dX5_isMove_7 : decode cX5_isMove 7 = .ok (.aload_n 0, 1) := dk_42 (dk_at dksX5_isMove_0 7 rfl rfl)
theorem dX5_isMove_8 : decode cX5_isMove 8 = .ok (.getfield 115, 3) := dk_180 0 115 (dk_at dksX5_isMove_0 8 rfl rfl)
theorem dX5_isMove_11 : decode cX5_isMove 11 = .ok (.iconst 3, 1) := dk_6 (dk_at dksX5_isMove_0 11 rfl rfl)
theorem dX5_isMove_12 : decode cX5_isMove 12 = .ok (.if_icmp .ne 21, 3) := dk_160 0 21 (dk_at dksX5_isMove_0 12 rfl rfl)
theorem dX5_isMove_15 : decode cX5_isMove 15 = .ok (.aload_n 0, 1) := dk_42 (dk_at dksX5_isMove_0 15 rfl rfl)
theorem dX5_isMove_16 : decode cX5_isMove 16 = .ok (.getfield 129, 3) := dk_180 0 129 (dk_at dksX5_isMove_0 16 rfl rfl)
theorem dX5_isMove_19 : decode cX5_isMove 19 = .ok (.bipush 14, 2) := dk_16 14 (dk_at dksX5_isMove_0 19 rfl rfl)
theorem dX5_isMove_21 : decode cX5_isMove 21 = .ok (.bipush 18, 2) := dk_16 18 (dk_at dksX5_isMove_0 21 rfl rfl)
theorem dX5_isMove_23 : decode cX5_isMove 23 = .ok (.invokestatic 145, 3) := dk_184 0 145 (dk_at dksX5_isMove_1 0 rfl rfl)
theorem dX5_isMove_26 : decode cX5_isMove 26 = .ok (.ifCond .eq 7, 3) := dk_153 0 7 (dk_at dksX5_isMove_1 3 rfl rfl)
theorem dX5_isMove_29 : decode cX5_isMove 29 = .ok (.iconst 1, 1) := dk_4 (dk_at dksX5_isMove_1 6 rfl rfl)
theorem dX5_isMove_30 : decode cX5_isMove 30 = .ok (.goto 4, 3) := dk_167 0 4 (dk_at dksX5_isMove_1 7 rfl rfl)
theorem dX5_isMove_33 : decode cX5_isMove 33 = .ok (.iconst 0, 1) := dk_3 (dk_at dksX5_isMove_1 10 rfl rfl)
theorem dX5_isMove_34 : decode cX5_isMove 34 = .ok (.ireturn, 1) := dk_172 (dk_at dksX5_isMove_1 11 rfl rfl)
abbrev cX5_villageLine : ByteArray := prog_24_method_26_code
def yX5_villageLine : MethodName := ⟨RX5, "villageLine", "()V"⟩
def dkwX5_villageLine_10 : List UInt8 := [180, 0, 17, 3, 92, 46, 4, 96, 79, 42, 182, 0, 177, 177]
abbrev dktX5_villageLine_10 : List UInt8 := dkwX5_villageLine_10 ++ []
def dkwX5_villageLine_9 : List UInt8 := [180, 0, 17, 21, 7, 5, 96, 21, 5, 79, 42, 180, 0, 17, 21, 7, 6, 96, 21, 6, 79, 42]
abbrev dktX5_villageLine_9 : List UInt8 := dkwX5_villageLine_9 ++ dktX5_villageLine_10
def dkwX5_villageLine_8 : List UInt8 := [54, 7, 42, 180, 0, 17, 21, 7, 21, 4, 79, 42, 180, 0, 17, 21, 7, 4, 96, 28, 79, 42]
abbrev dktX5_villageLine_8 : List UInt8 := dkwX5_villageLine_8 ++ dktX5_villageLine_9
def dkwX5_villageLine_7 : List UInt8 := [182, 0, 149, 42, 182, 0, 171, 54, 6, 29, 153, 0, 66, 4, 7, 42, 180, 0, 17, 3, 46, 104, 96]
abbrev dktX5_villageLine_7 : List UInt8 := dkwX5_villageLine_7 ++ dktX5_villageLine_8
def dkwX5_villageLine_6 : List UInt8 := [182, 0, 167, 153, 0, 24, 42, 180, 0, 129, 16, 10, 100, 21, 5, 160, 0, 12, 42, 7, 42, 180, 0, 112]
abbrev dktX5_villageLine_6 : List UInt8 := dkwX5_villageLine_6 ++ dktX5_villageLine_7
def dkwX5_villageLine_5 : List UInt8 := [54, 5, 28, 4, 159, 0, 8, 28, 5, 160, 0, 9, 42, 182, 0, 171, 54, 5, 28, 4, 160, 0, 37, 42]
abbrev dktX5_villageLine_5 : List UInt8 := dkwX5_villageLine_5 ++ dktX5_villageLine_6
def dkwX5_villageLine_4 : List UInt8 := [16, 8, 182, 0, 160, 54, 4, 2, 54, 5, 2, 54, 6, 28, 154, 0, 12, 42, 4, 16, 9, 182, 0, 160]
abbrev dktX5_villageLine_4 : List UInt8 := dkwX5_villageLine_4 ++ dktX5_villageLine_5
def dkwX5_villageLine_3 : List UInt8 := [180, 0, 17, 3, 46, 16, 7, 184, 0, 145, 153, 0, 12, 42, 5, 42, 180, 0, 112, 182, 0, 149, 42, 3]
abbrev dktX5_villageLine_3 : List UInt8 := dkwX5_villageLine_3 ++ dktX5_villageLine_4
def dkwX5_villageLine_2 : List UInt8 := [27, 182, 0, 149, 42, 180, 0, 138, 154, 0, 38, 42, 180, 0, 115, 4, 160, 0, 30, 42, 180, 0, 135, 42]
abbrev dktX5_villageLine_2 : List UInt8 := dkwX5_villageLine_2 ++ dktX5_villageLine_3
def dkwX5_villageLine_1 : List UInt8 := [16, 8, 162, 0, 7, 4, 167, 0, 4, 3, 62, 42, 180, 0, 138, 154, 0, 13, 29, 154, 0, 9, 42, 6]
abbrev dktX5_villageLine_1 : List UInt8 := dkwX5_villageLine_1 ++ dktX5_villageLine_2
def dkwX5_villageLine_0 : List UInt8 := [42, 180, 0, 112, 60, 42, 16, 21, 16, 24, 182, 0, 156, 16, 21, 100, 61, 42, 180, 0, 17, 3, 46]
abbrev dktX5_villageLine_0 : List UInt8 := dkwX5_villageLine_0 ++ dktX5_villageLine_1
theorem dksX5_villageLine_0 : cX5_villageLine.data.toList.drop 0 = dktX5_villageLine_0 := by decide +kernel
theorem dksX5_villageLine_1 : cX5_villageLine.data.toList.drop 23 = dktX5_villageLine_1 := dk_seg dksX5_villageLine_0 23 rfl rfl
theorem dksX5_villageLine_2 : cX5_villageLine.data.toList.drop 47 = dktX5_villageLine_2 := dk_seg dksX5_villageLine_1 24 rfl rfl
theorem dksX5_villageLine_3 : cX5_villageLine.data.toList.drop 71 = dktX5_villageLine_3 := dk_seg dksX5_villageLine_2 24 rfl rfl
theorem dksX5_villageLine_4 : cX5_villageLine.data.toList.drop 95 = dktX5_villageLine_4 := dk_seg dksX5_villageLine_3 24 rfl rfl
theorem dksX5_villageLine_5 : cX5_villageLine.data.toList.drop 119 = dktX5_villageLine_5 := dk_seg dksX5_villageLine_4 24 rfl rfl
theorem dksX5_villageLine_6 : cX5_villageLine.data.toList.drop 143 = dktX5_villageLine_6 := dk_seg dksX5_villageLine_5 24 rfl rfl
theorem dksX5_villageLine_7 : cX5_villageLine.data.toList.drop 167 = dktX5_villageLine_7 := dk_seg dksX5_villageLine_6 24 rfl rfl
theorem dksX5_villageLine_8 : cX5_villageLine.data.toList.drop 190 = dktX5_villageLine_8 := dk_seg dksX5_villageLine_7 23 rfl rfl
theorem dksX5_villageLine_9 : cX5_villageLine.data.toList.drop 212 = dktX5_villageLine_9 := dk_seg dksX5_villageLine_8 22 rfl rfl
theorem dksX5_villageLine_10 : cX5_villageLine.data.toList.drop 234 = dktX5_villageLine_10 := dk_seg dksX5_villageLine_9 22 rfl rfl
theorem dX5_villageLine_0 : decode cX5_villageLine 0 = .ok (.aload_n 0, 1) := dk_42 (dk_at dksX5_villageLine_0 0 rfl rfl)
theorem dX5_villageLine_1 : decode cX5_villageLine 1 = .ok (.getfield 112, 3) := dk_180 0 112 (dk_at dksX5_villageLine_0 1 rfl rfl)
theorem dX5_villageLine_4 : decode cX5_villageLine 4 = .ok (.istore_n 1, 1) := dk_60 (dk_at dksX5_villageLine_0 4 rfl rfl)
theorem dX5_villageLine_5 : decode cX5_villageLine 5 = .ok (.aload_n 0, 1) := dk_42 (dk_at dksX5_villageLine_0 5 rfl rfl)
theorem dX5_villageLine_6 : decode cX5_villageLine 6 = .ok (.bipush 21, 2) := dk_16 21 (dk_at dksX5_villageLine_0 6 rfl rfl)
theorem dX5_villageLine_8 : decode cX5_villageLine 8 = .ok (.bipush 24, 2) := dk_16 24 (dk_at dksX5_villageLine_0 8 rfl rfl)
theorem dX5_villageLine_10 : decode cX5_villageLine 10 = .ok (.invokevirtual 156, 3) := dk_182 0 156 (dk_at dksX5_villageLine_0 10 rfl rfl)
theorem dX5_villageLine_13 : decode cX5_villageLine 13 = .ok (.bipush 21, 2) := dk_16 21 (dk_at dksX5_villageLine_0 13 rfl rfl)
theorem dX5_villageLine_15 : decode cX5_villageLine 15 = .ok (.isub, 1) := dk_100 (dk_at dksX5_villageLine_0 15 rfl rfl)
theorem dX5_villageLine_16 : decode cX5_villageLine 16 = .ok (.istore_n 2, 1) := dk_61 (dk_at dksX5_villageLine_0 16 rfl rfl)
theorem dX5_villageLine_17 : decode cX5_villageLine 17 = .ok (.aload_n 0, 1) := dk_42 (dk_at dksX5_villageLine_0 17 rfl rfl)
theorem dX5_villageLine_18 : decode cX5_villageLine 18 = .ok (.getfield 17, 3) := dk_180 0 17 (dk_at dksX5_villageLine_0 18 rfl rfl)
theorem dX5_villageLine_21 : decode cX5_villageLine 21 = .ok (.iconst 0, 1) := dk_3 (dk_at dksX5_villageLine_0 21 rfl rfl)
theorem dX5_villageLine_22 : decode cX5_villageLine 22 = .ok (.iaload, 1) := dk_46 (dk_at dksX5_villageLine_0 22 rfl rfl)
theorem dX5_villageLine_23 : decode cX5_villageLine 23 = .ok (.bipush 8, 2) := dk_16 8 (dk_at dksX5_villageLine_1 0 rfl rfl)
theorem dX5_villageLine_25 : decode cX5_villageLine 25 = .ok (.if_icmp .ge 7, 3) := dk_162 0 7 (dk_at dksX5_villageLine_1 2 rfl rfl)
theorem dX5_villageLine_28 : decode cX5_villageLine 28 = .ok (.iconst 1, 1) := dk_4 (dk_at dksX5_villageLine_1 5 rfl rfl)
theorem dX5_villageLine_29 : decode cX5_villageLine 29 = .ok (.goto 4, 3) := dk_167 0 4 (dk_at dksX5_villageLine_1 6 rfl rfl)
theorem dX5_villageLine_32 : decode cX5_villageLine 32 = .ok (.iconst 0, 1) := dk_3 (dk_at dksX5_villageLine_1 9 rfl rfl)
theorem dX5_villageLine_33 : decode cX5_villageLine 33 = .ok (.istore_n 3, 1) := dk_62 (dk_at dksX5_villageLine_1 10 rfl rfl)
theorem dX5_villageLine_34 : decode cX5_villageLine 34 = .ok (.aload_n 0, 1) := dk_42 (dk_at dksX5_villageLine_1 11 rfl rfl)
theorem dX5_villageLine_35 : decode cX5_villageLine 35 = .ok (.getfield 138, 3) := dk_180 0 138 (dk_at dksX5_villageLine_1 12 rfl rfl)
theorem dX5_villageLine_38 : decode cX5_villageLine 38 = .ok (.ifCond .ne 13, 3) := dk_154 0 13 (dk_at dksX5_villageLine_1 15 rfl rfl)
theorem dX5_villageLine_41 : decode cX5_villageLine 41 = .ok (.iload_n 3, 1) := dk_29 (dk_at dksX5_villageLine_1 18 rfl rfl)
theorem dX5_villageLine_42 : decode cX5_villageLine 42 = .ok (.ifCond .ne 9, 3) := dk_154 0 9 (dk_at dksX5_villageLine_1 19 rfl rfl)
theorem dX5_villageLine_45 : decode cX5_villageLine 45 = .ok (.aload_n 0, 1) := dk_42 (dk_at dksX5_villageLine_1 22 rfl rfl)
theorem dX5_villageLine_46 : decode cX5_villageLine 46 = .ok (.iconst 3, 1) := dk_6 (dk_at dksX5_villageLine_1 23 rfl rfl)
theorem dX5_villageLine_47 : decode cX5_villageLine 47 = .ok (.iload_n 1, 1) := dk_27 (dk_at dksX5_villageLine_2 0 rfl rfl)
theorem dX5_villageLine_48 : decode cX5_villageLine 48 = .ok (.invokevirtual 149, 3) := dk_182 0 149 (dk_at dksX5_villageLine_2 1 rfl rfl)
theorem dX5_villageLine_51 : decode cX5_villageLine 51 = .ok (.aload_n 0, 1) := dk_42 (dk_at dksX5_villageLine_2 4 rfl rfl)
theorem dX5_villageLine_52 : decode cX5_villageLine 52 = .ok (.getfield 138, 3) := dk_180 0 138 (dk_at dksX5_villageLine_2 5 rfl rfl)
theorem dX5_villageLine_55 : decode cX5_villageLine 55 = .ok (.ifCond .ne 38, 3) := dk_154 0 38 (dk_at dksX5_villageLine_2 8 rfl rfl)
theorem dX5_villageLine_58 : decode cX5_villageLine 58 = .ok (.aload_n 0, 1) := dk_42 (dk_at dksX5_villageLine_2 11 rfl rfl)
theorem dX5_villageLine_59 : decode cX5_villageLine 59 = .ok (.getfield 115, 3) := dk_180 0 115 (dk_at dksX5_villageLine_2 12 rfl rfl)
theorem dX5_villageLine_62 : decode cX5_villageLine 62 = .ok (.iconst 1, 1) := dk_4 (dk_at dksX5_villageLine_2 15 rfl rfl)
theorem dX5_villageLine_63 : decode cX5_villageLine 63 = .ok (.if_icmp .ne 30, 3) := dk_160 0 30 (dk_at dksX5_villageLine_2 16 rfl rfl)
theorem dX5_villageLine_66 : decode cX5_villageLine 66 = .ok (.aload_n 0, 1) := dk_42 (dk_at dksX5_villageLine_2 19 rfl rfl)
theorem dX5_villageLine_67 : decode cX5_villageLine 67 = .ok (.getfield 135, 3) := dk_180 0 135 (dk_at dksX5_villageLine_2 20 rfl rfl)
theorem dX5_villageLine_70 : decode cX5_villageLine 70 = .ok (.aload_n 0, 1) := dk_42 (dk_at dksX5_villageLine_2 23 rfl rfl)
theorem dX5_villageLine_71 : decode cX5_villageLine 71 = .ok (.getfield 17, 3) := dk_180 0 17 (dk_at dksX5_villageLine_3 0 rfl rfl)
theorem dX5_villageLine_74 : decode cX5_villageLine 74 = .ok (.iconst 0, 1) := dk_3 (dk_at dksX5_villageLine_3 3 rfl rfl)
theorem dX5_villageLine_75 : decode cX5_villageLine 75 = .ok (.iaload, 1) := dk_46 (dk_at dksX5_villageLine_3 4 rfl rfl)
theorem dX5_villageLine_76 : decode cX5_villageLine 76 = .ok (.bipush 7, 2) := dk_16 7 (dk_at dksX5_villageLine_3 5 rfl rfl)
theorem dX5_villageLine_78 : decode cX5_villageLine 78 = .ok (.invokestatic 145, 3) := dk_184 0 145 (dk_at dksX5_villageLine_3 7 rfl rfl)
theorem dX5_villageLine_81 : decode cX5_villageLine 81 = .ok (.ifCond .eq 12, 3) := dk_153 0 12 (dk_at dksX5_villageLine_3 10 rfl rfl)
theorem dX5_villageLine_84 : decode cX5_villageLine 84 = .ok (.aload_n 0, 1) := dk_42 (dk_at dksX5_villageLine_3 13 rfl rfl)
theorem dX5_villageLine_85 : decode cX5_villageLine 85 = .ok (.iconst 2, 1) := dk_5 (dk_at dksX5_villageLine_3 14 rfl rfl)
theorem dX5_villageLine_86 : decode cX5_villageLine 86 = .ok (.aload_n 0, 1) := dk_42 (dk_at dksX5_villageLine_3 15 rfl rfl)
theorem dX5_villageLine_87 : decode cX5_villageLine 87 = .ok (.getfield 112, 3) := dk_180 0 112 (dk_at dksX5_villageLine_3 16 rfl rfl)
theorem dX5_villageLine_90 : decode cX5_villageLine 90 = .ok (.invokevirtual 149, 3) := dk_182 0 149 (dk_at dksX5_villageLine_3 19 rfl rfl)
theorem dX5_villageLine_93 : decode cX5_villageLine 93 = .ok (.aload_n 0, 1) := dk_42 (dk_at dksX5_villageLine_3 22 rfl rfl)
theorem dX5_villageLine_94 : decode cX5_villageLine 94 = .ok (.iconst 0, 1) := dk_3 (dk_at dksX5_villageLine_3 23 rfl rfl)
theorem dX5_villageLine_95 : decode cX5_villageLine 95 = .ok (.bipush 8, 2) := dk_16 8 (dk_at dksX5_villageLine_4 0 rfl rfl)
theorem dX5_villageLine_97 : decode cX5_villageLine 97 = .ok (.invokevirtual 160, 3) := dk_182 0 160 (dk_at dksX5_villageLine_4 2 rfl rfl)
theorem dX5_villageLine_100 : decode cX5_villageLine 100 = .ok (.istore 4, 2) := dk_54 4 (dk_at dksX5_villageLine_4 5 rfl rfl)
theorem dX5_villageLine_102 : decode cX5_villageLine 102 = .ok (.iconst (-1), 1) := dk_2 (dk_at dksX5_villageLine_4 7 rfl rfl)
theorem dX5_villageLine_103 : decode cX5_villageLine 103 = .ok (.istore 5, 2) := dk_54 5 (dk_at dksX5_villageLine_4 8 rfl rfl)
theorem dX5_villageLine_105 : decode cX5_villageLine 105 = .ok (.iconst (-1), 1) := dk_2 (dk_at dksX5_villageLine_4 10 rfl rfl)
theorem dX5_villageLine_106 : decode cX5_villageLine 106 = .ok (.istore 6, 2) := dk_54 6 (dk_at dksX5_villageLine_4 11 rfl rfl)
theorem dX5_villageLine_108 : decode cX5_villageLine 108 = .ok (.iload_n 2, 1) := dk_28 (dk_at dksX5_villageLine_4 13 rfl rfl)
theorem dX5_villageLine_109 : decode cX5_villageLine 109 = .ok (.ifCond .ne 12, 3) := dk_154 0 12 (dk_at dksX5_villageLine_4 14 rfl rfl)
theorem dX5_villageLine_112 : decode cX5_villageLine 112 = .ok (.aload_n 0, 1) := dk_42 (dk_at dksX5_villageLine_4 17 rfl rfl)
theorem dX5_villageLine_113 : decode cX5_villageLine 113 = .ok (.iconst 1, 1) := dk_4 (dk_at dksX5_villageLine_4 18 rfl rfl)
theorem dX5_villageLine_114 : decode cX5_villageLine 114 = .ok (.bipush 9, 2) := dk_16 9 (dk_at dksX5_villageLine_4 19 rfl rfl)
theorem dX5_villageLine_116 : decode cX5_villageLine 116 = .ok (.invokevirtual 160, 3) := dk_182 0 160 (dk_at dksX5_villageLine_4 21 rfl rfl)
theorem dX5_villageLine_119 : decode cX5_villageLine 119 = .ok (.istore 5, 2) := dk_54 5 (dk_at dksX5_villageLine_5 0 rfl rfl)
theorem dX5_villageLine_121 : decode cX5_villageLine 121 = .ok (.iload_n 2, 1) := dk_28 (dk_at dksX5_villageLine_5 2 rfl rfl)
theorem dX5_villageLine_122 : decode cX5_villageLine 122 = .ok (.iconst 1, 1) := dk_4 (dk_at dksX5_villageLine_5 3 rfl rfl)
theorem dX5_villageLine_123 : decode cX5_villageLine 123 = .ok (.if_icmp .eq 8, 3) := dk_159 0 8 (dk_at dksX5_villageLine_5 4 rfl rfl)
theorem dX5_villageLine_126 : decode cX5_villageLine 126 = .ok (.iload_n 2, 1) := dk_28 (dk_at dksX5_villageLine_5 7 rfl rfl)
theorem dX5_villageLine_127 : decode cX5_villageLine 127 = .ok (.iconst 2, 1) := dk_5 (dk_at dksX5_villageLine_5 8 rfl rfl)
theorem dX5_villageLine_128 : decode cX5_villageLine 128 = .ok (.if_icmp .ne 9, 3) := dk_160 0 9 (dk_at dksX5_villageLine_5 9 rfl rfl)
theorem dX5_villageLine_131 : decode cX5_villageLine 131 = .ok (.aload_n 0, 1) := dk_42 (dk_at dksX5_villageLine_5 12 rfl rfl)
theorem dX5_villageLine_132 : decode cX5_villageLine 132 = .ok (.invokevirtual 171, 3) := dk_182 0 171 (dk_at dksX5_villageLine_5 13 rfl rfl)
theorem dX5_villageLine_135 : decode cX5_villageLine 135 = .ok (.istore 5, 2) := dk_54 5 (dk_at dksX5_villageLine_5 16 rfl rfl)
theorem dX5_villageLine_137 : decode cX5_villageLine 137 = .ok (.iload_n 2, 1) := dk_28 (dk_at dksX5_villageLine_5 18 rfl rfl)
theorem dX5_villageLine_138 : decode cX5_villageLine 138 = .ok (.iconst 1, 1) := dk_4 (dk_at dksX5_villageLine_5 19 rfl rfl)
theorem dX5_villageLine_139 : decode cX5_villageLine 139 = .ok (.if_icmp .ne 37, 3) := dk_160 0 37 (dk_at dksX5_villageLine_5 20 rfl rfl)
theorem dX5_villageLine_142 : decode cX5_villageLine 142 = .ok (.aload_n 0, 1) := dk_42 (dk_at dksX5_villageLine_5 23 rfl rfl)
theorem dX5_villageLine_143 : decode cX5_villageLine 143 = .ok (.invokevirtual 167, 3) := dk_182 0 167 (dk_at dksX5_villageLine_6 0 rfl rfl)
theorem dX5_villageLine_146 : decode cX5_villageLine 146 = .ok (.ifCond .eq 24, 3) := dk_153 0 24 (dk_at dksX5_villageLine_6 3 rfl rfl)
theorem dX5_villageLine_149 : decode cX5_villageLine 149 = .ok (.aload_n 0, 1) := dk_42 (dk_at dksX5_villageLine_6 6 rfl rfl)
theorem dX5_villageLine_150 : decode cX5_villageLine 150 = .ok (.getfield 129, 3) := dk_180 0 129 (dk_at dksX5_villageLine_6 7 rfl rfl)
theorem dX5_villageLine_153 : decode cX5_villageLine 153 = .ok (.bipush 10, 2) := dk_16 10 (dk_at dksX5_villageLine_6 10 rfl rfl)
theorem dX5_villageLine_155 : decode cX5_villageLine 155 = .ok (.isub, 1) := dk_100 (dk_at dksX5_villageLine_6 12 rfl rfl)
theorem dX5_villageLine_156 : decode cX5_villageLine 156 = .ok (.iload 5, 2) := dk_21 5 (dk_at dksX5_villageLine_6 13 rfl rfl)
theorem dX5_villageLine_158 : decode cX5_villageLine 158 = .ok (.if_icmp .ne 12, 3) := dk_160 0 12 (dk_at dksX5_villageLine_6 15 rfl rfl)
theorem dX5_villageLine_161 : decode cX5_villageLine 161 = .ok (.aload_n 0, 1) := dk_42 (dk_at dksX5_villageLine_6 18 rfl rfl)
theorem dX5_villageLine_162 : decode cX5_villageLine 162 = .ok (.iconst 4, 1) := dk_7 (dk_at dksX5_villageLine_6 19 rfl rfl)
theorem dX5_villageLine_163 : decode cX5_villageLine 163 = .ok (.aload_n 0, 1) := dk_42 (dk_at dksX5_villageLine_6 20 rfl rfl)
theorem dX5_villageLine_164 : decode cX5_villageLine 164 = .ok (.getfield 112, 3) := dk_180 0 112 (dk_at dksX5_villageLine_6 21 rfl rfl)
theorem dX5_villageLine_167 : decode cX5_villageLine 167 = .ok (.invokevirtual 149, 3) := dk_182 0 149 (dk_at dksX5_villageLine_7 0 rfl rfl)
theorem dX5_villageLine_170 : decode cX5_villageLine 170 = .ok (.aload_n 0, 1) := dk_42 (dk_at dksX5_villageLine_7 3 rfl rfl)
theorem dX5_villageLine_171 : decode cX5_villageLine 171 = .ok (.invokevirtual 171, 3) := dk_182 0 171 (dk_at dksX5_villageLine_7 4 rfl rfl)
theorem dX5_villageLine_174 : decode cX5_villageLine 174 = .ok (.istore 6, 2) := dk_54 6 (dk_at dksX5_villageLine_7 7 rfl rfl)
theorem dX5_villageLine_176 : decode cX5_villageLine 176 = .ok (.iload_n 3, 1) := dk_29 (dk_at dksX5_villageLine_7 9 rfl rfl)
theorem dX5_villageLine_177 : decode cX5_villageLine 177 = .ok (.ifCond .eq 66, 3) := dk_153 0 66 (dk_at dksX5_villageLine_7 10 rfl rfl)
theorem dX5_villageLine_180 : decode cX5_villageLine 180 = .ok (.iconst 1, 1) := dk_4 (dk_at dksX5_villageLine_7 13 rfl rfl)
theorem dX5_villageLine_181 : decode cX5_villageLine 181 = .ok (.iconst 4, 1) := dk_7 (dk_at dksX5_villageLine_7 14 rfl rfl)
theorem dX5_villageLine_182 : decode cX5_villageLine 182 = .ok (.aload_n 0, 1) := dk_42 (dk_at dksX5_villageLine_7 15 rfl rfl)
theorem dX5_villageLine_183 : decode cX5_villageLine 183 = .ok (.getfield 17, 3) := dk_180 0 17 (dk_at dksX5_villageLine_7 16 rfl rfl)
theorem dX5_villageLine_186 : decode cX5_villageLine 186 = .ok (.iconst 0, 1) := dk_3 (dk_at dksX5_villageLine_7 19 rfl rfl)
theorem dX5_villageLine_187 : decode cX5_villageLine 187 = .ok (.iaload, 1) := dk_46 (dk_at dksX5_villageLine_7 20 rfl rfl)
theorem dX5_villageLine_188 : decode cX5_villageLine 188 = .ok (.imul, 1) := dk_104 (dk_at dksX5_villageLine_7 21 rfl rfl)
theorem dX5_villageLine_189 : decode cX5_villageLine 189 = .ok (.iadd, 1) := dk_96 (dk_at dksX5_villageLine_7 22 rfl rfl)
theorem dX5_villageLine_190 : decode cX5_villageLine 190 = .ok (.istore 7, 2) := dk_54 7 (dk_at dksX5_villageLine_8 0 rfl rfl)
theorem dX5_villageLine_192 : decode cX5_villageLine 192 = .ok (.aload_n 0, 1) := dk_42 (dk_at dksX5_villageLine_8 2 rfl rfl)
theorem dX5_villageLine_193 : decode cX5_villageLine 193 = .ok (.getfield 17, 3) := dk_180 0 17 (dk_at dksX5_villageLine_8 3 rfl rfl)
theorem dX5_villageLine_196 : decode cX5_villageLine 196 = .ok (.iload 7, 2) := dk_21 7 (dk_at dksX5_villageLine_8 6 rfl rfl)
theorem dX5_villageLine_198 : decode cX5_villageLine 198 = .ok (.iload 4, 2) := dk_21 4 (dk_at dksX5_villageLine_8 8 rfl rfl)
theorem dX5_villageLine_200 : decode cX5_villageLine 200 = .ok (.iastore, 1) := dk_79 (dk_at dksX5_villageLine_8 10 rfl rfl)
theorem dX5_villageLine_201 : decode cX5_villageLine 201 = .ok (.aload_n 0, 1) := dk_42 (dk_at dksX5_villageLine_8 11 rfl rfl)
theorem dX5_villageLine_202 : decode cX5_villageLine 202 = .ok (.getfield 17, 3) := dk_180 0 17 (dk_at dksX5_villageLine_8 12 rfl rfl)
theorem dX5_villageLine_205 : decode cX5_villageLine 205 = .ok (.iload 7, 2) := dk_21 7 (dk_at dksX5_villageLine_8 15 rfl rfl)
theorem dX5_villageLine_207 : decode cX5_villageLine 207 = .ok (.iconst 1, 1) := dk_4 (dk_at dksX5_villageLine_8 17 rfl rfl)
theorem dX5_villageLine_208 : decode cX5_villageLine 208 = .ok (.iadd, 1) := dk_96 (dk_at dksX5_villageLine_8 18 rfl rfl)
theorem dX5_villageLine_209 : decode cX5_villageLine 209 = .ok (.iload_n 2, 1) := dk_28 (dk_at dksX5_villageLine_8 19 rfl rfl)
theorem dX5_villageLine_210 : decode cX5_villageLine 210 = .ok (.iastore, 1) := dk_79 (dk_at dksX5_villageLine_8 20 rfl rfl)
theorem dX5_villageLine_211 : decode cX5_villageLine 211 = .ok (.aload_n 0, 1) := dk_42 (dk_at dksX5_villageLine_8 21 rfl rfl)
theorem dX5_villageLine_212 : decode cX5_villageLine 212 = .ok (.getfield 17, 3) := dk_180 0 17 (dk_at dksX5_villageLine_9 0 rfl rfl)
theorem dX5_villageLine_215 : decode cX5_villageLine 215 = .ok (.iload 7, 2) := dk_21 7 (dk_at dksX5_villageLine_9 3 rfl rfl)
theorem dX5_villageLine_217 : decode cX5_villageLine 217 = .ok (.iconst 2, 1) := dk_5 (dk_at dksX5_villageLine_9 5 rfl rfl)
theorem dX5_villageLine_218 : decode cX5_villageLine 218 = .ok (.iadd, 1) := dk_96 (dk_at dksX5_villageLine_9 6 rfl rfl)
theorem dX5_villageLine_219 : decode cX5_villageLine 219 = .ok (.iload 5, 2) := dk_21 5 (dk_at dksX5_villageLine_9 7 rfl rfl)
theorem dX5_villageLine_221 : decode cX5_villageLine 221 = .ok (.iastore, 1) := dk_79 (dk_at dksX5_villageLine_9 9 rfl rfl)
theorem dX5_villageLine_222 : decode cX5_villageLine 222 = .ok (.aload_n 0, 1) := dk_42 (dk_at dksX5_villageLine_9 10 rfl rfl)
theorem dX5_villageLine_223 : decode cX5_villageLine 223 = .ok (.getfield 17, 3) := dk_180 0 17 (dk_at dksX5_villageLine_9 11 rfl rfl)
theorem dX5_villageLine_226 : decode cX5_villageLine 226 = .ok (.iload 7, 2) := dk_21 7 (dk_at dksX5_villageLine_9 14 rfl rfl)
theorem dX5_villageLine_228 : decode cX5_villageLine 228 = .ok (.iconst 3, 1) := dk_6 (dk_at dksX5_villageLine_9 16 rfl rfl)
theorem dX5_villageLine_229 : decode cX5_villageLine 229 = .ok (.iadd, 1) := dk_96 (dk_at dksX5_villageLine_9 17 rfl rfl)
theorem dX5_villageLine_230 : decode cX5_villageLine 230 = .ok (.iload 6, 2) := dk_21 6 (dk_at dksX5_villageLine_9 18 rfl rfl)
theorem dX5_villageLine_232 : decode cX5_villageLine 232 = .ok (.iastore, 1) := dk_79 (dk_at dksX5_villageLine_9 20 rfl rfl)
theorem dX5_villageLine_233 : decode cX5_villageLine 233 = .ok (.aload_n 0, 1) := dk_42 (dk_at dksX5_villageLine_9 21 rfl rfl)
theorem dX5_villageLine_234 : decode cX5_villageLine 234 = .ok (.getfield 17, 3) := dk_180 0 17 (dk_at dksX5_villageLine_10 0 rfl rfl)
theorem dX5_villageLine_237 : decode cX5_villageLine 237 = .ok (.iconst 0, 1) := dk_3 (dk_at dksX5_villageLine_10 3 rfl rfl)
theorem dX5_villageLine_238 : decode cX5_villageLine 238 = .ok (.dup2, 1) := dk_92 (dk_at dksX5_villageLine_10 4 rfl rfl)
theorem dX5_villageLine_239 : decode cX5_villageLine 239 = .ok (.iaload, 1) := dk_46 (dk_at dksX5_villageLine_10 5 rfl rfl)
theorem dX5_villageLine_240 : decode cX5_villageLine 240 = .ok (.iconst 1, 1) := dk_4 (dk_at dksX5_villageLine_10 6 rfl rfl)
theorem dX5_villageLine_241 : decode cX5_villageLine 241 = .ok (.iadd, 1) := dk_96 (dk_at dksX5_villageLine_10 7 rfl rfl)
theorem dX5_villageLine_242 : decode cX5_villageLine 242 = .ok (.iastore, 1) := dk_79 (dk_at dksX5_villageLine_10 8 rfl rfl)
theorem dX5_villageLine_243 : decode cX5_villageLine 243 = .ok (.aload_n 0, 1) := dk_42 (dk_at dksX5_villageLine_10 9 rfl rfl)
theorem dX5_villageLine_244 : decode cX5_villageLine 244 = .ok (.invokevirtual 177, 3) := dk_182 0 177 (dk_at dksX5_villageLine_10 10 rfl rfl)
theorem dX5_villageLine_247 : decode cX5_villageLine 247 = .ok (.return_, 1) := dk_177 (dk_at dksX5_villageLine_10 13 rfl rfl)
abbrev cX5_sizeOf : ByteArray := prog_24_method_28_code
def yX5_sizeOf : MethodName := ⟨RX5, "sizeOf", "(I)I"⟩
def dkwX5_sizeOf_1 : List UInt8 := [16, 14, 167, 0, 5, 16, 33, 172]
abbrev dktX5_sizeOf_1 : List UInt8 := dkwX5_sizeOf_1 ++ []
def dkwX5_sizeOf_0 : List UInt8 := [26, 154, 0, 8, 16, 89, 167, 0, 25, 26, 4, 160, 0, 8, 16, 26, 167, 0, 15, 26, 5, 160, 0, 8]
abbrev dktX5_sizeOf_0 : List UInt8 := dkwX5_sizeOf_0 ++ dktX5_sizeOf_1
theorem dksX5_sizeOf_0 : cX5_sizeOf.data.toList.drop 0 = dktX5_sizeOf_0 := by decide +kernel
theorem dksX5_sizeOf_1 : cX5_sizeOf.data.toList.drop 24 = dktX5_sizeOf_1 := dk_seg dksX5_sizeOf_0 24 rfl rfl
theorem dX5_sizeOf_0 : decode cX5_sizeOf 0 = .ok (.iload_n 0, 1) := dk_26 (dk_at dksX5_sizeOf_0 0 rfl rfl)
theorem dX5_sizeOf_1 : decode cX5_sizeOf 1 = .ok (.ifCond .ne 8, 3) := dk_154 0 8 (dk_at dksX5_sizeOf_0 1 rfl rfl)
theorem dX5_sizeOf_4 : decode cX5_sizeOf 4 = .ok (.bipush 89, 2) := dk_16 89 (dk_at dksX5_sizeOf_0 4 rfl rfl)
theorem dX5_sizeOf_6 : decode cX5_sizeOf 6 = .ok (.goto 25, 3) := dk_167 0 25 (dk_at dksX5_sizeOf_0 6 rfl rfl)
theorem dX5_sizeOf_9 : decode cX5_sizeOf 9 = .ok (.iload_n 0, 1) := dk_26 (dk_at dksX5_sizeOf_0 9 rfl rfl)
theorem dX5_sizeOf_10 : decode cX5_sizeOf 10 = .ok (.iconst 1, 1) := dk_4 (dk_at dksX5_sizeOf_0 10 rfl rfl)
theorem dX5_sizeOf_11 : decode cX5_sizeOf 11 = .ok (.if_icmp .ne 8, 3) := dk_160 0 8 (dk_at dksX5_sizeOf_0 11 rfl rfl)
theorem dX5_sizeOf_14 : decode cX5_sizeOf 14 = .ok (.bipush 26, 2) := dk_16 26 (dk_at dksX5_sizeOf_0 14 rfl rfl)
theorem dX5_sizeOf_16 : decode cX5_sizeOf 16 = .ok (.goto 15, 3) := dk_167 0 15 (dk_at dksX5_sizeOf_0 16 rfl rfl)
theorem dX5_sizeOf_19 : decode cX5_sizeOf 19 = .ok (.iload_n 0, 1) := dk_26 (dk_at dksX5_sizeOf_0 19 rfl rfl)
theorem dX5_sizeOf_20 : decode cX5_sizeOf 20 = .ok (.iconst 2, 1) := dk_5 (dk_at dksX5_sizeOf_0 20 rfl rfl)
theorem dX5_sizeOf_21 : decode cX5_sizeOf 21 = .ok (.if_icmp .ne 8, 3) := dk_160 0 8 (dk_at dksX5_sizeOf_0 21 rfl rfl)
theorem dX5_sizeOf_24 : decode cX5_sizeOf 24 = .ok (.bipush 14, 2) := dk_16 14 (dk_at dksX5_sizeOf_1 0 rfl rfl)
theorem dX5_sizeOf_26 : decode cX5_sizeOf 26 = .ok (.goto 5, 3) := dk_167 0 5 (dk_at dksX5_sizeOf_1 2 rfl rfl)
theorem dX5_sizeOf_29 : decode cX5_sizeOf 29 = .ok (.bipush 33, 2) := dk_16 33 (dk_at dksX5_sizeOf_1 5 rfl rfl)
theorem dX5_sizeOf_31 : decode cX5_sizeOf 31 = .ok (.ireturn, 1) := dk_172 (dk_at dksX5_sizeOf_1 7 rfl rfl)
abbrev cX5_placeOf : ByteArray := prog_24_method_27_code
def yX5_placeOf : MethodName := ⟨RX5, "placeOf", "(II)I"⟩
def dkwX5_placeOf_2 : List UInt8 := [17, 3, 100, 16, 33, 27, 104, 96, 172]
abbrev dktX5_placeOf_2 : List UInt8 := dkwX5_placeOf_2 ++ []
def dkwX5_placeOf_1 : List UInt8 := [16, 26, 27, 104, 96, 167, 0, 27, 26, 5, 160, 0, 14, 17, 3, 72, 16, 14, 27, 104, 96, 167, 0, 11]
abbrev dktX5_placeOf_1 : List UInt8 := dkwX5_placeOf_1 ++ dktX5_placeOf_2
def dkwX5_placeOf_0 : List UInt8 := [26, 154, 0, 14, 17, 2, 98, 16, 89, 27, 104, 96, 167, 0, 43, 26, 4, 160, 0, 14, 17, 3, 20]
abbrev dktX5_placeOf_0 : List UInt8 := dkwX5_placeOf_0 ++ dktX5_placeOf_1
theorem dksX5_placeOf_0 : cX5_placeOf.data.toList.drop 0 = dktX5_placeOf_0 := by decide +kernel
theorem dksX5_placeOf_1 : cX5_placeOf.data.toList.drop 23 = dktX5_placeOf_1 := dk_seg dksX5_placeOf_0 23 rfl rfl
theorem dksX5_placeOf_2 : cX5_placeOf.data.toList.drop 47 = dktX5_placeOf_2 := dk_seg dksX5_placeOf_1 24 rfl rfl
theorem dX5_placeOf_0 : decode cX5_placeOf 0 = .ok (.iload_n 0, 1) := dk_26 (dk_at dksX5_placeOf_0 0 rfl rfl)
theorem dX5_placeOf_1 : decode cX5_placeOf 1 = .ok (.ifCond .ne 14, 3) := dk_154 0 14 (dk_at dksX5_placeOf_0 1 rfl rfl)
theorem dX5_placeOf_4 : decode cX5_placeOf 4 = .ok (.sipush 610, 3) := dk_17 2 98 (dk_at dksX5_placeOf_0 4 rfl rfl)
theorem dX5_placeOf_7 : decode cX5_placeOf 7 = .ok (.bipush 89, 2) := dk_16 89 (dk_at dksX5_placeOf_0 7 rfl rfl)
theorem dX5_placeOf_9 : decode cX5_placeOf 9 = .ok (.iload_n 1, 1) := dk_27 (dk_at dksX5_placeOf_0 9 rfl rfl)
theorem dX5_placeOf_10 : decode cX5_placeOf 10 = .ok (.imul, 1) := dk_104 (dk_at dksX5_placeOf_0 10 rfl rfl)
theorem dX5_placeOf_11 : decode cX5_placeOf 11 = .ok (.iadd, 1) := dk_96 (dk_at dksX5_placeOf_0 11 rfl rfl)
theorem dX5_placeOf_12 : decode cX5_placeOf 12 = .ok (.goto 43, 3) := dk_167 0 43 (dk_at dksX5_placeOf_0 12 rfl rfl)
theorem dX5_placeOf_15 : decode cX5_placeOf 15 = .ok (.iload_n 0, 1) := dk_26 (dk_at dksX5_placeOf_0 15 rfl rfl)
theorem dX5_placeOf_16 : decode cX5_placeOf 16 = .ok (.iconst 1, 1) := dk_4 (dk_at dksX5_placeOf_0 16 rfl rfl)
theorem dX5_placeOf_17 : decode cX5_placeOf 17 = .ok (.if_icmp .ne 14, 3) := dk_160 0 14 (dk_at dksX5_placeOf_0 17 rfl rfl)
theorem dX5_placeOf_20 : decode cX5_placeOf 20 = .ok (.sipush 788, 3) := dk_17 3 20 (dk_at dksX5_placeOf_0 20 rfl rfl)
theorem dX5_placeOf_23 : decode cX5_placeOf 23 = .ok (.bipush 26, 2) := dk_16 26 (dk_at dksX5_placeOf_1 0 rfl rfl)
theorem dX5_placeOf_25 : decode cX5_placeOf 25 = .ok (.iload_n 1, 1) := dk_27 (dk_at dksX5_placeOf_1 2 rfl rfl)
theorem dX5_placeOf_26 : decode cX5_placeOf 26 = .ok (.imul, 1) := dk_104 (dk_at dksX5_placeOf_1 3 rfl rfl)
theorem dX5_placeOf_27 : decode cX5_placeOf 27 = .ok (.iadd, 1) := dk_96 (dk_at dksX5_placeOf_1 4 rfl rfl)
theorem dX5_placeOf_28 : decode cX5_placeOf 28 = .ok (.goto 27, 3) := dk_167 0 27 (dk_at dksX5_placeOf_1 5 rfl rfl)
theorem dX5_placeOf_31 : decode cX5_placeOf 31 = .ok (.iload_n 0, 1) := dk_26 (dk_at dksX5_placeOf_1 8 rfl rfl)
theorem dX5_placeOf_32 : decode cX5_placeOf 32 = .ok (.iconst 2, 1) := dk_5 (dk_at dksX5_placeOf_1 9 rfl rfl)
theorem dX5_placeOf_33 : decode cX5_placeOf 33 = .ok (.if_icmp .ne 14, 3) := dk_160 0 14 (dk_at dksX5_placeOf_1 10 rfl rfl)
theorem dX5_placeOf_36 : decode cX5_placeOf 36 = .ok (.sipush 840, 3) := dk_17 3 72 (dk_at dksX5_placeOf_1 13 rfl rfl)
theorem dX5_placeOf_39 : decode cX5_placeOf 39 = .ok (.bipush 14, 2) := dk_16 14 (dk_at dksX5_placeOf_1 16 rfl rfl)
theorem dX5_placeOf_41 : decode cX5_placeOf 41 = .ok (.iload_n 1, 1) := dk_27 (dk_at dksX5_placeOf_1 18 rfl rfl)
theorem dX5_placeOf_42 : decode cX5_placeOf 42 = .ok (.imul, 1) := dk_104 (dk_at dksX5_placeOf_1 19 rfl rfl)
theorem dX5_placeOf_43 : decode cX5_placeOf 43 = .ok (.iadd, 1) := dk_96 (dk_at dksX5_placeOf_1 20 rfl rfl)
theorem dX5_placeOf_44 : decode cX5_placeOf 44 = .ok (.goto 11, 3) := dk_167 0 11 (dk_at dksX5_placeOf_1 21 rfl rfl)
theorem dX5_placeOf_47 : decode cX5_placeOf 47 = .ok (.sipush 868, 3) := dk_17 3 100 (dk_at dksX5_placeOf_2 0 rfl rfl)
theorem dX5_placeOf_50 : decode cX5_placeOf 50 = .ok (.bipush 33, 2) := dk_16 33 (dk_at dksX5_placeOf_2 3 rfl rfl)
theorem dX5_placeOf_52 : decode cX5_placeOf 52 = .ok (.iload_n 1, 1) := dk_27 (dk_at dksX5_placeOf_2 5 rfl rfl)
theorem dX5_placeOf_53 : decode cX5_placeOf 53 = .ok (.imul, 1) := dk_104 (dk_at dksX5_placeOf_2 6 rfl rfl)
theorem dX5_placeOf_54 : decode cX5_placeOf 54 = .ok (.iadd, 1) := dk_96 (dk_at dksX5_placeOf_2 7 rfl rfl)
theorem dX5_placeOf_55 : decode cX5_placeOf 55 = .ok (.ireturn, 1) := dk_172 (dk_at dksX5_placeOf_2 8 rfl rfl)
abbrev cX5_fault : ByteArray := prog_24_method_32_code
def yX5_fault : MethodName := ⟨RX5, "fault", "(I)I"⟩
def dkwX5_fault_1 : List UInt8 := [46, 167, 0, 4, 2, 172]
abbrev dktX5_fault_1 : List UInt8 := dkwX5_fault_1 ++ []
def dkwX5_fault_0 : List UInt8 := [27, 154, 0, 12, 42, 180, 0, 7, 8, 46, 167, 0, 19, 27, 4, 160, 0, 13, 42, 180, 0, 7, 16, 6]
abbrev dktX5_fault_0 : List UInt8 := dkwX5_fault_0 ++ dktX5_fault_1
theorem dksX5_fault_0 : cX5_fault.data.toList.drop 0 = dktX5_fault_0 := by decide +kernel
theorem dksX5_fault_1 : cX5_fault.data.toList.drop 24 = dktX5_fault_1 := dk_seg dksX5_fault_0 24 rfl rfl
theorem dX5_fault_0 : decode cX5_fault 0 = .ok (.iload_n 1, 1) := dk_27 (dk_at dksX5_fault_0 0 rfl rfl)
theorem dX5_fault_1 : decode cX5_fault 1 = .ok (.ifCond .ne 12, 3) := dk_154 0 12 (dk_at dksX5_fault_0 1 rfl rfl)
theorem dX5_fault_4 : decode cX5_fault 4 = .ok (.aload_n 0, 1) := dk_42 (dk_at dksX5_fault_0 4 rfl rfl)
theorem dX5_fault_5 : decode cX5_fault 5 = .ok (.getfield 7, 3) := dk_180 0 7 (dk_at dksX5_fault_0 5 rfl rfl)
theorem dX5_fault_8 : decode cX5_fault 8 = .ok (.iconst 5, 1) := dk_8 (dk_at dksX5_fault_0 8 rfl rfl)
theorem dX5_fault_9 : decode cX5_fault 9 = .ok (.iaload, 1) := dk_46 (dk_at dksX5_fault_0 9 rfl rfl)
theorem dX5_fault_10 : decode cX5_fault 10 = .ok (.goto 19, 3) := dk_167 0 19 (dk_at dksX5_fault_0 10 rfl rfl)
theorem dX5_fault_13 : decode cX5_fault 13 = .ok (.iload_n 1, 1) := dk_27 (dk_at dksX5_fault_0 13 rfl rfl)
theorem dX5_fault_14 : decode cX5_fault 14 = .ok (.iconst 1, 1) := dk_4 (dk_at dksX5_fault_0 14 rfl rfl)
theorem dX5_fault_15 : decode cX5_fault 15 = .ok (.if_icmp .ne 13, 3) := dk_160 0 13 (dk_at dksX5_fault_0 15 rfl rfl)
theorem dX5_fault_18 : decode cX5_fault 18 = .ok (.aload_n 0, 1) := dk_42 (dk_at dksX5_fault_0 18 rfl rfl)
theorem dX5_fault_19 : decode cX5_fault 19 = .ok (.getfield 7, 3) := dk_180 0 7 (dk_at dksX5_fault_0 19 rfl rfl)
theorem dX5_fault_22 : decode cX5_fault 22 = .ok (.bipush 6, 2) := dk_16 6 (dk_at dksX5_fault_0 22 rfl rfl)
theorem dX5_fault_24 : decode cX5_fault 24 = .ok (.iaload, 1) := dk_46 (dk_at dksX5_fault_1 0 rfl rfl)
theorem dX5_fault_25 : decode cX5_fault 25 = .ok (.goto 4, 3) := dk_167 0 4 (dk_at dksX5_fault_1 1 rfl rfl)
theorem dX5_fault_28 : decode cX5_fault 28 = .ok (.iconst (-1), 1) := dk_2 (dk_at dksX5_fault_1 4 rfl rfl)
theorem dX5_fault_29 : decode cX5_fault 29 = .ok (.ireturn, 1) := dk_172 (dk_at dksX5_fault_1 5 rfl rfl)
abbrev cX5_war : ByteArray := prog_24_method_41_code
def yX5_war : MethodName := ⟨RX5, "war", "(II)I"⟩
def dkwX5_war_3 : List UInt8 := [16, 7, 5, 28, 16, 10, 108, 5, 100, 104, 96, 29, 96, 182, 0, 212, 167, 0, 4, 2, 172]
abbrev dktX5_war_3 : List UInt8 := dkwX5_war_3 ++ []
def dkwX5_war_2 : List UInt8 := [16, 10, 112, 62, 28, 16, 20, 16, 69, 184, 0, 145, 153, 0, 30, 29, 184, 0, 218, 153, 0, 23, 42]
abbrev dktX5_war_2 : List UInt8 := dkwX5_war_2 ++ dktX5_war_3
def dkwX5_war_1 : List UInt8 := [172, 28, 16, 10, 16, 13, 184, 0, 145, 153, 0, 14, 42, 6, 28, 96, 16, 10, 100, 182, 0, 212, 172, 28]
abbrev dktX5_war_1 : List UInt8 := dkwX5_war_1 ++ dktX5_war_2
def dkwX5_war_0 : List UInt8 := [42, 27, 182, 0, 224, 154, 0, 5, 2, 172, 28, 3, 5, 184, 0, 145, 153, 0, 9, 42, 28, 182, 0, 212]
abbrev dktX5_war_0 : List UInt8 := dkwX5_war_0 ++ dktX5_war_1
theorem dksX5_war_0 : cX5_war.data.toList.drop 0 = dktX5_war_0 := by decide +kernel
theorem dksX5_war_1 : cX5_war.data.toList.drop 24 = dktX5_war_1 := dk_seg dksX5_war_0 24 rfl rfl
theorem dksX5_war_2 : cX5_war.data.toList.drop 48 = dktX5_war_2 := dk_seg dksX5_war_1 24 rfl rfl
theorem dksX5_war_3 : cX5_war.data.toList.drop 71 = dktX5_war_3 := dk_seg dksX5_war_2 23 rfl rfl
theorem dX5_war_0 : decode cX5_war 0 = .ok (.aload_n 0, 1) := dk_42 (dk_at dksX5_war_0 0 rfl rfl)
theorem dX5_war_1 : decode cX5_war 1 = .ok (.iload_n 1, 1) := dk_27 (dk_at dksX5_war_0 1 rfl rfl)
theorem dX5_war_2 : decode cX5_war 2 = .ok (.invokevirtual 224, 3) := dk_182 0 224 (dk_at dksX5_war_0 2 rfl rfl)
theorem dX5_war_5 : decode cX5_war 5 = .ok (.ifCond .ne 5, 3) := dk_154 0 5 (dk_at dksX5_war_0 5 rfl rfl)
theorem dX5_war_8 : decode cX5_war 8 = .ok (.iconst (-1), 1) := dk_2 (dk_at dksX5_war_0 8 rfl rfl)
theorem dX5_war_9 : decode cX5_war 9 = .ok (.ireturn, 1) := dk_172 (dk_at dksX5_war_0 9 rfl rfl)
theorem dX5_war_10 : decode cX5_war 10 = .ok (.iload_n 2, 1) := dk_28 (dk_at dksX5_war_0 10 rfl rfl)
theorem dX5_war_11 : decode cX5_war 11 = .ok (.iconst 0, 1) := dk_3 (dk_at dksX5_war_0 11 rfl rfl)
theorem dX5_war_12 : decode cX5_war 12 = .ok (.iconst 2, 1) := dk_5 (dk_at dksX5_war_0 12 rfl rfl)
theorem dX5_war_13 : decode cX5_war 13 = .ok (.invokestatic 145, 3) := dk_184 0 145 (dk_at dksX5_war_0 13 rfl rfl)
theorem dX5_war_16 : decode cX5_war 16 = .ok (.ifCond .eq 9, 3) := dk_153 0 9 (dk_at dksX5_war_0 16 rfl rfl)
theorem dX5_war_19 : decode cX5_war 19 = .ok (.aload_n 0, 1) := dk_42 (dk_at dksX5_war_0 19 rfl rfl)
theorem dX5_war_20 : decode cX5_war 20 = .ok (.iload_n 2, 1) := dk_28 (dk_at dksX5_war_0 20 rfl rfl)
theorem dX5_war_21 : decode cX5_war 21 = .ok (.invokevirtual 212, 3) := dk_182 0 212 (dk_at dksX5_war_0 21 rfl rfl)
theorem dX5_war_24 : decode cX5_war 24 = .ok (.ireturn, 1) := dk_172 (dk_at dksX5_war_1 0 rfl rfl)
theorem dX5_war_25 : decode cX5_war 25 = .ok (.iload_n 2, 1) := dk_28 (dk_at dksX5_war_1 1 rfl rfl)
theorem dX5_war_26 : decode cX5_war 26 = .ok (.bipush 10, 2) := dk_16 10 (dk_at dksX5_war_1 2 rfl rfl)
theorem dX5_war_28 : decode cX5_war 28 = .ok (.bipush 13, 2) := dk_16 13 (dk_at dksX5_war_1 4 rfl rfl)
theorem dX5_war_30 : decode cX5_war 30 = .ok (.invokestatic 145, 3) := dk_184 0 145 (dk_at dksX5_war_1 6 rfl rfl)
theorem dX5_war_33 : decode cX5_war 33 = .ok (.ifCond .eq 14, 3) := dk_153 0 14 (dk_at dksX5_war_1 9 rfl rfl)
theorem dX5_war_36 : decode cX5_war 36 = .ok (.aload_n 0, 1) := dk_42 (dk_at dksX5_war_1 12 rfl rfl)
theorem dX5_war_37 : decode cX5_war 37 = .ok (.iconst 3, 1) := dk_6 (dk_at dksX5_war_1 13 rfl rfl)
theorem dX5_war_38 : decode cX5_war 38 = .ok (.iload_n 2, 1) := dk_28 (dk_at dksX5_war_1 14 rfl rfl)
theorem dX5_war_39 : decode cX5_war 39 = .ok (.iadd, 1) := dk_96 (dk_at dksX5_war_1 15 rfl rfl)
theorem dX5_war_40 : decode cX5_war 40 = .ok (.bipush 10, 2) := dk_16 10 (dk_at dksX5_war_1 16 rfl rfl)
theorem dX5_war_42 : decode cX5_war 42 = .ok (.isub, 1) := dk_100 (dk_at dksX5_war_1 18 rfl rfl)
theorem dX5_war_43 : decode cX5_war 43 = .ok (.invokevirtual 212, 3) := dk_182 0 212 (dk_at dksX5_war_1 19 rfl rfl)
theorem dX5_war_46 : decode cX5_war 46 = .ok (.ireturn, 1) := dk_172 (dk_at dksX5_war_1 22 rfl rfl)
theorem dX5_war_47 : decode cX5_war 47 = .ok (.iload_n 2, 1) := dk_28 (dk_at dksX5_war_1 23 rfl rfl)
theorem dX5_war_48 : decode cX5_war 48 = .ok (.bipush 10, 2) := dk_16 10 (dk_at dksX5_war_2 0 rfl rfl)
theorem dX5_war_50 : decode cX5_war 50 = .ok (.irem, 1) := dk_112 (dk_at dksX5_war_2 2 rfl rfl)
theorem dX5_war_51 : decode cX5_war 51 = .ok (.istore_n 3, 1) := dk_62 (dk_at dksX5_war_2 3 rfl rfl)
theorem dX5_war_52 : decode cX5_war 52 = .ok (.iload_n 2, 1) := dk_28 (dk_at dksX5_war_2 4 rfl rfl)
theorem dX5_war_53 : decode cX5_war 53 = .ok (.bipush 20, 2) := dk_16 20 (dk_at dksX5_war_2 5 rfl rfl)
theorem dX5_war_55 : decode cX5_war 55 = .ok (.bipush 69, 2) := dk_16 69 (dk_at dksX5_war_2 7 rfl rfl)
theorem dX5_war_57 : decode cX5_war 57 = .ok (.invokestatic 145, 3) := dk_184 0 145 (dk_at dksX5_war_2 9 rfl rfl)
theorem dX5_war_60 : decode cX5_war 60 = .ok (.ifCond .eq 30, 3) := dk_153 0 30 (dk_at dksX5_war_2 12 rfl rfl)
theorem dX5_war_63 : decode cX5_war 63 = .ok (.iload_n 3, 1) := dk_29 (dk_at dksX5_war_2 15 rfl rfl)
theorem dX5_war_64 : decode cX5_war 64 = .ok (.invokestatic 218, 3) := dk_184 0 218 (dk_at dksX5_war_2 16 rfl rfl)
theorem dX5_war_67 : decode cX5_war 67 = .ok (.ifCond .eq 23, 3) := dk_153 0 23 (dk_at dksX5_war_2 19 rfl rfl)
theorem dX5_war_70 : decode cX5_war 70 = .ok (.aload_n 0, 1) := dk_42 (dk_at dksX5_war_2 22 rfl rfl)
theorem dX5_war_71 : decode cX5_war 71 = .ok (.bipush 7, 2) := dk_16 7 (dk_at dksX5_war_3 0 rfl rfl)
theorem dX5_war_73 : decode cX5_war 73 = .ok (.iconst 2, 1) := dk_5 (dk_at dksX5_war_3 2 rfl rfl)
theorem dX5_war_74 : decode cX5_war 74 = .ok (.iload_n 2, 1) := dk_28 (dk_at dksX5_war_3 3 rfl rfl)
theorem dX5_war_75 : decode cX5_war 75 = .ok (.bipush 10, 2) := dk_16 10 (dk_at dksX5_war_3 4 rfl rfl)
theorem dX5_war_77 : decode cX5_war 77 = .ok (.idiv, 1) := dk_108 (dk_at dksX5_war_3 6 rfl rfl)
theorem dX5_war_78 : decode cX5_war 78 = .ok (.iconst 2, 1) := dk_5 (dk_at dksX5_war_3 7 rfl rfl)
theorem dX5_war_79 : decode cX5_war 79 = .ok (.isub, 1) := dk_100 (dk_at dksX5_war_3 8 rfl rfl)
theorem dX5_war_80 : decode cX5_war 80 = .ok (.imul, 1) := dk_104 (dk_at dksX5_war_3 9 rfl rfl)
theorem dX5_war_81 : decode cX5_war 81 = .ok (.iadd, 1) := dk_96 (dk_at dksX5_war_3 10 rfl rfl)
theorem dX5_war_82 : decode cX5_war 82 = .ok (.iload_n 3, 1) := dk_29 (dk_at dksX5_war_3 11 rfl rfl)
theorem dX5_war_83 : decode cX5_war 83 = .ok (.iadd, 1) := dk_96 (dk_at dksX5_war_3 12 rfl rfl)
theorem dX5_war_84 : decode cX5_war 84 = .ok (.invokevirtual 212, 3) := dk_182 0 212 (dk_at dksX5_war_3 13 rfl rfl)
theorem dX5_war_87 : decode cX5_war 87 = .ok (.goto 4, 3) := dk_167 0 4 (dk_at dksX5_war_3 16 rfl rfl)
theorem dX5_war_90 : decode cX5_war 90 = .ok (.iconst (-1), 1) := dk_2 (dk_at dksX5_war_3 19 rfl rfl)
theorem dX5_war_91 : decode cX5_war 91 = .ok (.ireturn, 1) := dk_172 (dk_at dksX5_war_3 20 rfl rfl)
abbrev cX5_isWar : ByteArray := prog_24_method_33_code
def yX5_isWar : MethodName := ⟨RX5, "isWar", "(I)Z"⟩
def dkwX5_isWar_0 : List UInt8 := [42, 3, 27, 182, 0, 183, 154, 0, 5, 3, 172, 42, 3, 27, 184, 0, 206, 181, 0, 209, 4, 172]
abbrev dktX5_isWar_0 : List UInt8 := dkwX5_isWar_0 ++ []
theorem dksX5_isWar_0 : cX5_isWar.data.toList.drop 0 = dktX5_isWar_0 := by decide +kernel
theorem dX5_isWar_0 : decode cX5_isWar 0 = .ok (.aload_n 0, 1) := dk_42 (dk_at dksX5_isWar_0 0 rfl rfl)
theorem dX5_isWar_1 : decode cX5_isWar 1 = .ok (.iconst 0, 1) := dk_3 (dk_at dksX5_isWar_0 1 rfl rfl)
theorem dX5_isWar_2 : decode cX5_isWar 2 = .ok (.iload_n 1, 1) := dk_27 (dk_at dksX5_isWar_0 2 rfl rfl)
theorem dX5_isWar_3 : decode cX5_isWar 3 = .ok (.invokevirtual 183, 3) := dk_182 0 183 (dk_at dksX5_isWar_0 3 rfl rfl)
theorem dX5_isWar_6 : decode cX5_isWar 6 = .ok (.ifCond .ne 5, 3) := dk_154 0 5 (dk_at dksX5_isWar_0 6 rfl rfl)
theorem dX5_isWar_9 : decode cX5_isWar 9 = .ok (.iconst 0, 1) := dk_3 (dk_at dksX5_isWar_0 9 rfl rfl)
theorem dX5_isWar_10 : decode cX5_isWar 10 = .ok (.ireturn, 1) := dk_172 (dk_at dksX5_isWar_0 10 rfl rfl)
theorem dX5_isWar_11 : decode cX5_isWar 11 = .ok (.aload_n 0, 1) := dk_42 (dk_at dksX5_isWar_0 11 rfl rfl)
theorem dX5_isWar_12 : decode cX5_isWar 12 = .ok (.iconst 0, 1) := dk_3 (dk_at dksX5_isWar_0 12 rfl rfl)
theorem dX5_isWar_13 : decode cX5_isWar 13 = .ok (.iload_n 1, 1) := dk_27 (dk_at dksX5_isWar_0 13 rfl rfl)
theorem dX5_isWar_14 : decode cX5_isWar 14 = .ok (.invokestatic 206, 3) := dk_184 0 206 (dk_at dksX5_isWar_0 14 rfl rfl)
theorem dX5_isWar_17 : decode cX5_isWar 17 = .ok (.putfield 209, 3) := dk_181 0 209 (dk_at dksX5_isWar_0 17 rfl rfl)
theorem dX5_isWar_20 : decode cX5_isWar 20 = .ok (.iconst 1, 1) := dk_4 (dk_at dksX5_isWar_0 20 rfl rfl)
theorem dX5_isWar_21 : decode cX5_isWar 21 = .ok (.ireturn, 1) := dk_172 (dk_at dksX5_isWar_0 21 rfl rfl)
abbrev cX5_of : ByteArray := prog_24_method_35_code
def yX5_of : MethodName := ⟨RX5, "of", "(I)I"⟩
def dkwX5_of_0 : List UInt8 := [42, 180, 0, 7, 42, 180, 0, 209, 27, 96, 46, 172]
abbrev dktX5_of_0 : List UInt8 := dkwX5_of_0 ++ []
theorem dksX5_of_0 : cX5_of.data.toList.drop 0 = dktX5_of_0 := by decide +kernel
theorem dX5_of_0 : decode cX5_of 0 = .ok (.aload_n 0, 1) := dk_42 (dk_at dksX5_of_0 0 rfl rfl)
theorem dX5_of_1 : decode cX5_of 1 = .ok (.getfield 7, 3) := dk_180 0 7 (dk_at dksX5_of_0 1 rfl rfl)
theorem dX5_of_4 : decode cX5_of 4 = .ok (.aload_n 0, 1) := dk_42 (dk_at dksX5_of_0 4 rfl rfl)
theorem dX5_of_5 : decode cX5_of 5 = .ok (.getfield 209, 3) := dk_180 0 209 (dk_at dksX5_of_0 5 rfl rfl)
theorem dX5_of_8 : decode cX5_of 8 = .ok (.iload_n 1, 1) := dk_27 (dk_at dksX5_of_0 8 rfl rfl)
theorem dX5_of_9 : decode cX5_of 9 = .ok (.iadd, 1) := dk_96 (dk_at dksX5_of_0 9 rfl rfl)
theorem dX5_of_10 : decode cX5_of 10 = .ok (.iaload, 1) := dk_46 (dk_at dksX5_of_0 10 rfl rfl)
theorem dX5_of_11 : decode cX5_of 11 = .ok (.ireturn, 1) := dk_172 (dk_at dksX5_of_0 11 rfl rfl)
abbrev cX5_isArmy : ByteArray := prog_24_method_34_code
def yX5_isArmy : MethodName := ⟨RX5, "isArmy", "(I)Z"⟩
def dkwX5_isArmy_0 : List UInt8 := [26, 3, 4, 184, 0, 145, 172]
abbrev dktX5_isArmy_0 : List UInt8 := dkwX5_isArmy_0 ++ []
theorem dksX5_isArmy_0 : cX5_isArmy.data.toList.drop 0 = dktX5_isArmy_0 := by decide +kernel
theorem dX5_isArmy_0 : decode cX5_isArmy 0 = .ok (.iload_n 0, 1) := dk_26 (dk_at dksX5_isArmy_0 0 rfl rfl)
theorem dX5_isArmy_1 : decode cX5_isArmy 1 = .ok (.iconst 0, 1) := dk_3 (dk_at dksX5_isArmy_0 1 rfl rfl)
theorem dX5_isArmy_2 : decode cX5_isArmy 2 = .ok (.iconst 1, 1) := dk_4 (dk_at dksX5_isArmy_0 2 rfl rfl)
theorem dX5_isArmy_3 : decode cX5_isArmy 3 = .ok (.invokestatic 145, 3) := dk_184 0 145 (dk_at dksX5_isArmy_0 3 rfl rfl)
theorem dX5_isArmy_6 : decode cX5_isArmy 6 = .ok (.ireturn, 1) := dk_172 (dk_at dksX5_isArmy_0 6 rfl rfl)
abbrev cX5_order : ByteArray := prog_24_method_42_code
def yX5_order : MethodName := ⟨RX5, "order", "(IIII)I"⟩
def dkwX5_order_3 : List UInt8 := [100, 182, 0, 233, 167, 0, 4, 2, 172]
abbrev dktX5_order_3 : List UInt8 := dkwX5_order_3 ++ []
def dkwX5_order_2 : List UInt8 := [16, 10, 16, 9, 42, 28, 29, 182, 0, 230, 96, 184, 0, 145, 153, 0, 17, 42, 28, 29, 21, 4, 16, 10]
abbrev dktX5_order_2 : List UInt8 := dkwX5_order_2 ++ dktX5_order_3
def dkwX5_order_1 : List UInt8 := [184, 0, 145, 153, 0, 18, 42, 180, 0, 7, 42, 28, 29, 182, 0, 215, 21, 4, 96, 46, 172, 21, 4]
abbrev dktX5_order_1 : List UInt8 := dkwX5_order_1 ++ dktX5_order_2
def dkwX5_order_0 : List UInt8 := [42, 27, 182, 0, 224, 153, 0, 12, 42, 28, 29, 182, 0, 227, 154, 0, 5, 2, 172, 21, 4, 3, 4]
abbrev dktX5_order_0 : List UInt8 := dkwX5_order_0 ++ dktX5_order_1
theorem dksX5_order_0 : cX5_order.data.toList.drop 0 = dktX5_order_0 := by decide +kernel
theorem dksX5_order_1 : cX5_order.data.toList.drop 23 = dktX5_order_1 := dk_seg dksX5_order_0 23 rfl rfl
theorem dksX5_order_2 : cX5_order.data.toList.drop 46 = dktX5_order_2 := dk_seg dksX5_order_1 23 rfl rfl
theorem dksX5_order_3 : cX5_order.data.toList.drop 70 = dktX5_order_3 := dk_seg dksX5_order_2 24 rfl rfl
theorem dX5_order_0 : decode cX5_order 0 = .ok (.aload_n 0, 1) := dk_42 (dk_at dksX5_order_0 0 rfl rfl)
theorem dX5_order_1 : decode cX5_order 1 = .ok (.iload_n 1, 1) := dk_27 (dk_at dksX5_order_0 1 rfl rfl)
theorem dX5_order_2 : decode cX5_order 2 = .ok (.invokevirtual 224, 3) := dk_182 0 224 (dk_at dksX5_order_0 2 rfl rfl)
theorem dX5_order_5 : decode cX5_order 5 = .ok (.ifCond .eq 12, 3) := dk_153 0 12 (dk_at dksX5_order_0 5 rfl rfl)
theorem dX5_order_8 : decode cX5_order 8 = .ok (.aload_n 0, 1) := dk_42 (dk_at dksX5_order_0 8 rfl rfl)
theorem dX5_order_9 : decode cX5_order 9 = .ok (.iload_n 2, 1) := dk_28 (dk_at dksX5_order_0 9 rfl rfl)
theorem dX5_order_10 : decode cX5_order 10 = .ok (.iload_n 3, 1) := dk_29 (dk_at dksX5_order_0 10 rfl rfl)
theorem dX5_order_11 : decode cX5_order 11 = .ok (.invokevirtual 227, 3) := dk_182 0 227 (dk_at dksX5_order_0 11 rfl rfl)
theorem dX5_order_14 : decode cX5_order 14 = .ok (.ifCond .ne 5, 3) := dk_154 0 5 (dk_at dksX5_order_0 14 rfl rfl)
theorem dX5_order_17 : decode cX5_order 17 = .ok (.iconst (-1), 1) := dk_2 (dk_at dksX5_order_0 17 rfl rfl)
theorem dX5_order_18 : decode cX5_order 18 = .ok (.ireturn, 1) := dk_172 (dk_at dksX5_order_0 18 rfl rfl)
theorem dX5_order_19 : decode cX5_order 19 = .ok (.iload 4, 2) := dk_21 4 (dk_at dksX5_order_0 19 rfl rfl)
theorem dX5_order_21 : decode cX5_order 21 = .ok (.iconst 0, 1) := dk_3 (dk_at dksX5_order_0 21 rfl rfl)
theorem dX5_order_22 : decode cX5_order 22 = .ok (.iconst 1, 1) := dk_4 (dk_at dksX5_order_0 22 rfl rfl)
theorem dX5_order_23 : decode cX5_order 23 = .ok (.invokestatic 145, 3) := dk_184 0 145 (dk_at dksX5_order_1 0 rfl rfl)
theorem dX5_order_26 : decode cX5_order 26 = .ok (.ifCond .eq 18, 3) := dk_153 0 18 (dk_at dksX5_order_1 3 rfl rfl)
theorem dX5_order_29 : decode cX5_order 29 = .ok (.aload_n 0, 1) := dk_42 (dk_at dksX5_order_1 6 rfl rfl)
theorem dX5_order_30 : decode cX5_order 30 = .ok (.getfield 7, 3) := dk_180 0 7 (dk_at dksX5_order_1 7 rfl rfl)
theorem dX5_order_33 : decode cX5_order 33 = .ok (.aload_n 0, 1) := dk_42 (dk_at dksX5_order_1 10 rfl rfl)
theorem dX5_order_34 : decode cX5_order 34 = .ok (.iload_n 2, 1) := dk_28 (dk_at dksX5_order_1 11 rfl rfl)
theorem dX5_order_35 : decode cX5_order 35 = .ok (.iload_n 3, 1) := dk_29 (dk_at dksX5_order_1 12 rfl rfl)
theorem dX5_order_36 : decode cX5_order 36 = .ok (.invokevirtual 215, 3) := dk_182 0 215 (dk_at dksX5_order_1 13 rfl rfl)
theorem dX5_order_39 : decode cX5_order 39 = .ok (.iload 4, 2) := dk_21 4 (dk_at dksX5_order_1 16 rfl rfl)
theorem dX5_order_41 : decode cX5_order 41 = .ok (.iadd, 1) := dk_96 (dk_at dksX5_order_1 18 rfl rfl)
theorem dX5_order_42 : decode cX5_order 42 = .ok (.iaload, 1) := dk_46 (dk_at dksX5_order_1 19 rfl rfl)
theorem dX5_order_43 : decode cX5_order 43 = .ok (.ireturn, 1) := dk_172 (dk_at dksX5_order_1 20 rfl rfl)
theorem dX5_order_44 : decode cX5_order 44 = .ok (.iload 4, 2) := dk_21 4 (dk_at dksX5_order_1 21 rfl rfl)
theorem dX5_order_46 : decode cX5_order 46 = .ok (.bipush 10, 2) := dk_16 10 (dk_at dksX5_order_2 0 rfl rfl)
theorem dX5_order_48 : decode cX5_order 48 = .ok (.bipush 9, 2) := dk_16 9 (dk_at dksX5_order_2 2 rfl rfl)
theorem dX5_order_50 : decode cX5_order 50 = .ok (.aload_n 0, 1) := dk_42 (dk_at dksX5_order_2 4 rfl rfl)
theorem dX5_order_51 : decode cX5_order 51 = .ok (.iload_n 2, 1) := dk_28 (dk_at dksX5_order_2 5 rfl rfl)
theorem dX5_order_52 : decode cX5_order 52 = .ok (.iload_n 3, 1) := dk_29 (dk_at dksX5_order_2 6 rfl rfl)
theorem dX5_order_53 : decode cX5_order 53 = .ok (.invokevirtual 230, 3) := dk_182 0 230 (dk_at dksX5_order_2 7 rfl rfl)
theorem dX5_order_56 : decode cX5_order 56 = .ok (.iadd, 1) := dk_96 (dk_at dksX5_order_2 10 rfl rfl)
theorem dX5_order_57 : decode cX5_order 57 = .ok (.invokestatic 145, 3) := dk_184 0 145 (dk_at dksX5_order_2 11 rfl rfl)
theorem dX5_order_60 : decode cX5_order 60 = .ok (.ifCond .eq 17, 3) := dk_153 0 17 (dk_at dksX5_order_2 14 rfl rfl)
theorem dX5_order_63 : decode cX5_order 63 = .ok (.aload_n 0, 1) := dk_42 (dk_at dksX5_order_2 17 rfl rfl)
theorem dX5_order_64 : decode cX5_order 64 = .ok (.iload_n 2, 1) := dk_28 (dk_at dksX5_order_2 18 rfl rfl)
theorem dX5_order_65 : decode cX5_order 65 = .ok (.iload_n 3, 1) := dk_29 (dk_at dksX5_order_2 19 rfl rfl)
theorem dX5_order_66 : decode cX5_order 66 = .ok (.iload 4, 2) := dk_21 4 (dk_at dksX5_order_2 20 rfl rfl)
theorem dX5_order_68 : decode cX5_order 68 = .ok (.bipush 10, 2) := dk_16 10 (dk_at dksX5_order_2 22 rfl rfl)
theorem dX5_order_70 : decode cX5_order 70 = .ok (.isub, 1) := dk_100 (dk_at dksX5_order_3 0 rfl rfl)
theorem dX5_order_71 : decode cX5_order 71 = .ok (.invokevirtual 233, 3) := dk_182 0 233 (dk_at dksX5_order_3 1 rfl rfl)
theorem dX5_order_74 : decode cX5_order 74 = .ok (.goto 4, 3) := dk_167 0 4 (dk_at dksX5_order_3 4 rfl rfl)
theorem dX5_order_77 : decode cX5_order 77 = .ok (.iconst (-1), 1) := dk_2 (dk_at dksX5_order_3 7 rfl rfl)
theorem dX5_order_78 : decode cX5_order 78 = .ok (.ireturn, 1) := dk_172 (dk_at dksX5_order_3 8 rfl rfl)
abbrev cX5_isOrder : ByteArray := prog_24_method_40_code
def yX5_isOrder : MethodName := ⟨RX5, "isOrder", "(II)Z"⟩
def dkwX5_isOrder_1 : List UInt8 := [167, 0, 4, 3, 172]
abbrev dktX5_isOrder_1 : List UInt8 := dkwX5_isOrder_1 ++ []
def dkwX5_isOrder_0 : List UInt8 := [27, 184, 0, 218, 153, 0, 22, 28, 3, 42, 27, 182, 0, 221, 4, 100, 184, 0, 145, 153, 0, 7, 4]
abbrev dktX5_isOrder_0 : List UInt8 := dkwX5_isOrder_0 ++ dktX5_isOrder_1
theorem dksX5_isOrder_0 : cX5_isOrder.data.toList.drop 0 = dktX5_isOrder_0 := by decide +kernel
theorem dksX5_isOrder_1 : cX5_isOrder.data.toList.drop 23 = dktX5_isOrder_1 := dk_seg dksX5_isOrder_0 23 rfl rfl
theorem dX5_isOrder_0 : decode cX5_isOrder 0 = .ok (.iload_n 1, 1) := dk_27 (dk_at dksX5_isOrder_0 0 rfl rfl)
theorem dX5_isOrder_1 : decode cX5_isOrder 1 = .ok (.invokestatic 218, 3) := dk_184 0 218 (dk_at dksX5_isOrder_0 1 rfl rfl)
theorem dX5_isOrder_4 : decode cX5_isOrder 4 = .ok (.ifCond .eq 22, 3) := dk_153 0 22 (dk_at dksX5_isOrder_0 4 rfl rfl)
theorem dX5_isOrder_7 : decode cX5_isOrder 7 = .ok (.iload_n 2, 1) := dk_28 (dk_at dksX5_isOrder_0 7 rfl rfl)
theorem dX5_isOrder_8 : decode cX5_isOrder 8 = .ok (.iconst 0, 1) := dk_3 (dk_at dksX5_isOrder_0 8 rfl rfl)
theorem dX5_isOrder_9 : decode cX5_isOrder 9 = .ok (.aload_n 0, 1) := dk_42 (dk_at dksX5_isOrder_0 9 rfl rfl)
theorem dX5_isOrder_10 : decode cX5_isOrder 10 = .ok (.iload_n 1, 1) := dk_27 (dk_at dksX5_isOrder_0 10 rfl rfl)
theorem dX5_isOrder_11 : decode cX5_isOrder 11 = .ok (.invokevirtual 221, 3) := dk_182 0 221 (dk_at dksX5_isOrder_0 11 rfl rfl)
theorem dX5_isOrder_14 : decode cX5_isOrder 14 = .ok (.iconst 1, 1) := dk_4 (dk_at dksX5_isOrder_0 14 rfl rfl)
theorem dX5_isOrder_15 : decode cX5_isOrder 15 = .ok (.isub, 1) := dk_100 (dk_at dksX5_isOrder_0 15 rfl rfl)
theorem dX5_isOrder_16 : decode cX5_isOrder 16 = .ok (.invokestatic 145, 3) := dk_184 0 145 (dk_at dksX5_isOrder_0 16 rfl rfl)
theorem dX5_isOrder_19 : decode cX5_isOrder 19 = .ok (.ifCond .eq 7, 3) := dk_153 0 7 (dk_at dksX5_isOrder_0 19 rfl rfl)
theorem dX5_isOrder_22 : decode cX5_isOrder 22 = .ok (.iconst 1, 1) := dk_4 (dk_at dksX5_isOrder_0 22 rfl rfl)
theorem dX5_isOrder_23 : decode cX5_isOrder 23 = .ok (.goto 4, 3) := dk_167 0 4 (dk_at dksX5_isOrder_1 0 rfl rfl)
theorem dX5_isOrder_26 : decode cX5_isOrder 26 = .ok (.iconst 0, 1) := dk_3 (dk_at dksX5_isOrder_1 3 rfl rfl)
theorem dX5_isOrder_27 : decode cX5_isOrder 27 = .ok (.ireturn, 1) := dk_172 (dk_at dksX5_isOrder_1 4 rfl rfl)
abbrev cX5_orders : ByteArray := prog_24_method_36_code
def yX5_orders : MethodName := ⟨RX5, "orders", "(I)I"⟩
def dkwX5_orders_0 : List UInt8 := [42, 16, 15, 27, 96, 182, 0, 212, 172]
abbrev dktX5_orders_0 : List UInt8 := dkwX5_orders_0 ++ []
theorem dksX5_orders_0 : cX5_orders.data.toList.drop 0 = dktX5_orders_0 := by decide +kernel
theorem dX5_orders_0 : decode cX5_orders 0 = .ok (.aload_n 0, 1) := dk_42 (dk_at dksX5_orders_0 0 rfl rfl)
theorem dX5_orders_1 : decode cX5_orders 1 = .ok (.bipush 15, 2) := dk_16 15 (dk_at dksX5_orders_0 1 rfl rfl)
theorem dX5_orders_3 : decode cX5_orders 3 = .ok (.iload_n 1, 1) := dk_27 (dk_at dksX5_orders_0 3 rfl rfl)
theorem dX5_orders_4 : decode cX5_orders 4 = .ok (.iadd, 1) := dk_96 (dk_at dksX5_orders_0 4 rfl rfl)
theorem dX5_orders_5 : decode cX5_orders 5 = .ok (.invokevirtual 212, 3) := dk_182 0 212 (dk_at dksX5_orders_0 5 rfl rfl)
theorem dX5_orders_8 : decode cX5_orders 8 = .ok (.ireturn, 1) := dk_172 (dk_at dksX5_orders_0 8 rfl rfl)
abbrev cX5_orderAt : ByteArray := prog_24_method_37_code
def yX5_orderAt : MethodName := ⟨RX5, "orderAt", "(II)I"⟩
def dkwX5_orderAt_0 : List UInt8 := [42, 180, 0, 209, 16, 17, 96, 16, 36, 27, 104, 96, 16, 6, 28, 104, 96, 172]
abbrev dktX5_orderAt_0 : List UInt8 := dkwX5_orderAt_0 ++ []
theorem dksX5_orderAt_0 : cX5_orderAt.data.toList.drop 0 = dktX5_orderAt_0 := by decide +kernel
theorem dX5_orderAt_0 : decode cX5_orderAt 0 = .ok (.aload_n 0, 1) := dk_42 (dk_at dksX5_orderAt_0 0 rfl rfl)
theorem dX5_orderAt_1 : decode cX5_orderAt 1 = .ok (.getfield 209, 3) := dk_180 0 209 (dk_at dksX5_orderAt_0 1 rfl rfl)
theorem dX5_orderAt_4 : decode cX5_orderAt 4 = .ok (.bipush 17, 2) := dk_16 17 (dk_at dksX5_orderAt_0 4 rfl rfl)
theorem dX5_orderAt_6 : decode cX5_orderAt 6 = .ok (.iadd, 1) := dk_96 (dk_at dksX5_orderAt_0 6 rfl rfl)
theorem dX5_orderAt_7 : decode cX5_orderAt 7 = .ok (.bipush 36, 2) := dk_16 36 (dk_at dksX5_orderAt_0 7 rfl rfl)
theorem dX5_orderAt_9 : decode cX5_orderAt 9 = .ok (.iload_n 1, 1) := dk_27 (dk_at dksX5_orderAt_0 9 rfl rfl)
theorem dX5_orderAt_10 : decode cX5_orderAt 10 = .ok (.imul, 1) := dk_104 (dk_at dksX5_orderAt_0 10 rfl rfl)
theorem dX5_orderAt_11 : decode cX5_orderAt 11 = .ok (.iadd, 1) := dk_96 (dk_at dksX5_orderAt_0 11 rfl rfl)
theorem dX5_orderAt_12 : decode cX5_orderAt 12 = .ok (.bipush 6, 2) := dk_16 6 (dk_at dksX5_orderAt_0 12 rfl rfl)
theorem dX5_orderAt_14 : decode cX5_orderAt 14 = .ok (.iload_n 2, 1) := dk_28 (dk_at dksX5_orderAt_0 14 rfl rfl)
theorem dX5_orderAt_15 : decode cX5_orderAt 15 = .ok (.imul, 1) := dk_104 (dk_at dksX5_orderAt_0 15 rfl rfl)
theorem dX5_orderAt_16 : decode cX5_orderAt 16 = .ok (.iadd, 1) := dk_96 (dk_at dksX5_orderAt_0 16 rfl rfl)
theorem dX5_orderAt_17 : decode cX5_orderAt 17 = .ok (.ireturn, 1) := dk_172 (dk_at dksX5_orderAt_0 17 rfl rfl)
abbrev cX5_lengthOf : ByteArray := prog_24_method_38_code
def yX5_lengthOf : MethodName := ⟨RX5, "lengthOf", "(II)I"⟩
def dkwX5_lengthOf_0 : List UInt8 := [42, 180, 0, 7, 42, 27, 28, 182, 0, 215, 4, 96, 46, 172]
abbrev dktX5_lengthOf_0 : List UInt8 := dkwX5_lengthOf_0 ++ []
theorem dksX5_lengthOf_0 : cX5_lengthOf.data.toList.drop 0 = dktX5_lengthOf_0 := by decide +kernel
theorem dX5_lengthOf_0 : decode cX5_lengthOf 0 = .ok (.aload_n 0, 1) := dk_42 (dk_at dksX5_lengthOf_0 0 rfl rfl)
theorem dX5_lengthOf_1 : decode cX5_lengthOf 1 = .ok (.getfield 7, 3) := dk_180 0 7 (dk_at dksX5_lengthOf_0 1 rfl rfl)
theorem dX5_lengthOf_4 : decode cX5_lengthOf 4 = .ok (.aload_n 0, 1) := dk_42 (dk_at dksX5_lengthOf_0 4 rfl rfl)
theorem dX5_lengthOf_5 : decode cX5_lengthOf 5 = .ok (.iload_n 1, 1) := dk_27 (dk_at dksX5_lengthOf_0 5 rfl rfl)
theorem dX5_lengthOf_6 : decode cX5_lengthOf 6 = .ok (.iload_n 2, 1) := dk_28 (dk_at dksX5_lengthOf_0 6 rfl rfl)
theorem dX5_lengthOf_7 : decode cX5_lengthOf 7 = .ok (.invokevirtual 215, 3) := dk_182 0 215 (dk_at dksX5_lengthOf_0 7 rfl rfl)
theorem dX5_lengthOf_10 : decode cX5_lengthOf 10 = .ok (.iconst 1, 1) := dk_4 (dk_at dksX5_lengthOf_0 10 rfl rfl)
theorem dX5_lengthOf_11 : decode cX5_lengthOf 11 = .ok (.iadd, 1) := dk_96 (dk_at dksX5_lengthOf_0 11 rfl rfl)
theorem dX5_lengthOf_12 : decode cX5_lengthOf 12 = .ok (.iaload, 1) := dk_46 (dk_at dksX5_lengthOf_0 12 rfl rfl)
theorem dX5_lengthOf_13 : decode cX5_lengthOf 13 = .ok (.ireturn, 1) := dk_172 (dk_at dksX5_lengthOf_0 13 rfl rfl)
abbrev cX5_beatOf : ByteArray := prog_24_method_39_code
def yX5_beatOf : MethodName := ⟨RX5, "beatOf", "(III)I"⟩
def dkwX5_beatOf_0 : List UInt8 := [42, 180, 0, 7, 42, 27, 28, 182, 0, 215, 5, 96, 29, 96, 46, 172]
abbrev dktX5_beatOf_0 : List UInt8 := dkwX5_beatOf_0 ++ []
theorem dksX5_beatOf_0 : cX5_beatOf.data.toList.drop 0 = dktX5_beatOf_0 := by decide +kernel
theorem dX5_beatOf_0 : decode cX5_beatOf 0 = .ok (.aload_n 0, 1) := dk_42 (dk_at dksX5_beatOf_0 0 rfl rfl)
theorem dX5_beatOf_1 : decode cX5_beatOf 1 = .ok (.getfield 7, 3) := dk_180 0 7 (dk_at dksX5_beatOf_0 1 rfl rfl)
theorem dX5_beatOf_4 : decode cX5_beatOf 4 = .ok (.aload_n 0, 1) := dk_42 (dk_at dksX5_beatOf_0 4 rfl rfl)
theorem dX5_beatOf_5 : decode cX5_beatOf 5 = .ok (.iload_n 1, 1) := dk_27 (dk_at dksX5_beatOf_0 5 rfl rfl)
theorem dX5_beatOf_6 : decode cX5_beatOf 6 = .ok (.iload_n 2, 1) := dk_28 (dk_at dksX5_beatOf_0 6 rfl rfl)
theorem dX5_beatOf_7 : decode cX5_beatOf 7 = .ok (.invokevirtual 215, 3) := dk_182 0 215 (dk_at dksX5_beatOf_0 7 rfl rfl)
theorem dX5_beatOf_10 : decode cX5_beatOf 10 = .ok (.iconst 2, 1) := dk_5 (dk_at dksX5_beatOf_0 10 rfl rfl)
theorem dX5_beatOf_11 : decode cX5_beatOf 11 = .ok (.iadd, 1) := dk_96 (dk_at dksX5_beatOf_0 11 rfl rfl)
theorem dX5_beatOf_12 : decode cX5_beatOf 12 = .ok (.iload_n 3, 1) := dk_29 (dk_at dksX5_beatOf_0 12 rfl rfl)
theorem dX5_beatOf_13 : decode cX5_beatOf 13 = .ok (.iadd, 1) := dk_96 (dk_at dksX5_beatOf_0 13 rfl rfl)
theorem dX5_beatOf_14 : decode cX5_beatOf 14 = .ok (.iaload, 1) := dk_46 (dk_at dksX5_beatOf_0 14 rfl rfl)
theorem dX5_beatOf_15 : decode cX5_beatOf 15 = .ok (.ireturn, 1) := dk_172 (dk_at dksX5_beatOf_0 15 rfl rfl)
abbrev cX5_given : ByteArray := prog_24_method_44_code
def yX5_given : MethodName := ⟨RX5, "given", "(III)I"⟩
def dkwX5_given_3 : List UInt8 := [96, 29, 96, 46, 167, 0, 4, 2, 172]
abbrev dktX5_given_3 : List UInt8 := dkwX5_given_3 ++ []
def dkwX5_given_2 : List UInt8 := [96, 46, 4, 100, 184, 0, 145, 153, 0, 24, 42, 180, 0, 7, 42, 180, 0, 237, 5, 96, 16, 12, 28, 104]
abbrev dktX5_given_2 : List UInt8 := dkwX5_given_2 ++ dktX5_given_3
def dkwX5_given_1 : List UInt8 := [180, 0, 7, 42, 180, 0, 237, 28, 96, 46, 167, 0, 46, 29, 3, 42, 180, 0, 7, 42, 180, 0, 237, 28]
abbrev dktX5_given_1 : List UInt8 := dkwX5_given_1 ++ dktX5_given_2
def dkwX5_given_0 : List UInt8 := [42, 27, 182, 0, 240, 153, 0, 10, 28, 184, 0, 218, 154, 0, 5, 2, 172, 29, 2, 160, 0, 17, 42]
abbrev dktX5_given_0 : List UInt8 := dkwX5_given_0 ++ dktX5_given_1
theorem dksX5_given_0 : cX5_given.data.toList.drop 0 = dktX5_given_0 := by decide +kernel
theorem dksX5_given_1 : cX5_given.data.toList.drop 23 = dktX5_given_1 := dk_seg dksX5_given_0 23 rfl rfl
theorem dksX5_given_2 : cX5_given.data.toList.drop 47 = dktX5_given_2 := dk_seg dksX5_given_1 24 rfl rfl
theorem dksX5_given_3 : cX5_given.data.toList.drop 71 = dktX5_given_3 := dk_seg dksX5_given_2 24 rfl rfl
theorem dX5_given_0 : decode cX5_given 0 = .ok (.aload_n 0, 1) := dk_42 (dk_at dksX5_given_0 0 rfl rfl)
theorem dX5_given_1 : decode cX5_given 1 = .ok (.iload_n 1, 1) := dk_27 (dk_at dksX5_given_0 1 rfl rfl)
theorem dX5_given_2 : decode cX5_given 2 = .ok (.invokevirtual 240, 3) := dk_182 0 240 (dk_at dksX5_given_0 2 rfl rfl)
theorem dX5_given_5 : decode cX5_given 5 = .ok (.ifCond .eq 10, 3) := dk_153 0 10 (dk_at dksX5_given_0 5 rfl rfl)
theorem dX5_given_8 : decode cX5_given 8 = .ok (.iload_n 2, 1) := dk_28 (dk_at dksX5_given_0 8 rfl rfl)
theorem dX5_given_9 : decode cX5_given 9 = .ok (.invokestatic 218, 3) := dk_184 0 218 (dk_at dksX5_given_0 9 rfl rfl)
theorem dX5_given_12 : decode cX5_given 12 = .ok (.ifCond .ne 5, 3) := dk_154 0 5 (dk_at dksX5_given_0 12 rfl rfl)
theorem dX5_given_15 : decode cX5_given 15 = .ok (.iconst (-1), 1) := dk_2 (dk_at dksX5_given_0 15 rfl rfl)
theorem dX5_given_16 : decode cX5_given 16 = .ok (.ireturn, 1) := dk_172 (dk_at dksX5_given_0 16 rfl rfl)
theorem dX5_given_17 : decode cX5_given 17 = .ok (.iload_n 3, 1) := dk_29 (dk_at dksX5_given_0 17 rfl rfl)
theorem dX5_given_18 : decode cX5_given 18 = .ok (.iconst (-1), 1) := dk_2 (dk_at dksX5_given_0 18 rfl rfl)
theorem dX5_given_19 : decode cX5_given 19 = .ok (.if_icmp .ne 17, 3) := dk_160 0 17 (dk_at dksX5_given_0 19 rfl rfl)
theorem dX5_given_22 : decode cX5_given 22 = .ok (.aload_n 0, 1) := dk_42 (dk_at dksX5_given_0 22 rfl rfl)
theorem dX5_given_23 : decode cX5_given 23 = .ok (.getfield 7, 3) := dk_180 0 7 (dk_at dksX5_given_1 0 rfl rfl)
theorem dX5_given_26 : decode cX5_given 26 = .ok (.aload_n 0, 1) := dk_42 (dk_at dksX5_given_1 3 rfl rfl)
theorem dX5_given_27 : decode cX5_given 27 = .ok (.getfield 237, 3) := dk_180 0 237 (dk_at dksX5_given_1 4 rfl rfl)
theorem dX5_given_30 : decode cX5_given 30 = .ok (.iload_n 2, 1) := dk_28 (dk_at dksX5_given_1 7 rfl rfl)
theorem dX5_given_31 : decode cX5_given 31 = .ok (.iadd, 1) := dk_96 (dk_at dksX5_given_1 8 rfl rfl)
theorem dX5_given_32 : decode cX5_given 32 = .ok (.iaload, 1) := dk_46 (dk_at dksX5_given_1 9 rfl rfl)
theorem dX5_given_33 : decode cX5_given 33 = .ok (.goto 46, 3) := dk_167 0 46 (dk_at dksX5_given_1 10 rfl rfl)
theorem dX5_given_36 : decode cX5_given 36 = .ok (.iload_n 3, 1) := dk_29 (dk_at dksX5_given_1 13 rfl rfl)
theorem dX5_given_37 : decode cX5_given 37 = .ok (.iconst 0, 1) := dk_3 (dk_at dksX5_given_1 14 rfl rfl)
theorem dX5_given_38 : decode cX5_given 38 = .ok (.aload_n 0, 1) := dk_42 (dk_at dksX5_given_1 15 rfl rfl)
theorem dX5_given_39 : decode cX5_given 39 = .ok (.getfield 7, 3) := dk_180 0 7 (dk_at dksX5_given_1 16 rfl rfl)
theorem dX5_given_42 : decode cX5_given 42 = .ok (.aload_n 0, 1) := dk_42 (dk_at dksX5_given_1 19 rfl rfl)
theorem dX5_given_43 : decode cX5_given 43 = .ok (.getfield 237, 3) := dk_180 0 237 (dk_at dksX5_given_1 20 rfl rfl)
theorem dX5_given_46 : decode cX5_given 46 = .ok (.iload_n 2, 1) := dk_28 (dk_at dksX5_given_1 23 rfl rfl)
theorem dX5_given_47 : decode cX5_given 47 = .ok (.iadd, 1) := dk_96 (dk_at dksX5_given_2 0 rfl rfl)
theorem dX5_given_48 : decode cX5_given 48 = .ok (.iaload, 1) := dk_46 (dk_at dksX5_given_2 1 rfl rfl)
theorem dX5_given_49 : decode cX5_given 49 = .ok (.iconst 1, 1) := dk_4 (dk_at dksX5_given_2 2 rfl rfl)
theorem dX5_given_50 : decode cX5_given 50 = .ok (.isub, 1) := dk_100 (dk_at dksX5_given_2 3 rfl rfl)
theorem dX5_given_51 : decode cX5_given 51 = .ok (.invokestatic 145, 3) := dk_184 0 145 (dk_at dksX5_given_2 4 rfl rfl)
theorem dX5_given_54 : decode cX5_given 54 = .ok (.ifCond .eq 24, 3) := dk_153 0 24 (dk_at dksX5_given_2 7 rfl rfl)
theorem dX5_given_57 : decode cX5_given 57 = .ok (.aload_n 0, 1) := dk_42 (dk_at dksX5_given_2 10 rfl rfl)
theorem dX5_given_58 : decode cX5_given 58 = .ok (.getfield 7, 3) := dk_180 0 7 (dk_at dksX5_given_2 11 rfl rfl)
theorem dX5_given_61 : decode cX5_given 61 = .ok (.aload_n 0, 1) := dk_42 (dk_at dksX5_given_2 14 rfl rfl)
theorem dX5_given_62 : decode cX5_given 62 = .ok (.getfield 237, 3) := dk_180 0 237 (dk_at dksX5_given_2 15 rfl rfl)
theorem dX5_given_65 : decode cX5_given 65 = .ok (.iconst 2, 1) := dk_5 (dk_at dksX5_given_2 18 rfl rfl)
theorem dX5_given_66 : decode cX5_given 66 = .ok (.iadd, 1) := dk_96 (dk_at dksX5_given_2 19 rfl rfl)
theorem dX5_given_67 : decode cX5_given 67 = .ok (.bipush 12, 2) := dk_16 12 (dk_at dksX5_given_2 20 rfl rfl)
theorem dX5_given_69 : decode cX5_given 69 = .ok (.iload_n 2, 1) := dk_28 (dk_at dksX5_given_2 22 rfl rfl)
theorem dX5_given_70 : decode cX5_given 70 = .ok (.imul, 1) := dk_104 (dk_at dksX5_given_2 23 rfl rfl)
theorem dX5_given_71 : decode cX5_given 71 = .ok (.iadd, 1) := dk_96 (dk_at dksX5_given_3 0 rfl rfl)
theorem dX5_given_72 : decode cX5_given 72 = .ok (.iload_n 3, 1) := dk_29 (dk_at dksX5_given_3 1 rfl rfl)
theorem dX5_given_73 : decode cX5_given 73 = .ok (.iadd, 1) := dk_96 (dk_at dksX5_given_3 2 rfl rfl)
theorem dX5_given_74 : decode cX5_given 74 = .ok (.iaload, 1) := dk_46 (dk_at dksX5_given_3 3 rfl rfl)
theorem dX5_given_75 : decode cX5_given 75 = .ok (.goto 4, 3) := dk_167 0 4 (dk_at dksX5_given_3 4 rfl rfl)
theorem dX5_given_78 : decode cX5_given 78 = .ok (.iconst (-1), 1) := dk_2 (dk_at dksX5_given_3 7 rfl rfl)
theorem dX5_given_79 : decode cX5_given 79 = .ok (.ireturn, 1) := dk_172 (dk_at dksX5_given_3 8 rfl rfl)
abbrev cX5_isScore : ByteArray := prog_24_method_43_code
def yX5_isScore : MethodName := ⟨RX5, "isScore", "(I)Z"⟩
def dkwX5_isScore_0 : List UInt8 := [42, 4, 27, 182, 0, 183, 154, 0, 5, 3, 172, 42, 4, 27, 184, 0, 206, 181, 0, 237, 4, 172]
abbrev dktX5_isScore_0 : List UInt8 := dkwX5_isScore_0 ++ []
theorem dksX5_isScore_0 : cX5_isScore.data.toList.drop 0 = dktX5_isScore_0 := by decide +kernel
theorem dX5_isScore_0 : decode cX5_isScore 0 = .ok (.aload_n 0, 1) := dk_42 (dk_at dksX5_isScore_0 0 rfl rfl)
theorem dX5_isScore_1 : decode cX5_isScore 1 = .ok (.iconst 1, 1) := dk_4 (dk_at dksX5_isScore_0 1 rfl rfl)
theorem dX5_isScore_2 : decode cX5_isScore 2 = .ok (.iload_n 1, 1) := dk_27 (dk_at dksX5_isScore_0 2 rfl rfl)
theorem dX5_isScore_3 : decode cX5_isScore 3 = .ok (.invokevirtual 183, 3) := dk_182 0 183 (dk_at dksX5_isScore_0 3 rfl rfl)
theorem dX5_isScore_6 : decode cX5_isScore 6 = .ok (.ifCond .ne 5, 3) := dk_154 0 5 (dk_at dksX5_isScore_0 6 rfl rfl)
theorem dX5_isScore_9 : decode cX5_isScore 9 = .ok (.iconst 0, 1) := dk_3 (dk_at dksX5_isScore_0 9 rfl rfl)
theorem dX5_isScore_10 : decode cX5_isScore 10 = .ok (.ireturn, 1) := dk_172 (dk_at dksX5_isScore_0 10 rfl rfl)
theorem dX5_isScore_11 : decode cX5_isScore 11 = .ok (.aload_n 0, 1) := dk_42 (dk_at dksX5_isScore_0 11 rfl rfl)
theorem dX5_isScore_12 : decode cX5_isScore 12 = .ok (.iconst 1, 1) := dk_4 (dk_at dksX5_isScore_0 12 rfl rfl)
theorem dX5_isScore_13 : decode cX5_isScore 13 = .ok (.iload_n 1, 1) := dk_27 (dk_at dksX5_isScore_0 13 rfl rfl)
theorem dX5_isScore_14 : decode cX5_isScore 14 = .ok (.invokestatic 206, 3) := dk_184 0 206 (dk_at dksX5_isScore_0 14 rfl rfl)
theorem dX5_isScore_17 : decode cX5_isScore 17 = .ok (.putfield 237, 3) := dk_181 0 237 (dk_at dksX5_isScore_0 17 rfl rfl)
theorem dX5_isScore_20 : decode cX5_isScore 20 = .ok (.iconst 1, 1) := dk_4 (dk_at dksX5_isScore_0 20 rfl rfl)
theorem dX5_isScore_21 : decode cX5_isScore 21 = .ok (.ireturn, 1) := dk_172 (dk_at dksX5_isScore_0 21 rfl rfl)
abbrev cX5_row : ByteArray := prog_24_method_49_code
def yX5_row : MethodName := ⟨RX5, "row", "(IIII)I"⟩
def dkwX5_row_5 : List UInt8 := [180, 0, 35, 29, 51, 153, 0, 7, 4, 167, 0, 4, 3, 172, 16, 254, 172]
abbrev dktX5_row_5 : List UInt8 := dkwX5_row_5 ++ []
def dkwX5_row_4 : List UInt8 := [42, 180, 0, 26, 29, 46, 172, 42, 180, 0, 29, 29, 46, 172, 42, 180, 0, 32, 29, 46, 172, 42]
abbrev dktX5_row_4 : List UInt8 := dkwX5_row_4 ++ dktX5_row_5
def dkwX5_row_3 : List UInt8 := [170, 0, 0, 0, 65, 0, 0, 0, 0, 0, 0, 0, 3, 0, 0, 0, 29, 0, 0, 0, 36, 0, 0, 0, 43, 0, 0, 0, 50]
abbrev dktX5_row_3 : List UInt8 := dkwX5_row_3 ++ dktX5_row_4
def dkwX5_row_2 : List UInt8 := [16, 254, 172, 21, 4]
abbrev dktX5_row_2 : List UInt8 := dkwX5_row_2 ++ dktX5_row_3
def dkwX5_row_1 : List UInt8 := [180, 0, 243, 167, 0, 5, 16, 254, 172, 29, 3, 42, 180, 0, 243, 4, 100, 184, 0, 145, 154, 0, 6]
abbrev dktX5_row_1 : List UInt8 := dkwX5_row_1 ++ dktX5_row_2
def dkwX5_row_0 : List UInt8 := [42, 27, 28, 182, 0, 255, 154, 0, 6, 16, 254, 172, 29, 2, 160, 0, 18, 21, 4, 154, 0, 10, 42]
abbrev dktX5_row_0 : List UInt8 := dkwX5_row_0 ++ dktX5_row_1
theorem dksX5_row_0 : cX5_row.data.toList.drop 0 = dktX5_row_0 := by decide +kernel
theorem dksX5_row_1 : cX5_row.data.toList.drop 23 = dktX5_row_1 := dk_seg dksX5_row_0 23 rfl rfl
theorem dksX5_row_2 : cX5_row.data.toList.drop 46 = dktX5_row_2 := dk_seg dksX5_row_1 23 rfl rfl
theorem dksX5_row_3 : cX5_row.data.toList.drop 51 = dktX5_row_3 := dk_seg dksX5_row_2 5 rfl rfl
theorem dksX5_row_4 : cX5_row.data.toList.drop 80 = dktX5_row_4 := dk_seg dksX5_row_3 29 rfl rfl
theorem dksX5_row_5 : cX5_row.data.toList.drop 102 = dktX5_row_5 := dk_seg dksX5_row_4 22 rfl rfl
theorem dX5_row_0 : decode cX5_row 0 = .ok (.aload_n 0, 1) := dk_42 (dk_at dksX5_row_0 0 rfl rfl)
theorem dX5_row_1 : decode cX5_row 1 = .ok (.iload_n 1, 1) := dk_27 (dk_at dksX5_row_0 1 rfl rfl)
theorem dX5_row_2 : decode cX5_row 2 = .ok (.iload_n 2, 1) := dk_28 (dk_at dksX5_row_0 2 rfl rfl)
theorem dX5_row_3 : decode cX5_row 3 = .ok (.invokevirtual 255, 3) := dk_182 0 255 (dk_at dksX5_row_0 3 rfl rfl)
theorem dX5_row_6 : decode cX5_row 6 = .ok (.ifCond .ne 6, 3) := dk_154 0 6 (dk_at dksX5_row_0 6 rfl rfl)
theorem dX5_row_9 : decode cX5_row 9 = .ok (.bipush (-2), 2) := dk_16 254 (dk_at dksX5_row_0 9 rfl rfl)
theorem dX5_row_11 : decode cX5_row 11 = .ok (.ireturn, 1) := dk_172 (dk_at dksX5_row_0 11 rfl rfl)
theorem dX5_row_12 : decode cX5_row 12 = .ok (.iload_n 3, 1) := dk_29 (dk_at dksX5_row_0 12 rfl rfl)
theorem dX5_row_13 : decode cX5_row 13 = .ok (.iconst (-1), 1) := dk_2 (dk_at dksX5_row_0 13 rfl rfl)
theorem dX5_row_14 : decode cX5_row 14 = .ok (.if_icmp .ne 18, 3) := dk_160 0 18 (dk_at dksX5_row_0 14 rfl rfl)
theorem dX5_row_17 : decode cX5_row 17 = .ok (.iload 4, 2) := dk_21 4 (dk_at dksX5_row_0 17 rfl rfl)
theorem dX5_row_19 : decode cX5_row 19 = .ok (.ifCond .ne 10, 3) := dk_154 0 10 (dk_at dksX5_row_0 19 rfl rfl)
theorem dX5_row_22 : decode cX5_row 22 = .ok (.aload_n 0, 1) := dk_42 (dk_at dksX5_row_0 22 rfl rfl)
theorem dX5_row_23 : decode cX5_row 23 = .ok (.getfield 243, 3) := dk_180 0 243 (dk_at dksX5_row_1 0 rfl rfl)
theorem dX5_row_26 : decode cX5_row 26 = .ok (.goto 5, 3) := dk_167 0 5 (dk_at dksX5_row_1 3 rfl rfl)
theorem dX5_row_29 : decode cX5_row 29 = .ok (.bipush (-2), 2) := dk_16 254 (dk_at dksX5_row_1 6 rfl rfl)
theorem dX5_row_31 : decode cX5_row 31 = .ok (.ireturn, 1) := dk_172 (dk_at dksX5_row_1 8 rfl rfl)
theorem dX5_row_32 : decode cX5_row 32 = .ok (.iload_n 3, 1) := dk_29 (dk_at dksX5_row_1 9 rfl rfl)
theorem dX5_row_33 : decode cX5_row 33 = .ok (.iconst 0, 1) := dk_3 (dk_at dksX5_row_1 10 rfl rfl)
theorem dX5_row_34 : decode cX5_row 34 = .ok (.aload_n 0, 1) := dk_42 (dk_at dksX5_row_1 11 rfl rfl)
theorem dX5_row_35 : decode cX5_row 35 = .ok (.getfield 243, 3) := dk_180 0 243 (dk_at dksX5_row_1 12 rfl rfl)
theorem dX5_row_38 : decode cX5_row 38 = .ok (.iconst 1, 1) := dk_4 (dk_at dksX5_row_1 15 rfl rfl)
theorem dX5_row_39 : decode cX5_row 39 = .ok (.isub, 1) := dk_100 (dk_at dksX5_row_1 16 rfl rfl)
theorem dX5_row_40 : decode cX5_row 40 = .ok (.invokestatic 145, 3) := dk_184 0 145 (dk_at dksX5_row_1 17 rfl rfl)
theorem dX5_row_43 : decode cX5_row 43 = .ok (.ifCond .ne 6, 3) := dk_154 0 6 (dk_at dksX5_row_1 20 rfl rfl)
theorem dX5_row_46 : decode cX5_row 46 = .ok (.bipush (-2), 2) := dk_16 254 (dk_at dksX5_row_2 0 rfl rfl)
theorem dX5_row_48 : decode cX5_row 48 = .ok (.ireturn, 1) := dk_172 (dk_at dksX5_row_2 2 rfl rfl)
theorem dX5_row_49 : decode cX5_row 49 = .ok (.iload 4, 2) := dk_21 4 (dk_at dksX5_row_2 3 rfl rfl)
theorem dX5_row_51 : decode cX5_row 51 = .ok (.tableswitch 65 0 3 #[29, 36, 43, 50], 29) := by decide +kernel
theorem dX5_row_80 : decode cX5_row 80 = .ok (.aload_n 0, 1) := dk_42 (dk_at dksX5_row_4 0 rfl rfl)
theorem dX5_row_81 : decode cX5_row 81 = .ok (.getfield 26, 3) := dk_180 0 26 (dk_at dksX5_row_4 1 rfl rfl)
theorem dX5_row_84 : decode cX5_row 84 = .ok (.iload_n 3, 1) := dk_29 (dk_at dksX5_row_4 4 rfl rfl)
theorem dX5_row_85 : decode cX5_row 85 = .ok (.iaload, 1) := dk_46 (dk_at dksX5_row_4 5 rfl rfl)
theorem dX5_row_86 : decode cX5_row 86 = .ok (.ireturn, 1) := dk_172 (dk_at dksX5_row_4 6 rfl rfl)
theorem dX5_row_87 : decode cX5_row 87 = .ok (.aload_n 0, 1) := dk_42 (dk_at dksX5_row_4 7 rfl rfl)
theorem dX5_row_88 : decode cX5_row 88 = .ok (.getfield 29, 3) := dk_180 0 29 (dk_at dksX5_row_4 8 rfl rfl)
theorem dX5_row_91 : decode cX5_row 91 = .ok (.iload_n 3, 1) := dk_29 (dk_at dksX5_row_4 11 rfl rfl)
theorem dX5_row_92 : decode cX5_row 92 = .ok (.iaload, 1) := dk_46 (dk_at dksX5_row_4 12 rfl rfl)
theorem dX5_row_93 : decode cX5_row 93 = .ok (.ireturn, 1) := dk_172 (dk_at dksX5_row_4 13 rfl rfl)
theorem dX5_row_94 : decode cX5_row 94 = .ok (.aload_n 0, 1) := dk_42 (dk_at dksX5_row_4 14 rfl rfl)
theorem dX5_row_95 : decode cX5_row 95 = .ok (.getfield 32, 3) := dk_180 0 32 (dk_at dksX5_row_4 15 rfl rfl)
theorem dX5_row_98 : decode cX5_row 98 = .ok (.iload_n 3, 1) := dk_29 (dk_at dksX5_row_4 18 rfl rfl)
theorem dX5_row_99 : decode cX5_row 99 = .ok (.iaload, 1) := dk_46 (dk_at dksX5_row_4 19 rfl rfl)
theorem dX5_row_100 : decode cX5_row 100 = .ok (.ireturn, 1) := dk_172 (dk_at dksX5_row_4 20 rfl rfl)
theorem dX5_row_101 : decode cX5_row 101 = .ok (.aload_n 0, 1) := dk_42 (dk_at dksX5_row_4 21 rfl rfl)
theorem dX5_row_102 : decode cX5_row 102 = .ok (.getfield 35, 3) := dk_180 0 35 (dk_at dksX5_row_5 0 rfl rfl)
theorem dX5_row_105 : decode cX5_row 105 = .ok (.iload_n 3, 1) := dk_29 (dk_at dksX5_row_5 3 rfl rfl)
theorem dX5_row_106 : decode cX5_row 106 = .ok (.baload, 1) := dk_51 (dk_at dksX5_row_5 4 rfl rfl)
theorem dX5_row_107 : decode cX5_row 107 = .ok (.ifCond .eq 7, 3) := dk_153 0 7 (dk_at dksX5_row_5 5 rfl rfl)
theorem dX5_row_110 : decode cX5_row 110 = .ok (.iconst 1, 1) := dk_4 (dk_at dksX5_row_5 8 rfl rfl)
theorem dX5_row_111 : decode cX5_row 111 = .ok (.goto 4, 3) := dk_167 0 4 (dk_at dksX5_row_5 9 rfl rfl)
theorem dX5_row_114 : decode cX5_row 114 = .ok (.iconst 0, 1) := dk_3 (dk_at dksX5_row_5 12 rfl rfl)
theorem dX5_row_115 : decode cX5_row 115 = .ok (.ireturn, 1) := dk_172 (dk_at dksX5_row_5 13 rfl rfl)
theorem dX5_row_116 : decode cX5_row 116 = .ok (.bipush (-2), 2) := dk_16 254 (dk_at dksX5_row_5 14 rfl rfl)
theorem dX5_row_118 : decode cX5_row 118 = .ok (.ireturn, 1) := dk_172 (dk_at dksX5_row_5 16 rfl rfl)
abbrev cX5_arePlayed : ByteArray := prog_24_method_48_code
def yX5_arePlayed : MethodName := ⟨RX5, "arePlayed", "(II)Z"⟩
def dkwX5_arePlayed_1 : List UInt8 := [182, 0, 252, 4, 172]
abbrev dktX5_arePlayed_1 : List UInt8 := dkwX5_arePlayed_1 ++ []
def dkwX5_arePlayed_0 : List UInt8 := [42, 27, 182, 0, 224, 153, 0, 11, 42, 28, 182, 0, 240, 154, 0, 5, 3, 172, 42, 182, 0, 249, 42, 3]
abbrev dktX5_arePlayed_0 : List UInt8 := dkwX5_arePlayed_0 ++ dktX5_arePlayed_1
theorem dksX5_arePlayed_0 : cX5_arePlayed.data.toList.drop 0 = dktX5_arePlayed_0 := by decide +kernel
theorem dksX5_arePlayed_1 : cX5_arePlayed.data.toList.drop 24 = dktX5_arePlayed_1 := dk_seg dksX5_arePlayed_0 24 rfl rfl
theorem dX5_arePlayed_0 : decode cX5_arePlayed 0 = .ok (.aload_n 0, 1) := dk_42 (dk_at dksX5_arePlayed_0 0 rfl rfl)
theorem dX5_arePlayed_1 : decode cX5_arePlayed 1 = .ok (.iload_n 1, 1) := dk_27 (dk_at dksX5_arePlayed_0 1 rfl rfl)
theorem dX5_arePlayed_2 : decode cX5_arePlayed 2 = .ok (.invokevirtual 224, 3) := dk_182 0 224 (dk_at dksX5_arePlayed_0 2 rfl rfl)
theorem dX5_arePlayed_5 : decode cX5_arePlayed 5 = .ok (.ifCond .eq 11, 3) := dk_153 0 11 (dk_at dksX5_arePlayed_0 5 rfl rfl)
theorem dX5_arePlayed_8 : decode cX5_arePlayed 8 = .ok (.aload_n 0, 1) := dk_42 (dk_at dksX5_arePlayed_0 8 rfl rfl)
theorem dX5_arePlayed_9 : decode cX5_arePlayed 9 = .ok (.iload_n 2, 1) := dk_28 (dk_at dksX5_arePlayed_0 9 rfl rfl)
theorem dX5_arePlayed_10 : decode cX5_arePlayed 10 = .ok (.invokevirtual 240, 3) := dk_182 0 240 (dk_at dksX5_arePlayed_0 10 rfl rfl)
theorem dX5_arePlayed_13 : decode cX5_arePlayed 13 = .ok (.ifCond .ne 5, 3) := dk_154 0 5 (dk_at dksX5_arePlayed_0 13 rfl rfl)
theorem dX5_arePlayed_16 : decode cX5_arePlayed 16 = .ok (.iconst 0, 1) := dk_3 (dk_at dksX5_arePlayed_0 16 rfl rfl)
theorem dX5_arePlayed_17 : decode cX5_arePlayed 17 = .ok (.ireturn, 1) := dk_172 (dk_at dksX5_arePlayed_0 17 rfl rfl)
theorem dX5_arePlayed_18 : decode cX5_arePlayed 18 = .ok (.aload_n 0, 1) := dk_42 (dk_at dksX5_arePlayed_0 18 rfl rfl)
theorem dX5_arePlayed_19 : decode cX5_arePlayed 19 = .ok (.invokevirtual 249, 3) := dk_182 0 249 (dk_at dksX5_arePlayed_0 19 rfl rfl)
theorem dX5_arePlayed_22 : decode cX5_arePlayed 22 = .ok (.aload_n 0, 1) := dk_42 (dk_at dksX5_arePlayed_0 22 rfl rfl)
theorem dX5_arePlayed_23 : decode cX5_arePlayed 23 = .ok (.iconst 0, 1) := dk_3 (dk_at dksX5_arePlayed_0 23 rfl rfl)
theorem dX5_arePlayed_24 : decode cX5_arePlayed 24 = .ok (.invokevirtual 252, 3) := dk_182 0 252 (dk_at dksX5_arePlayed_1 0 rfl rfl)
theorem dX5_arePlayed_27 : decode cX5_arePlayed 27 = .ok (.iconst 1, 1) := dk_4 (dk_at dksX5_arePlayed_1 3 rfl rfl)
theorem dX5_arePlayed_28 : decode cX5_arePlayed 28 = .ok (.ireturn, 1) := dk_172 (dk_at dksX5_arePlayed_1 4 rfl rfl)
abbrev cX5_takesScore : ByteArray := prog_24_method_47_code
def yX5_takesScore : MethodName := ⟨RX5, "takesScore", "()V"⟩
def dkwX5_takesScore_3 : List UInt8 := [132, 1, 1, 167, 255, 184, 42, 182, 0, 246, 177]
abbrev dktX5_takesScore_3 : List UInt8 := dkwX5_takesScore_3 ++ []
def dkwX5_takesScore_2 : List UInt8 := [180, 0, 7, 42, 180, 0, 237, 5, 96, 16, 12, 27, 104, 96, 28, 96, 46, 79, 132, 2, 1, 167, 255, 214]
abbrev dktX5_takesScore_2 : List UInt8 := dkwX5_takesScore_2 ++ dktX5_takesScore_3
def dkwX5_takesScore_1 : List UInt8 := [3, 61, 28, 42, 180, 0, 23, 27, 46, 162, 0, 38, 42, 180, 0, 20, 16, 12, 27, 104, 28, 96, 42]
abbrev dktX5_takesScore_1 : List UInt8 := dkwX5_takesScore_1 ++ dktX5_takesScore_2
def dkwX5_takesScore_0 : List UInt8 := [3, 60, 27, 5, 162, 0, 73, 42, 180, 0, 23, 27, 42, 180, 0, 7, 42, 180, 0, 237, 27, 96, 46, 79]
abbrev dktX5_takesScore_0 : List UInt8 := dkwX5_takesScore_0 ++ dktX5_takesScore_1
theorem dksX5_takesScore_0 : cX5_takesScore.data.toList.drop 0 = dktX5_takesScore_0 := by decide +kernel
theorem dksX5_takesScore_1 : cX5_takesScore.data.toList.drop 24 = dktX5_takesScore_1 := dk_seg dksX5_takesScore_0 24 rfl rfl
theorem dksX5_takesScore_2 : cX5_takesScore.data.toList.drop 47 = dktX5_takesScore_2 := dk_seg dksX5_takesScore_1 23 rfl rfl
theorem dksX5_takesScore_3 : cX5_takesScore.data.toList.drop 71 = dktX5_takesScore_3 := dk_seg dksX5_takesScore_2 24 rfl rfl
theorem dX5_takesScore_0 : decode cX5_takesScore 0 = .ok (.iconst 0, 1) := dk_3 (dk_at dksX5_takesScore_0 0 rfl rfl)
theorem dX5_takesScore_1 : decode cX5_takesScore 1 = .ok (.istore_n 1, 1) := dk_60 (dk_at dksX5_takesScore_0 1 rfl rfl)
theorem dX5_takesScore_2 : decode cX5_takesScore 2 = .ok (.iload_n 1, 1) := dk_27 (dk_at dksX5_takesScore_0 2 rfl rfl)
theorem dX5_takesScore_3 : decode cX5_takesScore 3 = .ok (.iconst 2, 1) := dk_5 (dk_at dksX5_takesScore_0 3 rfl rfl)
theorem dX5_takesScore_4 : decode cX5_takesScore 4 = .ok (.if_icmp .ge 73, 3) := dk_162 0 73 (dk_at dksX5_takesScore_0 4 rfl rfl)
theorem dX5_takesScore_7 : decode cX5_takesScore 7 = .ok (.aload_n 0, 1) := dk_42 (dk_at dksX5_takesScore_0 7 rfl rfl)
theorem dX5_takesScore_8 : decode cX5_takesScore 8 = .ok (.getfield 23, 3) := dk_180 0 23 (dk_at dksX5_takesScore_0 8 rfl rfl)
theorem dX5_takesScore_11 : decode cX5_takesScore 11 = .ok (.iload_n 1, 1) := dk_27 (dk_at dksX5_takesScore_0 11 rfl rfl)
theorem dX5_takesScore_12 : decode cX5_takesScore 12 = .ok (.aload_n 0, 1) := dk_42 (dk_at dksX5_takesScore_0 12 rfl rfl)
theorem dX5_takesScore_13 : decode cX5_takesScore 13 = .ok (.getfield 7, 3) := dk_180 0 7 (dk_at dksX5_takesScore_0 13 rfl rfl)
theorem dX5_takesScore_16 : decode cX5_takesScore 16 = .ok (.aload_n 0, 1) := dk_42 (dk_at dksX5_takesScore_0 16 rfl rfl)
theorem dX5_takesScore_17 : decode cX5_takesScore 17 = .ok (.getfield 237, 3) := dk_180 0 237 (dk_at dksX5_takesScore_0 17 rfl rfl)
theorem dX5_takesScore_20 : decode cX5_takesScore 20 = .ok (.iload_n 1, 1) := dk_27 (dk_at dksX5_takesScore_0 20 rfl rfl)
theorem dX5_takesScore_21 : decode cX5_takesScore 21 = .ok (.iadd, 1) := dk_96 (dk_at dksX5_takesScore_0 21 rfl rfl)
theorem dX5_takesScore_22 : decode cX5_takesScore 22 = .ok (.iaload, 1) := dk_46 (dk_at dksX5_takesScore_0 22 rfl rfl)
theorem dX5_takesScore_23 : decode cX5_takesScore 23 = .ok (.iastore, 1) := dk_79 (dk_at dksX5_takesScore_0 23 rfl rfl)
theorem dX5_takesScore_24 : decode cX5_takesScore 24 = .ok (.iconst 0, 1) := dk_3 (dk_at dksX5_takesScore_1 0 rfl rfl)
theorem dX5_takesScore_25 : decode cX5_takesScore 25 = .ok (.istore_n 2, 1) := dk_61 (dk_at dksX5_takesScore_1 1 rfl rfl)
theorem dX5_takesScore_26 : decode cX5_takesScore 26 = .ok (.iload_n 2, 1) := dk_28 (dk_at dksX5_takesScore_1 2 rfl rfl)
theorem dX5_takesScore_27 : decode cX5_takesScore 27 = .ok (.aload_n 0, 1) := dk_42 (dk_at dksX5_takesScore_1 3 rfl rfl)
theorem dX5_takesScore_28 : decode cX5_takesScore 28 = .ok (.getfield 23, 3) := dk_180 0 23 (dk_at dksX5_takesScore_1 4 rfl rfl)
theorem dX5_takesScore_31 : decode cX5_takesScore 31 = .ok (.iload_n 1, 1) := dk_27 (dk_at dksX5_takesScore_1 7 rfl rfl)
theorem dX5_takesScore_32 : decode cX5_takesScore 32 = .ok (.iaload, 1) := dk_46 (dk_at dksX5_takesScore_1 8 rfl rfl)
theorem dX5_takesScore_33 : decode cX5_takesScore 33 = .ok (.if_icmp .ge 38, 3) := dk_162 0 38 (dk_at dksX5_takesScore_1 9 rfl rfl)
theorem dX5_takesScore_36 : decode cX5_takesScore 36 = .ok (.aload_n 0, 1) := dk_42 (dk_at dksX5_takesScore_1 12 rfl rfl)
theorem dX5_takesScore_37 : decode cX5_takesScore 37 = .ok (.getfield 20, 3) := dk_180 0 20 (dk_at dksX5_takesScore_1 13 rfl rfl)
theorem dX5_takesScore_40 : decode cX5_takesScore 40 = .ok (.bipush 12, 2) := dk_16 12 (dk_at dksX5_takesScore_1 16 rfl rfl)
theorem dX5_takesScore_42 : decode cX5_takesScore 42 = .ok (.iload_n 1, 1) := dk_27 (dk_at dksX5_takesScore_1 18 rfl rfl)
theorem dX5_takesScore_43 : decode cX5_takesScore 43 = .ok (.imul, 1) := dk_104 (dk_at dksX5_takesScore_1 19 rfl rfl)
theorem dX5_takesScore_44 : decode cX5_takesScore 44 = .ok (.iload_n 2, 1) := dk_28 (dk_at dksX5_takesScore_1 20 rfl rfl)
theorem dX5_takesScore_45 : decode cX5_takesScore 45 = .ok (.iadd, 1) := dk_96 (dk_at dksX5_takesScore_1 21 rfl rfl)
theorem dX5_takesScore_46 : decode cX5_takesScore 46 = .ok (.aload_n 0, 1) := dk_42 (dk_at dksX5_takesScore_1 22 rfl rfl)
theorem dX5_takesScore_47 : decode cX5_takesScore 47 = .ok (.getfield 7, 3) := dk_180 0 7 (dk_at dksX5_takesScore_2 0 rfl rfl)
theorem dX5_takesScore_50 : decode cX5_takesScore 50 = .ok (.aload_n 0, 1) := dk_42 (dk_at dksX5_takesScore_2 3 rfl rfl)
theorem dX5_takesScore_51 : decode cX5_takesScore 51 = .ok (.getfield 237, 3) := dk_180 0 237 (dk_at dksX5_takesScore_2 4 rfl rfl)
theorem dX5_takesScore_54 : decode cX5_takesScore 54 = .ok (.iconst 2, 1) := dk_5 (dk_at dksX5_takesScore_2 7 rfl rfl)
theorem dX5_takesScore_55 : decode cX5_takesScore 55 = .ok (.iadd, 1) := dk_96 (dk_at dksX5_takesScore_2 8 rfl rfl)
theorem dX5_takesScore_56 : decode cX5_takesScore 56 = .ok (.bipush 12, 2) := dk_16 12 (dk_at dksX5_takesScore_2 9 rfl rfl)
theorem dX5_takesScore_58 : decode cX5_takesScore 58 = .ok (.iload_n 1, 1) := dk_27 (dk_at dksX5_takesScore_2 11 rfl rfl)
theorem dX5_takesScore_59 : decode cX5_takesScore 59 = .ok (.imul, 1) := dk_104 (dk_at dksX5_takesScore_2 12 rfl rfl)
theorem dX5_takesScore_60 : decode cX5_takesScore 60 = .ok (.iadd, 1) := dk_96 (dk_at dksX5_takesScore_2 13 rfl rfl)
theorem dX5_takesScore_61 : decode cX5_takesScore 61 = .ok (.iload_n 2, 1) := dk_28 (dk_at dksX5_takesScore_2 14 rfl rfl)
theorem dX5_takesScore_62 : decode cX5_takesScore 62 = .ok (.iadd, 1) := dk_96 (dk_at dksX5_takesScore_2 15 rfl rfl)
theorem dX5_takesScore_63 : decode cX5_takesScore 63 = .ok (.iaload, 1) := dk_46 (dk_at dksX5_takesScore_2 16 rfl rfl)
theorem dX5_takesScore_64 : decode cX5_takesScore 64 = .ok (.iastore, 1) := dk_79 (dk_at dksX5_takesScore_2 17 rfl rfl)
theorem dX5_takesScore_65 : decode cX5_takesScore 65 = .ok (.iinc 2 1, 3) := dk_132 2 1 (dk_at dksX5_takesScore_2 18 rfl rfl)
theorem dX5_takesScore_68 : decode cX5_takesScore 68 = .ok (.goto (-42), 3) := dk_167 255 214 (dk_at dksX5_takesScore_2 21 rfl rfl)
theorem dX5_takesScore_71 : decode cX5_takesScore 71 = .ok (.iinc 1 1, 3) := dk_132 1 1 (dk_at dksX5_takesScore_3 0 rfl rfl)
theorem dX5_takesScore_74 : decode cX5_takesScore 74 = .ok (.goto (-72), 3) := dk_167 255 184 (dk_at dksX5_takesScore_3 3 rfl rfl)
theorem dX5_takesScore_77 : decode cX5_takesScore 77 = .ok (.aload_n 0, 1) := dk_42 (dk_at dksX5_takesScore_3 6 rfl rfl)
theorem dX5_takesScore_78 : decode cX5_takesScore 78 = .ok (.invokevirtual 246, 3) := dk_182 0 246 (dk_at dksX5_takesScore_3 7 rfl rfl)
theorem dX5_takesScore_81 : decode cX5_takesScore 81 = .ok (.return_, 1) := dk_177 (dk_at dksX5_takesScore_3 10 rfl rfl)
abbrev cX5_laysRow : ByteArray := prog_24_method_45_code
def yX5_laysRow : MethodName := ⟨RX5, "laysRow", "()V"⟩
def dkwX5_laysRow_7 : List UInt8 := [167, 255, 103, 177]
abbrev dktX5_laysRow_7 : List UInt8 := dkwX5_laysRow_7 ++ []
def dkwX5_laysRow_6 : List UInt8 := [180, 0, 243, 4, 79, 42, 89, 180, 0, 243, 4, 96, 181, 0, 243, 132, 2, 1, 132, 3, 1, 167, 255, 193]
abbrev dktX5_laysRow_6 : List UInt8 := dkwX5_laysRow_6 ++ dktX5_laysRow_7
def dkwX5_laysRow_5 : List UInt8 := [180, 0, 26, 42, 180, 0, 243, 42, 180, 0, 20, 16, 12, 28, 96, 46, 79, 42, 180, 0, 29, 42]
abbrev dktX5_laysRow_5 : List UInt8 := dkwX5_laysRow_5 ++ dktX5_laysRow_6
def dkwX5_laysRow_4 : List UInt8 := [3, 62, 29, 42, 3, 182, 0, 212, 162, 0, 60, 28, 42, 180, 0, 23, 4, 46, 162, 0, 50, 42]
abbrev dktX5_laysRow_4 : List UInt8 := dkwX5_laysRow_4 ++ dktX5_laysRow_5
def dkwX5_laysRow_3 : List UInt8 := [180, 0, 243, 3, 79, 42, 89, 180, 0, 243, 4, 96, 181, 0, 243, 132, 1, 1, 132, 3, 1, 167, 255, 196]
abbrev dktX5_laysRow_3 : List UInt8 := dkwX5_laysRow_3 ++ dktX5_laysRow_4
def dkwX5_laysRow_2 : List UInt8 := [162, 0, 47, 42, 180, 0, 26, 42, 180, 0, 243, 42, 180, 0, 20, 27, 46, 79, 42, 180, 0, 29, 42]
abbrev dktX5_laysRow_2 : List UInt8 := dkwX5_laysRow_2 ++ dktX5_laysRow_3
def dkwX5_laysRow_1 : List UInt8 := [4, 46, 162, 0, 139, 3, 62, 29, 42, 3, 182, 0, 212, 162, 0, 57, 27, 42, 180, 0, 23, 3, 46]
abbrev dktX5_laysRow_1 : List UInt8 := dkwX5_laysRow_1 ++ dktX5_laysRow_2
def dkwX5_laysRow_0 : List UInt8 := [42, 3, 181, 0, 243, 3, 60, 3, 61, 27, 42, 180, 0, 23, 3, 46, 161, 0, 13, 28, 42, 180, 0, 23]
abbrev dktX5_laysRow_0 : List UInt8 := dkwX5_laysRow_0 ++ dktX5_laysRow_1
theorem dksX5_laysRow_0 : cX5_laysRow.data.toList.drop 0 = dktX5_laysRow_0 := by decide +kernel
theorem dksX5_laysRow_1 : cX5_laysRow.data.toList.drop 24 = dktX5_laysRow_1 := dk_seg dksX5_laysRow_0 24 rfl rfl
theorem dksX5_laysRow_2 : cX5_laysRow.data.toList.drop 47 = dktX5_laysRow_2 := dk_seg dksX5_laysRow_1 23 rfl rfl
theorem dksX5_laysRow_3 : cX5_laysRow.data.toList.drop 70 = dktX5_laysRow_3 := dk_seg dksX5_laysRow_2 23 rfl rfl
theorem dksX5_laysRow_4 : cX5_laysRow.data.toList.drop 94 = dktX5_laysRow_4 := dk_seg dksX5_laysRow_3 24 rfl rfl
theorem dksX5_laysRow_5 : cX5_laysRow.data.toList.drop 116 = dktX5_laysRow_5 := dk_seg dksX5_laysRow_4 22 rfl rfl
theorem dksX5_laysRow_6 : cX5_laysRow.data.toList.drop 138 = dktX5_laysRow_6 := dk_seg dksX5_laysRow_5 22 rfl rfl
theorem dksX5_laysRow_7 : cX5_laysRow.data.toList.drop 162 = dktX5_laysRow_7 := dk_seg dksX5_laysRow_6 24 rfl rfl
theorem dX5_laysRow_0 : decode cX5_laysRow 0 = .ok (.aload_n 0, 1) := dk_42 (dk_at dksX5_laysRow_0 0 rfl rfl)
theorem dX5_laysRow_1 : decode cX5_laysRow 1 = .ok (.iconst 0, 1) := dk_3 (dk_at dksX5_laysRow_0 1 rfl rfl)
theorem dX5_laysRow_2 : decode cX5_laysRow 2 = .ok (.putfield 243, 3) := dk_181 0 243 (dk_at dksX5_laysRow_0 2 rfl rfl)
theorem dX5_laysRow_5 : decode cX5_laysRow 5 = .ok (.iconst 0, 1) := dk_3 (dk_at dksX5_laysRow_0 5 rfl rfl)
theorem dX5_laysRow_6 : decode cX5_laysRow 6 = .ok (.istore_n 1, 1) := dk_60 (dk_at dksX5_laysRow_0 6 rfl rfl)
theorem dX5_laysRow_7 : decode cX5_laysRow 7 = .ok (.iconst 0, 1) := dk_3 (dk_at dksX5_laysRow_0 7 rfl rfl)
theorem dX5_laysRow_8 : decode cX5_laysRow 8 = .ok (.istore_n 2, 1) := dk_61 (dk_at dksX5_laysRow_0 8 rfl rfl)
theorem dX5_laysRow_9 : decode cX5_laysRow 9 = .ok (.iload_n 1, 1) := dk_27 (dk_at dksX5_laysRow_0 9 rfl rfl)
theorem dX5_laysRow_10 : decode cX5_laysRow 10 = .ok (.aload_n 0, 1) := dk_42 (dk_at dksX5_laysRow_0 10 rfl rfl)
theorem dX5_laysRow_11 : decode cX5_laysRow 11 = .ok (.getfield 23, 3) := dk_180 0 23 (dk_at dksX5_laysRow_0 11 rfl rfl)
theorem dX5_laysRow_14 : decode cX5_laysRow 14 = .ok (.iconst 0, 1) := dk_3 (dk_at dksX5_laysRow_0 14 rfl rfl)
theorem dX5_laysRow_15 : decode cX5_laysRow 15 = .ok (.iaload, 1) := dk_46 (dk_at dksX5_laysRow_0 15 rfl rfl)
theorem dX5_laysRow_16 : decode cX5_laysRow 16 = .ok (.if_icmp .lt 13, 3) := dk_161 0 13 (dk_at dksX5_laysRow_0 16 rfl rfl)
theorem dX5_laysRow_19 : decode cX5_laysRow 19 = .ok (.iload_n 2, 1) := dk_28 (dk_at dksX5_laysRow_0 19 rfl rfl)
theorem dX5_laysRow_20 : decode cX5_laysRow 20 = .ok (.aload_n 0, 1) := dk_42 (dk_at dksX5_laysRow_0 20 rfl rfl)
theorem dX5_laysRow_21 : decode cX5_laysRow 21 = .ok (.getfield 23, 3) := dk_180 0 23 (dk_at dksX5_laysRow_0 21 rfl rfl)
theorem dX5_laysRow_24 : decode cX5_laysRow 24 = .ok (.iconst 1, 1) := dk_4 (dk_at dksX5_laysRow_1 0 rfl rfl)
theorem dX5_laysRow_25 : decode cX5_laysRow 25 = .ok (.iaload, 1) := dk_46 (dk_at dksX5_laysRow_1 1 rfl rfl)
theorem dX5_laysRow_26 : decode cX5_laysRow 26 = .ok (.if_icmp .ge 139, 3) := dk_162 0 139 (dk_at dksX5_laysRow_1 2 rfl rfl)
theorem dX5_laysRow_29 : decode cX5_laysRow 29 = .ok (.iconst 0, 1) := dk_3 (dk_at dksX5_laysRow_1 5 rfl rfl)
theorem dX5_laysRow_30 : decode cX5_laysRow 30 = .ok (.istore_n 3, 1) := dk_62 (dk_at dksX5_laysRow_1 6 rfl rfl)
theorem dX5_laysRow_31 : decode cX5_laysRow 31 = .ok (.iload_n 3, 1) := dk_29 (dk_at dksX5_laysRow_1 7 rfl rfl)
theorem dX5_laysRow_32 : decode cX5_laysRow 32 = .ok (.aload_n 0, 1) := dk_42 (dk_at dksX5_laysRow_1 8 rfl rfl)
theorem dX5_laysRow_33 : decode cX5_laysRow 33 = .ok (.iconst 0, 1) := dk_3 (dk_at dksX5_laysRow_1 9 rfl rfl)
theorem dX5_laysRow_34 : decode cX5_laysRow 34 = .ok (.invokevirtual 212, 3) := dk_182 0 212 (dk_at dksX5_laysRow_1 10 rfl rfl)
theorem dX5_laysRow_37 : decode cX5_laysRow 37 = .ok (.if_icmp .ge 57, 3) := dk_162 0 57 (dk_at dksX5_laysRow_1 13 rfl rfl)
theorem dX5_laysRow_40 : decode cX5_laysRow 40 = .ok (.iload_n 1, 1) := dk_27 (dk_at dksX5_laysRow_1 16 rfl rfl)
theorem dX5_laysRow_41 : decode cX5_laysRow 41 = .ok (.aload_n 0, 1) := dk_42 (dk_at dksX5_laysRow_1 17 rfl rfl)
theorem dX5_laysRow_42 : decode cX5_laysRow 42 = .ok (.getfield 23, 3) := dk_180 0 23 (dk_at dksX5_laysRow_1 18 rfl rfl)
theorem dX5_laysRow_45 : decode cX5_laysRow 45 = .ok (.iconst 0, 1) := dk_3 (dk_at dksX5_laysRow_1 21 rfl rfl)
theorem dX5_laysRow_46 : decode cX5_laysRow 46 = .ok (.iaload, 1) := dk_46 (dk_at dksX5_laysRow_1 22 rfl rfl)
theorem dX5_laysRow_47 : decode cX5_laysRow 47 = .ok (.if_icmp .ge 47, 3) := dk_162 0 47 (dk_at dksX5_laysRow_2 0 rfl rfl)
theorem dX5_laysRow_50 : decode cX5_laysRow 50 = .ok (.aload_n 0, 1) := dk_42 (dk_at dksX5_laysRow_2 3 rfl rfl)
theorem dX5_laysRow_51 : decode cX5_laysRow 51 = .ok (.getfield 26, 3) := dk_180 0 26 (dk_at dksX5_laysRow_2 4 rfl rfl)
theorem dX5_laysRow_54 : decode cX5_laysRow 54 = .ok (.aload_n 0, 1) := dk_42 (dk_at dksX5_laysRow_2 7 rfl rfl)
theorem dX5_laysRow_55 : decode cX5_laysRow 55 = .ok (.getfield 243, 3) := dk_180 0 243 (dk_at dksX5_laysRow_2 8 rfl rfl)
theorem dX5_laysRow_58 : decode cX5_laysRow 58 = .ok (.aload_n 0, 1) := dk_42 (dk_at dksX5_laysRow_2 11 rfl rfl)
theorem dX5_laysRow_59 : decode cX5_laysRow 59 = .ok (.getfield 20, 3) := dk_180 0 20 (dk_at dksX5_laysRow_2 12 rfl rfl)
theorem dX5_laysRow_62 : decode cX5_laysRow 62 = .ok (.iload_n 1, 1) := dk_27 (dk_at dksX5_laysRow_2 15 rfl rfl)
theorem dX5_laysRow_63 : decode cX5_laysRow 63 = .ok (.iaload, 1) := dk_46 (dk_at dksX5_laysRow_2 16 rfl rfl)
theorem dX5_laysRow_64 : decode cX5_laysRow 64 = .ok (.iastore, 1) := dk_79 (dk_at dksX5_laysRow_2 17 rfl rfl)
theorem dX5_laysRow_65 : decode cX5_laysRow 65 = .ok (.aload_n 0, 1) := dk_42 (dk_at dksX5_laysRow_2 18 rfl rfl)
theorem dX5_laysRow_66 : decode cX5_laysRow 66 = .ok (.getfield 29, 3) := dk_180 0 29 (dk_at dksX5_laysRow_2 19 rfl rfl)
theorem dX5_laysRow_69 : decode cX5_laysRow 69 = .ok (.aload_n 0, 1) := dk_42 (dk_at dksX5_laysRow_2 22 rfl rfl)
theorem dX5_laysRow_70 : decode cX5_laysRow 70 = .ok (.getfield 243, 3) := dk_180 0 243 (dk_at dksX5_laysRow_3 0 rfl rfl)
theorem dX5_laysRow_73 : decode cX5_laysRow 73 = .ok (.iconst 0, 1) := dk_3 (dk_at dksX5_laysRow_3 3 rfl rfl)
theorem dX5_laysRow_74 : decode cX5_laysRow 74 = .ok (.iastore, 1) := dk_79 (dk_at dksX5_laysRow_3 4 rfl rfl)
theorem dX5_laysRow_75 : decode cX5_laysRow 75 = .ok (.aload_n 0, 1) := dk_42 (dk_at dksX5_laysRow_3 5 rfl rfl)
theorem dX5_laysRow_76 : decode cX5_laysRow 76 = .ok (.dup, 1) := dk_89 (dk_at dksX5_laysRow_3 6 rfl rfl)
theorem dX5_laysRow_77 : decode cX5_laysRow 77 = .ok (.getfield 243, 3) := dk_180 0 243 (dk_at dksX5_laysRow_3 7 rfl rfl)
theorem dX5_laysRow_80 : decode cX5_laysRow 80 = .ok (.iconst 1, 1) := dk_4 (dk_at dksX5_laysRow_3 10 rfl rfl)
theorem dX5_laysRow_81 : decode cX5_laysRow 81 = .ok (.iadd, 1) := dk_96 (dk_at dksX5_laysRow_3 11 rfl rfl)
theorem dX5_laysRow_82 : decode cX5_laysRow 82 = .ok (.putfield 243, 3) := dk_181 0 243 (dk_at dksX5_laysRow_3 12 rfl rfl)
theorem dX5_laysRow_85 : decode cX5_laysRow 85 = .ok (.iinc 1 1, 3) := dk_132 1 1 (dk_at dksX5_laysRow_3 15 rfl rfl)
theorem dX5_laysRow_88 : decode cX5_laysRow 88 = .ok (.iinc 3 1, 3) := dk_132 3 1 (dk_at dksX5_laysRow_3 18 rfl rfl)
theorem dX5_laysRow_91 : decode cX5_laysRow 91 = .ok (.goto (-60), 3) := dk_167 255 196 (dk_at dksX5_laysRow_3 21 rfl rfl)
theorem dX5_laysRow_94 : decode cX5_laysRow 94 = .ok (.iconst 0, 1) := dk_3 (dk_at dksX5_laysRow_4 0 rfl rfl)
theorem dX5_laysRow_95 : decode cX5_laysRow 95 = .ok (.istore_n 3, 1) := dk_62 (dk_at dksX5_laysRow_4 1 rfl rfl)
theorem dX5_laysRow_96 : decode cX5_laysRow 96 = .ok (.iload_n 3, 1) := dk_29 (dk_at dksX5_laysRow_4 2 rfl rfl)
theorem dX5_laysRow_97 : decode cX5_laysRow 97 = .ok (.aload_n 0, 1) := dk_42 (dk_at dksX5_laysRow_4 3 rfl rfl)
theorem dX5_laysRow_98 : decode cX5_laysRow 98 = .ok (.iconst 0, 1) := dk_3 (dk_at dksX5_laysRow_4 4 rfl rfl)
theorem dX5_laysRow_99 : decode cX5_laysRow 99 = .ok (.invokevirtual 212, 3) := dk_182 0 212 (dk_at dksX5_laysRow_4 5 rfl rfl)
theorem dX5_laysRow_102 : decode cX5_laysRow 102 = .ok (.if_icmp .ge 60, 3) := dk_162 0 60 (dk_at dksX5_laysRow_4 8 rfl rfl)
theorem dX5_laysRow_105 : decode cX5_laysRow 105 = .ok (.iload_n 2, 1) := dk_28 (dk_at dksX5_laysRow_4 11 rfl rfl)
theorem dX5_laysRow_106 : decode cX5_laysRow 106 = .ok (.aload_n 0, 1) := dk_42 (dk_at dksX5_laysRow_4 12 rfl rfl)
theorem dX5_laysRow_107 : decode cX5_laysRow 107 = .ok (.getfield 23, 3) := dk_180 0 23 (dk_at dksX5_laysRow_4 13 rfl rfl)
theorem dX5_laysRow_110 : decode cX5_laysRow 110 = .ok (.iconst 1, 1) := dk_4 (dk_at dksX5_laysRow_4 16 rfl rfl)
theorem dX5_laysRow_111 : decode cX5_laysRow 111 = .ok (.iaload, 1) := dk_46 (dk_at dksX5_laysRow_4 17 rfl rfl)
theorem dX5_laysRow_112 : decode cX5_laysRow 112 = .ok (.if_icmp .ge 50, 3) := dk_162 0 50 (dk_at dksX5_laysRow_4 18 rfl rfl)
theorem dX5_laysRow_115 : decode cX5_laysRow 115 = .ok (.aload_n 0, 1) := dk_42 (dk_at dksX5_laysRow_4 21 rfl rfl)
theorem dX5_laysRow_116 : decode cX5_laysRow 116 = .ok (.getfield 26, 3) := dk_180 0 26 (dk_at dksX5_laysRow_5 0 rfl rfl)
theorem dX5_laysRow_119 : decode cX5_laysRow 119 = .ok (.aload_n 0, 1) := dk_42 (dk_at dksX5_laysRow_5 3 rfl rfl)
theorem dX5_laysRow_120 : decode cX5_laysRow 120 = .ok (.getfield 243, 3) := dk_180 0 243 (dk_at dksX5_laysRow_5 4 rfl rfl)
theorem dX5_laysRow_123 : decode cX5_laysRow 123 = .ok (.aload_n 0, 1) := dk_42 (dk_at dksX5_laysRow_5 7 rfl rfl)
theorem dX5_laysRow_124 : decode cX5_laysRow 124 = .ok (.getfield 20, 3) := dk_180 0 20 (dk_at dksX5_laysRow_5 8 rfl rfl)
theorem dX5_laysRow_127 : decode cX5_laysRow 127 = .ok (.bipush 12, 2) := dk_16 12 (dk_at dksX5_laysRow_5 11 rfl rfl)
theorem dX5_laysRow_129 : decode cX5_laysRow 129 = .ok (.iload_n 2, 1) := dk_28 (dk_at dksX5_laysRow_5 13 rfl rfl)
theorem dX5_laysRow_130 : decode cX5_laysRow 130 = .ok (.iadd, 1) := dk_96 (dk_at dksX5_laysRow_5 14 rfl rfl)
theorem dX5_laysRow_131 : decode cX5_laysRow 131 = .ok (.iaload, 1) := dk_46 (dk_at dksX5_laysRow_5 15 rfl rfl)
theorem dX5_laysRow_132 : decode cX5_laysRow 132 = .ok (.iastore, 1) := dk_79 (dk_at dksX5_laysRow_5 16 rfl rfl)
theorem dX5_laysRow_133 : decode cX5_laysRow 133 = .ok (.aload_n 0, 1) := dk_42 (dk_at dksX5_laysRow_5 17 rfl rfl)
theorem dX5_laysRow_134 : decode cX5_laysRow 134 = .ok (.getfield 29, 3) := dk_180 0 29 (dk_at dksX5_laysRow_5 18 rfl rfl)
theorem dX5_laysRow_137 : decode cX5_laysRow 137 = .ok (.aload_n 0, 1) := dk_42 (dk_at dksX5_laysRow_5 21 rfl rfl)
theorem dX5_laysRow_138 : decode cX5_laysRow 138 = .ok (.getfield 243, 3) := dk_180 0 243 (dk_at dksX5_laysRow_6 0 rfl rfl)
theorem dX5_laysRow_141 : decode cX5_laysRow 141 = .ok (.iconst 1, 1) := dk_4 (dk_at dksX5_laysRow_6 3 rfl rfl)
theorem dX5_laysRow_142 : decode cX5_laysRow 142 = .ok (.iastore, 1) := dk_79 (dk_at dksX5_laysRow_6 4 rfl rfl)
theorem dX5_laysRow_143 : decode cX5_laysRow 143 = .ok (.aload_n 0, 1) := dk_42 (dk_at dksX5_laysRow_6 5 rfl rfl)
theorem dX5_laysRow_144 : decode cX5_laysRow 144 = .ok (.dup, 1) := dk_89 (dk_at dksX5_laysRow_6 6 rfl rfl)
theorem dX5_laysRow_145 : decode cX5_laysRow 145 = .ok (.getfield 243, 3) := dk_180 0 243 (dk_at dksX5_laysRow_6 7 rfl rfl)
theorem dX5_laysRow_148 : decode cX5_laysRow 148 = .ok (.iconst 1, 1) := dk_4 (dk_at dksX5_laysRow_6 10 rfl rfl)
theorem dX5_laysRow_149 : decode cX5_laysRow 149 = .ok (.iadd, 1) := dk_96 (dk_at dksX5_laysRow_6 11 rfl rfl)
theorem dX5_laysRow_150 : decode cX5_laysRow 150 = .ok (.putfield 243, 3) := dk_181 0 243 (dk_at dksX5_laysRow_6 12 rfl rfl)
theorem dX5_laysRow_153 : decode cX5_laysRow 153 = .ok (.iinc 2 1, 3) := dk_132 2 1 (dk_at dksX5_laysRow_6 15 rfl rfl)
theorem dX5_laysRow_156 : decode cX5_laysRow 156 = .ok (.iinc 3 1, 3) := dk_132 3 1 (dk_at dksX5_laysRow_6 18 rfl rfl)
theorem dX5_laysRow_159 : decode cX5_laysRow 159 = .ok (.goto (-63), 3) := dk_167 255 193 (dk_at dksX5_laysRow_6 21 rfl rfl)
theorem dX5_laysRow_162 : decode cX5_laysRow 162 = .ok (.goto (-153), 3) := dk_167 255 103 (dk_at dksX5_laysRow_7 0 rfl rfl)
theorem dX5_laysRow_165 : decode cX5_laysRow 165 = .ok (.return_, 1) := dk_177 (dk_at dksX5_laysRow_7 3 rfl rfl)
abbrev cX5_plays : ByteArray := prog_24_method_46_code
def yX5_plays : MethodName := ⟨RX5, "plays", "(I)V"⟩
def dkwX5_plays_7 : List UInt8 := [153, 0, 10, 42, 180, 0, 32, 29, 4, 79, 132, 3, 1, 167, 255, 229, 177]
abbrev dktX5_plays_7 : List UInt8 := dkwX5_plays_7 ++ []
def dkwX5_plays_6 : List UInt8 := [132, 3, 1, 167, 255, 205, 3, 62, 29, 42, 180, 0, 243, 162, 0, 25, 42, 180, 0, 35, 29, 51]
abbrev dktX5_plays_6 : List UInt8 := dkwX5_plays_6 ++ dktX5_plays_7
def dkwX5_plays_5 : List UInt8 := [46, 5, 160, 0, 18, 42, 180, 0, 32, 29, 28, 96, 46, 154, 0, 7, 4, 167, 0, 4, 3, 84]
abbrev dktX5_plays_5 : List UInt8 := dkwX5_plays_5 ++ dktX5_plays_6
def dkwX5_plays_4 : List UInt8 := [96, 42, 180, 0, 243, 162, 0, 47, 28, 158, 0, 43, 42, 180, 0, 35, 29, 28, 96, 42, 180, 0, 32, 29]
abbrev dktX5_plays_4 : List UInt8 := dkwX5_plays_4 ++ dktX5_plays_5
def dkwX5_plays_3 : List UInt8 := [79, 42, 180, 0, 35, 28, 3, 84, 132, 2, 1, 167, 255, 177, 42, 5, 182, 0, 212, 61, 3, 62, 29, 28]
abbrev dktX5_plays_3 : List UInt8 := dkwX5_plays_3 ++ dktX5_plays_4
def dkwX5_plays_2 : List UInt8 := [180, 0, 32, 28, 42, 6, 29, 153, 0, 7, 3, 167, 0, 9, 42, 180, 0, 26, 28, 46, 96, 182, 0, 212]
abbrev dktX5_plays_2 : List UInt8 := dkwX5_plays_2 ++ dktX5_plays_3
def dkwX5_plays_1 : List UInt8 := [153, 0, 19, 28, 4, 96, 42, 4, 182, 0, 212, 112, 154, 0, 7, 4, 167, 0, 4, 3, 62, 42]
abbrev dktX5_plays_1 : List UInt8 := dkwX5_plays_1 ++ dktX5_plays_2
def dkwX5_plays_0 : List UInt8 := [3, 61, 28, 42, 180, 0, 243, 162, 0, 77, 27, 28, 122, 4, 126, 4, 159, 0, 23, 42, 4, 182, 0, 212]
abbrev dktX5_plays_0 : List UInt8 := dkwX5_plays_0 ++ dktX5_plays_1
theorem dksX5_plays_0 : cX5_plays.data.toList.drop 0 = dktX5_plays_0 := by decide +kernel
theorem dksX5_plays_1 : cX5_plays.data.toList.drop 24 = dktX5_plays_1 := dk_seg dksX5_plays_0 24 rfl rfl
theorem dksX5_plays_2 : cX5_plays.data.toList.drop 46 = dktX5_plays_2 := dk_seg dksX5_plays_1 22 rfl rfl
theorem dksX5_plays_3 : cX5_plays.data.toList.drop 70 = dktX5_plays_3 := dk_seg dksX5_plays_2 24 rfl rfl
theorem dksX5_plays_4 : cX5_plays.data.toList.drop 94 = dktX5_plays_4 := dk_seg dksX5_plays_3 24 rfl rfl
theorem dksX5_plays_5 : cX5_plays.data.toList.drop 118 = dktX5_plays_5 := dk_seg dksX5_plays_4 24 rfl rfl
theorem dksX5_plays_6 : cX5_plays.data.toList.drop 140 = dktX5_plays_6 := dk_seg dksX5_plays_5 22 rfl rfl
theorem dksX5_plays_7 : cX5_plays.data.toList.drop 162 = dktX5_plays_7 := dk_seg dksX5_plays_6 22 rfl rfl
theorem dX5_plays_0 : decode cX5_plays 0 = .ok (.iconst 0, 1) := dk_3 (dk_at dksX5_plays_0 0 rfl rfl)
theorem dX5_plays_1 : decode cX5_plays 1 = .ok (.istore_n 2, 1) := dk_61 (dk_at dksX5_plays_0 1 rfl rfl)
theorem dX5_plays_2 : decode cX5_plays 2 = .ok (.iload_n 2, 1) := dk_28 (dk_at dksX5_plays_0 2 rfl rfl)
theorem dX5_plays_3 : decode cX5_plays 3 = .ok (.aload_n 0, 1) := dk_42 (dk_at dksX5_plays_0 3 rfl rfl)
theorem dX5_plays_4 : decode cX5_plays 4 = .ok (.getfield 243, 3) := dk_180 0 243 (dk_at dksX5_plays_0 4 rfl rfl)
theorem dX5_plays_7 : decode cX5_plays 7 = .ok (.if_icmp .ge 77, 3) := dk_162 0 77 (dk_at dksX5_plays_0 7 rfl rfl)
theorem dX5_plays_10 : decode cX5_plays 10 = .ok (.iload_n 1, 1) := dk_27 (dk_at dksX5_plays_0 10 rfl rfl)
theorem dX5_plays_11 : decode cX5_plays 11 = .ok (.iload_n 2, 1) := dk_28 (dk_at dksX5_plays_0 11 rfl rfl)
theorem dX5_plays_12 : decode cX5_plays 12 = .ok (.ishr, 1) := dk_122 (dk_at dksX5_plays_0 12 rfl rfl)
theorem dX5_plays_13 : decode cX5_plays 13 = .ok (.iconst 1, 1) := dk_4 (dk_at dksX5_plays_0 13 rfl rfl)
theorem dX5_plays_14 : decode cX5_plays 14 = .ok (.iand, 1) := dk_126 (dk_at dksX5_plays_0 14 rfl rfl)
theorem dX5_plays_15 : decode cX5_plays 15 = .ok (.iconst 1, 1) := dk_4 (dk_at dksX5_plays_0 15 rfl rfl)
theorem dX5_plays_16 : decode cX5_plays 16 = .ok (.if_icmp .eq 23, 3) := dk_159 0 23 (dk_at dksX5_plays_0 16 rfl rfl)
theorem dX5_plays_19 : decode cX5_plays 19 = .ok (.aload_n 0, 1) := dk_42 (dk_at dksX5_plays_0 19 rfl rfl)
theorem dX5_plays_20 : decode cX5_plays 20 = .ok (.iconst 1, 1) := dk_4 (dk_at dksX5_plays_0 20 rfl rfl)
theorem dX5_plays_21 : decode cX5_plays 21 = .ok (.invokevirtual 212, 3) := dk_182 0 212 (dk_at dksX5_plays_0 21 rfl rfl)
theorem dX5_plays_24 : decode cX5_plays 24 = .ok (.ifCond .eq 19, 3) := dk_153 0 19 (dk_at dksX5_plays_1 0 rfl rfl)
theorem dX5_plays_27 : decode cX5_plays 27 = .ok (.iload_n 2, 1) := dk_28 (dk_at dksX5_plays_1 3 rfl rfl)
theorem dX5_plays_28 : decode cX5_plays 28 = .ok (.iconst 1, 1) := dk_4 (dk_at dksX5_plays_1 4 rfl rfl)
theorem dX5_plays_29 : decode cX5_plays 29 = .ok (.iadd, 1) := dk_96 (dk_at dksX5_plays_1 5 rfl rfl)
theorem dX5_plays_30 : decode cX5_plays 30 = .ok (.aload_n 0, 1) := dk_42 (dk_at dksX5_plays_1 6 rfl rfl)
theorem dX5_plays_31 : decode cX5_plays 31 = .ok (.iconst 1, 1) := dk_4 (dk_at dksX5_plays_1 7 rfl rfl)
theorem dX5_plays_32 : decode cX5_plays 32 = .ok (.invokevirtual 212, 3) := dk_182 0 212 (dk_at dksX5_plays_1 8 rfl rfl)
theorem dX5_plays_35 : decode cX5_plays 35 = .ok (.irem, 1) := dk_112 (dk_at dksX5_plays_1 11 rfl rfl)
theorem dX5_plays_36 : decode cX5_plays 36 = .ok (.ifCond .ne 7, 3) := dk_154 0 7 (dk_at dksX5_plays_1 12 rfl rfl)
theorem dX5_plays_39 : decode cX5_plays 39 = .ok (.iconst 1, 1) := dk_4 (dk_at dksX5_plays_1 15 rfl rfl)
theorem dX5_plays_40 : decode cX5_plays 40 = .ok (.goto 4, 3) := dk_167 0 4 (dk_at dksX5_plays_1 16 rfl rfl)
theorem dX5_plays_43 : decode cX5_plays 43 = .ok (.iconst 0, 1) := dk_3 (dk_at dksX5_plays_1 19 rfl rfl)
theorem dX5_plays_44 : decode cX5_plays 44 = .ok (.istore_n 3, 1) := dk_62 (dk_at dksX5_plays_1 20 rfl rfl)
theorem dX5_plays_45 : decode cX5_plays 45 = .ok (.aload_n 0, 1) := dk_42 (dk_at dksX5_plays_1 21 rfl rfl)
theorem dX5_plays_46 : decode cX5_plays 46 = .ok (.getfield 32, 3) := dk_180 0 32 (dk_at dksX5_plays_2 0 rfl rfl)
theorem dX5_plays_49 : decode cX5_plays 49 = .ok (.iload_n 2, 1) := dk_28 (dk_at dksX5_plays_2 3 rfl rfl)
theorem dX5_plays_50 : decode cX5_plays 50 = .ok (.aload_n 0, 1) := dk_42 (dk_at dksX5_plays_2 4 rfl rfl)
theorem dX5_plays_51 : decode cX5_plays 51 = .ok (.iconst 3, 1) := dk_6 (dk_at dksX5_plays_2 5 rfl rfl)
theorem dX5_plays_52 : decode cX5_plays 52 = .ok (.iload_n 3, 1) := dk_29 (dk_at dksX5_plays_2 6 rfl rfl)
theorem dX5_plays_53 : decode cX5_plays 53 = .ok (.ifCond .eq 7, 3) := dk_153 0 7 (dk_at dksX5_plays_2 7 rfl rfl)
theorem dX5_plays_56 : decode cX5_plays 56 = .ok (.iconst 0, 1) := dk_3 (dk_at dksX5_plays_2 10 rfl rfl)
theorem dX5_plays_57 : decode cX5_plays 57 = .ok (.goto 9, 3) := dk_167 0 9 (dk_at dksX5_plays_2 11 rfl rfl)
theorem dX5_plays_60 : decode cX5_plays 60 = .ok (.aload_n 0, 1) := dk_42 (dk_at dksX5_plays_2 14 rfl rfl)
theorem dX5_plays_61 : decode cX5_plays 61 = .ok (.getfield 26, 3) := dk_180 0 26 (dk_at dksX5_plays_2 15 rfl rfl)
theorem dX5_plays_64 : decode cX5_plays 64 = .ok (.iload_n 2, 1) := dk_28 (dk_at dksX5_plays_2 18 rfl rfl)
theorem dX5_plays_65 : decode cX5_plays 65 = .ok (.iaload, 1) := dk_46 (dk_at dksX5_plays_2 19 rfl rfl)
theorem dX5_plays_66 : decode cX5_plays 66 = .ok (.iadd, 1) := dk_96 (dk_at dksX5_plays_2 20 rfl rfl)
theorem dX5_plays_67 : decode cX5_plays 67 = .ok (.invokevirtual 212, 3) := dk_182 0 212 (dk_at dksX5_plays_2 21 rfl rfl)
theorem dX5_plays_70 : decode cX5_plays 70 = .ok (.iastore, 1) := dk_79 (dk_at dksX5_plays_3 0 rfl rfl)
theorem dX5_plays_71 : decode cX5_plays 71 = .ok (.aload_n 0, 1) := dk_42 (dk_at dksX5_plays_3 1 rfl rfl)
theorem dX5_plays_72 : decode cX5_plays 72 = .ok (.getfield 35, 3) := dk_180 0 35 (dk_at dksX5_plays_3 2 rfl rfl)
theorem dX5_plays_75 : decode cX5_plays 75 = .ok (.iload_n 2, 1) := dk_28 (dk_at dksX5_plays_3 5 rfl rfl)
theorem dX5_plays_76 : decode cX5_plays 76 = .ok (.iconst 0, 1) := dk_3 (dk_at dksX5_plays_3 6 rfl rfl)
theorem dX5_plays_77 : decode cX5_plays 77 = .ok (.bastore, 1) := dk_84 (dk_at dksX5_plays_3 7 rfl rfl)
theorem dX5_plays_78 : decode cX5_plays 78 = .ok (.iinc 2 1, 3) := dk_132 2 1 (dk_at dksX5_plays_3 8 rfl rfl)
theorem dX5_plays_81 : decode cX5_plays 81 = .ok (.goto (-79), 3) := dk_167 255 177 (dk_at dksX5_plays_3 11 rfl rfl)
theorem dX5_plays_84 : decode cX5_plays 84 = .ok (.aload_n 0, 1) := dk_42 (dk_at dksX5_plays_3 14 rfl rfl)
theorem dX5_plays_85 : decode cX5_plays 85 = .ok (.iconst 2, 1) := dk_5 (dk_at dksX5_plays_3 15 rfl rfl)
theorem dX5_plays_86 : decode cX5_plays 86 = .ok (.invokevirtual 212, 3) := dk_182 0 212 (dk_at dksX5_plays_3 16 rfl rfl)
theorem dX5_plays_89 : decode cX5_plays 89 = .ok (.istore_n 2, 1) := dk_61 (dk_at dksX5_plays_3 19 rfl rfl)
theorem dX5_plays_90 : decode cX5_plays 90 = .ok (.iconst 0, 1) := dk_3 (dk_at dksX5_plays_3 20 rfl rfl)
theorem dX5_plays_91 : decode cX5_plays 91 = .ok (.istore_n 3, 1) := dk_62 (dk_at dksX5_plays_3 21 rfl rfl)
theorem dX5_plays_92 : decode cX5_plays 92 = .ok (.iload_n 3, 1) := dk_29 (dk_at dksX5_plays_3 22 rfl rfl)
theorem dX5_plays_93 : decode cX5_plays 93 = .ok (.iload_n 2, 1) := dk_28 (dk_at dksX5_plays_3 23 rfl rfl)
theorem dX5_plays_94 : decode cX5_plays 94 = .ok (.iadd, 1) := dk_96 (dk_at dksX5_plays_4 0 rfl rfl)
theorem dX5_plays_95 : decode cX5_plays 95 = .ok (.aload_n 0, 1) := dk_42 (dk_at dksX5_plays_4 1 rfl rfl)
theorem dX5_plays_96 : decode cX5_plays 96 = .ok (.getfield 243, 3) := dk_180 0 243 (dk_at dksX5_plays_4 2 rfl rfl)
theorem dX5_plays_99 : decode cX5_plays 99 = .ok (.if_icmp .ge 47, 3) := dk_162 0 47 (dk_at dksX5_plays_4 5 rfl rfl)
theorem dX5_plays_102 : decode cX5_plays 102 = .ok (.iload_n 2, 1) := dk_28 (dk_at dksX5_plays_4 8 rfl rfl)
theorem dX5_plays_103 : decode cX5_plays 103 = .ok (.ifCond .le 43, 3) := dk_158 0 43 (dk_at dksX5_plays_4 9 rfl rfl)
theorem dX5_plays_106 : decode cX5_plays 106 = .ok (.aload_n 0, 1) := dk_42 (dk_at dksX5_plays_4 12 rfl rfl)
theorem dX5_plays_107 : decode cX5_plays 107 = .ok (.getfield 35, 3) := dk_180 0 35 (dk_at dksX5_plays_4 13 rfl rfl)
theorem dX5_plays_110 : decode cX5_plays 110 = .ok (.iload_n 3, 1) := dk_29 (dk_at dksX5_plays_4 16 rfl rfl)
theorem dX5_plays_111 : decode cX5_plays 111 = .ok (.iload_n 2, 1) := dk_28 (dk_at dksX5_plays_4 17 rfl rfl)
theorem dX5_plays_112 : decode cX5_plays 112 = .ok (.iadd, 1) := dk_96 (dk_at dksX5_plays_4 18 rfl rfl)
theorem dX5_plays_113 : decode cX5_plays 113 = .ok (.aload_n 0, 1) := dk_42 (dk_at dksX5_plays_4 19 rfl rfl)
theorem dX5_plays_114 : decode cX5_plays 114 = .ok (.getfield 32, 3) := dk_180 0 32 (dk_at dksX5_plays_4 20 rfl rfl)
theorem dX5_plays_117 : decode cX5_plays 117 = .ok (.iload_n 3, 1) := dk_29 (dk_at dksX5_plays_4 23 rfl rfl)
theorem dX5_plays_118 : decode cX5_plays 118 = .ok (.iaload, 1) := dk_46 (dk_at dksX5_plays_5 0 rfl rfl)
theorem dX5_plays_119 : decode cX5_plays 119 = .ok (.iconst 2, 1) := dk_5 (dk_at dksX5_plays_5 1 rfl rfl)
theorem dX5_plays_120 : decode cX5_plays 120 = .ok (.if_icmp .ne 18, 3) := dk_160 0 18 (dk_at dksX5_plays_5 2 rfl rfl)
theorem dX5_plays_123 : decode cX5_plays 123 = .ok (.aload_n 0, 1) := dk_42 (dk_at dksX5_plays_5 5 rfl rfl)
theorem dX5_plays_124 : decode cX5_plays 124 = .ok (.getfield 32, 3) := dk_180 0 32 (dk_at dksX5_plays_5 6 rfl rfl)
theorem dX5_plays_127 : decode cX5_plays 127 = .ok (.iload_n 3, 1) := dk_29 (dk_at dksX5_plays_5 9 rfl rfl)
theorem dX5_plays_128 : decode cX5_plays 128 = .ok (.iload_n 2, 1) := dk_28 (dk_at dksX5_plays_5 10 rfl rfl)
theorem dX5_plays_129 : decode cX5_plays 129 = .ok (.iadd, 1) := dk_96 (dk_at dksX5_plays_5 11 rfl rfl)
theorem dX5_plays_130 : decode cX5_plays 130 = .ok (.iaload, 1) := dk_46 (dk_at dksX5_plays_5 12 rfl rfl)
theorem dX5_plays_131 : decode cX5_plays 131 = .ok (.ifCond .ne 7, 3) := dk_154 0 7 (dk_at dksX5_plays_5 13 rfl rfl)
theorem dX5_plays_134 : decode cX5_plays 134 = .ok (.iconst 1, 1) := dk_4 (dk_at dksX5_plays_5 16 rfl rfl)
theorem dX5_plays_135 : decode cX5_plays 135 = .ok (.goto 4, 3) := dk_167 0 4 (dk_at dksX5_plays_5 17 rfl rfl)
theorem dX5_plays_138 : decode cX5_plays 138 = .ok (.iconst 0, 1) := dk_3 (dk_at dksX5_plays_5 20 rfl rfl)
theorem dX5_plays_139 : decode cX5_plays 139 = .ok (.bastore, 1) := dk_84 (dk_at dksX5_plays_5 21 rfl rfl)
theorem dX5_plays_140 : decode cX5_plays 140 = .ok (.iinc 3 1, 3) := dk_132 3 1 (dk_at dksX5_plays_6 0 rfl rfl)
theorem dX5_plays_143 : decode cX5_plays 143 = .ok (.goto (-51), 3) := dk_167 255 205 (dk_at dksX5_plays_6 3 rfl rfl)
theorem dX5_plays_146 : decode cX5_plays 146 = .ok (.iconst 0, 1) := dk_3 (dk_at dksX5_plays_6 6 rfl rfl)
theorem dX5_plays_147 : decode cX5_plays 147 = .ok (.istore_n 3, 1) := dk_62 (dk_at dksX5_plays_6 7 rfl rfl)
theorem dX5_plays_148 : decode cX5_plays 148 = .ok (.iload_n 3, 1) := dk_29 (dk_at dksX5_plays_6 8 rfl rfl)
theorem dX5_plays_149 : decode cX5_plays 149 = .ok (.aload_n 0, 1) := dk_42 (dk_at dksX5_plays_6 9 rfl rfl)
theorem dX5_plays_150 : decode cX5_plays 150 = .ok (.getfield 243, 3) := dk_180 0 243 (dk_at dksX5_plays_6 10 rfl rfl)
theorem dX5_plays_153 : decode cX5_plays 153 = .ok (.if_icmp .ge 25, 3) := dk_162 0 25 (dk_at dksX5_plays_6 13 rfl rfl)
theorem dX5_plays_156 : decode cX5_plays 156 = .ok (.aload_n 0, 1) := dk_42 (dk_at dksX5_plays_6 16 rfl rfl)
theorem dX5_plays_157 : decode cX5_plays 157 = .ok (.getfield 35, 3) := dk_180 0 35 (dk_at dksX5_plays_6 17 rfl rfl)
theorem dX5_plays_160 : decode cX5_plays 160 = .ok (.iload_n 3, 1) := dk_29 (dk_at dksX5_plays_6 20 rfl rfl)
theorem dX5_plays_161 : decode cX5_plays 161 = .ok (.baload, 1) := dk_51 (dk_at dksX5_plays_6 21 rfl rfl)
theorem dX5_plays_162 : decode cX5_plays 162 = .ok (.ifCond .eq 10, 3) := dk_153 0 10 (dk_at dksX5_plays_7 0 rfl rfl)
theorem dX5_plays_165 : decode cX5_plays 165 = .ok (.aload_n 0, 1) := dk_42 (dk_at dksX5_plays_7 3 rfl rfl)
theorem dX5_plays_166 : decode cX5_plays 166 = .ok (.getfield 32, 3) := dk_180 0 32 (dk_at dksX5_plays_7 4 rfl rfl)
theorem dX5_plays_169 : decode cX5_plays 169 = .ok (.iload_n 3, 1) := dk_29 (dk_at dksX5_plays_7 7 rfl rfl)
theorem dX5_plays_170 : decode cX5_plays 170 = .ok (.iconst 1, 1) := dk_4 (dk_at dksX5_plays_7 8 rfl rfl)
theorem dX5_plays_171 : decode cX5_plays 171 = .ok (.iastore, 1) := dk_79 (dk_at dksX5_plays_7 9 rfl rfl)
theorem dX5_plays_172 : decode cX5_plays 172 = .ok (.iinc 3 1, 3) := dk_132 3 1 (dk_at dksX5_plays_7 10 rfl rfl)
theorem dX5_plays_175 : decode cX5_plays 175 = .ok (.goto (-27), 3) := dk_167 255 229 (dk_at dksX5_plays_7 13 rfl rfl)
theorem dX5_plays_178 : decode cX5_plays 178 = .ok (.return_, 1) := dk_177 (dk_at dksX5_plays_7 16 rfl rfl)
abbrev cX5_heard : ByteArray := prog_24_method_53_code
def yX5_heard : MethodName := ⟨RX5, "heard", "(IIII)I"⟩
def dkwX5_heard_2 : List UInt8 := [42, 29, 21, 4, 182, 1, 8, 167, 0, 4, 2, 172]
abbrev dktX5_heard_2 : List UInt8 := dkwX5_heard_2 ++ []
def dkwX5_heard_1 : List UInt8 := [42, 29, 182, 1, 5, 167, 0, 30, 21, 4, 3, 42, 29, 182, 1, 5, 4, 100, 184, 0, 145, 153, 0, 13]
abbrev dktX5_heard_1 : List UInt8 := dkwX5_heard_1 ++ dktX5_heard_2
def dkwX5_heard_0 : List UInt8 := [42, 27, 28, 182, 0, 255, 153, 0, 10, 29, 184, 0, 218, 154, 0, 5, 2, 172, 21, 4, 2, 160, 0, 11]
abbrev dktX5_heard_0 : List UInt8 := dkwX5_heard_0 ++ dktX5_heard_1
theorem dksX5_heard_0 : cX5_heard.data.toList.drop 0 = dktX5_heard_0 := by decide +kernel
theorem dksX5_heard_1 : cX5_heard.data.toList.drop 24 = dktX5_heard_1 := dk_seg dksX5_heard_0 24 rfl rfl
theorem dksX5_heard_2 : cX5_heard.data.toList.drop 48 = dktX5_heard_2 := dk_seg dksX5_heard_1 24 rfl rfl
theorem dX5_heard_0 : decode cX5_heard 0 = .ok (.aload_n 0, 1) := dk_42 (dk_at dksX5_heard_0 0 rfl rfl)
theorem dX5_heard_1 : decode cX5_heard 1 = .ok (.iload_n 1, 1) := dk_27 (dk_at dksX5_heard_0 1 rfl rfl)
theorem dX5_heard_2 : decode cX5_heard 2 = .ok (.iload_n 2, 1) := dk_28 (dk_at dksX5_heard_0 2 rfl rfl)
theorem dX5_heard_3 : decode cX5_heard 3 = .ok (.invokevirtual 255, 3) := dk_182 0 255 (dk_at dksX5_heard_0 3 rfl rfl)
theorem dX5_heard_6 : decode cX5_heard 6 = .ok (.ifCond .eq 10, 3) := dk_153 0 10 (dk_at dksX5_heard_0 6 rfl rfl)
theorem dX5_heard_9 : decode cX5_heard 9 = .ok (.iload_n 3, 1) := dk_29 (dk_at dksX5_heard_0 9 rfl rfl)
theorem dX5_heard_10 : decode cX5_heard 10 = .ok (.invokestatic 218, 3) := dk_184 0 218 (dk_at dksX5_heard_0 10 rfl rfl)
theorem dX5_heard_13 : decode cX5_heard 13 = .ok (.ifCond .ne 5, 3) := dk_154 0 5 (dk_at dksX5_heard_0 13 rfl rfl)
theorem dX5_heard_16 : decode cX5_heard 16 = .ok (.iconst (-1), 1) := dk_2 (dk_at dksX5_heard_0 16 rfl rfl)
theorem dX5_heard_17 : decode cX5_heard 17 = .ok (.ireturn, 1) := dk_172 (dk_at dksX5_heard_0 17 rfl rfl)
theorem dX5_heard_18 : decode cX5_heard 18 = .ok (.iload 4, 2) := dk_21 4 (dk_at dksX5_heard_0 18 rfl rfl)
theorem dX5_heard_20 : decode cX5_heard 20 = .ok (.iconst (-1), 1) := dk_2 (dk_at dksX5_heard_0 20 rfl rfl)
theorem dX5_heard_21 : decode cX5_heard 21 = .ok (.if_icmp .ne 11, 3) := dk_160 0 11 (dk_at dksX5_heard_0 21 rfl rfl)
theorem dX5_heard_24 : decode cX5_heard 24 = .ok (.aload_n 0, 1) := dk_42 (dk_at dksX5_heard_1 0 rfl rfl)
theorem dX5_heard_25 : decode cX5_heard 25 = .ok (.iload_n 3, 1) := dk_29 (dk_at dksX5_heard_1 1 rfl rfl)
theorem dX5_heard_26 : decode cX5_heard 26 = .ok (.invokevirtual 261, 3) := dk_182 1 5 (dk_at dksX5_heard_1 2 rfl rfl)
theorem dX5_heard_29 : decode cX5_heard 29 = .ok (.goto 30, 3) := dk_167 0 30 (dk_at dksX5_heard_1 5 rfl rfl)
theorem dX5_heard_32 : decode cX5_heard 32 = .ok (.iload 4, 2) := dk_21 4 (dk_at dksX5_heard_1 8 rfl rfl)
theorem dX5_heard_34 : decode cX5_heard 34 = .ok (.iconst 0, 1) := dk_3 (dk_at dksX5_heard_1 10 rfl rfl)
theorem dX5_heard_35 : decode cX5_heard 35 = .ok (.aload_n 0, 1) := dk_42 (dk_at dksX5_heard_1 11 rfl rfl)
theorem dX5_heard_36 : decode cX5_heard 36 = .ok (.iload_n 3, 1) := dk_29 (dk_at dksX5_heard_1 12 rfl rfl)
theorem dX5_heard_37 : decode cX5_heard 37 = .ok (.invokevirtual 261, 3) := dk_182 1 5 (dk_at dksX5_heard_1 13 rfl rfl)
theorem dX5_heard_40 : decode cX5_heard 40 = .ok (.iconst 1, 1) := dk_4 (dk_at dksX5_heard_1 16 rfl rfl)
theorem dX5_heard_41 : decode cX5_heard 41 = .ok (.isub, 1) := dk_100 (dk_at dksX5_heard_1 17 rfl rfl)
theorem dX5_heard_42 : decode cX5_heard 42 = .ok (.invokestatic 145, 3) := dk_184 0 145 (dk_at dksX5_heard_1 18 rfl rfl)
theorem dX5_heard_45 : decode cX5_heard 45 = .ok (.ifCond .eq 13, 3) := dk_153 0 13 (dk_at dksX5_heard_1 21 rfl rfl)
theorem dX5_heard_48 : decode cX5_heard 48 = .ok (.aload_n 0, 1) := dk_42 (dk_at dksX5_heard_2 0 rfl rfl)
theorem dX5_heard_49 : decode cX5_heard 49 = .ok (.iload_n 3, 1) := dk_29 (dk_at dksX5_heard_2 1 rfl rfl)
theorem dX5_heard_50 : decode cX5_heard 50 = .ok (.iload 4, 2) := dk_21 4 (dk_at dksX5_heard_2 2 rfl rfl)
theorem dX5_heard_52 : decode cX5_heard 52 = .ok (.invokevirtual 264, 3) := dk_182 1 8 (dk_at dksX5_heard_2 4 rfl rfl)
theorem dX5_heard_55 : decode cX5_heard 55 = .ok (.goto 4, 3) := dk_167 0 4 (dk_at dksX5_heard_2 7 rfl rfl)
theorem dX5_heard_58 : decode cX5_heard 58 = .ok (.iconst (-1), 1) := dk_2 (dk_at dksX5_heard_2 10 rfl rfl)
theorem dX5_heard_59 : decode cX5_heard 59 = .ok (.ireturn, 1) := dk_172 (dk_at dksX5_heard_2 11 rfl rfl)
abbrev cX5_hears : ByteArray := prog_24_method_50_code
def yX5_hears : MethodName := ⟨RX5, "hears", "(I)I"⟩
def dkwX5_hears_1 : List UInt8 := [180, 0, 243, 4, 100, 28, 100, 42, 16, 9, 27, 96, 182, 0, 212, 108, 4, 96, 172]
abbrev dktX5_hears_1 : List UInt8 := dkwX5_hears_1 ++ []
def dkwX5_hears_0 : List UInt8 := [42, 16, 7, 27, 96, 182, 0, 212, 61, 28, 42, 180, 0, 243, 161, 0, 7, 3, 167, 0, 22, 42]
abbrev dktX5_hears_0 : List UInt8 := dkwX5_hears_0 ++ dktX5_hears_1
theorem dksX5_hears_0 : cX5_hears.data.toList.drop 0 = dktX5_hears_0 := by decide +kernel
theorem dksX5_hears_1 : cX5_hears.data.toList.drop 22 = dktX5_hears_1 := dk_seg dksX5_hears_0 22 rfl rfl
theorem dX5_hears_0 : decode cX5_hears 0 = .ok (.aload_n 0, 1) := dk_42 (dk_at dksX5_hears_0 0 rfl rfl)
theorem dX5_hears_1 : decode cX5_hears 1 = .ok (.bipush 7, 2) := dk_16 7 (dk_at dksX5_hears_0 1 rfl rfl)
theorem dX5_hears_3 : decode cX5_hears 3 = .ok (.iload_n 1, 1) := dk_27 (dk_at dksX5_hears_0 3 rfl rfl)
theorem dX5_hears_4 : decode cX5_hears 4 = .ok (.iadd, 1) := dk_96 (dk_at dksX5_hears_0 4 rfl rfl)
theorem dX5_hears_5 : decode cX5_hears 5 = .ok (.invokevirtual 212, 3) := dk_182 0 212 (dk_at dksX5_hears_0 5 rfl rfl)
theorem dX5_hears_8 : decode cX5_hears 8 = .ok (.istore_n 2, 1) := dk_61 (dk_at dksX5_hears_0 8 rfl rfl)
theorem dX5_hears_9 : decode cX5_hears 9 = .ok (.iload_n 2, 1) := dk_28 (dk_at dksX5_hears_0 9 rfl rfl)
theorem dX5_hears_10 : decode cX5_hears 10 = .ok (.aload_n 0, 1) := dk_42 (dk_at dksX5_hears_0 10 rfl rfl)
theorem dX5_hears_11 : decode cX5_hears 11 = .ok (.getfield 243, 3) := dk_180 0 243 (dk_at dksX5_hears_0 11 rfl rfl)
theorem dX5_hears_14 : decode cX5_hears 14 = .ok (.if_icmp .lt 7, 3) := dk_161 0 7 (dk_at dksX5_hears_0 14 rfl rfl)
theorem dX5_hears_17 : decode cX5_hears 17 = .ok (.iconst 0, 1) := dk_3 (dk_at dksX5_hears_0 17 rfl rfl)
theorem dX5_hears_18 : decode cX5_hears 18 = .ok (.goto 22, 3) := dk_167 0 22 (dk_at dksX5_hears_0 18 rfl rfl)
theorem dX5_hears_21 : decode cX5_hears 21 = .ok (.aload_n 0, 1) := dk_42 (dk_at dksX5_hears_0 21 rfl rfl)
theorem dX5_hears_22 : decode cX5_hears 22 = .ok (.getfield 243, 3) := dk_180 0 243 (dk_at dksX5_hears_1 0 rfl rfl)
theorem dX5_hears_25 : decode cX5_hears 25 = .ok (.iconst 1, 1) := dk_4 (dk_at dksX5_hears_1 3 rfl rfl)
theorem dX5_hears_26 : decode cX5_hears 26 = .ok (.isub, 1) := dk_100 (dk_at dksX5_hears_1 4 rfl rfl)
theorem dX5_hears_27 : decode cX5_hears 27 = .ok (.iload_n 2, 1) := dk_28 (dk_at dksX5_hears_1 5 rfl rfl)
theorem dX5_hears_28 : decode cX5_hears 28 = .ok (.isub, 1) := dk_100 (dk_at dksX5_hears_1 6 rfl rfl)
theorem dX5_hears_29 : decode cX5_hears 29 = .ok (.aload_n 0, 1) := dk_42 (dk_at dksX5_hears_1 7 rfl rfl)
theorem dX5_hears_30 : decode cX5_hears 30 = .ok (.bipush 9, 2) := dk_16 9 (dk_at dksX5_hears_1 8 rfl rfl)
theorem dX5_hears_32 : decode cX5_hears 32 = .ok (.iload_n 1, 1) := dk_27 (dk_at dksX5_hears_1 10 rfl rfl)
theorem dX5_hears_33 : decode cX5_hears 33 = .ok (.iadd, 1) := dk_96 (dk_at dksX5_hears_1 11 rfl rfl)
theorem dX5_hears_34 : decode cX5_hears 34 = .ok (.invokevirtual 212, 3) := dk_182 0 212 (dk_at dksX5_hears_1 12 rfl rfl)
theorem dX5_hears_37 : decode cX5_hears 37 = .ok (.idiv, 1) := dk_108 (dk_at dksX5_hears_1 15 rfl rfl)
theorem dX5_hears_38 : decode cX5_hears 38 = .ok (.iconst 1, 1) := dk_4 (dk_at dksX5_hears_1 16 rfl rfl)
theorem dX5_hears_39 : decode cX5_hears 39 = .ok (.iadd, 1) := dk_96 (dk_at dksX5_hears_1 17 rfl rfl)
theorem dX5_hears_40 : decode cX5_hears 40 = .ok (.ireturn, 1) := dk_172 (dk_at dksX5_hears_1 18 rfl rfl)
abbrev cX5_heardAt : ByteArray := prog_24_method_52_code
def yX5_heardAt : MethodName := ⟨RX5, "heardAt", "(II)I"⟩
def dkwX5_heardAt_0 : List UInt8 := [42, 180, 0, 32, 42, 27, 28, 182, 1, 2, 46, 172]
abbrev dktX5_heardAt_0 : List UInt8 := dkwX5_heardAt_0 ++ []
theorem dksX5_heardAt_0 : cX5_heardAt.data.toList.drop 0 = dktX5_heardAt_0 := by decide +kernel
theorem dX5_heardAt_0 : decode cX5_heardAt 0 = .ok (.aload_n 0, 1) := dk_42 (dk_at dksX5_heardAt_0 0 rfl rfl)
theorem dX5_heardAt_1 : decode cX5_heardAt 1 = .ok (.getfield 32, 3) := dk_180 0 32 (dk_at dksX5_heardAt_0 1 rfl rfl)
theorem dX5_heardAt_4 : decode cX5_heardAt 4 = .ok (.aload_n 0, 1) := dk_42 (dk_at dksX5_heardAt_0 4 rfl rfl)
theorem dX5_heardAt_5 : decode cX5_heardAt 5 = .ok (.iload_n 1, 1) := dk_27 (dk_at dksX5_heardAt_0 5 rfl rfl)
theorem dX5_heardAt_6 : decode cX5_heardAt 6 = .ok (.iload_n 2, 1) := dk_28 (dk_at dksX5_heardAt_0 6 rfl rfl)
theorem dX5_heardAt_7 : decode cX5_heardAt 7 = .ok (.invokevirtual 258, 3) := dk_182 1 2 (dk_at dksX5_heardAt_0 7 rfl rfl)
theorem dX5_heardAt_10 : decode cX5_heardAt 10 = .ok (.iaload, 1) := dk_46 (dk_at dksX5_heardAt_0 10 rfl rfl)
theorem dX5_heardAt_11 : decode cX5_heardAt 11 = .ok (.ireturn, 1) := dk_172 (dk_at dksX5_heardAt_0 11 rfl rfl)
abbrev cX5_placeHeard : ByteArray := prog_24_method_51_code
def yX5_placeHeard : MethodName := ⟨RX5, "placeHeard", "(II)I"⟩
def dkwX5_placeHeard_0 : List UInt8 := [42, 16, 7, 27, 96, 182, 0, 212, 28, 42, 16, 9, 27, 96, 182, 0, 212, 104, 96, 172]
abbrev dktX5_placeHeard_0 : List UInt8 := dkwX5_placeHeard_0 ++ []
theorem dksX5_placeHeard_0 : cX5_placeHeard.data.toList.drop 0 = dktX5_placeHeard_0 := by decide +kernel
theorem dX5_placeHeard_0 : decode cX5_placeHeard 0 = .ok (.aload_n 0, 1) := dk_42 (dk_at dksX5_placeHeard_0 0 rfl rfl)
theorem dX5_placeHeard_1 : decode cX5_placeHeard 1 = .ok (.bipush 7, 2) := dk_16 7 (dk_at dksX5_placeHeard_0 1 rfl rfl)
theorem dX5_placeHeard_3 : decode cX5_placeHeard 3 = .ok (.iload_n 1, 1) := dk_27 (dk_at dksX5_placeHeard_0 3 rfl rfl)
theorem dX5_placeHeard_4 : decode cX5_placeHeard 4 = .ok (.iadd, 1) := dk_96 (dk_at dksX5_placeHeard_0 4 rfl rfl)
theorem dX5_placeHeard_5 : decode cX5_placeHeard 5 = .ok (.invokevirtual 212, 3) := dk_182 0 212 (dk_at dksX5_placeHeard_0 5 rfl rfl)
theorem dX5_placeHeard_8 : decode cX5_placeHeard 8 = .ok (.iload_n 2, 1) := dk_28 (dk_at dksX5_placeHeard_0 8 rfl rfl)
theorem dX5_placeHeard_9 : decode cX5_placeHeard 9 = .ok (.aload_n 0, 1) := dk_42 (dk_at dksX5_placeHeard_0 9 rfl rfl)
theorem dX5_placeHeard_10 : decode cX5_placeHeard 10 = .ok (.bipush 9, 2) := dk_16 9 (dk_at dksX5_placeHeard_0 10 rfl rfl)
theorem dX5_placeHeard_12 : decode cX5_placeHeard 12 = .ok (.iload_n 1, 1) := dk_27 (dk_at dksX5_placeHeard_0 12 rfl rfl)
theorem dX5_placeHeard_13 : decode cX5_placeHeard 13 = .ok (.iadd, 1) := dk_96 (dk_at dksX5_placeHeard_0 13 rfl rfl)
theorem dX5_placeHeard_14 : decode cX5_placeHeard 14 = .ok (.invokevirtual 212, 3) := dk_182 0 212 (dk_at dksX5_placeHeard_0 14 rfl rfl)
theorem dX5_placeHeard_17 : decode cX5_placeHeard 17 = .ok (.imul, 1) := dk_104 (dk_at dksX5_placeHeard_0 17 rfl rfl)
theorem dX5_placeHeard_18 : decode cX5_placeHeard 18 = .ok (.iadd, 1) := dk_96 (dk_at dksX5_placeHeard_0 18 rfl rfl)
theorem dX5_placeHeard_19 : decode cX5_placeHeard 19 = .ok (.ireturn, 1) := dk_172 (dk_at dksX5_placeHeard_0 19 rfl rfl)
abbrev cX5_made : ByteArray := prog_24_method_58_code
def yX5_made : MethodName := ⟨RX5, "made", "(IIIII)I"⟩
def dkwX5_made_7 : List UInt8 := [180, 0, 41, 21, 6, 46, 172, 42, 29, 21, 6, 182, 1, 20, 172, 16, 254, 172]
abbrev dktX5_made_7 : List UInt8 := dkwX5_made_7 ++ []
def dkwX5_made_6 : List UInt8 := [42, 180, 0, 38, 21, 6, 46, 172, 42, 29, 42, 180, 0, 44, 21, 6, 46, 182, 1, 2, 172, 42]
abbrev dktX5_made_6 : List UInt8 := dkwX5_made_6 ++ dktX5_made_7
def dkwX5_made_5 : List UInt8 := [170, 0, 0, 0, 66, 0, 0, 0, 0, 0, 0, 0, 3, 0, 0, 0, 29, 0, 0, 0, 37, 0, 0, 0, 50, 0, 0, 0, 58]
abbrev dktX5_made_5 : List UInt8 := dkwX5_made_5 ++ dktX5_made_6
def dkwX5_made_4 : List UInt8 := [16, 254, 172, 16, 24, 29, 104, 21, 4, 96, 54, 6, 21, 5]
abbrev dktX5_made_4 : List UInt8 := dkwX5_made_4 ++ dktX5_made_5
def dkwX5_made_3 : List UInt8 := [167, 0, 5, 16, 254, 172, 21, 4, 3, 42, 180, 0, 47, 29, 46, 4, 100, 184, 0, 145, 154, 0, 6]
abbrev dktX5_made_3 : List UInt8 := dkwX5_made_3 ++ dktX5_made_4
def dkwX5_made_2 : List UInt8 := [160, 0, 12, 42, 180, 0, 50, 29, 46, 167, 0, 19, 21, 5, 5, 160, 0, 11, 42, 29, 182, 1, 17]
abbrev dktX5_made_2 : List UInt8 := dkwX5_made_2 ++ dktX5_made_3
def dkwX5_made_1 : List UInt8 := [21, 4, 2, 160, 0, 49, 21, 5, 154, 0, 12, 42, 180, 0, 47, 29, 46, 167, 0, 34, 21, 5, 4]
abbrev dktX5_made_1 : List UInt8 := dkwX5_made_1 ++ dktX5_made_2
def dkwX5_made_0 : List UInt8 := [42, 27, 28, 182, 0, 255, 153, 0, 10, 29, 184, 0, 218, 154, 0, 6, 16, 254, 172, 42, 29, 182, 1, 14]
abbrev dktX5_made_0 : List UInt8 := dkwX5_made_0 ++ dktX5_made_1
theorem dksX5_made_0 : cX5_made.data.toList.drop 0 = dktX5_made_0 := by decide +kernel
theorem dksX5_made_1 : cX5_made.data.toList.drop 24 = dktX5_made_1 := dk_seg dksX5_made_0 24 rfl rfl
theorem dksX5_made_2 : cX5_made.data.toList.drop 47 = dktX5_made_2 := dk_seg dksX5_made_1 23 rfl rfl
theorem dksX5_made_3 : cX5_made.data.toList.drop 70 = dktX5_made_3 := dk_seg dksX5_made_2 23 rfl rfl
theorem dksX5_made_4 : cX5_made.data.toList.drop 93 = dktX5_made_4 := dk_seg dksX5_made_3 23 rfl rfl
theorem dksX5_made_5 : cX5_made.data.toList.drop 107 = dktX5_made_5 := dk_seg dksX5_made_4 14 rfl rfl
theorem dksX5_made_6 : cX5_made.data.toList.drop 136 = dktX5_made_6 := dk_seg dksX5_made_5 29 rfl rfl
theorem dksX5_made_7 : cX5_made.data.toList.drop 158 = dktX5_made_7 := dk_seg dksX5_made_6 22 rfl rfl
theorem dX5_made_0 : decode cX5_made 0 = .ok (.aload_n 0, 1) := dk_42 (dk_at dksX5_made_0 0 rfl rfl)
theorem dX5_made_1 : decode cX5_made 1 = .ok (.iload_n 1, 1) := dk_27 (dk_at dksX5_made_0 1 rfl rfl)
theorem dX5_made_2 : decode cX5_made 2 = .ok (.iload_n 2, 1) := dk_28 (dk_at dksX5_made_0 2 rfl rfl)
theorem dX5_made_3 : decode cX5_made 3 = .ok (.invokevirtual 255, 3) := dk_182 0 255 (dk_at dksX5_made_0 3 rfl rfl)
theorem dX5_made_6 : decode cX5_made 6 = .ok (.ifCond .eq 10, 3) := dk_153 0 10 (dk_at dksX5_made_0 6 rfl rfl)
theorem dX5_made_9 : decode cX5_made 9 = .ok (.iload_n 3, 1) := dk_29 (dk_at dksX5_made_0 9 rfl rfl)
theorem dX5_made_10 : decode cX5_made 10 = .ok (.invokestatic 218, 3) := dk_184 0 218 (dk_at dksX5_made_0 10 rfl rfl)
theorem dX5_made_13 : decode cX5_made 13 = .ok (.ifCond .ne 6, 3) := dk_154 0 6 (dk_at dksX5_made_0 13 rfl rfl)
theorem dX5_made_16 : decode cX5_made 16 = .ok (.bipush (-2), 2) := dk_16 254 (dk_at dksX5_made_0 16 rfl rfl)
theorem dX5_made_18 : decode cX5_made 18 = .ok (.ireturn, 1) := dk_172 (dk_at dksX5_made_0 18 rfl rfl)
theorem dX5_made_19 : decode cX5_made 19 = .ok (.aload_n 0, 1) := dk_42 (dk_at dksX5_made_0 19 rfl rfl)
theorem dX5_made_20 : decode cX5_made 20 = .ok (.iload_n 3, 1) := dk_29 (dk_at dksX5_made_0 20 rfl rfl)
theorem dX5_made_21 : decode cX5_made 21 = .ok (.invokevirtual 270, 3) := dk_182 1 14 (dk_at dksX5_made_0 21 rfl rfl)
theorem dX5_made_24 : decode cX5_made 24 = .ok (.iload 4, 2) := dk_21 4 (dk_at dksX5_made_1 0 rfl rfl)
theorem dX5_made_26 : decode cX5_made 26 = .ok (.iconst (-1), 1) := dk_2 (dk_at dksX5_made_1 2 rfl rfl)
theorem dX5_made_27 : decode cX5_made 27 = .ok (.if_icmp .ne 49, 3) := dk_160 0 49 (dk_at dksX5_made_1 3 rfl rfl)
theorem dX5_made_30 : decode cX5_made 30 = .ok (.iload 5, 2) := dk_21 5 (dk_at dksX5_made_1 6 rfl rfl)
theorem dX5_made_32 : decode cX5_made 32 = .ok (.ifCond .ne 12, 3) := dk_154 0 12 (dk_at dksX5_made_1 8 rfl rfl)
theorem dX5_made_35 : decode cX5_made 35 = .ok (.aload_n 0, 1) := dk_42 (dk_at dksX5_made_1 11 rfl rfl)
theorem dX5_made_36 : decode cX5_made 36 = .ok (.getfield 47, 3) := dk_180 0 47 (dk_at dksX5_made_1 12 rfl rfl)
theorem dX5_made_39 : decode cX5_made 39 = .ok (.iload_n 3, 1) := dk_29 (dk_at dksX5_made_1 15 rfl rfl)
theorem dX5_made_40 : decode cX5_made 40 = .ok (.iaload, 1) := dk_46 (dk_at dksX5_made_1 16 rfl rfl)
theorem dX5_made_41 : decode cX5_made 41 = .ok (.goto 34, 3) := dk_167 0 34 (dk_at dksX5_made_1 17 rfl rfl)
theorem dX5_made_44 : decode cX5_made 44 = .ok (.iload 5, 2) := dk_21 5 (dk_at dksX5_made_1 20 rfl rfl)
theorem dX5_made_46 : decode cX5_made 46 = .ok (.iconst 1, 1) := dk_4 (dk_at dksX5_made_1 22 rfl rfl)
theorem dX5_made_47 : decode cX5_made 47 = .ok (.if_icmp .ne 12, 3) := dk_160 0 12 (dk_at dksX5_made_2 0 rfl rfl)
theorem dX5_made_50 : decode cX5_made 50 = .ok (.aload_n 0, 1) := dk_42 (dk_at dksX5_made_2 3 rfl rfl)
theorem dX5_made_51 : decode cX5_made 51 = .ok (.getfield 50, 3) := dk_180 0 50 (dk_at dksX5_made_2 4 rfl rfl)
theorem dX5_made_54 : decode cX5_made 54 = .ok (.iload_n 3, 1) := dk_29 (dk_at dksX5_made_2 7 rfl rfl)
theorem dX5_made_55 : decode cX5_made 55 = .ok (.iaload, 1) := dk_46 (dk_at dksX5_made_2 8 rfl rfl)
theorem dX5_made_56 : decode cX5_made 56 = .ok (.goto 19, 3) := dk_167 0 19 (dk_at dksX5_made_2 9 rfl rfl)
theorem dX5_made_59 : decode cX5_made 59 = .ok (.iload 5, 2) := dk_21 5 (dk_at dksX5_made_2 12 rfl rfl)
theorem dX5_made_61 : decode cX5_made 61 = .ok (.iconst 2, 1) := dk_5 (dk_at dksX5_made_2 14 rfl rfl)
theorem dX5_made_62 : decode cX5_made 62 = .ok (.if_icmp .ne 11, 3) := dk_160 0 11 (dk_at dksX5_made_2 15 rfl rfl)
theorem dX5_made_65 : decode cX5_made 65 = .ok (.aload_n 0, 1) := dk_42 (dk_at dksX5_made_2 18 rfl rfl)
theorem dX5_made_66 : decode cX5_made 66 = .ok (.iload_n 3, 1) := dk_29 (dk_at dksX5_made_2 19 rfl rfl)
theorem dX5_made_67 : decode cX5_made 67 = .ok (.invokevirtual 273, 3) := dk_182 1 17 (dk_at dksX5_made_2 20 rfl rfl)
theorem dX5_made_70 : decode cX5_made 70 = .ok (.goto 5, 3) := dk_167 0 5 (dk_at dksX5_made_3 0 rfl rfl)
theorem dX5_made_73 : decode cX5_made 73 = .ok (.bipush (-2), 2) := dk_16 254 (dk_at dksX5_made_3 3 rfl rfl)
theorem dX5_made_75 : decode cX5_made 75 = .ok (.ireturn, 1) := dk_172 (dk_at dksX5_made_3 5 rfl rfl)
theorem dX5_made_76 : decode cX5_made 76 = .ok (.iload 4, 2) := dk_21 4 (dk_at dksX5_made_3 6 rfl rfl)
theorem dX5_made_78 : decode cX5_made 78 = .ok (.iconst 0, 1) := dk_3 (dk_at dksX5_made_3 8 rfl rfl)
theorem dX5_made_79 : decode cX5_made 79 = .ok (.aload_n 0, 1) := dk_42 (dk_at dksX5_made_3 9 rfl rfl)
theorem dX5_made_80 : decode cX5_made 80 = .ok (.getfield 47, 3) := dk_180 0 47 (dk_at dksX5_made_3 10 rfl rfl)
theorem dX5_made_83 : decode cX5_made 83 = .ok (.iload_n 3, 1) := dk_29 (dk_at dksX5_made_3 13 rfl rfl)
theorem dX5_made_84 : decode cX5_made 84 = .ok (.iaload, 1) := dk_46 (dk_at dksX5_made_3 14 rfl rfl)
theorem dX5_made_85 : decode cX5_made 85 = .ok (.iconst 1, 1) := dk_4 (dk_at dksX5_made_3 15 rfl rfl)
theorem dX5_made_86 : decode cX5_made 86 = .ok (.isub, 1) := dk_100 (dk_at dksX5_made_3 16 rfl rfl)
theorem dX5_made_87 : decode cX5_made 87 = .ok (.invokestatic 145, 3) := dk_184 0 145 (dk_at dksX5_made_3 17 rfl rfl)
theorem dX5_made_90 : decode cX5_made 90 = .ok (.ifCond .ne 6, 3) := dk_154 0 6 (dk_at dksX5_made_3 20 rfl rfl)
theorem dX5_made_93 : decode cX5_made 93 = .ok (.bipush (-2), 2) := dk_16 254 (dk_at dksX5_made_4 0 rfl rfl)
theorem dX5_made_95 : decode cX5_made 95 = .ok (.ireturn, 1) := dk_172 (dk_at dksX5_made_4 2 rfl rfl)
theorem dX5_made_96 : decode cX5_made 96 = .ok (.bipush 24, 2) := dk_16 24 (dk_at dksX5_made_4 3 rfl rfl)
theorem dX5_made_98 : decode cX5_made 98 = .ok (.iload_n 3, 1) := dk_29 (dk_at dksX5_made_4 5 rfl rfl)
theorem dX5_made_99 : decode cX5_made 99 = .ok (.imul, 1) := dk_104 (dk_at dksX5_made_4 6 rfl rfl)
theorem dX5_made_100 : decode cX5_made 100 = .ok (.iload 4, 2) := dk_21 4 (dk_at dksX5_made_4 7 rfl rfl)
theorem dX5_made_102 : decode cX5_made 102 = .ok (.iadd, 1) := dk_96 (dk_at dksX5_made_4 9 rfl rfl)
theorem dX5_made_103 : decode cX5_made 103 = .ok (.istore 6, 2) := dk_54 6 (dk_at dksX5_made_4 10 rfl rfl)
theorem dX5_made_105 : decode cX5_made 105 = .ok (.iload 5, 2) := dk_21 5 (dk_at dksX5_made_4 12 rfl rfl)
theorem dX5_made_107 : decode cX5_made 107 = .ok (.tableswitch 66 0 3 #[29, 37, 50, 58], 29) := by decide +kernel
theorem dX5_made_136 : decode cX5_made 136 = .ok (.aload_n 0, 1) := dk_42 (dk_at dksX5_made_6 0 rfl rfl)
theorem dX5_made_137 : decode cX5_made 137 = .ok (.getfield 38, 3) := dk_180 0 38 (dk_at dksX5_made_6 1 rfl rfl)
theorem dX5_made_140 : decode cX5_made 140 = .ok (.iload 6, 2) := dk_21 6 (dk_at dksX5_made_6 4 rfl rfl)
theorem dX5_made_142 : decode cX5_made 142 = .ok (.iaload, 1) := dk_46 (dk_at dksX5_made_6 6 rfl rfl)
theorem dX5_made_143 : decode cX5_made 143 = .ok (.ireturn, 1) := dk_172 (dk_at dksX5_made_6 7 rfl rfl)
theorem dX5_made_144 : decode cX5_made 144 = .ok (.aload_n 0, 1) := dk_42 (dk_at dksX5_made_6 8 rfl rfl)
theorem dX5_made_145 : decode cX5_made 145 = .ok (.iload_n 3, 1) := dk_29 (dk_at dksX5_made_6 9 rfl rfl)
theorem dX5_made_146 : decode cX5_made 146 = .ok (.aload_n 0, 1) := dk_42 (dk_at dksX5_made_6 10 rfl rfl)
theorem dX5_made_147 : decode cX5_made 147 = .ok (.getfield 44, 3) := dk_180 0 44 (dk_at dksX5_made_6 11 rfl rfl)
theorem dX5_made_150 : decode cX5_made 150 = .ok (.iload 6, 2) := dk_21 6 (dk_at dksX5_made_6 14 rfl rfl)
theorem dX5_made_152 : decode cX5_made 152 = .ok (.iaload, 1) := dk_46 (dk_at dksX5_made_6 16 rfl rfl)
theorem dX5_made_153 : decode cX5_made 153 = .ok (.invokevirtual 258, 3) := dk_182 1 2 (dk_at dksX5_made_6 17 rfl rfl)
theorem dX5_made_156 : decode cX5_made 156 = .ok (.ireturn, 1) := dk_172 (dk_at dksX5_made_6 20 rfl rfl)
theorem dX5_made_157 : decode cX5_made 157 = .ok (.aload_n 0, 1) := dk_42 (dk_at dksX5_made_6 21 rfl rfl)
theorem dX5_made_158 : decode cX5_made 158 = .ok (.getfield 41, 3) := dk_180 0 41 (dk_at dksX5_made_7 0 rfl rfl)
theorem dX5_made_161 : decode cX5_made 161 = .ok (.iload 6, 2) := dk_21 6 (dk_at dksX5_made_7 3 rfl rfl)
theorem dX5_made_163 : decode cX5_made 163 = .ok (.iaload, 1) := dk_46 (dk_at dksX5_made_7 5 rfl rfl)
theorem dX5_made_164 : decode cX5_made 164 = .ok (.ireturn, 1) := dk_172 (dk_at dksX5_made_7 6 rfl rfl)
theorem dX5_made_165 : decode cX5_made 165 = .ok (.aload_n 0, 1) := dk_42 (dk_at dksX5_made_7 7 rfl rfl)
theorem dX5_made_166 : decode cX5_made 166 = .ok (.iload_n 3, 1) := dk_29 (dk_at dksX5_made_7 8 rfl rfl)
theorem dX5_made_167 : decode cX5_made 167 = .ok (.iload 6, 2) := dk_21 6 (dk_at dksX5_made_7 9 rfl rfl)
theorem dX5_made_169 : decode cX5_made 169 = .ok (.invokevirtual 276, 3) := dk_182 1 20 (dk_at dksX5_made_7 11 rfl rfl)
theorem dX5_made_172 : decode cX5_made 172 = .ok (.ireturn, 1) := dk_172 (dk_at dksX5_made_7 14 rfl rfl)
theorem dX5_made_173 : decode cX5_made 173 = .ok (.bipush (-2), 2) := dk_16 254 (dk_at dksX5_made_7 15 rfl rfl)
theorem dX5_made_175 : decode cX5_made 175 = .ok (.ireturn, 1) := dk_172 (dk_at dksX5_made_7 17 rfl rfl)
abbrev cX5_makes : ByteArray := prog_24_method_55_code
def yX5_makes : MethodName := ⟨RX5, "makes", "(I)V"⟩
def dkwX5_makes_7 : List UInt8 := [182, 0, 230, 96, 61, 167, 255, 103, 177]
abbrev dktX5_makes_7 : List UInt8 := dkwX5_makes_7 ++ []
def dkwX5_makes_6 : List UInt8 := [79, 42, 180, 0, 44, 21, 4, 28, 79, 42, 180, 0, 47, 27, 92, 46, 4, 96, 79, 28, 42, 27, 29]
abbrev dktX5_makes_6 : List UInt8 := dkwX5_makes_6 ++ dktX5_makes_7
def dkwX5_makes_5 : List UInt8 := [180, 0, 38, 21, 4, 42, 180, 0, 7, 42, 27, 29, 182, 0, 215, 46, 79, 42, 180, 0, 41, 21, 4, 29]
abbrev dktX5_makes_5 : List UInt8 := dkwX5_makes_5 ++ dktX5_makes_6
def dkwX5_makes_4 : List UInt8 := [4, 96, 79, 132, 2, 1, 167, 255, 172, 16, 24, 27, 104, 42, 180, 0, 47, 27, 46, 96, 54, 4, 42]
abbrev dktX5_makes_4 : List UInt8 := dkwX5_makes_4 ++ dktX5_makes_5
def dkwX5_makes_3 : List UInt8 := [161, 0, 6, 21, 4, 62, 132, 4, 255, 167, 255, 213, 29, 2, 160, 0, 19, 42, 180, 0, 50, 27, 92, 46]
abbrev dktX5_makes_3 : List UInt8 := dkwX5_makes_3 ++ dktX5_makes_4
def dkwX5_makes_2 : List UInt8 := [182, 1, 11, 153, 0, 27, 29, 2, 159, 0, 19, 42, 27, 21, 4, 182, 0, 230, 42, 27, 29, 182, 0, 230]
abbrev dktX5_makes_2 : List UInt8 := dkwX5_makes_2 ++ dktX5_makes_3
def dkwX5_makes_1 : List UInt8 := [162, 0, 150, 2, 62, 42, 27, 182, 0, 221, 4, 100, 54, 4, 21, 4, 155, 0, 44, 42, 27, 21, 4, 28]
abbrev dktX5_makes_1 : List UInt8 := dkwX5_makes_1 ++ dktX5_makes_2
def dkwX5_makes_0 : List UInt8 := [42, 180, 0, 47, 27, 3, 79, 42, 180, 0, 50, 27, 3, 79, 3, 61, 28, 42, 27, 182, 1, 5]
abbrev dktX5_makes_0 : List UInt8 := dkwX5_makes_0 ++ dktX5_makes_1
theorem dksX5_makes_0 : cX5_makes.data.toList.drop 0 = dktX5_makes_0 := by decide +kernel
theorem dksX5_makes_1 : cX5_makes.data.toList.drop 22 = dktX5_makes_1 := dk_seg dksX5_makes_0 22 rfl rfl
theorem dksX5_makes_2 : cX5_makes.data.toList.drop 46 = dktX5_makes_2 := dk_seg dksX5_makes_1 24 rfl rfl
theorem dksX5_makes_3 : cX5_makes.data.toList.drop 70 = dktX5_makes_3 := dk_seg dksX5_makes_2 24 rfl rfl
theorem dksX5_makes_4 : cX5_makes.data.toList.drop 94 = dktX5_makes_4 := dk_seg dksX5_makes_3 24 rfl rfl
theorem dksX5_makes_5 : cX5_makes.data.toList.drop 117 = dktX5_makes_5 := dk_seg dksX5_makes_4 23 rfl rfl
theorem dksX5_makes_6 : cX5_makes.data.toList.drop 141 = dktX5_makes_6 := dk_seg dksX5_makes_5 24 rfl rfl
theorem dksX5_makes_7 : cX5_makes.data.toList.drop 164 = dktX5_makes_7 := dk_seg dksX5_makes_6 23 rfl rfl
theorem dX5_makes_0 : decode cX5_makes 0 = .ok (.aload_n 0, 1) := dk_42 (dk_at dksX5_makes_0 0 rfl rfl)
theorem dX5_makes_1 : decode cX5_makes 1 = .ok (.getfield 47, 3) := dk_180 0 47 (dk_at dksX5_makes_0 1 rfl rfl)
theorem dX5_makes_4 : decode cX5_makes 4 = .ok (.iload_n 1, 1) := dk_27 (dk_at dksX5_makes_0 4 rfl rfl)
theorem dX5_makes_5 : decode cX5_makes 5 = .ok (.iconst 0, 1) := dk_3 (dk_at dksX5_makes_0 5 rfl rfl)
theorem dX5_makes_6 : decode cX5_makes 6 = .ok (.iastore, 1) := dk_79 (dk_at dksX5_makes_0 6 rfl rfl)
theorem dX5_makes_7 : decode cX5_makes 7 = .ok (.aload_n 0, 1) := dk_42 (dk_at dksX5_makes_0 7 rfl rfl)
theorem dX5_makes_8 : decode cX5_makes 8 = .ok (.getfield 50, 3) := dk_180 0 50 (dk_at dksX5_makes_0 8 rfl rfl)
theorem dX5_makes_11 : decode cX5_makes 11 = .ok (.iload_n 1, 1) := dk_27 (dk_at dksX5_makes_0 11 rfl rfl)
theorem dX5_makes_12 : decode cX5_makes 12 = .ok (.iconst 0, 1) := dk_3 (dk_at dksX5_makes_0 12 rfl rfl)
theorem dX5_makes_13 : decode cX5_makes 13 = .ok (.iastore, 1) := dk_79 (dk_at dksX5_makes_0 13 rfl rfl)
theorem dX5_makes_14 : decode cX5_makes 14 = .ok (.iconst 0, 1) := dk_3 (dk_at dksX5_makes_0 14 rfl rfl)
theorem dX5_makes_15 : decode cX5_makes 15 = .ok (.istore_n 2, 1) := dk_61 (dk_at dksX5_makes_0 15 rfl rfl)
theorem dX5_makes_16 : decode cX5_makes 16 = .ok (.iload_n 2, 1) := dk_28 (dk_at dksX5_makes_0 16 rfl rfl)
theorem dX5_makes_17 : decode cX5_makes 17 = .ok (.aload_n 0, 1) := dk_42 (dk_at dksX5_makes_0 17 rfl rfl)
theorem dX5_makes_18 : decode cX5_makes 18 = .ok (.iload_n 1, 1) := dk_27 (dk_at dksX5_makes_0 18 rfl rfl)
theorem dX5_makes_19 : decode cX5_makes 19 = .ok (.invokevirtual 261, 3) := dk_182 1 5 (dk_at dksX5_makes_0 19 rfl rfl)
theorem dX5_makes_22 : decode cX5_makes 22 = .ok (.if_icmp .ge 150, 3) := dk_162 0 150 (dk_at dksX5_makes_1 0 rfl rfl)
theorem dX5_makes_25 : decode cX5_makes 25 = .ok (.iconst (-1), 1) := dk_2 (dk_at dksX5_makes_1 3 rfl rfl)
theorem dX5_makes_26 : decode cX5_makes 26 = .ok (.istore_n 3, 1) := dk_62 (dk_at dksX5_makes_1 4 rfl rfl)
theorem dX5_makes_27 : decode cX5_makes 27 = .ok (.aload_n 0, 1) := dk_42 (dk_at dksX5_makes_1 5 rfl rfl)
theorem dX5_makes_28 : decode cX5_makes 28 = .ok (.iload_n 1, 1) := dk_27 (dk_at dksX5_makes_1 6 rfl rfl)
theorem dX5_makes_29 : decode cX5_makes 29 = .ok (.invokevirtual 221, 3) := dk_182 0 221 (dk_at dksX5_makes_1 7 rfl rfl)
theorem dX5_makes_32 : decode cX5_makes 32 = .ok (.iconst 1, 1) := dk_4 (dk_at dksX5_makes_1 10 rfl rfl)
theorem dX5_makes_33 : decode cX5_makes 33 = .ok (.isub, 1) := dk_100 (dk_at dksX5_makes_1 11 rfl rfl)
theorem dX5_makes_34 : decode cX5_makes 34 = .ok (.istore 4, 2) := dk_54 4 (dk_at dksX5_makes_1 12 rfl rfl)
theorem dX5_makes_36 : decode cX5_makes 36 = .ok (.iload 4, 2) := dk_21 4 (dk_at dksX5_makes_1 14 rfl rfl)
theorem dX5_makes_38 : decode cX5_makes 38 = .ok (.ifCond .lt 44, 3) := dk_155 0 44 (dk_at dksX5_makes_1 16 rfl rfl)
theorem dX5_makes_41 : decode cX5_makes 41 = .ok (.aload_n 0, 1) := dk_42 (dk_at dksX5_makes_1 19 rfl rfl)
theorem dX5_makes_42 : decode cX5_makes 42 = .ok (.iload_n 1, 1) := dk_27 (dk_at dksX5_makes_1 20 rfl rfl)
theorem dX5_makes_43 : decode cX5_makes 43 = .ok (.iload 4, 2) := dk_21 4 (dk_at dksX5_makes_1 21 rfl rfl)
theorem dX5_makes_45 : decode cX5_makes 45 = .ok (.iload_n 2, 1) := dk_28 (dk_at dksX5_makes_1 23 rfl rfl)
theorem dX5_makes_46 : decode cX5_makes 46 = .ok (.invokevirtual 267, 3) := dk_182 1 11 (dk_at dksX5_makes_2 0 rfl rfl)
theorem dX5_makes_49 : decode cX5_makes 49 = .ok (.ifCond .eq 27, 3) := dk_153 0 27 (dk_at dksX5_makes_2 3 rfl rfl)
theorem dX5_makes_52 : decode cX5_makes 52 = .ok (.iload_n 3, 1) := dk_29 (dk_at dksX5_makes_2 6 rfl rfl)
theorem dX5_makes_53 : decode cX5_makes 53 = .ok (.iconst (-1), 1) := dk_2 (dk_at dksX5_makes_2 7 rfl rfl)
theorem dX5_makes_54 : decode cX5_makes 54 = .ok (.if_icmp .eq 19, 3) := dk_159 0 19 (dk_at dksX5_makes_2 8 rfl rfl)
theorem dX5_makes_57 : decode cX5_makes 57 = .ok (.aload_n 0, 1) := dk_42 (dk_at dksX5_makes_2 11 rfl rfl)
theorem dX5_makes_58 : decode cX5_makes 58 = .ok (.iload_n 1, 1) := dk_27 (dk_at dksX5_makes_2 12 rfl rfl)
theorem dX5_makes_59 : decode cX5_makes 59 = .ok (.iload 4, 2) := dk_21 4 (dk_at dksX5_makes_2 13 rfl rfl)
theorem dX5_makes_61 : decode cX5_makes 61 = .ok (.invokevirtual 230, 3) := dk_182 0 230 (dk_at dksX5_makes_2 15 rfl rfl)
theorem dX5_makes_64 : decode cX5_makes 64 = .ok (.aload_n 0, 1) := dk_42 (dk_at dksX5_makes_2 18 rfl rfl)
theorem dX5_makes_65 : decode cX5_makes 65 = .ok (.iload_n 1, 1) := dk_27 (dk_at dksX5_makes_2 19 rfl rfl)
theorem dX5_makes_66 : decode cX5_makes 66 = .ok (.iload_n 3, 1) := dk_29 (dk_at dksX5_makes_2 20 rfl rfl)
theorem dX5_makes_67 : decode cX5_makes 67 = .ok (.invokevirtual 230, 3) := dk_182 0 230 (dk_at dksX5_makes_2 21 rfl rfl)
theorem dX5_makes_70 : decode cX5_makes 70 = .ok (.if_icmp .lt 6, 3) := dk_161 0 6 (dk_at dksX5_makes_3 0 rfl rfl)
theorem dX5_makes_73 : decode cX5_makes 73 = .ok (.iload 4, 2) := dk_21 4 (dk_at dksX5_makes_3 3 rfl rfl)
theorem dX5_makes_75 : decode cX5_makes 75 = .ok (.istore_n 3, 1) := dk_62 (dk_at dksX5_makes_3 5 rfl rfl)
theorem dX5_makes_76 : decode cX5_makes 76 = .ok (.iinc 4 (-1), 3) := dk_132 4 255 (dk_at dksX5_makes_3 6 rfl rfl)
theorem dX5_makes_79 : decode cX5_makes 79 = .ok (.goto (-43), 3) := dk_167 255 213 (dk_at dksX5_makes_3 9 rfl rfl)
theorem dX5_makes_82 : decode cX5_makes 82 = .ok (.iload_n 3, 1) := dk_29 (dk_at dksX5_makes_3 12 rfl rfl)
theorem dX5_makes_83 : decode cX5_makes 83 = .ok (.iconst (-1), 1) := dk_2 (dk_at dksX5_makes_3 13 rfl rfl)
theorem dX5_makes_84 : decode cX5_makes 84 = .ok (.if_icmp .ne 19, 3) := dk_160 0 19 (dk_at dksX5_makes_3 14 rfl rfl)
theorem dX5_makes_87 : decode cX5_makes 87 = .ok (.aload_n 0, 1) := dk_42 (dk_at dksX5_makes_3 17 rfl rfl)
theorem dX5_makes_88 : decode cX5_makes 88 = .ok (.getfield 50, 3) := dk_180 0 50 (dk_at dksX5_makes_3 18 rfl rfl)
theorem dX5_makes_91 : decode cX5_makes 91 = .ok (.iload_n 1, 1) := dk_27 (dk_at dksX5_makes_3 21 rfl rfl)
theorem dX5_makes_92 : decode cX5_makes 92 = .ok (.dup2, 1) := dk_92 (dk_at dksX5_makes_3 22 rfl rfl)
theorem dX5_makes_93 : decode cX5_makes 93 = .ok (.iaload, 1) := dk_46 (dk_at dksX5_makes_3 23 rfl rfl)
theorem dX5_makes_94 : decode cX5_makes 94 = .ok (.iconst 1, 1) := dk_4 (dk_at dksX5_makes_4 0 rfl rfl)
theorem dX5_makes_95 : decode cX5_makes 95 = .ok (.iadd, 1) := dk_96 (dk_at dksX5_makes_4 1 rfl rfl)
theorem dX5_makes_96 : decode cX5_makes 96 = .ok (.iastore, 1) := dk_79 (dk_at dksX5_makes_4 2 rfl rfl)
theorem dX5_makes_97 : decode cX5_makes 97 = .ok (.iinc 2 1, 3) := dk_132 2 1 (dk_at dksX5_makes_4 3 rfl rfl)
theorem dX5_makes_100 : decode cX5_makes 100 = .ok (.goto (-84), 3) := dk_167 255 172 (dk_at dksX5_makes_4 6 rfl rfl)
theorem dX5_makes_103 : decode cX5_makes 103 = .ok (.bipush 24, 2) := dk_16 24 (dk_at dksX5_makes_4 9 rfl rfl)
theorem dX5_makes_105 : decode cX5_makes 105 = .ok (.iload_n 1, 1) := dk_27 (dk_at dksX5_makes_4 11 rfl rfl)
theorem dX5_makes_106 : decode cX5_makes 106 = .ok (.imul, 1) := dk_104 (dk_at dksX5_makes_4 12 rfl rfl)
theorem dX5_makes_107 : decode cX5_makes 107 = .ok (.aload_n 0, 1) := dk_42 (dk_at dksX5_makes_4 13 rfl rfl)
theorem dX5_makes_108 : decode cX5_makes 108 = .ok (.getfield 47, 3) := dk_180 0 47 (dk_at dksX5_makes_4 14 rfl rfl)
theorem dX5_makes_111 : decode cX5_makes 111 = .ok (.iload_n 1, 1) := dk_27 (dk_at dksX5_makes_4 17 rfl rfl)
theorem dX5_makes_112 : decode cX5_makes 112 = .ok (.iaload, 1) := dk_46 (dk_at dksX5_makes_4 18 rfl rfl)
theorem dX5_makes_113 : decode cX5_makes 113 = .ok (.iadd, 1) := dk_96 (dk_at dksX5_makes_4 19 rfl rfl)
theorem dX5_makes_114 : decode cX5_makes 114 = .ok (.istore 4, 2) := dk_54 4 (dk_at dksX5_makes_4 20 rfl rfl)
theorem dX5_makes_116 : decode cX5_makes 116 = .ok (.aload_n 0, 1) := dk_42 (dk_at dksX5_makes_4 22 rfl rfl)
theorem dX5_makes_117 : decode cX5_makes 117 = .ok (.getfield 38, 3) := dk_180 0 38 (dk_at dksX5_makes_5 0 rfl rfl)
theorem dX5_makes_120 : decode cX5_makes 120 = .ok (.iload 4, 2) := dk_21 4 (dk_at dksX5_makes_5 3 rfl rfl)
theorem dX5_makes_122 : decode cX5_makes 122 = .ok (.aload_n 0, 1) := dk_42 (dk_at dksX5_makes_5 5 rfl rfl)
theorem dX5_makes_123 : decode cX5_makes 123 = .ok (.getfield 7, 3) := dk_180 0 7 (dk_at dksX5_makes_5 6 rfl rfl)
theorem dX5_makes_126 : decode cX5_makes 126 = .ok (.aload_n 0, 1) := dk_42 (dk_at dksX5_makes_5 9 rfl rfl)
theorem dX5_makes_127 : decode cX5_makes 127 = .ok (.iload_n 1, 1) := dk_27 (dk_at dksX5_makes_5 10 rfl rfl)
theorem dX5_makes_128 : decode cX5_makes 128 = .ok (.iload_n 3, 1) := dk_29 (dk_at dksX5_makes_5 11 rfl rfl)
theorem dX5_makes_129 : decode cX5_makes 129 = .ok (.invokevirtual 215, 3) := dk_182 0 215 (dk_at dksX5_makes_5 12 rfl rfl)
theorem dX5_makes_132 : decode cX5_makes 132 = .ok (.iaload, 1) := dk_46 (dk_at dksX5_makes_5 15 rfl rfl)
theorem dX5_makes_133 : decode cX5_makes 133 = .ok (.iastore, 1) := dk_79 (dk_at dksX5_makes_5 16 rfl rfl)
theorem dX5_makes_134 : decode cX5_makes 134 = .ok (.aload_n 0, 1) := dk_42 (dk_at dksX5_makes_5 17 rfl rfl)
theorem dX5_makes_135 : decode cX5_makes 135 = .ok (.getfield 41, 3) := dk_180 0 41 (dk_at dksX5_makes_5 18 rfl rfl)
theorem dX5_makes_138 : decode cX5_makes 138 = .ok (.iload 4, 2) := dk_21 4 (dk_at dksX5_makes_5 21 rfl rfl)
theorem dX5_makes_140 : decode cX5_makes 140 = .ok (.iload_n 3, 1) := dk_29 (dk_at dksX5_makes_5 23 rfl rfl)
theorem dX5_makes_141 : decode cX5_makes 141 = .ok (.iastore, 1) := dk_79 (dk_at dksX5_makes_6 0 rfl rfl)
theorem dX5_makes_142 : decode cX5_makes 142 = .ok (.aload_n 0, 1) := dk_42 (dk_at dksX5_makes_6 1 rfl rfl)
theorem dX5_makes_143 : decode cX5_makes 143 = .ok (.getfield 44, 3) := dk_180 0 44 (dk_at dksX5_makes_6 2 rfl rfl)
theorem dX5_makes_146 : decode cX5_makes 146 = .ok (.iload 4, 2) := dk_21 4 (dk_at dksX5_makes_6 5 rfl rfl)
theorem dX5_makes_148 : decode cX5_makes 148 = .ok (.iload_n 2, 1) := dk_28 (dk_at dksX5_makes_6 7 rfl rfl)
theorem dX5_makes_149 : decode cX5_makes 149 = .ok (.iastore, 1) := dk_79 (dk_at dksX5_makes_6 8 rfl rfl)
theorem dX5_makes_150 : decode cX5_makes 150 = .ok (.aload_n 0, 1) := dk_42 (dk_at dksX5_makes_6 9 rfl rfl)
theorem dX5_makes_151 : decode cX5_makes 151 = .ok (.getfield 47, 3) := dk_180 0 47 (dk_at dksX5_makes_6 10 rfl rfl)
theorem dX5_makes_154 : decode cX5_makes 154 = .ok (.iload_n 1, 1) := dk_27 (dk_at dksX5_makes_6 13 rfl rfl)
theorem dX5_makes_155 : decode cX5_makes 155 = .ok (.dup2, 1) := dk_92 (dk_at dksX5_makes_6 14 rfl rfl)
theorem dX5_makes_156 : decode cX5_makes 156 = .ok (.iaload, 1) := dk_46 (dk_at dksX5_makes_6 15 rfl rfl)
theorem dX5_makes_157 : decode cX5_makes 157 = .ok (.iconst 1, 1) := dk_4 (dk_at dksX5_makes_6 16 rfl rfl)
theorem dX5_makes_158 : decode cX5_makes 158 = .ok (.iadd, 1) := dk_96 (dk_at dksX5_makes_6 17 rfl rfl)
theorem dX5_makes_159 : decode cX5_makes 159 = .ok (.iastore, 1) := dk_79 (dk_at dksX5_makes_6 18 rfl rfl)
theorem dX5_makes_160 : decode cX5_makes 160 = .ok (.iload_n 2, 1) := dk_28 (dk_at dksX5_makes_6 19 rfl rfl)
theorem dX5_makes_161 : decode cX5_makes 161 = .ok (.aload_n 0, 1) := dk_42 (dk_at dksX5_makes_6 20 rfl rfl)
theorem dX5_makes_162 : decode cX5_makes 162 = .ok (.iload_n 1, 1) := dk_27 (dk_at dksX5_makes_6 21 rfl rfl)
theorem dX5_makes_163 : decode cX5_makes 163 = .ok (.iload_n 3, 1) := dk_29 (dk_at dksX5_makes_6 22 rfl rfl)
theorem dX5_makes_164 : decode cX5_makes 164 = .ok (.invokevirtual 230, 3) := dk_182 0 230 (dk_at dksX5_makes_7 0 rfl rfl)
theorem dX5_makes_167 : decode cX5_makes 167 = .ok (.iadd, 1) := dk_96 (dk_at dksX5_makes_7 3 rfl rfl)
theorem dX5_makes_168 : decode cX5_makes 168 = .ok (.istore_n 2, 1) := dk_61 (dk_at dksX5_makes_7 4 rfl rfl)
theorem dX5_makes_169 : decode cX5_makes 169 = .ok (.goto (-153), 3) := dk_167 255 103 (dk_at dksX5_makes_7 5 rfl rfl)
theorem dX5_makes_172 : decode cX5_makes 172 = .ok (.return_, 1) := dk_177 (dk_at dksX5_makes_7 8 rfl rfl)
abbrev cX5_isFrom : ByteArray := prog_24_method_54_code
def yX5_isFrom : MethodName := ⟨RX5, "isFrom", "(III)Z"⟩
def dkwX5_isFrom_3 : List UInt8 := [167, 255, 210, 21, 4, 172]
abbrev dktX5_isFrom_3 : List UInt8 := dkwX5_isFrom_3 ++ []
def dkwX5_isFrom_2 : List UInt8 := [182, 1, 8, 42, 27, 28, 21, 5, 182, 0, 233, 160, 0, 7, 4, 167, 0, 4, 3, 54, 4, 132, 5, 1]
abbrev dktX5_isFrom_2 : List UInt8 := dkwX5_isFrom_2 ++ dktX5_isFrom_3
def dkwX5_isFrom_1 : List UInt8 := [54, 5, 21, 5, 42, 27, 28, 182, 0, 230, 162, 0, 41, 21, 4, 153, 0, 36, 42, 27, 29, 21, 5, 96]
abbrev dktX5_isFrom_1 : List UInt8 := dkwX5_isFrom_1 ++ dktX5_isFrom_2
def dkwX5_isFrom_0 : List UInt8 := [29, 42, 27, 28, 182, 0, 230, 96, 42, 27, 182, 1, 5, 163, 0, 7, 4, 167, 0, 4, 3, 54, 4, 3]
abbrev dktX5_isFrom_0 : List UInt8 := dkwX5_isFrom_0 ++ dktX5_isFrom_1
theorem dksX5_isFrom_0 : cX5_isFrom.data.toList.drop 0 = dktX5_isFrom_0 := by decide +kernel
theorem dksX5_isFrom_1 : cX5_isFrom.data.toList.drop 24 = dktX5_isFrom_1 := dk_seg dksX5_isFrom_0 24 rfl rfl
theorem dksX5_isFrom_2 : cX5_isFrom.data.toList.drop 48 = dktX5_isFrom_2 := dk_seg dksX5_isFrom_1 24 rfl rfl
theorem dksX5_isFrom_3 : cX5_isFrom.data.toList.drop 72 = dktX5_isFrom_3 := dk_seg dksX5_isFrom_2 24 rfl rfl
theorem dX5_isFrom_0 : decode cX5_isFrom 0 = .ok (.iload_n 3, 1) := dk_29 (dk_at dksX5_isFrom_0 0 rfl rfl)
theorem dX5_isFrom_1 : decode cX5_isFrom 1 = .ok (.aload_n 0, 1) := dk_42 (dk_at dksX5_isFrom_0 1 rfl rfl)
theorem dX5_isFrom_2 : decode cX5_isFrom 2 = .ok (.iload_n 1, 1) := dk_27 (dk_at dksX5_isFrom_0 2 rfl rfl)
theorem dX5_isFrom_3 : decode cX5_isFrom 3 = .ok (.iload_n 2, 1) := dk_28 (dk_at dksX5_isFrom_0 3 rfl rfl)
theorem dX5_isFrom_4 : decode cX5_isFrom 4 = .ok (.invokevirtual 230, 3) := dk_182 0 230 (dk_at dksX5_isFrom_0 4 rfl rfl)
theorem dX5_isFrom_7 : decode cX5_isFrom 7 = .ok (.iadd, 1) := dk_96 (dk_at dksX5_isFrom_0 7 rfl rfl)
theorem dX5_isFrom_8 : decode cX5_isFrom 8 = .ok (.aload_n 0, 1) := dk_42 (dk_at dksX5_isFrom_0 8 rfl rfl)
theorem dX5_isFrom_9 : decode cX5_isFrom 9 = .ok (.iload_n 1, 1) := dk_27 (dk_at dksX5_isFrom_0 9 rfl rfl)
theorem dX5_isFrom_10 : decode cX5_isFrom 10 = .ok (.invokevirtual 261, 3) := dk_182 1 5 (dk_at dksX5_isFrom_0 10 rfl rfl)
theorem dX5_isFrom_13 : decode cX5_isFrom 13 = .ok (.if_icmp .gt 7, 3) := dk_163 0 7 (dk_at dksX5_isFrom_0 13 rfl rfl)
theorem dX5_isFrom_16 : decode cX5_isFrom 16 = .ok (.iconst 1, 1) := dk_4 (dk_at dksX5_isFrom_0 16 rfl rfl)
theorem dX5_isFrom_17 : decode cX5_isFrom 17 = .ok (.goto 4, 3) := dk_167 0 4 (dk_at dksX5_isFrom_0 17 rfl rfl)
theorem dX5_isFrom_20 : decode cX5_isFrom 20 = .ok (.iconst 0, 1) := dk_3 (dk_at dksX5_isFrom_0 20 rfl rfl)
theorem dX5_isFrom_21 : decode cX5_isFrom 21 = .ok (.istore 4, 2) := dk_54 4 (dk_at dksX5_isFrom_0 21 rfl rfl)
theorem dX5_isFrom_23 : decode cX5_isFrom 23 = .ok (.iconst 0, 1) := dk_3 (dk_at dksX5_isFrom_0 23 rfl rfl)
theorem dX5_isFrom_24 : decode cX5_isFrom 24 = .ok (.istore 5, 2) := dk_54 5 (dk_at dksX5_isFrom_1 0 rfl rfl)
theorem dX5_isFrom_26 : decode cX5_isFrom 26 = .ok (.iload 5, 2) := dk_21 5 (dk_at dksX5_isFrom_1 2 rfl rfl)
theorem dX5_isFrom_28 : decode cX5_isFrom 28 = .ok (.aload_n 0, 1) := dk_42 (dk_at dksX5_isFrom_1 4 rfl rfl)
theorem dX5_isFrom_29 : decode cX5_isFrom 29 = .ok (.iload_n 1, 1) := dk_27 (dk_at dksX5_isFrom_1 5 rfl rfl)
theorem dX5_isFrom_30 : decode cX5_isFrom 30 = .ok (.iload_n 2, 1) := dk_28 (dk_at dksX5_isFrom_1 6 rfl rfl)
theorem dX5_isFrom_31 : decode cX5_isFrom 31 = .ok (.invokevirtual 230, 3) := dk_182 0 230 (dk_at dksX5_isFrom_1 7 rfl rfl)
theorem dX5_isFrom_34 : decode cX5_isFrom 34 = .ok (.if_icmp .ge 41, 3) := dk_162 0 41 (dk_at dksX5_isFrom_1 10 rfl rfl)
theorem dX5_isFrom_37 : decode cX5_isFrom 37 = .ok (.iload 4, 2) := dk_21 4 (dk_at dksX5_isFrom_1 13 rfl rfl)
theorem dX5_isFrom_39 : decode cX5_isFrom 39 = .ok (.ifCond .eq 36, 3) := dk_153 0 36 (dk_at dksX5_isFrom_1 15 rfl rfl)
theorem dX5_isFrom_42 : decode cX5_isFrom 42 = .ok (.aload_n 0, 1) := dk_42 (dk_at dksX5_isFrom_1 18 rfl rfl)
theorem dX5_isFrom_43 : decode cX5_isFrom 43 = .ok (.iload_n 1, 1) := dk_27 (dk_at dksX5_isFrom_1 19 rfl rfl)
theorem dX5_isFrom_44 : decode cX5_isFrom 44 = .ok (.iload_n 3, 1) := dk_29 (dk_at dksX5_isFrom_1 20 rfl rfl)
theorem dX5_isFrom_45 : decode cX5_isFrom 45 = .ok (.iload 5, 2) := dk_21 5 (dk_at dksX5_isFrom_1 21 rfl rfl)
theorem dX5_isFrom_47 : decode cX5_isFrom 47 = .ok (.iadd, 1) := dk_96 (dk_at dksX5_isFrom_1 23 rfl rfl)
theorem dX5_isFrom_48 : decode cX5_isFrom 48 = .ok (.invokevirtual 264, 3) := dk_182 1 8 (dk_at dksX5_isFrom_2 0 rfl rfl)
theorem dX5_isFrom_51 : decode cX5_isFrom 51 = .ok (.aload_n 0, 1) := dk_42 (dk_at dksX5_isFrom_2 3 rfl rfl)
theorem dX5_isFrom_52 : decode cX5_isFrom 52 = .ok (.iload_n 1, 1) := dk_27 (dk_at dksX5_isFrom_2 4 rfl rfl)
theorem dX5_isFrom_53 : decode cX5_isFrom 53 = .ok (.iload_n 2, 1) := dk_28 (dk_at dksX5_isFrom_2 5 rfl rfl)
theorem dX5_isFrom_54 : decode cX5_isFrom 54 = .ok (.iload 5, 2) := dk_21 5 (dk_at dksX5_isFrom_2 6 rfl rfl)
theorem dX5_isFrom_56 : decode cX5_isFrom 56 = .ok (.invokevirtual 233, 3) := dk_182 0 233 (dk_at dksX5_isFrom_2 8 rfl rfl)
theorem dX5_isFrom_59 : decode cX5_isFrom 59 = .ok (.if_icmp .ne 7, 3) := dk_160 0 7 (dk_at dksX5_isFrom_2 11 rfl rfl)
theorem dX5_isFrom_62 : decode cX5_isFrom 62 = .ok (.iconst 1, 1) := dk_4 (dk_at dksX5_isFrom_2 14 rfl rfl)
theorem dX5_isFrom_63 : decode cX5_isFrom 63 = .ok (.goto 4, 3) := dk_167 0 4 (dk_at dksX5_isFrom_2 15 rfl rfl)
theorem dX5_isFrom_66 : decode cX5_isFrom 66 = .ok (.iconst 0, 1) := dk_3 (dk_at dksX5_isFrom_2 18 rfl rfl)
theorem dX5_isFrom_67 : decode cX5_isFrom 67 = .ok (.istore 4, 2) := dk_54 4 (dk_at dksX5_isFrom_2 19 rfl rfl)
theorem dX5_isFrom_69 : decode cX5_isFrom 69 = .ok (.iinc 5 1, 3) := dk_132 5 1 (dk_at dksX5_isFrom_2 21 rfl rfl)
theorem dX5_isFrom_72 : decode cX5_isFrom 72 = .ok (.goto (-46), 3) := dk_167 255 210 (dk_at dksX5_isFrom_3 0 rfl rfl)
theorem dX5_isFrom_75 : decode cX5_isFrom 75 = .ok (.iload 4, 2) := dk_21 4 (dk_at dksX5_isFrom_3 3 rfl rfl)
theorem dX5_isFrom_77 : decode cX5_isFrom 77 = .ok (.ireturn, 1) := dk_172 (dk_at dksX5_isFrom_3 5 rfl rfl)
abbrev cX5_echoed : ByteArray := prog_24_method_57_code
def yX5_echoed : MethodName := ⟨RX5, "echoed", "(I)I"⟩
def dkwX5_echoed_4 : List UInt8 := [167, 0, 4, 3, 96, 61, 132, 3, 1, 167, 255, 158, 28, 172]
abbrev dktX5_echoed_4 : List UInt8 := dkwX5_echoed_4 ++ []
def dkwX5_echoed_3 : List UInt8 := [153, 0, 7, 4, 167, 0, 4, 3, 54, 5, 132, 6, 1, 167, 255, 201, 28, 21, 5, 153, 0, 7, 4]
abbrev dktX5_echoed_3 : List UInt8 := dkwX5_echoed_3 ++ dktX5_echoed_4
def dkwX5_echoed_2 : List UInt8 := [154, 0, 26, 42, 180, 0, 35, 42, 27, 42, 180, 0, 44, 21, 4, 46, 21, 6, 96, 182, 1, 2, 51]
abbrev dktX5_echoed_2 : List UInt8 := dkwX5_echoed_2 ++ dktX5_echoed_3
def dkwX5_echoed_1 : List UInt8 := [54, 5, 3, 54, 6, 21, 6, 42, 27, 42, 180, 0, 41, 21, 4, 46, 182, 0, 230, 162, 0, 44, 21, 5]
abbrev dktX5_echoed_1 : List UInt8 := dkwX5_echoed_1 ++ dktX5_echoed_2
def dkwX5_echoed_0 : List UInt8 := [3, 61, 3, 62, 29, 42, 180, 0, 47, 27, 46, 162, 0, 94, 16, 24, 27, 104, 29, 96, 54, 4, 3]
abbrev dktX5_echoed_0 : List UInt8 := dkwX5_echoed_0 ++ dktX5_echoed_1
theorem dksX5_echoed_0 : cX5_echoed.data.toList.drop 0 = dktX5_echoed_0 := by decide +kernel
theorem dksX5_echoed_1 : cX5_echoed.data.toList.drop 23 = dktX5_echoed_1 := dk_seg dksX5_echoed_0 23 rfl rfl
theorem dksX5_echoed_2 : cX5_echoed.data.toList.drop 47 = dktX5_echoed_2 := dk_seg dksX5_echoed_1 24 rfl rfl
theorem dksX5_echoed_3 : cX5_echoed.data.toList.drop 70 = dktX5_echoed_3 := dk_seg dksX5_echoed_2 23 rfl rfl
theorem dksX5_echoed_4 : cX5_echoed.data.toList.drop 93 = dktX5_echoed_4 := dk_seg dksX5_echoed_3 23 rfl rfl
theorem dX5_echoed_0 : decode cX5_echoed 0 = .ok (.iconst 0, 1) := dk_3 (dk_at dksX5_echoed_0 0 rfl rfl)
theorem dX5_echoed_1 : decode cX5_echoed 1 = .ok (.istore_n 2, 1) := dk_61 (dk_at dksX5_echoed_0 1 rfl rfl)
theorem dX5_echoed_2 : decode cX5_echoed 2 = .ok (.iconst 0, 1) := dk_3 (dk_at dksX5_echoed_0 2 rfl rfl)
theorem dX5_echoed_3 : decode cX5_echoed 3 = .ok (.istore_n 3, 1) := dk_62 (dk_at dksX5_echoed_0 3 rfl rfl)
theorem dX5_echoed_4 : decode cX5_echoed 4 = .ok (.iload_n 3, 1) := dk_29 (dk_at dksX5_echoed_0 4 rfl rfl)
theorem dX5_echoed_5 : decode cX5_echoed 5 = .ok (.aload_n 0, 1) := dk_42 (dk_at dksX5_echoed_0 5 rfl rfl)
theorem dX5_echoed_6 : decode cX5_echoed 6 = .ok (.getfield 47, 3) := dk_180 0 47 (dk_at dksX5_echoed_0 6 rfl rfl)
theorem dX5_echoed_9 : decode cX5_echoed 9 = .ok (.iload_n 1, 1) := dk_27 (dk_at dksX5_echoed_0 9 rfl rfl)
theorem dX5_echoed_10 : decode cX5_echoed 10 = .ok (.iaload, 1) := dk_46 (dk_at dksX5_echoed_0 10 rfl rfl)
theorem dX5_echoed_11 : decode cX5_echoed 11 = .ok (.if_icmp .ge 94, 3) := dk_162 0 94 (dk_at dksX5_echoed_0 11 rfl rfl)
theorem dX5_echoed_14 : decode cX5_echoed 14 = .ok (.bipush 24, 2) := dk_16 24 (dk_at dksX5_echoed_0 14 rfl rfl)
theorem dX5_echoed_16 : decode cX5_echoed 16 = .ok (.iload_n 1, 1) := dk_27 (dk_at dksX5_echoed_0 16 rfl rfl)
theorem dX5_echoed_17 : decode cX5_echoed 17 = .ok (.imul, 1) := dk_104 (dk_at dksX5_echoed_0 17 rfl rfl)
theorem dX5_echoed_18 : decode cX5_echoed 18 = .ok (.iload_n 3, 1) := dk_29 (dk_at dksX5_echoed_0 18 rfl rfl)
theorem dX5_echoed_19 : decode cX5_echoed 19 = .ok (.iadd, 1) := dk_96 (dk_at dksX5_echoed_0 19 rfl rfl)
theorem dX5_echoed_20 : decode cX5_echoed 20 = .ok (.istore 4, 2) := dk_54 4 (dk_at dksX5_echoed_0 20 rfl rfl)
theorem dX5_echoed_22 : decode cX5_echoed 22 = .ok (.iconst 0, 1) := dk_3 (dk_at dksX5_echoed_0 22 rfl rfl)
theorem dX5_echoed_23 : decode cX5_echoed 23 = .ok (.istore 5, 2) := dk_54 5 (dk_at dksX5_echoed_1 0 rfl rfl)
theorem dX5_echoed_25 : decode cX5_echoed 25 = .ok (.iconst 0, 1) := dk_3 (dk_at dksX5_echoed_1 2 rfl rfl)
theorem dX5_echoed_26 : decode cX5_echoed 26 = .ok (.istore 6, 2) := dk_54 6 (dk_at dksX5_echoed_1 3 rfl rfl)
theorem dX5_echoed_28 : decode cX5_echoed 28 = .ok (.iload 6, 2) := dk_21 6 (dk_at dksX5_echoed_1 5 rfl rfl)
theorem dX5_echoed_30 : decode cX5_echoed 30 = .ok (.aload_n 0, 1) := dk_42 (dk_at dksX5_echoed_1 7 rfl rfl)
theorem dX5_echoed_31 : decode cX5_echoed 31 = .ok (.iload_n 1, 1) := dk_27 (dk_at dksX5_echoed_1 8 rfl rfl)
theorem dX5_echoed_32 : decode cX5_echoed 32 = .ok (.aload_n 0, 1) := dk_42 (dk_at dksX5_echoed_1 9 rfl rfl)
theorem dX5_echoed_33 : decode cX5_echoed 33 = .ok (.getfield 41, 3) := dk_180 0 41 (dk_at dksX5_echoed_1 10 rfl rfl)
theorem dX5_echoed_36 : decode cX5_echoed 36 = .ok (.iload 4, 2) := dk_21 4 (dk_at dksX5_echoed_1 13 rfl rfl)
theorem dX5_echoed_38 : decode cX5_echoed 38 = .ok (.iaload, 1) := dk_46 (dk_at dksX5_echoed_1 15 rfl rfl)
theorem dX5_echoed_39 : decode cX5_echoed 39 = .ok (.invokevirtual 230, 3) := dk_182 0 230 (dk_at dksX5_echoed_1 16 rfl rfl)
theorem dX5_echoed_42 : decode cX5_echoed 42 = .ok (.if_icmp .ge 44, 3) := dk_162 0 44 (dk_at dksX5_echoed_1 19 rfl rfl)
theorem dX5_echoed_45 : decode cX5_echoed 45 = .ok (.iload 5, 2) := dk_21 5 (dk_at dksX5_echoed_1 22 rfl rfl)
theorem dX5_echoed_47 : decode cX5_echoed 47 = .ok (.ifCond .ne 26, 3) := dk_154 0 26 (dk_at dksX5_echoed_2 0 rfl rfl)
theorem dX5_echoed_50 : decode cX5_echoed 50 = .ok (.aload_n 0, 1) := dk_42 (dk_at dksX5_echoed_2 3 rfl rfl)
theorem dX5_echoed_51 : decode cX5_echoed 51 = .ok (.getfield 35, 3) := dk_180 0 35 (dk_at dksX5_echoed_2 4 rfl rfl)
theorem dX5_echoed_54 : decode cX5_echoed 54 = .ok (.aload_n 0, 1) := dk_42 (dk_at dksX5_echoed_2 7 rfl rfl)
theorem dX5_echoed_55 : decode cX5_echoed 55 = .ok (.iload_n 1, 1) := dk_27 (dk_at dksX5_echoed_2 8 rfl rfl)
theorem dX5_echoed_56 : decode cX5_echoed 56 = .ok (.aload_n 0, 1) := dk_42 (dk_at dksX5_echoed_2 9 rfl rfl)
theorem dX5_echoed_57 : decode cX5_echoed 57 = .ok (.getfield 44, 3) := dk_180 0 44 (dk_at dksX5_echoed_2 10 rfl rfl)
theorem dX5_echoed_60 : decode cX5_echoed 60 = .ok (.iload 4, 2) := dk_21 4 (dk_at dksX5_echoed_2 13 rfl rfl)
theorem dX5_echoed_62 : decode cX5_echoed 62 = .ok (.iaload, 1) := dk_46 (dk_at dksX5_echoed_2 15 rfl rfl)
theorem dX5_echoed_63 : decode cX5_echoed 63 = .ok (.iload 6, 2) := dk_21 6 (dk_at dksX5_echoed_2 16 rfl rfl)
theorem dX5_echoed_65 : decode cX5_echoed 65 = .ok (.iadd, 1) := dk_96 (dk_at dksX5_echoed_2 18 rfl rfl)
theorem dX5_echoed_66 : decode cX5_echoed 66 = .ok (.invokevirtual 258, 3) := dk_182 1 2 (dk_at dksX5_echoed_2 19 rfl rfl)
theorem dX5_echoed_69 : decode cX5_echoed 69 = .ok (.baload, 1) := dk_51 (dk_at dksX5_echoed_2 22 rfl rfl)
theorem dX5_echoed_70 : decode cX5_echoed 70 = .ok (.ifCond .eq 7, 3) := dk_153 0 7 (dk_at dksX5_echoed_3 0 rfl rfl)
theorem dX5_echoed_73 : decode cX5_echoed 73 = .ok (.iconst 1, 1) := dk_4 (dk_at dksX5_echoed_3 3 rfl rfl)
theorem dX5_echoed_74 : decode cX5_echoed 74 = .ok (.goto 4, 3) := dk_167 0 4 (dk_at dksX5_echoed_3 4 rfl rfl)
theorem dX5_echoed_77 : decode cX5_echoed 77 = .ok (.iconst 0, 1) := dk_3 (dk_at dksX5_echoed_3 7 rfl rfl)
theorem dX5_echoed_78 : decode cX5_echoed 78 = .ok (.istore 5, 2) := dk_54 5 (dk_at dksX5_echoed_3 8 rfl rfl)
theorem dX5_echoed_80 : decode cX5_echoed 80 = .ok (.iinc 6 1, 3) := dk_132 6 1 (dk_at dksX5_echoed_3 10 rfl rfl)
theorem dX5_echoed_83 : decode cX5_echoed 83 = .ok (.goto (-55), 3) := dk_167 255 201 (dk_at dksX5_echoed_3 13 rfl rfl)
theorem dX5_echoed_86 : decode cX5_echoed 86 = .ok (.iload_n 2, 1) := dk_28 (dk_at dksX5_echoed_3 16 rfl rfl)
theorem dX5_echoed_87 : decode cX5_echoed 87 = .ok (.iload 5, 2) := dk_21 5 (dk_at dksX5_echoed_3 17 rfl rfl)
theorem dX5_echoed_89 : decode cX5_echoed 89 = .ok (.ifCond .eq 7, 3) := dk_153 0 7 (dk_at dksX5_echoed_3 19 rfl rfl)
theorem dX5_echoed_92 : decode cX5_echoed 92 = .ok (.iconst 1, 1) := dk_4 (dk_at dksX5_echoed_3 22 rfl rfl)
theorem dX5_echoed_93 : decode cX5_echoed 93 = .ok (.goto 4, 3) := dk_167 0 4 (dk_at dksX5_echoed_4 0 rfl rfl)
theorem dX5_echoed_96 : decode cX5_echoed 96 = .ok (.iconst 0, 1) := dk_3 (dk_at dksX5_echoed_4 3 rfl rfl)
theorem dX5_echoed_97 : decode cX5_echoed 97 = .ok (.iadd, 1) := dk_96 (dk_at dksX5_echoed_4 4 rfl rfl)
theorem dX5_echoed_98 : decode cX5_echoed 98 = .ok (.istore_n 2, 1) := dk_61 (dk_at dksX5_echoed_4 5 rfl rfl)
theorem dX5_echoed_99 : decode cX5_echoed 99 = .ok (.iinc 3 1, 3) := dk_132 3 1 (dk_at dksX5_echoed_4 6 rfl rfl)
theorem dX5_echoed_102 : decode cX5_echoed 102 = .ok (.goto (-98), 3) := dk_167 255 158 (dk_at dksX5_echoed_4 9 rfl rfl)
theorem dX5_echoed_105 : decode cX5_echoed 105 = .ok (.iload_n 2, 1) := dk_28 (dk_at dksX5_echoed_4 12 rfl rfl)
theorem dX5_echoed_106 : decode cX5_echoed 106 = .ok (.ireturn, 1) := dk_172 (dk_at dksX5_echoed_4 13 rfl rfl)
abbrev cX5_purity : ByteArray := prog_24_method_56_code
def yX5_purity : MethodName := ⟨RX5, "purity", "(II)I"⟩
def dkwX5_purity_3 : List UInt8 := [167, 0, 12, 29, 154, 0, 7, 5, 167, 0, 4, 4, 172]
abbrev dktX5_purity_3 : List UInt8 := dkwX5_purity_3 ++ []
def dkwX5_purity_2 : List UInt8 := [160, 0, 7, 4, 167, 0, 4, 3, 96, 62, 132, 5, 1, 167, 255, 215, 29, 21, 4, 160, 0, 7, 3]
abbrev dktX5_purity_2 : List UInt8 := dkwX5_purity_2 ++ dktX5_purity_3
def dkwX5_purity_1 : List UInt8 := [162, 0, 40, 29, 42, 180, 0, 29, 42, 27, 42, 180, 0, 44, 28, 46, 21, 5, 96, 182, 1, 2, 46, 27]
abbrev dktX5_purity_1 : List UInt8 := dkwX5_purity_1 ++ dktX5_purity_2
def dkwX5_purity_0 : List UInt8 := [3, 62, 42, 27, 42, 180, 0, 41, 28, 46, 182, 0, 230, 54, 4, 3, 54, 5, 21, 5, 21, 4]
abbrev dktX5_purity_0 : List UInt8 := dkwX5_purity_0 ++ dktX5_purity_1
theorem dksX5_purity_0 : cX5_purity.data.toList.drop 0 = dktX5_purity_0 := by decide +kernel
theorem dksX5_purity_1 : cX5_purity.data.toList.drop 22 = dktX5_purity_1 := dk_seg dksX5_purity_0 22 rfl rfl
theorem dksX5_purity_2 : cX5_purity.data.toList.drop 46 = dktX5_purity_2 := dk_seg dksX5_purity_1 24 rfl rfl
theorem dksX5_purity_3 : cX5_purity.data.toList.drop 69 = dktX5_purity_3 := dk_seg dksX5_purity_2 23 rfl rfl
theorem dX5_purity_0 : decode cX5_purity 0 = .ok (.iconst 0, 1) := dk_3 (dk_at dksX5_purity_0 0 rfl rfl)
theorem dX5_purity_1 : decode cX5_purity 1 = .ok (.istore_n 3, 1) := dk_62 (dk_at dksX5_purity_0 1 rfl rfl)
theorem dX5_purity_2 : decode cX5_purity 2 = .ok (.aload_n 0, 1) := dk_42 (dk_at dksX5_purity_0 2 rfl rfl)
theorem dX5_purity_3 : decode cX5_purity 3 = .ok (.iload_n 1, 1) := dk_27 (dk_at dksX5_purity_0 3 rfl rfl)
theorem dX5_purity_4 : decode cX5_purity 4 = .ok (.aload_n 0, 1) := dk_42 (dk_at dksX5_purity_0 4 rfl rfl)
theorem dX5_purity_5 : decode cX5_purity 5 = .ok (.getfield 41, 3) := dk_180 0 41 (dk_at dksX5_purity_0 5 rfl rfl)
theorem dX5_purity_8 : decode cX5_purity 8 = .ok (.iload_n 2, 1) := dk_28 (dk_at dksX5_purity_0 8 rfl rfl)
theorem dX5_purity_9 : decode cX5_purity 9 = .ok (.iaload, 1) := dk_46 (dk_at dksX5_purity_0 9 rfl rfl)
theorem dX5_purity_10 : decode cX5_purity 10 = .ok (.invokevirtual 230, 3) := dk_182 0 230 (dk_at dksX5_purity_0 10 rfl rfl)
theorem dX5_purity_13 : decode cX5_purity 13 = .ok (.istore 4, 2) := dk_54 4 (dk_at dksX5_purity_0 13 rfl rfl)
theorem dX5_purity_15 : decode cX5_purity 15 = .ok (.iconst 0, 1) := dk_3 (dk_at dksX5_purity_0 15 rfl rfl)
theorem dX5_purity_16 : decode cX5_purity 16 = .ok (.istore 5, 2) := dk_54 5 (dk_at dksX5_purity_0 16 rfl rfl)
theorem dX5_purity_18 : decode cX5_purity 18 = .ok (.iload 5, 2) := dk_21 5 (dk_at dksX5_purity_0 18 rfl rfl)
theorem dX5_purity_20 : decode cX5_purity 20 = .ok (.iload 4, 2) := dk_21 4 (dk_at dksX5_purity_0 20 rfl rfl)
theorem dX5_purity_22 : decode cX5_purity 22 = .ok (.if_icmp .ge 40, 3) := dk_162 0 40 (dk_at dksX5_purity_1 0 rfl rfl)
theorem dX5_purity_25 : decode cX5_purity 25 = .ok (.iload_n 3, 1) := dk_29 (dk_at dksX5_purity_1 3 rfl rfl)
theorem dX5_purity_26 : decode cX5_purity 26 = .ok (.aload_n 0, 1) := dk_42 (dk_at dksX5_purity_1 4 rfl rfl)
theorem dX5_purity_27 : decode cX5_purity 27 = .ok (.getfield 29, 3) := dk_180 0 29 (dk_at dksX5_purity_1 5 rfl rfl)
theorem dX5_purity_30 : decode cX5_purity 30 = .ok (.aload_n 0, 1) := dk_42 (dk_at dksX5_purity_1 8 rfl rfl)
theorem dX5_purity_31 : decode cX5_purity 31 = .ok (.iload_n 1, 1) := dk_27 (dk_at dksX5_purity_1 9 rfl rfl)
theorem dX5_purity_32 : decode cX5_purity 32 = .ok (.aload_n 0, 1) := dk_42 (dk_at dksX5_purity_1 10 rfl rfl)
theorem dX5_purity_33 : decode cX5_purity 33 = .ok (.getfield 44, 3) := dk_180 0 44 (dk_at dksX5_purity_1 11 rfl rfl)
theorem dX5_purity_36 : decode cX5_purity 36 = .ok (.iload_n 2, 1) := dk_28 (dk_at dksX5_purity_1 14 rfl rfl)
theorem dX5_purity_37 : decode cX5_purity 37 = .ok (.iaload, 1) := dk_46 (dk_at dksX5_purity_1 15 rfl rfl)
theorem dX5_purity_38 : decode cX5_purity 38 = .ok (.iload 5, 2) := dk_21 5 (dk_at dksX5_purity_1 16 rfl rfl)
theorem dX5_purity_40 : decode cX5_purity 40 = .ok (.iadd, 1) := dk_96 (dk_at dksX5_purity_1 18 rfl rfl)
theorem dX5_purity_41 : decode cX5_purity 41 = .ok (.invokevirtual 258, 3) := dk_182 1 2 (dk_at dksX5_purity_1 19 rfl rfl)
theorem dX5_purity_44 : decode cX5_purity 44 = .ok (.iaload, 1) := dk_46 (dk_at dksX5_purity_1 22 rfl rfl)
theorem dX5_purity_45 : decode cX5_purity 45 = .ok (.iload_n 1, 1) := dk_27 (dk_at dksX5_purity_1 23 rfl rfl)
theorem dX5_purity_46 : decode cX5_purity 46 = .ok (.if_icmp .ne 7, 3) := dk_160 0 7 (dk_at dksX5_purity_2 0 rfl rfl)
theorem dX5_purity_49 : decode cX5_purity 49 = .ok (.iconst 1, 1) := dk_4 (dk_at dksX5_purity_2 3 rfl rfl)
theorem dX5_purity_50 : decode cX5_purity 50 = .ok (.goto 4, 3) := dk_167 0 4 (dk_at dksX5_purity_2 4 rfl rfl)
theorem dX5_purity_53 : decode cX5_purity 53 = .ok (.iconst 0, 1) := dk_3 (dk_at dksX5_purity_2 7 rfl rfl)
theorem dX5_purity_54 : decode cX5_purity 54 = .ok (.iadd, 1) := dk_96 (dk_at dksX5_purity_2 8 rfl rfl)
theorem dX5_purity_55 : decode cX5_purity 55 = .ok (.istore_n 3, 1) := dk_62 (dk_at dksX5_purity_2 9 rfl rfl)
theorem dX5_purity_56 : decode cX5_purity 56 = .ok (.iinc 5 1, 3) := dk_132 5 1 (dk_at dksX5_purity_2 10 rfl rfl)
theorem dX5_purity_59 : decode cX5_purity 59 = .ok (.goto (-41), 3) := dk_167 255 215 (dk_at dksX5_purity_2 13 rfl rfl)
theorem dX5_purity_62 : decode cX5_purity 62 = .ok (.iload_n 3, 1) := dk_29 (dk_at dksX5_purity_2 16 rfl rfl)
theorem dX5_purity_63 : decode cX5_purity 63 = .ok (.iload 4, 2) := dk_21 4 (dk_at dksX5_purity_2 17 rfl rfl)
theorem dX5_purity_65 : decode cX5_purity 65 = .ok (.if_icmp .ne 7, 3) := dk_160 0 7 (dk_at dksX5_purity_2 19 rfl rfl)
theorem dX5_purity_68 : decode cX5_purity 68 = .ok (.iconst 0, 1) := dk_3 (dk_at dksX5_purity_2 22 rfl rfl)
theorem dX5_purity_69 : decode cX5_purity 69 = .ok (.goto 12, 3) := dk_167 0 12 (dk_at dksX5_purity_3 0 rfl rfl)
theorem dX5_purity_72 : decode cX5_purity 72 = .ok (.iload_n 3, 1) := dk_29 (dk_at dksX5_purity_3 3 rfl rfl)
theorem dX5_purity_73 : decode cX5_purity 73 = .ok (.ifCond .ne 7, 3) := dk_154 0 7 (dk_at dksX5_purity_3 4 rfl rfl)
theorem dX5_purity_76 : decode cX5_purity 76 = .ok (.iconst 2, 1) := dk_5 (dk_at dksX5_purity_3 7 rfl rfl)
theorem dX5_purity_77 : decode cX5_purity 77 = .ok (.goto 4, 3) := dk_167 0 4 (dk_at dksX5_purity_3 8 rfl rfl)
theorem dX5_purity_80 : decode cX5_purity 80 = .ok (.iconst 1, 1) := dk_4 (dk_at dksX5_purity_3 11 rfl rfl)
theorem dX5_purity_81 : decode cX5_purity 81 = .ok (.ireturn, 1) := dk_172 (dk_at dksX5_purity_3 12 rfl rfl)
abbrev cX5_march : ByteArray := prog_24_method_63_code
def yX5_march : MethodName := ⟨RX5, "march", "(IIII)I"⟩
def dkwX5_march_2 : List UInt8 := [182, 1, 32, 132, 5, 1, 167, 255, 240, 42, 180, 0, 53, 29, 46, 172]
abbrev dktX5_march_2 : List UInt8 := dkwX5_march_2 ++ []
def dkwX5_march_1 : List UInt8 := [154, 0, 7, 17, 252, 24, 172, 42, 182, 1, 29, 4, 54, 5, 21, 5, 21, 4, 163, 0, 15, 42, 21, 5]
abbrev dktX5_march_1 : List UInt8 := dkwX5_march_1 ++ dktX5_march_2
def dkwX5_march_0 : List UInt8 := [42, 27, 28, 182, 0, 255, 153, 0, 21, 29, 184, 0, 218, 153, 0, 14, 21, 4, 3, 16, 24, 184, 0, 145]
abbrev dktX5_march_0 : List UInt8 := dkwX5_march_0 ++ dktX5_march_1
theorem dksX5_march_0 : cX5_march.data.toList.drop 0 = dktX5_march_0 := by decide +kernel
theorem dksX5_march_1 : cX5_march.data.toList.drop 24 = dktX5_march_1 := dk_seg dksX5_march_0 24 rfl rfl
theorem dksX5_march_2 : cX5_march.data.toList.drop 48 = dktX5_march_2 := dk_seg dksX5_march_1 24 rfl rfl
theorem dX5_march_0 : decode cX5_march 0 = .ok (.aload_n 0, 1) := dk_42 (dk_at dksX5_march_0 0 rfl rfl)
theorem dX5_march_1 : decode cX5_march 1 = .ok (.iload_n 1, 1) := dk_27 (dk_at dksX5_march_0 1 rfl rfl)
theorem dX5_march_2 : decode cX5_march 2 = .ok (.iload_n 2, 1) := dk_28 (dk_at dksX5_march_0 2 rfl rfl)
theorem dX5_march_3 : decode cX5_march 3 = .ok (.invokevirtual 255, 3) := dk_182 0 255 (dk_at dksX5_march_0 3 rfl rfl)
theorem dX5_march_6 : decode cX5_march 6 = .ok (.ifCond .eq 21, 3) := dk_153 0 21 (dk_at dksX5_march_0 6 rfl rfl)
theorem dX5_march_9 : decode cX5_march 9 = .ok (.iload_n 3, 1) := dk_29 (dk_at dksX5_march_0 9 rfl rfl)
theorem dX5_march_10 : decode cX5_march 10 = .ok (.invokestatic 218, 3) := dk_184 0 218 (dk_at dksX5_march_0 10 rfl rfl)
theorem dX5_march_13 : decode cX5_march 13 = .ok (.ifCond .eq 14, 3) := dk_153 0 14 (dk_at dksX5_march_0 13 rfl rfl)
theorem dX5_march_16 : decode cX5_march 16 = .ok (.iload 4, 2) := dk_21 4 (dk_at dksX5_march_0 16 rfl rfl)
theorem dX5_march_18 : decode cX5_march 18 = .ok (.iconst 0, 1) := dk_3 (dk_at dksX5_march_0 18 rfl rfl)
theorem dX5_march_19 : decode cX5_march 19 = .ok (.bipush 24, 2) := dk_16 24 (dk_at dksX5_march_0 19 rfl rfl)
theorem dX5_march_21 : decode cX5_march 21 = .ok (.invokestatic 145, 3) := dk_184 0 145 (dk_at dksX5_march_0 21 rfl rfl)
theorem dX5_march_24 : decode cX5_march 24 = .ok (.ifCond .ne 7, 3) := dk_154 0 7 (dk_at dksX5_march_1 0 rfl rfl)
theorem dX5_march_27 : decode cX5_march 27 = .ok (.sipush (-1000), 3) := dk_17 252 24 (dk_at dksX5_march_1 3 rfl rfl)
theorem dX5_march_30 : decode cX5_march 30 = .ok (.ireturn, 1) := dk_172 (dk_at dksX5_march_1 6 rfl rfl)
theorem dX5_march_31 : decode cX5_march 31 = .ok (.aload_n 0, 1) := dk_42 (dk_at dksX5_march_1 7 rfl rfl)
theorem dX5_march_32 : decode cX5_march 32 = .ok (.invokevirtual 285, 3) := dk_182 1 29 (dk_at dksX5_march_1 8 rfl rfl)
theorem dX5_march_35 : decode cX5_march 35 = .ok (.iconst 1, 1) := dk_4 (dk_at dksX5_march_1 11 rfl rfl)
theorem dX5_march_36 : decode cX5_march 36 = .ok (.istore 5, 2) := dk_54 5 (dk_at dksX5_march_1 12 rfl rfl)
theorem dX5_march_38 : decode cX5_march 38 = .ok (.iload 5, 2) := dk_21 5 (dk_at dksX5_march_1 14 rfl rfl)
theorem dX5_march_40 : decode cX5_march 40 = .ok (.iload 4, 2) := dk_21 4 (dk_at dksX5_march_1 16 rfl rfl)
theorem dX5_march_42 : decode cX5_march 42 = .ok (.if_icmp .gt 15, 3) := dk_163 0 15 (dk_at dksX5_march_1 18 rfl rfl)
theorem dX5_march_45 : decode cX5_march 45 = .ok (.aload_n 0, 1) := dk_42 (dk_at dksX5_march_1 21 rfl rfl)
theorem dX5_march_46 : decode cX5_march 46 = .ok (.iload 5, 2) := dk_21 5 (dk_at dksX5_march_1 22 rfl rfl)
theorem dX5_march_48 : decode cX5_march 48 = .ok (.invokevirtual 288, 3) := dk_182 1 32 (dk_at dksX5_march_2 0 rfl rfl)
theorem dX5_march_51 : decode cX5_march 51 = .ok (.iinc 5 1, 3) := dk_132 5 1 (dk_at dksX5_march_2 3 rfl rfl)
theorem dX5_march_54 : decode cX5_march 54 = .ok (.goto (-16), 3) := dk_167 255 240 (dk_at dksX5_march_2 6 rfl rfl)
theorem dX5_march_57 : decode cX5_march 57 = .ok (.aload_n 0, 1) := dk_42 (dk_at dksX5_march_2 9 rfl rfl)
theorem dX5_march_58 : decode cX5_march 58 = .ok (.getfield 53, 3) := dk_180 0 53 (dk_at dksX5_march_2 10 rfl rfl)
theorem dX5_march_61 : decode cX5_march 61 = .ok (.iload_n 3, 1) := dk_29 (dk_at dksX5_march_2 13 rfl rfl)
theorem dX5_march_62 : decode cX5_march 62 = .ok (.iaload, 1) := dk_46 (dk_at dksX5_march_2 14 rfl rfl)
theorem dX5_march_63 : decode cX5_march 63 = .ok (.ireturn, 1) := dk_172 (dk_at dksX5_march_2 15 rfl rfl)
abbrev cX5_begins : ByteArray := prog_24_method_61_code
def yX5_begins : MethodName := ⟨RX5, "begins", "()V"⟩
def dkwX5_begins_1 : List UInt8 := [180, 0, 53, 4, 42, 16, 14, 182, 0, 212, 79, 177]
abbrev dktX5_begins_1 : List UInt8 := dkwX5_begins_1 ++ []
def dkwX5_begins_0 : List UInt8 := [42, 3, 182, 1, 14, 42, 4, 182, 1, 14, 42, 180, 0, 53, 3, 42, 16, 13, 182, 0, 212, 79, 42]
abbrev dktX5_begins_0 : List UInt8 := dkwX5_begins_0 ++ dktX5_begins_1
theorem dksX5_begins_0 : cX5_begins.data.toList.drop 0 = dktX5_begins_0 := by decide +kernel
theorem dksX5_begins_1 : cX5_begins.data.toList.drop 23 = dktX5_begins_1 := dk_seg dksX5_begins_0 23 rfl rfl
theorem dX5_begins_0 : decode cX5_begins 0 = .ok (.aload_n 0, 1) := dk_42 (dk_at dksX5_begins_0 0 rfl rfl)
theorem dX5_begins_1 : decode cX5_begins 1 = .ok (.iconst 0, 1) := dk_3 (dk_at dksX5_begins_0 1 rfl rfl)
theorem dX5_begins_2 : decode cX5_begins 2 = .ok (.invokevirtual 270, 3) := dk_182 1 14 (dk_at dksX5_begins_0 2 rfl rfl)
theorem dX5_begins_5 : decode cX5_begins 5 = .ok (.aload_n 0, 1) := dk_42 (dk_at dksX5_begins_0 5 rfl rfl)
theorem dX5_begins_6 : decode cX5_begins 6 = .ok (.iconst 1, 1) := dk_4 (dk_at dksX5_begins_0 6 rfl rfl)
theorem dX5_begins_7 : decode cX5_begins 7 = .ok (.invokevirtual 270, 3) := dk_182 1 14 (dk_at dksX5_begins_0 7 rfl rfl)
theorem dX5_begins_10 : decode cX5_begins 10 = .ok (.aload_n 0, 1) := dk_42 (dk_at dksX5_begins_0 10 rfl rfl)
theorem dX5_begins_11 : decode cX5_begins 11 = .ok (.getfield 53, 3) := dk_180 0 53 (dk_at dksX5_begins_0 11 rfl rfl)
theorem dX5_begins_14 : decode cX5_begins 14 = .ok (.iconst 0, 1) := dk_3 (dk_at dksX5_begins_0 14 rfl rfl)
theorem dX5_begins_15 : decode cX5_begins 15 = .ok (.aload_n 0, 1) := dk_42 (dk_at dksX5_begins_0 15 rfl rfl)
theorem dX5_begins_16 : decode cX5_begins 16 = .ok (.bipush 13, 2) := dk_16 13 (dk_at dksX5_begins_0 16 rfl rfl)
theorem dX5_begins_18 : decode cX5_begins 18 = .ok (.invokevirtual 212, 3) := dk_182 0 212 (dk_at dksX5_begins_0 18 rfl rfl)
theorem dX5_begins_21 : decode cX5_begins 21 = .ok (.iastore, 1) := dk_79 (dk_at dksX5_begins_0 21 rfl rfl)
theorem dX5_begins_22 : decode cX5_begins 22 = .ok (.aload_n 0, 1) := dk_42 (dk_at dksX5_begins_0 22 rfl rfl)
theorem dX5_begins_23 : decode cX5_begins 23 = .ok (.getfield 53, 3) := dk_180 0 53 (dk_at dksX5_begins_1 0 rfl rfl)
theorem dX5_begins_26 : decode cX5_begins 26 = .ok (.iconst 1, 1) := dk_4 (dk_at dksX5_begins_1 3 rfl rfl)
theorem dX5_begins_27 : decode cX5_begins 27 = .ok (.aload_n 0, 1) := dk_42 (dk_at dksX5_begins_1 4 rfl rfl)
theorem dX5_begins_28 : decode cX5_begins 28 = .ok (.bipush 14, 2) := dk_16 14 (dk_at dksX5_begins_1 5 rfl rfl)
theorem dX5_begins_30 : decode cX5_begins 30 = .ok (.invokevirtual 212, 3) := dk_182 0 212 (dk_at dksX5_begins_1 7 rfl rfl)
theorem dX5_begins_33 : decode cX5_begins 33 = .ok (.iastore, 1) := dk_79 (dk_at dksX5_begins_1 10 rfl rfl)
theorem dX5_begins_34 : decode cX5_begins 34 = .ok (.return_, 1) := dk_177 (dk_at dksX5_begins_1 11 rfl rfl)
abbrev cX5_steps : ByteArray := prog_24_method_62_code
def yX5_steps : MethodName := ⟨RX5, "steps", "(I)V"⟩
def dkwX5_steps_1 : List UInt8 := [180, 0, 53, 4, 29, 79, 177]
abbrev dktX5_steps_1 : List UInt8 := dkwX5_steps_1 ++ []
def dkwX5_steps_0 : List UInt8 := [42, 3, 27, 182, 1, 26, 61, 42, 4, 27, 182, 1, 26, 62, 42, 180, 0, 53, 3, 28, 79, 42]
abbrev dktX5_steps_0 : List UInt8 := dkwX5_steps_0 ++ dktX5_steps_1
theorem dksX5_steps_0 : cX5_steps.data.toList.drop 0 = dktX5_steps_0 := by decide +kernel
theorem dksX5_steps_1 : cX5_steps.data.toList.drop 22 = dktX5_steps_1 := dk_seg dksX5_steps_0 22 rfl rfl
theorem dX5_steps_0 : decode cX5_steps 0 = .ok (.aload_n 0, 1) := dk_42 (dk_at dksX5_steps_0 0 rfl rfl)
theorem dX5_steps_1 : decode cX5_steps 1 = .ok (.iconst 0, 1) := dk_3 (dk_at dksX5_steps_0 1 rfl rfl)
theorem dX5_steps_2 : decode cX5_steps 2 = .ok (.iload_n 1, 1) := dk_27 (dk_at dksX5_steps_0 2 rfl rfl)
theorem dX5_steps_3 : decode cX5_steps 3 = .ok (.invokevirtual 282, 3) := dk_182 1 26 (dk_at dksX5_steps_0 3 rfl rfl)
theorem dX5_steps_6 : decode cX5_steps 6 = .ok (.istore_n 2, 1) := dk_61 (dk_at dksX5_steps_0 6 rfl rfl)
theorem dX5_steps_7 : decode cX5_steps 7 = .ok (.aload_n 0, 1) := dk_42 (dk_at dksX5_steps_0 7 rfl rfl)
theorem dX5_steps_8 : decode cX5_steps 8 = .ok (.iconst 1, 1) := dk_4 (dk_at dksX5_steps_0 8 rfl rfl)
theorem dX5_steps_9 : decode cX5_steps 9 = .ok (.iload_n 1, 1) := dk_27 (dk_at dksX5_steps_0 9 rfl rfl)
theorem dX5_steps_10 : decode cX5_steps 10 = .ok (.invokevirtual 282, 3) := dk_182 1 26 (dk_at dksX5_steps_0 10 rfl rfl)
theorem dX5_steps_13 : decode cX5_steps 13 = .ok (.istore_n 3, 1) := dk_62 (dk_at dksX5_steps_0 13 rfl rfl)
theorem dX5_steps_14 : decode cX5_steps 14 = .ok (.aload_n 0, 1) := dk_42 (dk_at dksX5_steps_0 14 rfl rfl)
theorem dX5_steps_15 : decode cX5_steps 15 = .ok (.getfield 53, 3) := dk_180 0 53 (dk_at dksX5_steps_0 15 rfl rfl)
theorem dX5_steps_18 : decode cX5_steps 18 = .ok (.iconst 0, 1) := dk_3 (dk_at dksX5_steps_0 18 rfl rfl)
theorem dX5_steps_19 : decode cX5_steps 19 = .ok (.iload_n 2, 1) := dk_28 (dk_at dksX5_steps_0 19 rfl rfl)
theorem dX5_steps_20 : decode cX5_steps 20 = .ok (.iastore, 1) := dk_79 (dk_at dksX5_steps_0 20 rfl rfl)
theorem dX5_steps_21 : decode cX5_steps 21 = .ok (.aload_n 0, 1) := dk_42 (dk_at dksX5_steps_0 21 rfl rfl)
theorem dX5_steps_22 : decode cX5_steps 22 = .ok (.getfield 53, 3) := dk_180 0 53 (dk_at dksX5_steps_1 0 rfl rfl)
theorem dX5_steps_25 : decode cX5_steps 25 = .ok (.iconst 1, 1) := dk_4 (dk_at dksX5_steps_1 3 rfl rfl)
theorem dX5_steps_26 : decode cX5_steps 26 = .ok (.iload_n 3, 1) := dk_29 (dk_at dksX5_steps_1 4 rfl rfl)
theorem dX5_steps_27 : decode cX5_steps 27 = .ok (.iastore, 1) := dk_79 (dk_at dksX5_steps_1 5 rfl rfl)
theorem dX5_steps_28 : decode cX5_steps 28 = .ok (.return_, 1) := dk_177 (dk_at dksX5_steps_1 6 rfl rfl)
abbrev cX5_goesTo : ByteArray := prog_24_method_60_code
def yX5_goesTo : MethodName := ⟨RX5, "goesTo", "(II)I"⟩
def dkwX5_goesTo_5 : List UInt8 := [29, 4, 100, 172, 29, 4, 96, 172, 29, 21, 5, 96, 172, 29, 21, 6, 96, 172, 29, 172]
abbrev dktX5_goesTo_5 : List UInt8 := dkwX5_goesTo_5 ++ []
def dkwX5_goesTo_4 : List UInt8 := [170, 0, 0, 0, 0, 48, 0, 0, 0, 1, 0, 0, 0, 4, 0, 0, 0, 30, 0, 0, 0, 34, 0, 0, 0, 38, 0, 0, 0, 43]
abbrev dktX5_goesTo_4 : List UInt8 := dkwX5_goesTo_4 ++ dktX5_goesTo_5
def dkwX5_goesTo_3 : List UInt8 := [42, 27, 28, 182, 1, 23]
abbrev dktX5_goesTo_3 : List UInt8 := dkwX5_goesTo_3 ++ dktX5_goesTo_4
def dkwX5_goesTo_2 : List UInt8 := [167, 0, 22, 21, 4, 156, 0, 7, 5, 167, 0, 13, 27, 154, 0, 8, 16, 254, 167, 0, 4, 5, 54, 6]
abbrev dktX5_goesTo_2 : List UInt8 := dkwX5_goesTo_2 ++ dktX5_goesTo_3
def dkwX5_goesTo_1 : List UInt8 := [5, 167, 0, 14, 21, 4, 156, 0, 8, 16, 254, 167, 0, 4, 3, 54, 5, 21, 4, 158, 0, 8, 16, 254]
abbrev dktX5_goesTo_1 : List UInt8 := dkwX5_goesTo_1 ++ dktX5_goesTo_2
def dkwX5_goesTo_0 : List UInt8 := [42, 180, 0, 53, 27, 46, 62, 42, 180, 0, 53, 4, 27, 100, 46, 29, 100, 54, 4, 21, 4, 158, 0, 7]
abbrev dktX5_goesTo_0 : List UInt8 := dkwX5_goesTo_0 ++ dktX5_goesTo_1
theorem dksX5_goesTo_0 : cX5_goesTo.data.toList.drop 0 = dktX5_goesTo_0 := by decide +kernel
theorem dksX5_goesTo_1 : cX5_goesTo.data.toList.drop 24 = dktX5_goesTo_1 := dk_seg dksX5_goesTo_0 24 rfl rfl
theorem dksX5_goesTo_2 : cX5_goesTo.data.toList.drop 48 = dktX5_goesTo_2 := dk_seg dksX5_goesTo_1 24 rfl rfl
theorem dksX5_goesTo_3 : cX5_goesTo.data.toList.drop 72 = dktX5_goesTo_3 := dk_seg dksX5_goesTo_2 24 rfl rfl
theorem dksX5_goesTo_4 : cX5_goesTo.data.toList.drop 78 = dktX5_goesTo_4 := dk_seg dksX5_goesTo_3 6 rfl rfl
theorem dksX5_goesTo_5 : cX5_goesTo.data.toList.drop 108 = dktX5_goesTo_5 := dk_seg dksX5_goesTo_4 30 rfl rfl
theorem dX5_goesTo_0 : decode cX5_goesTo 0 = .ok (.aload_n 0, 1) := dk_42 (dk_at dksX5_goesTo_0 0 rfl rfl)
theorem dX5_goesTo_1 : decode cX5_goesTo 1 = .ok (.getfield 53, 3) := dk_180 0 53 (dk_at dksX5_goesTo_0 1 rfl rfl)
theorem dX5_goesTo_4 : decode cX5_goesTo 4 = .ok (.iload_n 1, 1) := dk_27 (dk_at dksX5_goesTo_0 4 rfl rfl)
theorem dX5_goesTo_5 : decode cX5_goesTo 5 = .ok (.iaload, 1) := dk_46 (dk_at dksX5_goesTo_0 5 rfl rfl)
theorem dX5_goesTo_6 : decode cX5_goesTo 6 = .ok (.istore_n 3, 1) := dk_62 (dk_at dksX5_goesTo_0 6 rfl rfl)
theorem dX5_goesTo_7 : decode cX5_goesTo 7 = .ok (.aload_n 0, 1) := dk_42 (dk_at dksX5_goesTo_0 7 rfl rfl)
theorem dX5_goesTo_8 : decode cX5_goesTo 8 = .ok (.getfield 53, 3) := dk_180 0 53 (dk_at dksX5_goesTo_0 8 rfl rfl)
theorem dX5_goesTo_11 : decode cX5_goesTo 11 = .ok (.iconst 1, 1) := dk_4 (dk_at dksX5_goesTo_0 11 rfl rfl)
theorem dX5_goesTo_12 : decode cX5_goesTo 12 = .ok (.iload_n 1, 1) := dk_27 (dk_at dksX5_goesTo_0 12 rfl rfl)
theorem dX5_goesTo_13 : decode cX5_goesTo 13 = .ok (.isub, 1) := dk_100 (dk_at dksX5_goesTo_0 13 rfl rfl)
theorem dX5_goesTo_14 : decode cX5_goesTo 14 = .ok (.iaload, 1) := dk_46 (dk_at dksX5_goesTo_0 14 rfl rfl)
theorem dX5_goesTo_15 : decode cX5_goesTo 15 = .ok (.iload_n 3, 1) := dk_29 (dk_at dksX5_goesTo_0 15 rfl rfl)
theorem dX5_goesTo_16 : decode cX5_goesTo 16 = .ok (.isub, 1) := dk_100 (dk_at dksX5_goesTo_0 16 rfl rfl)
theorem dX5_goesTo_17 : decode cX5_goesTo 17 = .ok (.istore 4, 2) := dk_54 4 (dk_at dksX5_goesTo_0 17 rfl rfl)
theorem dX5_goesTo_19 : decode cX5_goesTo 19 = .ok (.iload 4, 2) := dk_21 4 (dk_at dksX5_goesTo_0 19 rfl rfl)
theorem dX5_goesTo_21 : decode cX5_goesTo 21 = .ok (.ifCond .le 7, 3) := dk_158 0 7 (dk_at dksX5_goesTo_0 21 rfl rfl)
theorem dX5_goesTo_24 : decode cX5_goesTo 24 = .ok (.iconst 2, 1) := dk_5 (dk_at dksX5_goesTo_1 0 rfl rfl)
theorem dX5_goesTo_25 : decode cX5_goesTo 25 = .ok (.goto 14, 3) := dk_167 0 14 (dk_at dksX5_goesTo_1 1 rfl rfl)
theorem dX5_goesTo_28 : decode cX5_goesTo 28 = .ok (.iload 4, 2) := dk_21 4 (dk_at dksX5_goesTo_1 4 rfl rfl)
theorem dX5_goesTo_30 : decode cX5_goesTo 30 = .ok (.ifCond .ge 8, 3) := dk_156 0 8 (dk_at dksX5_goesTo_1 6 rfl rfl)
theorem dX5_goesTo_33 : decode cX5_goesTo 33 = .ok (.bipush (-2), 2) := dk_16 254 (dk_at dksX5_goesTo_1 9 rfl rfl)
theorem dX5_goesTo_35 : decode cX5_goesTo 35 = .ok (.goto 4, 3) := dk_167 0 4 (dk_at dksX5_goesTo_1 11 rfl rfl)
theorem dX5_goesTo_38 : decode cX5_goesTo 38 = .ok (.iconst 0, 1) := dk_3 (dk_at dksX5_goesTo_1 14 rfl rfl)
theorem dX5_goesTo_39 : decode cX5_goesTo 39 = .ok (.istore 5, 2) := dk_54 5 (dk_at dksX5_goesTo_1 15 rfl rfl)
theorem dX5_goesTo_41 : decode cX5_goesTo 41 = .ok (.iload 4, 2) := dk_21 4 (dk_at dksX5_goesTo_1 17 rfl rfl)
theorem dX5_goesTo_43 : decode cX5_goesTo 43 = .ok (.ifCond .le 8, 3) := dk_158 0 8 (dk_at dksX5_goesTo_1 19 rfl rfl)
theorem dX5_goesTo_46 : decode cX5_goesTo 46 = .ok (.bipush (-2), 2) := dk_16 254 (dk_at dksX5_goesTo_1 22 rfl rfl)
theorem dX5_goesTo_48 : decode cX5_goesTo 48 = .ok (.goto 22, 3) := dk_167 0 22 (dk_at dksX5_goesTo_2 0 rfl rfl)
theorem dX5_goesTo_51 : decode cX5_goesTo 51 = .ok (.iload 4, 2) := dk_21 4 (dk_at dksX5_goesTo_2 3 rfl rfl)
theorem dX5_goesTo_53 : decode cX5_goesTo 53 = .ok (.ifCond .ge 7, 3) := dk_156 0 7 (dk_at dksX5_goesTo_2 5 rfl rfl)
theorem dX5_goesTo_56 : decode cX5_goesTo 56 = .ok (.iconst 2, 1) := dk_5 (dk_at dksX5_goesTo_2 8 rfl rfl)
theorem dX5_goesTo_57 : decode cX5_goesTo 57 = .ok (.goto 13, 3) := dk_167 0 13 (dk_at dksX5_goesTo_2 9 rfl rfl)
theorem dX5_goesTo_60 : decode cX5_goesTo 60 = .ok (.iload_n 1, 1) := dk_27 (dk_at dksX5_goesTo_2 12 rfl rfl)
theorem dX5_goesTo_61 : decode cX5_goesTo 61 = .ok (.ifCond .ne 8, 3) := dk_154 0 8 (dk_at dksX5_goesTo_2 13 rfl rfl)
theorem dX5_goesTo_64 : decode cX5_goesTo 64 = .ok (.bipush (-2), 2) := dk_16 254 (dk_at dksX5_goesTo_2 16 rfl rfl)
theorem dX5_goesTo_66 : decode cX5_goesTo 66 = .ok (.goto 4, 3) := dk_167 0 4 (dk_at dksX5_goesTo_2 18 rfl rfl)
theorem dX5_goesTo_69 : decode cX5_goesTo 69 = .ok (.iconst 2, 1) := dk_5 (dk_at dksX5_goesTo_2 21 rfl rfl)
theorem dX5_goesTo_70 : decode cX5_goesTo 70 = .ok (.istore 6, 2) := dk_54 6 (dk_at dksX5_goesTo_2 22 rfl rfl)
theorem dX5_goesTo_72 : decode cX5_goesTo 72 = .ok (.aload_n 0, 1) := dk_42 (dk_at dksX5_goesTo_3 0 rfl rfl)
theorem dX5_goesTo_73 : decode cX5_goesTo 73 = .ok (.iload_n 1, 1) := dk_27 (dk_at dksX5_goesTo_3 1 rfl rfl)
theorem dX5_goesTo_74 : decode cX5_goesTo 74 = .ok (.iload_n 2, 1) := dk_28 (dk_at dksX5_goesTo_3 2 rfl rfl)
theorem dX5_goesTo_75 : decode cX5_goesTo 75 = .ok (.invokevirtual 279, 3) := dk_182 1 23 (dk_at dksX5_goesTo_3 3 rfl rfl)
theorem dX5_goesTo_78 : decode cX5_goesTo 78 = .ok (.tableswitch 48 1 4 #[30, 34, 38, 43], 30) := by decide +kernel
theorem dX5_goesTo_108 : decode cX5_goesTo 108 = .ok (.iload_n 3, 1) := dk_29 (dk_at dksX5_goesTo_5 0 rfl rfl)
theorem dX5_goesTo_109 : decode cX5_goesTo 109 = .ok (.iconst 1, 1) := dk_4 (dk_at dksX5_goesTo_5 1 rfl rfl)
theorem dX5_goesTo_110 : decode cX5_goesTo 110 = .ok (.isub, 1) := dk_100 (dk_at dksX5_goesTo_5 2 rfl rfl)
theorem dX5_goesTo_111 : decode cX5_goesTo 111 = .ok (.ireturn, 1) := dk_172 (dk_at dksX5_goesTo_5 3 rfl rfl)
theorem dX5_goesTo_112 : decode cX5_goesTo 112 = .ok (.iload_n 3, 1) := dk_29 (dk_at dksX5_goesTo_5 4 rfl rfl)
theorem dX5_goesTo_113 : decode cX5_goesTo 113 = .ok (.iconst 1, 1) := dk_4 (dk_at dksX5_goesTo_5 5 rfl rfl)
theorem dX5_goesTo_114 : decode cX5_goesTo 114 = .ok (.iadd, 1) := dk_96 (dk_at dksX5_goesTo_5 6 rfl rfl)
theorem dX5_goesTo_115 : decode cX5_goesTo 115 = .ok (.ireturn, 1) := dk_172 (dk_at dksX5_goesTo_5 7 rfl rfl)
theorem dX5_goesTo_116 : decode cX5_goesTo 116 = .ok (.iload_n 3, 1) := dk_29 (dk_at dksX5_goesTo_5 8 rfl rfl)
theorem dX5_goesTo_117 : decode cX5_goesTo 117 = .ok (.iload 5, 2) := dk_21 5 (dk_at dksX5_goesTo_5 9 rfl rfl)
theorem dX5_goesTo_119 : decode cX5_goesTo 119 = .ok (.iadd, 1) := dk_96 (dk_at dksX5_goesTo_5 11 rfl rfl)
theorem dX5_goesTo_120 : decode cX5_goesTo 120 = .ok (.ireturn, 1) := dk_172 (dk_at dksX5_goesTo_5 12 rfl rfl)
theorem dX5_goesTo_121 : decode cX5_goesTo 121 = .ok (.iload_n 3, 1) := dk_29 (dk_at dksX5_goesTo_5 13 rfl rfl)
theorem dX5_goesTo_122 : decode cX5_goesTo 122 = .ok (.iload 6, 2) := dk_21 6 (dk_at dksX5_goesTo_5 14 rfl rfl)
theorem dX5_goesTo_124 : decode cX5_goesTo 124 = .ok (.iadd, 1) := dk_96 (dk_at dksX5_goesTo_5 16 rfl rfl)
theorem dX5_goesTo_125 : decode cX5_goesTo 125 = .ok (.ireturn, 1) := dk_172 (dk_at dksX5_goesTo_5 17 rfl rfl)
theorem dX5_goesTo_126 : decode cX5_goesTo 126 = .ok (.iload_n 3, 1) := dk_29 (dk_at dksX5_goesTo_5 18 rfl rfl)
theorem dX5_goesTo_127 : decode cX5_goesTo 127 = .ok (.ireturn, 1) := dk_172 (dk_at dksX5_goesTo_5 19 rfl rfl)
abbrev cX5_moveAt : ByteArray := prog_24_method_59_code
def yX5_moveAt : MethodName := ⟨RX5, "moveAt", "(II)I"⟩
def dkwX5_moveAt_1 : List UInt8 := [184, 0, 145, 153, 0, 17, 42, 180, 0, 38, 16, 24, 27, 104, 29, 96, 46, 167, 0, 4, 3, 172]
abbrev dktX5_moveAt_1 : List UInt8 := dkwX5_moveAt_1 ++ []
def dkwX5_moveAt_0 : List UInt8 := [28, 4, 100, 42, 16, 11, 27, 96, 182, 0, 212, 100, 62, 29, 3, 42, 180, 0, 47, 27, 46, 4, 100]
abbrev dktX5_moveAt_0 : List UInt8 := dkwX5_moveAt_0 ++ dktX5_moveAt_1
theorem dksX5_moveAt_0 : cX5_moveAt.data.toList.drop 0 = dktX5_moveAt_0 := by decide +kernel
theorem dksX5_moveAt_1 : cX5_moveAt.data.toList.drop 23 = dktX5_moveAt_1 := dk_seg dksX5_moveAt_0 23 rfl rfl
theorem dX5_moveAt_0 : decode cX5_moveAt 0 = .ok (.iload_n 2, 1) := dk_28 (dk_at dksX5_moveAt_0 0 rfl rfl)
theorem dX5_moveAt_1 : decode cX5_moveAt 1 = .ok (.iconst 1, 1) := dk_4 (dk_at dksX5_moveAt_0 1 rfl rfl)
theorem dX5_moveAt_2 : decode cX5_moveAt 2 = .ok (.isub, 1) := dk_100 (dk_at dksX5_moveAt_0 2 rfl rfl)
theorem dX5_moveAt_3 : decode cX5_moveAt 3 = .ok (.aload_n 0, 1) := dk_42 (dk_at dksX5_moveAt_0 3 rfl rfl)
theorem dX5_moveAt_4 : decode cX5_moveAt 4 = .ok (.bipush 11, 2) := dk_16 11 (dk_at dksX5_moveAt_0 4 rfl rfl)
theorem dX5_moveAt_6 : decode cX5_moveAt 6 = .ok (.iload_n 1, 1) := dk_27 (dk_at dksX5_moveAt_0 6 rfl rfl)
theorem dX5_moveAt_7 : decode cX5_moveAt 7 = .ok (.iadd, 1) := dk_96 (dk_at dksX5_moveAt_0 7 rfl rfl)
theorem dX5_moveAt_8 : decode cX5_moveAt 8 = .ok (.invokevirtual 212, 3) := dk_182 0 212 (dk_at dksX5_moveAt_0 8 rfl rfl)
theorem dX5_moveAt_11 : decode cX5_moveAt 11 = .ok (.isub, 1) := dk_100 (dk_at dksX5_moveAt_0 11 rfl rfl)
theorem dX5_moveAt_12 : decode cX5_moveAt 12 = .ok (.istore_n 3, 1) := dk_62 (dk_at dksX5_moveAt_0 12 rfl rfl)
theorem dX5_moveAt_13 : decode cX5_moveAt 13 = .ok (.iload_n 3, 1) := dk_29 (dk_at dksX5_moveAt_0 13 rfl rfl)
theorem dX5_moveAt_14 : decode cX5_moveAt 14 = .ok (.iconst 0, 1) := dk_3 (dk_at dksX5_moveAt_0 14 rfl rfl)
theorem dX5_moveAt_15 : decode cX5_moveAt 15 = .ok (.aload_n 0, 1) := dk_42 (dk_at dksX5_moveAt_0 15 rfl rfl)
theorem dX5_moveAt_16 : decode cX5_moveAt 16 = .ok (.getfield 47, 3) := dk_180 0 47 (dk_at dksX5_moveAt_0 16 rfl rfl)
theorem dX5_moveAt_19 : decode cX5_moveAt 19 = .ok (.iload_n 1, 1) := dk_27 (dk_at dksX5_moveAt_0 19 rfl rfl)
theorem dX5_moveAt_20 : decode cX5_moveAt 20 = .ok (.iaload, 1) := dk_46 (dk_at dksX5_moveAt_0 20 rfl rfl)
theorem dX5_moveAt_21 : decode cX5_moveAt 21 = .ok (.iconst 1, 1) := dk_4 (dk_at dksX5_moveAt_0 21 rfl rfl)
theorem dX5_moveAt_22 : decode cX5_moveAt 22 = .ok (.isub, 1) := dk_100 (dk_at dksX5_moveAt_0 22 rfl rfl)
theorem dX5_moveAt_23 : decode cX5_moveAt 23 = .ok (.invokestatic 145, 3) := dk_184 0 145 (dk_at dksX5_moveAt_1 0 rfl rfl)
theorem dX5_moveAt_26 : decode cX5_moveAt 26 = .ok (.ifCond .eq 17, 3) := dk_153 0 17 (dk_at dksX5_moveAt_1 3 rfl rfl)
theorem dX5_moveAt_29 : decode cX5_moveAt 29 = .ok (.aload_n 0, 1) := dk_42 (dk_at dksX5_moveAt_1 6 rfl rfl)
theorem dX5_moveAt_30 : decode cX5_moveAt 30 = .ok (.getfield 38, 3) := dk_180 0 38 (dk_at dksX5_moveAt_1 7 rfl rfl)
theorem dX5_moveAt_33 : decode cX5_moveAt 33 = .ok (.bipush 24, 2) := dk_16 24 (dk_at dksX5_moveAt_1 10 rfl rfl)
theorem dX5_moveAt_35 : decode cX5_moveAt 35 = .ok (.iload_n 1, 1) := dk_27 (dk_at dksX5_moveAt_1 12 rfl rfl)
theorem dX5_moveAt_36 : decode cX5_moveAt 36 = .ok (.imul, 1) := dk_104 (dk_at dksX5_moveAt_1 13 rfl rfl)
theorem dX5_moveAt_37 : decode cX5_moveAt 37 = .ok (.iload_n 3, 1) := dk_29 (dk_at dksX5_moveAt_1 14 rfl rfl)
theorem dX5_moveAt_38 : decode cX5_moveAt 38 = .ok (.iadd, 1) := dk_96 (dk_at dksX5_moveAt_1 15 rfl rfl)
theorem dX5_moveAt_39 : decode cX5_moveAt 39 = .ok (.iaload, 1) := dk_46 (dk_at dksX5_moveAt_1 16 rfl rfl)
theorem dX5_moveAt_40 : decode cX5_moveAt 40 = .ok (.goto 4, 3) := dk_167 0 4 (dk_at dksX5_moveAt_1 17 rfl rfl)
theorem dX5_moveAt_43 : decode cX5_moveAt 43 = .ok (.iconst 0, 1) := dk_3 (dk_at dksX5_moveAt_1 20 rfl rfl)
theorem dX5_moveAt_44 : decode cX5_moveAt 44 = .ok (.ireturn, 1) := dk_172 (dk_at dksX5_moveAt_1 21 rfl rfl)
abbrev cX5_meets : ByteArray := prog_24_method_65_code
def yX5_meets : MethodName := ⟨RX5, "meets", "(II)I"⟩
def dkwX5_meets_0 : List UInt8 := [42, 27, 28, 182, 0, 255, 153, 0, 10, 42, 182, 1, 35, 167, 0, 4, 2, 172]
abbrev dktX5_meets_0 : List UInt8 := dkwX5_meets_0 ++ []
theorem dksX5_meets_0 : cX5_meets.data.toList.drop 0 = dktX5_meets_0 := by decide +kernel
theorem dX5_meets_0 : decode cX5_meets 0 = .ok (.aload_n 0, 1) := dk_42 (dk_at dksX5_meets_0 0 rfl rfl)
theorem dX5_meets_1 : decode cX5_meets 1 = .ok (.iload_n 1, 1) := dk_27 (dk_at dksX5_meets_0 1 rfl rfl)
theorem dX5_meets_2 : decode cX5_meets 2 = .ok (.iload_n 2, 1) := dk_28 (dk_at dksX5_meets_0 2 rfl rfl)
theorem dX5_meets_3 : decode cX5_meets 3 = .ok (.invokevirtual 255, 3) := dk_182 0 255 (dk_at dksX5_meets_0 3 rfl rfl)
theorem dX5_meets_6 : decode cX5_meets 6 = .ok (.ifCond .eq 10, 3) := dk_153 0 10 (dk_at dksX5_meets_0 6 rfl rfl)
theorem dX5_meets_9 : decode cX5_meets 9 = .ok (.aload_n 0, 1) := dk_42 (dk_at dksX5_meets_0 9 rfl rfl)
theorem dX5_meets_10 : decode cX5_meets 10 = .ok (.invokevirtual 291, 3) := dk_182 1 35 (dk_at dksX5_meets_0 10 rfl rfl)
theorem dX5_meets_13 : decode cX5_meets 13 = .ok (.goto 4, 3) := dk_167 0 4 (dk_at dksX5_meets_0 13 rfl rfl)
theorem dX5_meets_16 : decode cX5_meets 16 = .ok (.iconst (-1), 1) := dk_2 (dk_at dksX5_meets_0 16 rfl rfl)
theorem dX5_meets_17 : decode cX5_meets 17 = .ok (.ireturn, 1) := dk_172 (dk_at dksX5_meets_0 17 rfl rfl)
abbrev cX5_meeting : ByteArray := prog_24_method_64_code
def yX5_meeting : MethodName := ⟨RX5, "meeting", "()I"⟩
def dkwX5_meeting_3 : List UInt8 := [132, 1, 1, 167, 255, 188, 2, 172]
abbrev dktX5_meeting_3 : List UInt8 := dkwX5_meeting_3 ++ []
def dkwX5_meeting_2 : List UInt8 := [62, 29, 153, 0, 19, 28, 158, 0, 7, 29, 155, 0, 11, 28, 156, 0, 9, 29, 158, 0, 5, 27, 172]
abbrev dktX5_meeting_2 : List UInt8 := dkwX5_meeting_2 ++ dktX5_meeting_3
def dkwX5_meeting_1 : List UInt8 := [100, 61, 27, 158, 0, 8, 42, 27, 182, 1, 32, 42, 180, 0, 53, 4, 46, 42, 180, 0, 53, 3, 46, 100]
abbrev dktX5_meeting_1 : List UInt8 := dkwX5_meeting_1 ++ dktX5_meeting_2
def dkwX5_meeting_0 : List UInt8 := [42, 182, 1, 29, 3, 60, 27, 16, 24, 163, 0, 68, 42, 180, 0, 53, 4, 46, 42, 180, 0, 53, 3, 46]
abbrev dktX5_meeting_0 : List UInt8 := dkwX5_meeting_0 ++ dktX5_meeting_1
theorem dksX5_meeting_0 : cX5_meeting.data.toList.drop 0 = dktX5_meeting_0 := by decide +kernel
theorem dksX5_meeting_1 : cX5_meeting.data.toList.drop 24 = dktX5_meeting_1 := dk_seg dksX5_meeting_0 24 rfl rfl
theorem dksX5_meeting_2 : cX5_meeting.data.toList.drop 48 = dktX5_meeting_2 := dk_seg dksX5_meeting_1 24 rfl rfl
theorem dksX5_meeting_3 : cX5_meeting.data.toList.drop 71 = dktX5_meeting_3 := dk_seg dksX5_meeting_2 23 rfl rfl
theorem dX5_meeting_0 : decode cX5_meeting 0 = .ok (.aload_n 0, 1) := dk_42 (dk_at dksX5_meeting_0 0 rfl rfl)
theorem dX5_meeting_1 : decode cX5_meeting 1 = .ok (.invokevirtual 285, 3) := dk_182 1 29 (dk_at dksX5_meeting_0 1 rfl rfl)
theorem dX5_meeting_4 : decode cX5_meeting 4 = .ok (.iconst 0, 1) := dk_3 (dk_at dksX5_meeting_0 4 rfl rfl)
theorem dX5_meeting_5 : decode cX5_meeting 5 = .ok (.istore_n 1, 1) := dk_60 (dk_at dksX5_meeting_0 5 rfl rfl)
theorem dX5_meeting_6 : decode cX5_meeting 6 = .ok (.iload_n 1, 1) := dk_27 (dk_at dksX5_meeting_0 6 rfl rfl)
theorem dX5_meeting_7 : decode cX5_meeting 7 = .ok (.bipush 24, 2) := dk_16 24 (dk_at dksX5_meeting_0 7 rfl rfl)
theorem dX5_meeting_9 : decode cX5_meeting 9 = .ok (.if_icmp .gt 68, 3) := dk_163 0 68 (dk_at dksX5_meeting_0 9 rfl rfl)
theorem dX5_meeting_12 : decode cX5_meeting 12 = .ok (.aload_n 0, 1) := dk_42 (dk_at dksX5_meeting_0 12 rfl rfl)
theorem dX5_meeting_13 : decode cX5_meeting 13 = .ok (.getfield 53, 3) := dk_180 0 53 (dk_at dksX5_meeting_0 13 rfl rfl)
theorem dX5_meeting_16 : decode cX5_meeting 16 = .ok (.iconst 1, 1) := dk_4 (dk_at dksX5_meeting_0 16 rfl rfl)
theorem dX5_meeting_17 : decode cX5_meeting 17 = .ok (.iaload, 1) := dk_46 (dk_at dksX5_meeting_0 17 rfl rfl)
theorem dX5_meeting_18 : decode cX5_meeting 18 = .ok (.aload_n 0, 1) := dk_42 (dk_at dksX5_meeting_0 18 rfl rfl)
theorem dX5_meeting_19 : decode cX5_meeting 19 = .ok (.getfield 53, 3) := dk_180 0 53 (dk_at dksX5_meeting_0 19 rfl rfl)
theorem dX5_meeting_22 : decode cX5_meeting 22 = .ok (.iconst 0, 1) := dk_3 (dk_at dksX5_meeting_0 22 rfl rfl)
theorem dX5_meeting_23 : decode cX5_meeting 23 = .ok (.iaload, 1) := dk_46 (dk_at dksX5_meeting_0 23 rfl rfl)
theorem dX5_meeting_24 : decode cX5_meeting 24 = .ok (.isub, 1) := dk_100 (dk_at dksX5_meeting_1 0 rfl rfl)
theorem dX5_meeting_25 : decode cX5_meeting 25 = .ok (.istore_n 2, 1) := dk_61 (dk_at dksX5_meeting_1 1 rfl rfl)
theorem dX5_meeting_26 : decode cX5_meeting 26 = .ok (.iload_n 1, 1) := dk_27 (dk_at dksX5_meeting_1 2 rfl rfl)
theorem dX5_meeting_27 : decode cX5_meeting 27 = .ok (.ifCond .le 8, 3) := dk_158 0 8 (dk_at dksX5_meeting_1 3 rfl rfl)
theorem dX5_meeting_30 : decode cX5_meeting 30 = .ok (.aload_n 0, 1) := dk_42 (dk_at dksX5_meeting_1 6 rfl rfl)
theorem dX5_meeting_31 : decode cX5_meeting 31 = .ok (.iload_n 1, 1) := dk_27 (dk_at dksX5_meeting_1 7 rfl rfl)
theorem dX5_meeting_32 : decode cX5_meeting 32 = .ok (.invokevirtual 288, 3) := dk_182 1 32 (dk_at dksX5_meeting_1 8 rfl rfl)
theorem dX5_meeting_35 : decode cX5_meeting 35 = .ok (.aload_n 0, 1) := dk_42 (dk_at dksX5_meeting_1 11 rfl rfl)
theorem dX5_meeting_36 : decode cX5_meeting 36 = .ok (.getfield 53, 3) := dk_180 0 53 (dk_at dksX5_meeting_1 12 rfl rfl)
theorem dX5_meeting_39 : decode cX5_meeting 39 = .ok (.iconst 1, 1) := dk_4 (dk_at dksX5_meeting_1 15 rfl rfl)
theorem dX5_meeting_40 : decode cX5_meeting 40 = .ok (.iaload, 1) := dk_46 (dk_at dksX5_meeting_1 16 rfl rfl)
theorem dX5_meeting_41 : decode cX5_meeting 41 = .ok (.aload_n 0, 1) := dk_42 (dk_at dksX5_meeting_1 17 rfl rfl)
theorem dX5_meeting_42 : decode cX5_meeting 42 = .ok (.getfield 53, 3) := dk_180 0 53 (dk_at dksX5_meeting_1 18 rfl rfl)
theorem dX5_meeting_45 : decode cX5_meeting 45 = .ok (.iconst 0, 1) := dk_3 (dk_at dksX5_meeting_1 21 rfl rfl)
theorem dX5_meeting_46 : decode cX5_meeting 46 = .ok (.iaload, 1) := dk_46 (dk_at dksX5_meeting_1 22 rfl rfl)
theorem dX5_meeting_47 : decode cX5_meeting 47 = .ok (.isub, 1) := dk_100 (dk_at dksX5_meeting_1 23 rfl rfl)
theorem dX5_meeting_48 : decode cX5_meeting 48 = .ok (.istore_n 3, 1) := dk_62 (dk_at dksX5_meeting_2 0 rfl rfl)
theorem dX5_meeting_49 : decode cX5_meeting 49 = .ok (.iload_n 3, 1) := dk_29 (dk_at dksX5_meeting_2 1 rfl rfl)
theorem dX5_meeting_50 : decode cX5_meeting 50 = .ok (.ifCond .eq 19, 3) := dk_153 0 19 (dk_at dksX5_meeting_2 2 rfl rfl)
theorem dX5_meeting_53 : decode cX5_meeting 53 = .ok (.iload_n 2, 1) := dk_28 (dk_at dksX5_meeting_2 5 rfl rfl)
theorem dX5_meeting_54 : decode cX5_meeting 54 = .ok (.ifCond .le 7, 3) := dk_158 0 7 (dk_at dksX5_meeting_2 6 rfl rfl)
theorem dX5_meeting_57 : decode cX5_meeting 57 = .ok (.iload_n 3, 1) := dk_29 (dk_at dksX5_meeting_2 9 rfl rfl)
theorem dX5_meeting_58 : decode cX5_meeting 58 = .ok (.ifCond .lt 11, 3) := dk_155 0 11 (dk_at dksX5_meeting_2 10 rfl rfl)
theorem dX5_meeting_61 : decode cX5_meeting 61 = .ok (.iload_n 2, 1) := dk_28 (dk_at dksX5_meeting_2 13 rfl rfl)
theorem dX5_meeting_62 : decode cX5_meeting 62 = .ok (.ifCond .ge 9, 3) := dk_156 0 9 (dk_at dksX5_meeting_2 14 rfl rfl)
theorem dX5_meeting_65 : decode cX5_meeting 65 = .ok (.iload_n 3, 1) := dk_29 (dk_at dksX5_meeting_2 17 rfl rfl)
theorem dX5_meeting_66 : decode cX5_meeting 66 = .ok (.ifCond .le 5, 3) := dk_158 0 5 (dk_at dksX5_meeting_2 18 rfl rfl)
theorem dX5_meeting_69 : decode cX5_meeting 69 = .ok (.iload_n 1, 1) := dk_27 (dk_at dksX5_meeting_2 21 rfl rfl)
theorem dX5_meeting_70 : decode cX5_meeting 70 = .ok (.ireturn, 1) := dk_172 (dk_at dksX5_meeting_2 22 rfl rfl)
theorem dX5_meeting_71 : decode cX5_meeting 71 = .ok (.iinc 1 1, 3) := dk_132 1 1 (dk_at dksX5_meeting_3 0 rfl rfl)
theorem dX5_meeting_74 : decode cX5_meeting 74 = .ok (.goto (-68), 3) := dk_167 255 188 (dk_at dksX5_meeting_3 3 rfl rfl)
theorem dX5_meeting_77 : decode cX5_meeting 77 = .ok (.iconst (-1), 1) := dk_2 (dk_at dksX5_meeting_3 6 rfl rfl)
theorem dX5_meeting_78 : decode cX5_meeting 78 = .ok (.ireturn, 1) := dk_172 (dk_at dksX5_meeting_3 7 rfl rfl)
abbrev cX5_force : ByteArray := prog_24_method_70_code
def yX5_force : MethodName := ⟨RX5, "force", "(IIIIZ)I"⟩
def dkwX5_force_4 : List UInt8 := [21, 5, 153, 0, 8, 21, 6, 167, 0, 5, 21, 7, 172]
abbrev dktX5_force_4 : List UInt8 := dkwX5_force_4 ++ []
def dkwX5_force_3 : List UInt8 := [21, 7, 2, 160, 0, 8, 21, 8, 167, 0, 5, 21, 7, 54, 7, 132, 6, 1, 132, 8, 1, 167, 255, 209]
abbrev dktX5_force_3 : List UInt8 := dkwX5_force_3 ++ dktX5_force_4
def dkwX5_force_2 : List UInt8 := [21, 4, 184, 1, 38, 162, 0, 43, 42, 28, 29, 21, 4, 21, 8, 182, 1, 48, 154, 0, 6, 167, 0, 21]
abbrev dktX5_force_2 : List UInt8 := dkwX5_force_2 ++ dktX5_force_3
def dkwX5_force_1 : List UInt8 := [21, 4, 3, 6, 184, 0, 145, 154, 0, 6, 16, 254, 172, 3, 54, 6, 2, 54, 7, 3, 54, 8, 21, 8]
abbrev dktX5_force_1 : List UInt8 := dkwX5_force_1 ++ dktX5_force_2
def dkwX5_force_0 : List UInt8 := [42, 27, 182, 0, 224, 153, 0, 29, 28, 184, 0, 218, 153, 0, 22, 29, 3, 7, 184, 0, 145, 153, 0, 13]
abbrev dktX5_force_0 : List UInt8 := dkwX5_force_0 ++ dktX5_force_1
theorem dksX5_force_0 : cX5_force.data.toList.drop 0 = dktX5_force_0 := by decide +kernel
theorem dksX5_force_1 : cX5_force.data.toList.drop 24 = dktX5_force_1 := dk_seg dksX5_force_0 24 rfl rfl
theorem dksX5_force_2 : cX5_force.data.toList.drop 48 = dktX5_force_2 := dk_seg dksX5_force_1 24 rfl rfl
theorem dksX5_force_3 : cX5_force.data.toList.drop 72 = dktX5_force_3 := dk_seg dksX5_force_2 24 rfl rfl
theorem dksX5_force_4 : cX5_force.data.toList.drop 96 = dktX5_force_4 := dk_seg dksX5_force_3 24 rfl rfl
theorem dX5_force_0 : decode cX5_force 0 = .ok (.aload_n 0, 1) := dk_42 (dk_at dksX5_force_0 0 rfl rfl)
theorem dX5_force_1 : decode cX5_force 1 = .ok (.iload_n 1, 1) := dk_27 (dk_at dksX5_force_0 1 rfl rfl)
theorem dX5_force_2 : decode cX5_force 2 = .ok (.invokevirtual 224, 3) := dk_182 0 224 (dk_at dksX5_force_0 2 rfl rfl)
theorem dX5_force_5 : decode cX5_force 5 = .ok (.ifCond .eq 29, 3) := dk_153 0 29 (dk_at dksX5_force_0 5 rfl rfl)
theorem dX5_force_8 : decode cX5_force 8 = .ok (.iload_n 2, 1) := dk_28 (dk_at dksX5_force_0 8 rfl rfl)
theorem dX5_force_9 : decode cX5_force 9 = .ok (.invokestatic 218, 3) := dk_184 0 218 (dk_at dksX5_force_0 9 rfl rfl)
theorem dX5_force_12 : decode cX5_force 12 = .ok (.ifCond .eq 22, 3) := dk_153 0 22 (dk_at dksX5_force_0 12 rfl rfl)
theorem dX5_force_15 : decode cX5_force 15 = .ok (.iload_n 3, 1) := dk_29 (dk_at dksX5_force_0 15 rfl rfl)
theorem dX5_force_16 : decode cX5_force 16 = .ok (.iconst 0, 1) := dk_3 (dk_at dksX5_force_0 16 rfl rfl)
theorem dX5_force_17 : decode cX5_force 17 = .ok (.iconst 4, 1) := dk_7 (dk_at dksX5_force_0 17 rfl rfl)
theorem dX5_force_18 : decode cX5_force 18 = .ok (.invokestatic 145, 3) := dk_184 0 145 (dk_at dksX5_force_0 18 rfl rfl)
theorem dX5_force_21 : decode cX5_force 21 = .ok (.ifCond .eq 13, 3) := dk_153 0 13 (dk_at dksX5_force_0 21 rfl rfl)
theorem dX5_force_24 : decode cX5_force 24 = .ok (.iload 4, 2) := dk_21 4 (dk_at dksX5_force_1 0 rfl rfl)
theorem dX5_force_26 : decode cX5_force 26 = .ok (.iconst 0, 1) := dk_3 (dk_at dksX5_force_1 2 rfl rfl)
theorem dX5_force_27 : decode cX5_force 27 = .ok (.iconst 3, 1) := dk_6 (dk_at dksX5_force_1 3 rfl rfl)
theorem dX5_force_28 : decode cX5_force 28 = .ok (.invokestatic 145, 3) := dk_184 0 145 (dk_at dksX5_force_1 4 rfl rfl)
theorem dX5_force_31 : decode cX5_force 31 = .ok (.ifCond .ne 6, 3) := dk_154 0 6 (dk_at dksX5_force_1 7 rfl rfl)
theorem dX5_force_34 : decode cX5_force 34 = .ok (.bipush (-2), 2) := dk_16 254 (dk_at dksX5_force_1 10 rfl rfl)
theorem dX5_force_36 : decode cX5_force 36 = .ok (.ireturn, 1) := dk_172 (dk_at dksX5_force_1 12 rfl rfl)
theorem dX5_force_37 : decode cX5_force 37 = .ok (.iconst 0, 1) := dk_3 (dk_at dksX5_force_1 13 rfl rfl)
theorem dX5_force_38 : decode cX5_force 38 = .ok (.istore 6, 2) := dk_54 6 (dk_at dksX5_force_1 14 rfl rfl)
theorem dX5_force_40 : decode cX5_force 40 = .ok (.iconst (-1), 1) := dk_2 (dk_at dksX5_force_1 16 rfl rfl)
theorem dX5_force_41 : decode cX5_force 41 = .ok (.istore 7, 2) := dk_54 7 (dk_at dksX5_force_1 17 rfl rfl)
theorem dX5_force_43 : decode cX5_force 43 = .ok (.iconst 0, 1) := dk_3 (dk_at dksX5_force_1 19 rfl rfl)
theorem dX5_force_44 : decode cX5_force 44 = .ok (.istore 8, 2) := dk_54 8 (dk_at dksX5_force_1 20 rfl rfl)
theorem dX5_force_46 : decode cX5_force 46 = .ok (.iload 8, 2) := dk_21 8 (dk_at dksX5_force_1 22 rfl rfl)
theorem dX5_force_48 : decode cX5_force 48 = .ok (.iload 4, 2) := dk_21 4 (dk_at dksX5_force_2 0 rfl rfl)
theorem dX5_force_50 : decode cX5_force 50 = .ok (.invokestatic 294, 3) := dk_184 1 38 (dk_at dksX5_force_2 2 rfl rfl)
theorem dX5_force_53 : decode cX5_force 53 = .ok (.if_icmp .ge 43, 3) := dk_162 0 43 (dk_at dksX5_force_2 5 rfl rfl)
theorem dX5_force_56 : decode cX5_force 56 = .ok (.aload_n 0, 1) := dk_42 (dk_at dksX5_force_2 8 rfl rfl)
theorem dX5_force_57 : decode cX5_force 57 = .ok (.iload_n 2, 1) := dk_28 (dk_at dksX5_force_2 9 rfl rfl)
theorem dX5_force_58 : decode cX5_force 58 = .ok (.iload_n 3, 1) := dk_29 (dk_at dksX5_force_2 10 rfl rfl)
theorem dX5_force_59 : decode cX5_force 59 = .ok (.iload 4, 2) := dk_21 4 (dk_at dksX5_force_2 11 rfl rfl)
theorem dX5_force_61 : decode cX5_force 61 = .ok (.iload 8, 2) := dk_21 8 (dk_at dksX5_force_2 13 rfl rfl)
theorem dX5_force_63 : decode cX5_force 63 = .ok (.invokevirtual 304, 3) := dk_182 1 48 (dk_at dksX5_force_2 15 rfl rfl)
theorem dX5_force_66 : decode cX5_force 66 = .ok (.ifCond .ne 6, 3) := dk_154 0 6 (dk_at dksX5_force_2 18 rfl rfl)
theorem dX5_force_69 : decode cX5_force 69 = .ok (.goto 21, 3) := dk_167 0 21 (dk_at dksX5_force_2 21 rfl rfl)
theorem dX5_force_72 : decode cX5_force 72 = .ok (.iload 7, 2) := dk_21 7 (dk_at dksX5_force_3 0 rfl rfl)
theorem dX5_force_74 : decode cX5_force 74 = .ok (.iconst (-1), 1) := dk_2 (dk_at dksX5_force_3 2 rfl rfl)
theorem dX5_force_75 : decode cX5_force 75 = .ok (.if_icmp .ne 8, 3) := dk_160 0 8 (dk_at dksX5_force_3 3 rfl rfl)
theorem dX5_force_78 : decode cX5_force 78 = .ok (.iload 8, 2) := dk_21 8 (dk_at dksX5_force_3 6 rfl rfl)
theorem dX5_force_80 : decode cX5_force 80 = .ok (.goto 5, 3) := dk_167 0 5 (dk_at dksX5_force_3 8 rfl rfl)
theorem dX5_force_83 : decode cX5_force 83 = .ok (.iload 7, 2) := dk_21 7 (dk_at dksX5_force_3 11 rfl rfl)
theorem dX5_force_85 : decode cX5_force 85 = .ok (.istore 7, 2) := dk_54 7 (dk_at dksX5_force_3 13 rfl rfl)
theorem dX5_force_87 : decode cX5_force 87 = .ok (.iinc 6 1, 3) := dk_132 6 1 (dk_at dksX5_force_3 15 rfl rfl)
theorem dX5_force_90 : decode cX5_force 90 = .ok (.iinc 8 1, 3) := dk_132 8 1 (dk_at dksX5_force_3 18 rfl rfl)
theorem dX5_force_93 : decode cX5_force 93 = .ok (.goto (-47), 3) := dk_167 255 209 (dk_at dksX5_force_3 21 rfl rfl)
theorem dX5_force_96 : decode cX5_force 96 = .ok (.iload 5, 2) := dk_21 5 (dk_at dksX5_force_4 0 rfl rfl)
theorem dX5_force_98 : decode cX5_force 98 = .ok (.ifCond .eq 8, 3) := dk_153 0 8 (dk_at dksX5_force_4 2 rfl rfl)
theorem dX5_force_101 : decode cX5_force 101 = .ok (.iload 6, 2) := dk_21 6 (dk_at dksX5_force_4 5 rfl rfl)
theorem dX5_force_103 : decode cX5_force 103 = .ok (.goto 5, 3) := dk_167 0 5 (dk_at dksX5_force_4 7 rfl rfl)
theorem dX5_force_106 : decode cX5_force 106 = .ok (.iload 7, 2) := dk_21 7 (dk_at dksX5_force_4 10 rfl rfl)
theorem dX5_force_108 : decode cX5_force 108 = .ok (.ireturn, 1) := dk_172 (dk_at dksX5_force_4 12 rfl rfl)
abbrev cX5_codesOf : ByteArray := prog_24_method_67_code
def yX5_codesOf : MethodName := ⟨RX5, "codesOf", "(I)I"⟩
def dkwX5_codesOf_0 : List UInt8 := [4, 5, 26, 104, 120, 172]
abbrev dktX5_codesOf_0 : List UInt8 := dkwX5_codesOf_0 ++ []
theorem dksX5_codesOf_0 : cX5_codesOf.data.toList.drop 0 = dktX5_codesOf_0 := by decide +kernel
theorem dX5_codesOf_0 : decode cX5_codesOf 0 = .ok (.iconst 1, 1) := dk_4 (dk_at dksX5_codesOf_0 0 rfl rfl)
theorem dX5_codesOf_1 : decode cX5_codesOf 1 = .ok (.iconst 2, 1) := dk_5 (dk_at dksX5_codesOf_0 1 rfl rfl)
theorem dX5_codesOf_2 : decode cX5_codesOf 2 = .ok (.iload_n 0, 1) := dk_26 (dk_at dksX5_codesOf_0 2 rfl rfl)
theorem dX5_codesOf_3 : decode cX5_codesOf 3 = .ok (.imul, 1) := dk_104 (dk_at dksX5_codesOf_0 3 rfl rfl)
theorem dX5_codesOf_4 : decode cX5_codesOf 4 = .ok (.ishl, 1) := dk_120 (dk_at dksX5_codesOf_0 4 rfl rfl)
theorem dX5_codesOf_5 : decode cX5_codesOf 5 = .ok (.ireturn, 1) := dk_172 (dk_at dksX5_codesOf_0 5 rfl rfl)
abbrev cX5_isForced : ByteArray := prog_24_method_69_code
def yX5_isForced : MethodName := ⟨RX5, "isForced", "(IIII)Z"⟩
def dkwX5_isForced_2 : List UInt8 := [27, 28, 182, 1, 45, 54, 5, 132, 6, 1, 167, 255, 204, 21, 5, 172]
abbrev dktX5_isForced_2 : List UInt8 := dkwX5_isForced_2 ++ []
def dkwX5_isForced_1 : List UInt8 := [29, 182, 1, 41, 42, 4, 27, 100, 21, 6, 29, 182, 1, 41, 42, 182, 0, 246, 42, 3, 182, 0, 252, 42]
abbrev dktX5_isForced_1 : List UInt8 := dkwX5_isForced_1 ++ dktX5_isForced_2
def dkwX5_isForced_0 : List UInt8 := [4, 54, 5, 3, 54, 6, 21, 6, 29, 184, 1, 38, 162, 0, 49, 21, 5, 153, 0, 44, 42, 27, 21, 4]
abbrev dktX5_isForced_0 : List UInt8 := dkwX5_isForced_0 ++ dktX5_isForced_1
theorem dksX5_isForced_0 : cX5_isForced.data.toList.drop 0 = dktX5_isForced_0 := by decide +kernel
theorem dksX5_isForced_1 : cX5_isForced.data.toList.drop 24 = dktX5_isForced_1 := dk_seg dksX5_isForced_0 24 rfl rfl
theorem dksX5_isForced_2 : cX5_isForced.data.toList.drop 48 = dktX5_isForced_2 := dk_seg dksX5_isForced_1 24 rfl rfl
theorem dX5_isForced_0 : decode cX5_isForced 0 = .ok (.iconst 1, 1) := dk_4 (dk_at dksX5_isForced_0 0 rfl rfl)
theorem dX5_isForced_1 : decode cX5_isForced 1 = .ok (.istore 5, 2) := dk_54 5 (dk_at dksX5_isForced_0 1 rfl rfl)
theorem dX5_isForced_3 : decode cX5_isForced 3 = .ok (.iconst 0, 1) := dk_3 (dk_at dksX5_isForced_0 3 rfl rfl)
theorem dX5_isForced_4 : decode cX5_isForced 4 = .ok (.istore 6, 2) := dk_54 6 (dk_at dksX5_isForced_0 4 rfl rfl)
theorem dX5_isForced_6 : decode cX5_isForced 6 = .ok (.iload 6, 2) := dk_21 6 (dk_at dksX5_isForced_0 6 rfl rfl)
theorem dX5_isForced_8 : decode cX5_isForced 8 = .ok (.iload_n 3, 1) := dk_29 (dk_at dksX5_isForced_0 8 rfl rfl)
theorem dX5_isForced_9 : decode cX5_isForced 9 = .ok (.invokestatic 294, 3) := dk_184 1 38 (dk_at dksX5_isForced_0 9 rfl rfl)
theorem dX5_isForced_12 : decode cX5_isForced 12 = .ok (.if_icmp .ge 49, 3) := dk_162 0 49 (dk_at dksX5_isForced_0 12 rfl rfl)
theorem dX5_isForced_15 : decode cX5_isForced 15 = .ok (.iload 5, 2) := dk_21 5 (dk_at dksX5_isForced_0 15 rfl rfl)
theorem dX5_isForced_17 : decode cX5_isForced 17 = .ok (.ifCond .eq 44, 3) := dk_153 0 44 (dk_at dksX5_isForced_0 17 rfl rfl)
theorem dX5_isForced_20 : decode cX5_isForced 20 = .ok (.aload_n 0, 1) := dk_42 (dk_at dksX5_isForced_0 20 rfl rfl)
theorem dX5_isForced_21 : decode cX5_isForced 21 = .ok (.iload_n 1, 1) := dk_27 (dk_at dksX5_isForced_0 21 rfl rfl)
theorem dX5_isForced_22 : decode cX5_isForced 22 = .ok (.iload 4, 2) := dk_21 4 (dk_at dksX5_isForced_0 22 rfl rfl)
theorem dX5_isForced_24 : decode cX5_isForced 24 = .ok (.iload_n 3, 1) := dk_29 (dk_at dksX5_isForced_1 0 rfl rfl)
theorem dX5_isForced_25 : decode cX5_isForced 25 = .ok (.invokevirtual 297, 3) := dk_182 1 41 (dk_at dksX5_isForced_1 1 rfl rfl)
theorem dX5_isForced_28 : decode cX5_isForced 28 = .ok (.aload_n 0, 1) := dk_42 (dk_at dksX5_isForced_1 4 rfl rfl)
theorem dX5_isForced_29 : decode cX5_isForced 29 = .ok (.iconst 1, 1) := dk_4 (dk_at dksX5_isForced_1 5 rfl rfl)
theorem dX5_isForced_30 : decode cX5_isForced 30 = .ok (.iload_n 1, 1) := dk_27 (dk_at dksX5_isForced_1 6 rfl rfl)
theorem dX5_isForced_31 : decode cX5_isForced 31 = .ok (.isub, 1) := dk_100 (dk_at dksX5_isForced_1 7 rfl rfl)
theorem dX5_isForced_32 : decode cX5_isForced 32 = .ok (.iload 6, 2) := dk_21 6 (dk_at dksX5_isForced_1 8 rfl rfl)
theorem dX5_isForced_34 : decode cX5_isForced 34 = .ok (.iload_n 3, 1) := dk_29 (dk_at dksX5_isForced_1 10 rfl rfl)
theorem dX5_isForced_35 : decode cX5_isForced 35 = .ok (.invokevirtual 297, 3) := dk_182 1 41 (dk_at dksX5_isForced_1 11 rfl rfl)
theorem dX5_isForced_38 : decode cX5_isForced 38 = .ok (.aload_n 0, 1) := dk_42 (dk_at dksX5_isForced_1 14 rfl rfl)
theorem dX5_isForced_39 : decode cX5_isForced 39 = .ok (.invokevirtual 246, 3) := dk_182 0 246 (dk_at dksX5_isForced_1 15 rfl rfl)
theorem dX5_isForced_42 : decode cX5_isForced 42 = .ok (.aload_n 0, 1) := dk_42 (dk_at dksX5_isForced_1 18 rfl rfl)
theorem dX5_isForced_43 : decode cX5_isForced 43 = .ok (.iconst 0, 1) := dk_3 (dk_at dksX5_isForced_1 19 rfl rfl)
theorem dX5_isForced_44 : decode cX5_isForced 44 = .ok (.invokevirtual 252, 3) := dk_182 0 252 (dk_at dksX5_isForced_1 20 rfl rfl)
theorem dX5_isForced_47 : decode cX5_isForced 47 = .ok (.aload_n 0, 1) := dk_42 (dk_at dksX5_isForced_1 23 rfl rfl)
theorem dX5_isForced_48 : decode cX5_isForced 48 = .ok (.iload_n 1, 1) := dk_27 (dk_at dksX5_isForced_2 0 rfl rfl)
theorem dX5_isForced_49 : decode cX5_isForced 49 = .ok (.iload_n 2, 1) := dk_28 (dk_at dksX5_isForced_2 1 rfl rfl)
theorem dX5_isForced_50 : decode cX5_isForced 50 = .ok (.invokevirtual 301, 3) := dk_182 1 45 (dk_at dksX5_isForced_2 2 rfl rfl)
theorem dX5_isForced_53 : decode cX5_isForced 53 = .ok (.istore 5, 2) := dk_54 5 (dk_at dksX5_isForced_2 5 rfl rfl)
theorem dX5_isForced_55 : decode cX5_isForced 55 = .ok (.iinc 6 1, 3) := dk_132 6 1 (dk_at dksX5_isForced_2 7 rfl rfl)
theorem dX5_isForced_58 : decode cX5_isForced 58 = .ok (.goto (-52), 3) := dk_167 255 204 (dk_at dksX5_isForced_2 10 rfl rfl)
theorem dX5_isForced_61 : decode cX5_isForced 61 = .ok (.iload 5, 2) := dk_21 5 (dk_at dksX5_isForced_2 13 rfl rfl)
theorem dX5_isForced_63 : decode cX5_isForced 63 = .ok (.ireturn, 1) := dk_172 (dk_at dksX5_isForced_2 15 rfl rfl)
abbrev cX5_givesNumber : ByteArray := prog_24_method_66_code
def yX5_givesNumber : MethodName := ⟨RX5, "givesNumber", "(III)V"⟩
def dkwX5_givesNumber_2 : List UInt8 := [177]
abbrev dktX5_givesNumber_2 : List UInt8 := dkwX5_givesNumber_2 ++ []
def dkwX5_givesNumber_1 : List UInt8 := [16, 12, 27, 104, 21, 5, 96, 21, 4, 7, 112, 79, 21, 4, 7, 108, 54, 4, 132, 5, 255, 167, 255, 226]
abbrev dktX5_givesNumber_1 : List UInt8 := dkwX5_givesNumber_1 ++ dktX5_givesNumber_2
def dkwX5_givesNumber_0 : List UInt8 := [28, 54, 4, 42, 180, 0, 23, 27, 29, 79, 29, 4, 100, 54, 5, 21, 5, 155, 0, 31, 42, 180, 0, 20]
abbrev dktX5_givesNumber_0 : List UInt8 := dkwX5_givesNumber_0 ++ dktX5_givesNumber_1
theorem dksX5_givesNumber_0 : cX5_givesNumber.data.toList.drop 0 = dktX5_givesNumber_0 := by decide +kernel
theorem dksX5_givesNumber_1 : cX5_givesNumber.data.toList.drop 24 = dktX5_givesNumber_1 := dk_seg dksX5_givesNumber_0 24 rfl rfl
theorem dksX5_givesNumber_2 : cX5_givesNumber.data.toList.drop 48 = dktX5_givesNumber_2 := dk_seg dksX5_givesNumber_1 24 rfl rfl
theorem dX5_givesNumber_0 : decode cX5_givesNumber 0 = .ok (.iload_n 2, 1) := dk_28 (dk_at dksX5_givesNumber_0 0 rfl rfl)
theorem dX5_givesNumber_1 : decode cX5_givesNumber 1 = .ok (.istore 4, 2) := dk_54 4 (dk_at dksX5_givesNumber_0 1 rfl rfl)
theorem dX5_givesNumber_3 : decode cX5_givesNumber 3 = .ok (.aload_n 0, 1) := dk_42 (dk_at dksX5_givesNumber_0 3 rfl rfl)
theorem dX5_givesNumber_4 : decode cX5_givesNumber 4 = .ok (.getfield 23, 3) := dk_180 0 23 (dk_at dksX5_givesNumber_0 4 rfl rfl)
theorem dX5_givesNumber_7 : decode cX5_givesNumber 7 = .ok (.iload_n 1, 1) := dk_27 (dk_at dksX5_givesNumber_0 7 rfl rfl)
theorem dX5_givesNumber_8 : decode cX5_givesNumber 8 = .ok (.iload_n 3, 1) := dk_29 (dk_at dksX5_givesNumber_0 8 rfl rfl)
theorem dX5_givesNumber_9 : decode cX5_givesNumber 9 = .ok (.iastore, 1) := dk_79 (dk_at dksX5_givesNumber_0 9 rfl rfl)
theorem dX5_givesNumber_10 : decode cX5_givesNumber 10 = .ok (.iload_n 3, 1) := dk_29 (dk_at dksX5_givesNumber_0 10 rfl rfl)
theorem dX5_givesNumber_11 : decode cX5_givesNumber 11 = .ok (.iconst 1, 1) := dk_4 (dk_at dksX5_givesNumber_0 11 rfl rfl)
theorem dX5_givesNumber_12 : decode cX5_givesNumber 12 = .ok (.isub, 1) := dk_100 (dk_at dksX5_givesNumber_0 12 rfl rfl)
theorem dX5_givesNumber_13 : decode cX5_givesNumber 13 = .ok (.istore 5, 2) := dk_54 5 (dk_at dksX5_givesNumber_0 13 rfl rfl)
theorem dX5_givesNumber_15 : decode cX5_givesNumber 15 = .ok (.iload 5, 2) := dk_21 5 (dk_at dksX5_givesNumber_0 15 rfl rfl)
theorem dX5_givesNumber_17 : decode cX5_givesNumber 17 = .ok (.ifCond .lt 31, 3) := dk_155 0 31 (dk_at dksX5_givesNumber_0 17 rfl rfl)
theorem dX5_givesNumber_20 : decode cX5_givesNumber 20 = .ok (.aload_n 0, 1) := dk_42 (dk_at dksX5_givesNumber_0 20 rfl rfl)
theorem dX5_givesNumber_21 : decode cX5_givesNumber 21 = .ok (.getfield 20, 3) := dk_180 0 20 (dk_at dksX5_givesNumber_0 21 rfl rfl)
theorem dX5_givesNumber_24 : decode cX5_givesNumber 24 = .ok (.bipush 12, 2) := dk_16 12 (dk_at dksX5_givesNumber_1 0 rfl rfl)
theorem dX5_givesNumber_26 : decode cX5_givesNumber 26 = .ok (.iload_n 1, 1) := dk_27 (dk_at dksX5_givesNumber_1 2 rfl rfl)
theorem dX5_givesNumber_27 : decode cX5_givesNumber 27 = .ok (.imul, 1) := dk_104 (dk_at dksX5_givesNumber_1 3 rfl rfl)
theorem dX5_givesNumber_28 : decode cX5_givesNumber 28 = .ok (.iload 5, 2) := dk_21 5 (dk_at dksX5_givesNumber_1 4 rfl rfl)
theorem dX5_givesNumber_30 : decode cX5_givesNumber 30 = .ok (.iadd, 1) := dk_96 (dk_at dksX5_givesNumber_1 6 rfl rfl)
theorem dX5_givesNumber_31 : decode cX5_givesNumber 31 = .ok (.iload 4, 2) := dk_21 4 (dk_at dksX5_givesNumber_1 7 rfl rfl)
theorem dX5_givesNumber_33 : decode cX5_givesNumber 33 = .ok (.iconst 4, 1) := dk_7 (dk_at dksX5_givesNumber_1 9 rfl rfl)
theorem dX5_givesNumber_34 : decode cX5_givesNumber 34 = .ok (.irem, 1) := dk_112 (dk_at dksX5_givesNumber_1 10 rfl rfl)
theorem dX5_givesNumber_35 : decode cX5_givesNumber 35 = .ok (.iastore, 1) := dk_79 (dk_at dksX5_givesNumber_1 11 rfl rfl)
theorem dX5_givesNumber_36 : decode cX5_givesNumber 36 = .ok (.iload 4, 2) := dk_21 4 (dk_at dksX5_givesNumber_1 12 rfl rfl)
theorem dX5_givesNumber_38 : decode cX5_givesNumber 38 = .ok (.iconst 4, 1) := dk_7 (dk_at dksX5_givesNumber_1 14 rfl rfl)
theorem dX5_givesNumber_39 : decode cX5_givesNumber 39 = .ok (.idiv, 1) := dk_108 (dk_at dksX5_givesNumber_1 15 rfl rfl)
theorem dX5_givesNumber_40 : decode cX5_givesNumber 40 = .ok (.istore 4, 2) := dk_54 4 (dk_at dksX5_givesNumber_1 16 rfl rfl)
theorem dX5_givesNumber_42 : decode cX5_givesNumber 42 = .ok (.iinc 5 (-1), 3) := dk_132 5 255 (dk_at dksX5_givesNumber_1 18 rfl rfl)
theorem dX5_givesNumber_45 : decode cX5_givesNumber 45 = .ok (.goto (-30), 3) := dk_167 255 226 (dk_at dksX5_givesNumber_1 21 rfl rfl)
theorem dX5_givesNumber_48 : decode cX5_givesNumber 48 = .ok (.return_, 1) := dk_177 (dk_at dksX5_givesNumber_2 0 rfl rfl)
abbrev cX5_isMade : ByteArray := prog_24_method_68_code
def yX5_isMade : MethodName := ⟨RX5, "isMade", "(II)Z"⟩
def dkwX5_isMade_2 : List UInt8 := [62, 132, 4, 1, 167, 255, 216, 29, 172]
abbrev dktX5_isMade_2 : List UInt8 := dkwX5_isMade_2 ++ []
def dkwX5_isMade_1 : List UInt8 := [154, 0, 19, 42, 180, 0, 38, 16, 24, 27, 104, 21, 4, 96, 46, 28, 160, 0, 7, 4, 167, 0, 4, 3]
abbrev dktX5_isMade_1 : List UInt8 := dkwX5_isMade_1 ++ dktX5_isMade_2
def dkwX5_isMade_0 : List UInt8 := [42, 27, 182, 1, 14, 3, 62, 3, 54, 4, 21, 4, 42, 180, 0, 47, 27, 46, 162, 0, 35, 29]
abbrev dktX5_isMade_0 : List UInt8 := dkwX5_isMade_0 ++ dktX5_isMade_1
theorem dksX5_isMade_0 : cX5_isMade.data.toList.drop 0 = dktX5_isMade_0 := by decide +kernel
theorem dksX5_isMade_1 : cX5_isMade.data.toList.drop 22 = dktX5_isMade_1 := dk_seg dksX5_isMade_0 22 rfl rfl
theorem dksX5_isMade_2 : cX5_isMade.data.toList.drop 46 = dktX5_isMade_2 := dk_seg dksX5_isMade_1 24 rfl rfl
theorem dX5_isMade_0 : decode cX5_isMade 0 = .ok (.aload_n 0, 1) := dk_42 (dk_at dksX5_isMade_0 0 rfl rfl)
theorem dX5_isMade_1 : decode cX5_isMade 1 = .ok (.iload_n 1, 1) := dk_27 (dk_at dksX5_isMade_0 1 rfl rfl)
theorem dX5_isMade_2 : decode cX5_isMade 2 = .ok (.invokevirtual 270, 3) := dk_182 1 14 (dk_at dksX5_isMade_0 2 rfl rfl)
theorem dX5_isMade_5 : decode cX5_isMade 5 = .ok (.iconst 0, 1) := dk_3 (dk_at dksX5_isMade_0 5 rfl rfl)
theorem dX5_isMade_6 : decode cX5_isMade 6 = .ok (.istore_n 3, 1) := dk_62 (dk_at dksX5_isMade_0 6 rfl rfl)
theorem dX5_isMade_7 : decode cX5_isMade 7 = .ok (.iconst 0, 1) := dk_3 (dk_at dksX5_isMade_0 7 rfl rfl)
theorem dX5_isMade_8 : decode cX5_isMade 8 = .ok (.istore 4, 2) := dk_54 4 (dk_at dksX5_isMade_0 8 rfl rfl)
theorem dX5_isMade_10 : decode cX5_isMade 10 = .ok (.iload 4, 2) := dk_21 4 (dk_at dksX5_isMade_0 10 rfl rfl)
theorem dX5_isMade_12 : decode cX5_isMade 12 = .ok (.aload_n 0, 1) := dk_42 (dk_at dksX5_isMade_0 12 rfl rfl)
theorem dX5_isMade_13 : decode cX5_isMade 13 = .ok (.getfield 47, 3) := dk_180 0 47 (dk_at dksX5_isMade_0 13 rfl rfl)
theorem dX5_isMade_16 : decode cX5_isMade 16 = .ok (.iload_n 1, 1) := dk_27 (dk_at dksX5_isMade_0 16 rfl rfl)
theorem dX5_isMade_17 : decode cX5_isMade 17 = .ok (.iaload, 1) := dk_46 (dk_at dksX5_isMade_0 17 rfl rfl)
theorem dX5_isMade_18 : decode cX5_isMade 18 = .ok (.if_icmp .ge 35, 3) := dk_162 0 35 (dk_at dksX5_isMade_0 18 rfl rfl)
theorem dX5_isMade_21 : decode cX5_isMade 21 = .ok (.iload_n 3, 1) := dk_29 (dk_at dksX5_isMade_0 21 rfl rfl)
theorem dX5_isMade_22 : decode cX5_isMade 22 = .ok (.ifCond .ne 19, 3) := dk_154 0 19 (dk_at dksX5_isMade_1 0 rfl rfl)
theorem dX5_isMade_25 : decode cX5_isMade 25 = .ok (.aload_n 0, 1) := dk_42 (dk_at dksX5_isMade_1 3 rfl rfl)
theorem dX5_isMade_26 : decode cX5_isMade 26 = .ok (.getfield 38, 3) := dk_180 0 38 (dk_at dksX5_isMade_1 4 rfl rfl)
theorem dX5_isMade_29 : decode cX5_isMade 29 = .ok (.bipush 24, 2) := dk_16 24 (dk_at dksX5_isMade_1 7 rfl rfl)
theorem dX5_isMade_31 : decode cX5_isMade 31 = .ok (.iload_n 1, 1) := dk_27 (dk_at dksX5_isMade_1 9 rfl rfl)
theorem dX5_isMade_32 : decode cX5_isMade 32 = .ok (.imul, 1) := dk_104 (dk_at dksX5_isMade_1 10 rfl rfl)
theorem dX5_isMade_33 : decode cX5_isMade 33 = .ok (.iload 4, 2) := dk_21 4 (dk_at dksX5_isMade_1 11 rfl rfl)
theorem dX5_isMade_35 : decode cX5_isMade 35 = .ok (.iadd, 1) := dk_96 (dk_at dksX5_isMade_1 13 rfl rfl)
theorem dX5_isMade_36 : decode cX5_isMade 36 = .ok (.iaload, 1) := dk_46 (dk_at dksX5_isMade_1 14 rfl rfl)
theorem dX5_isMade_37 : decode cX5_isMade 37 = .ok (.iload_n 2, 1) := dk_28 (dk_at dksX5_isMade_1 15 rfl rfl)
theorem dX5_isMade_38 : decode cX5_isMade 38 = .ok (.if_icmp .ne 7, 3) := dk_160 0 7 (dk_at dksX5_isMade_1 16 rfl rfl)
theorem dX5_isMade_41 : decode cX5_isMade 41 = .ok (.iconst 1, 1) := dk_4 (dk_at dksX5_isMade_1 19 rfl rfl)
theorem dX5_isMade_42 : decode cX5_isMade 42 = .ok (.goto 4, 3) := dk_167 0 4 (dk_at dksX5_isMade_1 20 rfl rfl)
theorem dX5_isMade_45 : decode cX5_isMade 45 = .ok (.iconst 0, 1) := dk_3 (dk_at dksX5_isMade_1 23 rfl rfl)
theorem dX5_isMade_46 : decode cX5_isMade 46 = .ok (.istore_n 3, 1) := dk_62 (dk_at dksX5_isMade_2 0 rfl rfl)
theorem dX5_isMade_47 : decode cX5_isMade 47 = .ok (.iinc 4 1, 3) := dk_132 4 1 (dk_at dksX5_isMade_2 1 rfl rfl)
theorem dX5_isMade_50 : decode cX5_isMade 50 = .ok (.goto (-40), 3) := dk_167 255 216 (dk_at dksX5_isMade_2 4 rfl rfl)
theorem dX5_isMade_53 : decode cX5_isMade 53 = .ok (.iload_n 3, 1) := dk_29 (dk_at dksX5_isMade_2 7 rfl rfl)
theorem dX5_isMade_54 : decode cX5_isMade 54 = .ok (.ireturn, 1) := dk_172 (dk_at dksX5_isMade_2 8 rfl rfl)
abbrev cX5_told : ByteArray := prog_24_method_72_code
def yX5_told : MethodName := ⟨RX5, "told", "(III)I"⟩
def dkwX5_told_3 : List UInt8 := [96, 46, 167, 0, 5, 16, 254, 172]
abbrev dktX5_told_3 : List UInt8 := dkwX5_told_3 ++ []
def dkwX5_told_2 : List UInt8 := [4, 100, 184, 0, 145, 153, 0, 24, 42, 180, 0, 7, 42, 180, 1, 52, 5, 96, 16, 6, 28, 104, 96, 29]
abbrev dktX5_told_2 : List UInt8 := dkwX5_told_2 ++ dktX5_told_3
def dkwX5_told_1 : List UInt8 := [180, 0, 7, 42, 180, 1, 52, 28, 96, 46, 172, 29, 3, 42, 180, 0, 7, 42, 180, 1, 52, 28, 96, 46]
abbrev dktX5_told_1 : List UInt8 := dkwX5_told_1 ++ dktX5_told_2
def dkwX5_told_0 : List UInt8 := [42, 27, 182, 1, 55, 153, 0, 10, 28, 184, 0, 218, 154, 0, 6, 16, 254, 172, 29, 2, 160, 0, 15, 42]
abbrev dktX5_told_0 : List UInt8 := dkwX5_told_0 ++ dktX5_told_1
theorem dksX5_told_0 : cX5_told.data.toList.drop 0 = dktX5_told_0 := by decide +kernel
theorem dksX5_told_1 : cX5_told.data.toList.drop 24 = dktX5_told_1 := dk_seg dksX5_told_0 24 rfl rfl
theorem dksX5_told_2 : cX5_told.data.toList.drop 48 = dktX5_told_2 := dk_seg dksX5_told_1 24 rfl rfl
theorem dksX5_told_3 : cX5_told.data.toList.drop 72 = dktX5_told_3 := dk_seg dksX5_told_2 24 rfl rfl
theorem dX5_told_0 : decode cX5_told 0 = .ok (.aload_n 0, 1) := dk_42 (dk_at dksX5_told_0 0 rfl rfl)
theorem dX5_told_1 : decode cX5_told 1 = .ok (.iload_n 1, 1) := dk_27 (dk_at dksX5_told_0 1 rfl rfl)
theorem dX5_told_2 : decode cX5_told 2 = .ok (.invokevirtual 311, 3) := dk_182 1 55 (dk_at dksX5_told_0 2 rfl rfl)
theorem dX5_told_5 : decode cX5_told 5 = .ok (.ifCond .eq 10, 3) := dk_153 0 10 (dk_at dksX5_told_0 5 rfl rfl)
theorem dX5_told_8 : decode cX5_told 8 = .ok (.iload_n 2, 1) := dk_28 (dk_at dksX5_told_0 8 rfl rfl)
theorem dX5_told_9 : decode cX5_told 9 = .ok (.invokestatic 218, 3) := dk_184 0 218 (dk_at dksX5_told_0 9 rfl rfl)
theorem dX5_told_12 : decode cX5_told 12 = .ok (.ifCond .ne 6, 3) := dk_154 0 6 (dk_at dksX5_told_0 12 rfl rfl)
theorem dX5_told_15 : decode cX5_told 15 = .ok (.bipush (-2), 2) := dk_16 254 (dk_at dksX5_told_0 15 rfl rfl)
theorem dX5_told_17 : decode cX5_told 17 = .ok (.ireturn, 1) := dk_172 (dk_at dksX5_told_0 17 rfl rfl)
theorem dX5_told_18 : decode cX5_told 18 = .ok (.iload_n 3, 1) := dk_29 (dk_at dksX5_told_0 18 rfl rfl)
theorem dX5_told_19 : decode cX5_told 19 = .ok (.iconst (-1), 1) := dk_2 (dk_at dksX5_told_0 19 rfl rfl)
theorem dX5_told_20 : decode cX5_told 20 = .ok (.if_icmp .ne 15, 3) := dk_160 0 15 (dk_at dksX5_told_0 20 rfl rfl)
theorem dX5_told_23 : decode cX5_told 23 = .ok (.aload_n 0, 1) := dk_42 (dk_at dksX5_told_0 23 rfl rfl)
theorem dX5_told_24 : decode cX5_told 24 = .ok (.getfield 7, 3) := dk_180 0 7 (dk_at dksX5_told_1 0 rfl rfl)
theorem dX5_told_27 : decode cX5_told 27 = .ok (.aload_n 0, 1) := dk_42 (dk_at dksX5_told_1 3 rfl rfl)
theorem dX5_told_28 : decode cX5_told 28 = .ok (.getfield 308, 3) := dk_180 1 52 (dk_at dksX5_told_1 4 rfl rfl)
theorem dX5_told_31 : decode cX5_told 31 = .ok (.iload_n 2, 1) := dk_28 (dk_at dksX5_told_1 7 rfl rfl)
theorem dX5_told_32 : decode cX5_told 32 = .ok (.iadd, 1) := dk_96 (dk_at dksX5_told_1 8 rfl rfl)
theorem dX5_told_33 : decode cX5_told 33 = .ok (.iaload, 1) := dk_46 (dk_at dksX5_told_1 9 rfl rfl)
theorem dX5_told_34 : decode cX5_told 34 = .ok (.ireturn, 1) := dk_172 (dk_at dksX5_told_1 10 rfl rfl)
theorem dX5_told_35 : decode cX5_told 35 = .ok (.iload_n 3, 1) := dk_29 (dk_at dksX5_told_1 11 rfl rfl)
theorem dX5_told_36 : decode cX5_told 36 = .ok (.iconst 0, 1) := dk_3 (dk_at dksX5_told_1 12 rfl rfl)
theorem dX5_told_37 : decode cX5_told 37 = .ok (.aload_n 0, 1) := dk_42 (dk_at dksX5_told_1 13 rfl rfl)
theorem dX5_told_38 : decode cX5_told 38 = .ok (.getfield 7, 3) := dk_180 0 7 (dk_at dksX5_told_1 14 rfl rfl)
theorem dX5_told_41 : decode cX5_told 41 = .ok (.aload_n 0, 1) := dk_42 (dk_at dksX5_told_1 17 rfl rfl)
theorem dX5_told_42 : decode cX5_told 42 = .ok (.getfield 308, 3) := dk_180 1 52 (dk_at dksX5_told_1 18 rfl rfl)
theorem dX5_told_45 : decode cX5_told 45 = .ok (.iload_n 2, 1) := dk_28 (dk_at dksX5_told_1 21 rfl rfl)
theorem dX5_told_46 : decode cX5_told 46 = .ok (.iadd, 1) := dk_96 (dk_at dksX5_told_1 22 rfl rfl)
theorem dX5_told_47 : decode cX5_told 47 = .ok (.iaload, 1) := dk_46 (dk_at dksX5_told_1 23 rfl rfl)
theorem dX5_told_48 : decode cX5_told 48 = .ok (.iconst 1, 1) := dk_4 (dk_at dksX5_told_2 0 rfl rfl)
theorem dX5_told_49 : decode cX5_told 49 = .ok (.isub, 1) := dk_100 (dk_at dksX5_told_2 1 rfl rfl)
theorem dX5_told_50 : decode cX5_told 50 = .ok (.invokestatic 145, 3) := dk_184 0 145 (dk_at dksX5_told_2 2 rfl rfl)
theorem dX5_told_53 : decode cX5_told 53 = .ok (.ifCond .eq 24, 3) := dk_153 0 24 (dk_at dksX5_told_2 5 rfl rfl)
theorem dX5_told_56 : decode cX5_told 56 = .ok (.aload_n 0, 1) := dk_42 (dk_at dksX5_told_2 8 rfl rfl)
theorem dX5_told_57 : decode cX5_told 57 = .ok (.getfield 7, 3) := dk_180 0 7 (dk_at dksX5_told_2 9 rfl rfl)
theorem dX5_told_60 : decode cX5_told 60 = .ok (.aload_n 0, 1) := dk_42 (dk_at dksX5_told_2 12 rfl rfl)
theorem dX5_told_61 : decode cX5_told 61 = .ok (.getfield 308, 3) := dk_180 1 52 (dk_at dksX5_told_2 13 rfl rfl)
theorem dX5_told_64 : decode cX5_told 64 = .ok (.iconst 2, 1) := dk_5 (dk_at dksX5_told_2 16 rfl rfl)
theorem dX5_told_65 : decode cX5_told 65 = .ok (.iadd, 1) := dk_96 (dk_at dksX5_told_2 17 rfl rfl)
theorem dX5_told_66 : decode cX5_told 66 = .ok (.bipush 6, 2) := dk_16 6 (dk_at dksX5_told_2 18 rfl rfl)
theorem dX5_told_68 : decode cX5_told 68 = .ok (.iload_n 2, 1) := dk_28 (dk_at dksX5_told_2 20 rfl rfl)
theorem dX5_told_69 : decode cX5_told 69 = .ok (.imul, 1) := dk_104 (dk_at dksX5_told_2 21 rfl rfl)
theorem dX5_told_70 : decode cX5_told 70 = .ok (.iadd, 1) := dk_96 (dk_at dksX5_told_2 22 rfl rfl)
theorem dX5_told_71 : decode cX5_told 71 = .ok (.iload_n 3, 1) := dk_29 (dk_at dksX5_told_2 23 rfl rfl)
theorem dX5_told_72 : decode cX5_told 72 = .ok (.iadd, 1) := dk_96 (dk_at dksX5_told_3 0 rfl rfl)
theorem dX5_told_73 : decode cX5_told 73 = .ok (.iaload, 1) := dk_46 (dk_at dksX5_told_3 1 rfl rfl)
theorem dX5_told_74 : decode cX5_told 74 = .ok (.goto 5, 3) := dk_167 0 5 (dk_at dksX5_told_3 2 rfl rfl)
theorem dX5_told_77 : decode cX5_told 77 = .ok (.bipush (-2), 2) := dk_16 254 (dk_at dksX5_told_3 5 rfl rfl)
theorem dX5_told_79 : decode cX5_told 79 = .ok (.ireturn, 1) := dk_172 (dk_at dksX5_told_3 7 rfl rfl)
abbrev cX5_isHearing : ByteArray := prog_24_method_71_code
def yX5_isHearing : MethodName := ⟨RX5, "isHearing", "(I)Z"⟩
def dkwX5_isHearing_0 : List UInt8 := [42, 5, 27, 182, 0, 183, 154, 0, 5, 3, 172, 42, 5, 27, 184, 0, 206, 181, 1, 52, 4, 172]
abbrev dktX5_isHearing_0 : List UInt8 := dkwX5_isHearing_0 ++ []
theorem dksX5_isHearing_0 : cX5_isHearing.data.toList.drop 0 = dktX5_isHearing_0 := by decide +kernel
theorem dX5_isHearing_0 : decode cX5_isHearing 0 = .ok (.aload_n 0, 1) := dk_42 (dk_at dksX5_isHearing_0 0 rfl rfl)
theorem dX5_isHearing_1 : decode cX5_isHearing 1 = .ok (.iconst 2, 1) := dk_5 (dk_at dksX5_isHearing_0 1 rfl rfl)
theorem dX5_isHearing_2 : decode cX5_isHearing 2 = .ok (.iload_n 1, 1) := dk_27 (dk_at dksX5_isHearing_0 2 rfl rfl)
theorem dX5_isHearing_3 : decode cX5_isHearing 3 = .ok (.invokevirtual 183, 3) := dk_182 0 183 (dk_at dksX5_isHearing_0 3 rfl rfl)
theorem dX5_isHearing_6 : decode cX5_isHearing 6 = .ok (.ifCond .ne 5, 3) := dk_154 0 5 (dk_at dksX5_isHearing_0 6 rfl rfl)
theorem dX5_isHearing_9 : decode cX5_isHearing 9 = .ok (.iconst 0, 1) := dk_3 (dk_at dksX5_isHearing_0 9 rfl rfl)
theorem dX5_isHearing_10 : decode cX5_isHearing 10 = .ok (.ireturn, 1) := dk_172 (dk_at dksX5_isHearing_0 10 rfl rfl)
theorem dX5_isHearing_11 : decode cX5_isHearing 11 = .ok (.aload_n 0, 1) := dk_42 (dk_at dksX5_isHearing_0 11 rfl rfl)
theorem dX5_isHearing_12 : decode cX5_isHearing 12 = .ok (.iconst 2, 1) := dk_5 (dk_at dksX5_isHearing_0 12 rfl rfl)
theorem dX5_isHearing_13 : decode cX5_isHearing 13 = .ok (.iload_n 1, 1) := dk_27 (dk_at dksX5_isHearing_0 13 rfl rfl)
theorem dX5_isHearing_14 : decode cX5_isHearing 14 = .ok (.invokestatic 206, 3) := dk_184 0 206 (dk_at dksX5_isHearing_0 14 rfl rfl)
theorem dX5_isHearing_17 : decode cX5_isHearing 17 = .ok (.putfield 308, 3) := dk_181 1 52 (dk_at dksX5_isHearing_0 17 rfl rfl)
theorem dX5_isHearing_20 : decode cX5_isHearing 20 = .ok (.iconst 1, 1) := dk_4 (dk_at dksX5_isHearing_0 20 rfl rfl)
theorem dX5_isHearing_21 : decode cX5_isHearing 21 = .ok (.ireturn, 1) := dk_172 (dk_at dksX5_isHearing_0 21 rfl rfl)
abbrev cX5_bribes : ByteArray := prog_24_method_75_code
def yX5_bribes : MethodName := ⟨RX5, "bribes", "(IIII)I"⟩
def dkwX5_bribes_8 : List UInt8 := [21, 7, 167, 0, 8, 21, 7, 184, 1, 61, 172]
abbrev dktX5_bribes_8 : List UInt8 := dkwX5_bribes_8 ++ []
def dkwX5_bribes_7 : List UInt8 := [167, 255, 184, 21, 4, 154, 0, 6, 21, 6, 172, 21, 7, 2, 159, 0, 9, 21, 4, 5, 160, 0, 8]
abbrev dktX5_bribes_7 : List UInt8 := dkwX5_bribes_7 ++ dktX5_bribes_8
def dkwX5_bribes_6 : List UInt8 := [184, 1, 61, 21, 7, 184, 1, 61, 162, 0, 8, 21, 8, 167, 0, 5, 21, 7, 54, 7, 132, 8, 1]
abbrev dktX5_bribes_6 : List UInt8 := dkwX5_bribes_6 ++ dktX5_bribes_7
def dkwX5_bribes_5 : List UInt8 := [182, 0, 252, 42, 182, 1, 58, 154, 0, 6, 167, 0, 34, 132, 6, 1, 21, 7, 2, 159, 0, 16, 21, 8]
abbrev dktX5_bribes_5 : List UInt8 := dkwX5_bribes_5 ++ dktX5_bribes_6
def dkwX5_bribes_4 : List UInt8 := [4, 42, 180, 0, 243, 120, 162, 0, 67, 21, 8, 21, 5, 126, 153, 0, 6, 167, 0, 50, 42, 21, 8]
abbrev dktX5_bribes_4 : List UInt8 := dkwX5_bribes_4 ++ dktX5_bribes_5
def dkwX5_bribes_3 : List UInt8 := [167, 0, 4, 3, 128, 54, 5, 132, 6, 1, 167, 255, 221, 3, 54, 6, 2, 54, 7, 3, 54, 8, 21, 8]
abbrev dktX5_bribes_3 : List UInt8 := dkwX5_bribes_3 ++ dktX5_bribes_4
def dkwX5_bribes_2 : List UInt8 := [180, 0, 243, 162, 0, 32, 21, 5, 42, 180, 0, 26, 21, 6, 46, 154, 0, 10, 4, 21, 6, 120]
abbrev dktX5_bribes_2 : List UInt8 := dkwX5_bribes_2 ++ dktX5_bribes_3
def dkwX5_bribes_1 : List UInt8 := [163, 0, 13, 21, 4, 3, 5, 184, 0, 145, 154, 0, 5, 2, 172, 3, 54, 5, 3, 54, 6, 21, 6, 42]
abbrev dktX5_bribes_1 : List UInt8 := dkwX5_bribes_1 ++ dktX5_bribes_2
def dkwX5_bribes_0 : List UInt8 := [42, 27, 28, 182, 0, 255, 153, 0, 30, 42, 29, 182, 1, 55, 153, 0, 22, 42, 180, 0, 243, 16, 12]
abbrev dktX5_bribes_0 : List UInt8 := dkwX5_bribes_0 ++ dktX5_bribes_1
theorem dksX5_bribes_0 : cX5_bribes.data.toList.drop 0 = dktX5_bribes_0 := by decide +kernel
theorem dksX5_bribes_1 : cX5_bribes.data.toList.drop 23 = dktX5_bribes_1 := dk_seg dksX5_bribes_0 23 rfl rfl
theorem dksX5_bribes_2 : cX5_bribes.data.toList.drop 47 = dktX5_bribes_2 := dk_seg dksX5_bribes_1 24 rfl rfl
theorem dksX5_bribes_3 : cX5_bribes.data.toList.drop 69 = dktX5_bribes_3 := dk_seg dksX5_bribes_2 22 rfl rfl
theorem dksX5_bribes_4 : cX5_bribes.data.toList.drop 93 = dktX5_bribes_4 := dk_seg dksX5_bribes_3 24 rfl rfl
theorem dksX5_bribes_5 : cX5_bribes.data.toList.drop 116 = dktX5_bribes_5 := dk_seg dksX5_bribes_4 23 rfl rfl
theorem dksX5_bribes_6 : cX5_bribes.data.toList.drop 140 = dktX5_bribes_6 := dk_seg dksX5_bribes_5 24 rfl rfl
theorem dksX5_bribes_7 : cX5_bribes.data.toList.drop 163 = dktX5_bribes_7 := dk_seg dksX5_bribes_6 23 rfl rfl
theorem dksX5_bribes_8 : cX5_bribes.data.toList.drop 186 = dktX5_bribes_8 := dk_seg dksX5_bribes_7 23 rfl rfl
theorem dX5_bribes_0 : decode cX5_bribes 0 = .ok (.aload_n 0, 1) := dk_42 (dk_at dksX5_bribes_0 0 rfl rfl)
theorem dX5_bribes_1 : decode cX5_bribes 1 = .ok (.iload_n 1, 1) := dk_27 (dk_at dksX5_bribes_0 1 rfl rfl)
theorem dX5_bribes_2 : decode cX5_bribes 2 = .ok (.iload_n 2, 1) := dk_28 (dk_at dksX5_bribes_0 2 rfl rfl)
theorem dX5_bribes_3 : decode cX5_bribes 3 = .ok (.invokevirtual 255, 3) := dk_182 0 255 (dk_at dksX5_bribes_0 3 rfl rfl)
theorem dX5_bribes_6 : decode cX5_bribes 6 = .ok (.ifCond .eq 30, 3) := dk_153 0 30 (dk_at dksX5_bribes_0 6 rfl rfl)
theorem dX5_bribes_9 : decode cX5_bribes 9 = .ok (.aload_n 0, 1) := dk_42 (dk_at dksX5_bribes_0 9 rfl rfl)
theorem dX5_bribes_10 : decode cX5_bribes 10 = .ok (.iload_n 3, 1) := dk_29 (dk_at dksX5_bribes_0 10 rfl rfl)
theorem dX5_bribes_11 : decode cX5_bribes 11 = .ok (.invokevirtual 311, 3) := dk_182 1 55 (dk_at dksX5_bribes_0 11 rfl rfl)
theorem dX5_bribes_14 : decode cX5_bribes 14 = .ok (.ifCond .eq 22, 3) := dk_153 0 22 (dk_at dksX5_bribes_0 14 rfl rfl)
theorem dX5_bribes_17 : decode cX5_bribes 17 = .ok (.aload_n 0, 1) := dk_42 (dk_at dksX5_bribes_0 17 rfl rfl)
theorem dX5_bribes_18 : decode cX5_bribes 18 = .ok (.getfield 243, 3) := dk_180 0 243 (dk_at dksX5_bribes_0 18 rfl rfl)
theorem dX5_bribes_21 : decode cX5_bribes 21 = .ok (.bipush 12, 2) := dk_16 12 (dk_at dksX5_bribes_0 21 rfl rfl)
theorem dX5_bribes_23 : decode cX5_bribes 23 = .ok (.if_icmp .gt 13, 3) := dk_163 0 13 (dk_at dksX5_bribes_1 0 rfl rfl)
theorem dX5_bribes_26 : decode cX5_bribes 26 = .ok (.iload 4, 2) := dk_21 4 (dk_at dksX5_bribes_1 3 rfl rfl)
theorem dX5_bribes_28 : decode cX5_bribes 28 = .ok (.iconst 0, 1) := dk_3 (dk_at dksX5_bribes_1 5 rfl rfl)
theorem dX5_bribes_29 : decode cX5_bribes 29 = .ok (.iconst 2, 1) := dk_5 (dk_at dksX5_bribes_1 6 rfl rfl)
theorem dX5_bribes_30 : decode cX5_bribes 30 = .ok (.invokestatic 145, 3) := dk_184 0 145 (dk_at dksX5_bribes_1 7 rfl rfl)
theorem dX5_bribes_33 : decode cX5_bribes 33 = .ok (.ifCond .ne 5, 3) := dk_154 0 5 (dk_at dksX5_bribes_1 10 rfl rfl)
theorem dX5_bribes_36 : decode cX5_bribes 36 = .ok (.iconst (-1), 1) := dk_2 (dk_at dksX5_bribes_1 13 rfl rfl)
theorem dX5_bribes_37 : decode cX5_bribes 37 = .ok (.ireturn, 1) := dk_172 (dk_at dksX5_bribes_1 14 rfl rfl)
theorem dX5_bribes_38 : decode cX5_bribes 38 = .ok (.iconst 0, 1) := dk_3 (dk_at dksX5_bribes_1 15 rfl rfl)
theorem dX5_bribes_39 : decode cX5_bribes 39 = .ok (.istore 5, 2) := dk_54 5 (dk_at dksX5_bribes_1 16 rfl rfl)
theorem dX5_bribes_41 : decode cX5_bribes 41 = .ok (.iconst 0, 1) := dk_3 (dk_at dksX5_bribes_1 18 rfl rfl)
theorem dX5_bribes_42 : decode cX5_bribes 42 = .ok (.istore 6, 2) := dk_54 6 (dk_at dksX5_bribes_1 19 rfl rfl)
theorem dX5_bribes_44 : decode cX5_bribes 44 = .ok (.iload 6, 2) := dk_21 6 (dk_at dksX5_bribes_1 21 rfl rfl)
theorem dX5_bribes_46 : decode cX5_bribes 46 = .ok (.aload_n 0, 1) := dk_42 (dk_at dksX5_bribes_1 23 rfl rfl)
theorem dX5_bribes_47 : decode cX5_bribes 47 = .ok (.getfield 243, 3) := dk_180 0 243 (dk_at dksX5_bribes_2 0 rfl rfl)
theorem dX5_bribes_50 : decode cX5_bribes 50 = .ok (.if_icmp .ge 32, 3) := dk_162 0 32 (dk_at dksX5_bribes_2 3 rfl rfl)
theorem dX5_bribes_53 : decode cX5_bribes 53 = .ok (.iload 5, 2) := dk_21 5 (dk_at dksX5_bribes_2 6 rfl rfl)
theorem dX5_bribes_55 : decode cX5_bribes 55 = .ok (.aload_n 0, 1) := dk_42 (dk_at dksX5_bribes_2 8 rfl rfl)
theorem dX5_bribes_56 : decode cX5_bribes 56 = .ok (.getfield 26, 3) := dk_180 0 26 (dk_at dksX5_bribes_2 9 rfl rfl)
theorem dX5_bribes_59 : decode cX5_bribes 59 = .ok (.iload 6, 2) := dk_21 6 (dk_at dksX5_bribes_2 12 rfl rfl)
theorem dX5_bribes_61 : decode cX5_bribes 61 = .ok (.iaload, 1) := dk_46 (dk_at dksX5_bribes_2 14 rfl rfl)
theorem dX5_bribes_62 : decode cX5_bribes 62 = .ok (.ifCond .ne 10, 3) := dk_154 0 10 (dk_at dksX5_bribes_2 15 rfl rfl)
theorem dX5_bribes_65 : decode cX5_bribes 65 = .ok (.iconst 1, 1) := dk_4 (dk_at dksX5_bribes_2 18 rfl rfl)
theorem dX5_bribes_66 : decode cX5_bribes 66 = .ok (.iload 6, 2) := dk_21 6 (dk_at dksX5_bribes_2 19 rfl rfl)
theorem dX5_bribes_68 : decode cX5_bribes 68 = .ok (.ishl, 1) := dk_120 (dk_at dksX5_bribes_2 21 rfl rfl)
theorem dX5_bribes_69 : decode cX5_bribes 69 = .ok (.goto 4, 3) := dk_167 0 4 (dk_at dksX5_bribes_3 0 rfl rfl)
theorem dX5_bribes_72 : decode cX5_bribes 72 = .ok (.iconst 0, 1) := dk_3 (dk_at dksX5_bribes_3 3 rfl rfl)
theorem dX5_bribes_73 : decode cX5_bribes 73 = .ok (.ior, 1) := dk_128 (dk_at dksX5_bribes_3 4 rfl rfl)
theorem dX5_bribes_74 : decode cX5_bribes 74 = .ok (.istore 5, 2) := dk_54 5 (dk_at dksX5_bribes_3 5 rfl rfl)
theorem dX5_bribes_76 : decode cX5_bribes 76 = .ok (.iinc 6 1, 3) := dk_132 6 1 (dk_at dksX5_bribes_3 7 rfl rfl)
theorem dX5_bribes_79 : decode cX5_bribes 79 = .ok (.goto (-35), 3) := dk_167 255 221 (dk_at dksX5_bribes_3 10 rfl rfl)
theorem dX5_bribes_82 : decode cX5_bribes 82 = .ok (.iconst 0, 1) := dk_3 (dk_at dksX5_bribes_3 13 rfl rfl)
theorem dX5_bribes_83 : decode cX5_bribes 83 = .ok (.istore 6, 2) := dk_54 6 (dk_at dksX5_bribes_3 14 rfl rfl)
theorem dX5_bribes_85 : decode cX5_bribes 85 = .ok (.iconst (-1), 1) := dk_2 (dk_at dksX5_bribes_3 16 rfl rfl)
theorem dX5_bribes_86 : decode cX5_bribes 86 = .ok (.istore 7, 2) := dk_54 7 (dk_at dksX5_bribes_3 17 rfl rfl)
theorem dX5_bribes_88 : decode cX5_bribes 88 = .ok (.iconst 0, 1) := dk_3 (dk_at dksX5_bribes_3 19 rfl rfl)
theorem dX5_bribes_89 : decode cX5_bribes 89 = .ok (.istore 8, 2) := dk_54 8 (dk_at dksX5_bribes_3 20 rfl rfl)
theorem dX5_bribes_91 : decode cX5_bribes 91 = .ok (.iload 8, 2) := dk_21 8 (dk_at dksX5_bribes_3 22 rfl rfl)
theorem dX5_bribes_93 : decode cX5_bribes 93 = .ok (.iconst 1, 1) := dk_4 (dk_at dksX5_bribes_4 0 rfl rfl)
theorem dX5_bribes_94 : decode cX5_bribes 94 = .ok (.aload_n 0, 1) := dk_42 (dk_at dksX5_bribes_4 1 rfl rfl)
theorem dX5_bribes_95 : decode cX5_bribes 95 = .ok (.getfield 243, 3) := dk_180 0 243 (dk_at dksX5_bribes_4 2 rfl rfl)
theorem dX5_bribes_98 : decode cX5_bribes 98 = .ok (.ishl, 1) := dk_120 (dk_at dksX5_bribes_4 5 rfl rfl)
theorem dX5_bribes_99 : decode cX5_bribes 99 = .ok (.if_icmp .ge 67, 3) := dk_162 0 67 (dk_at dksX5_bribes_4 6 rfl rfl)
theorem dX5_bribes_102 : decode cX5_bribes 102 = .ok (.iload 8, 2) := dk_21 8 (dk_at dksX5_bribes_4 9 rfl rfl)
theorem dX5_bribes_104 : decode cX5_bribes 104 = .ok (.iload 5, 2) := dk_21 5 (dk_at dksX5_bribes_4 11 rfl rfl)
theorem dX5_bribes_106 : decode cX5_bribes 106 = .ok (.iand, 1) := dk_126 (dk_at dksX5_bribes_4 13 rfl rfl)
theorem dX5_bribes_107 : decode cX5_bribes 107 = .ok (.ifCond .eq 6, 3) := dk_153 0 6 (dk_at dksX5_bribes_4 14 rfl rfl)
theorem dX5_bribes_110 : decode cX5_bribes 110 = .ok (.goto 50, 3) := dk_167 0 50 (dk_at dksX5_bribes_4 17 rfl rfl)
theorem dX5_bribes_113 : decode cX5_bribes 113 = .ok (.aload_n 0, 1) := dk_42 (dk_at dksX5_bribes_4 20 rfl rfl)
theorem dX5_bribes_114 : decode cX5_bribes 114 = .ok (.iload 8, 2) := dk_21 8 (dk_at dksX5_bribes_4 21 rfl rfl)
theorem dX5_bribes_116 : decode cX5_bribes 116 = .ok (.invokevirtual 252, 3) := dk_182 0 252 (dk_at dksX5_bribes_5 0 rfl rfl)
theorem dX5_bribes_119 : decode cX5_bribes 119 = .ok (.aload_n 0, 1) := dk_42 (dk_at dksX5_bribes_5 3 rfl rfl)
theorem dX5_bribes_120 : decode cX5_bribes 120 = .ok (.invokevirtual 314, 3) := dk_182 1 58 (dk_at dksX5_bribes_5 4 rfl rfl)
theorem dX5_bribes_123 : decode cX5_bribes 123 = .ok (.ifCond .ne 6, 3) := dk_154 0 6 (dk_at dksX5_bribes_5 7 rfl rfl)
theorem dX5_bribes_126 : decode cX5_bribes 126 = .ok (.goto 34, 3) := dk_167 0 34 (dk_at dksX5_bribes_5 10 rfl rfl)
theorem dX5_bribes_129 : decode cX5_bribes 129 = .ok (.iinc 6 1, 3) := dk_132 6 1 (dk_at dksX5_bribes_5 13 rfl rfl)
theorem dX5_bribes_132 : decode cX5_bribes 132 = .ok (.iload 7, 2) := dk_21 7 (dk_at dksX5_bribes_5 16 rfl rfl)
theorem dX5_bribes_134 : decode cX5_bribes 134 = .ok (.iconst (-1), 1) := dk_2 (dk_at dksX5_bribes_5 18 rfl rfl)
theorem dX5_bribes_135 : decode cX5_bribes 135 = .ok (.if_icmp .eq 16, 3) := dk_159 0 16 (dk_at dksX5_bribes_5 19 rfl rfl)
theorem dX5_bribes_138 : decode cX5_bribes 138 = .ok (.iload 8, 2) := dk_21 8 (dk_at dksX5_bribes_5 22 rfl rfl)
theorem dX5_bribes_140 : decode cX5_bribes 140 = .ok (.invokestatic 317, 3) := dk_184 1 61 (dk_at dksX5_bribes_6 0 rfl rfl)
theorem dX5_bribes_143 : decode cX5_bribes 143 = .ok (.iload 7, 2) := dk_21 7 (dk_at dksX5_bribes_6 3 rfl rfl)
theorem dX5_bribes_145 : decode cX5_bribes 145 = .ok (.invokestatic 317, 3) := dk_184 1 61 (dk_at dksX5_bribes_6 5 rfl rfl)
theorem dX5_bribes_148 : decode cX5_bribes 148 = .ok (.if_icmp .ge 8, 3) := dk_162 0 8 (dk_at dksX5_bribes_6 8 rfl rfl)
theorem dX5_bribes_151 : decode cX5_bribes 151 = .ok (.iload 8, 2) := dk_21 8 (dk_at dksX5_bribes_6 11 rfl rfl)
theorem dX5_bribes_153 : decode cX5_bribes 153 = .ok (.goto 5, 3) := dk_167 0 5 (dk_at dksX5_bribes_6 13 rfl rfl)
theorem dX5_bribes_156 : decode cX5_bribes 156 = .ok (.iload 7, 2) := dk_21 7 (dk_at dksX5_bribes_6 16 rfl rfl)
theorem dX5_bribes_158 : decode cX5_bribes 158 = .ok (.istore 7, 2) := dk_54 7 (dk_at dksX5_bribes_6 18 rfl rfl)
theorem dX5_bribes_160 : decode cX5_bribes 160 = .ok (.iinc 8 1, 3) := dk_132 8 1 (dk_at dksX5_bribes_6 20 rfl rfl)
theorem dX5_bribes_163 : decode cX5_bribes 163 = .ok (.goto (-72), 3) := dk_167 255 184 (dk_at dksX5_bribes_7 0 rfl rfl)
theorem dX5_bribes_166 : decode cX5_bribes 166 = .ok (.iload 4, 2) := dk_21 4 (dk_at dksX5_bribes_7 3 rfl rfl)
theorem dX5_bribes_168 : decode cX5_bribes 168 = .ok (.ifCond .ne 6, 3) := dk_154 0 6 (dk_at dksX5_bribes_7 5 rfl rfl)
theorem dX5_bribes_171 : decode cX5_bribes 171 = .ok (.iload 6, 2) := dk_21 6 (dk_at dksX5_bribes_7 8 rfl rfl)
theorem dX5_bribes_173 : decode cX5_bribes 173 = .ok (.ireturn, 1) := dk_172 (dk_at dksX5_bribes_7 10 rfl rfl)
theorem dX5_bribes_174 : decode cX5_bribes 174 = .ok (.iload 7, 2) := dk_21 7 (dk_at dksX5_bribes_7 11 rfl rfl)
theorem dX5_bribes_176 : decode cX5_bribes 176 = .ok (.iconst (-1), 1) := dk_2 (dk_at dksX5_bribes_7 13 rfl rfl)
theorem dX5_bribes_177 : decode cX5_bribes 177 = .ok (.if_icmp .eq 9, 3) := dk_159 0 9 (dk_at dksX5_bribes_7 14 rfl rfl)
theorem dX5_bribes_180 : decode cX5_bribes 180 = .ok (.iload 4, 2) := dk_21 4 (dk_at dksX5_bribes_7 17 rfl rfl)
theorem dX5_bribes_182 : decode cX5_bribes 182 = .ok (.iconst 2, 1) := dk_5 (dk_at dksX5_bribes_7 19 rfl rfl)
theorem dX5_bribes_183 : decode cX5_bribes 183 = .ok (.if_icmp .ne 8, 3) := dk_160 0 8 (dk_at dksX5_bribes_7 20 rfl rfl)
theorem dX5_bribes_186 : decode cX5_bribes 186 = .ok (.iload 7, 2) := dk_21 7 (dk_at dksX5_bribes_8 0 rfl rfl)
theorem dX5_bribes_188 : decode cX5_bribes 188 = .ok (.goto 8, 3) := dk_167 0 8 (dk_at dksX5_bribes_8 2 rfl rfl)
theorem dX5_bribes_191 : decode cX5_bribes 191 = .ok (.iload 7, 2) := dk_21 7 (dk_at dksX5_bribes_8 5 rfl rfl)
theorem dX5_bribes_193 : decode cX5_bribes 193 = .ok (.invokestatic 317, 3) := dk_184 1 61 (dk_at dksX5_bribes_8 7 rfl rfl)
theorem dX5_bribes_196 : decode cX5_bribes 196 = .ok (.ireturn, 1) := dk_172 (dk_at dksX5_bribes_8 10 rfl rfl)
abbrev cX5_isSo : ByteArray := prog_24_method_73_code
def yX5_isSo : MethodName := ⟨RX5, "isSo", "()Z"⟩
def dkwX5_isSo_5 : List UInt8 := [132, 3, 1, 167, 255, 201, 132, 2, 1, 167, 255, 135, 27, 172]
abbrev dktX5_isSo_5 : List UInt8 := dkwX5_isSo_5 ++ []
def dkwX5_isSo_4 : List UInt8 := [180, 1, 52, 5, 96, 16, 6, 28, 104, 96, 29, 96, 46, 160, 0, 7, 4, 167, 0, 4, 3, 60]
abbrev dktX5_isSo_4 : List UInt8 := dkwX5_isSo_4 ++ dktX5_isSo_5
def dkwX5_isSo_3 : List UInt8 := [162, 0, 51, 27, 153, 0, 47, 42, 180, 0, 38, 16, 24, 28, 104, 29, 96, 46, 42, 180, 0, 7, 42]
abbrev dktX5_isSo_3 : List UInt8 := dkwX5_isSo_3 ++ dktX5_isSo_4
def dkwX5_isSo_2 : List UInt8 := [180, 1, 52, 28, 96, 46, 160, 0, 7, 4, 167, 0, 4, 3, 60, 3, 62, 29, 42, 180, 0, 47, 28, 46]
abbrev dktX5_isSo_2 : List UInt8 := dkwX5_isSo_2 ++ dktX5_isSo_3
def dkwX5_isSo_1 : List UInt8 := [167, 0, 98, 42, 28, 182, 1, 14, 27, 153, 0, 27, 42, 180, 0, 47, 28, 46, 42, 180, 0, 7, 42]
abbrev dktX5_isSo_1 : List UInt8 := dkwX5_isSo_1 ++ dktX5_isSo_2
def dkwX5_isSo_0 : List UInt8 := [4, 60, 3, 61, 28, 5, 162, 0, 122, 42, 180, 0, 7, 42, 180, 1, 52, 28, 96, 46, 2, 160, 0, 6]
abbrev dktX5_isSo_0 : List UInt8 := dkwX5_isSo_0 ++ dktX5_isSo_1
theorem dksX5_isSo_0 : cX5_isSo.data.toList.drop 0 = dktX5_isSo_0 := by decide +kernel
theorem dksX5_isSo_1 : cX5_isSo.data.toList.drop 24 = dktX5_isSo_1 := dk_seg dksX5_isSo_0 24 rfl rfl
theorem dksX5_isSo_2 : cX5_isSo.data.toList.drop 47 = dktX5_isSo_2 := dk_seg dksX5_isSo_1 23 rfl rfl
theorem dksX5_isSo_3 : cX5_isSo.data.toList.drop 71 = dktX5_isSo_3 := dk_seg dksX5_isSo_2 24 rfl rfl
theorem dksX5_isSo_4 : cX5_isSo.data.toList.drop 94 = dktX5_isSo_4 := dk_seg dksX5_isSo_3 23 rfl rfl
theorem dksX5_isSo_5 : cX5_isSo.data.toList.drop 116 = dktX5_isSo_5 := dk_seg dksX5_isSo_4 22 rfl rfl
theorem dX5_isSo_0 : decode cX5_isSo 0 = .ok (.iconst 1, 1) := dk_4 (dk_at dksX5_isSo_0 0 rfl rfl)
theorem dX5_isSo_1 : decode cX5_isSo 1 = .ok (.istore_n 1, 1) := dk_60 (dk_at dksX5_isSo_0 1 rfl rfl)
theorem dX5_isSo_2 : decode cX5_isSo 2 = .ok (.iconst 0, 1) := dk_3 (dk_at dksX5_isSo_0 2 rfl rfl)
theorem dX5_isSo_3 : decode cX5_isSo 3 = .ok (.istore_n 2, 1) := dk_61 (dk_at dksX5_isSo_0 3 rfl rfl)
theorem dX5_isSo_4 : decode cX5_isSo 4 = .ok (.iload_n 2, 1) := dk_28 (dk_at dksX5_isSo_0 4 rfl rfl)
theorem dX5_isSo_5 : decode cX5_isSo 5 = .ok (.iconst 2, 1) := dk_5 (dk_at dksX5_isSo_0 5 rfl rfl)
theorem dX5_isSo_6 : decode cX5_isSo 6 = .ok (.if_icmp .ge 122, 3) := dk_162 0 122 (dk_at dksX5_isSo_0 6 rfl rfl)
theorem dX5_isSo_9 : decode cX5_isSo 9 = .ok (.aload_n 0, 1) := dk_42 (dk_at dksX5_isSo_0 9 rfl rfl)
theorem dX5_isSo_10 : decode cX5_isSo 10 = .ok (.getfield 7, 3) := dk_180 0 7 (dk_at dksX5_isSo_0 10 rfl rfl)
theorem dX5_isSo_13 : decode cX5_isSo 13 = .ok (.aload_n 0, 1) := dk_42 (dk_at dksX5_isSo_0 13 rfl rfl)
theorem dX5_isSo_14 : decode cX5_isSo 14 = .ok (.getfield 308, 3) := dk_180 1 52 (dk_at dksX5_isSo_0 14 rfl rfl)
theorem dX5_isSo_17 : decode cX5_isSo 17 = .ok (.iload_n 2, 1) := dk_28 (dk_at dksX5_isSo_0 17 rfl rfl)
theorem dX5_isSo_18 : decode cX5_isSo 18 = .ok (.iadd, 1) := dk_96 (dk_at dksX5_isSo_0 18 rfl rfl)
theorem dX5_isSo_19 : decode cX5_isSo 19 = .ok (.iaload, 1) := dk_46 (dk_at dksX5_isSo_0 19 rfl rfl)
theorem dX5_isSo_20 : decode cX5_isSo 20 = .ok (.iconst (-1), 1) := dk_2 (dk_at dksX5_isSo_0 20 rfl rfl)
theorem dX5_isSo_21 : decode cX5_isSo 21 = .ok (.if_icmp .ne 6, 3) := dk_160 0 6 (dk_at dksX5_isSo_0 21 rfl rfl)
theorem dX5_isSo_24 : decode cX5_isSo 24 = .ok (.goto 98, 3) := dk_167 0 98 (dk_at dksX5_isSo_1 0 rfl rfl)
theorem dX5_isSo_27 : decode cX5_isSo 27 = .ok (.aload_n 0, 1) := dk_42 (dk_at dksX5_isSo_1 3 rfl rfl)
theorem dX5_isSo_28 : decode cX5_isSo 28 = .ok (.iload_n 2, 1) := dk_28 (dk_at dksX5_isSo_1 4 rfl rfl)
theorem dX5_isSo_29 : decode cX5_isSo 29 = .ok (.invokevirtual 270, 3) := dk_182 1 14 (dk_at dksX5_isSo_1 5 rfl rfl)
theorem dX5_isSo_32 : decode cX5_isSo 32 = .ok (.iload_n 1, 1) := dk_27 (dk_at dksX5_isSo_1 8 rfl rfl)
theorem dX5_isSo_33 : decode cX5_isSo 33 = .ok (.ifCond .eq 27, 3) := dk_153 0 27 (dk_at dksX5_isSo_1 9 rfl rfl)
theorem dX5_isSo_36 : decode cX5_isSo 36 = .ok (.aload_n 0, 1) := dk_42 (dk_at dksX5_isSo_1 12 rfl rfl)
theorem dX5_isSo_37 : decode cX5_isSo 37 = .ok (.getfield 47, 3) := dk_180 0 47 (dk_at dksX5_isSo_1 13 rfl rfl)
theorem dX5_isSo_40 : decode cX5_isSo 40 = .ok (.iload_n 2, 1) := dk_28 (dk_at dksX5_isSo_1 16 rfl rfl)
theorem dX5_isSo_41 : decode cX5_isSo 41 = .ok (.iaload, 1) := dk_46 (dk_at dksX5_isSo_1 17 rfl rfl)
theorem dX5_isSo_42 : decode cX5_isSo 42 = .ok (.aload_n 0, 1) := dk_42 (dk_at dksX5_isSo_1 18 rfl rfl)
theorem dX5_isSo_43 : decode cX5_isSo 43 = .ok (.getfield 7, 3) := dk_180 0 7 (dk_at dksX5_isSo_1 19 rfl rfl)
theorem dX5_isSo_46 : decode cX5_isSo 46 = .ok (.aload_n 0, 1) := dk_42 (dk_at dksX5_isSo_1 22 rfl rfl)
theorem dX5_isSo_47 : decode cX5_isSo 47 = .ok (.getfield 308, 3) := dk_180 1 52 (dk_at dksX5_isSo_2 0 rfl rfl)
theorem dX5_isSo_50 : decode cX5_isSo 50 = .ok (.iload_n 2, 1) := dk_28 (dk_at dksX5_isSo_2 3 rfl rfl)
theorem dX5_isSo_51 : decode cX5_isSo 51 = .ok (.iadd, 1) := dk_96 (dk_at dksX5_isSo_2 4 rfl rfl)
theorem dX5_isSo_52 : decode cX5_isSo 52 = .ok (.iaload, 1) := dk_46 (dk_at dksX5_isSo_2 5 rfl rfl)
theorem dX5_isSo_53 : decode cX5_isSo 53 = .ok (.if_icmp .ne 7, 3) := dk_160 0 7 (dk_at dksX5_isSo_2 6 rfl rfl)
theorem dX5_isSo_56 : decode cX5_isSo 56 = .ok (.iconst 1, 1) := dk_4 (dk_at dksX5_isSo_2 9 rfl rfl)
theorem dX5_isSo_57 : decode cX5_isSo 57 = .ok (.goto 4, 3) := dk_167 0 4 (dk_at dksX5_isSo_2 10 rfl rfl)
theorem dX5_isSo_60 : decode cX5_isSo 60 = .ok (.iconst 0, 1) := dk_3 (dk_at dksX5_isSo_2 13 rfl rfl)
theorem dX5_isSo_61 : decode cX5_isSo 61 = .ok (.istore_n 1, 1) := dk_60 (dk_at dksX5_isSo_2 14 rfl rfl)
theorem dX5_isSo_62 : decode cX5_isSo 62 = .ok (.iconst 0, 1) := dk_3 (dk_at dksX5_isSo_2 15 rfl rfl)
theorem dX5_isSo_63 : decode cX5_isSo 63 = .ok (.istore_n 3, 1) := dk_62 (dk_at dksX5_isSo_2 16 rfl rfl)
theorem dX5_isSo_64 : decode cX5_isSo 64 = .ok (.iload_n 3, 1) := dk_29 (dk_at dksX5_isSo_2 17 rfl rfl)
theorem dX5_isSo_65 : decode cX5_isSo 65 = .ok (.aload_n 0, 1) := dk_42 (dk_at dksX5_isSo_2 18 rfl rfl)
theorem dX5_isSo_66 : decode cX5_isSo 66 = .ok (.getfield 47, 3) := dk_180 0 47 (dk_at dksX5_isSo_2 19 rfl rfl)
theorem dX5_isSo_69 : decode cX5_isSo 69 = .ok (.iload_n 2, 1) := dk_28 (dk_at dksX5_isSo_2 22 rfl rfl)
theorem dX5_isSo_70 : decode cX5_isSo 70 = .ok (.iaload, 1) := dk_46 (dk_at dksX5_isSo_2 23 rfl rfl)
theorem dX5_isSo_71 : decode cX5_isSo 71 = .ok (.if_icmp .ge 51, 3) := dk_162 0 51 (dk_at dksX5_isSo_3 0 rfl rfl)
theorem dX5_isSo_74 : decode cX5_isSo 74 = .ok (.iload_n 1, 1) := dk_27 (dk_at dksX5_isSo_3 3 rfl rfl)
theorem dX5_isSo_75 : decode cX5_isSo 75 = .ok (.ifCond .eq 47, 3) := dk_153 0 47 (dk_at dksX5_isSo_3 4 rfl rfl)
theorem dX5_isSo_78 : decode cX5_isSo 78 = .ok (.aload_n 0, 1) := dk_42 (dk_at dksX5_isSo_3 7 rfl rfl)
theorem dX5_isSo_79 : decode cX5_isSo 79 = .ok (.getfield 38, 3) := dk_180 0 38 (dk_at dksX5_isSo_3 8 rfl rfl)
theorem dX5_isSo_82 : decode cX5_isSo 82 = .ok (.bipush 24, 2) := dk_16 24 (dk_at dksX5_isSo_3 11 rfl rfl)
theorem dX5_isSo_84 : decode cX5_isSo 84 = .ok (.iload_n 2, 1) := dk_28 (dk_at dksX5_isSo_3 13 rfl rfl)
theorem dX5_isSo_85 : decode cX5_isSo 85 = .ok (.imul, 1) := dk_104 (dk_at dksX5_isSo_3 14 rfl rfl)
theorem dX5_isSo_86 : decode cX5_isSo 86 = .ok (.iload_n 3, 1) := dk_29 (dk_at dksX5_isSo_3 15 rfl rfl)
theorem dX5_isSo_87 : decode cX5_isSo 87 = .ok (.iadd, 1) := dk_96 (dk_at dksX5_isSo_3 16 rfl rfl)
theorem dX5_isSo_88 : decode cX5_isSo 88 = .ok (.iaload, 1) := dk_46 (dk_at dksX5_isSo_3 17 rfl rfl)
theorem dX5_isSo_89 : decode cX5_isSo 89 = .ok (.aload_n 0, 1) := dk_42 (dk_at dksX5_isSo_3 18 rfl rfl)
theorem dX5_isSo_90 : decode cX5_isSo 90 = .ok (.getfield 7, 3) := dk_180 0 7 (dk_at dksX5_isSo_3 19 rfl rfl)
theorem dX5_isSo_93 : decode cX5_isSo 93 = .ok (.aload_n 0, 1) := dk_42 (dk_at dksX5_isSo_3 22 rfl rfl)
theorem dX5_isSo_94 : decode cX5_isSo 94 = .ok (.getfield 308, 3) := dk_180 1 52 (dk_at dksX5_isSo_4 0 rfl rfl)
theorem dX5_isSo_97 : decode cX5_isSo 97 = .ok (.iconst 2, 1) := dk_5 (dk_at dksX5_isSo_4 3 rfl rfl)
theorem dX5_isSo_98 : decode cX5_isSo 98 = .ok (.iadd, 1) := dk_96 (dk_at dksX5_isSo_4 4 rfl rfl)
theorem dX5_isSo_99 : decode cX5_isSo 99 = .ok (.bipush 6, 2) := dk_16 6 (dk_at dksX5_isSo_4 5 rfl rfl)
theorem dX5_isSo_101 : decode cX5_isSo 101 = .ok (.iload_n 2, 1) := dk_28 (dk_at dksX5_isSo_4 7 rfl rfl)
theorem dX5_isSo_102 : decode cX5_isSo 102 = .ok (.imul, 1) := dk_104 (dk_at dksX5_isSo_4 8 rfl rfl)
theorem dX5_isSo_103 : decode cX5_isSo 103 = .ok (.iadd, 1) := dk_96 (dk_at dksX5_isSo_4 9 rfl rfl)
theorem dX5_isSo_104 : decode cX5_isSo 104 = .ok (.iload_n 3, 1) := dk_29 (dk_at dksX5_isSo_4 10 rfl rfl)
theorem dX5_isSo_105 : decode cX5_isSo 105 = .ok (.iadd, 1) := dk_96 (dk_at dksX5_isSo_4 11 rfl rfl)
theorem dX5_isSo_106 : decode cX5_isSo 106 = .ok (.iaload, 1) := dk_46 (dk_at dksX5_isSo_4 12 rfl rfl)
theorem dX5_isSo_107 : decode cX5_isSo 107 = .ok (.if_icmp .ne 7, 3) := dk_160 0 7 (dk_at dksX5_isSo_4 13 rfl rfl)
theorem dX5_isSo_110 : decode cX5_isSo 110 = .ok (.iconst 1, 1) := dk_4 (dk_at dksX5_isSo_4 16 rfl rfl)
theorem dX5_isSo_111 : decode cX5_isSo 111 = .ok (.goto 4, 3) := dk_167 0 4 (dk_at dksX5_isSo_4 17 rfl rfl)
theorem dX5_isSo_114 : decode cX5_isSo 114 = .ok (.iconst 0, 1) := dk_3 (dk_at dksX5_isSo_4 20 rfl rfl)
theorem dX5_isSo_115 : decode cX5_isSo 115 = .ok (.istore_n 1, 1) := dk_60 (dk_at dksX5_isSo_4 21 rfl rfl)
theorem dX5_isSo_116 : decode cX5_isSo 116 = .ok (.iinc 3 1, 3) := dk_132 3 1 (dk_at dksX5_isSo_5 0 rfl rfl)
theorem dX5_isSo_119 : decode cX5_isSo 119 = .ok (.goto (-55), 3) := dk_167 255 201 (dk_at dksX5_isSo_5 3 rfl rfl)
theorem dX5_isSo_122 : decode cX5_isSo 122 = .ok (.iinc 2 1, 3) := dk_132 2 1 (dk_at dksX5_isSo_5 6 rfl rfl)
theorem dX5_isSo_125 : decode cX5_isSo 125 = .ok (.goto (-121), 3) := dk_167 255 135 (dk_at dksX5_isSo_5 9 rfl rfl)
theorem dX5_isSo_128 : decode cX5_isSo 128 = .ok (.iload_n 1, 1) := dk_27 (dk_at dksX5_isSo_5 12 rfl rfl)
theorem dX5_isSo_129 : decode cX5_isSo 129 = .ok (.ireturn, 1) := dk_172 (dk_at dksX5_isSo_5 13 rfl rfl)
abbrev cX5_bitsOf : ByteArray := prog_24_method_74_code
def yX5_bitsOf : MethodName := ⟨RX5, "bitsOf", "(I)I"⟩
def dkwX5_bitsOf_1 : List UInt8 := [27, 172]
abbrev dktX5_bitsOf_1 : List UInt8 := dkwX5_bitsOf_1 ++ []
def dkwX5_bitsOf_0 : List UInt8 := [3, 60, 3, 61, 28, 16, 24, 162, 0, 17, 27, 26, 28, 122, 4, 126, 96, 60, 132, 2, 1, 167, 255, 239]
abbrev dktX5_bitsOf_0 : List UInt8 := dkwX5_bitsOf_0 ++ dktX5_bitsOf_1
theorem dksX5_bitsOf_0 : cX5_bitsOf.data.toList.drop 0 = dktX5_bitsOf_0 := by decide +kernel
theorem dksX5_bitsOf_1 : cX5_bitsOf.data.toList.drop 24 = dktX5_bitsOf_1 := dk_seg dksX5_bitsOf_0 24 rfl rfl
theorem dX5_bitsOf_0 : decode cX5_bitsOf 0 = .ok (.iconst 0, 1) := dk_3 (dk_at dksX5_bitsOf_0 0 rfl rfl)
theorem dX5_bitsOf_1 : decode cX5_bitsOf 1 = .ok (.istore_n 1, 1) := dk_60 (dk_at dksX5_bitsOf_0 1 rfl rfl)
theorem dX5_bitsOf_2 : decode cX5_bitsOf 2 = .ok (.iconst 0, 1) := dk_3 (dk_at dksX5_bitsOf_0 2 rfl rfl)
theorem dX5_bitsOf_3 : decode cX5_bitsOf 3 = .ok (.istore_n 2, 1) := dk_61 (dk_at dksX5_bitsOf_0 3 rfl rfl)
theorem dX5_bitsOf_4 : decode cX5_bitsOf 4 = .ok (.iload_n 2, 1) := dk_28 (dk_at dksX5_bitsOf_0 4 rfl rfl)
theorem dX5_bitsOf_5 : decode cX5_bitsOf 5 = .ok (.bipush 24, 2) := dk_16 24 (dk_at dksX5_bitsOf_0 5 rfl rfl)
theorem dX5_bitsOf_7 : decode cX5_bitsOf 7 = .ok (.if_icmp .ge 17, 3) := dk_162 0 17 (dk_at dksX5_bitsOf_0 7 rfl rfl)
theorem dX5_bitsOf_10 : decode cX5_bitsOf 10 = .ok (.iload_n 1, 1) := dk_27 (dk_at dksX5_bitsOf_0 10 rfl rfl)
theorem dX5_bitsOf_11 : decode cX5_bitsOf 11 = .ok (.iload_n 0, 1) := dk_26 (dk_at dksX5_bitsOf_0 11 rfl rfl)
theorem dX5_bitsOf_12 : decode cX5_bitsOf 12 = .ok (.iload_n 2, 1) := dk_28 (dk_at dksX5_bitsOf_0 12 rfl rfl)
theorem dX5_bitsOf_13 : decode cX5_bitsOf 13 = .ok (.ishr, 1) := dk_122 (dk_at dksX5_bitsOf_0 13 rfl rfl)
theorem dX5_bitsOf_14 : decode cX5_bitsOf 14 = .ok (.iconst 1, 1) := dk_4 (dk_at dksX5_bitsOf_0 14 rfl rfl)
theorem dX5_bitsOf_15 : decode cX5_bitsOf 15 = .ok (.iand, 1) := dk_126 (dk_at dksX5_bitsOf_0 15 rfl rfl)
theorem dX5_bitsOf_16 : decode cX5_bitsOf 16 = .ok (.iadd, 1) := dk_96 (dk_at dksX5_bitsOf_0 16 rfl rfl)
theorem dX5_bitsOf_17 : decode cX5_bitsOf 17 = .ok (.istore_n 1, 1) := dk_60 (dk_at dksX5_bitsOf_0 17 rfl rfl)
theorem dX5_bitsOf_18 : decode cX5_bitsOf 18 = .ok (.iinc 2 1, 3) := dk_132 2 1 (dk_at dksX5_bitsOf_0 18 rfl rfl)
theorem dX5_bitsOf_21 : decode cX5_bitsOf 21 = .ok (.goto (-17), 3) := dk_167 255 239 (dk_at dksX5_bitsOf_0 21 rfl rfl)
theorem dX5_bitsOf_24 : decode cX5_bitsOf 24 = .ok (.iload_n 1, 1) := dk_27 (dk_at dksX5_bitsOf_1 0 rfl rfl)
theorem dX5_bitsOf_25 : decode cX5_bitsOf 25 = .ok (.ireturn, 1) := dk_172 (dk_at dksX5_bitsOf_1 1 rfl rfl)
abbrev cX5_meant : ByteArray := prog_24_method_76_code
def yX5_meant : MethodName := ⟨RX5, "meant", "(IIIIZ)I"⟩
def dkwX5_meant_5 : List UInt8 := [21, 7, 167, 0, 5, 21, 6, 172]
abbrev dktX5_meant_5 : List UInt8 := dkwX5_meant_5 ++ []
def dkwX5_meant_4 : List UInt8 := [160, 0, 8, 21, 8, 167, 0, 5, 21, 7, 54, 7, 132, 8, 1, 167, 255, 197, 21, 5, 153, 0, 8]
abbrev dktX5_meant_4 : List UInt8 := dkwX5_meant_4 ++ dktX5_meant_5
def dkwX5_meant_3 : List UInt8 := [182, 0, 246, 42, 3, 182, 0, 252, 42, 182, 1, 58, 154, 0, 6, 167, 0, 21, 132, 6, 1, 21, 7, 2]
abbrev dktX5_meant_3 : List UInt8 := dkwX5_meant_3 ++ dktX5_meant_4
def dkwX5_meant_2 : List UInt8 := [54, 8, 21, 8, 21, 4, 184, 1, 38, 162, 0, 55, 42, 4, 21, 8, 21, 4, 182, 1, 41, 42]
abbrev dktX5_meant_2 : List UInt8 := dkwX5_meant_2 ++ dktX5_meant_3
def dkwX5_meant_1 : List UInt8 := [21, 4, 3, 8, 184, 0, 145, 154, 0, 6, 16, 254, 172, 42, 182, 0, 249, 3, 54, 6, 2, 54, 7, 3]
abbrev dktX5_meant_1 : List UInt8 := dkwX5_meant_1 ++ dktX5_meant_2
def dkwX5_meant_0 : List UInt8 := [42, 27, 182, 0, 224, 153, 0, 29, 42, 28, 182, 0, 240, 153, 0, 21, 42, 29, 182, 1, 55, 153, 0, 13]
abbrev dktX5_meant_0 : List UInt8 := dkwX5_meant_0 ++ dktX5_meant_1
theorem dksX5_meant_0 : cX5_meant.data.toList.drop 0 = dktX5_meant_0 := by decide +kernel
theorem dksX5_meant_1 : cX5_meant.data.toList.drop 24 = dktX5_meant_1 := dk_seg dksX5_meant_0 24 rfl rfl
theorem dksX5_meant_2 : cX5_meant.data.toList.drop 48 = dktX5_meant_2 := dk_seg dksX5_meant_1 24 rfl rfl
theorem dksX5_meant_3 : cX5_meant.data.toList.drop 70 = dktX5_meant_3 := dk_seg dksX5_meant_2 22 rfl rfl
theorem dksX5_meant_4 : cX5_meant.data.toList.drop 94 = dktX5_meant_4 := dk_seg dksX5_meant_3 24 rfl rfl
theorem dksX5_meant_5 : cX5_meant.data.toList.drop 117 = dktX5_meant_5 := dk_seg dksX5_meant_4 23 rfl rfl
theorem dX5_meant_0 : decode cX5_meant 0 = .ok (.aload_n 0, 1) := dk_42 (dk_at dksX5_meant_0 0 rfl rfl)
theorem dX5_meant_1 : decode cX5_meant 1 = .ok (.iload_n 1, 1) := dk_27 (dk_at dksX5_meant_0 1 rfl rfl)
theorem dX5_meant_2 : decode cX5_meant 2 = .ok (.invokevirtual 224, 3) := dk_182 0 224 (dk_at dksX5_meant_0 2 rfl rfl)
theorem dX5_meant_5 : decode cX5_meant 5 = .ok (.ifCond .eq 29, 3) := dk_153 0 29 (dk_at dksX5_meant_0 5 rfl rfl)
theorem dX5_meant_8 : decode cX5_meant 8 = .ok (.aload_n 0, 1) := dk_42 (dk_at dksX5_meant_0 8 rfl rfl)
theorem dX5_meant_9 : decode cX5_meant 9 = .ok (.iload_n 2, 1) := dk_28 (dk_at dksX5_meant_0 9 rfl rfl)
theorem dX5_meant_10 : decode cX5_meant 10 = .ok (.invokevirtual 240, 3) := dk_182 0 240 (dk_at dksX5_meant_0 10 rfl rfl)
theorem dX5_meant_13 : decode cX5_meant 13 = .ok (.ifCond .eq 21, 3) := dk_153 0 21 (dk_at dksX5_meant_0 13 rfl rfl)
theorem dX5_meant_16 : decode cX5_meant 16 = .ok (.aload_n 0, 1) := dk_42 (dk_at dksX5_meant_0 16 rfl rfl)
theorem dX5_meant_17 : decode cX5_meant 17 = .ok (.iload_n 3, 1) := dk_29 (dk_at dksX5_meant_0 17 rfl rfl)
theorem dX5_meant_18 : decode cX5_meant 18 = .ok (.invokevirtual 311, 3) := dk_182 1 55 (dk_at dksX5_meant_0 18 rfl rfl)
theorem dX5_meant_21 : decode cX5_meant 21 = .ok (.ifCond .eq 13, 3) := dk_153 0 13 (dk_at dksX5_meant_0 21 rfl rfl)
theorem dX5_meant_24 : decode cX5_meant 24 = .ok (.iload 4, 2) := dk_21 4 (dk_at dksX5_meant_1 0 rfl rfl)
theorem dX5_meant_26 : decode cX5_meant 26 = .ok (.iconst 0, 1) := dk_3 (dk_at dksX5_meant_1 2 rfl rfl)
theorem dX5_meant_27 : decode cX5_meant 27 = .ok (.iconst 5, 1) := dk_8 (dk_at dksX5_meant_1 3 rfl rfl)
theorem dX5_meant_28 : decode cX5_meant 28 = .ok (.invokestatic 145, 3) := dk_184 0 145 (dk_at dksX5_meant_1 4 rfl rfl)
theorem dX5_meant_31 : decode cX5_meant 31 = .ok (.ifCond .ne 6, 3) := dk_154 0 6 (dk_at dksX5_meant_1 7 rfl rfl)
theorem dX5_meant_34 : decode cX5_meant 34 = .ok (.bipush (-2), 2) := dk_16 254 (dk_at dksX5_meant_1 10 rfl rfl)
theorem dX5_meant_36 : decode cX5_meant 36 = .ok (.ireturn, 1) := dk_172 (dk_at dksX5_meant_1 12 rfl rfl)
theorem dX5_meant_37 : decode cX5_meant 37 = .ok (.aload_n 0, 1) := dk_42 (dk_at dksX5_meant_1 13 rfl rfl)
theorem dX5_meant_38 : decode cX5_meant 38 = .ok (.invokevirtual 249, 3) := dk_182 0 249 (dk_at dksX5_meant_1 14 rfl rfl)
theorem dX5_meant_41 : decode cX5_meant 41 = .ok (.iconst 0, 1) := dk_3 (dk_at dksX5_meant_1 17 rfl rfl)
theorem dX5_meant_42 : decode cX5_meant 42 = .ok (.istore 6, 2) := dk_54 6 (dk_at dksX5_meant_1 18 rfl rfl)
theorem dX5_meant_44 : decode cX5_meant 44 = .ok (.iconst (-1), 1) := dk_2 (dk_at dksX5_meant_1 20 rfl rfl)
theorem dX5_meant_45 : decode cX5_meant 45 = .ok (.istore 7, 2) := dk_54 7 (dk_at dksX5_meant_1 21 rfl rfl)
theorem dX5_meant_47 : decode cX5_meant 47 = .ok (.iconst 0, 1) := dk_3 (dk_at dksX5_meant_1 23 rfl rfl)
theorem dX5_meant_48 : decode cX5_meant 48 = .ok (.istore 8, 2) := dk_54 8 (dk_at dksX5_meant_2 0 rfl rfl)
theorem dX5_meant_50 : decode cX5_meant 50 = .ok (.iload 8, 2) := dk_21 8 (dk_at dksX5_meant_2 2 rfl rfl)
theorem dX5_meant_52 : decode cX5_meant 52 = .ok (.iload 4, 2) := dk_21 4 (dk_at dksX5_meant_2 4 rfl rfl)
theorem dX5_meant_54 : decode cX5_meant 54 = .ok (.invokestatic 294, 3) := dk_184 1 38 (dk_at dksX5_meant_2 6 rfl rfl)
theorem dX5_meant_57 : decode cX5_meant 57 = .ok (.if_icmp .ge 55, 3) := dk_162 0 55 (dk_at dksX5_meant_2 9 rfl rfl)
theorem dX5_meant_60 : decode cX5_meant 60 = .ok (.aload_n 0, 1) := dk_42 (dk_at dksX5_meant_2 12 rfl rfl)
theorem dX5_meant_61 : decode cX5_meant 61 = .ok (.iconst 1, 1) := dk_4 (dk_at dksX5_meant_2 13 rfl rfl)
theorem dX5_meant_62 : decode cX5_meant 62 = .ok (.iload 8, 2) := dk_21 8 (dk_at dksX5_meant_2 14 rfl rfl)
theorem dX5_meant_64 : decode cX5_meant 64 = .ok (.iload 4, 2) := dk_21 4 (dk_at dksX5_meant_2 16 rfl rfl)
theorem dX5_meant_66 : decode cX5_meant 66 = .ok (.invokevirtual 297, 3) := dk_182 1 41 (dk_at dksX5_meant_2 18 rfl rfl)
theorem dX5_meant_69 : decode cX5_meant 69 = .ok (.aload_n 0, 1) := dk_42 (dk_at dksX5_meant_2 21 rfl rfl)
theorem dX5_meant_70 : decode cX5_meant 70 = .ok (.invokevirtual 246, 3) := dk_182 0 246 (dk_at dksX5_meant_3 0 rfl rfl)
theorem dX5_meant_73 : decode cX5_meant 73 = .ok (.aload_n 0, 1) := dk_42 (dk_at dksX5_meant_3 3 rfl rfl)
theorem dX5_meant_74 : decode cX5_meant 74 = .ok (.iconst 0, 1) := dk_3 (dk_at dksX5_meant_3 4 rfl rfl)
theorem dX5_meant_75 : decode cX5_meant 75 = .ok (.invokevirtual 252, 3) := dk_182 0 252 (dk_at dksX5_meant_3 5 rfl rfl)
theorem dX5_meant_78 : decode cX5_meant 78 = .ok (.aload_n 0, 1) := dk_42 (dk_at dksX5_meant_3 8 rfl rfl)
theorem dX5_meant_79 : decode cX5_meant 79 = .ok (.invokevirtual 314, 3) := dk_182 1 58 (dk_at dksX5_meant_3 9 rfl rfl)
theorem dX5_meant_82 : decode cX5_meant 82 = .ok (.ifCond .ne 6, 3) := dk_154 0 6 (dk_at dksX5_meant_3 12 rfl rfl)
theorem dX5_meant_85 : decode cX5_meant 85 = .ok (.goto 21, 3) := dk_167 0 21 (dk_at dksX5_meant_3 15 rfl rfl)
theorem dX5_meant_88 : decode cX5_meant 88 = .ok (.iinc 6 1, 3) := dk_132 6 1 (dk_at dksX5_meant_3 18 rfl rfl)
theorem dX5_meant_91 : decode cX5_meant 91 = .ok (.iload 7, 2) := dk_21 7 (dk_at dksX5_meant_3 21 rfl rfl)
theorem dX5_meant_93 : decode cX5_meant 93 = .ok (.iconst (-1), 1) := dk_2 (dk_at dksX5_meant_3 23 rfl rfl)
theorem dX5_meant_94 : decode cX5_meant 94 = .ok (.if_icmp .ne 8, 3) := dk_160 0 8 (dk_at dksX5_meant_4 0 rfl rfl)
theorem dX5_meant_97 : decode cX5_meant 97 = .ok (.iload 8, 2) := dk_21 8 (dk_at dksX5_meant_4 3 rfl rfl)
theorem dX5_meant_99 : decode cX5_meant 99 = .ok (.goto 5, 3) := dk_167 0 5 (dk_at dksX5_meant_4 5 rfl rfl)
theorem dX5_meant_102 : decode cX5_meant 102 = .ok (.iload 7, 2) := dk_21 7 (dk_at dksX5_meant_4 8 rfl rfl)
theorem dX5_meant_104 : decode cX5_meant 104 = .ok (.istore 7, 2) := dk_54 7 (dk_at dksX5_meant_4 10 rfl rfl)
theorem dX5_meant_106 : decode cX5_meant 106 = .ok (.iinc 8 1, 3) := dk_132 8 1 (dk_at dksX5_meant_4 12 rfl rfl)
theorem dX5_meant_109 : decode cX5_meant 109 = .ok (.goto (-59), 3) := dk_167 255 197 (dk_at dksX5_meant_4 15 rfl rfl)
theorem dX5_meant_112 : decode cX5_meant 112 = .ok (.iload 5, 2) := dk_21 5 (dk_at dksX5_meant_4 18 rfl rfl)
theorem dX5_meant_114 : decode cX5_meant 114 = .ok (.ifCond .eq 8, 3) := dk_153 0 8 (dk_at dksX5_meant_4 20 rfl rfl)
theorem dX5_meant_117 : decode cX5_meant 117 = .ok (.iload 7, 2) := dk_21 7 (dk_at dksX5_meant_5 0 rfl rfl)
theorem dX5_meant_119 : decode cX5_meant 119 = .ok (.goto 5, 3) := dk_167 0 5 (dk_at dksX5_meant_5 2 rfl rfl)
theorem dX5_meant_122 : decode cX5_meant 122 = .ok (.iload 6, 2) := dk_21 6 (dk_at dksX5_meant_5 5 rfl rfl)
theorem dX5_meant_124 : decode cX5_meant 124 = .ok (.ireturn, 1) := dk_172 (dk_at dksX5_meant_5 7 rfl rfl)
abbrev cX5_truce : ByteArray := prog_24_method_77_code
def yX5_truce : MethodName := ⟨RX5, "truce", "(IIIZ)I"⟩
def dkwX5_truce_5 : List UInt8 := [172]
abbrev dktX5_truce_5 : List UInt8 := dkwX5_truce_5 ++ []
def dkwX5_truce_4 : List UInt8 := [153, 0, 8, 21, 6, 167, 0, 5, 21, 5, 172, 132, 6, 1, 167, 255, 187, 132, 5, 1, 167, 255, 172, 2]
abbrev dktX5_truce_4 : List UInt8 := dkwX5_truce_4 ++ dktX5_truce_5
def dkwX5_truce_3 : List UInt8 := [3, 182, 0, 252, 42, 3, 28, 182, 1, 45, 153, 0, 25, 42, 4, 29, 182, 1, 45, 153, 0, 16, 21, 4]
abbrev dktX5_truce_3 : List UInt8 := dkwX5_truce_3 ++ dktX5_truce_4
def dkwX5_truce_2 : List UInt8 := [162, 0, 65, 42, 3, 21, 6, 21, 5, 182, 1, 41, 42, 180, 0, 23, 4, 3, 79, 42, 182, 0, 246, 42]
abbrev dktX5_truce_2 : List UInt8 := dkwX5_truce_2 ++ dktX5_truce_3
def dkwX5_truce_1 : List UInt8 := [154, 0, 5, 2, 172, 3, 54, 5, 21, 5, 8, 163, 0, 84, 3, 54, 6, 21, 6, 21, 5, 184, 1, 38]
abbrev dktX5_truce_1 : List UInt8 := dkwX5_truce_1 ++ dktX5_truce_2
def dkwX5_truce_0 : List UInt8 := [42, 27, 182, 0, 224, 153, 0, 21, 28, 3, 7, 184, 0, 145, 153, 0, 12, 29, 3, 7, 184, 0, 145]
abbrev dktX5_truce_0 : List UInt8 := dkwX5_truce_0 ++ dktX5_truce_1
theorem dksX5_truce_0 : cX5_truce.data.toList.drop 0 = dktX5_truce_0 := by decide +kernel
theorem dksX5_truce_1 : cX5_truce.data.toList.drop 23 = dktX5_truce_1 := dk_seg dksX5_truce_0 23 rfl rfl
theorem dksX5_truce_2 : cX5_truce.data.toList.drop 47 = dktX5_truce_2 := dk_seg dksX5_truce_1 24 rfl rfl
theorem dksX5_truce_3 : cX5_truce.data.toList.drop 71 = dktX5_truce_3 := dk_seg dksX5_truce_2 24 rfl rfl
theorem dksX5_truce_4 : cX5_truce.data.toList.drop 95 = dktX5_truce_4 := dk_seg dksX5_truce_3 24 rfl rfl
theorem dksX5_truce_5 : cX5_truce.data.toList.drop 119 = dktX5_truce_5 := dk_seg dksX5_truce_4 24 rfl rfl
theorem dX5_truce_0 : decode cX5_truce 0 = .ok (.aload_n 0, 1) := dk_42 (dk_at dksX5_truce_0 0 rfl rfl)
theorem dX5_truce_1 : decode cX5_truce 1 = .ok (.iload_n 1, 1) := dk_27 (dk_at dksX5_truce_0 1 rfl rfl)
theorem dX5_truce_2 : decode cX5_truce 2 = .ok (.invokevirtual 224, 3) := dk_182 0 224 (dk_at dksX5_truce_0 2 rfl rfl)
theorem dX5_truce_5 : decode cX5_truce 5 = .ok (.ifCond .eq 21, 3) := dk_153 0 21 (dk_at dksX5_truce_0 5 rfl rfl)
theorem dX5_truce_8 : decode cX5_truce 8 = .ok (.iload_n 2, 1) := dk_28 (dk_at dksX5_truce_0 8 rfl rfl)
theorem dX5_truce_9 : decode cX5_truce 9 = .ok (.iconst 0, 1) := dk_3 (dk_at dksX5_truce_0 9 rfl rfl)
theorem dX5_truce_10 : decode cX5_truce 10 = .ok (.iconst 4, 1) := dk_7 (dk_at dksX5_truce_0 10 rfl rfl)
theorem dX5_truce_11 : decode cX5_truce 11 = .ok (.invokestatic 145, 3) := dk_184 0 145 (dk_at dksX5_truce_0 11 rfl rfl)
theorem dX5_truce_14 : decode cX5_truce 14 = .ok (.ifCond .eq 12, 3) := dk_153 0 12 (dk_at dksX5_truce_0 14 rfl rfl)
theorem dX5_truce_17 : decode cX5_truce 17 = .ok (.iload_n 3, 1) := dk_29 (dk_at dksX5_truce_0 17 rfl rfl)
theorem dX5_truce_18 : decode cX5_truce 18 = .ok (.iconst 0, 1) := dk_3 (dk_at dksX5_truce_0 18 rfl rfl)
theorem dX5_truce_19 : decode cX5_truce 19 = .ok (.iconst 4, 1) := dk_7 (dk_at dksX5_truce_0 19 rfl rfl)
theorem dX5_truce_20 : decode cX5_truce 20 = .ok (.invokestatic 145, 3) := dk_184 0 145 (dk_at dksX5_truce_0 20 rfl rfl)
theorem dX5_truce_23 : decode cX5_truce 23 = .ok (.ifCond .ne 5, 3) := dk_154 0 5 (dk_at dksX5_truce_1 0 rfl rfl)
theorem dX5_truce_26 : decode cX5_truce 26 = .ok (.iconst (-1), 1) := dk_2 (dk_at dksX5_truce_1 3 rfl rfl)
theorem dX5_truce_27 : decode cX5_truce 27 = .ok (.ireturn, 1) := dk_172 (dk_at dksX5_truce_1 4 rfl rfl)
theorem dX5_truce_28 : decode cX5_truce 28 = .ok (.iconst 0, 1) := dk_3 (dk_at dksX5_truce_1 5 rfl rfl)
theorem dX5_truce_29 : decode cX5_truce 29 = .ok (.istore 5, 2) := dk_54 5 (dk_at dksX5_truce_1 6 rfl rfl)
theorem dX5_truce_31 : decode cX5_truce 31 = .ok (.iload 5, 2) := dk_21 5 (dk_at dksX5_truce_1 8 rfl rfl)
theorem dX5_truce_33 : decode cX5_truce 33 = .ok (.iconst 5, 1) := dk_8 (dk_at dksX5_truce_1 10 rfl rfl)
theorem dX5_truce_34 : decode cX5_truce 34 = .ok (.if_icmp .gt 84, 3) := dk_163 0 84 (dk_at dksX5_truce_1 11 rfl rfl)
theorem dX5_truce_37 : decode cX5_truce 37 = .ok (.iconst 0, 1) := dk_3 (dk_at dksX5_truce_1 14 rfl rfl)
theorem dX5_truce_38 : decode cX5_truce 38 = .ok (.istore 6, 2) := dk_54 6 (dk_at dksX5_truce_1 15 rfl rfl)
theorem dX5_truce_40 : decode cX5_truce 40 = .ok (.iload 6, 2) := dk_21 6 (dk_at dksX5_truce_1 17 rfl rfl)
theorem dX5_truce_42 : decode cX5_truce 42 = .ok (.iload 5, 2) := dk_21 5 (dk_at dksX5_truce_1 19 rfl rfl)
theorem dX5_truce_44 : decode cX5_truce 44 = .ok (.invokestatic 294, 3) := dk_184 1 38 (dk_at dksX5_truce_1 21 rfl rfl)
theorem dX5_truce_47 : decode cX5_truce 47 = .ok (.if_icmp .ge 65, 3) := dk_162 0 65 (dk_at dksX5_truce_2 0 rfl rfl)
theorem dX5_truce_50 : decode cX5_truce 50 = .ok (.aload_n 0, 1) := dk_42 (dk_at dksX5_truce_2 3 rfl rfl)
theorem dX5_truce_51 : decode cX5_truce 51 = .ok (.iconst 0, 1) := dk_3 (dk_at dksX5_truce_2 4 rfl rfl)
theorem dX5_truce_52 : decode cX5_truce 52 = .ok (.iload 6, 2) := dk_21 6 (dk_at dksX5_truce_2 5 rfl rfl)
theorem dX5_truce_54 : decode cX5_truce 54 = .ok (.iload 5, 2) := dk_21 5 (dk_at dksX5_truce_2 7 rfl rfl)
theorem dX5_truce_56 : decode cX5_truce 56 = .ok (.invokevirtual 297, 3) := dk_182 1 41 (dk_at dksX5_truce_2 9 rfl rfl)
theorem dX5_truce_59 : decode cX5_truce 59 = .ok (.aload_n 0, 1) := dk_42 (dk_at dksX5_truce_2 12 rfl rfl)
theorem dX5_truce_60 : decode cX5_truce 60 = .ok (.getfield 23, 3) := dk_180 0 23 (dk_at dksX5_truce_2 13 rfl rfl)
theorem dX5_truce_63 : decode cX5_truce 63 = .ok (.iconst 1, 1) := dk_4 (dk_at dksX5_truce_2 16 rfl rfl)
theorem dX5_truce_64 : decode cX5_truce 64 = .ok (.iconst 0, 1) := dk_3 (dk_at dksX5_truce_2 17 rfl rfl)
theorem dX5_truce_65 : decode cX5_truce 65 = .ok (.iastore, 1) := dk_79 (dk_at dksX5_truce_2 18 rfl rfl)
theorem dX5_truce_66 : decode cX5_truce 66 = .ok (.aload_n 0, 1) := dk_42 (dk_at dksX5_truce_2 19 rfl rfl)
theorem dX5_truce_67 : decode cX5_truce 67 = .ok (.invokevirtual 246, 3) := dk_182 0 246 (dk_at dksX5_truce_2 20 rfl rfl)
theorem dX5_truce_70 : decode cX5_truce 70 = .ok (.aload_n 0, 1) := dk_42 (dk_at dksX5_truce_2 23 rfl rfl)
theorem dX5_truce_71 : decode cX5_truce 71 = .ok (.iconst 0, 1) := dk_3 (dk_at dksX5_truce_3 0 rfl rfl)
theorem dX5_truce_72 : decode cX5_truce 72 = .ok (.invokevirtual 252, 3) := dk_182 0 252 (dk_at dksX5_truce_3 1 rfl rfl)
theorem dX5_truce_75 : decode cX5_truce 75 = .ok (.aload_n 0, 1) := dk_42 (dk_at dksX5_truce_3 4 rfl rfl)
theorem dX5_truce_76 : decode cX5_truce 76 = .ok (.iconst 0, 1) := dk_3 (dk_at dksX5_truce_3 5 rfl rfl)
theorem dX5_truce_77 : decode cX5_truce 77 = .ok (.iload_n 2, 1) := dk_28 (dk_at dksX5_truce_3 6 rfl rfl)
theorem dX5_truce_78 : decode cX5_truce 78 = .ok (.invokevirtual 301, 3) := dk_182 1 45 (dk_at dksX5_truce_3 7 rfl rfl)
theorem dX5_truce_81 : decode cX5_truce 81 = .ok (.ifCond .eq 25, 3) := dk_153 0 25 (dk_at dksX5_truce_3 10 rfl rfl)
theorem dX5_truce_84 : decode cX5_truce 84 = .ok (.aload_n 0, 1) := dk_42 (dk_at dksX5_truce_3 13 rfl rfl)
theorem dX5_truce_85 : decode cX5_truce 85 = .ok (.iconst 1, 1) := dk_4 (dk_at dksX5_truce_3 14 rfl rfl)
theorem dX5_truce_86 : decode cX5_truce 86 = .ok (.iload_n 3, 1) := dk_29 (dk_at dksX5_truce_3 15 rfl rfl)
theorem dX5_truce_87 : decode cX5_truce 87 = .ok (.invokevirtual 301, 3) := dk_182 1 45 (dk_at dksX5_truce_3 16 rfl rfl)
theorem dX5_truce_90 : decode cX5_truce 90 = .ok (.ifCond .eq 16, 3) := dk_153 0 16 (dk_at dksX5_truce_3 19 rfl rfl)
theorem dX5_truce_93 : decode cX5_truce 93 = .ok (.iload 4, 2) := dk_21 4 (dk_at dksX5_truce_3 22 rfl rfl)
theorem dX5_truce_95 : decode cX5_truce 95 = .ok (.ifCond .eq 8, 3) := dk_153 0 8 (dk_at dksX5_truce_4 0 rfl rfl)
theorem dX5_truce_98 : decode cX5_truce 98 = .ok (.iload 6, 2) := dk_21 6 (dk_at dksX5_truce_4 3 rfl rfl)
theorem dX5_truce_100 : decode cX5_truce 100 = .ok (.goto 5, 3) := dk_167 0 5 (dk_at dksX5_truce_4 5 rfl rfl)
theorem dX5_truce_103 : decode cX5_truce 103 = .ok (.iload 5, 2) := dk_21 5 (dk_at dksX5_truce_4 8 rfl rfl)
theorem dX5_truce_105 : decode cX5_truce 105 = .ok (.ireturn, 1) := dk_172 (dk_at dksX5_truce_4 10 rfl rfl)
theorem dX5_truce_106 : decode cX5_truce 106 = .ok (.iinc 6 1, 3) := dk_132 6 1 (dk_at dksX5_truce_4 11 rfl rfl)
theorem dX5_truce_109 : decode cX5_truce 109 = .ok (.goto (-69), 3) := dk_167 255 187 (dk_at dksX5_truce_4 14 rfl rfl)
theorem dX5_truce_112 : decode cX5_truce 112 = .ok (.iinc 5 1, 3) := dk_132 5 1 (dk_at dksX5_truce_4 17 rfl rfl)
theorem dX5_truce_115 : decode cX5_truce 115 = .ok (.goto (-84), 3) := dk_167 255 172 (dk_at dksX5_truce_4 20 rfl rfl)
theorem dX5_truce_118 : decode cX5_truce 118 = .ok (.iconst (-1), 1) := dk_2 (dk_at dksX5_truce_4 23 rfl rfl)
theorem dX5_truce_119 : decode cX5_truce 119 = .ok (.ireturn, 1) := dk_172 (dk_at dksX5_truce_5 0 rfl rfl)
abbrev cX5_far : ByteArray := prog_24_method_81_code
def yX5_far : MethodName := ⟨RX5, "far", "(IIII)I"⟩
def dkwX5_far_1 : List UInt8 := [153, 0, 14, 42, 28, 29, 21, 4, 182, 1, 69, 167, 0, 4, 2, 172]
abbrev dktX5_far_1 : List UInt8 := dkwX5_far_1 ++ []
def dkwX5_far_0 : List UInt8 := [42, 27, 182, 0, 224, 153, 0, 33, 42, 28, 29, 182, 0, 227, 153, 0, 24, 42, 28, 21, 4, 182, 0, 227]
abbrev dktX5_far_0 : List UInt8 := dkwX5_far_0 ++ dktX5_far_1
theorem dksX5_far_0 : cX5_far.data.toList.drop 0 = dktX5_far_0 := by decide +kernel
theorem dksX5_far_1 : cX5_far.data.toList.drop 24 = dktX5_far_1 := dk_seg dksX5_far_0 24 rfl rfl
theorem dX5_far_0 : decode cX5_far 0 = .ok (.aload_n 0, 1) := dk_42 (dk_at dksX5_far_0 0 rfl rfl)
theorem dX5_far_1 : decode cX5_far 1 = .ok (.iload_n 1, 1) := dk_27 (dk_at dksX5_far_0 1 rfl rfl)
theorem dX5_far_2 : decode cX5_far 2 = .ok (.invokevirtual 224, 3) := dk_182 0 224 (dk_at dksX5_far_0 2 rfl rfl)
theorem dX5_far_5 : decode cX5_far 5 = .ok (.ifCond .eq 33, 3) := dk_153 0 33 (dk_at dksX5_far_0 5 rfl rfl)
theorem dX5_far_8 : decode cX5_far 8 = .ok (.aload_n 0, 1) := dk_42 (dk_at dksX5_far_0 8 rfl rfl)
theorem dX5_far_9 : decode cX5_far 9 = .ok (.iload_n 2, 1) := dk_28 (dk_at dksX5_far_0 9 rfl rfl)
theorem dX5_far_10 : decode cX5_far 10 = .ok (.iload_n 3, 1) := dk_29 (dk_at dksX5_far_0 10 rfl rfl)
theorem dX5_far_11 : decode cX5_far 11 = .ok (.invokevirtual 227, 3) := dk_182 0 227 (dk_at dksX5_far_0 11 rfl rfl)
theorem dX5_far_14 : decode cX5_far 14 = .ok (.ifCond .eq 24, 3) := dk_153 0 24 (dk_at dksX5_far_0 14 rfl rfl)
theorem dX5_far_17 : decode cX5_far 17 = .ok (.aload_n 0, 1) := dk_42 (dk_at dksX5_far_0 17 rfl rfl)
theorem dX5_far_18 : decode cX5_far 18 = .ok (.iload_n 2, 1) := dk_28 (dk_at dksX5_far_0 18 rfl rfl)
theorem dX5_far_19 : decode cX5_far 19 = .ok (.iload 4, 2) := dk_21 4 (dk_at dksX5_far_0 19 rfl rfl)
theorem dX5_far_21 : decode cX5_far 21 = .ok (.invokevirtual 227, 3) := dk_182 0 227 (dk_at dksX5_far_0 21 rfl rfl)
theorem dX5_far_24 : decode cX5_far 24 = .ok (.ifCond .eq 14, 3) := dk_153 0 14 (dk_at dksX5_far_1 0 rfl rfl)
theorem dX5_far_27 : decode cX5_far 27 = .ok (.aload_n 0, 1) := dk_42 (dk_at dksX5_far_1 3 rfl rfl)
theorem dX5_far_28 : decode cX5_far 28 = .ok (.iload_n 2, 1) := dk_28 (dk_at dksX5_far_1 4 rfl rfl)
theorem dX5_far_29 : decode cX5_far 29 = .ok (.iload_n 3, 1) := dk_29 (dk_at dksX5_far_1 5 rfl rfl)
theorem dX5_far_30 : decode cX5_far 30 = .ok (.iload 4, 2) := dk_21 4 (dk_at dksX5_far_1 6 rfl rfl)
theorem dX5_far_32 : decode cX5_far 32 = .ok (.invokevirtual 325, 3) := dk_182 1 69 (dk_at dksX5_far_1 8 rfl rfl)
theorem dX5_far_35 : decode cX5_far 35 = .ok (.goto 4, 3) := dk_167 0 4 (dk_at dksX5_far_1 11 rfl rfl)
theorem dX5_far_38 : decode cX5_far 38 = .ok (.iconst (-1), 1) := dk_2 (dk_at dksX5_far_1 14 rfl rfl)
theorem dX5_far_39 : decode cX5_far 39 = .ok (.ireturn, 1) := dk_172 (dk_at dksX5_far_1 15 rfl rfl)
abbrev cX5_farOf : ByteArray := prog_24_method_80_code
def yX5_farOf : MethodName := ⟨RX5, "farOf", "(III)I"⟩
def dkwX5_farOf_3 : List UInt8 := [42, 42, 27, 28, 182, 0, 230, 42, 27, 29, 182, 0, 230, 182, 1, 67, 172]
abbrev dktX5_farOf_3 : List UInt8 := dkwX5_farOf_3 ++ []
def dkwX5_farOf_2 : List UInt8 := [162, 0, 24, 42, 180, 0, 59, 21, 4, 42, 27, 29, 21, 4, 182, 0, 233, 79, 132, 4, 1, 167, 255, 227]
abbrev dktX5_farOf_2 : List UInt8 := dkwX5_farOf_2 ++ dktX5_farOf_3
def dkwX5_farOf_1 : List UInt8 := [21, 4, 182, 0, 233, 79, 132, 4, 1, 167, 255, 227, 3, 54, 4, 21, 4, 42, 27, 29, 182, 0, 230]
abbrev dktX5_farOf_1 : List UInt8 := dkwX5_farOf_1 ++ dktX5_farOf_2
def dkwX5_farOf_0 : List UInt8 := [3, 54, 4, 21, 4, 42, 27, 28, 182, 0, 230, 162, 0, 24, 42, 180, 0, 56, 21, 4, 42, 27, 28]
abbrev dktX5_farOf_0 : List UInt8 := dkwX5_farOf_0 ++ dktX5_farOf_1
theorem dksX5_farOf_0 : cX5_farOf.data.toList.drop 0 = dktX5_farOf_0 := by decide +kernel
theorem dksX5_farOf_1 : cX5_farOf.data.toList.drop 23 = dktX5_farOf_1 := dk_seg dksX5_farOf_0 23 rfl rfl
theorem dksX5_farOf_2 : cX5_farOf.data.toList.drop 46 = dktX5_farOf_2 := dk_seg dksX5_farOf_1 23 rfl rfl
theorem dksX5_farOf_3 : cX5_farOf.data.toList.drop 70 = dktX5_farOf_3 := dk_seg dksX5_farOf_2 24 rfl rfl
theorem dX5_farOf_0 : decode cX5_farOf 0 = .ok (.iconst 0, 1) := dk_3 (dk_at dksX5_farOf_0 0 rfl rfl)
theorem dX5_farOf_1 : decode cX5_farOf 1 = .ok (.istore 4, 2) := dk_54 4 (dk_at dksX5_farOf_0 1 rfl rfl)
theorem dX5_farOf_3 : decode cX5_farOf 3 = .ok (.iload 4, 2) := dk_21 4 (dk_at dksX5_farOf_0 3 rfl rfl)
theorem dX5_farOf_5 : decode cX5_farOf 5 = .ok (.aload_n 0, 1) := dk_42 (dk_at dksX5_farOf_0 5 rfl rfl)
theorem dX5_farOf_6 : decode cX5_farOf 6 = .ok (.iload_n 1, 1) := dk_27 (dk_at dksX5_farOf_0 6 rfl rfl)
theorem dX5_farOf_7 : decode cX5_farOf 7 = .ok (.iload_n 2, 1) := dk_28 (dk_at dksX5_farOf_0 7 rfl rfl)
theorem dX5_farOf_8 : decode cX5_farOf 8 = .ok (.invokevirtual 230, 3) := dk_182 0 230 (dk_at dksX5_farOf_0 8 rfl rfl)
theorem dX5_farOf_11 : decode cX5_farOf 11 = .ok (.if_icmp .ge 24, 3) := dk_162 0 24 (dk_at dksX5_farOf_0 11 rfl rfl)
theorem dX5_farOf_14 : decode cX5_farOf 14 = .ok (.aload_n 0, 1) := dk_42 (dk_at dksX5_farOf_0 14 rfl rfl)
theorem dX5_farOf_15 : decode cX5_farOf 15 = .ok (.getfield 56, 3) := dk_180 0 56 (dk_at dksX5_farOf_0 15 rfl rfl)
theorem dX5_farOf_18 : decode cX5_farOf 18 = .ok (.iload 4, 2) := dk_21 4 (dk_at dksX5_farOf_0 18 rfl rfl)
theorem dX5_farOf_20 : decode cX5_farOf 20 = .ok (.aload_n 0, 1) := dk_42 (dk_at dksX5_farOf_0 20 rfl rfl)
theorem dX5_farOf_21 : decode cX5_farOf 21 = .ok (.iload_n 1, 1) := dk_27 (dk_at dksX5_farOf_0 21 rfl rfl)
theorem dX5_farOf_22 : decode cX5_farOf 22 = .ok (.iload_n 2, 1) := dk_28 (dk_at dksX5_farOf_0 22 rfl rfl)
theorem dX5_farOf_23 : decode cX5_farOf 23 = .ok (.iload 4, 2) := dk_21 4 (dk_at dksX5_farOf_1 0 rfl rfl)
theorem dX5_farOf_25 : decode cX5_farOf 25 = .ok (.invokevirtual 233, 3) := dk_182 0 233 (dk_at dksX5_farOf_1 2 rfl rfl)
theorem dX5_farOf_28 : decode cX5_farOf 28 = .ok (.iastore, 1) := dk_79 (dk_at dksX5_farOf_1 5 rfl rfl)
theorem dX5_farOf_29 : decode cX5_farOf 29 = .ok (.iinc 4 1, 3) := dk_132 4 1 (dk_at dksX5_farOf_1 6 rfl rfl)
theorem dX5_farOf_32 : decode cX5_farOf 32 = .ok (.goto (-29), 3) := dk_167 255 227 (dk_at dksX5_farOf_1 9 rfl rfl)
theorem dX5_farOf_35 : decode cX5_farOf 35 = .ok (.iconst 0, 1) := dk_3 (dk_at dksX5_farOf_1 12 rfl rfl)
theorem dX5_farOf_36 : decode cX5_farOf 36 = .ok (.istore 4, 2) := dk_54 4 (dk_at dksX5_farOf_1 13 rfl rfl)
theorem dX5_farOf_38 : decode cX5_farOf 38 = .ok (.iload 4, 2) := dk_21 4 (dk_at dksX5_farOf_1 15 rfl rfl)
theorem dX5_farOf_40 : decode cX5_farOf 40 = .ok (.aload_n 0, 1) := dk_42 (dk_at dksX5_farOf_1 17 rfl rfl)
theorem dX5_farOf_41 : decode cX5_farOf 41 = .ok (.iload_n 1, 1) := dk_27 (dk_at dksX5_farOf_1 18 rfl rfl)
theorem dX5_farOf_42 : decode cX5_farOf 42 = .ok (.iload_n 3, 1) := dk_29 (dk_at dksX5_farOf_1 19 rfl rfl)
theorem dX5_farOf_43 : decode cX5_farOf 43 = .ok (.invokevirtual 230, 3) := dk_182 0 230 (dk_at dksX5_farOf_1 20 rfl rfl)
theorem dX5_farOf_46 : decode cX5_farOf 46 = .ok (.if_icmp .ge 24, 3) := dk_162 0 24 (dk_at dksX5_farOf_2 0 rfl rfl)
theorem dX5_farOf_49 : decode cX5_farOf 49 = .ok (.aload_n 0, 1) := dk_42 (dk_at dksX5_farOf_2 3 rfl rfl)
theorem dX5_farOf_50 : decode cX5_farOf 50 = .ok (.getfield 59, 3) := dk_180 0 59 (dk_at dksX5_farOf_2 4 rfl rfl)
theorem dX5_farOf_53 : decode cX5_farOf 53 = .ok (.iload 4, 2) := dk_21 4 (dk_at dksX5_farOf_2 7 rfl rfl)
theorem dX5_farOf_55 : decode cX5_farOf 55 = .ok (.aload_n 0, 1) := dk_42 (dk_at dksX5_farOf_2 9 rfl rfl)
theorem dX5_farOf_56 : decode cX5_farOf 56 = .ok (.iload_n 1, 1) := dk_27 (dk_at dksX5_farOf_2 10 rfl rfl)
theorem dX5_farOf_57 : decode cX5_farOf 57 = .ok (.iload_n 3, 1) := dk_29 (dk_at dksX5_farOf_2 11 rfl rfl)
theorem dX5_farOf_58 : decode cX5_farOf 58 = .ok (.iload 4, 2) := dk_21 4 (dk_at dksX5_farOf_2 12 rfl rfl)
theorem dX5_farOf_60 : decode cX5_farOf 60 = .ok (.invokevirtual 233, 3) := dk_182 0 233 (dk_at dksX5_farOf_2 14 rfl rfl)
theorem dX5_farOf_63 : decode cX5_farOf 63 = .ok (.iastore, 1) := dk_79 (dk_at dksX5_farOf_2 17 rfl rfl)
theorem dX5_farOf_64 : decode cX5_farOf 64 = .ok (.iinc 4 1, 3) := dk_132 4 1 (dk_at dksX5_farOf_2 18 rfl rfl)
theorem dX5_farOf_67 : decode cX5_farOf 67 = .ok (.goto (-29), 3) := dk_167 255 227 (dk_at dksX5_farOf_2 21 rfl rfl)
theorem dX5_farOf_70 : decode cX5_farOf 70 = .ok (.aload_n 0, 1) := dk_42 (dk_at dksX5_farOf_3 0 rfl rfl)
theorem dX5_farOf_71 : decode cX5_farOf 71 = .ok (.aload_n 0, 1) := dk_42 (dk_at dksX5_farOf_3 1 rfl rfl)
theorem dX5_farOf_72 : decode cX5_farOf 72 = .ok (.iload_n 1, 1) := dk_27 (dk_at dksX5_farOf_3 2 rfl rfl)
theorem dX5_farOf_73 : decode cX5_farOf 73 = .ok (.iload_n 2, 1) := dk_28 (dk_at dksX5_farOf_3 3 rfl rfl)
theorem dX5_farOf_74 : decode cX5_farOf 74 = .ok (.invokevirtual 230, 3) := dk_182 0 230 (dk_at dksX5_farOf_3 4 rfl rfl)
theorem dX5_farOf_77 : decode cX5_farOf 77 = .ok (.aload_n 0, 1) := dk_42 (dk_at dksX5_farOf_3 7 rfl rfl)
theorem dX5_farOf_78 : decode cX5_farOf 78 = .ok (.iload_n 1, 1) := dk_27 (dk_at dksX5_farOf_3 8 rfl rfl)
theorem dX5_farOf_79 : decode cX5_farOf 79 = .ok (.iload_n 3, 1) := dk_29 (dk_at dksX5_farOf_3 9 rfl rfl)
theorem dX5_farOf_80 : decode cX5_farOf 80 = .ok (.invokevirtual 230, 3) := dk_182 0 230 (dk_at dksX5_farOf_3 10 rfl rfl)
theorem dX5_farOf_83 : decode cX5_farOf 83 = .ok (.invokevirtual 323, 3) := dk_182 1 67 (dk_at dksX5_farOf_3 13 rfl rfl)
theorem dX5_farOf_86 : decode cX5_farOf 86 = .ok (.ireturn, 1) := dk_172 (dk_at dksX5_farOf_3 16 rfl rfl)
abbrev cX5_apart : ByteArray := prog_24_method_79_code
def yX5_apart : MethodName := ⟨RX5, "apart", "(II)I"⟩
def dkwX5_apart_5 : List UInt8 := [21, 6, 54, 4, 132, 5, 1, 167, 255, 176, 132, 3, 1, 167, 255, 147, 42, 180, 0, 62, 28, 46, 172]
abbrev dktX5_apart_5 : List UInt8 := dkwX5_apart_5 ++ []
def dkwX5_apart_4 : List UInt8 := [21, 5, 21, 7, 21, 6, 42, 180, 0, 62, 21, 5, 4, 100, 46, 184, 1, 64, 4, 96, 184, 1, 64, 79]
abbrev dktX5_apart_4 : List UInt8 := dkwX5_apart_4 ++ dktX5_apart_5
def dkwX5_apart_3 : List UInt8 := [180, 0, 59, 21, 5, 4, 100, 46, 160, 0, 7, 3, 167, 0, 4, 4, 96, 54, 7, 42, 180, 0, 62]
abbrev dktX5_apart_3 : List UInt8 := dkwX5_apart_3 ++ dktX5_apart_4
def dkwX5_apart_2 : List UInt8 := [163, 0, 80, 42, 180, 0, 62, 21, 5, 46, 54, 6, 21, 4, 42, 180, 0, 56, 29, 4, 100, 46, 42]
abbrev dktX5_apart_2 : List UInt8 := dkwX5_apart_2 ++ dktX5_apart_3
def dkwX5_apart_1 : List UInt8 := [163, 0, 110, 42, 180, 0, 62, 3, 46, 54, 4, 42, 180, 0, 62, 3, 29, 79, 4, 54, 5, 21, 5, 28]
abbrev dktX5_apart_1 : List UInt8 := dkwX5_apart_1 ++ dktX5_apart_2
def dkwX5_apart_0 : List UInt8 := [3, 62, 29, 28, 163, 0, 16, 42, 180, 0, 62, 29, 29, 79, 132, 3, 1, 167, 255, 241, 4, 62, 29, 27]
abbrev dktX5_apart_0 : List UInt8 := dkwX5_apart_0 ++ dktX5_apart_1
theorem dksX5_apart_0 : cX5_apart.data.toList.drop 0 = dktX5_apart_0 := by decide +kernel
theorem dksX5_apart_1 : cX5_apart.data.toList.drop 24 = dktX5_apart_1 := dk_seg dksX5_apart_0 24 rfl rfl
theorem dksX5_apart_2 : cX5_apart.data.toList.drop 48 = dktX5_apart_2 := dk_seg dksX5_apart_1 24 rfl rfl
theorem dksX5_apart_3 : cX5_apart.data.toList.drop 71 = dktX5_apart_3 := dk_seg dksX5_apart_2 23 rfl rfl
theorem dksX5_apart_4 : cX5_apart.data.toList.drop 94 = dktX5_apart_4 := dk_seg dksX5_apart_3 23 rfl rfl
theorem dksX5_apart_5 : cX5_apart.data.toList.drop 118 = dktX5_apart_5 := dk_seg dksX5_apart_4 24 rfl rfl
theorem dX5_apart_0 : decode cX5_apart 0 = .ok (.iconst 0, 1) := dk_3 (dk_at dksX5_apart_0 0 rfl rfl)
theorem dX5_apart_1 : decode cX5_apart 1 = .ok (.istore_n 3, 1) := dk_62 (dk_at dksX5_apart_0 1 rfl rfl)
theorem dX5_apart_2 : decode cX5_apart 2 = .ok (.iload_n 3, 1) := dk_29 (dk_at dksX5_apart_0 2 rfl rfl)
theorem dX5_apart_3 : decode cX5_apart 3 = .ok (.iload_n 2, 1) := dk_28 (dk_at dksX5_apart_0 3 rfl rfl)
theorem dX5_apart_4 : decode cX5_apart 4 = .ok (.if_icmp .gt 16, 3) := dk_163 0 16 (dk_at dksX5_apart_0 4 rfl rfl)
theorem dX5_apart_7 : decode cX5_apart 7 = .ok (.aload_n 0, 1) := dk_42 (dk_at dksX5_apart_0 7 rfl rfl)
theorem dX5_apart_8 : decode cX5_apart 8 = .ok (.getfield 62, 3) := dk_180 0 62 (dk_at dksX5_apart_0 8 rfl rfl)
theorem dX5_apart_11 : decode cX5_apart 11 = .ok (.iload_n 3, 1) := dk_29 (dk_at dksX5_apart_0 11 rfl rfl)
theorem dX5_apart_12 : decode cX5_apart 12 = .ok (.iload_n 3, 1) := dk_29 (dk_at dksX5_apart_0 12 rfl rfl)
theorem dX5_apart_13 : decode cX5_apart 13 = .ok (.iastore, 1) := dk_79 (dk_at dksX5_apart_0 13 rfl rfl)
theorem dX5_apart_14 : decode cX5_apart 14 = .ok (.iinc 3 1, 3) := dk_132 3 1 (dk_at dksX5_apart_0 14 rfl rfl)
theorem dX5_apart_17 : decode cX5_apart 17 = .ok (.goto (-15), 3) := dk_167 255 241 (dk_at dksX5_apart_0 17 rfl rfl)
theorem dX5_apart_20 : decode cX5_apart 20 = .ok (.iconst 1, 1) := dk_4 (dk_at dksX5_apart_0 20 rfl rfl)
theorem dX5_apart_21 : decode cX5_apart 21 = .ok (.istore_n 3, 1) := dk_62 (dk_at dksX5_apart_0 21 rfl rfl)
theorem dX5_apart_22 : decode cX5_apart 22 = .ok (.iload_n 3, 1) := dk_29 (dk_at dksX5_apart_0 22 rfl rfl)
theorem dX5_apart_23 : decode cX5_apart 23 = .ok (.iload_n 1, 1) := dk_27 (dk_at dksX5_apart_0 23 rfl rfl)
theorem dX5_apart_24 : decode cX5_apart 24 = .ok (.if_icmp .gt 110, 3) := dk_163 0 110 (dk_at dksX5_apart_1 0 rfl rfl)
theorem dX5_apart_27 : decode cX5_apart 27 = .ok (.aload_n 0, 1) := dk_42 (dk_at dksX5_apart_1 3 rfl rfl)
theorem dX5_apart_28 : decode cX5_apart 28 = .ok (.getfield 62, 3) := dk_180 0 62 (dk_at dksX5_apart_1 4 rfl rfl)
theorem dX5_apart_31 : decode cX5_apart 31 = .ok (.iconst 0, 1) := dk_3 (dk_at dksX5_apart_1 7 rfl rfl)
theorem dX5_apart_32 : decode cX5_apart 32 = .ok (.iaload, 1) := dk_46 (dk_at dksX5_apart_1 8 rfl rfl)
theorem dX5_apart_33 : decode cX5_apart 33 = .ok (.istore 4, 2) := dk_54 4 (dk_at dksX5_apart_1 9 rfl rfl)
theorem dX5_apart_35 : decode cX5_apart 35 = .ok (.aload_n 0, 1) := dk_42 (dk_at dksX5_apart_1 11 rfl rfl)
theorem dX5_apart_36 : decode cX5_apart 36 = .ok (.getfield 62, 3) := dk_180 0 62 (dk_at dksX5_apart_1 12 rfl rfl)
theorem dX5_apart_39 : decode cX5_apart 39 = .ok (.iconst 0, 1) := dk_3 (dk_at dksX5_apart_1 15 rfl rfl)
theorem dX5_apart_40 : decode cX5_apart 40 = .ok (.iload_n 3, 1) := dk_29 (dk_at dksX5_apart_1 16 rfl rfl)
theorem dX5_apart_41 : decode cX5_apart 41 = .ok (.iastore, 1) := dk_79 (dk_at dksX5_apart_1 17 rfl rfl)
theorem dX5_apart_42 : decode cX5_apart 42 = .ok (.iconst 1, 1) := dk_4 (dk_at dksX5_apart_1 18 rfl rfl)
theorem dX5_apart_43 : decode cX5_apart 43 = .ok (.istore 5, 2) := dk_54 5 (dk_at dksX5_apart_1 19 rfl rfl)
theorem dX5_apart_45 : decode cX5_apart 45 = .ok (.iload 5, 2) := dk_21 5 (dk_at dksX5_apart_1 21 rfl rfl)
theorem dX5_apart_47 : decode cX5_apart 47 = .ok (.iload_n 2, 1) := dk_28 (dk_at dksX5_apart_1 23 rfl rfl)
theorem dX5_apart_48 : decode cX5_apart 48 = .ok (.if_icmp .gt 80, 3) := dk_163 0 80 (dk_at dksX5_apart_2 0 rfl rfl)
theorem dX5_apart_51 : decode cX5_apart 51 = .ok (.aload_n 0, 1) := dk_42 (dk_at dksX5_apart_2 3 rfl rfl)
theorem dX5_apart_52 : decode cX5_apart 52 = .ok (.getfield 62, 3) := dk_180 0 62 (dk_at dksX5_apart_2 4 rfl rfl)
theorem dX5_apart_55 : decode cX5_apart 55 = .ok (.iload 5, 2) := dk_21 5 (dk_at dksX5_apart_2 7 rfl rfl)
theorem dX5_apart_57 : decode cX5_apart 57 = .ok (.iaload, 1) := dk_46 (dk_at dksX5_apart_2 9 rfl rfl)
theorem dX5_apart_58 : decode cX5_apart 58 = .ok (.istore 6, 2) := dk_54 6 (dk_at dksX5_apart_2 10 rfl rfl)
theorem dX5_apart_60 : decode cX5_apart 60 = .ok (.iload 4, 2) := dk_21 4 (dk_at dksX5_apart_2 12 rfl rfl)
theorem dX5_apart_62 : decode cX5_apart 62 = .ok (.aload_n 0, 1) := dk_42 (dk_at dksX5_apart_2 14 rfl rfl)
theorem dX5_apart_63 : decode cX5_apart 63 = .ok (.getfield 56, 3) := dk_180 0 56 (dk_at dksX5_apart_2 15 rfl rfl)
theorem dX5_apart_66 : decode cX5_apart 66 = .ok (.iload_n 3, 1) := dk_29 (dk_at dksX5_apart_2 18 rfl rfl)
theorem dX5_apart_67 : decode cX5_apart 67 = .ok (.iconst 1, 1) := dk_4 (dk_at dksX5_apart_2 19 rfl rfl)
theorem dX5_apart_68 : decode cX5_apart 68 = .ok (.isub, 1) := dk_100 (dk_at dksX5_apart_2 20 rfl rfl)
theorem dX5_apart_69 : decode cX5_apart 69 = .ok (.iaload, 1) := dk_46 (dk_at dksX5_apart_2 21 rfl rfl)
theorem dX5_apart_70 : decode cX5_apart 70 = .ok (.aload_n 0, 1) := dk_42 (dk_at dksX5_apart_2 22 rfl rfl)
theorem dX5_apart_71 : decode cX5_apart 71 = .ok (.getfield 59, 3) := dk_180 0 59 (dk_at dksX5_apart_3 0 rfl rfl)
theorem dX5_apart_74 : decode cX5_apart 74 = .ok (.iload 5, 2) := dk_21 5 (dk_at dksX5_apart_3 3 rfl rfl)
theorem dX5_apart_76 : decode cX5_apart 76 = .ok (.iconst 1, 1) := dk_4 (dk_at dksX5_apart_3 5 rfl rfl)
theorem dX5_apart_77 : decode cX5_apart 77 = .ok (.isub, 1) := dk_100 (dk_at dksX5_apart_3 6 rfl rfl)
theorem dX5_apart_78 : decode cX5_apart 78 = .ok (.iaload, 1) := dk_46 (dk_at dksX5_apart_3 7 rfl rfl)
theorem dX5_apart_79 : decode cX5_apart 79 = .ok (.if_icmp .ne 7, 3) := dk_160 0 7 (dk_at dksX5_apart_3 8 rfl rfl)
theorem dX5_apart_82 : decode cX5_apart 82 = .ok (.iconst 0, 1) := dk_3 (dk_at dksX5_apart_3 11 rfl rfl)
theorem dX5_apart_83 : decode cX5_apart 83 = .ok (.goto 4, 3) := dk_167 0 4 (dk_at dksX5_apart_3 12 rfl rfl)
theorem dX5_apart_86 : decode cX5_apart 86 = .ok (.iconst 1, 1) := dk_4 (dk_at dksX5_apart_3 15 rfl rfl)
theorem dX5_apart_87 : decode cX5_apart 87 = .ok (.iadd, 1) := dk_96 (dk_at dksX5_apart_3 16 rfl rfl)
theorem dX5_apart_88 : decode cX5_apart 88 = .ok (.istore 7, 2) := dk_54 7 (dk_at dksX5_apart_3 17 rfl rfl)
theorem dX5_apart_90 : decode cX5_apart 90 = .ok (.aload_n 0, 1) := dk_42 (dk_at dksX5_apart_3 19 rfl rfl)
theorem dX5_apart_91 : decode cX5_apart 91 = .ok (.getfield 62, 3) := dk_180 0 62 (dk_at dksX5_apart_3 20 rfl rfl)
theorem dX5_apart_94 : decode cX5_apart 94 = .ok (.iload 5, 2) := dk_21 5 (dk_at dksX5_apart_4 0 rfl rfl)
theorem dX5_apart_96 : decode cX5_apart 96 = .ok (.iload 7, 2) := dk_21 7 (dk_at dksX5_apart_4 2 rfl rfl)
theorem dX5_apart_98 : decode cX5_apart 98 = .ok (.iload 6, 2) := dk_21 6 (dk_at dksX5_apart_4 4 rfl rfl)
theorem dX5_apart_100 : decode cX5_apart 100 = .ok (.aload_n 0, 1) := dk_42 (dk_at dksX5_apart_4 6 rfl rfl)
theorem dX5_apart_101 : decode cX5_apart 101 = .ok (.getfield 62, 3) := dk_180 0 62 (dk_at dksX5_apart_4 7 rfl rfl)
theorem dX5_apart_104 : decode cX5_apart 104 = .ok (.iload 5, 2) := dk_21 5 (dk_at dksX5_apart_4 10 rfl rfl)
theorem dX5_apart_106 : decode cX5_apart 106 = .ok (.iconst 1, 1) := dk_4 (dk_at dksX5_apart_4 12 rfl rfl)
theorem dX5_apart_107 : decode cX5_apart 107 = .ok (.isub, 1) := dk_100 (dk_at dksX5_apart_4 13 rfl rfl)
theorem dX5_apart_108 : decode cX5_apart 108 = .ok (.iaload, 1) := dk_46 (dk_at dksX5_apart_4 14 rfl rfl)
theorem dX5_apart_109 : decode cX5_apart 109 = .ok (.invokestatic 320, 3) := dk_184 1 64 (dk_at dksX5_apart_4 15 rfl rfl)
theorem dX5_apart_112 : decode cX5_apart 112 = .ok (.iconst 1, 1) := dk_4 (dk_at dksX5_apart_4 18 rfl rfl)
theorem dX5_apart_113 : decode cX5_apart 113 = .ok (.iadd, 1) := dk_96 (dk_at dksX5_apart_4 19 rfl rfl)
theorem dX5_apart_114 : decode cX5_apart 114 = .ok (.invokestatic 320, 3) := dk_184 1 64 (dk_at dksX5_apart_4 20 rfl rfl)
theorem dX5_apart_117 : decode cX5_apart 117 = .ok (.iastore, 1) := dk_79 (dk_at dksX5_apart_4 23 rfl rfl)
theorem dX5_apart_118 : decode cX5_apart 118 = .ok (.iload 6, 2) := dk_21 6 (dk_at dksX5_apart_5 0 rfl rfl)
theorem dX5_apart_120 : decode cX5_apart 120 = .ok (.istore 4, 2) := dk_54 4 (dk_at dksX5_apart_5 2 rfl rfl)
theorem dX5_apart_122 : decode cX5_apart 122 = .ok (.iinc 5 1, 3) := dk_132 5 1 (dk_at dksX5_apart_5 4 rfl rfl)
theorem dX5_apart_125 : decode cX5_apart 125 = .ok (.goto (-80), 3) := dk_167 255 176 (dk_at dksX5_apart_5 7 rfl rfl)
theorem dX5_apart_128 : decode cX5_apart 128 = .ok (.iinc 3 1, 3) := dk_132 3 1 (dk_at dksX5_apart_5 10 rfl rfl)
theorem dX5_apart_131 : decode cX5_apart 131 = .ok (.goto (-109), 3) := dk_167 255 147 (dk_at dksX5_apart_5 13 rfl rfl)
theorem dX5_apart_134 : decode cX5_apart 134 = .ok (.aload_n 0, 1) := dk_42 (dk_at dksX5_apart_5 16 rfl rfl)
theorem dX5_apart_135 : decode cX5_apart 135 = .ok (.getfield 62, 3) := dk_180 0 62 (dk_at dksX5_apart_5 17 rfl rfl)
theorem dX5_apart_138 : decode cX5_apart 138 = .ok (.iload_n 2, 1) := dk_28 (dk_at dksX5_apart_5 20 rfl rfl)
theorem dX5_apart_139 : decode cX5_apart 139 = .ok (.iaload, 1) := dk_46 (dk_at dksX5_apart_5 21 rfl rfl)
theorem dX5_apart_140 : decode cX5_apart 140 = .ok (.ireturn, 1) := dk_172 (dk_at dksX5_apart_5 22 rfl rfl)
abbrev cX5_lesser : ByteArray := prog_24_method_78_code
def yX5_lesser : MethodName := ⟨RX5, "lesser", "(II)I"⟩
def dkwX5_lesser_0 : List UInt8 := [26, 27, 162, 0, 7, 26, 167, 0, 4, 27, 172]
abbrev dktX5_lesser_0 : List UInt8 := dkwX5_lesser_0 ++ []
theorem dksX5_lesser_0 : cX5_lesser.data.toList.drop 0 = dktX5_lesser_0 := by decide +kernel
theorem dX5_lesser_0 : decode cX5_lesser 0 = .ok (.iload_n 0, 1) := dk_26 (dk_at dksX5_lesser_0 0 rfl rfl)
theorem dX5_lesser_1 : decode cX5_lesser 1 = .ok (.iload_n 1, 1) := dk_27 (dk_at dksX5_lesser_0 1 rfl rfl)
theorem dX5_lesser_2 : decode cX5_lesser 2 = .ok (.if_icmp .ge 7, 3) := dk_162 0 7 (dk_at dksX5_lesser_0 2 rfl rfl)
theorem dX5_lesser_5 : decode cX5_lesser 5 = .ok (.iload_n 0, 1) := dk_26 (dk_at dksX5_lesser_0 5 rfl rfl)
theorem dX5_lesser_6 : decode cX5_lesser 6 = .ok (.goto 4, 3) := dk_167 0 4 (dk_at dksX5_lesser_0 6 rfl rfl)
theorem dX5_lesser_9 : decode cX5_lesser 9 = .ok (.iload_n 1, 1) := dk_27 (dk_at dksX5_lesser_0 9 rfl rfl)
theorem dX5_lesser_10 : decode cX5_lesser 10 = .ok (.ireturn, 1) := dk_172 (dk_at dksX5_lesser_0 10 rfl rfl)
abbrev cX5_codes : ByteArray := prog_24_method_83_code
def yX5_codes : MethodName := ⟨RX5, "codes", "(III)I"⟩
def dkwX5_codes_7 : List UInt8 := [167, 255, 130, 29, 154, 0, 8, 21, 4, 167, 0, 5, 21, 5, 172]
abbrev dktX5_codes_7 : List UInt8 := dkwX5_codes_7 ++ []
def dkwX5_codes_6 : List UInt8 := [28, 21, 7, 21, 6, 182, 1, 69, 184, 1, 64, 54, 4, 132, 7, 1, 167, 255, 149, 132, 6, 1]
abbrev dktX5_codes_6 : List UInt8 := dkwX5_codes_6 ++ dktX5_codes_7
def dkwX5_codes_5 : List UInt8 := [159, 0, 37, 21, 4, 2, 160, 0, 15, 42, 28, 21, 7, 21, 6, 182, 1, 69, 167, 0, 17, 21, 4, 42]
abbrev dktX5_codes_5 : List UInt8 := dkwX5_codes_5 ++ dktX5_codes_6
def dkwX5_codes_4 : List UInt8 := [180, 0, 7, 42, 28, 21, 7, 182, 0, 215, 46, 42, 180, 0, 7, 42, 28, 21, 6, 182, 0, 215, 46]
abbrev dktX5_codes_4 : List UInt8 := dkwX5_codes_4 ++ dktX5_codes_5
def dkwX5_codes_3 : List UInt8 := [42, 28, 21, 6, 28, 21, 7, 182, 1, 72, 153, 0, 7, 4, 167, 0, 4, 3, 96, 54, 5, 42]
abbrev dktX5_codes_3 : List UInt8 := dkwX5_codes_3 ++ dktX5_codes_4
def dkwX5_codes_2 : List UInt8 := [54, 7, 21, 7, 21, 6, 162, 0, 106, 21, 5, 42, 28, 21, 7, 28, 21, 6, 182, 1, 72, 154, 0, 16]
abbrev dktX5_codes_2 : List UInt8 := dkwX5_codes_2 ++ dktX5_codes_3
def dkwX5_codes_1 : List UInt8 := [16, 254, 172, 2, 54, 4, 3, 54, 5, 4, 54, 6, 21, 6, 42, 28, 182, 0, 221, 162, 0, 122, 3]
abbrev dktX5_codes_1 : List UInt8 := dkwX5_codes_1 ++ dktX5_codes_2
def dkwX5_codes_0 : List UInt8 := [42, 27, 182, 0, 224, 153, 0, 19, 28, 184, 0, 218, 153, 0, 12, 29, 3, 4, 184, 0, 145, 154, 0, 6]
abbrev dktX5_codes_0 : List UInt8 := dkwX5_codes_0 ++ dktX5_codes_1
theorem dksX5_codes_0 : cX5_codes.data.toList.drop 0 = dktX5_codes_0 := by decide +kernel
theorem dksX5_codes_1 : cX5_codes.data.toList.drop 24 = dktX5_codes_1 := dk_seg dksX5_codes_0 24 rfl rfl
theorem dksX5_codes_2 : cX5_codes.data.toList.drop 47 = dktX5_codes_2 := dk_seg dksX5_codes_1 23 rfl rfl
theorem dksX5_codes_3 : cX5_codes.data.toList.drop 71 = dktX5_codes_3 := dk_seg dksX5_codes_2 24 rfl rfl
theorem dksX5_codes_4 : cX5_codes.data.toList.drop 93 = dktX5_codes_4 := dk_seg dksX5_codes_3 22 rfl rfl
theorem dksX5_codes_5 : cX5_codes.data.toList.drop 116 = dktX5_codes_5 := dk_seg dksX5_codes_4 23 rfl rfl
theorem dksX5_codes_6 : cX5_codes.data.toList.drop 140 = dktX5_codes_6 := dk_seg dksX5_codes_5 24 rfl rfl
theorem dksX5_codes_7 : cX5_codes.data.toList.drop 162 = dktX5_codes_7 := dk_seg dksX5_codes_6 22 rfl rfl
theorem dX5_codes_0 : decode cX5_codes 0 = .ok (.aload_n 0, 1) := dk_42 (dk_at dksX5_codes_0 0 rfl rfl)
theorem dX5_codes_1 : decode cX5_codes 1 = .ok (.iload_n 1, 1) := dk_27 (dk_at dksX5_codes_0 1 rfl rfl)
theorem dX5_codes_2 : decode cX5_codes 2 = .ok (.invokevirtual 224, 3) := dk_182 0 224 (dk_at dksX5_codes_0 2 rfl rfl)
theorem dX5_codes_5 : decode cX5_codes 5 = .ok (.ifCond .eq 19, 3) := dk_153 0 19 (dk_at dksX5_codes_0 5 rfl rfl)
theorem dX5_codes_8 : decode cX5_codes 8 = .ok (.iload_n 2, 1) := dk_28 (dk_at dksX5_codes_0 8 rfl rfl)
theorem dX5_codes_9 : decode cX5_codes 9 = .ok (.invokestatic 218, 3) := dk_184 0 218 (dk_at dksX5_codes_0 9 rfl rfl)
theorem dX5_codes_12 : decode cX5_codes 12 = .ok (.ifCond .eq 12, 3) := dk_153 0 12 (dk_at dksX5_codes_0 12 rfl rfl)
theorem dX5_codes_15 : decode cX5_codes 15 = .ok (.iload_n 3, 1) := dk_29 (dk_at dksX5_codes_0 15 rfl rfl)
theorem dX5_codes_16 : decode cX5_codes 16 = .ok (.iconst 0, 1) := dk_3 (dk_at dksX5_codes_0 16 rfl rfl)
theorem dX5_codes_17 : decode cX5_codes 17 = .ok (.iconst 1, 1) := dk_4 (dk_at dksX5_codes_0 17 rfl rfl)
theorem dX5_codes_18 : decode cX5_codes 18 = .ok (.invokestatic 145, 3) := dk_184 0 145 (dk_at dksX5_codes_0 18 rfl rfl)
theorem dX5_codes_21 : decode cX5_codes 21 = .ok (.ifCond .ne 6, 3) := dk_154 0 6 (dk_at dksX5_codes_0 21 rfl rfl)
theorem dX5_codes_24 : decode cX5_codes 24 = .ok (.bipush (-2), 2) := dk_16 254 (dk_at dksX5_codes_1 0 rfl rfl)
theorem dX5_codes_26 : decode cX5_codes 26 = .ok (.ireturn, 1) := dk_172 (dk_at dksX5_codes_1 2 rfl rfl)
theorem dX5_codes_27 : decode cX5_codes 27 = .ok (.iconst (-1), 1) := dk_2 (dk_at dksX5_codes_1 3 rfl rfl)
theorem dX5_codes_28 : decode cX5_codes 28 = .ok (.istore 4, 2) := dk_54 4 (dk_at dksX5_codes_1 4 rfl rfl)
theorem dX5_codes_30 : decode cX5_codes 30 = .ok (.iconst 0, 1) := dk_3 (dk_at dksX5_codes_1 6 rfl rfl)
theorem dX5_codes_31 : decode cX5_codes 31 = .ok (.istore 5, 2) := dk_54 5 (dk_at dksX5_codes_1 7 rfl rfl)
theorem dX5_codes_33 : decode cX5_codes 33 = .ok (.iconst 1, 1) := dk_4 (dk_at dksX5_codes_1 9 rfl rfl)
theorem dX5_codes_34 : decode cX5_codes 34 = .ok (.istore 6, 2) := dk_54 6 (dk_at dksX5_codes_1 10 rfl rfl)
theorem dX5_codes_36 : decode cX5_codes 36 = .ok (.iload 6, 2) := dk_21 6 (dk_at dksX5_codes_1 12 rfl rfl)
theorem dX5_codes_38 : decode cX5_codes 38 = .ok (.aload_n 0, 1) := dk_42 (dk_at dksX5_codes_1 14 rfl rfl)
theorem dX5_codes_39 : decode cX5_codes 39 = .ok (.iload_n 2, 1) := dk_28 (dk_at dksX5_codes_1 15 rfl rfl)
theorem dX5_codes_40 : decode cX5_codes 40 = .ok (.invokevirtual 221, 3) := dk_182 0 221 (dk_at dksX5_codes_1 16 rfl rfl)
theorem dX5_codes_43 : decode cX5_codes 43 = .ok (.if_icmp .ge 122, 3) := dk_162 0 122 (dk_at dksX5_codes_1 19 rfl rfl)
theorem dX5_codes_46 : decode cX5_codes 46 = .ok (.iconst 0, 1) := dk_3 (dk_at dksX5_codes_1 22 rfl rfl)
theorem dX5_codes_47 : decode cX5_codes 47 = .ok (.istore 7, 2) := dk_54 7 (dk_at dksX5_codes_2 0 rfl rfl)
theorem dX5_codes_49 : decode cX5_codes 49 = .ok (.iload 7, 2) := dk_21 7 (dk_at dksX5_codes_2 2 rfl rfl)
theorem dX5_codes_51 : decode cX5_codes 51 = .ok (.iload 6, 2) := dk_21 6 (dk_at dksX5_codes_2 4 rfl rfl)
theorem dX5_codes_53 : decode cX5_codes 53 = .ok (.if_icmp .ge 106, 3) := dk_162 0 106 (dk_at dksX5_codes_2 6 rfl rfl)
theorem dX5_codes_56 : decode cX5_codes 56 = .ok (.iload 5, 2) := dk_21 5 (dk_at dksX5_codes_2 9 rfl rfl)
theorem dX5_codes_58 : decode cX5_codes 58 = .ok (.aload_n 0, 1) := dk_42 (dk_at dksX5_codes_2 11 rfl rfl)
theorem dX5_codes_59 : decode cX5_codes 59 = .ok (.iload_n 2, 1) := dk_28 (dk_at dksX5_codes_2 12 rfl rfl)
theorem dX5_codes_60 : decode cX5_codes 60 = .ok (.iload 7, 2) := dk_21 7 (dk_at dksX5_codes_2 13 rfl rfl)
theorem dX5_codes_62 : decode cX5_codes 62 = .ok (.iload_n 2, 1) := dk_28 (dk_at dksX5_codes_2 15 rfl rfl)
theorem dX5_codes_63 : decode cX5_codes 63 = .ok (.iload 6, 2) := dk_21 6 (dk_at dksX5_codes_2 16 rfl rfl)
theorem dX5_codes_65 : decode cX5_codes 65 = .ok (.invokevirtual 328, 3) := dk_182 1 72 (dk_at dksX5_codes_2 18 rfl rfl)
theorem dX5_codes_68 : decode cX5_codes 68 = .ok (.ifCond .ne 16, 3) := dk_154 0 16 (dk_at dksX5_codes_2 21 rfl rfl)
theorem dX5_codes_71 : decode cX5_codes 71 = .ok (.aload_n 0, 1) := dk_42 (dk_at dksX5_codes_3 0 rfl rfl)
theorem dX5_codes_72 : decode cX5_codes 72 = .ok (.iload_n 2, 1) := dk_28 (dk_at dksX5_codes_3 1 rfl rfl)
theorem dX5_codes_73 : decode cX5_codes 73 = .ok (.iload 6, 2) := dk_21 6 (dk_at dksX5_codes_3 2 rfl rfl)
theorem dX5_codes_75 : decode cX5_codes 75 = .ok (.iload_n 2, 1) := dk_28 (dk_at dksX5_codes_3 4 rfl rfl)
theorem dX5_codes_76 : decode cX5_codes 76 = .ok (.iload 7, 2) := dk_21 7 (dk_at dksX5_codes_3 5 rfl rfl)
theorem dX5_codes_78 : decode cX5_codes 78 = .ok (.invokevirtual 328, 3) := dk_182 1 72 (dk_at dksX5_codes_3 7 rfl rfl)
theorem dX5_codes_81 : decode cX5_codes 81 = .ok (.ifCond .eq 7, 3) := dk_153 0 7 (dk_at dksX5_codes_3 10 rfl rfl)
theorem dX5_codes_84 : decode cX5_codes 84 = .ok (.iconst 1, 1) := dk_4 (dk_at dksX5_codes_3 13 rfl rfl)
theorem dX5_codes_85 : decode cX5_codes 85 = .ok (.goto 4, 3) := dk_167 0 4 (dk_at dksX5_codes_3 14 rfl rfl)
theorem dX5_codes_88 : decode cX5_codes 88 = .ok (.iconst 0, 1) := dk_3 (dk_at dksX5_codes_3 17 rfl rfl)
theorem dX5_codes_89 : decode cX5_codes 89 = .ok (.iadd, 1) := dk_96 (dk_at dksX5_codes_3 18 rfl rfl)
theorem dX5_codes_90 : decode cX5_codes 90 = .ok (.istore 5, 2) := dk_54 5 (dk_at dksX5_codes_3 19 rfl rfl)
theorem dX5_codes_92 : decode cX5_codes 92 = .ok (.aload_n 0, 1) := dk_42 (dk_at dksX5_codes_3 21 rfl rfl)
theorem dX5_codes_93 : decode cX5_codes 93 = .ok (.getfield 7, 3) := dk_180 0 7 (dk_at dksX5_codes_4 0 rfl rfl)
theorem dX5_codes_96 : decode cX5_codes 96 = .ok (.aload_n 0, 1) := dk_42 (dk_at dksX5_codes_4 3 rfl rfl)
theorem dX5_codes_97 : decode cX5_codes 97 = .ok (.iload_n 2, 1) := dk_28 (dk_at dksX5_codes_4 4 rfl rfl)
theorem dX5_codes_98 : decode cX5_codes 98 = .ok (.iload 7, 2) := dk_21 7 (dk_at dksX5_codes_4 5 rfl rfl)
theorem dX5_codes_100 : decode cX5_codes 100 = .ok (.invokevirtual 215, 3) := dk_182 0 215 (dk_at dksX5_codes_4 7 rfl rfl)
theorem dX5_codes_103 : decode cX5_codes 103 = .ok (.iaload, 1) := dk_46 (dk_at dksX5_codes_4 10 rfl rfl)
theorem dX5_codes_104 : decode cX5_codes 104 = .ok (.aload_n 0, 1) := dk_42 (dk_at dksX5_codes_4 11 rfl rfl)
theorem dX5_codes_105 : decode cX5_codes 105 = .ok (.getfield 7, 3) := dk_180 0 7 (dk_at dksX5_codes_4 12 rfl rfl)
theorem dX5_codes_108 : decode cX5_codes 108 = .ok (.aload_n 0, 1) := dk_42 (dk_at dksX5_codes_4 15 rfl rfl)
theorem dX5_codes_109 : decode cX5_codes 109 = .ok (.iload_n 2, 1) := dk_28 (dk_at dksX5_codes_4 16 rfl rfl)
theorem dX5_codes_110 : decode cX5_codes 110 = .ok (.iload 6, 2) := dk_21 6 (dk_at dksX5_codes_4 17 rfl rfl)
theorem dX5_codes_112 : decode cX5_codes 112 = .ok (.invokevirtual 215, 3) := dk_182 0 215 (dk_at dksX5_codes_4 19 rfl rfl)
theorem dX5_codes_115 : decode cX5_codes 115 = .ok (.iaload, 1) := dk_46 (dk_at dksX5_codes_4 22 rfl rfl)
theorem dX5_codes_116 : decode cX5_codes 116 = .ok (.if_icmp .eq 37, 3) := dk_159 0 37 (dk_at dksX5_codes_5 0 rfl rfl)
theorem dX5_codes_119 : decode cX5_codes 119 = .ok (.iload 4, 2) := dk_21 4 (dk_at dksX5_codes_5 3 rfl rfl)
theorem dX5_codes_121 : decode cX5_codes 121 = .ok (.iconst (-1), 1) := dk_2 (dk_at dksX5_codes_5 5 rfl rfl)
theorem dX5_codes_122 : decode cX5_codes 122 = .ok (.if_icmp .ne 15, 3) := dk_160 0 15 (dk_at dksX5_codes_5 6 rfl rfl)
theorem dX5_codes_125 : decode cX5_codes 125 = .ok (.aload_n 0, 1) := dk_42 (dk_at dksX5_codes_5 9 rfl rfl)
theorem dX5_codes_126 : decode cX5_codes 126 = .ok (.iload_n 2, 1) := dk_28 (dk_at dksX5_codes_5 10 rfl rfl)
theorem dX5_codes_127 : decode cX5_codes 127 = .ok (.iload 7, 2) := dk_21 7 (dk_at dksX5_codes_5 11 rfl rfl)
theorem dX5_codes_129 : decode cX5_codes 129 = .ok (.iload 6, 2) := dk_21 6 (dk_at dksX5_codes_5 13 rfl rfl)
theorem dX5_codes_131 : decode cX5_codes 131 = .ok (.invokevirtual 325, 3) := dk_182 1 69 (dk_at dksX5_codes_5 15 rfl rfl)
theorem dX5_codes_134 : decode cX5_codes 134 = .ok (.goto 17, 3) := dk_167 0 17 (dk_at dksX5_codes_5 18 rfl rfl)
theorem dX5_codes_137 : decode cX5_codes 137 = .ok (.iload 4, 2) := dk_21 4 (dk_at dksX5_codes_5 21 rfl rfl)
theorem dX5_codes_139 : decode cX5_codes 139 = .ok (.aload_n 0, 1) := dk_42 (dk_at dksX5_codes_5 23 rfl rfl)
theorem dX5_codes_140 : decode cX5_codes 140 = .ok (.iload_n 2, 1) := dk_28 (dk_at dksX5_codes_6 0 rfl rfl)
theorem dX5_codes_141 : decode cX5_codes 141 = .ok (.iload 7, 2) := dk_21 7 (dk_at dksX5_codes_6 1 rfl rfl)
theorem dX5_codes_143 : decode cX5_codes 143 = .ok (.iload 6, 2) := dk_21 6 (dk_at dksX5_codes_6 3 rfl rfl)
theorem dX5_codes_145 : decode cX5_codes 145 = .ok (.invokevirtual 325, 3) := dk_182 1 69 (dk_at dksX5_codes_6 5 rfl rfl)
theorem dX5_codes_148 : decode cX5_codes 148 = .ok (.invokestatic 320, 3) := dk_184 1 64 (dk_at dksX5_codes_6 8 rfl rfl)
theorem dX5_codes_151 : decode cX5_codes 151 = .ok (.istore 4, 2) := dk_54 4 (dk_at dksX5_codes_6 11 rfl rfl)
theorem dX5_codes_153 : decode cX5_codes 153 = .ok (.iinc 7 1, 3) := dk_132 7 1 (dk_at dksX5_codes_6 13 rfl rfl)
theorem dX5_codes_156 : decode cX5_codes 156 = .ok (.goto (-107), 3) := dk_167 255 149 (dk_at dksX5_codes_6 16 rfl rfl)
theorem dX5_codes_159 : decode cX5_codes 159 = .ok (.iinc 6 1, 3) := dk_132 6 1 (dk_at dksX5_codes_6 19 rfl rfl)
theorem dX5_codes_162 : decode cX5_codes 162 = .ok (.goto (-126), 3) := dk_167 255 130 (dk_at dksX5_codes_7 0 rfl rfl)
theorem dX5_codes_165 : decode cX5_codes 165 = .ok (.iload_n 3, 1) := dk_29 (dk_at dksX5_codes_7 3 rfl rfl)
theorem dX5_codes_166 : decode cX5_codes 166 = .ok (.ifCond .ne 8, 3) := dk_154 0 8 (dk_at dksX5_codes_7 4 rfl rfl)
theorem dX5_codes_169 : decode cX5_codes 169 = .ok (.iload 4, 2) := dk_21 4 (dk_at dksX5_codes_7 7 rfl rfl)
theorem dX5_codes_171 : decode cX5_codes 171 = .ok (.goto 5, 3) := dk_167 0 5 (dk_at dksX5_codes_7 9 rfl rfl)
theorem dX5_codes_174 : decode cX5_codes 174 = .ok (.iload 5, 2) := dk_21 5 (dk_at dksX5_codes_7 12 rfl rfl)
theorem dX5_codes_176 : decode cX5_codes 176 = .ok (.ireturn, 1) := dk_172 (dk_at dksX5_codes_7 14 rfl rfl)
abbrev cX5_beginsWith : ByteArray := prog_24_method_82_code
def yX5_beginsWith : MethodName := ⟨RX5, "beginsWith", "(IIII)Z"⟩
def dkwX5_beginsWith_3 : List UInt8 := [132, 6, 1, 167, 255, 209, 21, 5, 172]
abbrev dktX5_beginsWith_3 : List UInt8 := dkwX5_beginsWith_3 ++ []
def dkwX5_beginsWith_2 : List UInt8 := [182, 0, 233, 42, 29, 21, 4, 21, 6, 182, 0, 233, 160, 0, 7, 4, 167, 0, 4, 3, 54, 5]
abbrev dktX5_beginsWith_2 : List UInt8 := dkwX5_beginsWith_2 ++ dktX5_beginsWith_3
def dkwX5_beginsWith_1 : List UInt8 := [54, 6, 21, 6, 42, 29, 21, 4, 182, 0, 230, 162, 0, 41, 21, 5, 153, 0, 36, 42, 27, 28, 21, 6]
abbrev dktX5_beginsWith_1 : List UInt8 := dkwX5_beginsWith_1 ++ dktX5_beginsWith_2
def dkwX5_beginsWith_0 : List UInt8 := [42, 27, 28, 182, 0, 230, 42, 29, 21, 4, 182, 0, 230, 161, 0, 7, 4, 167, 0, 4, 3, 54, 5, 3]
abbrev dktX5_beginsWith_0 : List UInt8 := dkwX5_beginsWith_0 ++ dktX5_beginsWith_1
theorem dksX5_beginsWith_0 : cX5_beginsWith.data.toList.drop 0 = dktX5_beginsWith_0 := by decide +kernel
theorem dksX5_beginsWith_1 : cX5_beginsWith.data.toList.drop 24 = dktX5_beginsWith_1 := dk_seg dksX5_beginsWith_0 24 rfl rfl
theorem dksX5_beginsWith_2 : cX5_beginsWith.data.toList.drop 48 = dktX5_beginsWith_2 := dk_seg dksX5_beginsWith_1 24 rfl rfl
theorem dksX5_beginsWith_3 : cX5_beginsWith.data.toList.drop 70 = dktX5_beginsWith_3 := dk_seg dksX5_beginsWith_2 22 rfl rfl
theorem dX5_beginsWith_0 : decode cX5_beginsWith 0 = .ok (.aload_n 0, 1) := dk_42 (dk_at dksX5_beginsWith_0 0 rfl rfl)
theorem dX5_beginsWith_1 : decode cX5_beginsWith 1 = .ok (.iload_n 1, 1) := dk_27 (dk_at dksX5_beginsWith_0 1 rfl rfl)
theorem dX5_beginsWith_2 : decode cX5_beginsWith 2 = .ok (.iload_n 2, 1) := dk_28 (dk_at dksX5_beginsWith_0 2 rfl rfl)
theorem dX5_beginsWith_3 : decode cX5_beginsWith 3 = .ok (.invokevirtual 230, 3) := dk_182 0 230 (dk_at dksX5_beginsWith_0 3 rfl rfl)
theorem dX5_beginsWith_6 : decode cX5_beginsWith 6 = .ok (.aload_n 0, 1) := dk_42 (dk_at dksX5_beginsWith_0 6 rfl rfl)
theorem dX5_beginsWith_7 : decode cX5_beginsWith 7 = .ok (.iload_n 3, 1) := dk_29 (dk_at dksX5_beginsWith_0 7 rfl rfl)
theorem dX5_beginsWith_8 : decode cX5_beginsWith 8 = .ok (.iload 4, 2) := dk_21 4 (dk_at dksX5_beginsWith_0 8 rfl rfl)
theorem dX5_beginsWith_10 : decode cX5_beginsWith 10 = .ok (.invokevirtual 230, 3) := dk_182 0 230 (dk_at dksX5_beginsWith_0 10 rfl rfl)
theorem dX5_beginsWith_13 : decode cX5_beginsWith 13 = .ok (.if_icmp .lt 7, 3) := dk_161 0 7 (dk_at dksX5_beginsWith_0 13 rfl rfl)
theorem dX5_beginsWith_16 : decode cX5_beginsWith 16 = .ok (.iconst 1, 1) := dk_4 (dk_at dksX5_beginsWith_0 16 rfl rfl)
theorem dX5_beginsWith_17 : decode cX5_beginsWith 17 = .ok (.goto 4, 3) := dk_167 0 4 (dk_at dksX5_beginsWith_0 17 rfl rfl)
theorem dX5_beginsWith_20 : decode cX5_beginsWith 20 = .ok (.iconst 0, 1) := dk_3 (dk_at dksX5_beginsWith_0 20 rfl rfl)
theorem dX5_beginsWith_21 : decode cX5_beginsWith 21 = .ok (.istore 5, 2) := dk_54 5 (dk_at dksX5_beginsWith_0 21 rfl rfl)
theorem dX5_beginsWith_23 : decode cX5_beginsWith 23 = .ok (.iconst 0, 1) := dk_3 (dk_at dksX5_beginsWith_0 23 rfl rfl)
theorem dX5_beginsWith_24 : decode cX5_beginsWith 24 = .ok (.istore 6, 2) := dk_54 6 (dk_at dksX5_beginsWith_1 0 rfl rfl)
theorem dX5_beginsWith_26 : decode cX5_beginsWith 26 = .ok (.iload 6, 2) := dk_21 6 (dk_at dksX5_beginsWith_1 2 rfl rfl)
theorem dX5_beginsWith_28 : decode cX5_beginsWith 28 = .ok (.aload_n 0, 1) := dk_42 (dk_at dksX5_beginsWith_1 4 rfl rfl)
theorem dX5_beginsWith_29 : decode cX5_beginsWith 29 = .ok (.iload_n 3, 1) := dk_29 (dk_at dksX5_beginsWith_1 5 rfl rfl)
theorem dX5_beginsWith_30 : decode cX5_beginsWith 30 = .ok (.iload 4, 2) := dk_21 4 (dk_at dksX5_beginsWith_1 6 rfl rfl)
theorem dX5_beginsWith_32 : decode cX5_beginsWith 32 = .ok (.invokevirtual 230, 3) := dk_182 0 230 (dk_at dksX5_beginsWith_1 8 rfl rfl)
theorem dX5_beginsWith_35 : decode cX5_beginsWith 35 = .ok (.if_icmp .ge 41, 3) := dk_162 0 41 (dk_at dksX5_beginsWith_1 11 rfl rfl)
theorem dX5_beginsWith_38 : decode cX5_beginsWith 38 = .ok (.iload 5, 2) := dk_21 5 (dk_at dksX5_beginsWith_1 14 rfl rfl)
theorem dX5_beginsWith_40 : decode cX5_beginsWith 40 = .ok (.ifCond .eq 36, 3) := dk_153 0 36 (dk_at dksX5_beginsWith_1 16 rfl rfl)
theorem dX5_beginsWith_43 : decode cX5_beginsWith 43 = .ok (.aload_n 0, 1) := dk_42 (dk_at dksX5_beginsWith_1 19 rfl rfl)
theorem dX5_beginsWith_44 : decode cX5_beginsWith 44 = .ok (.iload_n 1, 1) := dk_27 (dk_at dksX5_beginsWith_1 20 rfl rfl)
theorem dX5_beginsWith_45 : decode cX5_beginsWith 45 = .ok (.iload_n 2, 1) := dk_28 (dk_at dksX5_beginsWith_1 21 rfl rfl)
theorem dX5_beginsWith_46 : decode cX5_beginsWith 46 = .ok (.iload 6, 2) := dk_21 6 (dk_at dksX5_beginsWith_1 22 rfl rfl)
theorem dX5_beginsWith_48 : decode cX5_beginsWith 48 = .ok (.invokevirtual 233, 3) := dk_182 0 233 (dk_at dksX5_beginsWith_2 0 rfl rfl)
theorem dX5_beginsWith_51 : decode cX5_beginsWith 51 = .ok (.aload_n 0, 1) := dk_42 (dk_at dksX5_beginsWith_2 3 rfl rfl)
theorem dX5_beginsWith_52 : decode cX5_beginsWith 52 = .ok (.iload_n 3, 1) := dk_29 (dk_at dksX5_beginsWith_2 4 rfl rfl)
theorem dX5_beginsWith_53 : decode cX5_beginsWith 53 = .ok (.iload 4, 2) := dk_21 4 (dk_at dksX5_beginsWith_2 5 rfl rfl)
theorem dX5_beginsWith_55 : decode cX5_beginsWith 55 = .ok (.iload 6, 2) := dk_21 6 (dk_at dksX5_beginsWith_2 7 rfl rfl)
theorem dX5_beginsWith_57 : decode cX5_beginsWith 57 = .ok (.invokevirtual 233, 3) := dk_182 0 233 (dk_at dksX5_beginsWith_2 9 rfl rfl)
theorem dX5_beginsWith_60 : decode cX5_beginsWith 60 = .ok (.if_icmp .ne 7, 3) := dk_160 0 7 (dk_at dksX5_beginsWith_2 12 rfl rfl)
theorem dX5_beginsWith_63 : decode cX5_beginsWith 63 = .ok (.iconst 1, 1) := dk_4 (dk_at dksX5_beginsWith_2 15 rfl rfl)
theorem dX5_beginsWith_64 : decode cX5_beginsWith 64 = .ok (.goto 4, 3) := dk_167 0 4 (dk_at dksX5_beginsWith_2 16 rfl rfl)
theorem dX5_beginsWith_67 : decode cX5_beginsWith 67 = .ok (.iconst 0, 1) := dk_3 (dk_at dksX5_beginsWith_2 19 rfl rfl)
theorem dX5_beginsWith_68 : decode cX5_beginsWith 68 = .ok (.istore 5, 2) := dk_54 5 (dk_at dksX5_beginsWith_2 20 rfl rfl)
theorem dX5_beginsWith_70 : decode cX5_beginsWith 70 = .ok (.iinc 6 1, 3) := dk_132 6 1 (dk_at dksX5_beginsWith_3 0 rfl rfl)
theorem dX5_beginsWith_73 : decode cX5_beginsWith 73 = .ok (.goto (-47), 3) := dk_167 255 209 (dk_at dksX5_beginsWith_3 3 rfl rfl)
theorem dX5_beginsWith_76 : decode cX5_beginsWith 76 = .ok (.iload 5, 2) := dk_21 5 (dk_at dksX5_beginsWith_3 6 rfl rfl)
theorem dX5_beginsWith_78 : decode cX5_beginsWith 78 = .ok (.ireturn, 1) := dk_172 (dk_at dksX5_beginsWith_3 8 rfl rfl)
abbrev cX5_shared : ByteArray := prog_24_method_84_code
def yX5_shared : MethodName := ⟨RX5, "shared", "(II)I"⟩
def dkwX5_shared_5 : List UInt8 := [2, 172]
abbrev dktX5_shared_5 : List UInt8 := dkwX5_shared_5 ++ []
def dkwX5_shared_4 : List UInt8 := [160, 0, 6, 21, 4, 172, 132, 3, 1, 132, 4, 1, 167, 255, 168, 28, 2, 160, 0, 7, 29, 167, 0, 4]
abbrev dktX5_shared_4 : List UInt8 := dkwX5_shared_4 ++ dktX5_shared_5
def dkwX5_shared_3 : List UInt8 := [182, 0, 230, 160, 0, 30, 42, 3, 21, 5, 4, 21, 6, 182, 1, 72, 154, 0, 6, 167, 0, 14, 29, 28]
abbrev dktX5_shared_3 : List UInt8 := dkwX5_shared_3 ++ dktX5_shared_4
def dkwX5_shared_2 : List UInt8 := [162, 0, 57, 21, 6, 42, 4, 182, 0, 221, 162, 0, 47, 42, 3, 21, 5, 182, 0, 230, 42, 4, 21, 6]
abbrev dktX5_shared_2 : List UInt8 := dkwX5_shared_2 ++ dktX5_shared_3
def dkwX5_shared_1 : List UInt8 := [162, 0, 87, 21, 4, 16, 6, 108, 54, 5, 21, 4, 16, 6, 112, 54, 6, 21, 5, 42, 3, 182, 0, 221]
abbrev dktX5_shared_1 : List UInt8 := dkwX5_shared_1 ++ dktX5_shared_2
def dkwX5_shared_0 : List UInt8 := [42, 27, 182, 0, 224, 153, 0, 8, 28, 2, 162, 0, 5, 2, 172, 3, 62, 3, 54, 4, 21, 4, 16, 36]
abbrev dktX5_shared_0 : List UInt8 := dkwX5_shared_0 ++ dktX5_shared_1
theorem dksX5_shared_0 : cX5_shared.data.toList.drop 0 = dktX5_shared_0 := by decide +kernel
theorem dksX5_shared_1 : cX5_shared.data.toList.drop 24 = dktX5_shared_1 := dk_seg dksX5_shared_0 24 rfl rfl
theorem dksX5_shared_2 : cX5_shared.data.toList.drop 48 = dktX5_shared_2 := dk_seg dksX5_shared_1 24 rfl rfl
theorem dksX5_shared_3 : cX5_shared.data.toList.drop 72 = dktX5_shared_3 := dk_seg dksX5_shared_2 24 rfl rfl
theorem dksX5_shared_4 : cX5_shared.data.toList.drop 96 = dktX5_shared_4 := dk_seg dksX5_shared_3 24 rfl rfl
theorem dksX5_shared_5 : cX5_shared.data.toList.drop 120 = dktX5_shared_5 := dk_seg dksX5_shared_4 24 rfl rfl
theorem dX5_shared_0 : decode cX5_shared 0 = .ok (.aload_n 0, 1) := dk_42 (dk_at dksX5_shared_0 0 rfl rfl)
theorem dX5_shared_1 : decode cX5_shared 1 = .ok (.iload_n 1, 1) := dk_27 (dk_at dksX5_shared_0 1 rfl rfl)
theorem dX5_shared_2 : decode cX5_shared 2 = .ok (.invokevirtual 224, 3) := dk_182 0 224 (dk_at dksX5_shared_0 2 rfl rfl)
theorem dX5_shared_5 : decode cX5_shared 5 = .ok (.ifCond .eq 8, 3) := dk_153 0 8 (dk_at dksX5_shared_0 5 rfl rfl)
theorem dX5_shared_8 : decode cX5_shared 8 = .ok (.iload_n 2, 1) := dk_28 (dk_at dksX5_shared_0 8 rfl rfl)
theorem dX5_shared_9 : decode cX5_shared 9 = .ok (.iconst (-1), 1) := dk_2 (dk_at dksX5_shared_0 9 rfl rfl)
theorem dX5_shared_10 : decode cX5_shared 10 = .ok (.if_icmp .ge 5, 3) := dk_162 0 5 (dk_at dksX5_shared_0 10 rfl rfl)
theorem dX5_shared_13 : decode cX5_shared 13 = .ok (.iconst (-1), 1) := dk_2 (dk_at dksX5_shared_0 13 rfl rfl)
theorem dX5_shared_14 : decode cX5_shared 14 = .ok (.ireturn, 1) := dk_172 (dk_at dksX5_shared_0 14 rfl rfl)
theorem dX5_shared_15 : decode cX5_shared 15 = .ok (.iconst 0, 1) := dk_3 (dk_at dksX5_shared_0 15 rfl rfl)
theorem dX5_shared_16 : decode cX5_shared 16 = .ok (.istore_n 3, 1) := dk_62 (dk_at dksX5_shared_0 16 rfl rfl)
theorem dX5_shared_17 : decode cX5_shared 17 = .ok (.iconst 0, 1) := dk_3 (dk_at dksX5_shared_0 17 rfl rfl)
theorem dX5_shared_18 : decode cX5_shared 18 = .ok (.istore 4, 2) := dk_54 4 (dk_at dksX5_shared_0 18 rfl rfl)
theorem dX5_shared_20 : decode cX5_shared 20 = .ok (.iload 4, 2) := dk_21 4 (dk_at dksX5_shared_0 20 rfl rfl)
theorem dX5_shared_22 : decode cX5_shared 22 = .ok (.bipush 36, 2) := dk_16 36 (dk_at dksX5_shared_0 22 rfl rfl)
theorem dX5_shared_24 : decode cX5_shared 24 = .ok (.if_icmp .ge 87, 3) := dk_162 0 87 (dk_at dksX5_shared_1 0 rfl rfl)
theorem dX5_shared_27 : decode cX5_shared 27 = .ok (.iload 4, 2) := dk_21 4 (dk_at dksX5_shared_1 3 rfl rfl)
theorem dX5_shared_29 : decode cX5_shared 29 = .ok (.bipush 6, 2) := dk_16 6 (dk_at dksX5_shared_1 5 rfl rfl)
theorem dX5_shared_31 : decode cX5_shared 31 = .ok (.idiv, 1) := dk_108 (dk_at dksX5_shared_1 7 rfl rfl)
theorem dX5_shared_32 : decode cX5_shared 32 = .ok (.istore 5, 2) := dk_54 5 (dk_at dksX5_shared_1 8 rfl rfl)
theorem dX5_shared_34 : decode cX5_shared 34 = .ok (.iload 4, 2) := dk_21 4 (dk_at dksX5_shared_1 10 rfl rfl)
theorem dX5_shared_36 : decode cX5_shared 36 = .ok (.bipush 6, 2) := dk_16 6 (dk_at dksX5_shared_1 12 rfl rfl)
theorem dX5_shared_38 : decode cX5_shared 38 = .ok (.irem, 1) := dk_112 (dk_at dksX5_shared_1 14 rfl rfl)
theorem dX5_shared_39 : decode cX5_shared 39 = .ok (.istore 6, 2) := dk_54 6 (dk_at dksX5_shared_1 15 rfl rfl)
theorem dX5_shared_41 : decode cX5_shared 41 = .ok (.iload 5, 2) := dk_21 5 (dk_at dksX5_shared_1 17 rfl rfl)
theorem dX5_shared_43 : decode cX5_shared 43 = .ok (.aload_n 0, 1) := dk_42 (dk_at dksX5_shared_1 19 rfl rfl)
theorem dX5_shared_44 : decode cX5_shared 44 = .ok (.iconst 0, 1) := dk_3 (dk_at dksX5_shared_1 20 rfl rfl)
theorem dX5_shared_45 : decode cX5_shared 45 = .ok (.invokevirtual 221, 3) := dk_182 0 221 (dk_at dksX5_shared_1 21 rfl rfl)
theorem dX5_shared_48 : decode cX5_shared 48 = .ok (.if_icmp .ge 57, 3) := dk_162 0 57 (dk_at dksX5_shared_2 0 rfl rfl)
theorem dX5_shared_51 : decode cX5_shared 51 = .ok (.iload 6, 2) := dk_21 6 (dk_at dksX5_shared_2 3 rfl rfl)
theorem dX5_shared_53 : decode cX5_shared 53 = .ok (.aload_n 0, 1) := dk_42 (dk_at dksX5_shared_2 5 rfl rfl)
theorem dX5_shared_54 : decode cX5_shared 54 = .ok (.iconst 1, 1) := dk_4 (dk_at dksX5_shared_2 6 rfl rfl)
theorem dX5_shared_55 : decode cX5_shared 55 = .ok (.invokevirtual 221, 3) := dk_182 0 221 (dk_at dksX5_shared_2 7 rfl rfl)
theorem dX5_shared_58 : decode cX5_shared 58 = .ok (.if_icmp .ge 47, 3) := dk_162 0 47 (dk_at dksX5_shared_2 10 rfl rfl)
theorem dX5_shared_61 : decode cX5_shared 61 = .ok (.aload_n 0, 1) := dk_42 (dk_at dksX5_shared_2 13 rfl rfl)
theorem dX5_shared_62 : decode cX5_shared 62 = .ok (.iconst 0, 1) := dk_3 (dk_at dksX5_shared_2 14 rfl rfl)
theorem dX5_shared_63 : decode cX5_shared 63 = .ok (.iload 5, 2) := dk_21 5 (dk_at dksX5_shared_2 15 rfl rfl)
theorem dX5_shared_65 : decode cX5_shared 65 = .ok (.invokevirtual 230, 3) := dk_182 0 230 (dk_at dksX5_shared_2 17 rfl rfl)
theorem dX5_shared_68 : decode cX5_shared 68 = .ok (.aload_n 0, 1) := dk_42 (dk_at dksX5_shared_2 20 rfl rfl)
theorem dX5_shared_69 : decode cX5_shared 69 = .ok (.iconst 1, 1) := dk_4 (dk_at dksX5_shared_2 21 rfl rfl)
theorem dX5_shared_70 : decode cX5_shared 70 = .ok (.iload 6, 2) := dk_21 6 (dk_at dksX5_shared_2 22 rfl rfl)
theorem dX5_shared_72 : decode cX5_shared 72 = .ok (.invokevirtual 230, 3) := dk_182 0 230 (dk_at dksX5_shared_3 0 rfl rfl)
theorem dX5_shared_75 : decode cX5_shared 75 = .ok (.if_icmp .ne 30, 3) := dk_160 0 30 (dk_at dksX5_shared_3 3 rfl rfl)
theorem dX5_shared_78 : decode cX5_shared 78 = .ok (.aload_n 0, 1) := dk_42 (dk_at dksX5_shared_3 6 rfl rfl)
theorem dX5_shared_79 : decode cX5_shared 79 = .ok (.iconst 0, 1) := dk_3 (dk_at dksX5_shared_3 7 rfl rfl)
theorem dX5_shared_80 : decode cX5_shared 80 = .ok (.iload 5, 2) := dk_21 5 (dk_at dksX5_shared_3 8 rfl rfl)
theorem dX5_shared_82 : decode cX5_shared 82 = .ok (.iconst 1, 1) := dk_4 (dk_at dksX5_shared_3 10 rfl rfl)
theorem dX5_shared_83 : decode cX5_shared 83 = .ok (.iload 6, 2) := dk_21 6 (dk_at dksX5_shared_3 11 rfl rfl)
theorem dX5_shared_85 : decode cX5_shared 85 = .ok (.invokevirtual 328, 3) := dk_182 1 72 (dk_at dksX5_shared_3 13 rfl rfl)
theorem dX5_shared_88 : decode cX5_shared 88 = .ok (.ifCond .ne 6, 3) := dk_154 0 6 (dk_at dksX5_shared_3 16 rfl rfl)
theorem dX5_shared_91 : decode cX5_shared 91 = .ok (.goto 14, 3) := dk_167 0 14 (dk_at dksX5_shared_3 19 rfl rfl)
theorem dX5_shared_94 : decode cX5_shared 94 = .ok (.iload_n 3, 1) := dk_29 (dk_at dksX5_shared_3 22 rfl rfl)
theorem dX5_shared_95 : decode cX5_shared 95 = .ok (.iload_n 2, 1) := dk_28 (dk_at dksX5_shared_3 23 rfl rfl)
theorem dX5_shared_96 : decode cX5_shared 96 = .ok (.if_icmp .ne 6, 3) := dk_160 0 6 (dk_at dksX5_shared_4 0 rfl rfl)
theorem dX5_shared_99 : decode cX5_shared 99 = .ok (.iload 4, 2) := dk_21 4 (dk_at dksX5_shared_4 3 rfl rfl)
theorem dX5_shared_101 : decode cX5_shared 101 = .ok (.ireturn, 1) := dk_172 (dk_at dksX5_shared_4 5 rfl rfl)
theorem dX5_shared_102 : decode cX5_shared 102 = .ok (.iinc 3 1, 3) := dk_132 3 1 (dk_at dksX5_shared_4 6 rfl rfl)
theorem dX5_shared_105 : decode cX5_shared 105 = .ok (.iinc 4 1, 3) := dk_132 4 1 (dk_at dksX5_shared_4 9 rfl rfl)
theorem dX5_shared_108 : decode cX5_shared 108 = .ok (.goto (-88), 3) := dk_167 255 168 (dk_at dksX5_shared_4 12 rfl rfl)
theorem dX5_shared_111 : decode cX5_shared 111 = .ok (.iload_n 2, 1) := dk_28 (dk_at dksX5_shared_4 15 rfl rfl)
theorem dX5_shared_112 : decode cX5_shared 112 = .ok (.iconst (-1), 1) := dk_2 (dk_at dksX5_shared_4 16 rfl rfl)
theorem dX5_shared_113 : decode cX5_shared 113 = .ok (.if_icmp .ne 7, 3) := dk_160 0 7 (dk_at dksX5_shared_4 17 rfl rfl)
theorem dX5_shared_116 : decode cX5_shared 116 = .ok (.iload_n 3, 1) := dk_29 (dk_at dksX5_shared_4 20 rfl rfl)
theorem dX5_shared_117 : decode cX5_shared 117 = .ok (.goto 4, 3) := dk_167 0 4 (dk_at dksX5_shared_4 21 rfl rfl)
theorem dX5_shared_120 : decode cX5_shared 120 = .ok (.iconst (-1), 1) := dk_2 (dk_at dksX5_shared_5 0 rfl rfl)
theorem dX5_shared_121 : decode cX5_shared 121 = .ok (.ireturn, 1) := dk_172 (dk_at dksX5_shared_5 1 rfl rfl)
abbrev cX5_village : ByteArray := prog_24_method_88_code
def yX5_village : MethodName := ⟨RX5, "village", "(III)I"⟩
def dkwX5_village_3 : List UInt8 := [167, 0, 18, 29, 7, 160, 0, 11, 42, 28, 182, 1, 84, 167, 0, 5, 16, 254, 172]
abbrev dktX5_village_3 : List UInt8 := dkwX5_village_3 ++ []
def dkwX5_village_2 : List UInt8 := [184, 0, 145, 154, 0, 6, 16, 254, 172, 29, 3, 6, 184, 0, 145, 153, 0, 12, 42, 28, 29, 182, 1, 78]
abbrev dktX5_village_2 : List UInt8 := dkwX5_village_2 ++ dktX5_village_3
def dkwX5_village_1 : List UInt8 := [42, 180, 1, 75, 46, 167, 0, 5, 16, 254, 172, 28, 3, 42, 180, 0, 7, 42, 180, 1, 75, 46, 4, 100]
abbrev dktX5_village_1 : List UInt8 := dkwX5_village_1 ++ dktX5_village_2
def dkwX5_village_0 : List UInt8 := [42, 27, 182, 1, 81, 154, 0, 6, 16, 254, 172, 28, 2, 160, 0, 22, 29, 154, 0, 15, 42, 180, 0, 7]
abbrev dktX5_village_0 : List UInt8 := dkwX5_village_0 ++ dktX5_village_1
theorem dksX5_village_0 : cX5_village.data.toList.drop 0 = dktX5_village_0 := by decide +kernel
theorem dksX5_village_1 : cX5_village.data.toList.drop 24 = dktX5_village_1 := dk_seg dksX5_village_0 24 rfl rfl
theorem dksX5_village_2 : cX5_village.data.toList.drop 48 = dktX5_village_2 := dk_seg dksX5_village_1 24 rfl rfl
theorem dksX5_village_3 : cX5_village.data.toList.drop 72 = dktX5_village_3 := dk_seg dksX5_village_2 24 rfl rfl
theorem dX5_village_0 : decode cX5_village 0 = .ok (.aload_n 0, 1) := dk_42 (dk_at dksX5_village_0 0 rfl rfl)
theorem dX5_village_1 : decode cX5_village 1 = .ok (.iload_n 1, 1) := dk_27 (dk_at dksX5_village_0 1 rfl rfl)
theorem dX5_village_2 : decode cX5_village 2 = .ok (.invokevirtual 337, 3) := dk_182 1 81 (dk_at dksX5_village_0 2 rfl rfl)
theorem dX5_village_5 : decode cX5_village 5 = .ok (.ifCond .ne 6, 3) := dk_154 0 6 (dk_at dksX5_village_0 5 rfl rfl)
theorem dX5_village_8 : decode cX5_village 8 = .ok (.bipush (-2), 2) := dk_16 254 (dk_at dksX5_village_0 8 rfl rfl)
theorem dX5_village_10 : decode cX5_village 10 = .ok (.ireturn, 1) := dk_172 (dk_at dksX5_village_0 10 rfl rfl)
theorem dX5_village_11 : decode cX5_village 11 = .ok (.iload_n 2, 1) := dk_28 (dk_at dksX5_village_0 11 rfl rfl)
theorem dX5_village_12 : decode cX5_village 12 = .ok (.iconst (-1), 1) := dk_2 (dk_at dksX5_village_0 12 rfl rfl)
theorem dX5_village_13 : decode cX5_village 13 = .ok (.if_icmp .ne 22, 3) := dk_160 0 22 (dk_at dksX5_village_0 13 rfl rfl)
theorem dX5_village_16 : decode cX5_village 16 = .ok (.iload_n 3, 1) := dk_29 (dk_at dksX5_village_0 16 rfl rfl)
theorem dX5_village_17 : decode cX5_village 17 = .ok (.ifCond .ne 15, 3) := dk_154 0 15 (dk_at dksX5_village_0 17 rfl rfl)
theorem dX5_village_20 : decode cX5_village 20 = .ok (.aload_n 0, 1) := dk_42 (dk_at dksX5_village_0 20 rfl rfl)
theorem dX5_village_21 : decode cX5_village 21 = .ok (.getfield 7, 3) := dk_180 0 7 (dk_at dksX5_village_0 21 rfl rfl)
theorem dX5_village_24 : decode cX5_village 24 = .ok (.aload_n 0, 1) := dk_42 (dk_at dksX5_village_1 0 rfl rfl)
theorem dX5_village_25 : decode cX5_village 25 = .ok (.getfield 331, 3) := dk_180 1 75 (dk_at dksX5_village_1 1 rfl rfl)
theorem dX5_village_28 : decode cX5_village 28 = .ok (.iaload, 1) := dk_46 (dk_at dksX5_village_1 4 rfl rfl)
theorem dX5_village_29 : decode cX5_village 29 = .ok (.goto 5, 3) := dk_167 0 5 (dk_at dksX5_village_1 5 rfl rfl)
theorem dX5_village_32 : decode cX5_village 32 = .ok (.bipush (-2), 2) := dk_16 254 (dk_at dksX5_village_1 8 rfl rfl)
theorem dX5_village_34 : decode cX5_village 34 = .ok (.ireturn, 1) := dk_172 (dk_at dksX5_village_1 10 rfl rfl)
theorem dX5_village_35 : decode cX5_village 35 = .ok (.iload_n 2, 1) := dk_28 (dk_at dksX5_village_1 11 rfl rfl)
theorem dX5_village_36 : decode cX5_village 36 = .ok (.iconst 0, 1) := dk_3 (dk_at dksX5_village_1 12 rfl rfl)
theorem dX5_village_37 : decode cX5_village 37 = .ok (.aload_n 0, 1) := dk_42 (dk_at dksX5_village_1 13 rfl rfl)
theorem dX5_village_38 : decode cX5_village 38 = .ok (.getfield 7, 3) := dk_180 0 7 (dk_at dksX5_village_1 14 rfl rfl)
theorem dX5_village_41 : decode cX5_village 41 = .ok (.aload_n 0, 1) := dk_42 (dk_at dksX5_village_1 17 rfl rfl)
theorem dX5_village_42 : decode cX5_village 42 = .ok (.getfield 331, 3) := dk_180 1 75 (dk_at dksX5_village_1 18 rfl rfl)
theorem dX5_village_45 : decode cX5_village 45 = .ok (.iaload, 1) := dk_46 (dk_at dksX5_village_1 21 rfl rfl)
theorem dX5_village_46 : decode cX5_village 46 = .ok (.iconst 1, 1) := dk_4 (dk_at dksX5_village_1 22 rfl rfl)
theorem dX5_village_47 : decode cX5_village 47 = .ok (.isub, 1) := dk_100 (dk_at dksX5_village_1 23 rfl rfl)
theorem dX5_village_48 : decode cX5_village 48 = .ok (.invokestatic 145, 3) := dk_184 0 145 (dk_at dksX5_village_2 0 rfl rfl)
theorem dX5_village_51 : decode cX5_village 51 = .ok (.ifCond .ne 6, 3) := dk_154 0 6 (dk_at dksX5_village_2 3 rfl rfl)
theorem dX5_village_54 : decode cX5_village 54 = .ok (.bipush (-2), 2) := dk_16 254 (dk_at dksX5_village_2 6 rfl rfl)
theorem dX5_village_56 : decode cX5_village 56 = .ok (.ireturn, 1) := dk_172 (dk_at dksX5_village_2 8 rfl rfl)
theorem dX5_village_57 : decode cX5_village 57 = .ok (.iload_n 3, 1) := dk_29 (dk_at dksX5_village_2 9 rfl rfl)
theorem dX5_village_58 : decode cX5_village 58 = .ok (.iconst 0, 1) := dk_3 (dk_at dksX5_village_2 10 rfl rfl)
theorem dX5_village_59 : decode cX5_village 59 = .ok (.iconst 3, 1) := dk_6 (dk_at dksX5_village_2 11 rfl rfl)
theorem dX5_village_60 : decode cX5_village 60 = .ok (.invokestatic 145, 3) := dk_184 0 145 (dk_at dksX5_village_2 12 rfl rfl)
theorem dX5_village_63 : decode cX5_village 63 = .ok (.ifCond .eq 12, 3) := dk_153 0 12 (dk_at dksX5_village_2 15 rfl rfl)
theorem dX5_village_66 : decode cX5_village 66 = .ok (.aload_n 0, 1) := dk_42 (dk_at dksX5_village_2 18 rfl rfl)
theorem dX5_village_67 : decode cX5_village 67 = .ok (.iload_n 2, 1) := dk_28 (dk_at dksX5_village_2 19 rfl rfl)
theorem dX5_village_68 : decode cX5_village 68 = .ok (.iload_n 3, 1) := dk_29 (dk_at dksX5_village_2 20 rfl rfl)
theorem dX5_village_69 : decode cX5_village 69 = .ok (.invokevirtual 334, 3) := dk_182 1 78 (dk_at dksX5_village_2 21 rfl rfl)
theorem dX5_village_72 : decode cX5_village 72 = .ok (.goto 18, 3) := dk_167 0 18 (dk_at dksX5_village_3 0 rfl rfl)
theorem dX5_village_75 : decode cX5_village 75 = .ok (.iload_n 3, 1) := dk_29 (dk_at dksX5_village_3 3 rfl rfl)
theorem dX5_village_76 : decode cX5_village 76 = .ok (.iconst 4, 1) := dk_7 (dk_at dksX5_village_3 4 rfl rfl)
theorem dX5_village_77 : decode cX5_village 77 = .ok (.if_icmp .ne 11, 3) := dk_160 0 11 (dk_at dksX5_village_3 5 rfl rfl)
theorem dX5_village_80 : decode cX5_village 80 = .ok (.aload_n 0, 1) := dk_42 (dk_at dksX5_village_3 8 rfl rfl)
theorem dX5_village_81 : decode cX5_village 81 = .ok (.iload_n 2, 1) := dk_28 (dk_at dksX5_village_3 9 rfl rfl)
theorem dX5_village_82 : decode cX5_village 82 = .ok (.invokevirtual 340, 3) := dk_182 1 84 (dk_at dksX5_village_3 10 rfl rfl)
theorem dX5_village_85 : decode cX5_village 85 = .ok (.goto 5, 3) := dk_167 0 5 (dk_at dksX5_village_3 13 rfl rfl)
theorem dX5_village_88 : decode cX5_village 88 = .ok (.bipush (-2), 2) := dk_16 254 (dk_at dksX5_village_3 16 rfl rfl)
theorem dX5_village_90 : decode cX5_village 90 = .ok (.ireturn, 1) := dk_172 (dk_at dksX5_village_3 18 rfl rfl)
abbrev cX5_areVillages : ByteArray := prog_24_method_86_code
def yX5_areVillages : MethodName := ⟨RX5, "areVillages", "(I)Z"⟩
def dkwX5_areVillages_0 : List UInt8 := [42, 6, 27, 182, 0, 183, 154, 0, 5, 3, 172, 42, 6, 27, 184, 0, 206, 181, 1, 75, 4, 172]
abbrev dktX5_areVillages_0 : List UInt8 := dkwX5_areVillages_0 ++ []
theorem dksX5_areVillages_0 : cX5_areVillages.data.toList.drop 0 = dktX5_areVillages_0 := by decide +kernel
theorem dX5_areVillages_0 : decode cX5_areVillages 0 = .ok (.aload_n 0, 1) := dk_42 (dk_at dksX5_areVillages_0 0 rfl rfl)
theorem dX5_areVillages_1 : decode cX5_areVillages 1 = .ok (.iconst 3, 1) := dk_6 (dk_at dksX5_areVillages_0 1 rfl rfl)
theorem dX5_areVillages_2 : decode cX5_areVillages 2 = .ok (.iload_n 1, 1) := dk_27 (dk_at dksX5_areVillages_0 2 rfl rfl)
theorem dX5_areVillages_3 : decode cX5_areVillages 3 = .ok (.invokevirtual 183, 3) := dk_182 0 183 (dk_at dksX5_areVillages_0 3 rfl rfl)
theorem dX5_areVillages_6 : decode cX5_areVillages 6 = .ok (.ifCond .ne 5, 3) := dk_154 0 5 (dk_at dksX5_areVillages_0 6 rfl rfl)
theorem dX5_areVillages_9 : decode cX5_areVillages 9 = .ok (.iconst 0, 1) := dk_3 (dk_at dksX5_areVillages_0 9 rfl rfl)
theorem dX5_areVillages_10 : decode cX5_areVillages 10 = .ok (.ireturn, 1) := dk_172 (dk_at dksX5_areVillages_0 10 rfl rfl)
theorem dX5_areVillages_11 : decode cX5_areVillages 11 = .ok (.aload_n 0, 1) := dk_42 (dk_at dksX5_areVillages_0 11 rfl rfl)
theorem dX5_areVillages_12 : decode cX5_areVillages 12 = .ok (.iconst 3, 1) := dk_6 (dk_at dksX5_areVillages_0 12 rfl rfl)
theorem dX5_areVillages_13 : decode cX5_areVillages 13 = .ok (.iload_n 1, 1) := dk_27 (dk_at dksX5_areVillages_0 13 rfl rfl)
theorem dX5_areVillages_14 : decode cX5_areVillages 14 = .ok (.invokestatic 206, 3) := dk_184 0 206 (dk_at dksX5_areVillages_0 14 rfl rfl)
theorem dX5_areVillages_17 : decode cX5_areVillages 17 = .ok (.putfield 331, 3) := dk_181 1 75 (dk_at dksX5_areVillages_0 17 rfl rfl)
theorem dX5_areVillages_20 : decode cX5_areVillages 20 = .ok (.iconst 1, 1) := dk_4 (dk_at dksX5_areVillages_0 20 rfl rfl)
theorem dX5_areVillages_21 : decode cX5_areVillages 21 = .ok (.ireturn, 1) := dk_172 (dk_at dksX5_areVillages_0 21 rfl rfl)
abbrev cX5_villageOf : ByteArray := prog_24_method_85_code
def yX5_villageOf : MethodName := ⟨RX5, "villageOf", "(II)I"⟩
def dkwX5_villageOf_0 : List UInt8 := [42, 180, 0, 7, 42, 180, 1, 75, 4, 96, 7, 27, 104, 96, 28, 96, 46, 172]
abbrev dktX5_villageOf_0 : List UInt8 := dkwX5_villageOf_0 ++ []
theorem dksX5_villageOf_0 : cX5_villageOf.data.toList.drop 0 = dktX5_villageOf_0 := by decide +kernel
theorem dX5_villageOf_0 : decode cX5_villageOf 0 = .ok (.aload_n 0, 1) := dk_42 (dk_at dksX5_villageOf_0 0 rfl rfl)
theorem dX5_villageOf_1 : decode cX5_villageOf 1 = .ok (.getfield 7, 3) := dk_180 0 7 (dk_at dksX5_villageOf_0 1 rfl rfl)
theorem dX5_villageOf_4 : decode cX5_villageOf 4 = .ok (.aload_n 0, 1) := dk_42 (dk_at dksX5_villageOf_0 4 rfl rfl)
theorem dX5_villageOf_5 : decode cX5_villageOf 5 = .ok (.getfield 331, 3) := dk_180 1 75 (dk_at dksX5_villageOf_0 5 rfl rfl)
theorem dX5_villageOf_8 : decode cX5_villageOf 8 = .ok (.iconst 1, 1) := dk_4 (dk_at dksX5_villageOf_0 8 rfl rfl)
theorem dX5_villageOf_9 : decode cX5_villageOf 9 = .ok (.iadd, 1) := dk_96 (dk_at dksX5_villageOf_0 9 rfl rfl)
theorem dX5_villageOf_10 : decode cX5_villageOf 10 = .ok (.iconst 4, 1) := dk_7 (dk_at dksX5_villageOf_0 10 rfl rfl)
theorem dX5_villageOf_11 : decode cX5_villageOf 11 = .ok (.iload_n 1, 1) := dk_27 (dk_at dksX5_villageOf_0 11 rfl rfl)
theorem dX5_villageOf_12 : decode cX5_villageOf 12 = .ok (.imul, 1) := dk_104 (dk_at dksX5_villageOf_0 12 rfl rfl)
theorem dX5_villageOf_13 : decode cX5_villageOf 13 = .ok (.iadd, 1) := dk_96 (dk_at dksX5_villageOf_0 13 rfl rfl)
theorem dX5_villageOf_14 : decode cX5_villageOf 14 = .ok (.iload_n 2, 1) := dk_28 (dk_at dksX5_villageOf_0 14 rfl rfl)
theorem dX5_villageOf_15 : decode cX5_villageOf 15 = .ok (.iadd, 1) := dk_96 (dk_at dksX5_villageOf_0 15 rfl rfl)
theorem dX5_villageOf_16 : decode cX5_villageOf 16 = .ok (.iaload, 1) := dk_46 (dk_at dksX5_villageOf_0 16 rfl rfl)
theorem dX5_villageOf_17 : decode cX5_villageOf 17 = .ok (.ireturn, 1) := dk_172 (dk_at dksX5_villageOf_0 17 rfl rfl)
abbrev cX5_depthOf : ByteArray := prog_24_method_87_code
def yX5_depthOf : MethodName := ⟨RX5, "depthOf", "(I)I"⟩
def dkwX5_depthOf_1 : List UInt8 := [62, 167, 255, 240, 28, 172]
abbrev dktX5_depthOf_1 : List UInt8 := dkwX5_depthOf_1 ++ []
def dkwX5_depthOf_0 : List UInt8 := [4, 61, 42, 27, 3, 182, 1, 78, 62, 29, 16, 8, 159, 0, 16, 132, 2, 1, 42, 29, 3, 182, 1, 78]
abbrev dktX5_depthOf_0 : List UInt8 := dkwX5_depthOf_0 ++ dktX5_depthOf_1
theorem dksX5_depthOf_0 : cX5_depthOf.data.toList.drop 0 = dktX5_depthOf_0 := by decide +kernel
theorem dksX5_depthOf_1 : cX5_depthOf.data.toList.drop 24 = dktX5_depthOf_1 := dk_seg dksX5_depthOf_0 24 rfl rfl
theorem dX5_depthOf_0 : decode cX5_depthOf 0 = .ok (.iconst 1, 1) := dk_4 (dk_at dksX5_depthOf_0 0 rfl rfl)
theorem dX5_depthOf_1 : decode cX5_depthOf 1 = .ok (.istore_n 2, 1) := dk_61 (dk_at dksX5_depthOf_0 1 rfl rfl)
theorem dX5_depthOf_2 : decode cX5_depthOf 2 = .ok (.aload_n 0, 1) := dk_42 (dk_at dksX5_depthOf_0 2 rfl rfl)
theorem dX5_depthOf_3 : decode cX5_depthOf 3 = .ok (.iload_n 1, 1) := dk_27 (dk_at dksX5_depthOf_0 3 rfl rfl)
theorem dX5_depthOf_4 : decode cX5_depthOf 4 = .ok (.iconst 0, 1) := dk_3 (dk_at dksX5_depthOf_0 4 rfl rfl)
theorem dX5_depthOf_5 : decode cX5_depthOf 5 = .ok (.invokevirtual 334, 3) := dk_182 1 78 (dk_at dksX5_depthOf_0 5 rfl rfl)
theorem dX5_depthOf_8 : decode cX5_depthOf 8 = .ok (.istore_n 3, 1) := dk_62 (dk_at dksX5_depthOf_0 8 rfl rfl)
theorem dX5_depthOf_9 : decode cX5_depthOf 9 = .ok (.iload_n 3, 1) := dk_29 (dk_at dksX5_depthOf_0 9 rfl rfl)
theorem dX5_depthOf_10 : decode cX5_depthOf 10 = .ok (.bipush 8, 2) := dk_16 8 (dk_at dksX5_depthOf_0 10 rfl rfl)
theorem dX5_depthOf_12 : decode cX5_depthOf 12 = .ok (.if_icmp .eq 16, 3) := dk_159 0 16 (dk_at dksX5_depthOf_0 12 rfl rfl)
theorem dX5_depthOf_15 : decode cX5_depthOf 15 = .ok (.iinc 2 1, 3) := dk_132 2 1 (dk_at dksX5_depthOf_0 15 rfl rfl)
theorem dX5_depthOf_18 : decode cX5_depthOf 18 = .ok (.aload_n 0, 1) := dk_42 (dk_at dksX5_depthOf_0 18 rfl rfl)
theorem dX5_depthOf_19 : decode cX5_depthOf 19 = .ok (.iload_n 3, 1) := dk_29 (dk_at dksX5_depthOf_0 19 rfl rfl)
theorem dX5_depthOf_20 : decode cX5_depthOf 20 = .ok (.iconst 0, 1) := dk_3 (dk_at dksX5_depthOf_0 20 rfl rfl)
theorem dX5_depthOf_21 : decode cX5_depthOf 21 = .ok (.invokevirtual 334, 3) := dk_182 1 78 (dk_at dksX5_depthOf_0 21 rfl rfl)
theorem dX5_depthOf_24 : decode cX5_depthOf 24 = .ok (.istore_n 3, 1) := dk_62 (dk_at dksX5_depthOf_1 0 rfl rfl)
theorem dX5_depthOf_25 : decode cX5_depthOf 25 = .ok (.goto (-16), 3) := dk_167 255 240 (dk_at dksX5_depthOf_1 1 rfl rfl)
theorem dX5_depthOf_28 : decode cX5_depthOf 28 = .ok (.iload_n 2, 1) := dk_28 (dk_at dksX5_depthOf_1 4 rfl rfl)
theorem dX5_depthOf_29 : decode cX5_depthOf 29 = .ok (.ireturn, 1) := dk_172 (dk_at dksX5_depthOf_1 5 rfl rfl)
abbrev cX5_version : ByteArray := prog_24_method_93_code
def yX5_version : MethodName := ⟨RX5, "version", "(IIIII)I"⟩
def dkwX5_version_2 : List UInt8 := [42, 180, 0, 65, 16, 60, 21, 4, 104, 21, 5, 96, 46, 167, 0, 4, 2, 172]
abbrev dktX5_version_2 : List UInt8 := dkwX5_version_2 ++ []
def dkwX5_version_1 : List UInt8 := [21, 4, 46, 167, 0, 38, 21, 5, 3, 42, 180, 0, 68, 21, 4, 46, 4, 100, 184, 0, 145, 153, 0, 19]
abbrev dktX5_version_1 : List UInt8 := dkwX5_version_1 ++ dktX5_version_2
def dkwX5_version_0 : List UInt8 := [42, 27, 28, 29, 21, 4, 182, 1, 96, 154, 0, 5, 2, 172, 21, 5, 2, 160, 0, 13, 42, 180, 0, 68]
abbrev dktX5_version_0 : List UInt8 := dkwX5_version_0 ++ dktX5_version_1
theorem dksX5_version_0 : cX5_version.data.toList.drop 0 = dktX5_version_0 := by decide +kernel
theorem dksX5_version_1 : cX5_version.data.toList.drop 24 = dktX5_version_1 := dk_seg dksX5_version_0 24 rfl rfl
theorem dksX5_version_2 : cX5_version.data.toList.drop 48 = dktX5_version_2 := dk_seg dksX5_version_1 24 rfl rfl
theorem dX5_version_0 : decode cX5_version 0 = .ok (.aload_n 0, 1) := dk_42 (dk_at dksX5_version_0 0 rfl rfl)
theorem dX5_version_1 : decode cX5_version 1 = .ok (.iload_n 1, 1) := dk_27 (dk_at dksX5_version_0 1 rfl rfl)
theorem dX5_version_2 : decode cX5_version 2 = .ok (.iload_n 2, 1) := dk_28 (dk_at dksX5_version_0 2 rfl rfl)
theorem dX5_version_3 : decode cX5_version 3 = .ok (.iload_n 3, 1) := dk_29 (dk_at dksX5_version_0 3 rfl rfl)
theorem dX5_version_4 : decode cX5_version 4 = .ok (.iload 4, 2) := dk_21 4 (dk_at dksX5_version_0 4 rfl rfl)
theorem dX5_version_6 : decode cX5_version 6 = .ok (.invokevirtual 352, 3) := dk_182 1 96 (dk_at dksX5_version_0 6 rfl rfl)
theorem dX5_version_9 : decode cX5_version 9 = .ok (.ifCond .ne 5, 3) := dk_154 0 5 (dk_at dksX5_version_0 9 rfl rfl)
theorem dX5_version_12 : decode cX5_version 12 = .ok (.iconst (-1), 1) := dk_2 (dk_at dksX5_version_0 12 rfl rfl)
theorem dX5_version_13 : decode cX5_version 13 = .ok (.ireturn, 1) := dk_172 (dk_at dksX5_version_0 13 rfl rfl)
theorem dX5_version_14 : decode cX5_version 14 = .ok (.iload 5, 2) := dk_21 5 (dk_at dksX5_version_0 14 rfl rfl)
theorem dX5_version_16 : decode cX5_version 16 = .ok (.iconst (-1), 1) := dk_2 (dk_at dksX5_version_0 16 rfl rfl)
theorem dX5_version_17 : decode cX5_version 17 = .ok (.if_icmp .ne 13, 3) := dk_160 0 13 (dk_at dksX5_version_0 17 rfl rfl)
theorem dX5_version_20 : decode cX5_version 20 = .ok (.aload_n 0, 1) := dk_42 (dk_at dksX5_version_0 20 rfl rfl)
theorem dX5_version_21 : decode cX5_version 21 = .ok (.getfield 68, 3) := dk_180 0 68 (dk_at dksX5_version_0 21 rfl rfl)
theorem dX5_version_24 : decode cX5_version 24 = .ok (.iload 4, 2) := dk_21 4 (dk_at dksX5_version_1 0 rfl rfl)
theorem dX5_version_26 : decode cX5_version 26 = .ok (.iaload, 1) := dk_46 (dk_at dksX5_version_1 2 rfl rfl)
theorem dX5_version_27 : decode cX5_version 27 = .ok (.goto 38, 3) := dk_167 0 38 (dk_at dksX5_version_1 3 rfl rfl)
theorem dX5_version_30 : decode cX5_version 30 = .ok (.iload 5, 2) := dk_21 5 (dk_at dksX5_version_1 6 rfl rfl)
theorem dX5_version_32 : decode cX5_version 32 = .ok (.iconst 0, 1) := dk_3 (dk_at dksX5_version_1 8 rfl rfl)
theorem dX5_version_33 : decode cX5_version 33 = .ok (.aload_n 0, 1) := dk_42 (dk_at dksX5_version_1 9 rfl rfl)
theorem dX5_version_34 : decode cX5_version 34 = .ok (.getfield 68, 3) := dk_180 0 68 (dk_at dksX5_version_1 10 rfl rfl)
theorem dX5_version_37 : decode cX5_version 37 = .ok (.iload 4, 2) := dk_21 4 (dk_at dksX5_version_1 13 rfl rfl)
theorem dX5_version_39 : decode cX5_version 39 = .ok (.iaload, 1) := dk_46 (dk_at dksX5_version_1 15 rfl rfl)
theorem dX5_version_40 : decode cX5_version 40 = .ok (.iconst 1, 1) := dk_4 (dk_at dksX5_version_1 16 rfl rfl)
theorem dX5_version_41 : decode cX5_version 41 = .ok (.isub, 1) := dk_100 (dk_at dksX5_version_1 17 rfl rfl)
theorem dX5_version_42 : decode cX5_version 42 = .ok (.invokestatic 145, 3) := dk_184 0 145 (dk_at dksX5_version_1 18 rfl rfl)
theorem dX5_version_45 : decode cX5_version 45 = .ok (.ifCond .eq 19, 3) := dk_153 0 19 (dk_at dksX5_version_1 21 rfl rfl)
theorem dX5_version_48 : decode cX5_version 48 = .ok (.aload_n 0, 1) := dk_42 (dk_at dksX5_version_2 0 rfl rfl)
theorem dX5_version_49 : decode cX5_version 49 = .ok (.getfield 65, 3) := dk_180 0 65 (dk_at dksX5_version_2 1 rfl rfl)
theorem dX5_version_52 : decode cX5_version 52 = .ok (.bipush 60, 2) := dk_16 60 (dk_at dksX5_version_2 4 rfl rfl)
theorem dX5_version_54 : decode cX5_version 54 = .ok (.iload 4, 2) := dk_21 4 (dk_at dksX5_version_2 6 rfl rfl)
theorem dX5_version_56 : decode cX5_version 56 = .ok (.imul, 1) := dk_104 (dk_at dksX5_version_2 8 rfl rfl)
theorem dX5_version_57 : decode cX5_version 57 = .ok (.iload 5, 2) := dk_21 5 (dk_at dksX5_version_2 9 rfl rfl)
theorem dX5_version_59 : decode cX5_version 59 = .ok (.iadd, 1) := dk_96 (dk_at dksX5_version_2 11 rfl rfl)
theorem dX5_version_60 : decode cX5_version 60 = .ok (.iaload, 1) := dk_46 (dk_at dksX5_version_2 12 rfl rfl)
theorem dX5_version_61 : decode cX5_version 61 = .ok (.goto 4, 3) := dk_167 0 4 (dk_at dksX5_version_2 13 rfl rfl)
theorem dX5_version_64 : decode cX5_version 64 = .ok (.iconst (-1), 1) := dk_2 (dk_at dksX5_version_2 16 rfl rfl)
theorem dX5_version_65 : decode cX5_version 65 = .ok (.ireturn, 1) := dk_172 (dk_at dksX5_version_2 17 rfl rfl)
abbrev cX5_areTold : ByteArray := prog_24_method_92_code
def yX5_areTold : MethodName := ⟨RX5, "areTold", "(IIII)Z"⟩
def dkwX5_areTold_2 : List UInt8 := [42, 180, 1, 75, 46, 162, 0, 15, 42, 21, 5, 182, 1, 93, 132, 5, 1, 167, 255, 233, 4, 172]
abbrev dktX5_areTold_2 : List UInt8 := dkwX5_areTold_2 ++ []
def dkwX5_areTold_1 : List UInt8 := [42, 180, 1, 75, 46, 4, 100, 184, 0, 145, 154, 0, 5, 3, 172, 3, 54, 5, 21, 5, 42, 180, 0, 7]
abbrev dktX5_areTold_1 : List UInt8 := dkwX5_areTold_1 ++ dktX5_areTold_2
def dkwX5_areTold_0 : List UInt8 := [42, 27, 28, 182, 0, 255, 153, 0, 31, 42, 29, 182, 1, 81, 153, 0, 23, 21, 4, 3, 42, 180, 0, 7]
abbrev dktX5_areTold_0 : List UInt8 := dkwX5_areTold_0 ++ dktX5_areTold_1
theorem dksX5_areTold_0 : cX5_areTold.data.toList.drop 0 = dktX5_areTold_0 := by decide +kernel
theorem dksX5_areTold_1 : cX5_areTold.data.toList.drop 24 = dktX5_areTold_1 := dk_seg dksX5_areTold_0 24 rfl rfl
theorem dksX5_areTold_2 : cX5_areTold.data.toList.drop 48 = dktX5_areTold_2 := dk_seg dksX5_areTold_1 24 rfl rfl
theorem dX5_areTold_0 : decode cX5_areTold 0 = .ok (.aload_n 0, 1) := dk_42 (dk_at dksX5_areTold_0 0 rfl rfl)
theorem dX5_areTold_1 : decode cX5_areTold 1 = .ok (.iload_n 1, 1) := dk_27 (dk_at dksX5_areTold_0 1 rfl rfl)
theorem dX5_areTold_2 : decode cX5_areTold 2 = .ok (.iload_n 2, 1) := dk_28 (dk_at dksX5_areTold_0 2 rfl rfl)
theorem dX5_areTold_3 : decode cX5_areTold 3 = .ok (.invokevirtual 255, 3) := dk_182 0 255 (dk_at dksX5_areTold_0 3 rfl rfl)
theorem dX5_areTold_6 : decode cX5_areTold 6 = .ok (.ifCond .eq 31, 3) := dk_153 0 31 (dk_at dksX5_areTold_0 6 rfl rfl)
theorem dX5_areTold_9 : decode cX5_areTold 9 = .ok (.aload_n 0, 1) := dk_42 (dk_at dksX5_areTold_0 9 rfl rfl)
theorem dX5_areTold_10 : decode cX5_areTold 10 = .ok (.iload_n 3, 1) := dk_29 (dk_at dksX5_areTold_0 10 rfl rfl)
theorem dX5_areTold_11 : decode cX5_areTold 11 = .ok (.invokevirtual 337, 3) := dk_182 1 81 (dk_at dksX5_areTold_0 11 rfl rfl)
theorem dX5_areTold_14 : decode cX5_areTold 14 = .ok (.ifCond .eq 23, 3) := dk_153 0 23 (dk_at dksX5_areTold_0 14 rfl rfl)
theorem dX5_areTold_17 : decode cX5_areTold 17 = .ok (.iload 4, 2) := dk_21 4 (dk_at dksX5_areTold_0 17 rfl rfl)
theorem dX5_areTold_19 : decode cX5_areTold 19 = .ok (.iconst 0, 1) := dk_3 (dk_at dksX5_areTold_0 19 rfl rfl)
theorem dX5_areTold_20 : decode cX5_areTold 20 = .ok (.aload_n 0, 1) := dk_42 (dk_at dksX5_areTold_0 20 rfl rfl)
theorem dX5_areTold_21 : decode cX5_areTold 21 = .ok (.getfield 7, 3) := dk_180 0 7 (dk_at dksX5_areTold_0 21 rfl rfl)
theorem dX5_areTold_24 : decode cX5_areTold 24 = .ok (.aload_n 0, 1) := dk_42 (dk_at dksX5_areTold_1 0 rfl rfl)
theorem dX5_areTold_25 : decode cX5_areTold 25 = .ok (.getfield 331, 3) := dk_180 1 75 (dk_at dksX5_areTold_1 1 rfl rfl)
theorem dX5_areTold_28 : decode cX5_areTold 28 = .ok (.iaload, 1) := dk_46 (dk_at dksX5_areTold_1 4 rfl rfl)
theorem dX5_areTold_29 : decode cX5_areTold 29 = .ok (.iconst 1, 1) := dk_4 (dk_at dksX5_areTold_1 5 rfl rfl)
theorem dX5_areTold_30 : decode cX5_areTold 30 = .ok (.isub, 1) := dk_100 (dk_at dksX5_areTold_1 6 rfl rfl)
theorem dX5_areTold_31 : decode cX5_areTold 31 = .ok (.invokestatic 145, 3) := dk_184 0 145 (dk_at dksX5_areTold_1 7 rfl rfl)
theorem dX5_areTold_34 : decode cX5_areTold 34 = .ok (.ifCond .ne 5, 3) := dk_154 0 5 (dk_at dksX5_areTold_1 10 rfl rfl)
theorem dX5_areTold_37 : decode cX5_areTold 37 = .ok (.iconst 0, 1) := dk_3 (dk_at dksX5_areTold_1 13 rfl rfl)
theorem dX5_areTold_38 : decode cX5_areTold 38 = .ok (.ireturn, 1) := dk_172 (dk_at dksX5_areTold_1 14 rfl rfl)
theorem dX5_areTold_39 : decode cX5_areTold 39 = .ok (.iconst 0, 1) := dk_3 (dk_at dksX5_areTold_1 15 rfl rfl)
theorem dX5_areTold_40 : decode cX5_areTold 40 = .ok (.istore 5, 2) := dk_54 5 (dk_at dksX5_areTold_1 16 rfl rfl)
theorem dX5_areTold_42 : decode cX5_areTold 42 = .ok (.iload 5, 2) := dk_21 5 (dk_at dksX5_areTold_1 18 rfl rfl)
theorem dX5_areTold_44 : decode cX5_areTold 44 = .ok (.aload_n 0, 1) := dk_42 (dk_at dksX5_areTold_1 20 rfl rfl)
theorem dX5_areTold_45 : decode cX5_areTold 45 = .ok (.getfield 7, 3) := dk_180 0 7 (dk_at dksX5_areTold_1 21 rfl rfl)
theorem dX5_areTold_48 : decode cX5_areTold 48 = .ok (.aload_n 0, 1) := dk_42 (dk_at dksX5_areTold_2 0 rfl rfl)
theorem dX5_areTold_49 : decode cX5_areTold 49 = .ok (.getfield 331, 3) := dk_180 1 75 (dk_at dksX5_areTold_2 1 rfl rfl)
theorem dX5_areTold_52 : decode cX5_areTold 52 = .ok (.iaload, 1) := dk_46 (dk_at dksX5_areTold_2 4 rfl rfl)
theorem dX5_areTold_53 : decode cX5_areTold 53 = .ok (.if_icmp .ge 15, 3) := dk_162 0 15 (dk_at dksX5_areTold_2 5 rfl rfl)
theorem dX5_areTold_56 : decode cX5_areTold 56 = .ok (.aload_n 0, 1) := dk_42 (dk_at dksX5_areTold_2 8 rfl rfl)
theorem dX5_areTold_57 : decode cX5_areTold 57 = .ok (.iload 5, 2) := dk_21 5 (dk_at dksX5_areTold_2 9 rfl rfl)
theorem dX5_areTold_59 : decode cX5_areTold 59 = .ok (.invokevirtual 349, 3) := dk_182 1 93 (dk_at dksX5_areTold_2 11 rfl rfl)
theorem dX5_areTold_62 : decode cX5_areTold 62 = .ok (.iinc 5 1, 3) := dk_132 5 1 (dk_at dksX5_areTold_2 14 rfl rfl)
theorem dX5_areTold_65 : decode cX5_areTold 65 = .ok (.goto (-23), 3) := dk_167 255 233 (dk_at dksX5_areTold_2 17 rfl rfl)
theorem dX5_areTold_68 : decode cX5_areTold 68 = .ok (.iconst 1, 1) := dk_4 (dk_at dksX5_areTold_2 20 rfl rfl)
theorem dX5_areTold_69 : decode cX5_areTold 69 = .ok (.ireturn, 1) := dk_172 (dk_at dksX5_areTold_2 21 rfl rfl)
abbrev cX5_changes : ByteArray := prog_24_method_91_code
def yX5_changes : MethodName := ⟨RX5, "changes", "(I)V"⟩
def dkwX5_changes_6 : List UInt8 := [160, 0, 10, 42, 27, 21, 7, 182, 1, 90, 132, 6, 1, 167, 255, 148, 177]
abbrev dktX5_changes_6 : List UInt8 := dkwX5_changes_6 ++ []
def dkwX5_changes_5 : List UInt8 := [160, 0, 8, 21, 4, 167, 0, 5, 21, 7, 182, 1, 90, 29, 5, 160, 0, 17, 21, 7, 21, 4]
abbrev dktX5_changes_5 : List UInt8 := dkwX5_changes_5 ++ dktX5_changes_6
def dkwX5_changes_4 : List UInt8 := [160, 0, 15, 21, 7, 21, 4, 160, 0, 8, 21, 5, 167, 0, 22, 29, 4, 160, 0, 15, 21, 7, 21, 5]
abbrev dktX5_changes_4 : List UInt8 := dkwX5_changes_4 ++ dktX5_changes_5
def dkwX5_changes_3 : List UInt8 := [153, 0, 79, 29, 6, 160, 0, 14, 21, 6, 28, 4, 100, 160, 0, 6, 167, 0, 63, 42, 27, 29, 4]
abbrev dktX5_changes_3 : List UInt8 := dkwX5_changes_3 ++ dktX5_changes_4
def dkwX5_changes_2 : List UInt8 := [162, 0, 108, 42, 180, 0, 71, 21, 6, 46, 54, 7, 29, 154, 0, 13, 21, 6, 4, 96, 21, 4, 112]
abbrev dktX5_changes_2 : List UInt8 := dkwX5_changes_2 ++ dktX5_changes_3
def dkwX5_changes_1 : List UInt8 := [54, 4, 42, 27, 6, 182, 1, 78, 54, 5, 42, 180, 0, 68, 27, 3, 79, 3, 54, 6, 21, 6, 28]
abbrev dktX5_changes_1 : List UInt8 := dkwX5_changes_1 ++ dktX5_changes_2
def dkwX5_changes_0 : List UInt8 := [42, 42, 27, 3, 182, 1, 78, 182, 1, 87, 61, 42, 27, 4, 182, 1, 78, 62, 42, 27, 5, 182, 1, 78]
abbrev dktX5_changes_0 : List UInt8 := dkwX5_changes_0 ++ dktX5_changes_1
theorem dksX5_changes_0 : cX5_changes.data.toList.drop 0 = dktX5_changes_0 := by decide +kernel
theorem dksX5_changes_1 : cX5_changes.data.toList.drop 24 = dktX5_changes_1 := dk_seg dksX5_changes_0 24 rfl rfl
theorem dksX5_changes_2 : cX5_changes.data.toList.drop 47 = dktX5_changes_2 := dk_seg dksX5_changes_1 23 rfl rfl
theorem dksX5_changes_3 : cX5_changes.data.toList.drop 70 = dktX5_changes_3 := dk_seg dksX5_changes_2 23 rfl rfl
theorem dksX5_changes_4 : cX5_changes.data.toList.drop 93 = dktX5_changes_4 := dk_seg dksX5_changes_3 23 rfl rfl
theorem dksX5_changes_5 : cX5_changes.data.toList.drop 117 = dktX5_changes_5 := dk_seg dksX5_changes_4 24 rfl rfl
theorem dksX5_changes_6 : cX5_changes.data.toList.drop 139 = dktX5_changes_6 := dk_seg dksX5_changes_5 22 rfl rfl
theorem dX5_changes_0 : decode cX5_changes 0 = .ok (.aload_n 0, 1) := dk_42 (dk_at dksX5_changes_0 0 rfl rfl)
theorem dX5_changes_1 : decode cX5_changes 1 = .ok (.aload_n 0, 1) := dk_42 (dk_at dksX5_changes_0 1 rfl rfl)
theorem dX5_changes_2 : decode cX5_changes 2 = .ok (.iload_n 1, 1) := dk_27 (dk_at dksX5_changes_0 2 rfl rfl)
theorem dX5_changes_3 : decode cX5_changes 3 = .ok (.iconst 0, 1) := dk_3 (dk_at dksX5_changes_0 3 rfl rfl)
theorem dX5_changes_4 : decode cX5_changes 4 = .ok (.invokevirtual 334, 3) := dk_182 1 78 (dk_at dksX5_changes_0 4 rfl rfl)
theorem dX5_changes_7 : decode cX5_changes 7 = .ok (.invokevirtual 343, 3) := dk_182 1 87 (dk_at dksX5_changes_0 7 rfl rfl)
theorem dX5_changes_10 : decode cX5_changes 10 = .ok (.istore_n 2, 1) := dk_61 (dk_at dksX5_changes_0 10 rfl rfl)
theorem dX5_changes_11 : decode cX5_changes 11 = .ok (.aload_n 0, 1) := dk_42 (dk_at dksX5_changes_0 11 rfl rfl)
theorem dX5_changes_12 : decode cX5_changes 12 = .ok (.iload_n 1, 1) := dk_27 (dk_at dksX5_changes_0 12 rfl rfl)
theorem dX5_changes_13 : decode cX5_changes 13 = .ok (.iconst 1, 1) := dk_4 (dk_at dksX5_changes_0 13 rfl rfl)
theorem dX5_changes_14 : decode cX5_changes 14 = .ok (.invokevirtual 334, 3) := dk_182 1 78 (dk_at dksX5_changes_0 14 rfl rfl)
theorem dX5_changes_17 : decode cX5_changes 17 = .ok (.istore_n 3, 1) := dk_62 (dk_at dksX5_changes_0 17 rfl rfl)
theorem dX5_changes_18 : decode cX5_changes 18 = .ok (.aload_n 0, 1) := dk_42 (dk_at dksX5_changes_0 18 rfl rfl)
theorem dX5_changes_19 : decode cX5_changes 19 = .ok (.iload_n 1, 1) := dk_27 (dk_at dksX5_changes_0 19 rfl rfl)
theorem dX5_changes_20 : decode cX5_changes 20 = .ok (.iconst 2, 1) := dk_5 (dk_at dksX5_changes_0 20 rfl rfl)
theorem dX5_changes_21 : decode cX5_changes 21 = .ok (.invokevirtual 334, 3) := dk_182 1 78 (dk_at dksX5_changes_0 21 rfl rfl)
theorem dX5_changes_24 : decode cX5_changes 24 = .ok (.istore 4, 2) := dk_54 4 (dk_at dksX5_changes_1 0 rfl rfl)
theorem dX5_changes_26 : decode cX5_changes 26 = .ok (.aload_n 0, 1) := dk_42 (dk_at dksX5_changes_1 2 rfl rfl)
theorem dX5_changes_27 : decode cX5_changes 27 = .ok (.iload_n 1, 1) := dk_27 (dk_at dksX5_changes_1 3 rfl rfl)
theorem dX5_changes_28 : decode cX5_changes 28 = .ok (.iconst 3, 1) := dk_6 (dk_at dksX5_changes_1 4 rfl rfl)
theorem dX5_changes_29 : decode cX5_changes 29 = .ok (.invokevirtual 334, 3) := dk_182 1 78 (dk_at dksX5_changes_1 5 rfl rfl)
theorem dX5_changes_32 : decode cX5_changes 32 = .ok (.istore 5, 2) := dk_54 5 (dk_at dksX5_changes_1 8 rfl rfl)
theorem dX5_changes_34 : decode cX5_changes 34 = .ok (.aload_n 0, 1) := dk_42 (dk_at dksX5_changes_1 10 rfl rfl)
theorem dX5_changes_35 : decode cX5_changes 35 = .ok (.getfield 68, 3) := dk_180 0 68 (dk_at dksX5_changes_1 11 rfl rfl)
theorem dX5_changes_38 : decode cX5_changes 38 = .ok (.iload_n 1, 1) := dk_27 (dk_at dksX5_changes_1 14 rfl rfl)
theorem dX5_changes_39 : decode cX5_changes 39 = .ok (.iconst 0, 1) := dk_3 (dk_at dksX5_changes_1 15 rfl rfl)
theorem dX5_changes_40 : decode cX5_changes 40 = .ok (.iastore, 1) := dk_79 (dk_at dksX5_changes_1 16 rfl rfl)
theorem dX5_changes_41 : decode cX5_changes 41 = .ok (.iconst 0, 1) := dk_3 (dk_at dksX5_changes_1 17 rfl rfl)
theorem dX5_changes_42 : decode cX5_changes 42 = .ok (.istore 6, 2) := dk_54 6 (dk_at dksX5_changes_1 18 rfl rfl)
theorem dX5_changes_44 : decode cX5_changes 44 = .ok (.iload 6, 2) := dk_21 6 (dk_at dksX5_changes_1 20 rfl rfl)
theorem dX5_changes_46 : decode cX5_changes 46 = .ok (.iload_n 2, 1) := dk_28 (dk_at dksX5_changes_1 22 rfl rfl)
theorem dX5_changes_47 : decode cX5_changes 47 = .ok (.if_icmp .ge 108, 3) := dk_162 0 108 (dk_at dksX5_changes_2 0 rfl rfl)
theorem dX5_changes_50 : decode cX5_changes 50 = .ok (.aload_n 0, 1) := dk_42 (dk_at dksX5_changes_2 3 rfl rfl)
theorem dX5_changes_51 : decode cX5_changes 51 = .ok (.getfield 71, 3) := dk_180 0 71 (dk_at dksX5_changes_2 4 rfl rfl)
theorem dX5_changes_54 : decode cX5_changes 54 = .ok (.iload 6, 2) := dk_21 6 (dk_at dksX5_changes_2 7 rfl rfl)
theorem dX5_changes_56 : decode cX5_changes 56 = .ok (.iaload, 1) := dk_46 (dk_at dksX5_changes_2 9 rfl rfl)
theorem dX5_changes_57 : decode cX5_changes 57 = .ok (.istore 7, 2) := dk_54 7 (dk_at dksX5_changes_2 10 rfl rfl)
theorem dX5_changes_59 : decode cX5_changes 59 = .ok (.iload_n 3, 1) := dk_29 (dk_at dksX5_changes_2 12 rfl rfl)
theorem dX5_changes_60 : decode cX5_changes 60 = .ok (.ifCond .ne 13, 3) := dk_154 0 13 (dk_at dksX5_changes_2 13 rfl rfl)
theorem dX5_changes_63 : decode cX5_changes 63 = .ok (.iload 6, 2) := dk_21 6 (dk_at dksX5_changes_2 16 rfl rfl)
theorem dX5_changes_65 : decode cX5_changes 65 = .ok (.iconst 1, 1) := dk_4 (dk_at dksX5_changes_2 18 rfl rfl)
theorem dX5_changes_66 : decode cX5_changes 66 = .ok (.iadd, 1) := dk_96 (dk_at dksX5_changes_2 19 rfl rfl)
theorem dX5_changes_67 : decode cX5_changes 67 = .ok (.iload 4, 2) := dk_21 4 (dk_at dksX5_changes_2 20 rfl rfl)
theorem dX5_changes_69 : decode cX5_changes 69 = .ok (.irem, 1) := dk_112 (dk_at dksX5_changes_2 22 rfl rfl)
theorem dX5_changes_70 : decode cX5_changes 70 = .ok (.ifCond .eq 79, 3) := dk_153 0 79 (dk_at dksX5_changes_3 0 rfl rfl)
theorem dX5_changes_73 : decode cX5_changes 73 = .ok (.iload_n 3, 1) := dk_29 (dk_at dksX5_changes_3 3 rfl rfl)
theorem dX5_changes_74 : decode cX5_changes 74 = .ok (.iconst 3, 1) := dk_6 (dk_at dksX5_changes_3 4 rfl rfl)
theorem dX5_changes_75 : decode cX5_changes 75 = .ok (.if_icmp .ne 14, 3) := dk_160 0 14 (dk_at dksX5_changes_3 5 rfl rfl)
theorem dX5_changes_78 : decode cX5_changes 78 = .ok (.iload 6, 2) := dk_21 6 (dk_at dksX5_changes_3 8 rfl rfl)
theorem dX5_changes_80 : decode cX5_changes 80 = .ok (.iload_n 2, 1) := dk_28 (dk_at dksX5_changes_3 10 rfl rfl)
theorem dX5_changes_81 : decode cX5_changes 81 = .ok (.iconst 1, 1) := dk_4 (dk_at dksX5_changes_3 11 rfl rfl)
theorem dX5_changes_82 : decode cX5_changes 82 = .ok (.isub, 1) := dk_100 (dk_at dksX5_changes_3 12 rfl rfl)
theorem dX5_changes_83 : decode cX5_changes 83 = .ok (.if_icmp .ne 6, 3) := dk_160 0 6 (dk_at dksX5_changes_3 13 rfl rfl)
theorem dX5_changes_86 : decode cX5_changes 86 = .ok (.goto 63, 3) := dk_167 0 63 (dk_at dksX5_changes_3 16 rfl rfl)
theorem dX5_changes_89 : decode cX5_changes 89 = .ok (.aload_n 0, 1) := dk_42 (dk_at dksX5_changes_3 19 rfl rfl)
theorem dX5_changes_90 : decode cX5_changes 90 = .ok (.iload_n 1, 1) := dk_27 (dk_at dksX5_changes_3 20 rfl rfl)
theorem dX5_changes_91 : decode cX5_changes 91 = .ok (.iload_n 3, 1) := dk_29 (dk_at dksX5_changes_3 21 rfl rfl)
theorem dX5_changes_92 : decode cX5_changes 92 = .ok (.iconst 1, 1) := dk_4 (dk_at dksX5_changes_3 22 rfl rfl)
theorem dX5_changes_93 : decode cX5_changes 93 = .ok (.if_icmp .ne 15, 3) := dk_160 0 15 (dk_at dksX5_changes_4 0 rfl rfl)
theorem dX5_changes_96 : decode cX5_changes 96 = .ok (.iload 7, 2) := dk_21 7 (dk_at dksX5_changes_4 3 rfl rfl)
theorem dX5_changes_98 : decode cX5_changes 98 = .ok (.iload 4, 2) := dk_21 4 (dk_at dksX5_changes_4 5 rfl rfl)
theorem dX5_changes_100 : decode cX5_changes 100 = .ok (.if_icmp .ne 8, 3) := dk_160 0 8 (dk_at dksX5_changes_4 7 rfl rfl)
theorem dX5_changes_103 : decode cX5_changes 103 = .ok (.iload 5, 2) := dk_21 5 (dk_at dksX5_changes_4 10 rfl rfl)
theorem dX5_changes_105 : decode cX5_changes 105 = .ok (.goto 22, 3) := dk_167 0 22 (dk_at dksX5_changes_4 12 rfl rfl)
theorem dX5_changes_108 : decode cX5_changes 108 = .ok (.iload_n 3, 1) := dk_29 (dk_at dksX5_changes_4 15 rfl rfl)
theorem dX5_changes_109 : decode cX5_changes 109 = .ok (.iconst 1, 1) := dk_4 (dk_at dksX5_changes_4 16 rfl rfl)
theorem dX5_changes_110 : decode cX5_changes 110 = .ok (.if_icmp .ne 15, 3) := dk_160 0 15 (dk_at dksX5_changes_4 17 rfl rfl)
theorem dX5_changes_113 : decode cX5_changes 113 = .ok (.iload 7, 2) := dk_21 7 (dk_at dksX5_changes_4 20 rfl rfl)
theorem dX5_changes_115 : decode cX5_changes 115 = .ok (.iload 5, 2) := dk_21 5 (dk_at dksX5_changes_4 22 rfl rfl)
theorem dX5_changes_117 : decode cX5_changes 117 = .ok (.if_icmp .ne 8, 3) := dk_160 0 8 (dk_at dksX5_changes_5 0 rfl rfl)
theorem dX5_changes_120 : decode cX5_changes 120 = .ok (.iload 4, 2) := dk_21 4 (dk_at dksX5_changes_5 3 rfl rfl)
theorem dX5_changes_122 : decode cX5_changes 122 = .ok (.goto 5, 3) := dk_167 0 5 (dk_at dksX5_changes_5 5 rfl rfl)
theorem dX5_changes_125 : decode cX5_changes 125 = .ok (.iload 7, 2) := dk_21 7 (dk_at dksX5_changes_5 8 rfl rfl)
theorem dX5_changes_127 : decode cX5_changes 127 = .ok (.invokevirtual 346, 3) := dk_182 1 90 (dk_at dksX5_changes_5 10 rfl rfl)
theorem dX5_changes_130 : decode cX5_changes 130 = .ok (.iload_n 3, 1) := dk_29 (dk_at dksX5_changes_5 13 rfl rfl)
theorem dX5_changes_131 : decode cX5_changes 131 = .ok (.iconst 2, 1) := dk_5 (dk_at dksX5_changes_5 14 rfl rfl)
theorem dX5_changes_132 : decode cX5_changes 132 = .ok (.if_icmp .ne 17, 3) := dk_160 0 17 (dk_at dksX5_changes_5 15 rfl rfl)
theorem dX5_changes_135 : decode cX5_changes 135 = .ok (.iload 7, 2) := dk_21 7 (dk_at dksX5_changes_5 18 rfl rfl)
theorem dX5_changes_137 : decode cX5_changes 137 = .ok (.iload 4, 2) := dk_21 4 (dk_at dksX5_changes_5 20 rfl rfl)
theorem dX5_changes_139 : decode cX5_changes 139 = .ok (.if_icmp .ne 10, 3) := dk_160 0 10 (dk_at dksX5_changes_6 0 rfl rfl)
theorem dX5_changes_142 : decode cX5_changes 142 = .ok (.aload_n 0, 1) := dk_42 (dk_at dksX5_changes_6 3 rfl rfl)
theorem dX5_changes_143 : decode cX5_changes 143 = .ok (.iload_n 1, 1) := dk_27 (dk_at dksX5_changes_6 4 rfl rfl)
theorem dX5_changes_144 : decode cX5_changes 144 = .ok (.iload 7, 2) := dk_21 7 (dk_at dksX5_changes_6 5 rfl rfl)
theorem dX5_changes_146 : decode cX5_changes 146 = .ok (.invokevirtual 346, 3) := dk_182 1 90 (dk_at dksX5_changes_6 7 rfl rfl)
theorem dX5_changes_149 : decode cX5_changes 149 = .ok (.iinc 6 1, 3) := dk_132 6 1 (dk_at dksX5_changes_6 10 rfl rfl)
theorem dX5_changes_152 : decode cX5_changes 152 = .ok (.goto (-108), 3) := dk_167 255 148 (dk_at dksX5_changes_6 13 rfl rfl)
theorem dX5_changes_155 : decode cX5_changes 155 = .ok (.return_, 1) := dk_177 (dk_at dksX5_changes_6 16 rfl rfl)
abbrev cX5_repeats : ByteArray := prog_24_method_89_code
def yX5_repeats : MethodName := ⟨RX5, "repeats", "(I)I"⟩
def dkwX5_repeats_2 : List UInt8 := [180, 0, 65, 16, 60, 27, 104, 29, 96, 46, 79, 132, 3, 1, 167, 255, 216, 28, 172]
abbrev dktX5_repeats_2 : List UInt8 := dkwX5_repeats_2 ++ []
def dkwX5_repeats_1 : List UInt8 := [162, 0, 41, 42, 180, 0, 71, 29, 27, 16, 8, 160, 0, 12, 42, 180, 0, 32, 29, 46, 167, 0, 14, 42]
abbrev dktX5_repeats_1 : List UInt8 := dkwX5_repeats_1 ++ dktX5_repeats_2
def dkwX5_repeats_0 : List UInt8 := [27, 16, 8, 160, 0, 10, 42, 180, 0, 243, 167, 0, 9, 42, 180, 0, 68, 27, 46, 61, 3, 62, 29, 28]
abbrev dktX5_repeats_0 : List UInt8 := dkwX5_repeats_0 ++ dktX5_repeats_1
theorem dksX5_repeats_0 : cX5_repeats.data.toList.drop 0 = dktX5_repeats_0 := by decide +kernel
theorem dksX5_repeats_1 : cX5_repeats.data.toList.drop 24 = dktX5_repeats_1 := dk_seg dksX5_repeats_0 24 rfl rfl
theorem dksX5_repeats_2 : cX5_repeats.data.toList.drop 48 = dktX5_repeats_2 := dk_seg dksX5_repeats_1 24 rfl rfl
theorem dX5_repeats_0 : decode cX5_repeats 0 = .ok (.iload_n 1, 1) := dk_27 (dk_at dksX5_repeats_0 0 rfl rfl)
theorem dX5_repeats_1 : decode cX5_repeats 1 = .ok (.bipush 8, 2) := dk_16 8 (dk_at dksX5_repeats_0 1 rfl rfl)
theorem dX5_repeats_3 : decode cX5_repeats 3 = .ok (.if_icmp .ne 10, 3) := dk_160 0 10 (dk_at dksX5_repeats_0 3 rfl rfl)
theorem dX5_repeats_6 : decode cX5_repeats 6 = .ok (.aload_n 0, 1) := dk_42 (dk_at dksX5_repeats_0 6 rfl rfl)
theorem dX5_repeats_7 : decode cX5_repeats 7 = .ok (.getfield 243, 3) := dk_180 0 243 (dk_at dksX5_repeats_0 7 rfl rfl)
theorem dX5_repeats_10 : decode cX5_repeats 10 = .ok (.goto 9, 3) := dk_167 0 9 (dk_at dksX5_repeats_0 10 rfl rfl)
theorem dX5_repeats_13 : decode cX5_repeats 13 = .ok (.aload_n 0, 1) := dk_42 (dk_at dksX5_repeats_0 13 rfl rfl)
theorem dX5_repeats_14 : decode cX5_repeats 14 = .ok (.getfield 68, 3) := dk_180 0 68 (dk_at dksX5_repeats_0 14 rfl rfl)
theorem dX5_repeats_17 : decode cX5_repeats 17 = .ok (.iload_n 1, 1) := dk_27 (dk_at dksX5_repeats_0 17 rfl rfl)
theorem dX5_repeats_18 : decode cX5_repeats 18 = .ok (.iaload, 1) := dk_46 (dk_at dksX5_repeats_0 18 rfl rfl)
theorem dX5_repeats_19 : decode cX5_repeats 19 = .ok (.istore_n 2, 1) := dk_61 (dk_at dksX5_repeats_0 19 rfl rfl)
theorem dX5_repeats_20 : decode cX5_repeats 20 = .ok (.iconst 0, 1) := dk_3 (dk_at dksX5_repeats_0 20 rfl rfl)
theorem dX5_repeats_21 : decode cX5_repeats 21 = .ok (.istore_n 3, 1) := dk_62 (dk_at dksX5_repeats_0 21 rfl rfl)
theorem dX5_repeats_22 : decode cX5_repeats 22 = .ok (.iload_n 3, 1) := dk_29 (dk_at dksX5_repeats_0 22 rfl rfl)
theorem dX5_repeats_23 : decode cX5_repeats 23 = .ok (.iload_n 2, 1) := dk_28 (dk_at dksX5_repeats_0 23 rfl rfl)
theorem dX5_repeats_24 : decode cX5_repeats 24 = .ok (.if_icmp .ge 41, 3) := dk_162 0 41 (dk_at dksX5_repeats_1 0 rfl rfl)
theorem dX5_repeats_27 : decode cX5_repeats 27 = .ok (.aload_n 0, 1) := dk_42 (dk_at dksX5_repeats_1 3 rfl rfl)
theorem dX5_repeats_28 : decode cX5_repeats 28 = .ok (.getfield 71, 3) := dk_180 0 71 (dk_at dksX5_repeats_1 4 rfl rfl)
theorem dX5_repeats_31 : decode cX5_repeats 31 = .ok (.iload_n 3, 1) := dk_29 (dk_at dksX5_repeats_1 7 rfl rfl)
theorem dX5_repeats_32 : decode cX5_repeats 32 = .ok (.iload_n 1, 1) := dk_27 (dk_at dksX5_repeats_1 8 rfl rfl)
theorem dX5_repeats_33 : decode cX5_repeats 33 = .ok (.bipush 8, 2) := dk_16 8 (dk_at dksX5_repeats_1 9 rfl rfl)
theorem dX5_repeats_35 : decode cX5_repeats 35 = .ok (.if_icmp .ne 12, 3) := dk_160 0 12 (dk_at dksX5_repeats_1 11 rfl rfl)
theorem dX5_repeats_38 : decode cX5_repeats 38 = .ok (.aload_n 0, 1) := dk_42 (dk_at dksX5_repeats_1 14 rfl rfl)
theorem dX5_repeats_39 : decode cX5_repeats 39 = .ok (.getfield 32, 3) := dk_180 0 32 (dk_at dksX5_repeats_1 15 rfl rfl)
theorem dX5_repeats_42 : decode cX5_repeats 42 = .ok (.iload_n 3, 1) := dk_29 (dk_at dksX5_repeats_1 18 rfl rfl)
theorem dX5_repeats_43 : decode cX5_repeats 43 = .ok (.iaload, 1) := dk_46 (dk_at dksX5_repeats_1 19 rfl rfl)
theorem dX5_repeats_44 : decode cX5_repeats 44 = .ok (.goto 14, 3) := dk_167 0 14 (dk_at dksX5_repeats_1 20 rfl rfl)
theorem dX5_repeats_47 : decode cX5_repeats 47 = .ok (.aload_n 0, 1) := dk_42 (dk_at dksX5_repeats_1 23 rfl rfl)
theorem dX5_repeats_48 : decode cX5_repeats 48 = .ok (.getfield 65, 3) := dk_180 0 65 (dk_at dksX5_repeats_2 0 rfl rfl)
theorem dX5_repeats_51 : decode cX5_repeats 51 = .ok (.bipush 60, 2) := dk_16 60 (dk_at dksX5_repeats_2 3 rfl rfl)
theorem dX5_repeats_53 : decode cX5_repeats 53 = .ok (.iload_n 1, 1) := dk_27 (dk_at dksX5_repeats_2 5 rfl rfl)
theorem dX5_repeats_54 : decode cX5_repeats 54 = .ok (.imul, 1) := dk_104 (dk_at dksX5_repeats_2 6 rfl rfl)
theorem dX5_repeats_55 : decode cX5_repeats 55 = .ok (.iload_n 3, 1) := dk_29 (dk_at dksX5_repeats_2 7 rfl rfl)
theorem dX5_repeats_56 : decode cX5_repeats 56 = .ok (.iadd, 1) := dk_96 (dk_at dksX5_repeats_2 8 rfl rfl)
theorem dX5_repeats_57 : decode cX5_repeats 57 = .ok (.iaload, 1) := dk_46 (dk_at dksX5_repeats_2 9 rfl rfl)
theorem dX5_repeats_58 : decode cX5_repeats 58 = .ok (.iastore, 1) := dk_79 (dk_at dksX5_repeats_2 10 rfl rfl)
theorem dX5_repeats_59 : decode cX5_repeats 59 = .ok (.iinc 3 1, 3) := dk_132 3 1 (dk_at dksX5_repeats_2 11 rfl rfl)
theorem dX5_repeats_62 : decode cX5_repeats 62 = .ok (.goto (-40), 3) := dk_167 255 216 (dk_at dksX5_repeats_2 14 rfl rfl)
theorem dX5_repeats_65 : decode cX5_repeats 65 = .ok (.iload_n 2, 1) := dk_28 (dk_at dksX5_repeats_2 17 rfl rfl)
theorem dX5_repeats_66 : decode cX5_repeats 66 = .ok (.ireturn, 1) := dk_172 (dk_at dksX5_repeats_2 18 rfl rfl)
abbrev cX5_adds : ByteArray := prog_24_method_90_code
def yX5_adds : MethodName := ⟨RX5, "adds", "(II)V"⟩
def dkwX5_adds_1 : List UInt8 := [27, 46, 96, 28, 79, 42, 180, 0, 68, 27, 92, 46, 4, 96, 79, 177]
abbrev dktX5_adds_1 : List UInt8 := dkwX5_adds_1 ++ []
def dkwX5_adds_0 : List UInt8 := [42, 180, 0, 68, 27, 46, 16, 60, 161, 0, 4, 177, 42, 180, 0, 65, 16, 60, 27, 104, 42, 180, 0, 68]
abbrev dktX5_adds_0 : List UInt8 := dkwX5_adds_0 ++ dktX5_adds_1
theorem dksX5_adds_0 : cX5_adds.data.toList.drop 0 = dktX5_adds_0 := by decide +kernel
theorem dksX5_adds_1 : cX5_adds.data.toList.drop 24 = dktX5_adds_1 := dk_seg dksX5_adds_0 24 rfl rfl
theorem dX5_adds_0 : decode cX5_adds 0 = .ok (.aload_n 0, 1) := dk_42 (dk_at dksX5_adds_0 0 rfl rfl)
theorem dX5_adds_1 : decode cX5_adds 1 = .ok (.getfield 68, 3) := dk_180 0 68 (dk_at dksX5_adds_0 1 rfl rfl)
theorem dX5_adds_4 : decode cX5_adds 4 = .ok (.iload_n 1, 1) := dk_27 (dk_at dksX5_adds_0 4 rfl rfl)
theorem dX5_adds_5 : decode cX5_adds 5 = .ok (.iaload, 1) := dk_46 (dk_at dksX5_adds_0 5 rfl rfl)
theorem dX5_adds_6 : decode cX5_adds 6 = .ok (.bipush 60, 2) := dk_16 60 (dk_at dksX5_adds_0 6 rfl rfl)
theorem dX5_adds_8 : decode cX5_adds 8 = .ok (.if_icmp .lt 4, 3) := dk_161 0 4 (dk_at dksX5_adds_0 8 rfl rfl)
theorem dX5_adds_11 : decode cX5_adds 11 = .ok (.return_, 1) := dk_177 (dk_at dksX5_adds_0 11 rfl rfl)
theorem dX5_adds_12 : decode cX5_adds 12 = .ok (.aload_n 0, 1) := dk_42 (dk_at dksX5_adds_0 12 rfl rfl)
theorem dX5_adds_13 : decode cX5_adds 13 = .ok (.getfield 65, 3) := dk_180 0 65 (dk_at dksX5_adds_0 13 rfl rfl)
theorem dX5_adds_16 : decode cX5_adds 16 = .ok (.bipush 60, 2) := dk_16 60 (dk_at dksX5_adds_0 16 rfl rfl)
theorem dX5_adds_18 : decode cX5_adds 18 = .ok (.iload_n 1, 1) := dk_27 (dk_at dksX5_adds_0 18 rfl rfl)
theorem dX5_adds_19 : decode cX5_adds 19 = .ok (.imul, 1) := dk_104 (dk_at dksX5_adds_0 19 rfl rfl)
theorem dX5_adds_20 : decode cX5_adds 20 = .ok (.aload_n 0, 1) := dk_42 (dk_at dksX5_adds_0 20 rfl rfl)
theorem dX5_adds_21 : decode cX5_adds 21 = .ok (.getfield 68, 3) := dk_180 0 68 (dk_at dksX5_adds_0 21 rfl rfl)
theorem dX5_adds_24 : decode cX5_adds 24 = .ok (.iload_n 1, 1) := dk_27 (dk_at dksX5_adds_1 0 rfl rfl)
theorem dX5_adds_25 : decode cX5_adds 25 = .ok (.iaload, 1) := dk_46 (dk_at dksX5_adds_1 1 rfl rfl)
theorem dX5_adds_26 : decode cX5_adds 26 = .ok (.iadd, 1) := dk_96 (dk_at dksX5_adds_1 2 rfl rfl)
theorem dX5_adds_27 : decode cX5_adds 27 = .ok (.iload_n 2, 1) := dk_28 (dk_at dksX5_adds_1 3 rfl rfl)
theorem dX5_adds_28 : decode cX5_adds 28 = .ok (.iastore, 1) := dk_79 (dk_at dksX5_adds_1 4 rfl rfl)
theorem dX5_adds_29 : decode cX5_adds 29 = .ok (.aload_n 0, 1) := dk_42 (dk_at dksX5_adds_1 5 rfl rfl)
theorem dX5_adds_30 : decode cX5_adds 30 = .ok (.getfield 68, 3) := dk_180 0 68 (dk_at dksX5_adds_1 6 rfl rfl)
theorem dX5_adds_33 : decode cX5_adds 33 = .ok (.iload_n 1, 1) := dk_27 (dk_at dksX5_adds_1 9 rfl rfl)
theorem dX5_adds_34 : decode cX5_adds 34 = .ok (.dup2, 1) := dk_92 (dk_at dksX5_adds_1 10 rfl rfl)
theorem dX5_adds_35 : decode cX5_adds 35 = .ok (.iaload, 1) := dk_46 (dk_at dksX5_adds_1 11 rfl rfl)
theorem dX5_adds_36 : decode cX5_adds 36 = .ok (.iconst 1, 1) := dk_4 (dk_at dksX5_adds_1 12 rfl rfl)
theorem dX5_adds_37 : decode cX5_adds 37 = .ok (.iadd, 1) := dk_96 (dk_at dksX5_adds_1 13 rfl rfl)
theorem dX5_adds_38 : decode cX5_adds 38 = .ok (.iastore, 1) := dk_79 (dk_at dksX5_adds_1 14 rfl rfl)
theorem dX5_adds_39 : decode cX5_adds 39 = .ok (.return_, 1) := dk_177 (dk_at dksX5_adds_1 15 rfl rfl)
abbrev cX5_tale : ByteArray := prog_24_method_95_code
def yX5_tale : MethodName := ⟨RX5, "tale", "(IIIIZ)I"⟩
def dkwX5_tale_6 : List UInt8 := [132, 6, 1, 167, 255, 230, 42, 42, 180, 0, 68, 21, 4, 46, 42, 180, 0, 243, 182, 1, 67, 172]
abbrev dktX5_tale_6 : List UInt8 := dkwX5_tale_6 ++ []
def dkwX5_tale_5 : List UInt8 := [21, 6, 42, 180, 0, 243, 162, 0, 23, 42, 180, 0, 59, 21, 6, 42, 180, 0, 32, 21, 6, 46, 79]
abbrev dktX5_tale_5 : List UInt8 := dkwX5_tale_5 ++ dktX5_tale_6
def dkwX5_tale_4 : List UInt8 := [42, 180, 0, 65, 16, 60, 21, 4, 104, 21, 6, 96, 46, 79, 132, 6, 1, 167, 255, 221, 3, 54, 6]
abbrev dktX5_tale_4 : List UInt8 := dkwX5_tale_4 ++ dktX5_tale_5
def dkwX5_tale_3 : List UInt8 := [21, 6, 172, 3, 54, 6, 21, 6, 42, 180, 0, 68, 21, 4, 46, 162, 0, 29, 42, 180, 0, 56, 21, 6]
abbrev dktX5_tale_3 : List UInt8 := dkwX5_tale_3 ++ dktX5_tale_4
def dkwX5_tale_2 : List UInt8 := [182, 1, 99, 153, 0, 10, 4, 21, 7, 120, 167, 0, 4, 3, 128, 54, 6, 132, 7, 1, 167, 255, 215]
abbrev dktX5_tale_2 : List UInt8 := dkwX5_tale_2 ++ dktX5_tale_3
def dkwX5_tale_1 : List UInt8 := [54, 7, 21, 7, 42, 180, 0, 7, 42, 180, 1, 75, 46, 162, 0, 33, 21, 6, 42, 21, 7, 21, 4]
abbrev dktX5_tale_1 : List UInt8 := dkwX5_tale_1 ++ dktX5_tale_2
def dkwX5_tale_0 : List UInt8 := [42, 27, 28, 29, 21, 4, 182, 1, 96, 154, 0, 5, 2, 172, 21, 5, 153, 0, 56, 3, 54, 6, 3]
abbrev dktX5_tale_0 : List UInt8 := dkwX5_tale_0 ++ dktX5_tale_1
theorem dksX5_tale_0 : cX5_tale.data.toList.drop 0 = dktX5_tale_0 := by decide +kernel
theorem dksX5_tale_1 : cX5_tale.data.toList.drop 23 = dktX5_tale_1 := dk_seg dksX5_tale_0 23 rfl rfl
theorem dksX5_tale_2 : cX5_tale.data.toList.drop 46 = dktX5_tale_2 := dk_seg dksX5_tale_1 23 rfl rfl
theorem dksX5_tale_3 : cX5_tale.data.toList.drop 69 = dktX5_tale_3 := dk_seg dksX5_tale_2 23 rfl rfl
theorem dksX5_tale_4 : cX5_tale.data.toList.drop 93 = dktX5_tale_4 := dk_seg dksX5_tale_3 24 rfl rfl
theorem dksX5_tale_5 : cX5_tale.data.toList.drop 116 = dktX5_tale_5 := dk_seg dksX5_tale_4 23 rfl rfl
theorem dksX5_tale_6 : cX5_tale.data.toList.drop 139 = dktX5_tale_6 := dk_seg dksX5_tale_5 23 rfl rfl
theorem dX5_tale_0 : decode cX5_tale 0 = .ok (.aload_n 0, 1) := dk_42 (dk_at dksX5_tale_0 0 rfl rfl)
theorem dX5_tale_1 : decode cX5_tale 1 = .ok (.iload_n 1, 1) := dk_27 (dk_at dksX5_tale_0 1 rfl rfl)
theorem dX5_tale_2 : decode cX5_tale 2 = .ok (.iload_n 2, 1) := dk_28 (dk_at dksX5_tale_0 2 rfl rfl)
theorem dX5_tale_3 : decode cX5_tale 3 = .ok (.iload_n 3, 1) := dk_29 (dk_at dksX5_tale_0 3 rfl rfl)
theorem dX5_tale_4 : decode cX5_tale 4 = .ok (.iload 4, 2) := dk_21 4 (dk_at dksX5_tale_0 4 rfl rfl)
theorem dX5_tale_6 : decode cX5_tale 6 = .ok (.invokevirtual 352, 3) := dk_182 1 96 (dk_at dksX5_tale_0 6 rfl rfl)
theorem dX5_tale_9 : decode cX5_tale 9 = .ok (.ifCond .ne 5, 3) := dk_154 0 5 (dk_at dksX5_tale_0 9 rfl rfl)
theorem dX5_tale_12 : decode cX5_tale 12 = .ok (.iconst (-1), 1) := dk_2 (dk_at dksX5_tale_0 12 rfl rfl)
theorem dX5_tale_13 : decode cX5_tale 13 = .ok (.ireturn, 1) := dk_172 (dk_at dksX5_tale_0 13 rfl rfl)
theorem dX5_tale_14 : decode cX5_tale 14 = .ok (.iload 5, 2) := dk_21 5 (dk_at dksX5_tale_0 14 rfl rfl)
theorem dX5_tale_16 : decode cX5_tale 16 = .ok (.ifCond .eq 56, 3) := dk_153 0 56 (dk_at dksX5_tale_0 16 rfl rfl)
theorem dX5_tale_19 : decode cX5_tale 19 = .ok (.iconst 0, 1) := dk_3 (dk_at dksX5_tale_0 19 rfl rfl)
theorem dX5_tale_20 : decode cX5_tale 20 = .ok (.istore 6, 2) := dk_54 6 (dk_at dksX5_tale_0 20 rfl rfl)
theorem dX5_tale_22 : decode cX5_tale 22 = .ok (.iconst 0, 1) := dk_3 (dk_at dksX5_tale_0 22 rfl rfl)
theorem dX5_tale_23 : decode cX5_tale 23 = .ok (.istore 7, 2) := dk_54 7 (dk_at dksX5_tale_1 0 rfl rfl)
theorem dX5_tale_25 : decode cX5_tale 25 = .ok (.iload 7, 2) := dk_21 7 (dk_at dksX5_tale_1 2 rfl rfl)
theorem dX5_tale_27 : decode cX5_tale 27 = .ok (.aload_n 0, 1) := dk_42 (dk_at dksX5_tale_1 4 rfl rfl)
theorem dX5_tale_28 : decode cX5_tale 28 = .ok (.getfield 7, 3) := dk_180 0 7 (dk_at dksX5_tale_1 5 rfl rfl)
theorem dX5_tale_31 : decode cX5_tale 31 = .ok (.aload_n 0, 1) := dk_42 (dk_at dksX5_tale_1 8 rfl rfl)
theorem dX5_tale_32 : decode cX5_tale 32 = .ok (.getfield 331, 3) := dk_180 1 75 (dk_at dksX5_tale_1 9 rfl rfl)
theorem dX5_tale_35 : decode cX5_tale 35 = .ok (.iaload, 1) := dk_46 (dk_at dksX5_tale_1 12 rfl rfl)
theorem dX5_tale_36 : decode cX5_tale 36 = .ok (.if_icmp .ge 33, 3) := dk_162 0 33 (dk_at dksX5_tale_1 13 rfl rfl)
theorem dX5_tale_39 : decode cX5_tale 39 = .ok (.iload 6, 2) := dk_21 6 (dk_at dksX5_tale_1 16 rfl rfl)
theorem dX5_tale_41 : decode cX5_tale 41 = .ok (.aload_n 0, 1) := dk_42 (dk_at dksX5_tale_1 18 rfl rfl)
theorem dX5_tale_42 : decode cX5_tale 42 = .ok (.iload 7, 2) := dk_21 7 (dk_at dksX5_tale_1 19 rfl rfl)
theorem dX5_tale_44 : decode cX5_tale 44 = .ok (.iload 4, 2) := dk_21 4 (dk_at dksX5_tale_1 21 rfl rfl)
theorem dX5_tale_46 : decode cX5_tale 46 = .ok (.invokevirtual 355, 3) := dk_182 1 99 (dk_at dksX5_tale_2 0 rfl rfl)
theorem dX5_tale_49 : decode cX5_tale 49 = .ok (.ifCond .eq 10, 3) := dk_153 0 10 (dk_at dksX5_tale_2 3 rfl rfl)
theorem dX5_tale_52 : decode cX5_tale 52 = .ok (.iconst 1, 1) := dk_4 (dk_at dksX5_tale_2 6 rfl rfl)
theorem dX5_tale_53 : decode cX5_tale 53 = .ok (.iload 7, 2) := dk_21 7 (dk_at dksX5_tale_2 7 rfl rfl)
theorem dX5_tale_55 : decode cX5_tale 55 = .ok (.ishl, 1) := dk_120 (dk_at dksX5_tale_2 9 rfl rfl)
theorem dX5_tale_56 : decode cX5_tale 56 = .ok (.goto 4, 3) := dk_167 0 4 (dk_at dksX5_tale_2 10 rfl rfl)
theorem dX5_tale_59 : decode cX5_tale 59 = .ok (.iconst 0, 1) := dk_3 (dk_at dksX5_tale_2 13 rfl rfl)
theorem dX5_tale_60 : decode cX5_tale 60 = .ok (.ior, 1) := dk_128 (dk_at dksX5_tale_2 14 rfl rfl)
theorem dX5_tale_61 : decode cX5_tale 61 = .ok (.istore 6, 2) := dk_54 6 (dk_at dksX5_tale_2 15 rfl rfl)
theorem dX5_tale_63 : decode cX5_tale 63 = .ok (.iinc 7 1, 3) := dk_132 7 1 (dk_at dksX5_tale_2 17 rfl rfl)
theorem dX5_tale_66 : decode cX5_tale 66 = .ok (.goto (-41), 3) := dk_167 255 215 (dk_at dksX5_tale_2 20 rfl rfl)
theorem dX5_tale_69 : decode cX5_tale 69 = .ok (.iload 6, 2) := dk_21 6 (dk_at dksX5_tale_3 0 rfl rfl)
theorem dX5_tale_71 : decode cX5_tale 71 = .ok (.ireturn, 1) := dk_172 (dk_at dksX5_tale_3 2 rfl rfl)
theorem dX5_tale_72 : decode cX5_tale 72 = .ok (.iconst 0, 1) := dk_3 (dk_at dksX5_tale_3 3 rfl rfl)
theorem dX5_tale_73 : decode cX5_tale 73 = .ok (.istore 6, 2) := dk_54 6 (dk_at dksX5_tale_3 4 rfl rfl)
theorem dX5_tale_75 : decode cX5_tale 75 = .ok (.iload 6, 2) := dk_21 6 (dk_at dksX5_tale_3 6 rfl rfl)
theorem dX5_tale_77 : decode cX5_tale 77 = .ok (.aload_n 0, 1) := dk_42 (dk_at dksX5_tale_3 8 rfl rfl)
theorem dX5_tale_78 : decode cX5_tale 78 = .ok (.getfield 68, 3) := dk_180 0 68 (dk_at dksX5_tale_3 9 rfl rfl)
theorem dX5_tale_81 : decode cX5_tale 81 = .ok (.iload 4, 2) := dk_21 4 (dk_at dksX5_tale_3 12 rfl rfl)
theorem dX5_tale_83 : decode cX5_tale 83 = .ok (.iaload, 1) := dk_46 (dk_at dksX5_tale_3 14 rfl rfl)
theorem dX5_tale_84 : decode cX5_tale 84 = .ok (.if_icmp .ge 29, 3) := dk_162 0 29 (dk_at dksX5_tale_3 15 rfl rfl)
theorem dX5_tale_87 : decode cX5_tale 87 = .ok (.aload_n 0, 1) := dk_42 (dk_at dksX5_tale_3 18 rfl rfl)
theorem dX5_tale_88 : decode cX5_tale 88 = .ok (.getfield 56, 3) := dk_180 0 56 (dk_at dksX5_tale_3 19 rfl rfl)
theorem dX5_tale_91 : decode cX5_tale 91 = .ok (.iload 6, 2) := dk_21 6 (dk_at dksX5_tale_3 22 rfl rfl)
theorem dX5_tale_93 : decode cX5_tale 93 = .ok (.aload_n 0, 1) := dk_42 (dk_at dksX5_tale_4 0 rfl rfl)
theorem dX5_tale_94 : decode cX5_tale 94 = .ok (.getfield 65, 3) := dk_180 0 65 (dk_at dksX5_tale_4 1 rfl rfl)
theorem dX5_tale_97 : decode cX5_tale 97 = .ok (.bipush 60, 2) := dk_16 60 (dk_at dksX5_tale_4 4 rfl rfl)
theorem dX5_tale_99 : decode cX5_tale 99 = .ok (.iload 4, 2) := dk_21 4 (dk_at dksX5_tale_4 6 rfl rfl)
theorem dX5_tale_101 : decode cX5_tale 101 = .ok (.imul, 1) := dk_104 (dk_at dksX5_tale_4 8 rfl rfl)
theorem dX5_tale_102 : decode cX5_tale 102 = .ok (.iload 6, 2) := dk_21 6 (dk_at dksX5_tale_4 9 rfl rfl)
theorem dX5_tale_104 : decode cX5_tale 104 = .ok (.iadd, 1) := dk_96 (dk_at dksX5_tale_4 11 rfl rfl)
theorem dX5_tale_105 : decode cX5_tale 105 = .ok (.iaload, 1) := dk_46 (dk_at dksX5_tale_4 12 rfl rfl)
theorem dX5_tale_106 : decode cX5_tale 106 = .ok (.iastore, 1) := dk_79 (dk_at dksX5_tale_4 13 rfl rfl)
theorem dX5_tale_107 : decode cX5_tale 107 = .ok (.iinc 6 1, 3) := dk_132 6 1 (dk_at dksX5_tale_4 14 rfl rfl)
theorem dX5_tale_110 : decode cX5_tale 110 = .ok (.goto (-35), 3) := dk_167 255 221 (dk_at dksX5_tale_4 17 rfl rfl)
theorem dX5_tale_113 : decode cX5_tale 113 = .ok (.iconst 0, 1) := dk_3 (dk_at dksX5_tale_4 20 rfl rfl)
theorem dX5_tale_114 : decode cX5_tale 114 = .ok (.istore 6, 2) := dk_54 6 (dk_at dksX5_tale_4 21 rfl rfl)
theorem dX5_tale_116 : decode cX5_tale 116 = .ok (.iload 6, 2) := dk_21 6 (dk_at dksX5_tale_5 0 rfl rfl)
theorem dX5_tale_118 : decode cX5_tale 118 = .ok (.aload_n 0, 1) := dk_42 (dk_at dksX5_tale_5 2 rfl rfl)
theorem dX5_tale_119 : decode cX5_tale 119 = .ok (.getfield 243, 3) := dk_180 0 243 (dk_at dksX5_tale_5 3 rfl rfl)
theorem dX5_tale_122 : decode cX5_tale 122 = .ok (.if_icmp .ge 23, 3) := dk_162 0 23 (dk_at dksX5_tale_5 6 rfl rfl)
theorem dX5_tale_125 : decode cX5_tale 125 = .ok (.aload_n 0, 1) := dk_42 (dk_at dksX5_tale_5 9 rfl rfl)
theorem dX5_tale_126 : decode cX5_tale 126 = .ok (.getfield 59, 3) := dk_180 0 59 (dk_at dksX5_tale_5 10 rfl rfl)
theorem dX5_tale_129 : decode cX5_tale 129 = .ok (.iload 6, 2) := dk_21 6 (dk_at dksX5_tale_5 13 rfl rfl)
theorem dX5_tale_131 : decode cX5_tale 131 = .ok (.aload_n 0, 1) := dk_42 (dk_at dksX5_tale_5 15 rfl rfl)
theorem dX5_tale_132 : decode cX5_tale 132 = .ok (.getfield 32, 3) := dk_180 0 32 (dk_at dksX5_tale_5 16 rfl rfl)
theorem dX5_tale_135 : decode cX5_tale 135 = .ok (.iload 6, 2) := dk_21 6 (dk_at dksX5_tale_5 19 rfl rfl)
theorem dX5_tale_137 : decode cX5_tale 137 = .ok (.iaload, 1) := dk_46 (dk_at dksX5_tale_5 21 rfl rfl)
theorem dX5_tale_138 : decode cX5_tale 138 = .ok (.iastore, 1) := dk_79 (dk_at dksX5_tale_5 22 rfl rfl)
theorem dX5_tale_139 : decode cX5_tale 139 = .ok (.iinc 6 1, 3) := dk_132 6 1 (dk_at dksX5_tale_6 0 rfl rfl)
theorem dX5_tale_142 : decode cX5_tale 142 = .ok (.goto (-26), 3) := dk_167 255 230 (dk_at dksX5_tale_6 3 rfl rfl)
theorem dX5_tale_145 : decode cX5_tale 145 = .ok (.aload_n 0, 1) := dk_42 (dk_at dksX5_tale_6 6 rfl rfl)
theorem dX5_tale_146 : decode cX5_tale 146 = .ok (.aload_n 0, 1) := dk_42 (dk_at dksX5_tale_6 7 rfl rfl)
theorem dX5_tale_147 : decode cX5_tale 147 = .ok (.getfield 68, 3) := dk_180 0 68 (dk_at dksX5_tale_6 8 rfl rfl)
theorem dX5_tale_150 : decode cX5_tale 150 = .ok (.iload 4, 2) := dk_21 4 (dk_at dksX5_tale_6 11 rfl rfl)
theorem dX5_tale_152 : decode cX5_tale 152 = .ok (.iaload, 1) := dk_46 (dk_at dksX5_tale_6 13 rfl rfl)
theorem dX5_tale_153 : decode cX5_tale 153 = .ok (.aload_n 0, 1) := dk_42 (dk_at dksX5_tale_6 14 rfl rfl)
theorem dX5_tale_154 : decode cX5_tale 154 = .ok (.getfield 243, 3) := dk_180 0 243 (dk_at dksX5_tale_6 15 rfl rfl)
theorem dX5_tale_157 : decode cX5_tale 157 = .ok (.invokevirtual 323, 3) := dk_182 1 67 (dk_at dksX5_tale_6 18 rfl rfl)
theorem dX5_tale_160 : decode cX5_tale 160 = .ok (.ireturn, 1) := dk_172 (dk_at dksX5_tale_6 21 rfl rfl)
abbrev cX5_areAlike : ByteArray := prog_24_method_94_code
def yX5_areAlike : MethodName := ⟨RX5, "areAlike", "(II)Z"⟩
def dkwX5_areAlike_3 : List UInt8 := [62, 132, 4, 1, 167, 255, 205, 29, 172]
abbrev dktX5_areAlike_3 : List UInt8 := dkwX5_areAlike_3 ++ []
def dkwX5_areAlike_2 : List UInt8 := [21, 4, 96, 46, 42, 180, 0, 65, 16, 60, 28, 104, 21, 4, 96, 46, 160, 0, 7, 4, 167, 0, 4, 3]
abbrev dktX5_areAlike_2 : List UInt8 := dkwX5_areAlike_2 ++ dktX5_areAlike_3
def dkwX5_areAlike_1 : List UInt8 := [21, 4, 42, 180, 0, 68, 27, 46, 162, 0, 46, 29, 153, 0, 42, 42, 180, 0, 65, 16, 60, 27, 104]
abbrev dktX5_areAlike_1 : List UInt8 := dkwX5_areAlike_1 ++ dktX5_areAlike_2
def dkwX5_areAlike_0 : List UInt8 := [42, 180, 0, 68, 27, 46, 42, 180, 0, 68, 28, 46, 160, 0, 7, 4, 167, 0, 4, 3, 62, 3, 54, 4]
abbrev dktX5_areAlike_0 : List UInt8 := dkwX5_areAlike_0 ++ dktX5_areAlike_1
theorem dksX5_areAlike_0 : cX5_areAlike.data.toList.drop 0 = dktX5_areAlike_0 := by decide +kernel
theorem dksX5_areAlike_1 : cX5_areAlike.data.toList.drop 24 = dktX5_areAlike_1 := dk_seg dksX5_areAlike_0 24 rfl rfl
theorem dksX5_areAlike_2 : cX5_areAlike.data.toList.drop 47 = dktX5_areAlike_2 := dk_seg dksX5_areAlike_1 23 rfl rfl
theorem dksX5_areAlike_3 : cX5_areAlike.data.toList.drop 71 = dktX5_areAlike_3 := dk_seg dksX5_areAlike_2 24 rfl rfl
theorem dX5_areAlike_0 : decode cX5_areAlike 0 = .ok (.aload_n 0, 1) := dk_42 (dk_at dksX5_areAlike_0 0 rfl rfl)
theorem dX5_areAlike_1 : decode cX5_areAlike 1 = .ok (.getfield 68, 3) := dk_180 0 68 (dk_at dksX5_areAlike_0 1 rfl rfl)
theorem dX5_areAlike_4 : decode cX5_areAlike 4 = .ok (.iload_n 1, 1) := dk_27 (dk_at dksX5_areAlike_0 4 rfl rfl)
theorem dX5_areAlike_5 : decode cX5_areAlike 5 = .ok (.iaload, 1) := dk_46 (dk_at dksX5_areAlike_0 5 rfl rfl)
theorem dX5_areAlike_6 : decode cX5_areAlike 6 = .ok (.aload_n 0, 1) := dk_42 (dk_at dksX5_areAlike_0 6 rfl rfl)
theorem dX5_areAlike_7 : decode cX5_areAlike 7 = .ok (.getfield 68, 3) := dk_180 0 68 (dk_at dksX5_areAlike_0 7 rfl rfl)
theorem dX5_areAlike_10 : decode cX5_areAlike 10 = .ok (.iload_n 2, 1) := dk_28 (dk_at dksX5_areAlike_0 10 rfl rfl)
theorem dX5_areAlike_11 : decode cX5_areAlike 11 = .ok (.iaload, 1) := dk_46 (dk_at dksX5_areAlike_0 11 rfl rfl)
theorem dX5_areAlike_12 : decode cX5_areAlike 12 = .ok (.if_icmp .ne 7, 3) := dk_160 0 7 (dk_at dksX5_areAlike_0 12 rfl rfl)
theorem dX5_areAlike_15 : decode cX5_areAlike 15 = .ok (.iconst 1, 1) := dk_4 (dk_at dksX5_areAlike_0 15 rfl rfl)
theorem dX5_areAlike_16 : decode cX5_areAlike 16 = .ok (.goto 4, 3) := dk_167 0 4 (dk_at dksX5_areAlike_0 16 rfl rfl)
theorem dX5_areAlike_19 : decode cX5_areAlike 19 = .ok (.iconst 0, 1) := dk_3 (dk_at dksX5_areAlike_0 19 rfl rfl)
theorem dX5_areAlike_20 : decode cX5_areAlike 20 = .ok (.istore_n 3, 1) := dk_62 (dk_at dksX5_areAlike_0 20 rfl rfl)
theorem dX5_areAlike_21 : decode cX5_areAlike 21 = .ok (.iconst 0, 1) := dk_3 (dk_at dksX5_areAlike_0 21 rfl rfl)
theorem dX5_areAlike_22 : decode cX5_areAlike 22 = .ok (.istore 4, 2) := dk_54 4 (dk_at dksX5_areAlike_0 22 rfl rfl)
theorem dX5_areAlike_24 : decode cX5_areAlike 24 = .ok (.iload 4, 2) := dk_21 4 (dk_at dksX5_areAlike_1 0 rfl rfl)
theorem dX5_areAlike_26 : decode cX5_areAlike 26 = .ok (.aload_n 0, 1) := dk_42 (dk_at dksX5_areAlike_1 2 rfl rfl)
theorem dX5_areAlike_27 : decode cX5_areAlike 27 = .ok (.getfield 68, 3) := dk_180 0 68 (dk_at dksX5_areAlike_1 3 rfl rfl)
theorem dX5_areAlike_30 : decode cX5_areAlike 30 = .ok (.iload_n 1, 1) := dk_27 (dk_at dksX5_areAlike_1 6 rfl rfl)
theorem dX5_areAlike_31 : decode cX5_areAlike 31 = .ok (.iaload, 1) := dk_46 (dk_at dksX5_areAlike_1 7 rfl rfl)
theorem dX5_areAlike_32 : decode cX5_areAlike 32 = .ok (.if_icmp .ge 46, 3) := dk_162 0 46 (dk_at dksX5_areAlike_1 8 rfl rfl)
theorem dX5_areAlike_35 : decode cX5_areAlike 35 = .ok (.iload_n 3, 1) := dk_29 (dk_at dksX5_areAlike_1 11 rfl rfl)
theorem dX5_areAlike_36 : decode cX5_areAlike 36 = .ok (.ifCond .eq 42, 3) := dk_153 0 42 (dk_at dksX5_areAlike_1 12 rfl rfl)
theorem dX5_areAlike_39 : decode cX5_areAlike 39 = .ok (.aload_n 0, 1) := dk_42 (dk_at dksX5_areAlike_1 15 rfl rfl)
theorem dX5_areAlike_40 : decode cX5_areAlike 40 = .ok (.getfield 65, 3) := dk_180 0 65 (dk_at dksX5_areAlike_1 16 rfl rfl)
theorem dX5_areAlike_43 : decode cX5_areAlike 43 = .ok (.bipush 60, 2) := dk_16 60 (dk_at dksX5_areAlike_1 19 rfl rfl)
theorem dX5_areAlike_45 : decode cX5_areAlike 45 = .ok (.iload_n 1, 1) := dk_27 (dk_at dksX5_areAlike_1 21 rfl rfl)
theorem dX5_areAlike_46 : decode cX5_areAlike 46 = .ok (.imul, 1) := dk_104 (dk_at dksX5_areAlike_1 22 rfl rfl)
theorem dX5_areAlike_47 : decode cX5_areAlike 47 = .ok (.iload 4, 2) := dk_21 4 (dk_at dksX5_areAlike_2 0 rfl rfl)
theorem dX5_areAlike_49 : decode cX5_areAlike 49 = .ok (.iadd, 1) := dk_96 (dk_at dksX5_areAlike_2 2 rfl rfl)
theorem dX5_areAlike_50 : decode cX5_areAlike 50 = .ok (.iaload, 1) := dk_46 (dk_at dksX5_areAlike_2 3 rfl rfl)
theorem dX5_areAlike_51 : decode cX5_areAlike 51 = .ok (.aload_n 0, 1) := dk_42 (dk_at dksX5_areAlike_2 4 rfl rfl)
theorem dX5_areAlike_52 : decode cX5_areAlike 52 = .ok (.getfield 65, 3) := dk_180 0 65 (dk_at dksX5_areAlike_2 5 rfl rfl)
theorem dX5_areAlike_55 : decode cX5_areAlike 55 = .ok (.bipush 60, 2) := dk_16 60 (dk_at dksX5_areAlike_2 8 rfl rfl)
theorem dX5_areAlike_57 : decode cX5_areAlike 57 = .ok (.iload_n 2, 1) := dk_28 (dk_at dksX5_areAlike_2 10 rfl rfl)
theorem dX5_areAlike_58 : decode cX5_areAlike 58 = .ok (.imul, 1) := dk_104 (dk_at dksX5_areAlike_2 11 rfl rfl)
theorem dX5_areAlike_59 : decode cX5_areAlike 59 = .ok (.iload 4, 2) := dk_21 4 (dk_at dksX5_areAlike_2 12 rfl rfl)
theorem dX5_areAlike_61 : decode cX5_areAlike 61 = .ok (.iadd, 1) := dk_96 (dk_at dksX5_areAlike_2 14 rfl rfl)
theorem dX5_areAlike_62 : decode cX5_areAlike 62 = .ok (.iaload, 1) := dk_46 (dk_at dksX5_areAlike_2 15 rfl rfl)
theorem dX5_areAlike_63 : decode cX5_areAlike 63 = .ok (.if_icmp .ne 7, 3) := dk_160 0 7 (dk_at dksX5_areAlike_2 16 rfl rfl)
theorem dX5_areAlike_66 : decode cX5_areAlike 66 = .ok (.iconst 1, 1) := dk_4 (dk_at dksX5_areAlike_2 19 rfl rfl)
theorem dX5_areAlike_67 : decode cX5_areAlike 67 = .ok (.goto 4, 3) := dk_167 0 4 (dk_at dksX5_areAlike_2 20 rfl rfl)
theorem dX5_areAlike_70 : decode cX5_areAlike 70 = .ok (.iconst 0, 1) := dk_3 (dk_at dksX5_areAlike_2 23 rfl rfl)
theorem dX5_areAlike_71 : decode cX5_areAlike 71 = .ok (.istore_n 3, 1) := dk_62 (dk_at dksX5_areAlike_3 0 rfl rfl)
theorem dX5_areAlike_72 : decode cX5_areAlike 72 = .ok (.iinc 4 1, 3) := dk_132 4 1 (dk_at dksX5_areAlike_3 1 rfl rfl)
theorem dX5_areAlike_75 : decode cX5_areAlike 75 = .ok (.goto (-51), 3) := dk_167 255 205 (dk_at dksX5_areAlike_3 4 rfl rfl)
theorem dX5_areAlike_78 : decode cX5_areAlike 78 = .ok (.iload_n 3, 1) := dk_29 (dk_at dksX5_areAlike_3 7 rfl rfl)
theorem dX5_areAlike_79 : decode cX5_areAlike 79 = .ok (.ireturn, 1) := dk_172 (dk_at dksX5_areAlike_3 8 rfl rfl)
abbrev cX5_drawn : ByteArray := prog_24_method_98_code
def yX5_drawn : MethodName := ⟨RX5, "drawn", "(IIIII)I"⟩
def dkwX5_drawn_12 : List UInt8 := [21, 5, 16, 10, 108, 4, 100, 104, 21, 5, 16, 10, 112, 96, 46, 172]
abbrev dktX5_drawn_12 : List UInt8 := dkwX5_drawn_12 ++ []
def dkwX5_drawn_11 : List UInt8 := [154, 0, 8, 21, 6, 167, 0, 34, 21, 5, 4, 160, 0, 8, 21, 7, 167, 0, 23, 42, 180, 0, 74, 8]
abbrev dktX5_drawn_11 : List UInt8 := dkwX5_drawn_11 ++ dktX5_drawn_12
def dkwX5_drawn_10 : List UInt8 := [96, 79, 132, 11, 1, 167, 255, 214, 132, 10, 1, 167, 255, 199, 132, 8, 1, 167, 255, 99, 21, 5]
abbrev dktX5_drawn_10 : List UInt8 := dkwX5_drawn_10 ++ dktX5_drawn_11
def dkwX5_drawn_9 : List UInt8 := [180, 0, 74, 8, 21, 10, 104, 42, 180, 0, 38, 16, 24, 21, 10, 104, 21, 11, 96, 46, 96, 92, 46, 4]
abbrev dktX5_drawn_9 : List UInt8 := dkwX5_drawn_9 ++ dktX5_drawn_10
def dkwX5_drawn_8 : List UInt8 := [21, 10, 5, 162, 0, 57, 3, 54, 11, 21, 11, 42, 180, 0, 47, 21, 10, 46, 162, 0, 36, 42]
abbrev dktX5_drawn_8 : List UInt8 := dkwX5_drawn_8 ++ dktX5_drawn_9
def dkwX5_drawn_7 : List UInt8 := [96, 54, 7, 21, 6, 42, 182, 1, 109, 153, 0, 7, 4, 167, 0, 4, 3, 96, 54, 6, 3, 54, 10]
abbrev dktX5_drawn_7 : List UInt8 := dkwX5_drawn_7 ++ dktX5_drawn_8
def dkwX5_drawn_6 : List UInt8 := [167, 255, 222, 42, 21, 9, 182, 0, 252, 21, 7, 42, 182, 1, 35, 2, 160, 0, 7, 3, 167, 0, 4, 4]
abbrev dktX5_drawn_6 : List UInt8 := dkwX5_drawn_6 ++ dktX5_drawn_7
def dkwX5_drawn_5 : List UInt8 := [16, 8, 182, 1, 106, 154, 0, 10, 4, 21, 10, 120, 167, 0, 4, 3, 128, 54, 9, 132, 10, 1]
abbrev dktX5_drawn_5 : List UInt8 := dkwX5_drawn_5 ++ dktX5_drawn_6
def dkwX5_drawn_4 : List UInt8 := [21, 4, 162, 0, 156, 3, 54, 9, 3, 54, 10, 21, 10, 42, 180, 0, 243, 162, 0, 31, 21, 9, 42]
abbrev dktX5_drawn_4 : List UInt8 := dkwX5_drawn_4 ++ dktX5_drawn_5
def dkwX5_drawn_3 : List UInt8 := [16, 10, 162, 0, 17, 42, 180, 0, 74, 21, 8, 3, 79, 132, 8, 1, 167, 255, 238, 3, 54, 8, 21, 8]
abbrev dktX5_drawn_3 : List UInt8 := dkwX5_drawn_3 ++ dktX5_drawn_4
def dkwX5_drawn_2 : List UInt8 := [184, 0, 145, 154, 0, 5, 2, 172, 42, 29, 181, 1, 102, 3, 54, 6, 3, 54, 7, 3, 54, 8, 21, 8]
abbrev dktX5_drawn_2 : List UInt8 := dkwX5_drawn_2 ++ dktX5_drawn_3
def dkwX5_drawn_1 : List UInt8 := [184, 0, 145, 154, 0, 29, 21, 5, 16, 10, 16, 14, 184, 0, 145, 154, 0, 17, 21, 5, 16, 20, 16, 24]
abbrev dktX5_drawn_1 : List UInt8 := dkwX5_drawn_1 ++ dktX5_drawn_2
def dkwX5_drawn_0 : List UInt8 := [42, 27, 28, 182, 0, 255, 153, 0, 48, 21, 4, 3, 16, 40, 184, 0, 145, 153, 0, 37, 21, 5, 3, 4]
abbrev dktX5_drawn_0 : List UInt8 := dkwX5_drawn_0 ++ dktX5_drawn_1
theorem dksX5_drawn_0 : cX5_drawn.data.toList.drop 0 = dktX5_drawn_0 := by decide +kernel
theorem dksX5_drawn_1 : cX5_drawn.data.toList.drop 24 = dktX5_drawn_1 := dk_seg dksX5_drawn_0 24 rfl rfl
theorem dksX5_drawn_2 : cX5_drawn.data.toList.drop 48 = dktX5_drawn_2 := dk_seg dksX5_drawn_1 24 rfl rfl
theorem dksX5_drawn_3 : cX5_drawn.data.toList.drop 72 = dktX5_drawn_3 := dk_seg dksX5_drawn_2 24 rfl rfl
theorem dksX5_drawn_4 : cX5_drawn.data.toList.drop 96 = dktX5_drawn_4 := dk_seg dksX5_drawn_3 24 rfl rfl
theorem dksX5_drawn_5 : cX5_drawn.data.toList.drop 119 = dktX5_drawn_5 := dk_seg dksX5_drawn_4 23 rfl rfl
theorem dksX5_drawn_6 : cX5_drawn.data.toList.drop 141 = dktX5_drawn_6 := dk_seg dksX5_drawn_5 22 rfl rfl
theorem dksX5_drawn_7 : cX5_drawn.data.toList.drop 165 = dktX5_drawn_7 := dk_seg dksX5_drawn_6 24 rfl rfl
theorem dksX5_drawn_8 : cX5_drawn.data.toList.drop 188 = dktX5_drawn_8 := dk_seg dksX5_drawn_7 23 rfl rfl
theorem dksX5_drawn_9 : cX5_drawn.data.toList.drop 210 = dktX5_drawn_9 := dk_seg dksX5_drawn_8 22 rfl rfl
theorem dksX5_drawn_10 : cX5_drawn.data.toList.drop 234 = dktX5_drawn_10 := dk_seg dksX5_drawn_9 24 rfl rfl
theorem dksX5_drawn_11 : cX5_drawn.data.toList.drop 256 = dktX5_drawn_11 := dk_seg dksX5_drawn_10 22 rfl rfl
theorem dksX5_drawn_12 : cX5_drawn.data.toList.drop 280 = dktX5_drawn_12 := dk_seg dksX5_drawn_11 24 rfl rfl
theorem dX5_drawn_0 : decode cX5_drawn 0 = .ok (.aload_n 0, 1) := dk_42 (dk_at dksX5_drawn_0 0 rfl rfl)
theorem dX5_drawn_1 : decode cX5_drawn 1 = .ok (.iload_n 1, 1) := dk_27 (dk_at dksX5_drawn_0 1 rfl rfl)
theorem dX5_drawn_2 : decode cX5_drawn 2 = .ok (.iload_n 2, 1) := dk_28 (dk_at dksX5_drawn_0 2 rfl rfl)
theorem dX5_drawn_3 : decode cX5_drawn 3 = .ok (.invokevirtual 255, 3) := dk_182 0 255 (dk_at dksX5_drawn_0 3 rfl rfl)
theorem dX5_drawn_6 : decode cX5_drawn 6 = .ok (.ifCond .eq 48, 3) := dk_153 0 48 (dk_at dksX5_drawn_0 6 rfl rfl)
theorem dX5_drawn_9 : decode cX5_drawn 9 = .ok (.iload 4, 2) := dk_21 4 (dk_at dksX5_drawn_0 9 rfl rfl)
theorem dX5_drawn_11 : decode cX5_drawn 11 = .ok (.iconst 0, 1) := dk_3 (dk_at dksX5_drawn_0 11 rfl rfl)
theorem dX5_drawn_12 : decode cX5_drawn 12 = .ok (.bipush 40, 2) := dk_16 40 (dk_at dksX5_drawn_0 12 rfl rfl)
theorem dX5_drawn_14 : decode cX5_drawn 14 = .ok (.invokestatic 145, 3) := dk_184 0 145 (dk_at dksX5_drawn_0 14 rfl rfl)
theorem dX5_drawn_17 : decode cX5_drawn 17 = .ok (.ifCond .eq 37, 3) := dk_153 0 37 (dk_at dksX5_drawn_0 17 rfl rfl)
theorem dX5_drawn_20 : decode cX5_drawn 20 = .ok (.iload 5, 2) := dk_21 5 (dk_at dksX5_drawn_0 20 rfl rfl)
theorem dX5_drawn_22 : decode cX5_drawn 22 = .ok (.iconst 0, 1) := dk_3 (dk_at dksX5_drawn_0 22 rfl rfl)
theorem dX5_drawn_23 : decode cX5_drawn 23 = .ok (.iconst 1, 1) := dk_4 (dk_at dksX5_drawn_0 23 rfl rfl)
theorem dX5_drawn_24 : decode cX5_drawn 24 = .ok (.invokestatic 145, 3) := dk_184 0 145 (dk_at dksX5_drawn_1 0 rfl rfl)
theorem dX5_drawn_27 : decode cX5_drawn 27 = .ok (.ifCond .ne 29, 3) := dk_154 0 29 (dk_at dksX5_drawn_1 3 rfl rfl)
theorem dX5_drawn_30 : decode cX5_drawn 30 = .ok (.iload 5, 2) := dk_21 5 (dk_at dksX5_drawn_1 6 rfl rfl)
theorem dX5_drawn_32 : decode cX5_drawn 32 = .ok (.bipush 10, 2) := dk_16 10 (dk_at dksX5_drawn_1 8 rfl rfl)
theorem dX5_drawn_34 : decode cX5_drawn 34 = .ok (.bipush 14, 2) := dk_16 14 (dk_at dksX5_drawn_1 10 rfl rfl)
theorem dX5_drawn_36 : decode cX5_drawn 36 = .ok (.invokestatic 145, 3) := dk_184 0 145 (dk_at dksX5_drawn_1 12 rfl rfl)
theorem dX5_drawn_39 : decode cX5_drawn 39 = .ok (.ifCond .ne 17, 3) := dk_154 0 17 (dk_at dksX5_drawn_1 15 rfl rfl)
theorem dX5_drawn_42 : decode cX5_drawn 42 = .ok (.iload 5, 2) := dk_21 5 (dk_at dksX5_drawn_1 18 rfl rfl)
theorem dX5_drawn_44 : decode cX5_drawn 44 = .ok (.bipush 20, 2) := dk_16 20 (dk_at dksX5_drawn_1 20 rfl rfl)
theorem dX5_drawn_46 : decode cX5_drawn 46 = .ok (.bipush 24, 2) := dk_16 24 (dk_at dksX5_drawn_1 22 rfl rfl)
theorem dX5_drawn_48 : decode cX5_drawn 48 = .ok (.invokestatic 145, 3) := dk_184 0 145 (dk_at dksX5_drawn_2 0 rfl rfl)
theorem dX5_drawn_51 : decode cX5_drawn 51 = .ok (.ifCond .ne 5, 3) := dk_154 0 5 (dk_at dksX5_drawn_2 3 rfl rfl)
theorem dX5_drawn_54 : decode cX5_drawn 54 = .ok (.iconst (-1), 1) := dk_2 (dk_at dksX5_drawn_2 6 rfl rfl)
theorem dX5_drawn_55 : decode cX5_drawn 55 = .ok (.ireturn, 1) := dk_172 (dk_at dksX5_drawn_2 7 rfl rfl)
theorem dX5_drawn_56 : decode cX5_drawn 56 = .ok (.aload_n 0, 1) := dk_42 (dk_at dksX5_drawn_2 8 rfl rfl)
theorem dX5_drawn_57 : decode cX5_drawn 57 = .ok (.iload_n 3, 1) := dk_29 (dk_at dksX5_drawn_2 9 rfl rfl)
theorem dX5_drawn_58 : decode cX5_drawn 58 = .ok (.putfield 358, 3) := dk_181 1 102 (dk_at dksX5_drawn_2 10 rfl rfl)
theorem dX5_drawn_61 : decode cX5_drawn 61 = .ok (.iconst 0, 1) := dk_3 (dk_at dksX5_drawn_2 13 rfl rfl)
theorem dX5_drawn_62 : decode cX5_drawn 62 = .ok (.istore 6, 2) := dk_54 6 (dk_at dksX5_drawn_2 14 rfl rfl)
theorem dX5_drawn_64 : decode cX5_drawn 64 = .ok (.iconst 0, 1) := dk_3 (dk_at dksX5_drawn_2 16 rfl rfl)
theorem dX5_drawn_65 : decode cX5_drawn 65 = .ok (.istore 7, 2) := dk_54 7 (dk_at dksX5_drawn_2 17 rfl rfl)
theorem dX5_drawn_67 : decode cX5_drawn 67 = .ok (.iconst 0, 1) := dk_3 (dk_at dksX5_drawn_2 19 rfl rfl)
theorem dX5_drawn_68 : decode cX5_drawn 68 = .ok (.istore 8, 2) := dk_54 8 (dk_at dksX5_drawn_2 20 rfl rfl)
theorem dX5_drawn_70 : decode cX5_drawn 70 = .ok (.iload 8, 2) := dk_21 8 (dk_at dksX5_drawn_2 22 rfl rfl)
theorem dX5_drawn_72 : decode cX5_drawn 72 = .ok (.bipush 10, 2) := dk_16 10 (dk_at dksX5_drawn_3 0 rfl rfl)
theorem dX5_drawn_74 : decode cX5_drawn 74 = .ok (.if_icmp .ge 17, 3) := dk_162 0 17 (dk_at dksX5_drawn_3 2 rfl rfl)
theorem dX5_drawn_77 : decode cX5_drawn 77 = .ok (.aload_n 0, 1) := dk_42 (dk_at dksX5_drawn_3 5 rfl rfl)
theorem dX5_drawn_78 : decode cX5_drawn 78 = .ok (.getfield 74, 3) := dk_180 0 74 (dk_at dksX5_drawn_3 6 rfl rfl)
theorem dX5_drawn_81 : decode cX5_drawn 81 = .ok (.iload 8, 2) := dk_21 8 (dk_at dksX5_drawn_3 9 rfl rfl)
theorem dX5_drawn_83 : decode cX5_drawn 83 = .ok (.iconst 0, 1) := dk_3 (dk_at dksX5_drawn_3 11 rfl rfl)
theorem dX5_drawn_84 : decode cX5_drawn 84 = .ok (.iastore, 1) := dk_79 (dk_at dksX5_drawn_3 12 rfl rfl)
theorem dX5_drawn_85 : decode cX5_drawn 85 = .ok (.iinc 8 1, 3) := dk_132 8 1 (dk_at dksX5_drawn_3 13 rfl rfl)
theorem dX5_drawn_88 : decode cX5_drawn 88 = .ok (.goto (-18), 3) := dk_167 255 238 (dk_at dksX5_drawn_3 16 rfl rfl)
theorem dX5_drawn_91 : decode cX5_drawn 91 = .ok (.iconst 0, 1) := dk_3 (dk_at dksX5_drawn_3 19 rfl rfl)
theorem dX5_drawn_92 : decode cX5_drawn 92 = .ok (.istore 8, 2) := dk_54 8 (dk_at dksX5_drawn_3 20 rfl rfl)
theorem dX5_drawn_94 : decode cX5_drawn 94 = .ok (.iload 8, 2) := dk_21 8 (dk_at dksX5_drawn_3 22 rfl rfl)
theorem dX5_drawn_96 : decode cX5_drawn 96 = .ok (.iload 4, 2) := dk_21 4 (dk_at dksX5_drawn_4 0 rfl rfl)
theorem dX5_drawn_98 : decode cX5_drawn 98 = .ok (.if_icmp .ge 156, 3) := dk_162 0 156 (dk_at dksX5_drawn_4 2 rfl rfl)
theorem dX5_drawn_101 : decode cX5_drawn 101 = .ok (.iconst 0, 1) := dk_3 (dk_at dksX5_drawn_4 5 rfl rfl)
theorem dX5_drawn_102 : decode cX5_drawn 102 = .ok (.istore 9, 2) := dk_54 9 (dk_at dksX5_drawn_4 6 rfl rfl)
theorem dX5_drawn_104 : decode cX5_drawn 104 = .ok (.iconst 0, 1) := dk_3 (dk_at dksX5_drawn_4 8 rfl rfl)
theorem dX5_drawn_105 : decode cX5_drawn 105 = .ok (.istore 10, 2) := dk_54 10 (dk_at dksX5_drawn_4 9 rfl rfl)
theorem dX5_drawn_107 : decode cX5_drawn 107 = .ok (.iload 10, 2) := dk_21 10 (dk_at dksX5_drawn_4 11 rfl rfl)
theorem dX5_drawn_109 : decode cX5_drawn 109 = .ok (.aload_n 0, 1) := dk_42 (dk_at dksX5_drawn_4 13 rfl rfl)
theorem dX5_drawn_110 : decode cX5_drawn 110 = .ok (.getfield 243, 3) := dk_180 0 243 (dk_at dksX5_drawn_4 14 rfl rfl)
theorem dX5_drawn_113 : decode cX5_drawn 113 = .ok (.if_icmp .ge 31, 3) := dk_162 0 31 (dk_at dksX5_drawn_4 17 rfl rfl)
theorem dX5_drawn_116 : decode cX5_drawn 116 = .ok (.iload 9, 2) := dk_21 9 (dk_at dksX5_drawn_4 20 rfl rfl)
theorem dX5_drawn_118 : decode cX5_drawn 118 = .ok (.aload_n 0, 1) := dk_42 (dk_at dksX5_drawn_4 22 rfl rfl)
theorem dX5_drawn_119 : decode cX5_drawn 119 = .ok (.bipush 8, 2) := dk_16 8 (dk_at dksX5_drawn_5 0 rfl rfl)
theorem dX5_drawn_121 : decode cX5_drawn 121 = .ok (.invokevirtual 362, 3) := dk_182 1 106 (dk_at dksX5_drawn_5 2 rfl rfl)
theorem dX5_drawn_124 : decode cX5_drawn 124 = .ok (.ifCond .ne 10, 3) := dk_154 0 10 (dk_at dksX5_drawn_5 5 rfl rfl)
theorem dX5_drawn_127 : decode cX5_drawn 127 = .ok (.iconst 1, 1) := dk_4 (dk_at dksX5_drawn_5 8 rfl rfl)
theorem dX5_drawn_128 : decode cX5_drawn 128 = .ok (.iload 10, 2) := dk_21 10 (dk_at dksX5_drawn_5 9 rfl rfl)
theorem dX5_drawn_130 : decode cX5_drawn 130 = .ok (.ishl, 1) := dk_120 (dk_at dksX5_drawn_5 11 rfl rfl)
theorem dX5_drawn_131 : decode cX5_drawn 131 = .ok (.goto 4, 3) := dk_167 0 4 (dk_at dksX5_drawn_5 12 rfl rfl)
theorem dX5_drawn_134 : decode cX5_drawn 134 = .ok (.iconst 0, 1) := dk_3 (dk_at dksX5_drawn_5 15 rfl rfl)
theorem dX5_drawn_135 : decode cX5_drawn 135 = .ok (.ior, 1) := dk_128 (dk_at dksX5_drawn_5 16 rfl rfl)
theorem dX5_drawn_136 : decode cX5_drawn 136 = .ok (.istore 9, 2) := dk_54 9 (dk_at dksX5_drawn_5 17 rfl rfl)
theorem dX5_drawn_138 : decode cX5_drawn 138 = .ok (.iinc 10 1, 3) := dk_132 10 1 (dk_at dksX5_drawn_5 19 rfl rfl)
theorem dX5_drawn_141 : decode cX5_drawn 141 = .ok (.goto (-34), 3) := dk_167 255 222 (dk_at dksX5_drawn_6 0 rfl rfl)
theorem dX5_drawn_144 : decode cX5_drawn 144 = .ok (.aload_n 0, 1) := dk_42 (dk_at dksX5_drawn_6 3 rfl rfl)
theorem dX5_drawn_145 : decode cX5_drawn 145 = .ok (.iload 9, 2) := dk_21 9 (dk_at dksX5_drawn_6 4 rfl rfl)
theorem dX5_drawn_147 : decode cX5_drawn 147 = .ok (.invokevirtual 252, 3) := dk_182 0 252 (dk_at dksX5_drawn_6 6 rfl rfl)
theorem dX5_drawn_150 : decode cX5_drawn 150 = .ok (.iload 7, 2) := dk_21 7 (dk_at dksX5_drawn_6 9 rfl rfl)
theorem dX5_drawn_152 : decode cX5_drawn 152 = .ok (.aload_n 0, 1) := dk_42 (dk_at dksX5_drawn_6 11 rfl rfl)
theorem dX5_drawn_153 : decode cX5_drawn 153 = .ok (.invokevirtual 291, 3) := dk_182 1 35 (dk_at dksX5_drawn_6 12 rfl rfl)
theorem dX5_drawn_156 : decode cX5_drawn 156 = .ok (.iconst (-1), 1) := dk_2 (dk_at dksX5_drawn_6 15 rfl rfl)
theorem dX5_drawn_157 : decode cX5_drawn 157 = .ok (.if_icmp .ne 7, 3) := dk_160 0 7 (dk_at dksX5_drawn_6 16 rfl rfl)
theorem dX5_drawn_160 : decode cX5_drawn 160 = .ok (.iconst 0, 1) := dk_3 (dk_at dksX5_drawn_6 19 rfl rfl)
theorem dX5_drawn_161 : decode cX5_drawn 161 = .ok (.goto 4, 3) := dk_167 0 4 (dk_at dksX5_drawn_6 20 rfl rfl)
theorem dX5_drawn_164 : decode cX5_drawn 164 = .ok (.iconst 1, 1) := dk_4 (dk_at dksX5_drawn_6 23 rfl rfl)
theorem dX5_drawn_165 : decode cX5_drawn 165 = .ok (.iadd, 1) := dk_96 (dk_at dksX5_drawn_7 0 rfl rfl)
theorem dX5_drawn_166 : decode cX5_drawn 166 = .ok (.istore 7, 2) := dk_54 7 (dk_at dksX5_drawn_7 1 rfl rfl)
theorem dX5_drawn_168 : decode cX5_drawn 168 = .ok (.iload 6, 2) := dk_21 6 (dk_at dksX5_drawn_7 3 rfl rfl)
theorem dX5_drawn_170 : decode cX5_drawn 170 = .ok (.aload_n 0, 1) := dk_42 (dk_at dksX5_drawn_7 5 rfl rfl)
theorem dX5_drawn_171 : decode cX5_drawn 171 = .ok (.invokevirtual 365, 3) := dk_182 1 109 (dk_at dksX5_drawn_7 6 rfl rfl)
theorem dX5_drawn_174 : decode cX5_drawn 174 = .ok (.ifCond .eq 7, 3) := dk_153 0 7 (dk_at dksX5_drawn_7 9 rfl rfl)
theorem dX5_drawn_177 : decode cX5_drawn 177 = .ok (.iconst 1, 1) := dk_4 (dk_at dksX5_drawn_7 12 rfl rfl)
theorem dX5_drawn_178 : decode cX5_drawn 178 = .ok (.goto 4, 3) := dk_167 0 4 (dk_at dksX5_drawn_7 13 rfl rfl)
theorem dX5_drawn_181 : decode cX5_drawn 181 = .ok (.iconst 0, 1) := dk_3 (dk_at dksX5_drawn_7 16 rfl rfl)
theorem dX5_drawn_182 : decode cX5_drawn 182 = .ok (.iadd, 1) := dk_96 (dk_at dksX5_drawn_7 17 rfl rfl)
theorem dX5_drawn_183 : decode cX5_drawn 183 = .ok (.istore 6, 2) := dk_54 6 (dk_at dksX5_drawn_7 18 rfl rfl)
theorem dX5_drawn_185 : decode cX5_drawn 185 = .ok (.iconst 0, 1) := dk_3 (dk_at dksX5_drawn_7 20 rfl rfl)
theorem dX5_drawn_186 : decode cX5_drawn 186 = .ok (.istore 10, 2) := dk_54 10 (dk_at dksX5_drawn_7 21 rfl rfl)
theorem dX5_drawn_188 : decode cX5_drawn 188 = .ok (.iload 10, 2) := dk_21 10 (dk_at dksX5_drawn_8 0 rfl rfl)
theorem dX5_drawn_190 : decode cX5_drawn 190 = .ok (.iconst 2, 1) := dk_5 (dk_at dksX5_drawn_8 2 rfl rfl)
theorem dX5_drawn_191 : decode cX5_drawn 191 = .ok (.if_icmp .ge 57, 3) := dk_162 0 57 (dk_at dksX5_drawn_8 3 rfl rfl)
theorem dX5_drawn_194 : decode cX5_drawn 194 = .ok (.iconst 0, 1) := dk_3 (dk_at dksX5_drawn_8 6 rfl rfl)
theorem dX5_drawn_195 : decode cX5_drawn 195 = .ok (.istore 11, 2) := dk_54 11 (dk_at dksX5_drawn_8 7 rfl rfl)
theorem dX5_drawn_197 : decode cX5_drawn 197 = .ok (.iload 11, 2) := dk_21 11 (dk_at dksX5_drawn_8 9 rfl rfl)
theorem dX5_drawn_199 : decode cX5_drawn 199 = .ok (.aload_n 0, 1) := dk_42 (dk_at dksX5_drawn_8 11 rfl rfl)
theorem dX5_drawn_200 : decode cX5_drawn 200 = .ok (.getfield 47, 3) := dk_180 0 47 (dk_at dksX5_drawn_8 12 rfl rfl)
theorem dX5_drawn_203 : decode cX5_drawn 203 = .ok (.iload 10, 2) := dk_21 10 (dk_at dksX5_drawn_8 15 rfl rfl)
theorem dX5_drawn_205 : decode cX5_drawn 205 = .ok (.iaload, 1) := dk_46 (dk_at dksX5_drawn_8 17 rfl rfl)
theorem dX5_drawn_206 : decode cX5_drawn 206 = .ok (.if_icmp .ge 36, 3) := dk_162 0 36 (dk_at dksX5_drawn_8 18 rfl rfl)
theorem dX5_drawn_209 : decode cX5_drawn 209 = .ok (.aload_n 0, 1) := dk_42 (dk_at dksX5_drawn_8 21 rfl rfl)
theorem dX5_drawn_210 : decode cX5_drawn 210 = .ok (.getfield 74, 3) := dk_180 0 74 (dk_at dksX5_drawn_9 0 rfl rfl)
theorem dX5_drawn_213 : decode cX5_drawn 213 = .ok (.iconst 5, 1) := dk_8 (dk_at dksX5_drawn_9 3 rfl rfl)
theorem dX5_drawn_214 : decode cX5_drawn 214 = .ok (.iload 10, 2) := dk_21 10 (dk_at dksX5_drawn_9 4 rfl rfl)
theorem dX5_drawn_216 : decode cX5_drawn 216 = .ok (.imul, 1) := dk_104 (dk_at dksX5_drawn_9 6 rfl rfl)
theorem dX5_drawn_217 : decode cX5_drawn 217 = .ok (.aload_n 0, 1) := dk_42 (dk_at dksX5_drawn_9 7 rfl rfl)
theorem dX5_drawn_218 : decode cX5_drawn 218 = .ok (.getfield 38, 3) := dk_180 0 38 (dk_at dksX5_drawn_9 8 rfl rfl)
theorem dX5_drawn_221 : decode cX5_drawn 221 = .ok (.bipush 24, 2) := dk_16 24 (dk_at dksX5_drawn_9 11 rfl rfl)
theorem dX5_drawn_223 : decode cX5_drawn 223 = .ok (.iload 10, 2) := dk_21 10 (dk_at dksX5_drawn_9 13 rfl rfl)
theorem dX5_drawn_225 : decode cX5_drawn 225 = .ok (.imul, 1) := dk_104 (dk_at dksX5_drawn_9 15 rfl rfl)
theorem dX5_drawn_226 : decode cX5_drawn 226 = .ok (.iload 11, 2) := dk_21 11 (dk_at dksX5_drawn_9 16 rfl rfl)
theorem dX5_drawn_228 : decode cX5_drawn 228 = .ok (.iadd, 1) := dk_96 (dk_at dksX5_drawn_9 18 rfl rfl)
theorem dX5_drawn_229 : decode cX5_drawn 229 = .ok (.iaload, 1) := dk_46 (dk_at dksX5_drawn_9 19 rfl rfl)
theorem dX5_drawn_230 : decode cX5_drawn 230 = .ok (.iadd, 1) := dk_96 (dk_at dksX5_drawn_9 20 rfl rfl)
theorem dX5_drawn_231 : decode cX5_drawn 231 = .ok (.dup2, 1) := dk_92 (dk_at dksX5_drawn_9 21 rfl rfl)
theorem dX5_drawn_232 : decode cX5_drawn 232 = .ok (.iaload, 1) := dk_46 (dk_at dksX5_drawn_9 22 rfl rfl)
theorem dX5_drawn_233 : decode cX5_drawn 233 = .ok (.iconst 1, 1) := dk_4 (dk_at dksX5_drawn_9 23 rfl rfl)
theorem dX5_drawn_234 : decode cX5_drawn 234 = .ok (.iadd, 1) := dk_96 (dk_at dksX5_drawn_10 0 rfl rfl)
theorem dX5_drawn_235 : decode cX5_drawn 235 = .ok (.iastore, 1) := dk_79 (dk_at dksX5_drawn_10 1 rfl rfl)
theorem dX5_drawn_236 : decode cX5_drawn 236 = .ok (.iinc 11 1, 3) := dk_132 11 1 (dk_at dksX5_drawn_10 2 rfl rfl)
theorem dX5_drawn_239 : decode cX5_drawn 239 = .ok (.goto (-42), 3) := dk_167 255 214 (dk_at dksX5_drawn_10 5 rfl rfl)
theorem dX5_drawn_242 : decode cX5_drawn 242 = .ok (.iinc 10 1, 3) := dk_132 10 1 (dk_at dksX5_drawn_10 8 rfl rfl)
theorem dX5_drawn_245 : decode cX5_drawn 245 = .ok (.goto (-57), 3) := dk_167 255 199 (dk_at dksX5_drawn_10 11 rfl rfl)
theorem dX5_drawn_248 : decode cX5_drawn 248 = .ok (.iinc 8 1, 3) := dk_132 8 1 (dk_at dksX5_drawn_10 14 rfl rfl)
theorem dX5_drawn_251 : decode cX5_drawn 251 = .ok (.goto (-157), 3) := dk_167 255 99 (dk_at dksX5_drawn_10 17 rfl rfl)
theorem dX5_drawn_254 : decode cX5_drawn 254 = .ok (.iload 5, 2) := dk_21 5 (dk_at dksX5_drawn_10 20 rfl rfl)
theorem dX5_drawn_256 : decode cX5_drawn 256 = .ok (.ifCond .ne 8, 3) := dk_154 0 8 (dk_at dksX5_drawn_11 0 rfl rfl)
theorem dX5_drawn_259 : decode cX5_drawn 259 = .ok (.iload 6, 2) := dk_21 6 (dk_at dksX5_drawn_11 3 rfl rfl)
theorem dX5_drawn_261 : decode cX5_drawn 261 = .ok (.goto 34, 3) := dk_167 0 34 (dk_at dksX5_drawn_11 5 rfl rfl)
theorem dX5_drawn_264 : decode cX5_drawn 264 = .ok (.iload 5, 2) := dk_21 5 (dk_at dksX5_drawn_11 8 rfl rfl)
theorem dX5_drawn_266 : decode cX5_drawn 266 = .ok (.iconst 1, 1) := dk_4 (dk_at dksX5_drawn_11 10 rfl rfl)
theorem dX5_drawn_267 : decode cX5_drawn 267 = .ok (.if_icmp .ne 8, 3) := dk_160 0 8 (dk_at dksX5_drawn_11 11 rfl rfl)
theorem dX5_drawn_270 : decode cX5_drawn 270 = .ok (.iload 7, 2) := dk_21 7 (dk_at dksX5_drawn_11 14 rfl rfl)
theorem dX5_drawn_272 : decode cX5_drawn 272 = .ok (.goto 23, 3) := dk_167 0 23 (dk_at dksX5_drawn_11 16 rfl rfl)
theorem dX5_drawn_275 : decode cX5_drawn 275 = .ok (.aload_n 0, 1) := dk_42 (dk_at dksX5_drawn_11 19 rfl rfl)
theorem dX5_drawn_276 : decode cX5_drawn 276 = .ok (.getfield 74, 3) := dk_180 0 74 (dk_at dksX5_drawn_11 20 rfl rfl)
theorem dX5_drawn_279 : decode cX5_drawn 279 = .ok (.iconst 5, 1) := dk_8 (dk_at dksX5_drawn_11 23 rfl rfl)
theorem dX5_drawn_280 : decode cX5_drawn 280 = .ok (.iload 5, 2) := dk_21 5 (dk_at dksX5_drawn_12 0 rfl rfl)
theorem dX5_drawn_282 : decode cX5_drawn 282 = .ok (.bipush 10, 2) := dk_16 10 (dk_at dksX5_drawn_12 2 rfl rfl)
theorem dX5_drawn_284 : decode cX5_drawn 284 = .ok (.idiv, 1) := dk_108 (dk_at dksX5_drawn_12 4 rfl rfl)
theorem dX5_drawn_285 : decode cX5_drawn 285 = .ok (.iconst 1, 1) := dk_4 (dk_at dksX5_drawn_12 5 rfl rfl)
theorem dX5_drawn_286 : decode cX5_drawn 286 = .ok (.isub, 1) := dk_100 (dk_at dksX5_drawn_12 6 rfl rfl)
theorem dX5_drawn_287 : decode cX5_drawn 287 = .ok (.imul, 1) := dk_104 (dk_at dksX5_drawn_12 7 rfl rfl)
theorem dX5_drawn_288 : decode cX5_drawn 288 = .ok (.iload 5, 2) := dk_21 5 (dk_at dksX5_drawn_12 8 rfl rfl)
theorem dX5_drawn_290 : decode cX5_drawn 290 = .ok (.bipush 10, 2) := dk_16 10 (dk_at dksX5_drawn_12 10 rfl rfl)
theorem dX5_drawn_292 : decode cX5_drawn 292 = .ok (.irem, 1) := dk_112 (dk_at dksX5_drawn_12 12 rfl rfl)
theorem dX5_drawn_293 : decode cX5_drawn 293 = .ok (.iadd, 1) := dk_96 (dk_at dksX5_drawn_12 13 rfl rfl)
theorem dX5_drawn_294 : decode cX5_drawn 294 = .ok (.iaload, 1) := dk_46 (dk_at dksX5_drawn_12 14 rfl rfl)
theorem dX5_drawn_295 : decode cX5_drawn 295 = .ok (.ireturn, 1) := dk_172 (dk_at dksX5_drawn_12 15 rfl rfl)
abbrev cX5_below : ByteArray := prog_24_method_96_code
def yX5_below : MethodName := ⟨RX5, "below", "(I)I"⟩
def dkwX5_below_1 : List UInt8 := [112, 172]
abbrev dktX5_below_1 : List UInt8 := dkwX5_below_1 ++ []
def dkwX5_below_0 : List UInt8 := [42, 42, 180, 1, 102, 19, 1, 105, 104, 17, 48, 57, 96, 181, 1, 102, 42, 180, 1, 102, 16, 16, 124, 27]
abbrev dktX5_below_0 : List UInt8 := dkwX5_below_0 ++ dktX5_below_1
theorem dksX5_below_0 : cX5_below.data.toList.drop 0 = dktX5_below_0 := by decide +kernel
theorem dksX5_below_1 : cX5_below.data.toList.drop 24 = dktX5_below_1 := dk_seg dksX5_below_0 24 rfl rfl
theorem dX5_below_0 : decode cX5_below 0 = .ok (.aload_n 0, 1) := dk_42 (dk_at dksX5_below_0 0 rfl rfl)
theorem dX5_below_1 : decode cX5_below 1 = .ok (.aload_n 0, 1) := dk_42 (dk_at dksX5_below_0 1 rfl rfl)
theorem dX5_below_2 : decode cX5_below 2 = .ok (.getfield 358, 3) := dk_180 1 102 (dk_at dksX5_below_0 2 rfl rfl)
theorem dX5_below_5 : decode cX5_below 5 = .ok (.ldc_w 361, 3) := dk_19 1 105 (dk_at dksX5_below_0 5 rfl rfl)
theorem dX5_below_8 : decode cX5_below 8 = .ok (.imul, 1) := dk_104 (dk_at dksX5_below_0 8 rfl rfl)
theorem dX5_below_9 : decode cX5_below 9 = .ok (.sipush 12345, 3) := dk_17 48 57 (dk_at dksX5_below_0 9 rfl rfl)
theorem dX5_below_12 : decode cX5_below 12 = .ok (.iadd, 1) := dk_96 (dk_at dksX5_below_0 12 rfl rfl)
theorem dX5_below_13 : decode cX5_below 13 = .ok (.putfield 358, 3) := dk_181 1 102 (dk_at dksX5_below_0 13 rfl rfl)
theorem dX5_below_16 : decode cX5_below 16 = .ok (.aload_n 0, 1) := dk_42 (dk_at dksX5_below_0 16 rfl rfl)
theorem dX5_below_17 : decode cX5_below 17 = .ok (.getfield 358, 3) := dk_180 1 102 (dk_at dksX5_below_0 17 rfl rfl)
theorem dX5_below_20 : decode cX5_below 20 = .ok (.bipush 16, 2) := dk_16 16 (dk_at dksX5_below_0 20 rfl rfl)
theorem dX5_below_22 : decode cX5_below 22 = .ok (.iushr, 1) := dk_124 (dk_at dksX5_below_0 22 rfl rfl)
theorem dX5_below_23 : decode cX5_below 23 = .ok (.iload_n 1, 1) := dk_27 (dk_at dksX5_below_0 23 rfl rfl)
theorem dX5_below_24 : decode cX5_below 24 = .ok (.irem, 1) := dk_112 (dk_at dksX5_below_1 0 rfl rfl)
theorem dX5_below_25 : decode cX5_below 25 = .ok (.ireturn, 1) := dk_172 (dk_at dksX5_below_1 1 rfl rfl)
abbrev cX5_madeAlike : ByteArray := prog_24_method_97_code
def yX5_madeAlike : MethodName := ⟨RX5, "madeAlike", "()Z"⟩
def dkwX5_madeAlike_2 : List UInt8 := [16, 24, 28, 96, 46, 160, 0, 7, 4, 167, 0, 4, 3, 60, 132, 2, 1, 167, 255, 215, 27, 172]
abbrev dktX5_madeAlike_2 : List UInt8 := dkwX5_madeAlike_2 ++ []
def dkwX5_madeAlike_1 : List UInt8 := [42, 180, 0, 47, 3, 46, 162, 0, 37, 27, 153, 0, 33, 42, 180, 0, 38, 28, 46, 42, 180, 0, 38]
abbrev dktX5_madeAlike_1 : List UInt8 := dkwX5_madeAlike_1 ++ dktX5_madeAlike_2
def dkwX5_madeAlike_0 : List UInt8 := [42, 180, 0, 47, 3, 46, 42, 180, 0, 47, 4, 46, 160, 0, 7, 4, 167, 0, 4, 3, 60, 3, 61, 28]
abbrev dktX5_madeAlike_0 : List UInt8 := dkwX5_madeAlike_0 ++ dktX5_madeAlike_1
theorem dksX5_madeAlike_0 : cX5_madeAlike.data.toList.drop 0 = dktX5_madeAlike_0 := by decide +kernel
theorem dksX5_madeAlike_1 : cX5_madeAlike.data.toList.drop 24 = dktX5_madeAlike_1 := dk_seg dksX5_madeAlike_0 24 rfl rfl
theorem dksX5_madeAlike_2 : cX5_madeAlike.data.toList.drop 47 = dktX5_madeAlike_2 := dk_seg dksX5_madeAlike_1 23 rfl rfl
theorem dX5_madeAlike_0 : decode cX5_madeAlike 0 = .ok (.aload_n 0, 1) := dk_42 (dk_at dksX5_madeAlike_0 0 rfl rfl)
theorem dX5_madeAlike_1 : decode cX5_madeAlike 1 = .ok (.getfield 47, 3) := dk_180 0 47 (dk_at dksX5_madeAlike_0 1 rfl rfl)
theorem dX5_madeAlike_4 : decode cX5_madeAlike 4 = .ok (.iconst 0, 1) := dk_3 (dk_at dksX5_madeAlike_0 4 rfl rfl)
theorem dX5_madeAlike_5 : decode cX5_madeAlike 5 = .ok (.iaload, 1) := dk_46 (dk_at dksX5_madeAlike_0 5 rfl rfl)
theorem dX5_madeAlike_6 : decode cX5_madeAlike 6 = .ok (.aload_n 0, 1) := dk_42 (dk_at dksX5_madeAlike_0 6 rfl rfl)
theorem dX5_madeAlike_7 : decode cX5_madeAlike 7 = .ok (.getfield 47, 3) := dk_180 0 47 (dk_at dksX5_madeAlike_0 7 rfl rfl)
theorem dX5_madeAlike_10 : decode cX5_madeAlike 10 = .ok (.iconst 1, 1) := dk_4 (dk_at dksX5_madeAlike_0 10 rfl rfl)
theorem dX5_madeAlike_11 : decode cX5_madeAlike 11 = .ok (.iaload, 1) := dk_46 (dk_at dksX5_madeAlike_0 11 rfl rfl)
theorem dX5_madeAlike_12 : decode cX5_madeAlike 12 = .ok (.if_icmp .ne 7, 3) := dk_160 0 7 (dk_at dksX5_madeAlike_0 12 rfl rfl)
theorem dX5_madeAlike_15 : decode cX5_madeAlike 15 = .ok (.iconst 1, 1) := dk_4 (dk_at dksX5_madeAlike_0 15 rfl rfl)
theorem dX5_madeAlike_16 : decode cX5_madeAlike 16 = .ok (.goto 4, 3) := dk_167 0 4 (dk_at dksX5_madeAlike_0 16 rfl rfl)
theorem dX5_madeAlike_19 : decode cX5_madeAlike 19 = .ok (.iconst 0, 1) := dk_3 (dk_at dksX5_madeAlike_0 19 rfl rfl)
theorem dX5_madeAlike_20 : decode cX5_madeAlike 20 = .ok (.istore_n 1, 1) := dk_60 (dk_at dksX5_madeAlike_0 20 rfl rfl)
theorem dX5_madeAlike_21 : decode cX5_madeAlike 21 = .ok (.iconst 0, 1) := dk_3 (dk_at dksX5_madeAlike_0 21 rfl rfl)
theorem dX5_madeAlike_22 : decode cX5_madeAlike 22 = .ok (.istore_n 2, 1) := dk_61 (dk_at dksX5_madeAlike_0 22 rfl rfl)
theorem dX5_madeAlike_23 : decode cX5_madeAlike 23 = .ok (.iload_n 2, 1) := dk_28 (dk_at dksX5_madeAlike_0 23 rfl rfl)
theorem dX5_madeAlike_24 : decode cX5_madeAlike 24 = .ok (.aload_n 0, 1) := dk_42 (dk_at dksX5_madeAlike_1 0 rfl rfl)
theorem dX5_madeAlike_25 : decode cX5_madeAlike 25 = .ok (.getfield 47, 3) := dk_180 0 47 (dk_at dksX5_madeAlike_1 1 rfl rfl)
theorem dX5_madeAlike_28 : decode cX5_madeAlike 28 = .ok (.iconst 0, 1) := dk_3 (dk_at dksX5_madeAlike_1 4 rfl rfl)
theorem dX5_madeAlike_29 : decode cX5_madeAlike 29 = .ok (.iaload, 1) := dk_46 (dk_at dksX5_madeAlike_1 5 rfl rfl)
theorem dX5_madeAlike_30 : decode cX5_madeAlike 30 = .ok (.if_icmp .ge 37, 3) := dk_162 0 37 (dk_at dksX5_madeAlike_1 6 rfl rfl)
theorem dX5_madeAlike_33 : decode cX5_madeAlike 33 = .ok (.iload_n 1, 1) := dk_27 (dk_at dksX5_madeAlike_1 9 rfl rfl)
theorem dX5_madeAlike_34 : decode cX5_madeAlike 34 = .ok (.ifCond .eq 33, 3) := dk_153 0 33 (dk_at dksX5_madeAlike_1 10 rfl rfl)
theorem dX5_madeAlike_37 : decode cX5_madeAlike 37 = .ok (.aload_n 0, 1) := dk_42 (dk_at dksX5_madeAlike_1 13 rfl rfl)
theorem dX5_madeAlike_38 : decode cX5_madeAlike 38 = .ok (.getfield 38, 3) := dk_180 0 38 (dk_at dksX5_madeAlike_1 14 rfl rfl)
theorem dX5_madeAlike_41 : decode cX5_madeAlike 41 = .ok (.iload_n 2, 1) := dk_28 (dk_at dksX5_madeAlike_1 17 rfl rfl)
theorem dX5_madeAlike_42 : decode cX5_madeAlike 42 = .ok (.iaload, 1) := dk_46 (dk_at dksX5_madeAlike_1 18 rfl rfl)
theorem dX5_madeAlike_43 : decode cX5_madeAlike 43 = .ok (.aload_n 0, 1) := dk_42 (dk_at dksX5_madeAlike_1 19 rfl rfl)
theorem dX5_madeAlike_44 : decode cX5_madeAlike 44 = .ok (.getfield 38, 3) := dk_180 0 38 (dk_at dksX5_madeAlike_1 20 rfl rfl)
theorem dX5_madeAlike_47 : decode cX5_madeAlike 47 = .ok (.bipush 24, 2) := dk_16 24 (dk_at dksX5_madeAlike_2 0 rfl rfl)
theorem dX5_madeAlike_49 : decode cX5_madeAlike 49 = .ok (.iload_n 2, 1) := dk_28 (dk_at dksX5_madeAlike_2 2 rfl rfl)
theorem dX5_madeAlike_50 : decode cX5_madeAlike 50 = .ok (.iadd, 1) := dk_96 (dk_at dksX5_madeAlike_2 3 rfl rfl)
theorem dX5_madeAlike_51 : decode cX5_madeAlike 51 = .ok (.iaload, 1) := dk_46 (dk_at dksX5_madeAlike_2 4 rfl rfl)
theorem dX5_madeAlike_52 : decode cX5_madeAlike 52 = .ok (.if_icmp .ne 7, 3) := dk_160 0 7 (dk_at dksX5_madeAlike_2 5 rfl rfl)
theorem dX5_madeAlike_55 : decode cX5_madeAlike 55 = .ok (.iconst 1, 1) := dk_4 (dk_at dksX5_madeAlike_2 8 rfl rfl)
theorem dX5_madeAlike_56 : decode cX5_madeAlike 56 = .ok (.goto 4, 3) := dk_167 0 4 (dk_at dksX5_madeAlike_2 9 rfl rfl)
theorem dX5_madeAlike_59 : decode cX5_madeAlike 59 = .ok (.iconst 0, 1) := dk_3 (dk_at dksX5_madeAlike_2 12 rfl rfl)
theorem dX5_madeAlike_60 : decode cX5_madeAlike 60 = .ok (.istore_n 1, 1) := dk_60 (dk_at dksX5_madeAlike_2 13 rfl rfl)
theorem dX5_madeAlike_61 : decode cX5_madeAlike 61 = .ok (.iinc 2 1, 3) := dk_132 2 1 (dk_at dksX5_madeAlike_2 14 rfl rfl)
theorem dX5_madeAlike_64 : decode cX5_madeAlike 64 = .ok (.goto (-41), 3) := dk_167 255 215 (dk_at dksX5_madeAlike_2 17 rfl rfl)
theorem dX5_madeAlike_67 : decode cX5_madeAlike 67 = .ok (.iload_n 1, 1) := dk_27 (dk_at dksX5_madeAlike_2 20 rfl rfl)
theorem dX5_madeAlike_68 : decode cX5_madeAlike 68 = .ok (.ireturn, 1) := dk_172 (dk_at dksX5_madeAlike_2 21 rfl rfl)
abbrev cX5_common : ByteArray := prog_24_method_101_code
def yX5_common : MethodName := ⟨RX5, "common", "(III)I"⟩
def dkwX5_common_4 : List UInt8 := [132, 7, 1, 167, 255, 213, 132, 6, 1, 167, 255, 194, 29, 154, 0, 8, 21, 4, 167, 0, 5, 21, 5, 172]
abbrev dktX5_common_4 : List UInt8 := dkwX5_common_4 ++ []
def dkwX5_common_3 : List UInt8 := [21, 4, 163, 0, 6, 167, 0, 17, 42, 21, 6, 21, 7, 182, 1, 115, 54, 4, 21, 6, 54, 5]
abbrev dktX5_common_3 : List UInt8 := dkwX5_common_3 ++ dktX5_common_4
def dkwX5_common_2 : List UInt8 := [162, 0, 58, 3, 54, 7, 21, 7, 42, 4, 182, 1, 5, 162, 0, 39, 42, 21, 6, 21, 7, 182, 1, 115]
abbrev dktX5_common_2 : List UInt8 := dkwX5_common_2 ++ dktX5_common_3
def dkwX5_common_1 : List UInt8 := [160, 0, 8, 42, 182, 1, 112, 172, 3, 54, 4, 3, 54, 5, 3, 54, 6, 21, 6, 42, 3, 182, 1, 5]
abbrev dktX5_common_1 : List UInt8 := dkwX5_common_1 ++ dktX5_common_2
def dkwX5_common_0 : List UInt8 := [42, 27, 28, 182, 0, 255, 153, 0, 12, 29, 3, 5, 184, 0, 145, 154, 0, 5, 2, 172, 29, 5]
abbrev dktX5_common_0 : List UInt8 := dkwX5_common_0 ++ dktX5_common_1
theorem dksX5_common_0 : cX5_common.data.toList.drop 0 = dktX5_common_0 := by decide +kernel
theorem dksX5_common_1 : cX5_common.data.toList.drop 22 = dktX5_common_1 := dk_seg dksX5_common_0 22 rfl rfl
theorem dksX5_common_2 : cX5_common.data.toList.drop 46 = dktX5_common_2 := dk_seg dksX5_common_1 24 rfl rfl
theorem dksX5_common_3 : cX5_common.data.toList.drop 70 = dktX5_common_3 := dk_seg dksX5_common_2 24 rfl rfl
theorem dksX5_common_4 : cX5_common.data.toList.drop 92 = dktX5_common_4 := dk_seg dksX5_common_3 22 rfl rfl
theorem dX5_common_0 : decode cX5_common 0 = .ok (.aload_n 0, 1) := dk_42 (dk_at dksX5_common_0 0 rfl rfl)
theorem dX5_common_1 : decode cX5_common 1 = .ok (.iload_n 1, 1) := dk_27 (dk_at dksX5_common_0 1 rfl rfl)
theorem dX5_common_2 : decode cX5_common 2 = .ok (.iload_n 2, 1) := dk_28 (dk_at dksX5_common_0 2 rfl rfl)
theorem dX5_common_3 : decode cX5_common 3 = .ok (.invokevirtual 255, 3) := dk_182 0 255 (dk_at dksX5_common_0 3 rfl rfl)
theorem dX5_common_6 : decode cX5_common 6 = .ok (.ifCond .eq 12, 3) := dk_153 0 12 (dk_at dksX5_common_0 6 rfl rfl)
theorem dX5_common_9 : decode cX5_common 9 = .ok (.iload_n 3, 1) := dk_29 (dk_at dksX5_common_0 9 rfl rfl)
theorem dX5_common_10 : decode cX5_common 10 = .ok (.iconst 0, 1) := dk_3 (dk_at dksX5_common_0 10 rfl rfl)
theorem dX5_common_11 : decode cX5_common 11 = .ok (.iconst 2, 1) := dk_5 (dk_at dksX5_common_0 11 rfl rfl)
theorem dX5_common_12 : decode cX5_common 12 = .ok (.invokestatic 145, 3) := dk_184 0 145 (dk_at dksX5_common_0 12 rfl rfl)
theorem dX5_common_15 : decode cX5_common 15 = .ok (.ifCond .ne 5, 3) := dk_154 0 5 (dk_at dksX5_common_0 15 rfl rfl)
theorem dX5_common_18 : decode cX5_common 18 = .ok (.iconst (-1), 1) := dk_2 (dk_at dksX5_common_0 18 rfl rfl)
theorem dX5_common_19 : decode cX5_common 19 = .ok (.ireturn, 1) := dk_172 (dk_at dksX5_common_0 19 rfl rfl)
theorem dX5_common_20 : decode cX5_common 20 = .ok (.iload_n 3, 1) := dk_29 (dk_at dksX5_common_0 20 rfl rfl)
theorem dX5_common_21 : decode cX5_common 21 = .ok (.iconst 2, 1) := dk_5 (dk_at dksX5_common_0 21 rfl rfl)
theorem dX5_common_22 : decode cX5_common 22 = .ok (.if_icmp .ne 8, 3) := dk_160 0 8 (dk_at dksX5_common_1 0 rfl rfl)
theorem dX5_common_25 : decode cX5_common 25 = .ok (.aload_n 0, 1) := dk_42 (dk_at dksX5_common_1 3 rfl rfl)
theorem dX5_common_26 : decode cX5_common 26 = .ok (.invokevirtual 368, 3) := dk_182 1 112 (dk_at dksX5_common_1 4 rfl rfl)
theorem dX5_common_29 : decode cX5_common 29 = .ok (.ireturn, 1) := dk_172 (dk_at dksX5_common_1 7 rfl rfl)
theorem dX5_common_30 : decode cX5_common 30 = .ok (.iconst 0, 1) := dk_3 (dk_at dksX5_common_1 8 rfl rfl)
theorem dX5_common_31 : decode cX5_common 31 = .ok (.istore 4, 2) := dk_54 4 (dk_at dksX5_common_1 9 rfl rfl)
theorem dX5_common_33 : decode cX5_common 33 = .ok (.iconst 0, 1) := dk_3 (dk_at dksX5_common_1 11 rfl rfl)
theorem dX5_common_34 : decode cX5_common 34 = .ok (.istore 5, 2) := dk_54 5 (dk_at dksX5_common_1 12 rfl rfl)
theorem dX5_common_36 : decode cX5_common 36 = .ok (.iconst 0, 1) := dk_3 (dk_at dksX5_common_1 14 rfl rfl)
theorem dX5_common_37 : decode cX5_common 37 = .ok (.istore 6, 2) := dk_54 6 (dk_at dksX5_common_1 15 rfl rfl)
theorem dX5_common_39 : decode cX5_common 39 = .ok (.iload 6, 2) := dk_21 6 (dk_at dksX5_common_1 17 rfl rfl)
theorem dX5_common_41 : decode cX5_common 41 = .ok (.aload_n 0, 1) := dk_42 (dk_at dksX5_common_1 19 rfl rfl)
theorem dX5_common_42 : decode cX5_common 42 = .ok (.iconst 0, 1) := dk_3 (dk_at dksX5_common_1 20 rfl rfl)
theorem dX5_common_43 : decode cX5_common 43 = .ok (.invokevirtual 261, 3) := dk_182 1 5 (dk_at dksX5_common_1 21 rfl rfl)
theorem dX5_common_46 : decode cX5_common 46 = .ok (.if_icmp .ge 58, 3) := dk_162 0 58 (dk_at dksX5_common_2 0 rfl rfl)
theorem dX5_common_49 : decode cX5_common 49 = .ok (.iconst 0, 1) := dk_3 (dk_at dksX5_common_2 3 rfl rfl)
theorem dX5_common_50 : decode cX5_common 50 = .ok (.istore 7, 2) := dk_54 7 (dk_at dksX5_common_2 4 rfl rfl)
theorem dX5_common_52 : decode cX5_common 52 = .ok (.iload 7, 2) := dk_21 7 (dk_at dksX5_common_2 6 rfl rfl)
theorem dX5_common_54 : decode cX5_common 54 = .ok (.aload_n 0, 1) := dk_42 (dk_at dksX5_common_2 8 rfl rfl)
theorem dX5_common_55 : decode cX5_common 55 = .ok (.iconst 1, 1) := dk_4 (dk_at dksX5_common_2 9 rfl rfl)
theorem dX5_common_56 : decode cX5_common 56 = .ok (.invokevirtual 261, 3) := dk_182 1 5 (dk_at dksX5_common_2 10 rfl rfl)
theorem dX5_common_59 : decode cX5_common 59 = .ok (.if_icmp .ge 39, 3) := dk_162 0 39 (dk_at dksX5_common_2 13 rfl rfl)
theorem dX5_common_62 : decode cX5_common 62 = .ok (.aload_n 0, 1) := dk_42 (dk_at dksX5_common_2 16 rfl rfl)
theorem dX5_common_63 : decode cX5_common 63 = .ok (.iload 6, 2) := dk_21 6 (dk_at dksX5_common_2 17 rfl rfl)
theorem dX5_common_65 : decode cX5_common 65 = .ok (.iload 7, 2) := dk_21 7 (dk_at dksX5_common_2 19 rfl rfl)
theorem dX5_common_67 : decode cX5_common 67 = .ok (.invokevirtual 371, 3) := dk_182 1 115 (dk_at dksX5_common_2 21 rfl rfl)
theorem dX5_common_70 : decode cX5_common 70 = .ok (.iload 4, 2) := dk_21 4 (dk_at dksX5_common_3 0 rfl rfl)
theorem dX5_common_72 : decode cX5_common 72 = .ok (.if_icmp .gt 6, 3) := dk_163 0 6 (dk_at dksX5_common_3 2 rfl rfl)
theorem dX5_common_75 : decode cX5_common 75 = .ok (.goto 17, 3) := dk_167 0 17 (dk_at dksX5_common_3 5 rfl rfl)
theorem dX5_common_78 : decode cX5_common 78 = .ok (.aload_n 0, 1) := dk_42 (dk_at dksX5_common_3 8 rfl rfl)
theorem dX5_common_79 : decode cX5_common 79 = .ok (.iload 6, 2) := dk_21 6 (dk_at dksX5_common_3 9 rfl rfl)
theorem dX5_common_81 : decode cX5_common 81 = .ok (.iload 7, 2) := dk_21 7 (dk_at dksX5_common_3 11 rfl rfl)
theorem dX5_common_83 : decode cX5_common 83 = .ok (.invokevirtual 371, 3) := dk_182 1 115 (dk_at dksX5_common_3 13 rfl rfl)
theorem dX5_common_86 : decode cX5_common 86 = .ok (.istore 4, 2) := dk_54 4 (dk_at dksX5_common_3 16 rfl rfl)
theorem dX5_common_88 : decode cX5_common 88 = .ok (.iload 6, 2) := dk_21 6 (dk_at dksX5_common_3 18 rfl rfl)
theorem dX5_common_90 : decode cX5_common 90 = .ok (.istore 5, 2) := dk_54 5 (dk_at dksX5_common_3 20 rfl rfl)
theorem dX5_common_92 : decode cX5_common 92 = .ok (.iinc 7 1, 3) := dk_132 7 1 (dk_at dksX5_common_4 0 rfl rfl)
theorem dX5_common_95 : decode cX5_common 95 = .ok (.goto (-43), 3) := dk_167 255 213 (dk_at dksX5_common_4 3 rfl rfl)
theorem dX5_common_98 : decode cX5_common 98 = .ok (.iinc 6 1, 3) := dk_132 6 1 (dk_at dksX5_common_4 6 rfl rfl)
theorem dX5_common_101 : decode cX5_common 101 = .ok (.goto (-62), 3) := dk_167 255 194 (dk_at dksX5_common_4 9 rfl rfl)
theorem dX5_common_104 : decode cX5_common 104 = .ok (.iload_n 3, 1) := dk_29 (dk_at dksX5_common_4 12 rfl rfl)
theorem dX5_common_105 : decode cX5_common 105 = .ok (.ifCond .ne 8, 3) := dk_154 0 8 (dk_at dksX5_common_4 13 rfl rfl)
theorem dX5_common_108 : decode cX5_common 108 = .ok (.iload 4, 2) := dk_21 4 (dk_at dksX5_common_4 16 rfl rfl)
theorem dX5_common_110 : decode cX5_common 110 = .ok (.goto 5, 3) := dk_167 0 5 (dk_at dksX5_common_4 18 rfl rfl)
theorem dX5_common_113 : decode cX5_common 113 = .ok (.iload 5, 2) := dk_21 5 (dk_at dksX5_common_4 21 rfl rfl)
theorem dX5_common_115 : decode cX5_common 115 = .ok (.ireturn, 1) := dk_172 (dk_at dksX5_common_4 23 rfl rfl)
abbrev cX5_period : ByteArray := prog_24_method_100_code
def yX5_period : MethodName := ⟨RX5, "period", "()I"⟩
def dkwX5_period_3 : List UInt8 := [180, 0, 243, 172]
abbrev dktX5_period_3 : List UInt8 := dkwX5_period_3 ++ []
def dkwX5_period_2 : List UInt8 := [167, 0, 4, 3, 61, 132, 3, 1, 167, 255, 216, 28, 153, 0, 5, 27, 172, 132, 1, 1, 167, 255, 192, 42]
abbrev dktX5_period_2 : List UInt8 := dkwX5_period_2 ++ dktX5_period_3
def dkwX5_period_1 : List UInt8 := [28, 153, 0, 24, 42, 180, 0, 32, 29, 46, 42, 180, 0, 32, 29, 27, 96, 46, 160, 0, 7, 4]
abbrev dktX5_period_1 : List UInt8 := dkwX5_period_1 ++ dktX5_period_2
def dkwX5_period_0 : List UInt8 := [4, 60, 27, 42, 180, 0, 243, 162, 0, 62, 4, 61, 3, 62, 29, 27, 96, 42, 180, 0, 243, 162, 0, 36]
abbrev dktX5_period_0 : List UInt8 := dkwX5_period_0 ++ dktX5_period_1
theorem dksX5_period_0 : cX5_period.data.toList.drop 0 = dktX5_period_0 := by decide +kernel
theorem dksX5_period_1 : cX5_period.data.toList.drop 24 = dktX5_period_1 := dk_seg dksX5_period_0 24 rfl rfl
theorem dksX5_period_2 : cX5_period.data.toList.drop 46 = dktX5_period_2 := dk_seg dksX5_period_1 22 rfl rfl
theorem dksX5_period_3 : cX5_period.data.toList.drop 70 = dktX5_period_3 := dk_seg dksX5_period_2 24 rfl rfl
theorem dX5_period_0 : decode cX5_period 0 = .ok (.iconst 1, 1) := dk_4 (dk_at dksX5_period_0 0 rfl rfl)
theorem dX5_period_1 : decode cX5_period 1 = .ok (.istore_n 1, 1) := dk_60 (dk_at dksX5_period_0 1 rfl rfl)
theorem dX5_period_2 : decode cX5_period 2 = .ok (.iload_n 1, 1) := dk_27 (dk_at dksX5_period_0 2 rfl rfl)
theorem dX5_period_3 : decode cX5_period 3 = .ok (.aload_n 0, 1) := dk_42 (dk_at dksX5_period_0 3 rfl rfl)
theorem dX5_period_4 : decode cX5_period 4 = .ok (.getfield 243, 3) := dk_180 0 243 (dk_at dksX5_period_0 4 rfl rfl)
theorem dX5_period_7 : decode cX5_period 7 = .ok (.if_icmp .ge 62, 3) := dk_162 0 62 (dk_at dksX5_period_0 7 rfl rfl)
theorem dX5_period_10 : decode cX5_period 10 = .ok (.iconst 1, 1) := dk_4 (dk_at dksX5_period_0 10 rfl rfl)
theorem dX5_period_11 : decode cX5_period 11 = .ok (.istore_n 2, 1) := dk_61 (dk_at dksX5_period_0 11 rfl rfl)
theorem dX5_period_12 : decode cX5_period 12 = .ok (.iconst 0, 1) := dk_3 (dk_at dksX5_period_0 12 rfl rfl)
theorem dX5_period_13 : decode cX5_period 13 = .ok (.istore_n 3, 1) := dk_62 (dk_at dksX5_period_0 13 rfl rfl)
theorem dX5_period_14 : decode cX5_period 14 = .ok (.iload_n 3, 1) := dk_29 (dk_at dksX5_period_0 14 rfl rfl)
theorem dX5_period_15 : decode cX5_period 15 = .ok (.iload_n 1, 1) := dk_27 (dk_at dksX5_period_0 15 rfl rfl)
theorem dX5_period_16 : decode cX5_period 16 = .ok (.iadd, 1) := dk_96 (dk_at dksX5_period_0 16 rfl rfl)
theorem dX5_period_17 : decode cX5_period 17 = .ok (.aload_n 0, 1) := dk_42 (dk_at dksX5_period_0 17 rfl rfl)
theorem dX5_period_18 : decode cX5_period 18 = .ok (.getfield 243, 3) := dk_180 0 243 (dk_at dksX5_period_0 18 rfl rfl)
theorem dX5_period_21 : decode cX5_period 21 = .ok (.if_icmp .ge 36, 3) := dk_162 0 36 (dk_at dksX5_period_0 21 rfl rfl)
theorem dX5_period_24 : decode cX5_period 24 = .ok (.iload_n 2, 1) := dk_28 (dk_at dksX5_period_1 0 rfl rfl)
theorem dX5_period_25 : decode cX5_period 25 = .ok (.ifCond .eq 24, 3) := dk_153 0 24 (dk_at dksX5_period_1 1 rfl rfl)
theorem dX5_period_28 : decode cX5_period 28 = .ok (.aload_n 0, 1) := dk_42 (dk_at dksX5_period_1 4 rfl rfl)
theorem dX5_period_29 : decode cX5_period 29 = .ok (.getfield 32, 3) := dk_180 0 32 (dk_at dksX5_period_1 5 rfl rfl)
theorem dX5_period_32 : decode cX5_period 32 = .ok (.iload_n 3, 1) := dk_29 (dk_at dksX5_period_1 8 rfl rfl)
theorem dX5_period_33 : decode cX5_period 33 = .ok (.iaload, 1) := dk_46 (dk_at dksX5_period_1 9 rfl rfl)
theorem dX5_period_34 : decode cX5_period 34 = .ok (.aload_n 0, 1) := dk_42 (dk_at dksX5_period_1 10 rfl rfl)
theorem dX5_period_35 : decode cX5_period 35 = .ok (.getfield 32, 3) := dk_180 0 32 (dk_at dksX5_period_1 11 rfl rfl)
theorem dX5_period_38 : decode cX5_period 38 = .ok (.iload_n 3, 1) := dk_29 (dk_at dksX5_period_1 14 rfl rfl)
theorem dX5_period_39 : decode cX5_period 39 = .ok (.iload_n 1, 1) := dk_27 (dk_at dksX5_period_1 15 rfl rfl)
theorem dX5_period_40 : decode cX5_period 40 = .ok (.iadd, 1) := dk_96 (dk_at dksX5_period_1 16 rfl rfl)
theorem dX5_period_41 : decode cX5_period 41 = .ok (.iaload, 1) := dk_46 (dk_at dksX5_period_1 17 rfl rfl)
theorem dX5_period_42 : decode cX5_period 42 = .ok (.if_icmp .ne 7, 3) := dk_160 0 7 (dk_at dksX5_period_1 18 rfl rfl)
theorem dX5_period_45 : decode cX5_period 45 = .ok (.iconst 1, 1) := dk_4 (dk_at dksX5_period_1 21 rfl rfl)
theorem dX5_period_46 : decode cX5_period 46 = .ok (.goto 4, 3) := dk_167 0 4 (dk_at dksX5_period_2 0 rfl rfl)
theorem dX5_period_49 : decode cX5_period 49 = .ok (.iconst 0, 1) := dk_3 (dk_at dksX5_period_2 3 rfl rfl)
theorem dX5_period_50 : decode cX5_period 50 = .ok (.istore_n 2, 1) := dk_61 (dk_at dksX5_period_2 4 rfl rfl)
theorem dX5_period_51 : decode cX5_period 51 = .ok (.iinc 3 1, 3) := dk_132 3 1 (dk_at dksX5_period_2 5 rfl rfl)
theorem dX5_period_54 : decode cX5_period 54 = .ok (.goto (-40), 3) := dk_167 255 216 (dk_at dksX5_period_2 8 rfl rfl)
theorem dX5_period_57 : decode cX5_period 57 = .ok (.iload_n 2, 1) := dk_28 (dk_at dksX5_period_2 11 rfl rfl)
theorem dX5_period_58 : decode cX5_period 58 = .ok (.ifCond .eq 5, 3) := dk_153 0 5 (dk_at dksX5_period_2 12 rfl rfl)
theorem dX5_period_61 : decode cX5_period 61 = .ok (.iload_n 1, 1) := dk_27 (dk_at dksX5_period_2 15 rfl rfl)
theorem dX5_period_62 : decode cX5_period 62 = .ok (.ireturn, 1) := dk_172 (dk_at dksX5_period_2 16 rfl rfl)
theorem dX5_period_63 : decode cX5_period 63 = .ok (.iinc 1 1, 3) := dk_132 1 1 (dk_at dksX5_period_2 17 rfl rfl)
theorem dX5_period_66 : decode cX5_period 66 = .ok (.goto (-64), 3) := dk_167 255 192 (dk_at dksX5_period_2 20 rfl rfl)
theorem dX5_period_69 : decode cX5_period 69 = .ok (.aload_n 0, 1) := dk_42 (dk_at dksX5_period_2 23 rfl rfl)
theorem dX5_period_70 : decode cX5_period 70 = .ok (.getfield 243, 3) := dk_180 0 243 (dk_at dksX5_period_3 0 rfl rfl)
theorem dX5_period_73 : decode cX5_period 73 = .ok (.ireturn, 1) := dk_172 (dk_at dksX5_period_3 3 rfl rfl)
abbrev cX5_alikeFrom : ByteArray := prog_24_method_99_code
def yX5_alikeFrom : MethodName := ⟨RX5, "alikeFrom", "(II)I"⟩
def dkwX5_alikeFrom_2 : List UInt8 := [167, 255, 212, 29, 172]
abbrev dktX5_alikeFrom_2 : List UInt8 := dkwX5_alikeFrom_2 ++ []
def dkwX5_alikeFrom_1 : List UInt8 := [42, 3, 27, 29, 96, 182, 1, 8, 42, 4, 28, 29, 96, 182, 1, 8, 160, 0, 9, 132, 3, 1]
abbrev dktX5_alikeFrom_1 : List UInt8 := dkwX5_alikeFrom_1 ++ dktX5_alikeFrom_2
def dkwX5_alikeFrom_0 : List UInt8 := [3, 62, 27, 29, 96, 42, 3, 182, 1, 5, 162, 0, 39, 28, 29, 96, 42, 4, 182, 1, 5, 162, 0, 28]
abbrev dktX5_alikeFrom_0 : List UInt8 := dkwX5_alikeFrom_0 ++ dktX5_alikeFrom_1
theorem dksX5_alikeFrom_0 : cX5_alikeFrom.data.toList.drop 0 = dktX5_alikeFrom_0 := by decide +kernel
theorem dksX5_alikeFrom_1 : cX5_alikeFrom.data.toList.drop 24 = dktX5_alikeFrom_1 := dk_seg dksX5_alikeFrom_0 24 rfl rfl
theorem dksX5_alikeFrom_2 : cX5_alikeFrom.data.toList.drop 46 = dktX5_alikeFrom_2 := dk_seg dksX5_alikeFrom_1 22 rfl rfl
theorem dX5_alikeFrom_0 : decode cX5_alikeFrom 0 = .ok (.iconst 0, 1) := dk_3 (dk_at dksX5_alikeFrom_0 0 rfl rfl)
theorem dX5_alikeFrom_1 : decode cX5_alikeFrom 1 = .ok (.istore_n 3, 1) := dk_62 (dk_at dksX5_alikeFrom_0 1 rfl rfl)
theorem dX5_alikeFrom_2 : decode cX5_alikeFrom 2 = .ok (.iload_n 1, 1) := dk_27 (dk_at dksX5_alikeFrom_0 2 rfl rfl)
theorem dX5_alikeFrom_3 : decode cX5_alikeFrom 3 = .ok (.iload_n 3, 1) := dk_29 (dk_at dksX5_alikeFrom_0 3 rfl rfl)
theorem dX5_alikeFrom_4 : decode cX5_alikeFrom 4 = .ok (.iadd, 1) := dk_96 (dk_at dksX5_alikeFrom_0 4 rfl rfl)
theorem dX5_alikeFrom_5 : decode cX5_alikeFrom 5 = .ok (.aload_n 0, 1) := dk_42 (dk_at dksX5_alikeFrom_0 5 rfl rfl)
theorem dX5_alikeFrom_6 : decode cX5_alikeFrom 6 = .ok (.iconst 0, 1) := dk_3 (dk_at dksX5_alikeFrom_0 6 rfl rfl)
theorem dX5_alikeFrom_7 : decode cX5_alikeFrom 7 = .ok (.invokevirtual 261, 3) := dk_182 1 5 (dk_at dksX5_alikeFrom_0 7 rfl rfl)
theorem dX5_alikeFrom_10 : decode cX5_alikeFrom 10 = .ok (.if_icmp .ge 39, 3) := dk_162 0 39 (dk_at dksX5_alikeFrom_0 10 rfl rfl)
theorem dX5_alikeFrom_13 : decode cX5_alikeFrom 13 = .ok (.iload_n 2, 1) := dk_28 (dk_at dksX5_alikeFrom_0 13 rfl rfl)
theorem dX5_alikeFrom_14 : decode cX5_alikeFrom 14 = .ok (.iload_n 3, 1) := dk_29 (dk_at dksX5_alikeFrom_0 14 rfl rfl)
theorem dX5_alikeFrom_15 : decode cX5_alikeFrom 15 = .ok (.iadd, 1) := dk_96 (dk_at dksX5_alikeFrom_0 15 rfl rfl)
theorem dX5_alikeFrom_16 : decode cX5_alikeFrom 16 = .ok (.aload_n 0, 1) := dk_42 (dk_at dksX5_alikeFrom_0 16 rfl rfl)
theorem dX5_alikeFrom_17 : decode cX5_alikeFrom 17 = .ok (.iconst 1, 1) := dk_4 (dk_at dksX5_alikeFrom_0 17 rfl rfl)
theorem dX5_alikeFrom_18 : decode cX5_alikeFrom 18 = .ok (.invokevirtual 261, 3) := dk_182 1 5 (dk_at dksX5_alikeFrom_0 18 rfl rfl)
theorem dX5_alikeFrom_21 : decode cX5_alikeFrom 21 = .ok (.if_icmp .ge 28, 3) := dk_162 0 28 (dk_at dksX5_alikeFrom_0 21 rfl rfl)
theorem dX5_alikeFrom_24 : decode cX5_alikeFrom 24 = .ok (.aload_n 0, 1) := dk_42 (dk_at dksX5_alikeFrom_1 0 rfl rfl)
theorem dX5_alikeFrom_25 : decode cX5_alikeFrom 25 = .ok (.iconst 0, 1) := dk_3 (dk_at dksX5_alikeFrom_1 1 rfl rfl)
theorem dX5_alikeFrom_26 : decode cX5_alikeFrom 26 = .ok (.iload_n 1, 1) := dk_27 (dk_at dksX5_alikeFrom_1 2 rfl rfl)
theorem dX5_alikeFrom_27 : decode cX5_alikeFrom 27 = .ok (.iload_n 3, 1) := dk_29 (dk_at dksX5_alikeFrom_1 3 rfl rfl)
theorem dX5_alikeFrom_28 : decode cX5_alikeFrom 28 = .ok (.iadd, 1) := dk_96 (dk_at dksX5_alikeFrom_1 4 rfl rfl)
theorem dX5_alikeFrom_29 : decode cX5_alikeFrom 29 = .ok (.invokevirtual 264, 3) := dk_182 1 8 (dk_at dksX5_alikeFrom_1 5 rfl rfl)
theorem dX5_alikeFrom_32 : decode cX5_alikeFrom 32 = .ok (.aload_n 0, 1) := dk_42 (dk_at dksX5_alikeFrom_1 8 rfl rfl)
theorem dX5_alikeFrom_33 : decode cX5_alikeFrom 33 = .ok (.iconst 1, 1) := dk_4 (dk_at dksX5_alikeFrom_1 9 rfl rfl)
theorem dX5_alikeFrom_34 : decode cX5_alikeFrom 34 = .ok (.iload_n 2, 1) := dk_28 (dk_at dksX5_alikeFrom_1 10 rfl rfl)
theorem dX5_alikeFrom_35 : decode cX5_alikeFrom 35 = .ok (.iload_n 3, 1) := dk_29 (dk_at dksX5_alikeFrom_1 11 rfl rfl)
theorem dX5_alikeFrom_36 : decode cX5_alikeFrom 36 = .ok (.iadd, 1) := dk_96 (dk_at dksX5_alikeFrom_1 12 rfl rfl)
theorem dX5_alikeFrom_37 : decode cX5_alikeFrom 37 = .ok (.invokevirtual 264, 3) := dk_182 1 8 (dk_at dksX5_alikeFrom_1 13 rfl rfl)
theorem dX5_alikeFrom_40 : decode cX5_alikeFrom 40 = .ok (.if_icmp .ne 9, 3) := dk_160 0 9 (dk_at dksX5_alikeFrom_1 16 rfl rfl)
theorem dX5_alikeFrom_43 : decode cX5_alikeFrom 43 = .ok (.iinc 3 1, 3) := dk_132 3 1 (dk_at dksX5_alikeFrom_1 19 rfl rfl)
theorem dX5_alikeFrom_46 : decode cX5_alikeFrom 46 = .ok (.goto (-44), 3) := dk_167 255 212 (dk_at dksX5_alikeFrom_2 0 rfl rfl)
theorem dX5_alikeFrom_49 : decode cX5_alikeFrom 49 = .ok (.iload_n 3, 1) := dk_29 (dk_at dksX5_alikeFrom_2 3 rfl rfl)
theorem dX5_alikeFrom_50 : decode cX5_alikeFrom 50 = .ok (.ireturn, 1) := dk_172 (dk_at dksX5_alikeFrom_2 4 rfl rfl)
abbrev cX5_readings : ByteArray := prog_24_method_102_code
def yX5_readings : MethodName := ⟨RX5, "readings", "(IIIZ)J"⟩
def dkwX5_readings_8 : List UInt8 := [180, 0, 77, 3, 47, 9, 148, 154, 0, 9, 20, 1, 120, 167, 0, 10, 42, 180, 0, 81, 3, 46, 133, 173]
abbrev dktX5_readings_8 : List UInt8 := dkwX5_readings_8 ++ []
def dkwX5_readings_7 : List UInt8 := [167, 255, 169, 132, 6, 255, 167, 255, 137, 21, 4, 154, 0, 12, 42, 180, 0, 77, 3, 47, 167, 0, 27, 42]
abbrev dktX5_readings_7 : List UInt8 := dkwX5_readings_7 ++ dktX5_readings_8
def dkwX5_readings_6 : List UInt8 := [42, 180, 0, 81, 21, 6, 42, 29, 21, 7, 182, 0, 230, 96, 46, 96, 184, 1, 64, 79, 132, 7, 1]
abbrev dktX5_readings_6 : List UInt8 := dkwX5_readings_6 ++ dktX5_readings_7
def dkwX5_readings_5 : List UInt8 := [29, 21, 7, 182, 0, 230, 96, 47, 97, 80, 42, 180, 0, 81, 21, 6, 42, 180, 0, 81, 21, 6, 46, 4]
abbrev dktX5_readings_5 : List UInt8 := dkwX5_readings_5 ++ dktX5_readings_6
def dkwX5_readings_4 : List UInt8 := [182, 1, 11, 154, 0, 6, 167, 0, 62, 42, 180, 0, 77, 21, 6, 92, 47, 42, 180, 0, 77, 21, 6, 42]
abbrev dktX5_readings_4 : List UInt8 := dkwX5_readings_4 ++ dktX5_readings_5
def dkwX5_readings_3 : List UInt8 := [17, 3, 231, 79, 3, 54, 7, 21, 7, 42, 29, 182, 0, 221, 162, 0, 83, 42, 29, 21, 7, 21, 6]
abbrev dktX5_readings_3 : List UInt8 := dkwX5_readings_3 ++ dktX5_readings_4
def dkwX5_readings_2 : List UInt8 := [100, 54, 6, 21, 6, 155, 0, 120, 42, 180, 0, 77, 21, 6, 9, 80, 42, 180, 0, 81, 21, 6]
abbrev dktX5_readings_2 : List UInt8 := dkwX5_readings_2 ++ dktX5_readings_3
def dkwX5_readings_1 : List UInt8 := [182, 1, 5, 54, 5, 42, 180, 0, 77, 21, 5, 10, 80, 42, 180, 0, 81, 21, 5, 3, 79, 21, 5, 4]
abbrev dktX5_readings_1 : List UInt8 := dkwX5_readings_1 ++ dktX5_readings_2
def dkwX5_readings_0 : List UInt8 := [42, 27, 28, 182, 0, 255, 153, 0, 10, 29, 184, 0, 218, 154, 0, 7, 20, 1, 118, 173, 42, 29]
abbrev dktX5_readings_0 : List UInt8 := dkwX5_readings_0 ++ dktX5_readings_1
theorem dksX5_readings_0 : cX5_readings.data.toList.drop 0 = dktX5_readings_0 := by decide +kernel
theorem dksX5_readings_1 : cX5_readings.data.toList.drop 22 = dktX5_readings_1 := dk_seg dksX5_readings_0 22 rfl rfl
theorem dksX5_readings_2 : cX5_readings.data.toList.drop 46 = dktX5_readings_2 := dk_seg dksX5_readings_1 24 rfl rfl
theorem dksX5_readings_3 : cX5_readings.data.toList.drop 68 = dktX5_readings_3 := dk_seg dksX5_readings_2 22 rfl rfl
theorem dksX5_readings_4 : cX5_readings.data.toList.drop 91 = dktX5_readings_4 := dk_seg dksX5_readings_3 23 rfl rfl
theorem dksX5_readings_5 : cX5_readings.data.toList.drop 115 = dktX5_readings_5 := dk_seg dksX5_readings_4 24 rfl rfl
theorem dksX5_readings_6 : cX5_readings.data.toList.drop 139 = dktX5_readings_6 := dk_seg dksX5_readings_5 24 rfl rfl
theorem dksX5_readings_7 : cX5_readings.data.toList.drop 162 = dktX5_readings_7 := dk_seg dksX5_readings_6 23 rfl rfl
theorem dksX5_readings_8 : cX5_readings.data.toList.drop 186 = dktX5_readings_8 := dk_seg dksX5_readings_7 24 rfl rfl
theorem dX5_readings_0 : decode cX5_readings 0 = .ok (.aload_n 0, 1) := dk_42 (dk_at dksX5_readings_0 0 rfl rfl)
theorem dX5_readings_1 : decode cX5_readings 1 = .ok (.iload_n 1, 1) := dk_27 (dk_at dksX5_readings_0 1 rfl rfl)
theorem dX5_readings_2 : decode cX5_readings 2 = .ok (.iload_n 2, 1) := dk_28 (dk_at dksX5_readings_0 2 rfl rfl)
theorem dX5_readings_3 : decode cX5_readings 3 = .ok (.invokevirtual 255, 3) := dk_182 0 255 (dk_at dksX5_readings_0 3 rfl rfl)
theorem dX5_readings_6 : decode cX5_readings 6 = .ok (.ifCond .eq 10, 3) := dk_153 0 10 (dk_at dksX5_readings_0 6 rfl rfl)
theorem dX5_readings_9 : decode cX5_readings 9 = .ok (.iload_n 3, 1) := dk_29 (dk_at dksX5_readings_0 9 rfl rfl)
theorem dX5_readings_10 : decode cX5_readings 10 = .ok (.invokestatic 218, 3) := dk_184 0 218 (dk_at dksX5_readings_0 10 rfl rfl)
theorem dX5_readings_13 : decode cX5_readings 13 = .ok (.ifCond .ne 7, 3) := dk_154 0 7 (dk_at dksX5_readings_0 13 rfl rfl)
theorem dX5_readings_16 : decode cX5_readings 16 = .ok (.ldc2_w 374, 3) := dk_20 1 118 (dk_at dksX5_readings_0 16 rfl rfl)
theorem dX5_readings_19 : decode cX5_readings 19 = .ok (.lreturn, 1) := dk_173 (dk_at dksX5_readings_0 19 rfl rfl)
theorem dX5_readings_20 : decode cX5_readings 20 = .ok (.aload_n 0, 1) := dk_42 (dk_at dksX5_readings_0 20 rfl rfl)
theorem dX5_readings_21 : decode cX5_readings 21 = .ok (.iload_n 3, 1) := dk_29 (dk_at dksX5_readings_0 21 rfl rfl)
theorem dX5_readings_22 : decode cX5_readings 22 = .ok (.invokevirtual 261, 3) := dk_182 1 5 (dk_at dksX5_readings_1 0 rfl rfl)
theorem dX5_readings_25 : decode cX5_readings 25 = .ok (.istore 5, 2) := dk_54 5 (dk_at dksX5_readings_1 3 rfl rfl)
theorem dX5_readings_27 : decode cX5_readings 27 = .ok (.aload_n 0, 1) := dk_42 (dk_at dksX5_readings_1 5 rfl rfl)
theorem dX5_readings_28 : decode cX5_readings 28 = .ok (.getfield 77, 3) := dk_180 0 77 (dk_at dksX5_readings_1 6 rfl rfl)
theorem dX5_readings_31 : decode cX5_readings 31 = .ok (.iload 5, 2) := dk_21 5 (dk_at dksX5_readings_1 9 rfl rfl)
theorem dX5_readings_33 : decode cX5_readings 33 = .ok (.lconst 1, 1) := dk_10 (dk_at dksX5_readings_1 11 rfl rfl)
theorem dX5_readings_34 : decode cX5_readings 34 = .ok (.lastore, 1) := dk_80 (dk_at dksX5_readings_1 12 rfl rfl)
theorem dX5_readings_35 : decode cX5_readings 35 = .ok (.aload_n 0, 1) := dk_42 (dk_at dksX5_readings_1 13 rfl rfl)
theorem dX5_readings_36 : decode cX5_readings 36 = .ok (.getfield 81, 3) := dk_180 0 81 (dk_at dksX5_readings_1 14 rfl rfl)
theorem dX5_readings_39 : decode cX5_readings 39 = .ok (.iload 5, 2) := dk_21 5 (dk_at dksX5_readings_1 17 rfl rfl)
theorem dX5_readings_41 : decode cX5_readings 41 = .ok (.iconst 0, 1) := dk_3 (dk_at dksX5_readings_1 19 rfl rfl)
theorem dX5_readings_42 : decode cX5_readings 42 = .ok (.iastore, 1) := dk_79 (dk_at dksX5_readings_1 20 rfl rfl)
theorem dX5_readings_43 : decode cX5_readings 43 = .ok (.iload 5, 2) := dk_21 5 (dk_at dksX5_readings_1 21 rfl rfl)
theorem dX5_readings_45 : decode cX5_readings 45 = .ok (.iconst 1, 1) := dk_4 (dk_at dksX5_readings_1 23 rfl rfl)
theorem dX5_readings_46 : decode cX5_readings 46 = .ok (.isub, 1) := dk_100 (dk_at dksX5_readings_2 0 rfl rfl)
theorem dX5_readings_47 : decode cX5_readings 47 = .ok (.istore 6, 2) := dk_54 6 (dk_at dksX5_readings_2 1 rfl rfl)
theorem dX5_readings_49 : decode cX5_readings 49 = .ok (.iload 6, 2) := dk_21 6 (dk_at dksX5_readings_2 3 rfl rfl)
theorem dX5_readings_51 : decode cX5_readings 51 = .ok (.ifCond .lt 120, 3) := dk_155 0 120 (dk_at dksX5_readings_2 5 rfl rfl)
theorem dX5_readings_54 : decode cX5_readings 54 = .ok (.aload_n 0, 1) := dk_42 (dk_at dksX5_readings_2 8 rfl rfl)
theorem dX5_readings_55 : decode cX5_readings 55 = .ok (.getfield 77, 3) := dk_180 0 77 (dk_at dksX5_readings_2 9 rfl rfl)
theorem dX5_readings_58 : decode cX5_readings 58 = .ok (.iload 6, 2) := dk_21 6 (dk_at dksX5_readings_2 12 rfl rfl)
theorem dX5_readings_60 : decode cX5_readings 60 = .ok (.lconst 0, 1) := dk_9 (dk_at dksX5_readings_2 14 rfl rfl)
theorem dX5_readings_61 : decode cX5_readings 61 = .ok (.lastore, 1) := dk_80 (dk_at dksX5_readings_2 15 rfl rfl)
theorem dX5_readings_62 : decode cX5_readings 62 = .ok (.aload_n 0, 1) := dk_42 (dk_at dksX5_readings_2 16 rfl rfl)
theorem dX5_readings_63 : decode cX5_readings 63 = .ok (.getfield 81, 3) := dk_180 0 81 (dk_at dksX5_readings_2 17 rfl rfl)
theorem dX5_readings_66 : decode cX5_readings 66 = .ok (.iload 6, 2) := dk_21 6 (dk_at dksX5_readings_2 20 rfl rfl)
theorem dX5_readings_68 : decode cX5_readings 68 = .ok (.sipush 999, 3) := dk_17 3 231 (dk_at dksX5_readings_3 0 rfl rfl)
theorem dX5_readings_71 : decode cX5_readings 71 = .ok (.iastore, 1) := dk_79 (dk_at dksX5_readings_3 3 rfl rfl)
theorem dX5_readings_72 : decode cX5_readings 72 = .ok (.iconst 0, 1) := dk_3 (dk_at dksX5_readings_3 4 rfl rfl)
theorem dX5_readings_73 : decode cX5_readings 73 = .ok (.istore 7, 2) := dk_54 7 (dk_at dksX5_readings_3 5 rfl rfl)
theorem dX5_readings_75 : decode cX5_readings 75 = .ok (.iload 7, 2) := dk_21 7 (dk_at dksX5_readings_3 7 rfl rfl)
theorem dX5_readings_77 : decode cX5_readings 77 = .ok (.aload_n 0, 1) := dk_42 (dk_at dksX5_readings_3 9 rfl rfl)
theorem dX5_readings_78 : decode cX5_readings 78 = .ok (.iload_n 3, 1) := dk_29 (dk_at dksX5_readings_3 10 rfl rfl)
theorem dX5_readings_79 : decode cX5_readings 79 = .ok (.invokevirtual 221, 3) := dk_182 0 221 (dk_at dksX5_readings_3 11 rfl rfl)
theorem dX5_readings_82 : decode cX5_readings 82 = .ok (.if_icmp .ge 83, 3) := dk_162 0 83 (dk_at dksX5_readings_3 14 rfl rfl)
theorem dX5_readings_85 : decode cX5_readings 85 = .ok (.aload_n 0, 1) := dk_42 (dk_at dksX5_readings_3 17 rfl rfl)
theorem dX5_readings_86 : decode cX5_readings 86 = .ok (.iload_n 3, 1) := dk_29 (dk_at dksX5_readings_3 18 rfl rfl)
theorem dX5_readings_87 : decode cX5_readings 87 = .ok (.iload 7, 2) := dk_21 7 (dk_at dksX5_readings_3 19 rfl rfl)
theorem dX5_readings_89 : decode cX5_readings 89 = .ok (.iload 6, 2) := dk_21 6 (dk_at dksX5_readings_3 21 rfl rfl)
theorem dX5_readings_91 : decode cX5_readings 91 = .ok (.invokevirtual 267, 3) := dk_182 1 11 (dk_at dksX5_readings_4 0 rfl rfl)
theorem dX5_readings_94 : decode cX5_readings 94 = .ok (.ifCond .ne 6, 3) := dk_154 0 6 (dk_at dksX5_readings_4 3 rfl rfl)
theorem dX5_readings_97 : decode cX5_readings 97 = .ok (.goto 62, 3) := dk_167 0 62 (dk_at dksX5_readings_4 6 rfl rfl)
theorem dX5_readings_100 : decode cX5_readings 100 = .ok (.aload_n 0, 1) := dk_42 (dk_at dksX5_readings_4 9 rfl rfl)
theorem dX5_readings_101 : decode cX5_readings 101 = .ok (.getfield 77, 3) := dk_180 0 77 (dk_at dksX5_readings_4 10 rfl rfl)
theorem dX5_readings_104 : decode cX5_readings 104 = .ok (.iload 6, 2) := dk_21 6 (dk_at dksX5_readings_4 13 rfl rfl)
theorem dX5_readings_106 : decode cX5_readings 106 = .ok (.dup2, 1) := dk_92 (dk_at dksX5_readings_4 15 rfl rfl)
theorem dX5_readings_107 : decode cX5_readings 107 = .ok (.laload, 1) := dk_47 (dk_at dksX5_readings_4 16 rfl rfl)
theorem dX5_readings_108 : decode cX5_readings 108 = .ok (.aload_n 0, 1) := dk_42 (dk_at dksX5_readings_4 17 rfl rfl)
theorem dX5_readings_109 : decode cX5_readings 109 = .ok (.getfield 77, 3) := dk_180 0 77 (dk_at dksX5_readings_4 18 rfl rfl)
theorem dX5_readings_112 : decode cX5_readings 112 = .ok (.iload 6, 2) := dk_21 6 (dk_at dksX5_readings_4 21 rfl rfl)
theorem dX5_readings_114 : decode cX5_readings 114 = .ok (.aload_n 0, 1) := dk_42 (dk_at dksX5_readings_4 23 rfl rfl)
theorem dX5_readings_115 : decode cX5_readings 115 = .ok (.iload_n 3, 1) := dk_29 (dk_at dksX5_readings_5 0 rfl rfl)
theorem dX5_readings_116 : decode cX5_readings 116 = .ok (.iload 7, 2) := dk_21 7 (dk_at dksX5_readings_5 1 rfl rfl)
theorem dX5_readings_118 : decode cX5_readings 118 = .ok (.invokevirtual 230, 3) := dk_182 0 230 (dk_at dksX5_readings_5 3 rfl rfl)
theorem dX5_readings_121 : decode cX5_readings 121 = .ok (.iadd, 1) := dk_96 (dk_at dksX5_readings_5 6 rfl rfl)
theorem dX5_readings_122 : decode cX5_readings 122 = .ok (.laload, 1) := dk_47 (dk_at dksX5_readings_5 7 rfl rfl)
theorem dX5_readings_123 : decode cX5_readings 123 = .ok (.ladd, 1) := dk_97 (dk_at dksX5_readings_5 8 rfl rfl)
theorem dX5_readings_124 : decode cX5_readings 124 = .ok (.lastore, 1) := dk_80 (dk_at dksX5_readings_5 9 rfl rfl)
theorem dX5_readings_125 : decode cX5_readings 125 = .ok (.aload_n 0, 1) := dk_42 (dk_at dksX5_readings_5 10 rfl rfl)
theorem dX5_readings_126 : decode cX5_readings 126 = .ok (.getfield 81, 3) := dk_180 0 81 (dk_at dksX5_readings_5 11 rfl rfl)
theorem dX5_readings_129 : decode cX5_readings 129 = .ok (.iload 6, 2) := dk_21 6 (dk_at dksX5_readings_5 14 rfl rfl)
theorem dX5_readings_131 : decode cX5_readings 131 = .ok (.aload_n 0, 1) := dk_42 (dk_at dksX5_readings_5 16 rfl rfl)
theorem dX5_readings_132 : decode cX5_readings 132 = .ok (.getfield 81, 3) := dk_180 0 81 (dk_at dksX5_readings_5 17 rfl rfl)
theorem dX5_readings_135 : decode cX5_readings 135 = .ok (.iload 6, 2) := dk_21 6 (dk_at dksX5_readings_5 20 rfl rfl)
theorem dX5_readings_137 : decode cX5_readings 137 = .ok (.iaload, 1) := dk_46 (dk_at dksX5_readings_5 22 rfl rfl)
theorem dX5_readings_138 : decode cX5_readings 138 = .ok (.iconst 1, 1) := dk_4 (dk_at dksX5_readings_5 23 rfl rfl)
theorem dX5_readings_139 : decode cX5_readings 139 = .ok (.aload_n 0, 1) := dk_42 (dk_at dksX5_readings_6 0 rfl rfl)
theorem dX5_readings_140 : decode cX5_readings 140 = .ok (.getfield 81, 3) := dk_180 0 81 (dk_at dksX5_readings_6 1 rfl rfl)
theorem dX5_readings_143 : decode cX5_readings 143 = .ok (.iload 6, 2) := dk_21 6 (dk_at dksX5_readings_6 4 rfl rfl)
theorem dX5_readings_145 : decode cX5_readings 145 = .ok (.aload_n 0, 1) := dk_42 (dk_at dksX5_readings_6 6 rfl rfl)
theorem dX5_readings_146 : decode cX5_readings 146 = .ok (.iload_n 3, 1) := dk_29 (dk_at dksX5_readings_6 7 rfl rfl)
theorem dX5_readings_147 : decode cX5_readings 147 = .ok (.iload 7, 2) := dk_21 7 (dk_at dksX5_readings_6 8 rfl rfl)
theorem dX5_readings_149 : decode cX5_readings 149 = .ok (.invokevirtual 230, 3) := dk_182 0 230 (dk_at dksX5_readings_6 10 rfl rfl)
theorem dX5_readings_152 : decode cX5_readings 152 = .ok (.iadd, 1) := dk_96 (dk_at dksX5_readings_6 13 rfl rfl)
theorem dX5_readings_153 : decode cX5_readings 153 = .ok (.iaload, 1) := dk_46 (dk_at dksX5_readings_6 14 rfl rfl)
theorem dX5_readings_154 : decode cX5_readings 154 = .ok (.iadd, 1) := dk_96 (dk_at dksX5_readings_6 15 rfl rfl)
theorem dX5_readings_155 : decode cX5_readings 155 = .ok (.invokestatic 320, 3) := dk_184 1 64 (dk_at dksX5_readings_6 16 rfl rfl)
theorem dX5_readings_158 : decode cX5_readings 158 = .ok (.iastore, 1) := dk_79 (dk_at dksX5_readings_6 19 rfl rfl)
theorem dX5_readings_159 : decode cX5_readings 159 = .ok (.iinc 7 1, 3) := dk_132 7 1 (dk_at dksX5_readings_6 20 rfl rfl)
theorem dX5_readings_162 : decode cX5_readings 162 = .ok (.goto (-87), 3) := dk_167 255 169 (dk_at dksX5_readings_7 0 rfl rfl)
theorem dX5_readings_165 : decode cX5_readings 165 = .ok (.iinc 6 (-1), 3) := dk_132 6 255 (dk_at dksX5_readings_7 3 rfl rfl)
theorem dX5_readings_168 : decode cX5_readings 168 = .ok (.goto (-119), 3) := dk_167 255 137 (dk_at dksX5_readings_7 6 rfl rfl)
theorem dX5_readings_171 : decode cX5_readings 171 = .ok (.iload 4, 2) := dk_21 4 (dk_at dksX5_readings_7 9 rfl rfl)
theorem dX5_readings_173 : decode cX5_readings 173 = .ok (.ifCond .ne 12, 3) := dk_154 0 12 (dk_at dksX5_readings_7 11 rfl rfl)
theorem dX5_readings_176 : decode cX5_readings 176 = .ok (.aload_n 0, 1) := dk_42 (dk_at dksX5_readings_7 14 rfl rfl)
theorem dX5_readings_177 : decode cX5_readings 177 = .ok (.getfield 77, 3) := dk_180 0 77 (dk_at dksX5_readings_7 15 rfl rfl)
theorem dX5_readings_180 : decode cX5_readings 180 = .ok (.iconst 0, 1) := dk_3 (dk_at dksX5_readings_7 18 rfl rfl)
theorem dX5_readings_181 : decode cX5_readings 181 = .ok (.laload, 1) := dk_47 (dk_at dksX5_readings_7 19 rfl rfl)
theorem dX5_readings_182 : decode cX5_readings 182 = .ok (.goto 27, 3) := dk_167 0 27 (dk_at dksX5_readings_7 20 rfl rfl)
theorem dX5_readings_185 : decode cX5_readings 185 = .ok (.aload_n 0, 1) := dk_42 (dk_at dksX5_readings_7 23 rfl rfl)
theorem dX5_readings_186 : decode cX5_readings 186 = .ok (.getfield 77, 3) := dk_180 0 77 (dk_at dksX5_readings_8 0 rfl rfl)
theorem dX5_readings_189 : decode cX5_readings 189 = .ok (.iconst 0, 1) := dk_3 (dk_at dksX5_readings_8 3 rfl rfl)
theorem dX5_readings_190 : decode cX5_readings 190 = .ok (.laload, 1) := dk_47 (dk_at dksX5_readings_8 4 rfl rfl)
theorem dX5_readings_191 : decode cX5_readings 191 = .ok (.lconst 0, 1) := dk_9 (dk_at dksX5_readings_8 5 rfl rfl)
theorem dX5_readings_192 : decode cX5_readings 192 = .ok (.lcmp, 1) := dk_148 (dk_at dksX5_readings_8 6 rfl rfl)
theorem dX5_readings_193 : decode cX5_readings 193 = .ok (.ifCond .ne 9, 3) := dk_154 0 9 (dk_at dksX5_readings_8 7 rfl rfl)
theorem dX5_readings_196 : decode cX5_readings 196 = .ok (.ldc2_w 376, 3) := dk_20 1 120 (dk_at dksX5_readings_8 10 rfl rfl)
theorem dX5_readings_199 : decode cX5_readings 199 = .ok (.goto 10, 3) := dk_167 0 10 (dk_at dksX5_readings_8 13 rfl rfl)
theorem dX5_readings_202 : decode cX5_readings 202 = .ok (.aload_n 0, 1) := dk_42 (dk_at dksX5_readings_8 16 rfl rfl)
theorem dX5_readings_203 : decode cX5_readings 203 = .ok (.getfield 81, 3) := dk_180 0 81 (dk_at dksX5_readings_8 17 rfl rfl)
theorem dX5_readings_206 : decode cX5_readings 206 = .ok (.iconst 0, 1) := dk_3 (dk_at dksX5_readings_8 20 rfl rfl)
theorem dX5_readings_207 : decode cX5_readings 207 = .ok (.iaload, 1) := dk_46 (dk_at dksX5_readings_8 21 rfl rfl)
theorem dX5_readings_208 : decode cX5_readings 208 = .ok (.i2l, 1) := dk_133 (dk_at dksX5_readings_8 22 rfl rfl)
theorem dX5_readings_209 : decode cX5_readings 209 = .ok (.lreturn, 1) := dk_173 (dk_at dksX5_readings_8 23 rfl rfl)
abbrev cX5_unique : ByteArray := prog_24_method_107_code
def yX5_unique : MethodName := ⟨RX5, "unique", "(IIZ)I"⟩
def dkwX5_unique_1 : List UInt8 := [54, 4, 29, 153, 0, 8, 21, 4, 167, 0, 14, 21, 4, 2, 160, 0, 7, 4, 167, 0, 4, 3, 172]
abbrev dktX5_unique_1 : List UInt8 := dkwX5_unique_1 ++ []
def dkwX5_unique_0 : List UInt8 := [42, 27, 182, 0, 224, 153, 0, 10, 28, 184, 0, 218, 154, 0, 6, 16, 254, 172, 42, 28, 182, 1, 132]
abbrev dktX5_unique_0 : List UInt8 := dkwX5_unique_0 ++ dktX5_unique_1
theorem dksX5_unique_0 : cX5_unique.data.toList.drop 0 = dktX5_unique_0 := by decide +kernel
theorem dksX5_unique_1 : cX5_unique.data.toList.drop 23 = dktX5_unique_1 := dk_seg dksX5_unique_0 23 rfl rfl
theorem dX5_unique_0 : decode cX5_unique 0 = .ok (.aload_n 0, 1) := dk_42 (dk_at dksX5_unique_0 0 rfl rfl)
theorem dX5_unique_1 : decode cX5_unique 1 = .ok (.iload_n 1, 1) := dk_27 (dk_at dksX5_unique_0 1 rfl rfl)
theorem dX5_unique_2 : decode cX5_unique 2 = .ok (.invokevirtual 224, 3) := dk_182 0 224 (dk_at dksX5_unique_0 2 rfl rfl)
theorem dX5_unique_5 : decode cX5_unique 5 = .ok (.ifCond .eq 10, 3) := dk_153 0 10 (dk_at dksX5_unique_0 5 rfl rfl)
theorem dX5_unique_8 : decode cX5_unique 8 = .ok (.iload_n 2, 1) := dk_28 (dk_at dksX5_unique_0 8 rfl rfl)
theorem dX5_unique_9 : decode cX5_unique 9 = .ok (.invokestatic 218, 3) := dk_184 0 218 (dk_at dksX5_unique_0 9 rfl rfl)
theorem dX5_unique_12 : decode cX5_unique 12 = .ok (.ifCond .ne 6, 3) := dk_154 0 6 (dk_at dksX5_unique_0 12 rfl rfl)
theorem dX5_unique_15 : decode cX5_unique 15 = .ok (.bipush (-2), 2) := dk_16 254 (dk_at dksX5_unique_0 15 rfl rfl)
theorem dX5_unique_17 : decode cX5_unique 17 = .ok (.ireturn, 1) := dk_172 (dk_at dksX5_unique_0 17 rfl rfl)
theorem dX5_unique_18 : decode cX5_unique 18 = .ok (.aload_n 0, 1) := dk_42 (dk_at dksX5_unique_0 18 rfl rfl)
theorem dX5_unique_19 : decode cX5_unique 19 = .ok (.iload_n 2, 1) := dk_28 (dk_at dksX5_unique_0 19 rfl rfl)
theorem dX5_unique_20 : decode cX5_unique 20 = .ok (.invokevirtual 388, 3) := dk_182 1 132 (dk_at dksX5_unique_0 20 rfl rfl)
theorem dX5_unique_23 : decode cX5_unique 23 = .ok (.istore 4, 2) := dk_54 4 (dk_at dksX5_unique_1 0 rfl rfl)
theorem dX5_unique_25 : decode cX5_unique 25 = .ok (.iload_n 3, 1) := dk_29 (dk_at dksX5_unique_1 2 rfl rfl)
theorem dX5_unique_26 : decode cX5_unique 26 = .ok (.ifCond .eq 8, 3) := dk_153 0 8 (dk_at dksX5_unique_1 3 rfl rfl)
theorem dX5_unique_29 : decode cX5_unique 29 = .ok (.iload 4, 2) := dk_21 4 (dk_at dksX5_unique_1 6 rfl rfl)
theorem dX5_unique_31 : decode cX5_unique 31 = .ok (.goto 14, 3) := dk_167 0 14 (dk_at dksX5_unique_1 8 rfl rfl)
theorem dX5_unique_34 : decode cX5_unique 34 = .ok (.iload 4, 2) := dk_21 4 (dk_at dksX5_unique_1 11 rfl rfl)
theorem dX5_unique_36 : decode cX5_unique 36 = .ok (.iconst (-1), 1) := dk_2 (dk_at dksX5_unique_1 13 rfl rfl)
theorem dX5_unique_37 : decode cX5_unique 37 = .ok (.if_icmp .ne 7, 3) := dk_160 0 7 (dk_at dksX5_unique_1 14 rfl rfl)
theorem dX5_unique_40 : decode cX5_unique 40 = .ok (.iconst 1, 1) := dk_4 (dk_at dksX5_unique_1 17 rfl rfl)
theorem dX5_unique_41 : decode cX5_unique 41 = .ok (.goto 4, 3) := dk_167 0 4 (dk_at dksX5_unique_1 18 rfl rfl)
theorem dX5_unique_44 : decode cX5_unique 44 = .ok (.iconst 0, 1) := dk_3 (dk_at dksX5_unique_1 21 rfl rfl)
theorem dX5_unique_45 : decode cX5_unique 45 = .ok (.ireturn, 1) := dk_172 (dk_at dksX5_unique_1 22 rfl rfl)
abbrev cX5_twofold : ByteArray := prog_24_method_106_code
def yX5_twofold : MethodName := ⟨RX5, "twofold", "(I)I"⟩
def dkwX5_twofold_9 : List UInt8 := [184, 1, 64, 62, 132, 4, 1, 167, 255, 221, 29, 17, 39, 15, 160, 0, 7, 2, 167, 0, 4, 29, 172]
abbrev dktX5_twofold_9 : List UInt8 := dkwX5_twofold_9 ++ []
def dkwX5_twofold_8 : List UInt8 := [182, 0, 221, 162, 0, 31, 29, 42, 180, 0, 84, 8, 21, 4, 104, 42, 27, 21, 4, 182, 0, 230, 96, 46]
abbrev dktX5_twofold_8 : List UInt8 := dkwX5_twofold_8 ++ dktX5_twofold_9
def dkwX5_twofold_7 : List UInt8 := [167, 255, 206, 132, 3, 1, 167, 255, 191, 167, 255, 180, 17, 39, 15, 62, 3, 54, 4, 21, 4, 42, 27]
abbrev dktX5_twofold_7 : List UInt8 := dkwX5_twofold_7 ++ dktX5_twofold_8
def dkwX5_twofold_6 : List UInt8 := [29, 8, 112, 21, 4, 182, 1, 129, 154, 0, 7, 28, 153, 0, 7, 4, 167, 0, 4, 3, 61, 132, 4, 1]
abbrev dktX5_twofold_6 : List UInt8 := dkwX5_twofold_6 ++ dktX5_twofold_7
def dkwX5_twofold_5 : List UInt8 := [42, 27, 182, 0, 221, 162, 0, 46, 29, 8, 108, 42, 27, 182, 0, 221, 162, 0, 35, 42, 27, 29, 8, 108]
abbrev dktX5_twofold_5 : List UInt8 := dkwX5_twofold_5 ++ dktX5_twofold_6
def dkwX5_twofold_4 : List UInt8 := [167, 255, 189, 4, 61, 28, 153, 0, 78, 3, 61, 3, 62, 29, 16, 30, 162, 0, 65, 3, 54, 4, 21, 4]
abbrev dktX5_twofold_4 : List UInt8 := dkwX5_twofold_4 ++ dktX5_twofold_5
def dkwX5_twofold_3 : List UInt8 := [182, 0, 230, 96, 42, 27, 29, 182, 0, 230, 182, 1, 126, 87, 132, 3, 1, 167, 255, 206, 132, 2, 1]
abbrev dktX5_twofold_3 : List UInt8 := dkwX5_twofold_3 ++ dktX5_twofold_4
def dkwX5_twofold_2 : List UInt8 := [159, 0, 36, 42, 27, 28, 3, 29, 3, 182, 1, 122, 153, 0, 24, 42, 8, 29, 104, 42, 27, 28]
abbrev dktX5_twofold_2 : List UInt8 := dkwX5_twofold_2 ++ dktX5_twofold_3
def dkwX5_twofold_1 : List UInt8 := [61, 28, 42, 27, 182, 0, 221, 162, 0, 64, 3, 62, 29, 42, 27, 182, 0, 221, 162, 0, 47, 28, 29]
abbrev dktX5_twofold_1 : List UInt8 := dkwX5_twofold_1 ++ dktX5_twofold_2
def dkwX5_twofold_0 : List UInt8 := [3, 61, 28, 16, 30, 162, 0, 18, 42, 180, 0, 84, 28, 17, 39, 15, 79, 132, 2, 1, 167, 255, 238, 3]
abbrev dktX5_twofold_0 : List UInt8 := dkwX5_twofold_0 ++ dktX5_twofold_1
theorem dksX5_twofold_0 : cX5_twofold.data.toList.drop 0 = dktX5_twofold_0 := by decide +kernel
theorem dksX5_twofold_1 : cX5_twofold.data.toList.drop 24 = dktX5_twofold_1 := dk_seg dksX5_twofold_0 24 rfl rfl
theorem dksX5_twofold_2 : cX5_twofold.data.toList.drop 47 = dktX5_twofold_2 := dk_seg dksX5_twofold_1 23 rfl rfl
theorem dksX5_twofold_3 : cX5_twofold.data.toList.drop 69 = dktX5_twofold_3 := dk_seg dksX5_twofold_2 22 rfl rfl
theorem dksX5_twofold_4 : cX5_twofold.data.toList.drop 92 = dktX5_twofold_4 := dk_seg dksX5_twofold_3 23 rfl rfl
theorem dksX5_twofold_5 : cX5_twofold.data.toList.drop 116 = dktX5_twofold_5 := dk_seg dksX5_twofold_4 24 rfl rfl
theorem dksX5_twofold_6 : cX5_twofold.data.toList.drop 140 = dktX5_twofold_6 := dk_seg dksX5_twofold_5 24 rfl rfl
theorem dksX5_twofold_7 : cX5_twofold.data.toList.drop 164 = dktX5_twofold_7 := dk_seg dksX5_twofold_6 24 rfl rfl
theorem dksX5_twofold_8 : cX5_twofold.data.toList.drop 187 = dktX5_twofold_8 := dk_seg dksX5_twofold_7 23 rfl rfl
theorem dksX5_twofold_9 : cX5_twofold.data.toList.drop 211 = dktX5_twofold_9 := dk_seg dksX5_twofold_8 24 rfl rfl
theorem dX5_twofold_0 : decode cX5_twofold 0 = .ok (.iconst 0, 1) := dk_3 (dk_at dksX5_twofold_0 0 rfl rfl)
theorem dX5_twofold_1 : decode cX5_twofold 1 = .ok (.istore_n 2, 1) := dk_61 (dk_at dksX5_twofold_0 1 rfl rfl)
theorem dX5_twofold_2 : decode cX5_twofold 2 = .ok (.iload_n 2, 1) := dk_28 (dk_at dksX5_twofold_0 2 rfl rfl)
theorem dX5_twofold_3 : decode cX5_twofold 3 = .ok (.bipush 30, 2) := dk_16 30 (dk_at dksX5_twofold_0 3 rfl rfl)
theorem dX5_twofold_5 : decode cX5_twofold 5 = .ok (.if_icmp .ge 18, 3) := dk_162 0 18 (dk_at dksX5_twofold_0 5 rfl rfl)
theorem dX5_twofold_8 : decode cX5_twofold 8 = .ok (.aload_n 0, 1) := dk_42 (dk_at dksX5_twofold_0 8 rfl rfl)
theorem dX5_twofold_9 : decode cX5_twofold 9 = .ok (.getfield 84, 3) := dk_180 0 84 (dk_at dksX5_twofold_0 9 rfl rfl)
theorem dX5_twofold_12 : decode cX5_twofold 12 = .ok (.iload_n 2, 1) := dk_28 (dk_at dksX5_twofold_0 12 rfl rfl)
theorem dX5_twofold_13 : decode cX5_twofold 13 = .ok (.sipush 9999, 3) := dk_17 39 15 (dk_at dksX5_twofold_0 13 rfl rfl)
theorem dX5_twofold_16 : decode cX5_twofold 16 = .ok (.iastore, 1) := dk_79 (dk_at dksX5_twofold_0 16 rfl rfl)
theorem dX5_twofold_17 : decode cX5_twofold 17 = .ok (.iinc 2 1, 3) := dk_132 2 1 (dk_at dksX5_twofold_0 17 rfl rfl)
theorem dX5_twofold_20 : decode cX5_twofold 20 = .ok (.goto (-18), 3) := dk_167 255 238 (dk_at dksX5_twofold_0 20 rfl rfl)
theorem dX5_twofold_23 : decode cX5_twofold 23 = .ok (.iconst 0, 1) := dk_3 (dk_at dksX5_twofold_0 23 rfl rfl)
theorem dX5_twofold_24 : decode cX5_twofold 24 = .ok (.istore_n 2, 1) := dk_61 (dk_at dksX5_twofold_1 0 rfl rfl)
theorem dX5_twofold_25 : decode cX5_twofold 25 = .ok (.iload_n 2, 1) := dk_28 (dk_at dksX5_twofold_1 1 rfl rfl)
theorem dX5_twofold_26 : decode cX5_twofold 26 = .ok (.aload_n 0, 1) := dk_42 (dk_at dksX5_twofold_1 2 rfl rfl)
theorem dX5_twofold_27 : decode cX5_twofold 27 = .ok (.iload_n 1, 1) := dk_27 (dk_at dksX5_twofold_1 3 rfl rfl)
theorem dX5_twofold_28 : decode cX5_twofold 28 = .ok (.invokevirtual 221, 3) := dk_182 0 221 (dk_at dksX5_twofold_1 4 rfl rfl)
theorem dX5_twofold_31 : decode cX5_twofold 31 = .ok (.if_icmp .ge 64, 3) := dk_162 0 64 (dk_at dksX5_twofold_1 7 rfl rfl)
theorem dX5_twofold_34 : decode cX5_twofold 34 = .ok (.iconst 0, 1) := dk_3 (dk_at dksX5_twofold_1 10 rfl rfl)
theorem dX5_twofold_35 : decode cX5_twofold 35 = .ok (.istore_n 3, 1) := dk_62 (dk_at dksX5_twofold_1 11 rfl rfl)
theorem dX5_twofold_36 : decode cX5_twofold 36 = .ok (.iload_n 3, 1) := dk_29 (dk_at dksX5_twofold_1 12 rfl rfl)
theorem dX5_twofold_37 : decode cX5_twofold 37 = .ok (.aload_n 0, 1) := dk_42 (dk_at dksX5_twofold_1 13 rfl rfl)
theorem dX5_twofold_38 : decode cX5_twofold 38 = .ok (.iload_n 1, 1) := dk_27 (dk_at dksX5_twofold_1 14 rfl rfl)
theorem dX5_twofold_39 : decode cX5_twofold 39 = .ok (.invokevirtual 221, 3) := dk_182 0 221 (dk_at dksX5_twofold_1 15 rfl rfl)
theorem dX5_twofold_42 : decode cX5_twofold 42 = .ok (.if_icmp .ge 47, 3) := dk_162 0 47 (dk_at dksX5_twofold_1 18 rfl rfl)
theorem dX5_twofold_45 : decode cX5_twofold 45 = .ok (.iload_n 2, 1) := dk_28 (dk_at dksX5_twofold_1 21 rfl rfl)
theorem dX5_twofold_46 : decode cX5_twofold 46 = .ok (.iload_n 3, 1) := dk_29 (dk_at dksX5_twofold_1 22 rfl rfl)
theorem dX5_twofold_47 : decode cX5_twofold 47 = .ok (.if_icmp .eq 36, 3) := dk_159 0 36 (dk_at dksX5_twofold_2 0 rfl rfl)
theorem dX5_twofold_50 : decode cX5_twofold 50 = .ok (.aload_n 0, 1) := dk_42 (dk_at dksX5_twofold_2 3 rfl rfl)
theorem dX5_twofold_51 : decode cX5_twofold 51 = .ok (.iload_n 1, 1) := dk_27 (dk_at dksX5_twofold_2 4 rfl rfl)
theorem dX5_twofold_52 : decode cX5_twofold 52 = .ok (.iload_n 2, 1) := dk_28 (dk_at dksX5_twofold_2 5 rfl rfl)
theorem dX5_twofold_53 : decode cX5_twofold 53 = .ok (.iconst 0, 1) := dk_3 (dk_at dksX5_twofold_2 6 rfl rfl)
theorem dX5_twofold_54 : decode cX5_twofold 54 = .ok (.iload_n 3, 1) := dk_29 (dk_at dksX5_twofold_2 7 rfl rfl)
theorem dX5_twofold_55 : decode cX5_twofold 55 = .ok (.iconst 0, 1) := dk_3 (dk_at dksX5_twofold_2 8 rfl rfl)
theorem dX5_twofold_56 : decode cX5_twofold 56 = .ok (.invokevirtual 378, 3) := dk_182 1 122 (dk_at dksX5_twofold_2 9 rfl rfl)
theorem dX5_twofold_59 : decode cX5_twofold 59 = .ok (.ifCond .eq 24, 3) := dk_153 0 24 (dk_at dksX5_twofold_2 12 rfl rfl)
theorem dX5_twofold_62 : decode cX5_twofold 62 = .ok (.aload_n 0, 1) := dk_42 (dk_at dksX5_twofold_2 15 rfl rfl)
theorem dX5_twofold_63 : decode cX5_twofold 63 = .ok (.iconst 5, 1) := dk_8 (dk_at dksX5_twofold_2 16 rfl rfl)
theorem dX5_twofold_64 : decode cX5_twofold 64 = .ok (.iload_n 3, 1) := dk_29 (dk_at dksX5_twofold_2 17 rfl rfl)
theorem dX5_twofold_65 : decode cX5_twofold 65 = .ok (.imul, 1) := dk_104 (dk_at dksX5_twofold_2 18 rfl rfl)
theorem dX5_twofold_66 : decode cX5_twofold 66 = .ok (.aload_n 0, 1) := dk_42 (dk_at dksX5_twofold_2 19 rfl rfl)
theorem dX5_twofold_67 : decode cX5_twofold 67 = .ok (.iload_n 1, 1) := dk_27 (dk_at dksX5_twofold_2 20 rfl rfl)
theorem dX5_twofold_68 : decode cX5_twofold 68 = .ok (.iload_n 2, 1) := dk_28 (dk_at dksX5_twofold_2 21 rfl rfl)
theorem dX5_twofold_69 : decode cX5_twofold 69 = .ok (.invokevirtual 230, 3) := dk_182 0 230 (dk_at dksX5_twofold_3 0 rfl rfl)
theorem dX5_twofold_72 : decode cX5_twofold 72 = .ok (.iadd, 1) := dk_96 (dk_at dksX5_twofold_3 3 rfl rfl)
theorem dX5_twofold_73 : decode cX5_twofold 73 = .ok (.aload_n 0, 1) := dk_42 (dk_at dksX5_twofold_3 4 rfl rfl)
theorem dX5_twofold_74 : decode cX5_twofold 74 = .ok (.iload_n 1, 1) := dk_27 (dk_at dksX5_twofold_3 5 rfl rfl)
theorem dX5_twofold_75 : decode cX5_twofold 75 = .ok (.iload_n 3, 1) := dk_29 (dk_at dksX5_twofold_3 6 rfl rfl)
theorem dX5_twofold_76 : decode cX5_twofold 76 = .ok (.invokevirtual 230, 3) := dk_182 0 230 (dk_at dksX5_twofold_3 7 rfl rfl)
theorem dX5_twofold_79 : decode cX5_twofold 79 = .ok (.invokevirtual 382, 3) := dk_182 1 126 (dk_at dksX5_twofold_3 10 rfl rfl)
theorem dX5_twofold_82 : decode cX5_twofold 82 = .ok (.pop, 1) := dk_87 (dk_at dksX5_twofold_3 13 rfl rfl)
theorem dX5_twofold_83 : decode cX5_twofold 83 = .ok (.iinc 3 1, 3) := dk_132 3 1 (dk_at dksX5_twofold_3 14 rfl rfl)
theorem dX5_twofold_86 : decode cX5_twofold 86 = .ok (.goto (-50), 3) := dk_167 255 206 (dk_at dksX5_twofold_3 17 rfl rfl)
theorem dX5_twofold_89 : decode cX5_twofold 89 = .ok (.iinc 2 1, 3) := dk_132 2 1 (dk_at dksX5_twofold_3 20 rfl rfl)
theorem dX5_twofold_92 : decode cX5_twofold 92 = .ok (.goto (-67), 3) := dk_167 255 189 (dk_at dksX5_twofold_4 0 rfl rfl)
theorem dX5_twofold_95 : decode cX5_twofold 95 = .ok (.iconst 1, 1) := dk_4 (dk_at dksX5_twofold_4 3 rfl rfl)
theorem dX5_twofold_96 : decode cX5_twofold 96 = .ok (.istore_n 2, 1) := dk_61 (dk_at dksX5_twofold_4 4 rfl rfl)
theorem dX5_twofold_97 : decode cX5_twofold 97 = .ok (.iload_n 2, 1) := dk_28 (dk_at dksX5_twofold_4 5 rfl rfl)
theorem dX5_twofold_98 : decode cX5_twofold 98 = .ok (.ifCond .eq 78, 3) := dk_153 0 78 (dk_at dksX5_twofold_4 6 rfl rfl)
theorem dX5_twofold_101 : decode cX5_twofold 101 = .ok (.iconst 0, 1) := dk_3 (dk_at dksX5_twofold_4 9 rfl rfl)
theorem dX5_twofold_102 : decode cX5_twofold 102 = .ok (.istore_n 2, 1) := dk_61 (dk_at dksX5_twofold_4 10 rfl rfl)
theorem dX5_twofold_103 : decode cX5_twofold 103 = .ok (.iconst 0, 1) := dk_3 (dk_at dksX5_twofold_4 11 rfl rfl)
theorem dX5_twofold_104 : decode cX5_twofold 104 = .ok (.istore_n 3, 1) := dk_62 (dk_at dksX5_twofold_4 12 rfl rfl)
theorem dX5_twofold_105 : decode cX5_twofold 105 = .ok (.iload_n 3, 1) := dk_29 (dk_at dksX5_twofold_4 13 rfl rfl)
theorem dX5_twofold_106 : decode cX5_twofold 106 = .ok (.bipush 30, 2) := dk_16 30 (dk_at dksX5_twofold_4 14 rfl rfl)
theorem dX5_twofold_108 : decode cX5_twofold 108 = .ok (.if_icmp .ge 65, 3) := dk_162 0 65 (dk_at dksX5_twofold_4 16 rfl rfl)
theorem dX5_twofold_111 : decode cX5_twofold 111 = .ok (.iconst 0, 1) := dk_3 (dk_at dksX5_twofold_4 19 rfl rfl)
theorem dX5_twofold_112 : decode cX5_twofold 112 = .ok (.istore 4, 2) := dk_54 4 (dk_at dksX5_twofold_4 20 rfl rfl)
theorem dX5_twofold_114 : decode cX5_twofold 114 = .ok (.iload 4, 2) := dk_21 4 (dk_at dksX5_twofold_4 22 rfl rfl)
theorem dX5_twofold_116 : decode cX5_twofold 116 = .ok (.aload_n 0, 1) := dk_42 (dk_at dksX5_twofold_5 0 rfl rfl)
theorem dX5_twofold_117 : decode cX5_twofold 117 = .ok (.iload_n 1, 1) := dk_27 (dk_at dksX5_twofold_5 1 rfl rfl)
theorem dX5_twofold_118 : decode cX5_twofold 118 = .ok (.invokevirtual 221, 3) := dk_182 0 221 (dk_at dksX5_twofold_5 2 rfl rfl)
theorem dX5_twofold_121 : decode cX5_twofold 121 = .ok (.if_icmp .ge 46, 3) := dk_162 0 46 (dk_at dksX5_twofold_5 5 rfl rfl)
theorem dX5_twofold_124 : decode cX5_twofold 124 = .ok (.iload_n 3, 1) := dk_29 (dk_at dksX5_twofold_5 8 rfl rfl)
theorem dX5_twofold_125 : decode cX5_twofold 125 = .ok (.iconst 5, 1) := dk_8 (dk_at dksX5_twofold_5 9 rfl rfl)
theorem dX5_twofold_126 : decode cX5_twofold 126 = .ok (.idiv, 1) := dk_108 (dk_at dksX5_twofold_5 10 rfl rfl)
theorem dX5_twofold_127 : decode cX5_twofold 127 = .ok (.aload_n 0, 1) := dk_42 (dk_at dksX5_twofold_5 11 rfl rfl)
theorem dX5_twofold_128 : decode cX5_twofold 128 = .ok (.iload_n 1, 1) := dk_27 (dk_at dksX5_twofold_5 12 rfl rfl)
theorem dX5_twofold_129 : decode cX5_twofold 129 = .ok (.invokevirtual 221, 3) := dk_182 0 221 (dk_at dksX5_twofold_5 13 rfl rfl)
theorem dX5_twofold_132 : decode cX5_twofold 132 = .ok (.if_icmp .ge 35, 3) := dk_162 0 35 (dk_at dksX5_twofold_5 16 rfl rfl)
theorem dX5_twofold_135 : decode cX5_twofold 135 = .ok (.aload_n 0, 1) := dk_42 (dk_at dksX5_twofold_5 19 rfl rfl)
theorem dX5_twofold_136 : decode cX5_twofold 136 = .ok (.iload_n 1, 1) := dk_27 (dk_at dksX5_twofold_5 20 rfl rfl)
theorem dX5_twofold_137 : decode cX5_twofold 137 = .ok (.iload_n 3, 1) := dk_29 (dk_at dksX5_twofold_5 21 rfl rfl)
theorem dX5_twofold_138 : decode cX5_twofold 138 = .ok (.iconst 5, 1) := dk_8 (dk_at dksX5_twofold_5 22 rfl rfl)
theorem dX5_twofold_139 : decode cX5_twofold 139 = .ok (.idiv, 1) := dk_108 (dk_at dksX5_twofold_5 23 rfl rfl)
theorem dX5_twofold_140 : decode cX5_twofold 140 = .ok (.iload_n 3, 1) := dk_29 (dk_at dksX5_twofold_6 0 rfl rfl)
theorem dX5_twofold_141 : decode cX5_twofold 141 = .ok (.iconst 5, 1) := dk_8 (dk_at dksX5_twofold_6 1 rfl rfl)
theorem dX5_twofold_142 : decode cX5_twofold 142 = .ok (.irem, 1) := dk_112 (dk_at dksX5_twofold_6 2 rfl rfl)
theorem dX5_twofold_143 : decode cX5_twofold 143 = .ok (.iload 4, 2) := dk_21 4 (dk_at dksX5_twofold_6 3 rfl rfl)
theorem dX5_twofold_145 : decode cX5_twofold 145 = .ok (.invokevirtual 385, 3) := dk_182 1 129 (dk_at dksX5_twofold_6 5 rfl rfl)
theorem dX5_twofold_148 : decode cX5_twofold 148 = .ok (.ifCond .ne 7, 3) := dk_154 0 7 (dk_at dksX5_twofold_6 8 rfl rfl)
theorem dX5_twofold_151 : decode cX5_twofold 151 = .ok (.iload_n 2, 1) := dk_28 (dk_at dksX5_twofold_6 11 rfl rfl)
theorem dX5_twofold_152 : decode cX5_twofold 152 = .ok (.ifCond .eq 7, 3) := dk_153 0 7 (dk_at dksX5_twofold_6 12 rfl rfl)
theorem dX5_twofold_155 : decode cX5_twofold 155 = .ok (.iconst 1, 1) := dk_4 (dk_at dksX5_twofold_6 15 rfl rfl)
theorem dX5_twofold_156 : decode cX5_twofold 156 = .ok (.goto 4, 3) := dk_167 0 4 (dk_at dksX5_twofold_6 16 rfl rfl)
theorem dX5_twofold_159 : decode cX5_twofold 159 = .ok (.iconst 0, 1) := dk_3 (dk_at dksX5_twofold_6 19 rfl rfl)
theorem dX5_twofold_160 : decode cX5_twofold 160 = .ok (.istore_n 2, 1) := dk_61 (dk_at dksX5_twofold_6 20 rfl rfl)
theorem dX5_twofold_161 : decode cX5_twofold 161 = .ok (.iinc 4 1, 3) := dk_132 4 1 (dk_at dksX5_twofold_6 21 rfl rfl)
theorem dX5_twofold_164 : decode cX5_twofold 164 = .ok (.goto (-50), 3) := dk_167 255 206 (dk_at dksX5_twofold_7 0 rfl rfl)
theorem dX5_twofold_167 : decode cX5_twofold 167 = .ok (.iinc 3 1, 3) := dk_132 3 1 (dk_at dksX5_twofold_7 3 rfl rfl)
theorem dX5_twofold_170 : decode cX5_twofold 170 = .ok (.goto (-65), 3) := dk_167 255 191 (dk_at dksX5_twofold_7 6 rfl rfl)
theorem dX5_twofold_173 : decode cX5_twofold 173 = .ok (.goto (-76), 3) := dk_167 255 180 (dk_at dksX5_twofold_7 9 rfl rfl)
theorem dX5_twofold_176 : decode cX5_twofold 176 = .ok (.sipush 9999, 3) := dk_17 39 15 (dk_at dksX5_twofold_7 12 rfl rfl)
theorem dX5_twofold_179 : decode cX5_twofold 179 = .ok (.istore_n 3, 1) := dk_62 (dk_at dksX5_twofold_7 15 rfl rfl)
theorem dX5_twofold_180 : decode cX5_twofold 180 = .ok (.iconst 0, 1) := dk_3 (dk_at dksX5_twofold_7 16 rfl rfl)
theorem dX5_twofold_181 : decode cX5_twofold 181 = .ok (.istore 4, 2) := dk_54 4 (dk_at dksX5_twofold_7 17 rfl rfl)
theorem dX5_twofold_183 : decode cX5_twofold 183 = .ok (.iload 4, 2) := dk_21 4 (dk_at dksX5_twofold_7 19 rfl rfl)
theorem dX5_twofold_185 : decode cX5_twofold 185 = .ok (.aload_n 0, 1) := dk_42 (dk_at dksX5_twofold_7 21 rfl rfl)
theorem dX5_twofold_186 : decode cX5_twofold 186 = .ok (.iload_n 1, 1) := dk_27 (dk_at dksX5_twofold_7 22 rfl rfl)
theorem dX5_twofold_187 : decode cX5_twofold 187 = .ok (.invokevirtual 221, 3) := dk_182 0 221 (dk_at dksX5_twofold_8 0 rfl rfl)
theorem dX5_twofold_190 : decode cX5_twofold 190 = .ok (.if_icmp .ge 31, 3) := dk_162 0 31 (dk_at dksX5_twofold_8 3 rfl rfl)
theorem dX5_twofold_193 : decode cX5_twofold 193 = .ok (.iload_n 3, 1) := dk_29 (dk_at dksX5_twofold_8 6 rfl rfl)
theorem dX5_twofold_194 : decode cX5_twofold 194 = .ok (.aload_n 0, 1) := dk_42 (dk_at dksX5_twofold_8 7 rfl rfl)
theorem dX5_twofold_195 : decode cX5_twofold 195 = .ok (.getfield 84, 3) := dk_180 0 84 (dk_at dksX5_twofold_8 8 rfl rfl)
theorem dX5_twofold_198 : decode cX5_twofold 198 = .ok (.iconst 5, 1) := dk_8 (dk_at dksX5_twofold_8 11 rfl rfl)
theorem dX5_twofold_199 : decode cX5_twofold 199 = .ok (.iload 4, 2) := dk_21 4 (dk_at dksX5_twofold_8 12 rfl rfl)
theorem dX5_twofold_201 : decode cX5_twofold 201 = .ok (.imul, 1) := dk_104 (dk_at dksX5_twofold_8 14 rfl rfl)
theorem dX5_twofold_202 : decode cX5_twofold 202 = .ok (.aload_n 0, 1) := dk_42 (dk_at dksX5_twofold_8 15 rfl rfl)
theorem dX5_twofold_203 : decode cX5_twofold 203 = .ok (.iload_n 1, 1) := dk_27 (dk_at dksX5_twofold_8 16 rfl rfl)
theorem dX5_twofold_204 : decode cX5_twofold 204 = .ok (.iload 4, 2) := dk_21 4 (dk_at dksX5_twofold_8 17 rfl rfl)
theorem dX5_twofold_206 : decode cX5_twofold 206 = .ok (.invokevirtual 230, 3) := dk_182 0 230 (dk_at dksX5_twofold_8 19 rfl rfl)
theorem dX5_twofold_209 : decode cX5_twofold 209 = .ok (.iadd, 1) := dk_96 (dk_at dksX5_twofold_8 22 rfl rfl)
theorem dX5_twofold_210 : decode cX5_twofold 210 = .ok (.iaload, 1) := dk_46 (dk_at dksX5_twofold_8 23 rfl rfl)
theorem dX5_twofold_211 : decode cX5_twofold 211 = .ok (.invokestatic 320, 3) := dk_184 1 64 (dk_at dksX5_twofold_9 0 rfl rfl)
theorem dX5_twofold_214 : decode cX5_twofold 214 = .ok (.istore_n 3, 1) := dk_62 (dk_at dksX5_twofold_9 3 rfl rfl)
theorem dX5_twofold_215 : decode cX5_twofold 215 = .ok (.iinc 4 1, 3) := dk_132 4 1 (dk_at dksX5_twofold_9 4 rfl rfl)
theorem dX5_twofold_218 : decode cX5_twofold 218 = .ok (.goto (-35), 3) := dk_167 255 221 (dk_at dksX5_twofold_9 7 rfl rfl)
theorem dX5_twofold_221 : decode cX5_twofold 221 = .ok (.iload_n 3, 1) := dk_29 (dk_at dksX5_twofold_9 10 rfl rfl)
theorem dX5_twofold_222 : decode cX5_twofold 222 = .ok (.sipush 9999, 3) := dk_17 39 15 (dk_at dksX5_twofold_9 11 rfl rfl)
theorem dX5_twofold_225 : decode cX5_twofold 225 = .ok (.if_icmp .ne 7, 3) := dk_160 0 7 (dk_at dksX5_twofold_9 14 rfl rfl)
theorem dX5_twofold_228 : decode cX5_twofold 228 = .ok (.iconst (-1), 1) := dk_2 (dk_at dksX5_twofold_9 17 rfl rfl)
theorem dX5_twofold_229 : decode cX5_twofold 229 = .ok (.goto 4, 3) := dk_167 0 4 (dk_at dksX5_twofold_9 18 rfl rfl)
theorem dX5_twofold_232 : decode cX5_twofold 232 = .ok (.iload_n 3, 1) := dk_29 (dk_at dksX5_twofold_9 21 rfl rfl)
theorem dX5_twofold_233 : decode cX5_twofold 233 = .ok (.ireturn, 1) := dk_172 (dk_at dksX5_twofold_9 22 rfl rfl)
abbrev cX5_goesInto : ByteArray := prog_24_method_103_code
def yX5_goesInto : MethodName := ⟨RX5, "goesInto", "(IIIII)Z"⟩
def dkwX5_goesInto_3 : List UInt8 := [182, 0, 233, 160, 0, 7, 4, 167, 0, 4, 3, 54, 6, 132, 7, 1, 167, 255, 203, 21, 6, 172]
abbrev dktX5_goesInto_3 : List UInt8 := dkwX5_goesInto_3 ++ []
def dkwX5_goesInto_2 : List UInt8 := [153, 0, 41, 42, 27, 28, 29, 21, 7, 96, 182, 0, 233, 42, 27, 21, 4, 21, 5, 21, 7, 96]
abbrev dktX5_goesInto_2 : List UInt8 := dkwX5_goesInto_2 ++ dktX5_goesInto_3
def dkwX5_goesInto_1 : List UInt8 := [167, 0, 4, 3, 54, 6, 3, 54, 7, 29, 21, 7, 96, 42, 27, 28, 182, 0, 230, 162, 0, 46, 21, 6]
abbrev dktX5_goesInto_1 : List UInt8 := dkwX5_goesInto_1 ++ dktX5_goesInto_2
def dkwX5_goesInto_0 : List UInt8 := [42, 27, 28, 182, 0, 230, 29, 100, 42, 27, 21, 4, 182, 0, 230, 21, 5, 100, 163, 0, 7, 4]
abbrev dktX5_goesInto_0 : List UInt8 := dkwX5_goesInto_0 ++ dktX5_goesInto_1
theorem dksX5_goesInto_0 : cX5_goesInto.data.toList.drop 0 = dktX5_goesInto_0 := by decide +kernel
theorem dksX5_goesInto_1 : cX5_goesInto.data.toList.drop 22 = dktX5_goesInto_1 := dk_seg dksX5_goesInto_0 22 rfl rfl
theorem dksX5_goesInto_2 : cX5_goesInto.data.toList.drop 46 = dktX5_goesInto_2 := dk_seg dksX5_goesInto_1 24 rfl rfl
theorem dksX5_goesInto_3 : cX5_goesInto.data.toList.drop 68 = dktX5_goesInto_3 := dk_seg dksX5_goesInto_2 22 rfl rfl
theorem dX5_goesInto_0 : decode cX5_goesInto 0 = .ok (.aload_n 0, 1) := dk_42 (dk_at dksX5_goesInto_0 0 rfl rfl)
theorem dX5_goesInto_1 : decode cX5_goesInto 1 = .ok (.iload_n 1, 1) := dk_27 (dk_at dksX5_goesInto_0 1 rfl rfl)
theorem dX5_goesInto_2 : decode cX5_goesInto 2 = .ok (.iload_n 2, 1) := dk_28 (dk_at dksX5_goesInto_0 2 rfl rfl)
theorem dX5_goesInto_3 : decode cX5_goesInto 3 = .ok (.invokevirtual 230, 3) := dk_182 0 230 (dk_at dksX5_goesInto_0 3 rfl rfl)
theorem dX5_goesInto_6 : decode cX5_goesInto 6 = .ok (.iload_n 3, 1) := dk_29 (dk_at dksX5_goesInto_0 6 rfl rfl)
theorem dX5_goesInto_7 : decode cX5_goesInto 7 = .ok (.isub, 1) := dk_100 (dk_at dksX5_goesInto_0 7 rfl rfl)
theorem dX5_goesInto_8 : decode cX5_goesInto 8 = .ok (.aload_n 0, 1) := dk_42 (dk_at dksX5_goesInto_0 8 rfl rfl)
theorem dX5_goesInto_9 : decode cX5_goesInto 9 = .ok (.iload_n 1, 1) := dk_27 (dk_at dksX5_goesInto_0 9 rfl rfl)
theorem dX5_goesInto_10 : decode cX5_goesInto 10 = .ok (.iload 4, 2) := dk_21 4 (dk_at dksX5_goesInto_0 10 rfl rfl)
theorem dX5_goesInto_12 : decode cX5_goesInto 12 = .ok (.invokevirtual 230, 3) := dk_182 0 230 (dk_at dksX5_goesInto_0 12 rfl rfl)
theorem dX5_goesInto_15 : decode cX5_goesInto 15 = .ok (.iload 5, 2) := dk_21 5 (dk_at dksX5_goesInto_0 15 rfl rfl)
theorem dX5_goesInto_17 : decode cX5_goesInto 17 = .ok (.isub, 1) := dk_100 (dk_at dksX5_goesInto_0 17 rfl rfl)
theorem dX5_goesInto_18 : decode cX5_goesInto 18 = .ok (.if_icmp .gt 7, 3) := dk_163 0 7 (dk_at dksX5_goesInto_0 18 rfl rfl)
theorem dX5_goesInto_21 : decode cX5_goesInto 21 = .ok (.iconst 1, 1) := dk_4 (dk_at dksX5_goesInto_0 21 rfl rfl)
theorem dX5_goesInto_22 : decode cX5_goesInto 22 = .ok (.goto 4, 3) := dk_167 0 4 (dk_at dksX5_goesInto_1 0 rfl rfl)
theorem dX5_goesInto_25 : decode cX5_goesInto 25 = .ok (.iconst 0, 1) := dk_3 (dk_at dksX5_goesInto_1 3 rfl rfl)
theorem dX5_goesInto_26 : decode cX5_goesInto 26 = .ok (.istore 6, 2) := dk_54 6 (dk_at dksX5_goesInto_1 4 rfl rfl)
theorem dX5_goesInto_28 : decode cX5_goesInto 28 = .ok (.iconst 0, 1) := dk_3 (dk_at dksX5_goesInto_1 6 rfl rfl)
theorem dX5_goesInto_29 : decode cX5_goesInto 29 = .ok (.istore 7, 2) := dk_54 7 (dk_at dksX5_goesInto_1 7 rfl rfl)
theorem dX5_goesInto_31 : decode cX5_goesInto 31 = .ok (.iload_n 3, 1) := dk_29 (dk_at dksX5_goesInto_1 9 rfl rfl)
theorem dX5_goesInto_32 : decode cX5_goesInto 32 = .ok (.iload 7, 2) := dk_21 7 (dk_at dksX5_goesInto_1 10 rfl rfl)
theorem dX5_goesInto_34 : decode cX5_goesInto 34 = .ok (.iadd, 1) := dk_96 (dk_at dksX5_goesInto_1 12 rfl rfl)
theorem dX5_goesInto_35 : decode cX5_goesInto 35 = .ok (.aload_n 0, 1) := dk_42 (dk_at dksX5_goesInto_1 13 rfl rfl)
theorem dX5_goesInto_36 : decode cX5_goesInto 36 = .ok (.iload_n 1, 1) := dk_27 (dk_at dksX5_goesInto_1 14 rfl rfl)
theorem dX5_goesInto_37 : decode cX5_goesInto 37 = .ok (.iload_n 2, 1) := dk_28 (dk_at dksX5_goesInto_1 15 rfl rfl)
theorem dX5_goesInto_38 : decode cX5_goesInto 38 = .ok (.invokevirtual 230, 3) := dk_182 0 230 (dk_at dksX5_goesInto_1 16 rfl rfl)
theorem dX5_goesInto_41 : decode cX5_goesInto 41 = .ok (.if_icmp .ge 46, 3) := dk_162 0 46 (dk_at dksX5_goesInto_1 19 rfl rfl)
theorem dX5_goesInto_44 : decode cX5_goesInto 44 = .ok (.iload 6, 2) := dk_21 6 (dk_at dksX5_goesInto_1 22 rfl rfl)
theorem dX5_goesInto_46 : decode cX5_goesInto 46 = .ok (.ifCond .eq 41, 3) := dk_153 0 41 (dk_at dksX5_goesInto_2 0 rfl rfl)
theorem dX5_goesInto_49 : decode cX5_goesInto 49 = .ok (.aload_n 0, 1) := dk_42 (dk_at dksX5_goesInto_2 3 rfl rfl)
theorem dX5_goesInto_50 : decode cX5_goesInto 50 = .ok (.iload_n 1, 1) := dk_27 (dk_at dksX5_goesInto_2 4 rfl rfl)
theorem dX5_goesInto_51 : decode cX5_goesInto 51 = .ok (.iload_n 2, 1) := dk_28 (dk_at dksX5_goesInto_2 5 rfl rfl)
theorem dX5_goesInto_52 : decode cX5_goesInto 52 = .ok (.iload_n 3, 1) := dk_29 (dk_at dksX5_goesInto_2 6 rfl rfl)
theorem dX5_goesInto_53 : decode cX5_goesInto 53 = .ok (.iload 7, 2) := dk_21 7 (dk_at dksX5_goesInto_2 7 rfl rfl)
theorem dX5_goesInto_55 : decode cX5_goesInto 55 = .ok (.iadd, 1) := dk_96 (dk_at dksX5_goesInto_2 9 rfl rfl)
theorem dX5_goesInto_56 : decode cX5_goesInto 56 = .ok (.invokevirtual 233, 3) := dk_182 0 233 (dk_at dksX5_goesInto_2 10 rfl rfl)
theorem dX5_goesInto_59 : decode cX5_goesInto 59 = .ok (.aload_n 0, 1) := dk_42 (dk_at dksX5_goesInto_2 13 rfl rfl)
theorem dX5_goesInto_60 : decode cX5_goesInto 60 = .ok (.iload_n 1, 1) := dk_27 (dk_at dksX5_goesInto_2 14 rfl rfl)
theorem dX5_goesInto_61 : decode cX5_goesInto 61 = .ok (.iload 4, 2) := dk_21 4 (dk_at dksX5_goesInto_2 15 rfl rfl)
theorem dX5_goesInto_63 : decode cX5_goesInto 63 = .ok (.iload 5, 2) := dk_21 5 (dk_at dksX5_goesInto_2 17 rfl rfl)
theorem dX5_goesInto_65 : decode cX5_goesInto 65 = .ok (.iload 7, 2) := dk_21 7 (dk_at dksX5_goesInto_2 19 rfl rfl)
theorem dX5_goesInto_67 : decode cX5_goesInto 67 = .ok (.iadd, 1) := dk_96 (dk_at dksX5_goesInto_2 21 rfl rfl)
theorem dX5_goesInto_68 : decode cX5_goesInto 68 = .ok (.invokevirtual 233, 3) := dk_182 0 233 (dk_at dksX5_goesInto_3 0 rfl rfl)
theorem dX5_goesInto_71 : decode cX5_goesInto 71 = .ok (.if_icmp .ne 7, 3) := dk_160 0 7 (dk_at dksX5_goesInto_3 3 rfl rfl)
theorem dX5_goesInto_74 : decode cX5_goesInto 74 = .ok (.iconst 1, 1) := dk_4 (dk_at dksX5_goesInto_3 6 rfl rfl)
theorem dX5_goesInto_75 : decode cX5_goesInto 75 = .ok (.goto 4, 3) := dk_167 0 4 (dk_at dksX5_goesInto_3 7 rfl rfl)
theorem dX5_goesInto_78 : decode cX5_goesInto 78 = .ok (.iconst 0, 1) := dk_3 (dk_at dksX5_goesInto_3 10 rfl rfl)
theorem dX5_goesInto_79 : decode cX5_goesInto 79 = .ok (.istore 6, 2) := dk_54 6 (dk_at dksX5_goesInto_3 11 rfl rfl)
theorem dX5_goesInto_81 : decode cX5_goesInto 81 = .ok (.iinc 7 1, 3) := dk_132 7 1 (dk_at dksX5_goesInto_3 13 rfl rfl)
theorem dX5_goesInto_84 : decode cX5_goesInto 84 = .ok (.goto (-53), 3) := dk_167 255 203 (dk_at dksX5_goesInto_3 16 rfl rfl)
theorem dX5_goesInto_87 : decode cX5_goesInto 87 = .ok (.iload 6, 2) := dk_21 6 (dk_at dksX5_goesInto_3 19 rfl rfl)
theorem dX5_goesInto_89 : decode cX5_goesInto 89 = .ok (.ireturn, 1) := dk_172 (dk_at dksX5_goesInto_3 21 rfl rfl)
abbrev cX5_hangsLess : ByteArray := prog_24_method_104_code
def yX5_hangsLess : MethodName := ⟨RX5, "hangsLess", "(II)Z"⟩
def dkwX5_hangsLess_0 : List UInt8 := [28, 42, 180, 0, 84, 27, 46, 161, 0, 5, 3, 172, 42, 180, 0, 84, 27, 28, 79, 4, 172]
abbrev dktX5_hangsLess_0 : List UInt8 := dkwX5_hangsLess_0 ++ []
theorem dksX5_hangsLess_0 : cX5_hangsLess.data.toList.drop 0 = dktX5_hangsLess_0 := by decide +kernel
theorem dX5_hangsLess_0 : decode cX5_hangsLess 0 = .ok (.iload_n 2, 1) := dk_28 (dk_at dksX5_hangsLess_0 0 rfl rfl)
theorem dX5_hangsLess_1 : decode cX5_hangsLess 1 = .ok (.aload_n 0, 1) := dk_42 (dk_at dksX5_hangsLess_0 1 rfl rfl)
theorem dX5_hangsLess_2 : decode cX5_hangsLess 2 = .ok (.getfield 84, 3) := dk_180 0 84 (dk_at dksX5_hangsLess_0 2 rfl rfl)
theorem dX5_hangsLess_5 : decode cX5_hangsLess 5 = .ok (.iload_n 1, 1) := dk_27 (dk_at dksX5_hangsLess_0 5 rfl rfl)
theorem dX5_hangsLess_6 : decode cX5_hangsLess 6 = .ok (.iaload, 1) := dk_46 (dk_at dksX5_hangsLess_0 6 rfl rfl)
theorem dX5_hangsLess_7 : decode cX5_hangsLess 7 = .ok (.if_icmp .lt 5, 3) := dk_161 0 5 (dk_at dksX5_hangsLess_0 7 rfl rfl)
theorem dX5_hangsLess_10 : decode cX5_hangsLess 10 = .ok (.iconst 0, 1) := dk_3 (dk_at dksX5_hangsLess_0 10 rfl rfl)
theorem dX5_hangsLess_11 : decode cX5_hangsLess 11 = .ok (.ireturn, 1) := dk_172 (dk_at dksX5_hangsLess_0 11 rfl rfl)
theorem dX5_hangsLess_12 : decode cX5_hangsLess 12 = .ok (.aload_n 0, 1) := dk_42 (dk_at dksX5_hangsLess_0 12 rfl rfl)
theorem dX5_hangsLess_13 : decode cX5_hangsLess 13 = .ok (.getfield 84, 3) := dk_180 0 84 (dk_at dksX5_hangsLess_0 13 rfl rfl)
theorem dX5_hangsLess_16 : decode cX5_hangsLess 16 = .ok (.iload_n 1, 1) := dk_27 (dk_at dksX5_hangsLess_0 16 rfl rfl)
theorem dX5_hangsLess_17 : decode cX5_hangsLess 17 = .ok (.iload_n 2, 1) := dk_28 (dk_at dksX5_hangsLess_0 17 rfl rfl)
theorem dX5_hangsLess_18 : decode cX5_hangsLess 18 = .ok (.iastore, 1) := dk_79 (dk_at dksX5_hangsLess_0 18 rfl rfl)
theorem dX5_hangsLess_19 : decode cX5_hangsLess 19 = .ok (.iconst 1, 1) := dk_4 (dk_at dksX5_hangsLess_0 19 rfl rfl)
theorem dX5_hangsLess_20 : decode cX5_hangsLess 20 = .ok (.ireturn, 1) := dk_172 (dk_at dksX5_hangsLess_0 20 rfl rfl)
abbrev cX5_hangsOn : ByteArray := prog_24_method_105_code
def yX5_hangsOn : MethodName := ⟨RX5, "hangsOn", "(IIII)Z"⟩
def dkwX5_hangsOn_5 : List UInt8 := [172]
abbrev dktX5_hangsOn_5 : List UInt8 := dkwX5_hangsOn_5 ++ []
def dkwX5_hangsOn_4 : List UInt8 := [104, 29, 96, 42, 27, 21, 4, 182, 0, 230, 96, 21, 5, 182, 1, 126, 153, 0, 7, 4, 167, 0, 4, 3]
abbrev dktX5_hangsOn_4 : List UInt8 := dkwX5_hangsOn_4 ++ dktX5_hangsOn_5
def dkwX5_hangsOn_3 : List UInt8 := [96, 21, 6, 100, 182, 1, 126, 172, 42, 27, 21, 4, 3, 28, 29, 182, 1, 122, 153, 0, 29, 42, 8, 28]
abbrev dktX5_hangsOn_3 : List UInt8 := dkwX5_hangsOn_3 ++ dktX5_hangsOn_4
def dkwX5_hangsOn_2 : List UInt8 := [3, 182, 1, 122, 153, 0, 28, 42, 8, 21, 4, 104, 21, 6, 96, 21, 5, 42, 27, 21, 4, 182, 0, 230]
abbrev dktX5_hangsOn_2 : List UInt8 := dkwX5_hangsOn_2 ++ dktX5_hangsOn_3
def dkwX5_hangsOn_1 : List UInt8 := [182, 0, 230, 160, 0, 5, 3, 172, 42, 27, 28, 182, 0, 230, 29, 100, 54, 6, 42, 27, 28, 29, 21, 4]
abbrev dktX5_hangsOn_1 : List UInt8 := dkwX5_hangsOn_1 ++ dktX5_hangsOn_2
def dkwX5_hangsOn_0 : List UInt8 := [42, 180, 0, 84, 8, 28, 104, 29, 96, 46, 54, 5, 21, 5, 17, 39, 15, 162, 0, 13, 29, 42, 27, 28]
abbrev dktX5_hangsOn_0 : List UInt8 := dkwX5_hangsOn_0 ++ dktX5_hangsOn_1
theorem dksX5_hangsOn_0 : cX5_hangsOn.data.toList.drop 0 = dktX5_hangsOn_0 := by decide +kernel
theorem dksX5_hangsOn_1 : cX5_hangsOn.data.toList.drop 24 = dktX5_hangsOn_1 := dk_seg dksX5_hangsOn_0 24 rfl rfl
theorem dksX5_hangsOn_2 : cX5_hangsOn.data.toList.drop 48 = dktX5_hangsOn_2 := dk_seg dksX5_hangsOn_1 24 rfl rfl
theorem dksX5_hangsOn_3 : cX5_hangsOn.data.toList.drop 72 = dktX5_hangsOn_3 := dk_seg dksX5_hangsOn_2 24 rfl rfl
theorem dksX5_hangsOn_4 : cX5_hangsOn.data.toList.drop 96 = dktX5_hangsOn_4 := dk_seg dksX5_hangsOn_3 24 rfl rfl
theorem dksX5_hangsOn_5 : cX5_hangsOn.data.toList.drop 120 = dktX5_hangsOn_5 := dk_seg dksX5_hangsOn_4 24 rfl rfl
theorem dX5_hangsOn_0 : decode cX5_hangsOn 0 = .ok (.aload_n 0, 1) := dk_42 (dk_at dksX5_hangsOn_0 0 rfl rfl)
theorem dX5_hangsOn_1 : decode cX5_hangsOn 1 = .ok (.getfield 84, 3) := dk_180 0 84 (dk_at dksX5_hangsOn_0 1 rfl rfl)
theorem dX5_hangsOn_4 : decode cX5_hangsOn 4 = .ok (.iconst 5, 1) := dk_8 (dk_at dksX5_hangsOn_0 4 rfl rfl)
theorem dX5_hangsOn_5 : decode cX5_hangsOn 5 = .ok (.iload_n 2, 1) := dk_28 (dk_at dksX5_hangsOn_0 5 rfl rfl)
theorem dX5_hangsOn_6 : decode cX5_hangsOn 6 = .ok (.imul, 1) := dk_104 (dk_at dksX5_hangsOn_0 6 rfl rfl)
theorem dX5_hangsOn_7 : decode cX5_hangsOn 7 = .ok (.iload_n 3, 1) := dk_29 (dk_at dksX5_hangsOn_0 7 rfl rfl)
theorem dX5_hangsOn_8 : decode cX5_hangsOn 8 = .ok (.iadd, 1) := dk_96 (dk_at dksX5_hangsOn_0 8 rfl rfl)
theorem dX5_hangsOn_9 : decode cX5_hangsOn 9 = .ok (.iaload, 1) := dk_46 (dk_at dksX5_hangsOn_0 9 rfl rfl)
theorem dX5_hangsOn_10 : decode cX5_hangsOn 10 = .ok (.istore 5, 2) := dk_54 5 (dk_at dksX5_hangsOn_0 10 rfl rfl)
theorem dX5_hangsOn_12 : decode cX5_hangsOn 12 = .ok (.iload 5, 2) := dk_21 5 (dk_at dksX5_hangsOn_0 12 rfl rfl)
theorem dX5_hangsOn_14 : decode cX5_hangsOn 14 = .ok (.sipush 9999, 3) := dk_17 39 15 (dk_at dksX5_hangsOn_0 14 rfl rfl)
theorem dX5_hangsOn_17 : decode cX5_hangsOn 17 = .ok (.if_icmp .ge 13, 3) := dk_162 0 13 (dk_at dksX5_hangsOn_0 17 rfl rfl)
theorem dX5_hangsOn_20 : decode cX5_hangsOn 20 = .ok (.iload_n 3, 1) := dk_29 (dk_at dksX5_hangsOn_0 20 rfl rfl)
theorem dX5_hangsOn_21 : decode cX5_hangsOn 21 = .ok (.aload_n 0, 1) := dk_42 (dk_at dksX5_hangsOn_0 21 rfl rfl)
theorem dX5_hangsOn_22 : decode cX5_hangsOn 22 = .ok (.iload_n 1, 1) := dk_27 (dk_at dksX5_hangsOn_0 22 rfl rfl)
theorem dX5_hangsOn_23 : decode cX5_hangsOn 23 = .ok (.iload_n 2, 1) := dk_28 (dk_at dksX5_hangsOn_0 23 rfl rfl)
theorem dX5_hangsOn_24 : decode cX5_hangsOn 24 = .ok (.invokevirtual 230, 3) := dk_182 0 230 (dk_at dksX5_hangsOn_1 0 rfl rfl)
theorem dX5_hangsOn_27 : decode cX5_hangsOn 27 = .ok (.if_icmp .ne 5, 3) := dk_160 0 5 (dk_at dksX5_hangsOn_1 3 rfl rfl)
theorem dX5_hangsOn_30 : decode cX5_hangsOn 30 = .ok (.iconst 0, 1) := dk_3 (dk_at dksX5_hangsOn_1 6 rfl rfl)
theorem dX5_hangsOn_31 : decode cX5_hangsOn 31 = .ok (.ireturn, 1) := dk_172 (dk_at dksX5_hangsOn_1 7 rfl rfl)
theorem dX5_hangsOn_32 : decode cX5_hangsOn 32 = .ok (.aload_n 0, 1) := dk_42 (dk_at dksX5_hangsOn_1 8 rfl rfl)
theorem dX5_hangsOn_33 : decode cX5_hangsOn 33 = .ok (.iload_n 1, 1) := dk_27 (dk_at dksX5_hangsOn_1 9 rfl rfl)
theorem dX5_hangsOn_34 : decode cX5_hangsOn 34 = .ok (.iload_n 2, 1) := dk_28 (dk_at dksX5_hangsOn_1 10 rfl rfl)
theorem dX5_hangsOn_35 : decode cX5_hangsOn 35 = .ok (.invokevirtual 230, 3) := dk_182 0 230 (dk_at dksX5_hangsOn_1 11 rfl rfl)
theorem dX5_hangsOn_38 : decode cX5_hangsOn 38 = .ok (.iload_n 3, 1) := dk_29 (dk_at dksX5_hangsOn_1 14 rfl rfl)
theorem dX5_hangsOn_39 : decode cX5_hangsOn 39 = .ok (.isub, 1) := dk_100 (dk_at dksX5_hangsOn_1 15 rfl rfl)
theorem dX5_hangsOn_40 : decode cX5_hangsOn 40 = .ok (.istore 6, 2) := dk_54 6 (dk_at dksX5_hangsOn_1 16 rfl rfl)
theorem dX5_hangsOn_42 : decode cX5_hangsOn 42 = .ok (.aload_n 0, 1) := dk_42 (dk_at dksX5_hangsOn_1 18 rfl rfl)
theorem dX5_hangsOn_43 : decode cX5_hangsOn 43 = .ok (.iload_n 1, 1) := dk_27 (dk_at dksX5_hangsOn_1 19 rfl rfl)
theorem dX5_hangsOn_44 : decode cX5_hangsOn 44 = .ok (.iload_n 2, 1) := dk_28 (dk_at dksX5_hangsOn_1 20 rfl rfl)
theorem dX5_hangsOn_45 : decode cX5_hangsOn 45 = .ok (.iload_n 3, 1) := dk_29 (dk_at dksX5_hangsOn_1 21 rfl rfl)
theorem dX5_hangsOn_46 : decode cX5_hangsOn 46 = .ok (.iload 4, 2) := dk_21 4 (dk_at dksX5_hangsOn_1 22 rfl rfl)
theorem dX5_hangsOn_48 : decode cX5_hangsOn 48 = .ok (.iconst 0, 1) := dk_3 (dk_at dksX5_hangsOn_2 0 rfl rfl)
theorem dX5_hangsOn_49 : decode cX5_hangsOn 49 = .ok (.invokevirtual 378, 3) := dk_182 1 122 (dk_at dksX5_hangsOn_2 1 rfl rfl)
theorem dX5_hangsOn_52 : decode cX5_hangsOn 52 = .ok (.ifCond .eq 28, 3) := dk_153 0 28 (dk_at dksX5_hangsOn_2 4 rfl rfl)
theorem dX5_hangsOn_55 : decode cX5_hangsOn 55 = .ok (.aload_n 0, 1) := dk_42 (dk_at dksX5_hangsOn_2 7 rfl rfl)
theorem dX5_hangsOn_56 : decode cX5_hangsOn 56 = .ok (.iconst 5, 1) := dk_8 (dk_at dksX5_hangsOn_2 8 rfl rfl)
theorem dX5_hangsOn_57 : decode cX5_hangsOn 57 = .ok (.iload 4, 2) := dk_21 4 (dk_at dksX5_hangsOn_2 9 rfl rfl)
theorem dX5_hangsOn_59 : decode cX5_hangsOn 59 = .ok (.imul, 1) := dk_104 (dk_at dksX5_hangsOn_2 11 rfl rfl)
theorem dX5_hangsOn_60 : decode cX5_hangsOn 60 = .ok (.iload 6, 2) := dk_21 6 (dk_at dksX5_hangsOn_2 12 rfl rfl)
theorem dX5_hangsOn_62 : decode cX5_hangsOn 62 = .ok (.iadd, 1) := dk_96 (dk_at dksX5_hangsOn_2 14 rfl rfl)
theorem dX5_hangsOn_63 : decode cX5_hangsOn 63 = .ok (.iload 5, 2) := dk_21 5 (dk_at dksX5_hangsOn_2 15 rfl rfl)
theorem dX5_hangsOn_65 : decode cX5_hangsOn 65 = .ok (.aload_n 0, 1) := dk_42 (dk_at dksX5_hangsOn_2 17 rfl rfl)
theorem dX5_hangsOn_66 : decode cX5_hangsOn 66 = .ok (.iload_n 1, 1) := dk_27 (dk_at dksX5_hangsOn_2 18 rfl rfl)
theorem dX5_hangsOn_67 : decode cX5_hangsOn 67 = .ok (.iload 4, 2) := dk_21 4 (dk_at dksX5_hangsOn_2 19 rfl rfl)
theorem dX5_hangsOn_69 : decode cX5_hangsOn 69 = .ok (.invokevirtual 230, 3) := dk_182 0 230 (dk_at dksX5_hangsOn_2 21 rfl rfl)
theorem dX5_hangsOn_72 : decode cX5_hangsOn 72 = .ok (.iadd, 1) := dk_96 (dk_at dksX5_hangsOn_3 0 rfl rfl)
theorem dX5_hangsOn_73 : decode cX5_hangsOn 73 = .ok (.iload 6, 2) := dk_21 6 (dk_at dksX5_hangsOn_3 1 rfl rfl)
theorem dX5_hangsOn_75 : decode cX5_hangsOn 75 = .ok (.isub, 1) := dk_100 (dk_at dksX5_hangsOn_3 3 rfl rfl)
theorem dX5_hangsOn_76 : decode cX5_hangsOn 76 = .ok (.invokevirtual 382, 3) := dk_182 1 126 (dk_at dksX5_hangsOn_3 4 rfl rfl)
theorem dX5_hangsOn_79 : decode cX5_hangsOn 79 = .ok (.ireturn, 1) := dk_172 (dk_at dksX5_hangsOn_3 7 rfl rfl)
theorem dX5_hangsOn_80 : decode cX5_hangsOn 80 = .ok (.aload_n 0, 1) := dk_42 (dk_at dksX5_hangsOn_3 8 rfl rfl)
theorem dX5_hangsOn_81 : decode cX5_hangsOn 81 = .ok (.iload_n 1, 1) := dk_27 (dk_at dksX5_hangsOn_3 9 rfl rfl)
theorem dX5_hangsOn_82 : decode cX5_hangsOn 82 = .ok (.iload 4, 2) := dk_21 4 (dk_at dksX5_hangsOn_3 10 rfl rfl)
theorem dX5_hangsOn_84 : decode cX5_hangsOn 84 = .ok (.iconst 0, 1) := dk_3 (dk_at dksX5_hangsOn_3 12 rfl rfl)
theorem dX5_hangsOn_85 : decode cX5_hangsOn 85 = .ok (.iload_n 2, 1) := dk_28 (dk_at dksX5_hangsOn_3 13 rfl rfl)
theorem dX5_hangsOn_86 : decode cX5_hangsOn 86 = .ok (.iload_n 3, 1) := dk_29 (dk_at dksX5_hangsOn_3 14 rfl rfl)
theorem dX5_hangsOn_87 : decode cX5_hangsOn 87 = .ok (.invokevirtual 378, 3) := dk_182 1 122 (dk_at dksX5_hangsOn_3 15 rfl rfl)
theorem dX5_hangsOn_90 : decode cX5_hangsOn 90 = .ok (.ifCond .eq 29, 3) := dk_153 0 29 (dk_at dksX5_hangsOn_3 18 rfl rfl)
theorem dX5_hangsOn_93 : decode cX5_hangsOn 93 = .ok (.aload_n 0, 1) := dk_42 (dk_at dksX5_hangsOn_3 21 rfl rfl)
theorem dX5_hangsOn_94 : decode cX5_hangsOn 94 = .ok (.iconst 5, 1) := dk_8 (dk_at dksX5_hangsOn_3 22 rfl rfl)
theorem dX5_hangsOn_95 : decode cX5_hangsOn 95 = .ok (.iload_n 2, 1) := dk_28 (dk_at dksX5_hangsOn_3 23 rfl rfl)
theorem dX5_hangsOn_96 : decode cX5_hangsOn 96 = .ok (.imul, 1) := dk_104 (dk_at dksX5_hangsOn_4 0 rfl rfl)
theorem dX5_hangsOn_97 : decode cX5_hangsOn 97 = .ok (.iload_n 3, 1) := dk_29 (dk_at dksX5_hangsOn_4 1 rfl rfl)
theorem dX5_hangsOn_98 : decode cX5_hangsOn 98 = .ok (.iadd, 1) := dk_96 (dk_at dksX5_hangsOn_4 2 rfl rfl)
theorem dX5_hangsOn_99 : decode cX5_hangsOn 99 = .ok (.aload_n 0, 1) := dk_42 (dk_at dksX5_hangsOn_4 3 rfl rfl)
theorem dX5_hangsOn_100 : decode cX5_hangsOn 100 = .ok (.iload_n 1, 1) := dk_27 (dk_at dksX5_hangsOn_4 4 rfl rfl)
theorem dX5_hangsOn_101 : decode cX5_hangsOn 101 = .ok (.iload 4, 2) := dk_21 4 (dk_at dksX5_hangsOn_4 5 rfl rfl)
theorem dX5_hangsOn_103 : decode cX5_hangsOn 103 = .ok (.invokevirtual 230, 3) := dk_182 0 230 (dk_at dksX5_hangsOn_4 7 rfl rfl)
theorem dX5_hangsOn_106 : decode cX5_hangsOn 106 = .ok (.iadd, 1) := dk_96 (dk_at dksX5_hangsOn_4 10 rfl rfl)
theorem dX5_hangsOn_107 : decode cX5_hangsOn 107 = .ok (.iload 5, 2) := dk_21 5 (dk_at dksX5_hangsOn_4 11 rfl rfl)
theorem dX5_hangsOn_109 : decode cX5_hangsOn 109 = .ok (.invokevirtual 382, 3) := dk_182 1 126 (dk_at dksX5_hangsOn_4 13 rfl rfl)
theorem dX5_hangsOn_112 : decode cX5_hangsOn 112 = .ok (.ifCond .eq 7, 3) := dk_153 0 7 (dk_at dksX5_hangsOn_4 16 rfl rfl)
theorem dX5_hangsOn_115 : decode cX5_hangsOn 115 = .ok (.iconst 1, 1) := dk_4 (dk_at dksX5_hangsOn_4 19 rfl rfl)
theorem dX5_hangsOn_116 : decode cX5_hangsOn 116 = .ok (.goto 4, 3) := dk_167 0 4 (dk_at dksX5_hangsOn_4 20 rfl rfl)
theorem dX5_hangsOn_119 : decode cX5_hangsOn 119 = .ok (.iconst 0, 1) := dk_3 (dk_at dksX5_hangsOn_4 23 rfl rfl)
theorem dX5_hangsOn_120 : decode cX5_hangsOn 120 = .ok (.ireturn, 1) := dk_172 (dk_at dksX5_hangsOn_5 0 rfl rfl)
abbrev cX5_fix : ByteArray := prog_24_method_109_code
def yX5_fix : MethodName := ⟨RX5, "fix", "(IIIIZ)I"⟩
def dkwX5_fix_6 : List UInt8 := [172, 132, 7, 1, 167, 255, 213, 132, 6, 1, 167, 255, 195, 2, 172]
abbrev dktX5_fix_6 : List UInt8 := dkwX5_fix_6 ++ []
def dkwX5_fix_5 : List UInt8 := [182, 1, 135, 153, 0, 22, 21, 5, 153, 0, 15, 4, 21, 7, 120, 4, 21, 6, 120, 128, 167, 0, 4, 5]
abbrev dktX5_fix_5 : List UInt8 := dkwX5_fix_5 ++ dktX5_fix_6
def dkwX5_fix_4 : List UInt8 := [180, 0, 243, 162, 0, 58, 3, 54, 7, 21, 7, 21, 6, 162, 0, 42, 42, 29, 21, 4, 21, 7, 21, 6]
abbrev dktX5_fix_4 : List UInt8 := dkwX5_fix_4 ++ dktX5_fix_5
def dkwX5_fix_3 : List UInt8 := [153, 0, 10, 4, 21, 6, 120, 167, 0, 4, 4, 172, 132, 6, 1, 167, 255, 216, 4, 54, 6, 21, 6, 42]
abbrev dktX5_fix_3 : List UInt8 := dkwX5_fix_3 ++ dktX5_fix_4
def dkwX5_fix_2 : List UInt8 := [180, 0, 243, 162, 0, 37, 42, 29, 21, 4, 21, 6, 21, 6, 182, 1, 135, 153, 0, 17, 21, 5]
abbrev dktX5_fix_2 : List UInt8 := dkwX5_fix_2 ++ dktX5_fix_3
def dkwX5_fix_1 : List UInt8 := [154, 0, 5, 2, 172, 42, 29, 21, 4, 182, 1, 45, 153, 0, 5, 3, 172, 3, 54, 6, 21, 6, 42]
abbrev dktX5_fix_1 : List UInt8 := dkwX5_fix_1 ++ dktX5_fix_2
def dkwX5_fix_0 : List UInt8 := [42, 27, 28, 182, 0, 255, 153, 0, 20, 29, 184, 0, 218, 153, 0, 13, 21, 4, 3, 7, 184, 0, 145]
abbrev dktX5_fix_0 : List UInt8 := dkwX5_fix_0 ++ dktX5_fix_1
theorem dksX5_fix_0 : cX5_fix.data.toList.drop 0 = dktX5_fix_0 := by decide +kernel
theorem dksX5_fix_1 : cX5_fix.data.toList.drop 23 = dktX5_fix_1 := dk_seg dksX5_fix_0 23 rfl rfl
theorem dksX5_fix_2 : cX5_fix.data.toList.drop 46 = dktX5_fix_2 := dk_seg dksX5_fix_1 23 rfl rfl
theorem dksX5_fix_3 : cX5_fix.data.toList.drop 68 = dktX5_fix_3 := dk_seg dksX5_fix_2 22 rfl rfl
theorem dksX5_fix_4 : cX5_fix.data.toList.drop 92 = dktX5_fix_4 := dk_seg dksX5_fix_3 24 rfl rfl
theorem dksX5_fix_5 : cX5_fix.data.toList.drop 116 = dktX5_fix_5 := dk_seg dksX5_fix_4 24 rfl rfl
theorem dksX5_fix_6 : cX5_fix.data.toList.drop 140 = dktX5_fix_6 := dk_seg dksX5_fix_5 24 rfl rfl
theorem dX5_fix_0 : decode cX5_fix 0 = .ok (.aload_n 0, 1) := dk_42 (dk_at dksX5_fix_0 0 rfl rfl)
theorem dX5_fix_1 : decode cX5_fix 1 = .ok (.iload_n 1, 1) := dk_27 (dk_at dksX5_fix_0 1 rfl rfl)
theorem dX5_fix_2 : decode cX5_fix 2 = .ok (.iload_n 2, 1) := dk_28 (dk_at dksX5_fix_0 2 rfl rfl)
theorem dX5_fix_3 : decode cX5_fix 3 = .ok (.invokevirtual 255, 3) := dk_182 0 255 (dk_at dksX5_fix_0 3 rfl rfl)
theorem dX5_fix_6 : decode cX5_fix 6 = .ok (.ifCond .eq 20, 3) := dk_153 0 20 (dk_at dksX5_fix_0 6 rfl rfl)
theorem dX5_fix_9 : decode cX5_fix 9 = .ok (.iload_n 3, 1) := dk_29 (dk_at dksX5_fix_0 9 rfl rfl)
theorem dX5_fix_10 : decode cX5_fix 10 = .ok (.invokestatic 218, 3) := dk_184 0 218 (dk_at dksX5_fix_0 10 rfl rfl)
theorem dX5_fix_13 : decode cX5_fix 13 = .ok (.ifCond .eq 13, 3) := dk_153 0 13 (dk_at dksX5_fix_0 13 rfl rfl)
theorem dX5_fix_16 : decode cX5_fix 16 = .ok (.iload 4, 2) := dk_21 4 (dk_at dksX5_fix_0 16 rfl rfl)
theorem dX5_fix_18 : decode cX5_fix 18 = .ok (.iconst 0, 1) := dk_3 (dk_at dksX5_fix_0 18 rfl rfl)
theorem dX5_fix_19 : decode cX5_fix 19 = .ok (.iconst 4, 1) := dk_7 (dk_at dksX5_fix_0 19 rfl rfl)
theorem dX5_fix_20 : decode cX5_fix 20 = .ok (.invokestatic 145, 3) := dk_184 0 145 (dk_at dksX5_fix_0 20 rfl rfl)
theorem dX5_fix_23 : decode cX5_fix 23 = .ok (.ifCond .ne 5, 3) := dk_154 0 5 (dk_at dksX5_fix_1 0 rfl rfl)
theorem dX5_fix_26 : decode cX5_fix 26 = .ok (.iconst (-1), 1) := dk_2 (dk_at dksX5_fix_1 3 rfl rfl)
theorem dX5_fix_27 : decode cX5_fix 27 = .ok (.ireturn, 1) := dk_172 (dk_at dksX5_fix_1 4 rfl rfl)
theorem dX5_fix_28 : decode cX5_fix 28 = .ok (.aload_n 0, 1) := dk_42 (dk_at dksX5_fix_1 5 rfl rfl)
theorem dX5_fix_29 : decode cX5_fix 29 = .ok (.iload_n 3, 1) := dk_29 (dk_at dksX5_fix_1 6 rfl rfl)
theorem dX5_fix_30 : decode cX5_fix 30 = .ok (.iload 4, 2) := dk_21 4 (dk_at dksX5_fix_1 7 rfl rfl)
theorem dX5_fix_32 : decode cX5_fix 32 = .ok (.invokevirtual 301, 3) := dk_182 1 45 (dk_at dksX5_fix_1 9 rfl rfl)
theorem dX5_fix_35 : decode cX5_fix 35 = .ok (.ifCond .eq 5, 3) := dk_153 0 5 (dk_at dksX5_fix_1 12 rfl rfl)
theorem dX5_fix_38 : decode cX5_fix 38 = .ok (.iconst 0, 1) := dk_3 (dk_at dksX5_fix_1 15 rfl rfl)
theorem dX5_fix_39 : decode cX5_fix 39 = .ok (.ireturn, 1) := dk_172 (dk_at dksX5_fix_1 16 rfl rfl)
theorem dX5_fix_40 : decode cX5_fix 40 = .ok (.iconst 0, 1) := dk_3 (dk_at dksX5_fix_1 17 rfl rfl)
theorem dX5_fix_41 : decode cX5_fix 41 = .ok (.istore 6, 2) := dk_54 6 (dk_at dksX5_fix_1 18 rfl rfl)
theorem dX5_fix_43 : decode cX5_fix 43 = .ok (.iload 6, 2) := dk_21 6 (dk_at dksX5_fix_1 20 rfl rfl)
theorem dX5_fix_45 : decode cX5_fix 45 = .ok (.aload_n 0, 1) := dk_42 (dk_at dksX5_fix_1 22 rfl rfl)
theorem dX5_fix_46 : decode cX5_fix 46 = .ok (.getfield 243, 3) := dk_180 0 243 (dk_at dksX5_fix_2 0 rfl rfl)
theorem dX5_fix_49 : decode cX5_fix 49 = .ok (.if_icmp .ge 37, 3) := dk_162 0 37 (dk_at dksX5_fix_2 3 rfl rfl)
theorem dX5_fix_52 : decode cX5_fix 52 = .ok (.aload_n 0, 1) := dk_42 (dk_at dksX5_fix_2 6 rfl rfl)
theorem dX5_fix_53 : decode cX5_fix 53 = .ok (.iload_n 3, 1) := dk_29 (dk_at dksX5_fix_2 7 rfl rfl)
theorem dX5_fix_54 : decode cX5_fix 54 = .ok (.iload 4, 2) := dk_21 4 (dk_at dksX5_fix_2 8 rfl rfl)
theorem dX5_fix_56 : decode cX5_fix 56 = .ok (.iload 6, 2) := dk_21 6 (dk_at dksX5_fix_2 10 rfl rfl)
theorem dX5_fix_58 : decode cX5_fix 58 = .ok (.iload 6, 2) := dk_21 6 (dk_at dksX5_fix_2 12 rfl rfl)
theorem dX5_fix_60 : decode cX5_fix 60 = .ok (.invokevirtual 391, 3) := dk_182 1 135 (dk_at dksX5_fix_2 14 rfl rfl)
theorem dX5_fix_63 : decode cX5_fix 63 = .ok (.ifCond .eq 17, 3) := dk_153 0 17 (dk_at dksX5_fix_2 17 rfl rfl)
theorem dX5_fix_66 : decode cX5_fix 66 = .ok (.iload 5, 2) := dk_21 5 (dk_at dksX5_fix_2 20 rfl rfl)
theorem dX5_fix_68 : decode cX5_fix 68 = .ok (.ifCond .eq 10, 3) := dk_153 0 10 (dk_at dksX5_fix_3 0 rfl rfl)
theorem dX5_fix_71 : decode cX5_fix 71 = .ok (.iconst 1, 1) := dk_4 (dk_at dksX5_fix_3 3 rfl rfl)
theorem dX5_fix_72 : decode cX5_fix 72 = .ok (.iload 6, 2) := dk_21 6 (dk_at dksX5_fix_3 4 rfl rfl)
theorem dX5_fix_74 : decode cX5_fix 74 = .ok (.ishl, 1) := dk_120 (dk_at dksX5_fix_3 6 rfl rfl)
theorem dX5_fix_75 : decode cX5_fix 75 = .ok (.goto 4, 3) := dk_167 0 4 (dk_at dksX5_fix_3 7 rfl rfl)
theorem dX5_fix_78 : decode cX5_fix 78 = .ok (.iconst 1, 1) := dk_4 (dk_at dksX5_fix_3 10 rfl rfl)
theorem dX5_fix_79 : decode cX5_fix 79 = .ok (.ireturn, 1) := dk_172 (dk_at dksX5_fix_3 11 rfl rfl)
theorem dX5_fix_80 : decode cX5_fix 80 = .ok (.iinc 6 1, 3) := dk_132 6 1 (dk_at dksX5_fix_3 12 rfl rfl)
theorem dX5_fix_83 : decode cX5_fix 83 = .ok (.goto (-40), 3) := dk_167 255 216 (dk_at dksX5_fix_3 15 rfl rfl)
theorem dX5_fix_86 : decode cX5_fix 86 = .ok (.iconst 1, 1) := dk_4 (dk_at dksX5_fix_3 18 rfl rfl)
theorem dX5_fix_87 : decode cX5_fix 87 = .ok (.istore 6, 2) := dk_54 6 (dk_at dksX5_fix_3 19 rfl rfl)
theorem dX5_fix_89 : decode cX5_fix 89 = .ok (.iload 6, 2) := dk_21 6 (dk_at dksX5_fix_3 21 rfl rfl)
theorem dX5_fix_91 : decode cX5_fix 91 = .ok (.aload_n 0, 1) := dk_42 (dk_at dksX5_fix_3 23 rfl rfl)
theorem dX5_fix_92 : decode cX5_fix 92 = .ok (.getfield 243, 3) := dk_180 0 243 (dk_at dksX5_fix_4 0 rfl rfl)
theorem dX5_fix_95 : decode cX5_fix 95 = .ok (.if_icmp .ge 58, 3) := dk_162 0 58 (dk_at dksX5_fix_4 3 rfl rfl)
theorem dX5_fix_98 : decode cX5_fix 98 = .ok (.iconst 0, 1) := dk_3 (dk_at dksX5_fix_4 6 rfl rfl)
theorem dX5_fix_99 : decode cX5_fix 99 = .ok (.istore 7, 2) := dk_54 7 (dk_at dksX5_fix_4 7 rfl rfl)
theorem dX5_fix_101 : decode cX5_fix 101 = .ok (.iload 7, 2) := dk_21 7 (dk_at dksX5_fix_4 9 rfl rfl)
theorem dX5_fix_103 : decode cX5_fix 103 = .ok (.iload 6, 2) := dk_21 6 (dk_at dksX5_fix_4 11 rfl rfl)
theorem dX5_fix_105 : decode cX5_fix 105 = .ok (.if_icmp .ge 42, 3) := dk_162 0 42 (dk_at dksX5_fix_4 13 rfl rfl)
theorem dX5_fix_108 : decode cX5_fix 108 = .ok (.aload_n 0, 1) := dk_42 (dk_at dksX5_fix_4 16 rfl rfl)
theorem dX5_fix_109 : decode cX5_fix 109 = .ok (.iload_n 3, 1) := dk_29 (dk_at dksX5_fix_4 17 rfl rfl)
theorem dX5_fix_110 : decode cX5_fix 110 = .ok (.iload 4, 2) := dk_21 4 (dk_at dksX5_fix_4 18 rfl rfl)
theorem dX5_fix_112 : decode cX5_fix 112 = .ok (.iload 7, 2) := dk_21 7 (dk_at dksX5_fix_4 20 rfl rfl)
theorem dX5_fix_114 : decode cX5_fix 114 = .ok (.iload 6, 2) := dk_21 6 (dk_at dksX5_fix_4 22 rfl rfl)
theorem dX5_fix_116 : decode cX5_fix 116 = .ok (.invokevirtual 391, 3) := dk_182 1 135 (dk_at dksX5_fix_5 0 rfl rfl)
theorem dX5_fix_119 : decode cX5_fix 119 = .ok (.ifCond .eq 22, 3) := dk_153 0 22 (dk_at dksX5_fix_5 3 rfl rfl)
theorem dX5_fix_122 : decode cX5_fix 122 = .ok (.iload 5, 2) := dk_21 5 (dk_at dksX5_fix_5 6 rfl rfl)
theorem dX5_fix_124 : decode cX5_fix 124 = .ok (.ifCond .eq 15, 3) := dk_153 0 15 (dk_at dksX5_fix_5 8 rfl rfl)
theorem dX5_fix_127 : decode cX5_fix 127 = .ok (.iconst 1, 1) := dk_4 (dk_at dksX5_fix_5 11 rfl rfl)
theorem dX5_fix_128 : decode cX5_fix 128 = .ok (.iload 7, 2) := dk_21 7 (dk_at dksX5_fix_5 12 rfl rfl)
theorem dX5_fix_130 : decode cX5_fix 130 = .ok (.ishl, 1) := dk_120 (dk_at dksX5_fix_5 14 rfl rfl)
theorem dX5_fix_131 : decode cX5_fix 131 = .ok (.iconst 1, 1) := dk_4 (dk_at dksX5_fix_5 15 rfl rfl)
theorem dX5_fix_132 : decode cX5_fix 132 = .ok (.iload 6, 2) := dk_21 6 (dk_at dksX5_fix_5 16 rfl rfl)
theorem dX5_fix_134 : decode cX5_fix 134 = .ok (.ishl, 1) := dk_120 (dk_at dksX5_fix_5 18 rfl rfl)
theorem dX5_fix_135 : decode cX5_fix 135 = .ok (.ior, 1) := dk_128 (dk_at dksX5_fix_5 19 rfl rfl)
theorem dX5_fix_136 : decode cX5_fix 136 = .ok (.goto 4, 3) := dk_167 0 4 (dk_at dksX5_fix_5 20 rfl rfl)
theorem dX5_fix_139 : decode cX5_fix 139 = .ok (.iconst 2, 1) := dk_5 (dk_at dksX5_fix_5 23 rfl rfl)
theorem dX5_fix_140 : decode cX5_fix 140 = .ok (.ireturn, 1) := dk_172 (dk_at dksX5_fix_6 0 rfl rfl)
theorem dX5_fix_141 : decode cX5_fix 141 = .ok (.iinc 7 1, 3) := dk_132 7 1 (dk_at dksX5_fix_6 1 rfl rfl)
theorem dX5_fix_144 : decode cX5_fix 144 = .ok (.goto (-43), 3) := dk_167 255 213 (dk_at dksX5_fix_6 4 rfl rfl)
theorem dX5_fix_147 : decode cX5_fix 147 = .ok (.iinc 6 1, 3) := dk_132 6 1 (dk_at dksX5_fix_6 7 rfl rfl)
theorem dX5_fix_150 : decode cX5_fix 150 = .ok (.goto (-61), 3) := dk_167 255 195 (dk_at dksX5_fix_6 10 rfl rfl)
theorem dX5_fix_153 : decode cX5_fix 153 = .ok (.iconst (-1), 1) := dk_2 (dk_at dksX5_fix_6 13 rfl rfl)
theorem dX5_fix_154 : decode cX5_fix 154 = .ok (.ireturn, 1) := dk_172 (dk_at dksX5_fix_6 14 rfl rfl)
abbrev cX5_isFixed : ByteArray := prog_24_method_108_code
def yX5_isFixed : MethodName := ⟨RX5, "isFixed", "(IIII)Z"⟩
def dkwX5_isFixed_5 : List UInt8 := [21, 5, 79, 42, 180, 0, 26, 21, 4, 21, 6, 79, 21, 7, 172]
abbrev dktX5_isFixed_5 : List UInt8 := dkwX5_isFixed_5 ++ []
def dkwX5_isFixed_4 : List UInt8 := [42, 3, 182, 0, 252, 42, 27, 28, 182, 1, 45, 54, 7, 132, 8, 1, 167, 255, 169, 42, 180, 0, 26, 29]
abbrev dktX5_isFixed_4 : List UInt8 := dkwX5_isFixed_4 ++ dktX5_isFixed_5
def dkwX5_isFixed_3 : List UInt8 := [167, 0, 37, 42, 180, 0, 26, 29, 21, 8, 7, 108, 79, 42, 180, 0, 26, 21, 4, 21, 8, 7, 112, 79]
abbrev dktX5_isFixed_3 : List UInt8 := dkwX5_isFixed_3 ++ dktX5_isFixed_4
def dkwX5_isFixed_2 : List UInt8 := [112, 21, 6, 159, 0, 57, 29, 21, 4, 160, 0, 17, 21, 8, 7, 108, 21, 8, 7, 112, 159, 0, 6]
abbrev dktX5_isFixed_2 : List UInt8 := dkwX5_isFixed_2 ++ dktX5_isFixed_3
def dkwX5_isFixed_1 : List UInt8 := [21, 8, 16, 16, 162, 0, 86, 21, 7, 154, 0, 81, 21, 8, 7, 108, 21, 5, 159, 0, 66, 21, 8, 7]
abbrev dktX5_isFixed_1 : List UInt8 := dkwX5_isFixed_1 ++ dktX5_isFixed_2
def dkwX5_isFixed_0 : List UInt8 := [42, 180, 0, 26, 29, 46, 54, 5, 42, 180, 0, 26, 21, 4, 46, 54, 6, 3, 54, 7, 3, 54, 8]
abbrev dktX5_isFixed_0 : List UInt8 := dkwX5_isFixed_0 ++ dktX5_isFixed_1
theorem dksX5_isFixed_0 : cX5_isFixed.data.toList.drop 0 = dktX5_isFixed_0 := by decide +kernel
theorem dksX5_isFixed_1 : cX5_isFixed.data.toList.drop 23 = dktX5_isFixed_1 := dk_seg dksX5_isFixed_0 23 rfl rfl
theorem dksX5_isFixed_2 : cX5_isFixed.data.toList.drop 47 = dktX5_isFixed_2 := dk_seg dksX5_isFixed_1 24 rfl rfl
theorem dksX5_isFixed_3 : cX5_isFixed.data.toList.drop 70 = dktX5_isFixed_3 := dk_seg dksX5_isFixed_2 23 rfl rfl
theorem dksX5_isFixed_4 : cX5_isFixed.data.toList.drop 94 = dktX5_isFixed_4 := dk_seg dksX5_isFixed_3 24 rfl rfl
theorem dksX5_isFixed_5 : cX5_isFixed.data.toList.drop 118 = dktX5_isFixed_5 := dk_seg dksX5_isFixed_4 24 rfl rfl
theorem dX5_isFixed_0 : decode cX5_isFixed 0 = .ok (.aload_n 0, 1) := dk_42 (dk_at dksX5_isFixed_0 0 rfl rfl)
theorem dX5_isFixed_1 : decode cX5_isFixed 1 = .ok (.getfield 26, 3) := dk_180 0 26 (dk_at dksX5_isFixed_0 1 rfl rfl)
theorem dX5_isFixed_4 : decode cX5_isFixed 4 = .ok (.iload_n 3, 1) := dk_29 (dk_at dksX5_isFixed_0 4 rfl rfl)
theorem dX5_isFixed_5 : decode cX5_isFixed 5 = .ok (.iaload, 1) := dk_46 (dk_at dksX5_isFixed_0 5 rfl rfl)
theorem dX5_isFixed_6 : decode cX5_isFixed 6 = .ok (.istore 5, 2) := dk_54 5 (dk_at dksX5_isFixed_0 6 rfl rfl)
theorem dX5_isFixed_8 : decode cX5_isFixed 8 = .ok (.aload_n 0, 1) := dk_42 (dk_at dksX5_isFixed_0 8 rfl rfl)
theorem dX5_isFixed_9 : decode cX5_isFixed 9 = .ok (.getfield 26, 3) := dk_180 0 26 (dk_at dksX5_isFixed_0 9 rfl rfl)
theorem dX5_isFixed_12 : decode cX5_isFixed 12 = .ok (.iload 4, 2) := dk_21 4 (dk_at dksX5_isFixed_0 12 rfl rfl)
theorem dX5_isFixed_14 : decode cX5_isFixed 14 = .ok (.iaload, 1) := dk_46 (dk_at dksX5_isFixed_0 14 rfl rfl)
theorem dX5_isFixed_15 : decode cX5_isFixed 15 = .ok (.istore 6, 2) := dk_54 6 (dk_at dksX5_isFixed_0 15 rfl rfl)
theorem dX5_isFixed_17 : decode cX5_isFixed 17 = .ok (.iconst 0, 1) := dk_3 (dk_at dksX5_isFixed_0 17 rfl rfl)
theorem dX5_isFixed_18 : decode cX5_isFixed 18 = .ok (.istore 7, 2) := dk_54 7 (dk_at dksX5_isFixed_0 18 rfl rfl)
theorem dX5_isFixed_20 : decode cX5_isFixed 20 = .ok (.iconst 0, 1) := dk_3 (dk_at dksX5_isFixed_0 20 rfl rfl)
theorem dX5_isFixed_21 : decode cX5_isFixed 21 = .ok (.istore 8, 2) := dk_54 8 (dk_at dksX5_isFixed_0 21 rfl rfl)
theorem dX5_isFixed_23 : decode cX5_isFixed 23 = .ok (.iload 8, 2) := dk_21 8 (dk_at dksX5_isFixed_1 0 rfl rfl)
theorem dX5_isFixed_25 : decode cX5_isFixed 25 = .ok (.bipush 16, 2) := dk_16 16 (dk_at dksX5_isFixed_1 2 rfl rfl)
theorem dX5_isFixed_27 : decode cX5_isFixed 27 = .ok (.if_icmp .ge 86, 3) := dk_162 0 86 (dk_at dksX5_isFixed_1 4 rfl rfl)
theorem dX5_isFixed_30 : decode cX5_isFixed 30 = .ok (.iload 7, 2) := dk_21 7 (dk_at dksX5_isFixed_1 7 rfl rfl)
theorem dX5_isFixed_32 : decode cX5_isFixed 32 = .ok (.ifCond .ne 81, 3) := dk_154 0 81 (dk_at dksX5_isFixed_1 9 rfl rfl)
theorem dX5_isFixed_35 : decode cX5_isFixed 35 = .ok (.iload 8, 2) := dk_21 8 (dk_at dksX5_isFixed_1 12 rfl rfl)
theorem dX5_isFixed_37 : decode cX5_isFixed 37 = .ok (.iconst 4, 1) := dk_7 (dk_at dksX5_isFixed_1 14 rfl rfl)
theorem dX5_isFixed_38 : decode cX5_isFixed 38 = .ok (.idiv, 1) := dk_108 (dk_at dksX5_isFixed_1 15 rfl rfl)
theorem dX5_isFixed_39 : decode cX5_isFixed 39 = .ok (.iload 5, 2) := dk_21 5 (dk_at dksX5_isFixed_1 16 rfl rfl)
theorem dX5_isFixed_41 : decode cX5_isFixed 41 = .ok (.if_icmp .eq 66, 3) := dk_159 0 66 (dk_at dksX5_isFixed_1 18 rfl rfl)
theorem dX5_isFixed_44 : decode cX5_isFixed 44 = .ok (.iload 8, 2) := dk_21 8 (dk_at dksX5_isFixed_1 21 rfl rfl)
theorem dX5_isFixed_46 : decode cX5_isFixed 46 = .ok (.iconst 4, 1) := dk_7 (dk_at dksX5_isFixed_1 23 rfl rfl)
theorem dX5_isFixed_47 : decode cX5_isFixed 47 = .ok (.irem, 1) := dk_112 (dk_at dksX5_isFixed_2 0 rfl rfl)
theorem dX5_isFixed_48 : decode cX5_isFixed 48 = .ok (.iload 6, 2) := dk_21 6 (dk_at dksX5_isFixed_2 1 rfl rfl)
theorem dX5_isFixed_50 : decode cX5_isFixed 50 = .ok (.if_icmp .eq 57, 3) := dk_159 0 57 (dk_at dksX5_isFixed_2 3 rfl rfl)
theorem dX5_isFixed_53 : decode cX5_isFixed 53 = .ok (.iload_n 3, 1) := dk_29 (dk_at dksX5_isFixed_2 6 rfl rfl)
theorem dX5_isFixed_54 : decode cX5_isFixed 54 = .ok (.iload 4, 2) := dk_21 4 (dk_at dksX5_isFixed_2 7 rfl rfl)
theorem dX5_isFixed_56 : decode cX5_isFixed 56 = .ok (.if_icmp .ne 17, 3) := dk_160 0 17 (dk_at dksX5_isFixed_2 9 rfl rfl)
theorem dX5_isFixed_59 : decode cX5_isFixed 59 = .ok (.iload 8, 2) := dk_21 8 (dk_at dksX5_isFixed_2 12 rfl rfl)
theorem dX5_isFixed_61 : decode cX5_isFixed 61 = .ok (.iconst 4, 1) := dk_7 (dk_at dksX5_isFixed_2 14 rfl rfl)
theorem dX5_isFixed_62 : decode cX5_isFixed 62 = .ok (.idiv, 1) := dk_108 (dk_at dksX5_isFixed_2 15 rfl rfl)
theorem dX5_isFixed_63 : decode cX5_isFixed 63 = .ok (.iload 8, 2) := dk_21 8 (dk_at dksX5_isFixed_2 16 rfl rfl)
theorem dX5_isFixed_65 : decode cX5_isFixed 65 = .ok (.iconst 4, 1) := dk_7 (dk_at dksX5_isFixed_2 18 rfl rfl)
theorem dX5_isFixed_66 : decode cX5_isFixed 66 = .ok (.irem, 1) := dk_112 (dk_at dksX5_isFixed_2 19 rfl rfl)
theorem dX5_isFixed_67 : decode cX5_isFixed 67 = .ok (.if_icmp .eq 6, 3) := dk_159 0 6 (dk_at dksX5_isFixed_2 20 rfl rfl)
theorem dX5_isFixed_70 : decode cX5_isFixed 70 = .ok (.goto 37, 3) := dk_167 0 37 (dk_at dksX5_isFixed_3 0 rfl rfl)
theorem dX5_isFixed_73 : decode cX5_isFixed 73 = .ok (.aload_n 0, 1) := dk_42 (dk_at dksX5_isFixed_3 3 rfl rfl)
theorem dX5_isFixed_74 : decode cX5_isFixed 74 = .ok (.getfield 26, 3) := dk_180 0 26 (dk_at dksX5_isFixed_3 4 rfl rfl)
theorem dX5_isFixed_77 : decode cX5_isFixed 77 = .ok (.iload_n 3, 1) := dk_29 (dk_at dksX5_isFixed_3 7 rfl rfl)
theorem dX5_isFixed_78 : decode cX5_isFixed 78 = .ok (.iload 8, 2) := dk_21 8 (dk_at dksX5_isFixed_3 8 rfl rfl)
theorem dX5_isFixed_80 : decode cX5_isFixed 80 = .ok (.iconst 4, 1) := dk_7 (dk_at dksX5_isFixed_3 10 rfl rfl)
theorem dX5_isFixed_81 : decode cX5_isFixed 81 = .ok (.idiv, 1) := dk_108 (dk_at dksX5_isFixed_3 11 rfl rfl)
theorem dX5_isFixed_82 : decode cX5_isFixed 82 = .ok (.iastore, 1) := dk_79 (dk_at dksX5_isFixed_3 12 rfl rfl)
theorem dX5_isFixed_83 : decode cX5_isFixed 83 = .ok (.aload_n 0, 1) := dk_42 (dk_at dksX5_isFixed_3 13 rfl rfl)
theorem dX5_isFixed_84 : decode cX5_isFixed 84 = .ok (.getfield 26, 3) := dk_180 0 26 (dk_at dksX5_isFixed_3 14 rfl rfl)
theorem dX5_isFixed_87 : decode cX5_isFixed 87 = .ok (.iload 4, 2) := dk_21 4 (dk_at dksX5_isFixed_3 17 rfl rfl)
theorem dX5_isFixed_89 : decode cX5_isFixed 89 = .ok (.iload 8, 2) := dk_21 8 (dk_at dksX5_isFixed_3 19 rfl rfl)
theorem dX5_isFixed_91 : decode cX5_isFixed 91 = .ok (.iconst 4, 1) := dk_7 (dk_at dksX5_isFixed_3 21 rfl rfl)
theorem dX5_isFixed_92 : decode cX5_isFixed 92 = .ok (.irem, 1) := dk_112 (dk_at dksX5_isFixed_3 22 rfl rfl)
theorem dX5_isFixed_93 : decode cX5_isFixed 93 = .ok (.iastore, 1) := dk_79 (dk_at dksX5_isFixed_3 23 rfl rfl)
theorem dX5_isFixed_94 : decode cX5_isFixed 94 = .ok (.aload_n 0, 1) := dk_42 (dk_at dksX5_isFixed_4 0 rfl rfl)
theorem dX5_isFixed_95 : decode cX5_isFixed 95 = .ok (.iconst 0, 1) := dk_3 (dk_at dksX5_isFixed_4 1 rfl rfl)
theorem dX5_isFixed_96 : decode cX5_isFixed 96 = .ok (.invokevirtual 252, 3) := dk_182 0 252 (dk_at dksX5_isFixed_4 2 rfl rfl)
theorem dX5_isFixed_99 : decode cX5_isFixed 99 = .ok (.aload_n 0, 1) := dk_42 (dk_at dksX5_isFixed_4 5 rfl rfl)
theorem dX5_isFixed_100 : decode cX5_isFixed 100 = .ok (.iload_n 1, 1) := dk_27 (dk_at dksX5_isFixed_4 6 rfl rfl)
theorem dX5_isFixed_101 : decode cX5_isFixed 101 = .ok (.iload_n 2, 1) := dk_28 (dk_at dksX5_isFixed_4 7 rfl rfl)
theorem dX5_isFixed_102 : decode cX5_isFixed 102 = .ok (.invokevirtual 301, 3) := dk_182 1 45 (dk_at dksX5_isFixed_4 8 rfl rfl)
theorem dX5_isFixed_105 : decode cX5_isFixed 105 = .ok (.istore 7, 2) := dk_54 7 (dk_at dksX5_isFixed_4 11 rfl rfl)
theorem dX5_isFixed_107 : decode cX5_isFixed 107 = .ok (.iinc 8 1, 3) := dk_132 8 1 (dk_at dksX5_isFixed_4 13 rfl rfl)
theorem dX5_isFixed_110 : decode cX5_isFixed 110 = .ok (.goto (-87), 3) := dk_167 255 169 (dk_at dksX5_isFixed_4 16 rfl rfl)
theorem dX5_isFixed_113 : decode cX5_isFixed 113 = .ok (.aload_n 0, 1) := dk_42 (dk_at dksX5_isFixed_4 19 rfl rfl)
theorem dX5_isFixed_114 : decode cX5_isFixed 114 = .ok (.getfield 26, 3) := dk_180 0 26 (dk_at dksX5_isFixed_4 20 rfl rfl)
theorem dX5_isFixed_117 : decode cX5_isFixed 117 = .ok (.iload_n 3, 1) := dk_29 (dk_at dksX5_isFixed_4 23 rfl rfl)
theorem dX5_isFixed_118 : decode cX5_isFixed 118 = .ok (.iload 5, 2) := dk_21 5 (dk_at dksX5_isFixed_5 0 rfl rfl)
theorem dX5_isFixed_120 : decode cX5_isFixed 120 = .ok (.iastore, 1) := dk_79 (dk_at dksX5_isFixed_5 2 rfl rfl)
theorem dX5_isFixed_121 : decode cX5_isFixed 121 = .ok (.aload_n 0, 1) := dk_42 (dk_at dksX5_isFixed_5 3 rfl rfl)
theorem dX5_isFixed_122 : decode cX5_isFixed 122 = .ok (.getfield 26, 3) := dk_180 0 26 (dk_at dksX5_isFixed_5 4 rfl rfl)
theorem dX5_isFixed_125 : decode cX5_isFixed 125 = .ok (.iload 4, 2) := dk_21 4 (dk_at dksX5_isFixed_5 7 rfl rfl)
theorem dX5_isFixed_127 : decode cX5_isFixed 127 = .ok (.iload 6, 2) := dk_21 6 (dk_at dksX5_isFixed_5 9 rfl rfl)
theorem dX5_isFixed_129 : decode cX5_isFixed 129 = .ok (.iastore, 1) := dk_79 (dk_at dksX5_isFixed_5 11 rfl rfl)
theorem dX5_isFixed_130 : decode cX5_isFixed 130 = .ok (.iload 7, 2) := dk_21 7 (dk_at dksX5_isFixed_5 12 rfl rfl)
theorem dX5_isFixed_132 : decode cX5_isFixed 132 = .ok (.ireturn, 1) := dk_172 (dk_at dksX5_isFixed_5 14 rfl rfl)
abbrev cX5_count : ByteArray := prog_24_method_110_code
def yX5_count : MethodName := ⟨RX5, "count", "(I)I"⟩
def dkwX5_count_0 : List UInt8 := [27, 3, 6, 184, 0, 145, 153, 0, 12, 42, 180, 0, 7, 27, 46, 167, 0, 5, 16, 254, 172]
abbrev dktX5_count_0 : List UInt8 := dkwX5_count_0 ++ []
theorem dksX5_count_0 : cX5_count.data.toList.drop 0 = dktX5_count_0 := by decide +kernel
theorem dX5_count_0 : decode cX5_count 0 = .ok (.iload_n 1, 1) := dk_27 (dk_at dksX5_count_0 0 rfl rfl)
theorem dX5_count_1 : decode cX5_count 1 = .ok (.iconst 0, 1) := dk_3 (dk_at dksX5_count_0 1 rfl rfl)
theorem dX5_count_2 : decode cX5_count 2 = .ok (.iconst 3, 1) := dk_6 (dk_at dksX5_count_0 2 rfl rfl)
theorem dX5_count_3 : decode cX5_count 3 = .ok (.invokestatic 145, 3) := dk_184 0 145 (dk_at dksX5_count_0 3 rfl rfl)
theorem dX5_count_6 : decode cX5_count 6 = .ok (.ifCond .eq 12, 3) := dk_153 0 12 (dk_at dksX5_count_0 6 rfl rfl)
theorem dX5_count_9 : decode cX5_count 9 = .ok (.aload_n 0, 1) := dk_42 (dk_at dksX5_count_0 9 rfl rfl)
theorem dX5_count_10 : decode cX5_count 10 = .ok (.getfield 7, 3) := dk_180 0 7 (dk_at dksX5_count_0 10 rfl rfl)
theorem dX5_count_13 : decode cX5_count 13 = .ok (.iload_n 1, 1) := dk_27 (dk_at dksX5_count_0 13 rfl rfl)
theorem dX5_count_14 : decode cX5_count 14 = .ok (.iaload, 1) := dk_46 (dk_at dksX5_count_0 14 rfl rfl)
theorem dX5_count_15 : decode cX5_count 15 = .ok (.goto 5, 3) := dk_167 0 5 (dk_at dksX5_count_0 15 rfl rfl)
theorem dX5_count_18 : decode cX5_count 18 = .ok (.bipush (-2), 2) := dk_16 254 (dk_at dksX5_count_0 18 rfl rfl)
theorem dX5_count_20 : decode cX5_count 20 = .ok (.ireturn, 1) := dk_172 (dk_at dksX5_count_0 20 rfl rfl)
abbrev cX5_image : ByteArray := prog_24_method_111_code
def yX5_image : MethodName := ⟨RX5, "image", "(I)Z"⟩
def dkwX5_image_2 : List UInt8 := [132, 2, 1, 167, 255, 226, 4, 172]
abbrev dktX5_image_2 : List UInt8 := dkwX5_image_2 ++ []
def dkwX5_image_1 : List UInt8 := [162, 0, 29, 42, 180, 0, 7, 17, 3, 166, 27, 4, 96, 104, 28, 96, 42, 180, 0, 7, 28, 46, 79]
abbrev dktX5_image_1 : List UInt8 := dkwX5_image_1 ++ dktX5_image_2
def dkwX5_image_0 : List UInt8 := [27, 3, 5, 184, 0, 145, 154, 0, 5, 3, 172, 42, 180, 0, 13, 27, 4, 84, 3, 61, 28, 17, 3, 166]
abbrev dktX5_image_0 : List UInt8 := dkwX5_image_0 ++ dktX5_image_1
theorem dksX5_image_0 : cX5_image.data.toList.drop 0 = dktX5_image_0 := by decide +kernel
theorem dksX5_image_1 : cX5_image.data.toList.drop 24 = dktX5_image_1 := dk_seg dksX5_image_0 24 rfl rfl
theorem dksX5_image_2 : cX5_image.data.toList.drop 47 = dktX5_image_2 := dk_seg dksX5_image_1 23 rfl rfl
theorem dX5_image_0 : decode cX5_image 0 = .ok (.iload_n 1, 1) := dk_27 (dk_at dksX5_image_0 0 rfl rfl)
theorem dX5_image_1 : decode cX5_image 1 = .ok (.iconst 0, 1) := dk_3 (dk_at dksX5_image_0 1 rfl rfl)
theorem dX5_image_2 : decode cX5_image 2 = .ok (.iconst 2, 1) := dk_5 (dk_at dksX5_image_0 2 rfl rfl)
theorem dX5_image_3 : decode cX5_image 3 = .ok (.invokestatic 145, 3) := dk_184 0 145 (dk_at dksX5_image_0 3 rfl rfl)
theorem dX5_image_6 : decode cX5_image 6 = .ok (.ifCond .ne 5, 3) := dk_154 0 5 (dk_at dksX5_image_0 6 rfl rfl)
theorem dX5_image_9 : decode cX5_image 9 = .ok (.iconst 0, 1) := dk_3 (dk_at dksX5_image_0 9 rfl rfl)
theorem dX5_image_10 : decode cX5_image 10 = .ok (.ireturn, 1) := dk_172 (dk_at dksX5_image_0 10 rfl rfl)
theorem dX5_image_11 : decode cX5_image 11 = .ok (.aload_n 0, 1) := dk_42 (dk_at dksX5_image_0 11 rfl rfl)
theorem dX5_image_12 : decode cX5_image 12 = .ok (.getfield 13, 3) := dk_180 0 13 (dk_at dksX5_image_0 12 rfl rfl)
theorem dX5_image_15 : decode cX5_image 15 = .ok (.iload_n 1, 1) := dk_27 (dk_at dksX5_image_0 15 rfl rfl)
theorem dX5_image_16 : decode cX5_image 16 = .ok (.iconst 1, 1) := dk_4 (dk_at dksX5_image_0 16 rfl rfl)
theorem dX5_image_17 : decode cX5_image 17 = .ok (.bastore, 1) := dk_84 (dk_at dksX5_image_0 17 rfl rfl)
theorem dX5_image_18 : decode cX5_image 18 = .ok (.iconst 0, 1) := dk_3 (dk_at dksX5_image_0 18 rfl rfl)
theorem dX5_image_19 : decode cX5_image 19 = .ok (.istore_n 2, 1) := dk_61 (dk_at dksX5_image_0 19 rfl rfl)
theorem dX5_image_20 : decode cX5_image 20 = .ok (.iload_n 2, 1) := dk_28 (dk_at dksX5_image_0 20 rfl rfl)
theorem dX5_image_21 : decode cX5_image 21 = .ok (.sipush 934, 3) := dk_17 3 166 (dk_at dksX5_image_0 21 rfl rfl)
theorem dX5_image_24 : decode cX5_image 24 = .ok (.if_icmp .ge 29, 3) := dk_162 0 29 (dk_at dksX5_image_1 0 rfl rfl)
theorem dX5_image_27 : decode cX5_image 27 = .ok (.aload_n 0, 1) := dk_42 (dk_at dksX5_image_1 3 rfl rfl)
theorem dX5_image_28 : decode cX5_image 28 = .ok (.getfield 7, 3) := dk_180 0 7 (dk_at dksX5_image_1 4 rfl rfl)
theorem dX5_image_31 : decode cX5_image 31 = .ok (.sipush 934, 3) := dk_17 3 166 (dk_at dksX5_image_1 7 rfl rfl)
theorem dX5_image_34 : decode cX5_image 34 = .ok (.iload_n 1, 1) := dk_27 (dk_at dksX5_image_1 10 rfl rfl)
theorem dX5_image_35 : decode cX5_image 35 = .ok (.iconst 1, 1) := dk_4 (dk_at dksX5_image_1 11 rfl rfl)
theorem dX5_image_36 : decode cX5_image 36 = .ok (.iadd, 1) := dk_96 (dk_at dksX5_image_1 12 rfl rfl)
theorem dX5_image_37 : decode cX5_image 37 = .ok (.imul, 1) := dk_104 (dk_at dksX5_image_1 13 rfl rfl)
theorem dX5_image_38 : decode cX5_image 38 = .ok (.iload_n 2, 1) := dk_28 (dk_at dksX5_image_1 14 rfl rfl)
theorem dX5_image_39 : decode cX5_image 39 = .ok (.iadd, 1) := dk_96 (dk_at dksX5_image_1 15 rfl rfl)
theorem dX5_image_40 : decode cX5_image 40 = .ok (.aload_n 0, 1) := dk_42 (dk_at dksX5_image_1 16 rfl rfl)
theorem dX5_image_41 : decode cX5_image 41 = .ok (.getfield 7, 3) := dk_180 0 7 (dk_at dksX5_image_1 17 rfl rfl)
theorem dX5_image_44 : decode cX5_image 44 = .ok (.iload_n 2, 1) := dk_28 (dk_at dksX5_image_1 20 rfl rfl)
theorem dX5_image_45 : decode cX5_image 45 = .ok (.iaload, 1) := dk_46 (dk_at dksX5_image_1 21 rfl rfl)
theorem dX5_image_46 : decode cX5_image 46 = .ok (.iastore, 1) := dk_79 (dk_at dksX5_image_1 22 rfl rfl)
theorem dX5_image_47 : decode cX5_image 47 = .ok (.iinc 2 1, 3) := dk_132 2 1 (dk_at dksX5_image_2 0 rfl rfl)
theorem dX5_image_50 : decode cX5_image 50 = .ok (.goto (-30), 3) := dk_167 255 226 (dk_at dksX5_image_2 3 rfl rfl)
theorem dX5_image_53 : decode cX5_image 53 = .ok (.iconst 1, 1) := dk_4 (dk_at dksX5_image_2 6 rfl rfl)
theorem dX5_image_54 : decode cX5_image 54 = .ok (.ireturn, 1) := dk_172 (dk_at dksX5_image_2 7 rfl rfl)
abbrev cX5_again : ByteArray := prog_24_method_112_code
def yX5_again : MethodName := ⟨RX5, "again", "(I)Z"⟩
def dkwX5_again_2 : List UInt8 := [46, 79, 132, 2, 1, 167, 255, 226, 4, 172]
abbrev dktX5_again_2 : List UInt8 := dkwX5_again_2 ++ []
def dkwX5_again_1 : List UInt8 := [17, 3, 166, 162, 0, 29, 42, 180, 0, 7, 28, 42, 180, 0, 7, 17, 3, 166, 27, 4, 96, 104, 28, 96]
abbrev dktX5_again_1 : List UInt8 := dkwX5_again_1 ++ dktX5_again_2
def dkwX5_again_0 : List UInt8 := [27, 3, 5, 184, 0, 145, 153, 0, 12, 42, 180, 0, 13, 27, 51, 154, 0, 5, 3, 172, 3, 61, 28]
abbrev dktX5_again_0 : List UInt8 := dkwX5_again_0 ++ dktX5_again_1
theorem dksX5_again_0 : cX5_again.data.toList.drop 0 = dktX5_again_0 := by decide +kernel
theorem dksX5_again_1 : cX5_again.data.toList.drop 23 = dktX5_again_1 := dk_seg dksX5_again_0 23 rfl rfl
theorem dksX5_again_2 : cX5_again.data.toList.drop 47 = dktX5_again_2 := dk_seg dksX5_again_1 24 rfl rfl
theorem dX5_again_0 : decode cX5_again 0 = .ok (.iload_n 1, 1) := dk_27 (dk_at dksX5_again_0 0 rfl rfl)
theorem dX5_again_1 : decode cX5_again 1 = .ok (.iconst 0, 1) := dk_3 (dk_at dksX5_again_0 1 rfl rfl)
theorem dX5_again_2 : decode cX5_again 2 = .ok (.iconst 2, 1) := dk_5 (dk_at dksX5_again_0 2 rfl rfl)
theorem dX5_again_3 : decode cX5_again 3 = .ok (.invokestatic 145, 3) := dk_184 0 145 (dk_at dksX5_again_0 3 rfl rfl)
theorem dX5_again_6 : decode cX5_again 6 = .ok (.ifCond .eq 12, 3) := dk_153 0 12 (dk_at dksX5_again_0 6 rfl rfl)
theorem dX5_again_9 : decode cX5_again 9 = .ok (.aload_n 0, 1) := dk_42 (dk_at dksX5_again_0 9 rfl rfl)
theorem dX5_again_10 : decode cX5_again 10 = .ok (.getfield 13, 3) := dk_180 0 13 (dk_at dksX5_again_0 10 rfl rfl)
theorem dX5_again_13 : decode cX5_again 13 = .ok (.iload_n 1, 1) := dk_27 (dk_at dksX5_again_0 13 rfl rfl)
theorem dX5_again_14 : decode cX5_again 14 = .ok (.baload, 1) := dk_51 (dk_at dksX5_again_0 14 rfl rfl)
theorem dX5_again_15 : decode cX5_again 15 = .ok (.ifCond .ne 5, 3) := dk_154 0 5 (dk_at dksX5_again_0 15 rfl rfl)
theorem dX5_again_18 : decode cX5_again 18 = .ok (.iconst 0, 1) := dk_3 (dk_at dksX5_again_0 18 rfl rfl)
theorem dX5_again_19 : decode cX5_again 19 = .ok (.ireturn, 1) := dk_172 (dk_at dksX5_again_0 19 rfl rfl)
theorem dX5_again_20 : decode cX5_again 20 = .ok (.iconst 0, 1) := dk_3 (dk_at dksX5_again_0 20 rfl rfl)
theorem dX5_again_21 : decode cX5_again 21 = .ok (.istore_n 2, 1) := dk_61 (dk_at dksX5_again_0 21 rfl rfl)
theorem dX5_again_22 : decode cX5_again 22 = .ok (.iload_n 2, 1) := dk_28 (dk_at dksX5_again_0 22 rfl rfl)
theorem dX5_again_23 : decode cX5_again 23 = .ok (.sipush 934, 3) := dk_17 3 166 (dk_at dksX5_again_1 0 rfl rfl)
theorem dX5_again_26 : decode cX5_again 26 = .ok (.if_icmp .ge 29, 3) := dk_162 0 29 (dk_at dksX5_again_1 3 rfl rfl)
theorem dX5_again_29 : decode cX5_again 29 = .ok (.aload_n 0, 1) := dk_42 (dk_at dksX5_again_1 6 rfl rfl)
theorem dX5_again_30 : decode cX5_again 30 = .ok (.getfield 7, 3) := dk_180 0 7 (dk_at dksX5_again_1 7 rfl rfl)
theorem dX5_again_33 : decode cX5_again 33 = .ok (.iload_n 2, 1) := dk_28 (dk_at dksX5_again_1 10 rfl rfl)
theorem dX5_again_34 : decode cX5_again 34 = .ok (.aload_n 0, 1) := dk_42 (dk_at dksX5_again_1 11 rfl rfl)
theorem dX5_again_35 : decode cX5_again 35 = .ok (.getfield 7, 3) := dk_180 0 7 (dk_at dksX5_again_1 12 rfl rfl)
theorem dX5_again_38 : decode cX5_again 38 = .ok (.sipush 934, 3) := dk_17 3 166 (dk_at dksX5_again_1 15 rfl rfl)
theorem dX5_again_41 : decode cX5_again 41 = .ok (.iload_n 1, 1) := dk_27 (dk_at dksX5_again_1 18 rfl rfl)
theorem dX5_again_42 : decode cX5_again 42 = .ok (.iconst 1, 1) := dk_4 (dk_at dksX5_again_1 19 rfl rfl)
theorem dX5_again_43 : decode cX5_again 43 = .ok (.iadd, 1) := dk_96 (dk_at dksX5_again_1 20 rfl rfl)
theorem dX5_again_44 : decode cX5_again 44 = .ok (.imul, 1) := dk_104 (dk_at dksX5_again_1 21 rfl rfl)
theorem dX5_again_45 : decode cX5_again 45 = .ok (.iload_n 2, 1) := dk_28 (dk_at dksX5_again_1 22 rfl rfl)
theorem dX5_again_46 : decode cX5_again 46 = .ok (.iadd, 1) := dk_96 (dk_at dksX5_again_1 23 rfl rfl)
theorem dX5_again_47 : decode cX5_again 47 = .ok (.iaload, 1) := dk_46 (dk_at dksX5_again_2 0 rfl rfl)
theorem dX5_again_48 : decode cX5_again 48 = .ok (.iastore, 1) := dk_79 (dk_at dksX5_again_2 1 rfl rfl)
theorem dX5_again_49 : decode cX5_again 49 = .ok (.iinc 2 1, 3) := dk_132 2 1 (dk_at dksX5_again_2 2 rfl rfl)
theorem dX5_again_52 : decode cX5_again 52 = .ok (.goto (-30), 3) := dk_167 255 226 (dk_at dksX5_again_2 5 rfl rfl)
theorem dX5_again_55 : decode cX5_again 55 = .ok (.iconst 1, 1) := dk_4 (dk_at dksX5_again_2 8 rfl rfl)
theorem dX5_again_56 : decode cX5_again 56 = .ok (.ireturn, 1) := dk_172 (dk_at dksX5_again_2 9 rfl rfl)
theorem q126 : (Jvm.Cond.initialized "OneDrumModel") ∈ lw_all := lw_g (lw_at lw_m1 9 rfl) rfl
theorem q1117 : (Jvm.Cond.selects "OneDrumModel" ({ cls := "java/lang/Object", name := "getClass", desc := "()Ljava/lang/Class;" } : Jvm.MethodName) ({ cls := "java/lang/Object", name := "getClass", desc := "()Ljava/lang/Class;" } : Jvm.MethodName)) ∈ lw_all := lw_g (lw_at lw_m5 40 rfl) rfl
theorem q1646 : (Jvm.Cond.instantiable "OneDrumModel" (38 : Nat)) ∈ lw_all := lw_g (lw_at lw_m7 89 rfl) rfl
theorem q1648 : (Jvm.Cond.instanceMethod ({ cls := "OneDrumModel", name := "<init>", desc := "()V" } : Jvm.MethodName)) ∈ lw_all := lw_g (lw_at lw_m7 91 rfl) rfl
theorem q1649 : (Jvm.Cond.code ({ cls := "OneDrumModel", name := "<init>", desc := "()V" } : Jvm.MethodName) prog_24_method_1_code (1 : Nat) (Option.none : Option Jvm.ClassFile.FieldType)) ∈ lw_all := lw_g (lw_at lw_m7 92 rfl) rfl
theorem q1650 : (Jvm.Cond.methodLink "OneDrumModel" (1 : Nat) ({ cls := "java/lang/Object", name := "<init>", desc := "()V" } : Jvm.MethodName)) ∈ lw_all := lw_g (lw_at lw_m7 93 rfl) rfl
theorem q1651 : (Jvm.Cond.fieldLink "OneDrumModel" (7 : Nat) "OneDrumModel" "all" "[I") ∈ lw_all := lw_g (lw_at lw_m7 94 rfl) rfl
theorem q1652 : (Jvm.Cond.fieldLink "OneDrumModel" (13 : Nat) "OneDrumModel" "has" "[Z") ∈ lw_all := lw_g (lw_at lw_m7 95 rfl) rfl
theorem q1653 : (Jvm.Cond.fieldLink "OneDrumModel" (87 : Nat) "OneDrumModel" "size" "I") ∈ lw_all := lw_g (lw_at lw_m7 96 rfl) rfl
theorem q1654 : (Jvm.Cond.fieldLink "OneDrumModel" (105 : Nat) "OneDrumModel" "next" "I") ∈ lw_all := lw_g (lw_at lw_m7 97 rfl) rfl
theorem q1655 : (Jvm.Cond.fieldLink "OneDrumModel" (112 : Nat) "OneDrumModel" "where" "I") ∈ lw_all := lw_g (lw_at lw_m7 98 rfl) rfl
theorem q1656 : (Jvm.Cond.fieldLink "OneDrumModel" (115 : Nat) "OneDrumModel" "token" "I") ∈ lw_all := lw_g (lw_at lw_m7 99 rfl) rfl
theorem q1657 : (Jvm.Cond.fieldLink "OneDrumModel" (135 : Nat) "OneDrumModel" "number" "I") ∈ lw_all := lw_g (lw_at lw_m7 100 rfl) rfl
theorem q1658 : (Jvm.Cond.fieldLink "OneDrumModel" (129 : Nat) "OneDrumModel" "word" "I") ∈ lw_all := lw_g (lw_at lw_m7 101 rfl) rfl
theorem q1659 : (Jvm.Cond.fieldLink "OneDrumModel" (138 : Nat) "OneDrumModel" "wrong" "Z") ∈ lw_all := lw_g (lw_at lw_m7 102 rfl) rfl
theorem q1660 : (Jvm.Cond.fieldLink "OneDrumModel" (17 : Nat) "OneDrumModel" "read" "[I") ∈ lw_all := lw_g (lw_at lw_m7 103 rfl) rfl
theorem q1661 : (Jvm.Cond.fieldLink "OneDrumModel" (209 : Nat) "OneDrumModel" "w0" "I") ∈ lw_all := lw_g (lw_at lw_m7 104 rfl) rfl
theorem q1662 : (Jvm.Cond.fieldLink "OneDrumModel" (237 : Nat) "OneDrumModel" "g0" "I") ∈ lw_all := lw_g (lw_at lw_m7 105 rfl) rfl
theorem q1663 : (Jvm.Cond.fieldLink "OneDrumModel" (20 : Nat) "OneDrumModel" "gives" "[I") ∈ lw_all := lw_g (lw_at lw_m7 106 rfl) rfl
theorem q1664 : (Jvm.Cond.fieldLink "OneDrumModel" (23 : Nat) "OneDrumModel" "many" "[I") ∈ lw_all := lw_g (lw_at lw_m7 107 rfl) rfl
theorem q1665 : (Jvm.Cond.fieldLink "OneDrumModel" (26 : Nat) "OneDrumModel" "row" "[I") ∈ lw_all := lw_g (lw_at lw_m7 108 rfl) rfl
theorem q1666 : (Jvm.Cond.fieldLink "OneDrumModel" (29 : Nat) "OneDrumModel" "giver" "[I") ∈ lw_all := lw_g (lw_at lw_m7 109 rfl) rfl
theorem q1667 : (Jvm.Cond.fieldLink "OneDrumModel" (32 : Nat) "OneDrumModel" "sounds" "[I") ∈ lw_all := lw_g (lw_at lw_m7 110 rfl) rfl
theorem q1668 : (Jvm.Cond.fieldLink "OneDrumModel" (35 : Nat) "OneDrumModel" "echoes" "[Z") ∈ lw_all := lw_g (lw_at lw_m7 111 rfl) rfl
theorem q1669 : (Jvm.Cond.fieldLink "OneDrumModel" (243 : Nat) "OneDrumModel" "length" "I") ∈ lw_all := lw_g (lw_at lw_m7 112 rfl) rfl
theorem q1670 : (Jvm.Cond.fieldLink "OneDrumModel" (38 : Nat) "OneDrumModel" "moves" "[I") ∈ lw_all := lw_g (lw_at lw_m7 113 rfl) rfl
theorem q1671 : (Jvm.Cond.fieldLink "OneDrumModel" (41 : Nat) "OneDrumModel" "byOrder" "[I") ∈ lw_all := lw_g (lw_at lw_m7 114 rfl) rfl
theorem q1672 : (Jvm.Cond.fieldLink "OneDrumModel" (44 : Nat) "OneDrumModel" "begin" "[I") ∈ lw_all := lw_g (lw_at lw_m7 115 rfl) rfl
theorem q1673 : (Jvm.Cond.fieldLink "OneDrumModel" (47 : Nat) "OneDrumModel" "made" "[I") ∈ lw_all := lw_g (lw_at lw_m7 116 rfl) rfl
theorem q1674 : (Jvm.Cond.fieldLink "OneDrumModel" (50 : Nat) "OneDrumModel" "danced" "[I") ∈ lw_all := lw_g (lw_at lw_m7 117 rfl) rfl
theorem q1675 : (Jvm.Cond.fieldLink "OneDrumModel" (53 : Nat) "OneDrumModel" "place" "[I") ∈ lw_all := lw_g (lw_at lw_m7 118 rfl) rfl
theorem q1676 : (Jvm.Cond.fieldLink "OneDrumModel" (308 : Nat) "OneDrumModel" "h0" "I") ∈ lw_all := lw_g (lw_at lw_m7 119 rfl) rfl
theorem q1677 : (Jvm.Cond.fieldLink "OneDrumModel" (56 : Nat) "OneDrumModel" "left" "[I") ∈ lw_all := lw_g (lw_at lw_m7 120 rfl) rfl
theorem q1678 : (Jvm.Cond.fieldLink "OneDrumModel" (59 : Nat) "OneDrumModel" "right" "[I") ∈ lw_all := lw_g (lw_at lw_m7 121 rfl) rfl
theorem q1679 : (Jvm.Cond.fieldLink "OneDrumModel" (62 : Nat) "OneDrumModel" "apart" "[I") ∈ lw_all := lw_g (lw_at lw_m7 122 rfl) rfl
theorem q1680 : (Jvm.Cond.fieldLink "OneDrumModel" (331 : Nat) "OneDrumModel" "v0" "I") ∈ lw_all := lw_g (lw_at lw_m7 123 rfl) rfl
theorem q1681 : (Jvm.Cond.fieldLink "OneDrumModel" (65 : Nat) "OneDrumModel" "versions" "[I") ∈ lw_all := lw_g (lw_at lw_m7 124 rfl) rfl
theorem q1682 : (Jvm.Cond.fieldLink "OneDrumModel" (68 : Nat) "OneDrumModel" "long0" "[I") ∈ lw_all := lw_g (lw_at lw_m7 125 rfl) rfl
theorem q1683 : (Jvm.Cond.fieldLink "OneDrumModel" (71 : Nat) "OneDrumModel" "line" "[I") ∈ lw_all := lw_g (lw_at lw_m7 126 rfl) rfl
theorem q1684 : (Jvm.Cond.fieldLink "OneDrumModel" (358 : Nat) "OneDrumModel" "x0" "I") ∈ lw_all := lw_g (lw_at lw_m7 127 rfl) rfl
theorem q1685 : (Jvm.Cond.fieldLink "OneDrumModel" (74 : Nat) "OneDrumModel" "often" "[I") ∈ lw_all := lw_g (lw_at lw_m7 128 rfl) rfl
theorem q1686 : (Jvm.Cond.fieldLink "OneDrumModel" (77 : Nat) "OneDrumModel" "waysOn" "[J") ∈ lw_all := lw_g (lw_at lw_m7 129 rfl) rfl
theorem q1687 : (Jvm.Cond.fieldLink "OneDrumModel" (81 : Nat) "OneDrumModel" "fewOn" "[I") ∈ lw_all := lw_g (lw_at lw_m7 130 rfl) rfl
theorem q1688 : (Jvm.Cond.fieldLink "OneDrumModel" (84 : Nat) "OneDrumModel" "hangs" "[I") ∈ lw_all := lw_g (lw_at lw_m7 131 rfl) rfl
theorem q1689 : (Jvm.Cond.laysFinal "OneDrumModel" "OneDrumModel" "all" "[I") ∈ lw_all := lw_g (lw_at lw_m7 132 rfl) rfl
theorem q1690 : (Jvm.Cond.soleField "OneDrumModel" "all") ∈ lw_all := lw_g (lw_at lw_m7 133 rfl) rfl
theorem q1691 : (Jvm.Cond.laysFinal "OneDrumModel" "OneDrumModel" "has" "[Z") ∈ lw_all := lw_g (lw_at lw_m7 134 rfl) rfl
theorem q1692 : (Jvm.Cond.soleField "OneDrumModel" "has") ∈ lw_all := lw_g (lw_at lw_m7 135 rfl) rfl
theorem q1693 : (Jvm.Cond.lays "OneDrumModel" "OneDrumModel" "size" "I") ∈ lw_all := lw_g (lw_at lw_m7 136 rfl) rfl
theorem q1694 : (Jvm.Cond.soleField "OneDrumModel" "size") ∈ lw_all := lw_g (lw_at lw_m7 137 rfl) rfl
theorem q1695 : (Jvm.Cond.lays "OneDrumModel" "OneDrumModel" "next" "I") ∈ lw_all := lw_g (lw_at lw_m7 138 rfl) rfl
theorem q1696 : (Jvm.Cond.soleField "OneDrumModel" "next") ∈ lw_all := lw_g (lw_at lw_m7 139 rfl) rfl
theorem q1697 : (Jvm.Cond.lays "OneDrumModel" "OneDrumModel" "where" "I") ∈ lw_all := lw_g (lw_at lw_m7 140 rfl) rfl
theorem q1698 : (Jvm.Cond.soleField "OneDrumModel" "where") ∈ lw_all := lw_g (lw_at lw_m7 141 rfl) rfl
theorem q1699 : (Jvm.Cond.lays "OneDrumModel" "OneDrumModel" "token" "I") ∈ lw_all := lw_g (lw_at lw_m7 142 rfl) rfl
theorem q1700 : (Jvm.Cond.soleField "OneDrumModel" "token") ∈ lw_all := lw_g (lw_at lw_m7 143 rfl) rfl
theorem q1701 : (Jvm.Cond.lays "OneDrumModel" "OneDrumModel" "number" "I") ∈ lw_all := lw_g (lw_at lw_m7 144 rfl) rfl
theorem q1702 : (Jvm.Cond.soleField "OneDrumModel" "number") ∈ lw_all := lw_g (lw_at lw_m7 145 rfl) rfl
theorem q1703 : (Jvm.Cond.lays "OneDrumModel" "OneDrumModel" "word" "I") ∈ lw_all := lw_g (lw_at lw_m7 146 rfl) rfl
theorem q1704 : (Jvm.Cond.soleField "OneDrumModel" "word") ∈ lw_all := lw_g (lw_at lw_m7 147 rfl) rfl
theorem q1705 : (Jvm.Cond.lays "OneDrumModel" "OneDrumModel" "wrong" "Z") ∈ lw_all := lw_g (lw_at lw_m7 148 rfl) rfl
theorem q1706 : (Jvm.Cond.soleField "OneDrumModel" "wrong") ∈ lw_all := lw_g (lw_at lw_m7 149 rfl) rfl
theorem q1707 : (Jvm.Cond.laysFinal "OneDrumModel" "OneDrumModel" "read" "[I") ∈ lw_all := lw_g (lw_at lw_m7 150 rfl) rfl
theorem q1708 : (Jvm.Cond.soleField "OneDrumModel" "read") ∈ lw_all := lw_g (lw_at lw_m7 151 rfl) rfl
theorem q1709 : (Jvm.Cond.lays "OneDrumModel" "OneDrumModel" "w0" "I") ∈ lw_all := lw_g (lw_at lw_m7 152 rfl) rfl
theorem q1710 : (Jvm.Cond.soleField "OneDrumModel" "w0") ∈ lw_all := lw_g (lw_at lw_m7 153 rfl) rfl
theorem q1711 : (Jvm.Cond.lays "OneDrumModel" "OneDrumModel" "g0" "I") ∈ lw_all := lw_g (lw_at lw_m7 154 rfl) rfl
theorem q1712 : (Jvm.Cond.soleField "OneDrumModel" "g0") ∈ lw_all := lw_g (lw_at lw_m7 155 rfl) rfl
theorem q1713 : (Jvm.Cond.laysFinal "OneDrumModel" "OneDrumModel" "gives" "[I") ∈ lw_all := lw_g (lw_at lw_m7 156 rfl) rfl
theorem q1714 : (Jvm.Cond.soleField "OneDrumModel" "gives") ∈ lw_all := lw_g (lw_at lw_m7 157 rfl) rfl
theorem q1715 : (Jvm.Cond.laysFinal "OneDrumModel" "OneDrumModel" "many" "[I") ∈ lw_all := lw_g (lw_at lw_m7 158 rfl) rfl
theorem q1716 : (Jvm.Cond.soleField "OneDrumModel" "many") ∈ lw_all := lw_g (lw_at lw_m7 159 rfl) rfl
theorem q1717 : (Jvm.Cond.laysFinal "OneDrumModel" "OneDrumModel" "row" "[I") ∈ lw_all := lw_g (lw_at lw_m7 160 rfl) rfl
theorem q1718 : (Jvm.Cond.soleField "OneDrumModel" "row") ∈ lw_all := lw_g (lw_at lw_m7 161 rfl) rfl
theorem q1719 : (Jvm.Cond.laysFinal "OneDrumModel" "OneDrumModel" "giver" "[I") ∈ lw_all := lw_g (lw_at lw_m7 162 rfl) rfl
theorem q1720 : (Jvm.Cond.soleField "OneDrumModel" "giver") ∈ lw_all := lw_g (lw_at lw_m7 163 rfl) rfl
theorem q1721 : (Jvm.Cond.laysFinal "OneDrumModel" "OneDrumModel" "sounds" "[I") ∈ lw_all := lw_g (lw_at lw_m7 164 rfl) rfl
theorem q1722 : (Jvm.Cond.soleField "OneDrumModel" "sounds") ∈ lw_all := lw_g (lw_at lw_m7 165 rfl) rfl
theorem q1723 : (Jvm.Cond.laysFinal "OneDrumModel" "OneDrumModel" "echoes" "[Z") ∈ lw_all := lw_g (lw_at lw_m7 166 rfl) rfl
theorem q1724 : (Jvm.Cond.soleField "OneDrumModel" "echoes") ∈ lw_all := lw_g (lw_at lw_m7 167 rfl) rfl
theorem q1725 : (Jvm.Cond.lays "OneDrumModel" "OneDrumModel" "length" "I") ∈ lw_all := lw_g (lw_at lw_m7 168 rfl) rfl
theorem q1726 : (Jvm.Cond.soleField "OneDrumModel" "length") ∈ lw_all := lw_g (lw_at lw_m7 169 rfl) rfl
theorem q1727 : (Jvm.Cond.laysFinal "OneDrumModel" "OneDrumModel" "moves" "[I") ∈ lw_all := lw_g (lw_at lw_m7 170 rfl) rfl
theorem q1728 : (Jvm.Cond.soleField "OneDrumModel" "moves") ∈ lw_all := lw_g (lw_at lw_m7 171 rfl) rfl
theorem q1729 : (Jvm.Cond.laysFinal "OneDrumModel" "OneDrumModel" "byOrder" "[I") ∈ lw_all := lw_g (lw_at lw_m7 172 rfl) rfl
theorem q1730 : (Jvm.Cond.soleField "OneDrumModel" "byOrder") ∈ lw_all := lw_g (lw_at lw_m7 173 rfl) rfl
theorem q1731 : (Jvm.Cond.laysFinal "OneDrumModel" "OneDrumModel" "begin" "[I") ∈ lw_all := lw_g (lw_at lw_m7 174 rfl) rfl
theorem q1732 : (Jvm.Cond.soleField "OneDrumModel" "begin") ∈ lw_all := lw_g (lw_at lw_m7 175 rfl) rfl
theorem q1733 : (Jvm.Cond.laysFinal "OneDrumModel" "OneDrumModel" "made" "[I") ∈ lw_all := lw_g (lw_at lw_m7 176 rfl) rfl
theorem q1734 : (Jvm.Cond.soleField "OneDrumModel" "made") ∈ lw_all := lw_g (lw_at lw_m7 177 rfl) rfl
theorem q1735 : (Jvm.Cond.laysFinal "OneDrumModel" "OneDrumModel" "danced" "[I") ∈ lw_all := lw_g (lw_at lw_m7 178 rfl) rfl
theorem q1736 : (Jvm.Cond.soleField "OneDrumModel" "danced") ∈ lw_all := lw_g (lw_at lw_m7 179 rfl) rfl
theorem q1737 : (Jvm.Cond.laysFinal "OneDrumModel" "OneDrumModel" "place" "[I") ∈ lw_all := lw_g (lw_at lw_m7 180 rfl) rfl
theorem q1738 : (Jvm.Cond.soleField "OneDrumModel" "place") ∈ lw_all := lw_g (lw_at lw_m7 181 rfl) rfl
theorem q1739 : (Jvm.Cond.lays "OneDrumModel" "OneDrumModel" "h0" "I") ∈ lw_all := lw_g (lw_at lw_m7 182 rfl) rfl
theorem q1740 : (Jvm.Cond.soleField "OneDrumModel" "h0") ∈ lw_all := lw_g (lw_at lw_m7 183 rfl) rfl
theorem q1741 : (Jvm.Cond.laysFinal "OneDrumModel" "OneDrumModel" "left" "[I") ∈ lw_all := lw_g (lw_at lw_m7 184 rfl) rfl
theorem q1742 : (Jvm.Cond.soleField "OneDrumModel" "left") ∈ lw_all := lw_g (lw_at lw_m7 185 rfl) rfl
theorem q1743 : (Jvm.Cond.laysFinal "OneDrumModel" "OneDrumModel" "right" "[I") ∈ lw_all := lw_g (lw_at lw_m7 186 rfl) rfl
theorem q1744 : (Jvm.Cond.soleField "OneDrumModel" "right") ∈ lw_all := lw_g (lw_at lw_m7 187 rfl) rfl
theorem q1745 : (Jvm.Cond.laysFinal "OneDrumModel" "OneDrumModel" "apart" "[I") ∈ lw_all := lw_g (lw_at lw_m7 188 rfl) rfl
theorem q1746 : (Jvm.Cond.soleField "OneDrumModel" "apart") ∈ lw_all := lw_g (lw_at lw_m7 189 rfl) rfl
theorem q1747 : (Jvm.Cond.lays "OneDrumModel" "OneDrumModel" "v0" "I") ∈ lw_all := lw_g (lw_at lw_m7 190 rfl) rfl
theorem q1748 : (Jvm.Cond.soleField "OneDrumModel" "v0") ∈ lw_all := lw_g (lw_at lw_m7 191 rfl) rfl
theorem q1749 : (Jvm.Cond.laysFinal "OneDrumModel" "OneDrumModel" "versions" "[I") ∈ lw_all := lw_g (lw_at lw_m7 192 rfl) rfl
theorem q1750 : (Jvm.Cond.soleField "OneDrumModel" "versions") ∈ lw_all := lw_g (lw_at lw_m7 193 rfl) rfl
theorem q1751 : (Jvm.Cond.laysFinal "OneDrumModel" "OneDrumModel" "long0" "[I") ∈ lw_all := lw_g (lw_at lw_m7 194 rfl) rfl
theorem q1752 : (Jvm.Cond.soleField "OneDrumModel" "long0") ∈ lw_all := lw_g (lw_at lw_m7 195 rfl) rfl
theorem q1753 : (Jvm.Cond.laysFinal "OneDrumModel" "OneDrumModel" "line" "[I") ∈ lw_all := lw_g (lw_at lw_m7 196 rfl) rfl
theorem q1754 : (Jvm.Cond.soleField "OneDrumModel" "line") ∈ lw_all := lw_g (lw_at lw_m7 197 rfl) rfl
theorem q1755 : (Jvm.Cond.lays "OneDrumModel" "OneDrumModel" "x0" "I") ∈ lw_all := lw_g (lw_at lw_m7 198 rfl) rfl
theorem q1756 : (Jvm.Cond.soleField "OneDrumModel" "x0") ∈ lw_all := lw_g (lw_at lw_m7 199 rfl) rfl
theorem q1757 : (Jvm.Cond.laysFinal "OneDrumModel" "OneDrumModel" "often" "[I") ∈ lw_all := lw_g (lw_at lw_m7 200 rfl) rfl
theorem q1758 : (Jvm.Cond.soleField "OneDrumModel" "often") ∈ lw_all := lw_g (lw_at lw_m7 201 rfl) rfl
theorem q1759 : (Jvm.Cond.laysFinal "OneDrumModel" "OneDrumModel" "waysOn" "[J") ∈ lw_all := lw_g (lw_at lw_m7 202 rfl) rfl
theorem q1760 : (Jvm.Cond.soleField "OneDrumModel" "waysOn") ∈ lw_all := lw_g (lw_at lw_m7 203 rfl) rfl
theorem q1761 : (Jvm.Cond.laysFinal "OneDrumModel" "OneDrumModel" "fewOn" "[I") ∈ lw_all := lw_g (lw_at lw_m7 204 rfl) rfl
theorem q1762 : (Jvm.Cond.soleField "OneDrumModel" "fewOn") ∈ lw_all := lw_g (lw_at lw_m7 205 rfl) rfl
theorem q1763 : (Jvm.Cond.laysFinal "OneDrumModel" "OneDrumModel" "hangs" "[I") ∈ lw_all := lw_g (lw_at lw_m7 206 rfl) rfl
theorem q1764 : (Jvm.Cond.soleField "OneDrumModel" "hangs") ∈ lw_all := lw_g (lw_at lw_m7 207 rfl) rfl
theorem q1765 : (Jvm.Cond.superclass "OneDrumModel" "java/lang/Object") ∈ lw_all := lw_g (lw_at lw_m7 208 rfl) rfl
theorem q1767 : (Jvm.Cond.instanceMethod ({ cls := "OneDrumModel", name := "feed", desc := "(IIIII)I" } : Jvm.MethodName)) ∈ lw_all := lw_g (lw_at lw_m7 210 rfl) rfl
theorem q1768 : (Jvm.Cond.selects "OneDrumModel" ({ cls := "OneDrumModel", name := "feed", desc := "(IIIII)I" } : Jvm.MethodName) ({ cls := "OneDrumModel", name := "feed", desc := "(IIIII)I" } : Jvm.MethodName)) ∈ lw_all := lw_g (lw_at lw_m7 211 rfl) rfl
theorem q1769 : (Jvm.Cond.code ({ cls := "OneDrumModel", name := "feed", desc := "(IIIII)I" } : Jvm.MethodName) prog_24_method_3_code (8 : Nat) (Option.some Jvm.ClassFile.FieldType.int)) ∈ lw_all := lw_g (lw_at lw_m7 212 rfl) rfl
theorem q1771 : (Jvm.Cond.instanceMethod ({ cls := "OneDrumModel", name := "end", desc := "(I)I" } : Jvm.MethodName)) ∈ lw_all := lw_g (lw_at lw_m7 214 rfl) rfl
theorem q1772 : (Jvm.Cond.selects "OneDrumModel" ({ cls := "OneDrumModel", name := "end", desc := "(I)I" } : Jvm.MethodName) ({ cls := "OneDrumModel", name := "end", desc := "(I)I" } : Jvm.MethodName)) ∈ lw_all := lw_g (lw_at lw_m7 215 rfl) rfl
theorem q1773 : (Jvm.Cond.code ({ cls := "OneDrumModel", name := "end", desc := "(I)I" } : Jvm.MethodName) prog_24_method_4_code (2 : Nat) (Option.some Jvm.ClassFile.FieldType.int)) ∈ lw_all := lw_g (lw_at lw_m7 216 rfl) rfl
theorem q1775 : (Jvm.Cond.instanceMethod ({ cls := "OneDrumModel", name := "text", desc := "(II)I" } : Jvm.MethodName)) ∈ lw_all := lw_g (lw_at lw_m7 218 rfl) rfl
theorem q1776 : (Jvm.Cond.selects "OneDrumModel" ({ cls := "OneDrumModel", name := "text", desc := "(II)I" } : Jvm.MethodName) ({ cls := "OneDrumModel", name := "text", desc := "(II)I" } : Jvm.MethodName)) ∈ lw_all := lw_g (lw_at lw_m7 219 rfl) rfl
theorem q1777 : (Jvm.Cond.code ({ cls := "OneDrumModel", name := "text", desc := "(II)I" } : Jvm.MethodName) prog_24_method_31_code (5 : Nat) (Option.some Jvm.ClassFile.FieldType.int)) ∈ lw_all := lw_g (lw_at lw_m7 220 rfl) rfl
theorem q1778 : (Jvm.Cond.methodLink "OneDrumModel" (145 : Nat) ({ cls := "OneDrumModel", name := "isIn", desc := "(III)Z" } : Jvm.MethodName)) ∈ lw_all := lw_g (lw_at lw_m7 221 rfl) rfl
theorem q1779 : (Jvm.Cond.static ({ cls := "OneDrumModel", name := "isIn", desc := "(III)Z" } : Jvm.MethodName)) ∈ lw_all := lw_g (lw_at lw_m7 222 rfl) rfl
theorem q1780 : (Jvm.Cond.code ({ cls := "OneDrumModel", name := "isIn", desc := "(III)Z" } : Jvm.MethodName) prog_24_method_2_code (3 : Nat) (Option.some Jvm.ClassFile.FieldType.boolean)) ∈ lw_all := lw_g (lw_at lw_m7 223 rfl) rfl
theorem q1781 : (Jvm.Cond.methodLink "OneDrumModel" (183 : Nat) ({ cls := "OneDrumModel", name := "isOf", desc := "(II)Z" } : Jvm.MethodName)) ∈ lw_all := lw_g (lw_at lw_m7 224 rfl) rfl
theorem q1782 : (Jvm.Cond.privateMethod ({ cls := "OneDrumModel", name := "isOf", desc := "(II)Z" } : Jvm.MethodName)) ∈ lw_tbl := lw_at lw_m7 225 rfl
theorem q1783 : (Jvm.Cond.instanceMethod ({ cls := "OneDrumModel", name := "isOf", desc := "(II)Z" } : Jvm.MethodName)) ∈ lw_all := lw_g (lw_at lw_m7 226 rfl) rfl
theorem q1784 : (Jvm.Cond.code ({ cls := "OneDrumModel", name := "isOf", desc := "(II)Z" } : Jvm.MethodName) prog_24_method_29_code (3 : Nat) (Option.some Jvm.ClassFile.FieldType.boolean)) ∈ lw_all := lw_g (lw_at lw_m7 227 rfl) rfl
theorem q1785 : (Jvm.Cond.methodLink "OneDrumModel" (187 : Nat) ({ cls := "OneDrumModel", name := "clears", desc := "(I)V" } : Jvm.MethodName)) ∈ lw_all := lw_g (lw_at lw_m7 228 rfl) rfl
theorem q1786 : (Jvm.Cond.privateMethod ({ cls := "OneDrumModel", name := "clears", desc := "(I)V" } : Jvm.MethodName)) ∈ lw_tbl := lw_at lw_m7 229 rfl
theorem q1787 : (Jvm.Cond.instanceMethod ({ cls := "OneDrumModel", name := "clears", desc := "(I)V" } : Jvm.MethodName)) ∈ lw_all := lw_g (lw_at lw_m7 230 rfl) rfl
theorem q1788 : (Jvm.Cond.code ({ cls := "OneDrumModel", name := "clears", desc := "(I)V" } : Jvm.MethodName) prog_24_method_30_code (3 : Nat) (Option.none : Option Jvm.ClassFile.FieldType)) ∈ lw_all := lw_g (lw_at lw_m7 231 rfl) rfl
theorem q1789 : (Jvm.Cond.methodLink "OneDrumModel" (153 : Nat) ({ cls := "OneDrumModel", name := "advance", desc := "()V" } : Jvm.MethodName)) ∈ lw_all := lw_g (lw_at lw_m7 232 rfl) rfl
theorem q1790 : (Jvm.Cond.privateMethod ({ cls := "OneDrumModel", name := "advance", desc := "()V" } : Jvm.MethodName)) ∈ lw_tbl := lw_at lw_m7 233 rfl
theorem q1791 : (Jvm.Cond.instanceMethod ({ cls := "OneDrumModel", name := "advance", desc := "()V" } : Jvm.MethodName)) ∈ lw_all := lw_g (lw_at lw_m7 234 rfl) rfl
theorem q1792 : (Jvm.Cond.code ({ cls := "OneDrumModel", name := "advance", desc := "()V" } : Jvm.MethodName) prog_24_method_12_code (4 : Nat) (Option.none : Option Jvm.ClassFile.FieldType)) ∈ lw_all := lw_g (lw_at lw_m7 235 rfl) rfl
theorem q1793 : (Jvm.Cond.methodLink "OneDrumModel" (108 : Nat) ({ cls := "OneDrumModel", name := "byteAt", desc := "(I)I" } : Jvm.MethodName)) ∈ lw_all := lw_g (lw_at lw_m7 236 rfl) rfl
theorem q1794 : (Jvm.Cond.privateMethod ({ cls := "OneDrumModel", name := "byteAt", desc := "(I)I" } : Jvm.MethodName)) ∈ lw_tbl := lw_at lw_m7 237 rfl
theorem q1795 : (Jvm.Cond.instanceMethod ({ cls := "OneDrumModel", name := "byteAt", desc := "(I)I" } : Jvm.MethodName)) ∈ lw_all := lw_g (lw_at lw_m7 238 rfl) rfl
theorem q1796 : (Jvm.Cond.code ({ cls := "OneDrumModel", name := "byteAt", desc := "(I)I" } : Jvm.MethodName) prog_24_method_5_code (2 : Nat) (Option.some Jvm.ClassFile.FieldType.int)) ∈ lw_all := lw_g (lw_at lw_m7 239 rfl) rfl
theorem q1797 : (Jvm.Cond.methodLink "OneDrumModel" (118 : Nat) ({ cls := "OneDrumModel", name := "isLetter", desc := "(I)Z" } : Jvm.MethodName)) ∈ lw_all := lw_g (lw_at lw_m8 0 rfl) rfl
theorem q1798 : (Jvm.Cond.static ({ cls := "OneDrumModel", name := "isLetter", desc := "(I)Z" } : Jvm.MethodName)) ∈ lw_all := lw_g (lw_at lw_m8 1 rfl) rfl
theorem q1799 : (Jvm.Cond.code ({ cls := "OneDrumModel", name := "isLetter", desc := "(I)Z" } : Jvm.MethodName) prog_24_method_6_code (1 : Nat) (Option.some Jvm.ClassFile.FieldType.boolean)) ∈ lw_all := lw_g (lw_at lw_m8 2 rfl) rfl
theorem q1800 : (Jvm.Cond.constantLong "OneDrumModel" (122 : Nat) (32 : Int64)) ∈ lw_all := lw_g (lw_at lw_m8 3 rfl) rfl
theorem q1801 : (Jvm.Cond.constantLong "OneDrumModel" (124 : Nat) (96 : Int64)) ∈ lw_all := lw_g (lw_at lw_m8 4 rfl) rfl
theorem q1802 : (Jvm.Cond.methodLink "OneDrumModel" (126 : Nat) ({ cls := "OneDrumModel", name := "wordOf", desc := "(J)I" } : Jvm.MethodName)) ∈ lw_all := lw_g (lw_at lw_m8 5 rfl) rfl
theorem q1803 : (Jvm.Cond.static ({ cls := "OneDrumModel", name := "wordOf", desc := "(J)I" } : Jvm.MethodName)) ∈ lw_all := lw_g (lw_at lw_m8 6 rfl) rfl
theorem q1804 : (Jvm.Cond.code ({ cls := "OneDrumModel", name := "wordOf", desc := "(J)I" } : Jvm.MethodName) prog_24_method_10_code (2 : Nat) (Option.some Jvm.ClassFile.FieldType.int)) ∈ lw_all := lw_g (lw_at lw_m8 7 rfl) rfl
theorem q1805 : (Jvm.Cond.methodLink "OneDrumModel" (91 : Nat) ({ cls := "OneDrumModel", name := "four", desc := "(IIII)J" } : Jvm.MethodName)) ∈ lw_all := lw_g (lw_at lw_m8 8 rfl) rfl
theorem q1806 : (Jvm.Cond.static ({ cls := "OneDrumModel", name := "four", desc := "(IIII)J" } : Jvm.MethodName)) ∈ lw_all := lw_g (lw_at lw_m8 9 rfl) rfl
theorem q1807 : (Jvm.Cond.code ({ cls := "OneDrumModel", name := "four", desc := "(IIII)J" } : Jvm.MethodName) prog_24_method_8_code (4 : Nat) (Option.some Jvm.ClassFile.FieldType.long)) ∈ lw_all := lw_g (lw_at lw_m8 10 rfl) rfl
theorem q1808 : (Jvm.Cond.methodLink "OneDrumModel" (97 : Nat) ({ cls := "OneDrumModel", name := "eight", desc := "(IIIIIIII)J" } : Jvm.MethodName)) ∈ lw_all := lw_g (lw_at lw_m8 11 rfl) rfl
theorem q1809 : (Jvm.Cond.static ({ cls := "OneDrumModel", name := "eight", desc := "(IIIIIIII)J" } : Jvm.MethodName)) ∈ lw_all := lw_g (lw_at lw_m8 12 rfl) rfl
theorem q1810 : (Jvm.Cond.code ({ cls := "OneDrumModel", name := "eight", desc := "(IIIIIIII)J" } : Jvm.MethodName) prog_24_method_9_code (8 : Nat) (Option.some Jvm.ClassFile.FieldType.long)) ∈ lw_all := lw_g (lw_at lw_m8 13 rfl) rfl
theorem q1811 : (Jvm.Cond.constantLong "OneDrumModel" (95 : Nat) (1048576 : Int64)) ∈ lw_all := lw_g (lw_at lw_m8 14 rfl) rfl
theorem q1812 : (Jvm.Cond.methodLink "OneDrumModel" (101 : Nat) ({ cls := "OneDrumModel", name := "otherWord", desc := "(J)I" } : Jvm.MethodName)) ∈ lw_all := lw_g (lw_at lw_m8 15 rfl) rfl
theorem q1813 : (Jvm.Cond.static ({ cls := "OneDrumModel", name := "otherWord", desc := "(J)I" } : Jvm.MethodName)) ∈ lw_all := lw_g (lw_at lw_m8 16 rfl) rfl
theorem q1814 : (Jvm.Cond.code ({ cls := "OneDrumModel", name := "otherWord", desc := "(J)I" } : Jvm.MethodName) prog_24_method_11_code (2 : Nat) (Option.some Jvm.ClassFile.FieldType.int)) ∈ lw_all := lw_g (lw_at lw_m8 17 rfl) rfl
theorem q1815 : (Jvm.Cond.methodLink "OneDrumModel" (132 : Nat) ({ cls := "OneDrumModel", name := "isDigit", desc := "(I)Z" } : Jvm.MethodName)) ∈ lw_all := lw_g (lw_at lw_m8 18 rfl) rfl
theorem q1816 : (Jvm.Cond.static ({ cls := "OneDrumModel", name := "isDigit", desc := "(I)Z" } : Jvm.MethodName)) ∈ lw_all := lw_g (lw_at lw_m8 19 rfl) rfl
theorem q1817 : (Jvm.Cond.code ({ cls := "OneDrumModel", name := "isDigit", desc := "(I)Z" } : Jvm.MethodName) prog_24_method_7_code (1 : Nat) (Option.some Jvm.ClassFile.FieldType.boolean)) ∈ lw_all := lw_g (lw_at lw_m8 20 rfl) rfl
theorem q1818 : (Jvm.Cond.methodLink "OneDrumModel" (191 : Nat) ({ cls := "OneDrumModel", name := "warLine", desc := "()V" } : Jvm.MethodName)) ∈ lw_all := lw_g (lw_at lw_m8 21 rfl) rfl
theorem q1819 : (Jvm.Cond.privateMethod ({ cls := "OneDrumModel", name := "warLine", desc := "()V" } : Jvm.MethodName)) ∈ lw_tbl := lw_at lw_m8 22 rfl
theorem q1820 : (Jvm.Cond.instanceMethod ({ cls := "OneDrumModel", name := "warLine", desc := "()V" } : Jvm.MethodName)) ∈ lw_all := lw_g (lw_at lw_m8 23 rfl) rfl
theorem q1821 : (Jvm.Cond.code ({ cls := "OneDrumModel", name := "warLine", desc := "()V" } : Jvm.MethodName) prog_24_method_23_code (4 : Nat) (Option.none : Option Jvm.ClassFile.FieldType)) ∈ lw_all := lw_g (lw_at lw_m8 24 rfl) rfl
theorem q1822 : (Jvm.Cond.methodLink "OneDrumModel" (174 : Nat) ({ cls := "OneDrumModel", name := "orderLine", desc := "()V" } : Jvm.MethodName)) ∈ lw_all := lw_g (lw_at lw_m8 25 rfl) rfl
theorem q1823 : (Jvm.Cond.privateMethod ({ cls := "OneDrumModel", name := "orderLine", desc := "()V" } : Jvm.MethodName)) ∈ lw_tbl := lw_at lw_m8 26 rfl
theorem q1824 : (Jvm.Cond.instanceMethod ({ cls := "OneDrumModel", name := "orderLine", desc := "()V" } : Jvm.MethodName)) ∈ lw_all := lw_g (lw_at lw_m8 27 rfl) rfl
theorem q1825 : (Jvm.Cond.code ({ cls := "OneDrumModel", name := "orderLine", desc := "()V" } : Jvm.MethodName) prog_24_method_22_code (9 : Nat) (Option.none : Option Jvm.ClassFile.FieldType)) ∈ lw_all := lw_g (lw_at lw_m8 28 rfl) rfl
theorem q1826 : (Jvm.Cond.methodLink "OneDrumModel" (156 : Nat) ({ cls := "OneDrumModel", name := "takes", desc := "(II)I" } : Jvm.MethodName)) ∈ lw_all := lw_g (lw_at lw_m8 29 rfl) rfl
theorem q1827 : (Jvm.Cond.privateMethod ({ cls := "OneDrumModel", name := "takes", desc := "(II)I" } : Jvm.MethodName)) ∈ lw_tbl := lw_at lw_m8 30 rfl
theorem q1828 : (Jvm.Cond.instanceMethod ({ cls := "OneDrumModel", name := "takes", desc := "(II)I" } : Jvm.MethodName)) ∈ lw_all := lw_g (lw_at lw_m8 31 rfl) rfl
theorem q1829 : (Jvm.Cond.code ({ cls := "OneDrumModel", name := "takes", desc := "(II)I" } : Jvm.MethodName) prog_24_method_16_code (4 : Nat) (Option.some Jvm.ClassFile.FieldType.int)) ∈ lw_all := lw_g (lw_at lw_m8 32 rfl) rfl
theorem q1830 : (Jvm.Cond.methodLink "OneDrumModel" (142 : Nat) ({ cls := "OneDrumModel", name := "ends", desc := "()V" } : Jvm.MethodName)) ∈ lw_all := lw_g (lw_at lw_m8 33 rfl) rfl
theorem q1831 : (Jvm.Cond.privateMethod ({ cls := "OneDrumModel", name := "ends", desc := "()V" } : Jvm.MethodName)) ∈ lw_tbl := lw_at lw_m8 34 rfl
theorem q1832 : (Jvm.Cond.instanceMethod ({ cls := "OneDrumModel", name := "ends", desc := "()V" } : Jvm.MethodName)) ∈ lw_all := lw_g (lw_at lw_m8 35 rfl) rfl
theorem q1833 : (Jvm.Cond.code ({ cls := "OneDrumModel", name := "ends", desc := "()V" } : Jvm.MethodName) prog_24_method_13_code (1 : Nat) (Option.none : Option Jvm.ClassFile.FieldType)) ∈ lw_all := lw_g (lw_at lw_m8 36 rfl) rfl
theorem q1834 : (Jvm.Cond.methodLink "OneDrumModel" (163 : Nat) ({ cls := "OneDrumModel", name := "armyTold", desc := "()I" } : Jvm.MethodName)) ∈ lw_all := lw_g (lw_at lw_m8 37 rfl) rfl
theorem q1835 : (Jvm.Cond.privateMethod ({ cls := "OneDrumModel", name := "armyTold", desc := "()I" } : Jvm.MethodName)) ∈ lw_tbl := lw_at lw_m8 38 rfl
theorem q1836 : (Jvm.Cond.instanceMethod ({ cls := "OneDrumModel", name := "armyTold", desc := "()I" } : Jvm.MethodName)) ∈ lw_all := lw_g (lw_at lw_m8 39 rfl) rfl
theorem q1837 : (Jvm.Cond.code ({ cls := "OneDrumModel", name := "armyTold", desc := "()I" } : Jvm.MethodName) prog_24_method_21_code (1 : Nat) (Option.some Jvm.ClassFile.FieldType.int)) ∈ lw_all := lw_g (lw_at lw_m8 40 rfl) rfl
theorem q1838 : (Jvm.Cond.methodLink "OneDrumModel" (160 : Nat) ({ cls := "OneDrumModel", name := "numbered", desc := "(II)I" } : Jvm.MethodName)) ∈ lw_all := lw_g (lw_at lw_m8 41 rfl) rfl
theorem q1839 : (Jvm.Cond.privateMethod ({ cls := "OneDrumModel", name := "numbered", desc := "(II)I" } : Jvm.MethodName)) ∈ lw_tbl := lw_at lw_m8 42 rfl
theorem q1840 : (Jvm.Cond.instanceMethod ({ cls := "OneDrumModel", name := "numbered", desc := "(II)I" } : Jvm.MethodName)) ∈ lw_all := lw_g (lw_at lw_m8 43 rfl) rfl
theorem q1841 : (Jvm.Cond.code ({ cls := "OneDrumModel", name := "numbered", desc := "(II)I" } : Jvm.MethodName) prog_24_method_15_code (4 : Nat) (Option.some Jvm.ClassFile.FieldType.int)) ∈ lw_all := lw_g (lw_at lw_m8 44 rfl) rfl
theorem q1842 : (Jvm.Cond.methodLink "OneDrumModel" (149 : Nat) ({ cls := "OneDrumModel", name := "also", desc := "(II)V" } : Jvm.MethodName)) ∈ lw_all := lw_g (lw_at lw_m8 45 rfl) rfl
theorem q1843 : (Jvm.Cond.privateMethod ({ cls := "OneDrumModel", name := "also", desc := "(II)V" } : Jvm.MethodName)) ∈ lw_tbl := lw_at lw_m8 46 rfl
theorem q1844 : (Jvm.Cond.instanceMethod ({ cls := "OneDrumModel", name := "also", desc := "(II)V" } : Jvm.MethodName)) ∈ lw_all := lw_g (lw_at lw_m8 47 rfl) rfl
theorem q1845 : (Jvm.Cond.code ({ cls := "OneDrumModel", name := "also", desc := "(II)V" } : Jvm.MethodName) prog_24_method_14_code (3 : Nat) (Option.none : Option Jvm.ClassFile.FieldType)) ∈ lw_all := lw_g (lw_at lw_m8 48 rfl) rfl
theorem q1846 : (Jvm.Cond.methodLink "OneDrumModel" (167 : Nat) ({ cls := "OneDrumModel", name := "isBeat", desc := "()Z" } : Jvm.MethodName)) ∈ lw_all := lw_g (lw_at lw_m8 49 rfl) rfl
theorem q1847 : (Jvm.Cond.privateMethod ({ cls := "OneDrumModel", name := "isBeat", desc := "()Z" } : Jvm.MethodName)) ∈ lw_tbl := lw_at lw_m8 50 rfl
theorem q1848 : (Jvm.Cond.instanceMethod ({ cls := "OneDrumModel", name := "isBeat", desc := "()Z" } : Jvm.MethodName)) ∈ lw_all := lw_g (lw_at lw_m8 51 rfl) rfl
theorem q1849 : (Jvm.Cond.code ({ cls := "OneDrumModel", name := "isBeat", desc := "()Z" } : Jvm.MethodName) prog_24_method_19_code (1 : Nat) (Option.some Jvm.ClassFile.FieldType.boolean)) ∈ lw_all := lw_g (lw_at lw_m8 52 rfl) rfl
theorem q1850 : (Jvm.Cond.methodLink "OneDrumModel" (171 : Nat) ({ cls := "OneDrumModel", name := "beatTold", desc := "()I" } : Jvm.MethodName)) ∈ lw_all := lw_g (lw_at lw_m8 53 rfl) rfl
theorem q1851 : (Jvm.Cond.privateMethod ({ cls := "OneDrumModel", name := "beatTold", desc := "()I" } : Jvm.MethodName)) ∈ lw_tbl := lw_at lw_m8 54 rfl
theorem q1852 : (Jvm.Cond.instanceMethod ({ cls := "OneDrumModel", name := "beatTold", desc := "()I" } : Jvm.MethodName)) ∈ lw_all := lw_g (lw_at lw_m8 55 rfl) rfl
theorem q1853 : (Jvm.Cond.code ({ cls := "OneDrumModel", name := "beatTold", desc := "()I" } : Jvm.MethodName) prog_24_method_18_code (1 : Nat) (Option.some Jvm.ClassFile.FieldType.int)) ∈ lw_all := lw_g (lw_at lw_m8 56 rfl) rfl
theorem q1854 : (Jvm.Cond.methodLink "OneDrumModel" (177 : Nat) ({ cls := "OneDrumModel", name := "endsLine", desc := "()V" } : Jvm.MethodName)) ∈ lw_all := lw_g (lw_at lw_m8 57 rfl) rfl
theorem q1855 : (Jvm.Cond.privateMethod ({ cls := "OneDrumModel", name := "endsLine", desc := "()V" } : Jvm.MethodName)) ∈ lw_tbl := lw_at lw_m8 58 rfl
theorem q1856 : (Jvm.Cond.instanceMethod ({ cls := "OneDrumModel", name := "endsLine", desc := "()V" } : Jvm.MethodName)) ∈ lw_all := lw_g (lw_at lw_m8 59 rfl) rfl
theorem q1857 : (Jvm.Cond.code ({ cls := "OneDrumModel", name := "endsLine", desc := "()V" } : Jvm.MethodName) prog_24_method_17_code (1 : Nat) (Option.none : Option Jvm.ClassFile.FieldType)) ∈ lw_all := lw_g (lw_at lw_m8 60 rfl) rfl
theorem q1858 : (Jvm.Cond.methodLink "OneDrumModel" (194 : Nat) ({ cls := "OneDrumModel", name := "scoreLine", desc := "()V" } : Jvm.MethodName)) ∈ lw_all := lw_g (lw_at lw_m8 61 rfl) rfl
theorem q1859 : (Jvm.Cond.privateMethod ({ cls := "OneDrumModel", name := "scoreLine", desc := "()V" } : Jvm.MethodName)) ∈ lw_tbl := lw_at lw_m8 62 rfl
theorem q1860 : (Jvm.Cond.instanceMethod ({ cls := "OneDrumModel", name := "scoreLine", desc := "()V" } : Jvm.MethodName)) ∈ lw_all := lw_g (lw_at lw_m8 63 rfl) rfl
theorem q1861 : (Jvm.Cond.code ({ cls := "OneDrumModel", name := "scoreLine", desc := "()V" } : Jvm.MethodName) prog_24_method_24_code (4 : Nat) (Option.none : Option Jvm.ClassFile.FieldType)) ∈ lw_all := lw_g (lw_at lw_m8 64 rfl) rfl
theorem q1862 : (Jvm.Cond.methodLink "OneDrumModel" (197 : Nat) ({ cls := "OneDrumModel", name := "hearingLine", desc := "()V" } : Jvm.MethodName)) ∈ lw_all := lw_g (lw_at lw_m8 65 rfl) rfl
theorem q1863 : (Jvm.Cond.privateMethod ({ cls := "OneDrumModel", name := "hearingLine", desc := "()V" } : Jvm.MethodName)) ∈ lw_tbl := lw_at lw_m8 66 rfl
theorem q1864 : (Jvm.Cond.instanceMethod ({ cls := "OneDrumModel", name := "hearingLine", desc := "()V" } : Jvm.MethodName)) ∈ lw_all := lw_g (lw_at lw_m8 67 rfl) rfl
theorem q1865 : (Jvm.Cond.code ({ cls := "OneDrumModel", name := "hearingLine", desc := "()V" } : Jvm.MethodName) prog_24_method_25_code (4 : Nat) (Option.none : Option Jvm.ClassFile.FieldType)) ∈ lw_all := lw_g (lw_at lw_m8 68 rfl) rfl
theorem q1866 : (Jvm.Cond.methodLink "OneDrumModel" (180 : Nat) ({ cls := "OneDrumModel", name := "isMove", desc := "()Z" } : Jvm.MethodName)) ∈ lw_all := lw_g (lw_at lw_m8 69 rfl) rfl
theorem q1867 : (Jvm.Cond.privateMethod ({ cls := "OneDrumModel", name := "isMove", desc := "()Z" } : Jvm.MethodName)) ∈ lw_tbl := lw_at lw_m8 70 rfl
theorem q1868 : (Jvm.Cond.instanceMethod ({ cls := "OneDrumModel", name := "isMove", desc := "()Z" } : Jvm.MethodName)) ∈ lw_all := lw_g (lw_at lw_m8 71 rfl) rfl
theorem q1869 : (Jvm.Cond.code ({ cls := "OneDrumModel", name := "isMove", desc := "()Z" } : Jvm.MethodName) prog_24_method_20_code (1 : Nat) (Option.some Jvm.ClassFile.FieldType.boolean)) ∈ lw_all := lw_g (lw_at lw_m8 72 rfl) rfl
theorem q1870 : (Jvm.Cond.methodLink "OneDrumModel" (200 : Nat) ({ cls := "OneDrumModel", name := "villageLine", desc := "()V" } : Jvm.MethodName)) ∈ lw_all := lw_g (lw_at lw_m8 73 rfl) rfl
theorem q1871 : (Jvm.Cond.privateMethod ({ cls := "OneDrumModel", name := "villageLine", desc := "()V" } : Jvm.MethodName)) ∈ lw_tbl := lw_at lw_m8 74 rfl
theorem q1872 : (Jvm.Cond.instanceMethod ({ cls := "OneDrumModel", name := "villageLine", desc := "()V" } : Jvm.MethodName)) ∈ lw_all := lw_g (lw_at lw_m8 75 rfl) rfl
theorem q1873 : (Jvm.Cond.code ({ cls := "OneDrumModel", name := "villageLine", desc := "()V" } : Jvm.MethodName) prog_24_method_26_code (8 : Nat) (Option.none : Option Jvm.ClassFile.FieldType)) ∈ lw_all := lw_g (lw_at lw_m8 76 rfl) rfl
theorem q1874 : (Jvm.Cond.methodLink "OneDrumModel" (203 : Nat) ({ cls := "OneDrumModel", name := "sizeOf", desc := "(I)I" } : Jvm.MethodName)) ∈ lw_all := lw_g (lw_at lw_m8 77 rfl) rfl
theorem q1875 : (Jvm.Cond.static ({ cls := "OneDrumModel", name := "sizeOf", desc := "(I)I" } : Jvm.MethodName)) ∈ lw_all := lw_g (lw_at lw_m8 78 rfl) rfl
theorem q1876 : (Jvm.Cond.code ({ cls := "OneDrumModel", name := "sizeOf", desc := "(I)I" } : Jvm.MethodName) prog_24_method_28_code (1 : Nat) (Option.some Jvm.ClassFile.FieldType.int)) ∈ lw_all := lw_g (lw_at lw_m8 79 rfl) rfl
theorem q1877 : (Jvm.Cond.methodLink "OneDrumModel" (206 : Nat) ({ cls := "OneDrumModel", name := "placeOf", desc := "(II)I" } : Jvm.MethodName)) ∈ lw_all := lw_g (lw_at lw_m8 80 rfl) rfl
theorem q1878 : (Jvm.Cond.static ({ cls := "OneDrumModel", name := "placeOf", desc := "(II)I" } : Jvm.MethodName)) ∈ lw_all := lw_g (lw_at lw_m8 81 rfl) rfl
theorem q1879 : (Jvm.Cond.code ({ cls := "OneDrumModel", name := "placeOf", desc := "(II)I" } : Jvm.MethodName) prog_24_method_27_code (2 : Nat) (Option.some Jvm.ClassFile.FieldType.int)) ∈ lw_all := lw_g (lw_at lw_m8 82 rfl) rfl
theorem q1881 : (Jvm.Cond.instanceMethod ({ cls := "OneDrumModel", name := "fault", desc := "(I)I" } : Jvm.MethodName)) ∈ lw_all := lw_g (lw_at lw_m8 84 rfl) rfl
theorem q1882 : (Jvm.Cond.selects "OneDrumModel" ({ cls := "OneDrumModel", name := "fault", desc := "(I)I" } : Jvm.MethodName) ({ cls := "OneDrumModel", name := "fault", desc := "(I)I" } : Jvm.MethodName)) ∈ lw_all := lw_g (lw_at lw_m8 85 rfl) rfl
theorem q1883 : (Jvm.Cond.code ({ cls := "OneDrumModel", name := "fault", desc := "(I)I" } : Jvm.MethodName) prog_24_method_32_code (2 : Nat) (Option.some Jvm.ClassFile.FieldType.int)) ∈ lw_all := lw_g (lw_at lw_m8 86 rfl) rfl
theorem q1885 : (Jvm.Cond.instanceMethod ({ cls := "OneDrumModel", name := "war", desc := "(II)I" } : Jvm.MethodName)) ∈ lw_all := lw_g (lw_at lw_m8 88 rfl) rfl
theorem q1886 : (Jvm.Cond.selects "OneDrumModel" ({ cls := "OneDrumModel", name := "war", desc := "(II)I" } : Jvm.MethodName) ({ cls := "OneDrumModel", name := "war", desc := "(II)I" } : Jvm.MethodName)) ∈ lw_all := lw_g (lw_at lw_m8 89 rfl) rfl
theorem q1887 : (Jvm.Cond.code ({ cls := "OneDrumModel", name := "war", desc := "(II)I" } : Jvm.MethodName) prog_24_method_41_code (4 : Nat) (Option.some Jvm.ClassFile.FieldType.int)) ∈ lw_all := lw_g (lw_at lw_m8 90 rfl) rfl
theorem q1888 : (Jvm.Cond.methodLink "OneDrumModel" (224 : Nat) ({ cls := "OneDrumModel", name := "isWar", desc := "(I)Z" } : Jvm.MethodName)) ∈ lw_all := lw_g (lw_at lw_m8 91 rfl) rfl
theorem q1889 : (Jvm.Cond.privateMethod ({ cls := "OneDrumModel", name := "isWar", desc := "(I)Z" } : Jvm.MethodName)) ∈ lw_tbl := lw_at lw_m8 92 rfl
theorem q1890 : (Jvm.Cond.instanceMethod ({ cls := "OneDrumModel", name := "isWar", desc := "(I)Z" } : Jvm.MethodName)) ∈ lw_all := lw_g (lw_at lw_m8 93 rfl) rfl
theorem q1891 : (Jvm.Cond.code ({ cls := "OneDrumModel", name := "isWar", desc := "(I)Z" } : Jvm.MethodName) prog_24_method_33_code (2 : Nat) (Option.some Jvm.ClassFile.FieldType.boolean)) ∈ lw_all := lw_g (lw_at lw_m8 94 rfl) rfl
theorem q1892 : (Jvm.Cond.methodLink "OneDrumModel" (212 : Nat) ({ cls := "OneDrumModel", name := "of", desc := "(I)I" } : Jvm.MethodName)) ∈ lw_all := lw_g (lw_at lw_m8 95 rfl) rfl
theorem q1893 : (Jvm.Cond.privateMethod ({ cls := "OneDrumModel", name := "of", desc := "(I)I" } : Jvm.MethodName)) ∈ lw_tbl := lw_at lw_m8 96 rfl
theorem q1894 : (Jvm.Cond.instanceMethod ({ cls := "OneDrumModel", name := "of", desc := "(I)I" } : Jvm.MethodName)) ∈ lw_all := lw_g (lw_at lw_m8 97 rfl) rfl
theorem q1895 : (Jvm.Cond.code ({ cls := "OneDrumModel", name := "of", desc := "(I)I" } : Jvm.MethodName) prog_24_method_35_code (2 : Nat) (Option.some Jvm.ClassFile.FieldType.int)) ∈ lw_all := lw_g (lw_at lw_m8 98 rfl) rfl
theorem q1896 : (Jvm.Cond.methodLink "OneDrumModel" (218 : Nat) ({ cls := "OneDrumModel", name := "isArmy", desc := "(I)Z" } : Jvm.MethodName)) ∈ lw_all := lw_g (lw_at lw_m8 99 rfl) rfl
theorem q1897 : (Jvm.Cond.static ({ cls := "OneDrumModel", name := "isArmy", desc := "(I)Z" } : Jvm.MethodName)) ∈ lw_all := lw_g (lw_at lw_m8 100 rfl) rfl
theorem q1898 : (Jvm.Cond.code ({ cls := "OneDrumModel", name := "isArmy", desc := "(I)Z" } : Jvm.MethodName) prog_24_method_34_code (1 : Nat) (Option.some Jvm.ClassFile.FieldType.boolean)) ∈ lw_all := lw_g (lw_at lw_m8 101 rfl) rfl
theorem q1900 : (Jvm.Cond.instanceMethod ({ cls := "OneDrumModel", name := "order", desc := "(IIII)I" } : Jvm.MethodName)) ∈ lw_all := lw_g (lw_at lw_m8 103 rfl) rfl
theorem q1901 : (Jvm.Cond.selects "OneDrumModel" ({ cls := "OneDrumModel", name := "order", desc := "(IIII)I" } : Jvm.MethodName) ({ cls := "OneDrumModel", name := "order", desc := "(IIII)I" } : Jvm.MethodName)) ∈ lw_all := lw_g (lw_at lw_m8 104 rfl) rfl
theorem q1902 : (Jvm.Cond.code ({ cls := "OneDrumModel", name := "order", desc := "(IIII)I" } : Jvm.MethodName) prog_24_method_42_code (5 : Nat) (Option.some Jvm.ClassFile.FieldType.int)) ∈ lw_all := lw_g (lw_at lw_m8 105 rfl) rfl
theorem q1903 : (Jvm.Cond.methodLink "OneDrumModel" (227 : Nat) ({ cls := "OneDrumModel", name := "isOrder", desc := "(II)Z" } : Jvm.MethodName)) ∈ lw_all := lw_g (lw_at lw_m8 106 rfl) rfl
theorem q1904 : (Jvm.Cond.privateMethod ({ cls := "OneDrumModel", name := "isOrder", desc := "(II)Z" } : Jvm.MethodName)) ∈ lw_tbl := lw_at lw_m8 107 rfl
theorem q1905 : (Jvm.Cond.instanceMethod ({ cls := "OneDrumModel", name := "isOrder", desc := "(II)Z" } : Jvm.MethodName)) ∈ lw_all := lw_g (lw_at lw_m8 108 rfl) rfl
theorem q1906 : (Jvm.Cond.code ({ cls := "OneDrumModel", name := "isOrder", desc := "(II)Z" } : Jvm.MethodName) prog_24_method_40_code (3 : Nat) (Option.some Jvm.ClassFile.FieldType.boolean)) ∈ lw_all := lw_g (lw_at lw_m8 109 rfl) rfl
theorem q1907 : (Jvm.Cond.methodLink "OneDrumModel" (221 : Nat) ({ cls := "OneDrumModel", name := "orders", desc := "(I)I" } : Jvm.MethodName)) ∈ lw_all := lw_g (lw_at lw_m8 110 rfl) rfl
theorem q1908 : (Jvm.Cond.privateMethod ({ cls := "OneDrumModel", name := "orders", desc := "(I)I" } : Jvm.MethodName)) ∈ lw_tbl := lw_at lw_m8 111 rfl
theorem q1909 : (Jvm.Cond.instanceMethod ({ cls := "OneDrumModel", name := "orders", desc := "(I)I" } : Jvm.MethodName)) ∈ lw_all := lw_g (lw_at lw_m8 112 rfl) rfl
theorem q1910 : (Jvm.Cond.code ({ cls := "OneDrumModel", name := "orders", desc := "(I)I" } : Jvm.MethodName) prog_24_method_36_code (2 : Nat) (Option.some Jvm.ClassFile.FieldType.int)) ∈ lw_all := lw_g (lw_at lw_m8 113 rfl) rfl
theorem q1911 : (Jvm.Cond.methodLink "OneDrumModel" (215 : Nat) ({ cls := "OneDrumModel", name := "orderAt", desc := "(II)I" } : Jvm.MethodName)) ∈ lw_all := lw_g (lw_at lw_m8 114 rfl) rfl
theorem q1912 : (Jvm.Cond.privateMethod ({ cls := "OneDrumModel", name := "orderAt", desc := "(II)I" } : Jvm.MethodName)) ∈ lw_tbl := lw_at lw_m8 115 rfl
theorem q1913 : (Jvm.Cond.instanceMethod ({ cls := "OneDrumModel", name := "orderAt", desc := "(II)I" } : Jvm.MethodName)) ∈ lw_all := lw_g (lw_at lw_m8 116 rfl) rfl
theorem q1914 : (Jvm.Cond.code ({ cls := "OneDrumModel", name := "orderAt", desc := "(II)I" } : Jvm.MethodName) prog_24_method_37_code (3 : Nat) (Option.some Jvm.ClassFile.FieldType.int)) ∈ lw_all := lw_g (lw_at lw_m8 117 rfl) rfl
theorem q1915 : (Jvm.Cond.methodLink "OneDrumModel" (230 : Nat) ({ cls := "OneDrumModel", name := "lengthOf", desc := "(II)I" } : Jvm.MethodName)) ∈ lw_all := lw_g (lw_at lw_m8 118 rfl) rfl
theorem q1916 : (Jvm.Cond.privateMethod ({ cls := "OneDrumModel", name := "lengthOf", desc := "(II)I" } : Jvm.MethodName)) ∈ lw_tbl := lw_at lw_m8 119 rfl
theorem q1917 : (Jvm.Cond.instanceMethod ({ cls := "OneDrumModel", name := "lengthOf", desc := "(II)I" } : Jvm.MethodName)) ∈ lw_all := lw_g (lw_at lw_m8 120 rfl) rfl
theorem q1918 : (Jvm.Cond.code ({ cls := "OneDrumModel", name := "lengthOf", desc := "(II)I" } : Jvm.MethodName) prog_24_method_38_code (3 : Nat) (Option.some Jvm.ClassFile.FieldType.int)) ∈ lw_all := lw_g (lw_at lw_m8 121 rfl) rfl
theorem q1919 : (Jvm.Cond.methodLink "OneDrumModel" (233 : Nat) ({ cls := "OneDrumModel", name := "beatOf", desc := "(III)I" } : Jvm.MethodName)) ∈ lw_all := lw_g (lw_at lw_m8 122 rfl) rfl
theorem q1920 : (Jvm.Cond.privateMethod ({ cls := "OneDrumModel", name := "beatOf", desc := "(III)I" } : Jvm.MethodName)) ∈ lw_tbl := lw_at lw_m8 123 rfl
theorem q1921 : (Jvm.Cond.instanceMethod ({ cls := "OneDrumModel", name := "beatOf", desc := "(III)I" } : Jvm.MethodName)) ∈ lw_all := lw_g (lw_at lw_m8 124 rfl) rfl
theorem q1922 : (Jvm.Cond.code ({ cls := "OneDrumModel", name := "beatOf", desc := "(III)I" } : Jvm.MethodName) prog_24_method_39_code (4 : Nat) (Option.some Jvm.ClassFile.FieldType.int)) ∈ lw_all := lw_g (lw_at lw_m8 125 rfl) rfl
theorem q1924 : (Jvm.Cond.instanceMethod ({ cls := "OneDrumModel", name := "given", desc := "(III)I" } : Jvm.MethodName)) ∈ lw_all := lw_g (lw_at lw_m8 127 rfl) rfl
theorem q1925 : (Jvm.Cond.selects "OneDrumModel" ({ cls := "OneDrumModel", name := "given", desc := "(III)I" } : Jvm.MethodName) ({ cls := "OneDrumModel", name := "given", desc := "(III)I" } : Jvm.MethodName)) ∈ lw_all := lw_g (lw_at lw_m8 128 rfl) rfl
theorem q1926 : (Jvm.Cond.code ({ cls := "OneDrumModel", name := "given", desc := "(III)I" } : Jvm.MethodName) prog_24_method_44_code (4 : Nat) (Option.some Jvm.ClassFile.FieldType.int)) ∈ lw_all := lw_g (lw_at lw_m8 129 rfl) rfl
theorem q1927 : (Jvm.Cond.methodLink "OneDrumModel" (240 : Nat) ({ cls := "OneDrumModel", name := "isScore", desc := "(I)Z" } : Jvm.MethodName)) ∈ lw_all := lw_g (lw_at lw_m8 130 rfl) rfl
theorem q1928 : (Jvm.Cond.privateMethod ({ cls := "OneDrumModel", name := "isScore", desc := "(I)Z" } : Jvm.MethodName)) ∈ lw_tbl := lw_at lw_m8 131 rfl
theorem q1929 : (Jvm.Cond.instanceMethod ({ cls := "OneDrumModel", name := "isScore", desc := "(I)Z" } : Jvm.MethodName)) ∈ lw_all := lw_g (lw_at lw_m8 132 rfl) rfl
theorem q1930 : (Jvm.Cond.code ({ cls := "OneDrumModel", name := "isScore", desc := "(I)Z" } : Jvm.MethodName) prog_24_method_43_code (2 : Nat) (Option.some Jvm.ClassFile.FieldType.boolean)) ∈ lw_all := lw_g (lw_at lw_m8 133 rfl) rfl
theorem q1932 : (Jvm.Cond.instanceMethod ({ cls := "OneDrumModel", name := "row", desc := "(IIII)I" } : Jvm.MethodName)) ∈ lw_all := lw_g (lw_at lw_m8 135 rfl) rfl
theorem q1933 : (Jvm.Cond.selects "OneDrumModel" ({ cls := "OneDrumModel", name := "row", desc := "(IIII)I" } : Jvm.MethodName) ({ cls := "OneDrumModel", name := "row", desc := "(IIII)I" } : Jvm.MethodName)) ∈ lw_all := lw_g (lw_at lw_m8 136 rfl) rfl
theorem q1934 : (Jvm.Cond.code ({ cls := "OneDrumModel", name := "row", desc := "(IIII)I" } : Jvm.MethodName) prog_24_method_49_code (5 : Nat) (Option.some Jvm.ClassFile.FieldType.int)) ∈ lw_all := lw_g (lw_at lw_m8 137 rfl) rfl
theorem q1935 : (Jvm.Cond.methodLink "OneDrumModel" (255 : Nat) ({ cls := "OneDrumModel", name := "arePlayed", desc := "(II)Z" } : Jvm.MethodName)) ∈ lw_all := lw_g (lw_at lw_m8 138 rfl) rfl
theorem q1936 : (Jvm.Cond.privateMethod ({ cls := "OneDrumModel", name := "arePlayed", desc := "(II)Z" } : Jvm.MethodName)) ∈ lw_tbl := lw_at lw_m8 139 rfl
theorem q1937 : (Jvm.Cond.instanceMethod ({ cls := "OneDrumModel", name := "arePlayed", desc := "(II)Z" } : Jvm.MethodName)) ∈ lw_all := lw_g (lw_at lw_m8 140 rfl) rfl
theorem q1938 : (Jvm.Cond.code ({ cls := "OneDrumModel", name := "arePlayed", desc := "(II)Z" } : Jvm.MethodName) prog_24_method_48_code (3 : Nat) (Option.some Jvm.ClassFile.FieldType.boolean)) ∈ lw_all := lw_g (lw_at lw_m8 141 rfl) rfl
theorem q1939 : (Jvm.Cond.methodLink "OneDrumModel" (249 : Nat) ({ cls := "OneDrumModel", name := "takesScore", desc := "()V" } : Jvm.MethodName)) ∈ lw_all := lw_g (lw_at lw_m8 142 rfl) rfl
theorem q1940 : (Jvm.Cond.privateMethod ({ cls := "OneDrumModel", name := "takesScore", desc := "()V" } : Jvm.MethodName)) ∈ lw_tbl := lw_at lw_m8 143 rfl
theorem q1941 : (Jvm.Cond.instanceMethod ({ cls := "OneDrumModel", name := "takesScore", desc := "()V" } : Jvm.MethodName)) ∈ lw_all := lw_g (lw_at lw_m8 144 rfl) rfl
theorem q1942 : (Jvm.Cond.code ({ cls := "OneDrumModel", name := "takesScore", desc := "()V" } : Jvm.MethodName) prog_24_method_47_code (3 : Nat) (Option.none : Option Jvm.ClassFile.FieldType)) ∈ lw_all := lw_g (lw_at lw_m8 145 rfl) rfl
theorem q1943 : (Jvm.Cond.methodLink "OneDrumModel" (246 : Nat) ({ cls := "OneDrumModel", name := "laysRow", desc := "()V" } : Jvm.MethodName)) ∈ lw_all := lw_g (lw_at lw_m8 146 rfl) rfl
theorem q1944 : (Jvm.Cond.privateMethod ({ cls := "OneDrumModel", name := "laysRow", desc := "()V" } : Jvm.MethodName)) ∈ lw_tbl := lw_at lw_m8 147 rfl
theorem q1945 : (Jvm.Cond.instanceMethod ({ cls := "OneDrumModel", name := "laysRow", desc := "()V" } : Jvm.MethodName)) ∈ lw_all := lw_g (lw_at lw_m8 148 rfl) rfl
theorem q1946 : (Jvm.Cond.code ({ cls := "OneDrumModel", name := "laysRow", desc := "()V" } : Jvm.MethodName) prog_24_method_45_code (4 : Nat) (Option.none : Option Jvm.ClassFile.FieldType)) ∈ lw_all := lw_g (lw_at lw_m8 149 rfl) rfl
theorem q1947 : (Jvm.Cond.methodLink "OneDrumModel" (252 : Nat) ({ cls := "OneDrumModel", name := "plays", desc := "(I)V" } : Jvm.MethodName)) ∈ lw_all := lw_g (lw_at lw_m8 150 rfl) rfl
theorem q1948 : (Jvm.Cond.privateMethod ({ cls := "OneDrumModel", name := "plays", desc := "(I)V" } : Jvm.MethodName)) ∈ lw_tbl := lw_at lw_m8 151 rfl
theorem q1949 : (Jvm.Cond.instanceMethod ({ cls := "OneDrumModel", name := "plays", desc := "(I)V" } : Jvm.MethodName)) ∈ lw_all := lw_g (lw_at lw_m8 152 rfl) rfl
theorem q1950 : (Jvm.Cond.code ({ cls := "OneDrumModel", name := "plays", desc := "(I)V" } : Jvm.MethodName) prog_24_method_46_code (4 : Nat) (Option.none : Option Jvm.ClassFile.FieldType)) ∈ lw_all := lw_g (lw_at lw_m8 153 rfl) rfl
theorem q1952 : (Jvm.Cond.instanceMethod ({ cls := "OneDrumModel", name := "heard", desc := "(IIII)I" } : Jvm.MethodName)) ∈ lw_all := lw_g (lw_at lw_m8 155 rfl) rfl
theorem q1953 : (Jvm.Cond.selects "OneDrumModel" ({ cls := "OneDrumModel", name := "heard", desc := "(IIII)I" } : Jvm.MethodName) ({ cls := "OneDrumModel", name := "heard", desc := "(IIII)I" } : Jvm.MethodName)) ∈ lw_all := lw_g (lw_at lw_m8 156 rfl) rfl
theorem q1954 : (Jvm.Cond.code ({ cls := "OneDrumModel", name := "heard", desc := "(IIII)I" } : Jvm.MethodName) prog_24_method_53_code (5 : Nat) (Option.some Jvm.ClassFile.FieldType.int)) ∈ lw_all := lw_g (lw_at lw_m8 157 rfl) rfl
theorem q1955 : (Jvm.Cond.methodLink "OneDrumModel" (261 : Nat) ({ cls := "OneDrumModel", name := "hears", desc := "(I)I" } : Jvm.MethodName)) ∈ lw_all := lw_g (lw_at lw_m8 158 rfl) rfl
theorem q1956 : (Jvm.Cond.privateMethod ({ cls := "OneDrumModel", name := "hears", desc := "(I)I" } : Jvm.MethodName)) ∈ lw_tbl := lw_at lw_m8 159 rfl
theorem q1957 : (Jvm.Cond.instanceMethod ({ cls := "OneDrumModel", name := "hears", desc := "(I)I" } : Jvm.MethodName)) ∈ lw_all := lw_g (lw_at lw_m8 160 rfl) rfl
theorem q1958 : (Jvm.Cond.code ({ cls := "OneDrumModel", name := "hears", desc := "(I)I" } : Jvm.MethodName) prog_24_method_50_code (3 : Nat) (Option.some Jvm.ClassFile.FieldType.int)) ∈ lw_all := lw_g (lw_at lw_m8 161 rfl) rfl
theorem q1959 : (Jvm.Cond.methodLink "OneDrumModel" (264 : Nat) ({ cls := "OneDrumModel", name := "heardAt", desc := "(II)I" } : Jvm.MethodName)) ∈ lw_all := lw_g (lw_at lw_m8 162 rfl) rfl
theorem q1960 : (Jvm.Cond.privateMethod ({ cls := "OneDrumModel", name := "heardAt", desc := "(II)I" } : Jvm.MethodName)) ∈ lw_tbl := lw_at lw_m8 163 rfl
theorem q1961 : (Jvm.Cond.instanceMethod ({ cls := "OneDrumModel", name := "heardAt", desc := "(II)I" } : Jvm.MethodName)) ∈ lw_all := lw_g (lw_at lw_m8 164 rfl) rfl
theorem q1962 : (Jvm.Cond.code ({ cls := "OneDrumModel", name := "heardAt", desc := "(II)I" } : Jvm.MethodName) prog_24_method_52_code (3 : Nat) (Option.some Jvm.ClassFile.FieldType.int)) ∈ lw_all := lw_g (lw_at lw_m8 165 rfl) rfl
theorem q1963 : (Jvm.Cond.methodLink "OneDrumModel" (258 : Nat) ({ cls := "OneDrumModel", name := "placeHeard", desc := "(II)I" } : Jvm.MethodName)) ∈ lw_all := lw_g (lw_at lw_m8 166 rfl) rfl
theorem q1964 : (Jvm.Cond.privateMethod ({ cls := "OneDrumModel", name := "placeHeard", desc := "(II)I" } : Jvm.MethodName)) ∈ lw_tbl := lw_at lw_m8 167 rfl
theorem q1965 : (Jvm.Cond.instanceMethod ({ cls := "OneDrumModel", name := "placeHeard", desc := "(II)I" } : Jvm.MethodName)) ∈ lw_all := lw_g (lw_at lw_m8 168 rfl) rfl
theorem q1966 : (Jvm.Cond.code ({ cls := "OneDrumModel", name := "placeHeard", desc := "(II)I" } : Jvm.MethodName) prog_24_method_51_code (3 : Nat) (Option.some Jvm.ClassFile.FieldType.int)) ∈ lw_all := lw_g (lw_at lw_m8 169 rfl) rfl
theorem q1968 : (Jvm.Cond.instanceMethod ({ cls := "OneDrumModel", name := "made", desc := "(IIIII)I" } : Jvm.MethodName)) ∈ lw_all := lw_g (lw_at lw_m8 171 rfl) rfl
theorem q1969 : (Jvm.Cond.selects "OneDrumModel" ({ cls := "OneDrumModel", name := "made", desc := "(IIIII)I" } : Jvm.MethodName) ({ cls := "OneDrumModel", name := "made", desc := "(IIIII)I" } : Jvm.MethodName)) ∈ lw_all := lw_g (lw_at lw_m8 172 rfl) rfl
theorem q1970 : (Jvm.Cond.code ({ cls := "OneDrumModel", name := "made", desc := "(IIIII)I" } : Jvm.MethodName) prog_24_method_58_code (7 : Nat) (Option.some Jvm.ClassFile.FieldType.int)) ∈ lw_all := lw_g (lw_at lw_m8 173 rfl) rfl
theorem q1971 : (Jvm.Cond.methodLink "OneDrumModel" (270 : Nat) ({ cls := "OneDrumModel", name := "makes", desc := "(I)V" } : Jvm.MethodName)) ∈ lw_all := lw_g (lw_at lw_m8 174 rfl) rfl
theorem q1972 : (Jvm.Cond.privateMethod ({ cls := "OneDrumModel", name := "makes", desc := "(I)V" } : Jvm.MethodName)) ∈ lw_tbl := lw_at lw_m8 175 rfl
theorem q1973 : (Jvm.Cond.instanceMethod ({ cls := "OneDrumModel", name := "makes", desc := "(I)V" } : Jvm.MethodName)) ∈ lw_all := lw_g (lw_at lw_m8 176 rfl) rfl
theorem q1974 : (Jvm.Cond.code ({ cls := "OneDrumModel", name := "makes", desc := "(I)V" } : Jvm.MethodName) prog_24_method_55_code (5 : Nat) (Option.none : Option Jvm.ClassFile.FieldType)) ∈ lw_all := lw_g (lw_at lw_m8 177 rfl) rfl
theorem q1975 : (Jvm.Cond.methodLink "OneDrumModel" (267 : Nat) ({ cls := "OneDrumModel", name := "isFrom", desc := "(III)Z" } : Jvm.MethodName)) ∈ lw_all := lw_g (lw_at lw_m8 178 rfl) rfl
theorem q1976 : (Jvm.Cond.privateMethod ({ cls := "OneDrumModel", name := "isFrom", desc := "(III)Z" } : Jvm.MethodName)) ∈ lw_tbl := lw_at lw_m8 179 rfl
theorem q1977 : (Jvm.Cond.instanceMethod ({ cls := "OneDrumModel", name := "isFrom", desc := "(III)Z" } : Jvm.MethodName)) ∈ lw_all := lw_g (lw_at lw_m8 180 rfl) rfl
theorem q1978 : (Jvm.Cond.code ({ cls := "OneDrumModel", name := "isFrom", desc := "(III)Z" } : Jvm.MethodName) prog_24_method_54_code (6 : Nat) (Option.some Jvm.ClassFile.FieldType.boolean)) ∈ lw_all := lw_g (lw_at lw_m8 181 rfl) rfl
theorem q1979 : (Jvm.Cond.methodLink "OneDrumModel" (273 : Nat) ({ cls := "OneDrumModel", name := "echoed", desc := "(I)I" } : Jvm.MethodName)) ∈ lw_all := lw_g (lw_at lw_m8 182 rfl) rfl
theorem q1980 : (Jvm.Cond.privateMethod ({ cls := "OneDrumModel", name := "echoed", desc := "(I)I" } : Jvm.MethodName)) ∈ lw_tbl := lw_at lw_m8 183 rfl
theorem q1981 : (Jvm.Cond.instanceMethod ({ cls := "OneDrumModel", name := "echoed", desc := "(I)I" } : Jvm.MethodName)) ∈ lw_all := lw_g (lw_at lw_m8 184 rfl) rfl
theorem q1982 : (Jvm.Cond.code ({ cls := "OneDrumModel", name := "echoed", desc := "(I)I" } : Jvm.MethodName) prog_24_method_57_code (7 : Nat) (Option.some Jvm.ClassFile.FieldType.int)) ∈ lw_all := lw_g (lw_at lw_m8 185 rfl) rfl
theorem q1983 : (Jvm.Cond.methodLink "OneDrumModel" (276 : Nat) ({ cls := "OneDrumModel", name := "purity", desc := "(II)I" } : Jvm.MethodName)) ∈ lw_all := lw_g (lw_at lw_m8 186 rfl) rfl
theorem q1984 : (Jvm.Cond.privateMethod ({ cls := "OneDrumModel", name := "purity", desc := "(II)I" } : Jvm.MethodName)) ∈ lw_tbl := lw_at lw_m8 187 rfl
theorem q1985 : (Jvm.Cond.instanceMethod ({ cls := "OneDrumModel", name := "purity", desc := "(II)I" } : Jvm.MethodName)) ∈ lw_all := lw_g (lw_at lw_m8 188 rfl) rfl
theorem q1986 : (Jvm.Cond.code ({ cls := "OneDrumModel", name := "purity", desc := "(II)I" } : Jvm.MethodName) prog_24_method_56_code (6 : Nat) (Option.some Jvm.ClassFile.FieldType.int)) ∈ lw_all := lw_g (lw_at lw_m8 189 rfl) rfl
theorem q1988 : (Jvm.Cond.instanceMethod ({ cls := "OneDrumModel", name := "march", desc := "(IIII)I" } : Jvm.MethodName)) ∈ lw_all := lw_g (lw_at lw_m8 191 rfl) rfl
theorem q1989 : (Jvm.Cond.selects "OneDrumModel" ({ cls := "OneDrumModel", name := "march", desc := "(IIII)I" } : Jvm.MethodName) ({ cls := "OneDrumModel", name := "march", desc := "(IIII)I" } : Jvm.MethodName)) ∈ lw_all := lw_g (lw_at lw_m8 192 rfl) rfl
theorem q1990 : (Jvm.Cond.code ({ cls := "OneDrumModel", name := "march", desc := "(IIII)I" } : Jvm.MethodName) prog_24_method_63_code (6 : Nat) (Option.some Jvm.ClassFile.FieldType.int)) ∈ lw_all := lw_g (lw_at lw_m8 193 rfl) rfl
theorem q1991 : (Jvm.Cond.methodLink "OneDrumModel" (285 : Nat) ({ cls := "OneDrumModel", name := "begins", desc := "()V" } : Jvm.MethodName)) ∈ lw_all := lw_g (lw_at lw_m8 194 rfl) rfl
theorem q1992 : (Jvm.Cond.privateMethod ({ cls := "OneDrumModel", name := "begins", desc := "()V" } : Jvm.MethodName)) ∈ lw_tbl := lw_at lw_m8 195 rfl
theorem q1993 : (Jvm.Cond.instanceMethod ({ cls := "OneDrumModel", name := "begins", desc := "()V" } : Jvm.MethodName)) ∈ lw_all := lw_g (lw_at lw_m8 196 rfl) rfl
theorem q1994 : (Jvm.Cond.code ({ cls := "OneDrumModel", name := "begins", desc := "()V" } : Jvm.MethodName) prog_24_method_61_code (1 : Nat) (Option.none : Option Jvm.ClassFile.FieldType)) ∈ lw_all := lw_g (lw_at lw_m8 197 rfl) rfl
theorem q1995 : (Jvm.Cond.methodLink "OneDrumModel" (288 : Nat) ({ cls := "OneDrumModel", name := "steps", desc := "(I)V" } : Jvm.MethodName)) ∈ lw_all := lw_g (lw_at lw_m8 198 rfl) rfl
theorem q1996 : (Jvm.Cond.privateMethod ({ cls := "OneDrumModel", name := "steps", desc := "(I)V" } : Jvm.MethodName)) ∈ lw_tbl := lw_at lw_m8 199 rfl
theorem q1997 : (Jvm.Cond.instanceMethod ({ cls := "OneDrumModel", name := "steps", desc := "(I)V" } : Jvm.MethodName)) ∈ lw_all := lw_g (lw_at lw_m8 200 rfl) rfl
theorem q1998 : (Jvm.Cond.code ({ cls := "OneDrumModel", name := "steps", desc := "(I)V" } : Jvm.MethodName) prog_24_method_62_code (4 : Nat) (Option.none : Option Jvm.ClassFile.FieldType)) ∈ lw_all := lw_g (lw_at lw_m8 201 rfl) rfl
theorem q1999 : (Jvm.Cond.methodLink "OneDrumModel" (282 : Nat) ({ cls := "OneDrumModel", name := "goesTo", desc := "(II)I" } : Jvm.MethodName)) ∈ lw_all := lw_g (lw_at lw_m8 202 rfl) rfl
theorem q2000 : (Jvm.Cond.privateMethod ({ cls := "OneDrumModel", name := "goesTo", desc := "(II)I" } : Jvm.MethodName)) ∈ lw_tbl := lw_at lw_m8 203 rfl
theorem q2001 : (Jvm.Cond.instanceMethod ({ cls := "OneDrumModel", name := "goesTo", desc := "(II)I" } : Jvm.MethodName)) ∈ lw_all := lw_g (lw_at lw_m8 204 rfl) rfl
theorem q2002 : (Jvm.Cond.code ({ cls := "OneDrumModel", name := "goesTo", desc := "(II)I" } : Jvm.MethodName) prog_24_method_60_code (7 : Nat) (Option.some Jvm.ClassFile.FieldType.int)) ∈ lw_all := lw_g (lw_at lw_m8 205 rfl) rfl
theorem q2003 : (Jvm.Cond.methodLink "OneDrumModel" (279 : Nat) ({ cls := "OneDrumModel", name := "moveAt", desc := "(II)I" } : Jvm.MethodName)) ∈ lw_all := lw_g (lw_at lw_m8 206 rfl) rfl
theorem q2004 : (Jvm.Cond.privateMethod ({ cls := "OneDrumModel", name := "moveAt", desc := "(II)I" } : Jvm.MethodName)) ∈ lw_tbl := lw_at lw_m8 207 rfl
theorem q2005 : (Jvm.Cond.instanceMethod ({ cls := "OneDrumModel", name := "moveAt", desc := "(II)I" } : Jvm.MethodName)) ∈ lw_all := lw_g (lw_at lw_m8 208 rfl) rfl
theorem q2006 : (Jvm.Cond.code ({ cls := "OneDrumModel", name := "moveAt", desc := "(II)I" } : Jvm.MethodName) prog_24_method_59_code (4 : Nat) (Option.some Jvm.ClassFile.FieldType.int)) ∈ lw_all := lw_g (lw_at lw_m8 209 rfl) rfl
theorem q2008 : (Jvm.Cond.instanceMethod ({ cls := "OneDrumModel", name := "meets", desc := "(II)I" } : Jvm.MethodName)) ∈ lw_all := lw_g (lw_at lw_m8 211 rfl) rfl
theorem q2009 : (Jvm.Cond.selects "OneDrumModel" ({ cls := "OneDrumModel", name := "meets", desc := "(II)I" } : Jvm.MethodName) ({ cls := "OneDrumModel", name := "meets", desc := "(II)I" } : Jvm.MethodName)) ∈ lw_all := lw_g (lw_at lw_m8 212 rfl) rfl
theorem q2010 : (Jvm.Cond.code ({ cls := "OneDrumModel", name := "meets", desc := "(II)I" } : Jvm.MethodName) prog_24_method_65_code (3 : Nat) (Option.some Jvm.ClassFile.FieldType.int)) ∈ lw_all := lw_g (lw_at lw_m8 213 rfl) rfl
theorem q2011 : (Jvm.Cond.methodLink "OneDrumModel" (291 : Nat) ({ cls := "OneDrumModel", name := "meeting", desc := "()I" } : Jvm.MethodName)) ∈ lw_all := lw_g (lw_at lw_m8 214 rfl) rfl
theorem q2012 : (Jvm.Cond.privateMethod ({ cls := "OneDrumModel", name := "meeting", desc := "()I" } : Jvm.MethodName)) ∈ lw_tbl := lw_at lw_m8 215 rfl
theorem q2013 : (Jvm.Cond.instanceMethod ({ cls := "OneDrumModel", name := "meeting", desc := "()I" } : Jvm.MethodName)) ∈ lw_all := lw_g (lw_at lw_m8 216 rfl) rfl
theorem q2014 : (Jvm.Cond.code ({ cls := "OneDrumModel", name := "meeting", desc := "()I" } : Jvm.MethodName) prog_24_method_64_code (4 : Nat) (Option.some Jvm.ClassFile.FieldType.int)) ∈ lw_all := lw_g (lw_at lw_m8 217 rfl) rfl
theorem q2016 : (Jvm.Cond.instanceMethod ({ cls := "OneDrumModel", name := "force", desc := "(IIIIZ)I" } : Jvm.MethodName)) ∈ lw_all := lw_g (lw_at lw_m8 219 rfl) rfl
theorem q2017 : (Jvm.Cond.selects "OneDrumModel" ({ cls := "OneDrumModel", name := "force", desc := "(IIIIZ)I" } : Jvm.MethodName) ({ cls := "OneDrumModel", name := "force", desc := "(IIIIZ)I" } : Jvm.MethodName)) ∈ lw_all := lw_g (lw_at lw_m8 220 rfl) rfl
theorem q2018 : (Jvm.Cond.code ({ cls := "OneDrumModel", name := "force", desc := "(IIIIZ)I" } : Jvm.MethodName) prog_24_method_70_code (9 : Nat) (Option.some Jvm.ClassFile.FieldType.int)) ∈ lw_all := lw_g (lw_at lw_m8 221 rfl) rfl
theorem q2019 : (Jvm.Cond.methodLink "OneDrumModel" (294 : Nat) ({ cls := "OneDrumModel", name := "codesOf", desc := "(I)I" } : Jvm.MethodName)) ∈ lw_all := lw_g (lw_at lw_m8 222 rfl) rfl
theorem q2020 : (Jvm.Cond.static ({ cls := "OneDrumModel", name := "codesOf", desc := "(I)I" } : Jvm.MethodName)) ∈ lw_all := lw_g (lw_at lw_m8 223 rfl) rfl
theorem q2021 : (Jvm.Cond.code ({ cls := "OneDrumModel", name := "codesOf", desc := "(I)I" } : Jvm.MethodName) prog_24_method_67_code (1 : Nat) (Option.some Jvm.ClassFile.FieldType.int)) ∈ lw_all := lw_g (lw_at lw_m8 224 rfl) rfl
theorem q2022 : (Jvm.Cond.methodLink "OneDrumModel" (304 : Nat) ({ cls := "OneDrumModel", name := "isForced", desc := "(IIII)Z" } : Jvm.MethodName)) ∈ lw_all := lw_g (lw_at lw_m8 225 rfl) rfl
theorem q2023 : (Jvm.Cond.privateMethod ({ cls := "OneDrumModel", name := "isForced", desc := "(IIII)Z" } : Jvm.MethodName)) ∈ lw_tbl := lw_at lw_m8 226 rfl
theorem q2024 : (Jvm.Cond.instanceMethod ({ cls := "OneDrumModel", name := "isForced", desc := "(IIII)Z" } : Jvm.MethodName)) ∈ lw_all := lw_g (lw_at lw_m8 227 rfl) rfl
theorem q2025 : (Jvm.Cond.code ({ cls := "OneDrumModel", name := "isForced", desc := "(IIII)Z" } : Jvm.MethodName) prog_24_method_69_code (7 : Nat) (Option.some Jvm.ClassFile.FieldType.boolean)) ∈ lw_all := lw_g (lw_at lw_m8 228 rfl) rfl
theorem q2026 : (Jvm.Cond.methodLink "OneDrumModel" (297 : Nat) ({ cls := "OneDrumModel", name := "givesNumber", desc := "(III)V" } : Jvm.MethodName)) ∈ lw_all := lw_g (lw_at lw_m8 229 rfl) rfl
theorem q2027 : (Jvm.Cond.privateMethod ({ cls := "OneDrumModel", name := "givesNumber", desc := "(III)V" } : Jvm.MethodName)) ∈ lw_tbl := lw_at lw_m8 230 rfl
theorem q2028 : (Jvm.Cond.instanceMethod ({ cls := "OneDrumModel", name := "givesNumber", desc := "(III)V" } : Jvm.MethodName)) ∈ lw_all := lw_g (lw_at lw_m8 231 rfl) rfl
theorem q2029 : (Jvm.Cond.code ({ cls := "OneDrumModel", name := "givesNumber", desc := "(III)V" } : Jvm.MethodName) prog_24_method_66_code (6 : Nat) (Option.none : Option Jvm.ClassFile.FieldType)) ∈ lw_all := lw_g (lw_at lw_m8 232 rfl) rfl
theorem q2030 : (Jvm.Cond.methodLink "OneDrumModel" (301 : Nat) ({ cls := "OneDrumModel", name := "isMade", desc := "(II)Z" } : Jvm.MethodName)) ∈ lw_all := lw_g (lw_at lw_m8 233 rfl) rfl
theorem q2031 : (Jvm.Cond.privateMethod ({ cls := "OneDrumModel", name := "isMade", desc := "(II)Z" } : Jvm.MethodName)) ∈ lw_tbl := lw_at lw_m8 234 rfl
theorem q2032 : (Jvm.Cond.instanceMethod ({ cls := "OneDrumModel", name := "isMade", desc := "(II)Z" } : Jvm.MethodName)) ∈ lw_all := lw_g (lw_at lw_m8 235 rfl) rfl
theorem q2033 : (Jvm.Cond.code ({ cls := "OneDrumModel", name := "isMade", desc := "(II)Z" } : Jvm.MethodName) prog_24_method_68_code (5 : Nat) (Option.some Jvm.ClassFile.FieldType.boolean)) ∈ lw_all := lw_g (lw_at lw_m8 236 rfl) rfl
theorem q2035 : (Jvm.Cond.instanceMethod ({ cls := "OneDrumModel", name := "told", desc := "(III)I" } : Jvm.MethodName)) ∈ lw_all := lw_g (lw_at lw_m8 238 rfl) rfl
theorem q2036 : (Jvm.Cond.selects "OneDrumModel" ({ cls := "OneDrumModel", name := "told", desc := "(III)I" } : Jvm.MethodName) ({ cls := "OneDrumModel", name := "told", desc := "(III)I" } : Jvm.MethodName)) ∈ lw_all := lw_g (lw_at lw_m8 239 rfl) rfl
theorem q2037 : (Jvm.Cond.code ({ cls := "OneDrumModel", name := "told", desc := "(III)I" } : Jvm.MethodName) prog_24_method_72_code (4 : Nat) (Option.some Jvm.ClassFile.FieldType.int)) ∈ lw_all := lw_g (lw_at lw_m9 0 rfl) rfl
theorem q2038 : (Jvm.Cond.methodLink "OneDrumModel" (311 : Nat) ({ cls := "OneDrumModel", name := "isHearing", desc := "(I)Z" } : Jvm.MethodName)) ∈ lw_all := lw_g (lw_at lw_m9 1 rfl) rfl
theorem q2039 : (Jvm.Cond.privateMethod ({ cls := "OneDrumModel", name := "isHearing", desc := "(I)Z" } : Jvm.MethodName)) ∈ lw_tbl := lw_at lw_m9 2 rfl
theorem q2040 : (Jvm.Cond.instanceMethod ({ cls := "OneDrumModel", name := "isHearing", desc := "(I)Z" } : Jvm.MethodName)) ∈ lw_all := lw_g (lw_at lw_m9 3 rfl) rfl
theorem q2041 : (Jvm.Cond.code ({ cls := "OneDrumModel", name := "isHearing", desc := "(I)Z" } : Jvm.MethodName) prog_24_method_71_code (2 : Nat) (Option.some Jvm.ClassFile.FieldType.boolean)) ∈ lw_all := lw_g (lw_at lw_m9 4 rfl) rfl
theorem q2043 : (Jvm.Cond.instanceMethod ({ cls := "OneDrumModel", name := "bribes", desc := "(IIII)I" } : Jvm.MethodName)) ∈ lw_all := lw_g (lw_at lw_m9 6 rfl) rfl
theorem q2044 : (Jvm.Cond.selects "OneDrumModel" ({ cls := "OneDrumModel", name := "bribes", desc := "(IIII)I" } : Jvm.MethodName) ({ cls := "OneDrumModel", name := "bribes", desc := "(IIII)I" } : Jvm.MethodName)) ∈ lw_all := lw_g (lw_at lw_m9 7 rfl) rfl
theorem q2045 : (Jvm.Cond.code ({ cls := "OneDrumModel", name := "bribes", desc := "(IIII)I" } : Jvm.MethodName) prog_24_method_75_code (9 : Nat) (Option.some Jvm.ClassFile.FieldType.int)) ∈ lw_all := lw_g (lw_at lw_m9 8 rfl) rfl
theorem q2046 : (Jvm.Cond.methodLink "OneDrumModel" (314 : Nat) ({ cls := "OneDrumModel", name := "isSo", desc := "()Z" } : Jvm.MethodName)) ∈ lw_all := lw_g (lw_at lw_m9 9 rfl) rfl
theorem q2047 : (Jvm.Cond.privateMethod ({ cls := "OneDrumModel", name := "isSo", desc := "()Z" } : Jvm.MethodName)) ∈ lw_tbl := lw_at lw_m9 10 rfl
theorem q2048 : (Jvm.Cond.instanceMethod ({ cls := "OneDrumModel", name := "isSo", desc := "()Z" } : Jvm.MethodName)) ∈ lw_all := lw_g (lw_at lw_m9 11 rfl) rfl
theorem q2049 : (Jvm.Cond.code ({ cls := "OneDrumModel", name := "isSo", desc := "()Z" } : Jvm.MethodName) prog_24_method_73_code (4 : Nat) (Option.some Jvm.ClassFile.FieldType.boolean)) ∈ lw_all := lw_g (lw_at lw_m9 12 rfl) rfl
theorem q2050 : (Jvm.Cond.methodLink "OneDrumModel" (317 : Nat) ({ cls := "OneDrumModel", name := "bitsOf", desc := "(I)I" } : Jvm.MethodName)) ∈ lw_all := lw_g (lw_at lw_m9 13 rfl) rfl
theorem q2051 : (Jvm.Cond.static ({ cls := "OneDrumModel", name := "bitsOf", desc := "(I)I" } : Jvm.MethodName)) ∈ lw_all := lw_g (lw_at lw_m9 14 rfl) rfl
theorem q2052 : (Jvm.Cond.code ({ cls := "OneDrumModel", name := "bitsOf", desc := "(I)I" } : Jvm.MethodName) prog_24_method_74_code (3 : Nat) (Option.some Jvm.ClassFile.FieldType.int)) ∈ lw_all := lw_g (lw_at lw_m9 15 rfl) rfl
theorem q2054 : (Jvm.Cond.instanceMethod ({ cls := "OneDrumModel", name := "meant", desc := "(IIIIZ)I" } : Jvm.MethodName)) ∈ lw_all := lw_g (lw_at lw_m9 17 rfl) rfl
theorem q2055 : (Jvm.Cond.selects "OneDrumModel" ({ cls := "OneDrumModel", name := "meant", desc := "(IIIIZ)I" } : Jvm.MethodName) ({ cls := "OneDrumModel", name := "meant", desc := "(IIIIZ)I" } : Jvm.MethodName)) ∈ lw_all := lw_g (lw_at lw_m9 18 rfl) rfl
theorem q2056 : (Jvm.Cond.code ({ cls := "OneDrumModel", name := "meant", desc := "(IIIIZ)I" } : Jvm.MethodName) prog_24_method_76_code (9 : Nat) (Option.some Jvm.ClassFile.FieldType.int)) ∈ lw_all := lw_g (lw_at lw_m9 19 rfl) rfl
theorem q2058 : (Jvm.Cond.instanceMethod ({ cls := "OneDrumModel", name := "truce", desc := "(IIIZ)I" } : Jvm.MethodName)) ∈ lw_all := lw_g (lw_at lw_m9 21 rfl) rfl
theorem q2059 : (Jvm.Cond.selects "OneDrumModel" ({ cls := "OneDrumModel", name := "truce", desc := "(IIIZ)I" } : Jvm.MethodName) ({ cls := "OneDrumModel", name := "truce", desc := "(IIIZ)I" } : Jvm.MethodName)) ∈ lw_all := lw_g (lw_at lw_m9 22 rfl) rfl
theorem q2060 : (Jvm.Cond.code ({ cls := "OneDrumModel", name := "truce", desc := "(IIIZ)I" } : Jvm.MethodName) prog_24_method_77_code (7 : Nat) (Option.some Jvm.ClassFile.FieldType.int)) ∈ lw_all := lw_g (lw_at lw_m9 23 rfl) rfl
theorem q2062 : (Jvm.Cond.instanceMethod ({ cls := "OneDrumModel", name := "far", desc := "(IIII)I" } : Jvm.MethodName)) ∈ lw_all := lw_g (lw_at lw_m9 25 rfl) rfl
theorem q2063 : (Jvm.Cond.selects "OneDrumModel" ({ cls := "OneDrumModel", name := "far", desc := "(IIII)I" } : Jvm.MethodName) ({ cls := "OneDrumModel", name := "far", desc := "(IIII)I" } : Jvm.MethodName)) ∈ lw_all := lw_g (lw_at lw_m9 26 rfl) rfl
theorem q2064 : (Jvm.Cond.code ({ cls := "OneDrumModel", name := "far", desc := "(IIII)I" } : Jvm.MethodName) prog_24_method_81_code (5 : Nat) (Option.some Jvm.ClassFile.FieldType.int)) ∈ lw_all := lw_g (lw_at lw_m9 27 rfl) rfl
theorem q2065 : (Jvm.Cond.methodLink "OneDrumModel" (325 : Nat) ({ cls := "OneDrumModel", name := "farOf", desc := "(III)I" } : Jvm.MethodName)) ∈ lw_all := lw_g (lw_at lw_m9 28 rfl) rfl
theorem q2066 : (Jvm.Cond.privateMethod ({ cls := "OneDrumModel", name := "farOf", desc := "(III)I" } : Jvm.MethodName)) ∈ lw_tbl := lw_at lw_m9 29 rfl
theorem q2067 : (Jvm.Cond.instanceMethod ({ cls := "OneDrumModel", name := "farOf", desc := "(III)I" } : Jvm.MethodName)) ∈ lw_all := lw_g (lw_at lw_m9 30 rfl) rfl
theorem q2068 : (Jvm.Cond.code ({ cls := "OneDrumModel", name := "farOf", desc := "(III)I" } : Jvm.MethodName) prog_24_method_80_code (5 : Nat) (Option.some Jvm.ClassFile.FieldType.int)) ∈ lw_all := lw_g (lw_at lw_m9 31 rfl) rfl
theorem q2069 : (Jvm.Cond.methodLink "OneDrumModel" (323 : Nat) ({ cls := "OneDrumModel", name := "apart", desc := "(II)I" } : Jvm.MethodName)) ∈ lw_all := lw_g (lw_at lw_m9 32 rfl) rfl
theorem q2070 : (Jvm.Cond.privateMethod ({ cls := "OneDrumModel", name := "apart", desc := "(II)I" } : Jvm.MethodName)) ∈ lw_tbl := lw_at lw_m9 33 rfl
theorem q2071 : (Jvm.Cond.instanceMethod ({ cls := "OneDrumModel", name := "apart", desc := "(II)I" } : Jvm.MethodName)) ∈ lw_all := lw_g (lw_at lw_m9 34 rfl) rfl
theorem q2072 : (Jvm.Cond.code ({ cls := "OneDrumModel", name := "apart", desc := "(II)I" } : Jvm.MethodName) prog_24_method_79_code (8 : Nat) (Option.some Jvm.ClassFile.FieldType.int)) ∈ lw_all := lw_g (lw_at lw_m9 35 rfl) rfl
theorem q2073 : (Jvm.Cond.methodLink "OneDrumModel" (320 : Nat) ({ cls := "OneDrumModel", name := "lesser", desc := "(II)I" } : Jvm.MethodName)) ∈ lw_all := lw_g (lw_at lw_m9 36 rfl) rfl
theorem q2074 : (Jvm.Cond.static ({ cls := "OneDrumModel", name := "lesser", desc := "(II)I" } : Jvm.MethodName)) ∈ lw_all := lw_g (lw_at lw_m9 37 rfl) rfl
theorem q2075 : (Jvm.Cond.code ({ cls := "OneDrumModel", name := "lesser", desc := "(II)I" } : Jvm.MethodName) prog_24_method_78_code (2 : Nat) (Option.some Jvm.ClassFile.FieldType.int)) ∈ lw_all := lw_g (lw_at lw_m9 38 rfl) rfl
theorem q2077 : (Jvm.Cond.instanceMethod ({ cls := "OneDrumModel", name := "codes", desc := "(III)I" } : Jvm.MethodName)) ∈ lw_all := lw_g (lw_at lw_m9 40 rfl) rfl
theorem q2078 : (Jvm.Cond.selects "OneDrumModel" ({ cls := "OneDrumModel", name := "codes", desc := "(III)I" } : Jvm.MethodName) ({ cls := "OneDrumModel", name := "codes", desc := "(III)I" } : Jvm.MethodName)) ∈ lw_all := lw_g (lw_at lw_m9 41 rfl) rfl
theorem q2079 : (Jvm.Cond.code ({ cls := "OneDrumModel", name := "codes", desc := "(III)I" } : Jvm.MethodName) prog_24_method_83_code (8 : Nat) (Option.some Jvm.ClassFile.FieldType.int)) ∈ lw_all := lw_g (lw_at lw_m9 42 rfl) rfl
theorem q2080 : (Jvm.Cond.methodLink "OneDrumModel" (328 : Nat) ({ cls := "OneDrumModel", name := "beginsWith", desc := "(IIII)Z" } : Jvm.MethodName)) ∈ lw_all := lw_g (lw_at lw_m9 43 rfl) rfl
theorem q2081 : (Jvm.Cond.privateMethod ({ cls := "OneDrumModel", name := "beginsWith", desc := "(IIII)Z" } : Jvm.MethodName)) ∈ lw_tbl := lw_at lw_m9 44 rfl
theorem q2082 : (Jvm.Cond.instanceMethod ({ cls := "OneDrumModel", name := "beginsWith", desc := "(IIII)Z" } : Jvm.MethodName)) ∈ lw_all := lw_g (lw_at lw_m9 45 rfl) rfl
theorem q2083 : (Jvm.Cond.code ({ cls := "OneDrumModel", name := "beginsWith", desc := "(IIII)Z" } : Jvm.MethodName) prog_24_method_82_code (7 : Nat) (Option.some Jvm.ClassFile.FieldType.boolean)) ∈ lw_all := lw_g (lw_at lw_m9 46 rfl) rfl
theorem q2085 : (Jvm.Cond.instanceMethod ({ cls := "OneDrumModel", name := "shared", desc := "(II)I" } : Jvm.MethodName)) ∈ lw_all := lw_g (lw_at lw_m9 48 rfl) rfl
theorem q2086 : (Jvm.Cond.selects "OneDrumModel" ({ cls := "OneDrumModel", name := "shared", desc := "(II)I" } : Jvm.MethodName) ({ cls := "OneDrumModel", name := "shared", desc := "(II)I" } : Jvm.MethodName)) ∈ lw_all := lw_g (lw_at lw_m9 49 rfl) rfl
theorem q2087 : (Jvm.Cond.code ({ cls := "OneDrumModel", name := "shared", desc := "(II)I" } : Jvm.MethodName) prog_24_method_84_code (7 : Nat) (Option.some Jvm.ClassFile.FieldType.int)) ∈ lw_all := lw_g (lw_at lw_m9 50 rfl) rfl
theorem q2089 : (Jvm.Cond.instanceMethod ({ cls := "OneDrumModel", name := "village", desc := "(III)I" } : Jvm.MethodName)) ∈ lw_all := lw_g (lw_at lw_m9 52 rfl) rfl
theorem q2090 : (Jvm.Cond.selects "OneDrumModel" ({ cls := "OneDrumModel", name := "village", desc := "(III)I" } : Jvm.MethodName) ({ cls := "OneDrumModel", name := "village", desc := "(III)I" } : Jvm.MethodName)) ∈ lw_all := lw_g (lw_at lw_m9 53 rfl) rfl
theorem q2091 : (Jvm.Cond.code ({ cls := "OneDrumModel", name := "village", desc := "(III)I" } : Jvm.MethodName) prog_24_method_88_code (4 : Nat) (Option.some Jvm.ClassFile.FieldType.int)) ∈ lw_all := lw_g (lw_at lw_m9 54 rfl) rfl
theorem q2092 : (Jvm.Cond.methodLink "OneDrumModel" (337 : Nat) ({ cls := "OneDrumModel", name := "areVillages", desc := "(I)Z" } : Jvm.MethodName)) ∈ lw_all := lw_g (lw_at lw_m9 55 rfl) rfl
theorem q2093 : (Jvm.Cond.privateMethod ({ cls := "OneDrumModel", name := "areVillages", desc := "(I)Z" } : Jvm.MethodName)) ∈ lw_tbl := lw_at lw_m9 56 rfl
theorem q2094 : (Jvm.Cond.instanceMethod ({ cls := "OneDrumModel", name := "areVillages", desc := "(I)Z" } : Jvm.MethodName)) ∈ lw_all := lw_g (lw_at lw_m9 57 rfl) rfl
theorem q2095 : (Jvm.Cond.code ({ cls := "OneDrumModel", name := "areVillages", desc := "(I)Z" } : Jvm.MethodName) prog_24_method_86_code (2 : Nat) (Option.some Jvm.ClassFile.FieldType.boolean)) ∈ lw_all := lw_g (lw_at lw_m9 58 rfl) rfl
theorem q2096 : (Jvm.Cond.methodLink "OneDrumModel" (334 : Nat) ({ cls := "OneDrumModel", name := "villageOf", desc := "(II)I" } : Jvm.MethodName)) ∈ lw_all := lw_g (lw_at lw_m9 59 rfl) rfl
theorem q2097 : (Jvm.Cond.privateMethod ({ cls := "OneDrumModel", name := "villageOf", desc := "(II)I" } : Jvm.MethodName)) ∈ lw_tbl := lw_at lw_m9 60 rfl
theorem q2098 : (Jvm.Cond.instanceMethod ({ cls := "OneDrumModel", name := "villageOf", desc := "(II)I" } : Jvm.MethodName)) ∈ lw_all := lw_g (lw_at lw_m9 61 rfl) rfl
theorem q2099 : (Jvm.Cond.code ({ cls := "OneDrumModel", name := "villageOf", desc := "(II)I" } : Jvm.MethodName) prog_24_method_85_code (3 : Nat) (Option.some Jvm.ClassFile.FieldType.int)) ∈ lw_all := lw_g (lw_at lw_m9 62 rfl) rfl
theorem q2100 : (Jvm.Cond.methodLink "OneDrumModel" (340 : Nat) ({ cls := "OneDrumModel", name := "depthOf", desc := "(I)I" } : Jvm.MethodName)) ∈ lw_all := lw_g (lw_at lw_m9 63 rfl) rfl
theorem q2101 : (Jvm.Cond.privateMethod ({ cls := "OneDrumModel", name := "depthOf", desc := "(I)I" } : Jvm.MethodName)) ∈ lw_tbl := lw_at lw_m9 64 rfl
theorem q2102 : (Jvm.Cond.instanceMethod ({ cls := "OneDrumModel", name := "depthOf", desc := "(I)I" } : Jvm.MethodName)) ∈ lw_all := lw_g (lw_at lw_m9 65 rfl) rfl
theorem q2103 : (Jvm.Cond.code ({ cls := "OneDrumModel", name := "depthOf", desc := "(I)I" } : Jvm.MethodName) prog_24_method_87_code (4 : Nat) (Option.some Jvm.ClassFile.FieldType.int)) ∈ lw_all := lw_g (lw_at lw_m9 66 rfl) rfl
theorem q2105 : (Jvm.Cond.instanceMethod ({ cls := "OneDrumModel", name := "version", desc := "(IIIII)I" } : Jvm.MethodName)) ∈ lw_all := lw_g (lw_at lw_m9 68 rfl) rfl
theorem q2106 : (Jvm.Cond.selects "OneDrumModel" ({ cls := "OneDrumModel", name := "version", desc := "(IIIII)I" } : Jvm.MethodName) ({ cls := "OneDrumModel", name := "version", desc := "(IIIII)I" } : Jvm.MethodName)) ∈ lw_all := lw_g (lw_at lw_m9 69 rfl) rfl
theorem q2107 : (Jvm.Cond.code ({ cls := "OneDrumModel", name := "version", desc := "(IIIII)I" } : Jvm.MethodName) prog_24_method_93_code (6 : Nat) (Option.some Jvm.ClassFile.FieldType.int)) ∈ lw_all := lw_g (lw_at lw_m9 70 rfl) rfl
theorem q2108 : (Jvm.Cond.methodLink "OneDrumModel" (352 : Nat) ({ cls := "OneDrumModel", name := "areTold", desc := "(IIII)Z" } : Jvm.MethodName)) ∈ lw_all := lw_g (lw_at lw_m9 71 rfl) rfl
theorem q2109 : (Jvm.Cond.privateMethod ({ cls := "OneDrumModel", name := "areTold", desc := "(IIII)Z" } : Jvm.MethodName)) ∈ lw_tbl := lw_at lw_m9 72 rfl
theorem q2110 : (Jvm.Cond.instanceMethod ({ cls := "OneDrumModel", name := "areTold", desc := "(IIII)Z" } : Jvm.MethodName)) ∈ lw_all := lw_g (lw_at lw_m9 73 rfl) rfl
theorem q2111 : (Jvm.Cond.code ({ cls := "OneDrumModel", name := "areTold", desc := "(IIII)Z" } : Jvm.MethodName) prog_24_method_92_code (6 : Nat) (Option.some Jvm.ClassFile.FieldType.boolean)) ∈ lw_all := lw_g (lw_at lw_m9 74 rfl) rfl
theorem q2112 : (Jvm.Cond.methodLink "OneDrumModel" (349 : Nat) ({ cls := "OneDrumModel", name := "changes", desc := "(I)V" } : Jvm.MethodName)) ∈ lw_all := lw_g (lw_at lw_m9 75 rfl) rfl
theorem q2113 : (Jvm.Cond.privateMethod ({ cls := "OneDrumModel", name := "changes", desc := "(I)V" } : Jvm.MethodName)) ∈ lw_tbl := lw_at lw_m9 76 rfl
theorem q2114 : (Jvm.Cond.instanceMethod ({ cls := "OneDrumModel", name := "changes", desc := "(I)V" } : Jvm.MethodName)) ∈ lw_all := lw_g (lw_at lw_m9 77 rfl) rfl
theorem q2115 : (Jvm.Cond.code ({ cls := "OneDrumModel", name := "changes", desc := "(I)V" } : Jvm.MethodName) prog_24_method_91_code (8 : Nat) (Option.none : Option Jvm.ClassFile.FieldType)) ∈ lw_all := lw_g (lw_at lw_m9 78 rfl) rfl
theorem q2116 : (Jvm.Cond.methodLink "OneDrumModel" (343 : Nat) ({ cls := "OneDrumModel", name := "repeats", desc := "(I)I" } : Jvm.MethodName)) ∈ lw_all := lw_g (lw_at lw_m9 79 rfl) rfl
theorem q2117 : (Jvm.Cond.privateMethod ({ cls := "OneDrumModel", name := "repeats", desc := "(I)I" } : Jvm.MethodName)) ∈ lw_tbl := lw_at lw_m9 80 rfl
theorem q2118 : (Jvm.Cond.instanceMethod ({ cls := "OneDrumModel", name := "repeats", desc := "(I)I" } : Jvm.MethodName)) ∈ lw_all := lw_g (lw_at lw_m9 81 rfl) rfl
theorem q2119 : (Jvm.Cond.code ({ cls := "OneDrumModel", name := "repeats", desc := "(I)I" } : Jvm.MethodName) prog_24_method_89_code (4 : Nat) (Option.some Jvm.ClassFile.FieldType.int)) ∈ lw_all := lw_g (lw_at lw_m9 82 rfl) rfl
theorem q2120 : (Jvm.Cond.methodLink "OneDrumModel" (346 : Nat) ({ cls := "OneDrumModel", name := "adds", desc := "(II)V" } : Jvm.MethodName)) ∈ lw_all := lw_g (lw_at lw_m9 83 rfl) rfl
theorem q2121 : (Jvm.Cond.privateMethod ({ cls := "OneDrumModel", name := "adds", desc := "(II)V" } : Jvm.MethodName)) ∈ lw_tbl := lw_at lw_m9 84 rfl
theorem q2122 : (Jvm.Cond.instanceMethod ({ cls := "OneDrumModel", name := "adds", desc := "(II)V" } : Jvm.MethodName)) ∈ lw_all := lw_g (lw_at lw_m9 85 rfl) rfl
theorem q2123 : (Jvm.Cond.code ({ cls := "OneDrumModel", name := "adds", desc := "(II)V" } : Jvm.MethodName) prog_24_method_90_code (3 : Nat) (Option.none : Option Jvm.ClassFile.FieldType)) ∈ lw_all := lw_g (lw_at lw_m9 86 rfl) rfl
theorem q2125 : (Jvm.Cond.instanceMethod ({ cls := "OneDrumModel", name := "tale", desc := "(IIIIZ)I" } : Jvm.MethodName)) ∈ lw_all := lw_g (lw_at lw_m9 88 rfl) rfl
theorem q2126 : (Jvm.Cond.selects "OneDrumModel" ({ cls := "OneDrumModel", name := "tale", desc := "(IIIIZ)I" } : Jvm.MethodName) ({ cls := "OneDrumModel", name := "tale", desc := "(IIIIZ)I" } : Jvm.MethodName)) ∈ lw_all := lw_g (lw_at lw_m9 89 rfl) rfl
theorem q2127 : (Jvm.Cond.code ({ cls := "OneDrumModel", name := "tale", desc := "(IIIIZ)I" } : Jvm.MethodName) prog_24_method_95_code (8 : Nat) (Option.some Jvm.ClassFile.FieldType.int)) ∈ lw_all := lw_g (lw_at lw_m9 90 rfl) rfl
theorem q2128 : (Jvm.Cond.methodLink "OneDrumModel" (355 : Nat) ({ cls := "OneDrumModel", name := "areAlike", desc := "(II)Z" } : Jvm.MethodName)) ∈ lw_all := lw_g (lw_at lw_m9 91 rfl) rfl
theorem q2129 : (Jvm.Cond.privateMethod ({ cls := "OneDrumModel", name := "areAlike", desc := "(II)Z" } : Jvm.MethodName)) ∈ lw_tbl := lw_at lw_m9 92 rfl
theorem q2130 : (Jvm.Cond.instanceMethod ({ cls := "OneDrumModel", name := "areAlike", desc := "(II)Z" } : Jvm.MethodName)) ∈ lw_all := lw_g (lw_at lw_m9 93 rfl) rfl
theorem q2131 : (Jvm.Cond.code ({ cls := "OneDrumModel", name := "areAlike", desc := "(II)Z" } : Jvm.MethodName) prog_24_method_94_code (5 : Nat) (Option.some Jvm.ClassFile.FieldType.boolean)) ∈ lw_all := lw_g (lw_at lw_m9 94 rfl) rfl
theorem q2133 : (Jvm.Cond.instanceMethod ({ cls := "OneDrumModel", name := "drawn", desc := "(IIIII)I" } : Jvm.MethodName)) ∈ lw_all := lw_g (lw_at lw_m9 96 rfl) rfl
theorem q2134 : (Jvm.Cond.selects "OneDrumModel" ({ cls := "OneDrumModel", name := "drawn", desc := "(IIIII)I" } : Jvm.MethodName) ({ cls := "OneDrumModel", name := "drawn", desc := "(IIIII)I" } : Jvm.MethodName)) ∈ lw_all := lw_g (lw_at lw_m9 97 rfl) rfl
theorem q2135 : (Jvm.Cond.code ({ cls := "OneDrumModel", name := "drawn", desc := "(IIIII)I" } : Jvm.MethodName) prog_24_method_98_code (12 : Nat) (Option.some Jvm.ClassFile.FieldType.int)) ∈ lw_all := lw_g (lw_at lw_m9 98 rfl) rfl
theorem q2136 : (Jvm.Cond.methodLink "OneDrumModel" (362 : Nat) ({ cls := "OneDrumModel", name := "below", desc := "(I)I" } : Jvm.MethodName)) ∈ lw_all := lw_g (lw_at lw_m9 99 rfl) rfl
theorem q2137 : (Jvm.Cond.privateMethod ({ cls := "OneDrumModel", name := "below", desc := "(I)I" } : Jvm.MethodName)) ∈ lw_tbl := lw_at lw_m9 100 rfl
theorem q2138 : (Jvm.Cond.instanceMethod ({ cls := "OneDrumModel", name := "below", desc := "(I)I" } : Jvm.MethodName)) ∈ lw_all := lw_g (lw_at lw_m9 101 rfl) rfl
theorem q2139 : (Jvm.Cond.code ({ cls := "OneDrumModel", name := "below", desc := "(I)I" } : Jvm.MethodName) prog_24_method_96_code (2 : Nat) (Option.some Jvm.ClassFile.FieldType.int)) ∈ lw_all := lw_g (lw_at lw_m9 102 rfl) rfl
theorem q2140 : (Jvm.Cond.constant "OneDrumModel" (361 : Nat) (1103515245 : Int32)) ∈ lw_all := lw_g (lw_at lw_m9 103 rfl) rfl
theorem q2141 : (Jvm.Cond.methodLink "OneDrumModel" (365 : Nat) ({ cls := "OneDrumModel", name := "madeAlike", desc := "()Z" } : Jvm.MethodName)) ∈ lw_all := lw_g (lw_at lw_m9 104 rfl) rfl
theorem q2142 : (Jvm.Cond.privateMethod ({ cls := "OneDrumModel", name := "madeAlike", desc := "()Z" } : Jvm.MethodName)) ∈ lw_tbl := lw_at lw_m9 105 rfl
theorem q2143 : (Jvm.Cond.instanceMethod ({ cls := "OneDrumModel", name := "madeAlike", desc := "()Z" } : Jvm.MethodName)) ∈ lw_all := lw_g (lw_at lw_m9 106 rfl) rfl
theorem q2144 : (Jvm.Cond.code ({ cls := "OneDrumModel", name := "madeAlike", desc := "()Z" } : Jvm.MethodName) prog_24_method_97_code (3 : Nat) (Option.some Jvm.ClassFile.FieldType.boolean)) ∈ lw_all := lw_g (lw_at lw_m9 107 rfl) rfl
theorem q2146 : (Jvm.Cond.instanceMethod ({ cls := "OneDrumModel", name := "common", desc := "(III)I" } : Jvm.MethodName)) ∈ lw_all := lw_g (lw_at lw_m9 109 rfl) rfl
theorem q2147 : (Jvm.Cond.selects "OneDrumModel" ({ cls := "OneDrumModel", name := "common", desc := "(III)I" } : Jvm.MethodName) ({ cls := "OneDrumModel", name := "common", desc := "(III)I" } : Jvm.MethodName)) ∈ lw_all := lw_g (lw_at lw_m9 110 rfl) rfl
theorem q2148 : (Jvm.Cond.code ({ cls := "OneDrumModel", name := "common", desc := "(III)I" } : Jvm.MethodName) prog_24_method_101_code (8 : Nat) (Option.some Jvm.ClassFile.FieldType.int)) ∈ lw_all := lw_g (lw_at lw_m9 111 rfl) rfl
theorem q2149 : (Jvm.Cond.methodLink "OneDrumModel" (368 : Nat) ({ cls := "OneDrumModel", name := "period", desc := "()I" } : Jvm.MethodName)) ∈ lw_all := lw_g (lw_at lw_m9 112 rfl) rfl
theorem q2150 : (Jvm.Cond.privateMethod ({ cls := "OneDrumModel", name := "period", desc := "()I" } : Jvm.MethodName)) ∈ lw_tbl := lw_at lw_m9 113 rfl
theorem q2151 : (Jvm.Cond.instanceMethod ({ cls := "OneDrumModel", name := "period", desc := "()I" } : Jvm.MethodName)) ∈ lw_all := lw_g (lw_at lw_m9 114 rfl) rfl
theorem q2152 : (Jvm.Cond.code ({ cls := "OneDrumModel", name := "period", desc := "()I" } : Jvm.MethodName) prog_24_method_100_code (4 : Nat) (Option.some Jvm.ClassFile.FieldType.int)) ∈ lw_all := lw_g (lw_at lw_m9 115 rfl) rfl
theorem q2153 : (Jvm.Cond.methodLink "OneDrumModel" (371 : Nat) ({ cls := "OneDrumModel", name := "alikeFrom", desc := "(II)I" } : Jvm.MethodName)) ∈ lw_all := lw_g (lw_at lw_m9 116 rfl) rfl
theorem q2154 : (Jvm.Cond.privateMethod ({ cls := "OneDrumModel", name := "alikeFrom", desc := "(II)I" } : Jvm.MethodName)) ∈ lw_tbl := lw_at lw_m9 117 rfl
theorem q2155 : (Jvm.Cond.instanceMethod ({ cls := "OneDrumModel", name := "alikeFrom", desc := "(II)I" } : Jvm.MethodName)) ∈ lw_all := lw_g (lw_at lw_m9 118 rfl) rfl
theorem q2156 : (Jvm.Cond.code ({ cls := "OneDrumModel", name := "alikeFrom", desc := "(II)I" } : Jvm.MethodName) prog_24_method_99_code (4 : Nat) (Option.some Jvm.ClassFile.FieldType.int)) ∈ lw_all := lw_g (lw_at lw_m9 119 rfl) rfl
theorem q2158 : (Jvm.Cond.instanceMethod ({ cls := "OneDrumModel", name := "readings", desc := "(IIIZ)J" } : Jvm.MethodName)) ∈ lw_all := lw_g (lw_at lw_m9 121 rfl) rfl
theorem q2159 : (Jvm.Cond.selects "OneDrumModel" ({ cls := "OneDrumModel", name := "readings", desc := "(IIIZ)J" } : Jvm.MethodName) ({ cls := "OneDrumModel", name := "readings", desc := "(IIIZ)J" } : Jvm.MethodName)) ∈ lw_all := lw_g (lw_at lw_m9 122 rfl) rfl
theorem q2160 : (Jvm.Cond.code ({ cls := "OneDrumModel", name := "readings", desc := "(IIIZ)J" } : Jvm.MethodName) prog_24_method_102_code (8 : Nat) (Option.some Jvm.ClassFile.FieldType.long)) ∈ lw_all := lw_g (lw_at lw_m9 123 rfl) rfl
theorem q2161 : (Jvm.Cond.constantLong "OneDrumModel" (374 : Nat) (-2 : Int64)) ∈ lw_all := lw_g (lw_at lw_m9 124 rfl) rfl
theorem q2162 : (Jvm.Cond.constantLong "OneDrumModel" (376 : Nat) (-1 : Int64)) ∈ lw_all := lw_g (lw_at lw_m9 125 rfl) rfl
theorem q2164 : (Jvm.Cond.instanceMethod ({ cls := "OneDrumModel", name := "unique", desc := "(IIZ)I" } : Jvm.MethodName)) ∈ lw_all := lw_g (lw_at lw_m9 127 rfl) rfl
theorem q2165 : (Jvm.Cond.selects "OneDrumModel" ({ cls := "OneDrumModel", name := "unique", desc := "(IIZ)I" } : Jvm.MethodName) ({ cls := "OneDrumModel", name := "unique", desc := "(IIZ)I" } : Jvm.MethodName)) ∈ lw_all := lw_g (lw_at lw_m9 128 rfl) rfl
theorem q2166 : (Jvm.Cond.code ({ cls := "OneDrumModel", name := "unique", desc := "(IIZ)I" } : Jvm.MethodName) prog_24_method_107_code (5 : Nat) (Option.some Jvm.ClassFile.FieldType.int)) ∈ lw_all := lw_g (lw_at lw_m9 129 rfl) rfl
theorem q2167 : (Jvm.Cond.methodLink "OneDrumModel" (388 : Nat) ({ cls := "OneDrumModel", name := "twofold", desc := "(I)I" } : Jvm.MethodName)) ∈ lw_all := lw_g (lw_at lw_m9 130 rfl) rfl
theorem q2168 : (Jvm.Cond.privateMethod ({ cls := "OneDrumModel", name := "twofold", desc := "(I)I" } : Jvm.MethodName)) ∈ lw_tbl := lw_at lw_m9 131 rfl
theorem q2169 : (Jvm.Cond.instanceMethod ({ cls := "OneDrumModel", name := "twofold", desc := "(I)I" } : Jvm.MethodName)) ∈ lw_all := lw_g (lw_at lw_m9 132 rfl) rfl
theorem q2170 : (Jvm.Cond.code ({ cls := "OneDrumModel", name := "twofold", desc := "(I)I" } : Jvm.MethodName) prog_24_method_106_code (5 : Nat) (Option.some Jvm.ClassFile.FieldType.int)) ∈ lw_all := lw_g (lw_at lw_m9 133 rfl) rfl
theorem q2171 : (Jvm.Cond.methodLink "OneDrumModel" (378 : Nat) ({ cls := "OneDrumModel", name := "goesInto", desc := "(IIIII)Z" } : Jvm.MethodName)) ∈ lw_all := lw_g (lw_at lw_m9 134 rfl) rfl
theorem q2172 : (Jvm.Cond.privateMethod ({ cls := "OneDrumModel", name := "goesInto", desc := "(IIIII)Z" } : Jvm.MethodName)) ∈ lw_tbl := lw_at lw_m9 135 rfl
theorem q2173 : (Jvm.Cond.instanceMethod ({ cls := "OneDrumModel", name := "goesInto", desc := "(IIIII)Z" } : Jvm.MethodName)) ∈ lw_all := lw_g (lw_at lw_m9 136 rfl) rfl
theorem q2174 : (Jvm.Cond.code ({ cls := "OneDrumModel", name := "goesInto", desc := "(IIIII)Z" } : Jvm.MethodName) prog_24_method_103_code (8 : Nat) (Option.some Jvm.ClassFile.FieldType.boolean)) ∈ lw_all := lw_g (lw_at lw_m9 137 rfl) rfl
theorem q2175 : (Jvm.Cond.methodLink "OneDrumModel" (382 : Nat) ({ cls := "OneDrumModel", name := "hangsLess", desc := "(II)Z" } : Jvm.MethodName)) ∈ lw_all := lw_g (lw_at lw_m9 138 rfl) rfl
theorem q2176 : (Jvm.Cond.privateMethod ({ cls := "OneDrumModel", name := "hangsLess", desc := "(II)Z" } : Jvm.MethodName)) ∈ lw_tbl := lw_at lw_m9 139 rfl
theorem q2177 : (Jvm.Cond.instanceMethod ({ cls := "OneDrumModel", name := "hangsLess", desc := "(II)Z" } : Jvm.MethodName)) ∈ lw_all := lw_g (lw_at lw_m9 140 rfl) rfl
theorem q2178 : (Jvm.Cond.code ({ cls := "OneDrumModel", name := "hangsLess", desc := "(II)Z" } : Jvm.MethodName) prog_24_method_104_code (3 : Nat) (Option.some Jvm.ClassFile.FieldType.boolean)) ∈ lw_all := lw_g (lw_at lw_m9 141 rfl) rfl
theorem q2179 : (Jvm.Cond.methodLink "OneDrumModel" (385 : Nat) ({ cls := "OneDrumModel", name := "hangsOn", desc := "(IIII)Z" } : Jvm.MethodName)) ∈ lw_all := lw_g (lw_at lw_m9 142 rfl) rfl
theorem q2180 : (Jvm.Cond.privateMethod ({ cls := "OneDrumModel", name := "hangsOn", desc := "(IIII)Z" } : Jvm.MethodName)) ∈ lw_tbl := lw_at lw_m9 143 rfl
theorem q2181 : (Jvm.Cond.instanceMethod ({ cls := "OneDrumModel", name := "hangsOn", desc := "(IIII)Z" } : Jvm.MethodName)) ∈ lw_all := lw_g (lw_at lw_m9 144 rfl) rfl
theorem q2182 : (Jvm.Cond.code ({ cls := "OneDrumModel", name := "hangsOn", desc := "(IIII)Z" } : Jvm.MethodName) prog_24_method_105_code (7 : Nat) (Option.some Jvm.ClassFile.FieldType.boolean)) ∈ lw_all := lw_g (lw_at lw_m9 145 rfl) rfl
theorem q2184 : (Jvm.Cond.instanceMethod ({ cls := "OneDrumModel", name := "fix", desc := "(IIIIZ)I" } : Jvm.MethodName)) ∈ lw_all := lw_g (lw_at lw_m9 147 rfl) rfl
theorem q2185 : (Jvm.Cond.selects "OneDrumModel" ({ cls := "OneDrumModel", name := "fix", desc := "(IIIIZ)I" } : Jvm.MethodName) ({ cls := "OneDrumModel", name := "fix", desc := "(IIIIZ)I" } : Jvm.MethodName)) ∈ lw_all := lw_g (lw_at lw_m9 148 rfl) rfl
theorem q2186 : (Jvm.Cond.code ({ cls := "OneDrumModel", name := "fix", desc := "(IIIIZ)I" } : Jvm.MethodName) prog_24_method_109_code (8 : Nat) (Option.some Jvm.ClassFile.FieldType.int)) ∈ lw_all := lw_g (lw_at lw_m9 149 rfl) rfl
theorem q2187 : (Jvm.Cond.methodLink "OneDrumModel" (391 : Nat) ({ cls := "OneDrumModel", name := "isFixed", desc := "(IIII)Z" } : Jvm.MethodName)) ∈ lw_all := lw_g (lw_at lw_m9 150 rfl) rfl
theorem q2188 : (Jvm.Cond.privateMethod ({ cls := "OneDrumModel", name := "isFixed", desc := "(IIII)Z" } : Jvm.MethodName)) ∈ lw_tbl := lw_at lw_m9 151 rfl
theorem q2189 : (Jvm.Cond.instanceMethod ({ cls := "OneDrumModel", name := "isFixed", desc := "(IIII)Z" } : Jvm.MethodName)) ∈ lw_all := lw_g (lw_at lw_m9 152 rfl) rfl
theorem q2190 : (Jvm.Cond.code ({ cls := "OneDrumModel", name := "isFixed", desc := "(IIII)Z" } : Jvm.MethodName) prog_24_method_108_code (9 : Nat) (Option.some Jvm.ClassFile.FieldType.boolean)) ∈ lw_all := lw_g (lw_at lw_m9 153 rfl) rfl
theorem q2192 : (Jvm.Cond.instanceMethod ({ cls := "OneDrumModel", name := "count", desc := "(I)I" } : Jvm.MethodName)) ∈ lw_all := lw_g (lw_at lw_m9 155 rfl) rfl
theorem q2193 : (Jvm.Cond.selects "OneDrumModel" ({ cls := "OneDrumModel", name := "count", desc := "(I)I" } : Jvm.MethodName) ({ cls := "OneDrumModel", name := "count", desc := "(I)I" } : Jvm.MethodName)) ∈ lw_all := lw_g (lw_at lw_m9 156 rfl) rfl
theorem q2194 : (Jvm.Cond.code ({ cls := "OneDrumModel", name := "count", desc := "(I)I" } : Jvm.MethodName) prog_24_method_110_code (2 : Nat) (Option.some Jvm.ClassFile.FieldType.int)) ∈ lw_all := lw_g (lw_at lw_m9 157 rfl) rfl
theorem q2196 : (Jvm.Cond.instanceMethod ({ cls := "OneDrumModel", name := "image", desc := "(I)Z" } : Jvm.MethodName)) ∈ lw_all := lw_g (lw_at lw_m9 159 rfl) rfl
theorem q2197 : (Jvm.Cond.selects "OneDrumModel" ({ cls := "OneDrumModel", name := "image", desc := "(I)Z" } : Jvm.MethodName) ({ cls := "OneDrumModel", name := "image", desc := "(I)Z" } : Jvm.MethodName)) ∈ lw_all := lw_g (lw_at lw_m9 160 rfl) rfl
theorem q2198 : (Jvm.Cond.code ({ cls := "OneDrumModel", name := "image", desc := "(I)Z" } : Jvm.MethodName) prog_24_method_111_code (3 : Nat) (Option.some Jvm.ClassFile.FieldType.boolean)) ∈ lw_all := lw_g (lw_at lw_m9 161 rfl) rfl
theorem q2200 : (Jvm.Cond.instanceMethod ({ cls := "OneDrumModel", name := "again", desc := "(I)Z" } : Jvm.MethodName)) ∈ lw_all := lw_g (lw_at lw_m9 163 rfl) rfl
theorem q2201 : (Jvm.Cond.selects "OneDrumModel" ({ cls := "OneDrumModel", name := "again", desc := "(I)Z" } : Jvm.MethodName) ({ cls := "OneDrumModel", name := "again", desc := "(I)Z" } : Jvm.MethodName)) ∈ lw_all := lw_g (lw_at lw_m9 164 rfl) rfl
theorem q2202 : (Jvm.Cond.code ({ cls := "OneDrumModel", name := "again", desc := "(I)Z" } : Jvm.MethodName) prog_24_method_112_code (3 : Nat) (Option.some Jvm.ClassFile.FieldType.boolean)) ∈ lw_all := lw_g (lw_at lw_m9 165 rfl) rfl
theorem q2226 : (Jvm.Cond.castable "OneDrumModel" "java/lang/Object") ∈ lw_tbl := lw_at lw_m9 189 rfl
theorem in_X5 : ∀ w ∈ wsX50, w ∈ lw_all := lw_in wsX50 [1689, 1691, 1693, 1695, 1697, 1699, 1701, 1703, 1705, 1707, 1709, 1711, 1713, 1715, 1717, 1719, 1721, 1723, 1725, 1727, 1729, 1731, 1733, 1735, 1737, 1739, 1741, 1743, 1745, 1747, 1749, 1751, 1753, 1755, 1757, 1759, 1761, 1763] (by decide +kernel) (by decide +kernel)
