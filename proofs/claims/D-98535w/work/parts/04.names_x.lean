/-! OneDrum -/
set_option maxRecDepth 100000
def RX0 : String := "OneDrum"
def TX0 : u_T := fun k => match k with
  | 0 => ("OneDrum", "beatWords", "[Ljava/lang/String;", true)
  | 1 => ("OneDrum", "moveWords", "[Ljava/lang/String;", true)
  | 2 => ("OneDrum", "warWords", "[Ljava/lang/String;", true)
  | 3 => ("OneDrum", "scoreWords", "[Ljava/lang/String;", true)
  | 4 => ("OneDrum", "hearingWords", "[Ljava/lang/String;", true)
  | 5 => ("OneDrum", "villageWords", "[Ljava/lang/String;", true)
  | 6 => ("OneDrum", "all", "LOneDrum$All;", false)
  | 7 => ("OneDrum", "images", "[LOneDrum$All;", true)
  | 8 => ("OneDrum", "drum", "LOneDrum$Drum;", true)
  | 9 => ("OneDrum", "senses", "[LOneDrum$Sense;", true)
  | 10 => ("OneDrum", "war", "LOneDrum$War;", false)
  | 11 => ("OneDrum", "score", "LOneDrum$Score;", false)
  | 12 => ("OneDrum", "places", "[I", true)
  | 13 => ("OneDrum", "nextPlaces", "[I", true)
  | 14 => ("OneDrum", "own", "LOneDrum$Beats;", true)
  | 15 => ("OneDrum", "others", "LOneDrum$Beats;", true)
  | 16 => ("OneDrum", "hearing", "LOneDrum$Hearing;", false)
  | 17 => ("OneDrum", "edits", "[I", true)
  | 18 => ("OneDrum", "villages", "LOneDrum$Villages;", false)
  | 19 => ("OneDrum", "played", "LOneDrum$Beats;", true)
  | 20 => ("OneDrum", "versions", "[LOneDrum$Beats;", true)
  | 21 => ("OneDrum", "seed", "I", false)
  | 22 => ("OneDrum", "often", "[I", true)
  | 23 => ("OneDrum", "parted", "[J", true)
  | 24 => ("OneDrum", "fewest", "[I", true)
  | 25 => ("OneDrum", "over", "[I", true)
  | 26 => ("OneDrum", "hanging", "LOneDrum$Beats;", true)
  | _ => ("OneDrum", "rest", "LOneDrum$Beats;", true)
def tyX0 : Nat → FieldType := fun k => match k with
  | 0 => .array (.object "java/lang/String")
  | 1 => .array (.object "java/lang/String")
  | 2 => .array (.object "java/lang/String")
  | 3 => .array (.object "java/lang/String")
  | 4 => .array (.object "java/lang/String")
  | 5 => .array (.object "java/lang/String")
  | 6 => .object "OneDrum$All"
  | 7 => .array (.object "OneDrum$All")
  | 8 => .object "OneDrum$Drum"
  | 9 => .array (.object "OneDrum$Sense")
  | 10 => .object "OneDrum$War"
  | 11 => .object "OneDrum$Score"
  | 12 => .array .int
  | 13 => .array .int
  | 14 => .object "OneDrum$Beats"
  | 15 => .object "OneDrum$Beats"
  | 16 => .object "OneDrum$Hearing"
  | 17 => .array .int
  | 18 => .object "OneDrum$Villages"
  | 19 => .object "OneDrum$Beats"
  | 20 => .array (.object "OneDrum$Beats")
  | 21 => .int
  | 22 => .array .int
  | 23 => .array .long
  | 24 => .array .int
  | 25 => .array .int
  | 26 => .object "OneDrum$Beats"
  | _ => .object "OneDrum$Beats"
abbrev wsX00 : List Cond := u_ws RX0 TX0 28
set_option maxRecDepth 100000 in
theorem nmX0 : ∀ a, a < 28 → ∀ b, b < 28 → a ≠ b → (TX0 a).2.1 ≠ (TX0 b).2.1 := by decide +kernel
set_option maxRecDepth 100000 in
theorem tyX0_ok : ∀ k, k < 28 → parseFieldDescriptor (TX0 k).2.2.1 = some (tyX0 k) := by decide +kernel
abbrev cX0_init : ByteArray := prog_1_method_5_code
def yX0_init : MethodName := ⟨RX0, "<init>", "()V"⟩
def dkwX0_init_19 : List UInt8 := [42, 187, 0, 126, 89, 7, 183, 0, 128, 181, 0, 164, 177]
abbrev dktX0_init_19 : List UInt8 := dkwX0_init_19 ++ []
def dkwX0_init_18 : List UInt8 := [181, 0, 155, 42, 17, 1, 0, 188, 10, 181, 0, 158, 42, 187, 0, 126, 89, 7, 183, 0, 128, 181, 0, 161]
abbrev dktX0_init_18 : List UInt8 := dkwX0_init_18 ++ dktX0_init_19
def dkwX0_init_17 : List UInt8 := [181, 0, 144, 42, 16, 10, 188, 10, 181, 0, 148, 42, 16, 25, 188, 11, 181, 0, 151, 42, 16, 25, 188, 10]
abbrev dktX0_init_17 : List UInt8 := dkwX0_init_17 ++ dktX0_init_18
def dkwX0_init_16 : List UInt8 := [187, 0, 126, 89, 16, 60, 183, 0, 128, 83, 89, 16, 7, 187, 0, 126, 89, 16, 60, 183, 0, 128, 83]
abbrev dktX0_init_16 : List UInt8 := dkwX0_init_16 ++ dktX0_init_17
def dkwX0_init_15 : List UInt8 := [89, 16, 60, 183, 0, 128, 83, 89, 8, 187, 0, 126, 89, 16, 60, 183, 0, 128, 83, 89, 16, 6]
abbrev dktX0_init_15 : List UInt8 := dkwX0_init_15 ++ dktX0_init_16
def dkwX0_init_14 : List UInt8 := [89, 16, 60, 183, 0, 128, 83, 89, 6, 187, 0, 126, 89, 16, 60, 183, 0, 128, 83, 89, 7, 187, 0, 126]
abbrev dktX0_init_14 : List UInt8 := dkwX0_init_14 ++ dktX0_init_15
def dkwX0_init_13 : List UInt8 := [89, 16, 60, 183, 0, 128, 83, 89, 4, 187, 0, 126, 89, 16, 60, 183, 0, 128, 83, 89, 5, 187, 0, 126]
abbrev dktX0_init_13 : List UInt8 := dkwX0_init_13 ++ dktX0_init_14
def dkwX0_init_12 : List UInt8 := [42, 187, 0, 126, 89, 16, 24, 183, 0, 128, 181, 0, 141, 42, 16, 8, 189, 0, 126, 89, 3, 187, 0, 126]
abbrev dktX0_init_12 : List UInt8 := dkwX0_init_12 ++ dktX0_init_13
def dkwX0_init_11 : List UInt8 := [181, 0, 131, 42, 187, 0, 126, 89, 16, 12, 183, 0, 128, 181, 0, 135, 42, 16, 61, 188, 10, 181, 0, 138]
abbrev dktX0_init_11 : List UInt8 := dkwX0_init_11 ++ dktX0_init_12
def dkwX0_init_10 : List UInt8 := [42, 5, 188, 10, 181, 0, 119, 42, 5, 188, 10, 181, 0, 123, 42, 187, 0, 126, 89, 16, 12, 183, 0, 128]
abbrev dktX0_init_10 : List UInt8 := dkwX0_init_10 ++ dktX0_init_11
def dkwX0_init_9 : List UInt8 := [3, 187, 0, 112, 89, 42, 183, 0, 114, 83, 89, 4, 187, 0, 112, 89, 42, 183, 0, 114, 83, 181, 0, 115]
abbrev dktX0_init_9 : List UInt8 := dkwX0_init_9 ++ dktX0_init_10
def dkwX0_init_8 : List UInt8 := [189, 0, 92, 181, 0, 99, 42, 187, 0, 103, 89, 42, 183, 0, 105, 181, 0, 108, 42, 5, 189, 0, 112, 89]
abbrev dktX0_init_8 : List UInt8 := dkwX0_init_8 ++ dktX0_init_9
def dkwX0_init_7 : List UInt8 := [18, 85, 83, 89, 6, 18, 87, 83, 181, 0, 89, 42, 187, 0, 92, 89, 183, 0, 94, 181, 0, 95, 42, 6]
abbrev dktX0_init_7 : List UInt8 := dkwX0_init_7 ++ dktX0_init_8
def dkwX0_init_6 : List UInt8 := [18, 76, 83, 181, 0, 78, 42, 7, 189, 0, 23, 89, 3, 18, 81, 83, 89, 4, 18, 83, 83, 89, 5]
abbrev dktX0_init_6 : List UInt8 := dkwX0_init_6 ++ dktX0_init_7
def dkwX0_init_5 : List UInt8 := [181, 0, 68, 42, 4, 189, 0, 23, 89, 3, 18, 71, 83, 181, 0, 73, 42, 4, 189, 0, 23, 89, 3]
abbrev dktX0_init_5 : List UInt8 := dkwX0_init_5 ++ dktX0_init_6
def dkwX0_init_4 : List UInt8 := [89, 8, 18, 60, 83, 89, 16, 6, 18, 62, 83, 89, 16, 7, 18, 64, 83, 89, 16, 8, 18, 66, 83]
abbrev dktX0_init_4 : List UInt8 := dkwX0_init_4 ++ dktX0_init_5
def dkwX0_init_3 : List UInt8 := [3, 18, 50, 83, 89, 4, 18, 52, 83, 89, 5, 18, 54, 83, 89, 6, 18, 56, 83, 89, 7, 18, 58, 83]
abbrev dktX0_init_3 : List UInt8 := dkwX0_init_3 ++ dktX0_init_4
def dkwX0_init_2 : List UInt8 := [5, 18, 41, 83, 89, 6, 18, 43, 83, 89, 7, 18, 45, 83, 181, 0, 47, 42, 16, 9, 189, 0, 23, 89]
abbrev dktX0_init_2 : List UInt8 := dkwX0_init_2 ++ dktX0_init_3
def dkwX0_init_1 : List UInt8 := [89, 6, 18, 31, 83, 181, 0, 33, 42, 8, 189, 0, 23, 89, 3, 18, 37, 83, 89, 4, 18, 39, 83, 89]
abbrev dktX0_init_1 : List UInt8 := dkwX0_init_1 ++ dktX0_init_2
def dkwX0_init_0 : List UInt8 := [42, 183, 0, 17, 42, 7, 189, 0, 23, 89, 3, 18, 25, 83, 89, 4, 18, 27, 83, 89, 5, 18, 29, 83]
abbrev dktX0_init_0 : List UInt8 := dkwX0_init_0 ++ dktX0_init_1
theorem dksX0_init_0 : cX0_init.data.toList.drop 0 = dktX0_init_0 := by decide +kernel
theorem dksX0_init_1 : cX0_init.data.toList.drop 24 = dktX0_init_1 := dk_seg dksX0_init_0 24 rfl rfl
theorem dksX0_init_2 : cX0_init.data.toList.drop 48 = dktX0_init_2 := dk_seg dksX0_init_1 24 rfl rfl
theorem dksX0_init_3 : cX0_init.data.toList.drop 72 = dktX0_init_3 := dk_seg dksX0_init_2 24 rfl rfl
theorem dksX0_init_4 : cX0_init.data.toList.drop 96 = dktX0_init_4 := dk_seg dksX0_init_3 24 rfl rfl
theorem dksX0_init_5 : cX0_init.data.toList.drop 119 = dktX0_init_5 := dk_seg dksX0_init_4 23 rfl rfl
theorem dksX0_init_6 : cX0_init.data.toList.drop 142 = dktX0_init_6 := dk_seg dksX0_init_5 23 rfl rfl
theorem dksX0_init_7 : cX0_init.data.toList.drop 165 = dktX0_init_7 := dk_seg dksX0_init_6 23 rfl rfl
theorem dksX0_init_8 : cX0_init.data.toList.drop 189 = dktX0_init_8 := dk_seg dksX0_init_7 24 rfl rfl
theorem dksX0_init_9 : cX0_init.data.toList.drop 213 = dktX0_init_9 := dk_seg dksX0_init_8 24 rfl rfl
theorem dksX0_init_10 : cX0_init.data.toList.drop 237 = dktX0_init_10 := dk_seg dksX0_init_9 24 rfl rfl
theorem dksX0_init_11 : cX0_init.data.toList.drop 261 = dktX0_init_11 := dk_seg dksX0_init_10 24 rfl rfl
theorem dksX0_init_12 : cX0_init.data.toList.drop 285 = dktX0_init_12 := dk_seg dksX0_init_11 24 rfl rfl
theorem dksX0_init_13 : cX0_init.data.toList.drop 309 = dktX0_init_13 := dk_seg dksX0_init_12 24 rfl rfl
theorem dksX0_init_14 : cX0_init.data.toList.drop 333 = dktX0_init_14 := dk_seg dksX0_init_13 24 rfl rfl
theorem dksX0_init_15 : cX0_init.data.toList.drop 357 = dktX0_init_15 := dk_seg dksX0_init_14 24 rfl rfl
theorem dksX0_init_16 : cX0_init.data.toList.drop 379 = dktX0_init_16 := dk_seg dksX0_init_15 22 rfl rfl
theorem dksX0_init_17 : cX0_init.data.toList.drop 402 = dktX0_init_17 := dk_seg dksX0_init_16 23 rfl rfl
theorem dksX0_init_18 : cX0_init.data.toList.drop 426 = dktX0_init_18 := dk_seg dksX0_init_17 24 rfl rfl
theorem dksX0_init_19 : cX0_init.data.toList.drop 450 = dktX0_init_19 := dk_seg dksX0_init_18 24 rfl rfl
theorem dX0_init_0 : decode cX0_init 0 = .ok (.aload_n 0, 1) := dk_42 (dk_at dksX0_init_0 0 rfl rfl)
theorem dX0_init_1 : decode cX0_init 1 = .ok (.invokespecial 17, 3) := dk_183 0 17 (dk_at dksX0_init_0 1 rfl rfl)
theorem dX0_init_4 : decode cX0_init 4 = .ok (.aload_n 0, 1) := dk_42 (dk_at dksX0_init_0 4 rfl rfl)
theorem dX0_init_5 : decode cX0_init 5 = .ok (.iconst 4, 1) := dk_7 (dk_at dksX0_init_0 5 rfl rfl)
theorem dX0_init_6 : decode cX0_init 6 = .ok (.anewarray 23, 3) := dk_189 0 23 (dk_at dksX0_init_0 6 rfl rfl)
theorem dX0_init_9 : decode cX0_init 9 = .ok (.dup, 1) := dk_89 (dk_at dksX0_init_0 9 rfl rfl)
theorem dX0_init_10 : decode cX0_init 10 = .ok (.iconst 0, 1) := dk_3 (dk_at dksX0_init_0 10 rfl rfl)
theorem dX0_init_11 : decode cX0_init 11 = .ok (.ldc 25, 2) := dk_18 25 (dk_at dksX0_init_0 11 rfl rfl)
theorem dX0_init_13 : decode cX0_init 13 = .ok (.aastore, 1) := dk_83 (dk_at dksX0_init_0 13 rfl rfl)
theorem dX0_init_14 : decode cX0_init 14 = .ok (.dup, 1) := dk_89 (dk_at dksX0_init_0 14 rfl rfl)
theorem dX0_init_15 : decode cX0_init 15 = .ok (.iconst 1, 1) := dk_4 (dk_at dksX0_init_0 15 rfl rfl)
theorem dX0_init_16 : decode cX0_init 16 = .ok (.ldc 27, 2) := dk_18 27 (dk_at dksX0_init_0 16 rfl rfl)
theorem dX0_init_18 : decode cX0_init 18 = .ok (.aastore, 1) := dk_83 (dk_at dksX0_init_0 18 rfl rfl)
theorem dX0_init_19 : decode cX0_init 19 = .ok (.dup, 1) := dk_89 (dk_at dksX0_init_0 19 rfl rfl)
theorem dX0_init_20 : decode cX0_init 20 = .ok (.iconst 2, 1) := dk_5 (dk_at dksX0_init_0 20 rfl rfl)
theorem dX0_init_21 : decode cX0_init 21 = .ok (.ldc 29, 2) := dk_18 29 (dk_at dksX0_init_0 21 rfl rfl)
theorem dX0_init_23 : decode cX0_init 23 = .ok (.aastore, 1) := dk_83 (dk_at dksX0_init_0 23 rfl rfl)
theorem dX0_init_24 : decode cX0_init 24 = .ok (.dup, 1) := dk_89 (dk_at dksX0_init_1 0 rfl rfl)
theorem dX0_init_25 : decode cX0_init 25 = .ok (.iconst 3, 1) := dk_6 (dk_at dksX0_init_1 1 rfl rfl)
theorem dX0_init_26 : decode cX0_init 26 = .ok (.ldc 31, 2) := dk_18 31 (dk_at dksX0_init_1 2 rfl rfl)
theorem dX0_init_28 : decode cX0_init 28 = .ok (.aastore, 1) := dk_83 (dk_at dksX0_init_1 4 rfl rfl)
theorem dX0_init_29 : decode cX0_init 29 = .ok (.putfield 33, 3) := dk_181 0 33 (dk_at dksX0_init_1 5 rfl rfl)
theorem dX0_init_32 : decode cX0_init 32 = .ok (.aload_n 0, 1) := dk_42 (dk_at dksX0_init_1 8 rfl rfl)
theorem dX0_init_33 : decode cX0_init 33 = .ok (.iconst 5, 1) := dk_8 (dk_at dksX0_init_1 9 rfl rfl)
theorem dX0_init_34 : decode cX0_init 34 = .ok (.anewarray 23, 3) := dk_189 0 23 (dk_at dksX0_init_1 10 rfl rfl)
theorem dX0_init_37 : decode cX0_init 37 = .ok (.dup, 1) := dk_89 (dk_at dksX0_init_1 13 rfl rfl)
theorem dX0_init_38 : decode cX0_init 38 = .ok (.iconst 0, 1) := dk_3 (dk_at dksX0_init_1 14 rfl rfl)
theorem dX0_init_39 : decode cX0_init 39 = .ok (.ldc 37, 2) := dk_18 37 (dk_at dksX0_init_1 15 rfl rfl)
theorem dX0_init_41 : decode cX0_init 41 = .ok (.aastore, 1) := dk_83 (dk_at dksX0_init_1 17 rfl rfl)
theorem dX0_init_42 : decode cX0_init 42 = .ok (.dup, 1) := dk_89 (dk_at dksX0_init_1 18 rfl rfl)
theorem dX0_init_43 : decode cX0_init 43 = .ok (.iconst 1, 1) := dk_4 (dk_at dksX0_init_1 19 rfl rfl)
theorem dX0_init_44 : decode cX0_init 44 = .ok (.ldc 39, 2) := dk_18 39 (dk_at dksX0_init_1 20 rfl rfl)
theorem dX0_init_46 : decode cX0_init 46 = .ok (.aastore, 1) := dk_83 (dk_at dksX0_init_1 22 rfl rfl)
theorem dX0_init_47 : decode cX0_init 47 = .ok (.dup, 1) := dk_89 (dk_at dksX0_init_1 23 rfl rfl)
theorem dX0_init_48 : decode cX0_init 48 = .ok (.iconst 2, 1) := dk_5 (dk_at dksX0_init_2 0 rfl rfl)
theorem dX0_init_49 : decode cX0_init 49 = .ok (.ldc 41, 2) := dk_18 41 (dk_at dksX0_init_2 1 rfl rfl)
theorem dX0_init_51 : decode cX0_init 51 = .ok (.aastore, 1) := dk_83 (dk_at dksX0_init_2 3 rfl rfl)
theorem dX0_init_52 : decode cX0_init 52 = .ok (.dup, 1) := dk_89 (dk_at dksX0_init_2 4 rfl rfl)
theorem dX0_init_53 : decode cX0_init 53 = .ok (.iconst 3, 1) := dk_6 (dk_at dksX0_init_2 5 rfl rfl)
theorem dX0_init_54 : decode cX0_init 54 = .ok (.ldc 43, 2) := dk_18 43 (dk_at dksX0_init_2 6 rfl rfl)
theorem dX0_init_56 : decode cX0_init 56 = .ok (.aastore, 1) := dk_83 (dk_at dksX0_init_2 8 rfl rfl)
theorem dX0_init_57 : decode cX0_init 57 = .ok (.dup, 1) := dk_89 (dk_at dksX0_init_2 9 rfl rfl)
theorem dX0_init_58 : decode cX0_init 58 = .ok (.iconst 4, 1) := dk_7 (dk_at dksX0_init_2 10 rfl rfl)
theorem dX0_init_59 : decode cX0_init 59 = .ok (.ldc 45, 2) := dk_18 45 (dk_at dksX0_init_2 11 rfl rfl)
theorem dX0_init_61 : decode cX0_init 61 = .ok (.aastore, 1) := dk_83 (dk_at dksX0_init_2 13 rfl rfl)
theorem dX0_init_62 : decode cX0_init 62 = .ok (.putfield 47, 3) := dk_181 0 47 (dk_at dksX0_init_2 14 rfl rfl)
theorem dX0_init_65 : decode cX0_init 65 = .ok (.aload_n 0, 1) := dk_42 (dk_at dksX0_init_2 17 rfl rfl)
theorem dX0_init_66 : decode cX0_init 66 = .ok (.bipush 9, 2) := dk_16 9 (dk_at dksX0_init_2 18 rfl rfl)
theorem dX0_init_68 : decode cX0_init 68 = .ok (.anewarray 23, 3) := dk_189 0 23 (dk_at dksX0_init_2 20 rfl rfl)
theorem dX0_init_71 : decode cX0_init 71 = .ok (.dup, 1) := dk_89 (dk_at dksX0_init_2 23 rfl rfl)
theorem dX0_init_72 : decode cX0_init 72 = .ok (.iconst 0, 1) := dk_3 (dk_at dksX0_init_3 0 rfl rfl)
theorem dX0_init_73 : decode cX0_init 73 = .ok (.ldc 50, 2) := dk_18 50 (dk_at dksX0_init_3 1 rfl rfl)
theorem dX0_init_75 : decode cX0_init 75 = .ok (.aastore, 1) := dk_83 (dk_at dksX0_init_3 3 rfl rfl)
theorem dX0_init_76 : decode cX0_init 76 = .ok (.dup, 1) := dk_89 (dk_at dksX0_init_3 4 rfl rfl)
theorem dX0_init_77 : decode cX0_init 77 = .ok (.iconst 1, 1) := dk_4 (dk_at dksX0_init_3 5 rfl rfl)
theorem dX0_init_78 : decode cX0_init 78 = .ok (.ldc 52, 2) := dk_18 52 (dk_at dksX0_init_3 6 rfl rfl)
theorem dX0_init_80 : decode cX0_init 80 = .ok (.aastore, 1) := dk_83 (dk_at dksX0_init_3 8 rfl rfl)
theorem dX0_init_81 : decode cX0_init 81 = .ok (.dup, 1) := dk_89 (dk_at dksX0_init_3 9 rfl rfl)
theorem dX0_init_82 : decode cX0_init 82 = .ok (.iconst 2, 1) := dk_5 (dk_at dksX0_init_3 10 rfl rfl)
theorem dX0_init_83 : decode cX0_init 83 = .ok (.ldc 54, 2) := dk_18 54 (dk_at dksX0_init_3 11 rfl rfl)
theorem dX0_init_85 : decode cX0_init 85 = .ok (.aastore, 1) := dk_83 (dk_at dksX0_init_3 13 rfl rfl)
theorem dX0_init_86 : decode cX0_init 86 = .ok (.dup, 1) := dk_89 (dk_at dksX0_init_3 14 rfl rfl)
theorem dX0_init_87 : decode cX0_init 87 = .ok (.iconst 3, 1) := dk_6 (dk_at dksX0_init_3 15 rfl rfl)
theorem dX0_init_88 : decode cX0_init 88 = .ok (.ldc 56, 2) := dk_18 56 (dk_at dksX0_init_3 16 rfl rfl)
theorem dX0_init_90 : decode cX0_init 90 = .ok (.aastore, 1) := dk_83 (dk_at dksX0_init_3 18 rfl rfl)
theorem dX0_init_91 : decode cX0_init 91 = .ok (.dup, 1) := dk_89 (dk_at dksX0_init_3 19 rfl rfl)
theorem dX0_init_92 : decode cX0_init 92 = .ok (.iconst 4, 1) := dk_7 (dk_at dksX0_init_3 20 rfl rfl)
theorem dX0_init_93 : decode cX0_init 93 = .ok (.ldc 58, 2) := dk_18 58 (dk_at dksX0_init_3 21 rfl rfl)
theorem dX0_init_95 : decode cX0_init 95 = .ok (.aastore, 1) := dk_83 (dk_at dksX0_init_3 23 rfl rfl)
theorem dX0_init_96 : decode cX0_init 96 = .ok (.dup, 1) := dk_89 (dk_at dksX0_init_4 0 rfl rfl)
theorem dX0_init_97 : decode cX0_init 97 = .ok (.iconst 5, 1) := dk_8 (dk_at dksX0_init_4 1 rfl rfl)
theorem dX0_init_98 : decode cX0_init 98 = .ok (.ldc 60, 2) := dk_18 60 (dk_at dksX0_init_4 2 rfl rfl)
theorem dX0_init_100 : decode cX0_init 100 = .ok (.aastore, 1) := dk_83 (dk_at dksX0_init_4 4 rfl rfl)
theorem dX0_init_101 : decode cX0_init 101 = .ok (.dup, 1) := dk_89 (dk_at dksX0_init_4 5 rfl rfl)
theorem dX0_init_102 : decode cX0_init 102 = .ok (.bipush 6, 2) := dk_16 6 (dk_at dksX0_init_4 6 rfl rfl)
theorem dX0_init_104 : decode cX0_init 104 = .ok (.ldc 62, 2) := dk_18 62 (dk_at dksX0_init_4 8 rfl rfl)
theorem dX0_init_106 : decode cX0_init 106 = .ok (.aastore, 1) := dk_83 (dk_at dksX0_init_4 10 rfl rfl)
theorem dX0_init_107 : decode cX0_init 107 = .ok (.dup, 1) := dk_89 (dk_at dksX0_init_4 11 rfl rfl)
theorem dX0_init_108 : decode cX0_init 108 = .ok (.bipush 7, 2) := dk_16 7 (dk_at dksX0_init_4 12 rfl rfl)
theorem dX0_init_110 : decode cX0_init 110 = .ok (.ldc 64, 2) := dk_18 64 (dk_at dksX0_init_4 14 rfl rfl)
theorem dX0_init_112 : decode cX0_init 112 = .ok (.aastore, 1) := dk_83 (dk_at dksX0_init_4 16 rfl rfl)
theorem dX0_init_113 : decode cX0_init 113 = .ok (.dup, 1) := dk_89 (dk_at dksX0_init_4 17 rfl rfl)
theorem dX0_init_114 : decode cX0_init 114 = .ok (.bipush 8, 2) := dk_16 8 (dk_at dksX0_init_4 18 rfl rfl)
theorem dX0_init_116 : decode cX0_init 116 = .ok (.ldc 66, 2) := dk_18 66 (dk_at dksX0_init_4 20 rfl rfl)
theorem dX0_init_118 : decode cX0_init 118 = .ok (.aastore, 1) := dk_83 (dk_at dksX0_init_4 22 rfl rfl)
theorem dX0_init_119 : decode cX0_init 119 = .ok (.putfield 68, 3) := dk_181 0 68 (dk_at dksX0_init_5 0 rfl rfl)
theorem dX0_init_122 : decode cX0_init 122 = .ok (.aload_n 0, 1) := dk_42 (dk_at dksX0_init_5 3 rfl rfl)
theorem dX0_init_123 : decode cX0_init 123 = .ok (.iconst 1, 1) := dk_4 (dk_at dksX0_init_5 4 rfl rfl)
theorem dX0_init_124 : decode cX0_init 124 = .ok (.anewarray 23, 3) := dk_189 0 23 (dk_at dksX0_init_5 5 rfl rfl)
theorem dX0_init_127 : decode cX0_init 127 = .ok (.dup, 1) := dk_89 (dk_at dksX0_init_5 8 rfl rfl)
theorem dX0_init_128 : decode cX0_init 128 = .ok (.iconst 0, 1) := dk_3 (dk_at dksX0_init_5 9 rfl rfl)
theorem dX0_init_129 : decode cX0_init 129 = .ok (.ldc 71, 2) := dk_18 71 (dk_at dksX0_init_5 10 rfl rfl)
theorem dX0_init_131 : decode cX0_init 131 = .ok (.aastore, 1) := dk_83 (dk_at dksX0_init_5 12 rfl rfl)
theorem dX0_init_132 : decode cX0_init 132 = .ok (.putfield 73, 3) := dk_181 0 73 (dk_at dksX0_init_5 13 rfl rfl)
theorem dX0_init_135 : decode cX0_init 135 = .ok (.aload_n 0, 1) := dk_42 (dk_at dksX0_init_5 16 rfl rfl)
theorem dX0_init_136 : decode cX0_init 136 = .ok (.iconst 1, 1) := dk_4 (dk_at dksX0_init_5 17 rfl rfl)
theorem dX0_init_137 : decode cX0_init 137 = .ok (.anewarray 23, 3) := dk_189 0 23 (dk_at dksX0_init_5 18 rfl rfl)
theorem dX0_init_140 : decode cX0_init 140 = .ok (.dup, 1) := dk_89 (dk_at dksX0_init_5 21 rfl rfl)
theorem dX0_init_141 : decode cX0_init 141 = .ok (.iconst 0, 1) := dk_3 (dk_at dksX0_init_5 22 rfl rfl)
theorem dX0_init_142 : decode cX0_init 142 = .ok (.ldc 76, 2) := dk_18 76 (dk_at dksX0_init_6 0 rfl rfl)
theorem dX0_init_144 : decode cX0_init 144 = .ok (.aastore, 1) := dk_83 (dk_at dksX0_init_6 2 rfl rfl)
theorem dX0_init_145 : decode cX0_init 145 = .ok (.putfield 78, 3) := dk_181 0 78 (dk_at dksX0_init_6 3 rfl rfl)
theorem dX0_init_148 : decode cX0_init 148 = .ok (.aload_n 0, 1) := dk_42 (dk_at dksX0_init_6 6 rfl rfl)
theorem dX0_init_149 : decode cX0_init 149 = .ok (.iconst 4, 1) := dk_7 (dk_at dksX0_init_6 7 rfl rfl)
theorem dX0_init_150 : decode cX0_init 150 = .ok (.anewarray 23, 3) := dk_189 0 23 (dk_at dksX0_init_6 8 rfl rfl)
theorem dX0_init_153 : decode cX0_init 153 = .ok (.dup, 1) := dk_89 (dk_at dksX0_init_6 11 rfl rfl)
theorem dX0_init_154 : decode cX0_init 154 = .ok (.iconst 0, 1) := dk_3 (dk_at dksX0_init_6 12 rfl rfl)
theorem dX0_init_155 : decode cX0_init 155 = .ok (.ldc 81, 2) := dk_18 81 (dk_at dksX0_init_6 13 rfl rfl)
theorem dX0_init_157 : decode cX0_init 157 = .ok (.aastore, 1) := dk_83 (dk_at dksX0_init_6 15 rfl rfl)
theorem dX0_init_158 : decode cX0_init 158 = .ok (.dup, 1) := dk_89 (dk_at dksX0_init_6 16 rfl rfl)
theorem dX0_init_159 : decode cX0_init 159 = .ok (.iconst 1, 1) := dk_4 (dk_at dksX0_init_6 17 rfl rfl)
theorem dX0_init_160 : decode cX0_init 160 = .ok (.ldc 83, 2) := dk_18 83 (dk_at dksX0_init_6 18 rfl rfl)
theorem dX0_init_162 : decode cX0_init 162 = .ok (.aastore, 1) := dk_83 (dk_at dksX0_init_6 20 rfl rfl)
theorem dX0_init_163 : decode cX0_init 163 = .ok (.dup, 1) := dk_89 (dk_at dksX0_init_6 21 rfl rfl)
theorem dX0_init_164 : decode cX0_init 164 = .ok (.iconst 2, 1) := dk_5 (dk_at dksX0_init_6 22 rfl rfl)
theorem dX0_init_165 : decode cX0_init 165 = .ok (.ldc 85, 2) := dk_18 85 (dk_at dksX0_init_7 0 rfl rfl)
theorem dX0_init_167 : decode cX0_init 167 = .ok (.aastore, 1) := dk_83 (dk_at dksX0_init_7 2 rfl rfl)
theorem dX0_init_168 : decode cX0_init 168 = .ok (.dup, 1) := dk_89 (dk_at dksX0_init_7 3 rfl rfl)
theorem dX0_init_169 : decode cX0_init 169 = .ok (.iconst 3, 1) := dk_6 (dk_at dksX0_init_7 4 rfl rfl)
theorem dX0_init_170 : decode cX0_init 170 = .ok (.ldc 87, 2) := dk_18 87 (dk_at dksX0_init_7 5 rfl rfl)
theorem dX0_init_172 : decode cX0_init 172 = .ok (.aastore, 1) := dk_83 (dk_at dksX0_init_7 7 rfl rfl)
theorem dX0_init_173 : decode cX0_init 173 = .ok (.putfield 89, 3) := dk_181 0 89 (dk_at dksX0_init_7 8 rfl rfl)
theorem dX0_init_176 : decode cX0_init 176 = .ok (.aload_n 0, 1) := dk_42 (dk_at dksX0_init_7 11 rfl rfl)
theorem dX0_init_177 : decode cX0_init 177 = .ok (.new 92, 3) := dk_187 0 92 (dk_at dksX0_init_7 12 rfl rfl)
theorem dX0_init_180 : decode cX0_init 180 = .ok (.dup, 1) := dk_89 (dk_at dksX0_init_7 15 rfl rfl)
theorem dX0_init_181 : decode cX0_init 181 = .ok (.invokespecial 94, 3) := dk_183 0 94 (dk_at dksX0_init_7 16 rfl rfl)
theorem dX0_init_184 : decode cX0_init 184 = .ok (.putfield 95, 3) := dk_181 0 95 (dk_at dksX0_init_7 19 rfl rfl)
theorem dX0_init_187 : decode cX0_init 187 = .ok (.aload_n 0, 1) := dk_42 (dk_at dksX0_init_7 22 rfl rfl)
theorem dX0_init_188 : decode cX0_init 188 = .ok (.iconst 3, 1) := dk_6 (dk_at dksX0_init_7 23 rfl rfl)
theorem dX0_init_189 : decode cX0_init 189 = .ok (.anewarray 92, 3) := dk_189 0 92 (dk_at dksX0_init_8 0 rfl rfl)
theorem dX0_init_192 : decode cX0_init 192 = .ok (.putfield 99, 3) := dk_181 0 99 (dk_at dksX0_init_8 3 rfl rfl)
theorem dX0_init_195 : decode cX0_init 195 = .ok (.aload_n 0, 1) := dk_42 (dk_at dksX0_init_8 6 rfl rfl)
theorem dX0_init_196 : decode cX0_init 196 = .ok (.new 103, 3) := dk_187 0 103 (dk_at dksX0_init_8 7 rfl rfl)
theorem dX0_init_199 : decode cX0_init 199 = .ok (.dup, 1) := dk_89 (dk_at dksX0_init_8 10 rfl rfl)
theorem dX0_init_200 : decode cX0_init 200 = .ok (.aload_n 0, 1) := dk_42 (dk_at dksX0_init_8 11 rfl rfl)
theorem dX0_init_201 : decode cX0_init 201 = .ok (.invokespecial 105, 3) := dk_183 0 105 (dk_at dksX0_init_8 12 rfl rfl)
theorem dX0_init_204 : decode cX0_init 204 = .ok (.putfield 108, 3) := dk_181 0 108 (dk_at dksX0_init_8 15 rfl rfl)
theorem dX0_init_207 : decode cX0_init 207 = .ok (.aload_n 0, 1) := dk_42 (dk_at dksX0_init_8 18 rfl rfl)
theorem dX0_init_208 : decode cX0_init 208 = .ok (.iconst 2, 1) := dk_5 (dk_at dksX0_init_8 19 rfl rfl)
theorem dX0_init_209 : decode cX0_init 209 = .ok (.anewarray 112, 3) := dk_189 0 112 (dk_at dksX0_init_8 20 rfl rfl)
theorem dX0_init_212 : decode cX0_init 212 = .ok (.dup, 1) := dk_89 (dk_at dksX0_init_8 23 rfl rfl)
theorem dX0_init_213 : decode cX0_init 213 = .ok (.iconst 0, 1) := dk_3 (dk_at dksX0_init_9 0 rfl rfl)
theorem dX0_init_214 : decode cX0_init 214 = .ok (.new 112, 3) := dk_187 0 112 (dk_at dksX0_init_9 1 rfl rfl)
theorem dX0_init_217 : decode cX0_init 217 = .ok (.dup, 1) := dk_89 (dk_at dksX0_init_9 4 rfl rfl)
theorem dX0_init_218 : decode cX0_init 218 = .ok (.aload_n 0, 1) := dk_42 (dk_at dksX0_init_9 5 rfl rfl)
theorem dX0_init_219 : decode cX0_init 219 = .ok (.invokespecial 114, 3) := dk_183 0 114 (dk_at dksX0_init_9 6 rfl rfl)
theorem dX0_init_222 : decode cX0_init 222 = .ok (.aastore, 1) := dk_83 (dk_at dksX0_init_9 9 rfl rfl)
theorem dX0_init_223 : decode cX0_init 223 = .ok (.dup, 1) := dk_89 (dk_at dksX0_init_9 10 rfl rfl)
theorem dX0_init_224 : decode cX0_init 224 = .ok (.iconst 1, 1) := dk_4 (dk_at dksX0_init_9 11 rfl rfl)
theorem dX0_init_225 : decode cX0_init 225 = .ok (.new 112, 3) := dk_187 0 112 (dk_at dksX0_init_9 12 rfl rfl)
theorem dX0_init_228 : decode cX0_init 228 = .ok (.dup, 1) := dk_89 (dk_at dksX0_init_9 15 rfl rfl)
theorem dX0_init_229 : decode cX0_init 229 = .ok (.aload_n 0, 1) := dk_42 (dk_at dksX0_init_9 16 rfl rfl)
theorem dX0_init_230 : decode cX0_init 230 = .ok (.invokespecial 114, 3) := dk_183 0 114 (dk_at dksX0_init_9 17 rfl rfl)
theorem dX0_init_233 : decode cX0_init 233 = .ok (.aastore, 1) := dk_83 (dk_at dksX0_init_9 20 rfl rfl)
theorem dX0_init_234 : decode cX0_init 234 = .ok (.putfield 115, 3) := dk_181 0 115 (dk_at dksX0_init_9 21 rfl rfl)
theorem dX0_init_237 : decode cX0_init 237 = .ok (.aload_n 0, 1) := dk_42 (dk_at dksX0_init_10 0 rfl rfl)
theorem dX0_init_238 : decode cX0_init 238 = .ok (.iconst 2, 1) := dk_5 (dk_at dksX0_init_10 1 rfl rfl)
theorem dX0_init_239 : decode cX0_init 239 = .ok (.newarray .int, 2) := dk_188_10 (dk_at dksX0_init_10 2 rfl rfl)
theorem dX0_init_241 : decode cX0_init 241 = .ok (.putfield 119, 3) := dk_181 0 119 (dk_at dksX0_init_10 4 rfl rfl)
theorem dX0_init_244 : decode cX0_init 244 = .ok (.aload_n 0, 1) := dk_42 (dk_at dksX0_init_10 7 rfl rfl)
theorem dX0_init_245 : decode cX0_init 245 = .ok (.iconst 2, 1) := dk_5 (dk_at dksX0_init_10 8 rfl rfl)
theorem dX0_init_246 : decode cX0_init 246 = .ok (.newarray .int, 2) := dk_188_10 (dk_at dksX0_init_10 9 rfl rfl)
theorem dX0_init_248 : decode cX0_init 248 = .ok (.putfield 123, 3) := dk_181 0 123 (dk_at dksX0_init_10 11 rfl rfl)
theorem dX0_init_251 : decode cX0_init 251 = .ok (.aload_n 0, 1) := dk_42 (dk_at dksX0_init_10 14 rfl rfl)
theorem dX0_init_252 : decode cX0_init 252 = .ok (.new 126, 3) := dk_187 0 126 (dk_at dksX0_init_10 15 rfl rfl)
theorem dX0_init_255 : decode cX0_init 255 = .ok (.dup, 1) := dk_89 (dk_at dksX0_init_10 18 rfl rfl)
theorem dX0_init_256 : decode cX0_init 256 = .ok (.bipush 12, 2) := dk_16 12 (dk_at dksX0_init_10 19 rfl rfl)
theorem dX0_init_258 : decode cX0_init 258 = .ok (.invokespecial 128, 3) := dk_183 0 128 (dk_at dksX0_init_10 21 rfl rfl)
theorem dX0_init_261 : decode cX0_init 261 = .ok (.putfield 131, 3) := dk_181 0 131 (dk_at dksX0_init_11 0 rfl rfl)
theorem dX0_init_264 : decode cX0_init 264 = .ok (.aload_n 0, 1) := dk_42 (dk_at dksX0_init_11 3 rfl rfl)
theorem dX0_init_265 : decode cX0_init 265 = .ok (.new 126, 3) := dk_187 0 126 (dk_at dksX0_init_11 4 rfl rfl)
theorem dX0_init_268 : decode cX0_init 268 = .ok (.dup, 1) := dk_89 (dk_at dksX0_init_11 7 rfl rfl)
theorem dX0_init_269 : decode cX0_init 269 = .ok (.bipush 12, 2) := dk_16 12 (dk_at dksX0_init_11 8 rfl rfl)
theorem dX0_init_271 : decode cX0_init 271 = .ok (.invokespecial 128, 3) := dk_183 0 128 (dk_at dksX0_init_11 10 rfl rfl)
theorem dX0_init_274 : decode cX0_init 274 = .ok (.putfield 135, 3) := dk_181 0 135 (dk_at dksX0_init_11 13 rfl rfl)
theorem dX0_init_277 : decode cX0_init 277 = .ok (.aload_n 0, 1) := dk_42 (dk_at dksX0_init_11 16 rfl rfl)
theorem dX0_init_278 : decode cX0_init 278 = .ok (.bipush 61, 2) := dk_16 61 (dk_at dksX0_init_11 17 rfl rfl)
theorem dX0_init_280 : decode cX0_init 280 = .ok (.newarray .int, 2) := dk_188_10 (dk_at dksX0_init_11 19 rfl rfl)
theorem dX0_init_282 : decode cX0_init 282 = .ok (.putfield 138, 3) := dk_181 0 138 (dk_at dksX0_init_11 21 rfl rfl)
theorem dX0_init_285 : decode cX0_init 285 = .ok (.aload_n 0, 1) := dk_42 (dk_at dksX0_init_12 0 rfl rfl)
theorem dX0_init_286 : decode cX0_init 286 = .ok (.new 126, 3) := dk_187 0 126 (dk_at dksX0_init_12 1 rfl rfl)
theorem dX0_init_289 : decode cX0_init 289 = .ok (.dup, 1) := dk_89 (dk_at dksX0_init_12 4 rfl rfl)
theorem dX0_init_290 : decode cX0_init 290 = .ok (.bipush 24, 2) := dk_16 24 (dk_at dksX0_init_12 5 rfl rfl)
theorem dX0_init_292 : decode cX0_init 292 = .ok (.invokespecial 128, 3) := dk_183 0 128 (dk_at dksX0_init_12 7 rfl rfl)
theorem dX0_init_295 : decode cX0_init 295 = .ok (.putfield 141, 3) := dk_181 0 141 (dk_at dksX0_init_12 10 rfl rfl)
theorem dX0_init_298 : decode cX0_init 298 = .ok (.aload_n 0, 1) := dk_42 (dk_at dksX0_init_12 13 rfl rfl)
theorem dX0_init_299 : decode cX0_init 299 = .ok (.bipush 8, 2) := dk_16 8 (dk_at dksX0_init_12 14 rfl rfl)
theorem dX0_init_301 : decode cX0_init 301 = .ok (.anewarray 126, 3) := dk_189 0 126 (dk_at dksX0_init_12 16 rfl rfl)
theorem dX0_init_304 : decode cX0_init 304 = .ok (.dup, 1) := dk_89 (dk_at dksX0_init_12 19 rfl rfl)
theorem dX0_init_305 : decode cX0_init 305 = .ok (.iconst 0, 1) := dk_3 (dk_at dksX0_init_12 20 rfl rfl)
theorem dX0_init_306 : decode cX0_init 306 = .ok (.new 126, 3) := dk_187 0 126 (dk_at dksX0_init_12 21 rfl rfl)
theorem dX0_init_309 : decode cX0_init 309 = .ok (.dup, 1) := dk_89 (dk_at dksX0_init_13 0 rfl rfl)
theorem dX0_init_310 : decode cX0_init 310 = .ok (.bipush 60, 2) := dk_16 60 (dk_at dksX0_init_13 1 rfl rfl)
theorem dX0_init_312 : decode cX0_init 312 = .ok (.invokespecial 128, 3) := dk_183 0 128 (dk_at dksX0_init_13 3 rfl rfl)
theorem dX0_init_315 : decode cX0_init 315 = .ok (.aastore, 1) := dk_83 (dk_at dksX0_init_13 6 rfl rfl)
theorem dX0_init_316 : decode cX0_init 316 = .ok (.dup, 1) := dk_89 (dk_at dksX0_init_13 7 rfl rfl)
theorem dX0_init_317 : decode cX0_init 317 = .ok (.iconst 1, 1) := dk_4 (dk_at dksX0_init_13 8 rfl rfl)
theorem dX0_init_318 : decode cX0_init 318 = .ok (.new 126, 3) := dk_187 0 126 (dk_at dksX0_init_13 9 rfl rfl)
theorem dX0_init_321 : decode cX0_init 321 = .ok (.dup, 1) := dk_89 (dk_at dksX0_init_13 12 rfl rfl)
theorem dX0_init_322 : decode cX0_init 322 = .ok (.bipush 60, 2) := dk_16 60 (dk_at dksX0_init_13 13 rfl rfl)
theorem dX0_init_324 : decode cX0_init 324 = .ok (.invokespecial 128, 3) := dk_183 0 128 (dk_at dksX0_init_13 15 rfl rfl)
theorem dX0_init_327 : decode cX0_init 327 = .ok (.aastore, 1) := dk_83 (dk_at dksX0_init_13 18 rfl rfl)
theorem dX0_init_328 : decode cX0_init 328 = .ok (.dup, 1) := dk_89 (dk_at dksX0_init_13 19 rfl rfl)
theorem dX0_init_329 : decode cX0_init 329 = .ok (.iconst 2, 1) := dk_5 (dk_at dksX0_init_13 20 rfl rfl)
theorem dX0_init_330 : decode cX0_init 330 = .ok (.new 126, 3) := dk_187 0 126 (dk_at dksX0_init_13 21 rfl rfl)
theorem dX0_init_333 : decode cX0_init 333 = .ok (.dup, 1) := dk_89 (dk_at dksX0_init_14 0 rfl rfl)
theorem dX0_init_334 : decode cX0_init 334 = .ok (.bipush 60, 2) := dk_16 60 (dk_at dksX0_init_14 1 rfl rfl)
theorem dX0_init_336 : decode cX0_init 336 = .ok (.invokespecial 128, 3) := dk_183 0 128 (dk_at dksX0_init_14 3 rfl rfl)
theorem dX0_init_339 : decode cX0_init 339 = .ok (.aastore, 1) := dk_83 (dk_at dksX0_init_14 6 rfl rfl)
theorem dX0_init_340 : decode cX0_init 340 = .ok (.dup, 1) := dk_89 (dk_at dksX0_init_14 7 rfl rfl)
theorem dX0_init_341 : decode cX0_init 341 = .ok (.iconst 3, 1) := dk_6 (dk_at dksX0_init_14 8 rfl rfl)
theorem dX0_init_342 : decode cX0_init 342 = .ok (.new 126, 3) := dk_187 0 126 (dk_at dksX0_init_14 9 rfl rfl)
theorem dX0_init_345 : decode cX0_init 345 = .ok (.dup, 1) := dk_89 (dk_at dksX0_init_14 12 rfl rfl)
theorem dX0_init_346 : decode cX0_init 346 = .ok (.bipush 60, 2) := dk_16 60 (dk_at dksX0_init_14 13 rfl rfl)
theorem dX0_init_348 : decode cX0_init 348 = .ok (.invokespecial 128, 3) := dk_183 0 128 (dk_at dksX0_init_14 15 rfl rfl)
theorem dX0_init_351 : decode cX0_init 351 = .ok (.aastore, 1) := dk_83 (dk_at dksX0_init_14 18 rfl rfl)
theorem dX0_init_352 : decode cX0_init 352 = .ok (.dup, 1) := dk_89 (dk_at dksX0_init_14 19 rfl rfl)
theorem dX0_init_353 : decode cX0_init 353 = .ok (.iconst 4, 1) := dk_7 (dk_at dksX0_init_14 20 rfl rfl)
theorem dX0_init_354 : decode cX0_init 354 = .ok (.new 126, 3) := dk_187 0 126 (dk_at dksX0_init_14 21 rfl rfl)
theorem dX0_init_357 : decode cX0_init 357 = .ok (.dup, 1) := dk_89 (dk_at dksX0_init_15 0 rfl rfl)
theorem dX0_init_358 : decode cX0_init 358 = .ok (.bipush 60, 2) := dk_16 60 (dk_at dksX0_init_15 1 rfl rfl)
theorem dX0_init_360 : decode cX0_init 360 = .ok (.invokespecial 128, 3) := dk_183 0 128 (dk_at dksX0_init_15 3 rfl rfl)
theorem dX0_init_363 : decode cX0_init 363 = .ok (.aastore, 1) := dk_83 (dk_at dksX0_init_15 6 rfl rfl)
theorem dX0_init_364 : decode cX0_init 364 = .ok (.dup, 1) := dk_89 (dk_at dksX0_init_15 7 rfl rfl)
theorem dX0_init_365 : decode cX0_init 365 = .ok (.iconst 5, 1) := dk_8 (dk_at dksX0_init_15 8 rfl rfl)
theorem dX0_init_366 : decode cX0_init 366 = .ok (.new 126, 3) := dk_187 0 126 (dk_at dksX0_init_15 9 rfl rfl)
theorem dX0_init_369 : decode cX0_init 369 = .ok (.dup, 1) := dk_89 (dk_at dksX0_init_15 12 rfl rfl)
theorem dX0_init_370 : decode cX0_init 370 = .ok (.bipush 60, 2) := dk_16 60 (dk_at dksX0_init_15 13 rfl rfl)
theorem dX0_init_372 : decode cX0_init 372 = .ok (.invokespecial 128, 3) := dk_183 0 128 (dk_at dksX0_init_15 15 rfl rfl)
theorem dX0_init_375 : decode cX0_init 375 = .ok (.aastore, 1) := dk_83 (dk_at dksX0_init_15 18 rfl rfl)
theorem dX0_init_376 : decode cX0_init 376 = .ok (.dup, 1) := dk_89 (dk_at dksX0_init_15 19 rfl rfl)
theorem dX0_init_377 : decode cX0_init 377 = .ok (.bipush 6, 2) := dk_16 6 (dk_at dksX0_init_15 20 rfl rfl)
theorem dX0_init_379 : decode cX0_init 379 = .ok (.new 126, 3) := dk_187 0 126 (dk_at dksX0_init_16 0 rfl rfl)
theorem dX0_init_382 : decode cX0_init 382 = .ok (.dup, 1) := dk_89 (dk_at dksX0_init_16 3 rfl rfl)
theorem dX0_init_383 : decode cX0_init 383 = .ok (.bipush 60, 2) := dk_16 60 (dk_at dksX0_init_16 4 rfl rfl)
theorem dX0_init_385 : decode cX0_init 385 = .ok (.invokespecial 128, 3) := dk_183 0 128 (dk_at dksX0_init_16 6 rfl rfl)
theorem dX0_init_388 : decode cX0_init 388 = .ok (.aastore, 1) := dk_83 (dk_at dksX0_init_16 9 rfl rfl)
theorem dX0_init_389 : decode cX0_init 389 = .ok (.dup, 1) := dk_89 (dk_at dksX0_init_16 10 rfl rfl)
theorem dX0_init_390 : decode cX0_init 390 = .ok (.bipush 7, 2) := dk_16 7 (dk_at dksX0_init_16 11 rfl rfl)
theorem dX0_init_392 : decode cX0_init 392 = .ok (.new 126, 3) := dk_187 0 126 (dk_at dksX0_init_16 13 rfl rfl)
theorem dX0_init_395 : decode cX0_init 395 = .ok (.dup, 1) := dk_89 (dk_at dksX0_init_16 16 rfl rfl)
theorem dX0_init_396 : decode cX0_init 396 = .ok (.bipush 60, 2) := dk_16 60 (dk_at dksX0_init_16 17 rfl rfl)
theorem dX0_init_398 : decode cX0_init 398 = .ok (.invokespecial 128, 3) := dk_183 0 128 (dk_at dksX0_init_16 19 rfl rfl)
theorem dX0_init_401 : decode cX0_init 401 = .ok (.aastore, 1) := dk_83 (dk_at dksX0_init_16 22 rfl rfl)
theorem dX0_init_402 : decode cX0_init 402 = .ok (.putfield 144, 3) := dk_181 0 144 (dk_at dksX0_init_17 0 rfl rfl)
theorem dX0_init_405 : decode cX0_init 405 = .ok (.aload_n 0, 1) := dk_42 (dk_at dksX0_init_17 3 rfl rfl)
theorem dX0_init_406 : decode cX0_init 406 = .ok (.bipush 10, 2) := dk_16 10 (dk_at dksX0_init_17 4 rfl rfl)
theorem dX0_init_408 : decode cX0_init 408 = .ok (.newarray .int, 2) := dk_188_10 (dk_at dksX0_init_17 6 rfl rfl)
theorem dX0_init_410 : decode cX0_init 410 = .ok (.putfield 148, 3) := dk_181 0 148 (dk_at dksX0_init_17 8 rfl rfl)
theorem dX0_init_413 : decode cX0_init 413 = .ok (.aload_n 0, 1) := dk_42 (dk_at dksX0_init_17 11 rfl rfl)
theorem dX0_init_414 : decode cX0_init 414 = .ok (.bipush 25, 2) := dk_16 25 (dk_at dksX0_init_17 12 rfl rfl)
theorem dX0_init_416 : decode cX0_init 416 = .ok (.newarray .long, 2) := dk_188_11 (dk_at dksX0_init_17 14 rfl rfl)
theorem dX0_init_418 : decode cX0_init 418 = .ok (.putfield 151, 3) := dk_181 0 151 (dk_at dksX0_init_17 16 rfl rfl)
theorem dX0_init_421 : decode cX0_init 421 = .ok (.aload_n 0, 1) := dk_42 (dk_at dksX0_init_17 19 rfl rfl)
theorem dX0_init_422 : decode cX0_init 422 = .ok (.bipush 25, 2) := dk_16 25 (dk_at dksX0_init_17 20 rfl rfl)
theorem dX0_init_424 : decode cX0_init 424 = .ok (.newarray .int, 2) := dk_188_10 (dk_at dksX0_init_17 22 rfl rfl)
theorem dX0_init_426 : decode cX0_init 426 = .ok (.putfield 155, 3) := dk_181 0 155 (dk_at dksX0_init_18 0 rfl rfl)
theorem dX0_init_429 : decode cX0_init 429 = .ok (.aload_n 0, 1) := dk_42 (dk_at dksX0_init_18 3 rfl rfl)
theorem dX0_init_430 : decode cX0_init 430 = .ok (.sipush 256, 3) := dk_17 1 0 (dk_at dksX0_init_18 4 rfl rfl)
theorem dX0_init_433 : decode cX0_init 433 = .ok (.newarray .int, 2) := dk_188_10 (dk_at dksX0_init_18 7 rfl rfl)
theorem dX0_init_435 : decode cX0_init 435 = .ok (.putfield 158, 3) := dk_181 0 158 (dk_at dksX0_init_18 9 rfl rfl)
theorem dX0_init_438 : decode cX0_init 438 = .ok (.aload_n 0, 1) := dk_42 (dk_at dksX0_init_18 12 rfl rfl)
theorem dX0_init_439 : decode cX0_init 439 = .ok (.new 126, 3) := dk_187 0 126 (dk_at dksX0_init_18 13 rfl rfl)
theorem dX0_init_442 : decode cX0_init 442 = .ok (.dup, 1) := dk_89 (dk_at dksX0_init_18 16 rfl rfl)
theorem dX0_init_443 : decode cX0_init 443 = .ok (.iconst 4, 1) := dk_7 (dk_at dksX0_init_18 17 rfl rfl)
theorem dX0_init_444 : decode cX0_init 444 = .ok (.invokespecial 128, 3) := dk_183 0 128 (dk_at dksX0_init_18 18 rfl rfl)
theorem dX0_init_447 : decode cX0_init 447 = .ok (.putfield 161, 3) := dk_181 0 161 (dk_at dksX0_init_18 21 rfl rfl)
theorem dX0_init_450 : decode cX0_init 450 = .ok (.aload_n 0, 1) := dk_42 (dk_at dksX0_init_19 0 rfl rfl)
theorem dX0_init_451 : decode cX0_init 451 = .ok (.new 126, 3) := dk_187 0 126 (dk_at dksX0_init_19 1 rfl rfl)
theorem dX0_init_454 : decode cX0_init 454 = .ok (.dup, 1) := dk_89 (dk_at dksX0_init_19 4 rfl rfl)
theorem dX0_init_455 : decode cX0_init 455 = .ok (.iconst 4, 1) := dk_7 (dk_at dksX0_init_19 5 rfl rfl)
theorem dX0_init_456 : decode cX0_init 456 = .ok (.invokespecial 128, 3) := dk_183 0 128 (dk_at dksX0_init_19 6 rfl rfl)
theorem dX0_init_459 : decode cX0_init 459 = .ok (.putfield 164, 3) := dk_181 0 164 (dk_at dksX0_init_19 9 rfl rfl)
theorem dX0_init_462 : decode cX0_init 462 = .ok (.return_, 1) := dk_177 (dk_at dksX0_init_19 12 rfl rfl)
abbrev cX0_feed : ByteArray := prog_1_method_6_code
def yX0_feed : MethodName := ⟨RX0, "feed", "(IIIII)I"⟩
def dkwX0_feed_2 : List UInt8 := [180, 0, 95, 180, 0, 166, 172]
abbrev dktX0_feed_2 : List UInt8 := dkwX0_feed_2 ++ []
def dkwX0_feed_1 : List UInt8 := [28, 182, 0, 169, 42, 29, 182, 0, 169, 42, 21, 4, 182, 0, 169, 42, 21, 5, 182, 0, 169, 42]
abbrev dktX0_feed_1 : List UInt8 := dkwX0_feed_1 ++ dktX0_feed_2
def dkwX0_feed_0 : List UInt8 := [42, 180, 0, 95, 180, 0, 166, 16, 20, 96, 17, 2, 88, 164, 0, 5, 2, 172, 42, 27, 182, 0, 169, 42]
abbrev dktX0_feed_0 : List UInt8 := dkwX0_feed_0 ++ dktX0_feed_1
theorem dksX0_feed_0 : cX0_feed.data.toList.drop 0 = dktX0_feed_0 := by decide +kernel
theorem dksX0_feed_1 : cX0_feed.data.toList.drop 24 = dktX0_feed_1 := dk_seg dksX0_feed_0 24 rfl rfl
theorem dksX0_feed_2 : cX0_feed.data.toList.drop 46 = dktX0_feed_2 := dk_seg dksX0_feed_1 22 rfl rfl
theorem dX0_feed_0 : decode cX0_feed 0 = .ok (.aload_n 0, 1) := dk_42 (dk_at dksX0_feed_0 0 rfl rfl)
theorem dX0_feed_1 : decode cX0_feed 1 = .ok (.getfield 95, 3) := dk_180 0 95 (dk_at dksX0_feed_0 1 rfl rfl)
theorem dX0_feed_4 : decode cX0_feed 4 = .ok (.getfield 166, 3) := dk_180 0 166 (dk_at dksX0_feed_0 4 rfl rfl)
theorem dX0_feed_7 : decode cX0_feed 7 = .ok (.bipush 20, 2) := dk_16 20 (dk_at dksX0_feed_0 7 rfl rfl)
theorem dX0_feed_9 : decode cX0_feed 9 = .ok (.iadd, 1) := dk_96 (dk_at dksX0_feed_0 9 rfl rfl)
theorem dX0_feed_10 : decode cX0_feed 10 = .ok (.sipush 600, 3) := dk_17 2 88 (dk_at dksX0_feed_0 10 rfl rfl)
theorem dX0_feed_13 : decode cX0_feed 13 = .ok (.if_icmp .le 5, 3) := dk_164 0 5 (dk_at dksX0_feed_0 13 rfl rfl)
theorem dX0_feed_16 : decode cX0_feed 16 = .ok (.iconst (-1), 1) := dk_2 (dk_at dksX0_feed_0 16 rfl rfl)
theorem dX0_feed_17 : decode cX0_feed 17 = .ok (.ireturn, 1) := dk_172 (dk_at dksX0_feed_0 17 rfl rfl)
theorem dX0_feed_18 : decode cX0_feed 18 = .ok (.aload_n 0, 1) := dk_42 (dk_at dksX0_feed_0 18 rfl rfl)
theorem dX0_feed_19 : decode cX0_feed 19 = .ok (.iload_n 1, 1) := dk_27 (dk_at dksX0_feed_0 19 rfl rfl)
theorem dX0_feed_20 : decode cX0_feed 20 = .ok (.invokevirtual 169, 3) := dk_182 0 169 (dk_at dksX0_feed_0 20 rfl rfl)
theorem dX0_feed_23 : decode cX0_feed 23 = .ok (.aload_n 0, 1) := dk_42 (dk_at dksX0_feed_0 23 rfl rfl)
theorem dX0_feed_24 : decode cX0_feed 24 = .ok (.iload_n 2, 1) := dk_28 (dk_at dksX0_feed_1 0 rfl rfl)
theorem dX0_feed_25 : decode cX0_feed 25 = .ok (.invokevirtual 169, 3) := dk_182 0 169 (dk_at dksX0_feed_1 1 rfl rfl)
theorem dX0_feed_28 : decode cX0_feed 28 = .ok (.aload_n 0, 1) := dk_42 (dk_at dksX0_feed_1 4 rfl rfl)
theorem dX0_feed_29 : decode cX0_feed 29 = .ok (.iload_n 3, 1) := dk_29 (dk_at dksX0_feed_1 5 rfl rfl)
theorem dX0_feed_30 : decode cX0_feed 30 = .ok (.invokevirtual 169, 3) := dk_182 0 169 (dk_at dksX0_feed_1 6 rfl rfl)
theorem dX0_feed_33 : decode cX0_feed 33 = .ok (.aload_n 0, 1) := dk_42 (dk_at dksX0_feed_1 9 rfl rfl)
theorem dX0_feed_34 : decode cX0_feed 34 = .ok (.iload 4, 2) := dk_21 4 (dk_at dksX0_feed_1 10 rfl rfl)
theorem dX0_feed_36 : decode cX0_feed 36 = .ok (.invokevirtual 169, 3) := dk_182 0 169 (dk_at dksX0_feed_1 12 rfl rfl)
theorem dX0_feed_39 : decode cX0_feed 39 = .ok (.aload_n 0, 1) := dk_42 (dk_at dksX0_feed_1 15 rfl rfl)
theorem dX0_feed_40 : decode cX0_feed 40 = .ok (.iload 5, 2) := dk_21 5 (dk_at dksX0_feed_1 16 rfl rfl)
theorem dX0_feed_42 : decode cX0_feed 42 = .ok (.invokevirtual 169, 3) := dk_182 0 169 (dk_at dksX0_feed_1 18 rfl rfl)
theorem dX0_feed_45 : decode cX0_feed 45 = .ok (.aload_n 0, 1) := dk_42 (dk_at dksX0_feed_1 21 rfl rfl)
theorem dX0_feed_46 : decode cX0_feed 46 = .ok (.getfield 95, 3) := dk_180 0 95 (dk_at dksX0_feed_2 0 rfl rfl)
theorem dX0_feed_49 : decode cX0_feed 49 = .ok (.getfield 166, 3) := dk_180 0 166 (dk_at dksX0_feed_2 3 rfl rfl)
theorem dX0_feed_52 : decode cX0_feed 52 = .ok (.ireturn, 1) := dk_172 (dk_at dksX0_feed_2 6 rfl rfl)
abbrev cX0_four : ByteArray := prog_1_method_7_code
def yX0_four : MethodName := ⟨RX0, "four", "(I)V"⟩
def dkwX0_four_1 : List UInt8 := [145, 84, 42, 180, 0, 95, 89, 180, 0, 166, 4, 96, 181, 0, 166, 132, 2, 248, 167, 255, 217, 177]
abbrev dktX0_four_1 : List UInt8 := dkwX0_four_1 ++ []
def dkwX0_four_0 : List UInt8 := [16, 24, 61, 28, 155, 0, 41, 42, 180, 0, 95, 180, 0, 172, 42, 180, 0, 95, 180, 0, 166, 27, 28, 122]
abbrev dktX0_four_0 : List UInt8 := dkwX0_four_0 ++ dktX0_four_1
theorem dksX0_four_0 : cX0_four.data.toList.drop 0 = dktX0_four_0 := by decide +kernel
theorem dksX0_four_1 : cX0_four.data.toList.drop 24 = dktX0_four_1 := dk_seg dksX0_four_0 24 rfl rfl
theorem dX0_four_0 : decode cX0_four 0 = .ok (.bipush 24, 2) := dk_16 24 (dk_at dksX0_four_0 0 rfl rfl)
theorem dX0_four_2 : decode cX0_four 2 = .ok (.istore_n 2, 1) := dk_61 (dk_at dksX0_four_0 2 rfl rfl)
theorem dX0_four_3 : decode cX0_four 3 = .ok (.iload_n 2, 1) := dk_28 (dk_at dksX0_four_0 3 rfl rfl)
theorem dX0_four_4 : decode cX0_four 4 = .ok (.ifCond .lt 41, 3) := dk_155 0 41 (dk_at dksX0_four_0 4 rfl rfl)
theorem dX0_four_7 : decode cX0_four 7 = .ok (.aload_n 0, 1) := dk_42 (dk_at dksX0_four_0 7 rfl rfl)
theorem dX0_four_8 : decode cX0_four 8 = .ok (.getfield 95, 3) := dk_180 0 95 (dk_at dksX0_four_0 8 rfl rfl)
theorem dX0_four_11 : decode cX0_four 11 = .ok (.getfield 172, 3) := dk_180 0 172 (dk_at dksX0_four_0 11 rfl rfl)
theorem dX0_four_14 : decode cX0_four 14 = .ok (.aload_n 0, 1) := dk_42 (dk_at dksX0_four_0 14 rfl rfl)
theorem dX0_four_15 : decode cX0_four 15 = .ok (.getfield 95, 3) := dk_180 0 95 (dk_at dksX0_four_0 15 rfl rfl)
theorem dX0_four_18 : decode cX0_four 18 = .ok (.getfield 166, 3) := dk_180 0 166 (dk_at dksX0_four_0 18 rfl rfl)
theorem dX0_four_21 : decode cX0_four 21 = .ok (.iload_n 1, 1) := dk_27 (dk_at dksX0_four_0 21 rfl rfl)
theorem dX0_four_22 : decode cX0_four 22 = .ok (.iload_n 2, 1) := dk_28 (dk_at dksX0_four_0 22 rfl rfl)
theorem dX0_four_23 : decode cX0_four 23 = .ok (.ishr, 1) := dk_122 (dk_at dksX0_four_0 23 rfl rfl)
theorem dX0_four_24 : decode cX0_four 24 = .ok (.i2b, 1) := dk_145 (dk_at dksX0_four_1 0 rfl rfl)
theorem dX0_four_25 : decode cX0_four 25 = .ok (.bastore, 1) := dk_84 (dk_at dksX0_four_1 1 rfl rfl)
theorem dX0_four_26 : decode cX0_four 26 = .ok (.aload_n 0, 1) := dk_42 (dk_at dksX0_four_1 2 rfl rfl)
theorem dX0_four_27 : decode cX0_four 27 = .ok (.getfield 95, 3) := dk_180 0 95 (dk_at dksX0_four_1 3 rfl rfl)
theorem dX0_four_30 : decode cX0_four 30 = .ok (.dup, 1) := dk_89 (dk_at dksX0_four_1 6 rfl rfl)
theorem dX0_four_31 : decode cX0_four 31 = .ok (.getfield 166, 3) := dk_180 0 166 (dk_at dksX0_four_1 7 rfl rfl)
theorem dX0_four_34 : decode cX0_four 34 = .ok (.iconst 1, 1) := dk_4 (dk_at dksX0_four_1 10 rfl rfl)
theorem dX0_four_35 : decode cX0_four 35 = .ok (.iadd, 1) := dk_96 (dk_at dksX0_four_1 11 rfl rfl)
theorem dX0_four_36 : decode cX0_four 36 = .ok (.putfield 166, 3) := dk_181 0 166 (dk_at dksX0_four_1 12 rfl rfl)
theorem dX0_four_39 : decode cX0_four 39 = .ok (.iinc 2 (-8), 3) := dk_132 2 248 (dk_at dksX0_four_1 15 rfl rfl)
theorem dX0_four_42 : decode cX0_four 42 = .ok (.goto (-39), 3) := dk_167 255 217 (dk_at dksX0_four_1 18 rfl rfl)
theorem dX0_four_45 : decode cX0_four 45 = .ok (.return_, 1) := dk_177 (dk_at dksX0_four_1 21 rfl rfl)
abbrev cX0_end : ByteArray := prog_1_method_8_code
def yX0_end : MethodName := ⟨RX0, "end", "(I)I"⟩
def dkwX0_end_1 : List UInt8 := [181, 0, 166, 27, 172]
abbrev dktX0_end_1 : List UInt8 := dkwX0_end_1 ++ []
def dkwX0_end_0 : List UInt8 := [27, 3, 42, 180, 0, 95, 180, 0, 166, 184, 0, 176, 154, 0, 5, 2, 172, 42, 180, 0, 95, 27]
abbrev dktX0_end_0 : List UInt8 := dkwX0_end_0 ++ dktX0_end_1
theorem dksX0_end_0 : cX0_end.data.toList.drop 0 = dktX0_end_0 := by decide +kernel
theorem dksX0_end_1 : cX0_end.data.toList.drop 22 = dktX0_end_1 := dk_seg dksX0_end_0 22 rfl rfl
theorem dX0_end_0 : decode cX0_end 0 = .ok (.iload_n 1, 1) := dk_27 (dk_at dksX0_end_0 0 rfl rfl)
theorem dX0_end_1 : decode cX0_end 1 = .ok (.iconst 0, 1) := dk_3 (dk_at dksX0_end_0 1 rfl rfl)
theorem dX0_end_2 : decode cX0_end 2 = .ok (.aload_n 0, 1) := dk_42 (dk_at dksX0_end_0 2 rfl rfl)
theorem dX0_end_3 : decode cX0_end 3 = .ok (.getfield 95, 3) := dk_180 0 95 (dk_at dksX0_end_0 3 rfl rfl)
theorem dX0_end_6 : decode cX0_end 6 = .ok (.getfield 166, 3) := dk_180 0 166 (dk_at dksX0_end_0 6 rfl rfl)
theorem dX0_end_9 : decode cX0_end 9 = .ok (.invokestatic 176, 3) := dk_184 0 176 (dk_at dksX0_end_0 9 rfl rfl)
theorem dX0_end_12 : decode cX0_end 12 = .ok (.ifCond .ne 5, 3) := dk_154 0 5 (dk_at dksX0_end_0 12 rfl rfl)
theorem dX0_end_15 : decode cX0_end 15 = .ok (.iconst (-1), 1) := dk_2 (dk_at dksX0_end_0 15 rfl rfl)
theorem dX0_end_16 : decode cX0_end 16 = .ok (.ireturn, 1) := dk_172 (dk_at dksX0_end_0 16 rfl rfl)
theorem dX0_end_17 : decode cX0_end 17 = .ok (.aload_n 0, 1) := dk_42 (dk_at dksX0_end_0 17 rfl rfl)
theorem dX0_end_18 : decode cX0_end 18 = .ok (.getfield 95, 3) := dk_180 0 95 (dk_at dksX0_end_0 18 rfl rfl)
theorem dX0_end_21 : decode cX0_end 21 = .ok (.iload_n 1, 1) := dk_27 (dk_at dksX0_end_0 21 rfl rfl)
theorem dX0_end_22 : decode cX0_end 22 = .ok (.putfield 166, 3) := dk_181 0 166 (dk_at dksX0_end_1 0 rfl rfl)
theorem dX0_end_25 : decode cX0_end 25 = .ok (.iload_n 1, 1) := dk_27 (dk_at dksX0_end_1 3 rfl rfl)
theorem dX0_end_26 : decode cX0_end 26 = .ok (.ireturn, 1) := dk_172 (dk_at dksX0_end_1 4 rfl rfl)
abbrev cX0_in : ByteArray := prog_1_method_1_code
def yX0_in : MethodName := ⟨RX0, "in", "(III)Z"⟩
def dkwX0_in_0 : List UInt8 := [26, 27, 161, 0, 12, 26, 28, 163, 0, 7, 4, 167, 0, 4, 3, 172]
abbrev dktX0_in_0 : List UInt8 := dkwX0_in_0 ++ []
theorem dksX0_in_0 : cX0_in.data.toList.drop 0 = dktX0_in_0 := by decide +kernel
theorem dX0_in_0 : decode cX0_in 0 = .ok (.iload_n 0, 1) := dk_26 (dk_at dksX0_in_0 0 rfl rfl)
theorem dX0_in_1 : decode cX0_in 1 = .ok (.iload_n 1, 1) := dk_27 (dk_at dksX0_in_0 1 rfl rfl)
theorem dX0_in_2 : decode cX0_in 2 = .ok (.if_icmp .lt 12, 3) := dk_161 0 12 (dk_at dksX0_in_0 2 rfl rfl)
theorem dX0_in_5 : decode cX0_in 5 = .ok (.iload_n 0, 1) := dk_26 (dk_at dksX0_in_0 5 rfl rfl)
theorem dX0_in_6 : decode cX0_in 6 = .ok (.iload_n 2, 1) := dk_28 (dk_at dksX0_in_0 6 rfl rfl)
theorem dX0_in_7 : decode cX0_in 7 = .ok (.if_icmp .gt 7, 3) := dk_163 0 7 (dk_at dksX0_in_0 7 rfl rfl)
theorem dX0_in_10 : decode cX0_in 10 = .ok (.iconst 1, 1) := dk_4 (dk_at dksX0_in_0 10 rfl rfl)
theorem dX0_in_11 : decode cX0_in 11 = .ok (.goto 4, 3) := dk_167 0 4 (dk_at dksX0_in_0 11 rfl rfl)
theorem dX0_in_14 : decode cX0_in 14 = .ok (.iconst 0, 1) := dk_3 (dk_at dksX0_in_0 14 rfl rfl)
theorem dX0_in_15 : decode cX0_in 15 = .ok (.ireturn, 1) := dk_172 (dk_at dksX0_in_0 15 rfl rfl)
abbrev cX0_text : ByteArray := prog_1_method_12_code
def yX0_text : MethodName := ⟨RX0, "text", "(II)I"⟩
def dkwX0_text_4 : List UInt8 := [28, 182, 0, 208, 182, 0, 230, 172]
abbrev dktX0_text_4 : List UInt8 := dkwX0_text_4 ++ []
def dkwX0_text_3 : List UInt8 := [158, 0, 20, 42, 25, 4, 180, 0, 224, 25, 4, 180, 0, 227, 182, 0, 204, 167, 0, 14, 25, 4, 42, 27]
abbrev dktX0_text_3 : List UInt8 := dkwX0_text_3 ++ dktX0_text_4
def dkwX0_text_2 : List UInt8 := [182, 0, 215, 167, 0, 16, 58, 5, 42, 4, 25, 5, 180, 0, 222, 182, 0, 204, 172, 25, 4, 180, 0, 224]
abbrev dktX0_text_2 : List UInt8 := dkwX0_text_2 ++ dktX0_text_3
def dkwX0_text_1 : List UInt8 := [27, 28, 182, 0, 208, 2, 160, 0, 6, 16, 254, 172, 42, 27, 29, 182, 0, 211, 58, 4, 25, 4]
abbrev dktX0_text_1 : List UInt8 := dkwX0_text_1 ++ dktX0_text_2
def dkwX0_text_0 : List UInt8 := [42, 180, 0, 95, 180, 0, 166, 62, 42, 180, 0, 95, 3, 181, 0, 166, 42, 3, 2, 182, 0, 204, 87, 42]
abbrev dktX0_text_0 : List UInt8 := dkwX0_text_0 ++ dktX0_text_1
theorem dksX0_text_0 : cX0_text.data.toList.drop 0 = dktX0_text_0 := by decide +kernel
theorem dksX0_text_1 : cX0_text.data.toList.drop 24 = dktX0_text_1 := dk_seg dksX0_text_0 24 rfl rfl
theorem dksX0_text_2 : cX0_text.data.toList.drop 46 = dktX0_text_2 := dk_seg dksX0_text_1 22 rfl rfl
theorem dksX0_text_3 : cX0_text.data.toList.drop 70 = dktX0_text_3 := dk_seg dksX0_text_2 24 rfl rfl
theorem dksX0_text_4 : cX0_text.data.toList.drop 94 = dktX0_text_4 := dk_seg dksX0_text_3 24 rfl rfl
theorem dX0_text_0 : decode cX0_text 0 = .ok (.aload_n 0, 1) := dk_42 (dk_at dksX0_text_0 0 rfl rfl)
theorem dX0_text_1 : decode cX0_text 1 = .ok (.getfield 95, 3) := dk_180 0 95 (dk_at dksX0_text_0 1 rfl rfl)
theorem dX0_text_4 : decode cX0_text 4 = .ok (.getfield 166, 3) := dk_180 0 166 (dk_at dksX0_text_0 4 rfl rfl)
theorem dX0_text_7 : decode cX0_text 7 = .ok (.istore_n 3, 1) := dk_62 (dk_at dksX0_text_0 7 rfl rfl)
theorem dX0_text_8 : decode cX0_text 8 = .ok (.aload_n 0, 1) := dk_42 (dk_at dksX0_text_0 8 rfl rfl)
theorem dX0_text_9 : decode cX0_text 9 = .ok (.getfield 95, 3) := dk_180 0 95 (dk_at dksX0_text_0 9 rfl rfl)
theorem dX0_text_12 : decode cX0_text 12 = .ok (.iconst 0, 1) := dk_3 (dk_at dksX0_text_0 12 rfl rfl)
theorem dX0_text_13 : decode cX0_text 13 = .ok (.putfield 166, 3) := dk_181 0 166 (dk_at dksX0_text_0 13 rfl rfl)
theorem dX0_text_16 : decode cX0_text 16 = .ok (.aload_n 0, 1) := dk_42 (dk_at dksX0_text_0 16 rfl rfl)
theorem dX0_text_17 : decode cX0_text 17 = .ok (.iconst 0, 1) := dk_3 (dk_at dksX0_text_0 17 rfl rfl)
theorem dX0_text_18 : decode cX0_text 18 = .ok (.iconst (-1), 1) := dk_2 (dk_at dksX0_text_0 18 rfl rfl)
theorem dX0_text_19 : decode cX0_text 19 = .ok (.invokevirtual 204, 3) := dk_182 0 204 (dk_at dksX0_text_0 19 rfl rfl)
theorem dX0_text_22 : decode cX0_text 22 = .ok (.pop, 1) := dk_87 (dk_at dksX0_text_0 22 rfl rfl)
theorem dX0_text_23 : decode cX0_text 23 = .ok (.aload_n 0, 1) := dk_42 (dk_at dksX0_text_0 23 rfl rfl)
theorem dX0_text_24 : decode cX0_text 24 = .ok (.iload_n 1, 1) := dk_27 (dk_at dksX0_text_1 0 rfl rfl)
theorem dX0_text_25 : decode cX0_text 25 = .ok (.iload_n 2, 1) := dk_28 (dk_at dksX0_text_1 1 rfl rfl)
theorem dX0_text_26 : decode cX0_text 26 = .ok (.invokevirtual 208, 3) := dk_182 0 208 (dk_at dksX0_text_1 2 rfl rfl)
theorem dX0_text_29 : decode cX0_text 29 = .ok (.iconst (-1), 1) := dk_2 (dk_at dksX0_text_1 5 rfl rfl)
theorem dX0_text_30 : decode cX0_text 30 = .ok (.if_icmp .ne 6, 3) := dk_160 0 6 (dk_at dksX0_text_1 6 rfl rfl)
theorem dX0_text_33 : decode cX0_text 33 = .ok (.bipush (-2), 2) := dk_16 254 (dk_at dksX0_text_1 9 rfl rfl)
theorem dX0_text_35 : decode cX0_text 35 = .ok (.ireturn, 1) := dk_172 (dk_at dksX0_text_1 11 rfl rfl)
theorem dX0_text_36 : decode cX0_text 36 = .ok (.aload_n 0, 1) := dk_42 (dk_at dksX0_text_1 12 rfl rfl)
theorem dX0_text_37 : decode cX0_text 37 = .ok (.iload_n 1, 1) := dk_27 (dk_at dksX0_text_1 13 rfl rfl)
theorem dX0_text_38 : decode cX0_text 38 = .ok (.iload_n 3, 1) := dk_29 (dk_at dksX0_text_1 14 rfl rfl)
theorem dX0_text_39 : decode cX0_text 39 = .ok (.invokevirtual 211, 3) := dk_182 0 211 (dk_at dksX0_text_1 15 rfl rfl)
theorem dX0_text_42 : decode cX0_text 42 = .ok (.astore 4, 2) := dk_58 4 (dk_at dksX0_text_1 18 rfl rfl)
theorem dX0_text_44 : decode cX0_text 44 = .ok (.aload 4, 2) := dk_25 4 (dk_at dksX0_text_1 20 rfl rfl)
theorem dX0_text_46 : decode cX0_text 46 = .ok (.invokevirtual 215, 3) := dk_182 0 215 (dk_at dksX0_text_2 0 rfl rfl)
theorem dX0_text_49 : decode cX0_text 49 = .ok (.goto 16, 3) := dk_167 0 16 (dk_at dksX0_text_2 3 rfl rfl)
theorem dX0_text_52 : decode cX0_text 52 = .ok (.astore 5, 2) := dk_58 5 (dk_at dksX0_text_2 6 rfl rfl)
theorem dX0_text_54 : decode cX0_text 54 = .ok (.aload_n 0, 1) := dk_42 (dk_at dksX0_text_2 8 rfl rfl)
theorem dX0_text_55 : decode cX0_text 55 = .ok (.iconst 1, 1) := dk_4 (dk_at dksX0_text_2 9 rfl rfl)
theorem dX0_text_56 : decode cX0_text 56 = .ok (.aload 5, 2) := dk_25 5 (dk_at dksX0_text_2 10 rfl rfl)
theorem dX0_text_58 : decode cX0_text 58 = .ok (.getfield 222, 3) := dk_180 0 222 (dk_at dksX0_text_2 12 rfl rfl)
theorem dX0_text_61 : decode cX0_text 61 = .ok (.invokevirtual 204, 3) := dk_182 0 204 (dk_at dksX0_text_2 15 rfl rfl)
theorem dX0_text_64 : decode cX0_text 64 = .ok (.ireturn, 1) := dk_172 (dk_at dksX0_text_2 18 rfl rfl)
theorem dX0_text_65 : decode cX0_text 65 = .ok (.aload 4, 2) := dk_25 4 (dk_at dksX0_text_2 19 rfl rfl)
theorem dX0_text_67 : decode cX0_text 67 = .ok (.getfield 224, 3) := dk_180 0 224 (dk_at dksX0_text_2 21 rfl rfl)
theorem dX0_text_70 : decode cX0_text 70 = .ok (.ifCond .le 20, 3) := dk_158 0 20 (dk_at dksX0_text_3 0 rfl rfl)
theorem dX0_text_73 : decode cX0_text 73 = .ok (.aload_n 0, 1) := dk_42 (dk_at dksX0_text_3 3 rfl rfl)
theorem dX0_text_74 : decode cX0_text 74 = .ok (.aload 4, 2) := dk_25 4 (dk_at dksX0_text_3 4 rfl rfl)
theorem dX0_text_76 : decode cX0_text 76 = .ok (.getfield 224, 3) := dk_180 0 224 (dk_at dksX0_text_3 6 rfl rfl)
theorem dX0_text_79 : decode cX0_text 79 = .ok (.aload 4, 2) := dk_25 4 (dk_at dksX0_text_3 9 rfl rfl)
theorem dX0_text_81 : decode cX0_text 81 = .ok (.getfield 227, 3) := dk_180 0 227 (dk_at dksX0_text_3 11 rfl rfl)
theorem dX0_text_84 : decode cX0_text 84 = .ok (.invokevirtual 204, 3) := dk_182 0 204 (dk_at dksX0_text_3 14 rfl rfl)
theorem dX0_text_87 : decode cX0_text 87 = .ok (.goto 14, 3) := dk_167 0 14 (dk_at dksX0_text_3 17 rfl rfl)
theorem dX0_text_90 : decode cX0_text 90 = .ok (.aload 4, 2) := dk_25 4 (dk_at dksX0_text_3 20 rfl rfl)
theorem dX0_text_92 : decode cX0_text 92 = .ok (.aload_n 0, 1) := dk_42 (dk_at dksX0_text_3 22 rfl rfl)
theorem dX0_text_93 : decode cX0_text 93 = .ok (.iload_n 1, 1) := dk_27 (dk_at dksX0_text_3 23 rfl rfl)
theorem dX0_text_94 : decode cX0_text 94 = .ok (.iload_n 2, 1) := dk_28 (dk_at dksX0_text_4 0 rfl rfl)
theorem dX0_text_95 : decode cX0_text 95 = .ok (.invokevirtual 208, 3) := dk_182 0 208 (dk_at dksX0_text_4 1 rfl rfl)
theorem dX0_text_98 : decode cX0_text 98 = .ok (.invokevirtual 230, 3) := dk_182 0 230 (dk_at dksX0_text_4 4 rfl rfl)
theorem dX0_text_101 : decode cX0_text 101 = .ok (.ireturn, 1) := dk_172 (dk_at dksX0_text_4 7 rfl rfl)
abbrev cX0_fails : ByteArray := prog_1_method_9_code
def yX0_fails : MethodName := ⟨RX0, "fails", "(II)I"⟩
def dkwX0_fails_0 : List UInt8 := [42, 180, 0, 95, 27, 181, 0, 180, 42, 180, 0, 95, 28, 181, 0, 183, 2, 172]
abbrev dktX0_fails_0 : List UInt8 := dkwX0_fails_0 ++ []
theorem dksX0_fails_0 : cX0_fails.data.toList.drop 0 = dktX0_fails_0 := by decide +kernel
theorem dX0_fails_0 : decode cX0_fails 0 = .ok (.aload_n 0, 1) := dk_42 (dk_at dksX0_fails_0 0 rfl rfl)
theorem dX0_fails_1 : decode cX0_fails 1 = .ok (.getfield 95, 3) := dk_180 0 95 (dk_at dksX0_fails_0 1 rfl rfl)
theorem dX0_fails_4 : decode cX0_fails 4 = .ok (.iload_n 1, 1) := dk_27 (dk_at dksX0_fails_0 4 rfl rfl)
theorem dX0_fails_5 : decode cX0_fails 5 = .ok (.putfield 180, 3) := dk_181 0 180 (dk_at dksX0_fails_0 5 rfl rfl)
theorem dX0_fails_8 : decode cX0_fails 8 = .ok (.aload_n 0, 1) := dk_42 (dk_at dksX0_fails_0 8 rfl rfl)
theorem dX0_fails_9 : decode cX0_fails 9 = .ok (.getfield 95, 3) := dk_180 0 95 (dk_at dksX0_fails_0 9 rfl rfl)
theorem dX0_fails_12 : decode cX0_fails 12 = .ok (.iload_n 2, 1) := dk_28 (dk_at dksX0_fails_0 12 rfl rfl)
theorem dX0_fails_13 : decode cX0_fails 13 = .ok (.putfield 183, 3) := dk_181 0 183 (dk_at dksX0_fails_0 13 rfl rfl)
theorem dX0_fails_16 : decode cX0_fails 16 = .ok (.iconst (-1), 1) := dk_2 (dk_at dksX0_fails_0 16 rfl rfl)
theorem dX0_fails_17 : decode cX0_fails 17 = .ok (.ireturn, 1) := dk_172 (dk_at dksX0_fails_0 17 rfl rfl)
abbrev cX0_placeOf : ByteArray := prog_1_method_10_code
def yX0_placeOf : MethodName := ⟨RX0, "placeOf", "(II)I"⟩
def dkwX0_placeOf_2 : List UInt8 := [167, 0, 4, 2, 172]
abbrev dktX0_placeOf_2 : List UInt8 := dkwX0_placeOf_2 ++ []
def dkwX0_placeOf_1 : List UInt8 := [162, 0, 7, 29, 167, 0, 23, 2, 167, 0, 19, 28, 3, 29, 4, 100, 184, 0, 176, 153, 0, 7, 28]
abbrev dktX0_placeOf_1 : List UInt8 := dkwX0_placeOf_1 ++ dktX0_placeOf_2
def dkwX0_placeOf_0 : List UInt8 := [27, 3, 6, 184, 0, 176, 154, 0, 5, 2, 172, 42, 27, 182, 0, 186, 62, 28, 2, 160, 0, 16, 29, 5]
abbrev dktX0_placeOf_0 : List UInt8 := dkwX0_placeOf_0 ++ dktX0_placeOf_1
theorem dksX0_placeOf_0 : cX0_placeOf.data.toList.drop 0 = dktX0_placeOf_0 := by decide +kernel
theorem dksX0_placeOf_1 : cX0_placeOf.data.toList.drop 24 = dktX0_placeOf_1 := dk_seg dksX0_placeOf_0 24 rfl rfl
theorem dksX0_placeOf_2 : cX0_placeOf.data.toList.drop 47 = dktX0_placeOf_2 := dk_seg dksX0_placeOf_1 23 rfl rfl
theorem dX0_placeOf_0 : decode cX0_placeOf 0 = .ok (.iload_n 1, 1) := dk_27 (dk_at dksX0_placeOf_0 0 rfl rfl)
theorem dX0_placeOf_1 : decode cX0_placeOf 1 = .ok (.iconst 0, 1) := dk_3 (dk_at dksX0_placeOf_0 1 rfl rfl)
theorem dX0_placeOf_2 : decode cX0_placeOf 2 = .ok (.iconst 3, 1) := dk_6 (dk_at dksX0_placeOf_0 2 rfl rfl)
theorem dX0_placeOf_3 : decode cX0_placeOf 3 = .ok (.invokestatic 176, 3) := dk_184 0 176 (dk_at dksX0_placeOf_0 3 rfl rfl)
theorem dX0_placeOf_6 : decode cX0_placeOf 6 = .ok (.ifCond .ne 5, 3) := dk_154 0 5 (dk_at dksX0_placeOf_0 6 rfl rfl)
theorem dX0_placeOf_9 : decode cX0_placeOf 9 = .ok (.iconst (-1), 1) := dk_2 (dk_at dksX0_placeOf_0 9 rfl rfl)
theorem dX0_placeOf_10 : decode cX0_placeOf 10 = .ok (.ireturn, 1) := dk_172 (dk_at dksX0_placeOf_0 10 rfl rfl)
theorem dX0_placeOf_11 : decode cX0_placeOf 11 = .ok (.aload_n 0, 1) := dk_42 (dk_at dksX0_placeOf_0 11 rfl rfl)
theorem dX0_placeOf_12 : decode cX0_placeOf 12 = .ok (.iload_n 1, 1) := dk_27 (dk_at dksX0_placeOf_0 12 rfl rfl)
theorem dX0_placeOf_13 : decode cX0_placeOf 13 = .ok (.invokevirtual 186, 3) := dk_182 0 186 (dk_at dksX0_placeOf_0 13 rfl rfl)
theorem dX0_placeOf_16 : decode cX0_placeOf 16 = .ok (.istore_n 3, 1) := dk_62 (dk_at dksX0_placeOf_0 16 rfl rfl)
theorem dX0_placeOf_17 : decode cX0_placeOf 17 = .ok (.iload_n 2, 1) := dk_28 (dk_at dksX0_placeOf_0 17 rfl rfl)
theorem dX0_placeOf_18 : decode cX0_placeOf 18 = .ok (.iconst (-1), 1) := dk_2 (dk_at dksX0_placeOf_0 18 rfl rfl)
theorem dX0_placeOf_19 : decode cX0_placeOf 19 = .ok (.if_icmp .ne 16, 3) := dk_160 0 16 (dk_at dksX0_placeOf_0 19 rfl rfl)
theorem dX0_placeOf_22 : decode cX0_placeOf 22 = .ok (.iload_n 3, 1) := dk_29 (dk_at dksX0_placeOf_0 22 rfl rfl)
theorem dX0_placeOf_23 : decode cX0_placeOf 23 = .ok (.iconst 2, 1) := dk_5 (dk_at dksX0_placeOf_0 23 rfl rfl)
theorem dX0_placeOf_24 : decode cX0_placeOf 24 = .ok (.if_icmp .ge 7, 3) := dk_162 0 7 (dk_at dksX0_placeOf_1 0 rfl rfl)
theorem dX0_placeOf_27 : decode cX0_placeOf 27 = .ok (.iload_n 3, 1) := dk_29 (dk_at dksX0_placeOf_1 3 rfl rfl)
theorem dX0_placeOf_28 : decode cX0_placeOf 28 = .ok (.goto 23, 3) := dk_167 0 23 (dk_at dksX0_placeOf_1 4 rfl rfl)
theorem dX0_placeOf_31 : decode cX0_placeOf 31 = .ok (.iconst (-1), 1) := dk_2 (dk_at dksX0_placeOf_1 7 rfl rfl)
theorem dX0_placeOf_32 : decode cX0_placeOf 32 = .ok (.goto 19, 3) := dk_167 0 19 (dk_at dksX0_placeOf_1 8 rfl rfl)
theorem dX0_placeOf_35 : decode cX0_placeOf 35 = .ok (.iload_n 2, 1) := dk_28 (dk_at dksX0_placeOf_1 11 rfl rfl)
theorem dX0_placeOf_36 : decode cX0_placeOf 36 = .ok (.iconst 0, 1) := dk_3 (dk_at dksX0_placeOf_1 12 rfl rfl)
theorem dX0_placeOf_37 : decode cX0_placeOf 37 = .ok (.iload_n 3, 1) := dk_29 (dk_at dksX0_placeOf_1 13 rfl rfl)
theorem dX0_placeOf_38 : decode cX0_placeOf 38 = .ok (.iconst 1, 1) := dk_4 (dk_at dksX0_placeOf_1 14 rfl rfl)
theorem dX0_placeOf_39 : decode cX0_placeOf 39 = .ok (.isub, 1) := dk_100 (dk_at dksX0_placeOf_1 15 rfl rfl)
theorem dX0_placeOf_40 : decode cX0_placeOf 40 = .ok (.invokestatic 176, 3) := dk_184 0 176 (dk_at dksX0_placeOf_1 16 rfl rfl)
theorem dX0_placeOf_43 : decode cX0_placeOf 43 = .ok (.ifCond .eq 7, 3) := dk_153 0 7 (dk_at dksX0_placeOf_1 19 rfl rfl)
theorem dX0_placeOf_46 : decode cX0_placeOf 46 = .ok (.iload_n 2, 1) := dk_28 (dk_at dksX0_placeOf_1 22 rfl rfl)
theorem dX0_placeOf_47 : decode cX0_placeOf 47 = .ok (.goto 4, 3) := dk_167 0 4 (dk_at dksX0_placeOf_2 0 rfl rfl)
theorem dX0_placeOf_50 : decode cX0_placeOf 50 = .ok (.iconst (-1), 1) := dk_2 (dk_at dksX0_placeOf_2 3 rfl rfl)
theorem dX0_placeOf_51 : decode cX0_placeOf 51 = .ok (.ireturn, 1) := dk_172 (dk_at dksX0_placeOf_2 4 rfl rfl)
abbrev cX0_count : ByteArray := prog_1_method_72_code
def yX0_count : MethodName := ⟨RX0, "count", "(I)I"⟩
def dkwX0_count_3 : List UInt8 := [180, 0, 95, 180, 1, 138, 182, 0, 3, 172, 42, 180, 0, 95, 180, 1, 186, 182, 0, 3, 172, 16, 254, 172]
abbrev dktX0_count_3 : List UInt8 := dkwX0_count_3 ++ []
def dkwX0_count_2 : List UInt8 := [42, 180, 0, 95, 180, 0, 233, 182, 0, 3, 172, 42, 180, 0, 95, 180, 0, 247, 182, 0, 3, 172, 42]
abbrev dktX0_count_2 : List UInt8 := dkwX0_count_2 ++ dktX0_count_3
def dkwX0_count_1 : List UInt8 := [170, 0, 0, 0, 0, 0, 75, 0, 0, 0, 0, 0, 0, 0, 3, 0, 0, 0, 31, 0, 0, 0, 42, 0, 0, 0, 53, 0, 0, 0, 64]
abbrev dktX0_count_1 : List UInt8 := dkwX0_count_1 ++ dktX0_count_2
def dkwX0_count_0 : List UInt8 := [27]
abbrev dktX0_count_0 : List UInt8 := dkwX0_count_0 ++ dktX0_count_1
theorem dksX0_count_0 : cX0_count.data.toList.drop 0 = dktX0_count_0 := by decide +kernel
theorem dksX0_count_1 : cX0_count.data.toList.drop 1 = dktX0_count_1 := dk_seg dksX0_count_0 1 rfl rfl
theorem dksX0_count_2 : cX0_count.data.toList.drop 32 = dktX0_count_2 := dk_seg dksX0_count_1 31 rfl rfl
theorem dksX0_count_3 : cX0_count.data.toList.drop 55 = dktX0_count_3 := dk_seg dksX0_count_2 23 rfl rfl
theorem dX0_count_0 : decode cX0_count 0 = .ok (.iload_n 1, 1) := dk_27 (dk_at dksX0_count_0 0 rfl rfl)
theorem dX0_count_1 : decode cX0_count 1 = .ok (.tableswitch 75 0 3 #[31, 42, 53, 64], 31) := by decide +kernel
theorem dX0_count_32 : decode cX0_count 32 = .ok (.aload_n 0, 1) := dk_42 (dk_at dksX0_count_2 0 rfl rfl)
theorem dX0_count_33 : decode cX0_count 33 = .ok (.getfield 95, 3) := dk_180 0 95 (dk_at dksX0_count_2 1 rfl rfl)
theorem dX0_count_36 : decode cX0_count 36 = .ok (.getfield 233, 3) := dk_180 0 233 (dk_at dksX0_count_2 4 rfl rfl)
theorem dX0_count_39 : decode cX0_count 39 = .ok (.invokevirtual 3, 3) := dk_182 0 3 (dk_at dksX0_count_2 7 rfl rfl)
theorem dX0_count_42 : decode cX0_count 42 = .ok (.ireturn, 1) := dk_172 (dk_at dksX0_count_2 10 rfl rfl)
theorem dX0_count_43 : decode cX0_count 43 = .ok (.aload_n 0, 1) := dk_42 (dk_at dksX0_count_2 11 rfl rfl)
theorem dX0_count_44 : decode cX0_count 44 = .ok (.getfield 95, 3) := dk_180 0 95 (dk_at dksX0_count_2 12 rfl rfl)
theorem dX0_count_47 : decode cX0_count 47 = .ok (.getfield 247, 3) := dk_180 0 247 (dk_at dksX0_count_2 15 rfl rfl)
theorem dX0_count_50 : decode cX0_count 50 = .ok (.invokevirtual 3, 3) := dk_182 0 3 (dk_at dksX0_count_2 18 rfl rfl)
theorem dX0_count_53 : decode cX0_count 53 = .ok (.ireturn, 1) := dk_172 (dk_at dksX0_count_2 21 rfl rfl)
theorem dX0_count_54 : decode cX0_count 54 = .ok (.aload_n 0, 1) := dk_42 (dk_at dksX0_count_2 22 rfl rfl)
theorem dX0_count_55 : decode cX0_count 55 = .ok (.getfield 95, 3) := dk_180 0 95 (dk_at dksX0_count_3 0 rfl rfl)
theorem dX0_count_58 : decode cX0_count 58 = .ok (.getfield 394, 3) := dk_180 1 138 (dk_at dksX0_count_3 3 rfl rfl)
theorem dX0_count_61 : decode cX0_count 61 = .ok (.invokevirtual 3, 3) := dk_182 0 3 (dk_at dksX0_count_3 6 rfl rfl)
theorem dX0_count_64 : decode cX0_count 64 = .ok (.ireturn, 1) := dk_172 (dk_at dksX0_count_3 9 rfl rfl)
theorem dX0_count_65 : decode cX0_count 65 = .ok (.aload_n 0, 1) := dk_42 (dk_at dksX0_count_3 10 rfl rfl)
theorem dX0_count_66 : decode cX0_count 66 = .ok (.getfield 95, 3) := dk_180 0 95 (dk_at dksX0_count_3 11 rfl rfl)
theorem dX0_count_69 : decode cX0_count 69 = .ok (.getfield 442, 3) := dk_180 1 186 (dk_at dksX0_count_3 14 rfl rfl)
theorem dX0_count_72 : decode cX0_count 72 = .ok (.invokevirtual 3, 3) := dk_182 0 3 (dk_at dksX0_count_3 17 rfl rfl)
theorem dX0_count_75 : decode cX0_count 75 = .ok (.ireturn, 1) := dk_172 (dk_at dksX0_count_3 20 rfl rfl)
theorem dX0_count_76 : decode cX0_count 76 = .ok (.bipush (-2), 2) := dk_16 254 (dk_at dksX0_count_3 21 rfl rfl)
theorem dX0_count_78 : decode cX0_count 78 = .ok (.ireturn, 1) := dk_172 (dk_at dksX0_count_3 23 rfl rfl)
abbrev cX0_reader : ByteArray := prog_1_method_11_code
def yX0_reader : MethodName := ⟨RX0, "reader", "(II)LOneDrum$Reader;"⟩
def dkwX0_reader_3 : List UInt8 := [42, 28, 183, 0, 200, 176, 187, 0, 201, 89, 42, 28, 183, 0, 203, 176]
abbrev dktX0_reader_3 : List UInt8 := dkwX0_reader_3 ++ []
def dkwX0_reader_2 : List UInt8 := [187, 0, 190, 89, 42, 28, 183, 0, 192, 176, 187, 0, 195, 89, 42, 28, 183, 0, 197, 176, 187, 0, 198, 89]
abbrev dktX0_reader_2 : List UInt8 := dkwX0_reader_2 ++ dktX0_reader_3
def dkwX0_reader_1 : List UInt8 := [170, 0, 0, 0, 0, 0, 57, 0, 0, 0, 0, 0, 0, 0, 2, 0, 0, 0, 27, 0, 0, 0, 37, 0, 0, 0, 47]
abbrev dktX0_reader_1 : List UInt8 := dkwX0_reader_1 ++ dktX0_reader_2
def dkwX0_reader_0 : List UInt8 := [27]
abbrev dktX0_reader_0 : List UInt8 := dkwX0_reader_0 ++ dktX0_reader_1
theorem dksX0_reader_0 : cX0_reader.data.toList.drop 0 = dktX0_reader_0 := by decide +kernel
theorem dksX0_reader_1 : cX0_reader.data.toList.drop 1 = dktX0_reader_1 := dk_seg dksX0_reader_0 1 rfl rfl
theorem dksX0_reader_2 : cX0_reader.data.toList.drop 28 = dktX0_reader_2 := dk_seg dksX0_reader_1 27 rfl rfl
theorem dksX0_reader_3 : cX0_reader.data.toList.drop 52 = dktX0_reader_3 := dk_seg dksX0_reader_2 24 rfl rfl
theorem dX0_reader_0 : decode cX0_reader 0 = .ok (.iload_n 1, 1) := dk_27 (dk_at dksX0_reader_0 0 rfl rfl)
theorem dX0_reader_1 : decode cX0_reader 1 = .ok (.tableswitch 57 0 2 #[27, 37, 47], 27) := by decide +kernel
theorem dX0_reader_28 : decode cX0_reader 28 = .ok (.new 190, 3) := dk_187 0 190 (dk_at dksX0_reader_2 0 rfl rfl)
theorem dX0_reader_31 : decode cX0_reader 31 = .ok (.dup, 1) := dk_89 (dk_at dksX0_reader_2 3 rfl rfl)
theorem dX0_reader_32 : decode cX0_reader 32 = .ok (.aload_n 0, 1) := dk_42 (dk_at dksX0_reader_2 4 rfl rfl)
theorem dX0_reader_33 : decode cX0_reader 33 = .ok (.iload_n 2, 1) := dk_28 (dk_at dksX0_reader_2 5 rfl rfl)
theorem dX0_reader_34 : decode cX0_reader 34 = .ok (.invokespecial 192, 3) := dk_183 0 192 (dk_at dksX0_reader_2 6 rfl rfl)
theorem dX0_reader_37 : decode cX0_reader 37 = .ok (.areturn, 1) := dk_176 (dk_at dksX0_reader_2 9 rfl rfl)
theorem dX0_reader_38 : decode cX0_reader 38 = .ok (.new 195, 3) := dk_187 0 195 (dk_at dksX0_reader_2 10 rfl rfl)
theorem dX0_reader_41 : decode cX0_reader 41 = .ok (.dup, 1) := dk_89 (dk_at dksX0_reader_2 13 rfl rfl)
theorem dX0_reader_42 : decode cX0_reader 42 = .ok (.aload_n 0, 1) := dk_42 (dk_at dksX0_reader_2 14 rfl rfl)
theorem dX0_reader_43 : decode cX0_reader 43 = .ok (.iload_n 2, 1) := dk_28 (dk_at dksX0_reader_2 15 rfl rfl)
theorem dX0_reader_44 : decode cX0_reader 44 = .ok (.invokespecial 197, 3) := dk_183 0 197 (dk_at dksX0_reader_2 16 rfl rfl)
theorem dX0_reader_47 : decode cX0_reader 47 = .ok (.areturn, 1) := dk_176 (dk_at dksX0_reader_2 19 rfl rfl)
theorem dX0_reader_48 : decode cX0_reader 48 = .ok (.new 198, 3) := dk_187 0 198 (dk_at dksX0_reader_2 20 rfl rfl)
theorem dX0_reader_51 : decode cX0_reader 51 = .ok (.dup, 1) := dk_89 (dk_at dksX0_reader_2 23 rfl rfl)
theorem dX0_reader_52 : decode cX0_reader 52 = .ok (.aload_n 0, 1) := dk_42 (dk_at dksX0_reader_3 0 rfl rfl)
theorem dX0_reader_53 : decode cX0_reader 53 = .ok (.iload_n 2, 1) := dk_28 (dk_at dksX0_reader_3 1 rfl rfl)
theorem dX0_reader_54 : decode cX0_reader 54 = .ok (.invokespecial 200, 3) := dk_183 0 200 (dk_at dksX0_reader_3 2 rfl rfl)
theorem dX0_reader_57 : decode cX0_reader 57 = .ok (.areturn, 1) := dk_176 (dk_at dksX0_reader_3 5 rfl rfl)
theorem dX0_reader_58 : decode cX0_reader 58 = .ok (.new 201, 3) := dk_187 0 201 (dk_at dksX0_reader_3 6 rfl rfl)
theorem dX0_reader_61 : decode cX0_reader 61 = .ok (.dup, 1) := dk_89 (dk_at dksX0_reader_3 9 rfl rfl)
theorem dX0_reader_62 : decode cX0_reader 62 = .ok (.aload_n 0, 1) := dk_42 (dk_at dksX0_reader_3 10 rfl rfl)
theorem dX0_reader_63 : decode cX0_reader 63 = .ok (.iload_n 2, 1) := dk_28 (dk_at dksX0_reader_3 11 rfl rfl)
theorem dX0_reader_64 : decode cX0_reader 64 = .ok (.invokespecial 203, 3) := dk_183 0 203 (dk_at dksX0_reader_3 12 rfl rfl)
theorem dX0_reader_67 : decode cX0_reader 67 = .ok (.areturn, 1) := dk_176 (dk_at dksX0_reader_3 15 rfl rfl)
abbrev cX0_put : ByteArray := prog_1_method_4_code
def yX0_put : MethodName := ⟨RX0, "put", "(Ljava/util/ArrayList;ILjava/lang/Object;)I"⟩
def dkwX0_put_1 : List UInt8 := [27, 172]
abbrev dktX0_put_1 : List UInt8 := dkwX0_put_1 ++ []
def dkwX0_put_0 : List UInt8 := [27, 42, 182, 0, 3, 160, 0, 12, 42, 44, 182, 0, 9, 87, 167, 0, 10, 42, 27, 44, 182, 0, 13, 87]
abbrev dktX0_put_0 : List UInt8 := dkwX0_put_0 ++ dktX0_put_1
theorem dksX0_put_0 : cX0_put.data.toList.drop 0 = dktX0_put_0 := by decide +kernel
theorem dksX0_put_1 : cX0_put.data.toList.drop 24 = dktX0_put_1 := dk_seg dksX0_put_0 24 rfl rfl
theorem dX0_put_0 : decode cX0_put 0 = .ok (.iload_n 1, 1) := dk_27 (dk_at dksX0_put_0 0 rfl rfl)
theorem dX0_put_1 : decode cX0_put 1 = .ok (.aload_n 0, 1) := dk_42 (dk_at dksX0_put_0 1 rfl rfl)
theorem dX0_put_2 : decode cX0_put 2 = .ok (.invokevirtual 3, 3) := dk_182 0 3 (dk_at dksX0_put_0 2 rfl rfl)
theorem dX0_put_5 : decode cX0_put 5 = .ok (.if_icmp .ne 12, 3) := dk_160 0 12 (dk_at dksX0_put_0 5 rfl rfl)
theorem dX0_put_8 : decode cX0_put 8 = .ok (.aload_n 0, 1) := dk_42 (dk_at dksX0_put_0 8 rfl rfl)
theorem dX0_put_9 : decode cX0_put 9 = .ok (.aload_n 2, 1) := dk_44 (dk_at dksX0_put_0 9 rfl rfl)
theorem dX0_put_10 : decode cX0_put 10 = .ok (.invokevirtual 9, 3) := dk_182 0 9 (dk_at dksX0_put_0 10 rfl rfl)
theorem dX0_put_13 : decode cX0_put 13 = .ok (.pop, 1) := dk_87 (dk_at dksX0_put_0 13 rfl rfl)
theorem dX0_put_14 : decode cX0_put 14 = .ok (.goto 10, 3) := dk_167 0 10 (dk_at dksX0_put_0 14 rfl rfl)
theorem dX0_put_17 : decode cX0_put 17 = .ok (.aload_n 0, 1) := dk_42 (dk_at dksX0_put_0 17 rfl rfl)
theorem dX0_put_18 : decode cX0_put 18 = .ok (.iload_n 1, 1) := dk_27 (dk_at dksX0_put_0 18 rfl rfl)
theorem dX0_put_19 : decode cX0_put 19 = .ok (.aload_n 2, 1) := dk_44 (dk_at dksX0_put_0 19 rfl rfl)
theorem dX0_put_20 : decode cX0_put 20 = .ok (.invokevirtual 13, 3) := dk_182 0 13 (dk_at dksX0_put_0 20 rfl rfl)
theorem dX0_put_23 : decode cX0_put 23 = .ok (.pop, 1) := dk_87 (dk_at dksX0_put_0 23 rfl rfl)
theorem dX0_put_24 : decode cX0_put 24 = .ok (.iload_n 1, 1) := dk_27 (dk_at dksX0_put_1 0 rfl rfl)
theorem dX0_put_25 : decode cX0_put 25 = .ok (.ireturn, 1) := dk_172 (dk_at dksX0_put_1 1 rfl rfl)
abbrev cX0_fault : ByteArray := prog_1_method_13_code
def yX0_fault : MethodName := ⟨RX0, "fault", "(I)I"⟩
def dkwX0_fault_1 : List UInt8 := [180, 0, 183, 167, 0, 4, 2, 172]
abbrev dktX0_fault_1 : List UInt8 := dkwX0_fault_1 ++ []
def dkwX0_fault_0 : List UInt8 := [27, 154, 0, 13, 42, 180, 0, 95, 180, 0, 180, 167, 0, 19, 27, 4, 160, 0, 13, 42, 180, 0, 95]
abbrev dktX0_fault_0 : List UInt8 := dkwX0_fault_0 ++ dktX0_fault_1
theorem dksX0_fault_0 : cX0_fault.data.toList.drop 0 = dktX0_fault_0 := by decide +kernel
theorem dksX0_fault_1 : cX0_fault.data.toList.drop 23 = dktX0_fault_1 := dk_seg dksX0_fault_0 23 rfl rfl
theorem dX0_fault_0 : decode cX0_fault 0 = .ok (.iload_n 1, 1) := dk_27 (dk_at dksX0_fault_0 0 rfl rfl)
theorem dX0_fault_1 : decode cX0_fault 1 = .ok (.ifCond .ne 13, 3) := dk_154 0 13 (dk_at dksX0_fault_0 1 rfl rfl)
theorem dX0_fault_4 : decode cX0_fault 4 = .ok (.aload_n 0, 1) := dk_42 (dk_at dksX0_fault_0 4 rfl rfl)
theorem dX0_fault_5 : decode cX0_fault 5 = .ok (.getfield 95, 3) := dk_180 0 95 (dk_at dksX0_fault_0 5 rfl rfl)
theorem dX0_fault_8 : decode cX0_fault 8 = .ok (.getfield 180, 3) := dk_180 0 180 (dk_at dksX0_fault_0 8 rfl rfl)
theorem dX0_fault_11 : decode cX0_fault 11 = .ok (.goto 19, 3) := dk_167 0 19 (dk_at dksX0_fault_0 11 rfl rfl)
theorem dX0_fault_14 : decode cX0_fault 14 = .ok (.iload_n 1, 1) := dk_27 (dk_at dksX0_fault_0 14 rfl rfl)
theorem dX0_fault_15 : decode cX0_fault 15 = .ok (.iconst 1, 1) := dk_4 (dk_at dksX0_fault_0 15 rfl rfl)
theorem dX0_fault_16 : decode cX0_fault 16 = .ok (.if_icmp .ne 13, 3) := dk_160 0 13 (dk_at dksX0_fault_0 16 rfl rfl)
theorem dX0_fault_19 : decode cX0_fault 19 = .ok (.aload_n 0, 1) := dk_42 (dk_at dksX0_fault_0 19 rfl rfl)
theorem dX0_fault_20 : decode cX0_fault 20 = .ok (.getfield 95, 3) := dk_180 0 95 (dk_at dksX0_fault_0 20 rfl rfl)
theorem dX0_fault_23 : decode cX0_fault 23 = .ok (.getfield 183, 3) := dk_180 0 183 (dk_at dksX0_fault_1 0 rfl rfl)
theorem dX0_fault_26 : decode cX0_fault 26 = .ok (.goto 4, 3) := dk_167 0 4 (dk_at dksX0_fault_1 3 rfl rfl)
theorem dX0_fault_29 : decode cX0_fault 29 = .ok (.iconst (-1), 1) := dk_2 (dk_at dksX0_fault_1 6 rfl rfl)
theorem dX0_fault_30 : decode cX0_fault 30 = .ok (.ireturn, 1) := dk_172 (dk_at dksX0_fault_1 7 rfl rfl)
abbrev cX0_war : ByteArray := prog_1_method_18_code
def yX0_war : MethodName := ⟨RX0, "war", "(II)I"⟩
def dkwX0_war_4 : List UInt8 := [167, 0, 16, 28, 5, 160, 0, 10, 45, 180, 1, 32, 167, 0, 4, 2, 172]
abbrev dktX0_war_4 : List UInt8 := dkwX0_war_4 ++ []
def dkwX0_war_3 : List UInt8 := [184, 1, 24, 172, 28, 154, 0, 10, 45, 180, 1, 28, 167, 0, 28, 28, 4, 160, 0, 10, 45, 180, 1, 30]
abbrev dktX0_war_3 : List UInt8 := dkwX0_war_3 ++ dktX0_war_4
def dkwX0_war_2 : List UInt8 := [42, 28, 16, 10, 112, 182, 1, 17, 153, 0, 20, 45, 180, 1, 20, 28, 16, 10, 112, 50, 28, 16, 10, 108]
abbrev dktX0_war_2 : List UInt8 := dkwX0_war_2 ++ dktX0_war_3
def dkwX0_war_1 : List UInt8 := [153, 0, 13, 45, 180, 1, 15, 28, 16, 10, 100, 46, 172, 28, 16, 20, 16, 69, 184, 0, 176, 153, 0, 31]
abbrev dktX0_war_1 : List UInt8 := dkwX0_war_1 ++ dktX0_war_2
def dkwX0_war_0 : List UInt8 := [42, 27, 182, 1, 0, 154, 0, 5, 2, 172, 42, 180, 0, 243, 78, 28, 16, 10, 16, 13, 184, 0, 176]
abbrev dktX0_war_0 : List UInt8 := dkwX0_war_0 ++ dktX0_war_1
theorem dksX0_war_0 : cX0_war.data.toList.drop 0 = dktX0_war_0 := by decide +kernel
theorem dksX0_war_1 : cX0_war.data.toList.drop 23 = dktX0_war_1 := dk_seg dksX0_war_0 23 rfl rfl
theorem dksX0_war_2 : cX0_war.data.toList.drop 47 = dktX0_war_2 := dk_seg dksX0_war_1 24 rfl rfl
theorem dksX0_war_3 : cX0_war.data.toList.drop 71 = dktX0_war_3 := dk_seg dksX0_war_2 24 rfl rfl
theorem dksX0_war_4 : cX0_war.data.toList.drop 95 = dktX0_war_4 := dk_seg dksX0_war_3 24 rfl rfl
theorem dX0_war_0 : decode cX0_war 0 = .ok (.aload_n 0, 1) := dk_42 (dk_at dksX0_war_0 0 rfl rfl)
theorem dX0_war_1 : decode cX0_war 1 = .ok (.iload_n 1, 1) := dk_27 (dk_at dksX0_war_0 1 rfl rfl)
theorem dX0_war_2 : decode cX0_war 2 = .ok (.invokevirtual 256, 3) := dk_182 1 0 (dk_at dksX0_war_0 2 rfl rfl)
theorem dX0_war_5 : decode cX0_war 5 = .ok (.ifCond .ne 5, 3) := dk_154 0 5 (dk_at dksX0_war_0 5 rfl rfl)
theorem dX0_war_8 : decode cX0_war 8 = .ok (.iconst (-1), 1) := dk_2 (dk_at dksX0_war_0 8 rfl rfl)
theorem dX0_war_9 : decode cX0_war 9 = .ok (.ireturn, 1) := dk_172 (dk_at dksX0_war_0 9 rfl rfl)
theorem dX0_war_10 : decode cX0_war 10 = .ok (.aload_n 0, 1) := dk_42 (dk_at dksX0_war_0 10 rfl rfl)
theorem dX0_war_11 : decode cX0_war 11 = .ok (.getfield 243, 3) := dk_180 0 243 (dk_at dksX0_war_0 11 rfl rfl)
theorem dX0_war_14 : decode cX0_war 14 = .ok (.astore_n 3, 1) := dk_78 (dk_at dksX0_war_0 14 rfl rfl)
theorem dX0_war_15 : decode cX0_war 15 = .ok (.iload_n 2, 1) := dk_28 (dk_at dksX0_war_0 15 rfl rfl)
theorem dX0_war_16 : decode cX0_war 16 = .ok (.bipush 10, 2) := dk_16 10 (dk_at dksX0_war_0 16 rfl rfl)
theorem dX0_war_18 : decode cX0_war 18 = .ok (.bipush 13, 2) := dk_16 13 (dk_at dksX0_war_0 18 rfl rfl)
theorem dX0_war_20 : decode cX0_war 20 = .ok (.invokestatic 176, 3) := dk_184 0 176 (dk_at dksX0_war_0 20 rfl rfl)
theorem dX0_war_23 : decode cX0_war 23 = .ok (.ifCond .eq 13, 3) := dk_153 0 13 (dk_at dksX0_war_1 0 rfl rfl)
theorem dX0_war_26 : decode cX0_war 26 = .ok (.aload_n 3, 1) := dk_45 (dk_at dksX0_war_1 3 rfl rfl)
theorem dX0_war_27 : decode cX0_war 27 = .ok (.getfield 271, 3) := dk_180 1 15 (dk_at dksX0_war_1 4 rfl rfl)
theorem dX0_war_30 : decode cX0_war 30 = .ok (.iload_n 2, 1) := dk_28 (dk_at dksX0_war_1 7 rfl rfl)
theorem dX0_war_31 : decode cX0_war 31 = .ok (.bipush 10, 2) := dk_16 10 (dk_at dksX0_war_1 8 rfl rfl)
theorem dX0_war_33 : decode cX0_war 33 = .ok (.isub, 1) := dk_100 (dk_at dksX0_war_1 10 rfl rfl)
theorem dX0_war_34 : decode cX0_war 34 = .ok (.iaload, 1) := dk_46 (dk_at dksX0_war_1 11 rfl rfl)
theorem dX0_war_35 : decode cX0_war 35 = .ok (.ireturn, 1) := dk_172 (dk_at dksX0_war_1 12 rfl rfl)
theorem dX0_war_36 : decode cX0_war 36 = .ok (.iload_n 2, 1) := dk_28 (dk_at dksX0_war_1 13 rfl rfl)
theorem dX0_war_37 : decode cX0_war 37 = .ok (.bipush 20, 2) := dk_16 20 (dk_at dksX0_war_1 14 rfl rfl)
theorem dX0_war_39 : decode cX0_war 39 = .ok (.bipush 69, 2) := dk_16 69 (dk_at dksX0_war_1 16 rfl rfl)
theorem dX0_war_41 : decode cX0_war 41 = .ok (.invokestatic 176, 3) := dk_184 0 176 (dk_at dksX0_war_1 18 rfl rfl)
theorem dX0_war_44 : decode cX0_war 44 = .ok (.ifCond .eq 31, 3) := dk_153 0 31 (dk_at dksX0_war_1 21 rfl rfl)
theorem dX0_war_47 : decode cX0_war 47 = .ok (.aload_n 0, 1) := dk_42 (dk_at dksX0_war_2 0 rfl rfl)
theorem dX0_war_48 : decode cX0_war 48 = .ok (.iload_n 2, 1) := dk_28 (dk_at dksX0_war_2 1 rfl rfl)
theorem dX0_war_49 : decode cX0_war 49 = .ok (.bipush 10, 2) := dk_16 10 (dk_at dksX0_war_2 2 rfl rfl)
theorem dX0_war_51 : decode cX0_war 51 = .ok (.irem, 1) := dk_112 (dk_at dksX0_war_2 4 rfl rfl)
theorem dX0_war_52 : decode cX0_war 52 = .ok (.invokevirtual 273, 3) := dk_182 1 17 (dk_at dksX0_war_2 5 rfl rfl)
theorem dX0_war_55 : decode cX0_war 55 = .ok (.ifCond .eq 20, 3) := dk_153 0 20 (dk_at dksX0_war_2 8 rfl rfl)
theorem dX0_war_58 : decode cX0_war 58 = .ok (.aload_n 3, 1) := dk_45 (dk_at dksX0_war_2 11 rfl rfl)
theorem dX0_war_59 : decode cX0_war 59 = .ok (.getfield 276, 3) := dk_180 1 20 (dk_at dksX0_war_2 12 rfl rfl)
theorem dX0_war_62 : decode cX0_war 62 = .ok (.iload_n 2, 1) := dk_28 (dk_at dksX0_war_2 15 rfl rfl)
theorem dX0_war_63 : decode cX0_war 63 = .ok (.bipush 10, 2) := dk_16 10 (dk_at dksX0_war_2 16 rfl rfl)
theorem dX0_war_65 : decode cX0_war 65 = .ok (.irem, 1) := dk_112 (dk_at dksX0_war_2 18 rfl rfl)
theorem dX0_war_66 : decode cX0_war 66 = .ok (.aaload, 1) := dk_50 (dk_at dksX0_war_2 19 rfl rfl)
theorem dX0_war_67 : decode cX0_war 67 = .ok (.iload_n 2, 1) := dk_28 (dk_at dksX0_war_2 20 rfl rfl)
theorem dX0_war_68 : decode cX0_war 68 = .ok (.bipush 10, 2) := dk_16 10 (dk_at dksX0_war_2 21 rfl rfl)
theorem dX0_war_70 : decode cX0_war 70 = .ok (.idiv, 1) := dk_108 (dk_at dksX0_war_2 23 rfl rfl)
theorem dX0_war_71 : decode cX0_war 71 = .ok (.invokestatic 280, 3) := dk_184 1 24 (dk_at dksX0_war_3 0 rfl rfl)
theorem dX0_war_74 : decode cX0_war 74 = .ok (.ireturn, 1) := dk_172 (dk_at dksX0_war_3 3 rfl rfl)
theorem dX0_war_75 : decode cX0_war 75 = .ok (.iload_n 2, 1) := dk_28 (dk_at dksX0_war_3 4 rfl rfl)
theorem dX0_war_76 : decode cX0_war 76 = .ok (.ifCond .ne 10, 3) := dk_154 0 10 (dk_at dksX0_war_3 5 rfl rfl)
theorem dX0_war_79 : decode cX0_war 79 = .ok (.aload_n 3, 1) := dk_45 (dk_at dksX0_war_3 8 rfl rfl)
theorem dX0_war_80 : decode cX0_war 80 = .ok (.getfield 284, 3) := dk_180 1 28 (dk_at dksX0_war_3 9 rfl rfl)
theorem dX0_war_83 : decode cX0_war 83 = .ok (.goto 28, 3) := dk_167 0 28 (dk_at dksX0_war_3 12 rfl rfl)
theorem dX0_war_86 : decode cX0_war 86 = .ok (.iload_n 2, 1) := dk_28 (dk_at dksX0_war_3 15 rfl rfl)
theorem dX0_war_87 : decode cX0_war 87 = .ok (.iconst 1, 1) := dk_4 (dk_at dksX0_war_3 16 rfl rfl)
theorem dX0_war_88 : decode cX0_war 88 = .ok (.if_icmp .ne 10, 3) := dk_160 0 10 (dk_at dksX0_war_3 17 rfl rfl)
theorem dX0_war_91 : decode cX0_war 91 = .ok (.aload_n 3, 1) := dk_45 (dk_at dksX0_war_3 20 rfl rfl)
theorem dX0_war_92 : decode cX0_war 92 = .ok (.getfield 286, 3) := dk_180 1 30 (dk_at dksX0_war_3 21 rfl rfl)
theorem dX0_war_95 : decode cX0_war 95 = .ok (.goto 16, 3) := dk_167 0 16 (dk_at dksX0_war_4 0 rfl rfl)
theorem dX0_war_98 : decode cX0_war 98 = .ok (.iload_n 2, 1) := dk_28 (dk_at dksX0_war_4 3 rfl rfl)
theorem dX0_war_99 : decode cX0_war 99 = .ok (.iconst 2, 1) := dk_5 (dk_at dksX0_war_4 4 rfl rfl)
theorem dX0_war_100 : decode cX0_war 100 = .ok (.if_icmp .ne 10, 3) := dk_160 0 10 (dk_at dksX0_war_4 5 rfl rfl)
theorem dX0_war_103 : decode cX0_war 103 = .ok (.aload_n 3, 1) := dk_45 (dk_at dksX0_war_4 8 rfl rfl)
theorem dX0_war_104 : decode cX0_war 104 = .ok (.getfield 288, 3) := dk_180 1 32 (dk_at dksX0_war_4 9 rfl rfl)
theorem dX0_war_107 : decode cX0_war 107 = .ok (.goto 4, 3) := dk_167 0 4 (dk_at dksX0_war_4 12 rfl rfl)
theorem dX0_war_110 : decode cX0_war 110 = .ok (.iconst (-1), 1) := dk_2 (dk_at dksX0_war_4 15 rfl rfl)
theorem dX0_war_111 : decode cX0_war 111 = .ok (.ireturn, 1) := dk_172 (dk_at dksX0_war_4 16 rfl rfl)
abbrev cX0_lay : ByteArray := prog_1_method_14_code
def yX0_lay : MethodName := ⟨RX0, "lay", "(I)Z"⟩
def dkwX0_lay_1 : List UInt8 := [180, 0, 95, 180, 0, 233, 27, 182, 0, 237, 192, 0, 241, 181, 0, 243, 4, 172]
abbrev dktX0_lay_1 : List UInt8 := dkwX0_lay_1 ++ []
def dkwX0_lay_0 : List UInt8 := [27, 3, 42, 180, 0, 95, 180, 0, 233, 182, 0, 3, 4, 100, 184, 0, 176, 154, 0, 5, 3, 172, 42, 42]
abbrev dktX0_lay_0 : List UInt8 := dkwX0_lay_0 ++ dktX0_lay_1
theorem dksX0_lay_0 : cX0_lay.data.toList.drop 0 = dktX0_lay_0 := by decide +kernel
theorem dksX0_lay_1 : cX0_lay.data.toList.drop 24 = dktX0_lay_1 := dk_seg dksX0_lay_0 24 rfl rfl
theorem dX0_lay_0 : decode cX0_lay 0 = .ok (.iload_n 1, 1) := dk_27 (dk_at dksX0_lay_0 0 rfl rfl)
theorem dX0_lay_1 : decode cX0_lay 1 = .ok (.iconst 0, 1) := dk_3 (dk_at dksX0_lay_0 1 rfl rfl)
theorem dX0_lay_2 : decode cX0_lay 2 = .ok (.aload_n 0, 1) := dk_42 (dk_at dksX0_lay_0 2 rfl rfl)
theorem dX0_lay_3 : decode cX0_lay 3 = .ok (.getfield 95, 3) := dk_180 0 95 (dk_at dksX0_lay_0 3 rfl rfl)
theorem dX0_lay_6 : decode cX0_lay 6 = .ok (.getfield 233, 3) := dk_180 0 233 (dk_at dksX0_lay_0 6 rfl rfl)
theorem dX0_lay_9 : decode cX0_lay 9 = .ok (.invokevirtual 3, 3) := dk_182 0 3 (dk_at dksX0_lay_0 9 rfl rfl)
theorem dX0_lay_12 : decode cX0_lay 12 = .ok (.iconst 1, 1) := dk_4 (dk_at dksX0_lay_0 12 rfl rfl)
theorem dX0_lay_13 : decode cX0_lay 13 = .ok (.isub, 1) := dk_100 (dk_at dksX0_lay_0 13 rfl rfl)
theorem dX0_lay_14 : decode cX0_lay 14 = .ok (.invokestatic 176, 3) := dk_184 0 176 (dk_at dksX0_lay_0 14 rfl rfl)
theorem dX0_lay_17 : decode cX0_lay 17 = .ok (.ifCond .ne 5, 3) := dk_154 0 5 (dk_at dksX0_lay_0 17 rfl rfl)
theorem dX0_lay_20 : decode cX0_lay 20 = .ok (.iconst 0, 1) := dk_3 (dk_at dksX0_lay_0 20 rfl rfl)
theorem dX0_lay_21 : decode cX0_lay 21 = .ok (.ireturn, 1) := dk_172 (dk_at dksX0_lay_0 21 rfl rfl)
theorem dX0_lay_22 : decode cX0_lay 22 = .ok (.aload_n 0, 1) := dk_42 (dk_at dksX0_lay_0 22 rfl rfl)
theorem dX0_lay_23 : decode cX0_lay 23 = .ok (.aload_n 0, 1) := dk_42 (dk_at dksX0_lay_0 23 rfl rfl)
theorem dX0_lay_24 : decode cX0_lay 24 = .ok (.getfield 95, 3) := dk_180 0 95 (dk_at dksX0_lay_1 0 rfl rfl)
theorem dX0_lay_27 : decode cX0_lay 27 = .ok (.getfield 233, 3) := dk_180 0 233 (dk_at dksX0_lay_1 3 rfl rfl)
theorem dX0_lay_30 : decode cX0_lay 30 = .ok (.iload_n 1, 1) := dk_27 (dk_at dksX0_lay_1 6 rfl rfl)
theorem dX0_lay_31 : decode cX0_lay 31 = .ok (.invokevirtual 237, 3) := dk_182 0 237 (dk_at dksX0_lay_1 7 rfl rfl)
theorem dX0_lay_34 : decode cX0_lay 34 = .ok (.checkcast 241, 3) := dk_192 0 241 (dk_at dksX0_lay_1 10 rfl rfl)
theorem dX0_lay_37 : decode cX0_lay 37 = .ok (.putfield 243, 3) := dk_181 0 243 (dk_at dksX0_lay_1 13 rfl rfl)
theorem dX0_lay_40 : decode cX0_lay 40 = .ok (.iconst 1, 1) := dk_4 (dk_at dksX0_lay_1 16 rfl rfl)
theorem dX0_lay_41 : decode cX0_lay 41 = .ok (.ireturn, 1) := dk_172 (dk_at dksX0_lay_1 17 rfl rfl)
abbrev cX0_isArmy : ByteArray := prog_1_method_15_code
def yX0_isArmy : MethodName := ⟨RX0, "isArmy", "(I)Z"⟩
def dkwX0_isArmy_0 : List UInt8 := [27, 3, 4, 184, 0, 176, 172]
abbrev dktX0_isArmy_0 : List UInt8 := dkwX0_isArmy_0 ++ []
theorem dksX0_isArmy_0 : cX0_isArmy.data.toList.drop 0 = dktX0_isArmy_0 := by decide +kernel
theorem dX0_isArmy_0 : decode cX0_isArmy 0 = .ok (.iload_n 1, 1) := dk_27 (dk_at dksX0_isArmy_0 0 rfl rfl)
theorem dX0_isArmy_1 : decode cX0_isArmy 1 = .ok (.iconst 0, 1) := dk_3 (dk_at dksX0_isArmy_0 1 rfl rfl)
theorem dX0_isArmy_2 : decode cX0_isArmy 2 = .ok (.iconst 1, 1) := dk_4 (dk_at dksX0_isArmy_0 2 rfl rfl)
theorem dX0_isArmy_3 : decode cX0_isArmy 3 = .ok (.invokestatic 176, 3) := dk_184 0 176 (dk_at dksX0_isArmy_0 3 rfl rfl)
theorem dX0_isArmy_6 : decode cX0_isArmy 6 = .ok (.ireturn, 1) := dk_172 (dk_at dksX0_isArmy_0 6 rfl rfl)
abbrev cX0_ofArmy : ByteArray := prog_1_method_19_code
def yX0_ofArmy : MethodName := ⟨RX0, "ofArmy", "(LOneDrum$Army;I)I"⟩
def dkwX0_ofArmy_3 : List UInt8 := [182, 0, 3, 172]
abbrev dktX0_ofArmy_3 : List UInt8 := dkwX0_ofArmy_3 ++ []
def dkwX0_ofArmy_2 : List UInt8 := [42, 180, 1, 34, 172, 42, 180, 1, 38, 172, 42, 180, 1, 40, 172, 42, 180, 1, 42, 172, 42, 180, 1, 43]
abbrev dktX0_ofArmy_2 : List UInt8 := dkwX0_ofArmy_2 ++ dktX0_ofArmy_3
def dkwX0_ofArmy_1 : List UInt8 := [170, 0, 0, 0, 0, 0, 51, 0, 0, 0, 2, 0, 0, 0, 5, 0, 0, 0, 31, 0, 0, 0, 36, 0, 0, 0, 41, 0, 0, 0, 46]
abbrev dktX0_ofArmy_1 : List UInt8 := dkwX0_ofArmy_1 ++ dktX0_ofArmy_2
def dkwX0_ofArmy_0 : List UInt8 := [27]
abbrev dktX0_ofArmy_0 : List UInt8 := dkwX0_ofArmy_0 ++ dktX0_ofArmy_1
theorem dksX0_ofArmy_0 : cX0_ofArmy.data.toList.drop 0 = dktX0_ofArmy_0 := by decide +kernel
theorem dksX0_ofArmy_1 : cX0_ofArmy.data.toList.drop 1 = dktX0_ofArmy_1 := dk_seg dksX0_ofArmy_0 1 rfl rfl
theorem dksX0_ofArmy_2 : cX0_ofArmy.data.toList.drop 32 = dktX0_ofArmy_2 := dk_seg dksX0_ofArmy_1 31 rfl rfl
theorem dksX0_ofArmy_3 : cX0_ofArmy.data.toList.drop 56 = dktX0_ofArmy_3 := dk_seg dksX0_ofArmy_2 24 rfl rfl
theorem dX0_ofArmy_0 : decode cX0_ofArmy 0 = .ok (.iload_n 1, 1) := dk_27 (dk_at dksX0_ofArmy_0 0 rfl rfl)
theorem dX0_ofArmy_1 : decode cX0_ofArmy 1 = .ok (.tableswitch 51 2 5 #[31, 36, 41, 46], 31) := by decide +kernel
theorem dX0_ofArmy_32 : decode cX0_ofArmy 32 = .ok (.aload_n 0, 1) := dk_42 (dk_at dksX0_ofArmy_2 0 rfl rfl)
theorem dX0_ofArmy_33 : decode cX0_ofArmy 33 = .ok (.getfield 290, 3) := dk_180 1 34 (dk_at dksX0_ofArmy_2 1 rfl rfl)
theorem dX0_ofArmy_36 : decode cX0_ofArmy 36 = .ok (.ireturn, 1) := dk_172 (dk_at dksX0_ofArmy_2 4 rfl rfl)
theorem dX0_ofArmy_37 : decode cX0_ofArmy 37 = .ok (.aload_n 0, 1) := dk_42 (dk_at dksX0_ofArmy_2 5 rfl rfl)
theorem dX0_ofArmy_38 : decode cX0_ofArmy 38 = .ok (.getfield 294, 3) := dk_180 1 38 (dk_at dksX0_ofArmy_2 6 rfl rfl)
theorem dX0_ofArmy_41 : decode cX0_ofArmy 41 = .ok (.ireturn, 1) := dk_172 (dk_at dksX0_ofArmy_2 9 rfl rfl)
theorem dX0_ofArmy_42 : decode cX0_ofArmy 42 = .ok (.aload_n 0, 1) := dk_42 (dk_at dksX0_ofArmy_2 10 rfl rfl)
theorem dX0_ofArmy_43 : decode cX0_ofArmy 43 = .ok (.getfield 296, 3) := dk_180 1 40 (dk_at dksX0_ofArmy_2 11 rfl rfl)
theorem dX0_ofArmy_46 : decode cX0_ofArmy 46 = .ok (.ireturn, 1) := dk_172 (dk_at dksX0_ofArmy_2 14 rfl rfl)
theorem dX0_ofArmy_47 : decode cX0_ofArmy 47 = .ok (.aload_n 0, 1) := dk_42 (dk_at dksX0_ofArmy_2 15 rfl rfl)
theorem dX0_ofArmy_48 : decode cX0_ofArmy 48 = .ok (.getfield 298, 3) := dk_180 1 42 (dk_at dksX0_ofArmy_2 16 rfl rfl)
theorem dX0_ofArmy_51 : decode cX0_ofArmy 51 = .ok (.ireturn, 1) := dk_172 (dk_at dksX0_ofArmy_2 19 rfl rfl)
theorem dX0_ofArmy_52 : decode cX0_ofArmy 52 = .ok (.aload_n 0, 1) := dk_42 (dk_at dksX0_ofArmy_2 20 rfl rfl)
theorem dX0_ofArmy_53 : decode cX0_ofArmy 53 = .ok (.getfield 299, 3) := dk_180 1 43 (dk_at dksX0_ofArmy_2 21 rfl rfl)
theorem dX0_ofArmy_56 : decode cX0_ofArmy 56 = .ok (.invokevirtual 3, 3) := dk_182 0 3 (dk_at dksX0_ofArmy_3 0 rfl rfl)
theorem dX0_ofArmy_59 : decode cX0_ofArmy 59 = .ok (.ireturn, 1) := dk_172 (dk_at dksX0_ofArmy_3 3 rfl rfl)
abbrev cX0_order : ByteArray := prog_1_method_22_code
def yX0_order : MethodName := ⟨RX0, "order", "(IIII)I"⟩
def dkwX0_order_4 : List UInt8 := [167, 0, 4, 2, 172]
abbrev dktX0_order_4 : List UInt8 := dkwX0_order_4 ++ []
def dkwX0_order_3 : List UInt8 := [180, 1, 61, 96, 184, 0, 176, 153, 0, 20, 25, 5, 180, 1, 58, 180, 1, 64, 21, 4, 16, 10, 100, 51]
abbrev dktX0_order_3 : List UInt8 := dkwX0_order_3 ++ dktX0_order_4
def dkwX0_order_2 : List UInt8 := [25, 5, 180, 1, 58, 180, 1, 61, 167, 0, 42, 21, 4, 16, 10, 16, 9, 25, 5, 180, 1, 58]
abbrev dktX0_order_2 : List UInt8 := dkwX0_order_2 ++ dktX0_order_3
def dkwX0_order_1 : List UInt8 := [182, 1, 52, 58, 5, 21, 4, 154, 0, 11, 25, 5, 180, 1, 55, 167, 0, 59, 21, 4, 4, 160, 0, 14]
abbrev dktX0_order_1 : List UInt8 := dkwX0_order_1 ++ dktX0_order_2
def dkwX0_order_0 : List UInt8 := [42, 27, 182, 1, 0, 153, 0, 12, 42, 28, 29, 182, 1, 48, 154, 0, 5, 2, 172, 42, 28, 29]
abbrev dktX0_order_0 : List UInt8 := dkwX0_order_0 ++ dktX0_order_1
theorem dksX0_order_0 : cX0_order.data.toList.drop 0 = dktX0_order_0 := by decide +kernel
theorem dksX0_order_1 : cX0_order.data.toList.drop 22 = dktX0_order_1 := dk_seg dksX0_order_0 22 rfl rfl
theorem dksX0_order_2 : cX0_order.data.toList.drop 46 = dktX0_order_2 := dk_seg dksX0_order_1 24 rfl rfl
theorem dksX0_order_3 : cX0_order.data.toList.drop 68 = dktX0_order_3 := dk_seg dksX0_order_2 22 rfl rfl
theorem dksX0_order_4 : cX0_order.data.toList.drop 92 = dktX0_order_4 := dk_seg dksX0_order_3 24 rfl rfl
theorem dX0_order_0 : decode cX0_order 0 = .ok (.aload_n 0, 1) := dk_42 (dk_at dksX0_order_0 0 rfl rfl)
theorem dX0_order_1 : decode cX0_order 1 = .ok (.iload_n 1, 1) := dk_27 (dk_at dksX0_order_0 1 rfl rfl)
theorem dX0_order_2 : decode cX0_order 2 = .ok (.invokevirtual 256, 3) := dk_182 1 0 (dk_at dksX0_order_0 2 rfl rfl)
theorem dX0_order_5 : decode cX0_order 5 = .ok (.ifCond .eq 12, 3) := dk_153 0 12 (dk_at dksX0_order_0 5 rfl rfl)
theorem dX0_order_8 : decode cX0_order 8 = .ok (.aload_n 0, 1) := dk_42 (dk_at dksX0_order_0 8 rfl rfl)
theorem dX0_order_9 : decode cX0_order 9 = .ok (.iload_n 2, 1) := dk_28 (dk_at dksX0_order_0 9 rfl rfl)
theorem dX0_order_10 : decode cX0_order 10 = .ok (.iload_n 3, 1) := dk_29 (dk_at dksX0_order_0 10 rfl rfl)
theorem dX0_order_11 : decode cX0_order 11 = .ok (.invokevirtual 304, 3) := dk_182 1 48 (dk_at dksX0_order_0 11 rfl rfl)
theorem dX0_order_14 : decode cX0_order 14 = .ok (.ifCond .ne 5, 3) := dk_154 0 5 (dk_at dksX0_order_0 14 rfl rfl)
theorem dX0_order_17 : decode cX0_order 17 = .ok (.iconst (-1), 1) := dk_2 (dk_at dksX0_order_0 17 rfl rfl)
theorem dX0_order_18 : decode cX0_order 18 = .ok (.ireturn, 1) := dk_172 (dk_at dksX0_order_0 18 rfl rfl)
theorem dX0_order_19 : decode cX0_order 19 = .ok (.aload_n 0, 1) := dk_42 (dk_at dksX0_order_0 19 rfl rfl)
theorem dX0_order_20 : decode cX0_order 20 = .ok (.iload_n 2, 1) := dk_28 (dk_at dksX0_order_0 20 rfl rfl)
theorem dX0_order_21 : decode cX0_order 21 = .ok (.iload_n 3, 1) := dk_29 (dk_at dksX0_order_0 21 rfl rfl)
theorem dX0_order_22 : decode cX0_order 22 = .ok (.invokevirtual 308, 3) := dk_182 1 52 (dk_at dksX0_order_1 0 rfl rfl)
theorem dX0_order_25 : decode cX0_order 25 = .ok (.astore 5, 2) := dk_58 5 (dk_at dksX0_order_1 3 rfl rfl)
theorem dX0_order_27 : decode cX0_order 27 = .ok (.iload 4, 2) := dk_21 4 (dk_at dksX0_order_1 5 rfl rfl)
theorem dX0_order_29 : decode cX0_order 29 = .ok (.ifCond .ne 11, 3) := dk_154 0 11 (dk_at dksX0_order_1 7 rfl rfl)
theorem dX0_order_32 : decode cX0_order 32 = .ok (.aload 5, 2) := dk_25 5 (dk_at dksX0_order_1 10 rfl rfl)
theorem dX0_order_34 : decode cX0_order 34 = .ok (.getfield 311, 3) := dk_180 1 55 (dk_at dksX0_order_1 12 rfl rfl)
theorem dX0_order_37 : decode cX0_order 37 = .ok (.goto 59, 3) := dk_167 0 59 (dk_at dksX0_order_1 15 rfl rfl)
theorem dX0_order_40 : decode cX0_order 40 = .ok (.iload 4, 2) := dk_21 4 (dk_at dksX0_order_1 18 rfl rfl)
theorem dX0_order_42 : decode cX0_order 42 = .ok (.iconst 1, 1) := dk_4 (dk_at dksX0_order_1 20 rfl rfl)
theorem dX0_order_43 : decode cX0_order 43 = .ok (.if_icmp .ne 14, 3) := dk_160 0 14 (dk_at dksX0_order_1 21 rfl rfl)
theorem dX0_order_46 : decode cX0_order 46 = .ok (.aload 5, 2) := dk_25 5 (dk_at dksX0_order_2 0 rfl rfl)
theorem dX0_order_48 : decode cX0_order 48 = .ok (.getfield 314, 3) := dk_180 1 58 (dk_at dksX0_order_2 2 rfl rfl)
theorem dX0_order_51 : decode cX0_order 51 = .ok (.getfield 317, 3) := dk_180 1 61 (dk_at dksX0_order_2 5 rfl rfl)
theorem dX0_order_54 : decode cX0_order 54 = .ok (.goto 42, 3) := dk_167 0 42 (dk_at dksX0_order_2 8 rfl rfl)
theorem dX0_order_57 : decode cX0_order 57 = .ok (.iload 4, 2) := dk_21 4 (dk_at dksX0_order_2 11 rfl rfl)
theorem dX0_order_59 : decode cX0_order 59 = .ok (.bipush 10, 2) := dk_16 10 (dk_at dksX0_order_2 13 rfl rfl)
theorem dX0_order_61 : decode cX0_order 61 = .ok (.bipush 9, 2) := dk_16 9 (dk_at dksX0_order_2 15 rfl rfl)
theorem dX0_order_63 : decode cX0_order 63 = .ok (.aload 5, 2) := dk_25 5 (dk_at dksX0_order_2 17 rfl rfl)
theorem dX0_order_65 : decode cX0_order 65 = .ok (.getfield 314, 3) := dk_180 1 58 (dk_at dksX0_order_2 19 rfl rfl)
theorem dX0_order_68 : decode cX0_order 68 = .ok (.getfield 317, 3) := dk_180 1 61 (dk_at dksX0_order_3 0 rfl rfl)
theorem dX0_order_71 : decode cX0_order 71 = .ok (.iadd, 1) := dk_96 (dk_at dksX0_order_3 3 rfl rfl)
theorem dX0_order_72 : decode cX0_order 72 = .ok (.invokestatic 176, 3) := dk_184 0 176 (dk_at dksX0_order_3 4 rfl rfl)
theorem dX0_order_75 : decode cX0_order 75 = .ok (.ifCond .eq 20, 3) := dk_153 0 20 (dk_at dksX0_order_3 7 rfl rfl)
theorem dX0_order_78 : decode cX0_order 78 = .ok (.aload 5, 2) := dk_25 5 (dk_at dksX0_order_3 10 rfl rfl)
theorem dX0_order_80 : decode cX0_order 80 = .ok (.getfield 314, 3) := dk_180 1 58 (dk_at dksX0_order_3 12 rfl rfl)
theorem dX0_order_83 : decode cX0_order 83 = .ok (.getfield 320, 3) := dk_180 1 64 (dk_at dksX0_order_3 15 rfl rfl)
theorem dX0_order_86 : decode cX0_order 86 = .ok (.iload 4, 2) := dk_21 4 (dk_at dksX0_order_3 18 rfl rfl)
theorem dX0_order_88 : decode cX0_order 88 = .ok (.bipush 10, 2) := dk_16 10 (dk_at dksX0_order_3 20 rfl rfl)
theorem dX0_order_90 : decode cX0_order 90 = .ok (.isub, 1) := dk_100 (dk_at dksX0_order_3 22 rfl rfl)
theorem dX0_order_91 : decode cX0_order 91 = .ok (.baload, 1) := dk_51 (dk_at dksX0_order_3 23 rfl rfl)
theorem dX0_order_92 : decode cX0_order 92 = .ok (.goto 4, 3) := dk_167 0 4 (dk_at dksX0_order_4 0 rfl rfl)
theorem dX0_order_95 : decode cX0_order 95 = .ok (.iconst (-1), 1) := dk_2 (dk_at dksX0_order_4 3 rfl rfl)
theorem dX0_order_96 : decode cX0_order 96 = .ok (.ireturn, 1) := dk_172 (dk_at dksX0_order_4 4 rfl rfl)
abbrev cX0_isOrder : ByteArray := prog_1_method_21_code
def yX0_isOrder : MethodName := ⟨RX0, "isOrder", "(II)Z"⟩
def dkwX0_isOrder_1 : List UInt8 := [182, 0, 3, 4, 100, 184, 0, 176, 153, 0, 7, 4, 167, 0, 4, 3, 172]
abbrev dktX0_isOrder_1 : List UInt8 := dkwX0_isOrder_1 ++ []
def dkwX0_isOrder_0 : List UInt8 := [42, 27, 182, 1, 17, 153, 0, 32, 28, 3, 42, 180, 0, 243, 180, 1, 20, 27, 50, 180, 1, 43]
abbrev dktX0_isOrder_0 : List UInt8 := dkwX0_isOrder_0 ++ dktX0_isOrder_1
theorem dksX0_isOrder_0 : cX0_isOrder.data.toList.drop 0 = dktX0_isOrder_0 := by decide +kernel
theorem dksX0_isOrder_1 : cX0_isOrder.data.toList.drop 22 = dktX0_isOrder_1 := dk_seg dksX0_isOrder_0 22 rfl rfl
theorem dX0_isOrder_0 : decode cX0_isOrder 0 = .ok (.aload_n 0, 1) := dk_42 (dk_at dksX0_isOrder_0 0 rfl rfl)
theorem dX0_isOrder_1 : decode cX0_isOrder 1 = .ok (.iload_n 1, 1) := dk_27 (dk_at dksX0_isOrder_0 1 rfl rfl)
theorem dX0_isOrder_2 : decode cX0_isOrder 2 = .ok (.invokevirtual 273, 3) := dk_182 1 17 (dk_at dksX0_isOrder_0 2 rfl rfl)
theorem dX0_isOrder_5 : decode cX0_isOrder 5 = .ok (.ifCond .eq 32, 3) := dk_153 0 32 (dk_at dksX0_isOrder_0 5 rfl rfl)
theorem dX0_isOrder_8 : decode cX0_isOrder 8 = .ok (.iload_n 2, 1) := dk_28 (dk_at dksX0_isOrder_0 8 rfl rfl)
theorem dX0_isOrder_9 : decode cX0_isOrder 9 = .ok (.iconst 0, 1) := dk_3 (dk_at dksX0_isOrder_0 9 rfl rfl)
theorem dX0_isOrder_10 : decode cX0_isOrder 10 = .ok (.aload_n 0, 1) := dk_42 (dk_at dksX0_isOrder_0 10 rfl rfl)
theorem dX0_isOrder_11 : decode cX0_isOrder 11 = .ok (.getfield 243, 3) := dk_180 0 243 (dk_at dksX0_isOrder_0 11 rfl rfl)
theorem dX0_isOrder_14 : decode cX0_isOrder 14 = .ok (.getfield 276, 3) := dk_180 1 20 (dk_at dksX0_isOrder_0 14 rfl rfl)
theorem dX0_isOrder_17 : decode cX0_isOrder 17 = .ok (.iload_n 1, 1) := dk_27 (dk_at dksX0_isOrder_0 17 rfl rfl)
theorem dX0_isOrder_18 : decode cX0_isOrder 18 = .ok (.aaload, 1) := dk_50 (dk_at dksX0_isOrder_0 18 rfl rfl)
theorem dX0_isOrder_19 : decode cX0_isOrder 19 = .ok (.getfield 299, 3) := dk_180 1 43 (dk_at dksX0_isOrder_0 19 rfl rfl)
theorem dX0_isOrder_22 : decode cX0_isOrder 22 = .ok (.invokevirtual 3, 3) := dk_182 0 3 (dk_at dksX0_isOrder_1 0 rfl rfl)
theorem dX0_isOrder_25 : decode cX0_isOrder 25 = .ok (.iconst 1, 1) := dk_4 (dk_at dksX0_isOrder_1 3 rfl rfl)
theorem dX0_isOrder_26 : decode cX0_isOrder 26 = .ok (.isub, 1) := dk_100 (dk_at dksX0_isOrder_1 4 rfl rfl)
theorem dX0_isOrder_27 : decode cX0_isOrder 27 = .ok (.invokestatic 176, 3) := dk_184 0 176 (dk_at dksX0_isOrder_1 5 rfl rfl)
theorem dX0_isOrder_30 : decode cX0_isOrder 30 = .ok (.ifCond .eq 7, 3) := dk_153 0 7 (dk_at dksX0_isOrder_1 8 rfl rfl)
theorem dX0_isOrder_33 : decode cX0_isOrder 33 = .ok (.iconst 1, 1) := dk_4 (dk_at dksX0_isOrder_1 11 rfl rfl)
theorem dX0_isOrder_34 : decode cX0_isOrder 34 = .ok (.goto 4, 3) := dk_167 0 4 (dk_at dksX0_isOrder_1 12 rfl rfl)
theorem dX0_isOrder_37 : decode cX0_isOrder 37 = .ok (.iconst 0, 1) := dk_3 (dk_at dksX0_isOrder_1 15 rfl rfl)
theorem dX0_isOrder_38 : decode cX0_isOrder 38 = .ok (.ireturn, 1) := dk_172 (dk_at dksX0_isOrder_1 16 rfl rfl)
abbrev cX0_order_2 : ByteArray := prog_1_method_20_code
def yX0_order_2 : MethodName := ⟨RX0, "order", "(II)LOneDrum$Order;"⟩
def dkwX0_order_2_0 : List UInt8 := [42, 180, 0, 243, 180, 1, 20, 27, 50, 180, 1, 43, 28, 182, 0, 237, 192, 1, 46, 176]
abbrev dktX0_order_2_0 : List UInt8 := dkwX0_order_2_0 ++ []
theorem dksX0_order_2_0 : cX0_order_2.data.toList.drop 0 = dktX0_order_2_0 := by decide +kernel
theorem dX0_order_2_0 : decode cX0_order_2 0 = .ok (.aload_n 0, 1) := dk_42 (dk_at dksX0_order_2_0 0 rfl rfl)
theorem dX0_order_2_1 : decode cX0_order_2 1 = .ok (.getfield 243, 3) := dk_180 0 243 (dk_at dksX0_order_2_0 1 rfl rfl)
theorem dX0_order_2_4 : decode cX0_order_2 4 = .ok (.getfield 276, 3) := dk_180 1 20 (dk_at dksX0_order_2_0 4 rfl rfl)
theorem dX0_order_2_7 : decode cX0_order_2 7 = .ok (.iload_n 1, 1) := dk_27 (dk_at dksX0_order_2_0 7 rfl rfl)
theorem dX0_order_2_8 : decode cX0_order_2 8 = .ok (.aaload, 1) := dk_50 (dk_at dksX0_order_2_0 8 rfl rfl)
theorem dX0_order_2_9 : decode cX0_order_2 9 = .ok (.getfield 299, 3) := dk_180 1 43 (dk_at dksX0_order_2_0 9 rfl rfl)
theorem dX0_order_2_12 : decode cX0_order_2 12 = .ok (.iload_n 2, 1) := dk_28 (dk_at dksX0_order_2_0 12 rfl rfl)
theorem dX0_order_2_13 : decode cX0_order_2 13 = .ok (.invokevirtual 237, 3) := dk_182 0 237 (dk_at dksX0_order_2_0 13 rfl rfl)
theorem dX0_order_2_16 : decode cX0_order_2 16 = .ok (.checkcast 302, 3) := dk_192 1 46 (dk_at dksX0_order_2_0 16 rfl rfl)
theorem dX0_order_2_19 : decode cX0_order_2 19 = .ok (.areturn, 1) := dk_176 (dk_at dksX0_order_2_0 19 rfl rfl)
abbrev cX0_given : ByteArray := prog_1_method_23_code
def yX0_given : MethodName := ⟨RX0, "given", "(III)I"⟩
def dkwX0_given_2 : List UInt8 := [180, 1, 61, 4, 100, 184, 0, 176, 153, 0, 13, 25, 4, 180, 1, 64, 29, 51, 167, 0, 4, 2, 172]
abbrev dktX0_given_2 : List UInt8 := dkwX0_given_2 ++ []
def dkwX0_given_1 : List UInt8 := [180, 1, 6, 28, 50, 58, 4, 29, 2, 160, 0, 11, 25, 4, 180, 1, 61, 167, 0, 29, 29, 3, 25, 4]
abbrev dktX0_given_1 : List UInt8 := dkwX0_given_1 ++ dktX0_given_2
def dkwX0_given_0 : List UInt8 := [42, 27, 182, 1, 3, 153, 0, 11, 42, 28, 182, 1, 17, 154, 0, 5, 2, 172, 42, 180, 0, 252]
abbrev dktX0_given_0 : List UInt8 := dkwX0_given_0 ++ dktX0_given_1
theorem dksX0_given_0 : cX0_given.data.toList.drop 0 = dktX0_given_0 := by decide +kernel
theorem dksX0_given_1 : cX0_given.data.toList.drop 22 = dktX0_given_1 := dk_seg dksX0_given_0 22 rfl rfl
theorem dksX0_given_2 : cX0_given.data.toList.drop 46 = dktX0_given_2 := dk_seg dksX0_given_1 24 rfl rfl
theorem dX0_given_0 : decode cX0_given 0 = .ok (.aload_n 0, 1) := dk_42 (dk_at dksX0_given_0 0 rfl rfl)
theorem dX0_given_1 : decode cX0_given 1 = .ok (.iload_n 1, 1) := dk_27 (dk_at dksX0_given_0 1 rfl rfl)
theorem dX0_given_2 : decode cX0_given 2 = .ok (.invokevirtual 259, 3) := dk_182 1 3 (dk_at dksX0_given_0 2 rfl rfl)
theorem dX0_given_5 : decode cX0_given 5 = .ok (.ifCond .eq 11, 3) := dk_153 0 11 (dk_at dksX0_given_0 5 rfl rfl)
theorem dX0_given_8 : decode cX0_given 8 = .ok (.aload_n 0, 1) := dk_42 (dk_at dksX0_given_0 8 rfl rfl)
theorem dX0_given_9 : decode cX0_given 9 = .ok (.iload_n 2, 1) := dk_28 (dk_at dksX0_given_0 9 rfl rfl)
theorem dX0_given_10 : decode cX0_given 10 = .ok (.invokevirtual 273, 3) := dk_182 1 17 (dk_at dksX0_given_0 10 rfl rfl)
theorem dX0_given_13 : decode cX0_given 13 = .ok (.ifCond .ne 5, 3) := dk_154 0 5 (dk_at dksX0_given_0 13 rfl rfl)
theorem dX0_given_16 : decode cX0_given 16 = .ok (.iconst (-1), 1) := dk_2 (dk_at dksX0_given_0 16 rfl rfl)
theorem dX0_given_17 : decode cX0_given 17 = .ok (.ireturn, 1) := dk_172 (dk_at dksX0_given_0 17 rfl rfl)
theorem dX0_given_18 : decode cX0_given 18 = .ok (.aload_n 0, 1) := dk_42 (dk_at dksX0_given_0 18 rfl rfl)
theorem dX0_given_19 : decode cX0_given 19 = .ok (.getfield 252, 3) := dk_180 0 252 (dk_at dksX0_given_0 19 rfl rfl)
theorem dX0_given_22 : decode cX0_given 22 = .ok (.getfield 262, 3) := dk_180 1 6 (dk_at dksX0_given_1 0 rfl rfl)
theorem dX0_given_25 : decode cX0_given 25 = .ok (.iload_n 2, 1) := dk_28 (dk_at dksX0_given_1 3 rfl rfl)
theorem dX0_given_26 : decode cX0_given 26 = .ok (.aaload, 1) := dk_50 (dk_at dksX0_given_1 4 rfl rfl)
theorem dX0_given_27 : decode cX0_given 27 = .ok (.astore 4, 2) := dk_58 4 (dk_at dksX0_given_1 5 rfl rfl)
theorem dX0_given_29 : decode cX0_given 29 = .ok (.iload_n 3, 1) := dk_29 (dk_at dksX0_given_1 7 rfl rfl)
theorem dX0_given_30 : decode cX0_given 30 = .ok (.iconst (-1), 1) := dk_2 (dk_at dksX0_given_1 8 rfl rfl)
theorem dX0_given_31 : decode cX0_given 31 = .ok (.if_icmp .ne 11, 3) := dk_160 0 11 (dk_at dksX0_given_1 9 rfl rfl)
theorem dX0_given_34 : decode cX0_given 34 = .ok (.aload 4, 2) := dk_25 4 (dk_at dksX0_given_1 12 rfl rfl)
theorem dX0_given_36 : decode cX0_given 36 = .ok (.getfield 317, 3) := dk_180 1 61 (dk_at dksX0_given_1 14 rfl rfl)
theorem dX0_given_39 : decode cX0_given 39 = .ok (.goto 29, 3) := dk_167 0 29 (dk_at dksX0_given_1 17 rfl rfl)
theorem dX0_given_42 : decode cX0_given 42 = .ok (.iload_n 3, 1) := dk_29 (dk_at dksX0_given_1 20 rfl rfl)
theorem dX0_given_43 : decode cX0_given 43 = .ok (.iconst 0, 1) := dk_3 (dk_at dksX0_given_1 21 rfl rfl)
theorem dX0_given_44 : decode cX0_given 44 = .ok (.aload 4, 2) := dk_25 4 (dk_at dksX0_given_1 22 rfl rfl)
theorem dX0_given_46 : decode cX0_given 46 = .ok (.getfield 317, 3) := dk_180 1 61 (dk_at dksX0_given_2 0 rfl rfl)
theorem dX0_given_49 : decode cX0_given 49 = .ok (.iconst 1, 1) := dk_4 (dk_at dksX0_given_2 3 rfl rfl)
theorem dX0_given_50 : decode cX0_given 50 = .ok (.isub, 1) := dk_100 (dk_at dksX0_given_2 4 rfl rfl)
theorem dX0_given_51 : decode cX0_given 51 = .ok (.invokestatic 176, 3) := dk_184 0 176 (dk_at dksX0_given_2 5 rfl rfl)
theorem dX0_given_54 : decode cX0_given 54 = .ok (.ifCond .eq 13, 3) := dk_153 0 13 (dk_at dksX0_given_2 8 rfl rfl)
theorem dX0_given_57 : decode cX0_given 57 = .ok (.aload 4, 2) := dk_25 4 (dk_at dksX0_given_2 11 rfl rfl)
theorem dX0_given_59 : decode cX0_given 59 = .ok (.getfield 320, 3) := dk_180 1 64 (dk_at dksX0_given_2 13 rfl rfl)
theorem dX0_given_62 : decode cX0_given 62 = .ok (.iload_n 3, 1) := dk_29 (dk_at dksX0_given_2 16 rfl rfl)
theorem dX0_given_63 : decode cX0_given 63 = .ok (.baload, 1) := dk_51 (dk_at dksX0_given_2 17 rfl rfl)
theorem dX0_given_64 : decode cX0_given 64 = .ok (.goto 4, 3) := dk_167 0 4 (dk_at dksX0_given_2 18 rfl rfl)
theorem dX0_given_67 : decode cX0_given 67 = .ok (.iconst (-1), 1) := dk_2 (dk_at dksX0_given_2 21 rfl rfl)
theorem dX0_given_68 : decode cX0_given 68 = .ok (.ireturn, 1) := dk_172 (dk_at dksX0_given_2 22 rfl rfl)
abbrev cX0_layScore : ByteArray := prog_1_method_16_code
def yX0_layScore : MethodName := ⟨RX0, "layScore", "(I)Z"⟩
def dkwX0_layScore_1 : List UInt8 := [180, 0, 95, 180, 0, 247, 27, 182, 0, 237, 192, 0, 250, 181, 0, 252, 4, 172]
abbrev dktX0_layScore_1 : List UInt8 := dkwX0_layScore_1 ++ []
def dkwX0_layScore_0 : List UInt8 := [27, 3, 42, 180, 0, 95, 180, 0, 247, 182, 0, 3, 4, 100, 184, 0, 176, 154, 0, 5, 3, 172, 42, 42]
abbrev dktX0_layScore_0 : List UInt8 := dkwX0_layScore_0 ++ dktX0_layScore_1
theorem dksX0_layScore_0 : cX0_layScore.data.toList.drop 0 = dktX0_layScore_0 := by decide +kernel
theorem dksX0_layScore_1 : cX0_layScore.data.toList.drop 24 = dktX0_layScore_1 := dk_seg dksX0_layScore_0 24 rfl rfl
theorem dX0_layScore_0 : decode cX0_layScore 0 = .ok (.iload_n 1, 1) := dk_27 (dk_at dksX0_layScore_0 0 rfl rfl)
theorem dX0_layScore_1 : decode cX0_layScore 1 = .ok (.iconst 0, 1) := dk_3 (dk_at dksX0_layScore_0 1 rfl rfl)
theorem dX0_layScore_2 : decode cX0_layScore 2 = .ok (.aload_n 0, 1) := dk_42 (dk_at dksX0_layScore_0 2 rfl rfl)
theorem dX0_layScore_3 : decode cX0_layScore 3 = .ok (.getfield 95, 3) := dk_180 0 95 (dk_at dksX0_layScore_0 3 rfl rfl)
theorem dX0_layScore_6 : decode cX0_layScore 6 = .ok (.getfield 247, 3) := dk_180 0 247 (dk_at dksX0_layScore_0 6 rfl rfl)
theorem dX0_layScore_9 : decode cX0_layScore 9 = .ok (.invokevirtual 3, 3) := dk_182 0 3 (dk_at dksX0_layScore_0 9 rfl rfl)
theorem dX0_layScore_12 : decode cX0_layScore 12 = .ok (.iconst 1, 1) := dk_4 (dk_at dksX0_layScore_0 12 rfl rfl)
theorem dX0_layScore_13 : decode cX0_layScore 13 = .ok (.isub, 1) := dk_100 (dk_at dksX0_layScore_0 13 rfl rfl)
theorem dX0_layScore_14 : decode cX0_layScore 14 = .ok (.invokestatic 176, 3) := dk_184 0 176 (dk_at dksX0_layScore_0 14 rfl rfl)
theorem dX0_layScore_17 : decode cX0_layScore 17 = .ok (.ifCond .ne 5, 3) := dk_154 0 5 (dk_at dksX0_layScore_0 17 rfl rfl)
theorem dX0_layScore_20 : decode cX0_layScore 20 = .ok (.iconst 0, 1) := dk_3 (dk_at dksX0_layScore_0 20 rfl rfl)
theorem dX0_layScore_21 : decode cX0_layScore 21 = .ok (.ireturn, 1) := dk_172 (dk_at dksX0_layScore_0 21 rfl rfl)
theorem dX0_layScore_22 : decode cX0_layScore 22 = .ok (.aload_n 0, 1) := dk_42 (dk_at dksX0_layScore_0 22 rfl rfl)
theorem dX0_layScore_23 : decode cX0_layScore 23 = .ok (.aload_n 0, 1) := dk_42 (dk_at dksX0_layScore_0 23 rfl rfl)
theorem dX0_layScore_24 : decode cX0_layScore 24 = .ok (.getfield 95, 3) := dk_180 0 95 (dk_at dksX0_layScore_1 0 rfl rfl)
theorem dX0_layScore_27 : decode cX0_layScore 27 = .ok (.getfield 247, 3) := dk_180 0 247 (dk_at dksX0_layScore_1 3 rfl rfl)
theorem dX0_layScore_30 : decode cX0_layScore 30 = .ok (.iload_n 1, 1) := dk_27 (dk_at dksX0_layScore_1 6 rfl rfl)
theorem dX0_layScore_31 : decode cX0_layScore 31 = .ok (.invokevirtual 237, 3) := dk_182 0 237 (dk_at dksX0_layScore_1 7 rfl rfl)
theorem dX0_layScore_34 : decode cX0_layScore 34 = .ok (.checkcast 250, 3) := dk_192 0 250 (dk_at dksX0_layScore_1 10 rfl rfl)
theorem dX0_layScore_37 : decode cX0_layScore 37 = .ok (.putfield 252, 3) := dk_181 0 252 (dk_at dksX0_layScore_1 13 rfl rfl)
theorem dX0_layScore_40 : decode cX0_layScore 40 = .ok (.iconst 1, 1) := dk_4 (dk_at dksX0_layScore_1 16 rfl rfl)
theorem dX0_layScore_41 : decode cX0_layScore 41 = .ok (.ireturn, 1) := dk_172 (dk_at dksX0_layScore_1 17 rfl rfl)
abbrev cX0_row : ByteArray := prog_1_method_24_code
def yX0_row : MethodName := ⟨RX0, "row", "(IIII)I"⟩
def dkwX0_row_6 : List UInt8 := [16, 254, 172]
abbrev dktX0_row_6 : List UInt8 := dkwX0_row_6 ++ []
def dkwX0_row_5 : List UInt8 := [180, 1, 76, 29, 46, 172, 42, 180, 0, 108, 180, 1, 78, 29, 51, 153, 0, 7, 4, 167, 0, 4, 3, 172]
abbrev dktX0_row_5 : List UInt8 := dkwX0_row_5 ++ dktX0_row_6
def dkwX0_row_4 : List UInt8 := [42, 180, 0, 108, 180, 1, 71, 29, 46, 172, 42, 180, 0, 108, 180, 1, 73, 29, 46, 172, 42, 180, 0, 108]
abbrev dktX0_row_4 : List UInt8 := dkwX0_row_4 ++ dktX0_row_5
def dkwX0_row_3 : List UInt8 := [170, 0, 0, 0, 0, 0, 79, 0, 0, 0, 0, 0, 0, 0, 3, 0, 0, 0, 31, 0, 0, 0, 41, 0, 0, 0, 51, 0, 0, 0, 61]
abbrev dktX0_row_3 : List UInt8 := dkwX0_row_3 ++ dktX0_row_4
def dkwX0_row_2 : List UInt8 := [184, 0, 176, 154, 0, 6, 16, 254, 172, 21, 4]
abbrev dktX0_row_2 : List UInt8 := dkwX0_row_2 ++ dktX0_row_3
def dkwX0_row_1 : List UInt8 := [180, 0, 108, 180, 1, 70, 167, 0, 5, 16, 254, 172, 29, 3, 42, 180, 0, 108, 180, 1, 70, 4, 100]
abbrev dktX0_row_1 : List UInt8 := dkwX0_row_1 ++ dktX0_row_2
def dkwX0_row_0 : List UInt8 := [42, 27, 28, 182, 1, 67, 154, 0, 6, 16, 254, 172, 29, 2, 160, 0, 21, 21, 4, 154, 0, 13, 42]
abbrev dktX0_row_0 : List UInt8 := dkwX0_row_0 ++ dktX0_row_1
theorem dksX0_row_0 : cX0_row.data.toList.drop 0 = dktX0_row_0 := by decide +kernel
theorem dksX0_row_1 : cX0_row.data.toList.drop 23 = dktX0_row_1 := dk_seg dksX0_row_0 23 rfl rfl
theorem dksX0_row_2 : cX0_row.data.toList.drop 46 = dktX0_row_2 := dk_seg dksX0_row_1 23 rfl rfl
theorem dksX0_row_3 : cX0_row.data.toList.drop 57 = dktX0_row_3 := dk_seg dksX0_row_2 11 rfl rfl
theorem dksX0_row_4 : cX0_row.data.toList.drop 88 = dktX0_row_4 := dk_seg dksX0_row_3 31 rfl rfl
theorem dksX0_row_5 : cX0_row.data.toList.drop 112 = dktX0_row_5 := dk_seg dksX0_row_4 24 rfl rfl
theorem dksX0_row_6 : cX0_row.data.toList.drop 136 = dktX0_row_6 := dk_seg dksX0_row_5 24 rfl rfl
theorem dX0_row_0 : decode cX0_row 0 = .ok (.aload_n 0, 1) := dk_42 (dk_at dksX0_row_0 0 rfl rfl)
theorem dX0_row_1 : decode cX0_row 1 = .ok (.iload_n 1, 1) := dk_27 (dk_at dksX0_row_0 1 rfl rfl)
theorem dX0_row_2 : decode cX0_row 2 = .ok (.iload_n 2, 1) := dk_28 (dk_at dksX0_row_0 2 rfl rfl)
theorem dX0_row_3 : decode cX0_row 3 = .ok (.invokevirtual 323, 3) := dk_182 1 67 (dk_at dksX0_row_0 3 rfl rfl)
theorem dX0_row_6 : decode cX0_row 6 = .ok (.ifCond .ne 6, 3) := dk_154 0 6 (dk_at dksX0_row_0 6 rfl rfl)
theorem dX0_row_9 : decode cX0_row 9 = .ok (.bipush (-2), 2) := dk_16 254 (dk_at dksX0_row_0 9 rfl rfl)
theorem dX0_row_11 : decode cX0_row 11 = .ok (.ireturn, 1) := dk_172 (dk_at dksX0_row_0 11 rfl rfl)
theorem dX0_row_12 : decode cX0_row 12 = .ok (.iload_n 3, 1) := dk_29 (dk_at dksX0_row_0 12 rfl rfl)
theorem dX0_row_13 : decode cX0_row 13 = .ok (.iconst (-1), 1) := dk_2 (dk_at dksX0_row_0 13 rfl rfl)
theorem dX0_row_14 : decode cX0_row 14 = .ok (.if_icmp .ne 21, 3) := dk_160 0 21 (dk_at dksX0_row_0 14 rfl rfl)
theorem dX0_row_17 : decode cX0_row 17 = .ok (.iload 4, 2) := dk_21 4 (dk_at dksX0_row_0 17 rfl rfl)
theorem dX0_row_19 : decode cX0_row 19 = .ok (.ifCond .ne 13, 3) := dk_154 0 13 (dk_at dksX0_row_0 19 rfl rfl)
theorem dX0_row_22 : decode cX0_row 22 = .ok (.aload_n 0, 1) := dk_42 (dk_at dksX0_row_0 22 rfl rfl)
theorem dX0_row_23 : decode cX0_row 23 = .ok (.getfield 108, 3) := dk_180 0 108 (dk_at dksX0_row_1 0 rfl rfl)
theorem dX0_row_26 : decode cX0_row 26 = .ok (.getfield 326, 3) := dk_180 1 70 (dk_at dksX0_row_1 3 rfl rfl)
theorem dX0_row_29 : decode cX0_row 29 = .ok (.goto 5, 3) := dk_167 0 5 (dk_at dksX0_row_1 6 rfl rfl)
theorem dX0_row_32 : decode cX0_row 32 = .ok (.bipush (-2), 2) := dk_16 254 (dk_at dksX0_row_1 9 rfl rfl)
theorem dX0_row_34 : decode cX0_row 34 = .ok (.ireturn, 1) := dk_172 (dk_at dksX0_row_1 11 rfl rfl)
theorem dX0_row_35 : decode cX0_row 35 = .ok (.iload_n 3, 1) := dk_29 (dk_at dksX0_row_1 12 rfl rfl)
theorem dX0_row_36 : decode cX0_row 36 = .ok (.iconst 0, 1) := dk_3 (dk_at dksX0_row_1 13 rfl rfl)
theorem dX0_row_37 : decode cX0_row 37 = .ok (.aload_n 0, 1) := dk_42 (dk_at dksX0_row_1 14 rfl rfl)
theorem dX0_row_38 : decode cX0_row 38 = .ok (.getfield 108, 3) := dk_180 0 108 (dk_at dksX0_row_1 15 rfl rfl)
theorem dX0_row_41 : decode cX0_row 41 = .ok (.getfield 326, 3) := dk_180 1 70 (dk_at dksX0_row_1 18 rfl rfl)
theorem dX0_row_44 : decode cX0_row 44 = .ok (.iconst 1, 1) := dk_4 (dk_at dksX0_row_1 21 rfl rfl)
theorem dX0_row_45 : decode cX0_row 45 = .ok (.isub, 1) := dk_100 (dk_at dksX0_row_1 22 rfl rfl)
theorem dX0_row_46 : decode cX0_row 46 = .ok (.invokestatic 176, 3) := dk_184 0 176 (dk_at dksX0_row_2 0 rfl rfl)
theorem dX0_row_49 : decode cX0_row 49 = .ok (.ifCond .ne 6, 3) := dk_154 0 6 (dk_at dksX0_row_2 3 rfl rfl)
theorem dX0_row_52 : decode cX0_row 52 = .ok (.bipush (-2), 2) := dk_16 254 (dk_at dksX0_row_2 6 rfl rfl)
theorem dX0_row_54 : decode cX0_row 54 = .ok (.ireturn, 1) := dk_172 (dk_at dksX0_row_2 8 rfl rfl)
theorem dX0_row_55 : decode cX0_row 55 = .ok (.iload 4, 2) := dk_21 4 (dk_at dksX0_row_2 9 rfl rfl)
theorem dX0_row_57 : decode cX0_row 57 = .ok (.tableswitch 79 0 3 #[31, 41, 51, 61], 31) := by decide +kernel
theorem dX0_row_88 : decode cX0_row 88 = .ok (.aload_n 0, 1) := dk_42 (dk_at dksX0_row_4 0 rfl rfl)
theorem dX0_row_89 : decode cX0_row 89 = .ok (.getfield 108, 3) := dk_180 0 108 (dk_at dksX0_row_4 1 rfl rfl)
theorem dX0_row_92 : decode cX0_row 92 = .ok (.getfield 327, 3) := dk_180 1 71 (dk_at dksX0_row_4 4 rfl rfl)
theorem dX0_row_95 : decode cX0_row 95 = .ok (.iload_n 3, 1) := dk_29 (dk_at dksX0_row_4 7 rfl rfl)
theorem dX0_row_96 : decode cX0_row 96 = .ok (.iaload, 1) := dk_46 (dk_at dksX0_row_4 8 rfl rfl)
theorem dX0_row_97 : decode cX0_row 97 = .ok (.ireturn, 1) := dk_172 (dk_at dksX0_row_4 9 rfl rfl)
theorem dX0_row_98 : decode cX0_row 98 = .ok (.aload_n 0, 1) := dk_42 (dk_at dksX0_row_4 10 rfl rfl)
theorem dX0_row_99 : decode cX0_row 99 = .ok (.getfield 108, 3) := dk_180 0 108 (dk_at dksX0_row_4 11 rfl rfl)
theorem dX0_row_102 : decode cX0_row 102 = .ok (.getfield 329, 3) := dk_180 1 73 (dk_at dksX0_row_4 14 rfl rfl)
theorem dX0_row_105 : decode cX0_row 105 = .ok (.iload_n 3, 1) := dk_29 (dk_at dksX0_row_4 17 rfl rfl)
theorem dX0_row_106 : decode cX0_row 106 = .ok (.iaload, 1) := dk_46 (dk_at dksX0_row_4 18 rfl rfl)
theorem dX0_row_107 : decode cX0_row 107 = .ok (.ireturn, 1) := dk_172 (dk_at dksX0_row_4 19 rfl rfl)
theorem dX0_row_108 : decode cX0_row 108 = .ok (.aload_n 0, 1) := dk_42 (dk_at dksX0_row_4 20 rfl rfl)
theorem dX0_row_109 : decode cX0_row 109 = .ok (.getfield 108, 3) := dk_180 0 108 (dk_at dksX0_row_4 21 rfl rfl)
theorem dX0_row_112 : decode cX0_row 112 = .ok (.getfield 332, 3) := dk_180 1 76 (dk_at dksX0_row_5 0 rfl rfl)
theorem dX0_row_115 : decode cX0_row 115 = .ok (.iload_n 3, 1) := dk_29 (dk_at dksX0_row_5 3 rfl rfl)
theorem dX0_row_116 : decode cX0_row 116 = .ok (.iaload, 1) := dk_46 (dk_at dksX0_row_5 4 rfl rfl)
theorem dX0_row_117 : decode cX0_row 117 = .ok (.ireturn, 1) := dk_172 (dk_at dksX0_row_5 5 rfl rfl)
theorem dX0_row_118 : decode cX0_row 118 = .ok (.aload_n 0, 1) := dk_42 (dk_at dksX0_row_5 6 rfl rfl)
theorem dX0_row_119 : decode cX0_row 119 = .ok (.getfield 108, 3) := dk_180 0 108 (dk_at dksX0_row_5 7 rfl rfl)
theorem dX0_row_122 : decode cX0_row 122 = .ok (.getfield 334, 3) := dk_180 1 78 (dk_at dksX0_row_5 10 rfl rfl)
theorem dX0_row_125 : decode cX0_row 125 = .ok (.iload_n 3, 1) := dk_29 (dk_at dksX0_row_5 13 rfl rfl)
theorem dX0_row_126 : decode cX0_row 126 = .ok (.baload, 1) := dk_51 (dk_at dksX0_row_5 14 rfl rfl)
theorem dX0_row_127 : decode cX0_row 127 = .ok (.ifCond .eq 7, 3) := dk_153 0 7 (dk_at dksX0_row_5 15 rfl rfl)
theorem dX0_row_130 : decode cX0_row 130 = .ok (.iconst 1, 1) := dk_4 (dk_at dksX0_row_5 18 rfl rfl)
theorem dX0_row_131 : decode cX0_row 131 = .ok (.goto 4, 3) := dk_167 0 4 (dk_at dksX0_row_5 19 rfl rfl)
theorem dX0_row_134 : decode cX0_row 134 = .ok (.iconst 0, 1) := dk_3 (dk_at dksX0_row_5 22 rfl rfl)
theorem dX0_row_135 : decode cX0_row 135 = .ok (.ireturn, 1) := dk_172 (dk_at dksX0_row_5 23 rfl rfl)
theorem dX0_row_136 : decode cX0_row 136 = .ok (.bipush (-2), 2) := dk_16 254 (dk_at dksX0_row_6 0 rfl rfl)
theorem dX0_row_138 : decode cX0_row 138 = .ok (.ireturn, 1) := dk_172 (dk_at dksX0_row_6 2 rfl rfl)
abbrev cX0_layRow : ByteArray := prog_1_method_17_code
def yX0_layRow : MethodName := ⟨RX0, "layRow", "(II)Z"⟩
def dkwX0_layRow_2 : List UInt8 := [3, 182, 1, 12, 4, 172]
abbrev dktX0_layRow_2 : List UInt8 := dkwX0_layRow_2 ++ []
def dkwX0_layRow_1 : List UInt8 := [180, 0, 252, 180, 1, 6, 3, 50, 42, 180, 0, 252, 180, 1, 6, 4, 50, 182, 1, 9, 42, 180, 0, 108]
abbrev dktX0_layRow_1 : List UInt8 := dkwX0_layRow_1 ++ dktX0_layRow_2
def dkwX0_layRow_0 : List UInt8 := [42, 27, 182, 1, 0, 153, 0, 11, 42, 28, 182, 1, 3, 154, 0, 5, 3, 172, 42, 180, 0, 108, 42]
abbrev dktX0_layRow_0 : List UInt8 := dkwX0_layRow_0 ++ dktX0_layRow_1
theorem dksX0_layRow_0 : cX0_layRow.data.toList.drop 0 = dktX0_layRow_0 := by decide +kernel
theorem dksX0_layRow_1 : cX0_layRow.data.toList.drop 23 = dktX0_layRow_1 := dk_seg dksX0_layRow_0 23 rfl rfl
theorem dksX0_layRow_2 : cX0_layRow.data.toList.drop 47 = dktX0_layRow_2 := dk_seg dksX0_layRow_1 24 rfl rfl
theorem dX0_layRow_0 : decode cX0_layRow 0 = .ok (.aload_n 0, 1) := dk_42 (dk_at dksX0_layRow_0 0 rfl rfl)
theorem dX0_layRow_1 : decode cX0_layRow 1 = .ok (.iload_n 1, 1) := dk_27 (dk_at dksX0_layRow_0 1 rfl rfl)
theorem dX0_layRow_2 : decode cX0_layRow 2 = .ok (.invokevirtual 256, 3) := dk_182 1 0 (dk_at dksX0_layRow_0 2 rfl rfl)
theorem dX0_layRow_5 : decode cX0_layRow 5 = .ok (.ifCond .eq 11, 3) := dk_153 0 11 (dk_at dksX0_layRow_0 5 rfl rfl)
theorem dX0_layRow_8 : decode cX0_layRow 8 = .ok (.aload_n 0, 1) := dk_42 (dk_at dksX0_layRow_0 8 rfl rfl)
theorem dX0_layRow_9 : decode cX0_layRow 9 = .ok (.iload_n 2, 1) := dk_28 (dk_at dksX0_layRow_0 9 rfl rfl)
theorem dX0_layRow_10 : decode cX0_layRow 10 = .ok (.invokevirtual 259, 3) := dk_182 1 3 (dk_at dksX0_layRow_0 10 rfl rfl)
theorem dX0_layRow_13 : decode cX0_layRow 13 = .ok (.ifCond .ne 5, 3) := dk_154 0 5 (dk_at dksX0_layRow_0 13 rfl rfl)
theorem dX0_layRow_16 : decode cX0_layRow 16 = .ok (.iconst 0, 1) := dk_3 (dk_at dksX0_layRow_0 16 rfl rfl)
theorem dX0_layRow_17 : decode cX0_layRow 17 = .ok (.ireturn, 1) := dk_172 (dk_at dksX0_layRow_0 17 rfl rfl)
theorem dX0_layRow_18 : decode cX0_layRow 18 = .ok (.aload_n 0, 1) := dk_42 (dk_at dksX0_layRow_0 18 rfl rfl)
theorem dX0_layRow_19 : decode cX0_layRow 19 = .ok (.getfield 108, 3) := dk_180 0 108 (dk_at dksX0_layRow_0 19 rfl rfl)
theorem dX0_layRow_22 : decode cX0_layRow 22 = .ok (.aload_n 0, 1) := dk_42 (dk_at dksX0_layRow_0 22 rfl rfl)
theorem dX0_layRow_23 : decode cX0_layRow 23 = .ok (.getfield 252, 3) := dk_180 0 252 (dk_at dksX0_layRow_1 0 rfl rfl)
theorem dX0_layRow_26 : decode cX0_layRow 26 = .ok (.getfield 262, 3) := dk_180 1 6 (dk_at dksX0_layRow_1 3 rfl rfl)
theorem dX0_layRow_29 : decode cX0_layRow 29 = .ok (.iconst 0, 1) := dk_3 (dk_at dksX0_layRow_1 6 rfl rfl)
theorem dX0_layRow_30 : decode cX0_layRow 30 = .ok (.aaload, 1) := dk_50 (dk_at dksX0_layRow_1 7 rfl rfl)
theorem dX0_layRow_31 : decode cX0_layRow 31 = .ok (.aload_n 0, 1) := dk_42 (dk_at dksX0_layRow_1 8 rfl rfl)
theorem dX0_layRow_32 : decode cX0_layRow 32 = .ok (.getfield 252, 3) := dk_180 0 252 (dk_at dksX0_layRow_1 9 rfl rfl)
theorem dX0_layRow_35 : decode cX0_layRow 35 = .ok (.getfield 262, 3) := dk_180 1 6 (dk_at dksX0_layRow_1 12 rfl rfl)
theorem dX0_layRow_38 : decode cX0_layRow 38 = .ok (.iconst 1, 1) := dk_4 (dk_at dksX0_layRow_1 15 rfl rfl)
theorem dX0_layRow_39 : decode cX0_layRow 39 = .ok (.aaload, 1) := dk_50 (dk_at dksX0_layRow_1 16 rfl rfl)
theorem dX0_layRow_40 : decode cX0_layRow 40 = .ok (.invokevirtual 265, 3) := dk_182 1 9 (dk_at dksX0_layRow_1 17 rfl rfl)
theorem dX0_layRow_43 : decode cX0_layRow 43 = .ok (.aload_n 0, 1) := dk_42 (dk_at dksX0_layRow_1 20 rfl rfl)
theorem dX0_layRow_44 : decode cX0_layRow 44 = .ok (.getfield 108, 3) := dk_180 0 108 (dk_at dksX0_layRow_1 21 rfl rfl)
theorem dX0_layRow_47 : decode cX0_layRow 47 = .ok (.iconst 0, 1) := dk_3 (dk_at dksX0_layRow_2 0 rfl rfl)
theorem dX0_layRow_48 : decode cX0_layRow 48 = .ok (.invokevirtual 268, 3) := dk_182 1 12 (dk_at dksX0_layRow_2 1 rfl rfl)
theorem dX0_layRow_51 : decode cX0_layRow 51 = .ok (.iconst 1, 1) := dk_4 (dk_at dksX0_layRow_2 4 rfl rfl)
theorem dX0_layRow_52 : decode cX0_layRow 52 = .ok (.ireturn, 1) := dk_172 (dk_at dksX0_layRow_2 5 rfl rfl)
abbrev cX0_has : ByteArray := prog_1_method_2_code
def yX0_has : MethodName := ⟨RX0, "has", "(II)Z"⟩
def dkwX0_has_0 : List UInt8 := [26, 27, 122, 4, 126, 153, 0, 7, 4, 167, 0, 4, 3, 172]
abbrev dktX0_has_0 : List UInt8 := dkwX0_has_0 ++ []
theorem dksX0_has_0 : cX0_has.data.toList.drop 0 = dktX0_has_0 := by decide +kernel
theorem dX0_has_0 : decode cX0_has 0 = .ok (.iload_n 0, 1) := dk_26 (dk_at dksX0_has_0 0 rfl rfl)
theorem dX0_has_1 : decode cX0_has 1 = .ok (.iload_n 1, 1) := dk_27 (dk_at dksX0_has_0 1 rfl rfl)
theorem dX0_has_2 : decode cX0_has 2 = .ok (.ishr, 1) := dk_122 (dk_at dksX0_has_0 2 rfl rfl)
theorem dX0_has_3 : decode cX0_has 3 = .ok (.iconst 1, 1) := dk_4 (dk_at dksX0_has_0 3 rfl rfl)
theorem dX0_has_4 : decode cX0_has 4 = .ok (.iand, 1) := dk_126 (dk_at dksX0_has_0 4 rfl rfl)
theorem dX0_has_5 : decode cX0_has 5 = .ok (.ifCond .eq 7, 3) := dk_153 0 7 (dk_at dksX0_has_0 5 rfl rfl)
theorem dX0_has_8 : decode cX0_has 8 = .ok (.iconst 1, 1) := dk_4 (dk_at dksX0_has_0 8 rfl rfl)
theorem dX0_has_9 : decode cX0_has 9 = .ok (.goto 4, 3) := dk_167 0 4 (dk_at dksX0_has_0 9 rfl rfl)
theorem dX0_has_12 : decode cX0_has 12 = .ok (.iconst 0, 1) := dk_3 (dk_at dksX0_has_0 12 rfl rfl)
theorem dX0_has_13 : decode cX0_has 13 = .ok (.ireturn, 1) := dk_172 (dk_at dksX0_has_0 13 rfl rfl)
abbrev cX0_heard : ByteArray := prog_1_method_25_code
def yX0_heard : MethodName := ⟨RX0, "heard", "(IIII)I"⟩
def dkwX0_heard_3 : List UInt8 := [21, 4, 182, 1, 85, 167, 0, 4, 2, 172]
abbrev dktX0_heard_3 : List UInt8 := dkwX0_heard_3 ++ []
def dkwX0_heard_2 : List UInt8 := [21, 6, 167, 0, 31, 21, 4, 3, 21, 6, 4, 100, 184, 0, 176, 153, 0, 17, 42, 180, 0, 108, 25, 5]
abbrev dktX0_heard_2 : List UInt8 := dkwX0_heard_2 ++ dktX0_heard_3
def dkwX0_heard_1 : List UInt8 := [180, 1, 20, 29, 50, 58, 5, 42, 180, 0, 108, 25, 5, 182, 1, 81, 54, 6, 21, 4, 2, 160, 0, 8]
abbrev dktX0_heard_1 : List UInt8 := dkwX0_heard_1 ++ dktX0_heard_2
def dkwX0_heard_0 : List UInt8 := [42, 27, 28, 182, 1, 67, 153, 0, 11, 42, 29, 182, 1, 17, 154, 0, 5, 2, 172, 42, 180, 0, 243]
abbrev dktX0_heard_0 : List UInt8 := dkwX0_heard_0 ++ dktX0_heard_1
theorem dksX0_heard_0 : cX0_heard.data.toList.drop 0 = dktX0_heard_0 := by decide +kernel
theorem dksX0_heard_1 : cX0_heard.data.toList.drop 23 = dktX0_heard_1 := dk_seg dksX0_heard_0 23 rfl rfl
theorem dksX0_heard_2 : cX0_heard.data.toList.drop 47 = dktX0_heard_2 := dk_seg dksX0_heard_1 24 rfl rfl
theorem dksX0_heard_3 : cX0_heard.data.toList.drop 71 = dktX0_heard_3 := dk_seg dksX0_heard_2 24 rfl rfl
theorem dX0_heard_0 : decode cX0_heard 0 = .ok (.aload_n 0, 1) := dk_42 (dk_at dksX0_heard_0 0 rfl rfl)
theorem dX0_heard_1 : decode cX0_heard 1 = .ok (.iload_n 1, 1) := dk_27 (dk_at dksX0_heard_0 1 rfl rfl)
theorem dX0_heard_2 : decode cX0_heard 2 = .ok (.iload_n 2, 1) := dk_28 (dk_at dksX0_heard_0 2 rfl rfl)
theorem dX0_heard_3 : decode cX0_heard 3 = .ok (.invokevirtual 323, 3) := dk_182 1 67 (dk_at dksX0_heard_0 3 rfl rfl)
theorem dX0_heard_6 : decode cX0_heard 6 = .ok (.ifCond .eq 11, 3) := dk_153 0 11 (dk_at dksX0_heard_0 6 rfl rfl)
theorem dX0_heard_9 : decode cX0_heard 9 = .ok (.aload_n 0, 1) := dk_42 (dk_at dksX0_heard_0 9 rfl rfl)
theorem dX0_heard_10 : decode cX0_heard 10 = .ok (.iload_n 3, 1) := dk_29 (dk_at dksX0_heard_0 10 rfl rfl)
theorem dX0_heard_11 : decode cX0_heard 11 = .ok (.invokevirtual 273, 3) := dk_182 1 17 (dk_at dksX0_heard_0 11 rfl rfl)
theorem dX0_heard_14 : decode cX0_heard 14 = .ok (.ifCond .ne 5, 3) := dk_154 0 5 (dk_at dksX0_heard_0 14 rfl rfl)
theorem dX0_heard_17 : decode cX0_heard 17 = .ok (.iconst (-1), 1) := dk_2 (dk_at dksX0_heard_0 17 rfl rfl)
theorem dX0_heard_18 : decode cX0_heard 18 = .ok (.ireturn, 1) := dk_172 (dk_at dksX0_heard_0 18 rfl rfl)
theorem dX0_heard_19 : decode cX0_heard 19 = .ok (.aload_n 0, 1) := dk_42 (dk_at dksX0_heard_0 19 rfl rfl)
theorem dX0_heard_20 : decode cX0_heard 20 = .ok (.getfield 243, 3) := dk_180 0 243 (dk_at dksX0_heard_0 20 rfl rfl)
theorem dX0_heard_23 : decode cX0_heard 23 = .ok (.getfield 276, 3) := dk_180 1 20 (dk_at dksX0_heard_1 0 rfl rfl)
theorem dX0_heard_26 : decode cX0_heard 26 = .ok (.iload_n 3, 1) := dk_29 (dk_at dksX0_heard_1 3 rfl rfl)
theorem dX0_heard_27 : decode cX0_heard 27 = .ok (.aaload, 1) := dk_50 (dk_at dksX0_heard_1 4 rfl rfl)
theorem dX0_heard_28 : decode cX0_heard 28 = .ok (.astore 5, 2) := dk_58 5 (dk_at dksX0_heard_1 5 rfl rfl)
theorem dX0_heard_30 : decode cX0_heard 30 = .ok (.aload_n 0, 1) := dk_42 (dk_at dksX0_heard_1 7 rfl rfl)
theorem dX0_heard_31 : decode cX0_heard 31 = .ok (.getfield 108, 3) := dk_180 0 108 (dk_at dksX0_heard_1 8 rfl rfl)
theorem dX0_heard_34 : decode cX0_heard 34 = .ok (.aload 5, 2) := dk_25 5 (dk_at dksX0_heard_1 11 rfl rfl)
theorem dX0_heard_36 : decode cX0_heard 36 = .ok (.invokevirtual 337, 3) := dk_182 1 81 (dk_at dksX0_heard_1 13 rfl rfl)
theorem dX0_heard_39 : decode cX0_heard 39 = .ok (.istore 6, 2) := dk_54 6 (dk_at dksX0_heard_1 16 rfl rfl)
theorem dX0_heard_41 : decode cX0_heard 41 = .ok (.iload 4, 2) := dk_21 4 (dk_at dksX0_heard_1 18 rfl rfl)
theorem dX0_heard_43 : decode cX0_heard 43 = .ok (.iconst (-1), 1) := dk_2 (dk_at dksX0_heard_1 20 rfl rfl)
theorem dX0_heard_44 : decode cX0_heard 44 = .ok (.if_icmp .ne 8, 3) := dk_160 0 8 (dk_at dksX0_heard_1 21 rfl rfl)
theorem dX0_heard_47 : decode cX0_heard 47 = .ok (.iload 6, 2) := dk_21 6 (dk_at dksX0_heard_2 0 rfl rfl)
theorem dX0_heard_49 : decode cX0_heard 49 = .ok (.goto 31, 3) := dk_167 0 31 (dk_at dksX0_heard_2 2 rfl rfl)
theorem dX0_heard_52 : decode cX0_heard 52 = .ok (.iload 4, 2) := dk_21 4 (dk_at dksX0_heard_2 5 rfl rfl)
theorem dX0_heard_54 : decode cX0_heard 54 = .ok (.iconst 0, 1) := dk_3 (dk_at dksX0_heard_2 7 rfl rfl)
theorem dX0_heard_55 : decode cX0_heard 55 = .ok (.iload 6, 2) := dk_21 6 (dk_at dksX0_heard_2 8 rfl rfl)
theorem dX0_heard_57 : decode cX0_heard 57 = .ok (.iconst 1, 1) := dk_4 (dk_at dksX0_heard_2 10 rfl rfl)
theorem dX0_heard_58 : decode cX0_heard 58 = .ok (.isub, 1) := dk_100 (dk_at dksX0_heard_2 11 rfl rfl)
theorem dX0_heard_59 : decode cX0_heard 59 = .ok (.invokestatic 176, 3) := dk_184 0 176 (dk_at dksX0_heard_2 12 rfl rfl)
theorem dX0_heard_62 : decode cX0_heard 62 = .ok (.ifCond .eq 17, 3) := dk_153 0 17 (dk_at dksX0_heard_2 15 rfl rfl)
theorem dX0_heard_65 : decode cX0_heard 65 = .ok (.aload_n 0, 1) := dk_42 (dk_at dksX0_heard_2 18 rfl rfl)
theorem dX0_heard_66 : decode cX0_heard 66 = .ok (.getfield 108, 3) := dk_180 0 108 (dk_at dksX0_heard_2 19 rfl rfl)
theorem dX0_heard_69 : decode cX0_heard 69 = .ok (.aload 5, 2) := dk_25 5 (dk_at dksX0_heard_2 22 rfl rfl)
theorem dX0_heard_71 : decode cX0_heard 71 = .ok (.iload 4, 2) := dk_21 4 (dk_at dksX0_heard_3 0 rfl rfl)
theorem dX0_heard_73 : decode cX0_heard 73 = .ok (.invokevirtual 341, 3) := dk_182 1 85 (dk_at dksX0_heard_3 2 rfl rfl)
theorem dX0_heard_76 : decode cX0_heard 76 = .ok (.goto 4, 3) := dk_167 0 4 (dk_at dksX0_heard_3 5 rfl rfl)
theorem dX0_heard_79 : decode cX0_heard 79 = .ok (.iconst (-1), 1) := dk_2 (dk_at dksX0_heard_3 8 rfl rfl)
theorem dX0_heard_80 : decode cX0_heard 80 = .ok (.ireturn, 1) := dk_172 (dk_at dksX0_heard_3 9 rfl rfl)
abbrev cX0_made : ByteArray := prog_1_method_26_code
def yX0_made : MethodName := ⟨RX0, "made", "(IIIII)I"⟩
def dkwX0_made_7 : List UInt8 := [46, 172, 25, 6, 21, 4, 29, 182, 1, 105, 172, 16, 254, 172]
abbrev dktX0_made_7 : List UInt8 := dkwX0_made_7 ++ []
def dkwX0_made_6 : List UInt8 := [25, 6, 180, 1, 99, 21, 4, 46, 172, 25, 6, 21, 4, 182, 1, 101, 172, 25, 6, 180, 1, 103, 21, 4]
abbrev dktX0_made_6 : List UInt8 := dkwX0_made_6 ++ dktX0_made_7
def dkwX0_made_5 : List UInt8 := [170, 0, 0, 0, 64, 0, 0, 0, 0, 0, 0, 0, 3, 0, 0, 0, 29, 0, 0, 0, 38, 0, 0, 0, 46, 0, 0, 0, 55]
abbrev dktX0_made_5 : List UInt8 := dkwX0_made_5 ++ dktX0_made_6
def dkwX0_made_4 : List UInt8 := [154, 0, 6, 16, 254, 172, 21, 5]
abbrev dktX0_made_4 : List UInt8 := dkwX0_made_4 ++ dktX0_made_5
def dkwX0_made_3 : List UInt8 := [25, 6, 182, 1, 96, 167, 0, 5, 16, 254, 172, 21, 4, 3, 25, 6, 180, 1, 92, 4, 100, 184, 0, 176]
abbrev dktX0_made_3 : List UInt8 := dkwX0_made_3 ++ dktX0_made_4
def dkwX0_made_2 : List UInt8 := [167, 0, 33, 21, 5, 4, 160, 0, 11, 25, 6, 180, 1, 93, 167, 0, 19, 21, 5, 5, 160, 0, 11]
abbrev dktX0_made_2 : List UInt8 := dkwX0_made_2 ++ dktX0_made_3
def dkwX0_made_1 : List UInt8 := [29, 50, 29, 182, 1, 88, 58, 6, 21, 4, 2, 160, 0, 47, 21, 5, 154, 0, 11, 25, 6, 180, 1, 92]
abbrev dktX0_made_1 : List UInt8 := dkwX0_made_1 ++ dktX0_made_2
def dkwX0_made_0 : List UInt8 := [42, 27, 28, 182, 1, 67, 153, 0, 11, 42, 29, 182, 1, 17, 154, 0, 6, 16, 254, 172, 42, 180, 0, 115]
abbrev dktX0_made_0 : List UInt8 := dkwX0_made_0 ++ dktX0_made_1
theorem dksX0_made_0 : cX0_made.data.toList.drop 0 = dktX0_made_0 := by decide +kernel
theorem dksX0_made_1 : cX0_made.data.toList.drop 24 = dktX0_made_1 := dk_seg dksX0_made_0 24 rfl rfl
theorem dksX0_made_2 : cX0_made.data.toList.drop 48 = dktX0_made_2 := dk_seg dksX0_made_1 24 rfl rfl
theorem dksX0_made_3 : cX0_made.data.toList.drop 71 = dktX0_made_3 := dk_seg dksX0_made_2 23 rfl rfl
theorem dksX0_made_4 : cX0_made.data.toList.drop 95 = dktX0_made_4 := dk_seg dksX0_made_3 24 rfl rfl
theorem dksX0_made_5 : cX0_made.data.toList.drop 103 = dktX0_made_5 := dk_seg dksX0_made_4 8 rfl rfl
theorem dksX0_made_6 : cX0_made.data.toList.drop 132 = dktX0_made_6 := dk_seg dksX0_made_5 29 rfl rfl
theorem dksX0_made_7 : cX0_made.data.toList.drop 156 = dktX0_made_7 := dk_seg dksX0_made_6 24 rfl rfl
theorem dX0_made_0 : decode cX0_made 0 = .ok (.aload_n 0, 1) := dk_42 (dk_at dksX0_made_0 0 rfl rfl)
theorem dX0_made_1 : decode cX0_made 1 = .ok (.iload_n 1, 1) := dk_27 (dk_at dksX0_made_0 1 rfl rfl)
theorem dX0_made_2 : decode cX0_made 2 = .ok (.iload_n 2, 1) := dk_28 (dk_at dksX0_made_0 2 rfl rfl)
theorem dX0_made_3 : decode cX0_made 3 = .ok (.invokevirtual 323, 3) := dk_182 1 67 (dk_at dksX0_made_0 3 rfl rfl)
theorem dX0_made_6 : decode cX0_made 6 = .ok (.ifCond .eq 11, 3) := dk_153 0 11 (dk_at dksX0_made_0 6 rfl rfl)
theorem dX0_made_9 : decode cX0_made 9 = .ok (.aload_n 0, 1) := dk_42 (dk_at dksX0_made_0 9 rfl rfl)
theorem dX0_made_10 : decode cX0_made 10 = .ok (.iload_n 3, 1) := dk_29 (dk_at dksX0_made_0 10 rfl rfl)
theorem dX0_made_11 : decode cX0_made 11 = .ok (.invokevirtual 273, 3) := dk_182 1 17 (dk_at dksX0_made_0 11 rfl rfl)
theorem dX0_made_14 : decode cX0_made 14 = .ok (.ifCond .ne 6, 3) := dk_154 0 6 (dk_at dksX0_made_0 14 rfl rfl)
theorem dX0_made_17 : decode cX0_made 17 = .ok (.bipush (-2), 2) := dk_16 254 (dk_at dksX0_made_0 17 rfl rfl)
theorem dX0_made_19 : decode cX0_made 19 = .ok (.ireturn, 1) := dk_172 (dk_at dksX0_made_0 19 rfl rfl)
theorem dX0_made_20 : decode cX0_made 20 = .ok (.aload_n 0, 1) := dk_42 (dk_at dksX0_made_0 20 rfl rfl)
theorem dX0_made_21 : decode cX0_made 21 = .ok (.getfield 115, 3) := dk_180 0 115 (dk_at dksX0_made_0 21 rfl rfl)
theorem dX0_made_24 : decode cX0_made 24 = .ok (.iload_n 3, 1) := dk_29 (dk_at dksX0_made_1 0 rfl rfl)
theorem dX0_made_25 : decode cX0_made 25 = .ok (.aaload, 1) := dk_50 (dk_at dksX0_made_1 1 rfl rfl)
theorem dX0_made_26 : decode cX0_made 26 = .ok (.iload_n 3, 1) := dk_29 (dk_at dksX0_made_1 2 rfl rfl)
theorem dX0_made_27 : decode cX0_made 27 = .ok (.invokevirtual 344, 3) := dk_182 1 88 (dk_at dksX0_made_1 3 rfl rfl)
theorem dX0_made_30 : decode cX0_made 30 = .ok (.astore 6, 2) := dk_58 6 (dk_at dksX0_made_1 6 rfl rfl)
theorem dX0_made_32 : decode cX0_made 32 = .ok (.iload 4, 2) := dk_21 4 (dk_at dksX0_made_1 8 rfl rfl)
theorem dX0_made_34 : decode cX0_made 34 = .ok (.iconst (-1), 1) := dk_2 (dk_at dksX0_made_1 10 rfl rfl)
theorem dX0_made_35 : decode cX0_made 35 = .ok (.if_icmp .ne 47, 3) := dk_160 0 47 (dk_at dksX0_made_1 11 rfl rfl)
theorem dX0_made_38 : decode cX0_made 38 = .ok (.iload 5, 2) := dk_21 5 (dk_at dksX0_made_1 14 rfl rfl)
theorem dX0_made_40 : decode cX0_made 40 = .ok (.ifCond .ne 11, 3) := dk_154 0 11 (dk_at dksX0_made_1 16 rfl rfl)
theorem dX0_made_43 : decode cX0_made 43 = .ok (.aload 6, 2) := dk_25 6 (dk_at dksX0_made_1 19 rfl rfl)
theorem dX0_made_45 : decode cX0_made 45 = .ok (.getfield 348, 3) := dk_180 1 92 (dk_at dksX0_made_1 21 rfl rfl)
theorem dX0_made_48 : decode cX0_made 48 = .ok (.goto 33, 3) := dk_167 0 33 (dk_at dksX0_made_2 0 rfl rfl)
theorem dX0_made_51 : decode cX0_made 51 = .ok (.iload 5, 2) := dk_21 5 (dk_at dksX0_made_2 3 rfl rfl)
theorem dX0_made_53 : decode cX0_made 53 = .ok (.iconst 1, 1) := dk_4 (dk_at dksX0_made_2 5 rfl rfl)
theorem dX0_made_54 : decode cX0_made 54 = .ok (.if_icmp .ne 11, 3) := dk_160 0 11 (dk_at dksX0_made_2 6 rfl rfl)
theorem dX0_made_57 : decode cX0_made 57 = .ok (.aload 6, 2) := dk_25 6 (dk_at dksX0_made_2 9 rfl rfl)
theorem dX0_made_59 : decode cX0_made 59 = .ok (.getfield 349, 3) := dk_180 1 93 (dk_at dksX0_made_2 11 rfl rfl)
theorem dX0_made_62 : decode cX0_made 62 = .ok (.goto 19, 3) := dk_167 0 19 (dk_at dksX0_made_2 14 rfl rfl)
theorem dX0_made_65 : decode cX0_made 65 = .ok (.iload 5, 2) := dk_21 5 (dk_at dksX0_made_2 17 rfl rfl)
theorem dX0_made_67 : decode cX0_made 67 = .ok (.iconst 2, 1) := dk_5 (dk_at dksX0_made_2 19 rfl rfl)
theorem dX0_made_68 : decode cX0_made 68 = .ok (.if_icmp .ne 11, 3) := dk_160 0 11 (dk_at dksX0_made_2 20 rfl rfl)
theorem dX0_made_71 : decode cX0_made 71 = .ok (.aload 6, 2) := dk_25 6 (dk_at dksX0_made_3 0 rfl rfl)
theorem dX0_made_73 : decode cX0_made 73 = .ok (.invokevirtual 352, 3) := dk_182 1 96 (dk_at dksX0_made_3 2 rfl rfl)
theorem dX0_made_76 : decode cX0_made 76 = .ok (.goto 5, 3) := dk_167 0 5 (dk_at dksX0_made_3 5 rfl rfl)
theorem dX0_made_79 : decode cX0_made 79 = .ok (.bipush (-2), 2) := dk_16 254 (dk_at dksX0_made_3 8 rfl rfl)
theorem dX0_made_81 : decode cX0_made 81 = .ok (.ireturn, 1) := dk_172 (dk_at dksX0_made_3 10 rfl rfl)
theorem dX0_made_82 : decode cX0_made 82 = .ok (.iload 4, 2) := dk_21 4 (dk_at dksX0_made_3 11 rfl rfl)
theorem dX0_made_84 : decode cX0_made 84 = .ok (.iconst 0, 1) := dk_3 (dk_at dksX0_made_3 13 rfl rfl)
theorem dX0_made_85 : decode cX0_made 85 = .ok (.aload 6, 2) := dk_25 6 (dk_at dksX0_made_3 14 rfl rfl)
theorem dX0_made_87 : decode cX0_made 87 = .ok (.getfield 348, 3) := dk_180 1 92 (dk_at dksX0_made_3 16 rfl rfl)
theorem dX0_made_90 : decode cX0_made 90 = .ok (.iconst 1, 1) := dk_4 (dk_at dksX0_made_3 19 rfl rfl)
theorem dX0_made_91 : decode cX0_made 91 = .ok (.isub, 1) := dk_100 (dk_at dksX0_made_3 20 rfl rfl)
theorem dX0_made_92 : decode cX0_made 92 = .ok (.invokestatic 176, 3) := dk_184 0 176 (dk_at dksX0_made_3 21 rfl rfl)
theorem dX0_made_95 : decode cX0_made 95 = .ok (.ifCond .ne 6, 3) := dk_154 0 6 (dk_at dksX0_made_4 0 rfl rfl)
theorem dX0_made_98 : decode cX0_made 98 = .ok (.bipush (-2), 2) := dk_16 254 (dk_at dksX0_made_4 3 rfl rfl)
theorem dX0_made_100 : decode cX0_made 100 = .ok (.ireturn, 1) := dk_172 (dk_at dksX0_made_4 5 rfl rfl)
theorem dX0_made_101 : decode cX0_made 101 = .ok (.iload 5, 2) := dk_21 5 (dk_at dksX0_made_4 6 rfl rfl)
theorem dX0_made_103 : decode cX0_made 103 = .ok (.tableswitch 64 0 3 #[29, 38, 46, 55], 29) := by decide +kernel
theorem dX0_made_132 : decode cX0_made 132 = .ok (.aload 6, 2) := dk_25 6 (dk_at dksX0_made_6 0 rfl rfl)
theorem dX0_made_134 : decode cX0_made 134 = .ok (.getfield 355, 3) := dk_180 1 99 (dk_at dksX0_made_6 2 rfl rfl)
theorem dX0_made_137 : decode cX0_made 137 = .ok (.iload 4, 2) := dk_21 4 (dk_at dksX0_made_6 5 rfl rfl)
theorem dX0_made_139 : decode cX0_made 139 = .ok (.iaload, 1) := dk_46 (dk_at dksX0_made_6 7 rfl rfl)
theorem dX0_made_140 : decode cX0_made 140 = .ok (.ireturn, 1) := dk_172 (dk_at dksX0_made_6 8 rfl rfl)
theorem dX0_made_141 : decode cX0_made 141 = .ok (.aload 6, 2) := dk_25 6 (dk_at dksX0_made_6 9 rfl rfl)
theorem dX0_made_143 : decode cX0_made 143 = .ok (.iload 4, 2) := dk_21 4 (dk_at dksX0_made_6 11 rfl rfl)
theorem dX0_made_145 : decode cX0_made 145 = .ok (.invokevirtual 357, 3) := dk_182 1 101 (dk_at dksX0_made_6 13 rfl rfl)
theorem dX0_made_148 : decode cX0_made 148 = .ok (.ireturn, 1) := dk_172 (dk_at dksX0_made_6 16 rfl rfl)
theorem dX0_made_149 : decode cX0_made 149 = .ok (.aload 6, 2) := dk_25 6 (dk_at dksX0_made_6 17 rfl rfl)
theorem dX0_made_151 : decode cX0_made 151 = .ok (.getfield 359, 3) := dk_180 1 103 (dk_at dksX0_made_6 19 rfl rfl)
theorem dX0_made_154 : decode cX0_made 154 = .ok (.iload 4, 2) := dk_21 4 (dk_at dksX0_made_6 22 rfl rfl)
theorem dX0_made_156 : decode cX0_made 156 = .ok (.iaload, 1) := dk_46 (dk_at dksX0_made_7 0 rfl rfl)
theorem dX0_made_157 : decode cX0_made 157 = .ok (.ireturn, 1) := dk_172 (dk_at dksX0_made_7 1 rfl rfl)
theorem dX0_made_158 : decode cX0_made 158 = .ok (.aload 6, 2) := dk_25 6 (dk_at dksX0_made_7 2 rfl rfl)
theorem dX0_made_160 : decode cX0_made 160 = .ok (.iload 4, 2) := dk_21 4 (dk_at dksX0_made_7 4 rfl rfl)
theorem dX0_made_162 : decode cX0_made 162 = .ok (.iload_n 3, 1) := dk_29 (dk_at dksX0_made_7 6 rfl rfl)
theorem dX0_made_163 : decode cX0_made 163 = .ok (.invokevirtual 361, 3) := dk_182 1 105 (dk_at dksX0_made_7 7 rfl rfl)
theorem dX0_made_166 : decode cX0_made 166 = .ok (.ireturn, 1) := dk_172 (dk_at dksX0_made_7 10 rfl rfl)
theorem dX0_made_167 : decode cX0_made 167 = .ok (.bipush (-2), 2) := dk_16 254 (dk_at dksX0_made_7 11 rfl rfl)
theorem dX0_made_169 : decode cX0_made 169 = .ok (.ireturn, 1) := dk_172 (dk_at dksX0_made_7 13 rfl rfl)
abbrev cX0_march : ByteArray := prog_1_method_30_code
def yX0_march : MethodName := ⟨RX0, "march", "(IIII)I"⟩
def dkwX0_march_2 : List UInt8 := [42, 21, 5, 182, 1, 119, 87, 132, 5, 1, 167, 255, 239, 42, 180, 0, 119, 29, 46, 172]
abbrev dktX0_march_2 : List UInt8 := dkwX0_march_2 ++ []
def dkwX0_march_1 : List UInt8 := [182, 1, 17, 154, 0, 7, 17, 252, 24, 172, 42, 182, 1, 116, 4, 54, 5, 21, 5, 21, 4, 163, 0, 16]
abbrev dktX0_march_1 : List UInt8 := dkwX0_march_1 ++ dktX0_march_2
def dkwX0_march_0 : List UInt8 := [21, 4, 3, 16, 24, 184, 0, 176, 153, 0, 20, 42, 27, 28, 182, 1, 67, 153, 0, 11, 42, 29]
abbrev dktX0_march_0 : List UInt8 := dkwX0_march_0 ++ dktX0_march_1
theorem dksX0_march_0 : cX0_march.data.toList.drop 0 = dktX0_march_0 := by decide +kernel
theorem dksX0_march_1 : cX0_march.data.toList.drop 22 = dktX0_march_1 := dk_seg dksX0_march_0 22 rfl rfl
theorem dksX0_march_2 : cX0_march.data.toList.drop 46 = dktX0_march_2 := dk_seg dksX0_march_1 24 rfl rfl
theorem dX0_march_0 : decode cX0_march 0 = .ok (.iload 4, 2) := dk_21 4 (dk_at dksX0_march_0 0 rfl rfl)
theorem dX0_march_2 : decode cX0_march 2 = .ok (.iconst 0, 1) := dk_3 (dk_at dksX0_march_0 2 rfl rfl)
theorem dX0_march_3 : decode cX0_march 3 = .ok (.bipush 24, 2) := dk_16 24 (dk_at dksX0_march_0 3 rfl rfl)
theorem dX0_march_5 : decode cX0_march 5 = .ok (.invokestatic 176, 3) := dk_184 0 176 (dk_at dksX0_march_0 5 rfl rfl)
theorem dX0_march_8 : decode cX0_march 8 = .ok (.ifCond .eq 20, 3) := dk_153 0 20 (dk_at dksX0_march_0 8 rfl rfl)
theorem dX0_march_11 : decode cX0_march 11 = .ok (.aload_n 0, 1) := dk_42 (dk_at dksX0_march_0 11 rfl rfl)
theorem dX0_march_12 : decode cX0_march 12 = .ok (.iload_n 1, 1) := dk_27 (dk_at dksX0_march_0 12 rfl rfl)
theorem dX0_march_13 : decode cX0_march 13 = .ok (.iload_n 2, 1) := dk_28 (dk_at dksX0_march_0 13 rfl rfl)
theorem dX0_march_14 : decode cX0_march 14 = .ok (.invokevirtual 323, 3) := dk_182 1 67 (dk_at dksX0_march_0 14 rfl rfl)
theorem dX0_march_17 : decode cX0_march 17 = .ok (.ifCond .eq 11, 3) := dk_153 0 11 (dk_at dksX0_march_0 17 rfl rfl)
theorem dX0_march_20 : decode cX0_march 20 = .ok (.aload_n 0, 1) := dk_42 (dk_at dksX0_march_0 20 rfl rfl)
theorem dX0_march_21 : decode cX0_march 21 = .ok (.iload_n 3, 1) := dk_29 (dk_at dksX0_march_0 21 rfl rfl)
theorem dX0_march_22 : decode cX0_march 22 = .ok (.invokevirtual 273, 3) := dk_182 1 17 (dk_at dksX0_march_1 0 rfl rfl)
theorem dX0_march_25 : decode cX0_march 25 = .ok (.ifCond .ne 7, 3) := dk_154 0 7 (dk_at dksX0_march_1 3 rfl rfl)
theorem dX0_march_28 : decode cX0_march 28 = .ok (.sipush (-1000), 3) := dk_17 252 24 (dk_at dksX0_march_1 6 rfl rfl)
theorem dX0_march_31 : decode cX0_march 31 = .ok (.ireturn, 1) := dk_172 (dk_at dksX0_march_1 9 rfl rfl)
theorem dX0_march_32 : decode cX0_march 32 = .ok (.aload_n 0, 1) := dk_42 (dk_at dksX0_march_1 10 rfl rfl)
theorem dX0_march_33 : decode cX0_march 33 = .ok (.invokevirtual 372, 3) := dk_182 1 116 (dk_at dksX0_march_1 11 rfl rfl)
theorem dX0_march_36 : decode cX0_march 36 = .ok (.iconst 1, 1) := dk_4 (dk_at dksX0_march_1 14 rfl rfl)
theorem dX0_march_37 : decode cX0_march 37 = .ok (.istore 5, 2) := dk_54 5 (dk_at dksX0_march_1 15 rfl rfl)
theorem dX0_march_39 : decode cX0_march 39 = .ok (.iload 5, 2) := dk_21 5 (dk_at dksX0_march_1 17 rfl rfl)
theorem dX0_march_41 : decode cX0_march 41 = .ok (.iload 4, 2) := dk_21 4 (dk_at dksX0_march_1 19 rfl rfl)
theorem dX0_march_43 : decode cX0_march 43 = .ok (.if_icmp .gt 16, 3) := dk_163 0 16 (dk_at dksX0_march_1 21 rfl rfl)
theorem dX0_march_46 : decode cX0_march 46 = .ok (.aload_n 0, 1) := dk_42 (dk_at dksX0_march_2 0 rfl rfl)
theorem dX0_march_47 : decode cX0_march 47 = .ok (.iload 5, 2) := dk_21 5 (dk_at dksX0_march_2 1 rfl rfl)
theorem dX0_march_49 : decode cX0_march 49 = .ok (.invokevirtual 375, 3) := dk_182 1 119 (dk_at dksX0_march_2 3 rfl rfl)
theorem dX0_march_52 : decode cX0_march 52 = .ok (.pop, 1) := dk_87 (dk_at dksX0_march_2 6 rfl rfl)
theorem dX0_march_53 : decode cX0_march 53 = .ok (.iinc 5 1, 3) := dk_132 5 1 (dk_at dksX0_march_2 7 rfl rfl)
theorem dX0_march_56 : decode cX0_march 56 = .ok (.goto (-17), 3) := dk_167 255 239 (dk_at dksX0_march_2 10 rfl rfl)
theorem dX0_march_59 : decode cX0_march 59 = .ok (.aload_n 0, 1) := dk_42 (dk_at dksX0_march_2 13 rfl rfl)
theorem dX0_march_60 : decode cX0_march 60 = .ok (.getfield 119, 3) := dk_180 0 119 (dk_at dksX0_march_2 14 rfl rfl)
theorem dX0_march_63 : decode cX0_march 63 = .ok (.iload_n 3, 1) := dk_29 (dk_at dksX0_march_2 17 rfl rfl)
theorem dX0_march_64 : decode cX0_march 64 = .ok (.iaload, 1) := dk_46 (dk_at dksX0_march_2 18 rfl rfl)
theorem dX0_march_65 : decode cX0_march 65 = .ok (.ireturn, 1) := dk_172 (dk_at dksX0_march_2 19 rfl rfl)
abbrev cX0_begin : ByteArray := prog_1_method_28_code
def yX0_begin : MethodName := ⟨RX0, "begin", "()V"⟩
def dkwX0_begin_1 : List UInt8 := [180, 0, 243, 180, 1, 20, 27, 50, 180, 1, 42, 79, 132, 1, 1, 167, 255, 219, 177]
abbrev dktX0_begin_1 : List UInt8 := dkwX0_begin_1 ++ []
def dkwX0_begin_0 : List UInt8 := [3, 60, 27, 5, 162, 0, 38, 42, 180, 0, 115, 27, 50, 27, 182, 1, 88, 87, 42, 180, 0, 119, 27, 42]
abbrev dktX0_begin_0 : List UInt8 := dkwX0_begin_0 ++ dktX0_begin_1
theorem dksX0_begin_0 : cX0_begin.data.toList.drop 0 = dktX0_begin_0 := by decide +kernel
theorem dksX0_begin_1 : cX0_begin.data.toList.drop 24 = dktX0_begin_1 := dk_seg dksX0_begin_0 24 rfl rfl
theorem dX0_begin_0 : decode cX0_begin 0 = .ok (.iconst 0, 1) := dk_3 (dk_at dksX0_begin_0 0 rfl rfl)
theorem dX0_begin_1 : decode cX0_begin 1 = .ok (.istore_n 1, 1) := dk_60 (dk_at dksX0_begin_0 1 rfl rfl)
theorem dX0_begin_2 : decode cX0_begin 2 = .ok (.iload_n 1, 1) := dk_27 (dk_at dksX0_begin_0 2 rfl rfl)
theorem dX0_begin_3 : decode cX0_begin 3 = .ok (.iconst 2, 1) := dk_5 (dk_at dksX0_begin_0 3 rfl rfl)
theorem dX0_begin_4 : decode cX0_begin 4 = .ok (.if_icmp .ge 38, 3) := dk_162 0 38 (dk_at dksX0_begin_0 4 rfl rfl)
theorem dX0_begin_7 : decode cX0_begin 7 = .ok (.aload_n 0, 1) := dk_42 (dk_at dksX0_begin_0 7 rfl rfl)
theorem dX0_begin_8 : decode cX0_begin 8 = .ok (.getfield 115, 3) := dk_180 0 115 (dk_at dksX0_begin_0 8 rfl rfl)
theorem dX0_begin_11 : decode cX0_begin 11 = .ok (.iload_n 1, 1) := dk_27 (dk_at dksX0_begin_0 11 rfl rfl)
theorem dX0_begin_12 : decode cX0_begin 12 = .ok (.aaload, 1) := dk_50 (dk_at dksX0_begin_0 12 rfl rfl)
theorem dX0_begin_13 : decode cX0_begin 13 = .ok (.iload_n 1, 1) := dk_27 (dk_at dksX0_begin_0 13 rfl rfl)
theorem dX0_begin_14 : decode cX0_begin 14 = .ok (.invokevirtual 344, 3) := dk_182 1 88 (dk_at dksX0_begin_0 14 rfl rfl)
theorem dX0_begin_17 : decode cX0_begin 17 = .ok (.pop, 1) := dk_87 (dk_at dksX0_begin_0 17 rfl rfl)
theorem dX0_begin_18 : decode cX0_begin 18 = .ok (.aload_n 0, 1) := dk_42 (dk_at dksX0_begin_0 18 rfl rfl)
theorem dX0_begin_19 : decode cX0_begin 19 = .ok (.getfield 119, 3) := dk_180 0 119 (dk_at dksX0_begin_0 19 rfl rfl)
theorem dX0_begin_22 : decode cX0_begin 22 = .ok (.iload_n 1, 1) := dk_27 (dk_at dksX0_begin_0 22 rfl rfl)
theorem dX0_begin_23 : decode cX0_begin 23 = .ok (.aload_n 0, 1) := dk_42 (dk_at dksX0_begin_0 23 rfl rfl)
theorem dX0_begin_24 : decode cX0_begin 24 = .ok (.getfield 243, 3) := dk_180 0 243 (dk_at dksX0_begin_1 0 rfl rfl)
theorem dX0_begin_27 : decode cX0_begin 27 = .ok (.getfield 276, 3) := dk_180 1 20 (dk_at dksX0_begin_1 3 rfl rfl)
theorem dX0_begin_30 : decode cX0_begin 30 = .ok (.iload_n 1, 1) := dk_27 (dk_at dksX0_begin_1 6 rfl rfl)
theorem dX0_begin_31 : decode cX0_begin 31 = .ok (.aaload, 1) := dk_50 (dk_at dksX0_begin_1 7 rfl rfl)
theorem dX0_begin_32 : decode cX0_begin 32 = .ok (.getfield 298, 3) := dk_180 1 42 (dk_at dksX0_begin_1 8 rfl rfl)
theorem dX0_begin_35 : decode cX0_begin 35 = .ok (.iastore, 1) := dk_79 (dk_at dksX0_begin_1 11 rfl rfl)
theorem dX0_begin_36 : decode cX0_begin 36 = .ok (.iinc 1 1, 3) := dk_132 1 1 (dk_at dksX0_begin_1 12 rfl rfl)
theorem dX0_begin_39 : decode cX0_begin 39 = .ok (.goto (-37), 3) := dk_167 255 219 (dk_at dksX0_begin_1 15 rfl rfl)
theorem dX0_begin_42 : decode cX0_begin 42 = .ok (.return_, 1) := dk_177 (dk_at dksX0_begin_1 18 rfl rfl)
abbrev cX0_steps : ByteArray := prog_1_method_29_code
def yX0_steps : MethodName := ⟨RX0, "steps", "(I)Z"⟩
def dkwX0_steps_4 : List UInt8 := [172]
abbrev dktX0_steps_4 : List UInt8 := dkwX0_steps_4 ++ []
def dkwX0_steps_3 : List UInt8 := [180, 0, 119, 4, 46, 42, 180, 0, 119, 3, 46, 100, 184, 1, 108, 28, 159, 0, 7, 4, 167, 0, 4, 3]
abbrev dktX0_steps_3 : List UInt8 := dkwX0_steps_3 ++ dktX0_steps_4
def dkwX0_steps_2 : List UInt8 := [162, 0, 21, 42, 180, 0, 119, 29, 42, 180, 0, 123, 29, 46, 79, 132, 3, 1, 167, 255, 236, 42]
abbrev dktX0_steps_2 : List UInt8 := dkwX0_steps_2 ++ dktX0_steps_3
def dkwX0_steps_1 : List UInt8 := [42, 180, 0, 123, 29, 42, 29, 27, 182, 1, 113, 79, 132, 3, 1, 167, 255, 236, 3, 62, 29, 5]
abbrev dktX0_steps_1 : List UInt8 := dkwX0_steps_1 ++ dktX0_steps_2
def dkwX0_steps_0 : List UInt8 := [42, 180, 0, 119, 4, 46, 42, 180, 0, 119, 3, 46, 100, 184, 1, 108, 61, 3, 62, 29, 5, 162, 0, 21]
abbrev dktX0_steps_0 : List UInt8 := dkwX0_steps_0 ++ dktX0_steps_1
theorem dksX0_steps_0 : cX0_steps.data.toList.drop 0 = dktX0_steps_0 := by decide +kernel
theorem dksX0_steps_1 : cX0_steps.data.toList.drop 24 = dktX0_steps_1 := dk_seg dksX0_steps_0 24 rfl rfl
theorem dksX0_steps_2 : cX0_steps.data.toList.drop 46 = dktX0_steps_2 := dk_seg dksX0_steps_1 22 rfl rfl
theorem dksX0_steps_3 : cX0_steps.data.toList.drop 68 = dktX0_steps_3 := dk_seg dksX0_steps_2 22 rfl rfl
theorem dksX0_steps_4 : cX0_steps.data.toList.drop 92 = dktX0_steps_4 := dk_seg dksX0_steps_3 24 rfl rfl
theorem dX0_steps_0 : decode cX0_steps 0 = .ok (.aload_n 0, 1) := dk_42 (dk_at dksX0_steps_0 0 rfl rfl)
theorem dX0_steps_1 : decode cX0_steps 1 = .ok (.getfield 119, 3) := dk_180 0 119 (dk_at dksX0_steps_0 1 rfl rfl)
theorem dX0_steps_4 : decode cX0_steps 4 = .ok (.iconst 1, 1) := dk_4 (dk_at dksX0_steps_0 4 rfl rfl)
theorem dX0_steps_5 : decode cX0_steps 5 = .ok (.iaload, 1) := dk_46 (dk_at dksX0_steps_0 5 rfl rfl)
theorem dX0_steps_6 : decode cX0_steps 6 = .ok (.aload_n 0, 1) := dk_42 (dk_at dksX0_steps_0 6 rfl rfl)
theorem dX0_steps_7 : decode cX0_steps 7 = .ok (.getfield 119, 3) := dk_180 0 119 (dk_at dksX0_steps_0 7 rfl rfl)
theorem dX0_steps_10 : decode cX0_steps 10 = .ok (.iconst 0, 1) := dk_3 (dk_at dksX0_steps_0 10 rfl rfl)
theorem dX0_steps_11 : decode cX0_steps 11 = .ok (.iaload, 1) := dk_46 (dk_at dksX0_steps_0 11 rfl rfl)
theorem dX0_steps_12 : decode cX0_steps 12 = .ok (.isub, 1) := dk_100 (dk_at dksX0_steps_0 12 rfl rfl)
theorem dX0_steps_13 : decode cX0_steps 13 = .ok (.invokestatic 364, 3) := dk_184 1 108 (dk_at dksX0_steps_0 13 rfl rfl)
theorem dX0_steps_16 : decode cX0_steps 16 = .ok (.istore_n 2, 1) := dk_61 (dk_at dksX0_steps_0 16 rfl rfl)
theorem dX0_steps_17 : decode cX0_steps 17 = .ok (.iconst 0, 1) := dk_3 (dk_at dksX0_steps_0 17 rfl rfl)
theorem dX0_steps_18 : decode cX0_steps 18 = .ok (.istore_n 3, 1) := dk_62 (dk_at dksX0_steps_0 18 rfl rfl)
theorem dX0_steps_19 : decode cX0_steps 19 = .ok (.iload_n 3, 1) := dk_29 (dk_at dksX0_steps_0 19 rfl rfl)
theorem dX0_steps_20 : decode cX0_steps 20 = .ok (.iconst 2, 1) := dk_5 (dk_at dksX0_steps_0 20 rfl rfl)
theorem dX0_steps_21 : decode cX0_steps 21 = .ok (.if_icmp .ge 21, 3) := dk_162 0 21 (dk_at dksX0_steps_0 21 rfl rfl)
theorem dX0_steps_24 : decode cX0_steps 24 = .ok (.aload_n 0, 1) := dk_42 (dk_at dksX0_steps_1 0 rfl rfl)
theorem dX0_steps_25 : decode cX0_steps 25 = .ok (.getfield 123, 3) := dk_180 0 123 (dk_at dksX0_steps_1 1 rfl rfl)
theorem dX0_steps_28 : decode cX0_steps 28 = .ok (.iload_n 3, 1) := dk_29 (dk_at dksX0_steps_1 4 rfl rfl)
theorem dX0_steps_29 : decode cX0_steps 29 = .ok (.aload_n 0, 1) := dk_42 (dk_at dksX0_steps_1 5 rfl rfl)
theorem dX0_steps_30 : decode cX0_steps 30 = .ok (.iload_n 3, 1) := dk_29 (dk_at dksX0_steps_1 6 rfl rfl)
theorem dX0_steps_31 : decode cX0_steps 31 = .ok (.iload_n 1, 1) := dk_27 (dk_at dksX0_steps_1 7 rfl rfl)
theorem dX0_steps_32 : decode cX0_steps 32 = .ok (.invokevirtual 369, 3) := dk_182 1 113 (dk_at dksX0_steps_1 8 rfl rfl)
theorem dX0_steps_35 : decode cX0_steps 35 = .ok (.iastore, 1) := dk_79 (dk_at dksX0_steps_1 11 rfl rfl)
theorem dX0_steps_36 : decode cX0_steps 36 = .ok (.iinc 3 1, 3) := dk_132 3 1 (dk_at dksX0_steps_1 12 rfl rfl)
theorem dX0_steps_39 : decode cX0_steps 39 = .ok (.goto (-20), 3) := dk_167 255 236 (dk_at dksX0_steps_1 15 rfl rfl)
theorem dX0_steps_42 : decode cX0_steps 42 = .ok (.iconst 0, 1) := dk_3 (dk_at dksX0_steps_1 18 rfl rfl)
theorem dX0_steps_43 : decode cX0_steps 43 = .ok (.istore_n 3, 1) := dk_62 (dk_at dksX0_steps_1 19 rfl rfl)
theorem dX0_steps_44 : decode cX0_steps 44 = .ok (.iload_n 3, 1) := dk_29 (dk_at dksX0_steps_1 20 rfl rfl)
theorem dX0_steps_45 : decode cX0_steps 45 = .ok (.iconst 2, 1) := dk_5 (dk_at dksX0_steps_1 21 rfl rfl)
theorem dX0_steps_46 : decode cX0_steps 46 = .ok (.if_icmp .ge 21, 3) := dk_162 0 21 (dk_at dksX0_steps_2 0 rfl rfl)
theorem dX0_steps_49 : decode cX0_steps 49 = .ok (.aload_n 0, 1) := dk_42 (dk_at dksX0_steps_2 3 rfl rfl)
theorem dX0_steps_50 : decode cX0_steps 50 = .ok (.getfield 119, 3) := dk_180 0 119 (dk_at dksX0_steps_2 4 rfl rfl)
theorem dX0_steps_53 : decode cX0_steps 53 = .ok (.iload_n 3, 1) := dk_29 (dk_at dksX0_steps_2 7 rfl rfl)
theorem dX0_steps_54 : decode cX0_steps 54 = .ok (.aload_n 0, 1) := dk_42 (dk_at dksX0_steps_2 8 rfl rfl)
theorem dX0_steps_55 : decode cX0_steps 55 = .ok (.getfield 123, 3) := dk_180 0 123 (dk_at dksX0_steps_2 9 rfl rfl)
theorem dX0_steps_58 : decode cX0_steps 58 = .ok (.iload_n 3, 1) := dk_29 (dk_at dksX0_steps_2 12 rfl rfl)
theorem dX0_steps_59 : decode cX0_steps 59 = .ok (.iaload, 1) := dk_46 (dk_at dksX0_steps_2 13 rfl rfl)
theorem dX0_steps_60 : decode cX0_steps 60 = .ok (.iastore, 1) := dk_79 (dk_at dksX0_steps_2 14 rfl rfl)
theorem dX0_steps_61 : decode cX0_steps 61 = .ok (.iinc 3 1, 3) := dk_132 3 1 (dk_at dksX0_steps_2 15 rfl rfl)
theorem dX0_steps_64 : decode cX0_steps 64 = .ok (.goto (-20), 3) := dk_167 255 236 (dk_at dksX0_steps_2 18 rfl rfl)
theorem dX0_steps_67 : decode cX0_steps 67 = .ok (.aload_n 0, 1) := dk_42 (dk_at dksX0_steps_2 21 rfl rfl)
theorem dX0_steps_68 : decode cX0_steps 68 = .ok (.getfield 119, 3) := dk_180 0 119 (dk_at dksX0_steps_3 0 rfl rfl)
theorem dX0_steps_71 : decode cX0_steps 71 = .ok (.iconst 1, 1) := dk_4 (dk_at dksX0_steps_3 3 rfl rfl)
theorem dX0_steps_72 : decode cX0_steps 72 = .ok (.iaload, 1) := dk_46 (dk_at dksX0_steps_3 4 rfl rfl)
theorem dX0_steps_73 : decode cX0_steps 73 = .ok (.aload_n 0, 1) := dk_42 (dk_at dksX0_steps_3 5 rfl rfl)
theorem dX0_steps_74 : decode cX0_steps 74 = .ok (.getfield 119, 3) := dk_180 0 119 (dk_at dksX0_steps_3 6 rfl rfl)
theorem dX0_steps_77 : decode cX0_steps 77 = .ok (.iconst 0, 1) := dk_3 (dk_at dksX0_steps_3 9 rfl rfl)
theorem dX0_steps_78 : decode cX0_steps 78 = .ok (.iaload, 1) := dk_46 (dk_at dksX0_steps_3 10 rfl rfl)
theorem dX0_steps_79 : decode cX0_steps 79 = .ok (.isub, 1) := dk_100 (dk_at dksX0_steps_3 11 rfl rfl)
theorem dX0_steps_80 : decode cX0_steps 80 = .ok (.invokestatic 364, 3) := dk_184 1 108 (dk_at dksX0_steps_3 12 rfl rfl)
theorem dX0_steps_83 : decode cX0_steps 83 = .ok (.iload_n 2, 1) := dk_28 (dk_at dksX0_steps_3 15 rfl rfl)
theorem dX0_steps_84 : decode cX0_steps 84 = .ok (.if_icmp .eq 7, 3) := dk_159 0 7 (dk_at dksX0_steps_3 16 rfl rfl)
theorem dX0_steps_87 : decode cX0_steps 87 = .ok (.iconst 1, 1) := dk_4 (dk_at dksX0_steps_3 19 rfl rfl)
theorem dX0_steps_88 : decode cX0_steps 88 = .ok (.goto 4, 3) := dk_167 0 4 (dk_at dksX0_steps_3 20 rfl rfl)
theorem dX0_steps_91 : decode cX0_steps 91 = .ok (.iconst 0, 1) := dk_3 (dk_at dksX0_steps_3 23 rfl rfl)
theorem dX0_steps_92 : decode cX0_steps 92 = .ok (.ireturn, 1) := dk_172 (dk_at dksX0_steps_4 0 rfl rfl)
abbrev cX0_moved : ByteArray := prog_1_method_27_code
def yX0_moved : MethodName := ⟨RX0, "moved", "(II)I"⟩
def dkwX0_moved_6 : List UInt8 := [167, 0, 12, 27, 154, 0, 7, 4, 167, 0, 4, 2, 104, 100, 172, 29, 172]
abbrev dktX0_moved_6 : List UInt8 := dkwX0_moved_6 ++ []
def dkwX0_moved_5 : List UInt8 := [29, 4, 100, 172, 29, 4, 96, 172, 29, 5, 21, 6, 104, 96, 172, 29, 5, 21, 6, 153, 0, 8, 21, 6]
abbrev dktX0_moved_5 : List UInt8 := dkwX0_moved_5 ++ dktX0_moved_6
def dkwX0_moved_4 : List UInt8 := [170, 0, 0, 0, 0, 0, 0, 71, 0, 0, 0, 1, 0, 0, 0, 4, 0, 0, 0, 32, 0, 0, 0, 36, 0, 0, 0, 40, 0, 0, 0, 47]
abbrev dktX0_moved_4 : List UInt8 := dkwX0_moved_4 ++ dktX0_moved_5
def dkwX0_moved_3 : List UInt8 := [180, 1, 99, 21, 5, 46, 167, 0, 4, 3]
abbrev dktX0_moved_3 : List UInt8 := dkwX0_moved_3 ++ dktX0_moved_4
def dkwX0_moved_2 : List UInt8 := [180, 0, 115, 27, 50, 180, 1, 92, 4, 100, 184, 0, 176, 153, 0, 18, 42, 180, 0, 115, 27, 50]
abbrev dktX0_moved_2 : List UInt8 := dkwX0_moved_2 ++ dktX0_moved_3
def dkwX0_moved_1 : List UInt8 := [180, 1, 20, 27, 50, 180, 1, 40, 100, 54, 5, 21, 4, 29, 100, 184, 1, 108, 54, 6, 21, 5, 3, 42]
abbrev dktX0_moved_1 : List UInt8 := dkwX0_moved_1 ++ dktX0_moved_2
def dkwX0_moved_0 : List UInt8 := [42, 180, 0, 119, 27, 46, 62, 42, 180, 0, 119, 4, 27, 100, 46, 54, 4, 28, 4, 100, 42, 180, 0, 243]
abbrev dktX0_moved_0 : List UInt8 := dkwX0_moved_0 ++ dktX0_moved_1
theorem dksX0_moved_0 : cX0_moved.data.toList.drop 0 = dktX0_moved_0 := by decide +kernel
theorem dksX0_moved_1 : cX0_moved.data.toList.drop 24 = dktX0_moved_1 := dk_seg dksX0_moved_0 24 rfl rfl
theorem dksX0_moved_2 : cX0_moved.data.toList.drop 48 = dktX0_moved_2 := dk_seg dksX0_moved_1 24 rfl rfl
theorem dksX0_moved_3 : cX0_moved.data.toList.drop 70 = dktX0_moved_3 := dk_seg dksX0_moved_2 22 rfl rfl
theorem dksX0_moved_4 : cX0_moved.data.toList.drop 80 = dktX0_moved_4 := dk_seg dksX0_moved_3 10 rfl rfl
theorem dksX0_moved_5 : cX0_moved.data.toList.drop 112 = dktX0_moved_5 := dk_seg dksX0_moved_4 32 rfl rfl
theorem dksX0_moved_6 : cX0_moved.data.toList.drop 136 = dktX0_moved_6 := dk_seg dksX0_moved_5 24 rfl rfl
theorem dX0_moved_0 : decode cX0_moved 0 = .ok (.aload_n 0, 1) := dk_42 (dk_at dksX0_moved_0 0 rfl rfl)
theorem dX0_moved_1 : decode cX0_moved 1 = .ok (.getfield 119, 3) := dk_180 0 119 (dk_at dksX0_moved_0 1 rfl rfl)
theorem dX0_moved_4 : decode cX0_moved 4 = .ok (.iload_n 1, 1) := dk_27 (dk_at dksX0_moved_0 4 rfl rfl)
theorem dX0_moved_5 : decode cX0_moved 5 = .ok (.iaload, 1) := dk_46 (dk_at dksX0_moved_0 5 rfl rfl)
theorem dX0_moved_6 : decode cX0_moved 6 = .ok (.istore_n 3, 1) := dk_62 (dk_at dksX0_moved_0 6 rfl rfl)
theorem dX0_moved_7 : decode cX0_moved 7 = .ok (.aload_n 0, 1) := dk_42 (dk_at dksX0_moved_0 7 rfl rfl)
theorem dX0_moved_8 : decode cX0_moved 8 = .ok (.getfield 119, 3) := dk_180 0 119 (dk_at dksX0_moved_0 8 rfl rfl)
theorem dX0_moved_11 : decode cX0_moved 11 = .ok (.iconst 1, 1) := dk_4 (dk_at dksX0_moved_0 11 rfl rfl)
theorem dX0_moved_12 : decode cX0_moved 12 = .ok (.iload_n 1, 1) := dk_27 (dk_at dksX0_moved_0 12 rfl rfl)
theorem dX0_moved_13 : decode cX0_moved 13 = .ok (.isub, 1) := dk_100 (dk_at dksX0_moved_0 13 rfl rfl)
theorem dX0_moved_14 : decode cX0_moved 14 = .ok (.iaload, 1) := dk_46 (dk_at dksX0_moved_0 14 rfl rfl)
theorem dX0_moved_15 : decode cX0_moved 15 = .ok (.istore 4, 2) := dk_54 4 (dk_at dksX0_moved_0 15 rfl rfl)
theorem dX0_moved_17 : decode cX0_moved 17 = .ok (.iload_n 2, 1) := dk_28 (dk_at dksX0_moved_0 17 rfl rfl)
theorem dX0_moved_18 : decode cX0_moved 18 = .ok (.iconst 1, 1) := dk_4 (dk_at dksX0_moved_0 18 rfl rfl)
theorem dX0_moved_19 : decode cX0_moved 19 = .ok (.isub, 1) := dk_100 (dk_at dksX0_moved_0 19 rfl rfl)
theorem dX0_moved_20 : decode cX0_moved 20 = .ok (.aload_n 0, 1) := dk_42 (dk_at dksX0_moved_0 20 rfl rfl)
theorem dX0_moved_21 : decode cX0_moved 21 = .ok (.getfield 243, 3) := dk_180 0 243 (dk_at dksX0_moved_0 21 rfl rfl)
theorem dX0_moved_24 : decode cX0_moved 24 = .ok (.getfield 276, 3) := dk_180 1 20 (dk_at dksX0_moved_1 0 rfl rfl)
theorem dX0_moved_27 : decode cX0_moved 27 = .ok (.iload_n 1, 1) := dk_27 (dk_at dksX0_moved_1 3 rfl rfl)
theorem dX0_moved_28 : decode cX0_moved 28 = .ok (.aaload, 1) := dk_50 (dk_at dksX0_moved_1 4 rfl rfl)
theorem dX0_moved_29 : decode cX0_moved 29 = .ok (.getfield 296, 3) := dk_180 1 40 (dk_at dksX0_moved_1 5 rfl rfl)
theorem dX0_moved_32 : decode cX0_moved 32 = .ok (.isub, 1) := dk_100 (dk_at dksX0_moved_1 8 rfl rfl)
theorem dX0_moved_33 : decode cX0_moved 33 = .ok (.istore 5, 2) := dk_54 5 (dk_at dksX0_moved_1 9 rfl rfl)
theorem dX0_moved_35 : decode cX0_moved 35 = .ok (.iload 4, 2) := dk_21 4 (dk_at dksX0_moved_1 11 rfl rfl)
theorem dX0_moved_37 : decode cX0_moved 37 = .ok (.iload_n 3, 1) := dk_29 (dk_at dksX0_moved_1 13 rfl rfl)
theorem dX0_moved_38 : decode cX0_moved 38 = .ok (.isub, 1) := dk_100 (dk_at dksX0_moved_1 14 rfl rfl)
theorem dX0_moved_39 : decode cX0_moved 39 = .ok (.invokestatic 364, 3) := dk_184 1 108 (dk_at dksX0_moved_1 15 rfl rfl)
theorem dX0_moved_42 : decode cX0_moved 42 = .ok (.istore 6, 2) := dk_54 6 (dk_at dksX0_moved_1 18 rfl rfl)
theorem dX0_moved_44 : decode cX0_moved 44 = .ok (.iload 5, 2) := dk_21 5 (dk_at dksX0_moved_1 20 rfl rfl)
theorem dX0_moved_46 : decode cX0_moved 46 = .ok (.iconst 0, 1) := dk_3 (dk_at dksX0_moved_1 22 rfl rfl)
theorem dX0_moved_47 : decode cX0_moved 47 = .ok (.aload_n 0, 1) := dk_42 (dk_at dksX0_moved_1 23 rfl rfl)
theorem dX0_moved_48 : decode cX0_moved 48 = .ok (.getfield 115, 3) := dk_180 0 115 (dk_at dksX0_moved_2 0 rfl rfl)
theorem dX0_moved_51 : decode cX0_moved 51 = .ok (.iload_n 1, 1) := dk_27 (dk_at dksX0_moved_2 3 rfl rfl)
theorem dX0_moved_52 : decode cX0_moved 52 = .ok (.aaload, 1) := dk_50 (dk_at dksX0_moved_2 4 rfl rfl)
theorem dX0_moved_53 : decode cX0_moved 53 = .ok (.getfield 348, 3) := dk_180 1 92 (dk_at dksX0_moved_2 5 rfl rfl)
theorem dX0_moved_56 : decode cX0_moved 56 = .ok (.iconst 1, 1) := dk_4 (dk_at dksX0_moved_2 8 rfl rfl)
theorem dX0_moved_57 : decode cX0_moved 57 = .ok (.isub, 1) := dk_100 (dk_at dksX0_moved_2 9 rfl rfl)
theorem dX0_moved_58 : decode cX0_moved 58 = .ok (.invokestatic 176, 3) := dk_184 0 176 (dk_at dksX0_moved_2 10 rfl rfl)
theorem dX0_moved_61 : decode cX0_moved 61 = .ok (.ifCond .eq 18, 3) := dk_153 0 18 (dk_at dksX0_moved_2 13 rfl rfl)
theorem dX0_moved_64 : decode cX0_moved 64 = .ok (.aload_n 0, 1) := dk_42 (dk_at dksX0_moved_2 16 rfl rfl)
theorem dX0_moved_65 : decode cX0_moved 65 = .ok (.getfield 115, 3) := dk_180 0 115 (dk_at dksX0_moved_2 17 rfl rfl)
theorem dX0_moved_68 : decode cX0_moved 68 = .ok (.iload_n 1, 1) := dk_27 (dk_at dksX0_moved_2 20 rfl rfl)
theorem dX0_moved_69 : decode cX0_moved 69 = .ok (.aaload, 1) := dk_50 (dk_at dksX0_moved_2 21 rfl rfl)
theorem dX0_moved_70 : decode cX0_moved 70 = .ok (.getfield 355, 3) := dk_180 1 99 (dk_at dksX0_moved_3 0 rfl rfl)
theorem dX0_moved_73 : decode cX0_moved 73 = .ok (.iload 5, 2) := dk_21 5 (dk_at dksX0_moved_3 3 rfl rfl)
theorem dX0_moved_75 : decode cX0_moved 75 = .ok (.iaload, 1) := dk_46 (dk_at dksX0_moved_3 5 rfl rfl)
theorem dX0_moved_76 : decode cX0_moved 76 = .ok (.goto 4, 3) := dk_167 0 4 (dk_at dksX0_moved_3 6 rfl rfl)
theorem dX0_moved_79 : decode cX0_moved 79 = .ok (.iconst 0, 1) := dk_3 (dk_at dksX0_moved_3 9 rfl rfl)
theorem dX0_moved_80 : decode cX0_moved 80 = .ok (.tableswitch 71 1 4 #[32, 36, 40, 47], 32) := by decide +kernel
theorem dX0_moved_112 : decode cX0_moved 112 = .ok (.iload_n 3, 1) := dk_29 (dk_at dksX0_moved_5 0 rfl rfl)
theorem dX0_moved_113 : decode cX0_moved 113 = .ok (.iconst 1, 1) := dk_4 (dk_at dksX0_moved_5 1 rfl rfl)
theorem dX0_moved_114 : decode cX0_moved 114 = .ok (.isub, 1) := dk_100 (dk_at dksX0_moved_5 2 rfl rfl)
theorem dX0_moved_115 : decode cX0_moved 115 = .ok (.ireturn, 1) := dk_172 (dk_at dksX0_moved_5 3 rfl rfl)
theorem dX0_moved_116 : decode cX0_moved 116 = .ok (.iload_n 3, 1) := dk_29 (dk_at dksX0_moved_5 4 rfl rfl)
theorem dX0_moved_117 : decode cX0_moved 117 = .ok (.iconst 1, 1) := dk_4 (dk_at dksX0_moved_5 5 rfl rfl)
theorem dX0_moved_118 : decode cX0_moved 118 = .ok (.iadd, 1) := dk_96 (dk_at dksX0_moved_5 6 rfl rfl)
theorem dX0_moved_119 : decode cX0_moved 119 = .ok (.ireturn, 1) := dk_172 (dk_at dksX0_moved_5 7 rfl rfl)
theorem dX0_moved_120 : decode cX0_moved 120 = .ok (.iload_n 3, 1) := dk_29 (dk_at dksX0_moved_5 8 rfl rfl)
theorem dX0_moved_121 : decode cX0_moved 121 = .ok (.iconst 2, 1) := dk_5 (dk_at dksX0_moved_5 9 rfl rfl)
theorem dX0_moved_122 : decode cX0_moved 122 = .ok (.iload 6, 2) := dk_21 6 (dk_at dksX0_moved_5 10 rfl rfl)
theorem dX0_moved_124 : decode cX0_moved 124 = .ok (.imul, 1) := dk_104 (dk_at dksX0_moved_5 12 rfl rfl)
theorem dX0_moved_125 : decode cX0_moved 125 = .ok (.iadd, 1) := dk_96 (dk_at dksX0_moved_5 13 rfl rfl)
theorem dX0_moved_126 : decode cX0_moved 126 = .ok (.ireturn, 1) := dk_172 (dk_at dksX0_moved_5 14 rfl rfl)
theorem dX0_moved_127 : decode cX0_moved 127 = .ok (.iload_n 3, 1) := dk_29 (dk_at dksX0_moved_5 15 rfl rfl)
theorem dX0_moved_128 : decode cX0_moved 128 = .ok (.iconst 2, 1) := dk_5 (dk_at dksX0_moved_5 16 rfl rfl)
theorem dX0_moved_129 : decode cX0_moved 129 = .ok (.iload 6, 2) := dk_21 6 (dk_at dksX0_moved_5 17 rfl rfl)
theorem dX0_moved_131 : decode cX0_moved 131 = .ok (.ifCond .eq 8, 3) := dk_153 0 8 (dk_at dksX0_moved_5 19 rfl rfl)
theorem dX0_moved_134 : decode cX0_moved 134 = .ok (.iload 6, 2) := dk_21 6 (dk_at dksX0_moved_5 22 rfl rfl)
theorem dX0_moved_136 : decode cX0_moved 136 = .ok (.goto 12, 3) := dk_167 0 12 (dk_at dksX0_moved_6 0 rfl rfl)
theorem dX0_moved_139 : decode cX0_moved 139 = .ok (.iload_n 1, 1) := dk_27 (dk_at dksX0_moved_6 3 rfl rfl)
theorem dX0_moved_140 : decode cX0_moved 140 = .ok (.ifCond .ne 7, 3) := dk_154 0 7 (dk_at dksX0_moved_6 4 rfl rfl)
theorem dX0_moved_143 : decode cX0_moved 143 = .ok (.iconst 1, 1) := dk_4 (dk_at dksX0_moved_6 7 rfl rfl)
theorem dX0_moved_144 : decode cX0_moved 144 = .ok (.goto 4, 3) := dk_167 0 4 (dk_at dksX0_moved_6 8 rfl rfl)
theorem dX0_moved_147 : decode cX0_moved 147 = .ok (.iconst (-1), 1) := dk_2 (dk_at dksX0_moved_6 11 rfl rfl)
theorem dX0_moved_148 : decode cX0_moved 148 = .ok (.imul, 1) := dk_104 (dk_at dksX0_moved_6 12 rfl rfl)
theorem dX0_moved_149 : decode cX0_moved 149 = .ok (.isub, 1) := dk_100 (dk_at dksX0_moved_6 13 rfl rfl)
theorem dX0_moved_150 : decode cX0_moved 150 = .ok (.ireturn, 1) := dk_172 (dk_at dksX0_moved_6 14 rfl rfl)
theorem dX0_moved_151 : decode cX0_moved 151 = .ok (.iload_n 3, 1) := dk_29 (dk_at dksX0_moved_6 15 rfl rfl)
theorem dX0_moved_152 : decode cX0_moved 152 = .ok (.ireturn, 1) := dk_172 (dk_at dksX0_moved_6 16 rfl rfl)
abbrev cX0_meets : ByteArray := prog_1_method_32_code
def yX0_meets : MethodName := ⟨RX0, "meets", "(II)I"⟩
def dkwX0_meets_0 : List UInt8 := [42, 27, 28, 182, 1, 67, 153, 0, 10, 42, 182, 1, 122, 167, 0, 4, 2, 172]
abbrev dktX0_meets_0 : List UInt8 := dkwX0_meets_0 ++ []
theorem dksX0_meets_0 : cX0_meets.data.toList.drop 0 = dktX0_meets_0 := by decide +kernel
theorem dX0_meets_0 : decode cX0_meets 0 = .ok (.aload_n 0, 1) := dk_42 (dk_at dksX0_meets_0 0 rfl rfl)
theorem dX0_meets_1 : decode cX0_meets 1 = .ok (.iload_n 1, 1) := dk_27 (dk_at dksX0_meets_0 1 rfl rfl)
theorem dX0_meets_2 : decode cX0_meets 2 = .ok (.iload_n 2, 1) := dk_28 (dk_at dksX0_meets_0 2 rfl rfl)
theorem dX0_meets_3 : decode cX0_meets 3 = .ok (.invokevirtual 323, 3) := dk_182 1 67 (dk_at dksX0_meets_0 3 rfl rfl)
theorem dX0_meets_6 : decode cX0_meets 6 = .ok (.ifCond .eq 10, 3) := dk_153 0 10 (dk_at dksX0_meets_0 6 rfl rfl)
theorem dX0_meets_9 : decode cX0_meets 9 = .ok (.aload_n 0, 1) := dk_42 (dk_at dksX0_meets_0 9 rfl rfl)
theorem dX0_meets_10 : decode cX0_meets 10 = .ok (.invokevirtual 378, 3) := dk_182 1 122 (dk_at dksX0_meets_0 10 rfl rfl)
theorem dX0_meets_13 : decode cX0_meets 13 = .ok (.goto 4, 3) := dk_167 0 4 (dk_at dksX0_meets_0 13 rfl rfl)
theorem dX0_meets_16 : decode cX0_meets 16 = .ok (.iconst (-1), 1) := dk_2 (dk_at dksX0_meets_0 16 rfl rfl)
theorem dX0_meets_17 : decode cX0_meets 17 = .ok (.ireturn, 1) := dk_172 (dk_at dksX0_meets_0 17 rfl rfl)
abbrev cX0_meeting : ByteArray := prog_1_method_31_code
def yX0_meeting : MethodName := ⟨RX0, "meeting", "()I"⟩
def dkwX0_meeting_1 : List UInt8 := [16, 24, 163, 0, 19, 42, 27, 182, 1, 119, 153, 0, 5, 27, 172, 132, 1, 1, 167, 255, 237, 2, 172]
abbrev dktX0_meeting_1 : List UInt8 := dkwX0_meeting_1 ++ []
def dkwX0_meeting_0 : List UInt8 := [42, 182, 1, 116, 42, 180, 0, 119, 3, 46, 42, 180, 0, 119, 4, 46, 160, 0, 5, 3, 172, 4, 60, 27]
abbrev dktX0_meeting_0 : List UInt8 := dkwX0_meeting_0 ++ dktX0_meeting_1
theorem dksX0_meeting_0 : cX0_meeting.data.toList.drop 0 = dktX0_meeting_0 := by decide +kernel
theorem dksX0_meeting_1 : cX0_meeting.data.toList.drop 24 = dktX0_meeting_1 := dk_seg dksX0_meeting_0 24 rfl rfl
theorem dX0_meeting_0 : decode cX0_meeting 0 = .ok (.aload_n 0, 1) := dk_42 (dk_at dksX0_meeting_0 0 rfl rfl)
theorem dX0_meeting_1 : decode cX0_meeting 1 = .ok (.invokevirtual 372, 3) := dk_182 1 116 (dk_at dksX0_meeting_0 1 rfl rfl)
theorem dX0_meeting_4 : decode cX0_meeting 4 = .ok (.aload_n 0, 1) := dk_42 (dk_at dksX0_meeting_0 4 rfl rfl)
theorem dX0_meeting_5 : decode cX0_meeting 5 = .ok (.getfield 119, 3) := dk_180 0 119 (dk_at dksX0_meeting_0 5 rfl rfl)
theorem dX0_meeting_8 : decode cX0_meeting 8 = .ok (.iconst 0, 1) := dk_3 (dk_at dksX0_meeting_0 8 rfl rfl)
theorem dX0_meeting_9 : decode cX0_meeting 9 = .ok (.iaload, 1) := dk_46 (dk_at dksX0_meeting_0 9 rfl rfl)
theorem dX0_meeting_10 : decode cX0_meeting 10 = .ok (.aload_n 0, 1) := dk_42 (dk_at dksX0_meeting_0 10 rfl rfl)
theorem dX0_meeting_11 : decode cX0_meeting 11 = .ok (.getfield 119, 3) := dk_180 0 119 (dk_at dksX0_meeting_0 11 rfl rfl)
theorem dX0_meeting_14 : decode cX0_meeting 14 = .ok (.iconst 1, 1) := dk_4 (dk_at dksX0_meeting_0 14 rfl rfl)
theorem dX0_meeting_15 : decode cX0_meeting 15 = .ok (.iaload, 1) := dk_46 (dk_at dksX0_meeting_0 15 rfl rfl)
theorem dX0_meeting_16 : decode cX0_meeting 16 = .ok (.if_icmp .ne 5, 3) := dk_160 0 5 (dk_at dksX0_meeting_0 16 rfl rfl)
theorem dX0_meeting_19 : decode cX0_meeting 19 = .ok (.iconst 0, 1) := dk_3 (dk_at dksX0_meeting_0 19 rfl rfl)
theorem dX0_meeting_20 : decode cX0_meeting 20 = .ok (.ireturn, 1) := dk_172 (dk_at dksX0_meeting_0 20 rfl rfl)
theorem dX0_meeting_21 : decode cX0_meeting 21 = .ok (.iconst 1, 1) := dk_4 (dk_at dksX0_meeting_0 21 rfl rfl)
theorem dX0_meeting_22 : decode cX0_meeting 22 = .ok (.istore_n 1, 1) := dk_60 (dk_at dksX0_meeting_0 22 rfl rfl)
theorem dX0_meeting_23 : decode cX0_meeting 23 = .ok (.iload_n 1, 1) := dk_27 (dk_at dksX0_meeting_0 23 rfl rfl)
theorem dX0_meeting_24 : decode cX0_meeting 24 = .ok (.bipush 24, 2) := dk_16 24 (dk_at dksX0_meeting_1 0 rfl rfl)
theorem dX0_meeting_26 : decode cX0_meeting 26 = .ok (.if_icmp .gt 19, 3) := dk_163 0 19 (dk_at dksX0_meeting_1 2 rfl rfl)
theorem dX0_meeting_29 : decode cX0_meeting 29 = .ok (.aload_n 0, 1) := dk_42 (dk_at dksX0_meeting_1 5 rfl rfl)
theorem dX0_meeting_30 : decode cX0_meeting 30 = .ok (.iload_n 1, 1) := dk_27 (dk_at dksX0_meeting_1 6 rfl rfl)
theorem dX0_meeting_31 : decode cX0_meeting 31 = .ok (.invokevirtual 375, 3) := dk_182 1 119 (dk_at dksX0_meeting_1 7 rfl rfl)
theorem dX0_meeting_34 : decode cX0_meeting 34 = .ok (.ifCond .eq 5, 3) := dk_153 0 5 (dk_at dksX0_meeting_1 10 rfl rfl)
theorem dX0_meeting_37 : decode cX0_meeting 37 = .ok (.iload_n 1, 1) := dk_27 (dk_at dksX0_meeting_1 13 rfl rfl)
theorem dX0_meeting_38 : decode cX0_meeting 38 = .ok (.ireturn, 1) := dk_172 (dk_at dksX0_meeting_1 14 rfl rfl)
theorem dX0_meeting_39 : decode cX0_meeting 39 = .ok (.iinc 1 1, 3) := dk_132 1 1 (dk_at dksX0_meeting_1 15 rfl rfl)
theorem dX0_meeting_42 : decode cX0_meeting 42 = .ok (.goto (-19), 3) := dk_167 255 237 (dk_at dksX0_meeting_1 18 rfl rfl)
theorem dX0_meeting_45 : decode cX0_meeting 45 = .ok (.iconst (-1), 1) := dk_2 (dk_at dksX0_meeting_1 21 rfl rfl)
theorem dX0_meeting_46 : decode cX0_meeting 46 = .ok (.ireturn, 1) := dk_172 (dk_at dksX0_meeting_1 22 rfl rfl)
abbrev cX0_force : ByteArray := prog_1_method_34_code
def yX0_force : MethodName := ⟨RX0, "force", "(IIIIZ)I"⟩
def dkwX0_force_4 : List UInt8 := [132, 8, 1, 167, 255, 209, 21, 5, 153, 0, 8, 21, 7, 167, 0, 5, 21, 6, 172]
abbrev dktX0_force_4 : List UInt8 := dkwX0_force_4 ++ []
def dkwX0_force_3 : List UInt8 := [154, 0, 6, 167, 0, 21, 21, 6, 2, 160, 0, 8, 21, 8, 167, 0, 5, 21, 6, 54, 6, 132, 7, 1]
abbrev dktX0_force_3 : List UInt8 := dkwX0_force_3 ++ dktX0_force_4
def dkwX0_force_2 : List UInt8 := [54, 8, 21, 8, 21, 4, 184, 1, 128, 162, 0, 43, 42, 28, 29, 21, 4, 21, 8, 182, 1, 134]
abbrev dktX0_force_2 : List UInt8 := dkwX0_force_2 ++ dktX0_force_3
def dkwX0_force_1 : List UInt8 := [153, 0, 13, 21, 4, 3, 6, 184, 0, 176, 154, 0, 6, 16, 254, 172, 2, 54, 6, 3, 54, 7, 3]
abbrev dktX0_force_1 : List UInt8 := dkwX0_force_1 ++ dktX0_force_2
def dkwX0_force_0 : List UInt8 := [42, 27, 182, 1, 0, 153, 0, 30, 42, 28, 182, 1, 17, 153, 0, 22, 29, 3, 7, 184, 0, 176]
abbrev dktX0_force_0 : List UInt8 := dkwX0_force_0 ++ dktX0_force_1
theorem dksX0_force_0 : cX0_force.data.toList.drop 0 = dktX0_force_0 := by decide +kernel
theorem dksX0_force_1 : cX0_force.data.toList.drop 22 = dktX0_force_1 := dk_seg dksX0_force_0 22 rfl rfl
theorem dksX0_force_2 : cX0_force.data.toList.drop 45 = dktX0_force_2 := dk_seg dksX0_force_1 23 rfl rfl
theorem dksX0_force_3 : cX0_force.data.toList.drop 67 = dktX0_force_3 := dk_seg dksX0_force_2 22 rfl rfl
theorem dksX0_force_4 : cX0_force.data.toList.drop 91 = dktX0_force_4 := dk_seg dksX0_force_3 24 rfl rfl
theorem dX0_force_0 : decode cX0_force 0 = .ok (.aload_n 0, 1) := dk_42 (dk_at dksX0_force_0 0 rfl rfl)
theorem dX0_force_1 : decode cX0_force 1 = .ok (.iload_n 1, 1) := dk_27 (dk_at dksX0_force_0 1 rfl rfl)
theorem dX0_force_2 : decode cX0_force 2 = .ok (.invokevirtual 256, 3) := dk_182 1 0 (dk_at dksX0_force_0 2 rfl rfl)
theorem dX0_force_5 : decode cX0_force 5 = .ok (.ifCond .eq 30, 3) := dk_153 0 30 (dk_at dksX0_force_0 5 rfl rfl)
theorem dX0_force_8 : decode cX0_force 8 = .ok (.aload_n 0, 1) := dk_42 (dk_at dksX0_force_0 8 rfl rfl)
theorem dX0_force_9 : decode cX0_force 9 = .ok (.iload_n 2, 1) := dk_28 (dk_at dksX0_force_0 9 rfl rfl)
theorem dX0_force_10 : decode cX0_force 10 = .ok (.invokevirtual 273, 3) := dk_182 1 17 (dk_at dksX0_force_0 10 rfl rfl)
theorem dX0_force_13 : decode cX0_force 13 = .ok (.ifCond .eq 22, 3) := dk_153 0 22 (dk_at dksX0_force_0 13 rfl rfl)
theorem dX0_force_16 : decode cX0_force 16 = .ok (.iload_n 3, 1) := dk_29 (dk_at dksX0_force_0 16 rfl rfl)
theorem dX0_force_17 : decode cX0_force 17 = .ok (.iconst 0, 1) := dk_3 (dk_at dksX0_force_0 17 rfl rfl)
theorem dX0_force_18 : decode cX0_force 18 = .ok (.iconst 4, 1) := dk_7 (dk_at dksX0_force_0 18 rfl rfl)
theorem dX0_force_19 : decode cX0_force 19 = .ok (.invokestatic 176, 3) := dk_184 0 176 (dk_at dksX0_force_0 19 rfl rfl)
theorem dX0_force_22 : decode cX0_force 22 = .ok (.ifCond .eq 13, 3) := dk_153 0 13 (dk_at dksX0_force_1 0 rfl rfl)
theorem dX0_force_25 : decode cX0_force 25 = .ok (.iload 4, 2) := dk_21 4 (dk_at dksX0_force_1 3 rfl rfl)
theorem dX0_force_27 : decode cX0_force 27 = .ok (.iconst 0, 1) := dk_3 (dk_at dksX0_force_1 5 rfl rfl)
theorem dX0_force_28 : decode cX0_force 28 = .ok (.iconst 3, 1) := dk_6 (dk_at dksX0_force_1 6 rfl rfl)
theorem dX0_force_29 : decode cX0_force 29 = .ok (.invokestatic 176, 3) := dk_184 0 176 (dk_at dksX0_force_1 7 rfl rfl)
theorem dX0_force_32 : decode cX0_force 32 = .ok (.ifCond .ne 6, 3) := dk_154 0 6 (dk_at dksX0_force_1 10 rfl rfl)
theorem dX0_force_35 : decode cX0_force 35 = .ok (.bipush (-2), 2) := dk_16 254 (dk_at dksX0_force_1 13 rfl rfl)
theorem dX0_force_37 : decode cX0_force 37 = .ok (.ireturn, 1) := dk_172 (dk_at dksX0_force_1 15 rfl rfl)
theorem dX0_force_38 : decode cX0_force 38 = .ok (.iconst (-1), 1) := dk_2 (dk_at dksX0_force_1 16 rfl rfl)
theorem dX0_force_39 : decode cX0_force 39 = .ok (.istore 6, 2) := dk_54 6 (dk_at dksX0_force_1 17 rfl rfl)
theorem dX0_force_41 : decode cX0_force 41 = .ok (.iconst 0, 1) := dk_3 (dk_at dksX0_force_1 19 rfl rfl)
theorem dX0_force_42 : decode cX0_force 42 = .ok (.istore 7, 2) := dk_54 7 (dk_at dksX0_force_1 20 rfl rfl)
theorem dX0_force_44 : decode cX0_force 44 = .ok (.iconst 0, 1) := dk_3 (dk_at dksX0_force_1 22 rfl rfl)
theorem dX0_force_45 : decode cX0_force 45 = .ok (.istore 8, 2) := dk_54 8 (dk_at dksX0_force_2 0 rfl rfl)
theorem dX0_force_47 : decode cX0_force 47 = .ok (.iload 8, 2) := dk_21 8 (dk_at dksX0_force_2 2 rfl rfl)
theorem dX0_force_49 : decode cX0_force 49 = .ok (.iload 4, 2) := dk_21 4 (dk_at dksX0_force_2 4 rfl rfl)
theorem dX0_force_51 : decode cX0_force 51 = .ok (.invokestatic 384, 3) := dk_184 1 128 (dk_at dksX0_force_2 6 rfl rfl)
theorem dX0_force_54 : decode cX0_force 54 = .ok (.if_icmp .ge 43, 3) := dk_162 0 43 (dk_at dksX0_force_2 9 rfl rfl)
theorem dX0_force_57 : decode cX0_force 57 = .ok (.aload_n 0, 1) := dk_42 (dk_at dksX0_force_2 12 rfl rfl)
theorem dX0_force_58 : decode cX0_force 58 = .ok (.iload_n 2, 1) := dk_28 (dk_at dksX0_force_2 13 rfl rfl)
theorem dX0_force_59 : decode cX0_force 59 = .ok (.iload_n 3, 1) := dk_29 (dk_at dksX0_force_2 14 rfl rfl)
theorem dX0_force_60 : decode cX0_force 60 = .ok (.iload 4, 2) := dk_21 4 (dk_at dksX0_force_2 15 rfl rfl)
theorem dX0_force_62 : decode cX0_force 62 = .ok (.iload 8, 2) := dk_21 8 (dk_at dksX0_force_2 17 rfl rfl)
theorem dX0_force_64 : decode cX0_force 64 = .ok (.invokevirtual 390, 3) := dk_182 1 134 (dk_at dksX0_force_2 19 rfl rfl)
theorem dX0_force_67 : decode cX0_force 67 = .ok (.ifCond .ne 6, 3) := dk_154 0 6 (dk_at dksX0_force_3 0 rfl rfl)
theorem dX0_force_70 : decode cX0_force 70 = .ok (.goto 21, 3) := dk_167 0 21 (dk_at dksX0_force_3 3 rfl rfl)
theorem dX0_force_73 : decode cX0_force 73 = .ok (.iload 6, 2) := dk_21 6 (dk_at dksX0_force_3 6 rfl rfl)
theorem dX0_force_75 : decode cX0_force 75 = .ok (.iconst (-1), 1) := dk_2 (dk_at dksX0_force_3 8 rfl rfl)
theorem dX0_force_76 : decode cX0_force 76 = .ok (.if_icmp .ne 8, 3) := dk_160 0 8 (dk_at dksX0_force_3 9 rfl rfl)
theorem dX0_force_79 : decode cX0_force 79 = .ok (.iload 8, 2) := dk_21 8 (dk_at dksX0_force_3 12 rfl rfl)
theorem dX0_force_81 : decode cX0_force 81 = .ok (.goto 5, 3) := dk_167 0 5 (dk_at dksX0_force_3 14 rfl rfl)
theorem dX0_force_84 : decode cX0_force 84 = .ok (.iload 6, 2) := dk_21 6 (dk_at dksX0_force_3 17 rfl rfl)
theorem dX0_force_86 : decode cX0_force 86 = .ok (.istore 6, 2) := dk_54 6 (dk_at dksX0_force_3 19 rfl rfl)
theorem dX0_force_88 : decode cX0_force 88 = .ok (.iinc 7 1, 3) := dk_132 7 1 (dk_at dksX0_force_3 21 rfl rfl)
theorem dX0_force_91 : decode cX0_force 91 = .ok (.iinc 8 1, 3) := dk_132 8 1 (dk_at dksX0_force_4 0 rfl rfl)
theorem dX0_force_94 : decode cX0_force 94 = .ok (.goto (-47), 3) := dk_167 255 209 (dk_at dksX0_force_4 3 rfl rfl)
theorem dX0_force_97 : decode cX0_force 97 = .ok (.iload 5, 2) := dk_21 5 (dk_at dksX0_force_4 6 rfl rfl)
theorem dX0_force_99 : decode cX0_force 99 = .ok (.ifCond .eq 8, 3) := dk_153 0 8 (dk_at dksX0_force_4 8 rfl rfl)
theorem dX0_force_102 : decode cX0_force 102 = .ok (.iload 7, 2) := dk_21 7 (dk_at dksX0_force_4 11 rfl rfl)
theorem dX0_force_104 : decode cX0_force 104 = .ok (.goto 5, 3) := dk_167 0 5 (dk_at dksX0_force_4 13 rfl rfl)
theorem dX0_force_107 : decode cX0_force 107 = .ok (.iload 6, 2) := dk_21 6 (dk_at dksX0_force_4 16 rfl rfl)
theorem dX0_force_109 : decode cX0_force 109 = .ok (.ireturn, 1) := dk_172 (dk_at dksX0_force_4 18 rfl rfl)
abbrev cX0_power : ByteArray := prog_1_method_3_code
def yX0_power : MethodName := ⟨RX0, "power", "(I)I"⟩
def dkwX0_power_0 : List UInt8 := [4, 5, 26, 104, 120, 172]
abbrev dktX0_power_0 : List UInt8 := dkwX0_power_0 ++ []
theorem dksX0_power_0 : cX0_power.data.toList.drop 0 = dktX0_power_0 := by decide +kernel
theorem dX0_power_0 : decode cX0_power 0 = .ok (.iconst 1, 1) := dk_4 (dk_at dksX0_power_0 0 rfl rfl)
theorem dX0_power_1 : decode cX0_power 1 = .ok (.iconst 2, 1) := dk_5 (dk_at dksX0_power_0 1 rfl rfl)
theorem dX0_power_2 : decode cX0_power 2 = .ok (.iload_n 0, 1) := dk_26 (dk_at dksX0_power_0 2 rfl rfl)
theorem dX0_power_3 : decode cX0_power 3 = .ok (.imul, 1) := dk_104 (dk_at dksX0_power_0 3 rfl rfl)
theorem dX0_power_4 : decode cX0_power 4 = .ok (.ishl, 1) := dk_120 (dk_at dksX0_power_0 4 rfl rfl)
theorem dX0_power_5 : decode cX0_power 5 = .ok (.ireturn, 1) := dk_172 (dk_at dksX0_power_0 5 rfl rfl)
abbrev cX0_isForced : ByteArray := prog_1_method_33_code
def yX0_isForced : MethodName := ⟨RX0, "isForced", "(IIII)Z"⟩
def dkwX0_isForced_4 : List UInt8 := [3, 172, 132, 5, 1, 167, 255, 170, 4, 172]
abbrev dktX0_isForced_4 : List UInt8 := dkwX0_isForced_4 ++ []
def dkwX0_isForced_3 : List UInt8 := [180, 0, 108, 3, 182, 1, 12, 42, 180, 0, 115, 27, 50, 27, 182, 1, 88, 28, 182, 1, 131, 154, 0, 5]
abbrev dktX0_isForced_3 : List UInt8 := dkwX0_isForced_3 ++ dktX0_isForced_4
def dkwX0_isForced_2 : List UInt8 := [42, 180, 0, 135, 27, 154, 0, 10, 42, 180, 0, 135, 167, 0, 7, 42, 180, 0, 131, 182, 1, 9, 42]
abbrev dktX0_isForced_2 : List UInt8 := dkwX0_isForced_2 ++ dktX0_isForced_3
def dkwX0_isForced_1 : List UInt8 := [180, 0, 135, 21, 5, 29, 182, 1, 125, 42, 180, 0, 108, 27, 154, 0, 10, 42, 180, 0, 131, 167, 0, 7]
abbrev dktX0_isForced_1 : List UInt8 := dkwX0_isForced_1 ++ dktX0_isForced_2
def dkwX0_isForced_0 : List UInt8 := [42, 180, 0, 131, 21, 4, 29, 182, 1, 125, 3, 54, 5, 21, 5, 29, 184, 1, 128, 162, 0, 83, 42]
abbrev dktX0_isForced_0 : List UInt8 := dkwX0_isForced_0 ++ dktX0_isForced_1
theorem dksX0_isForced_0 : cX0_isForced.data.toList.drop 0 = dktX0_isForced_0 := by decide +kernel
theorem dksX0_isForced_1 : cX0_isForced.data.toList.drop 23 = dktX0_isForced_1 := dk_seg dksX0_isForced_0 23 rfl rfl
theorem dksX0_isForced_2 : cX0_isForced.data.toList.drop 47 = dktX0_isForced_2 := dk_seg dksX0_isForced_1 24 rfl rfl
theorem dksX0_isForced_3 : cX0_isForced.data.toList.drop 70 = dktX0_isForced_3 := dk_seg dksX0_isForced_2 23 rfl rfl
theorem dksX0_isForced_4 : cX0_isForced.data.toList.drop 94 = dktX0_isForced_4 := dk_seg dksX0_isForced_3 24 rfl rfl
theorem dX0_isForced_0 : decode cX0_isForced 0 = .ok (.aload_n 0, 1) := dk_42 (dk_at dksX0_isForced_0 0 rfl rfl)
theorem dX0_isForced_1 : decode cX0_isForced 1 = .ok (.getfield 131, 3) := dk_180 0 131 (dk_at dksX0_isForced_0 1 rfl rfl)
theorem dX0_isForced_4 : decode cX0_isForced 4 = .ok (.iload 4, 2) := dk_21 4 (dk_at dksX0_isForced_0 4 rfl rfl)
theorem dX0_isForced_6 : decode cX0_isForced 6 = .ok (.iload_n 3, 1) := dk_29 (dk_at dksX0_isForced_0 6 rfl rfl)
theorem dX0_isForced_7 : decode cX0_isForced 7 = .ok (.invokevirtual 381, 3) := dk_182 1 125 (dk_at dksX0_isForced_0 7 rfl rfl)
theorem dX0_isForced_10 : decode cX0_isForced 10 = .ok (.iconst 0, 1) := dk_3 (dk_at dksX0_isForced_0 10 rfl rfl)
theorem dX0_isForced_11 : decode cX0_isForced 11 = .ok (.istore 5, 2) := dk_54 5 (dk_at dksX0_isForced_0 11 rfl rfl)
theorem dX0_isForced_13 : decode cX0_isForced 13 = .ok (.iload 5, 2) := dk_21 5 (dk_at dksX0_isForced_0 13 rfl rfl)
theorem dX0_isForced_15 : decode cX0_isForced 15 = .ok (.iload_n 3, 1) := dk_29 (dk_at dksX0_isForced_0 15 rfl rfl)
theorem dX0_isForced_16 : decode cX0_isForced 16 = .ok (.invokestatic 384, 3) := dk_184 1 128 (dk_at dksX0_isForced_0 16 rfl rfl)
theorem dX0_isForced_19 : decode cX0_isForced 19 = .ok (.if_icmp .ge 83, 3) := dk_162 0 83 (dk_at dksX0_isForced_0 19 rfl rfl)
theorem dX0_isForced_22 : decode cX0_isForced 22 = .ok (.aload_n 0, 1) := dk_42 (dk_at dksX0_isForced_0 22 rfl rfl)
theorem dX0_isForced_23 : decode cX0_isForced 23 = .ok (.getfield 135, 3) := dk_180 0 135 (dk_at dksX0_isForced_1 0 rfl rfl)
theorem dX0_isForced_26 : decode cX0_isForced 26 = .ok (.iload 5, 2) := dk_21 5 (dk_at dksX0_isForced_1 3 rfl rfl)
theorem dX0_isForced_28 : decode cX0_isForced 28 = .ok (.iload_n 3, 1) := dk_29 (dk_at dksX0_isForced_1 5 rfl rfl)
theorem dX0_isForced_29 : decode cX0_isForced 29 = .ok (.invokevirtual 381, 3) := dk_182 1 125 (dk_at dksX0_isForced_1 6 rfl rfl)
theorem dX0_isForced_32 : decode cX0_isForced 32 = .ok (.aload_n 0, 1) := dk_42 (dk_at dksX0_isForced_1 9 rfl rfl)
theorem dX0_isForced_33 : decode cX0_isForced 33 = .ok (.getfield 108, 3) := dk_180 0 108 (dk_at dksX0_isForced_1 10 rfl rfl)
theorem dX0_isForced_36 : decode cX0_isForced 36 = .ok (.iload_n 1, 1) := dk_27 (dk_at dksX0_isForced_1 13 rfl rfl)
theorem dX0_isForced_37 : decode cX0_isForced 37 = .ok (.ifCond .ne 10, 3) := dk_154 0 10 (dk_at dksX0_isForced_1 14 rfl rfl)
theorem dX0_isForced_40 : decode cX0_isForced 40 = .ok (.aload_n 0, 1) := dk_42 (dk_at dksX0_isForced_1 17 rfl rfl)
theorem dX0_isForced_41 : decode cX0_isForced 41 = .ok (.getfield 131, 3) := dk_180 0 131 (dk_at dksX0_isForced_1 18 rfl rfl)
theorem dX0_isForced_44 : decode cX0_isForced 44 = .ok (.goto 7, 3) := dk_167 0 7 (dk_at dksX0_isForced_1 21 rfl rfl)
theorem dX0_isForced_47 : decode cX0_isForced 47 = .ok (.aload_n 0, 1) := dk_42 (dk_at dksX0_isForced_2 0 rfl rfl)
theorem dX0_isForced_48 : decode cX0_isForced 48 = .ok (.getfield 135, 3) := dk_180 0 135 (dk_at dksX0_isForced_2 1 rfl rfl)
theorem dX0_isForced_51 : decode cX0_isForced 51 = .ok (.iload_n 1, 1) := dk_27 (dk_at dksX0_isForced_2 4 rfl rfl)
theorem dX0_isForced_52 : decode cX0_isForced 52 = .ok (.ifCond .ne 10, 3) := dk_154 0 10 (dk_at dksX0_isForced_2 5 rfl rfl)
theorem dX0_isForced_55 : decode cX0_isForced 55 = .ok (.aload_n 0, 1) := dk_42 (dk_at dksX0_isForced_2 8 rfl rfl)
theorem dX0_isForced_56 : decode cX0_isForced 56 = .ok (.getfield 135, 3) := dk_180 0 135 (dk_at dksX0_isForced_2 9 rfl rfl)
theorem dX0_isForced_59 : decode cX0_isForced 59 = .ok (.goto 7, 3) := dk_167 0 7 (dk_at dksX0_isForced_2 12 rfl rfl)
theorem dX0_isForced_62 : decode cX0_isForced 62 = .ok (.aload_n 0, 1) := dk_42 (dk_at dksX0_isForced_2 15 rfl rfl)
theorem dX0_isForced_63 : decode cX0_isForced 63 = .ok (.getfield 131, 3) := dk_180 0 131 (dk_at dksX0_isForced_2 16 rfl rfl)
theorem dX0_isForced_66 : decode cX0_isForced 66 = .ok (.invokevirtual 265, 3) := dk_182 1 9 (dk_at dksX0_isForced_2 19 rfl rfl)
theorem dX0_isForced_69 : decode cX0_isForced 69 = .ok (.aload_n 0, 1) := dk_42 (dk_at dksX0_isForced_2 22 rfl rfl)
theorem dX0_isForced_70 : decode cX0_isForced 70 = .ok (.getfield 108, 3) := dk_180 0 108 (dk_at dksX0_isForced_3 0 rfl rfl)
theorem dX0_isForced_73 : decode cX0_isForced 73 = .ok (.iconst 0, 1) := dk_3 (dk_at dksX0_isForced_3 3 rfl rfl)
theorem dX0_isForced_74 : decode cX0_isForced 74 = .ok (.invokevirtual 268, 3) := dk_182 1 12 (dk_at dksX0_isForced_3 4 rfl rfl)
theorem dX0_isForced_77 : decode cX0_isForced 77 = .ok (.aload_n 0, 1) := dk_42 (dk_at dksX0_isForced_3 7 rfl rfl)
theorem dX0_isForced_78 : decode cX0_isForced 78 = .ok (.getfield 115, 3) := dk_180 0 115 (dk_at dksX0_isForced_3 8 rfl rfl)
theorem dX0_isForced_81 : decode cX0_isForced 81 = .ok (.iload_n 1, 1) := dk_27 (dk_at dksX0_isForced_3 11 rfl rfl)
theorem dX0_isForced_82 : decode cX0_isForced 82 = .ok (.aaload, 1) := dk_50 (dk_at dksX0_isForced_3 12 rfl rfl)
theorem dX0_isForced_83 : decode cX0_isForced 83 = .ok (.iload_n 1, 1) := dk_27 (dk_at dksX0_isForced_3 13 rfl rfl)
theorem dX0_isForced_84 : decode cX0_isForced 84 = .ok (.invokevirtual 344, 3) := dk_182 1 88 (dk_at dksX0_isForced_3 14 rfl rfl)
theorem dX0_isForced_87 : decode cX0_isForced 87 = .ok (.iload_n 2, 1) := dk_28 (dk_at dksX0_isForced_3 17 rfl rfl)
theorem dX0_isForced_88 : decode cX0_isForced 88 = .ok (.invokevirtual 387, 3) := dk_182 1 131 (dk_at dksX0_isForced_3 18 rfl rfl)
theorem dX0_isForced_91 : decode cX0_isForced 91 = .ok (.ifCond .ne 5, 3) := dk_154 0 5 (dk_at dksX0_isForced_3 21 rfl rfl)
theorem dX0_isForced_94 : decode cX0_isForced 94 = .ok (.iconst 0, 1) := dk_3 (dk_at dksX0_isForced_4 0 rfl rfl)
theorem dX0_isForced_95 : decode cX0_isForced 95 = .ok (.ireturn, 1) := dk_172 (dk_at dksX0_isForced_4 1 rfl rfl)
theorem dX0_isForced_96 : decode cX0_isForced 96 = .ok (.iinc 5 1, 3) := dk_132 5 1 (dk_at dksX0_isForced_4 2 rfl rfl)
theorem dX0_isForced_99 : decode cX0_isForced 99 = .ok (.goto (-86), 3) := dk_167 255 170 (dk_at dksX0_isForced_4 5 rfl rfl)
theorem dX0_isForced_102 : decode cX0_isForced 102 = .ok (.iconst 1, 1) := dk_4 (dk_at dksX0_isForced_4 8 rfl rfl)
theorem dX0_isForced_103 : decode cX0_isForced 103 = .ok (.ireturn, 1) := dk_172 (dk_at dksX0_isForced_4 9 rfl rfl)
abbrev cX0_told : ByteArray := prog_1_method_36_code
def yX0_told : MethodName := ⟨RX0, "told", "(III)I"⟩
def dkwX0_told_3 : List UInt8 := [16, 254, 172]
abbrev dktX0_told_3 : List UInt8 := dkwX0_told_3 ++ []
def dkwX0_told_2 : List UInt8 := [184, 0, 176, 153, 0, 20, 42, 180, 1, 143, 180, 1, 152, 16, 6, 28, 104, 29, 96, 46, 167, 0, 5]
abbrev dktX0_told_2 : List UInt8 := dkwX0_told_2 ++ dktX0_told_3
def dkwX0_told_1 : List UInt8 := [180, 1, 150, 28, 46, 54, 4, 29, 2, 160, 0, 8, 21, 4, 167, 0, 34, 29, 3, 21, 4, 4, 100]
abbrev dktX0_told_1 : List UInt8 := dkwX0_told_1 ++ dktX0_told_2
def dkwX0_told_0 : List UInt8 := [42, 27, 182, 1, 147, 153, 0, 11, 42, 28, 182, 1, 17, 154, 0, 6, 16, 254, 172, 42, 180, 1, 143]
abbrev dktX0_told_0 : List UInt8 := dkwX0_told_0 ++ dktX0_told_1
theorem dksX0_told_0 : cX0_told.data.toList.drop 0 = dktX0_told_0 := by decide +kernel
theorem dksX0_told_1 : cX0_told.data.toList.drop 23 = dktX0_told_1 := dk_seg dksX0_told_0 23 rfl rfl
theorem dksX0_told_2 : cX0_told.data.toList.drop 46 = dktX0_told_2 := dk_seg dksX0_told_1 23 rfl rfl
theorem dksX0_told_3 : cX0_told.data.toList.drop 69 = dktX0_told_3 := dk_seg dksX0_told_2 23 rfl rfl
theorem dX0_told_0 : decode cX0_told 0 = .ok (.aload_n 0, 1) := dk_42 (dk_at dksX0_told_0 0 rfl rfl)
theorem dX0_told_1 : decode cX0_told 1 = .ok (.iload_n 1, 1) := dk_27 (dk_at dksX0_told_0 1 rfl rfl)
theorem dX0_told_2 : decode cX0_told 2 = .ok (.invokevirtual 403, 3) := dk_182 1 147 (dk_at dksX0_told_0 2 rfl rfl)
theorem dX0_told_5 : decode cX0_told 5 = .ok (.ifCond .eq 11, 3) := dk_153 0 11 (dk_at dksX0_told_0 5 rfl rfl)
theorem dX0_told_8 : decode cX0_told 8 = .ok (.aload_n 0, 1) := dk_42 (dk_at dksX0_told_0 8 rfl rfl)
theorem dX0_told_9 : decode cX0_told 9 = .ok (.iload_n 2, 1) := dk_28 (dk_at dksX0_told_0 9 rfl rfl)
theorem dX0_told_10 : decode cX0_told 10 = .ok (.invokevirtual 273, 3) := dk_182 1 17 (dk_at dksX0_told_0 10 rfl rfl)
theorem dX0_told_13 : decode cX0_told 13 = .ok (.ifCond .ne 6, 3) := dk_154 0 6 (dk_at dksX0_told_0 13 rfl rfl)
theorem dX0_told_16 : decode cX0_told 16 = .ok (.bipush (-2), 2) := dk_16 254 (dk_at dksX0_told_0 16 rfl rfl)
theorem dX0_told_18 : decode cX0_told 18 = .ok (.ireturn, 1) := dk_172 (dk_at dksX0_told_0 18 rfl rfl)
theorem dX0_told_19 : decode cX0_told 19 = .ok (.aload_n 0, 1) := dk_42 (dk_at dksX0_told_0 19 rfl rfl)
theorem dX0_told_20 : decode cX0_told 20 = .ok (.getfield 399, 3) := dk_180 1 143 (dk_at dksX0_told_0 20 rfl rfl)
theorem dX0_told_23 : decode cX0_told 23 = .ok (.getfield 406, 3) := dk_180 1 150 (dk_at dksX0_told_1 0 rfl rfl)
theorem dX0_told_26 : decode cX0_told 26 = .ok (.iload_n 2, 1) := dk_28 (dk_at dksX0_told_1 3 rfl rfl)
theorem dX0_told_27 : decode cX0_told 27 = .ok (.iaload, 1) := dk_46 (dk_at dksX0_told_1 4 rfl rfl)
theorem dX0_told_28 : decode cX0_told 28 = .ok (.istore 4, 2) := dk_54 4 (dk_at dksX0_told_1 5 rfl rfl)
theorem dX0_told_30 : decode cX0_told 30 = .ok (.iload_n 3, 1) := dk_29 (dk_at dksX0_told_1 7 rfl rfl)
theorem dX0_told_31 : decode cX0_told 31 = .ok (.iconst (-1), 1) := dk_2 (dk_at dksX0_told_1 8 rfl rfl)
theorem dX0_told_32 : decode cX0_told 32 = .ok (.if_icmp .ne 8, 3) := dk_160 0 8 (dk_at dksX0_told_1 9 rfl rfl)
theorem dX0_told_35 : decode cX0_told 35 = .ok (.iload 4, 2) := dk_21 4 (dk_at dksX0_told_1 12 rfl rfl)
theorem dX0_told_37 : decode cX0_told 37 = .ok (.goto 34, 3) := dk_167 0 34 (dk_at dksX0_told_1 14 rfl rfl)
theorem dX0_told_40 : decode cX0_told 40 = .ok (.iload_n 3, 1) := dk_29 (dk_at dksX0_told_1 17 rfl rfl)
theorem dX0_told_41 : decode cX0_told 41 = .ok (.iconst 0, 1) := dk_3 (dk_at dksX0_told_1 18 rfl rfl)
theorem dX0_told_42 : decode cX0_told 42 = .ok (.iload 4, 2) := dk_21 4 (dk_at dksX0_told_1 19 rfl rfl)
theorem dX0_told_44 : decode cX0_told 44 = .ok (.iconst 1, 1) := dk_4 (dk_at dksX0_told_1 21 rfl rfl)
theorem dX0_told_45 : decode cX0_told 45 = .ok (.isub, 1) := dk_100 (dk_at dksX0_told_1 22 rfl rfl)
theorem dX0_told_46 : decode cX0_told 46 = .ok (.invokestatic 176, 3) := dk_184 0 176 (dk_at dksX0_told_2 0 rfl rfl)
theorem dX0_told_49 : decode cX0_told 49 = .ok (.ifCond .eq 20, 3) := dk_153 0 20 (dk_at dksX0_told_2 3 rfl rfl)
theorem dX0_told_52 : decode cX0_told 52 = .ok (.aload_n 0, 1) := dk_42 (dk_at dksX0_told_2 6 rfl rfl)
theorem dX0_told_53 : decode cX0_told 53 = .ok (.getfield 399, 3) := dk_180 1 143 (dk_at dksX0_told_2 7 rfl rfl)
theorem dX0_told_56 : decode cX0_told 56 = .ok (.getfield 408, 3) := dk_180 1 152 (dk_at dksX0_told_2 10 rfl rfl)
theorem dX0_told_59 : decode cX0_told 59 = .ok (.bipush 6, 2) := dk_16 6 (dk_at dksX0_told_2 13 rfl rfl)
theorem dX0_told_61 : decode cX0_told 61 = .ok (.iload_n 2, 1) := dk_28 (dk_at dksX0_told_2 15 rfl rfl)
theorem dX0_told_62 : decode cX0_told 62 = .ok (.imul, 1) := dk_104 (dk_at dksX0_told_2 16 rfl rfl)
theorem dX0_told_63 : decode cX0_told 63 = .ok (.iload_n 3, 1) := dk_29 (dk_at dksX0_told_2 17 rfl rfl)
theorem dX0_told_64 : decode cX0_told 64 = .ok (.iadd, 1) := dk_96 (dk_at dksX0_told_2 18 rfl rfl)
theorem dX0_told_65 : decode cX0_told 65 = .ok (.iaload, 1) := dk_46 (dk_at dksX0_told_2 19 rfl rfl)
theorem dX0_told_66 : decode cX0_told 66 = .ok (.goto 5, 3) := dk_167 0 5 (dk_at dksX0_told_2 20 rfl rfl)
theorem dX0_told_69 : decode cX0_told 69 = .ok (.bipush (-2), 2) := dk_16 254 (dk_at dksX0_told_3 0 rfl rfl)
theorem dX0_told_71 : decode cX0_told 71 = .ok (.ireturn, 1) := dk_172 (dk_at dksX0_told_3 2 rfl rfl)
abbrev cX0_layHearing : ByteArray := prog_1_method_35_code
def yX0_layHearing : MethodName := ⟨RX0, "layHearing", "(I)Z"⟩
def dkwX0_layHearing_1 : List UInt8 := [180, 0, 95, 180, 1, 138, 27, 182, 0, 237, 192, 1, 141, 181, 1, 143, 4, 172]
abbrev dktX0_layHearing_1 : List UInt8 := dkwX0_layHearing_1 ++ []
def dkwX0_layHearing_0 : List UInt8 := [27, 3, 42, 180, 0, 95, 180, 1, 138, 182, 0, 3, 4, 100, 184, 0, 176, 154, 0, 5, 3, 172, 42, 42]
abbrev dktX0_layHearing_0 : List UInt8 := dkwX0_layHearing_0 ++ dktX0_layHearing_1
theorem dksX0_layHearing_0 : cX0_layHearing.data.toList.drop 0 = dktX0_layHearing_0 := by decide +kernel
theorem dksX0_layHearing_1 : cX0_layHearing.data.toList.drop 24 = dktX0_layHearing_1 := dk_seg dksX0_layHearing_0 24 rfl rfl
theorem dX0_layHearing_0 : decode cX0_layHearing 0 = .ok (.iload_n 1, 1) := dk_27 (dk_at dksX0_layHearing_0 0 rfl rfl)
theorem dX0_layHearing_1 : decode cX0_layHearing 1 = .ok (.iconst 0, 1) := dk_3 (dk_at dksX0_layHearing_0 1 rfl rfl)
theorem dX0_layHearing_2 : decode cX0_layHearing 2 = .ok (.aload_n 0, 1) := dk_42 (dk_at dksX0_layHearing_0 2 rfl rfl)
theorem dX0_layHearing_3 : decode cX0_layHearing 3 = .ok (.getfield 95, 3) := dk_180 0 95 (dk_at dksX0_layHearing_0 3 rfl rfl)
theorem dX0_layHearing_6 : decode cX0_layHearing 6 = .ok (.getfield 394, 3) := dk_180 1 138 (dk_at dksX0_layHearing_0 6 rfl rfl)
theorem dX0_layHearing_9 : decode cX0_layHearing 9 = .ok (.invokevirtual 3, 3) := dk_182 0 3 (dk_at dksX0_layHearing_0 9 rfl rfl)
theorem dX0_layHearing_12 : decode cX0_layHearing 12 = .ok (.iconst 1, 1) := dk_4 (dk_at dksX0_layHearing_0 12 rfl rfl)
theorem dX0_layHearing_13 : decode cX0_layHearing 13 = .ok (.isub, 1) := dk_100 (dk_at dksX0_layHearing_0 13 rfl rfl)
theorem dX0_layHearing_14 : decode cX0_layHearing 14 = .ok (.invokestatic 176, 3) := dk_184 0 176 (dk_at dksX0_layHearing_0 14 rfl rfl)
theorem dX0_layHearing_17 : decode cX0_layHearing 17 = .ok (.ifCond .ne 5, 3) := dk_154 0 5 (dk_at dksX0_layHearing_0 17 rfl rfl)
theorem dX0_layHearing_20 : decode cX0_layHearing 20 = .ok (.iconst 0, 1) := dk_3 (dk_at dksX0_layHearing_0 20 rfl rfl)
theorem dX0_layHearing_21 : decode cX0_layHearing 21 = .ok (.ireturn, 1) := dk_172 (dk_at dksX0_layHearing_0 21 rfl rfl)
theorem dX0_layHearing_22 : decode cX0_layHearing 22 = .ok (.aload_n 0, 1) := dk_42 (dk_at dksX0_layHearing_0 22 rfl rfl)
theorem dX0_layHearing_23 : decode cX0_layHearing 23 = .ok (.aload_n 0, 1) := dk_42 (dk_at dksX0_layHearing_0 23 rfl rfl)
theorem dX0_layHearing_24 : decode cX0_layHearing 24 = .ok (.getfield 95, 3) := dk_180 0 95 (dk_at dksX0_layHearing_1 0 rfl rfl)
theorem dX0_layHearing_27 : decode cX0_layHearing 27 = .ok (.getfield 394, 3) := dk_180 1 138 (dk_at dksX0_layHearing_1 3 rfl rfl)
theorem dX0_layHearing_30 : decode cX0_layHearing 30 = .ok (.iload_n 1, 1) := dk_27 (dk_at dksX0_layHearing_1 6 rfl rfl)
theorem dX0_layHearing_31 : decode cX0_layHearing 31 = .ok (.invokevirtual 237, 3) := dk_182 0 237 (dk_at dksX0_layHearing_1 7 rfl rfl)
theorem dX0_layHearing_34 : decode cX0_layHearing 34 = .ok (.checkcast 397, 3) := dk_192 1 141 (dk_at dksX0_layHearing_1 10 rfl rfl)
theorem dX0_layHearing_37 : decode cX0_layHearing 37 = .ok (.putfield 399, 3) := dk_181 1 143 (dk_at dksX0_layHearing_1 13 rfl rfl)
theorem dX0_layHearing_40 : decode cX0_layHearing 40 = .ok (.iconst 1, 1) := dk_4 (dk_at dksX0_layHearing_1 16 rfl rfl)
theorem dX0_layHearing_41 : decode cX0_layHearing 41 = .ok (.ireturn, 1) := dk_172 (dk_at dksX0_layHearing_1 17 rfl rfl)
abbrev cX0_bribes : ByteArray := prog_1_method_38_code
def yX0_bribes : MethodName := ⟨RX0, "bribes", "(IIII)I"⟩
def dkwX0_bribes_9 : List UInt8 := [184, 1, 162, 172]
abbrev dktX0_bribes_9 : List UInt8 := dkwX0_bribes_9 ++ []
def dkwX0_bribes_8 : List UInt8 := [21, 6, 167, 0, 25, 21, 7, 2, 159, 0, 9, 21, 4, 5, 160, 0, 8, 21, 7, 167, 0, 8, 21, 7]
abbrev dktX0_bribes_8 : List UInt8 := dkwX0_bribes_8 ++ dktX0_bribes_9
def dkwX0_bribes_7 : List UInt8 := [162, 0, 8, 21, 8, 167, 0, 5, 21, 7, 54, 7, 132, 8, 1, 167, 255, 178, 21, 4, 154, 0, 8]
abbrev dktX0_bribes_7 : List UInt8 := dkwX0_bribes_7 ++ dktX0_bribes_8
def dkwX0_bribes_6 : List UInt8 := [167, 0, 34, 132, 6, 1, 21, 7, 2, 159, 0, 16, 21, 8, 184, 1, 162, 21, 7, 184, 1, 162]
abbrev dktX0_bribes_6 : List UInt8 := dkwX0_bribes_6 ++ dktX0_bribes_7
def dkwX0_bribes_5 : List UInt8 := [126, 153, 0, 6, 167, 0, 53, 42, 180, 0, 108, 21, 8, 182, 1, 12, 42, 182, 1, 159, 154, 0, 6]
abbrev dktX0_bribes_5 : List UInt8 := dkwX0_bribes_5 ++ dktX0_bribes_6
def dkwX0_bribes_4 : List UInt8 := [167, 255, 215, 3, 54, 8, 21, 8, 4, 42, 180, 0, 108, 180, 1, 70, 120, 162, 0, 70, 21, 8, 21, 5]
abbrev dktX0_bribes_4 : List UInt8 := dkwX0_bribes_4 ++ dktX0_bribes_5
def dkwX0_bribes_3 : List UInt8 := [180, 1, 71, 21, 8, 46, 154, 0, 10, 4, 21, 8, 120, 167, 0, 4, 3, 128, 54, 5, 132, 8, 1]
abbrev dktX0_bribes_3 : List UInt8 := dkwX0_bribes_3 ++ dktX0_bribes_4
def dkwX0_bribes_2 : List UInt8 := [54, 7, 3, 54, 8, 21, 8, 42, 180, 0, 108, 180, 1, 70, 162, 0, 35, 21, 5, 42, 180, 0, 108]
abbrev dktX0_bribes_2 : List UInt8 := dkwX0_bribes_2 ++ dktX0_bribes_3
def dkwX0_bribes_1 : List UInt8 := [153, 0, 15, 42, 180, 0, 108, 180, 1, 70, 16, 12, 164, 0, 5, 2, 172, 3, 54, 5, 3, 54, 6, 2]
abbrev dktX0_bribes_1 : List UInt8 := dkwX0_bribes_1 ++ dktX0_bribes_2
def dkwX0_bribes_0 : List UInt8 := [21, 4, 3, 5, 184, 0, 176, 153, 0, 32, 42, 29, 182, 1, 147, 153, 0, 24, 42, 27, 28, 182, 1, 67]
abbrev dktX0_bribes_0 : List UInt8 := dkwX0_bribes_0 ++ dktX0_bribes_1
theorem dksX0_bribes_0 : cX0_bribes.data.toList.drop 0 = dktX0_bribes_0 := by decide +kernel
theorem dksX0_bribes_1 : cX0_bribes.data.toList.drop 24 = dktX0_bribes_1 := dk_seg dksX0_bribes_0 24 rfl rfl
theorem dksX0_bribes_2 : cX0_bribes.data.toList.drop 48 = dktX0_bribes_2 := dk_seg dksX0_bribes_1 24 rfl rfl
theorem dksX0_bribes_3 : cX0_bribes.data.toList.drop 71 = dktX0_bribes_3 := dk_seg dksX0_bribes_2 23 rfl rfl
theorem dksX0_bribes_4 : cX0_bribes.data.toList.drop 94 = dktX0_bribes_4 := dk_seg dksX0_bribes_3 23 rfl rfl
theorem dksX0_bribes_5 : cX0_bribes.data.toList.drop 118 = dktX0_bribes_5 := dk_seg dksX0_bribes_4 24 rfl rfl
theorem dksX0_bribes_6 : cX0_bribes.data.toList.drop 141 = dktX0_bribes_6 := dk_seg dksX0_bribes_5 23 rfl rfl
theorem dksX0_bribes_7 : cX0_bribes.data.toList.drop 163 = dktX0_bribes_7 := dk_seg dksX0_bribes_6 22 rfl rfl
theorem dksX0_bribes_8 : cX0_bribes.data.toList.drop 186 = dktX0_bribes_8 := dk_seg dksX0_bribes_7 23 rfl rfl
theorem dksX0_bribes_9 : cX0_bribes.data.toList.drop 210 = dktX0_bribes_9 := dk_seg dksX0_bribes_8 24 rfl rfl
theorem dX0_bribes_0 : decode cX0_bribes 0 = .ok (.iload 4, 2) := dk_21 4 (dk_at dksX0_bribes_0 0 rfl rfl)
theorem dX0_bribes_2 : decode cX0_bribes 2 = .ok (.iconst 0, 1) := dk_3 (dk_at dksX0_bribes_0 2 rfl rfl)
theorem dX0_bribes_3 : decode cX0_bribes 3 = .ok (.iconst 2, 1) := dk_5 (dk_at dksX0_bribes_0 3 rfl rfl)
theorem dX0_bribes_4 : decode cX0_bribes 4 = .ok (.invokestatic 176, 3) := dk_184 0 176 (dk_at dksX0_bribes_0 4 rfl rfl)
theorem dX0_bribes_7 : decode cX0_bribes 7 = .ok (.ifCond .eq 32, 3) := dk_153 0 32 (dk_at dksX0_bribes_0 7 rfl rfl)
theorem dX0_bribes_10 : decode cX0_bribes 10 = .ok (.aload_n 0, 1) := dk_42 (dk_at dksX0_bribes_0 10 rfl rfl)
theorem dX0_bribes_11 : decode cX0_bribes 11 = .ok (.iload_n 3, 1) := dk_29 (dk_at dksX0_bribes_0 11 rfl rfl)
theorem dX0_bribes_12 : decode cX0_bribes 12 = .ok (.invokevirtual 403, 3) := dk_182 1 147 (dk_at dksX0_bribes_0 12 rfl rfl)
theorem dX0_bribes_15 : decode cX0_bribes 15 = .ok (.ifCond .eq 24, 3) := dk_153 0 24 (dk_at dksX0_bribes_0 15 rfl rfl)
theorem dX0_bribes_18 : decode cX0_bribes 18 = .ok (.aload_n 0, 1) := dk_42 (dk_at dksX0_bribes_0 18 rfl rfl)
theorem dX0_bribes_19 : decode cX0_bribes 19 = .ok (.iload_n 1, 1) := dk_27 (dk_at dksX0_bribes_0 19 rfl rfl)
theorem dX0_bribes_20 : decode cX0_bribes 20 = .ok (.iload_n 2, 1) := dk_28 (dk_at dksX0_bribes_0 20 rfl rfl)
theorem dX0_bribes_21 : decode cX0_bribes 21 = .ok (.invokevirtual 323, 3) := dk_182 1 67 (dk_at dksX0_bribes_0 21 rfl rfl)
theorem dX0_bribes_24 : decode cX0_bribes 24 = .ok (.ifCond .eq 15, 3) := dk_153 0 15 (dk_at dksX0_bribes_1 0 rfl rfl)
theorem dX0_bribes_27 : decode cX0_bribes 27 = .ok (.aload_n 0, 1) := dk_42 (dk_at dksX0_bribes_1 3 rfl rfl)
theorem dX0_bribes_28 : decode cX0_bribes 28 = .ok (.getfield 108, 3) := dk_180 0 108 (dk_at dksX0_bribes_1 4 rfl rfl)
theorem dX0_bribes_31 : decode cX0_bribes 31 = .ok (.getfield 326, 3) := dk_180 1 70 (dk_at dksX0_bribes_1 7 rfl rfl)
theorem dX0_bribes_34 : decode cX0_bribes 34 = .ok (.bipush 12, 2) := dk_16 12 (dk_at dksX0_bribes_1 10 rfl rfl)
theorem dX0_bribes_36 : decode cX0_bribes 36 = .ok (.if_icmp .le 5, 3) := dk_164 0 5 (dk_at dksX0_bribes_1 12 rfl rfl)
theorem dX0_bribes_39 : decode cX0_bribes 39 = .ok (.iconst (-1), 1) := dk_2 (dk_at dksX0_bribes_1 15 rfl rfl)
theorem dX0_bribes_40 : decode cX0_bribes 40 = .ok (.ireturn, 1) := dk_172 (dk_at dksX0_bribes_1 16 rfl rfl)
theorem dX0_bribes_41 : decode cX0_bribes 41 = .ok (.iconst 0, 1) := dk_3 (dk_at dksX0_bribes_1 17 rfl rfl)
theorem dX0_bribes_42 : decode cX0_bribes 42 = .ok (.istore 5, 2) := dk_54 5 (dk_at dksX0_bribes_1 18 rfl rfl)
theorem dX0_bribes_44 : decode cX0_bribes 44 = .ok (.iconst 0, 1) := dk_3 (dk_at dksX0_bribes_1 20 rfl rfl)
theorem dX0_bribes_45 : decode cX0_bribes 45 = .ok (.istore 6, 2) := dk_54 6 (dk_at dksX0_bribes_1 21 rfl rfl)
theorem dX0_bribes_47 : decode cX0_bribes 47 = .ok (.iconst (-1), 1) := dk_2 (dk_at dksX0_bribes_1 23 rfl rfl)
theorem dX0_bribes_48 : decode cX0_bribes 48 = .ok (.istore 7, 2) := dk_54 7 (dk_at dksX0_bribes_2 0 rfl rfl)
theorem dX0_bribes_50 : decode cX0_bribes 50 = .ok (.iconst 0, 1) := dk_3 (dk_at dksX0_bribes_2 2 rfl rfl)
theorem dX0_bribes_51 : decode cX0_bribes 51 = .ok (.istore 8, 2) := dk_54 8 (dk_at dksX0_bribes_2 3 rfl rfl)
theorem dX0_bribes_53 : decode cX0_bribes 53 = .ok (.iload 8, 2) := dk_21 8 (dk_at dksX0_bribes_2 5 rfl rfl)
theorem dX0_bribes_55 : decode cX0_bribes 55 = .ok (.aload_n 0, 1) := dk_42 (dk_at dksX0_bribes_2 7 rfl rfl)
theorem dX0_bribes_56 : decode cX0_bribes 56 = .ok (.getfield 108, 3) := dk_180 0 108 (dk_at dksX0_bribes_2 8 rfl rfl)
theorem dX0_bribes_59 : decode cX0_bribes 59 = .ok (.getfield 326, 3) := dk_180 1 70 (dk_at dksX0_bribes_2 11 rfl rfl)
theorem dX0_bribes_62 : decode cX0_bribes 62 = .ok (.if_icmp .ge 35, 3) := dk_162 0 35 (dk_at dksX0_bribes_2 14 rfl rfl)
theorem dX0_bribes_65 : decode cX0_bribes 65 = .ok (.iload 5, 2) := dk_21 5 (dk_at dksX0_bribes_2 17 rfl rfl)
theorem dX0_bribes_67 : decode cX0_bribes 67 = .ok (.aload_n 0, 1) := dk_42 (dk_at dksX0_bribes_2 19 rfl rfl)
theorem dX0_bribes_68 : decode cX0_bribes 68 = .ok (.getfield 108, 3) := dk_180 0 108 (dk_at dksX0_bribes_2 20 rfl rfl)
theorem dX0_bribes_71 : decode cX0_bribes 71 = .ok (.getfield 327, 3) := dk_180 1 71 (dk_at dksX0_bribes_3 0 rfl rfl)
theorem dX0_bribes_74 : decode cX0_bribes 74 = .ok (.iload 8, 2) := dk_21 8 (dk_at dksX0_bribes_3 3 rfl rfl)
theorem dX0_bribes_76 : decode cX0_bribes 76 = .ok (.iaload, 1) := dk_46 (dk_at dksX0_bribes_3 5 rfl rfl)
theorem dX0_bribes_77 : decode cX0_bribes 77 = .ok (.ifCond .ne 10, 3) := dk_154 0 10 (dk_at dksX0_bribes_3 6 rfl rfl)
theorem dX0_bribes_80 : decode cX0_bribes 80 = .ok (.iconst 1, 1) := dk_4 (dk_at dksX0_bribes_3 9 rfl rfl)
theorem dX0_bribes_81 : decode cX0_bribes 81 = .ok (.iload 8, 2) := dk_21 8 (dk_at dksX0_bribes_3 10 rfl rfl)
theorem dX0_bribes_83 : decode cX0_bribes 83 = .ok (.ishl, 1) := dk_120 (dk_at dksX0_bribes_3 12 rfl rfl)
theorem dX0_bribes_84 : decode cX0_bribes 84 = .ok (.goto 4, 3) := dk_167 0 4 (dk_at dksX0_bribes_3 13 rfl rfl)
theorem dX0_bribes_87 : decode cX0_bribes 87 = .ok (.iconst 0, 1) := dk_3 (dk_at dksX0_bribes_3 16 rfl rfl)
theorem dX0_bribes_88 : decode cX0_bribes 88 = .ok (.ior, 1) := dk_128 (dk_at dksX0_bribes_3 17 rfl rfl)
theorem dX0_bribes_89 : decode cX0_bribes 89 = .ok (.istore 5, 2) := dk_54 5 (dk_at dksX0_bribes_3 18 rfl rfl)
theorem dX0_bribes_91 : decode cX0_bribes 91 = .ok (.iinc 8 1, 3) := dk_132 8 1 (dk_at dksX0_bribes_3 20 rfl rfl)
theorem dX0_bribes_94 : decode cX0_bribes 94 = .ok (.goto (-41), 3) := dk_167 255 215 (dk_at dksX0_bribes_4 0 rfl rfl)
theorem dX0_bribes_97 : decode cX0_bribes 97 = .ok (.iconst 0, 1) := dk_3 (dk_at dksX0_bribes_4 3 rfl rfl)
theorem dX0_bribes_98 : decode cX0_bribes 98 = .ok (.istore 8, 2) := dk_54 8 (dk_at dksX0_bribes_4 4 rfl rfl)
theorem dX0_bribes_100 : decode cX0_bribes 100 = .ok (.iload 8, 2) := dk_21 8 (dk_at dksX0_bribes_4 6 rfl rfl)
theorem dX0_bribes_102 : decode cX0_bribes 102 = .ok (.iconst 1, 1) := dk_4 (dk_at dksX0_bribes_4 8 rfl rfl)
theorem dX0_bribes_103 : decode cX0_bribes 103 = .ok (.aload_n 0, 1) := dk_42 (dk_at dksX0_bribes_4 9 rfl rfl)
theorem dX0_bribes_104 : decode cX0_bribes 104 = .ok (.getfield 108, 3) := dk_180 0 108 (dk_at dksX0_bribes_4 10 rfl rfl)
theorem dX0_bribes_107 : decode cX0_bribes 107 = .ok (.getfield 326, 3) := dk_180 1 70 (dk_at dksX0_bribes_4 13 rfl rfl)
theorem dX0_bribes_110 : decode cX0_bribes 110 = .ok (.ishl, 1) := dk_120 (dk_at dksX0_bribes_4 16 rfl rfl)
theorem dX0_bribes_111 : decode cX0_bribes 111 = .ok (.if_icmp .ge 70, 3) := dk_162 0 70 (dk_at dksX0_bribes_4 17 rfl rfl)
theorem dX0_bribes_114 : decode cX0_bribes 114 = .ok (.iload 8, 2) := dk_21 8 (dk_at dksX0_bribes_4 20 rfl rfl)
theorem dX0_bribes_116 : decode cX0_bribes 116 = .ok (.iload 5, 2) := dk_21 5 (dk_at dksX0_bribes_4 22 rfl rfl)
theorem dX0_bribes_118 : decode cX0_bribes 118 = .ok (.iand, 1) := dk_126 (dk_at dksX0_bribes_5 0 rfl rfl)
theorem dX0_bribes_119 : decode cX0_bribes 119 = .ok (.ifCond .eq 6, 3) := dk_153 0 6 (dk_at dksX0_bribes_5 1 rfl rfl)
theorem dX0_bribes_122 : decode cX0_bribes 122 = .ok (.goto 53, 3) := dk_167 0 53 (dk_at dksX0_bribes_5 4 rfl rfl)
theorem dX0_bribes_125 : decode cX0_bribes 125 = .ok (.aload_n 0, 1) := dk_42 (dk_at dksX0_bribes_5 7 rfl rfl)
theorem dX0_bribes_126 : decode cX0_bribes 126 = .ok (.getfield 108, 3) := dk_180 0 108 (dk_at dksX0_bribes_5 8 rfl rfl)
theorem dX0_bribes_129 : decode cX0_bribes 129 = .ok (.iload 8, 2) := dk_21 8 (dk_at dksX0_bribes_5 11 rfl rfl)
theorem dX0_bribes_131 : decode cX0_bribes 131 = .ok (.invokevirtual 268, 3) := dk_182 1 12 (dk_at dksX0_bribes_5 13 rfl rfl)
theorem dX0_bribes_134 : decode cX0_bribes 134 = .ok (.aload_n 0, 1) := dk_42 (dk_at dksX0_bribes_5 16 rfl rfl)
theorem dX0_bribes_135 : decode cX0_bribes 135 = .ok (.invokevirtual 415, 3) := dk_182 1 159 (dk_at dksX0_bribes_5 17 rfl rfl)
theorem dX0_bribes_138 : decode cX0_bribes 138 = .ok (.ifCond .ne 6, 3) := dk_154 0 6 (dk_at dksX0_bribes_5 20 rfl rfl)
theorem dX0_bribes_141 : decode cX0_bribes 141 = .ok (.goto 34, 3) := dk_167 0 34 (dk_at dksX0_bribes_6 0 rfl rfl)
theorem dX0_bribes_144 : decode cX0_bribes 144 = .ok (.iinc 6 1, 3) := dk_132 6 1 (dk_at dksX0_bribes_6 3 rfl rfl)
theorem dX0_bribes_147 : decode cX0_bribes 147 = .ok (.iload 7, 2) := dk_21 7 (dk_at dksX0_bribes_6 6 rfl rfl)
theorem dX0_bribes_149 : decode cX0_bribes 149 = .ok (.iconst (-1), 1) := dk_2 (dk_at dksX0_bribes_6 8 rfl rfl)
theorem dX0_bribes_150 : decode cX0_bribes 150 = .ok (.if_icmp .eq 16, 3) := dk_159 0 16 (dk_at dksX0_bribes_6 9 rfl rfl)
theorem dX0_bribes_153 : decode cX0_bribes 153 = .ok (.iload 8, 2) := dk_21 8 (dk_at dksX0_bribes_6 12 rfl rfl)
theorem dX0_bribes_155 : decode cX0_bribes 155 = .ok (.invokestatic 418, 3) := dk_184 1 162 (dk_at dksX0_bribes_6 14 rfl rfl)
theorem dX0_bribes_158 : decode cX0_bribes 158 = .ok (.iload 7, 2) := dk_21 7 (dk_at dksX0_bribes_6 17 rfl rfl)
theorem dX0_bribes_160 : decode cX0_bribes 160 = .ok (.invokestatic 418, 3) := dk_184 1 162 (dk_at dksX0_bribes_6 19 rfl rfl)
theorem dX0_bribes_163 : decode cX0_bribes 163 = .ok (.if_icmp .ge 8, 3) := dk_162 0 8 (dk_at dksX0_bribes_7 0 rfl rfl)
theorem dX0_bribes_166 : decode cX0_bribes 166 = .ok (.iload 8, 2) := dk_21 8 (dk_at dksX0_bribes_7 3 rfl rfl)
theorem dX0_bribes_168 : decode cX0_bribes 168 = .ok (.goto 5, 3) := dk_167 0 5 (dk_at dksX0_bribes_7 5 rfl rfl)
theorem dX0_bribes_171 : decode cX0_bribes 171 = .ok (.iload 7, 2) := dk_21 7 (dk_at dksX0_bribes_7 8 rfl rfl)
theorem dX0_bribes_173 : decode cX0_bribes 173 = .ok (.istore 7, 2) := dk_54 7 (dk_at dksX0_bribes_7 10 rfl rfl)
theorem dX0_bribes_175 : decode cX0_bribes 175 = .ok (.iinc 8 1, 3) := dk_132 8 1 (dk_at dksX0_bribes_7 12 rfl rfl)
theorem dX0_bribes_178 : decode cX0_bribes 178 = .ok (.goto (-78), 3) := dk_167 255 178 (dk_at dksX0_bribes_7 15 rfl rfl)
theorem dX0_bribes_181 : decode cX0_bribes 181 = .ok (.iload 4, 2) := dk_21 4 (dk_at dksX0_bribes_7 18 rfl rfl)
theorem dX0_bribes_183 : decode cX0_bribes 183 = .ok (.ifCond .ne 8, 3) := dk_154 0 8 (dk_at dksX0_bribes_7 20 rfl rfl)
theorem dX0_bribes_186 : decode cX0_bribes 186 = .ok (.iload 6, 2) := dk_21 6 (dk_at dksX0_bribes_8 0 rfl rfl)
theorem dX0_bribes_188 : decode cX0_bribes 188 = .ok (.goto 25, 3) := dk_167 0 25 (dk_at dksX0_bribes_8 2 rfl rfl)
theorem dX0_bribes_191 : decode cX0_bribes 191 = .ok (.iload 7, 2) := dk_21 7 (dk_at dksX0_bribes_8 5 rfl rfl)
theorem dX0_bribes_193 : decode cX0_bribes 193 = .ok (.iconst (-1), 1) := dk_2 (dk_at dksX0_bribes_8 7 rfl rfl)
theorem dX0_bribes_194 : decode cX0_bribes 194 = .ok (.if_icmp .eq 9, 3) := dk_159 0 9 (dk_at dksX0_bribes_8 8 rfl rfl)
theorem dX0_bribes_197 : decode cX0_bribes 197 = .ok (.iload 4, 2) := dk_21 4 (dk_at dksX0_bribes_8 11 rfl rfl)
theorem dX0_bribes_199 : decode cX0_bribes 199 = .ok (.iconst 2, 1) := dk_5 (dk_at dksX0_bribes_8 13 rfl rfl)
theorem dX0_bribes_200 : decode cX0_bribes 200 = .ok (.if_icmp .ne 8, 3) := dk_160 0 8 (dk_at dksX0_bribes_8 14 rfl rfl)
theorem dX0_bribes_203 : decode cX0_bribes 203 = .ok (.iload 7, 2) := dk_21 7 (dk_at dksX0_bribes_8 17 rfl rfl)
theorem dX0_bribes_205 : decode cX0_bribes 205 = .ok (.goto 8, 3) := dk_167 0 8 (dk_at dksX0_bribes_8 19 rfl rfl)
theorem dX0_bribes_208 : decode cX0_bribes 208 = .ok (.iload 7, 2) := dk_21 7 (dk_at dksX0_bribes_8 22 rfl rfl)
theorem dX0_bribes_210 : decode cX0_bribes 210 = .ok (.invokestatic 418, 3) := dk_184 1 162 (dk_at dksX0_bribes_9 0 rfl rfl)
theorem dX0_bribes_213 : decode cX0_bribes 213 = .ok (.ireturn, 1) := dk_172 (dk_at dksX0_bribes_9 3 rfl rfl)
abbrev cX0_isAsTold : ByteArray := prog_1_method_37_code
def yX0_isAsTold : MethodName := ⟨RX0, "isAsTold", "()Z"⟩
def dkwX0_isAsTold_1 : List UInt8 := [180, 1, 143, 4, 182, 1, 155, 153, 0, 7, 4, 167, 0, 4, 3, 172]
abbrev dktX0_isAsTold_1 : List UInt8 := dkwX0_isAsTold_1 ++ []
def dkwX0_isAsTold_0 : List UInt8 := [42, 180, 0, 115, 3, 50, 42, 180, 1, 143, 3, 182, 1, 155, 153, 0, 24, 42, 180, 0, 115, 4, 50, 42]
abbrev dktX0_isAsTold_0 : List UInt8 := dkwX0_isAsTold_0 ++ dktX0_isAsTold_1
theorem dksX0_isAsTold_0 : cX0_isAsTold.data.toList.drop 0 = dktX0_isAsTold_0 := by decide +kernel
theorem dksX0_isAsTold_1 : cX0_isAsTold.data.toList.drop 24 = dktX0_isAsTold_1 := dk_seg dksX0_isAsTold_0 24 rfl rfl
theorem dX0_isAsTold_0 : decode cX0_isAsTold 0 = .ok (.aload_n 0, 1) := dk_42 (dk_at dksX0_isAsTold_0 0 rfl rfl)
theorem dX0_isAsTold_1 : decode cX0_isAsTold 1 = .ok (.getfield 115, 3) := dk_180 0 115 (dk_at dksX0_isAsTold_0 1 rfl rfl)
theorem dX0_isAsTold_4 : decode cX0_isAsTold 4 = .ok (.iconst 0, 1) := dk_3 (dk_at dksX0_isAsTold_0 4 rfl rfl)
theorem dX0_isAsTold_5 : decode cX0_isAsTold 5 = .ok (.aaload, 1) := dk_50 (dk_at dksX0_isAsTold_0 5 rfl rfl)
theorem dX0_isAsTold_6 : decode cX0_isAsTold 6 = .ok (.aload_n 0, 1) := dk_42 (dk_at dksX0_isAsTold_0 6 rfl rfl)
theorem dX0_isAsTold_7 : decode cX0_isAsTold 7 = .ok (.getfield 399, 3) := dk_180 1 143 (dk_at dksX0_isAsTold_0 7 rfl rfl)
theorem dX0_isAsTold_10 : decode cX0_isAsTold 10 = .ok (.iconst 0, 1) := dk_3 (dk_at dksX0_isAsTold_0 10 rfl rfl)
theorem dX0_isAsTold_11 : decode cX0_isAsTold 11 = .ok (.invokevirtual 411, 3) := dk_182 1 155 (dk_at dksX0_isAsTold_0 11 rfl rfl)
theorem dX0_isAsTold_14 : decode cX0_isAsTold 14 = .ok (.ifCond .eq 24, 3) := dk_153 0 24 (dk_at dksX0_isAsTold_0 14 rfl rfl)
theorem dX0_isAsTold_17 : decode cX0_isAsTold 17 = .ok (.aload_n 0, 1) := dk_42 (dk_at dksX0_isAsTold_0 17 rfl rfl)
theorem dX0_isAsTold_18 : decode cX0_isAsTold 18 = .ok (.getfield 115, 3) := dk_180 0 115 (dk_at dksX0_isAsTold_0 18 rfl rfl)
theorem dX0_isAsTold_21 : decode cX0_isAsTold 21 = .ok (.iconst 1, 1) := dk_4 (dk_at dksX0_isAsTold_0 21 rfl rfl)
theorem dX0_isAsTold_22 : decode cX0_isAsTold 22 = .ok (.aaload, 1) := dk_50 (dk_at dksX0_isAsTold_0 22 rfl rfl)
theorem dX0_isAsTold_23 : decode cX0_isAsTold 23 = .ok (.aload_n 0, 1) := dk_42 (dk_at dksX0_isAsTold_0 23 rfl rfl)
theorem dX0_isAsTold_24 : decode cX0_isAsTold 24 = .ok (.getfield 399, 3) := dk_180 1 143 (dk_at dksX0_isAsTold_1 0 rfl rfl)
theorem dX0_isAsTold_27 : decode cX0_isAsTold 27 = .ok (.iconst 1, 1) := dk_4 (dk_at dksX0_isAsTold_1 3 rfl rfl)
theorem dX0_isAsTold_28 : decode cX0_isAsTold 28 = .ok (.invokevirtual 411, 3) := dk_182 1 155 (dk_at dksX0_isAsTold_1 4 rfl rfl)
theorem dX0_isAsTold_31 : decode cX0_isAsTold 31 = .ok (.ifCond .eq 7, 3) := dk_153 0 7 (dk_at dksX0_isAsTold_1 7 rfl rfl)
theorem dX0_isAsTold_34 : decode cX0_isAsTold 34 = .ok (.iconst 1, 1) := dk_4 (dk_at dksX0_isAsTold_1 10 rfl rfl)
theorem dX0_isAsTold_35 : decode cX0_isAsTold 35 = .ok (.goto 4, 3) := dk_167 0 4 (dk_at dksX0_isAsTold_1 11 rfl rfl)
theorem dX0_isAsTold_38 : decode cX0_isAsTold 38 = .ok (.iconst 0, 1) := dk_3 (dk_at dksX0_isAsTold_1 14 rfl rfl)
theorem dX0_isAsTold_39 : decode cX0_isAsTold 39 = .ok (.ireturn, 1) := dk_172 (dk_at dksX0_isAsTold_1 15 rfl rfl)
abbrev cX0_meant : ByteArray := prog_1_method_39_code
def yX0_meant : MethodName := ⟨RX0, "meant", "(IIIIZ)I"⟩
def dkwX0_meant_6 : List UInt8 := [21, 6, 172]
abbrev dktX0_meant_6 : List UInt8 := dkwX0_meant_6 ++ []
def dkwX0_meant_5 : List UInt8 := [167, 0, 5, 21, 7, 54, 7, 132, 8, 1, 167, 255, 176, 21, 5, 153, 0, 8, 21, 7, 167, 0, 5]
abbrev dktX0_meant_5 : List UInt8 := dkwX0_meant_5 ++ dktX0_meant_6
def dkwX0_meant_4 : List UInt8 := [182, 1, 12, 42, 182, 1, 159, 154, 0, 6, 167, 0, 21, 132, 6, 1, 21, 7, 2, 160, 0, 8, 21, 8]
abbrev dktX0_meant_4 : List UInt8 := dkwX0_meant_4 ++ dktX0_meant_5
def dkwX0_meant_3 : List UInt8 := [180, 0, 108, 42, 180, 0, 252, 180, 1, 6, 3, 50, 42, 180, 0, 135, 182, 1, 9, 42, 180, 0, 108, 3]
abbrev dktX0_meant_3 : List UInt8 := dkwX0_meant_3 ++ dktX0_meant_4
def dkwX0_meant_2 : List UInt8 := [21, 8, 21, 4, 184, 1, 128, 162, 0, 76, 42, 180, 0, 135, 21, 8, 21, 4, 182, 1, 125, 42]
abbrev dktX0_meant_2 : List UInt8 := dkwX0_meant_2 ++ dktX0_meant_3
def dkwX0_meant_1 : List UInt8 := [153, 0, 11, 42, 28, 182, 1, 3, 154, 0, 6, 16, 254, 172, 3, 54, 6, 2, 54, 7, 3, 54, 8]
abbrev dktX0_meant_1 : List UInt8 := dkwX0_meant_1 ++ dktX0_meant_2
def dkwX0_meant_0 : List UInt8 := [21, 4, 3, 8, 184, 0, 176, 153, 0, 27, 42, 29, 182, 1, 147, 153, 0, 19, 42, 27, 182, 1, 0]
abbrev dktX0_meant_0 : List UInt8 := dkwX0_meant_0 ++ dktX0_meant_1
theorem dksX0_meant_0 : cX0_meant.data.toList.drop 0 = dktX0_meant_0 := by decide +kernel
theorem dksX0_meant_1 : cX0_meant.data.toList.drop 23 = dktX0_meant_1 := dk_seg dksX0_meant_0 23 rfl rfl
theorem dksX0_meant_2 : cX0_meant.data.toList.drop 46 = dktX0_meant_2 := dk_seg dksX0_meant_1 23 rfl rfl
theorem dksX0_meant_3 : cX0_meant.data.toList.drop 68 = dktX0_meant_3 := dk_seg dksX0_meant_2 22 rfl rfl
theorem dksX0_meant_4 : cX0_meant.data.toList.drop 92 = dktX0_meant_4 := dk_seg dksX0_meant_3 24 rfl rfl
theorem dksX0_meant_5 : cX0_meant.data.toList.drop 116 = dktX0_meant_5 := dk_seg dksX0_meant_4 24 rfl rfl
theorem dksX0_meant_6 : cX0_meant.data.toList.drop 139 = dktX0_meant_6 := dk_seg dksX0_meant_5 23 rfl rfl
theorem dX0_meant_0 : decode cX0_meant 0 = .ok (.iload 4, 2) := dk_21 4 (dk_at dksX0_meant_0 0 rfl rfl)
theorem dX0_meant_2 : decode cX0_meant 2 = .ok (.iconst 0, 1) := dk_3 (dk_at dksX0_meant_0 2 rfl rfl)
theorem dX0_meant_3 : decode cX0_meant 3 = .ok (.iconst 5, 1) := dk_8 (dk_at dksX0_meant_0 3 rfl rfl)
theorem dX0_meant_4 : decode cX0_meant 4 = .ok (.invokestatic 176, 3) := dk_184 0 176 (dk_at dksX0_meant_0 4 rfl rfl)
theorem dX0_meant_7 : decode cX0_meant 7 = .ok (.ifCond .eq 27, 3) := dk_153 0 27 (dk_at dksX0_meant_0 7 rfl rfl)
theorem dX0_meant_10 : decode cX0_meant 10 = .ok (.aload_n 0, 1) := dk_42 (dk_at dksX0_meant_0 10 rfl rfl)
theorem dX0_meant_11 : decode cX0_meant 11 = .ok (.iload_n 3, 1) := dk_29 (dk_at dksX0_meant_0 11 rfl rfl)
theorem dX0_meant_12 : decode cX0_meant 12 = .ok (.invokevirtual 403, 3) := dk_182 1 147 (dk_at dksX0_meant_0 12 rfl rfl)
theorem dX0_meant_15 : decode cX0_meant 15 = .ok (.ifCond .eq 19, 3) := dk_153 0 19 (dk_at dksX0_meant_0 15 rfl rfl)
theorem dX0_meant_18 : decode cX0_meant 18 = .ok (.aload_n 0, 1) := dk_42 (dk_at dksX0_meant_0 18 rfl rfl)
theorem dX0_meant_19 : decode cX0_meant 19 = .ok (.iload_n 1, 1) := dk_27 (dk_at dksX0_meant_0 19 rfl rfl)
theorem dX0_meant_20 : decode cX0_meant 20 = .ok (.invokevirtual 256, 3) := dk_182 1 0 (dk_at dksX0_meant_0 20 rfl rfl)
theorem dX0_meant_23 : decode cX0_meant 23 = .ok (.ifCond .eq 11, 3) := dk_153 0 11 (dk_at dksX0_meant_1 0 rfl rfl)
theorem dX0_meant_26 : decode cX0_meant 26 = .ok (.aload_n 0, 1) := dk_42 (dk_at dksX0_meant_1 3 rfl rfl)
theorem dX0_meant_27 : decode cX0_meant 27 = .ok (.iload_n 2, 1) := dk_28 (dk_at dksX0_meant_1 4 rfl rfl)
theorem dX0_meant_28 : decode cX0_meant 28 = .ok (.invokevirtual 259, 3) := dk_182 1 3 (dk_at dksX0_meant_1 5 rfl rfl)
theorem dX0_meant_31 : decode cX0_meant 31 = .ok (.ifCond .ne 6, 3) := dk_154 0 6 (dk_at dksX0_meant_1 8 rfl rfl)
theorem dX0_meant_34 : decode cX0_meant 34 = .ok (.bipush (-2), 2) := dk_16 254 (dk_at dksX0_meant_1 11 rfl rfl)
theorem dX0_meant_36 : decode cX0_meant 36 = .ok (.ireturn, 1) := dk_172 (dk_at dksX0_meant_1 13 rfl rfl)
theorem dX0_meant_37 : decode cX0_meant 37 = .ok (.iconst 0, 1) := dk_3 (dk_at dksX0_meant_1 14 rfl rfl)
theorem dX0_meant_38 : decode cX0_meant 38 = .ok (.istore 6, 2) := dk_54 6 (dk_at dksX0_meant_1 15 rfl rfl)
theorem dX0_meant_40 : decode cX0_meant 40 = .ok (.iconst (-1), 1) := dk_2 (dk_at dksX0_meant_1 17 rfl rfl)
theorem dX0_meant_41 : decode cX0_meant 41 = .ok (.istore 7, 2) := dk_54 7 (dk_at dksX0_meant_1 18 rfl rfl)
theorem dX0_meant_43 : decode cX0_meant 43 = .ok (.iconst 0, 1) := dk_3 (dk_at dksX0_meant_1 20 rfl rfl)
theorem dX0_meant_44 : decode cX0_meant 44 = .ok (.istore 8, 2) := dk_54 8 (dk_at dksX0_meant_1 21 rfl rfl)
theorem dX0_meant_46 : decode cX0_meant 46 = .ok (.iload 8, 2) := dk_21 8 (dk_at dksX0_meant_2 0 rfl rfl)
theorem dX0_meant_48 : decode cX0_meant 48 = .ok (.iload 4, 2) := dk_21 4 (dk_at dksX0_meant_2 2 rfl rfl)
theorem dX0_meant_50 : decode cX0_meant 50 = .ok (.invokestatic 384, 3) := dk_184 1 128 (dk_at dksX0_meant_2 4 rfl rfl)
theorem dX0_meant_53 : decode cX0_meant 53 = .ok (.if_icmp .ge 76, 3) := dk_162 0 76 (dk_at dksX0_meant_2 7 rfl rfl)
theorem dX0_meant_56 : decode cX0_meant 56 = .ok (.aload_n 0, 1) := dk_42 (dk_at dksX0_meant_2 10 rfl rfl)
theorem dX0_meant_57 : decode cX0_meant 57 = .ok (.getfield 135, 3) := dk_180 0 135 (dk_at dksX0_meant_2 11 rfl rfl)
theorem dX0_meant_60 : decode cX0_meant 60 = .ok (.iload 8, 2) := dk_21 8 (dk_at dksX0_meant_2 14 rfl rfl)
theorem dX0_meant_62 : decode cX0_meant 62 = .ok (.iload 4, 2) := dk_21 4 (dk_at dksX0_meant_2 16 rfl rfl)
theorem dX0_meant_64 : decode cX0_meant 64 = .ok (.invokevirtual 381, 3) := dk_182 1 125 (dk_at dksX0_meant_2 18 rfl rfl)
theorem dX0_meant_67 : decode cX0_meant 67 = .ok (.aload_n 0, 1) := dk_42 (dk_at dksX0_meant_2 21 rfl rfl)
theorem dX0_meant_68 : decode cX0_meant 68 = .ok (.getfield 108, 3) := dk_180 0 108 (dk_at dksX0_meant_3 0 rfl rfl)
theorem dX0_meant_71 : decode cX0_meant 71 = .ok (.aload_n 0, 1) := dk_42 (dk_at dksX0_meant_3 3 rfl rfl)
theorem dX0_meant_72 : decode cX0_meant 72 = .ok (.getfield 252, 3) := dk_180 0 252 (dk_at dksX0_meant_3 4 rfl rfl)
theorem dX0_meant_75 : decode cX0_meant 75 = .ok (.getfield 262, 3) := dk_180 1 6 (dk_at dksX0_meant_3 7 rfl rfl)
theorem dX0_meant_78 : decode cX0_meant 78 = .ok (.iconst 0, 1) := dk_3 (dk_at dksX0_meant_3 10 rfl rfl)
theorem dX0_meant_79 : decode cX0_meant 79 = .ok (.aaload, 1) := dk_50 (dk_at dksX0_meant_3 11 rfl rfl)
theorem dX0_meant_80 : decode cX0_meant 80 = .ok (.aload_n 0, 1) := dk_42 (dk_at dksX0_meant_3 12 rfl rfl)
theorem dX0_meant_81 : decode cX0_meant 81 = .ok (.getfield 135, 3) := dk_180 0 135 (dk_at dksX0_meant_3 13 rfl rfl)
theorem dX0_meant_84 : decode cX0_meant 84 = .ok (.invokevirtual 265, 3) := dk_182 1 9 (dk_at dksX0_meant_3 16 rfl rfl)
theorem dX0_meant_87 : decode cX0_meant 87 = .ok (.aload_n 0, 1) := dk_42 (dk_at dksX0_meant_3 19 rfl rfl)
theorem dX0_meant_88 : decode cX0_meant 88 = .ok (.getfield 108, 3) := dk_180 0 108 (dk_at dksX0_meant_3 20 rfl rfl)
theorem dX0_meant_91 : decode cX0_meant 91 = .ok (.iconst 0, 1) := dk_3 (dk_at dksX0_meant_3 23 rfl rfl)
theorem dX0_meant_92 : decode cX0_meant 92 = .ok (.invokevirtual 268, 3) := dk_182 1 12 (dk_at dksX0_meant_4 0 rfl rfl)
theorem dX0_meant_95 : decode cX0_meant 95 = .ok (.aload_n 0, 1) := dk_42 (dk_at dksX0_meant_4 3 rfl rfl)
theorem dX0_meant_96 : decode cX0_meant 96 = .ok (.invokevirtual 415, 3) := dk_182 1 159 (dk_at dksX0_meant_4 4 rfl rfl)
theorem dX0_meant_99 : decode cX0_meant 99 = .ok (.ifCond .ne 6, 3) := dk_154 0 6 (dk_at dksX0_meant_4 7 rfl rfl)
theorem dX0_meant_102 : decode cX0_meant 102 = .ok (.goto 21, 3) := dk_167 0 21 (dk_at dksX0_meant_4 10 rfl rfl)
theorem dX0_meant_105 : decode cX0_meant 105 = .ok (.iinc 6 1, 3) := dk_132 6 1 (dk_at dksX0_meant_4 13 rfl rfl)
theorem dX0_meant_108 : decode cX0_meant 108 = .ok (.iload 7, 2) := dk_21 7 (dk_at dksX0_meant_4 16 rfl rfl)
theorem dX0_meant_110 : decode cX0_meant 110 = .ok (.iconst (-1), 1) := dk_2 (dk_at dksX0_meant_4 18 rfl rfl)
theorem dX0_meant_111 : decode cX0_meant 111 = .ok (.if_icmp .ne 8, 3) := dk_160 0 8 (dk_at dksX0_meant_4 19 rfl rfl)
theorem dX0_meant_114 : decode cX0_meant 114 = .ok (.iload 8, 2) := dk_21 8 (dk_at dksX0_meant_4 22 rfl rfl)
theorem dX0_meant_116 : decode cX0_meant 116 = .ok (.goto 5, 3) := dk_167 0 5 (dk_at dksX0_meant_5 0 rfl rfl)
theorem dX0_meant_119 : decode cX0_meant 119 = .ok (.iload 7, 2) := dk_21 7 (dk_at dksX0_meant_5 3 rfl rfl)
theorem dX0_meant_121 : decode cX0_meant 121 = .ok (.istore 7, 2) := dk_54 7 (dk_at dksX0_meant_5 5 rfl rfl)
theorem dX0_meant_123 : decode cX0_meant 123 = .ok (.iinc 8 1, 3) := dk_132 8 1 (dk_at dksX0_meant_5 7 rfl rfl)
theorem dX0_meant_126 : decode cX0_meant 126 = .ok (.goto (-80), 3) := dk_167 255 176 (dk_at dksX0_meant_5 10 rfl rfl)
theorem dX0_meant_129 : decode cX0_meant 129 = .ok (.iload 5, 2) := dk_21 5 (dk_at dksX0_meant_5 13 rfl rfl)
theorem dX0_meant_131 : decode cX0_meant 131 = .ok (.ifCond .eq 8, 3) := dk_153 0 8 (dk_at dksX0_meant_5 15 rfl rfl)
theorem dX0_meant_134 : decode cX0_meant 134 = .ok (.iload 7, 2) := dk_21 7 (dk_at dksX0_meant_5 18 rfl rfl)
theorem dX0_meant_136 : decode cX0_meant 136 = .ok (.goto 5, 3) := dk_167 0 5 (dk_at dksX0_meant_5 20 rfl rfl)
theorem dX0_meant_139 : decode cX0_meant 139 = .ok (.iload 6, 2) := dk_21 6 (dk_at dksX0_meant_6 0 rfl rfl)
theorem dX0_meant_141 : decode cX0_meant 141 = .ok (.ireturn, 1) := dk_172 (dk_at dksX0_meant_6 2 rfl rfl)
abbrev cX0_truce : ByteArray := prog_1_method_41_code
def yX0_truce : MethodName := ⟨RX0, "truce", "(IIIZ)I"⟩
def dkwX0_truce_3 : List UInt8 := [167, 255, 218, 2, 172]
abbrev dktX0_truce_3 : List UInt8 := dkwX0_truce_3 ++ []
def dkwX0_truce_2 : List UInt8 := [21, 6, 2, 159, 0, 16, 21, 4, 153, 0, 8, 21, 6, 167, 0, 5, 21, 5, 172, 132, 5, 1]
abbrev dktX0_truce_2 : List UInt8 := dkwX0_truce_2 ++ dktX0_truce_3
def dkwX0_truce_1 : List UInt8 := [154, 0, 5, 2, 172, 3, 54, 5, 21, 5, 8, 163, 0, 38, 42, 21, 5, 28, 29, 182, 1, 165, 54, 6]
abbrev dktX0_truce_1 : List UInt8 := dkwX0_truce_1 ++ dktX0_truce_2
def dkwX0_truce_0 : List UInt8 := [42, 27, 182, 1, 0, 153, 0, 21, 28, 3, 7, 184, 0, 176, 153, 0, 12, 29, 3, 7, 184, 0, 176]
abbrev dktX0_truce_0 : List UInt8 := dkwX0_truce_0 ++ dktX0_truce_1
theorem dksX0_truce_0 : cX0_truce.data.toList.drop 0 = dktX0_truce_0 := by decide +kernel
theorem dksX0_truce_1 : cX0_truce.data.toList.drop 23 = dktX0_truce_1 := dk_seg dksX0_truce_0 23 rfl rfl
theorem dksX0_truce_2 : cX0_truce.data.toList.drop 47 = dktX0_truce_2 := dk_seg dksX0_truce_1 24 rfl rfl
theorem dksX0_truce_3 : cX0_truce.data.toList.drop 69 = dktX0_truce_3 := dk_seg dksX0_truce_2 22 rfl rfl
theorem dX0_truce_0 : decode cX0_truce 0 = .ok (.aload_n 0, 1) := dk_42 (dk_at dksX0_truce_0 0 rfl rfl)
theorem dX0_truce_1 : decode cX0_truce 1 = .ok (.iload_n 1, 1) := dk_27 (dk_at dksX0_truce_0 1 rfl rfl)
theorem dX0_truce_2 : decode cX0_truce 2 = .ok (.invokevirtual 256, 3) := dk_182 1 0 (dk_at dksX0_truce_0 2 rfl rfl)
theorem dX0_truce_5 : decode cX0_truce 5 = .ok (.ifCond .eq 21, 3) := dk_153 0 21 (dk_at dksX0_truce_0 5 rfl rfl)
theorem dX0_truce_8 : decode cX0_truce 8 = .ok (.iload_n 2, 1) := dk_28 (dk_at dksX0_truce_0 8 rfl rfl)
theorem dX0_truce_9 : decode cX0_truce 9 = .ok (.iconst 0, 1) := dk_3 (dk_at dksX0_truce_0 9 rfl rfl)
theorem dX0_truce_10 : decode cX0_truce 10 = .ok (.iconst 4, 1) := dk_7 (dk_at dksX0_truce_0 10 rfl rfl)
theorem dX0_truce_11 : decode cX0_truce 11 = .ok (.invokestatic 176, 3) := dk_184 0 176 (dk_at dksX0_truce_0 11 rfl rfl)
theorem dX0_truce_14 : decode cX0_truce 14 = .ok (.ifCond .eq 12, 3) := dk_153 0 12 (dk_at dksX0_truce_0 14 rfl rfl)
theorem dX0_truce_17 : decode cX0_truce 17 = .ok (.iload_n 3, 1) := dk_29 (dk_at dksX0_truce_0 17 rfl rfl)
theorem dX0_truce_18 : decode cX0_truce 18 = .ok (.iconst 0, 1) := dk_3 (dk_at dksX0_truce_0 18 rfl rfl)
theorem dX0_truce_19 : decode cX0_truce 19 = .ok (.iconst 4, 1) := dk_7 (dk_at dksX0_truce_0 19 rfl rfl)
theorem dX0_truce_20 : decode cX0_truce 20 = .ok (.invokestatic 176, 3) := dk_184 0 176 (dk_at dksX0_truce_0 20 rfl rfl)
theorem dX0_truce_23 : decode cX0_truce 23 = .ok (.ifCond .ne 5, 3) := dk_154 0 5 (dk_at dksX0_truce_1 0 rfl rfl)
theorem dX0_truce_26 : decode cX0_truce 26 = .ok (.iconst (-1), 1) := dk_2 (dk_at dksX0_truce_1 3 rfl rfl)
theorem dX0_truce_27 : decode cX0_truce 27 = .ok (.ireturn, 1) := dk_172 (dk_at dksX0_truce_1 4 rfl rfl)
theorem dX0_truce_28 : decode cX0_truce 28 = .ok (.iconst 0, 1) := dk_3 (dk_at dksX0_truce_1 5 rfl rfl)
theorem dX0_truce_29 : decode cX0_truce 29 = .ok (.istore 5, 2) := dk_54 5 (dk_at dksX0_truce_1 6 rfl rfl)
theorem dX0_truce_31 : decode cX0_truce 31 = .ok (.iload 5, 2) := dk_21 5 (dk_at dksX0_truce_1 8 rfl rfl)
theorem dX0_truce_33 : decode cX0_truce 33 = .ok (.iconst 5, 1) := dk_8 (dk_at dksX0_truce_1 10 rfl rfl)
theorem dX0_truce_34 : decode cX0_truce 34 = .ok (.if_icmp .gt 38, 3) := dk_163 0 38 (dk_at dksX0_truce_1 11 rfl rfl)
theorem dX0_truce_37 : decode cX0_truce 37 = .ok (.aload_n 0, 1) := dk_42 (dk_at dksX0_truce_1 14 rfl rfl)
theorem dX0_truce_38 : decode cX0_truce 38 = .ok (.iload 5, 2) := dk_21 5 (dk_at dksX0_truce_1 15 rfl rfl)
theorem dX0_truce_40 : decode cX0_truce 40 = .ok (.iload_n 2, 1) := dk_28 (dk_at dksX0_truce_1 17 rfl rfl)
theorem dX0_truce_41 : decode cX0_truce 41 = .ok (.iload_n 3, 1) := dk_29 (dk_at dksX0_truce_1 18 rfl rfl)
theorem dX0_truce_42 : decode cX0_truce 42 = .ok (.invokevirtual 421, 3) := dk_182 1 165 (dk_at dksX0_truce_1 19 rfl rfl)
theorem dX0_truce_45 : decode cX0_truce 45 = .ok (.istore 6, 2) := dk_54 6 (dk_at dksX0_truce_1 22 rfl rfl)
theorem dX0_truce_47 : decode cX0_truce 47 = .ok (.iload 6, 2) := dk_21 6 (dk_at dksX0_truce_2 0 rfl rfl)
theorem dX0_truce_49 : decode cX0_truce 49 = .ok (.iconst (-1), 1) := dk_2 (dk_at dksX0_truce_2 2 rfl rfl)
theorem dX0_truce_50 : decode cX0_truce 50 = .ok (.if_icmp .eq 16, 3) := dk_159 0 16 (dk_at dksX0_truce_2 3 rfl rfl)
theorem dX0_truce_53 : decode cX0_truce 53 = .ok (.iload 4, 2) := dk_21 4 (dk_at dksX0_truce_2 6 rfl rfl)
theorem dX0_truce_55 : decode cX0_truce 55 = .ok (.ifCond .eq 8, 3) := dk_153 0 8 (dk_at dksX0_truce_2 8 rfl rfl)
theorem dX0_truce_58 : decode cX0_truce 58 = .ok (.iload 6, 2) := dk_21 6 (dk_at dksX0_truce_2 11 rfl rfl)
theorem dX0_truce_60 : decode cX0_truce 60 = .ok (.goto 5, 3) := dk_167 0 5 (dk_at dksX0_truce_2 13 rfl rfl)
theorem dX0_truce_63 : decode cX0_truce 63 = .ok (.iload 5, 2) := dk_21 5 (dk_at dksX0_truce_2 16 rfl rfl)
theorem dX0_truce_65 : decode cX0_truce 65 = .ok (.ireturn, 1) := dk_172 (dk_at dksX0_truce_2 18 rfl rfl)
theorem dX0_truce_66 : decode cX0_truce 66 = .ok (.iinc 5 1, 3) := dk_132 5 1 (dk_at dksX0_truce_2 19 rfl rfl)
theorem dX0_truce_69 : decode cX0_truce 69 = .ok (.goto (-38), 3) := dk_167 255 218 (dk_at dksX0_truce_3 0 rfl rfl)
theorem dX0_truce_72 : decode cX0_truce 72 = .ok (.iconst (-1), 1) := dk_2 (dk_at dksX0_truce_3 3 rfl rfl)
theorem dX0_truce_73 : decode cX0_truce 73 = .ok (.ireturn, 1) := dk_172 (dk_at dksX0_truce_3 4 rfl rfl)
abbrev cX0_truceOf : ByteArray := prog_1_method_40_code
def yX0_truceOf : MethodName := ⟨RX0, "truceOf", "(III)I"⟩
def dkwX0_truceOf_4 : List UInt8 := [132, 4, 1, 167, 255, 174, 2, 172]
abbrev dktX0_truceOf_4 : List UInt8 := dkwX0_truceOf_4 ++ []
def dkwX0_truceOf_3 : List UInt8 := [153, 0, 23, 42, 180, 0, 115, 4, 50, 4, 182, 1, 88, 29, 182, 1, 131, 153, 0, 6, 21, 4, 172]
abbrev dktX0_truceOf_3 : List UInt8 := dkwX0_truceOf_3 ++ dktX0_truceOf_4
def dkwX0_truceOf_2 : List UInt8 := [42, 180, 0, 108, 3, 182, 1, 12, 42, 180, 0, 115, 3, 50, 3, 182, 1, 88, 28, 182, 1, 131]
abbrev dktX0_truceOf_2 : List UInt8 := dkwX0_truceOf_2 ++ dktX0_truceOf_3
def dkwX0_truceOf_1 : List UInt8 := [180, 0, 131, 21, 4, 27, 182, 1, 125, 42, 180, 0, 108, 42, 180, 0, 131, 42, 180, 0, 135, 182, 1, 9]
abbrev dktX0_truceOf_1 : List UInt8 := dkwX0_truceOf_1 ++ dktX0_truceOf_2
def dkwX0_truceOf_0 : List UInt8 := [42, 180, 0, 135, 3, 3, 182, 1, 125, 3, 54, 4, 21, 4, 27, 184, 1, 128, 162, 0, 79, 42]
abbrev dktX0_truceOf_0 : List UInt8 := dkwX0_truceOf_0 ++ dktX0_truceOf_1
theorem dksX0_truceOf_0 : cX0_truceOf.data.toList.drop 0 = dktX0_truceOf_0 := by decide +kernel
theorem dksX0_truceOf_1 : cX0_truceOf.data.toList.drop 22 = dktX0_truceOf_1 := dk_seg dksX0_truceOf_0 22 rfl rfl
theorem dksX0_truceOf_2 : cX0_truceOf.data.toList.drop 46 = dktX0_truceOf_2 := dk_seg dksX0_truceOf_1 24 rfl rfl
theorem dksX0_truceOf_3 : cX0_truceOf.data.toList.drop 68 = dktX0_truceOf_3 := dk_seg dksX0_truceOf_2 22 rfl rfl
theorem dksX0_truceOf_4 : cX0_truceOf.data.toList.drop 91 = dktX0_truceOf_4 := dk_seg dksX0_truceOf_3 23 rfl rfl
theorem dX0_truceOf_0 : decode cX0_truceOf 0 = .ok (.aload_n 0, 1) := dk_42 (dk_at dksX0_truceOf_0 0 rfl rfl)
theorem dX0_truceOf_1 : decode cX0_truceOf 1 = .ok (.getfield 135, 3) := dk_180 0 135 (dk_at dksX0_truceOf_0 1 rfl rfl)
theorem dX0_truceOf_4 : decode cX0_truceOf 4 = .ok (.iconst 0, 1) := dk_3 (dk_at dksX0_truceOf_0 4 rfl rfl)
theorem dX0_truceOf_5 : decode cX0_truceOf 5 = .ok (.iconst 0, 1) := dk_3 (dk_at dksX0_truceOf_0 5 rfl rfl)
theorem dX0_truceOf_6 : decode cX0_truceOf 6 = .ok (.invokevirtual 381, 3) := dk_182 1 125 (dk_at dksX0_truceOf_0 6 rfl rfl)
theorem dX0_truceOf_9 : decode cX0_truceOf 9 = .ok (.iconst 0, 1) := dk_3 (dk_at dksX0_truceOf_0 9 rfl rfl)
theorem dX0_truceOf_10 : decode cX0_truceOf 10 = .ok (.istore 4, 2) := dk_54 4 (dk_at dksX0_truceOf_0 10 rfl rfl)
theorem dX0_truceOf_12 : decode cX0_truceOf 12 = .ok (.iload 4, 2) := dk_21 4 (dk_at dksX0_truceOf_0 12 rfl rfl)
theorem dX0_truceOf_14 : decode cX0_truceOf 14 = .ok (.iload_n 1, 1) := dk_27 (dk_at dksX0_truceOf_0 14 rfl rfl)
theorem dX0_truceOf_15 : decode cX0_truceOf 15 = .ok (.invokestatic 384, 3) := dk_184 1 128 (dk_at dksX0_truceOf_0 15 rfl rfl)
theorem dX0_truceOf_18 : decode cX0_truceOf 18 = .ok (.if_icmp .ge 79, 3) := dk_162 0 79 (dk_at dksX0_truceOf_0 18 rfl rfl)
theorem dX0_truceOf_21 : decode cX0_truceOf 21 = .ok (.aload_n 0, 1) := dk_42 (dk_at dksX0_truceOf_0 21 rfl rfl)
theorem dX0_truceOf_22 : decode cX0_truceOf 22 = .ok (.getfield 131, 3) := dk_180 0 131 (dk_at dksX0_truceOf_1 0 rfl rfl)
theorem dX0_truceOf_25 : decode cX0_truceOf 25 = .ok (.iload 4, 2) := dk_21 4 (dk_at dksX0_truceOf_1 3 rfl rfl)
theorem dX0_truceOf_27 : decode cX0_truceOf 27 = .ok (.iload_n 1, 1) := dk_27 (dk_at dksX0_truceOf_1 5 rfl rfl)
theorem dX0_truceOf_28 : decode cX0_truceOf 28 = .ok (.invokevirtual 381, 3) := dk_182 1 125 (dk_at dksX0_truceOf_1 6 rfl rfl)
theorem dX0_truceOf_31 : decode cX0_truceOf 31 = .ok (.aload_n 0, 1) := dk_42 (dk_at dksX0_truceOf_1 9 rfl rfl)
theorem dX0_truceOf_32 : decode cX0_truceOf 32 = .ok (.getfield 108, 3) := dk_180 0 108 (dk_at dksX0_truceOf_1 10 rfl rfl)
theorem dX0_truceOf_35 : decode cX0_truceOf 35 = .ok (.aload_n 0, 1) := dk_42 (dk_at dksX0_truceOf_1 13 rfl rfl)
theorem dX0_truceOf_36 : decode cX0_truceOf 36 = .ok (.getfield 131, 3) := dk_180 0 131 (dk_at dksX0_truceOf_1 14 rfl rfl)
theorem dX0_truceOf_39 : decode cX0_truceOf 39 = .ok (.aload_n 0, 1) := dk_42 (dk_at dksX0_truceOf_1 17 rfl rfl)
theorem dX0_truceOf_40 : decode cX0_truceOf 40 = .ok (.getfield 135, 3) := dk_180 0 135 (dk_at dksX0_truceOf_1 18 rfl rfl)
theorem dX0_truceOf_43 : decode cX0_truceOf 43 = .ok (.invokevirtual 265, 3) := dk_182 1 9 (dk_at dksX0_truceOf_1 21 rfl rfl)
theorem dX0_truceOf_46 : decode cX0_truceOf 46 = .ok (.aload_n 0, 1) := dk_42 (dk_at dksX0_truceOf_2 0 rfl rfl)
theorem dX0_truceOf_47 : decode cX0_truceOf 47 = .ok (.getfield 108, 3) := dk_180 0 108 (dk_at dksX0_truceOf_2 1 rfl rfl)
theorem dX0_truceOf_50 : decode cX0_truceOf 50 = .ok (.iconst 0, 1) := dk_3 (dk_at dksX0_truceOf_2 4 rfl rfl)
theorem dX0_truceOf_51 : decode cX0_truceOf 51 = .ok (.invokevirtual 268, 3) := dk_182 1 12 (dk_at dksX0_truceOf_2 5 rfl rfl)
theorem dX0_truceOf_54 : decode cX0_truceOf 54 = .ok (.aload_n 0, 1) := dk_42 (dk_at dksX0_truceOf_2 8 rfl rfl)
theorem dX0_truceOf_55 : decode cX0_truceOf 55 = .ok (.getfield 115, 3) := dk_180 0 115 (dk_at dksX0_truceOf_2 9 rfl rfl)
theorem dX0_truceOf_58 : decode cX0_truceOf 58 = .ok (.iconst 0, 1) := dk_3 (dk_at dksX0_truceOf_2 12 rfl rfl)
theorem dX0_truceOf_59 : decode cX0_truceOf 59 = .ok (.aaload, 1) := dk_50 (dk_at dksX0_truceOf_2 13 rfl rfl)
theorem dX0_truceOf_60 : decode cX0_truceOf 60 = .ok (.iconst 0, 1) := dk_3 (dk_at dksX0_truceOf_2 14 rfl rfl)
theorem dX0_truceOf_61 : decode cX0_truceOf 61 = .ok (.invokevirtual 344, 3) := dk_182 1 88 (dk_at dksX0_truceOf_2 15 rfl rfl)
theorem dX0_truceOf_64 : decode cX0_truceOf 64 = .ok (.iload_n 2, 1) := dk_28 (dk_at dksX0_truceOf_2 18 rfl rfl)
theorem dX0_truceOf_65 : decode cX0_truceOf 65 = .ok (.invokevirtual 387, 3) := dk_182 1 131 (dk_at dksX0_truceOf_2 19 rfl rfl)
theorem dX0_truceOf_68 : decode cX0_truceOf 68 = .ok (.ifCond .eq 23, 3) := dk_153 0 23 (dk_at dksX0_truceOf_3 0 rfl rfl)
theorem dX0_truceOf_71 : decode cX0_truceOf 71 = .ok (.aload_n 0, 1) := dk_42 (dk_at dksX0_truceOf_3 3 rfl rfl)
theorem dX0_truceOf_72 : decode cX0_truceOf 72 = .ok (.getfield 115, 3) := dk_180 0 115 (dk_at dksX0_truceOf_3 4 rfl rfl)
theorem dX0_truceOf_75 : decode cX0_truceOf 75 = .ok (.iconst 1, 1) := dk_4 (dk_at dksX0_truceOf_3 7 rfl rfl)
theorem dX0_truceOf_76 : decode cX0_truceOf 76 = .ok (.aaload, 1) := dk_50 (dk_at dksX0_truceOf_3 8 rfl rfl)
theorem dX0_truceOf_77 : decode cX0_truceOf 77 = .ok (.iconst 1, 1) := dk_4 (dk_at dksX0_truceOf_3 9 rfl rfl)
theorem dX0_truceOf_78 : decode cX0_truceOf 78 = .ok (.invokevirtual 344, 3) := dk_182 1 88 (dk_at dksX0_truceOf_3 10 rfl rfl)
theorem dX0_truceOf_81 : decode cX0_truceOf 81 = .ok (.iload_n 3, 1) := dk_29 (dk_at dksX0_truceOf_3 13 rfl rfl)
theorem dX0_truceOf_82 : decode cX0_truceOf 82 = .ok (.invokevirtual 387, 3) := dk_182 1 131 (dk_at dksX0_truceOf_3 14 rfl rfl)
theorem dX0_truceOf_85 : decode cX0_truceOf 85 = .ok (.ifCond .eq 6, 3) := dk_153 0 6 (dk_at dksX0_truceOf_3 17 rfl rfl)
theorem dX0_truceOf_88 : decode cX0_truceOf 88 = .ok (.iload 4, 2) := dk_21 4 (dk_at dksX0_truceOf_3 20 rfl rfl)
theorem dX0_truceOf_90 : decode cX0_truceOf 90 = .ok (.ireturn, 1) := dk_172 (dk_at dksX0_truceOf_3 22 rfl rfl)
theorem dX0_truceOf_91 : decode cX0_truceOf 91 = .ok (.iinc 4 1, 3) := dk_132 4 1 (dk_at dksX0_truceOf_4 0 rfl rfl)
theorem dX0_truceOf_94 : decode cX0_truceOf 94 = .ok (.goto (-82), 3) := dk_167 255 174 (dk_at dksX0_truceOf_4 3 rfl rfl)
theorem dX0_truceOf_97 : decode cX0_truceOf 97 = .ok (.iconst (-1), 1) := dk_2 (dk_at dksX0_truceOf_4 6 rfl rfl)
theorem dX0_truceOf_98 : decode cX0_truceOf 98 = .ok (.ireturn, 1) := dk_172 (dk_at dksX0_truceOf_4 7 rfl rfl)
abbrev cX0_far : ByteArray := prog_1_method_43_code
def yX0_far : MethodName := ⟨RX0, "far", "(IIII)I"⟩
def dkwX0_far_2 : List UInt8 := [182, 1, 174, 167, 0, 4, 2, 172]
abbrev dktX0_far_2 : List UInt8 := dkwX0_far_2 ++ []
def dkwX0_far_1 : List UInt8 := [153, 0, 29, 42, 42, 28, 29, 182, 1, 52, 180, 1, 58, 42, 28, 21, 4, 182, 1, 52, 180, 1, 58]
abbrev dktX0_far_1 : List UInt8 := dkwX0_far_1 ++ dktX0_far_2
def dkwX0_far_0 : List UInt8 := [42, 27, 182, 1, 0, 153, 0, 48, 42, 28, 29, 182, 1, 48, 153, 0, 39, 42, 28, 21, 4, 182, 1, 48]
abbrev dktX0_far_0 : List UInt8 := dkwX0_far_0 ++ dktX0_far_1
theorem dksX0_far_0 : cX0_far.data.toList.drop 0 = dktX0_far_0 := by decide +kernel
theorem dksX0_far_1 : cX0_far.data.toList.drop 24 = dktX0_far_1 := dk_seg dksX0_far_0 24 rfl rfl
theorem dksX0_far_2 : cX0_far.data.toList.drop 47 = dktX0_far_2 := dk_seg dksX0_far_1 23 rfl rfl
theorem dX0_far_0 : decode cX0_far 0 = .ok (.aload_n 0, 1) := dk_42 (dk_at dksX0_far_0 0 rfl rfl)
theorem dX0_far_1 : decode cX0_far 1 = .ok (.iload_n 1, 1) := dk_27 (dk_at dksX0_far_0 1 rfl rfl)
theorem dX0_far_2 : decode cX0_far 2 = .ok (.invokevirtual 256, 3) := dk_182 1 0 (dk_at dksX0_far_0 2 rfl rfl)
theorem dX0_far_5 : decode cX0_far 5 = .ok (.ifCond .eq 48, 3) := dk_153 0 48 (dk_at dksX0_far_0 5 rfl rfl)
theorem dX0_far_8 : decode cX0_far 8 = .ok (.aload_n 0, 1) := dk_42 (dk_at dksX0_far_0 8 rfl rfl)
theorem dX0_far_9 : decode cX0_far 9 = .ok (.iload_n 2, 1) := dk_28 (dk_at dksX0_far_0 9 rfl rfl)
theorem dX0_far_10 : decode cX0_far 10 = .ok (.iload_n 3, 1) := dk_29 (dk_at dksX0_far_0 10 rfl rfl)
theorem dX0_far_11 : decode cX0_far 11 = .ok (.invokevirtual 304, 3) := dk_182 1 48 (dk_at dksX0_far_0 11 rfl rfl)
theorem dX0_far_14 : decode cX0_far 14 = .ok (.ifCond .eq 39, 3) := dk_153 0 39 (dk_at dksX0_far_0 14 rfl rfl)
theorem dX0_far_17 : decode cX0_far 17 = .ok (.aload_n 0, 1) := dk_42 (dk_at dksX0_far_0 17 rfl rfl)
theorem dX0_far_18 : decode cX0_far 18 = .ok (.iload_n 2, 1) := dk_28 (dk_at dksX0_far_0 18 rfl rfl)
theorem dX0_far_19 : decode cX0_far 19 = .ok (.iload 4, 2) := dk_21 4 (dk_at dksX0_far_0 19 rfl rfl)
theorem dX0_far_21 : decode cX0_far 21 = .ok (.invokevirtual 304, 3) := dk_182 1 48 (dk_at dksX0_far_0 21 rfl rfl)
theorem dX0_far_24 : decode cX0_far 24 = .ok (.ifCond .eq 29, 3) := dk_153 0 29 (dk_at dksX0_far_1 0 rfl rfl)
theorem dX0_far_27 : decode cX0_far 27 = .ok (.aload_n 0, 1) := dk_42 (dk_at dksX0_far_1 3 rfl rfl)
theorem dX0_far_28 : decode cX0_far 28 = .ok (.aload_n 0, 1) := dk_42 (dk_at dksX0_far_1 4 rfl rfl)
theorem dX0_far_29 : decode cX0_far 29 = .ok (.iload_n 2, 1) := dk_28 (dk_at dksX0_far_1 5 rfl rfl)
theorem dX0_far_30 : decode cX0_far 30 = .ok (.iload_n 3, 1) := dk_29 (dk_at dksX0_far_1 6 rfl rfl)
theorem dX0_far_31 : decode cX0_far 31 = .ok (.invokevirtual 308, 3) := dk_182 1 52 (dk_at dksX0_far_1 7 rfl rfl)
theorem dX0_far_34 : decode cX0_far 34 = .ok (.getfield 314, 3) := dk_180 1 58 (dk_at dksX0_far_1 10 rfl rfl)
theorem dX0_far_37 : decode cX0_far 37 = .ok (.aload_n 0, 1) := dk_42 (dk_at dksX0_far_1 13 rfl rfl)
theorem dX0_far_38 : decode cX0_far 38 = .ok (.iload_n 2, 1) := dk_28 (dk_at dksX0_far_1 14 rfl rfl)
theorem dX0_far_39 : decode cX0_far 39 = .ok (.iload 4, 2) := dk_21 4 (dk_at dksX0_far_1 15 rfl rfl)
theorem dX0_far_41 : decode cX0_far 41 = .ok (.invokevirtual 308, 3) := dk_182 1 52 (dk_at dksX0_far_1 17 rfl rfl)
theorem dX0_far_44 : decode cX0_far 44 = .ok (.getfield 314, 3) := dk_180 1 58 (dk_at dksX0_far_1 20 rfl rfl)
theorem dX0_far_47 : decode cX0_far 47 = .ok (.invokevirtual 430, 3) := dk_182 1 174 (dk_at dksX0_far_2 0 rfl rfl)
theorem dX0_far_50 : decode cX0_far 50 = .ok (.goto 4, 3) := dk_167 0 4 (dk_at dksX0_far_2 3 rfl rfl)
theorem dX0_far_53 : decode cX0_far 53 = .ok (.iconst (-1), 1) := dk_2 (dk_at dksX0_far_2 6 rfl rfl)
theorem dX0_far_54 : decode cX0_far 54 = .ok (.ireturn, 1) := dk_172 (dk_at dksX0_far_2 7 rfl rfl)
abbrev cX0_farOf : ByteArray := prog_1_method_42_code
def yX0_farOf : MethodName := ⟨RX0, "farOf", "(LOneDrum$Beats;LOneDrum$Beats;)I"⟩
def dkwX0_farOf_6 : List UInt8 := [167, 255, 141, 42, 180, 0, 138, 44, 180, 1, 61, 46, 172]
abbrev dktX0_farOf_6 : List UInt8 := dkwX0_farOf_6 ++ []
def dkwX0_farOf_5 : List UInt8 := [184, 1, 169, 4, 96, 184, 1, 169, 79, 21, 6, 54, 4, 132, 5, 1, 167, 255, 173, 132, 3, 1]
abbrev dktX0_farOf_5 : List UInt8 := dkwX0_farOf_5 ++ dktX0_farOf_6
def dkwX0_farOf_4 : List UInt8 := [96, 54, 7, 42, 180, 0, 138, 21, 5, 21, 7, 21, 6, 42, 180, 0, 138, 21, 5, 4, 100, 46]
abbrev dktX0_farOf_4 : List UInt8 := dkwX0_farOf_4 ++ dktX0_farOf_5
def dkwX0_farOf_3 : List UInt8 := [180, 1, 64, 29, 4, 100, 51, 44, 180, 1, 64, 21, 5, 4, 100, 51, 160, 0, 7, 3, 167, 0, 4, 4]
abbrev dktX0_farOf_3 : List UInt8 := dkwX0_farOf_3 ++ dktX0_farOf_4
def dkwX0_farOf_2 : List UInt8 := [4, 54, 5, 21, 5, 44, 180, 1, 61, 163, 0, 80, 42, 180, 0, 138, 21, 5, 46, 54, 6, 21, 4, 43]
abbrev dktX0_farOf_2 : List UInt8 := dkwX0_farOf_2 ++ dktX0_farOf_3
def dkwX0_farOf_1 : List UInt8 := [62, 29, 43, 180, 1, 61, 163, 0, 113, 42, 180, 0, 138, 3, 46, 54, 4, 42, 180, 0, 138, 3, 29, 79]
abbrev dktX0_farOf_1 : List UInt8 := dkwX0_farOf_1 ++ dktX0_farOf_2
def dkwX0_farOf_0 : List UInt8 := [3, 62, 29, 44, 180, 1, 61, 163, 0, 16, 42, 180, 0, 138, 29, 29, 79, 132, 3, 1, 167, 255, 238, 4]
abbrev dktX0_farOf_0 : List UInt8 := dkwX0_farOf_0 ++ dktX0_farOf_1
theorem dksX0_farOf_0 : cX0_farOf.data.toList.drop 0 = dktX0_farOf_0 := by decide +kernel
theorem dksX0_farOf_1 : cX0_farOf.data.toList.drop 24 = dktX0_farOf_1 := dk_seg dksX0_farOf_0 24 rfl rfl
theorem dksX0_farOf_2 : cX0_farOf.data.toList.drop 48 = dktX0_farOf_2 := dk_seg dksX0_farOf_1 24 rfl rfl
theorem dksX0_farOf_3 : cX0_farOf.data.toList.drop 72 = dktX0_farOf_3 := dk_seg dksX0_farOf_2 24 rfl rfl
theorem dksX0_farOf_4 : cX0_farOf.data.toList.drop 96 = dktX0_farOf_4 := dk_seg dksX0_farOf_3 24 rfl rfl
theorem dksX0_farOf_5 : cX0_farOf.data.toList.drop 118 = dktX0_farOf_5 := dk_seg dksX0_farOf_4 22 rfl rfl
theorem dksX0_farOf_6 : cX0_farOf.data.toList.drop 140 = dktX0_farOf_6 := dk_seg dksX0_farOf_5 22 rfl rfl
theorem dX0_farOf_0 : decode cX0_farOf 0 = .ok (.iconst 0, 1) := dk_3 (dk_at dksX0_farOf_0 0 rfl rfl)
theorem dX0_farOf_1 : decode cX0_farOf 1 = .ok (.istore_n 3, 1) := dk_62 (dk_at dksX0_farOf_0 1 rfl rfl)
theorem dX0_farOf_2 : decode cX0_farOf 2 = .ok (.iload_n 3, 1) := dk_29 (dk_at dksX0_farOf_0 2 rfl rfl)
theorem dX0_farOf_3 : decode cX0_farOf 3 = .ok (.aload_n 2, 1) := dk_44 (dk_at dksX0_farOf_0 3 rfl rfl)
theorem dX0_farOf_4 : decode cX0_farOf 4 = .ok (.getfield 317, 3) := dk_180 1 61 (dk_at dksX0_farOf_0 4 rfl rfl)
theorem dX0_farOf_7 : decode cX0_farOf 7 = .ok (.if_icmp .gt 16, 3) := dk_163 0 16 (dk_at dksX0_farOf_0 7 rfl rfl)
theorem dX0_farOf_10 : decode cX0_farOf 10 = .ok (.aload_n 0, 1) := dk_42 (dk_at dksX0_farOf_0 10 rfl rfl)
theorem dX0_farOf_11 : decode cX0_farOf 11 = .ok (.getfield 138, 3) := dk_180 0 138 (dk_at dksX0_farOf_0 11 rfl rfl)
theorem dX0_farOf_14 : decode cX0_farOf 14 = .ok (.iload_n 3, 1) := dk_29 (dk_at dksX0_farOf_0 14 rfl rfl)
theorem dX0_farOf_15 : decode cX0_farOf 15 = .ok (.iload_n 3, 1) := dk_29 (dk_at dksX0_farOf_0 15 rfl rfl)
theorem dX0_farOf_16 : decode cX0_farOf 16 = .ok (.iastore, 1) := dk_79 (dk_at dksX0_farOf_0 16 rfl rfl)
theorem dX0_farOf_17 : decode cX0_farOf 17 = .ok (.iinc 3 1, 3) := dk_132 3 1 (dk_at dksX0_farOf_0 17 rfl rfl)
theorem dX0_farOf_20 : decode cX0_farOf 20 = .ok (.goto (-18), 3) := dk_167 255 238 (dk_at dksX0_farOf_0 20 rfl rfl)
theorem dX0_farOf_23 : decode cX0_farOf 23 = .ok (.iconst 1, 1) := dk_4 (dk_at dksX0_farOf_0 23 rfl rfl)
theorem dX0_farOf_24 : decode cX0_farOf 24 = .ok (.istore_n 3, 1) := dk_62 (dk_at dksX0_farOf_1 0 rfl rfl)
theorem dX0_farOf_25 : decode cX0_farOf 25 = .ok (.iload_n 3, 1) := dk_29 (dk_at dksX0_farOf_1 1 rfl rfl)
theorem dX0_farOf_26 : decode cX0_farOf 26 = .ok (.aload_n 1, 1) := dk_43 (dk_at dksX0_farOf_1 2 rfl rfl)
theorem dX0_farOf_27 : decode cX0_farOf 27 = .ok (.getfield 317, 3) := dk_180 1 61 (dk_at dksX0_farOf_1 3 rfl rfl)
theorem dX0_farOf_30 : decode cX0_farOf 30 = .ok (.if_icmp .gt 113, 3) := dk_163 0 113 (dk_at dksX0_farOf_1 6 rfl rfl)
theorem dX0_farOf_33 : decode cX0_farOf 33 = .ok (.aload_n 0, 1) := dk_42 (dk_at dksX0_farOf_1 9 rfl rfl)
theorem dX0_farOf_34 : decode cX0_farOf 34 = .ok (.getfield 138, 3) := dk_180 0 138 (dk_at dksX0_farOf_1 10 rfl rfl)
theorem dX0_farOf_37 : decode cX0_farOf 37 = .ok (.iconst 0, 1) := dk_3 (dk_at dksX0_farOf_1 13 rfl rfl)
theorem dX0_farOf_38 : decode cX0_farOf 38 = .ok (.iaload, 1) := dk_46 (dk_at dksX0_farOf_1 14 rfl rfl)
theorem dX0_farOf_39 : decode cX0_farOf 39 = .ok (.istore 4, 2) := dk_54 4 (dk_at dksX0_farOf_1 15 rfl rfl)
theorem dX0_farOf_41 : decode cX0_farOf 41 = .ok (.aload_n 0, 1) := dk_42 (dk_at dksX0_farOf_1 17 rfl rfl)
theorem dX0_farOf_42 : decode cX0_farOf 42 = .ok (.getfield 138, 3) := dk_180 0 138 (dk_at dksX0_farOf_1 18 rfl rfl)
theorem dX0_farOf_45 : decode cX0_farOf 45 = .ok (.iconst 0, 1) := dk_3 (dk_at dksX0_farOf_1 21 rfl rfl)
theorem dX0_farOf_46 : decode cX0_farOf 46 = .ok (.iload_n 3, 1) := dk_29 (dk_at dksX0_farOf_1 22 rfl rfl)
theorem dX0_farOf_47 : decode cX0_farOf 47 = .ok (.iastore, 1) := dk_79 (dk_at dksX0_farOf_1 23 rfl rfl)
theorem dX0_farOf_48 : decode cX0_farOf 48 = .ok (.iconst 1, 1) := dk_4 (dk_at dksX0_farOf_2 0 rfl rfl)
theorem dX0_farOf_49 : decode cX0_farOf 49 = .ok (.istore 5, 2) := dk_54 5 (dk_at dksX0_farOf_2 1 rfl rfl)
theorem dX0_farOf_51 : decode cX0_farOf 51 = .ok (.iload 5, 2) := dk_21 5 (dk_at dksX0_farOf_2 3 rfl rfl)
theorem dX0_farOf_53 : decode cX0_farOf 53 = .ok (.aload_n 2, 1) := dk_44 (dk_at dksX0_farOf_2 5 rfl rfl)
theorem dX0_farOf_54 : decode cX0_farOf 54 = .ok (.getfield 317, 3) := dk_180 1 61 (dk_at dksX0_farOf_2 6 rfl rfl)
theorem dX0_farOf_57 : decode cX0_farOf 57 = .ok (.if_icmp .gt 80, 3) := dk_163 0 80 (dk_at dksX0_farOf_2 9 rfl rfl)
theorem dX0_farOf_60 : decode cX0_farOf 60 = .ok (.aload_n 0, 1) := dk_42 (dk_at dksX0_farOf_2 12 rfl rfl)
theorem dX0_farOf_61 : decode cX0_farOf 61 = .ok (.getfield 138, 3) := dk_180 0 138 (dk_at dksX0_farOf_2 13 rfl rfl)
theorem dX0_farOf_64 : decode cX0_farOf 64 = .ok (.iload 5, 2) := dk_21 5 (dk_at dksX0_farOf_2 16 rfl rfl)
theorem dX0_farOf_66 : decode cX0_farOf 66 = .ok (.iaload, 1) := dk_46 (dk_at dksX0_farOf_2 18 rfl rfl)
theorem dX0_farOf_67 : decode cX0_farOf 67 = .ok (.istore 6, 2) := dk_54 6 (dk_at dksX0_farOf_2 19 rfl rfl)
theorem dX0_farOf_69 : decode cX0_farOf 69 = .ok (.iload 4, 2) := dk_21 4 (dk_at dksX0_farOf_2 21 rfl rfl)
theorem dX0_farOf_71 : decode cX0_farOf 71 = .ok (.aload_n 1, 1) := dk_43 (dk_at dksX0_farOf_2 23 rfl rfl)
theorem dX0_farOf_72 : decode cX0_farOf 72 = .ok (.getfield 320, 3) := dk_180 1 64 (dk_at dksX0_farOf_3 0 rfl rfl)
theorem dX0_farOf_75 : decode cX0_farOf 75 = .ok (.iload_n 3, 1) := dk_29 (dk_at dksX0_farOf_3 3 rfl rfl)
theorem dX0_farOf_76 : decode cX0_farOf 76 = .ok (.iconst 1, 1) := dk_4 (dk_at dksX0_farOf_3 4 rfl rfl)
theorem dX0_farOf_77 : decode cX0_farOf 77 = .ok (.isub, 1) := dk_100 (dk_at dksX0_farOf_3 5 rfl rfl)
theorem dX0_farOf_78 : decode cX0_farOf 78 = .ok (.baload, 1) := dk_51 (dk_at dksX0_farOf_3 6 rfl rfl)
theorem dX0_farOf_79 : decode cX0_farOf 79 = .ok (.aload_n 2, 1) := dk_44 (dk_at dksX0_farOf_3 7 rfl rfl)
theorem dX0_farOf_80 : decode cX0_farOf 80 = .ok (.getfield 320, 3) := dk_180 1 64 (dk_at dksX0_farOf_3 8 rfl rfl)
theorem dX0_farOf_83 : decode cX0_farOf 83 = .ok (.iload 5, 2) := dk_21 5 (dk_at dksX0_farOf_3 11 rfl rfl)
theorem dX0_farOf_85 : decode cX0_farOf 85 = .ok (.iconst 1, 1) := dk_4 (dk_at dksX0_farOf_3 13 rfl rfl)
theorem dX0_farOf_86 : decode cX0_farOf 86 = .ok (.isub, 1) := dk_100 (dk_at dksX0_farOf_3 14 rfl rfl)
theorem dX0_farOf_87 : decode cX0_farOf 87 = .ok (.baload, 1) := dk_51 (dk_at dksX0_farOf_3 15 rfl rfl)
theorem dX0_farOf_88 : decode cX0_farOf 88 = .ok (.if_icmp .ne 7, 3) := dk_160 0 7 (dk_at dksX0_farOf_3 16 rfl rfl)
theorem dX0_farOf_91 : decode cX0_farOf 91 = .ok (.iconst 0, 1) := dk_3 (dk_at dksX0_farOf_3 19 rfl rfl)
theorem dX0_farOf_92 : decode cX0_farOf 92 = .ok (.goto 4, 3) := dk_167 0 4 (dk_at dksX0_farOf_3 20 rfl rfl)
theorem dX0_farOf_95 : decode cX0_farOf 95 = .ok (.iconst 1, 1) := dk_4 (dk_at dksX0_farOf_3 23 rfl rfl)
theorem dX0_farOf_96 : decode cX0_farOf 96 = .ok (.iadd, 1) := dk_96 (dk_at dksX0_farOf_4 0 rfl rfl)
theorem dX0_farOf_97 : decode cX0_farOf 97 = .ok (.istore 7, 2) := dk_54 7 (dk_at dksX0_farOf_4 1 rfl rfl)
theorem dX0_farOf_99 : decode cX0_farOf 99 = .ok (.aload_n 0, 1) := dk_42 (dk_at dksX0_farOf_4 3 rfl rfl)
theorem dX0_farOf_100 : decode cX0_farOf 100 = .ok (.getfield 138, 3) := dk_180 0 138 (dk_at dksX0_farOf_4 4 rfl rfl)
theorem dX0_farOf_103 : decode cX0_farOf 103 = .ok (.iload 5, 2) := dk_21 5 (dk_at dksX0_farOf_4 7 rfl rfl)
theorem dX0_farOf_105 : decode cX0_farOf 105 = .ok (.iload 7, 2) := dk_21 7 (dk_at dksX0_farOf_4 9 rfl rfl)
theorem dX0_farOf_107 : decode cX0_farOf 107 = .ok (.iload 6, 2) := dk_21 6 (dk_at dksX0_farOf_4 11 rfl rfl)
theorem dX0_farOf_109 : decode cX0_farOf 109 = .ok (.aload_n 0, 1) := dk_42 (dk_at dksX0_farOf_4 13 rfl rfl)
theorem dX0_farOf_110 : decode cX0_farOf 110 = .ok (.getfield 138, 3) := dk_180 0 138 (dk_at dksX0_farOf_4 14 rfl rfl)
theorem dX0_farOf_113 : decode cX0_farOf 113 = .ok (.iload 5, 2) := dk_21 5 (dk_at dksX0_farOf_4 17 rfl rfl)
theorem dX0_farOf_115 : decode cX0_farOf 115 = .ok (.iconst 1, 1) := dk_4 (dk_at dksX0_farOf_4 19 rfl rfl)
theorem dX0_farOf_116 : decode cX0_farOf 116 = .ok (.isub, 1) := dk_100 (dk_at dksX0_farOf_4 20 rfl rfl)
theorem dX0_farOf_117 : decode cX0_farOf 117 = .ok (.iaload, 1) := dk_46 (dk_at dksX0_farOf_4 21 rfl rfl)
theorem dX0_farOf_118 : decode cX0_farOf 118 = .ok (.invokestatic 425, 3) := dk_184 1 169 (dk_at dksX0_farOf_5 0 rfl rfl)
theorem dX0_farOf_121 : decode cX0_farOf 121 = .ok (.iconst 1, 1) := dk_4 (dk_at dksX0_farOf_5 3 rfl rfl)
theorem dX0_farOf_122 : decode cX0_farOf 122 = .ok (.iadd, 1) := dk_96 (dk_at dksX0_farOf_5 4 rfl rfl)
theorem dX0_farOf_123 : decode cX0_farOf 123 = .ok (.invokestatic 425, 3) := dk_184 1 169 (dk_at dksX0_farOf_5 5 rfl rfl)
theorem dX0_farOf_126 : decode cX0_farOf 126 = .ok (.iastore, 1) := dk_79 (dk_at dksX0_farOf_5 8 rfl rfl)
theorem dX0_farOf_127 : decode cX0_farOf 127 = .ok (.iload 6, 2) := dk_21 6 (dk_at dksX0_farOf_5 9 rfl rfl)
theorem dX0_farOf_129 : decode cX0_farOf 129 = .ok (.istore 4, 2) := dk_54 4 (dk_at dksX0_farOf_5 11 rfl rfl)
theorem dX0_farOf_131 : decode cX0_farOf 131 = .ok (.iinc 5 1, 3) := dk_132 5 1 (dk_at dksX0_farOf_5 13 rfl rfl)
theorem dX0_farOf_134 : decode cX0_farOf 134 = .ok (.goto (-83), 3) := dk_167 255 173 (dk_at dksX0_farOf_5 16 rfl rfl)
theorem dX0_farOf_137 : decode cX0_farOf 137 = .ok (.iinc 3 1, 3) := dk_132 3 1 (dk_at dksX0_farOf_5 19 rfl rfl)
theorem dX0_farOf_140 : decode cX0_farOf 140 = .ok (.goto (-115), 3) := dk_167 255 141 (dk_at dksX0_farOf_6 0 rfl rfl)
theorem dX0_farOf_143 : decode cX0_farOf 143 = .ok (.aload_n 0, 1) := dk_42 (dk_at dksX0_farOf_6 3 rfl rfl)
theorem dX0_farOf_144 : decode cX0_farOf 144 = .ok (.getfield 138, 3) := dk_180 0 138 (dk_at dksX0_farOf_6 4 rfl rfl)
theorem dX0_farOf_147 : decode cX0_farOf 147 = .ok (.aload_n 2, 1) := dk_44 (dk_at dksX0_farOf_6 7 rfl rfl)
theorem dX0_farOf_148 : decode cX0_farOf 148 = .ok (.getfield 317, 3) := dk_180 1 61 (dk_at dksX0_farOf_6 8 rfl rfl)
theorem dX0_farOf_151 : decode cX0_farOf 151 = .ok (.iaload, 1) := dk_46 (dk_at dksX0_farOf_6 11 rfl rfl)
theorem dX0_farOf_152 : decode cX0_farOf 152 = .ok (.ireturn, 1) := dk_172 (dk_at dksX0_farOf_6 12 rfl rfl)
abbrev cX0_codes : ByteArray := prog_1_method_44_code
def yX0_codes : MethodName := ⟨RX0, "codes", "(III)I"⟩
def dkwX0_codes_8 : List UInt8 := [21, 5, 167, 0, 17, 21, 4, 19, 1, 178, 160, 0, 7, 2, 167, 0, 5, 21, 4, 172]
abbrev dktX0_codes_8 : List UInt8 := dkwX0_codes_8 ++ []
def dkwX0_codes_7 : List UInt8 := [167, 0, 4, 3, 96, 54, 5, 132, 8, 1, 167, 255, 152, 132, 7, 1, 167, 255, 136, 29, 4, 160, 0, 8]
abbrev dktX0_codes_7 : List UInt8 := dkwX0_codes_7 ++ dktX0_codes_8
def dkwX0_codes_6 : List UInt8 := [182, 1, 179, 154, 0, 19, 25, 10, 180, 1, 58, 25, 9, 180, 1, 58, 182, 1, 179, 153, 0, 7, 4]
abbrev dktX0_codes_6 : List UInt8 := dkwX0_codes_6 ++ dktX0_codes_7
def dkwX0_codes_5 : List UInt8 := [180, 1, 58, 182, 1, 174, 184, 1, 169, 54, 4, 21, 5, 25, 9, 180, 1, 58, 25, 10, 180, 1, 58]
abbrev dktX0_codes_5 : List UInt8 := dkwX0_codes_5 ++ dktX0_codes_6
def dkwX0_codes_4 : List UInt8 := [25, 9, 180, 1, 55, 25, 10, 180, 1, 55, 159, 0, 24, 21, 4, 42, 25, 9, 180, 1, 58, 25, 10]
abbrev dktX0_codes_4 : List UInt8 := dkwX0_codes_4 ++ dktX0_codes_5
def dkwX0_codes_3 : List UInt8 := [21, 7, 162, 0, 103, 42, 28, 21, 7, 182, 1, 52, 58, 9, 42, 28, 21, 8, 182, 1, 52, 58, 10]
abbrev dktX0_codes_3 : List UInt8 := dkwX0_codes_3 ++ dktX0_codes_4
def dkwX0_codes_2 : List UInt8 := [180, 1, 43, 182, 0, 3, 54, 6, 3, 54, 7, 21, 7, 21, 6, 162, 0, 119, 3, 54, 8, 21, 8]
abbrev dktX0_codes_2 : List UInt8 := dkwX0_codes_2 ++ dktX0_codes_3
def dkwX0_codes_1 : List UInt8 := [154, 0, 6, 16, 254, 172, 19, 1, 178, 54, 4, 3, 54, 5, 42, 180, 0, 243, 180, 1, 20, 28, 50]
abbrev dktX0_codes_1 : List UInt8 := dkwX0_codes_1 ++ dktX0_codes_2
def dkwX0_codes_0 : List UInt8 := [42, 27, 182, 1, 0, 153, 0, 20, 42, 28, 182, 1, 17, 153, 0, 12, 29, 3, 4, 184, 0, 176]
abbrev dktX0_codes_0 : List UInt8 := dkwX0_codes_0 ++ dktX0_codes_1
theorem dksX0_codes_0 : cX0_codes.data.toList.drop 0 = dktX0_codes_0 := by decide +kernel
theorem dksX0_codes_1 : cX0_codes.data.toList.drop 22 = dktX0_codes_1 := dk_seg dksX0_codes_0 22 rfl rfl
theorem dksX0_codes_2 : cX0_codes.data.toList.drop 45 = dktX0_codes_2 := dk_seg dksX0_codes_1 23 rfl rfl
theorem dksX0_codes_3 : cX0_codes.data.toList.drop 68 = dktX0_codes_3 := dk_seg dksX0_codes_2 23 rfl rfl
theorem dksX0_codes_4 : cX0_codes.data.toList.drop 91 = dktX0_codes_4 := dk_seg dksX0_codes_3 23 rfl rfl
theorem dksX0_codes_5 : cX0_codes.data.toList.drop 114 = dktX0_codes_5 := dk_seg dksX0_codes_4 23 rfl rfl
theorem dksX0_codes_6 : cX0_codes.data.toList.drop 137 = dktX0_codes_6 := dk_seg dksX0_codes_5 23 rfl rfl
theorem dksX0_codes_7 : cX0_codes.data.toList.drop 160 = dktX0_codes_7 := dk_seg dksX0_codes_6 23 rfl rfl
theorem dksX0_codes_8 : cX0_codes.data.toList.drop 184 = dktX0_codes_8 := dk_seg dksX0_codes_7 24 rfl rfl
theorem dX0_codes_0 : decode cX0_codes 0 = .ok (.aload_n 0, 1) := dk_42 (dk_at dksX0_codes_0 0 rfl rfl)
theorem dX0_codes_1 : decode cX0_codes 1 = .ok (.iload_n 1, 1) := dk_27 (dk_at dksX0_codes_0 1 rfl rfl)
theorem dX0_codes_2 : decode cX0_codes 2 = .ok (.invokevirtual 256, 3) := dk_182 1 0 (dk_at dksX0_codes_0 2 rfl rfl)
theorem dX0_codes_5 : decode cX0_codes 5 = .ok (.ifCond .eq 20, 3) := dk_153 0 20 (dk_at dksX0_codes_0 5 rfl rfl)
theorem dX0_codes_8 : decode cX0_codes 8 = .ok (.aload_n 0, 1) := dk_42 (dk_at dksX0_codes_0 8 rfl rfl)
theorem dX0_codes_9 : decode cX0_codes 9 = .ok (.iload_n 2, 1) := dk_28 (dk_at dksX0_codes_0 9 rfl rfl)
theorem dX0_codes_10 : decode cX0_codes 10 = .ok (.invokevirtual 273, 3) := dk_182 1 17 (dk_at dksX0_codes_0 10 rfl rfl)
theorem dX0_codes_13 : decode cX0_codes 13 = .ok (.ifCond .eq 12, 3) := dk_153 0 12 (dk_at dksX0_codes_0 13 rfl rfl)
theorem dX0_codes_16 : decode cX0_codes 16 = .ok (.iload_n 3, 1) := dk_29 (dk_at dksX0_codes_0 16 rfl rfl)
theorem dX0_codes_17 : decode cX0_codes 17 = .ok (.iconst 0, 1) := dk_3 (dk_at dksX0_codes_0 17 rfl rfl)
theorem dX0_codes_18 : decode cX0_codes 18 = .ok (.iconst 1, 1) := dk_4 (dk_at dksX0_codes_0 18 rfl rfl)
theorem dX0_codes_19 : decode cX0_codes 19 = .ok (.invokestatic 176, 3) := dk_184 0 176 (dk_at dksX0_codes_0 19 rfl rfl)
theorem dX0_codes_22 : decode cX0_codes 22 = .ok (.ifCond .ne 6, 3) := dk_154 0 6 (dk_at dksX0_codes_1 0 rfl rfl)
theorem dX0_codes_25 : decode cX0_codes 25 = .ok (.bipush (-2), 2) := dk_16 254 (dk_at dksX0_codes_1 3 rfl rfl)
theorem dX0_codes_27 : decode cX0_codes 27 = .ok (.ireturn, 1) := dk_172 (dk_at dksX0_codes_1 5 rfl rfl)
theorem dX0_codes_28 : decode cX0_codes 28 = .ok (.ldc_w 434, 3) := dk_19 1 178 (dk_at dksX0_codes_1 6 rfl rfl)
theorem dX0_codes_31 : decode cX0_codes 31 = .ok (.istore 4, 2) := dk_54 4 (dk_at dksX0_codes_1 9 rfl rfl)
theorem dX0_codes_33 : decode cX0_codes 33 = .ok (.iconst 0, 1) := dk_3 (dk_at dksX0_codes_1 11 rfl rfl)
theorem dX0_codes_34 : decode cX0_codes 34 = .ok (.istore 5, 2) := dk_54 5 (dk_at dksX0_codes_1 12 rfl rfl)
theorem dX0_codes_36 : decode cX0_codes 36 = .ok (.aload_n 0, 1) := dk_42 (dk_at dksX0_codes_1 14 rfl rfl)
theorem dX0_codes_37 : decode cX0_codes 37 = .ok (.getfield 243, 3) := dk_180 0 243 (dk_at dksX0_codes_1 15 rfl rfl)
theorem dX0_codes_40 : decode cX0_codes 40 = .ok (.getfield 276, 3) := dk_180 1 20 (dk_at dksX0_codes_1 18 rfl rfl)
theorem dX0_codes_43 : decode cX0_codes 43 = .ok (.iload_n 2, 1) := dk_28 (dk_at dksX0_codes_1 21 rfl rfl)
theorem dX0_codes_44 : decode cX0_codes 44 = .ok (.aaload, 1) := dk_50 (dk_at dksX0_codes_1 22 rfl rfl)
theorem dX0_codes_45 : decode cX0_codes 45 = .ok (.getfield 299, 3) := dk_180 1 43 (dk_at dksX0_codes_2 0 rfl rfl)
theorem dX0_codes_48 : decode cX0_codes 48 = .ok (.invokevirtual 3, 3) := dk_182 0 3 (dk_at dksX0_codes_2 3 rfl rfl)
theorem dX0_codes_51 : decode cX0_codes 51 = .ok (.istore 6, 2) := dk_54 6 (dk_at dksX0_codes_2 6 rfl rfl)
theorem dX0_codes_53 : decode cX0_codes 53 = .ok (.iconst 0, 1) := dk_3 (dk_at dksX0_codes_2 8 rfl rfl)
theorem dX0_codes_54 : decode cX0_codes 54 = .ok (.istore 7, 2) := dk_54 7 (dk_at dksX0_codes_2 9 rfl rfl)
theorem dX0_codes_56 : decode cX0_codes 56 = .ok (.iload 7, 2) := dk_21 7 (dk_at dksX0_codes_2 11 rfl rfl)
theorem dX0_codes_58 : decode cX0_codes 58 = .ok (.iload 6, 2) := dk_21 6 (dk_at dksX0_codes_2 13 rfl rfl)
theorem dX0_codes_60 : decode cX0_codes 60 = .ok (.if_icmp .ge 119, 3) := dk_162 0 119 (dk_at dksX0_codes_2 15 rfl rfl)
theorem dX0_codes_63 : decode cX0_codes 63 = .ok (.iconst 0, 1) := dk_3 (dk_at dksX0_codes_2 18 rfl rfl)
theorem dX0_codes_64 : decode cX0_codes 64 = .ok (.istore 8, 2) := dk_54 8 (dk_at dksX0_codes_2 19 rfl rfl)
theorem dX0_codes_66 : decode cX0_codes 66 = .ok (.iload 8, 2) := dk_21 8 (dk_at dksX0_codes_2 21 rfl rfl)
theorem dX0_codes_68 : decode cX0_codes 68 = .ok (.iload 7, 2) := dk_21 7 (dk_at dksX0_codes_3 0 rfl rfl)
theorem dX0_codes_70 : decode cX0_codes 70 = .ok (.if_icmp .ge 103, 3) := dk_162 0 103 (dk_at dksX0_codes_3 2 rfl rfl)
theorem dX0_codes_73 : decode cX0_codes 73 = .ok (.aload_n 0, 1) := dk_42 (dk_at dksX0_codes_3 5 rfl rfl)
theorem dX0_codes_74 : decode cX0_codes 74 = .ok (.iload_n 2, 1) := dk_28 (dk_at dksX0_codes_3 6 rfl rfl)
theorem dX0_codes_75 : decode cX0_codes 75 = .ok (.iload 7, 2) := dk_21 7 (dk_at dksX0_codes_3 7 rfl rfl)
theorem dX0_codes_77 : decode cX0_codes 77 = .ok (.invokevirtual 308, 3) := dk_182 1 52 (dk_at dksX0_codes_3 9 rfl rfl)
theorem dX0_codes_80 : decode cX0_codes 80 = .ok (.astore 9, 2) := dk_58 9 (dk_at dksX0_codes_3 12 rfl rfl)
theorem dX0_codes_82 : decode cX0_codes 82 = .ok (.aload_n 0, 1) := dk_42 (dk_at dksX0_codes_3 14 rfl rfl)
theorem dX0_codes_83 : decode cX0_codes 83 = .ok (.iload_n 2, 1) := dk_28 (dk_at dksX0_codes_3 15 rfl rfl)
theorem dX0_codes_84 : decode cX0_codes 84 = .ok (.iload 8, 2) := dk_21 8 (dk_at dksX0_codes_3 16 rfl rfl)
theorem dX0_codes_86 : decode cX0_codes 86 = .ok (.invokevirtual 308, 3) := dk_182 1 52 (dk_at dksX0_codes_3 18 rfl rfl)
theorem dX0_codes_89 : decode cX0_codes 89 = .ok (.astore 10, 2) := dk_58 10 (dk_at dksX0_codes_3 21 rfl rfl)
theorem dX0_codes_91 : decode cX0_codes 91 = .ok (.aload 9, 2) := dk_25 9 (dk_at dksX0_codes_4 0 rfl rfl)
theorem dX0_codes_93 : decode cX0_codes 93 = .ok (.getfield 311, 3) := dk_180 1 55 (dk_at dksX0_codes_4 2 rfl rfl)
theorem dX0_codes_96 : decode cX0_codes 96 = .ok (.aload 10, 2) := dk_25 10 (dk_at dksX0_codes_4 5 rfl rfl)
theorem dX0_codes_98 : decode cX0_codes 98 = .ok (.getfield 311, 3) := dk_180 1 55 (dk_at dksX0_codes_4 7 rfl rfl)
theorem dX0_codes_101 : decode cX0_codes 101 = .ok (.if_icmp .eq 24, 3) := dk_159 0 24 (dk_at dksX0_codes_4 10 rfl rfl)
theorem dX0_codes_104 : decode cX0_codes 104 = .ok (.iload 4, 2) := dk_21 4 (dk_at dksX0_codes_4 13 rfl rfl)
theorem dX0_codes_106 : decode cX0_codes 106 = .ok (.aload_n 0, 1) := dk_42 (dk_at dksX0_codes_4 15 rfl rfl)
theorem dX0_codes_107 : decode cX0_codes 107 = .ok (.aload 9, 2) := dk_25 9 (dk_at dksX0_codes_4 16 rfl rfl)
theorem dX0_codes_109 : decode cX0_codes 109 = .ok (.getfield 314, 3) := dk_180 1 58 (dk_at dksX0_codes_4 18 rfl rfl)
theorem dX0_codes_112 : decode cX0_codes 112 = .ok (.aload 10, 2) := dk_25 10 (dk_at dksX0_codes_4 21 rfl rfl)
theorem dX0_codes_114 : decode cX0_codes 114 = .ok (.getfield 314, 3) := dk_180 1 58 (dk_at dksX0_codes_5 0 rfl rfl)
theorem dX0_codes_117 : decode cX0_codes 117 = .ok (.invokevirtual 430, 3) := dk_182 1 174 (dk_at dksX0_codes_5 3 rfl rfl)
theorem dX0_codes_120 : decode cX0_codes 120 = .ok (.invokestatic 425, 3) := dk_184 1 169 (dk_at dksX0_codes_5 6 rfl rfl)
theorem dX0_codes_123 : decode cX0_codes 123 = .ok (.istore 4, 2) := dk_54 4 (dk_at dksX0_codes_5 9 rfl rfl)
theorem dX0_codes_125 : decode cX0_codes 125 = .ok (.iload 5, 2) := dk_21 5 (dk_at dksX0_codes_5 11 rfl rfl)
theorem dX0_codes_127 : decode cX0_codes 127 = .ok (.aload 9, 2) := dk_25 9 (dk_at dksX0_codes_5 13 rfl rfl)
theorem dX0_codes_129 : decode cX0_codes 129 = .ok (.getfield 314, 3) := dk_180 1 58 (dk_at dksX0_codes_5 15 rfl rfl)
theorem dX0_codes_132 : decode cX0_codes 132 = .ok (.aload 10, 2) := dk_25 10 (dk_at dksX0_codes_5 18 rfl rfl)
theorem dX0_codes_134 : decode cX0_codes 134 = .ok (.getfield 314, 3) := dk_180 1 58 (dk_at dksX0_codes_5 20 rfl rfl)
theorem dX0_codes_137 : decode cX0_codes 137 = .ok (.invokevirtual 435, 3) := dk_182 1 179 (dk_at dksX0_codes_6 0 rfl rfl)
theorem dX0_codes_140 : decode cX0_codes 140 = .ok (.ifCond .ne 19, 3) := dk_154 0 19 (dk_at dksX0_codes_6 3 rfl rfl)
theorem dX0_codes_143 : decode cX0_codes 143 = .ok (.aload 10, 2) := dk_25 10 (dk_at dksX0_codes_6 6 rfl rfl)
theorem dX0_codes_145 : decode cX0_codes 145 = .ok (.getfield 314, 3) := dk_180 1 58 (dk_at dksX0_codes_6 8 rfl rfl)
theorem dX0_codes_148 : decode cX0_codes 148 = .ok (.aload 9, 2) := dk_25 9 (dk_at dksX0_codes_6 11 rfl rfl)
theorem dX0_codes_150 : decode cX0_codes 150 = .ok (.getfield 314, 3) := dk_180 1 58 (dk_at dksX0_codes_6 13 rfl rfl)
theorem dX0_codes_153 : decode cX0_codes 153 = .ok (.invokevirtual 435, 3) := dk_182 1 179 (dk_at dksX0_codes_6 16 rfl rfl)
theorem dX0_codes_156 : decode cX0_codes 156 = .ok (.ifCond .eq 7, 3) := dk_153 0 7 (dk_at dksX0_codes_6 19 rfl rfl)
theorem dX0_codes_159 : decode cX0_codes 159 = .ok (.iconst 1, 1) := dk_4 (dk_at dksX0_codes_6 22 rfl rfl)
theorem dX0_codes_160 : decode cX0_codes 160 = .ok (.goto 4, 3) := dk_167 0 4 (dk_at dksX0_codes_7 0 rfl rfl)
theorem dX0_codes_163 : decode cX0_codes 163 = .ok (.iconst 0, 1) := dk_3 (dk_at dksX0_codes_7 3 rfl rfl)
theorem dX0_codes_164 : decode cX0_codes 164 = .ok (.iadd, 1) := dk_96 (dk_at dksX0_codes_7 4 rfl rfl)
theorem dX0_codes_165 : decode cX0_codes 165 = .ok (.istore 5, 2) := dk_54 5 (dk_at dksX0_codes_7 5 rfl rfl)
theorem dX0_codes_167 : decode cX0_codes 167 = .ok (.iinc 8 1, 3) := dk_132 8 1 (dk_at dksX0_codes_7 7 rfl rfl)
theorem dX0_codes_170 : decode cX0_codes 170 = .ok (.goto (-104), 3) := dk_167 255 152 (dk_at dksX0_codes_7 10 rfl rfl)
theorem dX0_codes_173 : decode cX0_codes 173 = .ok (.iinc 7 1, 3) := dk_132 7 1 (dk_at dksX0_codes_7 13 rfl rfl)
theorem dX0_codes_176 : decode cX0_codes 176 = .ok (.goto (-120), 3) := dk_167 255 136 (dk_at dksX0_codes_7 16 rfl rfl)
theorem dX0_codes_179 : decode cX0_codes 179 = .ok (.iload_n 3, 1) := dk_29 (dk_at dksX0_codes_7 19 rfl rfl)
theorem dX0_codes_180 : decode cX0_codes 180 = .ok (.iconst 1, 1) := dk_4 (dk_at dksX0_codes_7 20 rfl rfl)
theorem dX0_codes_181 : decode cX0_codes 181 = .ok (.if_icmp .ne 8, 3) := dk_160 0 8 (dk_at dksX0_codes_7 21 rfl rfl)
theorem dX0_codes_184 : decode cX0_codes 184 = .ok (.iload 5, 2) := dk_21 5 (dk_at dksX0_codes_8 0 rfl rfl)
theorem dX0_codes_186 : decode cX0_codes 186 = .ok (.goto 17, 3) := dk_167 0 17 (dk_at dksX0_codes_8 2 rfl rfl)
theorem dX0_codes_189 : decode cX0_codes 189 = .ok (.iload 4, 2) := dk_21 4 (dk_at dksX0_codes_8 5 rfl rfl)
theorem dX0_codes_191 : decode cX0_codes 191 = .ok (.ldc_w 434, 3) := dk_19 1 178 (dk_at dksX0_codes_8 7 rfl rfl)
theorem dX0_codes_194 : decode cX0_codes 194 = .ok (.if_icmp .ne 7, 3) := dk_160 0 7 (dk_at dksX0_codes_8 10 rfl rfl)
theorem dX0_codes_197 : decode cX0_codes 197 = .ok (.iconst (-1), 1) := dk_2 (dk_at dksX0_codes_8 13 rfl rfl)
theorem dX0_codes_198 : decode cX0_codes 198 = .ok (.goto 5, 3) := dk_167 0 5 (dk_at dksX0_codes_8 14 rfl rfl)
theorem dX0_codes_201 : decode cX0_codes 201 = .ok (.iload 4, 2) := dk_21 4 (dk_at dksX0_codes_8 17 rfl rfl)
theorem dX0_codes_203 : decode cX0_codes 203 = .ok (.ireturn, 1) := dk_172 (dk_at dksX0_codes_8 19 rfl rfl)
abbrev cX0_shared : ByteArray := prog_1_method_45_code
def yX0_shared : MethodName := ⟨RX0, "shared", "(II)I"⟩
def dkwX0_shared_4 : List UInt8 := [132, 4, 1, 167, 255, 174, 28, 2, 160, 0, 7, 29, 167, 0, 4, 2, 172]
abbrev dktX0_shared_4 : List UInt8 := dkwX0_shared_4 ++ []
def dkwX0_shared_3 : List UInt8 := [180, 1, 58, 182, 1, 183, 154, 0, 6, 167, 0, 14, 29, 28, 160, 0, 6, 21, 4, 172, 132, 3, 1]
abbrev dktX0_shared_3 : List UInt8 := dkwX0_shared_3 ++ dktX0_shared_4
def dkwX0_shared_2 : List UInt8 := [42, 3, 21, 4, 16, 6, 108, 182, 1, 52, 180, 1, 58, 42, 4, 21, 4, 16, 6, 112, 182, 1, 52]
abbrev dktX0_shared_2 : List UInt8 := dkwX0_shared_2 ++ dktX0_shared_3
def dkwX0_shared_1 : List UInt8 := [21, 4, 16, 6, 108, 182, 1, 48, 153, 0, 62, 42, 4, 21, 4, 16, 6, 112, 182, 1, 48, 153, 0, 49]
abbrev dktX0_shared_1 : List UInt8 := dkwX0_shared_1 ++ dktX0_shared_2
def dkwX0_shared_0 : List UInt8 := [42, 27, 182, 1, 0, 154, 0, 5, 2, 172, 3, 62, 3, 54, 4, 21, 4, 16, 36, 162, 0, 81, 42, 3]
abbrev dktX0_shared_0 : List UInt8 := dkwX0_shared_0 ++ dktX0_shared_1
theorem dksX0_shared_0 : cX0_shared.data.toList.drop 0 = dktX0_shared_0 := by decide +kernel
theorem dksX0_shared_1 : cX0_shared.data.toList.drop 24 = dktX0_shared_1 := dk_seg dksX0_shared_0 24 rfl rfl
theorem dksX0_shared_2 : cX0_shared.data.toList.drop 48 = dktX0_shared_2 := dk_seg dksX0_shared_1 24 rfl rfl
theorem dksX0_shared_3 : cX0_shared.data.toList.drop 71 = dktX0_shared_3 := dk_seg dksX0_shared_2 23 rfl rfl
theorem dksX0_shared_4 : cX0_shared.data.toList.drop 94 = dktX0_shared_4 := dk_seg dksX0_shared_3 23 rfl rfl
theorem dX0_shared_0 : decode cX0_shared 0 = .ok (.aload_n 0, 1) := dk_42 (dk_at dksX0_shared_0 0 rfl rfl)
theorem dX0_shared_1 : decode cX0_shared 1 = .ok (.iload_n 1, 1) := dk_27 (dk_at dksX0_shared_0 1 rfl rfl)
theorem dX0_shared_2 : decode cX0_shared 2 = .ok (.invokevirtual 256, 3) := dk_182 1 0 (dk_at dksX0_shared_0 2 rfl rfl)
theorem dX0_shared_5 : decode cX0_shared 5 = .ok (.ifCond .ne 5, 3) := dk_154 0 5 (dk_at dksX0_shared_0 5 rfl rfl)
theorem dX0_shared_8 : decode cX0_shared 8 = .ok (.iconst (-1), 1) := dk_2 (dk_at dksX0_shared_0 8 rfl rfl)
theorem dX0_shared_9 : decode cX0_shared 9 = .ok (.ireturn, 1) := dk_172 (dk_at dksX0_shared_0 9 rfl rfl)
theorem dX0_shared_10 : decode cX0_shared 10 = .ok (.iconst 0, 1) := dk_3 (dk_at dksX0_shared_0 10 rfl rfl)
theorem dX0_shared_11 : decode cX0_shared 11 = .ok (.istore_n 3, 1) := dk_62 (dk_at dksX0_shared_0 11 rfl rfl)
theorem dX0_shared_12 : decode cX0_shared 12 = .ok (.iconst 0, 1) := dk_3 (dk_at dksX0_shared_0 12 rfl rfl)
theorem dX0_shared_13 : decode cX0_shared 13 = .ok (.istore 4, 2) := dk_54 4 (dk_at dksX0_shared_0 13 rfl rfl)
theorem dX0_shared_15 : decode cX0_shared 15 = .ok (.iload 4, 2) := dk_21 4 (dk_at dksX0_shared_0 15 rfl rfl)
theorem dX0_shared_17 : decode cX0_shared 17 = .ok (.bipush 36, 2) := dk_16 36 (dk_at dksX0_shared_0 17 rfl rfl)
theorem dX0_shared_19 : decode cX0_shared 19 = .ok (.if_icmp .ge 81, 3) := dk_162 0 81 (dk_at dksX0_shared_0 19 rfl rfl)
theorem dX0_shared_22 : decode cX0_shared 22 = .ok (.aload_n 0, 1) := dk_42 (dk_at dksX0_shared_0 22 rfl rfl)
theorem dX0_shared_23 : decode cX0_shared 23 = .ok (.iconst 0, 1) := dk_3 (dk_at dksX0_shared_0 23 rfl rfl)
theorem dX0_shared_24 : decode cX0_shared 24 = .ok (.iload 4, 2) := dk_21 4 (dk_at dksX0_shared_1 0 rfl rfl)
theorem dX0_shared_26 : decode cX0_shared 26 = .ok (.bipush 6, 2) := dk_16 6 (dk_at dksX0_shared_1 2 rfl rfl)
theorem dX0_shared_28 : decode cX0_shared 28 = .ok (.idiv, 1) := dk_108 (dk_at dksX0_shared_1 4 rfl rfl)
theorem dX0_shared_29 : decode cX0_shared 29 = .ok (.invokevirtual 304, 3) := dk_182 1 48 (dk_at dksX0_shared_1 5 rfl rfl)
theorem dX0_shared_32 : decode cX0_shared 32 = .ok (.ifCond .eq 62, 3) := dk_153 0 62 (dk_at dksX0_shared_1 8 rfl rfl)
theorem dX0_shared_35 : decode cX0_shared 35 = .ok (.aload_n 0, 1) := dk_42 (dk_at dksX0_shared_1 11 rfl rfl)
theorem dX0_shared_36 : decode cX0_shared 36 = .ok (.iconst 1, 1) := dk_4 (dk_at dksX0_shared_1 12 rfl rfl)
theorem dX0_shared_37 : decode cX0_shared 37 = .ok (.iload 4, 2) := dk_21 4 (dk_at dksX0_shared_1 13 rfl rfl)
theorem dX0_shared_39 : decode cX0_shared 39 = .ok (.bipush 6, 2) := dk_16 6 (dk_at dksX0_shared_1 15 rfl rfl)
theorem dX0_shared_41 : decode cX0_shared 41 = .ok (.irem, 1) := dk_112 (dk_at dksX0_shared_1 17 rfl rfl)
theorem dX0_shared_42 : decode cX0_shared 42 = .ok (.invokevirtual 304, 3) := dk_182 1 48 (dk_at dksX0_shared_1 18 rfl rfl)
theorem dX0_shared_45 : decode cX0_shared 45 = .ok (.ifCond .eq 49, 3) := dk_153 0 49 (dk_at dksX0_shared_1 21 rfl rfl)
theorem dX0_shared_48 : decode cX0_shared 48 = .ok (.aload_n 0, 1) := dk_42 (dk_at dksX0_shared_2 0 rfl rfl)
theorem dX0_shared_49 : decode cX0_shared 49 = .ok (.iconst 0, 1) := dk_3 (dk_at dksX0_shared_2 1 rfl rfl)
theorem dX0_shared_50 : decode cX0_shared 50 = .ok (.iload 4, 2) := dk_21 4 (dk_at dksX0_shared_2 2 rfl rfl)
theorem dX0_shared_52 : decode cX0_shared 52 = .ok (.bipush 6, 2) := dk_16 6 (dk_at dksX0_shared_2 4 rfl rfl)
theorem dX0_shared_54 : decode cX0_shared 54 = .ok (.idiv, 1) := dk_108 (dk_at dksX0_shared_2 6 rfl rfl)
theorem dX0_shared_55 : decode cX0_shared 55 = .ok (.invokevirtual 308, 3) := dk_182 1 52 (dk_at dksX0_shared_2 7 rfl rfl)
theorem dX0_shared_58 : decode cX0_shared 58 = .ok (.getfield 314, 3) := dk_180 1 58 (dk_at dksX0_shared_2 10 rfl rfl)
theorem dX0_shared_61 : decode cX0_shared 61 = .ok (.aload_n 0, 1) := dk_42 (dk_at dksX0_shared_2 13 rfl rfl)
theorem dX0_shared_62 : decode cX0_shared 62 = .ok (.iconst 1, 1) := dk_4 (dk_at dksX0_shared_2 14 rfl rfl)
theorem dX0_shared_63 : decode cX0_shared 63 = .ok (.iload 4, 2) := dk_21 4 (dk_at dksX0_shared_2 15 rfl rfl)
theorem dX0_shared_65 : decode cX0_shared 65 = .ok (.bipush 6, 2) := dk_16 6 (dk_at dksX0_shared_2 17 rfl rfl)
theorem dX0_shared_67 : decode cX0_shared 67 = .ok (.irem, 1) := dk_112 (dk_at dksX0_shared_2 19 rfl rfl)
theorem dX0_shared_68 : decode cX0_shared 68 = .ok (.invokevirtual 308, 3) := dk_182 1 52 (dk_at dksX0_shared_2 20 rfl rfl)
theorem dX0_shared_71 : decode cX0_shared 71 = .ok (.getfield 314, 3) := dk_180 1 58 (dk_at dksX0_shared_3 0 rfl rfl)
theorem dX0_shared_74 : decode cX0_shared 74 = .ok (.invokevirtual 439, 3) := dk_182 1 183 (dk_at dksX0_shared_3 3 rfl rfl)
theorem dX0_shared_77 : decode cX0_shared 77 = .ok (.ifCond .ne 6, 3) := dk_154 0 6 (dk_at dksX0_shared_3 6 rfl rfl)
theorem dX0_shared_80 : decode cX0_shared 80 = .ok (.goto 14, 3) := dk_167 0 14 (dk_at dksX0_shared_3 9 rfl rfl)
theorem dX0_shared_83 : decode cX0_shared 83 = .ok (.iload_n 3, 1) := dk_29 (dk_at dksX0_shared_3 12 rfl rfl)
theorem dX0_shared_84 : decode cX0_shared 84 = .ok (.iload_n 2, 1) := dk_28 (dk_at dksX0_shared_3 13 rfl rfl)
theorem dX0_shared_85 : decode cX0_shared 85 = .ok (.if_icmp .ne 6, 3) := dk_160 0 6 (dk_at dksX0_shared_3 14 rfl rfl)
theorem dX0_shared_88 : decode cX0_shared 88 = .ok (.iload 4, 2) := dk_21 4 (dk_at dksX0_shared_3 17 rfl rfl)
theorem dX0_shared_90 : decode cX0_shared 90 = .ok (.ireturn, 1) := dk_172 (dk_at dksX0_shared_3 19 rfl rfl)
theorem dX0_shared_91 : decode cX0_shared 91 = .ok (.iinc 3 1, 3) := dk_132 3 1 (dk_at dksX0_shared_3 20 rfl rfl)
theorem dX0_shared_94 : decode cX0_shared 94 = .ok (.iinc 4 1, 3) := dk_132 4 1 (dk_at dksX0_shared_4 0 rfl rfl)
theorem dX0_shared_97 : decode cX0_shared 97 = .ok (.goto (-82), 3) := dk_167 255 174 (dk_at dksX0_shared_4 3 rfl rfl)
theorem dX0_shared_100 : decode cX0_shared 100 = .ok (.iload_n 2, 1) := dk_28 (dk_at dksX0_shared_4 6 rfl rfl)
theorem dX0_shared_101 : decode cX0_shared 101 = .ok (.iconst (-1), 1) := dk_2 (dk_at dksX0_shared_4 7 rfl rfl)
theorem dX0_shared_102 : decode cX0_shared 102 = .ok (.if_icmp .ne 7, 3) := dk_160 0 7 (dk_at dksX0_shared_4 8 rfl rfl)
theorem dX0_shared_105 : decode cX0_shared 105 = .ok (.iload_n 3, 1) := dk_29 (dk_at dksX0_shared_4 11 rfl rfl)
theorem dX0_shared_106 : decode cX0_shared 106 = .ok (.goto 4, 3) := dk_167 0 4 (dk_at dksX0_shared_4 12 rfl rfl)
theorem dX0_shared_109 : decode cX0_shared 109 = .ok (.iconst (-1), 1) := dk_2 (dk_at dksX0_shared_4 15 rfl rfl)
theorem dX0_shared_110 : decode cX0_shared 110 = .ok (.ireturn, 1) := dk_172 (dk_at dksX0_shared_4 16 rfl rfl)
abbrev cX0_village : ByteArray := prog_1_method_48_code
def yX0_village : MethodName := ⟨RX0, "village", "(III)I"⟩
def dkwX0_village_5 : List UInt8 := [25, 4, 180, 1, 217, 172, 16, 254, 172]
abbrev dktX0_village_5 : List UInt8 := dkwX0_village_5 ++ []
def dkwX0_village_4 : List UInt8 := [25, 4, 180, 1, 205, 172, 25, 4, 182, 1, 208, 172, 25, 4, 182, 1, 211, 172, 25, 4, 182, 1, 214, 172]
abbrev dktX0_village_4 : List UInt8 := dkwX0_village_4 ++ dktX0_village_5
def dkwX0_village_3 : List UInt8 := [170, 0, 0, 0, 0, 0, 0, 66, 0, 0, 0, 0, 0, 0, 0, 4, 0, 0, 0, 36, 0, 0, 0, 42, 0, 0, 0, 48, 0, 0, 0, 54, 0, 0, 0, 60]
abbrev dktX0_village_3 : List UInt8 := dkwX0_village_3 ++ dktX0_village_4
def dkwX0_village_2 : List UInt8 := [180, 1, 191, 180, 1, 194, 28, 182, 0, 237, 192, 1, 203, 58, 4, 29]
abbrev dktX0_village_2 : List UInt8 := dkwX0_village_2 ++ dktX0_village_3
def dkwX0_village_1 : List UInt8 := [180, 1, 194, 182, 0, 3, 167, 0, 5, 16, 254, 172, 42, 28, 182, 1, 200, 154, 0, 6, 16, 254, 172, 42]
abbrev dktX0_village_1 : List UInt8 := dkwX0_village_1 ++ dktX0_village_2
def dkwX0_village_0 : List UInt8 := [42, 27, 182, 1, 197, 154, 0, 6, 16, 254, 172, 28, 2, 160, 0, 23, 29, 154, 0, 16, 42, 180, 1, 191]
abbrev dktX0_village_0 : List UInt8 := dkwX0_village_0 ++ dktX0_village_1
theorem dksX0_village_0 : cX0_village.data.toList.drop 0 = dktX0_village_0 := by decide +kernel
theorem dksX0_village_1 : cX0_village.data.toList.drop 24 = dktX0_village_1 := dk_seg dksX0_village_0 24 rfl rfl
theorem dksX0_village_2 : cX0_village.data.toList.drop 48 = dktX0_village_2 := dk_seg dksX0_village_1 24 rfl rfl
theorem dksX0_village_3 : cX0_village.data.toList.drop 64 = dktX0_village_3 := dk_seg dksX0_village_2 16 rfl rfl
theorem dksX0_village_4 : cX0_village.data.toList.drop 100 = dktX0_village_4 := dk_seg dksX0_village_3 36 rfl rfl
theorem dksX0_village_5 : cX0_village.data.toList.drop 124 = dktX0_village_5 := dk_seg dksX0_village_4 24 rfl rfl
theorem dX0_village_0 : decode cX0_village 0 = .ok (.aload_n 0, 1) := dk_42 (dk_at dksX0_village_0 0 rfl rfl)
theorem dX0_village_1 : decode cX0_village 1 = .ok (.iload_n 1, 1) := dk_27 (dk_at dksX0_village_0 1 rfl rfl)
theorem dX0_village_2 : decode cX0_village 2 = .ok (.invokevirtual 453, 3) := dk_182 1 197 (dk_at dksX0_village_0 2 rfl rfl)
theorem dX0_village_5 : decode cX0_village 5 = .ok (.ifCond .ne 6, 3) := dk_154 0 6 (dk_at dksX0_village_0 5 rfl rfl)
theorem dX0_village_8 : decode cX0_village 8 = .ok (.bipush (-2), 2) := dk_16 254 (dk_at dksX0_village_0 8 rfl rfl)
theorem dX0_village_10 : decode cX0_village 10 = .ok (.ireturn, 1) := dk_172 (dk_at dksX0_village_0 10 rfl rfl)
theorem dX0_village_11 : decode cX0_village 11 = .ok (.iload_n 2, 1) := dk_28 (dk_at dksX0_village_0 11 rfl rfl)
theorem dX0_village_12 : decode cX0_village 12 = .ok (.iconst (-1), 1) := dk_2 (dk_at dksX0_village_0 12 rfl rfl)
theorem dX0_village_13 : decode cX0_village 13 = .ok (.if_icmp .ne 23, 3) := dk_160 0 23 (dk_at dksX0_village_0 13 rfl rfl)
theorem dX0_village_16 : decode cX0_village 16 = .ok (.iload_n 3, 1) := dk_29 (dk_at dksX0_village_0 16 rfl rfl)
theorem dX0_village_17 : decode cX0_village 17 = .ok (.ifCond .ne 16, 3) := dk_154 0 16 (dk_at dksX0_village_0 17 rfl rfl)
theorem dX0_village_20 : decode cX0_village 20 = .ok (.aload_n 0, 1) := dk_42 (dk_at dksX0_village_0 20 rfl rfl)
theorem dX0_village_21 : decode cX0_village 21 = .ok (.getfield 447, 3) := dk_180 1 191 (dk_at dksX0_village_0 21 rfl rfl)
theorem dX0_village_24 : decode cX0_village 24 = .ok (.getfield 450, 3) := dk_180 1 194 (dk_at dksX0_village_1 0 rfl rfl)
theorem dX0_village_27 : decode cX0_village 27 = .ok (.invokevirtual 3, 3) := dk_182 0 3 (dk_at dksX0_village_1 3 rfl rfl)
theorem dX0_village_30 : decode cX0_village 30 = .ok (.goto 5, 3) := dk_167 0 5 (dk_at dksX0_village_1 6 rfl rfl)
theorem dX0_village_33 : decode cX0_village 33 = .ok (.bipush (-2), 2) := dk_16 254 (dk_at dksX0_village_1 9 rfl rfl)
theorem dX0_village_35 : decode cX0_village 35 = .ok (.ireturn, 1) := dk_172 (dk_at dksX0_village_1 11 rfl rfl)
theorem dX0_village_36 : decode cX0_village 36 = .ok (.aload_n 0, 1) := dk_42 (dk_at dksX0_village_1 12 rfl rfl)
theorem dX0_village_37 : decode cX0_village 37 = .ok (.iload_n 2, 1) := dk_28 (dk_at dksX0_village_1 13 rfl rfl)
theorem dX0_village_38 : decode cX0_village 38 = .ok (.invokevirtual 456, 3) := dk_182 1 200 (dk_at dksX0_village_1 14 rfl rfl)
theorem dX0_village_41 : decode cX0_village 41 = .ok (.ifCond .ne 6, 3) := dk_154 0 6 (dk_at dksX0_village_1 17 rfl rfl)
theorem dX0_village_44 : decode cX0_village 44 = .ok (.bipush (-2), 2) := dk_16 254 (dk_at dksX0_village_1 20 rfl rfl)
theorem dX0_village_46 : decode cX0_village 46 = .ok (.ireturn, 1) := dk_172 (dk_at dksX0_village_1 22 rfl rfl)
theorem dX0_village_47 : decode cX0_village 47 = .ok (.aload_n 0, 1) := dk_42 (dk_at dksX0_village_1 23 rfl rfl)
theorem dX0_village_48 : decode cX0_village 48 = .ok (.getfield 447, 3) := dk_180 1 191 (dk_at dksX0_village_2 0 rfl rfl)
theorem dX0_village_51 : decode cX0_village 51 = .ok (.getfield 450, 3) := dk_180 1 194 (dk_at dksX0_village_2 3 rfl rfl)
theorem dX0_village_54 : decode cX0_village 54 = .ok (.iload_n 2, 1) := dk_28 (dk_at dksX0_village_2 6 rfl rfl)
theorem dX0_village_55 : decode cX0_village 55 = .ok (.invokevirtual 237, 3) := dk_182 0 237 (dk_at dksX0_village_2 7 rfl rfl)
theorem dX0_village_58 : decode cX0_village 58 = .ok (.checkcast 459, 3) := dk_192 1 203 (dk_at dksX0_village_2 10 rfl rfl)
theorem dX0_village_61 : decode cX0_village 61 = .ok (.astore 4, 2) := dk_58 4 (dk_at dksX0_village_2 13 rfl rfl)
theorem dX0_village_63 : decode cX0_village 63 = .ok (.iload_n 3, 1) := dk_29 (dk_at dksX0_village_2 15 rfl rfl)
theorem dX0_village_64 : decode cX0_village 64 = .ok (.tableswitch 66 0 4 #[36, 42, 48, 54, 60], 36) := by decide +kernel
theorem dX0_village_100 : decode cX0_village 100 = .ok (.aload 4, 2) := dk_25 4 (dk_at dksX0_village_4 0 rfl rfl)
theorem dX0_village_102 : decode cX0_village 102 = .ok (.getfield 461, 3) := dk_180 1 205 (dk_at dksX0_village_4 2 rfl rfl)
theorem dX0_village_105 : decode cX0_village 105 = .ok (.ireturn, 1) := dk_172 (dk_at dksX0_village_4 5 rfl rfl)
theorem dX0_village_106 : decode cX0_village 106 = .ok (.aload 4, 2) := dk_25 4 (dk_at dksX0_village_4 6 rfl rfl)
theorem dX0_village_108 : decode cX0_village 108 = .ok (.invokevirtual 464, 3) := dk_182 1 208 (dk_at dksX0_village_4 8 rfl rfl)
theorem dX0_village_111 : decode cX0_village 111 = .ok (.ireturn, 1) := dk_172 (dk_at dksX0_village_4 11 rfl rfl)
theorem dX0_village_112 : decode cX0_village 112 = .ok (.aload 4, 2) := dk_25 4 (dk_at dksX0_village_4 12 rfl rfl)
theorem dX0_village_114 : decode cX0_village 114 = .ok (.invokevirtual 467, 3) := dk_182 1 211 (dk_at dksX0_village_4 14 rfl rfl)
theorem dX0_village_117 : decode cX0_village 117 = .ok (.ireturn, 1) := dk_172 (dk_at dksX0_village_4 17 rfl rfl)
theorem dX0_village_118 : decode cX0_village 118 = .ok (.aload 4, 2) := dk_25 4 (dk_at dksX0_village_4 18 rfl rfl)
theorem dX0_village_120 : decode cX0_village 120 = .ok (.invokevirtual 470, 3) := dk_182 1 214 (dk_at dksX0_village_4 20 rfl rfl)
theorem dX0_village_123 : decode cX0_village 123 = .ok (.ireturn, 1) := dk_172 (dk_at dksX0_village_4 23 rfl rfl)
theorem dX0_village_124 : decode cX0_village 124 = .ok (.aload 4, 2) := dk_25 4 (dk_at dksX0_village_5 0 rfl rfl)
theorem dX0_village_126 : decode cX0_village 126 = .ok (.getfield 473, 3) := dk_180 1 217 (dk_at dksX0_village_5 2 rfl rfl)
theorem dX0_village_129 : decode cX0_village 129 = .ok (.ireturn, 1) := dk_172 (dk_at dksX0_village_5 5 rfl rfl)
theorem dX0_village_130 : decode cX0_village 130 = .ok (.bipush (-2), 2) := dk_16 254 (dk_at dksX0_village_5 6 rfl rfl)
theorem dX0_village_132 : decode cX0_village 132 = .ok (.ireturn, 1) := dk_172 (dk_at dksX0_village_5 8 rfl rfl)
abbrev cX0_layVillages : ByteArray := prog_1_method_46_code
def yX0_layVillages : MethodName := ⟨RX0, "layVillages", "(I)Z"⟩
def dkwX0_layVillages_1 : List UInt8 := [180, 0, 95, 180, 1, 186, 27, 182, 0, 237, 192, 1, 189, 181, 1, 191, 4, 172]
abbrev dktX0_layVillages_1 : List UInt8 := dkwX0_layVillages_1 ++ []
def dkwX0_layVillages_0 : List UInt8 := [27, 3, 42, 180, 0, 95, 180, 1, 186, 182, 0, 3, 4, 100, 184, 0, 176, 154, 0, 5, 3, 172, 42, 42]
abbrev dktX0_layVillages_0 : List UInt8 := dkwX0_layVillages_0 ++ dktX0_layVillages_1
theorem dksX0_layVillages_0 : cX0_layVillages.data.toList.drop 0 = dktX0_layVillages_0 := by decide +kernel
theorem dksX0_layVillages_1 : cX0_layVillages.data.toList.drop 24 = dktX0_layVillages_1 := dk_seg dksX0_layVillages_0 24 rfl rfl
theorem dX0_layVillages_0 : decode cX0_layVillages 0 = .ok (.iload_n 1, 1) := dk_27 (dk_at dksX0_layVillages_0 0 rfl rfl)
theorem dX0_layVillages_1 : decode cX0_layVillages 1 = .ok (.iconst 0, 1) := dk_3 (dk_at dksX0_layVillages_0 1 rfl rfl)
theorem dX0_layVillages_2 : decode cX0_layVillages 2 = .ok (.aload_n 0, 1) := dk_42 (dk_at dksX0_layVillages_0 2 rfl rfl)
theorem dX0_layVillages_3 : decode cX0_layVillages 3 = .ok (.getfield 95, 3) := dk_180 0 95 (dk_at dksX0_layVillages_0 3 rfl rfl)
theorem dX0_layVillages_6 : decode cX0_layVillages 6 = .ok (.getfield 442, 3) := dk_180 1 186 (dk_at dksX0_layVillages_0 6 rfl rfl)
theorem dX0_layVillages_9 : decode cX0_layVillages 9 = .ok (.invokevirtual 3, 3) := dk_182 0 3 (dk_at dksX0_layVillages_0 9 rfl rfl)
theorem dX0_layVillages_12 : decode cX0_layVillages 12 = .ok (.iconst 1, 1) := dk_4 (dk_at dksX0_layVillages_0 12 rfl rfl)
theorem dX0_layVillages_13 : decode cX0_layVillages 13 = .ok (.isub, 1) := dk_100 (dk_at dksX0_layVillages_0 13 rfl rfl)
theorem dX0_layVillages_14 : decode cX0_layVillages 14 = .ok (.invokestatic 176, 3) := dk_184 0 176 (dk_at dksX0_layVillages_0 14 rfl rfl)
theorem dX0_layVillages_17 : decode cX0_layVillages 17 = .ok (.ifCond .ne 5, 3) := dk_154 0 5 (dk_at dksX0_layVillages_0 17 rfl rfl)
theorem dX0_layVillages_20 : decode cX0_layVillages 20 = .ok (.iconst 0, 1) := dk_3 (dk_at dksX0_layVillages_0 20 rfl rfl)
theorem dX0_layVillages_21 : decode cX0_layVillages 21 = .ok (.ireturn, 1) := dk_172 (dk_at dksX0_layVillages_0 21 rfl rfl)
theorem dX0_layVillages_22 : decode cX0_layVillages 22 = .ok (.aload_n 0, 1) := dk_42 (dk_at dksX0_layVillages_0 22 rfl rfl)
theorem dX0_layVillages_23 : decode cX0_layVillages 23 = .ok (.aload_n 0, 1) := dk_42 (dk_at dksX0_layVillages_0 23 rfl rfl)
theorem dX0_layVillages_24 : decode cX0_layVillages 24 = .ok (.getfield 95, 3) := dk_180 0 95 (dk_at dksX0_layVillages_1 0 rfl rfl)
theorem dX0_layVillages_27 : decode cX0_layVillages 27 = .ok (.getfield 442, 3) := dk_180 1 186 (dk_at dksX0_layVillages_1 3 rfl rfl)
theorem dX0_layVillages_30 : decode cX0_layVillages 30 = .ok (.iload_n 1, 1) := dk_27 (dk_at dksX0_layVillages_1 6 rfl rfl)
theorem dX0_layVillages_31 : decode cX0_layVillages 31 = .ok (.invokevirtual 237, 3) := dk_182 0 237 (dk_at dksX0_layVillages_1 7 rfl rfl)
theorem dX0_layVillages_34 : decode cX0_layVillages 34 = .ok (.checkcast 445, 3) := dk_192 1 189 (dk_at dksX0_layVillages_1 10 rfl rfl)
theorem dX0_layVillages_37 : decode cX0_layVillages 37 = .ok (.putfield 447, 3) := dk_181 1 191 (dk_at dksX0_layVillages_1 13 rfl rfl)
theorem dX0_layVillages_40 : decode cX0_layVillages 40 = .ok (.iconst 1, 1) := dk_4 (dk_at dksX0_layVillages_1 16 rfl rfl)
theorem dX0_layVillages_41 : decode cX0_layVillages 41 = .ok (.ireturn, 1) := dk_172 (dk_at dksX0_layVillages_1 17 rfl rfl)
abbrev cX0_isVillage : ByteArray := prog_1_method_47_code
def yX0_isVillage : MethodName := ⟨RX0, "isVillage", "(I)Z"⟩
def dkwX0_isVillage_0 : List UInt8 := [27, 3, 42, 180, 1, 191, 180, 1, 194, 182, 0, 3, 4, 100, 184, 0, 176, 172]
abbrev dktX0_isVillage_0 : List UInt8 := dkwX0_isVillage_0 ++ []
theorem dksX0_isVillage_0 : cX0_isVillage.data.toList.drop 0 = dktX0_isVillage_0 := by decide +kernel
theorem dX0_isVillage_0 : decode cX0_isVillage 0 = .ok (.iload_n 1, 1) := dk_27 (dk_at dksX0_isVillage_0 0 rfl rfl)
theorem dX0_isVillage_1 : decode cX0_isVillage 1 = .ok (.iconst 0, 1) := dk_3 (dk_at dksX0_isVillage_0 1 rfl rfl)
theorem dX0_isVillage_2 : decode cX0_isVillage 2 = .ok (.aload_n 0, 1) := dk_42 (dk_at dksX0_isVillage_0 2 rfl rfl)
theorem dX0_isVillage_3 : decode cX0_isVillage 3 = .ok (.getfield 447, 3) := dk_180 1 191 (dk_at dksX0_isVillage_0 3 rfl rfl)
theorem dX0_isVillage_6 : decode cX0_isVillage 6 = .ok (.getfield 450, 3) := dk_180 1 194 (dk_at dksX0_isVillage_0 6 rfl rfl)
theorem dX0_isVillage_9 : decode cX0_isVillage 9 = .ok (.invokevirtual 3, 3) := dk_182 0 3 (dk_at dksX0_isVillage_0 9 rfl rfl)
theorem dX0_isVillage_12 : decode cX0_isVillage 12 = .ok (.iconst 1, 1) := dk_4 (dk_at dksX0_isVillage_0 12 rfl rfl)
theorem dX0_isVillage_13 : decode cX0_isVillage 13 = .ok (.isub, 1) := dk_100 (dk_at dksX0_isVillage_0 13 rfl rfl)
theorem dX0_isVillage_14 : decode cX0_isVillage 14 = .ok (.invokestatic 176, 3) := dk_184 0 176 (dk_at dksX0_isVillage_0 14 rfl rfl)
theorem dX0_isVillage_17 : decode cX0_isVillage 17 = .ok (.ireturn, 1) := dk_172 (dk_at dksX0_isVillage_0 17 rfl rfl)
abbrev cX0_version : ByteArray := prog_1_method_50_code
def yX0_version : MethodName := ⟨RX0, "version", "(IIIII)I"⟩
def dkwX0_version_3 : List UInt8 := [21, 5, 51, 167, 0, 4, 2, 172]
abbrev dktX0_version_3 : List UInt8 := dkwX0_version_3 ++ []
def dkwX0_version_2 : List UInt8 := [21, 4, 50, 180, 1, 61, 4, 100, 184, 0, 176, 153, 0, 19, 42, 180, 0, 144, 21, 4, 50, 180, 1, 64]
abbrev dktX0_version_2 : List UInt8 := dkwX0_version_2 ++ dktX0_version_3
def dkwX0_version_1 : List UInt8 := [160, 0, 16, 42, 180, 0, 144, 21, 4, 50, 180, 1, 61, 167, 0, 41, 21, 5, 3, 42, 180, 0, 144]
abbrev dktX0_version_1 : List UInt8 := dkwX0_version_1 ++ dktX0_version_2
def dkwX0_version_0 : List UInt8 := [42, 27, 28, 29, 182, 1, 225, 153, 0, 12, 42, 21, 4, 182, 1, 200, 154, 0, 5, 2, 172, 21, 5, 2]
abbrev dktX0_version_0 : List UInt8 := dkwX0_version_0 ++ dktX0_version_1
theorem dksX0_version_0 : cX0_version.data.toList.drop 0 = dktX0_version_0 := by decide +kernel
theorem dksX0_version_1 : cX0_version.data.toList.drop 24 = dktX0_version_1 := dk_seg dksX0_version_0 24 rfl rfl
theorem dksX0_version_2 : cX0_version.data.toList.drop 47 = dktX0_version_2 := dk_seg dksX0_version_1 23 rfl rfl
theorem dksX0_version_3 : cX0_version.data.toList.drop 71 = dktX0_version_3 := dk_seg dksX0_version_2 24 rfl rfl
theorem dX0_version_0 : decode cX0_version 0 = .ok (.aload_n 0, 1) := dk_42 (dk_at dksX0_version_0 0 rfl rfl)
theorem dX0_version_1 : decode cX0_version 1 = .ok (.iload_n 1, 1) := dk_27 (dk_at dksX0_version_0 1 rfl rfl)
theorem dX0_version_2 : decode cX0_version 2 = .ok (.iload_n 2, 1) := dk_28 (dk_at dksX0_version_0 2 rfl rfl)
theorem dX0_version_3 : decode cX0_version 3 = .ok (.iload_n 3, 1) := dk_29 (dk_at dksX0_version_0 3 rfl rfl)
theorem dX0_version_4 : decode cX0_version 4 = .ok (.invokevirtual 481, 3) := dk_182 1 225 (dk_at dksX0_version_0 4 rfl rfl)
theorem dX0_version_7 : decode cX0_version 7 = .ok (.ifCond .eq 12, 3) := dk_153 0 12 (dk_at dksX0_version_0 7 rfl rfl)
theorem dX0_version_10 : decode cX0_version 10 = .ok (.aload_n 0, 1) := dk_42 (dk_at dksX0_version_0 10 rfl rfl)
theorem dX0_version_11 : decode cX0_version 11 = .ok (.iload 4, 2) := dk_21 4 (dk_at dksX0_version_0 11 rfl rfl)
theorem dX0_version_13 : decode cX0_version 13 = .ok (.invokevirtual 456, 3) := dk_182 1 200 (dk_at dksX0_version_0 13 rfl rfl)
theorem dX0_version_16 : decode cX0_version 16 = .ok (.ifCond .ne 5, 3) := dk_154 0 5 (dk_at dksX0_version_0 16 rfl rfl)
theorem dX0_version_19 : decode cX0_version 19 = .ok (.iconst (-1), 1) := dk_2 (dk_at dksX0_version_0 19 rfl rfl)
theorem dX0_version_20 : decode cX0_version 20 = .ok (.ireturn, 1) := dk_172 (dk_at dksX0_version_0 20 rfl rfl)
theorem dX0_version_21 : decode cX0_version 21 = .ok (.iload 5, 2) := dk_21 5 (dk_at dksX0_version_0 21 rfl rfl)
theorem dX0_version_23 : decode cX0_version 23 = .ok (.iconst (-1), 1) := dk_2 (dk_at dksX0_version_0 23 rfl rfl)
theorem dX0_version_24 : decode cX0_version 24 = .ok (.if_icmp .ne 16, 3) := dk_160 0 16 (dk_at dksX0_version_1 0 rfl rfl)
theorem dX0_version_27 : decode cX0_version 27 = .ok (.aload_n 0, 1) := dk_42 (dk_at dksX0_version_1 3 rfl rfl)
theorem dX0_version_28 : decode cX0_version 28 = .ok (.getfield 144, 3) := dk_180 0 144 (dk_at dksX0_version_1 4 rfl rfl)
theorem dX0_version_31 : decode cX0_version 31 = .ok (.iload 4, 2) := dk_21 4 (dk_at dksX0_version_1 7 rfl rfl)
theorem dX0_version_33 : decode cX0_version 33 = .ok (.aaload, 1) := dk_50 (dk_at dksX0_version_1 9 rfl rfl)
theorem dX0_version_34 : decode cX0_version 34 = .ok (.getfield 317, 3) := dk_180 1 61 (dk_at dksX0_version_1 10 rfl rfl)
theorem dX0_version_37 : decode cX0_version 37 = .ok (.goto 41, 3) := dk_167 0 41 (dk_at dksX0_version_1 13 rfl rfl)
theorem dX0_version_40 : decode cX0_version 40 = .ok (.iload 5, 2) := dk_21 5 (dk_at dksX0_version_1 16 rfl rfl)
theorem dX0_version_42 : decode cX0_version 42 = .ok (.iconst 0, 1) := dk_3 (dk_at dksX0_version_1 18 rfl rfl)
theorem dX0_version_43 : decode cX0_version 43 = .ok (.aload_n 0, 1) := dk_42 (dk_at dksX0_version_1 19 rfl rfl)
theorem dX0_version_44 : decode cX0_version 44 = .ok (.getfield 144, 3) := dk_180 0 144 (dk_at dksX0_version_1 20 rfl rfl)
theorem dX0_version_47 : decode cX0_version 47 = .ok (.iload 4, 2) := dk_21 4 (dk_at dksX0_version_2 0 rfl rfl)
theorem dX0_version_49 : decode cX0_version 49 = .ok (.aaload, 1) := dk_50 (dk_at dksX0_version_2 2 rfl rfl)
theorem dX0_version_50 : decode cX0_version 50 = .ok (.getfield 317, 3) := dk_180 1 61 (dk_at dksX0_version_2 3 rfl rfl)
theorem dX0_version_53 : decode cX0_version 53 = .ok (.iconst 1, 1) := dk_4 (dk_at dksX0_version_2 6 rfl rfl)
theorem dX0_version_54 : decode cX0_version 54 = .ok (.isub, 1) := dk_100 (dk_at dksX0_version_2 7 rfl rfl)
theorem dX0_version_55 : decode cX0_version 55 = .ok (.invokestatic 176, 3) := dk_184 0 176 (dk_at dksX0_version_2 8 rfl rfl)
theorem dX0_version_58 : decode cX0_version 58 = .ok (.ifCond .eq 19, 3) := dk_153 0 19 (dk_at dksX0_version_2 11 rfl rfl)
theorem dX0_version_61 : decode cX0_version 61 = .ok (.aload_n 0, 1) := dk_42 (dk_at dksX0_version_2 14 rfl rfl)
theorem dX0_version_62 : decode cX0_version 62 = .ok (.getfield 144, 3) := dk_180 0 144 (dk_at dksX0_version_2 15 rfl rfl)
theorem dX0_version_65 : decode cX0_version 65 = .ok (.iload 4, 2) := dk_21 4 (dk_at dksX0_version_2 18 rfl rfl)
theorem dX0_version_67 : decode cX0_version 67 = .ok (.aaload, 1) := dk_50 (dk_at dksX0_version_2 20 rfl rfl)
theorem dX0_version_68 : decode cX0_version 68 = .ok (.getfield 320, 3) := dk_180 1 64 (dk_at dksX0_version_2 21 rfl rfl)
theorem dX0_version_71 : decode cX0_version 71 = .ok (.iload 5, 2) := dk_21 5 (dk_at dksX0_version_3 0 rfl rfl)
theorem dX0_version_73 : decode cX0_version 73 = .ok (.baload, 1) := dk_51 (dk_at dksX0_version_3 2 rfl rfl)
theorem dX0_version_74 : decode cX0_version 74 = .ok (.goto 4, 3) := dk_167 0 4 (dk_at dksX0_version_3 3 rfl rfl)
theorem dX0_version_77 : decode cX0_version 77 = .ok (.iconst (-1), 1) := dk_2 (dk_at dksX0_version_3 6 rfl rfl)
theorem dX0_version_78 : decode cX0_version 78 = .ok (.ireturn, 1) := dk_172 (dk_at dksX0_version_3 7 rfl rfl)
abbrev cX0_layTales : ByteArray := prog_1_method_49_code
def yX0_layTales : MethodName := ⟨RX0, "layTales", "(III)Z"⟩
def dkwX0_layTales_6 : List UInt8 := [180, 0, 144, 21, 4, 50, 182, 1, 222, 132, 4, 1, 167, 255, 171, 4, 172]
abbrev dktX0_layTales_6 : List UInt8 := dkwX0_layTales_6 ++ []
def dkwX0_layTales_5 : List UInt8 := [16, 8, 160, 0, 10, 42, 180, 0, 141, 167, 0, 13, 42, 180, 0, 144, 25, 5, 180, 1, 205, 50, 42]
abbrev dktX0_layTales_5 : List UInt8 := dkwX0_layTales_5 ++ dktX0_layTales_6
def dkwX0_layTales_4 : List UInt8 := [192, 1, 203, 58, 5, 42, 180, 0, 144, 21, 4, 50, 3, 181, 1, 61, 25, 5, 25, 5, 180, 1, 205]
abbrev dktX0_layTales_4 : List UInt8 := dkwX0_layTales_4 ++ dktX0_layTales_5
def dkwX0_layTales_3 : List UInt8 := [180, 1, 191, 180, 1, 194, 182, 0, 3, 162, 0, 76, 42, 180, 1, 191, 180, 1, 194, 21, 4, 182, 0, 237]
abbrev dktX0_layTales_3 : List UInt8 := dkwX0_layTales_3 ++ dktX0_layTales_4
def dkwX0_layTales_2 : List UInt8 := [180, 0, 108, 180, 1, 76, 21, 4, 46, 182, 1, 220, 132, 4, 1, 167, 255, 224, 3, 54, 4, 21, 4, 42]
abbrev dktX0_layTales_2 : List UInt8 := dkwX0_layTales_2 ++ dktX0_layTales_3
def dkwX0_layTales_1 : List UInt8 := [181, 1, 61, 3, 54, 4, 21, 4, 42, 180, 0, 108, 180, 1, 70, 162, 0, 26, 42, 180, 0, 141, 42]
abbrev dktX0_layTales_1 : List UInt8 := dkwX0_layTales_1 ++ dktX0_layTales_2
def dkwX0_layTales_0 : List UInt8 := [42, 29, 182, 1, 197, 153, 0, 12, 42, 27, 28, 182, 1, 67, 154, 0, 5, 3, 172, 42, 180, 0, 141, 3]
abbrev dktX0_layTales_0 : List UInt8 := dkwX0_layTales_0 ++ dktX0_layTales_1
theorem dksX0_layTales_0 : cX0_layTales.data.toList.drop 0 = dktX0_layTales_0 := by decide +kernel
theorem dksX0_layTales_1 : cX0_layTales.data.toList.drop 24 = dktX0_layTales_1 := dk_seg dksX0_layTales_0 24 rfl rfl
theorem dksX0_layTales_2 : cX0_layTales.data.toList.drop 47 = dktX0_layTales_2 := dk_seg dksX0_layTales_1 23 rfl rfl
theorem dksX0_layTales_3 : cX0_layTales.data.toList.drop 71 = dktX0_layTales_3 := dk_seg dksX0_layTales_2 24 rfl rfl
theorem dksX0_layTales_4 : cX0_layTales.data.toList.drop 95 = dktX0_layTales_4 := dk_seg dksX0_layTales_3 24 rfl rfl
theorem dksX0_layTales_5 : cX0_layTales.data.toList.drop 118 = dktX0_layTales_5 := dk_seg dksX0_layTales_4 23 rfl rfl
theorem dksX0_layTales_6 : cX0_layTales.data.toList.drop 141 = dktX0_layTales_6 := dk_seg dksX0_layTales_5 23 rfl rfl
theorem dX0_layTales_0 : decode cX0_layTales 0 = .ok (.aload_n 0, 1) := dk_42 (dk_at dksX0_layTales_0 0 rfl rfl)
theorem dX0_layTales_1 : decode cX0_layTales 1 = .ok (.iload_n 3, 1) := dk_29 (dk_at dksX0_layTales_0 1 rfl rfl)
theorem dX0_layTales_2 : decode cX0_layTales 2 = .ok (.invokevirtual 453, 3) := dk_182 1 197 (dk_at dksX0_layTales_0 2 rfl rfl)
theorem dX0_layTales_5 : decode cX0_layTales 5 = .ok (.ifCond .eq 12, 3) := dk_153 0 12 (dk_at dksX0_layTales_0 5 rfl rfl)
theorem dX0_layTales_8 : decode cX0_layTales 8 = .ok (.aload_n 0, 1) := dk_42 (dk_at dksX0_layTales_0 8 rfl rfl)
theorem dX0_layTales_9 : decode cX0_layTales 9 = .ok (.iload_n 1, 1) := dk_27 (dk_at dksX0_layTales_0 9 rfl rfl)
theorem dX0_layTales_10 : decode cX0_layTales 10 = .ok (.iload_n 2, 1) := dk_28 (dk_at dksX0_layTales_0 10 rfl rfl)
theorem dX0_layTales_11 : decode cX0_layTales 11 = .ok (.invokevirtual 323, 3) := dk_182 1 67 (dk_at dksX0_layTales_0 11 rfl rfl)
theorem dX0_layTales_14 : decode cX0_layTales 14 = .ok (.ifCond .ne 5, 3) := dk_154 0 5 (dk_at dksX0_layTales_0 14 rfl rfl)
theorem dX0_layTales_17 : decode cX0_layTales 17 = .ok (.iconst 0, 1) := dk_3 (dk_at dksX0_layTales_0 17 rfl rfl)
theorem dX0_layTales_18 : decode cX0_layTales 18 = .ok (.ireturn, 1) := dk_172 (dk_at dksX0_layTales_0 18 rfl rfl)
theorem dX0_layTales_19 : decode cX0_layTales 19 = .ok (.aload_n 0, 1) := dk_42 (dk_at dksX0_layTales_0 19 rfl rfl)
theorem dX0_layTales_20 : decode cX0_layTales 20 = .ok (.getfield 141, 3) := dk_180 0 141 (dk_at dksX0_layTales_0 20 rfl rfl)
theorem dX0_layTales_23 : decode cX0_layTales 23 = .ok (.iconst 0, 1) := dk_3 (dk_at dksX0_layTales_0 23 rfl rfl)
theorem dX0_layTales_24 : decode cX0_layTales 24 = .ok (.putfield 317, 3) := dk_181 1 61 (dk_at dksX0_layTales_1 0 rfl rfl)
theorem dX0_layTales_27 : decode cX0_layTales 27 = .ok (.iconst 0, 1) := dk_3 (dk_at dksX0_layTales_1 3 rfl rfl)
theorem dX0_layTales_28 : decode cX0_layTales 28 = .ok (.istore 4, 2) := dk_54 4 (dk_at dksX0_layTales_1 4 rfl rfl)
theorem dX0_layTales_30 : decode cX0_layTales 30 = .ok (.iload 4, 2) := dk_21 4 (dk_at dksX0_layTales_1 6 rfl rfl)
theorem dX0_layTales_32 : decode cX0_layTales 32 = .ok (.aload_n 0, 1) := dk_42 (dk_at dksX0_layTales_1 8 rfl rfl)
theorem dX0_layTales_33 : decode cX0_layTales 33 = .ok (.getfield 108, 3) := dk_180 0 108 (dk_at dksX0_layTales_1 9 rfl rfl)
theorem dX0_layTales_36 : decode cX0_layTales 36 = .ok (.getfield 326, 3) := dk_180 1 70 (dk_at dksX0_layTales_1 12 rfl rfl)
theorem dX0_layTales_39 : decode cX0_layTales 39 = .ok (.if_icmp .ge 26, 3) := dk_162 0 26 (dk_at dksX0_layTales_1 15 rfl rfl)
theorem dX0_layTales_42 : decode cX0_layTales 42 = .ok (.aload_n 0, 1) := dk_42 (dk_at dksX0_layTales_1 18 rfl rfl)
theorem dX0_layTales_43 : decode cX0_layTales 43 = .ok (.getfield 141, 3) := dk_180 0 141 (dk_at dksX0_layTales_1 19 rfl rfl)
theorem dX0_layTales_46 : decode cX0_layTales 46 = .ok (.aload_n 0, 1) := dk_42 (dk_at dksX0_layTales_1 22 rfl rfl)
theorem dX0_layTales_47 : decode cX0_layTales 47 = .ok (.getfield 108, 3) := dk_180 0 108 (dk_at dksX0_layTales_2 0 rfl rfl)
theorem dX0_layTales_50 : decode cX0_layTales 50 = .ok (.getfield 332, 3) := dk_180 1 76 (dk_at dksX0_layTales_2 3 rfl rfl)
theorem dX0_layTales_53 : decode cX0_layTales 53 = .ok (.iload 4, 2) := dk_21 4 (dk_at dksX0_layTales_2 6 rfl rfl)
theorem dX0_layTales_55 : decode cX0_layTales 55 = .ok (.iaload, 1) := dk_46 (dk_at dksX0_layTales_2 8 rfl rfl)
theorem dX0_layTales_56 : decode cX0_layTales 56 = .ok (.invokevirtual 476, 3) := dk_182 1 220 (dk_at dksX0_layTales_2 9 rfl rfl)
theorem dX0_layTales_59 : decode cX0_layTales 59 = .ok (.iinc 4 1, 3) := dk_132 4 1 (dk_at dksX0_layTales_2 12 rfl rfl)
theorem dX0_layTales_62 : decode cX0_layTales 62 = .ok (.goto (-32), 3) := dk_167 255 224 (dk_at dksX0_layTales_2 15 rfl rfl)
theorem dX0_layTales_65 : decode cX0_layTales 65 = .ok (.iconst 0, 1) := dk_3 (dk_at dksX0_layTales_2 18 rfl rfl)
theorem dX0_layTales_66 : decode cX0_layTales 66 = .ok (.istore 4, 2) := dk_54 4 (dk_at dksX0_layTales_2 19 rfl rfl)
theorem dX0_layTales_68 : decode cX0_layTales 68 = .ok (.iload 4, 2) := dk_21 4 (dk_at dksX0_layTales_2 21 rfl rfl)
theorem dX0_layTales_70 : decode cX0_layTales 70 = .ok (.aload_n 0, 1) := dk_42 (dk_at dksX0_layTales_2 23 rfl rfl)
theorem dX0_layTales_71 : decode cX0_layTales 71 = .ok (.getfield 447, 3) := dk_180 1 191 (dk_at dksX0_layTales_3 0 rfl rfl)
theorem dX0_layTales_74 : decode cX0_layTales 74 = .ok (.getfield 450, 3) := dk_180 1 194 (dk_at dksX0_layTales_3 3 rfl rfl)
theorem dX0_layTales_77 : decode cX0_layTales 77 = .ok (.invokevirtual 3, 3) := dk_182 0 3 (dk_at dksX0_layTales_3 6 rfl rfl)
theorem dX0_layTales_80 : decode cX0_layTales 80 = .ok (.if_icmp .ge 76, 3) := dk_162 0 76 (dk_at dksX0_layTales_3 9 rfl rfl)
theorem dX0_layTales_83 : decode cX0_layTales 83 = .ok (.aload_n 0, 1) := dk_42 (dk_at dksX0_layTales_3 12 rfl rfl)
theorem dX0_layTales_84 : decode cX0_layTales 84 = .ok (.getfield 447, 3) := dk_180 1 191 (dk_at dksX0_layTales_3 13 rfl rfl)
theorem dX0_layTales_87 : decode cX0_layTales 87 = .ok (.getfield 450, 3) := dk_180 1 194 (dk_at dksX0_layTales_3 16 rfl rfl)
theorem dX0_layTales_90 : decode cX0_layTales 90 = .ok (.iload 4, 2) := dk_21 4 (dk_at dksX0_layTales_3 19 rfl rfl)
theorem dX0_layTales_92 : decode cX0_layTales 92 = .ok (.invokevirtual 237, 3) := dk_182 0 237 (dk_at dksX0_layTales_3 21 rfl rfl)
theorem dX0_layTales_95 : decode cX0_layTales 95 = .ok (.checkcast 459, 3) := dk_192 1 203 (dk_at dksX0_layTales_4 0 rfl rfl)
theorem dX0_layTales_98 : decode cX0_layTales 98 = .ok (.astore 5, 2) := dk_58 5 (dk_at dksX0_layTales_4 3 rfl rfl)
theorem dX0_layTales_100 : decode cX0_layTales 100 = .ok (.aload_n 0, 1) := dk_42 (dk_at dksX0_layTales_4 5 rfl rfl)
theorem dX0_layTales_101 : decode cX0_layTales 101 = .ok (.getfield 144, 3) := dk_180 0 144 (dk_at dksX0_layTales_4 6 rfl rfl)
theorem dX0_layTales_104 : decode cX0_layTales 104 = .ok (.iload 4, 2) := dk_21 4 (dk_at dksX0_layTales_4 9 rfl rfl)
theorem dX0_layTales_106 : decode cX0_layTales 106 = .ok (.aaload, 1) := dk_50 (dk_at dksX0_layTales_4 11 rfl rfl)
theorem dX0_layTales_107 : decode cX0_layTales 107 = .ok (.iconst 0, 1) := dk_3 (dk_at dksX0_layTales_4 12 rfl rfl)
theorem dX0_layTales_108 : decode cX0_layTales 108 = .ok (.putfield 317, 3) := dk_181 1 61 (dk_at dksX0_layTales_4 13 rfl rfl)
theorem dX0_layTales_111 : decode cX0_layTales 111 = .ok (.aload 5, 2) := dk_25 5 (dk_at dksX0_layTales_4 16 rfl rfl)
theorem dX0_layTales_113 : decode cX0_layTales 113 = .ok (.aload 5, 2) := dk_25 5 (dk_at dksX0_layTales_4 18 rfl rfl)
theorem dX0_layTales_115 : decode cX0_layTales 115 = .ok (.getfield 461, 3) := dk_180 1 205 (dk_at dksX0_layTales_4 20 rfl rfl)
theorem dX0_layTales_118 : decode cX0_layTales 118 = .ok (.bipush 8, 2) := dk_16 8 (dk_at dksX0_layTales_5 0 rfl rfl)
theorem dX0_layTales_120 : decode cX0_layTales 120 = .ok (.if_icmp .ne 10, 3) := dk_160 0 10 (dk_at dksX0_layTales_5 2 rfl rfl)
theorem dX0_layTales_123 : decode cX0_layTales 123 = .ok (.aload_n 0, 1) := dk_42 (dk_at dksX0_layTales_5 5 rfl rfl)
theorem dX0_layTales_124 : decode cX0_layTales 124 = .ok (.getfield 141, 3) := dk_180 0 141 (dk_at dksX0_layTales_5 6 rfl rfl)
theorem dX0_layTales_127 : decode cX0_layTales 127 = .ok (.goto 13, 3) := dk_167 0 13 (dk_at dksX0_layTales_5 9 rfl rfl)
theorem dX0_layTales_130 : decode cX0_layTales 130 = .ok (.aload_n 0, 1) := dk_42 (dk_at dksX0_layTales_5 12 rfl rfl)
theorem dX0_layTales_131 : decode cX0_layTales 131 = .ok (.getfield 144, 3) := dk_180 0 144 (dk_at dksX0_layTales_5 13 rfl rfl)
theorem dX0_layTales_134 : decode cX0_layTales 134 = .ok (.aload 5, 2) := dk_25 5 (dk_at dksX0_layTales_5 16 rfl rfl)
theorem dX0_layTales_136 : decode cX0_layTales 136 = .ok (.getfield 461, 3) := dk_180 1 205 (dk_at dksX0_layTales_5 18 rfl rfl)
theorem dX0_layTales_139 : decode cX0_layTales 139 = .ok (.aaload, 1) := dk_50 (dk_at dksX0_layTales_5 21 rfl rfl)
theorem dX0_layTales_140 : decode cX0_layTales 140 = .ok (.aload_n 0, 1) := dk_42 (dk_at dksX0_layTales_5 22 rfl rfl)
theorem dX0_layTales_141 : decode cX0_layTales 141 = .ok (.getfield 144, 3) := dk_180 0 144 (dk_at dksX0_layTales_6 0 rfl rfl)
theorem dX0_layTales_144 : decode cX0_layTales 144 = .ok (.iload 4, 2) := dk_21 4 (dk_at dksX0_layTales_6 3 rfl rfl)
theorem dX0_layTales_146 : decode cX0_layTales 146 = .ok (.aaload, 1) := dk_50 (dk_at dksX0_layTales_6 5 rfl rfl)
theorem dX0_layTales_147 : decode cX0_layTales 147 = .ok (.invokevirtual 478, 3) := dk_182 1 222 (dk_at dksX0_layTales_6 6 rfl rfl)
theorem dX0_layTales_150 : decode cX0_layTales 150 = .ok (.iinc 4 1, 3) := dk_132 4 1 (dk_at dksX0_layTales_6 9 rfl rfl)
theorem dX0_layTales_153 : decode cX0_layTales 153 = .ok (.goto (-85), 3) := dk_167 255 171 (dk_at dksX0_layTales_6 12 rfl rfl)
theorem dX0_layTales_156 : decode cX0_layTales 156 = .ok (.iconst 1, 1) := dk_4 (dk_at dksX0_layTales_6 15 rfl rfl)
theorem dX0_layTales_157 : decode cX0_layTales 157 = .ok (.ireturn, 1) := dk_172 (dk_at dksX0_layTales_6 16 rfl rfl)
abbrev cX0_tale : ByteArray := prog_1_method_51_code
def yX0_tale : MethodName := ⟨RX0, "tale", "(IIIIZ)I"⟩
def dkwX0_tale_4 : List UInt8 := [128, 54, 6, 132, 7, 1, 167, 255, 205, 21, 6, 172]
abbrev dktX0_tale_4 : List UInt8 := dkwX0_tale_4 ++ []
def dkwX0_tale_3 : List UInt8 := [21, 7, 50, 42, 180, 0, 144, 21, 4, 50, 182, 1, 183, 153, 0, 10, 4, 21, 7, 120, 167, 0, 4, 3]
abbrev dktX0_tale_3 : List UInt8 := dkwX0_tale_3 ++ dktX0_tale_4
def dkwX0_tale_2 : List UInt8 := [54, 7, 21, 7, 42, 180, 1, 191, 180, 1, 194, 182, 0, 3, 162, 0, 42, 21, 6, 42, 180, 0, 144]
abbrev dktX0_tale_2 : List UInt8 := dkwX0_tale_2 ++ dktX0_tale_3
def dkwX0_tale_1 : List UInt8 := [154, 0, 19, 42, 42, 180, 0, 144, 21, 4, 50, 42, 180, 0, 141, 182, 1, 174, 172, 3, 54, 6, 3]
abbrev dktX0_tale_1 : List UInt8 := dkwX0_tale_1 ++ dktX0_tale_2
def dkwX0_tale_0 : List UInt8 := [42, 27, 28, 29, 182, 1, 225, 153, 0, 12, 42, 21, 4, 182, 1, 200, 154, 0, 5, 2, 172, 21, 5]
abbrev dktX0_tale_0 : List UInt8 := dkwX0_tale_0 ++ dktX0_tale_1
theorem dksX0_tale_0 : cX0_tale.data.toList.drop 0 = dktX0_tale_0 := by decide +kernel
theorem dksX0_tale_1 : cX0_tale.data.toList.drop 23 = dktX0_tale_1 := dk_seg dksX0_tale_0 23 rfl rfl
theorem dksX0_tale_2 : cX0_tale.data.toList.drop 46 = dktX0_tale_2 := dk_seg dksX0_tale_1 23 rfl rfl
theorem dksX0_tale_3 : cX0_tale.data.toList.drop 69 = dktX0_tale_3 := dk_seg dksX0_tale_2 23 rfl rfl
theorem dksX0_tale_4 : cX0_tale.data.toList.drop 93 = dktX0_tale_4 := dk_seg dksX0_tale_3 24 rfl rfl
theorem dX0_tale_0 : decode cX0_tale 0 = .ok (.aload_n 0, 1) := dk_42 (dk_at dksX0_tale_0 0 rfl rfl)
theorem dX0_tale_1 : decode cX0_tale 1 = .ok (.iload_n 1, 1) := dk_27 (dk_at dksX0_tale_0 1 rfl rfl)
theorem dX0_tale_2 : decode cX0_tale 2 = .ok (.iload_n 2, 1) := dk_28 (dk_at dksX0_tale_0 2 rfl rfl)
theorem dX0_tale_3 : decode cX0_tale 3 = .ok (.iload_n 3, 1) := dk_29 (dk_at dksX0_tale_0 3 rfl rfl)
theorem dX0_tale_4 : decode cX0_tale 4 = .ok (.invokevirtual 481, 3) := dk_182 1 225 (dk_at dksX0_tale_0 4 rfl rfl)
theorem dX0_tale_7 : decode cX0_tale 7 = .ok (.ifCond .eq 12, 3) := dk_153 0 12 (dk_at dksX0_tale_0 7 rfl rfl)
theorem dX0_tale_10 : decode cX0_tale 10 = .ok (.aload_n 0, 1) := dk_42 (dk_at dksX0_tale_0 10 rfl rfl)
theorem dX0_tale_11 : decode cX0_tale 11 = .ok (.iload 4, 2) := dk_21 4 (dk_at dksX0_tale_0 11 rfl rfl)
theorem dX0_tale_13 : decode cX0_tale 13 = .ok (.invokevirtual 456, 3) := dk_182 1 200 (dk_at dksX0_tale_0 13 rfl rfl)
theorem dX0_tale_16 : decode cX0_tale 16 = .ok (.ifCond .ne 5, 3) := dk_154 0 5 (dk_at dksX0_tale_0 16 rfl rfl)
theorem dX0_tale_19 : decode cX0_tale 19 = .ok (.iconst (-1), 1) := dk_2 (dk_at dksX0_tale_0 19 rfl rfl)
theorem dX0_tale_20 : decode cX0_tale 20 = .ok (.ireturn, 1) := dk_172 (dk_at dksX0_tale_0 20 rfl rfl)
theorem dX0_tale_21 : decode cX0_tale 21 = .ok (.iload 5, 2) := dk_21 5 (dk_at dksX0_tale_0 21 rfl rfl)
theorem dX0_tale_23 : decode cX0_tale 23 = .ok (.ifCond .ne 19, 3) := dk_154 0 19 (dk_at dksX0_tale_1 0 rfl rfl)
theorem dX0_tale_26 : decode cX0_tale 26 = .ok (.aload_n 0, 1) := dk_42 (dk_at dksX0_tale_1 3 rfl rfl)
theorem dX0_tale_27 : decode cX0_tale 27 = .ok (.aload_n 0, 1) := dk_42 (dk_at dksX0_tale_1 4 rfl rfl)
theorem dX0_tale_28 : decode cX0_tale 28 = .ok (.getfield 144, 3) := dk_180 0 144 (dk_at dksX0_tale_1 5 rfl rfl)
theorem dX0_tale_31 : decode cX0_tale 31 = .ok (.iload 4, 2) := dk_21 4 (dk_at dksX0_tale_1 8 rfl rfl)
theorem dX0_tale_33 : decode cX0_tale 33 = .ok (.aaload, 1) := dk_50 (dk_at dksX0_tale_1 10 rfl rfl)
theorem dX0_tale_34 : decode cX0_tale 34 = .ok (.aload_n 0, 1) := dk_42 (dk_at dksX0_tale_1 11 rfl rfl)
theorem dX0_tale_35 : decode cX0_tale 35 = .ok (.getfield 141, 3) := dk_180 0 141 (dk_at dksX0_tale_1 12 rfl rfl)
theorem dX0_tale_38 : decode cX0_tale 38 = .ok (.invokevirtual 430, 3) := dk_182 1 174 (dk_at dksX0_tale_1 15 rfl rfl)
theorem dX0_tale_41 : decode cX0_tale 41 = .ok (.ireturn, 1) := dk_172 (dk_at dksX0_tale_1 18 rfl rfl)
theorem dX0_tale_42 : decode cX0_tale 42 = .ok (.iconst 0, 1) := dk_3 (dk_at dksX0_tale_1 19 rfl rfl)
theorem dX0_tale_43 : decode cX0_tale 43 = .ok (.istore 6, 2) := dk_54 6 (dk_at dksX0_tale_1 20 rfl rfl)
theorem dX0_tale_45 : decode cX0_tale 45 = .ok (.iconst 0, 1) := dk_3 (dk_at dksX0_tale_1 22 rfl rfl)
theorem dX0_tale_46 : decode cX0_tale 46 = .ok (.istore 7, 2) := dk_54 7 (dk_at dksX0_tale_2 0 rfl rfl)
theorem dX0_tale_48 : decode cX0_tale 48 = .ok (.iload 7, 2) := dk_21 7 (dk_at dksX0_tale_2 2 rfl rfl)
theorem dX0_tale_50 : decode cX0_tale 50 = .ok (.aload_n 0, 1) := dk_42 (dk_at dksX0_tale_2 4 rfl rfl)
theorem dX0_tale_51 : decode cX0_tale 51 = .ok (.getfield 447, 3) := dk_180 1 191 (dk_at dksX0_tale_2 5 rfl rfl)
theorem dX0_tale_54 : decode cX0_tale 54 = .ok (.getfield 450, 3) := dk_180 1 194 (dk_at dksX0_tale_2 8 rfl rfl)
theorem dX0_tale_57 : decode cX0_tale 57 = .ok (.invokevirtual 3, 3) := dk_182 0 3 (dk_at dksX0_tale_2 11 rfl rfl)
theorem dX0_tale_60 : decode cX0_tale 60 = .ok (.if_icmp .ge 42, 3) := dk_162 0 42 (dk_at dksX0_tale_2 14 rfl rfl)
theorem dX0_tale_63 : decode cX0_tale 63 = .ok (.iload 6, 2) := dk_21 6 (dk_at dksX0_tale_2 17 rfl rfl)
theorem dX0_tale_65 : decode cX0_tale 65 = .ok (.aload_n 0, 1) := dk_42 (dk_at dksX0_tale_2 19 rfl rfl)
theorem dX0_tale_66 : decode cX0_tale 66 = .ok (.getfield 144, 3) := dk_180 0 144 (dk_at dksX0_tale_2 20 rfl rfl)
theorem dX0_tale_69 : decode cX0_tale 69 = .ok (.iload 7, 2) := dk_21 7 (dk_at dksX0_tale_3 0 rfl rfl)
theorem dX0_tale_71 : decode cX0_tale 71 = .ok (.aaload, 1) := dk_50 (dk_at dksX0_tale_3 2 rfl rfl)
theorem dX0_tale_72 : decode cX0_tale 72 = .ok (.aload_n 0, 1) := dk_42 (dk_at dksX0_tale_3 3 rfl rfl)
theorem dX0_tale_73 : decode cX0_tale 73 = .ok (.getfield 144, 3) := dk_180 0 144 (dk_at dksX0_tale_3 4 rfl rfl)
theorem dX0_tale_76 : decode cX0_tale 76 = .ok (.iload 4, 2) := dk_21 4 (dk_at dksX0_tale_3 7 rfl rfl)
theorem dX0_tale_78 : decode cX0_tale 78 = .ok (.aaload, 1) := dk_50 (dk_at dksX0_tale_3 9 rfl rfl)
theorem dX0_tale_79 : decode cX0_tale 79 = .ok (.invokevirtual 439, 3) := dk_182 1 183 (dk_at dksX0_tale_3 10 rfl rfl)
theorem dX0_tale_82 : decode cX0_tale 82 = .ok (.ifCond .eq 10, 3) := dk_153 0 10 (dk_at dksX0_tale_3 13 rfl rfl)
theorem dX0_tale_85 : decode cX0_tale 85 = .ok (.iconst 1, 1) := dk_4 (dk_at dksX0_tale_3 16 rfl rfl)
theorem dX0_tale_86 : decode cX0_tale 86 = .ok (.iload 7, 2) := dk_21 7 (dk_at dksX0_tale_3 17 rfl rfl)
theorem dX0_tale_88 : decode cX0_tale 88 = .ok (.ishl, 1) := dk_120 (dk_at dksX0_tale_3 19 rfl rfl)
theorem dX0_tale_89 : decode cX0_tale 89 = .ok (.goto 4, 3) := dk_167 0 4 (dk_at dksX0_tale_3 20 rfl rfl)
theorem dX0_tale_92 : decode cX0_tale 92 = .ok (.iconst 0, 1) := dk_3 (dk_at dksX0_tale_3 23 rfl rfl)
theorem dX0_tale_93 : decode cX0_tale 93 = .ok (.ior, 1) := dk_128 (dk_at dksX0_tale_4 0 rfl rfl)
theorem dX0_tale_94 : decode cX0_tale 94 = .ok (.istore 6, 2) := dk_54 6 (dk_at dksX0_tale_4 1 rfl rfl)
theorem dX0_tale_96 : decode cX0_tale 96 = .ok (.iinc 7 1, 3) := dk_132 7 1 (dk_at dksX0_tale_4 3 rfl rfl)
theorem dX0_tale_99 : decode cX0_tale 99 = .ok (.goto (-51), 3) := dk_167 255 205 (dk_at dksX0_tale_4 6 rfl rfl)
theorem dX0_tale_102 : decode cX0_tale 102 = .ok (.iload 6, 2) := dk_21 6 (dk_at dksX0_tale_4 9 rfl rfl)
theorem dX0_tale_104 : decode cX0_tale 104 = .ok (.ireturn, 1) := dk_172 (dk_at dksX0_tale_4 11 rfl rfl)
abbrev cX0_drawn : ByteArray := prog_1_method_55_code
def yX0_drawn : MethodName := ⟨RX0, "drawn", "(IIIII)I"⟩
def dkwX0_drawn_10 : List UInt8 := [167, 0, 23, 42, 180, 0, 148, 8, 21, 5, 16, 10, 108, 4, 100, 104, 21, 5, 16, 10, 112, 96, 46, 172]
abbrev dktX0_drawn_10 : List UInt8 := dkwX0_drawn_10 ++ []
def dkwX0_drawn_9 : List UInt8 := [132, 8, 1, 167, 255, 134, 21, 5, 154, 0, 8, 21, 6, 167, 0, 34, 21, 5, 4, 160, 0, 8, 21, 7]
abbrev dktX0_drawn_9 : List UInt8 := dkwX0_drawn_9 ++ dktX0_drawn_10
def dkwX0_drawn_8 : List UInt8 := [180, 1, 99, 21, 10, 46, 96, 92, 46, 4, 96, 79, 132, 10, 1, 167, 255, 211, 132, 9, 1, 167, 255, 196]
abbrev dktX0_drawn_8 : List UInt8 := dkwX0_drawn_8 ++ dktX0_drawn_9
def dkwX0_drawn_7 : List UInt8 := [50, 180, 1, 92, 162, 0, 36, 42, 180, 0, 148, 8, 21, 9, 104, 42, 180, 0, 115, 21, 9, 50]
abbrev dktX0_drawn_7 : List UInt8 := dkwX0_drawn_7 ++ dktX0_drawn_8
def dkwX0_drawn_6 : List UInt8 := [3, 96, 54, 6, 3, 54, 9, 21, 9, 5, 162, 0, 60, 3, 54, 10, 21, 10, 42, 180, 0, 115, 21, 9]
abbrev dktX0_drawn_6 : List UInt8 := dkwX0_drawn_6 ++ dktX0_drawn_7
def dkwX0_drawn_5 : List UInt8 := [159, 0, 7, 4, 167, 0, 4, 3, 96, 54, 7, 21, 6, 42, 182, 1, 238, 153, 0, 7, 4, 167, 0, 4]
abbrev dktX0_drawn_5 : List UInt8 := dkwX0_drawn_5 ++ dktX0_drawn_6
def dkwX0_drawn_4 : List UInt8 := [21, 4, 162, 0, 121, 42, 180, 0, 108, 42, 182, 1, 235, 182, 1, 12, 21, 7, 42, 182, 1, 122, 2]
abbrev dktX0_drawn_4 : List UInt8 := dkwX0_drawn_4 ++ dktX0_drawn_5
def dkwX0_drawn_3 : List UInt8 := [16, 10, 162, 0, 17, 42, 180, 0, 148, 21, 8, 3, 79, 132, 8, 1, 167, 255, 238, 3, 54, 8, 21, 8]
abbrev dktX0_drawn_3 : List UInt8 := dkwX0_drawn_3 ++ dktX0_drawn_4
def dkwX0_drawn_2 : List UInt8 := [184, 0, 176, 154, 0, 5, 2, 172, 42, 29, 181, 1, 228, 3, 54, 6, 3, 54, 7, 3, 54, 8, 21, 8]
abbrev dktX0_drawn_2 : List UInt8 := dkwX0_drawn_2 ++ dktX0_drawn_3
def dkwX0_drawn_1 : List UInt8 := [184, 0, 176, 154, 0, 29, 21, 5, 16, 10, 16, 14, 184, 0, 176, 154, 0, 17, 21, 5, 16, 20, 16, 24]
abbrev dktX0_drawn_1 : List UInt8 := dkwX0_drawn_1 ++ dktX0_drawn_2
def dkwX0_drawn_0 : List UInt8 := [21, 4, 3, 16, 40, 184, 0, 176, 153, 0, 46, 42, 27, 28, 182, 1, 67, 153, 0, 37, 21, 5, 3, 4]
abbrev dktX0_drawn_0 : List UInt8 := dkwX0_drawn_0 ++ dktX0_drawn_1
theorem dksX0_drawn_0 : cX0_drawn.data.toList.drop 0 = dktX0_drawn_0 := by decide +kernel
theorem dksX0_drawn_1 : cX0_drawn.data.toList.drop 24 = dktX0_drawn_1 := dk_seg dksX0_drawn_0 24 rfl rfl
theorem dksX0_drawn_2 : cX0_drawn.data.toList.drop 48 = dktX0_drawn_2 := dk_seg dksX0_drawn_1 24 rfl rfl
theorem dksX0_drawn_3 : cX0_drawn.data.toList.drop 72 = dktX0_drawn_3 := dk_seg dksX0_drawn_2 24 rfl rfl
theorem dksX0_drawn_4 : cX0_drawn.data.toList.drop 96 = dktX0_drawn_4 := dk_seg dksX0_drawn_3 24 rfl rfl
theorem dksX0_drawn_5 : cX0_drawn.data.toList.drop 119 = dktX0_drawn_5 := dk_seg dksX0_drawn_4 23 rfl rfl
theorem dksX0_drawn_6 : cX0_drawn.data.toList.drop 143 = dktX0_drawn_6 := dk_seg dksX0_drawn_5 24 rfl rfl
theorem dksX0_drawn_7 : cX0_drawn.data.toList.drop 167 = dktX0_drawn_7 := dk_seg dksX0_drawn_6 24 rfl rfl
theorem dksX0_drawn_8 : cX0_drawn.data.toList.drop 189 = dktX0_drawn_8 := dk_seg dksX0_drawn_7 22 rfl rfl
theorem dksX0_drawn_9 : cX0_drawn.data.toList.drop 213 = dktX0_drawn_9 := dk_seg dksX0_drawn_8 24 rfl rfl
theorem dksX0_drawn_10 : cX0_drawn.data.toList.drop 237 = dktX0_drawn_10 := dk_seg dksX0_drawn_9 24 rfl rfl
theorem dX0_drawn_0 : decode cX0_drawn 0 = .ok (.iload 4, 2) := dk_21 4 (dk_at dksX0_drawn_0 0 rfl rfl)
theorem dX0_drawn_2 : decode cX0_drawn 2 = .ok (.iconst 0, 1) := dk_3 (dk_at dksX0_drawn_0 2 rfl rfl)
theorem dX0_drawn_3 : decode cX0_drawn 3 = .ok (.bipush 40, 2) := dk_16 40 (dk_at dksX0_drawn_0 3 rfl rfl)
theorem dX0_drawn_5 : decode cX0_drawn 5 = .ok (.invokestatic 176, 3) := dk_184 0 176 (dk_at dksX0_drawn_0 5 rfl rfl)
theorem dX0_drawn_8 : decode cX0_drawn 8 = .ok (.ifCond .eq 46, 3) := dk_153 0 46 (dk_at dksX0_drawn_0 8 rfl rfl)
theorem dX0_drawn_11 : decode cX0_drawn 11 = .ok (.aload_n 0, 1) := dk_42 (dk_at dksX0_drawn_0 11 rfl rfl)
theorem dX0_drawn_12 : decode cX0_drawn 12 = .ok (.iload_n 1, 1) := dk_27 (dk_at dksX0_drawn_0 12 rfl rfl)
theorem dX0_drawn_13 : decode cX0_drawn 13 = .ok (.iload_n 2, 1) := dk_28 (dk_at dksX0_drawn_0 13 rfl rfl)
theorem dX0_drawn_14 : decode cX0_drawn 14 = .ok (.invokevirtual 323, 3) := dk_182 1 67 (dk_at dksX0_drawn_0 14 rfl rfl)
theorem dX0_drawn_17 : decode cX0_drawn 17 = .ok (.ifCond .eq 37, 3) := dk_153 0 37 (dk_at dksX0_drawn_0 17 rfl rfl)
theorem dX0_drawn_20 : decode cX0_drawn 20 = .ok (.iload 5, 2) := dk_21 5 (dk_at dksX0_drawn_0 20 rfl rfl)
theorem dX0_drawn_22 : decode cX0_drawn 22 = .ok (.iconst 0, 1) := dk_3 (dk_at dksX0_drawn_0 22 rfl rfl)
theorem dX0_drawn_23 : decode cX0_drawn 23 = .ok (.iconst 1, 1) := dk_4 (dk_at dksX0_drawn_0 23 rfl rfl)
theorem dX0_drawn_24 : decode cX0_drawn 24 = .ok (.invokestatic 176, 3) := dk_184 0 176 (dk_at dksX0_drawn_1 0 rfl rfl)
theorem dX0_drawn_27 : decode cX0_drawn 27 = .ok (.ifCond .ne 29, 3) := dk_154 0 29 (dk_at dksX0_drawn_1 3 rfl rfl)
theorem dX0_drawn_30 : decode cX0_drawn 30 = .ok (.iload 5, 2) := dk_21 5 (dk_at dksX0_drawn_1 6 rfl rfl)
theorem dX0_drawn_32 : decode cX0_drawn 32 = .ok (.bipush 10, 2) := dk_16 10 (dk_at dksX0_drawn_1 8 rfl rfl)
theorem dX0_drawn_34 : decode cX0_drawn 34 = .ok (.bipush 14, 2) := dk_16 14 (dk_at dksX0_drawn_1 10 rfl rfl)
theorem dX0_drawn_36 : decode cX0_drawn 36 = .ok (.invokestatic 176, 3) := dk_184 0 176 (dk_at dksX0_drawn_1 12 rfl rfl)
theorem dX0_drawn_39 : decode cX0_drawn 39 = .ok (.ifCond .ne 17, 3) := dk_154 0 17 (dk_at dksX0_drawn_1 15 rfl rfl)
theorem dX0_drawn_42 : decode cX0_drawn 42 = .ok (.iload 5, 2) := dk_21 5 (dk_at dksX0_drawn_1 18 rfl rfl)
theorem dX0_drawn_44 : decode cX0_drawn 44 = .ok (.bipush 20, 2) := dk_16 20 (dk_at dksX0_drawn_1 20 rfl rfl)
theorem dX0_drawn_46 : decode cX0_drawn 46 = .ok (.bipush 24, 2) := dk_16 24 (dk_at dksX0_drawn_1 22 rfl rfl)
theorem dX0_drawn_48 : decode cX0_drawn 48 = .ok (.invokestatic 176, 3) := dk_184 0 176 (dk_at dksX0_drawn_2 0 rfl rfl)
theorem dX0_drawn_51 : decode cX0_drawn 51 = .ok (.ifCond .ne 5, 3) := dk_154 0 5 (dk_at dksX0_drawn_2 3 rfl rfl)
theorem dX0_drawn_54 : decode cX0_drawn 54 = .ok (.iconst (-1), 1) := dk_2 (dk_at dksX0_drawn_2 6 rfl rfl)
theorem dX0_drawn_55 : decode cX0_drawn 55 = .ok (.ireturn, 1) := dk_172 (dk_at dksX0_drawn_2 7 rfl rfl)
theorem dX0_drawn_56 : decode cX0_drawn 56 = .ok (.aload_n 0, 1) := dk_42 (dk_at dksX0_drawn_2 8 rfl rfl)
theorem dX0_drawn_57 : decode cX0_drawn 57 = .ok (.iload_n 3, 1) := dk_29 (dk_at dksX0_drawn_2 9 rfl rfl)
theorem dX0_drawn_58 : decode cX0_drawn 58 = .ok (.putfield 484, 3) := dk_181 1 228 (dk_at dksX0_drawn_2 10 rfl rfl)
theorem dX0_drawn_61 : decode cX0_drawn 61 = .ok (.iconst 0, 1) := dk_3 (dk_at dksX0_drawn_2 13 rfl rfl)
theorem dX0_drawn_62 : decode cX0_drawn 62 = .ok (.istore 6, 2) := dk_54 6 (dk_at dksX0_drawn_2 14 rfl rfl)
theorem dX0_drawn_64 : decode cX0_drawn 64 = .ok (.iconst 0, 1) := dk_3 (dk_at dksX0_drawn_2 16 rfl rfl)
theorem dX0_drawn_65 : decode cX0_drawn 65 = .ok (.istore 7, 2) := dk_54 7 (dk_at dksX0_drawn_2 17 rfl rfl)
theorem dX0_drawn_67 : decode cX0_drawn 67 = .ok (.iconst 0, 1) := dk_3 (dk_at dksX0_drawn_2 19 rfl rfl)
theorem dX0_drawn_68 : decode cX0_drawn 68 = .ok (.istore 8, 2) := dk_54 8 (dk_at dksX0_drawn_2 20 rfl rfl)
theorem dX0_drawn_70 : decode cX0_drawn 70 = .ok (.iload 8, 2) := dk_21 8 (dk_at dksX0_drawn_2 22 rfl rfl)
theorem dX0_drawn_72 : decode cX0_drawn 72 = .ok (.bipush 10, 2) := dk_16 10 (dk_at dksX0_drawn_3 0 rfl rfl)
theorem dX0_drawn_74 : decode cX0_drawn 74 = .ok (.if_icmp .ge 17, 3) := dk_162 0 17 (dk_at dksX0_drawn_3 2 rfl rfl)
theorem dX0_drawn_77 : decode cX0_drawn 77 = .ok (.aload_n 0, 1) := dk_42 (dk_at dksX0_drawn_3 5 rfl rfl)
theorem dX0_drawn_78 : decode cX0_drawn 78 = .ok (.getfield 148, 3) := dk_180 0 148 (dk_at dksX0_drawn_3 6 rfl rfl)
theorem dX0_drawn_81 : decode cX0_drawn 81 = .ok (.iload 8, 2) := dk_21 8 (dk_at dksX0_drawn_3 9 rfl rfl)
theorem dX0_drawn_83 : decode cX0_drawn 83 = .ok (.iconst 0, 1) := dk_3 (dk_at dksX0_drawn_3 11 rfl rfl)
theorem dX0_drawn_84 : decode cX0_drawn 84 = .ok (.iastore, 1) := dk_79 (dk_at dksX0_drawn_3 12 rfl rfl)
theorem dX0_drawn_85 : decode cX0_drawn 85 = .ok (.iinc 8 1, 3) := dk_132 8 1 (dk_at dksX0_drawn_3 13 rfl rfl)
theorem dX0_drawn_88 : decode cX0_drawn 88 = .ok (.goto (-18), 3) := dk_167 255 238 (dk_at dksX0_drawn_3 16 rfl rfl)
theorem dX0_drawn_91 : decode cX0_drawn 91 = .ok (.iconst 0, 1) := dk_3 (dk_at dksX0_drawn_3 19 rfl rfl)
theorem dX0_drawn_92 : decode cX0_drawn 92 = .ok (.istore 8, 2) := dk_54 8 (dk_at dksX0_drawn_3 20 rfl rfl)
theorem dX0_drawn_94 : decode cX0_drawn 94 = .ok (.iload 8, 2) := dk_21 8 (dk_at dksX0_drawn_3 22 rfl rfl)
theorem dX0_drawn_96 : decode cX0_drawn 96 = .ok (.iload 4, 2) := dk_21 4 (dk_at dksX0_drawn_4 0 rfl rfl)
theorem dX0_drawn_98 : decode cX0_drawn 98 = .ok (.if_icmp .ge 121, 3) := dk_162 0 121 (dk_at dksX0_drawn_4 2 rfl rfl)
theorem dX0_drawn_101 : decode cX0_drawn 101 = .ok (.aload_n 0, 1) := dk_42 (dk_at dksX0_drawn_4 5 rfl rfl)
theorem dX0_drawn_102 : decode cX0_drawn 102 = .ok (.getfield 108, 3) := dk_180 0 108 (dk_at dksX0_drawn_4 6 rfl rfl)
theorem dX0_drawn_105 : decode cX0_drawn 105 = .ok (.aload_n 0, 1) := dk_42 (dk_at dksX0_drawn_4 9 rfl rfl)
theorem dX0_drawn_106 : decode cX0_drawn 106 = .ok (.invokevirtual 491, 3) := dk_182 1 235 (dk_at dksX0_drawn_4 10 rfl rfl)
theorem dX0_drawn_109 : decode cX0_drawn 109 = .ok (.invokevirtual 268, 3) := dk_182 1 12 (dk_at dksX0_drawn_4 13 rfl rfl)
theorem dX0_drawn_112 : decode cX0_drawn 112 = .ok (.iload 7, 2) := dk_21 7 (dk_at dksX0_drawn_4 16 rfl rfl)
theorem dX0_drawn_114 : decode cX0_drawn 114 = .ok (.aload_n 0, 1) := dk_42 (dk_at dksX0_drawn_4 18 rfl rfl)
theorem dX0_drawn_115 : decode cX0_drawn 115 = .ok (.invokevirtual 378, 3) := dk_182 1 122 (dk_at dksX0_drawn_4 19 rfl rfl)
theorem dX0_drawn_118 : decode cX0_drawn 118 = .ok (.iconst (-1), 1) := dk_2 (dk_at dksX0_drawn_4 22 rfl rfl)
theorem dX0_drawn_119 : decode cX0_drawn 119 = .ok (.if_icmp .eq 7, 3) := dk_159 0 7 (dk_at dksX0_drawn_5 0 rfl rfl)
theorem dX0_drawn_122 : decode cX0_drawn 122 = .ok (.iconst 1, 1) := dk_4 (dk_at dksX0_drawn_5 3 rfl rfl)
theorem dX0_drawn_123 : decode cX0_drawn 123 = .ok (.goto 4, 3) := dk_167 0 4 (dk_at dksX0_drawn_5 4 rfl rfl)
theorem dX0_drawn_126 : decode cX0_drawn 126 = .ok (.iconst 0, 1) := dk_3 (dk_at dksX0_drawn_5 7 rfl rfl)
theorem dX0_drawn_127 : decode cX0_drawn 127 = .ok (.iadd, 1) := dk_96 (dk_at dksX0_drawn_5 8 rfl rfl)
theorem dX0_drawn_128 : decode cX0_drawn 128 = .ok (.istore 7, 2) := dk_54 7 (dk_at dksX0_drawn_5 9 rfl rfl)
theorem dX0_drawn_130 : decode cX0_drawn 130 = .ok (.iload 6, 2) := dk_21 6 (dk_at dksX0_drawn_5 11 rfl rfl)
theorem dX0_drawn_132 : decode cX0_drawn 132 = .ok (.aload_n 0, 1) := dk_42 (dk_at dksX0_drawn_5 13 rfl rfl)
theorem dX0_drawn_133 : decode cX0_drawn 133 = .ok (.invokevirtual 494, 3) := dk_182 1 238 (dk_at dksX0_drawn_5 14 rfl rfl)
theorem dX0_drawn_136 : decode cX0_drawn 136 = .ok (.ifCond .eq 7, 3) := dk_153 0 7 (dk_at dksX0_drawn_5 17 rfl rfl)
theorem dX0_drawn_139 : decode cX0_drawn 139 = .ok (.iconst 1, 1) := dk_4 (dk_at dksX0_drawn_5 20 rfl rfl)
theorem dX0_drawn_140 : decode cX0_drawn 140 = .ok (.goto 4, 3) := dk_167 0 4 (dk_at dksX0_drawn_5 21 rfl rfl)
theorem dX0_drawn_143 : decode cX0_drawn 143 = .ok (.iconst 0, 1) := dk_3 (dk_at dksX0_drawn_6 0 rfl rfl)
theorem dX0_drawn_144 : decode cX0_drawn 144 = .ok (.iadd, 1) := dk_96 (dk_at dksX0_drawn_6 1 rfl rfl)
theorem dX0_drawn_145 : decode cX0_drawn 145 = .ok (.istore 6, 2) := dk_54 6 (dk_at dksX0_drawn_6 2 rfl rfl)
theorem dX0_drawn_147 : decode cX0_drawn 147 = .ok (.iconst 0, 1) := dk_3 (dk_at dksX0_drawn_6 4 rfl rfl)
theorem dX0_drawn_148 : decode cX0_drawn 148 = .ok (.istore 9, 2) := dk_54 9 (dk_at dksX0_drawn_6 5 rfl rfl)
theorem dX0_drawn_150 : decode cX0_drawn 150 = .ok (.iload 9, 2) := dk_21 9 (dk_at dksX0_drawn_6 7 rfl rfl)
theorem dX0_drawn_152 : decode cX0_drawn 152 = .ok (.iconst 2, 1) := dk_5 (dk_at dksX0_drawn_6 9 rfl rfl)
theorem dX0_drawn_153 : decode cX0_drawn 153 = .ok (.if_icmp .ge 60, 3) := dk_162 0 60 (dk_at dksX0_drawn_6 10 rfl rfl)
theorem dX0_drawn_156 : decode cX0_drawn 156 = .ok (.iconst 0, 1) := dk_3 (dk_at dksX0_drawn_6 13 rfl rfl)
theorem dX0_drawn_157 : decode cX0_drawn 157 = .ok (.istore 10, 2) := dk_54 10 (dk_at dksX0_drawn_6 14 rfl rfl)
theorem dX0_drawn_159 : decode cX0_drawn 159 = .ok (.iload 10, 2) := dk_21 10 (dk_at dksX0_drawn_6 16 rfl rfl)
theorem dX0_drawn_161 : decode cX0_drawn 161 = .ok (.aload_n 0, 1) := dk_42 (dk_at dksX0_drawn_6 18 rfl rfl)
theorem dX0_drawn_162 : decode cX0_drawn 162 = .ok (.getfield 115, 3) := dk_180 0 115 (dk_at dksX0_drawn_6 19 rfl rfl)
theorem dX0_drawn_165 : decode cX0_drawn 165 = .ok (.iload 9, 2) := dk_21 9 (dk_at dksX0_drawn_6 22 rfl rfl)
theorem dX0_drawn_167 : decode cX0_drawn 167 = .ok (.aaload, 1) := dk_50 (dk_at dksX0_drawn_7 0 rfl rfl)
theorem dX0_drawn_168 : decode cX0_drawn 168 = .ok (.getfield 348, 3) := dk_180 1 92 (dk_at dksX0_drawn_7 1 rfl rfl)
theorem dX0_drawn_171 : decode cX0_drawn 171 = .ok (.if_icmp .ge 36, 3) := dk_162 0 36 (dk_at dksX0_drawn_7 4 rfl rfl)
theorem dX0_drawn_174 : decode cX0_drawn 174 = .ok (.aload_n 0, 1) := dk_42 (dk_at dksX0_drawn_7 7 rfl rfl)
theorem dX0_drawn_175 : decode cX0_drawn 175 = .ok (.getfield 148, 3) := dk_180 0 148 (dk_at dksX0_drawn_7 8 rfl rfl)
theorem dX0_drawn_178 : decode cX0_drawn 178 = .ok (.iconst 5, 1) := dk_8 (dk_at dksX0_drawn_7 11 rfl rfl)
theorem dX0_drawn_179 : decode cX0_drawn 179 = .ok (.iload 9, 2) := dk_21 9 (dk_at dksX0_drawn_7 12 rfl rfl)
theorem dX0_drawn_181 : decode cX0_drawn 181 = .ok (.imul, 1) := dk_104 (dk_at dksX0_drawn_7 14 rfl rfl)
theorem dX0_drawn_182 : decode cX0_drawn 182 = .ok (.aload_n 0, 1) := dk_42 (dk_at dksX0_drawn_7 15 rfl rfl)
theorem dX0_drawn_183 : decode cX0_drawn 183 = .ok (.getfield 115, 3) := dk_180 0 115 (dk_at dksX0_drawn_7 16 rfl rfl)
theorem dX0_drawn_186 : decode cX0_drawn 186 = .ok (.iload 9, 2) := dk_21 9 (dk_at dksX0_drawn_7 19 rfl rfl)
theorem dX0_drawn_188 : decode cX0_drawn 188 = .ok (.aaload, 1) := dk_50 (dk_at dksX0_drawn_7 21 rfl rfl)
theorem dX0_drawn_189 : decode cX0_drawn 189 = .ok (.getfield 355, 3) := dk_180 1 99 (dk_at dksX0_drawn_8 0 rfl rfl)
theorem dX0_drawn_192 : decode cX0_drawn 192 = .ok (.iload 10, 2) := dk_21 10 (dk_at dksX0_drawn_8 3 rfl rfl)
theorem dX0_drawn_194 : decode cX0_drawn 194 = .ok (.iaload, 1) := dk_46 (dk_at dksX0_drawn_8 5 rfl rfl)
theorem dX0_drawn_195 : decode cX0_drawn 195 = .ok (.iadd, 1) := dk_96 (dk_at dksX0_drawn_8 6 rfl rfl)
theorem dX0_drawn_196 : decode cX0_drawn 196 = .ok (.dup2, 1) := dk_92 (dk_at dksX0_drawn_8 7 rfl rfl)
theorem dX0_drawn_197 : decode cX0_drawn 197 = .ok (.iaload, 1) := dk_46 (dk_at dksX0_drawn_8 8 rfl rfl)
theorem dX0_drawn_198 : decode cX0_drawn 198 = .ok (.iconst 1, 1) := dk_4 (dk_at dksX0_drawn_8 9 rfl rfl)
theorem dX0_drawn_199 : decode cX0_drawn 199 = .ok (.iadd, 1) := dk_96 (dk_at dksX0_drawn_8 10 rfl rfl)
theorem dX0_drawn_200 : decode cX0_drawn 200 = .ok (.iastore, 1) := dk_79 (dk_at dksX0_drawn_8 11 rfl rfl)
theorem dX0_drawn_201 : decode cX0_drawn 201 = .ok (.iinc 10 1, 3) := dk_132 10 1 (dk_at dksX0_drawn_8 12 rfl rfl)
theorem dX0_drawn_204 : decode cX0_drawn 204 = .ok (.goto (-45), 3) := dk_167 255 211 (dk_at dksX0_drawn_8 15 rfl rfl)
theorem dX0_drawn_207 : decode cX0_drawn 207 = .ok (.iinc 9 1, 3) := dk_132 9 1 (dk_at dksX0_drawn_8 18 rfl rfl)
theorem dX0_drawn_210 : decode cX0_drawn 210 = .ok (.goto (-60), 3) := dk_167 255 196 (dk_at dksX0_drawn_8 21 rfl rfl)
theorem dX0_drawn_213 : decode cX0_drawn 213 = .ok (.iinc 8 1, 3) := dk_132 8 1 (dk_at dksX0_drawn_9 0 rfl rfl)
theorem dX0_drawn_216 : decode cX0_drawn 216 = .ok (.goto (-122), 3) := dk_167 255 134 (dk_at dksX0_drawn_9 3 rfl rfl)
theorem dX0_drawn_219 : decode cX0_drawn 219 = .ok (.iload 5, 2) := dk_21 5 (dk_at dksX0_drawn_9 6 rfl rfl)
theorem dX0_drawn_221 : decode cX0_drawn 221 = .ok (.ifCond .ne 8, 3) := dk_154 0 8 (dk_at dksX0_drawn_9 8 rfl rfl)
theorem dX0_drawn_224 : decode cX0_drawn 224 = .ok (.iload 6, 2) := dk_21 6 (dk_at dksX0_drawn_9 11 rfl rfl)
theorem dX0_drawn_226 : decode cX0_drawn 226 = .ok (.goto 34, 3) := dk_167 0 34 (dk_at dksX0_drawn_9 13 rfl rfl)
theorem dX0_drawn_229 : decode cX0_drawn 229 = .ok (.iload 5, 2) := dk_21 5 (dk_at dksX0_drawn_9 16 rfl rfl)
theorem dX0_drawn_231 : decode cX0_drawn 231 = .ok (.iconst 1, 1) := dk_4 (dk_at dksX0_drawn_9 18 rfl rfl)
theorem dX0_drawn_232 : decode cX0_drawn 232 = .ok (.if_icmp .ne 8, 3) := dk_160 0 8 (dk_at dksX0_drawn_9 19 rfl rfl)
theorem dX0_drawn_235 : decode cX0_drawn 235 = .ok (.iload 7, 2) := dk_21 7 (dk_at dksX0_drawn_9 22 rfl rfl)
theorem dX0_drawn_237 : decode cX0_drawn 237 = .ok (.goto 23, 3) := dk_167 0 23 (dk_at dksX0_drawn_10 0 rfl rfl)
theorem dX0_drawn_240 : decode cX0_drawn 240 = .ok (.aload_n 0, 1) := dk_42 (dk_at dksX0_drawn_10 3 rfl rfl)
theorem dX0_drawn_241 : decode cX0_drawn 241 = .ok (.getfield 148, 3) := dk_180 0 148 (dk_at dksX0_drawn_10 4 rfl rfl)
theorem dX0_drawn_244 : decode cX0_drawn 244 = .ok (.iconst 5, 1) := dk_8 (dk_at dksX0_drawn_10 7 rfl rfl)
theorem dX0_drawn_245 : decode cX0_drawn 245 = .ok (.iload 5, 2) := dk_21 5 (dk_at dksX0_drawn_10 8 rfl rfl)
theorem dX0_drawn_247 : decode cX0_drawn 247 = .ok (.bipush 10, 2) := dk_16 10 (dk_at dksX0_drawn_10 10 rfl rfl)
theorem dX0_drawn_249 : decode cX0_drawn 249 = .ok (.idiv, 1) := dk_108 (dk_at dksX0_drawn_10 12 rfl rfl)
theorem dX0_drawn_250 : decode cX0_drawn 250 = .ok (.iconst 1, 1) := dk_4 (dk_at dksX0_drawn_10 13 rfl rfl)
theorem dX0_drawn_251 : decode cX0_drawn 251 = .ok (.isub, 1) := dk_100 (dk_at dksX0_drawn_10 14 rfl rfl)
theorem dX0_drawn_252 : decode cX0_drawn 252 = .ok (.imul, 1) := dk_104 (dk_at dksX0_drawn_10 15 rfl rfl)
theorem dX0_drawn_253 : decode cX0_drawn 253 = .ok (.iload 5, 2) := dk_21 5 (dk_at dksX0_drawn_10 16 rfl rfl)
theorem dX0_drawn_255 : decode cX0_drawn 255 = .ok (.bipush 10, 2) := dk_16 10 (dk_at dksX0_drawn_10 18 rfl rfl)
theorem dX0_drawn_257 : decode cX0_drawn 257 = .ok (.irem, 1) := dk_112 (dk_at dksX0_drawn_10 20 rfl rfl)
theorem dX0_drawn_258 : decode cX0_drawn 258 = .ok (.iadd, 1) := dk_96 (dk_at dksX0_drawn_10 21 rfl rfl)
theorem dX0_drawn_259 : decode cX0_drawn 259 = .ok (.iaload, 1) := dk_46 (dk_at dksX0_drawn_10 22 rfl rfl)
theorem dX0_drawn_260 : decode cX0_drawn 260 = .ok (.ireturn, 1) := dk_172 (dk_at dksX0_drawn_10 23 rfl rfl)
abbrev cX0_wind : ByteArray := prog_1_method_53_code
def yX0_wind : MethodName := ⟨RX0, "wind", "()I"⟩
def dkwX0_wind_1 : List UInt8 := [154, 0, 9, 4, 28, 120, 167, 0, 4, 3, 128, 60, 132, 2, 1, 167, 255, 223, 27, 172]
abbrev dktX0_wind_1 : List UInt8 := dkwX0_wind_1 ++ []
def dkwX0_wind_0 : List UInt8 := [3, 60, 3, 61, 28, 42, 180, 0, 108, 180, 1, 70, 162, 0, 28, 27, 42, 16, 8, 182, 1, 232]
abbrev dktX0_wind_0 : List UInt8 := dkwX0_wind_0 ++ dktX0_wind_1
theorem dksX0_wind_0 : cX0_wind.data.toList.drop 0 = dktX0_wind_0 := by decide +kernel
theorem dksX0_wind_1 : cX0_wind.data.toList.drop 22 = dktX0_wind_1 := dk_seg dksX0_wind_0 22 rfl rfl
theorem dX0_wind_0 : decode cX0_wind 0 = .ok (.iconst 0, 1) := dk_3 (dk_at dksX0_wind_0 0 rfl rfl)
theorem dX0_wind_1 : decode cX0_wind 1 = .ok (.istore_n 1, 1) := dk_60 (dk_at dksX0_wind_0 1 rfl rfl)
theorem dX0_wind_2 : decode cX0_wind 2 = .ok (.iconst 0, 1) := dk_3 (dk_at dksX0_wind_0 2 rfl rfl)
theorem dX0_wind_3 : decode cX0_wind 3 = .ok (.istore_n 2, 1) := dk_61 (dk_at dksX0_wind_0 3 rfl rfl)
theorem dX0_wind_4 : decode cX0_wind 4 = .ok (.iload_n 2, 1) := dk_28 (dk_at dksX0_wind_0 4 rfl rfl)
theorem dX0_wind_5 : decode cX0_wind 5 = .ok (.aload_n 0, 1) := dk_42 (dk_at dksX0_wind_0 5 rfl rfl)
theorem dX0_wind_6 : decode cX0_wind 6 = .ok (.getfield 108, 3) := dk_180 0 108 (dk_at dksX0_wind_0 6 rfl rfl)
theorem dX0_wind_9 : decode cX0_wind 9 = .ok (.getfield 326, 3) := dk_180 1 70 (dk_at dksX0_wind_0 9 rfl rfl)
theorem dX0_wind_12 : decode cX0_wind 12 = .ok (.if_icmp .ge 28, 3) := dk_162 0 28 (dk_at dksX0_wind_0 12 rfl rfl)
theorem dX0_wind_15 : decode cX0_wind 15 = .ok (.iload_n 1, 1) := dk_27 (dk_at dksX0_wind_0 15 rfl rfl)
theorem dX0_wind_16 : decode cX0_wind 16 = .ok (.aload_n 0, 1) := dk_42 (dk_at dksX0_wind_0 16 rfl rfl)
theorem dX0_wind_17 : decode cX0_wind 17 = .ok (.bipush 8, 2) := dk_16 8 (dk_at dksX0_wind_0 17 rfl rfl)
theorem dX0_wind_19 : decode cX0_wind 19 = .ok (.invokevirtual 488, 3) := dk_182 1 232 (dk_at dksX0_wind_0 19 rfl rfl)
theorem dX0_wind_22 : decode cX0_wind 22 = .ok (.ifCond .ne 9, 3) := dk_154 0 9 (dk_at dksX0_wind_1 0 rfl rfl)
theorem dX0_wind_25 : decode cX0_wind 25 = .ok (.iconst 1, 1) := dk_4 (dk_at dksX0_wind_1 3 rfl rfl)
theorem dX0_wind_26 : decode cX0_wind 26 = .ok (.iload_n 2, 1) := dk_28 (dk_at dksX0_wind_1 4 rfl rfl)
theorem dX0_wind_27 : decode cX0_wind 27 = .ok (.ishl, 1) := dk_120 (dk_at dksX0_wind_1 5 rfl rfl)
theorem dX0_wind_28 : decode cX0_wind 28 = .ok (.goto 4, 3) := dk_167 0 4 (dk_at dksX0_wind_1 6 rfl rfl)
theorem dX0_wind_31 : decode cX0_wind 31 = .ok (.iconst 0, 1) := dk_3 (dk_at dksX0_wind_1 9 rfl rfl)
theorem dX0_wind_32 : decode cX0_wind 32 = .ok (.ior, 1) := dk_128 (dk_at dksX0_wind_1 10 rfl rfl)
theorem dX0_wind_33 : decode cX0_wind 33 = .ok (.istore_n 1, 1) := dk_60 (dk_at dksX0_wind_1 11 rfl rfl)
theorem dX0_wind_34 : decode cX0_wind 34 = .ok (.iinc 2 1, 3) := dk_132 2 1 (dk_at dksX0_wind_1 12 rfl rfl)
theorem dX0_wind_37 : decode cX0_wind 37 = .ok (.goto (-33), 3) := dk_167 255 223 (dk_at dksX0_wind_1 15 rfl rfl)
theorem dX0_wind_40 : decode cX0_wind 40 = .ok (.iload_n 1, 1) := dk_27 (dk_at dksX0_wind_1 18 rfl rfl)
theorem dX0_wind_41 : decode cX0_wind 41 = .ok (.ireturn, 1) := dk_172 (dk_at dksX0_wind_1 19 rfl rfl)
abbrev cX0_draw : ByteArray := prog_1_method_52_code
def yX0_draw : MethodName := ⟨RX0, "draw", "(I)I"⟩
def dkwX0_draw_1 : List UInt8 := [112, 172]
abbrev dktX0_draw_1 : List UInt8 := dkwX0_draw_1 ++ []
def dkwX0_draw_0 : List UInt8 := [42, 42, 180, 1, 228, 19, 1, 231, 104, 17, 48, 57, 96, 181, 1, 228, 42, 180, 1, 228, 16, 16, 124, 27]
abbrev dktX0_draw_0 : List UInt8 := dkwX0_draw_0 ++ dktX0_draw_1
theorem dksX0_draw_0 : cX0_draw.data.toList.drop 0 = dktX0_draw_0 := by decide +kernel
theorem dksX0_draw_1 : cX0_draw.data.toList.drop 24 = dktX0_draw_1 := dk_seg dksX0_draw_0 24 rfl rfl
theorem dX0_draw_0 : decode cX0_draw 0 = .ok (.aload_n 0, 1) := dk_42 (dk_at dksX0_draw_0 0 rfl rfl)
theorem dX0_draw_1 : decode cX0_draw 1 = .ok (.aload_n 0, 1) := dk_42 (dk_at dksX0_draw_0 1 rfl rfl)
theorem dX0_draw_2 : decode cX0_draw 2 = .ok (.getfield 484, 3) := dk_180 1 228 (dk_at dksX0_draw_0 2 rfl rfl)
theorem dX0_draw_5 : decode cX0_draw 5 = .ok (.ldc_w 487, 3) := dk_19 1 231 (dk_at dksX0_draw_0 5 rfl rfl)
theorem dX0_draw_8 : decode cX0_draw 8 = .ok (.imul, 1) := dk_104 (dk_at dksX0_draw_0 8 rfl rfl)
theorem dX0_draw_9 : decode cX0_draw 9 = .ok (.sipush 12345, 3) := dk_17 48 57 (dk_at dksX0_draw_0 9 rfl rfl)
theorem dX0_draw_12 : decode cX0_draw 12 = .ok (.iadd, 1) := dk_96 (dk_at dksX0_draw_0 12 rfl rfl)
theorem dX0_draw_13 : decode cX0_draw 13 = .ok (.putfield 484, 3) := dk_181 1 228 (dk_at dksX0_draw_0 13 rfl rfl)
theorem dX0_draw_16 : decode cX0_draw 16 = .ok (.aload_n 0, 1) := dk_42 (dk_at dksX0_draw_0 16 rfl rfl)
theorem dX0_draw_17 : decode cX0_draw 17 = .ok (.getfield 484, 3) := dk_180 1 228 (dk_at dksX0_draw_0 17 rfl rfl)
theorem dX0_draw_20 : decode cX0_draw 20 = .ok (.bipush 16, 2) := dk_16 16 (dk_at dksX0_draw_0 20 rfl rfl)
theorem dX0_draw_22 : decode cX0_draw 22 = .ok (.iushr, 1) := dk_124 (dk_at dksX0_draw_0 22 rfl rfl)
theorem dX0_draw_23 : decode cX0_draw 23 = .ok (.iload_n 1, 1) := dk_27 (dk_at dksX0_draw_0 23 rfl rfl)
theorem dX0_draw_24 : decode cX0_draw 24 = .ok (.irem, 1) := dk_112 (dk_at dksX0_draw_1 0 rfl rfl)
theorem dX0_draw_25 : decode cX0_draw 25 = .ok (.ireturn, 1) := dk_172 (dk_at dksX0_draw_1 1 rfl rfl)
abbrev cX0_areLike : ByteArray := prog_1_method_54_code
def yX0_areLike : MethodName := ⟨RX0, "areLike", "()Z"⟩
def dkwX0_areLike_3 : List UInt8 := [180, 1, 92, 42, 180, 0, 115, 4, 50, 180, 1, 92, 160, 0, 7, 4, 167, 0, 4, 3, 172]
abbrev dktX0_areLike_3 : List UInt8 := dkwX0_areLike_3 ++ []
def dkwX0_areLike_2 : List UInt8 := [180, 1, 99, 27, 46, 159, 0, 5, 3, 172, 132, 1, 1, 167, 255, 200, 42, 180, 0, 115, 3, 50]
abbrev dktX0_areLike_2 : List UInt8 := dkwX0_areLike_2 ++ dktX0_areLike_3
def dkwX0_areLike_1 : List UInt8 := [180, 1, 92, 162, 0, 28, 42, 180, 0, 115, 3, 50, 180, 1, 99, 27, 46, 42, 180, 0, 115, 4, 50]
abbrev dktX0_areLike_1 : List UInt8 := dkwX0_areLike_1 ++ dktX0_areLike_2
def dkwX0_areLike_0 : List UInt8 := [3, 60, 27, 42, 180, 0, 115, 3, 50, 180, 1, 92, 162, 0, 49, 27, 42, 180, 0, 115, 4, 50]
abbrev dktX0_areLike_0 : List UInt8 := dkwX0_areLike_0 ++ dktX0_areLike_1
theorem dksX0_areLike_0 : cX0_areLike.data.toList.drop 0 = dktX0_areLike_0 := by decide +kernel
theorem dksX0_areLike_1 : cX0_areLike.data.toList.drop 22 = dktX0_areLike_1 := dk_seg dksX0_areLike_0 22 rfl rfl
theorem dksX0_areLike_2 : cX0_areLike.data.toList.drop 45 = dktX0_areLike_2 := dk_seg dksX0_areLike_1 23 rfl rfl
theorem dksX0_areLike_3 : cX0_areLike.data.toList.drop 67 = dktX0_areLike_3 := dk_seg dksX0_areLike_2 22 rfl rfl
theorem dX0_areLike_0 : decode cX0_areLike 0 = .ok (.iconst 0, 1) := dk_3 (dk_at dksX0_areLike_0 0 rfl rfl)
theorem dX0_areLike_1 : decode cX0_areLike 1 = .ok (.istore_n 1, 1) := dk_60 (dk_at dksX0_areLike_0 1 rfl rfl)
theorem dX0_areLike_2 : decode cX0_areLike 2 = .ok (.iload_n 1, 1) := dk_27 (dk_at dksX0_areLike_0 2 rfl rfl)
theorem dX0_areLike_3 : decode cX0_areLike 3 = .ok (.aload_n 0, 1) := dk_42 (dk_at dksX0_areLike_0 3 rfl rfl)
theorem dX0_areLike_4 : decode cX0_areLike 4 = .ok (.getfield 115, 3) := dk_180 0 115 (dk_at dksX0_areLike_0 4 rfl rfl)
theorem dX0_areLike_7 : decode cX0_areLike 7 = .ok (.iconst 0, 1) := dk_3 (dk_at dksX0_areLike_0 7 rfl rfl)
theorem dX0_areLike_8 : decode cX0_areLike 8 = .ok (.aaload, 1) := dk_50 (dk_at dksX0_areLike_0 8 rfl rfl)
theorem dX0_areLike_9 : decode cX0_areLike 9 = .ok (.getfield 348, 3) := dk_180 1 92 (dk_at dksX0_areLike_0 9 rfl rfl)
theorem dX0_areLike_12 : decode cX0_areLike 12 = .ok (.if_icmp .ge 49, 3) := dk_162 0 49 (dk_at dksX0_areLike_0 12 rfl rfl)
theorem dX0_areLike_15 : decode cX0_areLike 15 = .ok (.iload_n 1, 1) := dk_27 (dk_at dksX0_areLike_0 15 rfl rfl)
theorem dX0_areLike_16 : decode cX0_areLike 16 = .ok (.aload_n 0, 1) := dk_42 (dk_at dksX0_areLike_0 16 rfl rfl)
theorem dX0_areLike_17 : decode cX0_areLike 17 = .ok (.getfield 115, 3) := dk_180 0 115 (dk_at dksX0_areLike_0 17 rfl rfl)
theorem dX0_areLike_20 : decode cX0_areLike 20 = .ok (.iconst 1, 1) := dk_4 (dk_at dksX0_areLike_0 20 rfl rfl)
theorem dX0_areLike_21 : decode cX0_areLike 21 = .ok (.aaload, 1) := dk_50 (dk_at dksX0_areLike_0 21 rfl rfl)
theorem dX0_areLike_22 : decode cX0_areLike 22 = .ok (.getfield 348, 3) := dk_180 1 92 (dk_at dksX0_areLike_1 0 rfl rfl)
theorem dX0_areLike_25 : decode cX0_areLike 25 = .ok (.if_icmp .ge 28, 3) := dk_162 0 28 (dk_at dksX0_areLike_1 3 rfl rfl)
theorem dX0_areLike_28 : decode cX0_areLike 28 = .ok (.aload_n 0, 1) := dk_42 (dk_at dksX0_areLike_1 6 rfl rfl)
theorem dX0_areLike_29 : decode cX0_areLike 29 = .ok (.getfield 115, 3) := dk_180 0 115 (dk_at dksX0_areLike_1 7 rfl rfl)
theorem dX0_areLike_32 : decode cX0_areLike 32 = .ok (.iconst 0, 1) := dk_3 (dk_at dksX0_areLike_1 10 rfl rfl)
theorem dX0_areLike_33 : decode cX0_areLike 33 = .ok (.aaload, 1) := dk_50 (dk_at dksX0_areLike_1 11 rfl rfl)
theorem dX0_areLike_34 : decode cX0_areLike 34 = .ok (.getfield 355, 3) := dk_180 1 99 (dk_at dksX0_areLike_1 12 rfl rfl)
theorem dX0_areLike_37 : decode cX0_areLike 37 = .ok (.iload_n 1, 1) := dk_27 (dk_at dksX0_areLike_1 15 rfl rfl)
theorem dX0_areLike_38 : decode cX0_areLike 38 = .ok (.iaload, 1) := dk_46 (dk_at dksX0_areLike_1 16 rfl rfl)
theorem dX0_areLike_39 : decode cX0_areLike 39 = .ok (.aload_n 0, 1) := dk_42 (dk_at dksX0_areLike_1 17 rfl rfl)
theorem dX0_areLike_40 : decode cX0_areLike 40 = .ok (.getfield 115, 3) := dk_180 0 115 (dk_at dksX0_areLike_1 18 rfl rfl)
theorem dX0_areLike_43 : decode cX0_areLike 43 = .ok (.iconst 1, 1) := dk_4 (dk_at dksX0_areLike_1 21 rfl rfl)
theorem dX0_areLike_44 : decode cX0_areLike 44 = .ok (.aaload, 1) := dk_50 (dk_at dksX0_areLike_1 22 rfl rfl)
theorem dX0_areLike_45 : decode cX0_areLike 45 = .ok (.getfield 355, 3) := dk_180 1 99 (dk_at dksX0_areLike_2 0 rfl rfl)
theorem dX0_areLike_48 : decode cX0_areLike 48 = .ok (.iload_n 1, 1) := dk_27 (dk_at dksX0_areLike_2 3 rfl rfl)
theorem dX0_areLike_49 : decode cX0_areLike 49 = .ok (.iaload, 1) := dk_46 (dk_at dksX0_areLike_2 4 rfl rfl)
theorem dX0_areLike_50 : decode cX0_areLike 50 = .ok (.if_icmp .eq 5, 3) := dk_159 0 5 (dk_at dksX0_areLike_2 5 rfl rfl)
theorem dX0_areLike_53 : decode cX0_areLike 53 = .ok (.iconst 0, 1) := dk_3 (dk_at dksX0_areLike_2 8 rfl rfl)
theorem dX0_areLike_54 : decode cX0_areLike 54 = .ok (.ireturn, 1) := dk_172 (dk_at dksX0_areLike_2 9 rfl rfl)
theorem dX0_areLike_55 : decode cX0_areLike 55 = .ok (.iinc 1 1, 3) := dk_132 1 1 (dk_at dksX0_areLike_2 10 rfl rfl)
theorem dX0_areLike_58 : decode cX0_areLike 58 = .ok (.goto (-56), 3) := dk_167 255 200 (dk_at dksX0_areLike_2 13 rfl rfl)
theorem dX0_areLike_61 : decode cX0_areLike 61 = .ok (.aload_n 0, 1) := dk_42 (dk_at dksX0_areLike_2 16 rfl rfl)
theorem dX0_areLike_62 : decode cX0_areLike 62 = .ok (.getfield 115, 3) := dk_180 0 115 (dk_at dksX0_areLike_2 17 rfl rfl)
theorem dX0_areLike_65 : decode cX0_areLike 65 = .ok (.iconst 0, 1) := dk_3 (dk_at dksX0_areLike_2 20 rfl rfl)
theorem dX0_areLike_66 : decode cX0_areLike 66 = .ok (.aaload, 1) := dk_50 (dk_at dksX0_areLike_2 21 rfl rfl)
theorem dX0_areLike_67 : decode cX0_areLike 67 = .ok (.getfield 348, 3) := dk_180 1 92 (dk_at dksX0_areLike_3 0 rfl rfl)
theorem dX0_areLike_70 : decode cX0_areLike 70 = .ok (.aload_n 0, 1) := dk_42 (dk_at dksX0_areLike_3 3 rfl rfl)
theorem dX0_areLike_71 : decode cX0_areLike 71 = .ok (.getfield 115, 3) := dk_180 0 115 (dk_at dksX0_areLike_3 4 rfl rfl)
theorem dX0_areLike_74 : decode cX0_areLike 74 = .ok (.iconst 1, 1) := dk_4 (dk_at dksX0_areLike_3 7 rfl rfl)
theorem dX0_areLike_75 : decode cX0_areLike 75 = .ok (.aaload, 1) := dk_50 (dk_at dksX0_areLike_3 8 rfl rfl)
theorem dX0_areLike_76 : decode cX0_areLike 76 = .ok (.getfield 348, 3) := dk_180 1 92 (dk_at dksX0_areLike_3 9 rfl rfl)
theorem dX0_areLike_79 : decode cX0_areLike 79 = .ok (.if_icmp .ne 7, 3) := dk_160 0 7 (dk_at dksX0_areLike_3 12 rfl rfl)
theorem dX0_areLike_82 : decode cX0_areLike 82 = .ok (.iconst 1, 1) := dk_4 (dk_at dksX0_areLike_3 15 rfl rfl)
theorem dX0_areLike_83 : decode cX0_areLike 83 = .ok (.goto 4, 3) := dk_167 0 4 (dk_at dksX0_areLike_3 16 rfl rfl)
theorem dX0_areLike_86 : decode cX0_areLike 86 = .ok (.iconst 0, 1) := dk_3 (dk_at dksX0_areLike_3 19 rfl rfl)
theorem dX0_areLike_87 : decode cX0_areLike 87 = .ok (.ireturn, 1) := dk_172 (dk_at dksX0_areLike_3 20 rfl rfl)
abbrev cX0_common : ByteArray := prog_1_method_59_code
def yX0_common : MethodName := ⟨RX0, "common", "(III)I"⟩
def dkwX0_common_6 : List UInt8 := [21, 5, 172]
abbrev dktX0_common_6 : List UInt8 := dkwX0_common_6 ++ []
def dkwX0_common_5 : List UInt8 := [54, 4, 132, 7, 1, 167, 255, 197, 132, 6, 1, 167, 255, 167, 29, 154, 0, 8, 21, 4, 167, 0, 5]
abbrev dktX0_common_5 : List UInt8 := dkwX0_common_5 ++ dktX0_common_6
def dkwX0_common_4 : List UInt8 := [21, 8, 21, 4, 164, 0, 8, 21, 6, 167, 0, 5, 21, 5, 54, 5, 21, 4, 21, 8, 184, 1, 250]
abbrev dktX0_common_4 : List UInt8 := dkwX0_common_4 ++ dktX0_common_5
def dkwX0_common_3 : List UInt8 := [180, 0, 243, 180, 1, 20, 4, 50, 182, 1, 81, 162, 0, 44, 42, 21, 6, 21, 7, 182, 1, 247, 54, 8]
abbrev dktX0_common_3 : List UInt8 := dkwX0_common_3 ++ dktX0_common_4
def dkwX0_common_2 : List UInt8 := [180, 0, 243, 180, 1, 20, 3, 50, 182, 1, 81, 162, 0, 74, 3, 54, 7, 21, 7, 42, 180, 0, 108, 42]
abbrev dktX0_common_2 : List UInt8 := dkwX0_common_2 ++ dktX0_common_3
def dkwX0_common_1 : List UInt8 := [160, 0, 8, 42, 182, 1, 244, 172, 3, 54, 4, 3, 54, 5, 3, 54, 6, 21, 6, 42, 180, 0, 108, 42]
abbrev dktX0_common_1 : List UInt8 := dkwX0_common_1 ++ dktX0_common_2
def dkwX0_common_0 : List UInt8 := [29, 3, 5, 184, 0, 176, 153, 0, 12, 42, 27, 28, 182, 1, 67, 154, 0, 5, 2, 172, 29, 5]
abbrev dktX0_common_0 : List UInt8 := dkwX0_common_0 ++ dktX0_common_1
theorem dksX0_common_0 : cX0_common.data.toList.drop 0 = dktX0_common_0 := by decide +kernel
theorem dksX0_common_1 : cX0_common.data.toList.drop 22 = dktX0_common_1 := dk_seg dksX0_common_0 22 rfl rfl
theorem dksX0_common_2 : cX0_common.data.toList.drop 46 = dktX0_common_2 := dk_seg dksX0_common_1 24 rfl rfl
theorem dksX0_common_3 : cX0_common.data.toList.drop 70 = dktX0_common_3 := dk_seg dksX0_common_2 24 rfl rfl
theorem dksX0_common_4 : cX0_common.data.toList.drop 94 = dktX0_common_4 := dk_seg dksX0_common_3 24 rfl rfl
theorem dksX0_common_5 : cX0_common.data.toList.drop 117 = dktX0_common_5 := dk_seg dksX0_common_4 23 rfl rfl
theorem dksX0_common_6 : cX0_common.data.toList.drop 140 = dktX0_common_6 := dk_seg dksX0_common_5 23 rfl rfl
theorem dX0_common_0 : decode cX0_common 0 = .ok (.iload_n 3, 1) := dk_29 (dk_at dksX0_common_0 0 rfl rfl)
theorem dX0_common_1 : decode cX0_common 1 = .ok (.iconst 0, 1) := dk_3 (dk_at dksX0_common_0 1 rfl rfl)
theorem dX0_common_2 : decode cX0_common 2 = .ok (.iconst 2, 1) := dk_5 (dk_at dksX0_common_0 2 rfl rfl)
theorem dX0_common_3 : decode cX0_common 3 = .ok (.invokestatic 176, 3) := dk_184 0 176 (dk_at dksX0_common_0 3 rfl rfl)
theorem dX0_common_6 : decode cX0_common 6 = .ok (.ifCond .eq 12, 3) := dk_153 0 12 (dk_at dksX0_common_0 6 rfl rfl)
theorem dX0_common_9 : decode cX0_common 9 = .ok (.aload_n 0, 1) := dk_42 (dk_at dksX0_common_0 9 rfl rfl)
theorem dX0_common_10 : decode cX0_common 10 = .ok (.iload_n 1, 1) := dk_27 (dk_at dksX0_common_0 10 rfl rfl)
theorem dX0_common_11 : decode cX0_common 11 = .ok (.iload_n 2, 1) := dk_28 (dk_at dksX0_common_0 11 rfl rfl)
theorem dX0_common_12 : decode cX0_common 12 = .ok (.invokevirtual 323, 3) := dk_182 1 67 (dk_at dksX0_common_0 12 rfl rfl)
theorem dX0_common_15 : decode cX0_common 15 = .ok (.ifCond .ne 5, 3) := dk_154 0 5 (dk_at dksX0_common_0 15 rfl rfl)
theorem dX0_common_18 : decode cX0_common 18 = .ok (.iconst (-1), 1) := dk_2 (dk_at dksX0_common_0 18 rfl rfl)
theorem dX0_common_19 : decode cX0_common 19 = .ok (.ireturn, 1) := dk_172 (dk_at dksX0_common_0 19 rfl rfl)
theorem dX0_common_20 : decode cX0_common 20 = .ok (.iload_n 3, 1) := dk_29 (dk_at dksX0_common_0 20 rfl rfl)
theorem dX0_common_21 : decode cX0_common 21 = .ok (.iconst 2, 1) := dk_5 (dk_at dksX0_common_0 21 rfl rfl)
theorem dX0_common_22 : decode cX0_common 22 = .ok (.if_icmp .ne 8, 3) := dk_160 0 8 (dk_at dksX0_common_1 0 rfl rfl)
theorem dX0_common_25 : decode cX0_common 25 = .ok (.aload_n 0, 1) := dk_42 (dk_at dksX0_common_1 3 rfl rfl)
theorem dX0_common_26 : decode cX0_common 26 = .ok (.invokevirtual 500, 3) := dk_182 1 244 (dk_at dksX0_common_1 4 rfl rfl)
theorem dX0_common_29 : decode cX0_common 29 = .ok (.ireturn, 1) := dk_172 (dk_at dksX0_common_1 7 rfl rfl)
theorem dX0_common_30 : decode cX0_common 30 = .ok (.iconst 0, 1) := dk_3 (dk_at dksX0_common_1 8 rfl rfl)
theorem dX0_common_31 : decode cX0_common 31 = .ok (.istore 4, 2) := dk_54 4 (dk_at dksX0_common_1 9 rfl rfl)
theorem dX0_common_33 : decode cX0_common 33 = .ok (.iconst 0, 1) := dk_3 (dk_at dksX0_common_1 11 rfl rfl)
theorem dX0_common_34 : decode cX0_common 34 = .ok (.istore 5, 2) := dk_54 5 (dk_at dksX0_common_1 12 rfl rfl)
theorem dX0_common_36 : decode cX0_common 36 = .ok (.iconst 0, 1) := dk_3 (dk_at dksX0_common_1 14 rfl rfl)
theorem dX0_common_37 : decode cX0_common 37 = .ok (.istore 6, 2) := dk_54 6 (dk_at dksX0_common_1 15 rfl rfl)
theorem dX0_common_39 : decode cX0_common 39 = .ok (.iload 6, 2) := dk_21 6 (dk_at dksX0_common_1 17 rfl rfl)
theorem dX0_common_41 : decode cX0_common 41 = .ok (.aload_n 0, 1) := dk_42 (dk_at dksX0_common_1 19 rfl rfl)
theorem dX0_common_42 : decode cX0_common 42 = .ok (.getfield 108, 3) := dk_180 0 108 (dk_at dksX0_common_1 20 rfl rfl)
theorem dX0_common_45 : decode cX0_common 45 = .ok (.aload_n 0, 1) := dk_42 (dk_at dksX0_common_1 23 rfl rfl)
theorem dX0_common_46 : decode cX0_common 46 = .ok (.getfield 243, 3) := dk_180 0 243 (dk_at dksX0_common_2 0 rfl rfl)
theorem dX0_common_49 : decode cX0_common 49 = .ok (.getfield 276, 3) := dk_180 1 20 (dk_at dksX0_common_2 3 rfl rfl)
theorem dX0_common_52 : decode cX0_common 52 = .ok (.iconst 0, 1) := dk_3 (dk_at dksX0_common_2 6 rfl rfl)
theorem dX0_common_53 : decode cX0_common 53 = .ok (.aaload, 1) := dk_50 (dk_at dksX0_common_2 7 rfl rfl)
theorem dX0_common_54 : decode cX0_common 54 = .ok (.invokevirtual 337, 3) := dk_182 1 81 (dk_at dksX0_common_2 8 rfl rfl)
theorem dX0_common_57 : decode cX0_common 57 = .ok (.if_icmp .ge 74, 3) := dk_162 0 74 (dk_at dksX0_common_2 11 rfl rfl)
theorem dX0_common_60 : decode cX0_common 60 = .ok (.iconst 0, 1) := dk_3 (dk_at dksX0_common_2 14 rfl rfl)
theorem dX0_common_61 : decode cX0_common 61 = .ok (.istore 7, 2) := dk_54 7 (dk_at dksX0_common_2 15 rfl rfl)
theorem dX0_common_63 : decode cX0_common 63 = .ok (.iload 7, 2) := dk_21 7 (dk_at dksX0_common_2 17 rfl rfl)
theorem dX0_common_65 : decode cX0_common 65 = .ok (.aload_n 0, 1) := dk_42 (dk_at dksX0_common_2 19 rfl rfl)
theorem dX0_common_66 : decode cX0_common 66 = .ok (.getfield 108, 3) := dk_180 0 108 (dk_at dksX0_common_2 20 rfl rfl)
theorem dX0_common_69 : decode cX0_common 69 = .ok (.aload_n 0, 1) := dk_42 (dk_at dksX0_common_2 23 rfl rfl)
theorem dX0_common_70 : decode cX0_common 70 = .ok (.getfield 243, 3) := dk_180 0 243 (dk_at dksX0_common_3 0 rfl rfl)
theorem dX0_common_73 : decode cX0_common 73 = .ok (.getfield 276, 3) := dk_180 1 20 (dk_at dksX0_common_3 3 rfl rfl)
theorem dX0_common_76 : decode cX0_common 76 = .ok (.iconst 1, 1) := dk_4 (dk_at dksX0_common_3 6 rfl rfl)
theorem dX0_common_77 : decode cX0_common 77 = .ok (.aaload, 1) := dk_50 (dk_at dksX0_common_3 7 rfl rfl)
theorem dX0_common_78 : decode cX0_common 78 = .ok (.invokevirtual 337, 3) := dk_182 1 81 (dk_at dksX0_common_3 8 rfl rfl)
theorem dX0_common_81 : decode cX0_common 81 = .ok (.if_icmp .ge 44, 3) := dk_162 0 44 (dk_at dksX0_common_3 11 rfl rfl)
theorem dX0_common_84 : decode cX0_common 84 = .ok (.aload_n 0, 1) := dk_42 (dk_at dksX0_common_3 14 rfl rfl)
theorem dX0_common_85 : decode cX0_common 85 = .ok (.iload 6, 2) := dk_21 6 (dk_at dksX0_common_3 15 rfl rfl)
theorem dX0_common_87 : decode cX0_common 87 = .ok (.iload 7, 2) := dk_21 7 (dk_at dksX0_common_3 17 rfl rfl)
theorem dX0_common_89 : decode cX0_common 89 = .ok (.invokevirtual 503, 3) := dk_182 1 247 (dk_at dksX0_common_3 19 rfl rfl)
theorem dX0_common_92 : decode cX0_common 92 = .ok (.istore 8, 2) := dk_54 8 (dk_at dksX0_common_3 22 rfl rfl)
theorem dX0_common_94 : decode cX0_common 94 = .ok (.iload 8, 2) := dk_21 8 (dk_at dksX0_common_4 0 rfl rfl)
theorem dX0_common_96 : decode cX0_common 96 = .ok (.iload 4, 2) := dk_21 4 (dk_at dksX0_common_4 2 rfl rfl)
theorem dX0_common_98 : decode cX0_common 98 = .ok (.if_icmp .le 8, 3) := dk_164 0 8 (dk_at dksX0_common_4 4 rfl rfl)
theorem dX0_common_101 : decode cX0_common 101 = .ok (.iload 6, 2) := dk_21 6 (dk_at dksX0_common_4 7 rfl rfl)
theorem dX0_common_103 : decode cX0_common 103 = .ok (.goto 5, 3) := dk_167 0 5 (dk_at dksX0_common_4 9 rfl rfl)
theorem dX0_common_106 : decode cX0_common 106 = .ok (.iload 5, 2) := dk_21 5 (dk_at dksX0_common_4 12 rfl rfl)
theorem dX0_common_108 : decode cX0_common 108 = .ok (.istore 5, 2) := dk_54 5 (dk_at dksX0_common_4 14 rfl rfl)
theorem dX0_common_110 : decode cX0_common 110 = .ok (.iload 4, 2) := dk_21 4 (dk_at dksX0_common_4 16 rfl rfl)
theorem dX0_common_112 : decode cX0_common 112 = .ok (.iload 8, 2) := dk_21 8 (dk_at dksX0_common_4 18 rfl rfl)
theorem dX0_common_114 : decode cX0_common 114 = .ok (.invokestatic 506, 3) := dk_184 1 250 (dk_at dksX0_common_4 20 rfl rfl)
theorem dX0_common_117 : decode cX0_common 117 = .ok (.istore 4, 2) := dk_54 4 (dk_at dksX0_common_5 0 rfl rfl)
theorem dX0_common_119 : decode cX0_common 119 = .ok (.iinc 7 1, 3) := dk_132 7 1 (dk_at dksX0_common_5 2 rfl rfl)
theorem dX0_common_122 : decode cX0_common 122 = .ok (.goto (-59), 3) := dk_167 255 197 (dk_at dksX0_common_5 5 rfl rfl)
theorem dX0_common_125 : decode cX0_common 125 = .ok (.iinc 6 1, 3) := dk_132 6 1 (dk_at dksX0_common_5 8 rfl rfl)
theorem dX0_common_128 : decode cX0_common 128 = .ok (.goto (-89), 3) := dk_167 255 167 (dk_at dksX0_common_5 11 rfl rfl)
theorem dX0_common_131 : decode cX0_common 131 = .ok (.iload_n 3, 1) := dk_29 (dk_at dksX0_common_5 14 rfl rfl)
theorem dX0_common_132 : decode cX0_common 132 = .ok (.ifCond .ne 8, 3) := dk_154 0 8 (dk_at dksX0_common_5 15 rfl rfl)
theorem dX0_common_135 : decode cX0_common 135 = .ok (.iload 4, 2) := dk_21 4 (dk_at dksX0_common_5 18 rfl rfl)
theorem dX0_common_137 : decode cX0_common 137 = .ok (.goto 5, 3) := dk_167 0 5 (dk_at dksX0_common_5 20 rfl rfl)
theorem dX0_common_140 : decode cX0_common 140 = .ok (.iload 5, 2) := dk_21 5 (dk_at dksX0_common_6 0 rfl rfl)
theorem dX0_common_142 : decode cX0_common 142 = .ok (.ireturn, 1) := dk_172 (dk_at dksX0_common_6 2 rfl rfl)
abbrev cX0_period : ByteArray := prog_1_method_58_code
def yX0_period : MethodName := ⟨RX0, "period", "()I"⟩
def dkwX0_period_1 : List UInt8 := [132, 1, 1, 167, 255, 245, 27, 172]
abbrev dktX0_period_1 : List UInt8 := dkwX0_period_1 ++ []
def dkwX0_period_0 : List UInt8 := [42, 180, 0, 108, 180, 1, 70, 154, 0, 7, 3, 167, 0, 4, 4, 60, 42, 27, 182, 1, 241, 154, 0, 9]
abbrev dktX0_period_0 : List UInt8 := dkwX0_period_0 ++ dktX0_period_1
theorem dksX0_period_0 : cX0_period.data.toList.drop 0 = dktX0_period_0 := by decide +kernel
theorem dksX0_period_1 : cX0_period.data.toList.drop 24 = dktX0_period_1 := dk_seg dksX0_period_0 24 rfl rfl
theorem dX0_period_0 : decode cX0_period 0 = .ok (.aload_n 0, 1) := dk_42 (dk_at dksX0_period_0 0 rfl rfl)
theorem dX0_period_1 : decode cX0_period 1 = .ok (.getfield 108, 3) := dk_180 0 108 (dk_at dksX0_period_0 1 rfl rfl)
theorem dX0_period_4 : decode cX0_period 4 = .ok (.getfield 326, 3) := dk_180 1 70 (dk_at dksX0_period_0 4 rfl rfl)
theorem dX0_period_7 : decode cX0_period 7 = .ok (.ifCond .ne 7, 3) := dk_154 0 7 (dk_at dksX0_period_0 7 rfl rfl)
theorem dX0_period_10 : decode cX0_period 10 = .ok (.iconst 0, 1) := dk_3 (dk_at dksX0_period_0 10 rfl rfl)
theorem dX0_period_11 : decode cX0_period 11 = .ok (.goto 4, 3) := dk_167 0 4 (dk_at dksX0_period_0 11 rfl rfl)
theorem dX0_period_14 : decode cX0_period 14 = .ok (.iconst 1, 1) := dk_4 (dk_at dksX0_period_0 14 rfl rfl)
theorem dX0_period_15 : decode cX0_period 15 = .ok (.istore_n 1, 1) := dk_60 (dk_at dksX0_period_0 15 rfl rfl)
theorem dX0_period_16 : decode cX0_period 16 = .ok (.aload_n 0, 1) := dk_42 (dk_at dksX0_period_0 16 rfl rfl)
theorem dX0_period_17 : decode cX0_period 17 = .ok (.iload_n 1, 1) := dk_27 (dk_at dksX0_period_0 17 rfl rfl)
theorem dX0_period_18 : decode cX0_period 18 = .ok (.invokevirtual 497, 3) := dk_182 1 241 (dk_at dksX0_period_0 18 rfl rfl)
theorem dX0_period_21 : decode cX0_period 21 = .ok (.ifCond .ne 9, 3) := dk_154 0 9 (dk_at dksX0_period_0 21 rfl rfl)
theorem dX0_period_24 : decode cX0_period 24 = .ok (.iinc 1 1, 3) := dk_132 1 1 (dk_at dksX0_period_1 0 rfl rfl)
theorem dX0_period_27 : decode cX0_period 27 = .ok (.goto (-11), 3) := dk_167 255 245 (dk_at dksX0_period_1 3 rfl rfl)
theorem dX0_period_30 : decode cX0_period 30 = .ok (.iload_n 1, 1) := dk_27 (dk_at dksX0_period_1 6 rfl rfl)
theorem dX0_period_31 : decode cX0_period 31 = .ok (.ireturn, 1) := dk_172 (dk_at dksX0_period_1 7 rfl rfl)
abbrev cX0_isPeriod : ByteArray := prog_1_method_57_code
def yX0_isPeriod : MethodName := ⟨RX0, "isPeriod", "(I)Z"⟩
def dkwX0_isPeriod_1 : List UInt8 := [42, 180, 0, 108, 180, 1, 76, 28, 27, 96, 46, 159, 0, 5, 3, 172, 132, 2, 1, 167, 255, 215, 4, 172]
abbrev dktX0_isPeriod_1 : List UInt8 := dkwX0_isPeriod_1 ++ []
def dkwX0_isPeriod_0 : List UInt8 := [3, 61, 28, 27, 96, 42, 180, 0, 108, 180, 1, 70, 162, 0, 34, 42, 180, 0, 108, 180, 1, 76, 28, 46]
abbrev dktX0_isPeriod_0 : List UInt8 := dkwX0_isPeriod_0 ++ dktX0_isPeriod_1
theorem dksX0_isPeriod_0 : cX0_isPeriod.data.toList.drop 0 = dktX0_isPeriod_0 := by decide +kernel
theorem dksX0_isPeriod_1 : cX0_isPeriod.data.toList.drop 24 = dktX0_isPeriod_1 := dk_seg dksX0_isPeriod_0 24 rfl rfl
theorem dX0_isPeriod_0 : decode cX0_isPeriod 0 = .ok (.iconst 0, 1) := dk_3 (dk_at dksX0_isPeriod_0 0 rfl rfl)
theorem dX0_isPeriod_1 : decode cX0_isPeriod 1 = .ok (.istore_n 2, 1) := dk_61 (dk_at dksX0_isPeriod_0 1 rfl rfl)
theorem dX0_isPeriod_2 : decode cX0_isPeriod 2 = .ok (.iload_n 2, 1) := dk_28 (dk_at dksX0_isPeriod_0 2 rfl rfl)
theorem dX0_isPeriod_3 : decode cX0_isPeriod 3 = .ok (.iload_n 1, 1) := dk_27 (dk_at dksX0_isPeriod_0 3 rfl rfl)
theorem dX0_isPeriod_4 : decode cX0_isPeriod 4 = .ok (.iadd, 1) := dk_96 (dk_at dksX0_isPeriod_0 4 rfl rfl)
theorem dX0_isPeriod_5 : decode cX0_isPeriod 5 = .ok (.aload_n 0, 1) := dk_42 (dk_at dksX0_isPeriod_0 5 rfl rfl)
theorem dX0_isPeriod_6 : decode cX0_isPeriod 6 = .ok (.getfield 108, 3) := dk_180 0 108 (dk_at dksX0_isPeriod_0 6 rfl rfl)
theorem dX0_isPeriod_9 : decode cX0_isPeriod 9 = .ok (.getfield 326, 3) := dk_180 1 70 (dk_at dksX0_isPeriod_0 9 rfl rfl)
theorem dX0_isPeriod_12 : decode cX0_isPeriod 12 = .ok (.if_icmp .ge 34, 3) := dk_162 0 34 (dk_at dksX0_isPeriod_0 12 rfl rfl)
theorem dX0_isPeriod_15 : decode cX0_isPeriod 15 = .ok (.aload_n 0, 1) := dk_42 (dk_at dksX0_isPeriod_0 15 rfl rfl)
theorem dX0_isPeriod_16 : decode cX0_isPeriod 16 = .ok (.getfield 108, 3) := dk_180 0 108 (dk_at dksX0_isPeriod_0 16 rfl rfl)
theorem dX0_isPeriod_19 : decode cX0_isPeriod 19 = .ok (.getfield 332, 3) := dk_180 1 76 (dk_at dksX0_isPeriod_0 19 rfl rfl)
theorem dX0_isPeriod_22 : decode cX0_isPeriod 22 = .ok (.iload_n 2, 1) := dk_28 (dk_at dksX0_isPeriod_0 22 rfl rfl)
theorem dX0_isPeriod_23 : decode cX0_isPeriod 23 = .ok (.iaload, 1) := dk_46 (dk_at dksX0_isPeriod_0 23 rfl rfl)
theorem dX0_isPeriod_24 : decode cX0_isPeriod 24 = .ok (.aload_n 0, 1) := dk_42 (dk_at dksX0_isPeriod_1 0 rfl rfl)
theorem dX0_isPeriod_25 : decode cX0_isPeriod 25 = .ok (.getfield 108, 3) := dk_180 0 108 (dk_at dksX0_isPeriod_1 1 rfl rfl)
theorem dX0_isPeriod_28 : decode cX0_isPeriod 28 = .ok (.getfield 332, 3) := dk_180 1 76 (dk_at dksX0_isPeriod_1 4 rfl rfl)
theorem dX0_isPeriod_31 : decode cX0_isPeriod 31 = .ok (.iload_n 2, 1) := dk_28 (dk_at dksX0_isPeriod_1 7 rfl rfl)
theorem dX0_isPeriod_32 : decode cX0_isPeriod 32 = .ok (.iload_n 1, 1) := dk_27 (dk_at dksX0_isPeriod_1 8 rfl rfl)
theorem dX0_isPeriod_33 : decode cX0_isPeriod 33 = .ok (.iadd, 1) := dk_96 (dk_at dksX0_isPeriod_1 9 rfl rfl)
theorem dX0_isPeriod_34 : decode cX0_isPeriod 34 = .ok (.iaload, 1) := dk_46 (dk_at dksX0_isPeriod_1 10 rfl rfl)
theorem dX0_isPeriod_35 : decode cX0_isPeriod 35 = .ok (.if_icmp .eq 5, 3) := dk_159 0 5 (dk_at dksX0_isPeriod_1 11 rfl rfl)
theorem dX0_isPeriod_38 : decode cX0_isPeriod 38 = .ok (.iconst 0, 1) := dk_3 (dk_at dksX0_isPeriod_1 14 rfl rfl)
theorem dX0_isPeriod_39 : decode cX0_isPeriod 39 = .ok (.ireturn, 1) := dk_172 (dk_at dksX0_isPeriod_1 15 rfl rfl)
theorem dX0_isPeriod_40 : decode cX0_isPeriod 40 = .ok (.iinc 2 1, 3) := dk_132 2 1 (dk_at dksX0_isPeriod_1 16 rfl rfl)
theorem dX0_isPeriod_43 : decode cX0_isPeriod 43 = .ok (.goto (-41), 3) := dk_167 255 215 (dk_at dksX0_isPeriod_1 19 rfl rfl)
theorem dX0_isPeriod_46 : decode cX0_isPeriod 46 = .ok (.iconst 1, 1) := dk_4 (dk_at dksX0_isPeriod_1 22 rfl rfl)
theorem dX0_isPeriod_47 : decode cX0_isPeriod 47 = .ok (.ireturn, 1) := dk_172 (dk_at dksX0_isPeriod_1 23 rfl rfl)
abbrev cX0_alikeFrom : ByteArray := prog_1_method_56_code
def yX0_alikeFrom : MethodName := ⟨RX0, "alikeFrom", "(II)I"⟩
def dkwX0_alikeFrom_3 : List UInt8 := [25, 4, 28, 21, 5, 96, 182, 1, 85, 160, 0, 9, 132, 5, 1, 167, 255, 194, 21, 5, 172]
abbrev dktX0_alikeFrom_3 : List UInt8 := dkwX0_alikeFrom_3 ++ []
def dkwX0_alikeFrom_2 : List UInt8 := [25, 4, 182, 1, 81, 162, 0, 37, 42, 180, 0, 108, 45, 27, 21, 5, 96, 182, 1, 85, 42, 180, 0, 108]
abbrev dktX0_alikeFrom_2 : List UInt8 := dkwX0_alikeFrom_2 ++ dktX0_alikeFrom_3
def dkwX0_alikeFrom_1 : List UInt8 := [27, 21, 5, 96, 42, 180, 0, 108, 45, 182, 1, 81, 162, 0, 53, 28, 21, 5, 96, 42, 180, 0, 108]
abbrev dktX0_alikeFrom_1 : List UInt8 := dkwX0_alikeFrom_1 ++ dktX0_alikeFrom_2
def dkwX0_alikeFrom_0 : List UInt8 := [42, 180, 0, 243, 180, 1, 20, 3, 50, 78, 42, 180, 0, 243, 180, 1, 20, 4, 50, 58, 4, 3, 54, 5]
abbrev dktX0_alikeFrom_0 : List UInt8 := dkwX0_alikeFrom_0 ++ dktX0_alikeFrom_1
theorem dksX0_alikeFrom_0 : cX0_alikeFrom.data.toList.drop 0 = dktX0_alikeFrom_0 := by decide +kernel
theorem dksX0_alikeFrom_1 : cX0_alikeFrom.data.toList.drop 24 = dktX0_alikeFrom_1 := dk_seg dksX0_alikeFrom_0 24 rfl rfl
theorem dksX0_alikeFrom_2 : cX0_alikeFrom.data.toList.drop 47 = dktX0_alikeFrom_2 := dk_seg dksX0_alikeFrom_1 23 rfl rfl
theorem dksX0_alikeFrom_3 : cX0_alikeFrom.data.toList.drop 71 = dktX0_alikeFrom_3 := dk_seg dksX0_alikeFrom_2 24 rfl rfl
theorem dX0_alikeFrom_0 : decode cX0_alikeFrom 0 = .ok (.aload_n 0, 1) := dk_42 (dk_at dksX0_alikeFrom_0 0 rfl rfl)
theorem dX0_alikeFrom_1 : decode cX0_alikeFrom 1 = .ok (.getfield 243, 3) := dk_180 0 243 (dk_at dksX0_alikeFrom_0 1 rfl rfl)
theorem dX0_alikeFrom_4 : decode cX0_alikeFrom 4 = .ok (.getfield 276, 3) := dk_180 1 20 (dk_at dksX0_alikeFrom_0 4 rfl rfl)
theorem dX0_alikeFrom_7 : decode cX0_alikeFrom 7 = .ok (.iconst 0, 1) := dk_3 (dk_at dksX0_alikeFrom_0 7 rfl rfl)
theorem dX0_alikeFrom_8 : decode cX0_alikeFrom 8 = .ok (.aaload, 1) := dk_50 (dk_at dksX0_alikeFrom_0 8 rfl rfl)
theorem dX0_alikeFrom_9 : decode cX0_alikeFrom 9 = .ok (.astore_n 3, 1) := dk_78 (dk_at dksX0_alikeFrom_0 9 rfl rfl)
theorem dX0_alikeFrom_10 : decode cX0_alikeFrom 10 = .ok (.aload_n 0, 1) := dk_42 (dk_at dksX0_alikeFrom_0 10 rfl rfl)
theorem dX0_alikeFrom_11 : decode cX0_alikeFrom 11 = .ok (.getfield 243, 3) := dk_180 0 243 (dk_at dksX0_alikeFrom_0 11 rfl rfl)
theorem dX0_alikeFrom_14 : decode cX0_alikeFrom 14 = .ok (.getfield 276, 3) := dk_180 1 20 (dk_at dksX0_alikeFrom_0 14 rfl rfl)
theorem dX0_alikeFrom_17 : decode cX0_alikeFrom 17 = .ok (.iconst 1, 1) := dk_4 (dk_at dksX0_alikeFrom_0 17 rfl rfl)
theorem dX0_alikeFrom_18 : decode cX0_alikeFrom 18 = .ok (.aaload, 1) := dk_50 (dk_at dksX0_alikeFrom_0 18 rfl rfl)
theorem dX0_alikeFrom_19 : decode cX0_alikeFrom 19 = .ok (.astore 4, 2) := dk_58 4 (dk_at dksX0_alikeFrom_0 19 rfl rfl)
theorem dX0_alikeFrom_21 : decode cX0_alikeFrom 21 = .ok (.iconst 0, 1) := dk_3 (dk_at dksX0_alikeFrom_0 21 rfl rfl)
theorem dX0_alikeFrom_22 : decode cX0_alikeFrom 22 = .ok (.istore 5, 2) := dk_54 5 (dk_at dksX0_alikeFrom_0 22 rfl rfl)
theorem dX0_alikeFrom_24 : decode cX0_alikeFrom 24 = .ok (.iload_n 1, 1) := dk_27 (dk_at dksX0_alikeFrom_1 0 rfl rfl)
theorem dX0_alikeFrom_25 : decode cX0_alikeFrom 25 = .ok (.iload 5, 2) := dk_21 5 (dk_at dksX0_alikeFrom_1 1 rfl rfl)
theorem dX0_alikeFrom_27 : decode cX0_alikeFrom 27 = .ok (.iadd, 1) := dk_96 (dk_at dksX0_alikeFrom_1 3 rfl rfl)
theorem dX0_alikeFrom_28 : decode cX0_alikeFrom 28 = .ok (.aload_n 0, 1) := dk_42 (dk_at dksX0_alikeFrom_1 4 rfl rfl)
theorem dX0_alikeFrom_29 : decode cX0_alikeFrom 29 = .ok (.getfield 108, 3) := dk_180 0 108 (dk_at dksX0_alikeFrom_1 5 rfl rfl)
theorem dX0_alikeFrom_32 : decode cX0_alikeFrom 32 = .ok (.aload_n 3, 1) := dk_45 (dk_at dksX0_alikeFrom_1 8 rfl rfl)
theorem dX0_alikeFrom_33 : decode cX0_alikeFrom 33 = .ok (.invokevirtual 337, 3) := dk_182 1 81 (dk_at dksX0_alikeFrom_1 9 rfl rfl)
theorem dX0_alikeFrom_36 : decode cX0_alikeFrom 36 = .ok (.if_icmp .ge 53, 3) := dk_162 0 53 (dk_at dksX0_alikeFrom_1 12 rfl rfl)
theorem dX0_alikeFrom_39 : decode cX0_alikeFrom 39 = .ok (.iload_n 2, 1) := dk_28 (dk_at dksX0_alikeFrom_1 15 rfl rfl)
theorem dX0_alikeFrom_40 : decode cX0_alikeFrom 40 = .ok (.iload 5, 2) := dk_21 5 (dk_at dksX0_alikeFrom_1 16 rfl rfl)
theorem dX0_alikeFrom_42 : decode cX0_alikeFrom 42 = .ok (.iadd, 1) := dk_96 (dk_at dksX0_alikeFrom_1 18 rfl rfl)
theorem dX0_alikeFrom_43 : decode cX0_alikeFrom 43 = .ok (.aload_n 0, 1) := dk_42 (dk_at dksX0_alikeFrom_1 19 rfl rfl)
theorem dX0_alikeFrom_44 : decode cX0_alikeFrom 44 = .ok (.getfield 108, 3) := dk_180 0 108 (dk_at dksX0_alikeFrom_1 20 rfl rfl)
theorem dX0_alikeFrom_47 : decode cX0_alikeFrom 47 = .ok (.aload 4, 2) := dk_25 4 (dk_at dksX0_alikeFrom_2 0 rfl rfl)
theorem dX0_alikeFrom_49 : decode cX0_alikeFrom 49 = .ok (.invokevirtual 337, 3) := dk_182 1 81 (dk_at dksX0_alikeFrom_2 2 rfl rfl)
theorem dX0_alikeFrom_52 : decode cX0_alikeFrom 52 = .ok (.if_icmp .ge 37, 3) := dk_162 0 37 (dk_at dksX0_alikeFrom_2 5 rfl rfl)
theorem dX0_alikeFrom_55 : decode cX0_alikeFrom 55 = .ok (.aload_n 0, 1) := dk_42 (dk_at dksX0_alikeFrom_2 8 rfl rfl)
theorem dX0_alikeFrom_56 : decode cX0_alikeFrom 56 = .ok (.getfield 108, 3) := dk_180 0 108 (dk_at dksX0_alikeFrom_2 9 rfl rfl)
theorem dX0_alikeFrom_59 : decode cX0_alikeFrom 59 = .ok (.aload_n 3, 1) := dk_45 (dk_at dksX0_alikeFrom_2 12 rfl rfl)
theorem dX0_alikeFrom_60 : decode cX0_alikeFrom 60 = .ok (.iload_n 1, 1) := dk_27 (dk_at dksX0_alikeFrom_2 13 rfl rfl)
theorem dX0_alikeFrom_61 : decode cX0_alikeFrom 61 = .ok (.iload 5, 2) := dk_21 5 (dk_at dksX0_alikeFrom_2 14 rfl rfl)
theorem dX0_alikeFrom_63 : decode cX0_alikeFrom 63 = .ok (.iadd, 1) := dk_96 (dk_at dksX0_alikeFrom_2 16 rfl rfl)
theorem dX0_alikeFrom_64 : decode cX0_alikeFrom 64 = .ok (.invokevirtual 341, 3) := dk_182 1 85 (dk_at dksX0_alikeFrom_2 17 rfl rfl)
theorem dX0_alikeFrom_67 : decode cX0_alikeFrom 67 = .ok (.aload_n 0, 1) := dk_42 (dk_at dksX0_alikeFrom_2 20 rfl rfl)
theorem dX0_alikeFrom_68 : decode cX0_alikeFrom 68 = .ok (.getfield 108, 3) := dk_180 0 108 (dk_at dksX0_alikeFrom_2 21 rfl rfl)
theorem dX0_alikeFrom_71 : decode cX0_alikeFrom 71 = .ok (.aload 4, 2) := dk_25 4 (dk_at dksX0_alikeFrom_3 0 rfl rfl)
theorem dX0_alikeFrom_73 : decode cX0_alikeFrom 73 = .ok (.iload_n 2, 1) := dk_28 (dk_at dksX0_alikeFrom_3 2 rfl rfl)
theorem dX0_alikeFrom_74 : decode cX0_alikeFrom 74 = .ok (.iload 5, 2) := dk_21 5 (dk_at dksX0_alikeFrom_3 3 rfl rfl)
theorem dX0_alikeFrom_76 : decode cX0_alikeFrom 76 = .ok (.iadd, 1) := dk_96 (dk_at dksX0_alikeFrom_3 5 rfl rfl)
theorem dX0_alikeFrom_77 : decode cX0_alikeFrom 77 = .ok (.invokevirtual 341, 3) := dk_182 1 85 (dk_at dksX0_alikeFrom_3 6 rfl rfl)
theorem dX0_alikeFrom_80 : decode cX0_alikeFrom 80 = .ok (.if_icmp .ne 9, 3) := dk_160 0 9 (dk_at dksX0_alikeFrom_3 9 rfl rfl)
theorem dX0_alikeFrom_83 : decode cX0_alikeFrom 83 = .ok (.iinc 5 1, 3) := dk_132 5 1 (dk_at dksX0_alikeFrom_3 12 rfl rfl)
theorem dX0_alikeFrom_86 : decode cX0_alikeFrom 86 = .ok (.goto (-62), 3) := dk_167 255 194 (dk_at dksX0_alikeFrom_3 15 rfl rfl)
theorem dX0_alikeFrom_89 : decode cX0_alikeFrom 89 = .ok (.iload 5, 2) := dk_21 5 (dk_at dksX0_alikeFrom_3 18 rfl rfl)
theorem dX0_alikeFrom_91 : decode cX0_alikeFrom 91 = .ok (.ireturn, 1) := dk_172 (dk_at dksX0_alikeFrom_3 20 rfl rfl)
abbrev cX0_readings : ByteArray := prog_1_method_60_code
def yX0_readings : MethodName := ⟨RX0, "readings", "(IIIZ)J"⟩
def dkwX0_readings_11 : List UInt8 := [3, 46, 133, 173]
abbrev dktX0_readings_11 : List UInt8 := dkwX0_readings_11 ++ []
def dkwX0_readings_10 : List UInt8 := [167, 0, 27, 42, 180, 0, 151, 3, 47, 9, 148, 154, 0, 9, 20, 2, 3, 167, 0, 10, 42, 180, 0, 155]
abbrev dktX0_readings_10 : List UInt8 := dkwX0_readings_10 ++ dktX0_readings_11
def dkwX0_readings_9 : List UInt8 := [79, 132, 9, 1, 167, 255, 147, 132, 8, 255, 167, 255, 115, 21, 4, 154, 0, 12, 42, 180, 0, 151, 3, 47]
abbrev dktX0_readings_9 : List UInt8 := dkwX0_readings_9 ++ dktX0_readings_10
def dkwX0_readings_8 : List UInt8 := [21, 8, 46, 42, 180, 0, 155, 21, 8, 25, 10, 180, 1, 58, 180, 1, 61, 96, 46, 4, 96, 184, 1, 169]
abbrev dktX0_readings_8 : List UInt8 := dkwX0_readings_8 ++ dktX0_readings_9
def dkwX0_readings_7 : List UInt8 := [21, 8, 25, 10, 180, 1, 58, 180, 1, 61, 96, 47, 97, 80, 42, 180, 0, 155, 21, 8, 42, 180, 0, 155]
abbrev dktX0_readings_7 : List UInt8 := dkwX0_readings_7 ++ dktX0_readings_8
def dkwX0_readings_6 : List UInt8 := [21, 7, 182, 1, 255, 154, 0, 6, 167, 0, 64, 42, 180, 0, 151, 21, 8, 92, 47, 42, 180, 0, 151]
abbrev dktX0_readings_6 : List UInt8 := dkwX0_readings_6 ++ dktX0_readings_7
def dkwX0_readings_5 : List UInt8 := [162, 0, 102, 25, 6, 180, 1, 43, 21, 9, 182, 0, 237, 192, 1, 46, 58, 10, 25, 5, 25, 10, 21, 8]
abbrev dktX0_readings_5 : List UInt8 := dkwX0_readings_5 ++ dktX0_readings_6
def dkwX0_readings_4 : List UInt8 := [180, 0, 155, 21, 8, 19, 1, 178, 79, 3, 54, 9, 21, 9, 25, 6, 180, 1, 43, 182, 0, 3]
abbrev dktX0_readings_4 : List UInt8 := dkwX0_readings_4 ++ dktX0_readings_5
def dkwX0_readings_3 : List UInt8 := [3, 79, 21, 7, 4, 100, 54, 8, 21, 8, 155, 0, 142, 42, 180, 0, 151, 21, 8, 9, 80, 42]
abbrev dktX0_readings_3 : List UInt8 := dkwX0_readings_3 ++ dktX0_readings_4
def dkwX0_readings_2 : List UInt8 := [180, 0, 108, 25, 6, 182, 1, 81, 54, 7, 42, 180, 0, 151, 21, 7, 10, 80, 42, 180, 0, 155, 21, 7]
abbrev dktX0_readings_2 : List UInt8 := dkwX0_readings_2 ++ dktX0_readings_3
def dkwX0_readings_1 : List UInt8 := [180, 0, 115, 29, 50, 29, 182, 1, 88, 58, 5, 42, 180, 0, 243, 180, 1, 20, 29, 50, 58, 6, 42]
abbrev dktX0_readings_1 : List UInt8 := dkwX0_readings_1 ++ dktX0_readings_2
def dkwX0_readings_0 : List UInt8 := [42, 27, 28, 182, 1, 67, 153, 0, 11, 42, 29, 182, 1, 17, 154, 0, 7, 20, 1, 253, 173, 42]
abbrev dktX0_readings_0 : List UInt8 := dkwX0_readings_0 ++ dktX0_readings_1
theorem dksX0_readings_0 : cX0_readings.data.toList.drop 0 = dktX0_readings_0 := by decide +kernel
theorem dksX0_readings_1 : cX0_readings.data.toList.drop 22 = dktX0_readings_1 := dk_seg dksX0_readings_0 22 rfl rfl
theorem dksX0_readings_2 : cX0_readings.data.toList.drop 45 = dktX0_readings_2 := dk_seg dksX0_readings_1 23 rfl rfl
theorem dksX0_readings_3 : cX0_readings.data.toList.drop 69 = dktX0_readings_3 := dk_seg dksX0_readings_2 24 rfl rfl
theorem dksX0_readings_4 : cX0_readings.data.toList.drop 91 = dktX0_readings_4 := dk_seg dksX0_readings_3 22 rfl rfl
theorem dksX0_readings_5 : cX0_readings.data.toList.drop 113 = dktX0_readings_5 := dk_seg dksX0_readings_4 22 rfl rfl
theorem dksX0_readings_6 : cX0_readings.data.toList.drop 137 = dktX0_readings_6 := dk_seg dksX0_readings_5 24 rfl rfl
theorem dksX0_readings_7 : cX0_readings.data.toList.drop 160 = dktX0_readings_7 := dk_seg dksX0_readings_6 23 rfl rfl
theorem dksX0_readings_8 : cX0_readings.data.toList.drop 184 = dktX0_readings_8 := dk_seg dksX0_readings_7 24 rfl rfl
theorem dksX0_readings_9 : cX0_readings.data.toList.drop 208 = dktX0_readings_9 := dk_seg dksX0_readings_8 24 rfl rfl
theorem dksX0_readings_10 : cX0_readings.data.toList.drop 232 = dktX0_readings_10 := dk_seg dksX0_readings_9 24 rfl rfl
theorem dksX0_readings_11 : cX0_readings.data.toList.drop 256 = dktX0_readings_11 := dk_seg dksX0_readings_10 24 rfl rfl
theorem dX0_readings_0 : decode cX0_readings 0 = .ok (.aload_n 0, 1) := dk_42 (dk_at dksX0_readings_0 0 rfl rfl)
theorem dX0_readings_1 : decode cX0_readings 1 = .ok (.iload_n 1, 1) := dk_27 (dk_at dksX0_readings_0 1 rfl rfl)
theorem dX0_readings_2 : decode cX0_readings 2 = .ok (.iload_n 2, 1) := dk_28 (dk_at dksX0_readings_0 2 rfl rfl)
theorem dX0_readings_3 : decode cX0_readings 3 = .ok (.invokevirtual 323, 3) := dk_182 1 67 (dk_at dksX0_readings_0 3 rfl rfl)
theorem dX0_readings_6 : decode cX0_readings 6 = .ok (.ifCond .eq 11, 3) := dk_153 0 11 (dk_at dksX0_readings_0 6 rfl rfl)
theorem dX0_readings_9 : decode cX0_readings 9 = .ok (.aload_n 0, 1) := dk_42 (dk_at dksX0_readings_0 9 rfl rfl)
theorem dX0_readings_10 : decode cX0_readings 10 = .ok (.iload_n 3, 1) := dk_29 (dk_at dksX0_readings_0 10 rfl rfl)
theorem dX0_readings_11 : decode cX0_readings 11 = .ok (.invokevirtual 273, 3) := dk_182 1 17 (dk_at dksX0_readings_0 11 rfl rfl)
theorem dX0_readings_14 : decode cX0_readings 14 = .ok (.ifCond .ne 7, 3) := dk_154 0 7 (dk_at dksX0_readings_0 14 rfl rfl)
theorem dX0_readings_17 : decode cX0_readings 17 = .ok (.ldc2_w 509, 3) := dk_20 1 253 (dk_at dksX0_readings_0 17 rfl rfl)
theorem dX0_readings_20 : decode cX0_readings 20 = .ok (.lreturn, 1) := dk_173 (dk_at dksX0_readings_0 20 rfl rfl)
theorem dX0_readings_21 : decode cX0_readings 21 = .ok (.aload_n 0, 1) := dk_42 (dk_at dksX0_readings_0 21 rfl rfl)
theorem dX0_readings_22 : decode cX0_readings 22 = .ok (.getfield 115, 3) := dk_180 0 115 (dk_at dksX0_readings_1 0 rfl rfl)
theorem dX0_readings_25 : decode cX0_readings 25 = .ok (.iload_n 3, 1) := dk_29 (dk_at dksX0_readings_1 3 rfl rfl)
theorem dX0_readings_26 : decode cX0_readings 26 = .ok (.aaload, 1) := dk_50 (dk_at dksX0_readings_1 4 rfl rfl)
theorem dX0_readings_27 : decode cX0_readings 27 = .ok (.iload_n 3, 1) := dk_29 (dk_at dksX0_readings_1 5 rfl rfl)
theorem dX0_readings_28 : decode cX0_readings 28 = .ok (.invokevirtual 344, 3) := dk_182 1 88 (dk_at dksX0_readings_1 6 rfl rfl)
theorem dX0_readings_31 : decode cX0_readings 31 = .ok (.astore 5, 2) := dk_58 5 (dk_at dksX0_readings_1 9 rfl rfl)
theorem dX0_readings_33 : decode cX0_readings 33 = .ok (.aload_n 0, 1) := dk_42 (dk_at dksX0_readings_1 11 rfl rfl)
theorem dX0_readings_34 : decode cX0_readings 34 = .ok (.getfield 243, 3) := dk_180 0 243 (dk_at dksX0_readings_1 12 rfl rfl)
theorem dX0_readings_37 : decode cX0_readings 37 = .ok (.getfield 276, 3) := dk_180 1 20 (dk_at dksX0_readings_1 15 rfl rfl)
theorem dX0_readings_40 : decode cX0_readings 40 = .ok (.iload_n 3, 1) := dk_29 (dk_at dksX0_readings_1 18 rfl rfl)
theorem dX0_readings_41 : decode cX0_readings 41 = .ok (.aaload, 1) := dk_50 (dk_at dksX0_readings_1 19 rfl rfl)
theorem dX0_readings_42 : decode cX0_readings 42 = .ok (.astore 6, 2) := dk_58 6 (dk_at dksX0_readings_1 20 rfl rfl)
theorem dX0_readings_44 : decode cX0_readings 44 = .ok (.aload_n 0, 1) := dk_42 (dk_at dksX0_readings_1 22 rfl rfl)
theorem dX0_readings_45 : decode cX0_readings 45 = .ok (.getfield 108, 3) := dk_180 0 108 (dk_at dksX0_readings_2 0 rfl rfl)
theorem dX0_readings_48 : decode cX0_readings 48 = .ok (.aload 6, 2) := dk_25 6 (dk_at dksX0_readings_2 3 rfl rfl)
theorem dX0_readings_50 : decode cX0_readings 50 = .ok (.invokevirtual 337, 3) := dk_182 1 81 (dk_at dksX0_readings_2 5 rfl rfl)
theorem dX0_readings_53 : decode cX0_readings 53 = .ok (.istore 7, 2) := dk_54 7 (dk_at dksX0_readings_2 8 rfl rfl)
theorem dX0_readings_55 : decode cX0_readings 55 = .ok (.aload_n 0, 1) := dk_42 (dk_at dksX0_readings_2 10 rfl rfl)
theorem dX0_readings_56 : decode cX0_readings 56 = .ok (.getfield 151, 3) := dk_180 0 151 (dk_at dksX0_readings_2 11 rfl rfl)
theorem dX0_readings_59 : decode cX0_readings 59 = .ok (.iload 7, 2) := dk_21 7 (dk_at dksX0_readings_2 14 rfl rfl)
theorem dX0_readings_61 : decode cX0_readings 61 = .ok (.lconst 1, 1) := dk_10 (dk_at dksX0_readings_2 16 rfl rfl)
theorem dX0_readings_62 : decode cX0_readings 62 = .ok (.lastore, 1) := dk_80 (dk_at dksX0_readings_2 17 rfl rfl)
theorem dX0_readings_63 : decode cX0_readings 63 = .ok (.aload_n 0, 1) := dk_42 (dk_at dksX0_readings_2 18 rfl rfl)
theorem dX0_readings_64 : decode cX0_readings 64 = .ok (.getfield 155, 3) := dk_180 0 155 (dk_at dksX0_readings_2 19 rfl rfl)
theorem dX0_readings_67 : decode cX0_readings 67 = .ok (.iload 7, 2) := dk_21 7 (dk_at dksX0_readings_2 22 rfl rfl)
theorem dX0_readings_69 : decode cX0_readings 69 = .ok (.iconst 0, 1) := dk_3 (dk_at dksX0_readings_3 0 rfl rfl)
theorem dX0_readings_70 : decode cX0_readings 70 = .ok (.iastore, 1) := dk_79 (dk_at dksX0_readings_3 1 rfl rfl)
theorem dX0_readings_71 : decode cX0_readings 71 = .ok (.iload 7, 2) := dk_21 7 (dk_at dksX0_readings_3 2 rfl rfl)
theorem dX0_readings_73 : decode cX0_readings 73 = .ok (.iconst 1, 1) := dk_4 (dk_at dksX0_readings_3 4 rfl rfl)
theorem dX0_readings_74 : decode cX0_readings 74 = .ok (.isub, 1) := dk_100 (dk_at dksX0_readings_3 5 rfl rfl)
theorem dX0_readings_75 : decode cX0_readings 75 = .ok (.istore 8, 2) := dk_54 8 (dk_at dksX0_readings_3 6 rfl rfl)
theorem dX0_readings_77 : decode cX0_readings 77 = .ok (.iload 8, 2) := dk_21 8 (dk_at dksX0_readings_3 8 rfl rfl)
theorem dX0_readings_79 : decode cX0_readings 79 = .ok (.ifCond .lt 142, 3) := dk_155 0 142 (dk_at dksX0_readings_3 10 rfl rfl)
theorem dX0_readings_82 : decode cX0_readings 82 = .ok (.aload_n 0, 1) := dk_42 (dk_at dksX0_readings_3 13 rfl rfl)
theorem dX0_readings_83 : decode cX0_readings 83 = .ok (.getfield 151, 3) := dk_180 0 151 (dk_at dksX0_readings_3 14 rfl rfl)
theorem dX0_readings_86 : decode cX0_readings 86 = .ok (.iload 8, 2) := dk_21 8 (dk_at dksX0_readings_3 17 rfl rfl)
theorem dX0_readings_88 : decode cX0_readings 88 = .ok (.lconst 0, 1) := dk_9 (dk_at dksX0_readings_3 19 rfl rfl)
theorem dX0_readings_89 : decode cX0_readings 89 = .ok (.lastore, 1) := dk_80 (dk_at dksX0_readings_3 20 rfl rfl)
theorem dX0_readings_90 : decode cX0_readings 90 = .ok (.aload_n 0, 1) := dk_42 (dk_at dksX0_readings_3 21 rfl rfl)
theorem dX0_readings_91 : decode cX0_readings 91 = .ok (.getfield 155, 3) := dk_180 0 155 (dk_at dksX0_readings_4 0 rfl rfl)
theorem dX0_readings_94 : decode cX0_readings 94 = .ok (.iload 8, 2) := dk_21 8 (dk_at dksX0_readings_4 3 rfl rfl)
theorem dX0_readings_96 : decode cX0_readings 96 = .ok (.ldc_w 434, 3) := dk_19 1 178 (dk_at dksX0_readings_4 5 rfl rfl)
theorem dX0_readings_99 : decode cX0_readings 99 = .ok (.iastore, 1) := dk_79 (dk_at dksX0_readings_4 8 rfl rfl)
theorem dX0_readings_100 : decode cX0_readings 100 = .ok (.iconst 0, 1) := dk_3 (dk_at dksX0_readings_4 9 rfl rfl)
theorem dX0_readings_101 : decode cX0_readings 101 = .ok (.istore 9, 2) := dk_54 9 (dk_at dksX0_readings_4 10 rfl rfl)
theorem dX0_readings_103 : decode cX0_readings 103 = .ok (.iload 9, 2) := dk_21 9 (dk_at dksX0_readings_4 12 rfl rfl)
theorem dX0_readings_105 : decode cX0_readings 105 = .ok (.aload 6, 2) := dk_25 6 (dk_at dksX0_readings_4 14 rfl rfl)
theorem dX0_readings_107 : decode cX0_readings 107 = .ok (.getfield 299, 3) := dk_180 1 43 (dk_at dksX0_readings_4 16 rfl rfl)
theorem dX0_readings_110 : decode cX0_readings 110 = .ok (.invokevirtual 3, 3) := dk_182 0 3 (dk_at dksX0_readings_4 19 rfl rfl)
theorem dX0_readings_113 : decode cX0_readings 113 = .ok (.if_icmp .ge 102, 3) := dk_162 0 102 (dk_at dksX0_readings_5 0 rfl rfl)
theorem dX0_readings_116 : decode cX0_readings 116 = .ok (.aload 6, 2) := dk_25 6 (dk_at dksX0_readings_5 3 rfl rfl)
theorem dX0_readings_118 : decode cX0_readings 118 = .ok (.getfield 299, 3) := dk_180 1 43 (dk_at dksX0_readings_5 5 rfl rfl)
theorem dX0_readings_121 : decode cX0_readings 121 = .ok (.iload 9, 2) := dk_21 9 (dk_at dksX0_readings_5 8 rfl rfl)
theorem dX0_readings_123 : decode cX0_readings 123 = .ok (.invokevirtual 237, 3) := dk_182 0 237 (dk_at dksX0_readings_5 10 rfl rfl)
theorem dX0_readings_126 : decode cX0_readings 126 = .ok (.checkcast 302, 3) := dk_192 1 46 (dk_at dksX0_readings_5 13 rfl rfl)
theorem dX0_readings_129 : decode cX0_readings 129 = .ok (.astore 10, 2) := dk_58 10 (dk_at dksX0_readings_5 16 rfl rfl)
theorem dX0_readings_131 : decode cX0_readings 131 = .ok (.aload 5, 2) := dk_25 5 (dk_at dksX0_readings_5 18 rfl rfl)
theorem dX0_readings_133 : decode cX0_readings 133 = .ok (.aload 10, 2) := dk_25 10 (dk_at dksX0_readings_5 20 rfl rfl)
theorem dX0_readings_135 : decode cX0_readings 135 = .ok (.iload 8, 2) := dk_21 8 (dk_at dksX0_readings_5 22 rfl rfl)
theorem dX0_readings_137 : decode cX0_readings 137 = .ok (.iload 7, 2) := dk_21 7 (dk_at dksX0_readings_6 0 rfl rfl)
theorem dX0_readings_139 : decode cX0_readings 139 = .ok (.invokevirtual 511, 3) := dk_182 1 255 (dk_at dksX0_readings_6 2 rfl rfl)
theorem dX0_readings_142 : decode cX0_readings 142 = .ok (.ifCond .ne 6, 3) := dk_154 0 6 (dk_at dksX0_readings_6 5 rfl rfl)
theorem dX0_readings_145 : decode cX0_readings 145 = .ok (.goto 64, 3) := dk_167 0 64 (dk_at dksX0_readings_6 8 rfl rfl)
theorem dX0_readings_148 : decode cX0_readings 148 = .ok (.aload_n 0, 1) := dk_42 (dk_at dksX0_readings_6 11 rfl rfl)
theorem dX0_readings_149 : decode cX0_readings 149 = .ok (.getfield 151, 3) := dk_180 0 151 (dk_at dksX0_readings_6 12 rfl rfl)
theorem dX0_readings_152 : decode cX0_readings 152 = .ok (.iload 8, 2) := dk_21 8 (dk_at dksX0_readings_6 15 rfl rfl)
theorem dX0_readings_154 : decode cX0_readings 154 = .ok (.dup2, 1) := dk_92 (dk_at dksX0_readings_6 17 rfl rfl)
theorem dX0_readings_155 : decode cX0_readings 155 = .ok (.laload, 1) := dk_47 (dk_at dksX0_readings_6 18 rfl rfl)
theorem dX0_readings_156 : decode cX0_readings 156 = .ok (.aload_n 0, 1) := dk_42 (dk_at dksX0_readings_6 19 rfl rfl)
theorem dX0_readings_157 : decode cX0_readings 157 = .ok (.getfield 151, 3) := dk_180 0 151 (dk_at dksX0_readings_6 20 rfl rfl)
theorem dX0_readings_160 : decode cX0_readings 160 = .ok (.iload 8, 2) := dk_21 8 (dk_at dksX0_readings_7 0 rfl rfl)
theorem dX0_readings_162 : decode cX0_readings 162 = .ok (.aload 10, 2) := dk_25 10 (dk_at dksX0_readings_7 2 rfl rfl)
theorem dX0_readings_164 : decode cX0_readings 164 = .ok (.getfield 314, 3) := dk_180 1 58 (dk_at dksX0_readings_7 4 rfl rfl)
theorem dX0_readings_167 : decode cX0_readings 167 = .ok (.getfield 317, 3) := dk_180 1 61 (dk_at dksX0_readings_7 7 rfl rfl)
theorem dX0_readings_170 : decode cX0_readings 170 = .ok (.iadd, 1) := dk_96 (dk_at dksX0_readings_7 10 rfl rfl)
theorem dX0_readings_171 : decode cX0_readings 171 = .ok (.laload, 1) := dk_47 (dk_at dksX0_readings_7 11 rfl rfl)
theorem dX0_readings_172 : decode cX0_readings 172 = .ok (.ladd, 1) := dk_97 (dk_at dksX0_readings_7 12 rfl rfl)
theorem dX0_readings_173 : decode cX0_readings 173 = .ok (.lastore, 1) := dk_80 (dk_at dksX0_readings_7 13 rfl rfl)
theorem dX0_readings_174 : decode cX0_readings 174 = .ok (.aload_n 0, 1) := dk_42 (dk_at dksX0_readings_7 14 rfl rfl)
theorem dX0_readings_175 : decode cX0_readings 175 = .ok (.getfield 155, 3) := dk_180 0 155 (dk_at dksX0_readings_7 15 rfl rfl)
theorem dX0_readings_178 : decode cX0_readings 178 = .ok (.iload 8, 2) := dk_21 8 (dk_at dksX0_readings_7 18 rfl rfl)
theorem dX0_readings_180 : decode cX0_readings 180 = .ok (.aload_n 0, 1) := dk_42 (dk_at dksX0_readings_7 20 rfl rfl)
theorem dX0_readings_181 : decode cX0_readings 181 = .ok (.getfield 155, 3) := dk_180 0 155 (dk_at dksX0_readings_7 21 rfl rfl)
theorem dX0_readings_184 : decode cX0_readings 184 = .ok (.iload 8, 2) := dk_21 8 (dk_at dksX0_readings_8 0 rfl rfl)
theorem dX0_readings_186 : decode cX0_readings 186 = .ok (.iaload, 1) := dk_46 (dk_at dksX0_readings_8 2 rfl rfl)
theorem dX0_readings_187 : decode cX0_readings 187 = .ok (.aload_n 0, 1) := dk_42 (dk_at dksX0_readings_8 3 rfl rfl)
theorem dX0_readings_188 : decode cX0_readings 188 = .ok (.getfield 155, 3) := dk_180 0 155 (dk_at dksX0_readings_8 4 rfl rfl)
theorem dX0_readings_191 : decode cX0_readings 191 = .ok (.iload 8, 2) := dk_21 8 (dk_at dksX0_readings_8 7 rfl rfl)
theorem dX0_readings_193 : decode cX0_readings 193 = .ok (.aload 10, 2) := dk_25 10 (dk_at dksX0_readings_8 9 rfl rfl)
theorem dX0_readings_195 : decode cX0_readings 195 = .ok (.getfield 314, 3) := dk_180 1 58 (dk_at dksX0_readings_8 11 rfl rfl)
theorem dX0_readings_198 : decode cX0_readings 198 = .ok (.getfield 317, 3) := dk_180 1 61 (dk_at dksX0_readings_8 14 rfl rfl)
theorem dX0_readings_201 : decode cX0_readings 201 = .ok (.iadd, 1) := dk_96 (dk_at dksX0_readings_8 17 rfl rfl)
theorem dX0_readings_202 : decode cX0_readings 202 = .ok (.iaload, 1) := dk_46 (dk_at dksX0_readings_8 18 rfl rfl)
theorem dX0_readings_203 : decode cX0_readings 203 = .ok (.iconst 1, 1) := dk_4 (dk_at dksX0_readings_8 19 rfl rfl)
theorem dX0_readings_204 : decode cX0_readings 204 = .ok (.iadd, 1) := dk_96 (dk_at dksX0_readings_8 20 rfl rfl)
theorem dX0_readings_205 : decode cX0_readings 205 = .ok (.invokestatic 425, 3) := dk_184 1 169 (dk_at dksX0_readings_8 21 rfl rfl)
theorem dX0_readings_208 : decode cX0_readings 208 = .ok (.iastore, 1) := dk_79 (dk_at dksX0_readings_9 0 rfl rfl)
theorem dX0_readings_209 : decode cX0_readings 209 = .ok (.iinc 9 1, 3) := dk_132 9 1 (dk_at dksX0_readings_9 1 rfl rfl)
theorem dX0_readings_212 : decode cX0_readings 212 = .ok (.goto (-109), 3) := dk_167 255 147 (dk_at dksX0_readings_9 4 rfl rfl)
theorem dX0_readings_215 : decode cX0_readings 215 = .ok (.iinc 8 (-1), 3) := dk_132 8 255 (dk_at dksX0_readings_9 7 rfl rfl)
theorem dX0_readings_218 : decode cX0_readings 218 = .ok (.goto (-141), 3) := dk_167 255 115 (dk_at dksX0_readings_9 10 rfl rfl)
theorem dX0_readings_221 : decode cX0_readings 221 = .ok (.iload 4, 2) := dk_21 4 (dk_at dksX0_readings_9 13 rfl rfl)
theorem dX0_readings_223 : decode cX0_readings 223 = .ok (.ifCond .ne 12, 3) := dk_154 0 12 (dk_at dksX0_readings_9 15 rfl rfl)
theorem dX0_readings_226 : decode cX0_readings 226 = .ok (.aload_n 0, 1) := dk_42 (dk_at dksX0_readings_9 18 rfl rfl)
theorem dX0_readings_227 : decode cX0_readings 227 = .ok (.getfield 151, 3) := dk_180 0 151 (dk_at dksX0_readings_9 19 rfl rfl)
theorem dX0_readings_230 : decode cX0_readings 230 = .ok (.iconst 0, 1) := dk_3 (dk_at dksX0_readings_9 22 rfl rfl)
theorem dX0_readings_231 : decode cX0_readings 231 = .ok (.laload, 1) := dk_47 (dk_at dksX0_readings_9 23 rfl rfl)
theorem dX0_readings_232 : decode cX0_readings 232 = .ok (.goto 27, 3) := dk_167 0 27 (dk_at dksX0_readings_10 0 rfl rfl)
theorem dX0_readings_235 : decode cX0_readings 235 = .ok (.aload_n 0, 1) := dk_42 (dk_at dksX0_readings_10 3 rfl rfl)
theorem dX0_readings_236 : decode cX0_readings 236 = .ok (.getfield 151, 3) := dk_180 0 151 (dk_at dksX0_readings_10 4 rfl rfl)
theorem dX0_readings_239 : decode cX0_readings 239 = .ok (.iconst 0, 1) := dk_3 (dk_at dksX0_readings_10 7 rfl rfl)
theorem dX0_readings_240 : decode cX0_readings 240 = .ok (.laload, 1) := dk_47 (dk_at dksX0_readings_10 8 rfl rfl)
theorem dX0_readings_241 : decode cX0_readings 241 = .ok (.lconst 0, 1) := dk_9 (dk_at dksX0_readings_10 9 rfl rfl)
theorem dX0_readings_242 : decode cX0_readings 242 = .ok (.lcmp, 1) := dk_148 (dk_at dksX0_readings_10 10 rfl rfl)
theorem dX0_readings_243 : decode cX0_readings 243 = .ok (.ifCond .ne 9, 3) := dk_154 0 9 (dk_at dksX0_readings_10 11 rfl rfl)
theorem dX0_readings_246 : decode cX0_readings 246 = .ok (.ldc2_w 515, 3) := dk_20 2 3 (dk_at dksX0_readings_10 14 rfl rfl)
theorem dX0_readings_249 : decode cX0_readings 249 = .ok (.goto 10, 3) := dk_167 0 10 (dk_at dksX0_readings_10 17 rfl rfl)
theorem dX0_readings_252 : decode cX0_readings 252 = .ok (.aload_n 0, 1) := dk_42 (dk_at dksX0_readings_10 20 rfl rfl)
theorem dX0_readings_253 : decode cX0_readings 253 = .ok (.getfield 155, 3) := dk_180 0 155 (dk_at dksX0_readings_10 21 rfl rfl)
theorem dX0_readings_256 : decode cX0_readings 256 = .ok (.iconst 0, 1) := dk_3 (dk_at dksX0_readings_11 0 rfl rfl)
theorem dX0_readings_257 : decode cX0_readings 257 = .ok (.iaload, 1) := dk_46 (dk_at dksX0_readings_11 1 rfl rfl)
theorem dX0_readings_258 : decode cX0_readings 258 = .ok (.i2l, 1) := dk_133 (dk_at dksX0_readings_11 2 rfl rfl)
theorem dX0_readings_259 : decode cX0_readings 259 = .ok (.lreturn, 1) := dk_173 (dk_at dksX0_readings_11 3 rfl rfl)
abbrev cX0_unique : ByteArray := prog_1_method_67_code
def yX0_unique : MethodName := ⟨RX0, "unique", "(IIZ)I"⟩
def dkwX0_unique_3 : List UInt8 := [3, 172]
abbrev dktX0_unique_3 : List UInt8 := dkwX0_unique_3 ++ []
def dkwX0_unique_2 : List UInt8 := [160, 0, 7, 2, 167, 0, 21, 21, 4, 167, 0, 16, 21, 4, 19, 1, 178, 160, 0, 7, 4, 167, 0, 4]
abbrev dktX0_unique_2 : List UInt8 := dkwX0_unique_2 ++ dktX0_unique_3
def dkwX0_unique_1 : List UInt8 := [180, 1, 20, 28, 50, 180, 1, 43, 182, 2, 21, 54, 4, 29, 153, 0, 20, 21, 4, 19, 1, 178]
abbrev dktX0_unique_1 : List UInt8 := dkwX0_unique_1 ++ dktX0_unique_2
def dkwX0_unique_0 : List UInt8 := [42, 27, 182, 1, 0, 153, 0, 11, 42, 28, 182, 1, 17, 154, 0, 6, 16, 254, 172, 42, 42, 180, 0, 243]
abbrev dktX0_unique_0 : List UInt8 := dkwX0_unique_0 ++ dktX0_unique_1
theorem dksX0_unique_0 : cX0_unique.data.toList.drop 0 = dktX0_unique_0 := by decide +kernel
theorem dksX0_unique_1 : cX0_unique.data.toList.drop 24 = dktX0_unique_1 := dk_seg dksX0_unique_0 24 rfl rfl
theorem dksX0_unique_2 : cX0_unique.data.toList.drop 46 = dktX0_unique_2 := dk_seg dksX0_unique_1 22 rfl rfl
theorem dksX0_unique_3 : cX0_unique.data.toList.drop 70 = dktX0_unique_3 := dk_seg dksX0_unique_2 24 rfl rfl
theorem dX0_unique_0 : decode cX0_unique 0 = .ok (.aload_n 0, 1) := dk_42 (dk_at dksX0_unique_0 0 rfl rfl)
theorem dX0_unique_1 : decode cX0_unique 1 = .ok (.iload_n 1, 1) := dk_27 (dk_at dksX0_unique_0 1 rfl rfl)
theorem dX0_unique_2 : decode cX0_unique 2 = .ok (.invokevirtual 256, 3) := dk_182 1 0 (dk_at dksX0_unique_0 2 rfl rfl)
theorem dX0_unique_5 : decode cX0_unique 5 = .ok (.ifCond .eq 11, 3) := dk_153 0 11 (dk_at dksX0_unique_0 5 rfl rfl)
theorem dX0_unique_8 : decode cX0_unique 8 = .ok (.aload_n 0, 1) := dk_42 (dk_at dksX0_unique_0 8 rfl rfl)
theorem dX0_unique_9 : decode cX0_unique 9 = .ok (.iload_n 2, 1) := dk_28 (dk_at dksX0_unique_0 9 rfl rfl)
theorem dX0_unique_10 : decode cX0_unique 10 = .ok (.invokevirtual 273, 3) := dk_182 1 17 (dk_at dksX0_unique_0 10 rfl rfl)
theorem dX0_unique_13 : decode cX0_unique 13 = .ok (.ifCond .ne 6, 3) := dk_154 0 6 (dk_at dksX0_unique_0 13 rfl rfl)
theorem dX0_unique_16 : decode cX0_unique 16 = .ok (.bipush (-2), 2) := dk_16 254 (dk_at dksX0_unique_0 16 rfl rfl)
theorem dX0_unique_18 : decode cX0_unique 18 = .ok (.ireturn, 1) := dk_172 (dk_at dksX0_unique_0 18 rfl rfl)
theorem dX0_unique_19 : decode cX0_unique 19 = .ok (.aload_n 0, 1) := dk_42 (dk_at dksX0_unique_0 19 rfl rfl)
theorem dX0_unique_20 : decode cX0_unique 20 = .ok (.aload_n 0, 1) := dk_42 (dk_at dksX0_unique_0 20 rfl rfl)
theorem dX0_unique_21 : decode cX0_unique 21 = .ok (.getfield 243, 3) := dk_180 0 243 (dk_at dksX0_unique_0 21 rfl rfl)
theorem dX0_unique_24 : decode cX0_unique 24 = .ok (.getfield 276, 3) := dk_180 1 20 (dk_at dksX0_unique_1 0 rfl rfl)
theorem dX0_unique_27 : decode cX0_unique 27 = .ok (.iload_n 2, 1) := dk_28 (dk_at dksX0_unique_1 3 rfl rfl)
theorem dX0_unique_28 : decode cX0_unique 28 = .ok (.aaload, 1) := dk_50 (dk_at dksX0_unique_1 4 rfl rfl)
theorem dX0_unique_29 : decode cX0_unique 29 = .ok (.getfield 299, 3) := dk_180 1 43 (dk_at dksX0_unique_1 5 rfl rfl)
theorem dX0_unique_32 : decode cX0_unique 32 = .ok (.invokevirtual 533, 3) := dk_182 2 21 (dk_at dksX0_unique_1 8 rfl rfl)
theorem dX0_unique_35 : decode cX0_unique 35 = .ok (.istore 4, 2) := dk_54 4 (dk_at dksX0_unique_1 11 rfl rfl)
theorem dX0_unique_37 : decode cX0_unique 37 = .ok (.iload_n 3, 1) := dk_29 (dk_at dksX0_unique_1 13 rfl rfl)
theorem dX0_unique_38 : decode cX0_unique 38 = .ok (.ifCond .eq 20, 3) := dk_153 0 20 (dk_at dksX0_unique_1 14 rfl rfl)
theorem dX0_unique_41 : decode cX0_unique 41 = .ok (.iload 4, 2) := dk_21 4 (dk_at dksX0_unique_1 17 rfl rfl)
theorem dX0_unique_43 : decode cX0_unique 43 = .ok (.ldc_w 434, 3) := dk_19 1 178 (dk_at dksX0_unique_1 19 rfl rfl)
theorem dX0_unique_46 : decode cX0_unique 46 = .ok (.if_icmp .ne 7, 3) := dk_160 0 7 (dk_at dksX0_unique_2 0 rfl rfl)
theorem dX0_unique_49 : decode cX0_unique 49 = .ok (.iconst (-1), 1) := dk_2 (dk_at dksX0_unique_2 3 rfl rfl)
theorem dX0_unique_50 : decode cX0_unique 50 = .ok (.goto 21, 3) := dk_167 0 21 (dk_at dksX0_unique_2 4 rfl rfl)
theorem dX0_unique_53 : decode cX0_unique 53 = .ok (.iload 4, 2) := dk_21 4 (dk_at dksX0_unique_2 7 rfl rfl)
theorem dX0_unique_55 : decode cX0_unique 55 = .ok (.goto 16, 3) := dk_167 0 16 (dk_at dksX0_unique_2 9 rfl rfl)
theorem dX0_unique_58 : decode cX0_unique 58 = .ok (.iload 4, 2) := dk_21 4 (dk_at dksX0_unique_2 12 rfl rfl)
theorem dX0_unique_60 : decode cX0_unique 60 = .ok (.ldc_w 434, 3) := dk_19 1 178 (dk_at dksX0_unique_2 14 rfl rfl)
theorem dX0_unique_63 : decode cX0_unique 63 = .ok (.if_icmp .ne 7, 3) := dk_160 0 7 (dk_at dksX0_unique_2 17 rfl rfl)
theorem dX0_unique_66 : decode cX0_unique 66 = .ok (.iconst 1, 1) := dk_4 (dk_at dksX0_unique_2 20 rfl rfl)
theorem dX0_unique_67 : decode cX0_unique 67 = .ok (.goto 4, 3) := dk_167 0 4 (dk_at dksX0_unique_2 21 rfl rfl)
theorem dX0_unique_70 : decode cX0_unique 70 = .ok (.iconst 0, 1) := dk_3 (dk_at dksX0_unique_3 0 rfl rfl)
theorem dX0_unique_71 : decode cX0_unique 71 = .ok (.ireturn, 1) := dk_172 (dk_at dksX0_unique_3 1 rfl rfl)
abbrev cX0_twofold : ByteArray := prog_1_method_66_code
def yX0_twofold : MethodName := ⟨RX0, "twofold", "(Ljava/util/ArrayList;)I"⟩
def dkwX0_twofold_8 : List UInt8 := [167, 255, 185, 42, 180, 0, 158, 4, 46, 172]
abbrev dktX0_twofold_8 : List UInt8 := dkwX0_twofold_8 ++ []
def dkwX0_twofold_7 : List UInt8 := [192, 1, 46, 180, 1, 58, 182, 2, 17, 128, 61, 132, 4, 1, 167, 255, 212, 132, 3, 1, 167, 255, 196]
abbrev dktX0_twofold_7 : List UInt8 := dkwX0_twofold_7 ++ dktX0_twofold_8
def dkwX0_twofold_6 : List UInt8 := [162, 0, 41, 42, 180, 0, 158, 29, 46, 19, 1, 178, 162, 0, 29, 28, 42, 29, 43, 21, 4, 182, 0, 237]
abbrev dktX0_twofold_6 : List UInt8 := dkwX0_twofold_6 ++ dktX0_twofold_7
def dkwX0_twofold_5 : List UInt8 := [153, 0, 73, 3, 61, 5, 62, 29, 17, 1, 0, 162, 0, 59, 3, 54, 4, 21, 4, 43, 182, 0, 3]
abbrev dktX0_twofold_5 : List UInt8 := dkwX0_twofold_5 ++ dktX0_twofold_6
def dkwX0_twofold_4 : List UInt8 := [25, 4, 180, 1, 61, 182, 2, 14, 87, 132, 3, 1, 167, 255, 186, 132, 2, 1, 167, 255, 170, 4, 61, 28]
abbrev dktX0_twofold_4 : List UInt8 := dkwX0_twofold_4 ++ dktX0_twofold_5
def dkwX0_twofold_3 : List UInt8 := [28, 29, 159, 0, 31, 25, 4, 25, 5, 182, 1, 179, 153, 0, 21, 42, 42, 25, 4, 25, 5, 182, 2, 12]
abbrev dktX0_twofold_3 : List UInt8 := dkwX0_twofold_3 ++ dktX0_twofold_4
def dkwX0_twofold_2 : List UInt8 := [182, 0, 237, 192, 1, 46, 180, 1, 58, 58, 4, 43, 29, 182, 0, 237, 192, 1, 46, 180, 1, 58, 58, 5]
abbrev dktX0_twofold_2 : List UInt8 := dkwX0_twofold_2 ++ dktX0_twofold_3
def dkwX0_twofold_1 : List UInt8 := [3, 61, 28, 43, 182, 0, 3, 162, 0, 84, 3, 62, 29, 43, 182, 0, 3, 162, 0, 68, 43, 28]
abbrev dktX0_twofold_1 : List UInt8 := dkwX0_twofold_1 ++ dktX0_twofold_2
def dkwX0_twofold_0 : List UInt8 := [3, 61, 28, 17, 1, 0, 162, 0, 18, 42, 180, 0, 158, 28, 19, 1, 178, 79, 132, 2, 1, 167, 255, 237]
abbrev dktX0_twofold_0 : List UInt8 := dkwX0_twofold_0 ++ dktX0_twofold_1
theorem dksX0_twofold_0 : cX0_twofold.data.toList.drop 0 = dktX0_twofold_0 := by decide +kernel
theorem dksX0_twofold_1 : cX0_twofold.data.toList.drop 24 = dktX0_twofold_1 := dk_seg dksX0_twofold_0 24 rfl rfl
theorem dksX0_twofold_2 : cX0_twofold.data.toList.drop 46 = dktX0_twofold_2 := dk_seg dksX0_twofold_1 22 rfl rfl
theorem dksX0_twofold_3 : cX0_twofold.data.toList.drop 70 = dktX0_twofold_3 := dk_seg dksX0_twofold_2 24 rfl rfl
theorem dksX0_twofold_4 : cX0_twofold.data.toList.drop 94 = dktX0_twofold_4 := dk_seg dksX0_twofold_3 24 rfl rfl
theorem dksX0_twofold_5 : cX0_twofold.data.toList.drop 118 = dktX0_twofold_5 := dk_seg dksX0_twofold_4 24 rfl rfl
theorem dksX0_twofold_6 : cX0_twofold.data.toList.drop 141 = dktX0_twofold_6 := dk_seg dksX0_twofold_5 23 rfl rfl
theorem dksX0_twofold_7 : cX0_twofold.data.toList.drop 165 = dktX0_twofold_7 := dk_seg dksX0_twofold_6 24 rfl rfl
theorem dksX0_twofold_8 : cX0_twofold.data.toList.drop 188 = dktX0_twofold_8 := dk_seg dksX0_twofold_7 23 rfl rfl
theorem dX0_twofold_0 : decode cX0_twofold 0 = .ok (.iconst 0, 1) := dk_3 (dk_at dksX0_twofold_0 0 rfl rfl)
theorem dX0_twofold_1 : decode cX0_twofold 1 = .ok (.istore_n 2, 1) := dk_61 (dk_at dksX0_twofold_0 1 rfl rfl)
theorem dX0_twofold_2 : decode cX0_twofold 2 = .ok (.iload_n 2, 1) := dk_28 (dk_at dksX0_twofold_0 2 rfl rfl)
theorem dX0_twofold_3 : decode cX0_twofold 3 = .ok (.sipush 256, 3) := dk_17 1 0 (dk_at dksX0_twofold_0 3 rfl rfl)
theorem dX0_twofold_6 : decode cX0_twofold 6 = .ok (.if_icmp .ge 18, 3) := dk_162 0 18 (dk_at dksX0_twofold_0 6 rfl rfl)
theorem dX0_twofold_9 : decode cX0_twofold 9 = .ok (.aload_n 0, 1) := dk_42 (dk_at dksX0_twofold_0 9 rfl rfl)
theorem dX0_twofold_10 : decode cX0_twofold 10 = .ok (.getfield 158, 3) := dk_180 0 158 (dk_at dksX0_twofold_0 10 rfl rfl)
theorem dX0_twofold_13 : decode cX0_twofold 13 = .ok (.iload_n 2, 1) := dk_28 (dk_at dksX0_twofold_0 13 rfl rfl)
theorem dX0_twofold_14 : decode cX0_twofold 14 = .ok (.ldc_w 434, 3) := dk_19 1 178 (dk_at dksX0_twofold_0 14 rfl rfl)
theorem dX0_twofold_17 : decode cX0_twofold 17 = .ok (.iastore, 1) := dk_79 (dk_at dksX0_twofold_0 17 rfl rfl)
theorem dX0_twofold_18 : decode cX0_twofold 18 = .ok (.iinc 2 1, 3) := dk_132 2 1 (dk_at dksX0_twofold_0 18 rfl rfl)
theorem dX0_twofold_21 : decode cX0_twofold 21 = .ok (.goto (-19), 3) := dk_167 255 237 (dk_at dksX0_twofold_0 21 rfl rfl)
theorem dX0_twofold_24 : decode cX0_twofold 24 = .ok (.iconst 0, 1) := dk_3 (dk_at dksX0_twofold_1 0 rfl rfl)
theorem dX0_twofold_25 : decode cX0_twofold 25 = .ok (.istore_n 2, 1) := dk_61 (dk_at dksX0_twofold_1 1 rfl rfl)
theorem dX0_twofold_26 : decode cX0_twofold 26 = .ok (.iload_n 2, 1) := dk_28 (dk_at dksX0_twofold_1 2 rfl rfl)
theorem dX0_twofold_27 : decode cX0_twofold 27 = .ok (.aload_n 1, 1) := dk_43 (dk_at dksX0_twofold_1 3 rfl rfl)
theorem dX0_twofold_28 : decode cX0_twofold 28 = .ok (.invokevirtual 3, 3) := dk_182 0 3 (dk_at dksX0_twofold_1 4 rfl rfl)
theorem dX0_twofold_31 : decode cX0_twofold 31 = .ok (.if_icmp .ge 84, 3) := dk_162 0 84 (dk_at dksX0_twofold_1 7 rfl rfl)
theorem dX0_twofold_34 : decode cX0_twofold 34 = .ok (.iconst 0, 1) := dk_3 (dk_at dksX0_twofold_1 10 rfl rfl)
theorem dX0_twofold_35 : decode cX0_twofold 35 = .ok (.istore_n 3, 1) := dk_62 (dk_at dksX0_twofold_1 11 rfl rfl)
theorem dX0_twofold_36 : decode cX0_twofold 36 = .ok (.iload_n 3, 1) := dk_29 (dk_at dksX0_twofold_1 12 rfl rfl)
theorem dX0_twofold_37 : decode cX0_twofold 37 = .ok (.aload_n 1, 1) := dk_43 (dk_at dksX0_twofold_1 13 rfl rfl)
theorem dX0_twofold_38 : decode cX0_twofold 38 = .ok (.invokevirtual 3, 3) := dk_182 0 3 (dk_at dksX0_twofold_1 14 rfl rfl)
theorem dX0_twofold_41 : decode cX0_twofold 41 = .ok (.if_icmp .ge 68, 3) := dk_162 0 68 (dk_at dksX0_twofold_1 17 rfl rfl)
theorem dX0_twofold_44 : decode cX0_twofold 44 = .ok (.aload_n 1, 1) := dk_43 (dk_at dksX0_twofold_1 20 rfl rfl)
theorem dX0_twofold_45 : decode cX0_twofold 45 = .ok (.iload_n 2, 1) := dk_28 (dk_at dksX0_twofold_1 21 rfl rfl)
theorem dX0_twofold_46 : decode cX0_twofold 46 = .ok (.invokevirtual 237, 3) := dk_182 0 237 (dk_at dksX0_twofold_2 0 rfl rfl)
theorem dX0_twofold_49 : decode cX0_twofold 49 = .ok (.checkcast 302, 3) := dk_192 1 46 (dk_at dksX0_twofold_2 3 rfl rfl)
theorem dX0_twofold_52 : decode cX0_twofold 52 = .ok (.getfield 314, 3) := dk_180 1 58 (dk_at dksX0_twofold_2 6 rfl rfl)
theorem dX0_twofold_55 : decode cX0_twofold 55 = .ok (.astore 4, 2) := dk_58 4 (dk_at dksX0_twofold_2 9 rfl rfl)
theorem dX0_twofold_57 : decode cX0_twofold 57 = .ok (.aload_n 1, 1) := dk_43 (dk_at dksX0_twofold_2 11 rfl rfl)
theorem dX0_twofold_58 : decode cX0_twofold 58 = .ok (.iload_n 3, 1) := dk_29 (dk_at dksX0_twofold_2 12 rfl rfl)
theorem dX0_twofold_59 : decode cX0_twofold 59 = .ok (.invokevirtual 237, 3) := dk_182 0 237 (dk_at dksX0_twofold_2 13 rfl rfl)
theorem dX0_twofold_62 : decode cX0_twofold 62 = .ok (.checkcast 302, 3) := dk_192 1 46 (dk_at dksX0_twofold_2 16 rfl rfl)
theorem dX0_twofold_65 : decode cX0_twofold 65 = .ok (.getfield 314, 3) := dk_180 1 58 (dk_at dksX0_twofold_2 19 rfl rfl)
theorem dX0_twofold_68 : decode cX0_twofold 68 = .ok (.astore 5, 2) := dk_58 5 (dk_at dksX0_twofold_2 22 rfl rfl)
theorem dX0_twofold_70 : decode cX0_twofold 70 = .ok (.iload_n 2, 1) := dk_28 (dk_at dksX0_twofold_3 0 rfl rfl)
theorem dX0_twofold_71 : decode cX0_twofold 71 = .ok (.iload_n 3, 1) := dk_29 (dk_at dksX0_twofold_3 1 rfl rfl)
theorem dX0_twofold_72 : decode cX0_twofold 72 = .ok (.if_icmp .eq 31, 3) := dk_159 0 31 (dk_at dksX0_twofold_3 2 rfl rfl)
theorem dX0_twofold_75 : decode cX0_twofold 75 = .ok (.aload 4, 2) := dk_25 4 (dk_at dksX0_twofold_3 5 rfl rfl)
theorem dX0_twofold_77 : decode cX0_twofold 77 = .ok (.aload 5, 2) := dk_25 5 (dk_at dksX0_twofold_3 7 rfl rfl)
theorem dX0_twofold_79 : decode cX0_twofold 79 = .ok (.invokevirtual 435, 3) := dk_182 1 179 (dk_at dksX0_twofold_3 9 rfl rfl)
theorem dX0_twofold_82 : decode cX0_twofold 82 = .ok (.ifCond .eq 21, 3) := dk_153 0 21 (dk_at dksX0_twofold_3 12 rfl rfl)
theorem dX0_twofold_85 : decode cX0_twofold 85 = .ok (.aload_n 0, 1) := dk_42 (dk_at dksX0_twofold_3 15 rfl rfl)
theorem dX0_twofold_86 : decode cX0_twofold 86 = .ok (.aload_n 0, 1) := dk_42 (dk_at dksX0_twofold_3 16 rfl rfl)
theorem dX0_twofold_87 : decode cX0_twofold 87 = .ok (.aload 4, 2) := dk_25 4 (dk_at dksX0_twofold_3 17 rfl rfl)
theorem dX0_twofold_89 : decode cX0_twofold 89 = .ok (.aload 5, 2) := dk_25 5 (dk_at dksX0_twofold_3 19 rfl rfl)
theorem dX0_twofold_91 : decode cX0_twofold 91 = .ok (.invokevirtual 524, 3) := dk_182 2 12 (dk_at dksX0_twofold_3 21 rfl rfl)
theorem dX0_twofold_94 : decode cX0_twofold 94 = .ok (.aload 4, 2) := dk_25 4 (dk_at dksX0_twofold_4 0 rfl rfl)
theorem dX0_twofold_96 : decode cX0_twofold 96 = .ok (.getfield 317, 3) := dk_180 1 61 (dk_at dksX0_twofold_4 2 rfl rfl)
theorem dX0_twofold_99 : decode cX0_twofold 99 = .ok (.invokevirtual 526, 3) := dk_182 2 14 (dk_at dksX0_twofold_4 5 rfl rfl)
theorem dX0_twofold_102 : decode cX0_twofold 102 = .ok (.pop, 1) := dk_87 (dk_at dksX0_twofold_4 8 rfl rfl)
theorem dX0_twofold_103 : decode cX0_twofold 103 = .ok (.iinc 3 1, 3) := dk_132 3 1 (dk_at dksX0_twofold_4 9 rfl rfl)
theorem dX0_twofold_106 : decode cX0_twofold 106 = .ok (.goto (-70), 3) := dk_167 255 186 (dk_at dksX0_twofold_4 12 rfl rfl)
theorem dX0_twofold_109 : decode cX0_twofold 109 = .ok (.iinc 2 1, 3) := dk_132 2 1 (dk_at dksX0_twofold_4 15 rfl rfl)
theorem dX0_twofold_112 : decode cX0_twofold 112 = .ok (.goto (-86), 3) := dk_167 255 170 (dk_at dksX0_twofold_4 18 rfl rfl)
theorem dX0_twofold_115 : decode cX0_twofold 115 = .ok (.iconst 1, 1) := dk_4 (dk_at dksX0_twofold_4 21 rfl rfl)
theorem dX0_twofold_116 : decode cX0_twofold 116 = .ok (.istore_n 2, 1) := dk_61 (dk_at dksX0_twofold_4 22 rfl rfl)
theorem dX0_twofold_117 : decode cX0_twofold 117 = .ok (.iload_n 2, 1) := dk_28 (dk_at dksX0_twofold_4 23 rfl rfl)
theorem dX0_twofold_118 : decode cX0_twofold 118 = .ok (.ifCond .eq 73, 3) := dk_153 0 73 (dk_at dksX0_twofold_5 0 rfl rfl)
theorem dX0_twofold_121 : decode cX0_twofold 121 = .ok (.iconst 0, 1) := dk_3 (dk_at dksX0_twofold_5 3 rfl rfl)
theorem dX0_twofold_122 : decode cX0_twofold 122 = .ok (.istore_n 2, 1) := dk_61 (dk_at dksX0_twofold_5 4 rfl rfl)
theorem dX0_twofold_123 : decode cX0_twofold 123 = .ok (.iconst 2, 1) := dk_5 (dk_at dksX0_twofold_5 5 rfl rfl)
theorem dX0_twofold_124 : decode cX0_twofold 124 = .ok (.istore_n 3, 1) := dk_62 (dk_at dksX0_twofold_5 6 rfl rfl)
theorem dX0_twofold_125 : decode cX0_twofold 125 = .ok (.iload_n 3, 1) := dk_29 (dk_at dksX0_twofold_5 7 rfl rfl)
theorem dX0_twofold_126 : decode cX0_twofold 126 = .ok (.sipush 256, 3) := dk_17 1 0 (dk_at dksX0_twofold_5 8 rfl rfl)
theorem dX0_twofold_129 : decode cX0_twofold 129 = .ok (.if_icmp .ge 59, 3) := dk_162 0 59 (dk_at dksX0_twofold_5 11 rfl rfl)
theorem dX0_twofold_132 : decode cX0_twofold 132 = .ok (.iconst 0, 1) := dk_3 (dk_at dksX0_twofold_5 14 rfl rfl)
theorem dX0_twofold_133 : decode cX0_twofold 133 = .ok (.istore 4, 2) := dk_54 4 (dk_at dksX0_twofold_5 15 rfl rfl)
theorem dX0_twofold_135 : decode cX0_twofold 135 = .ok (.iload 4, 2) := dk_21 4 (dk_at dksX0_twofold_5 17 rfl rfl)
theorem dX0_twofold_137 : decode cX0_twofold 137 = .ok (.aload_n 1, 1) := dk_43 (dk_at dksX0_twofold_5 19 rfl rfl)
theorem dX0_twofold_138 : decode cX0_twofold 138 = .ok (.invokevirtual 3, 3) := dk_182 0 3 (dk_at dksX0_twofold_5 20 rfl rfl)
theorem dX0_twofold_141 : decode cX0_twofold 141 = .ok (.if_icmp .ge 41, 3) := dk_162 0 41 (dk_at dksX0_twofold_6 0 rfl rfl)
theorem dX0_twofold_144 : decode cX0_twofold 144 = .ok (.aload_n 0, 1) := dk_42 (dk_at dksX0_twofold_6 3 rfl rfl)
theorem dX0_twofold_145 : decode cX0_twofold 145 = .ok (.getfield 158, 3) := dk_180 0 158 (dk_at dksX0_twofold_6 4 rfl rfl)
theorem dX0_twofold_148 : decode cX0_twofold 148 = .ok (.iload_n 3, 1) := dk_29 (dk_at dksX0_twofold_6 7 rfl rfl)
theorem dX0_twofold_149 : decode cX0_twofold 149 = .ok (.iaload, 1) := dk_46 (dk_at dksX0_twofold_6 8 rfl rfl)
theorem dX0_twofold_150 : decode cX0_twofold 150 = .ok (.ldc_w 434, 3) := dk_19 1 178 (dk_at dksX0_twofold_6 9 rfl rfl)
theorem dX0_twofold_153 : decode cX0_twofold 153 = .ok (.if_icmp .ge 29, 3) := dk_162 0 29 (dk_at dksX0_twofold_6 12 rfl rfl)
theorem dX0_twofold_156 : decode cX0_twofold 156 = .ok (.iload_n 2, 1) := dk_28 (dk_at dksX0_twofold_6 15 rfl rfl)
theorem dX0_twofold_157 : decode cX0_twofold 157 = .ok (.aload_n 0, 1) := dk_42 (dk_at dksX0_twofold_6 16 rfl rfl)
theorem dX0_twofold_158 : decode cX0_twofold 158 = .ok (.iload_n 3, 1) := dk_29 (dk_at dksX0_twofold_6 17 rfl rfl)
theorem dX0_twofold_159 : decode cX0_twofold 159 = .ok (.aload_n 1, 1) := dk_43 (dk_at dksX0_twofold_6 18 rfl rfl)
theorem dX0_twofold_160 : decode cX0_twofold 160 = .ok (.iload 4, 2) := dk_21 4 (dk_at dksX0_twofold_6 19 rfl rfl)
theorem dX0_twofold_162 : decode cX0_twofold 162 = .ok (.invokevirtual 237, 3) := dk_182 0 237 (dk_at dksX0_twofold_6 21 rfl rfl)
theorem dX0_twofold_165 : decode cX0_twofold 165 = .ok (.checkcast 302, 3) := dk_192 1 46 (dk_at dksX0_twofold_7 0 rfl rfl)
theorem dX0_twofold_168 : decode cX0_twofold 168 = .ok (.getfield 314, 3) := dk_180 1 58 (dk_at dksX0_twofold_7 3 rfl rfl)
theorem dX0_twofold_171 : decode cX0_twofold 171 = .ok (.invokevirtual 529, 3) := dk_182 2 17 (dk_at dksX0_twofold_7 6 rfl rfl)
theorem dX0_twofold_174 : decode cX0_twofold 174 = .ok (.ior, 1) := dk_128 (dk_at dksX0_twofold_7 9 rfl rfl)
theorem dX0_twofold_175 : decode cX0_twofold 175 = .ok (.istore_n 2, 1) := dk_61 (dk_at dksX0_twofold_7 10 rfl rfl)
theorem dX0_twofold_176 : decode cX0_twofold 176 = .ok (.iinc 4 1, 3) := dk_132 4 1 (dk_at dksX0_twofold_7 11 rfl rfl)
theorem dX0_twofold_179 : decode cX0_twofold 179 = .ok (.goto (-44), 3) := dk_167 255 212 (dk_at dksX0_twofold_7 14 rfl rfl)
theorem dX0_twofold_182 : decode cX0_twofold 182 = .ok (.iinc 3 1, 3) := dk_132 3 1 (dk_at dksX0_twofold_7 17 rfl rfl)
theorem dX0_twofold_185 : decode cX0_twofold 185 = .ok (.goto (-60), 3) := dk_167 255 196 (dk_at dksX0_twofold_7 20 rfl rfl)
theorem dX0_twofold_188 : decode cX0_twofold 188 = .ok (.goto (-71), 3) := dk_167 255 185 (dk_at dksX0_twofold_8 0 rfl rfl)
theorem dX0_twofold_191 : decode cX0_twofold 191 = .ok (.aload_n 0, 1) := dk_42 (dk_at dksX0_twofold_8 3 rfl rfl)
theorem dX0_twofold_192 : decode cX0_twofold 192 = .ok (.getfield 158, 3) := dk_180 0 158 (dk_at dksX0_twofold_8 4 rfl rfl)
theorem dX0_twofold_195 : decode cX0_twofold 195 = .ok (.iconst 1, 1) := dk_4 (dk_at dksX0_twofold_8 7 rfl rfl)
theorem dX0_twofold_196 : decode cX0_twofold 196 = .ok (.iaload, 1) := dk_46 (dk_at dksX0_twofold_8 8 rfl rfl)
theorem dX0_twofold_197 : decode cX0_twofold 197 = .ok (.ireturn, 1) := dk_172 (dk_at dksX0_twofold_8 9 rfl rfl)
abbrev cX0_left : ByteArray := prog_1_method_62_code
def yX0_left : MethodName := ⟨RX0, "left", "(LOneDrum$Beats;LOneDrum$Beats;)I"⟩
def dkwX0_left_2 : List UInt8 := [182, 2, 5, 172]
abbrev dktX0_left_2 : List UInt8 := dkwX0_left_2 ++ []
def dkwX0_left_1 : List UInt8 := [180, 0, 164, 43, 180, 1, 64, 29, 51, 182, 1, 220, 132, 3, 1, 167, 255, 232, 42, 42, 180, 0, 164]
abbrev dktX0_left_1 : List UInt8 := dkwX0_left_1 ++ dktX0_left_2
def dkwX0_left_0 : List UInt8 := [42, 180, 0, 164, 3, 181, 1, 61, 44, 180, 1, 61, 62, 29, 43, 180, 1, 61, 162, 0, 22, 42]
abbrev dktX0_left_0 : List UInt8 := dkwX0_left_0 ++ dktX0_left_1
theorem dksX0_left_0 : cX0_left.data.toList.drop 0 = dktX0_left_0 := by decide +kernel
theorem dksX0_left_1 : cX0_left.data.toList.drop 22 = dktX0_left_1 := dk_seg dksX0_left_0 22 rfl rfl
theorem dksX0_left_2 : cX0_left.data.toList.drop 45 = dktX0_left_2 := dk_seg dksX0_left_1 23 rfl rfl
theorem dX0_left_0 : decode cX0_left 0 = .ok (.aload_n 0, 1) := dk_42 (dk_at dksX0_left_0 0 rfl rfl)
theorem dX0_left_1 : decode cX0_left 1 = .ok (.getfield 164, 3) := dk_180 0 164 (dk_at dksX0_left_0 1 rfl rfl)
theorem dX0_left_4 : decode cX0_left 4 = .ok (.iconst 0, 1) := dk_3 (dk_at dksX0_left_0 4 rfl rfl)
theorem dX0_left_5 : decode cX0_left 5 = .ok (.putfield 317, 3) := dk_181 1 61 (dk_at dksX0_left_0 5 rfl rfl)
theorem dX0_left_8 : decode cX0_left 8 = .ok (.aload_n 2, 1) := dk_44 (dk_at dksX0_left_0 8 rfl rfl)
theorem dX0_left_9 : decode cX0_left 9 = .ok (.getfield 317, 3) := dk_180 1 61 (dk_at dksX0_left_0 9 rfl rfl)
theorem dX0_left_12 : decode cX0_left 12 = .ok (.istore_n 3, 1) := dk_62 (dk_at dksX0_left_0 12 rfl rfl)
theorem dX0_left_13 : decode cX0_left 13 = .ok (.iload_n 3, 1) := dk_29 (dk_at dksX0_left_0 13 rfl rfl)
theorem dX0_left_14 : decode cX0_left 14 = .ok (.aload_n 1, 1) := dk_43 (dk_at dksX0_left_0 14 rfl rfl)
theorem dX0_left_15 : decode cX0_left 15 = .ok (.getfield 317, 3) := dk_180 1 61 (dk_at dksX0_left_0 15 rfl rfl)
theorem dX0_left_18 : decode cX0_left 18 = .ok (.if_icmp .ge 22, 3) := dk_162 0 22 (dk_at dksX0_left_0 18 rfl rfl)
theorem dX0_left_21 : decode cX0_left 21 = .ok (.aload_n 0, 1) := dk_42 (dk_at dksX0_left_0 21 rfl rfl)
theorem dX0_left_22 : decode cX0_left 22 = .ok (.getfield 164, 3) := dk_180 0 164 (dk_at dksX0_left_1 0 rfl rfl)
theorem dX0_left_25 : decode cX0_left 25 = .ok (.aload_n 1, 1) := dk_43 (dk_at dksX0_left_1 3 rfl rfl)
theorem dX0_left_26 : decode cX0_left 26 = .ok (.getfield 320, 3) := dk_180 1 64 (dk_at dksX0_left_1 4 rfl rfl)
theorem dX0_left_29 : decode cX0_left 29 = .ok (.iload_n 3, 1) := dk_29 (dk_at dksX0_left_1 7 rfl rfl)
theorem dX0_left_30 : decode cX0_left 30 = .ok (.baload, 1) := dk_51 (dk_at dksX0_left_1 8 rfl rfl)
theorem dX0_left_31 : decode cX0_left 31 = .ok (.invokevirtual 476, 3) := dk_182 1 220 (dk_at dksX0_left_1 9 rfl rfl)
theorem dX0_left_34 : decode cX0_left 34 = .ok (.iinc 3 1, 3) := dk_132 3 1 (dk_at dksX0_left_1 12 rfl rfl)
theorem dX0_left_37 : decode cX0_left 37 = .ok (.goto (-24), 3) := dk_167 255 232 (dk_at dksX0_left_1 15 rfl rfl)
theorem dX0_left_40 : decode cX0_left 40 = .ok (.aload_n 0, 1) := dk_42 (dk_at dksX0_left_1 18 rfl rfl)
theorem dX0_left_41 : decode cX0_left 41 = .ok (.aload_n 0, 1) := dk_42 (dk_at dksX0_left_1 19 rfl rfl)
theorem dX0_left_42 : decode cX0_left 42 = .ok (.getfield 164, 3) := dk_180 0 164 (dk_at dksX0_left_1 20 rfl rfl)
theorem dX0_left_45 : decode cX0_left 45 = .ok (.invokevirtual 517, 3) := dk_182 2 5 (dk_at dksX0_left_2 0 rfl rfl)
theorem dX0_left_48 : decode cX0_left 48 = .ok (.ireturn, 1) := dk_172 (dk_at dksX0_left_2 3 rfl rfl)
abbrev cX0_numberOf : ByteArray := prog_1_method_61_code
def yX0_numberOf : MethodName := ⟨RX0, "numberOf", "(LOneDrum$Beats;)I"⟩
def dkwX0_numberOf_1 : List UInt8 := [132, 3, 1, 167, 255, 234, 28, 172]
abbrev dktX0_numberOf_1 : List UInt8 := dkwX0_numberOf_1 ++ []
def dkwX0_numberOf_0 : List UInt8 := [4, 61, 3, 62, 29, 43, 180, 1, 61, 162, 0, 20, 7, 28, 104, 43, 180, 1, 64, 29, 51, 96, 61]
abbrev dktX0_numberOf_0 : List UInt8 := dkwX0_numberOf_0 ++ dktX0_numberOf_1
theorem dksX0_numberOf_0 : cX0_numberOf.data.toList.drop 0 = dktX0_numberOf_0 := by decide +kernel
theorem dksX0_numberOf_1 : cX0_numberOf.data.toList.drop 23 = dktX0_numberOf_1 := dk_seg dksX0_numberOf_0 23 rfl rfl
theorem dX0_numberOf_0 : decode cX0_numberOf 0 = .ok (.iconst 1, 1) := dk_4 (dk_at dksX0_numberOf_0 0 rfl rfl)
theorem dX0_numberOf_1 : decode cX0_numberOf 1 = .ok (.istore_n 2, 1) := dk_61 (dk_at dksX0_numberOf_0 1 rfl rfl)
theorem dX0_numberOf_2 : decode cX0_numberOf 2 = .ok (.iconst 0, 1) := dk_3 (dk_at dksX0_numberOf_0 2 rfl rfl)
theorem dX0_numberOf_3 : decode cX0_numberOf 3 = .ok (.istore_n 3, 1) := dk_62 (dk_at dksX0_numberOf_0 3 rfl rfl)
theorem dX0_numberOf_4 : decode cX0_numberOf 4 = .ok (.iload_n 3, 1) := dk_29 (dk_at dksX0_numberOf_0 4 rfl rfl)
theorem dX0_numberOf_5 : decode cX0_numberOf 5 = .ok (.aload_n 1, 1) := dk_43 (dk_at dksX0_numberOf_0 5 rfl rfl)
theorem dX0_numberOf_6 : decode cX0_numberOf 6 = .ok (.getfield 317, 3) := dk_180 1 61 (dk_at dksX0_numberOf_0 6 rfl rfl)
theorem dX0_numberOf_9 : decode cX0_numberOf 9 = .ok (.if_icmp .ge 20, 3) := dk_162 0 20 (dk_at dksX0_numberOf_0 9 rfl rfl)
theorem dX0_numberOf_12 : decode cX0_numberOf 12 = .ok (.iconst 4, 1) := dk_7 (dk_at dksX0_numberOf_0 12 rfl rfl)
theorem dX0_numberOf_13 : decode cX0_numberOf 13 = .ok (.iload_n 2, 1) := dk_28 (dk_at dksX0_numberOf_0 13 rfl rfl)
theorem dX0_numberOf_14 : decode cX0_numberOf 14 = .ok (.imul, 1) := dk_104 (dk_at dksX0_numberOf_0 14 rfl rfl)
theorem dX0_numberOf_15 : decode cX0_numberOf 15 = .ok (.aload_n 1, 1) := dk_43 (dk_at dksX0_numberOf_0 15 rfl rfl)
theorem dX0_numberOf_16 : decode cX0_numberOf 16 = .ok (.getfield 320, 3) := dk_180 1 64 (dk_at dksX0_numberOf_0 16 rfl rfl)
theorem dX0_numberOf_19 : decode cX0_numberOf 19 = .ok (.iload_n 3, 1) := dk_29 (dk_at dksX0_numberOf_0 19 rfl rfl)
theorem dX0_numberOf_20 : decode cX0_numberOf 20 = .ok (.baload, 1) := dk_51 (dk_at dksX0_numberOf_0 20 rfl rfl)
theorem dX0_numberOf_21 : decode cX0_numberOf 21 = .ok (.iadd, 1) := dk_96 (dk_at dksX0_numberOf_0 21 rfl rfl)
theorem dX0_numberOf_22 : decode cX0_numberOf 22 = .ok (.istore_n 2, 1) := dk_61 (dk_at dksX0_numberOf_0 22 rfl rfl)
theorem dX0_numberOf_23 : decode cX0_numberOf 23 = .ok (.iinc 3 1, 3) := dk_132 3 1 (dk_at dksX0_numberOf_1 0 rfl rfl)
theorem dX0_numberOf_26 : decode cX0_numberOf 26 = .ok (.goto (-22), 3) := dk_167 255 234 (dk_at dksX0_numberOf_1 3 rfl rfl)
theorem dX0_numberOf_29 : decode cX0_numberOf 29 = .ok (.iload_n 2, 1) := dk_28 (dk_at dksX0_numberOf_1 6 rfl rfl)
theorem dX0_numberOf_30 : decode cX0_numberOf 30 = .ok (.ireturn, 1) := dk_172 (dk_at dksX0_numberOf_1 7 rfl rfl)
abbrev cX0_lessens : ByteArray := prog_1_method_63_code
def yX0_lessens : MethodName := ⟨RX0, "lessens", "(II)Z"⟩
def dkwX0_lessens_1 : List UInt8 := [180, 0, 158, 27, 46, 28, 184, 1, 169, 79, 29, 172]
abbrev dktX0_lessens_1 : List UInt8 := dkwX0_lessens_1 ++ []
def dkwX0_lessens_0 : List UInt8 := [28, 42, 180, 0, 158, 27, 46, 162, 0, 7, 4, 167, 0, 4, 3, 62, 42, 180, 0, 158, 27, 42]
abbrev dktX0_lessens_0 : List UInt8 := dkwX0_lessens_0 ++ dktX0_lessens_1
theorem dksX0_lessens_0 : cX0_lessens.data.toList.drop 0 = dktX0_lessens_0 := by decide +kernel
theorem dksX0_lessens_1 : cX0_lessens.data.toList.drop 22 = dktX0_lessens_1 := dk_seg dksX0_lessens_0 22 rfl rfl
theorem dX0_lessens_0 : decode cX0_lessens 0 = .ok (.iload_n 2, 1) := dk_28 (dk_at dksX0_lessens_0 0 rfl rfl)
theorem dX0_lessens_1 : decode cX0_lessens 1 = .ok (.aload_n 0, 1) := dk_42 (dk_at dksX0_lessens_0 1 rfl rfl)
theorem dX0_lessens_2 : decode cX0_lessens 2 = .ok (.getfield 158, 3) := dk_180 0 158 (dk_at dksX0_lessens_0 2 rfl rfl)
theorem dX0_lessens_5 : decode cX0_lessens 5 = .ok (.iload_n 1, 1) := dk_27 (dk_at dksX0_lessens_0 5 rfl rfl)
theorem dX0_lessens_6 : decode cX0_lessens 6 = .ok (.iaload, 1) := dk_46 (dk_at dksX0_lessens_0 6 rfl rfl)
theorem dX0_lessens_7 : decode cX0_lessens 7 = .ok (.if_icmp .ge 7, 3) := dk_162 0 7 (dk_at dksX0_lessens_0 7 rfl rfl)
theorem dX0_lessens_10 : decode cX0_lessens 10 = .ok (.iconst 1, 1) := dk_4 (dk_at dksX0_lessens_0 10 rfl rfl)
theorem dX0_lessens_11 : decode cX0_lessens 11 = .ok (.goto 4, 3) := dk_167 0 4 (dk_at dksX0_lessens_0 11 rfl rfl)
theorem dX0_lessens_14 : decode cX0_lessens 14 = .ok (.iconst 0, 1) := dk_3 (dk_at dksX0_lessens_0 14 rfl rfl)
theorem dX0_lessens_15 : decode cX0_lessens 15 = .ok (.istore_n 3, 1) := dk_62 (dk_at dksX0_lessens_0 15 rfl rfl)
theorem dX0_lessens_16 : decode cX0_lessens 16 = .ok (.aload_n 0, 1) := dk_42 (dk_at dksX0_lessens_0 16 rfl rfl)
theorem dX0_lessens_17 : decode cX0_lessens 17 = .ok (.getfield 158, 3) := dk_180 0 158 (dk_at dksX0_lessens_0 17 rfl rfl)
theorem dX0_lessens_20 : decode cX0_lessens 20 = .ok (.iload_n 1, 1) := dk_27 (dk_at dksX0_lessens_0 20 rfl rfl)
theorem dX0_lessens_21 : decode cX0_lessens 21 = .ok (.aload_n 0, 1) := dk_42 (dk_at dksX0_lessens_0 21 rfl rfl)
theorem dX0_lessens_22 : decode cX0_lessens 22 = .ok (.getfield 158, 3) := dk_180 0 158 (dk_at dksX0_lessens_1 0 rfl rfl)
theorem dX0_lessens_25 : decode cX0_lessens 25 = .ok (.iload_n 1, 1) := dk_27 (dk_at dksX0_lessens_1 3 rfl rfl)
theorem dX0_lessens_26 : decode cX0_lessens 26 = .ok (.iaload, 1) := dk_46 (dk_at dksX0_lessens_1 4 rfl rfl)
theorem dX0_lessens_27 : decode cX0_lessens 27 = .ok (.iload_n 2, 1) := dk_28 (dk_at dksX0_lessens_1 5 rfl rfl)
theorem dX0_lessens_28 : decode cX0_lessens 28 = .ok (.invokestatic 425, 3) := dk_184 1 169 (dk_at dksX0_lessens_1 6 rfl rfl)
theorem dX0_lessens_31 : decode cX0_lessens 31 = .ok (.iastore, 1) := dk_79 (dk_at dksX0_lessens_1 9 rfl rfl)
theorem dX0_lessens_32 : decode cX0_lessens 32 = .ok (.iload_n 3, 1) := dk_29 (dk_at dksX0_lessens_1 10 rfl rfl)
theorem dX0_lessens_33 : decode cX0_lessens 33 = .ok (.ireturn, 1) := dk_172 (dk_at dksX0_lessens_1 11 rfl rfl)
abbrev cX0_goesOn : ByteArray := prog_1_method_65_code
def yX0_goesOn : MethodName := ⟨RX0, "goesOn", "(ILOneDrum$Beats;)Z"⟩
def dkwX0_goesOn_3 : List UInt8 := [180, 0, 161, 180, 1, 61, 100, 182, 2, 14, 153, 0, 7, 4, 167, 0, 4, 3, 172]
abbrev dktX0_goesOn_3 : List UInt8 := dkwX0_goesOn_3 ++ []
def dkwX0_goesOn_2 : List UInt8 := [42, 42, 44, 42, 180, 0, 161, 182, 2, 12, 42, 180, 0, 158, 27, 46, 44, 180, 1, 61, 96, 42]
abbrev dktX0_goesOn_2 : List UInt8 := dkwX0_goesOn_2 ++ dktX0_goesOn_3
def dkwX0_goesOn_1 : List UInt8 := [182, 2, 12, 42, 180, 0, 158, 27, 46, 182, 2, 14, 172, 44, 42, 180, 0, 161, 182, 1, 179, 153, 0, 42]
abbrev dktX0_goesOn_1 : List UInt8 := dkwX0_goesOn_1 ++ dktX0_goesOn_2
def dkwX0_goesOn_0 : List UInt8 := [42, 27, 182, 2, 9, 42, 180, 0, 161, 44, 182, 1, 179, 153, 0, 23, 42, 42, 42, 180, 0, 161, 44]
abbrev dktX0_goesOn_0 : List UInt8 := dkwX0_goesOn_0 ++ dktX0_goesOn_1
theorem dksX0_goesOn_0 : cX0_goesOn.data.toList.drop 0 = dktX0_goesOn_0 := by decide +kernel
theorem dksX0_goesOn_1 : cX0_goesOn.data.toList.drop 23 = dktX0_goesOn_1 := dk_seg dksX0_goesOn_0 23 rfl rfl
theorem dksX0_goesOn_2 : cX0_goesOn.data.toList.drop 47 = dktX0_goesOn_2 := dk_seg dksX0_goesOn_1 24 rfl rfl
theorem dksX0_goesOn_3 : cX0_goesOn.data.toList.drop 69 = dktX0_goesOn_3 := dk_seg dksX0_goesOn_2 22 rfl rfl
theorem dX0_goesOn_0 : decode cX0_goesOn 0 = .ok (.aload_n 0, 1) := dk_42 (dk_at dksX0_goesOn_0 0 rfl rfl)
theorem dX0_goesOn_1 : decode cX0_goesOn 1 = .ok (.iload_n 1, 1) := dk_27 (dk_at dksX0_goesOn_0 1 rfl rfl)
theorem dX0_goesOn_2 : decode cX0_goesOn 2 = .ok (.invokevirtual 521, 3) := dk_182 2 9 (dk_at dksX0_goesOn_0 2 rfl rfl)
theorem dX0_goesOn_5 : decode cX0_goesOn 5 = .ok (.aload_n 0, 1) := dk_42 (dk_at dksX0_goesOn_0 5 rfl rfl)
theorem dX0_goesOn_6 : decode cX0_goesOn 6 = .ok (.getfield 161, 3) := dk_180 0 161 (dk_at dksX0_goesOn_0 6 rfl rfl)
theorem dX0_goesOn_9 : decode cX0_goesOn 9 = .ok (.aload_n 2, 1) := dk_44 (dk_at dksX0_goesOn_0 9 rfl rfl)
theorem dX0_goesOn_10 : decode cX0_goesOn 10 = .ok (.invokevirtual 435, 3) := dk_182 1 179 (dk_at dksX0_goesOn_0 10 rfl rfl)
theorem dX0_goesOn_13 : decode cX0_goesOn 13 = .ok (.ifCond .eq 23, 3) := dk_153 0 23 (dk_at dksX0_goesOn_0 13 rfl rfl)
theorem dX0_goesOn_16 : decode cX0_goesOn 16 = .ok (.aload_n 0, 1) := dk_42 (dk_at dksX0_goesOn_0 16 rfl rfl)
theorem dX0_goesOn_17 : decode cX0_goesOn 17 = .ok (.aload_n 0, 1) := dk_42 (dk_at dksX0_goesOn_0 17 rfl rfl)
theorem dX0_goesOn_18 : decode cX0_goesOn 18 = .ok (.aload_n 0, 1) := dk_42 (dk_at dksX0_goesOn_0 18 rfl rfl)
theorem dX0_goesOn_19 : decode cX0_goesOn 19 = .ok (.getfield 161, 3) := dk_180 0 161 (dk_at dksX0_goesOn_0 19 rfl rfl)
theorem dX0_goesOn_22 : decode cX0_goesOn 22 = .ok (.aload_n 2, 1) := dk_44 (dk_at dksX0_goesOn_0 22 rfl rfl)
theorem dX0_goesOn_23 : decode cX0_goesOn 23 = .ok (.invokevirtual 524, 3) := dk_182 2 12 (dk_at dksX0_goesOn_1 0 rfl rfl)
theorem dX0_goesOn_26 : decode cX0_goesOn 26 = .ok (.aload_n 0, 1) := dk_42 (dk_at dksX0_goesOn_1 3 rfl rfl)
theorem dX0_goesOn_27 : decode cX0_goesOn 27 = .ok (.getfield 158, 3) := dk_180 0 158 (dk_at dksX0_goesOn_1 4 rfl rfl)
theorem dX0_goesOn_30 : decode cX0_goesOn 30 = .ok (.iload_n 1, 1) := dk_27 (dk_at dksX0_goesOn_1 7 rfl rfl)
theorem dX0_goesOn_31 : decode cX0_goesOn 31 = .ok (.iaload, 1) := dk_46 (dk_at dksX0_goesOn_1 8 rfl rfl)
theorem dX0_goesOn_32 : decode cX0_goesOn 32 = .ok (.invokevirtual 526, 3) := dk_182 2 14 (dk_at dksX0_goesOn_1 9 rfl rfl)
theorem dX0_goesOn_35 : decode cX0_goesOn 35 = .ok (.ireturn, 1) := dk_172 (dk_at dksX0_goesOn_1 12 rfl rfl)
theorem dX0_goesOn_36 : decode cX0_goesOn 36 = .ok (.aload_n 2, 1) := dk_44 (dk_at dksX0_goesOn_1 13 rfl rfl)
theorem dX0_goesOn_37 : decode cX0_goesOn 37 = .ok (.aload_n 0, 1) := dk_42 (dk_at dksX0_goesOn_1 14 rfl rfl)
theorem dX0_goesOn_38 : decode cX0_goesOn 38 = .ok (.getfield 161, 3) := dk_180 0 161 (dk_at dksX0_goesOn_1 15 rfl rfl)
theorem dX0_goesOn_41 : decode cX0_goesOn 41 = .ok (.invokevirtual 435, 3) := dk_182 1 179 (dk_at dksX0_goesOn_1 18 rfl rfl)
theorem dX0_goesOn_44 : decode cX0_goesOn 44 = .ok (.ifCond .eq 42, 3) := dk_153 0 42 (dk_at dksX0_goesOn_1 21 rfl rfl)
theorem dX0_goesOn_47 : decode cX0_goesOn 47 = .ok (.aload_n 0, 1) := dk_42 (dk_at dksX0_goesOn_2 0 rfl rfl)
theorem dX0_goesOn_48 : decode cX0_goesOn 48 = .ok (.aload_n 0, 1) := dk_42 (dk_at dksX0_goesOn_2 1 rfl rfl)
theorem dX0_goesOn_49 : decode cX0_goesOn 49 = .ok (.aload_n 2, 1) := dk_44 (dk_at dksX0_goesOn_2 2 rfl rfl)
theorem dX0_goesOn_50 : decode cX0_goesOn 50 = .ok (.aload_n 0, 1) := dk_42 (dk_at dksX0_goesOn_2 3 rfl rfl)
theorem dX0_goesOn_51 : decode cX0_goesOn 51 = .ok (.getfield 161, 3) := dk_180 0 161 (dk_at dksX0_goesOn_2 4 rfl rfl)
theorem dX0_goesOn_54 : decode cX0_goesOn 54 = .ok (.invokevirtual 524, 3) := dk_182 2 12 (dk_at dksX0_goesOn_2 7 rfl rfl)
theorem dX0_goesOn_57 : decode cX0_goesOn 57 = .ok (.aload_n 0, 1) := dk_42 (dk_at dksX0_goesOn_2 10 rfl rfl)
theorem dX0_goesOn_58 : decode cX0_goesOn 58 = .ok (.getfield 158, 3) := dk_180 0 158 (dk_at dksX0_goesOn_2 11 rfl rfl)
theorem dX0_goesOn_61 : decode cX0_goesOn 61 = .ok (.iload_n 1, 1) := dk_27 (dk_at dksX0_goesOn_2 14 rfl rfl)
theorem dX0_goesOn_62 : decode cX0_goesOn 62 = .ok (.iaload, 1) := dk_46 (dk_at dksX0_goesOn_2 15 rfl rfl)
theorem dX0_goesOn_63 : decode cX0_goesOn 63 = .ok (.aload_n 2, 1) := dk_44 (dk_at dksX0_goesOn_2 16 rfl rfl)
theorem dX0_goesOn_64 : decode cX0_goesOn 64 = .ok (.getfield 317, 3) := dk_180 1 61 (dk_at dksX0_goesOn_2 17 rfl rfl)
theorem dX0_goesOn_67 : decode cX0_goesOn 67 = .ok (.iadd, 1) := dk_96 (dk_at dksX0_goesOn_2 20 rfl rfl)
theorem dX0_goesOn_68 : decode cX0_goesOn 68 = .ok (.aload_n 0, 1) := dk_42 (dk_at dksX0_goesOn_2 21 rfl rfl)
theorem dX0_goesOn_69 : decode cX0_goesOn 69 = .ok (.getfield 161, 3) := dk_180 0 161 (dk_at dksX0_goesOn_3 0 rfl rfl)
theorem dX0_goesOn_72 : decode cX0_goesOn 72 = .ok (.getfield 317, 3) := dk_180 1 61 (dk_at dksX0_goesOn_3 3 rfl rfl)
theorem dX0_goesOn_75 : decode cX0_goesOn 75 = .ok (.isub, 1) := dk_100 (dk_at dksX0_goesOn_3 6 rfl rfl)
theorem dX0_goesOn_76 : decode cX0_goesOn 76 = .ok (.invokevirtual 526, 3) := dk_182 2 14 (dk_at dksX0_goesOn_3 7 rfl rfl)
theorem dX0_goesOn_79 : decode cX0_goesOn 79 = .ok (.ifCond .eq 7, 3) := dk_153 0 7 (dk_at dksX0_goesOn_3 10 rfl rfl)
theorem dX0_goesOn_82 : decode cX0_goesOn 82 = .ok (.iconst 1, 1) := dk_4 (dk_at dksX0_goesOn_3 13 rfl rfl)
theorem dX0_goesOn_83 : decode cX0_goesOn 83 = .ok (.goto 4, 3) := dk_167 0 4 (dk_at dksX0_goesOn_3 14 rfl rfl)
theorem dX0_goesOn_86 : decode cX0_goesOn 86 = .ok (.iconst 0, 1) := dk_3 (dk_at dksX0_goesOn_3 17 rfl rfl)
theorem dX0_goesOn_87 : decode cX0_goesOn 87 = .ok (.ireturn, 1) := dk_172 (dk_at dksX0_goesOn_3 18 rfl rfl)
abbrev cX0_layHanging : ByteArray := prog_1_method_64_code
def yX0_layHanging : MethodName := ⟨RX0, "layHanging", "(I)V"⟩
def dkwX0_layHanging_1 : List UInt8 := [184, 1, 128, 4, 100, 126, 28, 182, 1, 125, 177]
abbrev dktX0_layHanging_1 : List UInt8 := dkwX0_layHanging_1 ++ []
def dkwX0_layHanging_0 : List UInt8 := [3, 61, 27, 5, 28, 104, 122, 4, 164, 0, 9, 132, 2, 1, 167, 255, 244, 42, 180, 0, 161, 27, 28]
abbrev dktX0_layHanging_0 : List UInt8 := dkwX0_layHanging_0 ++ dktX0_layHanging_1
theorem dksX0_layHanging_0 : cX0_layHanging.data.toList.drop 0 = dktX0_layHanging_0 := by decide +kernel
theorem dksX0_layHanging_1 : cX0_layHanging.data.toList.drop 23 = dktX0_layHanging_1 := dk_seg dksX0_layHanging_0 23 rfl rfl
theorem dX0_layHanging_0 : decode cX0_layHanging 0 = .ok (.iconst 0, 1) := dk_3 (dk_at dksX0_layHanging_0 0 rfl rfl)
theorem dX0_layHanging_1 : decode cX0_layHanging 1 = .ok (.istore_n 2, 1) := dk_61 (dk_at dksX0_layHanging_0 1 rfl rfl)
theorem dX0_layHanging_2 : decode cX0_layHanging 2 = .ok (.iload_n 1, 1) := dk_27 (dk_at dksX0_layHanging_0 2 rfl rfl)
theorem dX0_layHanging_3 : decode cX0_layHanging 3 = .ok (.iconst 2, 1) := dk_5 (dk_at dksX0_layHanging_0 3 rfl rfl)
theorem dX0_layHanging_4 : decode cX0_layHanging 4 = .ok (.iload_n 2, 1) := dk_28 (dk_at dksX0_layHanging_0 4 rfl rfl)
theorem dX0_layHanging_5 : decode cX0_layHanging 5 = .ok (.imul, 1) := dk_104 (dk_at dksX0_layHanging_0 5 rfl rfl)
theorem dX0_layHanging_6 : decode cX0_layHanging 6 = .ok (.ishr, 1) := dk_122 (dk_at dksX0_layHanging_0 6 rfl rfl)
theorem dX0_layHanging_7 : decode cX0_layHanging 7 = .ok (.iconst 1, 1) := dk_4 (dk_at dksX0_layHanging_0 7 rfl rfl)
theorem dX0_layHanging_8 : decode cX0_layHanging 8 = .ok (.if_icmp .le 9, 3) := dk_164 0 9 (dk_at dksX0_layHanging_0 8 rfl rfl)
theorem dX0_layHanging_11 : decode cX0_layHanging 11 = .ok (.iinc 2 1, 3) := dk_132 2 1 (dk_at dksX0_layHanging_0 11 rfl rfl)
theorem dX0_layHanging_14 : decode cX0_layHanging 14 = .ok (.goto (-12), 3) := dk_167 255 244 (dk_at dksX0_layHanging_0 14 rfl rfl)
theorem dX0_layHanging_17 : decode cX0_layHanging 17 = .ok (.aload_n 0, 1) := dk_42 (dk_at dksX0_layHanging_0 17 rfl rfl)
theorem dX0_layHanging_18 : decode cX0_layHanging 18 = .ok (.getfield 161, 3) := dk_180 0 161 (dk_at dksX0_layHanging_0 18 rfl rfl)
theorem dX0_layHanging_21 : decode cX0_layHanging 21 = .ok (.iload_n 1, 1) := dk_27 (dk_at dksX0_layHanging_0 21 rfl rfl)
theorem dX0_layHanging_22 : decode cX0_layHanging 22 = .ok (.iload_n 2, 1) := dk_28 (dk_at dksX0_layHanging_0 22 rfl rfl)
theorem dX0_layHanging_23 : decode cX0_layHanging 23 = .ok (.invokestatic 384, 3) := dk_184 1 128 (dk_at dksX0_layHanging_1 0 rfl rfl)
theorem dX0_layHanging_26 : decode cX0_layHanging 26 = .ok (.iconst 1, 1) := dk_4 (dk_at dksX0_layHanging_1 3 rfl rfl)
theorem dX0_layHanging_27 : decode cX0_layHanging 27 = .ok (.isub, 1) := dk_100 (dk_at dksX0_layHanging_1 4 rfl rfl)
theorem dX0_layHanging_28 : decode cX0_layHanging 28 = .ok (.iand, 1) := dk_126 (dk_at dksX0_layHanging_1 5 rfl rfl)
theorem dX0_layHanging_29 : decode cX0_layHanging 29 = .ok (.iload_n 2, 1) := dk_28 (dk_at dksX0_layHanging_1 6 rfl rfl)
theorem dX0_layHanging_30 : decode cX0_layHanging 30 = .ok (.invokevirtual 381, 3) := dk_182 1 125 (dk_at dksX0_layHanging_1 7 rfl rfl)
theorem dX0_layHanging_33 : decode cX0_layHanging 33 = .ok (.return_, 1) := dk_177 (dk_at dksX0_layHanging_1 10 rfl rfl)
abbrev cX0_fix : ByteArray := prog_1_method_71_code
def yX0_fix : MethodName := ⟨RX0, "fix", "(IIIIZ)I"⟩
def dkwX0_fix_3 : List UInt8 := [54, 6, 21, 6, 2, 159, 0, 8, 21, 5, 153, 0, 8, 21, 6, 167, 0, 8, 21, 6, 184, 1, 162, 172]
abbrev dktX0_fix_3 : List UInt8 := dkwX0_fix_3 ++ []
def dkwX0_fix_2 : List UInt8 := [182, 2, 31, 54, 6, 21, 6, 2, 160, 0, 14, 42, 29, 21, 4, 4, 182, 2, 31, 167, 0, 5, 21, 6]
abbrev dktX0_fix_2 : List UInt8 := dkwX0_fix_2 ++ dktX0_fix_3
def dkwX0_fix_1 : List UInt8 := [154, 0, 5, 2, 172, 42, 29, 21, 4, 182, 2, 25, 153, 0, 7, 3, 167, 0, 11, 42, 29, 21, 4, 3]
abbrev dktX0_fix_1 : List UInt8 := dkwX0_fix_1 ++ dktX0_fix_2
def dkwX0_fix_0 : List UInt8 := [42, 27, 28, 182, 1, 67, 153, 0, 21, 42, 29, 182, 1, 17, 153, 0, 13, 21, 4, 3, 7, 184, 0, 176]
abbrev dktX0_fix_0 : List UInt8 := dkwX0_fix_0 ++ dktX0_fix_1
theorem dksX0_fix_0 : cX0_fix.data.toList.drop 0 = dktX0_fix_0 := by decide +kernel
theorem dksX0_fix_1 : cX0_fix.data.toList.drop 24 = dktX0_fix_1 := dk_seg dksX0_fix_0 24 rfl rfl
theorem dksX0_fix_2 : cX0_fix.data.toList.drop 48 = dktX0_fix_2 := dk_seg dksX0_fix_1 24 rfl rfl
theorem dksX0_fix_3 : cX0_fix.data.toList.drop 72 = dktX0_fix_3 := dk_seg dksX0_fix_2 24 rfl rfl
theorem dX0_fix_0 : decode cX0_fix 0 = .ok (.aload_n 0, 1) := dk_42 (dk_at dksX0_fix_0 0 rfl rfl)
theorem dX0_fix_1 : decode cX0_fix 1 = .ok (.iload_n 1, 1) := dk_27 (dk_at dksX0_fix_0 1 rfl rfl)
theorem dX0_fix_2 : decode cX0_fix 2 = .ok (.iload_n 2, 1) := dk_28 (dk_at dksX0_fix_0 2 rfl rfl)
theorem dX0_fix_3 : decode cX0_fix 3 = .ok (.invokevirtual 323, 3) := dk_182 1 67 (dk_at dksX0_fix_0 3 rfl rfl)
theorem dX0_fix_6 : decode cX0_fix 6 = .ok (.ifCond .eq 21, 3) := dk_153 0 21 (dk_at dksX0_fix_0 6 rfl rfl)
theorem dX0_fix_9 : decode cX0_fix 9 = .ok (.aload_n 0, 1) := dk_42 (dk_at dksX0_fix_0 9 rfl rfl)
theorem dX0_fix_10 : decode cX0_fix 10 = .ok (.iload_n 3, 1) := dk_29 (dk_at dksX0_fix_0 10 rfl rfl)
theorem dX0_fix_11 : decode cX0_fix 11 = .ok (.invokevirtual 273, 3) := dk_182 1 17 (dk_at dksX0_fix_0 11 rfl rfl)
theorem dX0_fix_14 : decode cX0_fix 14 = .ok (.ifCond .eq 13, 3) := dk_153 0 13 (dk_at dksX0_fix_0 14 rfl rfl)
theorem dX0_fix_17 : decode cX0_fix 17 = .ok (.iload 4, 2) := dk_21 4 (dk_at dksX0_fix_0 17 rfl rfl)
theorem dX0_fix_19 : decode cX0_fix 19 = .ok (.iconst 0, 1) := dk_3 (dk_at dksX0_fix_0 19 rfl rfl)
theorem dX0_fix_20 : decode cX0_fix 20 = .ok (.iconst 4, 1) := dk_7 (dk_at dksX0_fix_0 20 rfl rfl)
theorem dX0_fix_21 : decode cX0_fix 21 = .ok (.invokestatic 176, 3) := dk_184 0 176 (dk_at dksX0_fix_0 21 rfl rfl)
theorem dX0_fix_24 : decode cX0_fix 24 = .ok (.ifCond .ne 5, 3) := dk_154 0 5 (dk_at dksX0_fix_1 0 rfl rfl)
theorem dX0_fix_27 : decode cX0_fix 27 = .ok (.iconst (-1), 1) := dk_2 (dk_at dksX0_fix_1 3 rfl rfl)
theorem dX0_fix_28 : decode cX0_fix 28 = .ok (.ireturn, 1) := dk_172 (dk_at dksX0_fix_1 4 rfl rfl)
theorem dX0_fix_29 : decode cX0_fix 29 = .ok (.aload_n 0, 1) := dk_42 (dk_at dksX0_fix_1 5 rfl rfl)
theorem dX0_fix_30 : decode cX0_fix 30 = .ok (.iload_n 3, 1) := dk_29 (dk_at dksX0_fix_1 6 rfl rfl)
theorem dX0_fix_31 : decode cX0_fix 31 = .ok (.iload 4, 2) := dk_21 4 (dk_at dksX0_fix_1 7 rfl rfl)
theorem dX0_fix_33 : decode cX0_fix 33 = .ok (.invokevirtual 537, 3) := dk_182 2 25 (dk_at dksX0_fix_1 9 rfl rfl)
theorem dX0_fix_36 : decode cX0_fix 36 = .ok (.ifCond .eq 7, 3) := dk_153 0 7 (dk_at dksX0_fix_1 12 rfl rfl)
theorem dX0_fix_39 : decode cX0_fix 39 = .ok (.iconst 0, 1) := dk_3 (dk_at dksX0_fix_1 15 rfl rfl)
theorem dX0_fix_40 : decode cX0_fix 40 = .ok (.goto 11, 3) := dk_167 0 11 (dk_at dksX0_fix_1 16 rfl rfl)
theorem dX0_fix_43 : decode cX0_fix 43 = .ok (.aload_n 0, 1) := dk_42 (dk_at dksX0_fix_1 19 rfl rfl)
theorem dX0_fix_44 : decode cX0_fix 44 = .ok (.iload_n 3, 1) := dk_29 (dk_at dksX0_fix_1 20 rfl rfl)
theorem dX0_fix_45 : decode cX0_fix 45 = .ok (.iload 4, 2) := dk_21 4 (dk_at dksX0_fix_1 21 rfl rfl)
theorem dX0_fix_47 : decode cX0_fix 47 = .ok (.iconst 0, 1) := dk_3 (dk_at dksX0_fix_1 23 rfl rfl)
theorem dX0_fix_48 : decode cX0_fix 48 = .ok (.invokevirtual 543, 3) := dk_182 2 31 (dk_at dksX0_fix_2 0 rfl rfl)
theorem dX0_fix_51 : decode cX0_fix 51 = .ok (.istore 6, 2) := dk_54 6 (dk_at dksX0_fix_2 3 rfl rfl)
theorem dX0_fix_53 : decode cX0_fix 53 = .ok (.iload 6, 2) := dk_21 6 (dk_at dksX0_fix_2 5 rfl rfl)
theorem dX0_fix_55 : decode cX0_fix 55 = .ok (.iconst (-1), 1) := dk_2 (dk_at dksX0_fix_2 7 rfl rfl)
theorem dX0_fix_56 : decode cX0_fix 56 = .ok (.if_icmp .ne 14, 3) := dk_160 0 14 (dk_at dksX0_fix_2 8 rfl rfl)
theorem dX0_fix_59 : decode cX0_fix 59 = .ok (.aload_n 0, 1) := dk_42 (dk_at dksX0_fix_2 11 rfl rfl)
theorem dX0_fix_60 : decode cX0_fix 60 = .ok (.iload_n 3, 1) := dk_29 (dk_at dksX0_fix_2 12 rfl rfl)
theorem dX0_fix_61 : decode cX0_fix 61 = .ok (.iload 4, 2) := dk_21 4 (dk_at dksX0_fix_2 13 rfl rfl)
theorem dX0_fix_63 : decode cX0_fix 63 = .ok (.iconst 1, 1) := dk_4 (dk_at dksX0_fix_2 15 rfl rfl)
theorem dX0_fix_64 : decode cX0_fix 64 = .ok (.invokevirtual 543, 3) := dk_182 2 31 (dk_at dksX0_fix_2 16 rfl rfl)
theorem dX0_fix_67 : decode cX0_fix 67 = .ok (.goto 5, 3) := dk_167 0 5 (dk_at dksX0_fix_2 19 rfl rfl)
theorem dX0_fix_70 : decode cX0_fix 70 = .ok (.iload 6, 2) := dk_21 6 (dk_at dksX0_fix_2 22 rfl rfl)
theorem dX0_fix_72 : decode cX0_fix 72 = .ok (.istore 6, 2) := dk_54 6 (dk_at dksX0_fix_3 0 rfl rfl)
theorem dX0_fix_74 : decode cX0_fix 74 = .ok (.iload 6, 2) := dk_21 6 (dk_at dksX0_fix_3 2 rfl rfl)
theorem dX0_fix_76 : decode cX0_fix 76 = .ok (.iconst (-1), 1) := dk_2 (dk_at dksX0_fix_3 4 rfl rfl)
theorem dX0_fix_77 : decode cX0_fix 77 = .ok (.if_icmp .eq 8, 3) := dk_159 0 8 (dk_at dksX0_fix_3 5 rfl rfl)
theorem dX0_fix_80 : decode cX0_fix 80 = .ok (.iload 5, 2) := dk_21 5 (dk_at dksX0_fix_3 8 rfl rfl)
theorem dX0_fix_82 : decode cX0_fix 82 = .ok (.ifCond .eq 8, 3) := dk_153 0 8 (dk_at dksX0_fix_3 10 rfl rfl)
theorem dX0_fix_85 : decode cX0_fix 85 = .ok (.iload 6, 2) := dk_21 6 (dk_at dksX0_fix_3 13 rfl rfl)
theorem dX0_fix_87 : decode cX0_fix 87 = .ok (.goto 8, 3) := dk_167 0 8 (dk_at dksX0_fix_3 15 rfl rfl)
theorem dX0_fix_90 : decode cX0_fix 90 = .ok (.iload 6, 2) := dk_21 6 (dk_at dksX0_fix_3 18 rfl rfl)
theorem dX0_fix_92 : decode cX0_fix 92 = .ok (.invokestatic 418, 3) := dk_184 1 162 (dk_at dksX0_fix_3 20 rfl rfl)
theorem dX0_fix_95 : decode cX0_fix 95 = .ok (.ireturn, 1) := dk_172 (dk_at dksX0_fix_3 23 rfl rfl)
abbrev cX0_makes : ByteArray := prog_1_method_68_code
def yX0_makes : MethodName := ⟨RX0, "makes", "(II)Z"⟩
def dkwX0_makes_0 : List UInt8 := [42, 180, 0, 108, 3, 182, 1, 12, 42, 180, 0, 115, 27, 50, 27, 182, 1, 88, 28, 182, 1, 131, 172]
abbrev dktX0_makes_0 : List UInt8 := dkwX0_makes_0 ++ []
theorem dksX0_makes_0 : cX0_makes.data.toList.drop 0 = dktX0_makes_0 := by decide +kernel
theorem dX0_makes_0 : decode cX0_makes 0 = .ok (.aload_n 0, 1) := dk_42 (dk_at dksX0_makes_0 0 rfl rfl)
theorem dX0_makes_1 : decode cX0_makes 1 = .ok (.getfield 108, 3) := dk_180 0 108 (dk_at dksX0_makes_0 1 rfl rfl)
theorem dX0_makes_4 : decode cX0_makes 4 = .ok (.iconst 0, 1) := dk_3 (dk_at dksX0_makes_0 4 rfl rfl)
theorem dX0_makes_5 : decode cX0_makes 5 = .ok (.invokevirtual 268, 3) := dk_182 1 12 (dk_at dksX0_makes_0 5 rfl rfl)
theorem dX0_makes_8 : decode cX0_makes 8 = .ok (.aload_n 0, 1) := dk_42 (dk_at dksX0_makes_0 8 rfl rfl)
theorem dX0_makes_9 : decode cX0_makes 9 = .ok (.getfield 115, 3) := dk_180 0 115 (dk_at dksX0_makes_0 9 rfl rfl)
theorem dX0_makes_12 : decode cX0_makes 12 = .ok (.iload_n 1, 1) := dk_27 (dk_at dksX0_makes_0 12 rfl rfl)
theorem dX0_makes_13 : decode cX0_makes 13 = .ok (.aaload, 1) := dk_50 (dk_at dksX0_makes_0 13 rfl rfl)
theorem dX0_makes_14 : decode cX0_makes 14 = .ok (.iload_n 1, 1) := dk_27 (dk_at dksX0_makes_0 14 rfl rfl)
theorem dX0_makes_15 : decode cX0_makes 15 = .ok (.invokevirtual 344, 3) := dk_182 1 88 (dk_at dksX0_makes_0 15 rfl rfl)
theorem dX0_makes_18 : decode cX0_makes 18 = .ok (.iload_n 2, 1) := dk_28 (dk_at dksX0_makes_0 18 rfl rfl)
theorem dX0_makes_19 : decode cX0_makes 19 = .ok (.invokevirtual 387, 3) := dk_182 1 131 (dk_at dksX0_makes_0 19 rfl rfl)
theorem dX0_makes_22 : decode cX0_makes 22 = .ok (.ireturn, 1) := dk_172 (dk_at dksX0_makes_0 22 rfl rfl)
abbrev cX0_fixBy : ByteArray := prog_1_method_70_code
def yX0_fixBy : MethodName := ⟨RX0, "fixBy", "(IIZ)I"⟩
def dkwX0_fixBy_4 : List UInt8 := [167, 255, 194, 132, 5, 1, 167, 255, 164, 21, 4, 172]
abbrev dktX0_fixBy_4 : List UInt8 := dkwX0_fixBy_4 ++ []
def dkwX0_fixBy_3 : List UInt8 := [162, 0, 20, 42, 27, 28, 21, 5, 21, 6, 182, 2, 28, 153, 0, 7, 21, 7, 54, 4, 132, 6, 1]
abbrev dktX0_fixBy_3 : List UInt8 := dkwX0_fixBy_3 ++ dktX0_fixBy_4
def dkwX0_fixBy_2 : List UInt8 := [162, 0, 50, 4, 21, 5, 120, 4, 21, 6, 120, 128, 54, 7, 21, 4, 2, 159, 0, 10, 21, 7, 21, 4]
abbrev dktX0_fixBy_2 : List UInt8 := dkwX0_fixBy_2 ++ dktX0_fixBy_3
def dkwX0_fixBy_1 : List UInt8 := [167, 0, 5, 21, 5, 54, 6, 21, 6, 29, 153, 0, 8, 21, 5, 167, 0, 7, 21, 5, 4, 96]
abbrev dktX0_fixBy_1 : List UInt8 := dkwX0_fixBy_1 ++ dktX0_fixBy_2
def dkwX0_fixBy_0 : List UInt8 := [2, 54, 4, 3, 54, 5, 21, 5, 42, 180, 0, 108, 180, 1, 70, 162, 0, 86, 29, 153, 0, 7, 3]
abbrev dktX0_fixBy_0 : List UInt8 := dkwX0_fixBy_0 ++ dktX0_fixBy_1
theorem dksX0_fixBy_0 : cX0_fixBy.data.toList.drop 0 = dktX0_fixBy_0 := by decide +kernel
theorem dksX0_fixBy_1 : cX0_fixBy.data.toList.drop 23 = dktX0_fixBy_1 := dk_seg dksX0_fixBy_0 23 rfl rfl
theorem dksX0_fixBy_2 : cX0_fixBy.data.toList.drop 45 = dktX0_fixBy_2 := dk_seg dksX0_fixBy_1 22 rfl rfl
theorem dksX0_fixBy_3 : cX0_fixBy.data.toList.drop 69 = dktX0_fixBy_3 := dk_seg dksX0_fixBy_2 24 rfl rfl
theorem dksX0_fixBy_4 : cX0_fixBy.data.toList.drop 92 = dktX0_fixBy_4 := dk_seg dksX0_fixBy_3 23 rfl rfl
theorem dX0_fixBy_0 : decode cX0_fixBy 0 = .ok (.iconst (-1), 1) := dk_2 (dk_at dksX0_fixBy_0 0 rfl rfl)
theorem dX0_fixBy_1 : decode cX0_fixBy 1 = .ok (.istore 4, 2) := dk_54 4 (dk_at dksX0_fixBy_0 1 rfl rfl)
theorem dX0_fixBy_3 : decode cX0_fixBy 3 = .ok (.iconst 0, 1) := dk_3 (dk_at dksX0_fixBy_0 3 rfl rfl)
theorem dX0_fixBy_4 : decode cX0_fixBy 4 = .ok (.istore 5, 2) := dk_54 5 (dk_at dksX0_fixBy_0 4 rfl rfl)
theorem dX0_fixBy_6 : decode cX0_fixBy 6 = .ok (.iload 5, 2) := dk_21 5 (dk_at dksX0_fixBy_0 6 rfl rfl)
theorem dX0_fixBy_8 : decode cX0_fixBy 8 = .ok (.aload_n 0, 1) := dk_42 (dk_at dksX0_fixBy_0 8 rfl rfl)
theorem dX0_fixBy_9 : decode cX0_fixBy 9 = .ok (.getfield 108, 3) := dk_180 0 108 (dk_at dksX0_fixBy_0 9 rfl rfl)
theorem dX0_fixBy_12 : decode cX0_fixBy 12 = .ok (.getfield 326, 3) := dk_180 1 70 (dk_at dksX0_fixBy_0 12 rfl rfl)
theorem dX0_fixBy_15 : decode cX0_fixBy 15 = .ok (.if_icmp .ge 86, 3) := dk_162 0 86 (dk_at dksX0_fixBy_0 15 rfl rfl)
theorem dX0_fixBy_18 : decode cX0_fixBy 18 = .ok (.iload_n 3, 1) := dk_29 (dk_at dksX0_fixBy_0 18 rfl rfl)
theorem dX0_fixBy_19 : decode cX0_fixBy 19 = .ok (.ifCond .eq 7, 3) := dk_153 0 7 (dk_at dksX0_fixBy_0 19 rfl rfl)
theorem dX0_fixBy_22 : decode cX0_fixBy 22 = .ok (.iconst 0, 1) := dk_3 (dk_at dksX0_fixBy_0 22 rfl rfl)
theorem dX0_fixBy_23 : decode cX0_fixBy 23 = .ok (.goto 5, 3) := dk_167 0 5 (dk_at dksX0_fixBy_1 0 rfl rfl)
theorem dX0_fixBy_26 : decode cX0_fixBy 26 = .ok (.iload 5, 2) := dk_21 5 (dk_at dksX0_fixBy_1 3 rfl rfl)
theorem dX0_fixBy_28 : decode cX0_fixBy 28 = .ok (.istore 6, 2) := dk_54 6 (dk_at dksX0_fixBy_1 5 rfl rfl)
theorem dX0_fixBy_30 : decode cX0_fixBy 30 = .ok (.iload 6, 2) := dk_21 6 (dk_at dksX0_fixBy_1 7 rfl rfl)
theorem dX0_fixBy_32 : decode cX0_fixBy 32 = .ok (.iload_n 3, 1) := dk_29 (dk_at dksX0_fixBy_1 9 rfl rfl)
theorem dX0_fixBy_33 : decode cX0_fixBy 33 = .ok (.ifCond .eq 8, 3) := dk_153 0 8 (dk_at dksX0_fixBy_1 10 rfl rfl)
theorem dX0_fixBy_36 : decode cX0_fixBy 36 = .ok (.iload 5, 2) := dk_21 5 (dk_at dksX0_fixBy_1 13 rfl rfl)
theorem dX0_fixBy_38 : decode cX0_fixBy 38 = .ok (.goto 7, 3) := dk_167 0 7 (dk_at dksX0_fixBy_1 15 rfl rfl)
theorem dX0_fixBy_41 : decode cX0_fixBy 41 = .ok (.iload 5, 2) := dk_21 5 (dk_at dksX0_fixBy_1 18 rfl rfl)
theorem dX0_fixBy_43 : decode cX0_fixBy 43 = .ok (.iconst 1, 1) := dk_4 (dk_at dksX0_fixBy_1 20 rfl rfl)
theorem dX0_fixBy_44 : decode cX0_fixBy 44 = .ok (.iadd, 1) := dk_96 (dk_at dksX0_fixBy_1 21 rfl rfl)
theorem dX0_fixBy_45 : decode cX0_fixBy 45 = .ok (.if_icmp .ge 50, 3) := dk_162 0 50 (dk_at dksX0_fixBy_2 0 rfl rfl)
theorem dX0_fixBy_48 : decode cX0_fixBy 48 = .ok (.iconst 1, 1) := dk_4 (dk_at dksX0_fixBy_2 3 rfl rfl)
theorem dX0_fixBy_49 : decode cX0_fixBy 49 = .ok (.iload 5, 2) := dk_21 5 (dk_at dksX0_fixBy_2 4 rfl rfl)
theorem dX0_fixBy_51 : decode cX0_fixBy 51 = .ok (.ishl, 1) := dk_120 (dk_at dksX0_fixBy_2 6 rfl rfl)
theorem dX0_fixBy_52 : decode cX0_fixBy 52 = .ok (.iconst 1, 1) := dk_4 (dk_at dksX0_fixBy_2 7 rfl rfl)
theorem dX0_fixBy_53 : decode cX0_fixBy 53 = .ok (.iload 6, 2) := dk_21 6 (dk_at dksX0_fixBy_2 8 rfl rfl)
theorem dX0_fixBy_55 : decode cX0_fixBy 55 = .ok (.ishl, 1) := dk_120 (dk_at dksX0_fixBy_2 10 rfl rfl)
theorem dX0_fixBy_56 : decode cX0_fixBy 56 = .ok (.ior, 1) := dk_128 (dk_at dksX0_fixBy_2 11 rfl rfl)
theorem dX0_fixBy_57 : decode cX0_fixBy 57 = .ok (.istore 7, 2) := dk_54 7 (dk_at dksX0_fixBy_2 12 rfl rfl)
theorem dX0_fixBy_59 : decode cX0_fixBy 59 = .ok (.iload 4, 2) := dk_21 4 (dk_at dksX0_fixBy_2 14 rfl rfl)
theorem dX0_fixBy_61 : decode cX0_fixBy 61 = .ok (.iconst (-1), 1) := dk_2 (dk_at dksX0_fixBy_2 16 rfl rfl)
theorem dX0_fixBy_62 : decode cX0_fixBy 62 = .ok (.if_icmp .eq 10, 3) := dk_159 0 10 (dk_at dksX0_fixBy_2 17 rfl rfl)
theorem dX0_fixBy_65 : decode cX0_fixBy 65 = .ok (.iload 7, 2) := dk_21 7 (dk_at dksX0_fixBy_2 20 rfl rfl)
theorem dX0_fixBy_67 : decode cX0_fixBy 67 = .ok (.iload 4, 2) := dk_21 4 (dk_at dksX0_fixBy_2 22 rfl rfl)
theorem dX0_fixBy_69 : decode cX0_fixBy 69 = .ok (.if_icmp .ge 20, 3) := dk_162 0 20 (dk_at dksX0_fixBy_3 0 rfl rfl)
theorem dX0_fixBy_72 : decode cX0_fixBy 72 = .ok (.aload_n 0, 1) := dk_42 (dk_at dksX0_fixBy_3 3 rfl rfl)
theorem dX0_fixBy_73 : decode cX0_fixBy 73 = .ok (.iload_n 1, 1) := dk_27 (dk_at dksX0_fixBy_3 4 rfl rfl)
theorem dX0_fixBy_74 : decode cX0_fixBy 74 = .ok (.iload_n 2, 1) := dk_28 (dk_at dksX0_fixBy_3 5 rfl rfl)
theorem dX0_fixBy_75 : decode cX0_fixBy 75 = .ok (.iload 5, 2) := dk_21 5 (dk_at dksX0_fixBy_3 6 rfl rfl)
theorem dX0_fixBy_77 : decode cX0_fixBy 77 = .ok (.iload 6, 2) := dk_21 6 (dk_at dksX0_fixBy_3 8 rfl rfl)
theorem dX0_fixBy_79 : decode cX0_fixBy 79 = .ok (.invokevirtual 540, 3) := dk_182 2 28 (dk_at dksX0_fixBy_3 10 rfl rfl)
theorem dX0_fixBy_82 : decode cX0_fixBy 82 = .ok (.ifCond .eq 7, 3) := dk_153 0 7 (dk_at dksX0_fixBy_3 13 rfl rfl)
theorem dX0_fixBy_85 : decode cX0_fixBy 85 = .ok (.iload 7, 2) := dk_21 7 (dk_at dksX0_fixBy_3 16 rfl rfl)
theorem dX0_fixBy_87 : decode cX0_fixBy 87 = .ok (.istore 4, 2) := dk_54 4 (dk_at dksX0_fixBy_3 18 rfl rfl)
theorem dX0_fixBy_89 : decode cX0_fixBy 89 = .ok (.iinc 6 1, 3) := dk_132 6 1 (dk_at dksX0_fixBy_3 20 rfl rfl)
theorem dX0_fixBy_92 : decode cX0_fixBy 92 = .ok (.goto (-62), 3) := dk_167 255 194 (dk_at dksX0_fixBy_4 0 rfl rfl)
theorem dX0_fixBy_95 : decode cX0_fixBy 95 = .ok (.iinc 5 1, 3) := dk_132 5 1 (dk_at dksX0_fixBy_4 3 rfl rfl)
theorem dX0_fixBy_98 : decode cX0_fixBy 98 = .ok (.goto (-92), 3) := dk_167 255 164 (dk_at dksX0_fixBy_4 6 rfl rfl)
theorem dX0_fixBy_101 : decode cX0_fixBy 101 = .ok (.iload 4, 2) := dk_21 4 (dk_at dksX0_fixBy_4 9 rfl rfl)
theorem dX0_fixBy_103 : decode cX0_fixBy 103 = .ok (.ireturn, 1) := dk_172 (dk_at dksX0_fixBy_4 11 rfl rfl)
abbrev cX0_isFixed : ByteArray := prog_1_method_69_code
def yX0_isFixed : MethodName := ⟨RX0, "isFixed", "(IIII)Z"⟩
def dkwX0_isFixed_5 : List UInt8 := [180, 1, 71, 21, 4, 21, 6, 79, 21, 7, 172]
abbrev dktX0_isFixed_5 : List UInt8 := dkwX0_isFixed_5 ++ []
def dkwX0_isFixed_4 : List UInt8 := [54, 7, 132, 8, 1, 167, 255, 185, 42, 180, 0, 108, 180, 1, 71, 29, 21, 5, 79, 42, 180, 0, 108]
abbrev dktX0_isFixed_4 : List UInt8 := dkwX0_isFixed_4 ++ dktX0_isFixed_5
def dkwX0_isFixed_3 : List UInt8 := [21, 8, 7, 112, 79, 21, 7, 154, 0, 12, 42, 27, 28, 182, 2, 25, 153, 0, 7, 4, 167, 0, 4, 3]
abbrev dktX0_isFixed_3 : List UInt8 := dkwX0_isFixed_3 ++ dktX0_isFixed_4
def dkwX0_isFixed_2 : List UInt8 := [79, 42, 180, 0, 108, 180, 1, 71, 21, 4, 29, 21, 4, 160, 0, 10, 21, 8, 7, 108, 167, 0, 7]
abbrev dktX0_isFixed_2 : List UInt8 := dkwX0_isFixed_2 ++ dktX0_isFixed_3
def dkwX0_isFixed_1 : List UInt8 := [54, 7, 3, 54, 8, 21, 8, 16, 16, 162, 0, 70, 42, 180, 0, 108, 180, 1, 71, 29, 21, 8, 7, 108]
abbrev dktX0_isFixed_1 : List UInt8 := dkwX0_isFixed_1 ++ dktX0_isFixed_2
def dkwX0_isFixed_0 : List UInt8 := [42, 180, 0, 108, 180, 1, 71, 29, 46, 54, 5, 42, 180, 0, 108, 180, 1, 71, 21, 4, 46, 54, 6, 3]
abbrev dktX0_isFixed_0 : List UInt8 := dkwX0_isFixed_0 ++ dktX0_isFixed_1
theorem dksX0_isFixed_0 : cX0_isFixed.data.toList.drop 0 = dktX0_isFixed_0 := by decide +kernel
theorem dksX0_isFixed_1 : cX0_isFixed.data.toList.drop 24 = dktX0_isFixed_1 := dk_seg dksX0_isFixed_0 24 rfl rfl
theorem dksX0_isFixed_2 : cX0_isFixed.data.toList.drop 48 = dktX0_isFixed_2 := dk_seg dksX0_isFixed_1 24 rfl rfl
theorem dksX0_isFixed_3 : cX0_isFixed.data.toList.drop 71 = dktX0_isFixed_3 := dk_seg dksX0_isFixed_2 23 rfl rfl
theorem dksX0_isFixed_4 : cX0_isFixed.data.toList.drop 95 = dktX0_isFixed_4 := dk_seg dksX0_isFixed_3 24 rfl rfl
theorem dksX0_isFixed_5 : cX0_isFixed.data.toList.drop 118 = dktX0_isFixed_5 := dk_seg dksX0_isFixed_4 23 rfl rfl
theorem dX0_isFixed_0 : decode cX0_isFixed 0 = .ok (.aload_n 0, 1) := dk_42 (dk_at dksX0_isFixed_0 0 rfl rfl)
theorem dX0_isFixed_1 : decode cX0_isFixed 1 = .ok (.getfield 108, 3) := dk_180 0 108 (dk_at dksX0_isFixed_0 1 rfl rfl)
theorem dX0_isFixed_4 : decode cX0_isFixed 4 = .ok (.getfield 327, 3) := dk_180 1 71 (dk_at dksX0_isFixed_0 4 rfl rfl)
theorem dX0_isFixed_7 : decode cX0_isFixed 7 = .ok (.iload_n 3, 1) := dk_29 (dk_at dksX0_isFixed_0 7 rfl rfl)
theorem dX0_isFixed_8 : decode cX0_isFixed 8 = .ok (.iaload, 1) := dk_46 (dk_at dksX0_isFixed_0 8 rfl rfl)
theorem dX0_isFixed_9 : decode cX0_isFixed 9 = .ok (.istore 5, 2) := dk_54 5 (dk_at dksX0_isFixed_0 9 rfl rfl)
theorem dX0_isFixed_11 : decode cX0_isFixed 11 = .ok (.aload_n 0, 1) := dk_42 (dk_at dksX0_isFixed_0 11 rfl rfl)
theorem dX0_isFixed_12 : decode cX0_isFixed 12 = .ok (.getfield 108, 3) := dk_180 0 108 (dk_at dksX0_isFixed_0 12 rfl rfl)
theorem dX0_isFixed_15 : decode cX0_isFixed 15 = .ok (.getfield 327, 3) := dk_180 1 71 (dk_at dksX0_isFixed_0 15 rfl rfl)
theorem dX0_isFixed_18 : decode cX0_isFixed 18 = .ok (.iload 4, 2) := dk_21 4 (dk_at dksX0_isFixed_0 18 rfl rfl)
theorem dX0_isFixed_20 : decode cX0_isFixed 20 = .ok (.iaload, 1) := dk_46 (dk_at dksX0_isFixed_0 20 rfl rfl)
theorem dX0_isFixed_21 : decode cX0_isFixed 21 = .ok (.istore 6, 2) := dk_54 6 (dk_at dksX0_isFixed_0 21 rfl rfl)
theorem dX0_isFixed_23 : decode cX0_isFixed 23 = .ok (.iconst 0, 1) := dk_3 (dk_at dksX0_isFixed_0 23 rfl rfl)
theorem dX0_isFixed_24 : decode cX0_isFixed 24 = .ok (.istore 7, 2) := dk_54 7 (dk_at dksX0_isFixed_1 0 rfl rfl)
theorem dX0_isFixed_26 : decode cX0_isFixed 26 = .ok (.iconst 0, 1) := dk_3 (dk_at dksX0_isFixed_1 2 rfl rfl)
theorem dX0_isFixed_27 : decode cX0_isFixed 27 = .ok (.istore 8, 2) := dk_54 8 (dk_at dksX0_isFixed_1 3 rfl rfl)
theorem dX0_isFixed_29 : decode cX0_isFixed 29 = .ok (.iload 8, 2) := dk_21 8 (dk_at dksX0_isFixed_1 5 rfl rfl)
theorem dX0_isFixed_31 : decode cX0_isFixed 31 = .ok (.bipush 16, 2) := dk_16 16 (dk_at dksX0_isFixed_1 7 rfl rfl)
theorem dX0_isFixed_33 : decode cX0_isFixed 33 = .ok (.if_icmp .ge 70, 3) := dk_162 0 70 (dk_at dksX0_isFixed_1 9 rfl rfl)
theorem dX0_isFixed_36 : decode cX0_isFixed 36 = .ok (.aload_n 0, 1) := dk_42 (dk_at dksX0_isFixed_1 12 rfl rfl)
theorem dX0_isFixed_37 : decode cX0_isFixed 37 = .ok (.getfield 108, 3) := dk_180 0 108 (dk_at dksX0_isFixed_1 13 rfl rfl)
theorem dX0_isFixed_40 : decode cX0_isFixed 40 = .ok (.getfield 327, 3) := dk_180 1 71 (dk_at dksX0_isFixed_1 16 rfl rfl)
theorem dX0_isFixed_43 : decode cX0_isFixed 43 = .ok (.iload_n 3, 1) := dk_29 (dk_at dksX0_isFixed_1 19 rfl rfl)
theorem dX0_isFixed_44 : decode cX0_isFixed 44 = .ok (.iload 8, 2) := dk_21 8 (dk_at dksX0_isFixed_1 20 rfl rfl)
theorem dX0_isFixed_46 : decode cX0_isFixed 46 = .ok (.iconst 4, 1) := dk_7 (dk_at dksX0_isFixed_1 22 rfl rfl)
theorem dX0_isFixed_47 : decode cX0_isFixed 47 = .ok (.idiv, 1) := dk_108 (dk_at dksX0_isFixed_1 23 rfl rfl)
theorem dX0_isFixed_48 : decode cX0_isFixed 48 = .ok (.iastore, 1) := dk_79 (dk_at dksX0_isFixed_2 0 rfl rfl)
theorem dX0_isFixed_49 : decode cX0_isFixed 49 = .ok (.aload_n 0, 1) := dk_42 (dk_at dksX0_isFixed_2 1 rfl rfl)
theorem dX0_isFixed_50 : decode cX0_isFixed 50 = .ok (.getfield 108, 3) := dk_180 0 108 (dk_at dksX0_isFixed_2 2 rfl rfl)
theorem dX0_isFixed_53 : decode cX0_isFixed 53 = .ok (.getfield 327, 3) := dk_180 1 71 (dk_at dksX0_isFixed_2 5 rfl rfl)
theorem dX0_isFixed_56 : decode cX0_isFixed 56 = .ok (.iload 4, 2) := dk_21 4 (dk_at dksX0_isFixed_2 8 rfl rfl)
theorem dX0_isFixed_58 : decode cX0_isFixed 58 = .ok (.iload_n 3, 1) := dk_29 (dk_at dksX0_isFixed_2 10 rfl rfl)
theorem dX0_isFixed_59 : decode cX0_isFixed 59 = .ok (.iload 4, 2) := dk_21 4 (dk_at dksX0_isFixed_2 11 rfl rfl)
theorem dX0_isFixed_61 : decode cX0_isFixed 61 = .ok (.if_icmp .ne 10, 3) := dk_160 0 10 (dk_at dksX0_isFixed_2 13 rfl rfl)
theorem dX0_isFixed_64 : decode cX0_isFixed 64 = .ok (.iload 8, 2) := dk_21 8 (dk_at dksX0_isFixed_2 16 rfl rfl)
theorem dX0_isFixed_66 : decode cX0_isFixed 66 = .ok (.iconst 4, 1) := dk_7 (dk_at dksX0_isFixed_2 18 rfl rfl)
theorem dX0_isFixed_67 : decode cX0_isFixed 67 = .ok (.idiv, 1) := dk_108 (dk_at dksX0_isFixed_2 19 rfl rfl)
theorem dX0_isFixed_68 : decode cX0_isFixed 68 = .ok (.goto 7, 3) := dk_167 0 7 (dk_at dksX0_isFixed_2 20 rfl rfl)
theorem dX0_isFixed_71 : decode cX0_isFixed 71 = .ok (.iload 8, 2) := dk_21 8 (dk_at dksX0_isFixed_3 0 rfl rfl)
theorem dX0_isFixed_73 : decode cX0_isFixed 73 = .ok (.iconst 4, 1) := dk_7 (dk_at dksX0_isFixed_3 2 rfl rfl)
theorem dX0_isFixed_74 : decode cX0_isFixed 74 = .ok (.irem, 1) := dk_112 (dk_at dksX0_isFixed_3 3 rfl rfl)
theorem dX0_isFixed_75 : decode cX0_isFixed 75 = .ok (.iastore, 1) := dk_79 (dk_at dksX0_isFixed_3 4 rfl rfl)
theorem dX0_isFixed_76 : decode cX0_isFixed 76 = .ok (.iload 7, 2) := dk_21 7 (dk_at dksX0_isFixed_3 5 rfl rfl)
theorem dX0_isFixed_78 : decode cX0_isFixed 78 = .ok (.ifCond .ne 12, 3) := dk_154 0 12 (dk_at dksX0_isFixed_3 7 rfl rfl)
theorem dX0_isFixed_81 : decode cX0_isFixed 81 = .ok (.aload_n 0, 1) := dk_42 (dk_at dksX0_isFixed_3 10 rfl rfl)
theorem dX0_isFixed_82 : decode cX0_isFixed 82 = .ok (.iload_n 1, 1) := dk_27 (dk_at dksX0_isFixed_3 11 rfl rfl)
theorem dX0_isFixed_83 : decode cX0_isFixed 83 = .ok (.iload_n 2, 1) := dk_28 (dk_at dksX0_isFixed_3 12 rfl rfl)
theorem dX0_isFixed_84 : decode cX0_isFixed 84 = .ok (.invokevirtual 537, 3) := dk_182 2 25 (dk_at dksX0_isFixed_3 13 rfl rfl)
theorem dX0_isFixed_87 : decode cX0_isFixed 87 = .ok (.ifCond .eq 7, 3) := dk_153 0 7 (dk_at dksX0_isFixed_3 16 rfl rfl)
theorem dX0_isFixed_90 : decode cX0_isFixed 90 = .ok (.iconst 1, 1) := dk_4 (dk_at dksX0_isFixed_3 19 rfl rfl)
theorem dX0_isFixed_91 : decode cX0_isFixed 91 = .ok (.goto 4, 3) := dk_167 0 4 (dk_at dksX0_isFixed_3 20 rfl rfl)
theorem dX0_isFixed_94 : decode cX0_isFixed 94 = .ok (.iconst 0, 1) := dk_3 (dk_at dksX0_isFixed_3 23 rfl rfl)
theorem dX0_isFixed_95 : decode cX0_isFixed 95 = .ok (.istore 7, 2) := dk_54 7 (dk_at dksX0_isFixed_4 0 rfl rfl)
theorem dX0_isFixed_97 : decode cX0_isFixed 97 = .ok (.iinc 8 1, 3) := dk_132 8 1 (dk_at dksX0_isFixed_4 2 rfl rfl)
theorem dX0_isFixed_100 : decode cX0_isFixed 100 = .ok (.goto (-71), 3) := dk_167 255 185 (dk_at dksX0_isFixed_4 5 rfl rfl)
theorem dX0_isFixed_103 : decode cX0_isFixed 103 = .ok (.aload_n 0, 1) := dk_42 (dk_at dksX0_isFixed_4 8 rfl rfl)
theorem dX0_isFixed_104 : decode cX0_isFixed 104 = .ok (.getfield 108, 3) := dk_180 0 108 (dk_at dksX0_isFixed_4 9 rfl rfl)
theorem dX0_isFixed_107 : decode cX0_isFixed 107 = .ok (.getfield 327, 3) := dk_180 1 71 (dk_at dksX0_isFixed_4 12 rfl rfl)
theorem dX0_isFixed_110 : decode cX0_isFixed 110 = .ok (.iload_n 3, 1) := dk_29 (dk_at dksX0_isFixed_4 15 rfl rfl)
theorem dX0_isFixed_111 : decode cX0_isFixed 111 = .ok (.iload 5, 2) := dk_21 5 (dk_at dksX0_isFixed_4 16 rfl rfl)
theorem dX0_isFixed_113 : decode cX0_isFixed 113 = .ok (.iastore, 1) := dk_79 (dk_at dksX0_isFixed_4 18 rfl rfl)
theorem dX0_isFixed_114 : decode cX0_isFixed 114 = .ok (.aload_n 0, 1) := dk_42 (dk_at dksX0_isFixed_4 19 rfl rfl)
theorem dX0_isFixed_115 : decode cX0_isFixed 115 = .ok (.getfield 108, 3) := dk_180 0 108 (dk_at dksX0_isFixed_4 20 rfl rfl)
theorem dX0_isFixed_118 : decode cX0_isFixed 118 = .ok (.getfield 327, 3) := dk_180 1 71 (dk_at dksX0_isFixed_5 0 rfl rfl)
theorem dX0_isFixed_121 : decode cX0_isFixed 121 = .ok (.iload 4, 2) := dk_21 4 (dk_at dksX0_isFixed_5 3 rfl rfl)
theorem dX0_isFixed_123 : decode cX0_isFixed 123 = .ok (.iload 6, 2) := dk_21 6 (dk_at dksX0_isFixed_5 5 rfl rfl)
theorem dX0_isFixed_125 : decode cX0_isFixed 125 = .ok (.iastore, 1) := dk_79 (dk_at dksX0_isFixed_5 7 rfl rfl)
theorem dX0_isFixed_126 : decode cX0_isFixed 126 = .ok (.iload 7, 2) := dk_21 7 (dk_at dksX0_isFixed_5 8 rfl rfl)
theorem dX0_isFixed_128 : decode cX0_isFixed 128 = .ok (.ireturn, 1) := dk_172 (dk_at dksX0_isFixed_5 10 rfl rfl)
abbrev cX0_image : ByteArray := prog_1_method_73_code
def yX0_image : MethodName := ⟨RX0, "image", "(I)Z"⟩
def dkwX0_image_1 : List UInt8 := [183, 2, 35, 83, 4, 172]
abbrev dktX0_image_1 : List UInt8 := dkwX0_image_1 ++ []
def dkwX0_image_0 : List UInt8 := [27, 3, 5, 184, 0, 176, 154, 0, 5, 3, 172, 42, 180, 0, 99, 27, 187, 0, 92, 89, 42, 180, 0, 95]
abbrev dktX0_image_0 : List UInt8 := dkwX0_image_0 ++ dktX0_image_1
theorem dksX0_image_0 : cX0_image.data.toList.drop 0 = dktX0_image_0 := by decide +kernel
theorem dksX0_image_1 : cX0_image.data.toList.drop 24 = dktX0_image_1 := dk_seg dksX0_image_0 24 rfl rfl
theorem dX0_image_0 : decode cX0_image 0 = .ok (.iload_n 1, 1) := dk_27 (dk_at dksX0_image_0 0 rfl rfl)
theorem dX0_image_1 : decode cX0_image 1 = .ok (.iconst 0, 1) := dk_3 (dk_at dksX0_image_0 1 rfl rfl)
theorem dX0_image_2 : decode cX0_image 2 = .ok (.iconst 2, 1) := dk_5 (dk_at dksX0_image_0 2 rfl rfl)
theorem dX0_image_3 : decode cX0_image 3 = .ok (.invokestatic 176, 3) := dk_184 0 176 (dk_at dksX0_image_0 3 rfl rfl)
theorem dX0_image_6 : decode cX0_image 6 = .ok (.ifCond .ne 5, 3) := dk_154 0 5 (dk_at dksX0_image_0 6 rfl rfl)
theorem dX0_image_9 : decode cX0_image 9 = .ok (.iconst 0, 1) := dk_3 (dk_at dksX0_image_0 9 rfl rfl)
theorem dX0_image_10 : decode cX0_image 10 = .ok (.ireturn, 1) := dk_172 (dk_at dksX0_image_0 10 rfl rfl)
theorem dX0_image_11 : decode cX0_image 11 = .ok (.aload_n 0, 1) := dk_42 (dk_at dksX0_image_0 11 rfl rfl)
theorem dX0_image_12 : decode cX0_image 12 = .ok (.getfield 99, 3) := dk_180 0 99 (dk_at dksX0_image_0 12 rfl rfl)
theorem dX0_image_15 : decode cX0_image 15 = .ok (.iload_n 1, 1) := dk_27 (dk_at dksX0_image_0 15 rfl rfl)
theorem dX0_image_16 : decode cX0_image 16 = .ok (.new 92, 3) := dk_187 0 92 (dk_at dksX0_image_0 16 rfl rfl)
theorem dX0_image_19 : decode cX0_image 19 = .ok (.dup, 1) := dk_89 (dk_at dksX0_image_0 19 rfl rfl)
theorem dX0_image_20 : decode cX0_image 20 = .ok (.aload_n 0, 1) := dk_42 (dk_at dksX0_image_0 20 rfl rfl)
theorem dX0_image_21 : decode cX0_image 21 = .ok (.getfield 95, 3) := dk_180 0 95 (dk_at dksX0_image_0 21 rfl rfl)
theorem dX0_image_24 : decode cX0_image 24 = .ok (.invokespecial 547, 3) := dk_183 2 35 (dk_at dksX0_image_1 0 rfl rfl)
theorem dX0_image_27 : decode cX0_image 27 = .ok (.aastore, 1) := dk_83 (dk_at dksX0_image_1 3 rfl rfl)
theorem dX0_image_28 : decode cX0_image 28 = .ok (.iconst 1, 1) := dk_4 (dk_at dksX0_image_1 4 rfl rfl)
theorem dX0_image_29 : decode cX0_image 29 = .ok (.ireturn, 1) := dk_172 (dk_at dksX0_image_1 5 rfl rfl)
abbrev cX0_again : ByteArray := prog_1_method_74_code
def yX0_again : MethodName := ⟨RX0, "again", "(I)Z"⟩
def dkwX0_again_1 : List UInt8 := [89, 42, 180, 0, 99, 27, 50, 183, 2, 35, 181, 0, 95, 4, 172]
abbrev dktX0_again_1 : List UInt8 := dkwX0_again_1 ++ []
def dkwX0_again_0 : List UInt8 := [27, 3, 5, 184, 0, 176, 153, 0, 12, 42, 180, 0, 99, 27, 50, 199, 0, 5, 3, 172, 42, 187, 0, 92]
abbrev dktX0_again_0 : List UInt8 := dkwX0_again_0 ++ dktX0_again_1
theorem dksX0_again_0 : cX0_again.data.toList.drop 0 = dktX0_again_0 := by decide +kernel
theorem dksX0_again_1 : cX0_again.data.toList.drop 24 = dktX0_again_1 := dk_seg dksX0_again_0 24 rfl rfl
theorem dX0_again_0 : decode cX0_again 0 = .ok (.iload_n 1, 1) := dk_27 (dk_at dksX0_again_0 0 rfl rfl)
theorem dX0_again_1 : decode cX0_again 1 = .ok (.iconst 0, 1) := dk_3 (dk_at dksX0_again_0 1 rfl rfl)
theorem dX0_again_2 : decode cX0_again 2 = .ok (.iconst 2, 1) := dk_5 (dk_at dksX0_again_0 2 rfl rfl)
theorem dX0_again_3 : decode cX0_again 3 = .ok (.invokestatic 176, 3) := dk_184 0 176 (dk_at dksX0_again_0 3 rfl rfl)
theorem dX0_again_6 : decode cX0_again 6 = .ok (.ifCond .eq 12, 3) := dk_153 0 12 (dk_at dksX0_again_0 6 rfl rfl)
theorem dX0_again_9 : decode cX0_again 9 = .ok (.aload_n 0, 1) := dk_42 (dk_at dksX0_again_0 9 rfl rfl)
theorem dX0_again_10 : decode cX0_again 10 = .ok (.getfield 99, 3) := dk_180 0 99 (dk_at dksX0_again_0 10 rfl rfl)
theorem dX0_again_13 : decode cX0_again 13 = .ok (.iload_n 1, 1) := dk_27 (dk_at dksX0_again_0 13 rfl rfl)
theorem dX0_again_14 : decode cX0_again 14 = .ok (.aaload, 1) := dk_50 (dk_at dksX0_again_0 14 rfl rfl)
theorem dX0_again_15 : decode cX0_again 15 = .ok (.ifnonnull 5, 3) := dk_199 0 5 (dk_at dksX0_again_0 15 rfl rfl)
theorem dX0_again_18 : decode cX0_again 18 = .ok (.iconst 0, 1) := dk_3 (dk_at dksX0_again_0 18 rfl rfl)
theorem dX0_again_19 : decode cX0_again 19 = .ok (.ireturn, 1) := dk_172 (dk_at dksX0_again_0 19 rfl rfl)
theorem dX0_again_20 : decode cX0_again 20 = .ok (.aload_n 0, 1) := dk_42 (dk_at dksX0_again_0 20 rfl rfl)
theorem dX0_again_21 : decode cX0_again 21 = .ok (.new 92, 3) := dk_187 0 92 (dk_at dksX0_again_0 21 rfl rfl)
theorem dX0_again_24 : decode cX0_again 24 = .ok (.dup, 1) := dk_89 (dk_at dksX0_again_1 0 rfl rfl)
theorem dX0_again_25 : decode cX0_again 25 = .ok (.aload_n 0, 1) := dk_42 (dk_at dksX0_again_1 1 rfl rfl)
theorem dX0_again_26 : decode cX0_again 26 = .ok (.getfield 99, 3) := dk_180 0 99 (dk_at dksX0_again_1 2 rfl rfl)
theorem dX0_again_29 : decode cX0_again 29 = .ok (.iload_n 1, 1) := dk_27 (dk_at dksX0_again_1 5 rfl rfl)
theorem dX0_again_30 : decode cX0_again 30 = .ok (.aaload, 1) := dk_50 (dk_at dksX0_again_1 6 rfl rfl)
theorem dX0_again_31 : decode cX0_again 31 = .ok (.invokespecial 547, 3) := dk_183 2 35 (dk_at dksX0_again_1 7 rfl rfl)
theorem dX0_again_34 : decode cX0_again 34 = .ok (.putfield 95, 3) := dk_181 0 95 (dk_at dksX0_again_1 10 rfl rfl)
theorem dX0_again_37 : decode cX0_again 37 = .ok (.iconst 1, 1) := dk_4 (dk_at dksX0_again_1 13 rfl rfl)
theorem dX0_again_38 : decode cX0_again 38 = .ok (.ireturn, 1) := dk_172 (dk_at dksX0_again_1 14 rfl rfl)
theorem q118 : (Jvm.Cond.initialized "OneDrum") ∈ lw_all := lw_g (lw_at lw_m1 1 rfl) rfl
theorem q157 : (Jvm.Cond.instantiable "OneDrum" (28 : Nat)) ∈ lw_all := lw_g (lw_at lw_m1 40 rfl) rfl
theorem q159 : (Jvm.Cond.instanceMethod ({ cls := "OneDrum", name := "<init>", desc := "()V" } : Jvm.MethodName)) ∈ lw_all := lw_g (lw_at lw_m1 42 rfl) rfl
theorem q160 : (Jvm.Cond.code ({ cls := "OneDrum", name := "<init>", desc := "()V" } : Jvm.MethodName) prog_1_method_5_code (1 : Nat) (Option.none : Option Jvm.ClassFile.FieldType)) ∈ lw_all := lw_g (lw_at lw_m1 43 rfl) rfl
theorem q161 : (Jvm.Cond.methodLink "OneDrum" (17 : Nat) ({ cls := "java/lang/Object", name := "<init>", desc := "()V" } : Jvm.MethodName)) ∈ lw_all := lw_g (lw_at lw_m1 44 rfl) rfl
theorem q164 : (Jvm.Cond.classLink "OneDrum" (23 : Nat) "java/lang/String") ∈ lw_all := lw_g (lw_at lw_m1 47 rfl) rfl
theorem q166 : (Jvm.Cond.stringRef "OneDrum" (25 : Nat) "rest") ∈ lw_tbl := lw_at lw_m1 49 rfl
theorem q167 : (Jvm.Cond.stringRef "OneDrum" (27 : Nat) "tap") ∈ lw_tbl := lw_at lw_m1 50 rfl
theorem q168 : (Jvm.Cond.stringRef "OneDrum" (29 : Nat) "flam") ∈ lw_tbl := lw_at lw_m1 51 rfl
theorem q169 : (Jvm.Cond.stringRef "OneDrum" (31 : Nat) "roll") ∈ lw_tbl := lw_at lw_m1 52 rfl
theorem q170 : (Jvm.Cond.stringRef "OneDrum" (37 : Nat) "halt") ∈ lw_tbl := lw_at lw_m1 53 rfl
theorem q171 : (Jvm.Cond.stringRef "OneDrum" (39 : Nat) "left") ∈ lw_tbl := lw_at lw_m1 54 rfl
theorem q172 : (Jvm.Cond.stringRef "OneDrum" (41 : Nat) "right") ∈ lw_tbl := lw_at lw_m1 55 rfl
theorem q173 : (Jvm.Cond.stringRef "OneDrum" (43 : Nat) "charge") ∈ lw_tbl := lw_at lw_m1 56 rfl
theorem q174 : (Jvm.Cond.stringRef "OneDrum" (45 : Nat) "retreat") ∈ lw_tbl := lw_at lw_m1 57 rfl
theorem q175 : (Jvm.Cond.stringRef "OneDrum" (50 : Nat) "turn") ∈ lw_tbl := lw_at lw_m1 58 rfl
theorem q176 : (Jvm.Cond.stringRef "OneDrum" (52 : Nat) "tired") ∈ lw_tbl := lw_at lw_m1 59 rfl
theorem q177 : (Jvm.Cond.stringRef "OneDrum" (54 : Nat) "echo") ∈ lw_tbl := lw_at lw_m1 60 rfl
theorem q178 : (Jvm.Cond.stringRef "OneDrum" (56 : Nat) "wet") ∈ lw_tbl := lw_at lw_m1 61 rfl
theorem q179 : (Jvm.Cond.stringRef "OneDrum" (58 : Nat) "from") ∈ lw_tbl := lw_at lw_m1 62 rfl
theorem q180 : (Jvm.Cond.stringRef "OneDrum" (60 : Nat) "step") ∈ lw_tbl := lw_at lw_m1 63 rfl
theorem q181 : (Jvm.Cond.stringRef "OneDrum" (62 : Nat) "lag") ∈ lw_tbl := lw_at lw_m1 64 rfl
theorem q182 : (Jvm.Cond.stringRef "OneDrum" (64 : Nat) "place") ∈ lw_tbl := lw_at lw_m1 65 rfl
theorem q183 : (Jvm.Cond.stringRef "OneDrum" (66 : Nat) "order") ∈ lw_tbl := lw_at lw_m1 66 rfl
theorem q184 : (Jvm.Cond.stringRef "OneDrum" (71 : Nat) "gives") ∈ lw_tbl := lw_at lw_m1 67 rfl
theorem q185 : (Jvm.Cond.stringRef "OneDrum" (76 : Nat) "made") ∈ lw_tbl := lw_at lw_m1 68 rfl
theorem q186 : (Jvm.Cond.stringRef "OneDrum" (81 : Nat) "drop") ∈ lw_tbl := lw_at lw_m1 69 rfl
theorem q187 : (Jvm.Cond.stringRef "OneDrum" (83 : Nat) "swap") ∈ lw_tbl := lw_at lw_m1 70 rfl
theorem q188 : (Jvm.Cond.stringRef "OneDrum" (85 : Nat) "twice") ∈ lw_tbl := lw_at lw_m1 71 rfl
theorem q189 : (Jvm.Cond.stringRef "OneDrum" (87 : Nat) "last") ∈ lw_tbl := lw_at lw_m1 72 rfl
theorem q190 : (Jvm.Cond.classLink "OneDrum" (92 : Nat) "OneDrum$All") ∈ lw_all := lw_g (lw_at lw_m1 73 rfl) rfl
theorem q192 : (Jvm.Cond.methodLink "OneDrum" (94 : Nat) ({ cls := "OneDrum$All", name := "<init>", desc := "()V" } : Jvm.MethodName)) ∈ lw_all := lw_g (lw_at lw_m1 75 rfl) rfl
theorem q225 : (Jvm.Cond.fieldLink "OneDrum" (172 : Nat) "OneDrum$All" "tape" "[B") ∈ lw_all := lw_g (lw_at lw_m1 108 rfl) rfl
theorem q227 : (Jvm.Cond.fieldLink "OneDrum" (166 : Nat) "OneDrum$All" "size" "I") ∈ lw_all := lw_g (lw_at lw_m1 110 rfl) rfl
theorem q229 : (Jvm.Cond.fieldLink "OneDrum" (180 : Nat) "OneDrum$All" "lastFault" "I") ∈ lw_all := lw_g (lw_at lw_m1 112 rfl) rfl
theorem q231 : (Jvm.Cond.fieldLink "OneDrum" (183 : Nat) "OneDrum$All" "lastPlace" "I") ∈ lw_all := lw_g (lw_at lw_m1 114 rfl) rfl
theorem q234 : (Jvm.Cond.fieldLink "OneDrum" (233 : Nat) "OneDrum$All" "wars" "Ljava/util/ArrayList;") ∈ lw_all := lw_g (lw_at lw_m1 117 rfl) rfl
theorem q237 : (Jvm.Cond.fieldLink "OneDrum" (247 : Nat) "OneDrum$All" "scores" "Ljava/util/ArrayList;") ∈ lw_all := lw_g (lw_at lw_m1 120 rfl) rfl
theorem q240 : (Jvm.Cond.fieldLink "OneDrum" (394 : Nat) "OneDrum$All" "hearings" "Ljava/util/ArrayList;") ∈ lw_all := lw_g (lw_at lw_m1 123 rfl) rfl
theorem q243 : (Jvm.Cond.fieldLink "OneDrum" (442 : Nat) "OneDrum$All" "villages" "Ljava/util/ArrayList;") ∈ lw_all := lw_g (lw_at lw_m1 126 rfl) rfl
theorem q262 : (Jvm.Cond.classLink "OneDrum" (103 : Nat) "OneDrum$Drum") ∈ lw_all := lw_g (lw_at lw_m1 145 rfl) rfl
theorem q264 : (Jvm.Cond.methodLinkNest "OneDrum" (105 : Nat) ({ cls := "OneDrum$Drum", name := "<init>", desc := "(LOneDrum;)V" } : Jvm.MethodName) "OneDrum") ∈ lw_tbl := lw_at lw_m1 147 rfl
theorem q269 : (Jvm.Cond.fieldLink "OneDrum" (327 : Nat) "OneDrum$Drum" "given" "[I") ∈ lw_all := lw_g (lw_at lw_m1 152 rfl) rfl
theorem q272 : (Jvm.Cond.fieldLink "OneDrum" (329 : Nat) "OneDrum$Drum" "giver" "[I") ∈ lw_all := lw_g (lw_at lw_m1 155 rfl) rfl
theorem q274 : (Jvm.Cond.fieldLink "OneDrum" (332 : Nat) "OneDrum$Drum" "played" "[I") ∈ lw_all := lw_g (lw_at lw_m1 157 rfl) rfl
theorem q277 : (Jvm.Cond.fieldLink "OneDrum" (334 : Nat) "OneDrum$Drum" "echo" "[Z") ∈ lw_all := lw_g (lw_at lw_m1 160 rfl) rfl
theorem q279 : (Jvm.Cond.fieldLink "OneDrum" (326 : Nat) "OneDrum$Drum" "many" "I") ∈ lw_all := lw_g (lw_at lw_m1 162 rfl) rfl
theorem q296 : (Jvm.Cond.classLink "OneDrum" (112 : Nat) "OneDrum$Sense") ∈ lw_all := lw_g (lw_at lw_m1 179 rfl) rfl
theorem q299 : (Jvm.Cond.methodLinkNest "OneDrum" (114 : Nat) ({ cls := "OneDrum$Sense", name := "<init>", desc := "(LOneDrum;)V" } : Jvm.MethodName) "OneDrum") ∈ lw_tbl := lw_at lw_m1 182 rfl
theorem q304 : (Jvm.Cond.fieldLink "OneDrum" (355 : Nat) "OneDrum$Sense" "move" "[I") ∈ lw_all := lw_g (lw_at lw_m1 187 rfl) rfl
theorem q307 : (Jvm.Cond.fieldLink "OneDrum" (359 : Nat) "OneDrum$Sense" "order" "[I") ∈ lw_all := lw_g (lw_at lw_m1 190 rfl) rfl
theorem q309 : (Jvm.Cond.fieldLink "OneDrum" (348 : Nat) "OneDrum$Sense" "many" "I") ∈ lw_all := lw_g (lw_at lw_m1 192 rfl) rfl
theorem q311 : (Jvm.Cond.fieldLink "OneDrum" (349 : Nat) "OneDrum$Sense" "danced" "I") ∈ lw_all := lw_g (lw_at lw_m1 194 rfl) rfl
theorem q329 : (Jvm.Cond.classLink "OneDrum" (126 : Nat) "OneDrum$Beats") ∈ lw_all := lw_g (lw_at lw_m1 212 rfl) rfl
theorem q331 : (Jvm.Cond.methodLink "OneDrum" (128 : Nat) ({ cls := "OneDrum$Beats", name := "<init>", desc := "(I)V" } : Jvm.MethodName)) ∈ lw_all := lw_g (lw_at lw_m1 214 rfl) rfl
theorem q343 : (Jvm.Cond.fieldLink "OneDrum" (320 : Nat) "OneDrum$Beats" "at" "[B") ∈ lw_all := lw_g (lw_at lw_m1 226 rfl) rfl
theorem q352 : (Jvm.Cond.fieldLink "OneDrum" (317 : Nat) "OneDrum$Beats" "many" "I") ∈ lw_all := lw_g (lw_at lw_m1 235 rfl) rfl
theorem q359 : (Jvm.Cond.fieldLink "OneDrum" (33 : Nat) "OneDrum" "beatWords" "[Ljava/lang/String;") ∈ lw_all := lw_g (lw_at lw_m2 2 rfl) rfl
theorem q363 : (Jvm.Cond.fieldLink "OneDrum" (47 : Nat) "OneDrum" "moveWords" "[Ljava/lang/String;") ∈ lw_all := lw_g (lw_at lw_m2 6 rfl) rfl
theorem q365 : (Jvm.Cond.fieldLink "OneDrum" (68 : Nat) "OneDrum" "warWords" "[Ljava/lang/String;") ∈ lw_all := lw_g (lw_at lw_m2 8 rfl) rfl
theorem q367 : (Jvm.Cond.fieldLink "OneDrum" (73 : Nat) "OneDrum" "scoreWords" "[Ljava/lang/String;") ∈ lw_all := lw_g (lw_at lw_m2 10 rfl) rfl
theorem q369 : (Jvm.Cond.fieldLink "OneDrum" (78 : Nat) "OneDrum" "hearingWords" "[Ljava/lang/String;") ∈ lw_all := lw_g (lw_at lw_m2 12 rfl) rfl
theorem q371 : (Jvm.Cond.fieldLink "OneDrum" (89 : Nat) "OneDrum" "villageWords" "[Ljava/lang/String;") ∈ lw_all := lw_g (lw_at lw_m2 14 rfl) rfl
theorem q375 : (Jvm.Cond.fieldLink "OneDrum" (95 : Nat) "OneDrum" "all" "LOneDrum$All;") ∈ lw_all := lw_g (lw_at lw_m2 18 rfl) rfl
theorem q378 : (Jvm.Cond.fieldLink "OneDrum" (99 : Nat) "OneDrum" "images" "[LOneDrum$All;") ∈ lw_all := lw_g (lw_at lw_m2 21 rfl) rfl
theorem q380 : (Jvm.Cond.fieldLink "OneDrum" (108 : Nat) "OneDrum" "drum" "LOneDrum$Drum;") ∈ lw_all := lw_g (lw_at lw_m2 23 rfl) rfl
theorem q381 : (Jvm.Cond.fieldLink "OneDrum" (115 : Nat) "OneDrum" "senses" "[LOneDrum$Sense;") ∈ lw_all := lw_g (lw_at lw_m2 24 rfl) rfl
theorem q384 : (Jvm.Cond.fieldLink "OneDrum" (243 : Nat) "OneDrum" "war" "LOneDrum$War;") ∈ lw_all := lw_g (lw_at lw_m2 27 rfl) rfl
theorem q385 : (Jvm.Cond.fieldLink "OneDrum" (252 : Nat) "OneDrum" "score" "LOneDrum$Score;") ∈ lw_all := lw_g (lw_at lw_m2 28 rfl) rfl
theorem q386 : (Jvm.Cond.fieldLink "OneDrum" (119 : Nat) "OneDrum" "places" "[I") ∈ lw_all := lw_g (lw_at lw_m2 29 rfl) rfl
theorem q387 : (Jvm.Cond.fieldLink "OneDrum" (123 : Nat) "OneDrum" "nextPlaces" "[I") ∈ lw_all := lw_g (lw_at lw_m2 30 rfl) rfl
theorem q388 : (Jvm.Cond.fieldLink "OneDrum" (131 : Nat) "OneDrum" "own" "LOneDrum$Beats;") ∈ lw_all := lw_g (lw_at lw_m2 31 rfl) rfl
theorem q389 : (Jvm.Cond.fieldLink "OneDrum" (135 : Nat) "OneDrum" "others" "LOneDrum$Beats;") ∈ lw_all := lw_g (lw_at lw_m2 32 rfl) rfl
theorem q390 : (Jvm.Cond.fieldLink "OneDrum" (399 : Nat) "OneDrum" "hearing" "LOneDrum$Hearing;") ∈ lw_all := lw_g (lw_at lw_m2 33 rfl) rfl
theorem q391 : (Jvm.Cond.fieldLink "OneDrum" (138 : Nat) "OneDrum" "edits" "[I") ∈ lw_all := lw_g (lw_at lw_m2 34 rfl) rfl
theorem q392 : (Jvm.Cond.fieldLink "OneDrum" (447 : Nat) "OneDrum" "villages" "LOneDrum$Villages;") ∈ lw_all := lw_g (lw_at lw_m2 35 rfl) rfl
theorem q393 : (Jvm.Cond.fieldLink "OneDrum" (141 : Nat) "OneDrum" "played" "LOneDrum$Beats;") ∈ lw_all := lw_g (lw_at lw_m2 36 rfl) rfl
theorem q394 : (Jvm.Cond.fieldLink "OneDrum" (144 : Nat) "OneDrum" "versions" "[LOneDrum$Beats;") ∈ lw_all := lw_g (lw_at lw_m2 37 rfl) rfl
theorem q395 : (Jvm.Cond.fieldLink "OneDrum" (484 : Nat) "OneDrum" "seed" "I") ∈ lw_all := lw_g (lw_at lw_m2 38 rfl) rfl
theorem q396 : (Jvm.Cond.fieldLink "OneDrum" (148 : Nat) "OneDrum" "often" "[I") ∈ lw_all := lw_g (lw_at lw_m2 39 rfl) rfl
theorem q397 : (Jvm.Cond.fieldLink "OneDrum" (151 : Nat) "OneDrum" "parted" "[J") ∈ lw_all := lw_g (lw_at lw_m2 40 rfl) rfl
theorem q398 : (Jvm.Cond.fieldLink "OneDrum" (155 : Nat) "OneDrum" "fewest" "[I") ∈ lw_all := lw_g (lw_at lw_m2 41 rfl) rfl
theorem q399 : (Jvm.Cond.fieldLink "OneDrum" (158 : Nat) "OneDrum" "over" "[I") ∈ lw_all := lw_g (lw_at lw_m2 42 rfl) rfl
theorem q400 : (Jvm.Cond.fieldLink "OneDrum" (161 : Nat) "OneDrum" "hanging" "LOneDrum$Beats;") ∈ lw_all := lw_g (lw_at lw_m2 43 rfl) rfl
theorem q401 : (Jvm.Cond.fieldLink "OneDrum" (164 : Nat) "OneDrum" "rest" "LOneDrum$Beats;") ∈ lw_all := lw_g (lw_at lw_m2 44 rfl) rfl
theorem q402 : (Jvm.Cond.laysFinal "OneDrum" "OneDrum" "beatWords" "[Ljava/lang/String;") ∈ lw_all := lw_g (lw_at lw_m2 45 rfl) rfl
theorem q403 : (Jvm.Cond.soleField "OneDrum" "beatWords") ∈ lw_all := lw_g (lw_at lw_m2 46 rfl) rfl
theorem q404 : (Jvm.Cond.laysFinal "OneDrum" "OneDrum" "moveWords" "[Ljava/lang/String;") ∈ lw_all := lw_g (lw_at lw_m2 47 rfl) rfl
theorem q405 : (Jvm.Cond.soleField "OneDrum" "moveWords") ∈ lw_all := lw_g (lw_at lw_m2 48 rfl) rfl
theorem q406 : (Jvm.Cond.laysFinal "OneDrum" "OneDrum" "warWords" "[Ljava/lang/String;") ∈ lw_all := lw_g (lw_at lw_m2 49 rfl) rfl
theorem q407 : (Jvm.Cond.soleField "OneDrum" "warWords") ∈ lw_all := lw_g (lw_at lw_m2 50 rfl) rfl
theorem q408 : (Jvm.Cond.laysFinal "OneDrum" "OneDrum" "scoreWords" "[Ljava/lang/String;") ∈ lw_all := lw_g (lw_at lw_m2 51 rfl) rfl
theorem q409 : (Jvm.Cond.soleField "OneDrum" "scoreWords") ∈ lw_all := lw_g (lw_at lw_m2 52 rfl) rfl
theorem q410 : (Jvm.Cond.laysFinal "OneDrum" "OneDrum" "hearingWords" "[Ljava/lang/String;") ∈ lw_all := lw_g (lw_at lw_m2 53 rfl) rfl
theorem q411 : (Jvm.Cond.soleField "OneDrum" "hearingWords") ∈ lw_all := lw_g (lw_at lw_m2 54 rfl) rfl
theorem q412 : (Jvm.Cond.laysFinal "OneDrum" "OneDrum" "villageWords" "[Ljava/lang/String;") ∈ lw_all := lw_g (lw_at lw_m2 55 rfl) rfl
theorem q413 : (Jvm.Cond.soleField "OneDrum" "villageWords") ∈ lw_all := lw_g (lw_at lw_m2 56 rfl) rfl
theorem q414 : (Jvm.Cond.lays "OneDrum" "OneDrum" "all" "LOneDrum$All;") ∈ lw_all := lw_g (lw_at lw_m2 57 rfl) rfl
theorem q415 : (Jvm.Cond.soleField "OneDrum" "all") ∈ lw_all := lw_g (lw_at lw_m2 58 rfl) rfl
theorem q416 : (Jvm.Cond.laysFinal "OneDrum" "OneDrum" "images" "[LOneDrum$All;") ∈ lw_all := lw_g (lw_at lw_m2 59 rfl) rfl
theorem q417 : (Jvm.Cond.soleField "OneDrum" "images") ∈ lw_all := lw_g (lw_at lw_m2 60 rfl) rfl
theorem q418 : (Jvm.Cond.laysFinal "OneDrum" "OneDrum" "drum" "LOneDrum$Drum;") ∈ lw_all := lw_g (lw_at lw_m2 61 rfl) rfl
theorem q419 : (Jvm.Cond.soleField "OneDrum" "drum") ∈ lw_all := lw_g (lw_at lw_m2 62 rfl) rfl
theorem q420 : (Jvm.Cond.laysFinal "OneDrum" "OneDrum" "senses" "[LOneDrum$Sense;") ∈ lw_all := lw_g (lw_at lw_m2 63 rfl) rfl
theorem q421 : (Jvm.Cond.soleField "OneDrum" "senses") ∈ lw_all := lw_g (lw_at lw_m2 64 rfl) rfl
theorem q422 : (Jvm.Cond.lays "OneDrum" "OneDrum" "war" "LOneDrum$War;") ∈ lw_all := lw_g (lw_at lw_m2 65 rfl) rfl
theorem q423 : (Jvm.Cond.soleField "OneDrum" "war") ∈ lw_all := lw_g (lw_at lw_m2 66 rfl) rfl
theorem q424 : (Jvm.Cond.lays "OneDrum" "OneDrum" "score" "LOneDrum$Score;") ∈ lw_all := lw_g (lw_at lw_m2 67 rfl) rfl
theorem q425 : (Jvm.Cond.soleField "OneDrum" "score") ∈ lw_all := lw_g (lw_at lw_m2 68 rfl) rfl
theorem q426 : (Jvm.Cond.laysFinal "OneDrum" "OneDrum" "places" "[I") ∈ lw_all := lw_g (lw_at lw_m2 69 rfl) rfl
theorem q427 : (Jvm.Cond.soleField "OneDrum" "places") ∈ lw_all := lw_g (lw_at lw_m2 70 rfl) rfl
theorem q428 : (Jvm.Cond.laysFinal "OneDrum" "OneDrum" "nextPlaces" "[I") ∈ lw_all := lw_g (lw_at lw_m2 71 rfl) rfl
theorem q429 : (Jvm.Cond.soleField "OneDrum" "nextPlaces") ∈ lw_all := lw_g (lw_at lw_m2 72 rfl) rfl
theorem q430 : (Jvm.Cond.laysFinal "OneDrum" "OneDrum" "own" "LOneDrum$Beats;") ∈ lw_all := lw_g (lw_at lw_m2 73 rfl) rfl
theorem q431 : (Jvm.Cond.soleField "OneDrum" "own") ∈ lw_all := lw_g (lw_at lw_m2 74 rfl) rfl
theorem q432 : (Jvm.Cond.laysFinal "OneDrum" "OneDrum" "others" "LOneDrum$Beats;") ∈ lw_all := lw_g (lw_at lw_m2 75 rfl) rfl
theorem q433 : (Jvm.Cond.soleField "OneDrum" "others") ∈ lw_all := lw_g (lw_at lw_m2 76 rfl) rfl
theorem q434 : (Jvm.Cond.lays "OneDrum" "OneDrum" "hearing" "LOneDrum$Hearing;") ∈ lw_all := lw_g (lw_at lw_m2 77 rfl) rfl
theorem q435 : (Jvm.Cond.soleField "OneDrum" "hearing") ∈ lw_all := lw_g (lw_at lw_m2 78 rfl) rfl
theorem q436 : (Jvm.Cond.laysFinal "OneDrum" "OneDrum" "edits" "[I") ∈ lw_all := lw_g (lw_at lw_m2 79 rfl) rfl
theorem q437 : (Jvm.Cond.soleField "OneDrum" "edits") ∈ lw_all := lw_g (lw_at lw_m2 80 rfl) rfl
theorem q438 : (Jvm.Cond.lays "OneDrum" "OneDrum" "villages" "LOneDrum$Villages;") ∈ lw_all := lw_g (lw_at lw_m2 81 rfl) rfl
theorem q439 : (Jvm.Cond.soleField "OneDrum" "villages") ∈ lw_all := lw_g (lw_at lw_m2 82 rfl) rfl
theorem q440 : (Jvm.Cond.laysFinal "OneDrum" "OneDrum" "played" "LOneDrum$Beats;") ∈ lw_all := lw_g (lw_at lw_m2 83 rfl) rfl
theorem q441 : (Jvm.Cond.soleField "OneDrum" "played") ∈ lw_all := lw_g (lw_at lw_m2 84 rfl) rfl
theorem q442 : (Jvm.Cond.laysFinal "OneDrum" "OneDrum" "versions" "[LOneDrum$Beats;") ∈ lw_all := lw_g (lw_at lw_m2 85 rfl) rfl
theorem q443 : (Jvm.Cond.soleField "OneDrum" "versions") ∈ lw_all := lw_g (lw_at lw_m2 86 rfl) rfl
theorem q444 : (Jvm.Cond.lays "OneDrum" "OneDrum" "seed" "I") ∈ lw_all := lw_g (lw_at lw_m2 87 rfl) rfl
theorem q445 : (Jvm.Cond.soleField "OneDrum" "seed") ∈ lw_all := lw_g (lw_at lw_m2 88 rfl) rfl
theorem q446 : (Jvm.Cond.laysFinal "OneDrum" "OneDrum" "often" "[I") ∈ lw_all := lw_g (lw_at lw_m2 89 rfl) rfl
theorem q447 : (Jvm.Cond.soleField "OneDrum" "often") ∈ lw_all := lw_g (lw_at lw_m2 90 rfl) rfl
theorem q448 : (Jvm.Cond.laysFinal "OneDrum" "OneDrum" "parted" "[J") ∈ lw_all := lw_g (lw_at lw_m2 91 rfl) rfl
theorem q449 : (Jvm.Cond.soleField "OneDrum" "parted") ∈ lw_all := lw_g (lw_at lw_m2 92 rfl) rfl
theorem q450 : (Jvm.Cond.laysFinal "OneDrum" "OneDrum" "fewest" "[I") ∈ lw_all := lw_g (lw_at lw_m2 93 rfl) rfl
theorem q451 : (Jvm.Cond.soleField "OneDrum" "fewest") ∈ lw_all := lw_g (lw_at lw_m2 94 rfl) rfl
theorem q452 : (Jvm.Cond.laysFinal "OneDrum" "OneDrum" "over" "[I") ∈ lw_all := lw_g (lw_at lw_m2 95 rfl) rfl
theorem q453 : (Jvm.Cond.soleField "OneDrum" "over") ∈ lw_all := lw_g (lw_at lw_m2 96 rfl) rfl
theorem q454 : (Jvm.Cond.laysFinal "OneDrum" "OneDrum" "hanging" "LOneDrum$Beats;") ∈ lw_all := lw_g (lw_at lw_m2 97 rfl) rfl
theorem q455 : (Jvm.Cond.soleField "OneDrum" "hanging") ∈ lw_all := lw_g (lw_at lw_m2 98 rfl) rfl
theorem q456 : (Jvm.Cond.laysFinal "OneDrum" "OneDrum" "rest" "LOneDrum$Beats;") ∈ lw_all := lw_g (lw_at lw_m2 99 rfl) rfl
theorem q457 : (Jvm.Cond.soleField "OneDrum" "rest") ∈ lw_all := lw_g (lw_at lw_m2 100 rfl) rfl
theorem q458 : (Jvm.Cond.superclass "OneDrum" "java/lang/Object") ∈ lw_all := lw_g (lw_at lw_m2 101 rfl) rfl
theorem q461 : (Jvm.Cond.instanceMethod ({ cls := "OneDrum", name := "feed", desc := "(IIIII)I" } : Jvm.MethodName)) ∈ lw_all := lw_g (lw_at lw_m2 104 rfl) rfl
theorem q462 : (Jvm.Cond.selects "OneDrum" ({ cls := "OneDrum", name := "feed", desc := "(IIIII)I" } : Jvm.MethodName) ({ cls := "OneDrum", name := "feed", desc := "(IIIII)I" } : Jvm.MethodName)) ∈ lw_all := lw_g (lw_at lw_m2 105 rfl) rfl
theorem q463 : (Jvm.Cond.code ({ cls := "OneDrum", name := "feed", desc := "(IIIII)I" } : Jvm.MethodName) prog_1_method_6_code (6 : Nat) (Option.some Jvm.ClassFile.FieldType.int)) ∈ lw_all := lw_g (lw_at lw_m2 106 rfl) rfl
theorem q464 : (Jvm.Cond.methodLink "OneDrum" (169 : Nat) ({ cls := "OneDrum", name := "four", desc := "(I)V" } : Jvm.MethodName)) ∈ lw_all := lw_g (lw_at lw_m2 107 rfl) rfl
theorem q465 : (Jvm.Cond.privateMethod ({ cls := "OneDrum", name := "four", desc := "(I)V" } : Jvm.MethodName)) ∈ lw_tbl := lw_at lw_m2 108 rfl
theorem q466 : (Jvm.Cond.instanceMethod ({ cls := "OneDrum", name := "four", desc := "(I)V" } : Jvm.MethodName)) ∈ lw_all := lw_g (lw_at lw_m2 109 rfl) rfl
theorem q467 : (Jvm.Cond.code ({ cls := "OneDrum", name := "four", desc := "(I)V" } : Jvm.MethodName) prog_1_method_7_code (3 : Nat) (Option.none : Option Jvm.ClassFile.FieldType)) ∈ lw_all := lw_g (lw_at lw_m2 110 rfl) rfl
theorem q469 : (Jvm.Cond.instanceMethod ({ cls := "OneDrum", name := "end", desc := "(I)I" } : Jvm.MethodName)) ∈ lw_all := lw_g (lw_at lw_m2 112 rfl) rfl
theorem q470 : (Jvm.Cond.selects "OneDrum" ({ cls := "OneDrum", name := "end", desc := "(I)I" } : Jvm.MethodName) ({ cls := "OneDrum", name := "end", desc := "(I)I" } : Jvm.MethodName)) ∈ lw_all := lw_g (lw_at lw_m2 113 rfl) rfl
theorem q471 : (Jvm.Cond.code ({ cls := "OneDrum", name := "end", desc := "(I)I" } : Jvm.MethodName) prog_1_method_8_code (2 : Nat) (Option.some Jvm.ClassFile.FieldType.int)) ∈ lw_all := lw_g (lw_at lw_m2 114 rfl) rfl
theorem q472 : (Jvm.Cond.methodLink "OneDrum" (176 : Nat) ({ cls := "OneDrum", name := "in", desc := "(III)Z" } : Jvm.MethodName)) ∈ lw_all := lw_g (lw_at lw_m2 115 rfl) rfl
theorem q473 : (Jvm.Cond.static ({ cls := "OneDrum", name := "in", desc := "(III)Z" } : Jvm.MethodName)) ∈ lw_all := lw_g (lw_at lw_m2 116 rfl) rfl
theorem q474 : (Jvm.Cond.code ({ cls := "OneDrum", name := "in", desc := "(III)Z" } : Jvm.MethodName) prog_1_method_1_code (3 : Nat) (Option.some Jvm.ClassFile.FieldType.boolean)) ∈ lw_all := lw_g (lw_at lw_m2 117 rfl) rfl
theorem q476 : (Jvm.Cond.instanceMethod ({ cls := "OneDrum", name := "text", desc := "(II)I" } : Jvm.MethodName)) ∈ lw_all := lw_g (lw_at lw_m2 119 rfl) rfl
theorem q477 : (Jvm.Cond.selects "OneDrum" ({ cls := "OneDrum", name := "text", desc := "(II)I" } : Jvm.MethodName) ({ cls := "OneDrum", name := "text", desc := "(II)I" } : Jvm.MethodName)) ∈ lw_all := lw_g (lw_at lw_m2 120 rfl) rfl
theorem q478 : (Jvm.Cond.codeWith ({ cls := "OneDrum", name := "text", desc := "(II)I" } : Jvm.MethodName) prog_1_method_12_code (6 : Nat) (Option.some Jvm.ClassFile.FieldType.int) [((44 : Nat), (49 : Nat), (52 : Nat), (220 : Nat))]) ∈ lw_all := lw_g (lw_at lw_m2 121 rfl) rfl
theorem q479 : (Jvm.Cond.classLink "OneDrum" (220 : Nat) "OneDrum$Wrong") ∈ lw_all := lw_g (lw_at lw_m2 122 rfl) rfl
theorem q480 : (Jvm.Cond.methodLink "OneDrum" (204 : Nat) ({ cls := "OneDrum", name := "fails", desc := "(II)I" } : Jvm.MethodName)) ∈ lw_all := lw_g (lw_at lw_m2 123 rfl) rfl
theorem q481 : (Jvm.Cond.privateMethod ({ cls := "OneDrum", name := "fails", desc := "(II)I" } : Jvm.MethodName)) ∈ lw_tbl := lw_at lw_m2 124 rfl
theorem q482 : (Jvm.Cond.instanceMethod ({ cls := "OneDrum", name := "fails", desc := "(II)I" } : Jvm.MethodName)) ∈ lw_all := lw_g (lw_at lw_m2 125 rfl) rfl
theorem q483 : (Jvm.Cond.code ({ cls := "OneDrum", name := "fails", desc := "(II)I" } : Jvm.MethodName) prog_1_method_9_code (3 : Nat) (Option.some Jvm.ClassFile.FieldType.int)) ∈ lw_all := lw_g (lw_at lw_m2 126 rfl) rfl
theorem q484 : (Jvm.Cond.methodLink "OneDrum" (208 : Nat) ({ cls := "OneDrum", name := "placeOf", desc := "(II)I" } : Jvm.MethodName)) ∈ lw_all := lw_g (lw_at lw_m2 127 rfl) rfl
theorem q485 : (Jvm.Cond.privateMethod ({ cls := "OneDrum", name := "placeOf", desc := "(II)I" } : Jvm.MethodName)) ∈ lw_tbl := lw_at lw_m2 128 rfl
theorem q486 : (Jvm.Cond.instanceMethod ({ cls := "OneDrum", name := "placeOf", desc := "(II)I" } : Jvm.MethodName)) ∈ lw_all := lw_g (lw_at lw_m2 129 rfl) rfl
theorem q487 : (Jvm.Cond.code ({ cls := "OneDrum", name := "placeOf", desc := "(II)I" } : Jvm.MethodName) prog_1_method_10_code (4 : Nat) (Option.some Jvm.ClassFile.FieldType.int)) ∈ lw_all := lw_g (lw_at lw_m2 130 rfl) rfl
theorem q488 : (Jvm.Cond.methodLink "OneDrum" (186 : Nat) ({ cls := "OneDrum", name := "count", desc := "(I)I" } : Jvm.MethodName)) ∈ lw_all := lw_g (lw_at lw_m2 131 rfl) rfl
theorem q489 : (Jvm.Cond.instanceMethod ({ cls := "OneDrum", name := "count", desc := "(I)I" } : Jvm.MethodName)) ∈ lw_all := lw_g (lw_at lw_m2 132 rfl) rfl
theorem q490 : (Jvm.Cond.selects "OneDrum" ({ cls := "OneDrum", name := "count", desc := "(I)I" } : Jvm.MethodName) ({ cls := "OneDrum", name := "count", desc := "(I)I" } : Jvm.MethodName)) ∈ lw_all := lw_g (lw_at lw_m2 133 rfl) rfl
theorem q491 : (Jvm.Cond.code ({ cls := "OneDrum", name := "count", desc := "(I)I" } : Jvm.MethodName) prog_1_method_72_code (2 : Nat) (Option.some Jvm.ClassFile.FieldType.int)) ∈ lw_all := lw_g (lw_at lw_m2 134 rfl) rfl
theorem q492 : (Jvm.Cond.methodLink "OneDrum" (3 : Nat) ({ cls := "java/util/ArrayList", name := "size", desc := "()I" } : Jvm.MethodName)) ∈ lw_all := lw_g (lw_at lw_m2 135 rfl) rfl
theorem q496 : (Jvm.Cond.methodLink "OneDrum" (211 : Nat) ({ cls := "OneDrum", name := "reader", desc := "(II)LOneDrum$Reader;" } : Jvm.MethodName)) ∈ lw_all := lw_g (lw_at lw_m2 139 rfl) rfl
theorem q497 : (Jvm.Cond.privateMethod ({ cls := "OneDrum", name := "reader", desc := "(II)LOneDrum$Reader;" } : Jvm.MethodName)) ∈ lw_tbl := lw_at lw_m2 140 rfl
theorem q498 : (Jvm.Cond.instanceMethod ({ cls := "OneDrum", name := "reader", desc := "(II)LOneDrum$Reader;" } : Jvm.MethodName)) ∈ lw_all := lw_g (lw_at lw_m2 141 rfl) rfl
theorem q499 : (Jvm.Cond.code ({ cls := "OneDrum", name := "reader", desc := "(II)LOneDrum$Reader;" } : Jvm.MethodName) prog_1_method_11_code (3 : Nat) (Option.some (Jvm.ClassFile.FieldType.object "OneDrum$Reader"))) ∈ lw_all := lw_g (lw_at lw_m2 142 rfl) rfl
theorem q500 : (Jvm.Cond.classLink "OneDrum" (190 : Nat) "OneDrum$WarReader") ∈ lw_all := lw_g (lw_at lw_m2 143 rfl) rfl
theorem q502 : (Jvm.Cond.methodLink "OneDrum" (192 : Nat) ({ cls := "OneDrum$WarReader", name := "<init>", desc := "(LOneDrum;I)V" } : Jvm.MethodName)) ∈ lw_all := lw_g (lw_at lw_m2 145 rfl) rfl
theorem q526 : (Jvm.Cond.fieldLink "OneDrum" (290 : Nat) "OneDrum$Army" "from" "I") ∈ lw_all := lw_g (lw_at lw_m2 169 rfl) rfl
theorem q530 : (Jvm.Cond.fieldLink "OneDrum" (294 : Nat) "OneDrum$Army" "step" "I") ∈ lw_all := lw_g (lw_at lw_m2 173 rfl) rfl
theorem q532 : (Jvm.Cond.fieldLink "OneDrum" (296 : Nat) "OneDrum$Army" "lag" "I") ∈ lw_all := lw_g (lw_at lw_m2 175 rfl) rfl
theorem q535 : (Jvm.Cond.fieldLink "OneDrum" (298 : Nat) "OneDrum$Army" "place" "I") ∈ lw_all := lw_g (lw_at lw_m2 178 rfl) rfl
theorem q539 : (Jvm.Cond.fieldLink "OneDrum" (299 : Nat) "OneDrum$Army" "orders" "Ljava/util/ArrayList;") ∈ lw_all := lw_g (lw_at lw_m2 182 rfl) rfl
theorem q554 : (Jvm.Cond.fieldLink "OneDrum" (284 : Nat) "OneDrum$War" "turn" "I") ∈ lw_all := lw_g (lw_at lw_m2 197 rfl) rfl
theorem q557 : (Jvm.Cond.fieldLink "OneDrum" (286 : Nat) "OneDrum$War" "tired" "I") ∈ lw_all := lw_g (lw_at lw_m2 200 rfl) rfl
theorem q560 : (Jvm.Cond.fieldLink "OneDrum" (288 : Nat) "OneDrum$War" "echo" "I") ∈ lw_all := lw_g (lw_at lw_m2 203 rfl) rfl
theorem q564 : (Jvm.Cond.fieldLink "OneDrum" (271 : Nat) "OneDrum$War" "wet" "[I") ∈ lw_all := lw_g (lw_at lw_m2 207 rfl) rfl
theorem q568 : (Jvm.Cond.fieldLink "OneDrum" (276 : Nat) "OneDrum$War" "armies" "[LOneDrum$Army;") ∈ lw_all := lw_g (lw_at lw_m2 211 rfl) rfl
theorem q596 : (Jvm.Cond.fieldLink "OneDrum" (224 : Nat) "OneDrum$Reader" "fault" "I") ∈ lw_all := lw_g (lw_at lw_m2 239 rfl) rfl
theorem q598 : (Jvm.Cond.fieldLink "OneDrum" (227 : Nat) "OneDrum$Reader" "faultPlace" "I") ∈ lw_all := lw_g (lw_at lw_m3 1 rfl) rfl
theorem q634 : (Jvm.Cond.classLink "OneDrum" (195 : Nat) "OneDrum$ScoreReader") ∈ lw_all := lw_g (lw_at lw_m3 37 rfl) rfl
theorem q636 : (Jvm.Cond.methodLink "OneDrum" (197 : Nat) ({ cls := "OneDrum$ScoreReader", name := "<init>", desc := "(LOneDrum;I)V" } : Jvm.MethodName)) ∈ lw_all := lw_g (lw_at lw_m3 39 rfl) rfl
theorem q650 : (Jvm.Cond.fieldLink "OneDrum" (262 : Nat) "OneDrum$Score" "given" "[LOneDrum$Beats;") ∈ lw_all := lw_g (lw_at lw_m3 53 rfl) rfl
theorem q672 : (Jvm.Cond.classLink "OneDrum" (198 : Nat) "OneDrum$HearingReader") ∈ lw_all := lw_g (lw_at lw_m3 75 rfl) rfl
theorem q674 : (Jvm.Cond.methodLink "OneDrum" (200 : Nat) ({ cls := "OneDrum$HearingReader", name := "<init>", desc := "(LOneDrum;I)V" } : Jvm.MethodName)) ∈ lw_all := lw_g (lw_at lw_m3 77 rfl) rfl
theorem q687 : (Jvm.Cond.fieldLink "OneDrum" (406 : Nat) "OneDrum$Hearing" "many" "[I") ∈ lw_all := lw_g (lw_at lw_m3 90 rfl) rfl
theorem q691 : (Jvm.Cond.fieldLink "OneDrum" (408 : Nat) "OneDrum$Hearing" "moves" "[I") ∈ lw_all := lw_g (lw_at lw_m3 94 rfl) rfl
theorem q715 : (Jvm.Cond.classLink "OneDrum" (201 : Nat) "OneDrum$VillageReader") ∈ lw_all := lw_g (lw_at lw_m3 118 rfl) rfl
theorem q717 : (Jvm.Cond.methodLink "OneDrum" (203 : Nat) ({ cls := "OneDrum$VillageReader", name := "<init>", desc := "(LOneDrum;I)V" } : Jvm.MethodName)) ∈ lw_all := lw_g (lw_at lw_m3 120 rfl) rfl
theorem q731 : (Jvm.Cond.fieldLink "OneDrum" (450 : Nat) "OneDrum$Villages" "changes" "Ljava/util/ArrayList;") ∈ lw_all := lw_g (lw_at lw_m3 134 rfl) rfl
theorem q753 : (Jvm.Cond.methodLink "OneDrum" (215 : Nat) ({ cls := "OneDrum$Reader", name := "text", desc := "()V" } : Jvm.MethodName)) ∈ lw_all := lw_g (lw_at lw_m3 156 rfl) rfl
theorem q894 : (Jvm.Cond.fieldLink "OneDrum" (222 : Nat) "OneDrum$Wrong" "place" "I") ∈ lw_all := lw_g (lw_at lw_m4 57 rfl) rfl
theorem q1004 : (Jvm.Cond.fieldLink "OneDrum" (461 : Nat) "OneDrum$Change" "parent" "I") ∈ lw_all := lw_g (lw_at lw_m4 167 rfl) rfl
theorem q1006 : (Jvm.Cond.fieldLink "OneDrum" (473 : Nat) "OneDrum$Change" "depth" "I") ∈ lw_all := lw_g (lw_at lw_m4 169 rfl) rfl
theorem q1097 : (Jvm.Cond.selects "OneDrum" ({ cls := "java/lang/Object", name := "getClass", desc := "()Ljava/lang/Class;" } : Jvm.MethodName) ({ cls := "java/lang/Object", name := "getClass", desc := "()Ljava/lang/Class;" } : Jvm.MethodName)) ∈ lw_all := lw_g (lw_at lw_m5 20 rfl) rfl
theorem q1177 : (Jvm.Cond.fieldLink "OneDrum" (311 : Nat) "OneDrum$Order" "move" "I") ∈ lw_all := lw_g (lw_at lw_m5 100 rfl) rfl
theorem q1181 : (Jvm.Cond.fieldLink "OneDrum" (314 : Nat) "OneDrum$Order" "code" "LOneDrum$Beats;") ∈ lw_all := lw_g (lw_at lw_m5 104 rfl) rfl
theorem q1193 : (Jvm.Cond.methodLink "OneDrum" (230 : Nat) ({ cls := "OneDrum$Reader", name := "lay", desc := "(I)I" } : Jvm.MethodName)) ∈ lw_all := lw_g (lw_at lw_m5 116 rfl) rfl
theorem q1200 : (Jvm.Cond.static ({ cls := "OneDrum", name := "put", desc := "(Ljava/util/ArrayList;ILjava/lang/Object;)I" } : Jvm.MethodName)) ∈ lw_all := lw_g (lw_at lw_m5 123 rfl) rfl
theorem q1201 : (Jvm.Cond.code ({ cls := "OneDrum", name := "put", desc := "(Ljava/util/ArrayList;ILjava/lang/Object;)I" } : Jvm.MethodName) prog_1_method_4_code (3 : Nat) (Option.some Jvm.ClassFile.FieldType.int)) ∈ lw_all := lw_g (lw_at lw_m5 124 rfl) rfl
theorem q1202 : (Jvm.Cond.methodLink "OneDrum" (9 : Nat) ({ cls := "java/util/ArrayList", name := "add", desc := "(Ljava/lang/Object;)Z" } : Jvm.MethodName)) ∈ lw_all := lw_g (lw_at lw_m5 125 rfl) rfl
theorem q1203 : (Jvm.Cond.methodLink "OneDrum" (13 : Nat) ({ cls := "java/util/ArrayList", name := "set", desc := "(ILjava/lang/Object;)Ljava/lang/Object;" } : Jvm.MethodName)) ∈ lw_all := lw_g (lw_at lw_m5 126 rfl) rfl
theorem q1220 : (Jvm.Cond.instanceMethod ({ cls := "OneDrum", name := "fault", desc := "(I)I" } : Jvm.MethodName)) ∈ lw_all := lw_g (lw_at lw_m5 143 rfl) rfl
theorem q1221 : (Jvm.Cond.selects "OneDrum" ({ cls := "OneDrum", name := "fault", desc := "(I)I" } : Jvm.MethodName) ({ cls := "OneDrum", name := "fault", desc := "(I)I" } : Jvm.MethodName)) ∈ lw_all := lw_g (lw_at lw_m5 144 rfl) rfl
theorem q1222 : (Jvm.Cond.code ({ cls := "OneDrum", name := "fault", desc := "(I)I" } : Jvm.MethodName) prog_1_method_13_code (2 : Nat) (Option.some Jvm.ClassFile.FieldType.int)) ∈ lw_all := lw_g (lw_at lw_m5 145 rfl) rfl
theorem q1224 : (Jvm.Cond.instanceMethod ({ cls := "OneDrum", name := "war", desc := "(II)I" } : Jvm.MethodName)) ∈ lw_all := lw_g (lw_at lw_m5 147 rfl) rfl
theorem q1225 : (Jvm.Cond.selects "OneDrum" ({ cls := "OneDrum", name := "war", desc := "(II)I" } : Jvm.MethodName) ({ cls := "OneDrum", name := "war", desc := "(II)I" } : Jvm.MethodName)) ∈ lw_all := lw_g (lw_at lw_m5 148 rfl) rfl
theorem q1226 : (Jvm.Cond.code ({ cls := "OneDrum", name := "war", desc := "(II)I" } : Jvm.MethodName) prog_1_method_18_code (4 : Nat) (Option.some Jvm.ClassFile.FieldType.int)) ∈ lw_all := lw_g (lw_at lw_m5 149 rfl) rfl
theorem q1227 : (Jvm.Cond.methodLink "OneDrum" (256 : Nat) ({ cls := "OneDrum", name := "lay", desc := "(I)Z" } : Jvm.MethodName)) ∈ lw_all := lw_g (lw_at lw_m5 150 rfl) rfl
theorem q1228 : (Jvm.Cond.privateMethod ({ cls := "OneDrum", name := "lay", desc := "(I)Z" } : Jvm.MethodName)) ∈ lw_tbl := lw_at lw_m5 151 rfl
theorem q1229 : (Jvm.Cond.instanceMethod ({ cls := "OneDrum", name := "lay", desc := "(I)Z" } : Jvm.MethodName)) ∈ lw_all := lw_g (lw_at lw_m5 152 rfl) rfl
theorem q1230 : (Jvm.Cond.code ({ cls := "OneDrum", name := "lay", desc := "(I)Z" } : Jvm.MethodName) prog_1_method_14_code (2 : Nat) (Option.some Jvm.ClassFile.FieldType.boolean)) ∈ lw_all := lw_g (lw_at lw_m5 153 rfl) rfl
theorem q1231 : (Jvm.Cond.methodLink "OneDrum" (237 : Nat) ({ cls := "java/util/ArrayList", name := "get", desc := "(I)Ljava/lang/Object;" } : Jvm.MethodName)) ∈ lw_all := lw_g (lw_at lw_m5 154 rfl) rfl
theorem q1232 : (Jvm.Cond.classLink "OneDrum" (241 : Nat) "OneDrum$War") ∈ lw_all := lw_g (lw_at lw_m5 155 rfl) rfl
theorem q1233 : (Jvm.Cond.methodLink "OneDrum" (273 : Nat) ({ cls := "OneDrum", name := "isArmy", desc := "(I)Z" } : Jvm.MethodName)) ∈ lw_all := lw_g (lw_at lw_m5 156 rfl) rfl
theorem q1234 : (Jvm.Cond.privateMethod ({ cls := "OneDrum", name := "isArmy", desc := "(I)Z" } : Jvm.MethodName)) ∈ lw_tbl := lw_at lw_m5 157 rfl
theorem q1235 : (Jvm.Cond.instanceMethod ({ cls := "OneDrum", name := "isArmy", desc := "(I)Z" } : Jvm.MethodName)) ∈ lw_all := lw_g (lw_at lw_m5 158 rfl) rfl
theorem q1236 : (Jvm.Cond.code ({ cls := "OneDrum", name := "isArmy", desc := "(I)Z" } : Jvm.MethodName) prog_1_method_15_code (2 : Nat) (Option.some Jvm.ClassFile.FieldType.boolean)) ∈ lw_all := lw_g (lw_at lw_m5 159 rfl) rfl
theorem q1237 : (Jvm.Cond.methodLink "OneDrum" (280 : Nat) ({ cls := "OneDrum", name := "ofArmy", desc := "(LOneDrum$Army;I)I" } : Jvm.MethodName)) ∈ lw_all := lw_g (lw_at lw_m5 160 rfl) rfl
theorem q1238 : (Jvm.Cond.static ({ cls := "OneDrum", name := "ofArmy", desc := "(LOneDrum$Army;I)I" } : Jvm.MethodName)) ∈ lw_all := lw_g (lw_at lw_m5 161 rfl) rfl
theorem q1239 : (Jvm.Cond.code ({ cls := "OneDrum", name := "ofArmy", desc := "(LOneDrum$Army;I)I" } : Jvm.MethodName) prog_1_method_19_code (2 : Nat) (Option.some Jvm.ClassFile.FieldType.int)) ∈ lw_all := lw_g (lw_at lw_m5 162 rfl) rfl
theorem q1241 : (Jvm.Cond.instanceMethod ({ cls := "OneDrum", name := "order", desc := "(IIII)I" } : Jvm.MethodName)) ∈ lw_all := lw_g (lw_at lw_m5 164 rfl) rfl
theorem q1242 : (Jvm.Cond.selects "OneDrum" ({ cls := "OneDrum", name := "order", desc := "(IIII)I" } : Jvm.MethodName) ({ cls := "OneDrum", name := "order", desc := "(IIII)I" } : Jvm.MethodName)) ∈ lw_all := lw_g (lw_at lw_m5 165 rfl) rfl
theorem q1243 : (Jvm.Cond.code ({ cls := "OneDrum", name := "order", desc := "(IIII)I" } : Jvm.MethodName) prog_1_method_22_code (6 : Nat) (Option.some Jvm.ClassFile.FieldType.int)) ∈ lw_all := lw_g (lw_at lw_m5 166 rfl) rfl
theorem q1244 : (Jvm.Cond.methodLink "OneDrum" (304 : Nat) ({ cls := "OneDrum", name := "isOrder", desc := "(II)Z" } : Jvm.MethodName)) ∈ lw_all := lw_g (lw_at lw_m5 167 rfl) rfl
theorem q1245 : (Jvm.Cond.privateMethod ({ cls := "OneDrum", name := "isOrder", desc := "(II)Z" } : Jvm.MethodName)) ∈ lw_tbl := lw_at lw_m5 168 rfl
theorem q1246 : (Jvm.Cond.instanceMethod ({ cls := "OneDrum", name := "isOrder", desc := "(II)Z" } : Jvm.MethodName)) ∈ lw_all := lw_g (lw_at lw_m5 169 rfl) rfl
theorem q1247 : (Jvm.Cond.code ({ cls := "OneDrum", name := "isOrder", desc := "(II)Z" } : Jvm.MethodName) prog_1_method_21_code (3 : Nat) (Option.some Jvm.ClassFile.FieldType.boolean)) ∈ lw_all := lw_g (lw_at lw_m5 170 rfl) rfl
theorem q1248 : (Jvm.Cond.methodLink "OneDrum" (308 : Nat) ({ cls := "OneDrum", name := "order", desc := "(II)LOneDrum$Order;" } : Jvm.MethodName)) ∈ lw_all := lw_g (lw_at lw_m5 171 rfl) rfl
theorem q1249 : (Jvm.Cond.privateMethod ({ cls := "OneDrum", name := "order", desc := "(II)LOneDrum$Order;" } : Jvm.MethodName)) ∈ lw_tbl := lw_at lw_m5 172 rfl
theorem q1250 : (Jvm.Cond.instanceMethod ({ cls := "OneDrum", name := "order", desc := "(II)LOneDrum$Order;" } : Jvm.MethodName)) ∈ lw_all := lw_g (lw_at lw_m5 173 rfl) rfl
theorem q1251 : (Jvm.Cond.code ({ cls := "OneDrum", name := "order", desc := "(II)LOneDrum$Order;" } : Jvm.MethodName) prog_1_method_20_code (3 : Nat) (Option.some (Jvm.ClassFile.FieldType.object "OneDrum$Order"))) ∈ lw_all := lw_g (lw_at lw_m5 174 rfl) rfl
theorem q1252 : (Jvm.Cond.classLink "OneDrum" (302 : Nat) "OneDrum$Order") ∈ lw_all := lw_g (lw_at lw_m5 175 rfl) rfl
theorem q1254 : (Jvm.Cond.instanceMethod ({ cls := "OneDrum", name := "given", desc := "(III)I" } : Jvm.MethodName)) ∈ lw_all := lw_g (lw_at lw_m5 177 rfl) rfl
theorem q1255 : (Jvm.Cond.selects "OneDrum" ({ cls := "OneDrum", name := "given", desc := "(III)I" } : Jvm.MethodName) ({ cls := "OneDrum", name := "given", desc := "(III)I" } : Jvm.MethodName)) ∈ lw_all := lw_g (lw_at lw_m5 178 rfl) rfl
theorem q1256 : (Jvm.Cond.code ({ cls := "OneDrum", name := "given", desc := "(III)I" } : Jvm.MethodName) prog_1_method_23_code (5 : Nat) (Option.some Jvm.ClassFile.FieldType.int)) ∈ lw_all := lw_g (lw_at lw_m5 179 rfl) rfl
theorem q1257 : (Jvm.Cond.methodLink "OneDrum" (259 : Nat) ({ cls := "OneDrum", name := "layScore", desc := "(I)Z" } : Jvm.MethodName)) ∈ lw_all := lw_g (lw_at lw_m5 180 rfl) rfl
theorem q1258 : (Jvm.Cond.privateMethod ({ cls := "OneDrum", name := "layScore", desc := "(I)Z" } : Jvm.MethodName)) ∈ lw_tbl := lw_at lw_m5 181 rfl
theorem q1259 : (Jvm.Cond.instanceMethod ({ cls := "OneDrum", name := "layScore", desc := "(I)Z" } : Jvm.MethodName)) ∈ lw_all := lw_g (lw_at lw_m5 182 rfl) rfl
theorem q1260 : (Jvm.Cond.code ({ cls := "OneDrum", name := "layScore", desc := "(I)Z" } : Jvm.MethodName) prog_1_method_16_code (2 : Nat) (Option.some Jvm.ClassFile.FieldType.boolean)) ∈ lw_all := lw_g (lw_at lw_m5 183 rfl) rfl
theorem q1261 : (Jvm.Cond.classLink "OneDrum" (250 : Nat) "OneDrum$Score") ∈ lw_all := lw_g (lw_at lw_m5 184 rfl) rfl
theorem q1263 : (Jvm.Cond.instanceMethod ({ cls := "OneDrum", name := "row", desc := "(IIII)I" } : Jvm.MethodName)) ∈ lw_all := lw_g (lw_at lw_m5 186 rfl) rfl
theorem q1264 : (Jvm.Cond.selects "OneDrum" ({ cls := "OneDrum", name := "row", desc := "(IIII)I" } : Jvm.MethodName) ({ cls := "OneDrum", name := "row", desc := "(IIII)I" } : Jvm.MethodName)) ∈ lw_all := lw_g (lw_at lw_m5 187 rfl) rfl
theorem q1265 : (Jvm.Cond.code ({ cls := "OneDrum", name := "row", desc := "(IIII)I" } : Jvm.MethodName) prog_1_method_24_code (5 : Nat) (Option.some Jvm.ClassFile.FieldType.int)) ∈ lw_all := lw_g (lw_at lw_m5 188 rfl) rfl
theorem q1266 : (Jvm.Cond.methodLink "OneDrum" (323 : Nat) ({ cls := "OneDrum", name := "layRow", desc := "(II)Z" } : Jvm.MethodName)) ∈ lw_all := lw_g (lw_at lw_m5 189 rfl) rfl
theorem q1267 : (Jvm.Cond.privateMethod ({ cls := "OneDrum", name := "layRow", desc := "(II)Z" } : Jvm.MethodName)) ∈ lw_tbl := lw_at lw_m5 190 rfl
theorem q1268 : (Jvm.Cond.instanceMethod ({ cls := "OneDrum", name := "layRow", desc := "(II)Z" } : Jvm.MethodName)) ∈ lw_all := lw_g (lw_at lw_m5 191 rfl) rfl
theorem q1269 : (Jvm.Cond.code ({ cls := "OneDrum", name := "layRow", desc := "(II)Z" } : Jvm.MethodName) prog_1_method_17_code (3 : Nat) (Option.some Jvm.ClassFile.FieldType.boolean)) ∈ lw_all := lw_g (lw_at lw_m5 192 rfl) rfl
theorem q1270 : (Jvm.Cond.methodLink "OneDrum" (265 : Nat) ({ cls := "OneDrum$Drum", name := "lay", desc := "(LOneDrum$Beats;LOneDrum$Beats;)V" } : Jvm.MethodName)) ∈ lw_all := lw_g (lw_at lw_m5 193 rfl) rfl
theorem q1278 : (Jvm.Cond.methodLink "OneDrum" (268 : Nat) ({ cls := "OneDrum$Drum", name := "play", desc := "(I)V" } : Jvm.MethodName)) ∈ lw_all := lw_g (lw_at lw_m5 201 rfl) rfl
theorem q1283 : (Jvm.Cond.static ({ cls := "OneDrum", name := "has", desc := "(II)Z" } : Jvm.MethodName)) ∈ lw_all := lw_g (lw_at lw_m5 206 rfl) rfl
theorem q1284 : (Jvm.Cond.code ({ cls := "OneDrum", name := "has", desc := "(II)Z" } : Jvm.MethodName) prog_1_method_2_code (2 : Nat) (Option.some Jvm.ClassFile.FieldType.boolean)) ∈ lw_all := lw_g (lw_at lw_m5 207 rfl) rfl
theorem q1286 : (Jvm.Cond.instanceMethod ({ cls := "OneDrum", name := "heard", desc := "(IIII)I" } : Jvm.MethodName)) ∈ lw_all := lw_g (lw_at lw_m5 209 rfl) rfl
theorem q1287 : (Jvm.Cond.selects "OneDrum" ({ cls := "OneDrum", name := "heard", desc := "(IIII)I" } : Jvm.MethodName) ({ cls := "OneDrum", name := "heard", desc := "(IIII)I" } : Jvm.MethodName)) ∈ lw_all := lw_g (lw_at lw_m5 210 rfl) rfl
theorem q1288 : (Jvm.Cond.code ({ cls := "OneDrum", name := "heard", desc := "(IIII)I" } : Jvm.MethodName) prog_1_method_25_code (7 : Nat) (Option.some Jvm.ClassFile.FieldType.int)) ∈ lw_all := lw_g (lw_at lw_m5 211 rfl) rfl
theorem q1289 : (Jvm.Cond.methodLink "OneDrum" (337 : Nat) ({ cls := "OneDrum$Drum", name := "heardMany", desc := "(LOneDrum$Army;)I" } : Jvm.MethodName)) ∈ lw_all := lw_g (lw_at lw_m5 212 rfl) rfl
theorem q1293 : (Jvm.Cond.methodLink "OneDrum" (341 : Nat) ({ cls := "OneDrum$Drum", name := "heard", desc := "(LOneDrum$Army;I)I" } : Jvm.MethodName)) ∈ lw_all := lw_g (lw_at lw_m5 216 rfl) rfl
theorem q1302 : (Jvm.Cond.instanceMethod ({ cls := "OneDrum", name := "made", desc := "(IIIII)I" } : Jvm.MethodName)) ∈ lw_all := lw_g (lw_at lw_m5 225 rfl) rfl
theorem q1303 : (Jvm.Cond.selects "OneDrum" ({ cls := "OneDrum", name := "made", desc := "(IIIII)I" } : Jvm.MethodName) ({ cls := "OneDrum", name := "made", desc := "(IIIII)I" } : Jvm.MethodName)) ∈ lw_all := lw_g (lw_at lw_m5 226 rfl) rfl
theorem q1304 : (Jvm.Cond.code ({ cls := "OneDrum", name := "made", desc := "(IIIII)I" } : Jvm.MethodName) prog_1_method_26_code (7 : Nat) (Option.some Jvm.ClassFile.FieldType.int)) ∈ lw_all := lw_g (lw_at lw_m5 227 rfl) rfl
theorem q1305 : (Jvm.Cond.methodLink "OneDrum" (344 : Nat) ({ cls := "OneDrum$Sense", name := "of", desc := "(I)LOneDrum$Sense;" } : Jvm.MethodName)) ∈ lw_all := lw_g (lw_at lw_m5 228 rfl) rfl
theorem q1322 : (Jvm.Cond.methodLink "OneDrum" (352 : Nat) ({ cls := "OneDrum$Sense", name := "echoed", desc := "()I" } : Jvm.MethodName)) ∈ lw_all := lw_g (lw_at lw_m6 5 rfl) rfl
theorem q1331 : (Jvm.Cond.methodLink "OneDrum" (357 : Nat) ({ cls := "OneDrum$Sense", name := "place", desc := "(I)I" } : Jvm.MethodName)) ∈ lw_all := lw_g (lw_at lw_m6 14 rfl) rfl
theorem q1335 : (Jvm.Cond.methodLink "OneDrum" (361 : Nat) ({ cls := "OneDrum$Sense", name := "purity", desc := "(II)I" } : Jvm.MethodName)) ∈ lw_all := lw_g (lw_at lw_m6 18 rfl) rfl
theorem q1344 : (Jvm.Cond.instanceMethod ({ cls := "OneDrum", name := "march", desc := "(IIII)I" } : Jvm.MethodName)) ∈ lw_all := lw_g (lw_at lw_m6 27 rfl) rfl
theorem q1345 : (Jvm.Cond.selects "OneDrum" ({ cls := "OneDrum", name := "march", desc := "(IIII)I" } : Jvm.MethodName) ({ cls := "OneDrum", name := "march", desc := "(IIII)I" } : Jvm.MethodName)) ∈ lw_all := lw_g (lw_at lw_m6 28 rfl) rfl
theorem q1346 : (Jvm.Cond.code ({ cls := "OneDrum", name := "march", desc := "(IIII)I" } : Jvm.MethodName) prog_1_method_30_code (6 : Nat) (Option.some Jvm.ClassFile.FieldType.int)) ∈ lw_all := lw_g (lw_at lw_m6 29 rfl) rfl
theorem q1347 : (Jvm.Cond.methodLink "OneDrum" (372 : Nat) ({ cls := "OneDrum", name := "begin", desc := "()V" } : Jvm.MethodName)) ∈ lw_all := lw_g (lw_at lw_m6 30 rfl) rfl
theorem q1348 : (Jvm.Cond.privateMethod ({ cls := "OneDrum", name := "begin", desc := "()V" } : Jvm.MethodName)) ∈ lw_tbl := lw_at lw_m6 31 rfl
theorem q1349 : (Jvm.Cond.instanceMethod ({ cls := "OneDrum", name := "begin", desc := "()V" } : Jvm.MethodName)) ∈ lw_all := lw_g (lw_at lw_m6 32 rfl) rfl
theorem q1350 : (Jvm.Cond.code ({ cls := "OneDrum", name := "begin", desc := "()V" } : Jvm.MethodName) prog_1_method_28_code (2 : Nat) (Option.none : Option Jvm.ClassFile.FieldType)) ∈ lw_all := lw_g (lw_at lw_m6 33 rfl) rfl
theorem q1351 : (Jvm.Cond.methodLink "OneDrum" (375 : Nat) ({ cls := "OneDrum", name := "steps", desc := "(I)Z" } : Jvm.MethodName)) ∈ lw_all := lw_g (lw_at lw_m6 34 rfl) rfl
theorem q1352 : (Jvm.Cond.privateMethod ({ cls := "OneDrum", name := "steps", desc := "(I)Z" } : Jvm.MethodName)) ∈ lw_tbl := lw_at lw_m6 35 rfl
theorem q1353 : (Jvm.Cond.instanceMethod ({ cls := "OneDrum", name := "steps", desc := "(I)Z" } : Jvm.MethodName)) ∈ lw_all := lw_g (lw_at lw_m6 36 rfl) rfl
theorem q1354 : (Jvm.Cond.code ({ cls := "OneDrum", name := "steps", desc := "(I)Z" } : Jvm.MethodName) prog_1_method_29_code (4 : Nat) (Option.some Jvm.ClassFile.FieldType.boolean)) ∈ lw_all := lw_g (lw_at lw_m6 37 rfl) rfl
theorem q1355 : (Jvm.Cond.methodLink "OneDrum" (364 : Nat) ({ cls := "java/lang/Integer", name := "signum", desc := "(I)I" } : Jvm.MethodName)) ∈ lw_all := lw_g (lw_at lw_m6 38 rfl) rfl
theorem q1358 : (Jvm.Cond.methodLink "OneDrum" (369 : Nat) ({ cls := "OneDrum", name := "moved", desc := "(II)I" } : Jvm.MethodName)) ∈ lw_all := lw_g (lw_at lw_m6 41 rfl) rfl
theorem q1359 : (Jvm.Cond.privateMethod ({ cls := "OneDrum", name := "moved", desc := "(II)I" } : Jvm.MethodName)) ∈ lw_tbl := lw_at lw_m6 42 rfl
theorem q1360 : (Jvm.Cond.instanceMethod ({ cls := "OneDrum", name := "moved", desc := "(II)I" } : Jvm.MethodName)) ∈ lw_all := lw_g (lw_at lw_m6 43 rfl) rfl
theorem q1361 : (Jvm.Cond.code ({ cls := "OneDrum", name := "moved", desc := "(II)I" } : Jvm.MethodName) prog_1_method_27_code (7 : Nat) (Option.some Jvm.ClassFile.FieldType.int)) ∈ lw_all := lw_g (lw_at lw_m6 44 rfl) rfl
theorem q1363 : (Jvm.Cond.instanceMethod ({ cls := "OneDrum", name := "meets", desc := "(II)I" } : Jvm.MethodName)) ∈ lw_all := lw_g (lw_at lw_m6 46 rfl) rfl
theorem q1364 : (Jvm.Cond.selects "OneDrum" ({ cls := "OneDrum", name := "meets", desc := "(II)I" } : Jvm.MethodName) ({ cls := "OneDrum", name := "meets", desc := "(II)I" } : Jvm.MethodName)) ∈ lw_all := lw_g (lw_at lw_m6 47 rfl) rfl
theorem q1365 : (Jvm.Cond.code ({ cls := "OneDrum", name := "meets", desc := "(II)I" } : Jvm.MethodName) prog_1_method_32_code (3 : Nat) (Option.some Jvm.ClassFile.FieldType.int)) ∈ lw_all := lw_g (lw_at lw_m6 48 rfl) rfl
theorem q1366 : (Jvm.Cond.methodLink "OneDrum" (378 : Nat) ({ cls := "OneDrum", name := "meeting", desc := "()I" } : Jvm.MethodName)) ∈ lw_all := lw_g (lw_at lw_m6 49 rfl) rfl
theorem q1367 : (Jvm.Cond.privateMethod ({ cls := "OneDrum", name := "meeting", desc := "()I" } : Jvm.MethodName)) ∈ lw_tbl := lw_at lw_m6 50 rfl
theorem q1368 : (Jvm.Cond.instanceMethod ({ cls := "OneDrum", name := "meeting", desc := "()I" } : Jvm.MethodName)) ∈ lw_all := lw_g (lw_at lw_m6 51 rfl) rfl
theorem q1369 : (Jvm.Cond.code ({ cls := "OneDrum", name := "meeting", desc := "()I" } : Jvm.MethodName) prog_1_method_31_code (2 : Nat) (Option.some Jvm.ClassFile.FieldType.int)) ∈ lw_all := lw_g (lw_at lw_m6 52 rfl) rfl
theorem q1371 : (Jvm.Cond.instanceMethod ({ cls := "OneDrum", name := "force", desc := "(IIIIZ)I" } : Jvm.MethodName)) ∈ lw_all := lw_g (lw_at lw_m6 54 rfl) rfl
theorem q1372 : (Jvm.Cond.selects "OneDrum" ({ cls := "OneDrum", name := "force", desc := "(IIIIZ)I" } : Jvm.MethodName) ({ cls := "OneDrum", name := "force", desc := "(IIIIZ)I" } : Jvm.MethodName)) ∈ lw_all := lw_g (lw_at lw_m6 55 rfl) rfl
theorem q1373 : (Jvm.Cond.code ({ cls := "OneDrum", name := "force", desc := "(IIIIZ)I" } : Jvm.MethodName) prog_1_method_34_code (9 : Nat) (Option.some Jvm.ClassFile.FieldType.int)) ∈ lw_all := lw_g (lw_at lw_m6 56 rfl) rfl
theorem q1374 : (Jvm.Cond.methodLink "OneDrum" (384 : Nat) ({ cls := "OneDrum", name := "power", desc := "(I)I" } : Jvm.MethodName)) ∈ lw_all := lw_g (lw_at lw_m6 57 rfl) rfl
theorem q1375 : (Jvm.Cond.static ({ cls := "OneDrum", name := "power", desc := "(I)I" } : Jvm.MethodName)) ∈ lw_all := lw_g (lw_at lw_m6 58 rfl) rfl
theorem q1376 : (Jvm.Cond.code ({ cls := "OneDrum", name := "power", desc := "(I)I" } : Jvm.MethodName) prog_1_method_3_code (1 : Nat) (Option.some Jvm.ClassFile.FieldType.int)) ∈ lw_all := lw_g (lw_at lw_m6 59 rfl) rfl
theorem q1377 : (Jvm.Cond.methodLink "OneDrum" (390 : Nat) ({ cls := "OneDrum", name := "isForced", desc := "(IIII)Z" } : Jvm.MethodName)) ∈ lw_all := lw_g (lw_at lw_m6 60 rfl) rfl
theorem q1378 : (Jvm.Cond.privateMethod ({ cls := "OneDrum", name := "isForced", desc := "(IIII)Z" } : Jvm.MethodName)) ∈ lw_tbl := lw_at lw_m6 61 rfl
theorem q1379 : (Jvm.Cond.instanceMethod ({ cls := "OneDrum", name := "isForced", desc := "(IIII)Z" } : Jvm.MethodName)) ∈ lw_all := lw_g (lw_at lw_m6 62 rfl) rfl
theorem q1380 : (Jvm.Cond.code ({ cls := "OneDrum", name := "isForced", desc := "(IIII)Z" } : Jvm.MethodName) prog_1_method_33_code (6 : Nat) (Option.some Jvm.ClassFile.FieldType.boolean)) ∈ lw_all := lw_g (lw_at lw_m6 63 rfl) rfl
theorem q1381 : (Jvm.Cond.methodLink "OneDrum" (381 : Nat) ({ cls := "OneDrum$Beats", name := "lay", desc := "(II)V" } : Jvm.MethodName)) ∈ lw_all := lw_g (lw_at lw_m6 64 rfl) rfl
theorem q1385 : (Jvm.Cond.methodLink "OneDrum" (387 : Nat) ({ cls := "OneDrum$Sense", name := "has", desc := "(I)Z" } : Jvm.MethodName)) ∈ lw_all := lw_g (lw_at lw_m6 68 rfl) rfl
theorem q1390 : (Jvm.Cond.instanceMethod ({ cls := "OneDrum", name := "told", desc := "(III)I" } : Jvm.MethodName)) ∈ lw_all := lw_g (lw_at lw_m6 73 rfl) rfl
theorem q1391 : (Jvm.Cond.selects "OneDrum" ({ cls := "OneDrum", name := "told", desc := "(III)I" } : Jvm.MethodName) ({ cls := "OneDrum", name := "told", desc := "(III)I" } : Jvm.MethodName)) ∈ lw_all := lw_g (lw_at lw_m6 74 rfl) rfl
theorem q1392 : (Jvm.Cond.code ({ cls := "OneDrum", name := "told", desc := "(III)I" } : Jvm.MethodName) prog_1_method_36_code (5 : Nat) (Option.some Jvm.ClassFile.FieldType.int)) ∈ lw_all := lw_g (lw_at lw_m6 75 rfl) rfl
theorem q1393 : (Jvm.Cond.methodLink "OneDrum" (403 : Nat) ({ cls := "OneDrum", name := "layHearing", desc := "(I)Z" } : Jvm.MethodName)) ∈ lw_all := lw_g (lw_at lw_m6 76 rfl) rfl
theorem q1394 : (Jvm.Cond.privateMethod ({ cls := "OneDrum", name := "layHearing", desc := "(I)Z" } : Jvm.MethodName)) ∈ lw_tbl := lw_at lw_m6 77 rfl
theorem q1395 : (Jvm.Cond.instanceMethod ({ cls := "OneDrum", name := "layHearing", desc := "(I)Z" } : Jvm.MethodName)) ∈ lw_all := lw_g (lw_at lw_m6 78 rfl) rfl
theorem q1396 : (Jvm.Cond.code ({ cls := "OneDrum", name := "layHearing", desc := "(I)Z" } : Jvm.MethodName) prog_1_method_35_code (2 : Nat) (Option.some Jvm.ClassFile.FieldType.boolean)) ∈ lw_all := lw_g (lw_at lw_m6 79 rfl) rfl
theorem q1397 : (Jvm.Cond.classLink "OneDrum" (397 : Nat) "OneDrum$Hearing") ∈ lw_all := lw_g (lw_at lw_m6 80 rfl) rfl
theorem q1399 : (Jvm.Cond.instanceMethod ({ cls := "OneDrum", name := "bribes", desc := "(IIII)I" } : Jvm.MethodName)) ∈ lw_all := lw_g (lw_at lw_m6 82 rfl) rfl
theorem q1400 : (Jvm.Cond.selects "OneDrum" ({ cls := "OneDrum", name := "bribes", desc := "(IIII)I" } : Jvm.MethodName) ({ cls := "OneDrum", name := "bribes", desc := "(IIII)I" } : Jvm.MethodName)) ∈ lw_all := lw_g (lw_at lw_m6 83 rfl) rfl
theorem q1401 : (Jvm.Cond.code ({ cls := "OneDrum", name := "bribes", desc := "(IIII)I" } : Jvm.MethodName) prog_1_method_38_code (9 : Nat) (Option.some Jvm.ClassFile.FieldType.int)) ∈ lw_all := lw_g (lw_at lw_m6 84 rfl) rfl
theorem q1402 : (Jvm.Cond.methodLink "OneDrum" (415 : Nat) ({ cls := "OneDrum", name := "isAsTold", desc := "()Z" } : Jvm.MethodName)) ∈ lw_all := lw_g (lw_at lw_m6 85 rfl) rfl
theorem q1403 : (Jvm.Cond.privateMethod ({ cls := "OneDrum", name := "isAsTold", desc := "()Z" } : Jvm.MethodName)) ∈ lw_tbl := lw_at lw_m6 86 rfl
theorem q1404 : (Jvm.Cond.instanceMethod ({ cls := "OneDrum", name := "isAsTold", desc := "()Z" } : Jvm.MethodName)) ∈ lw_all := lw_g (lw_at lw_m6 87 rfl) rfl
theorem q1405 : (Jvm.Cond.code ({ cls := "OneDrum", name := "isAsTold", desc := "()Z" } : Jvm.MethodName) prog_1_method_37_code (1 : Nat) (Option.some Jvm.ClassFile.FieldType.boolean)) ∈ lw_all := lw_g (lw_at lw_m6 88 rfl) rfl
theorem q1406 : (Jvm.Cond.methodLink "OneDrum" (411 : Nat) ({ cls := "OneDrum$Sense", name := "isAsTold", desc := "(LOneDrum$Hearing;I)Z" } : Jvm.MethodName)) ∈ lw_all := lw_g (lw_at lw_m6 89 rfl) rfl
theorem q1411 : (Jvm.Cond.methodLink "OneDrum" (418 : Nat) ({ cls := "java/lang/Integer", name := "bitCount", desc := "(I)I" } : Jvm.MethodName)) ∈ lw_all := lw_g (lw_at lw_m6 94 rfl) rfl
theorem q1418 : (Jvm.Cond.instanceMethod ({ cls := "OneDrum", name := "meant", desc := "(IIIIZ)I" } : Jvm.MethodName)) ∈ lw_all := lw_g (lw_at lw_m6 101 rfl) rfl
theorem q1419 : (Jvm.Cond.selects "OneDrum" ({ cls := "OneDrum", name := "meant", desc := "(IIIIZ)I" } : Jvm.MethodName) ({ cls := "OneDrum", name := "meant", desc := "(IIIIZ)I" } : Jvm.MethodName)) ∈ lw_all := lw_g (lw_at lw_m6 102 rfl) rfl
theorem q1420 : (Jvm.Cond.code ({ cls := "OneDrum", name := "meant", desc := "(IIIIZ)I" } : Jvm.MethodName) prog_1_method_39_code (9 : Nat) (Option.some Jvm.ClassFile.FieldType.int)) ∈ lw_all := lw_g (lw_at lw_m6 103 rfl) rfl
theorem q1422 : (Jvm.Cond.instanceMethod ({ cls := "OneDrum", name := "truce", desc := "(IIIZ)I" } : Jvm.MethodName)) ∈ lw_all := lw_g (lw_at lw_m6 105 rfl) rfl
theorem q1423 : (Jvm.Cond.selects "OneDrum" ({ cls := "OneDrum", name := "truce", desc := "(IIIZ)I" } : Jvm.MethodName) ({ cls := "OneDrum", name := "truce", desc := "(IIIZ)I" } : Jvm.MethodName)) ∈ lw_all := lw_g (lw_at lw_m6 106 rfl) rfl
theorem q1424 : (Jvm.Cond.code ({ cls := "OneDrum", name := "truce", desc := "(IIIZ)I" } : Jvm.MethodName) prog_1_method_41_code (7 : Nat) (Option.some Jvm.ClassFile.FieldType.int)) ∈ lw_all := lw_g (lw_at lw_m6 107 rfl) rfl
theorem q1425 : (Jvm.Cond.methodLink "OneDrum" (421 : Nat) ({ cls := "OneDrum", name := "truceOf", desc := "(III)I" } : Jvm.MethodName)) ∈ lw_all := lw_g (lw_at lw_m6 108 rfl) rfl
theorem q1426 : (Jvm.Cond.privateMethod ({ cls := "OneDrum", name := "truceOf", desc := "(III)I" } : Jvm.MethodName)) ∈ lw_tbl := lw_at lw_m6 109 rfl
theorem q1427 : (Jvm.Cond.instanceMethod ({ cls := "OneDrum", name := "truceOf", desc := "(III)I" } : Jvm.MethodName)) ∈ lw_all := lw_g (lw_at lw_m6 110 rfl) rfl
theorem q1428 : (Jvm.Cond.code ({ cls := "OneDrum", name := "truceOf", desc := "(III)I" } : Jvm.MethodName) prog_1_method_40_code (5 : Nat) (Option.some Jvm.ClassFile.FieldType.int)) ∈ lw_all := lw_g (lw_at lw_m6 111 rfl) rfl
theorem q1430 : (Jvm.Cond.instanceMethod ({ cls := "OneDrum", name := "far", desc := "(IIII)I" } : Jvm.MethodName)) ∈ lw_all := lw_g (lw_at lw_m6 113 rfl) rfl
theorem q1431 : (Jvm.Cond.selects "OneDrum" ({ cls := "OneDrum", name := "far", desc := "(IIII)I" } : Jvm.MethodName) ({ cls := "OneDrum", name := "far", desc := "(IIII)I" } : Jvm.MethodName)) ∈ lw_all := lw_g (lw_at lw_m6 114 rfl) rfl
theorem q1432 : (Jvm.Cond.code ({ cls := "OneDrum", name := "far", desc := "(IIII)I" } : Jvm.MethodName) prog_1_method_43_code (5 : Nat) (Option.some Jvm.ClassFile.FieldType.int)) ∈ lw_all := lw_g (lw_at lw_m6 115 rfl) rfl
theorem q1433 : (Jvm.Cond.methodLink "OneDrum" (430 : Nat) ({ cls := "OneDrum", name := "farOf", desc := "(LOneDrum$Beats;LOneDrum$Beats;)I" } : Jvm.MethodName)) ∈ lw_all := lw_g (lw_at lw_m6 116 rfl) rfl
theorem q1434 : (Jvm.Cond.privateMethod ({ cls := "OneDrum", name := "farOf", desc := "(LOneDrum$Beats;LOneDrum$Beats;)I" } : Jvm.MethodName)) ∈ lw_tbl := lw_at lw_m6 117 rfl
theorem q1435 : (Jvm.Cond.instanceMethod ({ cls := "OneDrum", name := "farOf", desc := "(LOneDrum$Beats;LOneDrum$Beats;)I" } : Jvm.MethodName)) ∈ lw_all := lw_g (lw_at lw_m6 118 rfl) rfl
theorem q1436 : (Jvm.Cond.code ({ cls := "OneDrum", name := "farOf", desc := "(LOneDrum$Beats;LOneDrum$Beats;)I" } : Jvm.MethodName) prog_1_method_42_code (8 : Nat) (Option.some Jvm.ClassFile.FieldType.int)) ∈ lw_all := lw_g (lw_at lw_m6 119 rfl) rfl
theorem q1437 : (Jvm.Cond.methodLink "OneDrum" (425 : Nat) ({ cls := "java/lang/Math", name := "min", desc := "(II)I" } : Jvm.MethodName)) ∈ lw_all := lw_g (lw_at lw_m6 120 rfl) rfl
theorem q1439 : (Jvm.Cond.instanceMethod ({ cls := "OneDrum", name := "codes", desc := "(III)I" } : Jvm.MethodName)) ∈ lw_all := lw_g (lw_at lw_m6 122 rfl) rfl
theorem q1440 : (Jvm.Cond.selects "OneDrum" ({ cls := "OneDrum", name := "codes", desc := "(III)I" } : Jvm.MethodName) ({ cls := "OneDrum", name := "codes", desc := "(III)I" } : Jvm.MethodName)) ∈ lw_all := lw_g (lw_at lw_m6 123 rfl) rfl
theorem q1441 : (Jvm.Cond.code ({ cls := "OneDrum", name := "codes", desc := "(III)I" } : Jvm.MethodName) prog_1_method_44_code (11 : Nat) (Option.some Jvm.ClassFile.FieldType.int)) ∈ lw_all := lw_g (lw_at lw_m6 124 rfl) rfl
theorem q1442 : (Jvm.Cond.constant "OneDrum" (434 : Nat) (1000000 : Int32)) ∈ lw_all := lw_g (lw_at lw_m6 125 rfl) rfl
theorem q1443 : (Jvm.Cond.methodLink "OneDrum" (435 : Nat) ({ cls := "OneDrum$Beats", name := "beginsWith", desc := "(LOneDrum$Beats;)Z" } : Jvm.MethodName)) ∈ lw_all := lw_g (lw_at lw_m6 126 rfl) rfl
theorem q1448 : (Jvm.Cond.instanceMethod ({ cls := "OneDrum", name := "shared", desc := "(II)I" } : Jvm.MethodName)) ∈ lw_all := lw_g (lw_at lw_m6 131 rfl) rfl
theorem q1449 : (Jvm.Cond.selects "OneDrum" ({ cls := "OneDrum", name := "shared", desc := "(II)I" } : Jvm.MethodName) ({ cls := "OneDrum", name := "shared", desc := "(II)I" } : Jvm.MethodName)) ∈ lw_all := lw_g (lw_at lw_m6 132 rfl) rfl
theorem q1450 : (Jvm.Cond.code ({ cls := "OneDrum", name := "shared", desc := "(II)I" } : Jvm.MethodName) prog_1_method_45_code (5 : Nat) (Option.some Jvm.ClassFile.FieldType.int)) ∈ lw_all := lw_g (lw_at lw_m6 133 rfl) rfl
theorem q1451 : (Jvm.Cond.methodLink "OneDrum" (439 : Nat) ({ cls := "OneDrum$Beats", name := "isLike", desc := "(LOneDrum$Beats;)Z" } : Jvm.MethodName)) ∈ lw_all := lw_g (lw_at lw_m6 134 rfl) rfl
theorem q1456 : (Jvm.Cond.instanceMethod ({ cls := "OneDrum", name := "village", desc := "(III)I" } : Jvm.MethodName)) ∈ lw_all := lw_g (lw_at lw_m6 139 rfl) rfl
theorem q1457 : (Jvm.Cond.selects "OneDrum" ({ cls := "OneDrum", name := "village", desc := "(III)I" } : Jvm.MethodName) ({ cls := "OneDrum", name := "village", desc := "(III)I" } : Jvm.MethodName)) ∈ lw_all := lw_g (lw_at lw_m6 140 rfl) rfl
theorem q1458 : (Jvm.Cond.code ({ cls := "OneDrum", name := "village", desc := "(III)I" } : Jvm.MethodName) prog_1_method_48_code (5 : Nat) (Option.some Jvm.ClassFile.FieldType.int)) ∈ lw_all := lw_g (lw_at lw_m6 141 rfl) rfl
theorem q1459 : (Jvm.Cond.methodLink "OneDrum" (453 : Nat) ({ cls := "OneDrum", name := "layVillages", desc := "(I)Z" } : Jvm.MethodName)) ∈ lw_all := lw_g (lw_at lw_m6 142 rfl) rfl
theorem q1460 : (Jvm.Cond.privateMethod ({ cls := "OneDrum", name := "layVillages", desc := "(I)Z" } : Jvm.MethodName)) ∈ lw_tbl := lw_at lw_m6 143 rfl
theorem q1461 : (Jvm.Cond.instanceMethod ({ cls := "OneDrum", name := "layVillages", desc := "(I)Z" } : Jvm.MethodName)) ∈ lw_all := lw_g (lw_at lw_m6 144 rfl) rfl
theorem q1462 : (Jvm.Cond.code ({ cls := "OneDrum", name := "layVillages", desc := "(I)Z" } : Jvm.MethodName) prog_1_method_46_code (2 : Nat) (Option.some Jvm.ClassFile.FieldType.boolean)) ∈ lw_all := lw_g (lw_at lw_m6 145 rfl) rfl
theorem q1463 : (Jvm.Cond.classLink "OneDrum" (445 : Nat) "OneDrum$Villages") ∈ lw_all := lw_g (lw_at lw_m6 146 rfl) rfl
theorem q1464 : (Jvm.Cond.methodLink "OneDrum" (456 : Nat) ({ cls := "OneDrum", name := "isVillage", desc := "(I)Z" } : Jvm.MethodName)) ∈ lw_all := lw_g (lw_at lw_m6 147 rfl) rfl
theorem q1465 : (Jvm.Cond.privateMethod ({ cls := "OneDrum", name := "isVillage", desc := "(I)Z" } : Jvm.MethodName)) ∈ lw_tbl := lw_at lw_m6 148 rfl
theorem q1466 : (Jvm.Cond.instanceMethod ({ cls := "OneDrum", name := "isVillage", desc := "(I)Z" } : Jvm.MethodName)) ∈ lw_all := lw_g (lw_at lw_m6 149 rfl) rfl
theorem q1467 : (Jvm.Cond.code ({ cls := "OneDrum", name := "isVillage", desc := "(I)Z" } : Jvm.MethodName) prog_1_method_47_code (2 : Nat) (Option.some Jvm.ClassFile.FieldType.boolean)) ∈ lw_all := lw_g (lw_at lw_m6 150 rfl) rfl
theorem q1468 : (Jvm.Cond.classLink "OneDrum" (459 : Nat) "OneDrum$Change") ∈ lw_all := lw_g (lw_at lw_m6 151 rfl) rfl
theorem q1469 : (Jvm.Cond.methodLink "OneDrum" (464 : Nat) ({ cls := "OneDrum$Change", name := "kind", desc := "()I" } : Jvm.MethodName)) ∈ lw_all := lw_g (lw_at lw_m6 152 rfl) rfl
theorem q1484 : (Jvm.Cond.methodLink "OneDrum" (467 : Nat) ({ cls := "OneDrum$Change", name := "first", desc := "()I" } : Jvm.MethodName)) ∈ lw_all := lw_g (lw_at lw_m6 167 rfl) rfl
theorem q1498 : (Jvm.Cond.methodLink "OneDrum" (470 : Nat) ({ cls := "OneDrum$Change", name := "second", desc := "()I" } : Jvm.MethodName)) ∈ lw_all := lw_g (lw_at lw_m6 181 rfl) rfl
theorem q1509 : (Jvm.Cond.instanceMethod ({ cls := "OneDrum", name := "version", desc := "(IIIII)I" } : Jvm.MethodName)) ∈ lw_all := lw_g (lw_at lw_m6 192 rfl) rfl
theorem q1510 : (Jvm.Cond.selects "OneDrum" ({ cls := "OneDrum", name := "version", desc := "(IIIII)I" } : Jvm.MethodName) ({ cls := "OneDrum", name := "version", desc := "(IIIII)I" } : Jvm.MethodName)) ∈ lw_all := lw_g (lw_at lw_m6 193 rfl) rfl
theorem q1511 : (Jvm.Cond.code ({ cls := "OneDrum", name := "version", desc := "(IIIII)I" } : Jvm.MethodName) prog_1_method_50_code (6 : Nat) (Option.some Jvm.ClassFile.FieldType.int)) ∈ lw_all := lw_g (lw_at lw_m6 194 rfl) rfl
theorem q1512 : (Jvm.Cond.methodLink "OneDrum" (481 : Nat) ({ cls := "OneDrum", name := "layTales", desc := "(III)Z" } : Jvm.MethodName)) ∈ lw_all := lw_g (lw_at lw_m6 195 rfl) rfl
theorem q1513 : (Jvm.Cond.privateMethod ({ cls := "OneDrum", name := "layTales", desc := "(III)Z" } : Jvm.MethodName)) ∈ lw_tbl := lw_at lw_m6 196 rfl
theorem q1514 : (Jvm.Cond.instanceMethod ({ cls := "OneDrum", name := "layTales", desc := "(III)Z" } : Jvm.MethodName)) ∈ lw_all := lw_g (lw_at lw_m6 197 rfl) rfl
theorem q1515 : (Jvm.Cond.code ({ cls := "OneDrum", name := "layTales", desc := "(III)Z" } : Jvm.MethodName) prog_1_method_49_code (6 : Nat) (Option.some Jvm.ClassFile.FieldType.boolean)) ∈ lw_all := lw_g (lw_at lw_m6 198 rfl) rfl
theorem q1516 : (Jvm.Cond.methodLink "OneDrum" (476 : Nat) ({ cls := "OneDrum$Beats", name := "add", desc := "(I)V" } : Jvm.MethodName)) ∈ lw_all := lw_g (lw_at lw_m6 199 rfl) rfl
theorem q1517 : (Jvm.Cond.methodLink "OneDrum" (478 : Nat) ({ cls := "OneDrum$Change", name := "tell", desc := "(LOneDrum$Beats;LOneDrum$Beats;)V" } : Jvm.MethodName)) ∈ lw_all := lw_g (lw_at lw_m6 200 rfl) rfl
theorem q1537 : (Jvm.Cond.instanceMethod ({ cls := "OneDrum", name := "tale", desc := "(IIIIZ)I" } : Jvm.MethodName)) ∈ lw_all := lw_g (lw_at lw_m6 220 rfl) rfl
theorem q1538 : (Jvm.Cond.selects "OneDrum" ({ cls := "OneDrum", name := "tale", desc := "(IIIIZ)I" } : Jvm.MethodName) ({ cls := "OneDrum", name := "tale", desc := "(IIIIZ)I" } : Jvm.MethodName)) ∈ lw_all := lw_g (lw_at lw_m6 221 rfl) rfl
theorem q1539 : (Jvm.Cond.code ({ cls := "OneDrum", name := "tale", desc := "(IIIIZ)I" } : Jvm.MethodName) prog_1_method_51_code (8 : Nat) (Option.some Jvm.ClassFile.FieldType.int)) ∈ lw_all := lw_g (lw_at lw_m6 222 rfl) rfl
theorem q1541 : (Jvm.Cond.instanceMethod ({ cls := "OneDrum", name := "drawn", desc := "(IIIII)I" } : Jvm.MethodName)) ∈ lw_all := lw_g (lw_at lw_m6 224 rfl) rfl
theorem q1542 : (Jvm.Cond.selects "OneDrum" ({ cls := "OneDrum", name := "drawn", desc := "(IIIII)I" } : Jvm.MethodName) ({ cls := "OneDrum", name := "drawn", desc := "(IIIII)I" } : Jvm.MethodName)) ∈ lw_all := lw_g (lw_at lw_m6 225 rfl) rfl
theorem q1543 : (Jvm.Cond.code ({ cls := "OneDrum", name := "drawn", desc := "(IIIII)I" } : Jvm.MethodName) prog_1_method_55_code (11 : Nat) (Option.some Jvm.ClassFile.FieldType.int)) ∈ lw_all := lw_g (lw_at lw_m6 226 rfl) rfl
theorem q1544 : (Jvm.Cond.methodLink "OneDrum" (491 : Nat) ({ cls := "OneDrum", name := "wind", desc := "()I" } : Jvm.MethodName)) ∈ lw_all := lw_g (lw_at lw_m6 227 rfl) rfl
theorem q1545 : (Jvm.Cond.privateMethod ({ cls := "OneDrum", name := "wind", desc := "()I" } : Jvm.MethodName)) ∈ lw_tbl := lw_at lw_m6 228 rfl
theorem q1546 : (Jvm.Cond.instanceMethod ({ cls := "OneDrum", name := "wind", desc := "()I" } : Jvm.MethodName)) ∈ lw_all := lw_g (lw_at lw_m6 229 rfl) rfl
theorem q1547 : (Jvm.Cond.code ({ cls := "OneDrum", name := "wind", desc := "()I" } : Jvm.MethodName) prog_1_method_53_code (3 : Nat) (Option.some Jvm.ClassFile.FieldType.int)) ∈ lw_all := lw_g (lw_at lw_m6 230 rfl) rfl
theorem q1548 : (Jvm.Cond.methodLink "OneDrum" (488 : Nat) ({ cls := "OneDrum", name := "draw", desc := "(I)I" } : Jvm.MethodName)) ∈ lw_all := lw_g (lw_at lw_m6 231 rfl) rfl
theorem q1549 : (Jvm.Cond.privateMethod ({ cls := "OneDrum", name := "draw", desc := "(I)I" } : Jvm.MethodName)) ∈ lw_tbl := lw_at lw_m6 232 rfl
theorem q1550 : (Jvm.Cond.instanceMethod ({ cls := "OneDrum", name := "draw", desc := "(I)I" } : Jvm.MethodName)) ∈ lw_all := lw_g (lw_at lw_m6 233 rfl) rfl
theorem q1551 : (Jvm.Cond.code ({ cls := "OneDrum", name := "draw", desc := "(I)I" } : Jvm.MethodName) prog_1_method_52_code (2 : Nat) (Option.some Jvm.ClassFile.FieldType.int)) ∈ lw_all := lw_g (lw_at lw_m6 234 rfl) rfl
theorem q1552 : (Jvm.Cond.constant "OneDrum" (487 : Nat) (1103515245 : Int32)) ∈ lw_all := lw_g (lw_at lw_m6 235 rfl) rfl
theorem q1553 : (Jvm.Cond.methodLink "OneDrum" (494 : Nat) ({ cls := "OneDrum", name := "areLike", desc := "()Z" } : Jvm.MethodName)) ∈ lw_all := lw_g (lw_at lw_m6 236 rfl) rfl
theorem q1554 : (Jvm.Cond.privateMethod ({ cls := "OneDrum", name := "areLike", desc := "()Z" } : Jvm.MethodName)) ∈ lw_tbl := lw_at lw_m6 237 rfl
theorem q1555 : (Jvm.Cond.instanceMethod ({ cls := "OneDrum", name := "areLike", desc := "()Z" } : Jvm.MethodName)) ∈ lw_all := lw_g (lw_at lw_m6 238 rfl) rfl
theorem q1556 : (Jvm.Cond.code ({ cls := "OneDrum", name := "areLike", desc := "()Z" } : Jvm.MethodName) prog_1_method_54_code (2 : Nat) (Option.some Jvm.ClassFile.FieldType.boolean)) ∈ lw_all := lw_g (lw_at lw_m6 239 rfl) rfl
theorem q1558 : (Jvm.Cond.instanceMethod ({ cls := "OneDrum", name := "common", desc := "(III)I" } : Jvm.MethodName)) ∈ lw_all := lw_g (lw_at lw_m7 1 rfl) rfl
theorem q1559 : (Jvm.Cond.selects "OneDrum" ({ cls := "OneDrum", name := "common", desc := "(III)I" } : Jvm.MethodName) ({ cls := "OneDrum", name := "common", desc := "(III)I" } : Jvm.MethodName)) ∈ lw_all := lw_g (lw_at lw_m7 2 rfl) rfl
theorem q1560 : (Jvm.Cond.code ({ cls := "OneDrum", name := "common", desc := "(III)I" } : Jvm.MethodName) prog_1_method_59_code (9 : Nat) (Option.some Jvm.ClassFile.FieldType.int)) ∈ lw_all := lw_g (lw_at lw_m7 3 rfl) rfl
theorem q1561 : (Jvm.Cond.methodLink "OneDrum" (500 : Nat) ({ cls := "OneDrum", name := "period", desc := "()I" } : Jvm.MethodName)) ∈ lw_all := lw_g (lw_at lw_m7 4 rfl) rfl
theorem q1562 : (Jvm.Cond.privateMethod ({ cls := "OneDrum", name := "period", desc := "()I" } : Jvm.MethodName)) ∈ lw_tbl := lw_at lw_m7 5 rfl
theorem q1563 : (Jvm.Cond.instanceMethod ({ cls := "OneDrum", name := "period", desc := "()I" } : Jvm.MethodName)) ∈ lw_all := lw_g (lw_at lw_m7 6 rfl) rfl
theorem q1564 : (Jvm.Cond.code ({ cls := "OneDrum", name := "period", desc := "()I" } : Jvm.MethodName) prog_1_method_58_code (2 : Nat) (Option.some Jvm.ClassFile.FieldType.int)) ∈ lw_all := lw_g (lw_at lw_m7 7 rfl) rfl
theorem q1565 : (Jvm.Cond.methodLink "OneDrum" (497 : Nat) ({ cls := "OneDrum", name := "isPeriod", desc := "(I)Z" } : Jvm.MethodName)) ∈ lw_all := lw_g (lw_at lw_m7 8 rfl) rfl
theorem q1566 : (Jvm.Cond.privateMethod ({ cls := "OneDrum", name := "isPeriod", desc := "(I)Z" } : Jvm.MethodName)) ∈ lw_tbl := lw_at lw_m7 9 rfl
theorem q1567 : (Jvm.Cond.instanceMethod ({ cls := "OneDrum", name := "isPeriod", desc := "(I)Z" } : Jvm.MethodName)) ∈ lw_all := lw_g (lw_at lw_m7 10 rfl) rfl
theorem q1568 : (Jvm.Cond.code ({ cls := "OneDrum", name := "isPeriod", desc := "(I)Z" } : Jvm.MethodName) prog_1_method_57_code (3 : Nat) (Option.some Jvm.ClassFile.FieldType.boolean)) ∈ lw_all := lw_g (lw_at lw_m7 11 rfl) rfl
theorem q1569 : (Jvm.Cond.methodLink "OneDrum" (503 : Nat) ({ cls := "OneDrum", name := "alikeFrom", desc := "(II)I" } : Jvm.MethodName)) ∈ lw_all := lw_g (lw_at lw_m7 12 rfl) rfl
theorem q1570 : (Jvm.Cond.privateMethod ({ cls := "OneDrum", name := "alikeFrom", desc := "(II)I" } : Jvm.MethodName)) ∈ lw_tbl := lw_at lw_m7 13 rfl
theorem q1571 : (Jvm.Cond.instanceMethod ({ cls := "OneDrum", name := "alikeFrom", desc := "(II)I" } : Jvm.MethodName)) ∈ lw_all := lw_g (lw_at lw_m7 14 rfl) rfl
theorem q1572 : (Jvm.Cond.code ({ cls := "OneDrum", name := "alikeFrom", desc := "(II)I" } : Jvm.MethodName) prog_1_method_56_code (6 : Nat) (Option.some Jvm.ClassFile.FieldType.int)) ∈ lw_all := lw_g (lw_at lw_m7 15 rfl) rfl
theorem q1573 : (Jvm.Cond.methodLink "OneDrum" (506 : Nat) ({ cls := "java/lang/Math", name := "max", desc := "(II)I" } : Jvm.MethodName)) ∈ lw_all := lw_g (lw_at lw_m7 16 rfl) rfl
theorem q1575 : (Jvm.Cond.instanceMethod ({ cls := "OneDrum", name := "readings", desc := "(IIIZ)J" } : Jvm.MethodName)) ∈ lw_all := lw_g (lw_at lw_m7 18 rfl) rfl
theorem q1576 : (Jvm.Cond.selects "OneDrum" ({ cls := "OneDrum", name := "readings", desc := "(IIIZ)J" } : Jvm.MethodName) ({ cls := "OneDrum", name := "readings", desc := "(IIIZ)J" } : Jvm.MethodName)) ∈ lw_all := lw_g (lw_at lw_m7 19 rfl) rfl
theorem q1577 : (Jvm.Cond.code ({ cls := "OneDrum", name := "readings", desc := "(IIIZ)J" } : Jvm.MethodName) prog_1_method_60_code (11 : Nat) (Option.some Jvm.ClassFile.FieldType.long)) ∈ lw_all := lw_g (lw_at lw_m7 20 rfl) rfl
theorem q1578 : (Jvm.Cond.constantLong "OneDrum" (509 : Nat) (-2 : Int64)) ∈ lw_all := lw_g (lw_at lw_m7 21 rfl) rfl
theorem q1579 : (Jvm.Cond.methodLinkNest "OneDrum" (511 : Nat) ({ cls := "OneDrum$Sense", name := "fits", desc := "(LOneDrum$Order;II)Z" } : Jvm.MethodName) "OneDrum") ∈ lw_tbl := lw_at lw_m7 22 rfl
theorem q1580 : (Jvm.Cond.constantLong "OneDrum" (515 : Nat) (-1 : Int64)) ∈ lw_all := lw_g (lw_at lw_m7 23 rfl) rfl
theorem q1582 : (Jvm.Cond.instanceMethod ({ cls := "OneDrum", name := "unique", desc := "(IIZ)I" } : Jvm.MethodName)) ∈ lw_all := lw_g (lw_at lw_m7 25 rfl) rfl
theorem q1583 : (Jvm.Cond.selects "OneDrum" ({ cls := "OneDrum", name := "unique", desc := "(IIZ)I" } : Jvm.MethodName) ({ cls := "OneDrum", name := "unique", desc := "(IIZ)I" } : Jvm.MethodName)) ∈ lw_all := lw_g (lw_at lw_m7 26 rfl) rfl
theorem q1584 : (Jvm.Cond.code ({ cls := "OneDrum", name := "unique", desc := "(IIZ)I" } : Jvm.MethodName) prog_1_method_67_code (5 : Nat) (Option.some Jvm.ClassFile.FieldType.int)) ∈ lw_all := lw_g (lw_at lw_m7 27 rfl) rfl
theorem q1585 : (Jvm.Cond.methodLink "OneDrum" (533 : Nat) ({ cls := "OneDrum", name := "twofold", desc := "(Ljava/util/ArrayList;)I" } : Jvm.MethodName)) ∈ lw_all := lw_g (lw_at lw_m7 28 rfl) rfl
theorem q1586 : (Jvm.Cond.privateMethod ({ cls := "OneDrum", name := "twofold", desc := "(Ljava/util/ArrayList;)I" } : Jvm.MethodName)) ∈ lw_tbl := lw_at lw_m7 29 rfl
theorem q1587 : (Jvm.Cond.instanceMethod ({ cls := "OneDrum", name := "twofold", desc := "(Ljava/util/ArrayList;)I" } : Jvm.MethodName)) ∈ lw_all := lw_g (lw_at lw_m7 30 rfl) rfl
theorem q1588 : (Jvm.Cond.code ({ cls := "OneDrum", name := "twofold", desc := "(Ljava/util/ArrayList;)I" } : Jvm.MethodName) prog_1_method_66_code (6 : Nat) (Option.some Jvm.ClassFile.FieldType.int)) ∈ lw_all := lw_g (lw_at lw_m7 31 rfl) rfl
theorem q1589 : (Jvm.Cond.methodLink "OneDrum" (524 : Nat) ({ cls := "OneDrum", name := "left", desc := "(LOneDrum$Beats;LOneDrum$Beats;)I" } : Jvm.MethodName)) ∈ lw_all := lw_g (lw_at lw_m7 32 rfl) rfl
theorem q1590 : (Jvm.Cond.privateMethod ({ cls := "OneDrum", name := "left", desc := "(LOneDrum$Beats;LOneDrum$Beats;)I" } : Jvm.MethodName)) ∈ lw_tbl := lw_at lw_m7 33 rfl
theorem q1591 : (Jvm.Cond.instanceMethod ({ cls := "OneDrum", name := "left", desc := "(LOneDrum$Beats;LOneDrum$Beats;)I" } : Jvm.MethodName)) ∈ lw_all := lw_g (lw_at lw_m7 34 rfl) rfl
theorem q1592 : (Jvm.Cond.code ({ cls := "OneDrum", name := "left", desc := "(LOneDrum$Beats;LOneDrum$Beats;)I" } : Jvm.MethodName) prog_1_method_62_code (4 : Nat) (Option.some Jvm.ClassFile.FieldType.int)) ∈ lw_all := lw_g (lw_at lw_m7 35 rfl) rfl
theorem q1593 : (Jvm.Cond.methodLink "OneDrum" (517 : Nat) ({ cls := "OneDrum", name := "numberOf", desc := "(LOneDrum$Beats;)I" } : Jvm.MethodName)) ∈ lw_all := lw_g (lw_at lw_m7 36 rfl) rfl
theorem q1594 : (Jvm.Cond.privateMethod ({ cls := "OneDrum", name := "numberOf", desc := "(LOneDrum$Beats;)I" } : Jvm.MethodName)) ∈ lw_tbl := lw_at lw_m7 37 rfl
theorem q1595 : (Jvm.Cond.instanceMethod ({ cls := "OneDrum", name := "numberOf", desc := "(LOneDrum$Beats;)I" } : Jvm.MethodName)) ∈ lw_all := lw_g (lw_at lw_m7 38 rfl) rfl
theorem q1596 : (Jvm.Cond.code ({ cls := "OneDrum", name := "numberOf", desc := "(LOneDrum$Beats;)I" } : Jvm.MethodName) prog_1_method_61_code (4 : Nat) (Option.some Jvm.ClassFile.FieldType.int)) ∈ lw_all := lw_g (lw_at lw_m7 39 rfl) rfl
theorem q1597 : (Jvm.Cond.methodLink "OneDrum" (526 : Nat) ({ cls := "OneDrum", name := "lessens", desc := "(II)Z" } : Jvm.MethodName)) ∈ lw_all := lw_g (lw_at lw_m7 40 rfl) rfl
theorem q1598 : (Jvm.Cond.privateMethod ({ cls := "OneDrum", name := "lessens", desc := "(II)Z" } : Jvm.MethodName)) ∈ lw_tbl := lw_at lw_m7 41 rfl
theorem q1599 : (Jvm.Cond.instanceMethod ({ cls := "OneDrum", name := "lessens", desc := "(II)Z" } : Jvm.MethodName)) ∈ lw_all := lw_g (lw_at lw_m7 42 rfl) rfl
theorem q1600 : (Jvm.Cond.code ({ cls := "OneDrum", name := "lessens", desc := "(II)Z" } : Jvm.MethodName) prog_1_method_63_code (4 : Nat) (Option.some Jvm.ClassFile.FieldType.boolean)) ∈ lw_all := lw_g (lw_at lw_m7 43 rfl) rfl
theorem q1601 : (Jvm.Cond.methodLink "OneDrum" (529 : Nat) ({ cls := "OneDrum", name := "goesOn", desc := "(ILOneDrum$Beats;)Z" } : Jvm.MethodName)) ∈ lw_all := lw_g (lw_at lw_m7 44 rfl) rfl
theorem q1602 : (Jvm.Cond.privateMethod ({ cls := "OneDrum", name := "goesOn", desc := "(ILOneDrum$Beats;)Z" } : Jvm.MethodName)) ∈ lw_tbl := lw_at lw_m7 45 rfl
theorem q1603 : (Jvm.Cond.instanceMethod ({ cls := "OneDrum", name := "goesOn", desc := "(ILOneDrum$Beats;)Z" } : Jvm.MethodName)) ∈ lw_all := lw_g (lw_at lw_m7 46 rfl) rfl
theorem q1604 : (Jvm.Cond.code ({ cls := "OneDrum", name := "goesOn", desc := "(ILOneDrum$Beats;)Z" } : Jvm.MethodName) prog_1_method_65_code (3 : Nat) (Option.some Jvm.ClassFile.FieldType.boolean)) ∈ lw_all := lw_g (lw_at lw_m7 47 rfl) rfl
theorem q1605 : (Jvm.Cond.methodLink "OneDrum" (521 : Nat) ({ cls := "OneDrum", name := "layHanging", desc := "(I)V" } : Jvm.MethodName)) ∈ lw_all := lw_g (lw_at lw_m7 48 rfl) rfl
theorem q1606 : (Jvm.Cond.privateMethod ({ cls := "OneDrum", name := "layHanging", desc := "(I)V" } : Jvm.MethodName)) ∈ lw_tbl := lw_at lw_m7 49 rfl
theorem q1607 : (Jvm.Cond.instanceMethod ({ cls := "OneDrum", name := "layHanging", desc := "(I)V" } : Jvm.MethodName)) ∈ lw_all := lw_g (lw_at lw_m7 50 rfl) rfl
theorem q1608 : (Jvm.Cond.code ({ cls := "OneDrum", name := "layHanging", desc := "(I)V" } : Jvm.MethodName) prog_1_method_64_code (3 : Nat) (Option.none : Option Jvm.ClassFile.FieldType)) ∈ lw_all := lw_g (lw_at lw_m7 51 rfl) rfl
theorem q1610 : (Jvm.Cond.instanceMethod ({ cls := "OneDrum", name := "fix", desc := "(IIIIZ)I" } : Jvm.MethodName)) ∈ lw_all := lw_g (lw_at lw_m7 53 rfl) rfl
theorem q1611 : (Jvm.Cond.selects "OneDrum" ({ cls := "OneDrum", name := "fix", desc := "(IIIIZ)I" } : Jvm.MethodName) ({ cls := "OneDrum", name := "fix", desc := "(IIIIZ)I" } : Jvm.MethodName)) ∈ lw_all := lw_g (lw_at lw_m7 54 rfl) rfl
theorem q1612 : (Jvm.Cond.code ({ cls := "OneDrum", name := "fix", desc := "(IIIIZ)I" } : Jvm.MethodName) prog_1_method_71_code (7 : Nat) (Option.some Jvm.ClassFile.FieldType.int)) ∈ lw_all := lw_g (lw_at lw_m7 55 rfl) rfl
theorem q1613 : (Jvm.Cond.methodLink "OneDrum" (537 : Nat) ({ cls := "OneDrum", name := "makes", desc := "(II)Z" } : Jvm.MethodName)) ∈ lw_all := lw_g (lw_at lw_m7 56 rfl) rfl
theorem q1614 : (Jvm.Cond.privateMethod ({ cls := "OneDrum", name := "makes", desc := "(II)Z" } : Jvm.MethodName)) ∈ lw_tbl := lw_at lw_m7 57 rfl
theorem q1615 : (Jvm.Cond.instanceMethod ({ cls := "OneDrum", name := "makes", desc := "(II)Z" } : Jvm.MethodName)) ∈ lw_all := lw_g (lw_at lw_m7 58 rfl) rfl
theorem q1616 : (Jvm.Cond.code ({ cls := "OneDrum", name := "makes", desc := "(II)Z" } : Jvm.MethodName) prog_1_method_68_code (3 : Nat) (Option.some Jvm.ClassFile.FieldType.boolean)) ∈ lw_all := lw_g (lw_at lw_m7 59 rfl) rfl
theorem q1617 : (Jvm.Cond.methodLink "OneDrum" (543 : Nat) ({ cls := "OneDrum", name := "fixBy", desc := "(IIZ)I" } : Jvm.MethodName)) ∈ lw_all := lw_g (lw_at lw_m7 60 rfl) rfl
theorem q1618 : (Jvm.Cond.privateMethod ({ cls := "OneDrum", name := "fixBy", desc := "(IIZ)I" } : Jvm.MethodName)) ∈ lw_tbl := lw_at lw_m7 61 rfl
theorem q1619 : (Jvm.Cond.instanceMethod ({ cls := "OneDrum", name := "fixBy", desc := "(IIZ)I" } : Jvm.MethodName)) ∈ lw_all := lw_g (lw_at lw_m7 62 rfl) rfl
theorem q1620 : (Jvm.Cond.code ({ cls := "OneDrum", name := "fixBy", desc := "(IIZ)I" } : Jvm.MethodName) prog_1_method_70_code (8 : Nat) (Option.some Jvm.ClassFile.FieldType.int)) ∈ lw_all := lw_g (lw_at lw_m7 63 rfl) rfl
theorem q1621 : (Jvm.Cond.methodLink "OneDrum" (540 : Nat) ({ cls := "OneDrum", name := "isFixed", desc := "(IIII)Z" } : Jvm.MethodName)) ∈ lw_all := lw_g (lw_at lw_m7 64 rfl) rfl
theorem q1622 : (Jvm.Cond.privateMethod ({ cls := "OneDrum", name := "isFixed", desc := "(IIII)Z" } : Jvm.MethodName)) ∈ lw_tbl := lw_at lw_m7 65 rfl
theorem q1623 : (Jvm.Cond.instanceMethod ({ cls := "OneDrum", name := "isFixed", desc := "(IIII)Z" } : Jvm.MethodName)) ∈ lw_all := lw_g (lw_at lw_m7 66 rfl) rfl
theorem q1624 : (Jvm.Cond.code ({ cls := "OneDrum", name := "isFixed", desc := "(IIII)Z" } : Jvm.MethodName) prog_1_method_69_code (9 : Nat) (Option.some Jvm.ClassFile.FieldType.boolean)) ∈ lw_all := lw_g (lw_at lw_m7 67 rfl) rfl
theorem q1627 : (Jvm.Cond.instanceMethod ({ cls := "OneDrum", name := "image", desc := "(I)Z" } : Jvm.MethodName)) ∈ lw_all := lw_g (lw_at lw_m7 70 rfl) rfl
theorem q1628 : (Jvm.Cond.selects "OneDrum" ({ cls := "OneDrum", name := "image", desc := "(I)Z" } : Jvm.MethodName) ({ cls := "OneDrum", name := "image", desc := "(I)Z" } : Jvm.MethodName)) ∈ lw_all := lw_g (lw_at lw_m7 71 rfl) rfl
theorem q1629 : (Jvm.Cond.code ({ cls := "OneDrum", name := "image", desc := "(I)Z" } : Jvm.MethodName) prog_1_method_73_code (2 : Nat) (Option.some Jvm.ClassFile.FieldType.boolean)) ∈ lw_all := lw_g (lw_at lw_m7 72 rfl) rfl
theorem q1630 : (Jvm.Cond.methodLink "OneDrum" (547 : Nat) ({ cls := "OneDrum$All", name := "<init>", desc := "(LOneDrum$All;)V" } : Jvm.MethodName)) ∈ lw_all := lw_g (lw_at lw_m7 73 rfl) rfl
theorem q1642 : (Jvm.Cond.instanceMethod ({ cls := "OneDrum", name := "again", desc := "(I)Z" } : Jvm.MethodName)) ∈ lw_all := lw_g (lw_at lw_m7 85 rfl) rfl
theorem q1643 : (Jvm.Cond.selects "OneDrum" ({ cls := "OneDrum", name := "again", desc := "(I)Z" } : Jvm.MethodName) ({ cls := "OneDrum", name := "again", desc := "(I)Z" } : Jvm.MethodName)) ∈ lw_all := lw_g (lw_at lw_m7 86 rfl) rfl
theorem q1644 : (Jvm.Cond.code ({ cls := "OneDrum", name := "again", desc := "(I)Z" } : Jvm.MethodName) prog_1_method_74_code (2 : Nat) (Option.some Jvm.ClassFile.FieldType.boolean)) ∈ lw_all := lw_g (lw_at lw_m7 87 rfl) rfl
theorem q2223 : (Jvm.Cond.castable "OneDrum" "java/lang/Object") ∈ lw_tbl := lw_at lw_m9 186 rfl
theorem in_X0 : ∀ w ∈ wsX00, w ∈ lw_all := lw_in wsX00 [402, 404, 406, 408, 410, 412, 414, 416, 418, 420, 422, 424, 426, 428, 430, 432, 434, 436, 438, 440, 442, 444, 446, 448, 450, 452, 454, 456] (by decide +kernel) (by decide +kernel)
