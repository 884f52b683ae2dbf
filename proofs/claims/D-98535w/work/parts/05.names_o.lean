/-! java/util/AbstractCollection -/
set_option maxRecDepth 100000
def RJ0 : String := "java/util/AbstractCollection"
abbrev cJ0_init : ByteArray := prog_40_method_1_code
def yJ0_init : MethodName := ⟨RJ0, "<init>", "()V"⟩
theorem dJ0_init_0 : decode cJ0_init 0 = .ok (.aload_n 0, 1) := by decide +kernel
theorem dJ0_init_1 : decode cJ0_init 1 = .ok (.invokespecial 1, 3) := by decide +kernel
theorem dJ0_init_4 : decode cJ0_init 4 = .ok (.return_, 1) := by decide +kernel
theorem q120 : (Jvm.Cond.initialized "java/util/AbstractCollection") ∈ lw_all := lw_g (lw_at lw_m1 3 rfl) rfl
theorem q205 : (Jvm.Cond.instanceMethod ({ cls := "java/util/AbstractCollection", name := "<init>", desc := "()V" } : Jvm.MethodName)) ∈ lw_all := lw_g (lw_at lw_m1 88 rfl) rfl
theorem q206 : (Jvm.Cond.code ({ cls := "java/util/AbstractCollection", name := "<init>", desc := "()V" } : Jvm.MethodName) prog_40_method_1_code (1 : Nat) (Option.none : Option Jvm.ClassFile.FieldType)) ∈ lw_all := lw_g (lw_at lw_m1 89 rfl) rfl
theorem q207 : (Jvm.Cond.methodLink "java/util/AbstractCollection" (1 : Nat) ({ cls := "java/lang/Object", name := "<init>", desc := "()V" } : Jvm.MethodName)) ∈ lw_all := lw_g (lw_at lw_m1 90 rfl) rfl
/-! java/util/AbstractList -/
set_option maxRecDepth 100000
def RJ1 : String := "java/util/AbstractList"
abbrev cJ1_init : ByteArray := prog_41_method_1_code
def yJ1_init : MethodName := ⟨RJ1, "<init>", "()V"⟩
def dkwJ1_init_0 : List UInt8 := [42, 183, 0, 1, 42, 3, 181, 0, 7, 177]
abbrev dktJ1_init_0 : List UInt8 := dkwJ1_init_0 ++ []
theorem dksJ1_init_0 : cJ1_init.data.toList.drop 0 = dktJ1_init_0 := by decide +kernel
theorem dJ1_init_0 : decode cJ1_init 0 = .ok (.aload_n 0, 1) := dk_42 (dk_at dksJ1_init_0 0 rfl rfl)
theorem dJ1_init_1 : decode cJ1_init 1 = .ok (.invokespecial 1, 3) := dk_183 0 1 (dk_at dksJ1_init_0 1 rfl rfl)
theorem dJ1_init_4 : decode cJ1_init 4 = .ok (.aload_n 0, 1) := dk_42 (dk_at dksJ1_init_0 4 rfl rfl)
theorem dJ1_init_5 : decode cJ1_init 5 = .ok (.iconst 0, 1) := dk_3 (dk_at dksJ1_init_0 5 rfl rfl)
theorem dJ1_init_6 : decode cJ1_init 6 = .ok (.putfield 7, 3) := dk_181 0 7 (dk_at dksJ1_init_0 6 rfl rfl)
theorem dJ1_init_9 : decode cJ1_init 9 = .ok (.return_, 1) := dk_177 (dk_at dksJ1_init_0 9 rfl rfl)
theorem q121 : (Jvm.Cond.initialized "java/util/AbstractList") ∈ lw_all := lw_g (lw_at lw_m1 4 rfl) rfl
theorem q202 : (Jvm.Cond.instanceMethod ({ cls := "java/util/AbstractList", name := "<init>", desc := "()V" } : Jvm.MethodName)) ∈ lw_all := lw_g (lw_at lw_m1 85 rfl) rfl
theorem q203 : (Jvm.Cond.code ({ cls := "java/util/AbstractList", name := "<init>", desc := "()V" } : Jvm.MethodName) prog_41_method_1_code (1 : Nat) (Option.none : Option Jvm.ClassFile.FieldType)) ∈ lw_all := lw_g (lw_at lw_m1 86 rfl) rfl
theorem q204 : (Jvm.Cond.methodLink "java/util/AbstractList" (1 : Nat) ({ cls := "java/util/AbstractCollection", name := "<init>", desc := "()V" } : Jvm.MethodName)) ∈ lw_all := lw_g (lw_at lw_m1 87 rfl) rfl
theorem q212 : (Jvm.Cond.fieldLink "java/util/AbstractList" (7 : Nat) "java/util/AbstractList" "modCount" "I") ∈ lw_all := lw_g (lw_at lw_m1 95 rfl) rfl
theorem q220 : (Jvm.Cond.soleField "java/util/AbstractList" "modCount") ∈ lw_all := lw_g (lw_at lw_m1 103 rfl) rfl
/-! jdk/internal/util/ArraysSupport -/
set_option maxRecDepth 100000
def RJ10 : String := "jdk/internal/util/ArraysSupport"
abbrev cJ10_newLength : ByteArray := prog_49_method_27_code
def yJ10_newLength : MethodName := ⟨RJ10, "newLength", "(III)I"⟩
def dkwJ10_newLength_1 : List UInt8 := [184, 0, 201, 172]
abbrev dktJ10_newLength_1 : List UInt8 := dkwJ10_newLength_1 ++ []
def dkwJ10_newLength_0 : List UInt8 := [26, 27, 28, 184, 0, 194, 96, 62, 3, 29, 162, 0, 11, 29, 18, 200, 163, 0, 5, 29, 172, 26, 27]
abbrev dktJ10_newLength_0 : List UInt8 := dkwJ10_newLength_0 ++ dktJ10_newLength_1
theorem dksJ10_newLength_0 : cJ10_newLength.data.toList.drop 0 = dktJ10_newLength_0 := by decide +kernel
theorem dksJ10_newLength_1 : cJ10_newLength.data.toList.drop 23 = dktJ10_newLength_1 := dk_seg dksJ10_newLength_0 23 rfl rfl
theorem dJ10_newLength_0 : decode cJ10_newLength 0 = .ok (.iload_n 0, 1) := dk_26 (dk_at dksJ10_newLength_0 0 rfl rfl)
theorem dJ10_newLength_1 : decode cJ10_newLength 1 = .ok (.iload_n 1, 1) := dk_27 (dk_at dksJ10_newLength_0 1 rfl rfl)
theorem dJ10_newLength_2 : decode cJ10_newLength 2 = .ok (.iload_n 2, 1) := dk_28 (dk_at dksJ10_newLength_0 2 rfl rfl)
theorem dJ10_newLength_3 : decode cJ10_newLength 3 = .ok (.invokestatic 194, 3) := dk_184 0 194 (dk_at dksJ10_newLength_0 3 rfl rfl)
theorem dJ10_newLength_6 : decode cJ10_newLength 6 = .ok (.iadd, 1) := dk_96 (dk_at dksJ10_newLength_0 6 rfl rfl)
theorem dJ10_newLength_7 : decode cJ10_newLength 7 = .ok (.istore_n 3, 1) := dk_62 (dk_at dksJ10_newLength_0 7 rfl rfl)
theorem dJ10_newLength_8 : decode cJ10_newLength 8 = .ok (.iconst 0, 1) := dk_3 (dk_at dksJ10_newLength_0 8 rfl rfl)
theorem dJ10_newLength_9 : decode cJ10_newLength 9 = .ok (.iload_n 3, 1) := dk_29 (dk_at dksJ10_newLength_0 9 rfl rfl)
theorem dJ10_newLength_10 : decode cJ10_newLength 10 = .ok (.if_icmp .ge 11, 3) := dk_162 0 11 (dk_at dksJ10_newLength_0 10 rfl rfl)
theorem dJ10_newLength_13 : decode cJ10_newLength 13 = .ok (.iload_n 3, 1) := dk_29 (dk_at dksJ10_newLength_0 13 rfl rfl)
theorem dJ10_newLength_14 : decode cJ10_newLength 14 = .ok (.ldc 200, 2) := dk_18 200 (dk_at dksJ10_newLength_0 14 rfl rfl)
theorem dJ10_newLength_16 : decode cJ10_newLength 16 = .ok (.if_icmp .gt 5, 3) := dk_163 0 5 (dk_at dksJ10_newLength_0 16 rfl rfl)
theorem dJ10_newLength_19 : decode cJ10_newLength 19 = .ok (.iload_n 3, 1) := dk_29 (dk_at dksJ10_newLength_0 19 rfl rfl)
theorem dJ10_newLength_20 : decode cJ10_newLength 20 = .ok (.ireturn, 1) := dk_172 (dk_at dksJ10_newLength_0 20 rfl rfl)
theorem dJ10_newLength_21 : decode cJ10_newLength 21 = .ok (.iload_n 0, 1) := dk_26 (dk_at dksJ10_newLength_0 21 rfl rfl)
theorem dJ10_newLength_22 : decode cJ10_newLength 22 = .ok (.iload_n 1, 1) := dk_27 (dk_at dksJ10_newLength_0 22 rfl rfl)
theorem dJ10_newLength_23 : decode cJ10_newLength 23 = .ok (.invokestatic 201, 3) := dk_184 0 201 (dk_at dksJ10_newLength_1 0 rfl rfl)
theorem dJ10_newLength_26 : decode cJ10_newLength 26 = .ok (.ireturn, 1) := dk_172 (dk_at dksJ10_newLength_1 3 rfl rfl)
abbrev cJ10_hugeLength : ByteArray := prog_49_method_28_code
def yJ10_hugeLength : MethodName := ⟨RJ10, "hugeLength", "(II)I"⟩
def dkwJ10_hugeLength_2 : List UInt8 := [191, 28, 18, 200, 163, 0, 6, 18, 200, 172, 28, 172]
abbrev dktJ10_hugeLength_2 : List UInt8 := dkwJ10_hugeLength_2 ++ []
def dkwJ10_hugeLength_1 : List UInt8 := [26, 182, 0, 98, 18, 208, 182, 0, 94, 27, 182, 0, 98, 18, 210, 182, 0, 94, 182, 0, 101, 183, 0, 212]
abbrev dktJ10_hugeLength_1 : List UInt8 := dkwJ10_hugeLength_1 ++ dktJ10_hugeLength_2
def dkwJ10_hugeLength_0 : List UInt8 := [26, 27, 96, 61, 28, 156, 0, 44, 187, 0, 204, 89, 187, 0, 89, 89, 183, 0, 91, 18, 206, 182, 0, 94]
abbrev dktJ10_hugeLength_0 : List UInt8 := dkwJ10_hugeLength_0 ++ dktJ10_hugeLength_1
theorem dksJ10_hugeLength_0 : cJ10_hugeLength.data.toList.drop 0 = dktJ10_hugeLength_0 := by decide +kernel
theorem dksJ10_hugeLength_1 : cJ10_hugeLength.data.toList.drop 24 = dktJ10_hugeLength_1 := dk_seg dksJ10_hugeLength_0 24 rfl rfl
theorem dksJ10_hugeLength_2 : cJ10_hugeLength.data.toList.drop 48 = dktJ10_hugeLength_2 := dk_seg dksJ10_hugeLength_1 24 rfl rfl
theorem dJ10_hugeLength_0 : decode cJ10_hugeLength 0 = .ok (.iload_n 0, 1) := dk_26 (dk_at dksJ10_hugeLength_0 0 rfl rfl)
theorem dJ10_hugeLength_1 : decode cJ10_hugeLength 1 = .ok (.iload_n 1, 1) := dk_27 (dk_at dksJ10_hugeLength_0 1 rfl rfl)
theorem dJ10_hugeLength_2 : decode cJ10_hugeLength 2 = .ok (.iadd, 1) := dk_96 (dk_at dksJ10_hugeLength_0 2 rfl rfl)
theorem dJ10_hugeLength_3 : decode cJ10_hugeLength 3 = .ok (.istore_n 2, 1) := dk_61 (dk_at dksJ10_hugeLength_0 3 rfl rfl)
theorem dJ10_hugeLength_4 : decode cJ10_hugeLength 4 = .ok (.iload_n 2, 1) := dk_28 (dk_at dksJ10_hugeLength_0 4 rfl rfl)
theorem dJ10_hugeLength_5 : decode cJ10_hugeLength 5 = .ok (.ifCond .ge 44, 3) := dk_156 0 44 (dk_at dksJ10_hugeLength_0 5 rfl rfl)
theorem dJ10_hugeLength_8 : decode cJ10_hugeLength 8 = .ok (.new 204, 3) := dk_187 0 204 (dk_at dksJ10_hugeLength_0 8 rfl rfl)
theorem dJ10_hugeLength_11 : decode cJ10_hugeLength 11 = .ok (.dup, 1) := dk_89 (dk_at dksJ10_hugeLength_0 11 rfl rfl)
theorem dJ10_hugeLength_12 : decode cJ10_hugeLength 12 = .ok (.new 89, 3) := dk_187 0 89 (dk_at dksJ10_hugeLength_0 12 rfl rfl)
theorem dJ10_hugeLength_15 : decode cJ10_hugeLength 15 = .ok (.dup, 1) := dk_89 (dk_at dksJ10_hugeLength_0 15 rfl rfl)
theorem dJ10_hugeLength_16 : decode cJ10_hugeLength 16 = .ok (.invokespecial 91, 3) := dk_183 0 91 (dk_at dksJ10_hugeLength_0 16 rfl rfl)
theorem dJ10_hugeLength_19 : decode cJ10_hugeLength 19 = .ok (.ldc 206, 2) := dk_18 206 (dk_at dksJ10_hugeLength_0 19 rfl rfl)
theorem dJ10_hugeLength_21 : decode cJ10_hugeLength 21 = .ok (.invokevirtual 94, 3) := dk_182 0 94 (dk_at dksJ10_hugeLength_0 21 rfl rfl)
theorem dJ10_hugeLength_24 : decode cJ10_hugeLength 24 = .ok (.iload_n 0, 1) := dk_26 (dk_at dksJ10_hugeLength_1 0 rfl rfl)
theorem dJ10_hugeLength_25 : decode cJ10_hugeLength 25 = .ok (.invokevirtual 98, 3) := dk_182 0 98 (dk_at dksJ10_hugeLength_1 1 rfl rfl)
theorem dJ10_hugeLength_28 : decode cJ10_hugeLength 28 = .ok (.ldc 208, 2) := dk_18 208 (dk_at dksJ10_hugeLength_1 4 rfl rfl)
theorem dJ10_hugeLength_30 : decode cJ10_hugeLength 30 = .ok (.invokevirtual 94, 3) := dk_182 0 94 (dk_at dksJ10_hugeLength_1 6 rfl rfl)
theorem dJ10_hugeLength_33 : decode cJ10_hugeLength 33 = .ok (.iload_n 1, 1) := dk_27 (dk_at dksJ10_hugeLength_1 9 rfl rfl)
theorem dJ10_hugeLength_34 : decode cJ10_hugeLength 34 = .ok (.invokevirtual 98, 3) := dk_182 0 98 (dk_at dksJ10_hugeLength_1 10 rfl rfl)
theorem dJ10_hugeLength_37 : decode cJ10_hugeLength 37 = .ok (.ldc 210, 2) := dk_18 210 (dk_at dksJ10_hugeLength_1 13 rfl rfl)
theorem dJ10_hugeLength_39 : decode cJ10_hugeLength 39 = .ok (.invokevirtual 94, 3) := dk_182 0 94 (dk_at dksJ10_hugeLength_1 15 rfl rfl)
theorem dJ10_hugeLength_42 : decode cJ10_hugeLength 42 = .ok (.invokevirtual 101, 3) := dk_182 0 101 (dk_at dksJ10_hugeLength_1 18 rfl rfl)
theorem dJ10_hugeLength_45 : decode cJ10_hugeLength 45 = .ok (.invokespecial 212, 3) := dk_183 0 212 (dk_at dksJ10_hugeLength_1 21 rfl rfl)
theorem dJ10_hugeLength_48 : decode cJ10_hugeLength 48 = .ok (.athrow, 1) := dk_191 (dk_at dksJ10_hugeLength_2 0 rfl rfl)
theorem dJ10_hugeLength_49 : decode cJ10_hugeLength 49 = .ok (.iload_n 2, 1) := dk_28 (dk_at dksJ10_hugeLength_2 1 rfl rfl)
theorem dJ10_hugeLength_50 : decode cJ10_hugeLength 50 = .ok (.ldc 200, 2) := dk_18 200 (dk_at dksJ10_hugeLength_2 2 rfl rfl)
theorem dJ10_hugeLength_52 : decode cJ10_hugeLength 52 = .ok (.if_icmp .gt 6, 3) := dk_163 0 6 (dk_at dksJ10_hugeLength_2 4 rfl rfl)
theorem dJ10_hugeLength_55 : decode cJ10_hugeLength 55 = .ok (.ldc 200, 2) := dk_18 200 (dk_at dksJ10_hugeLength_2 7 rfl rfl)
theorem dJ10_hugeLength_57 : decode cJ10_hugeLength 57 = .ok (.ireturn, 1) := dk_172 (dk_at dksJ10_hugeLength_2 9 rfl rfl)
theorem dJ10_hugeLength_58 : decode cJ10_hugeLength 58 = .ok (.iload_n 2, 1) := dk_28 (dk_at dksJ10_hugeLength_2 10 rfl rfl)
theorem dJ10_hugeLength_59 : decode cJ10_hugeLength 59 = .ok (.ireturn, 1) := dk_172 (dk_at dksJ10_hugeLength_2 11 rfl rfl)
theorem q150 : (Jvm.Cond.initialized "jdk/internal/util/ArraysSupport") ∈ lw_all := lw_g (lw_at lw_m1 33 rfl) rfl
theorem q1082 : (Jvm.Cond.static ({ cls := "jdk/internal/util/ArraysSupport", name := "newLength", desc := "(III)I" } : Jvm.MethodName)) ∈ lw_all := lw_g (lw_at lw_m5 5 rfl) rfl
theorem q1083 : (Jvm.Cond.code ({ cls := "jdk/internal/util/ArraysSupport", name := "newLength", desc := "(III)I" } : Jvm.MethodName) prog_49_method_27_code (4 : Nat) (Option.some Jvm.ClassFile.FieldType.int)) ∈ lw_all := lw_g (lw_at lw_m5 6 rfl) rfl
theorem q1084 : (Jvm.Cond.methodLink "jdk/internal/util/ArraysSupport" (194 : Nat) ({ cls := "java/lang/Math", name := "max", desc := "(II)I" } : Jvm.MethodName)) ∈ lw_all := lw_g (lw_at lw_m5 7 rfl) rfl
theorem q1087 : (Jvm.Cond.constant "jdk/internal/util/ArraysSupport" (200 : Nat) (2147483639 : Int32)) ∈ lw_all := lw_g (lw_at lw_m5 10 rfl) rfl
theorem q1088 : (Jvm.Cond.methodLink "jdk/internal/util/ArraysSupport" (201 : Nat) ({ cls := "jdk/internal/util/ArraysSupport", name := "hugeLength", desc := "(II)I" } : Jvm.MethodName)) ∈ lw_all := lw_g (lw_at lw_m5 11 rfl) rfl
theorem q1089 : (Jvm.Cond.static ({ cls := "jdk/internal/util/ArraysSupport", name := "hugeLength", desc := "(II)I" } : Jvm.MethodName)) ∈ lw_all := lw_g (lw_at lw_m5 12 rfl) rfl
theorem q1090 : (Jvm.Cond.code ({ cls := "jdk/internal/util/ArraysSupport", name := "hugeLength", desc := "(II)I" } : Jvm.MethodName) prog_49_method_28_code (3 : Nat) (Option.some Jvm.ClassFile.FieldType.int)) ∈ lw_all := lw_g (lw_at lw_m5 13 rfl) rfl
/-! java/util/Arrays -/
set_option maxRecDepth 100000
def RJ11 : String := "java/util/Arrays"
abbrev cJ11_copyOf : ByteArray := prog_43_method_119_code
def yJ11_copyOf : MethodName := ⟨RJ11, "copyOf", "([Ljava/lang/Object;I)[Ljava/lang/Object;"⟩
def dkwJ11_copyOf_0 : List UInt8 := [42, 27, 42, 182, 0, 86, 184, 1, 44, 176]
abbrev dktJ11_copyOf_0 : List UInt8 := dkwJ11_copyOf_0 ++ []
theorem dksJ11_copyOf_0 : cJ11_copyOf.data.toList.drop 0 = dktJ11_copyOf_0 := by decide +kernel
theorem dJ11_copyOf_0 : decode cJ11_copyOf 0 = .ok (.aload_n 0, 1) := dk_42 (dk_at dksJ11_copyOf_0 0 rfl rfl)
theorem dJ11_copyOf_1 : decode cJ11_copyOf 1 = .ok (.iload_n 1, 1) := dk_27 (dk_at dksJ11_copyOf_0 1 rfl rfl)
theorem dJ11_copyOf_2 : decode cJ11_copyOf 2 = .ok (.aload_n 0, 1) := dk_42 (dk_at dksJ11_copyOf_0 2 rfl rfl)
theorem dJ11_copyOf_3 : decode cJ11_copyOf 3 = .ok (.invokevirtual 86, 3) := dk_182 0 86 (dk_at dksJ11_copyOf_0 3 rfl rfl)
theorem dJ11_copyOf_6 : decode cJ11_copyOf 6 = .ok (.invokestatic 300, 3) := dk_184 1 44 (dk_at dksJ11_copyOf_0 6 rfl rfl)
theorem dJ11_copyOf_9 : decode cJ11_copyOf 9 = .ok (.areturn, 1) := dk_176 (dk_at dksJ11_copyOf_0 9 rfl rfl)
abbrev cJ11_copyOf_2 : ByteArray := prog_43_method_120_code
def yJ11_copyOf_2 : MethodName := ⟨RJ11, "copyOf", "([Ljava/lang/Object;ILjava/lang/Class;)[Ljava/lang/Object;"⟩
def dkwJ11_copyOf_2_1 : List UInt8 := [78, 42, 3, 45, 3, 42, 190, 27, 184, 1, 48, 184, 0, 150, 45, 176]
abbrev dktJ11_copyOf_2_1 : List UInt8 := dkwJ11_copyOf_2_1 ++ []
def dkwJ11_copyOf_2_0 : List UInt8 := [44, 18, 110, 166, 0, 10, 27, 189, 0, 2, 167, 0, 14, 44, 182, 0, 90, 27, 184, 0, 95, 192, 0, 110]
abbrev dktJ11_copyOf_2_0 : List UInt8 := dkwJ11_copyOf_2_0 ++ dktJ11_copyOf_2_1
theorem dksJ11_copyOf_2_0 : cJ11_copyOf_2.data.toList.drop 0 = dktJ11_copyOf_2_0 := by decide +kernel
theorem dksJ11_copyOf_2_1 : cJ11_copyOf_2.data.toList.drop 24 = dktJ11_copyOf_2_1 := dk_seg dksJ11_copyOf_2_0 24 rfl rfl
theorem dJ11_copyOf_2_0 : decode cJ11_copyOf_2 0 = .ok (.aload_n 2, 1) := dk_44 (dk_at dksJ11_copyOf_2_0 0 rfl rfl)
theorem dJ11_copyOf_2_1 : decode cJ11_copyOf_2 1 = .ok (.ldc 110, 2) := dk_18 110 (dk_at dksJ11_copyOf_2_0 1 rfl rfl)
theorem dJ11_copyOf_2_3 : decode cJ11_copyOf_2 3 = .ok (.if_acmp .ne 10, 3) := dk_166 0 10 (dk_at dksJ11_copyOf_2_0 3 rfl rfl)
theorem dJ11_copyOf_2_6 : decode cJ11_copyOf_2 6 = .ok (.iload_n 1, 1) := dk_27 (dk_at dksJ11_copyOf_2_0 6 rfl rfl)
theorem dJ11_copyOf_2_7 : decode cJ11_copyOf_2 7 = .ok (.anewarray 2, 3) := dk_189 0 2 (dk_at dksJ11_copyOf_2_0 7 rfl rfl)
theorem dJ11_copyOf_2_10 : decode cJ11_copyOf_2 10 = .ok (.goto 14, 3) := dk_167 0 14 (dk_at dksJ11_copyOf_2_0 10 rfl rfl)
theorem dJ11_copyOf_2_13 : decode cJ11_copyOf_2 13 = .ok (.aload_n 2, 1) := dk_44 (dk_at dksJ11_copyOf_2_0 13 rfl rfl)
theorem dJ11_copyOf_2_14 : decode cJ11_copyOf_2 14 = .ok (.invokevirtual 90, 3) := dk_182 0 90 (dk_at dksJ11_copyOf_2_0 14 rfl rfl)
theorem dJ11_copyOf_2_17 : decode cJ11_copyOf_2 17 = .ok (.iload_n 1, 1) := dk_27 (dk_at dksJ11_copyOf_2_0 17 rfl rfl)
theorem dJ11_copyOf_2_18 : decode cJ11_copyOf_2 18 = .ok (.invokestatic 95, 3) := dk_184 0 95 (dk_at dksJ11_copyOf_2_0 18 rfl rfl)
theorem dJ11_copyOf_2_21 : decode cJ11_copyOf_2 21 = .ok (.checkcast 110, 3) := dk_192 0 110 (dk_at dksJ11_copyOf_2_0 21 rfl rfl)
theorem dJ11_copyOf_2_24 : decode cJ11_copyOf_2 24 = .ok (.astore_n 3, 1) := dk_78 (dk_at dksJ11_copyOf_2_1 0 rfl rfl)
theorem dJ11_copyOf_2_25 : decode cJ11_copyOf_2 25 = .ok (.aload_n 0, 1) := dk_42 (dk_at dksJ11_copyOf_2_1 1 rfl rfl)
theorem dJ11_copyOf_2_26 : decode cJ11_copyOf_2 26 = .ok (.iconst 0, 1) := dk_3 (dk_at dksJ11_copyOf_2_1 2 rfl rfl)
theorem dJ11_copyOf_2_27 : decode cJ11_copyOf_2 27 = .ok (.aload_n 3, 1) := dk_45 (dk_at dksJ11_copyOf_2_1 3 rfl rfl)
theorem dJ11_copyOf_2_28 : decode cJ11_copyOf_2 28 = .ok (.iconst 0, 1) := dk_3 (dk_at dksJ11_copyOf_2_1 4 rfl rfl)
theorem dJ11_copyOf_2_29 : decode cJ11_copyOf_2 29 = .ok (.aload_n 0, 1) := dk_42 (dk_at dksJ11_copyOf_2_1 5 rfl rfl)
theorem dJ11_copyOf_2_30 : decode cJ11_copyOf_2 30 = .ok (.arraylength, 1) := dk_190 (dk_at dksJ11_copyOf_2_1 6 rfl rfl)
theorem dJ11_copyOf_2_31 : decode cJ11_copyOf_2 31 = .ok (.iload_n 1, 1) := dk_27 (dk_at dksJ11_copyOf_2_1 7 rfl rfl)
theorem dJ11_copyOf_2_32 : decode cJ11_copyOf_2 32 = .ok (.invokestatic 304, 3) := dk_184 1 48 (dk_at dksJ11_copyOf_2_1 8 rfl rfl)
theorem dJ11_copyOf_2_35 : decode cJ11_copyOf_2 35 = .ok (.invokestatic 150, 3) := dk_184 0 150 (dk_at dksJ11_copyOf_2_1 11 rfl rfl)
theorem dJ11_copyOf_2_38 : decode cJ11_copyOf_2 38 = .ok (.aload_n 3, 1) := dk_45 (dk_at dksJ11_copyOf_2_1 14 rfl rfl)
theorem dJ11_copyOf_2_39 : decode cJ11_copyOf_2 39 = .ok (.areturn, 1) := dk_176 (dk_at dksJ11_copyOf_2_1 15 rfl rfl)
theorem q151 : (Jvm.Cond.initialized "java/util/Arrays") ∈ lw_all := lw_g (lw_at lw_m1 34 rfl) rfl
theorem q1092 : (Jvm.Cond.static ({ cls := "java/util/Arrays", name := "copyOf", desc := "([Ljava/lang/Object;I)[Ljava/lang/Object;" } : Jvm.MethodName)) ∈ lw_all := lw_g (lw_at lw_m5 15 rfl) rfl
theorem q1093 : (Jvm.Cond.code ({ cls := "java/util/Arrays", name := "copyOf", desc := "([Ljava/lang/Object;I)[Ljava/lang/Object;" } : Jvm.MethodName) prog_43_method_119_code (2 : Nat) (Option.some (Jvm.ClassFile.FieldType.array (Jvm.ClassFile.FieldType.object "java/lang/Object")))) ∈ lw_all := lw_g (lw_at lw_m5 16 rfl) rfl
theorem q1094 : (Jvm.Cond.methodLink "java/util/Arrays" (86 : Nat) ({ cls := "java/lang/Object", name := "getClass", desc := "()Ljava/lang/Class;" } : Jvm.MethodName)) ∈ lw_all := lw_g (lw_at lw_m5 17 rfl) rfl
theorem q1120 : (Jvm.Cond.methodLink "java/util/Arrays" (300 : Nat) ({ cls := "java/util/Arrays", name := "copyOf", desc := "([Ljava/lang/Object;ILjava/lang/Class;)[Ljava/lang/Object;" } : Jvm.MethodName)) ∈ lw_all := lw_g (lw_at lw_m5 43 rfl) rfl
theorem q1121 : (Jvm.Cond.static ({ cls := "java/util/Arrays", name := "copyOf", desc := "([Ljava/lang/Object;ILjava/lang/Class;)[Ljava/lang/Object;" } : Jvm.MethodName)) ∈ lw_all := lw_g (lw_at lw_m5 44 rfl) rfl
theorem q1122 : (Jvm.Cond.code ({ cls := "java/util/Arrays", name := "copyOf", desc := "([Ljava/lang/Object;ILjava/lang/Class;)[Ljava/lang/Object;" } : Jvm.MethodName) prog_43_method_120_code (4 : Nat) (Option.some (Jvm.ClassFile.FieldType.array (Jvm.ClassFile.FieldType.object "java/lang/Object")))) ∈ lw_all := lw_g (lw_at lw_m5 45 rfl) rfl
theorem q1123 : (Jvm.Cond.classLink "java/util/Arrays" (110 : Nat) "[Ljava/lang/Object;") ∈ lw_all := lw_g (lw_at lw_m5 46 rfl) rfl
theorem q1125 : (Jvm.Cond.classLink "java/util/Arrays" (2 : Nat) "java/lang/Object") ∈ lw_all := lw_g (lw_at lw_m5 48 rfl) rfl
theorem q1126 : (Jvm.Cond.methodLink "java/util/Arrays" (304 : Nat) ({ cls := "java/lang/Math", name := "min", desc := "(II)I" } : Jvm.MethodName)) ∈ lw_all := lw_g (lw_at lw_m5 49 rfl) rfl
theorem q1127 : (Jvm.Cond.methodLink "java/util/Arrays" (150 : Nat) ({ cls := "java/lang/System", name := "arraycopy", desc := "(Ljava/lang/Object;ILjava/lang/Object;II)V" } : Jvm.MethodName)) ∈ lw_all := lw_g (lw_at lw_m5 50 rfl) rfl
/-! java/util/Objects -/
set_option maxRecDepth 100000
def RJ12 : String := "java/util/Objects"
abbrev cJ12_checkIndex : ByteArray := prog_46_method_17_code
def yJ12_checkIndex : MethodName := ⟨RJ12, "checkIndex", "(II)I"⟩
def dkwJ12_checkIndex_0 : List UInt8 := [26, 27, 1, 184, 0, 105, 172]
abbrev dktJ12_checkIndex_0 : List UInt8 := dkwJ12_checkIndex_0 ++ []
theorem dksJ12_checkIndex_0 : cJ12_checkIndex.data.toList.drop 0 = dktJ12_checkIndex_0 := by decide +kernel
theorem dJ12_checkIndex_0 : decode cJ12_checkIndex 0 = .ok (.iload_n 0, 1) := dk_26 (dk_at dksJ12_checkIndex_0 0 rfl rfl)
theorem dJ12_checkIndex_1 : decode cJ12_checkIndex 1 = .ok (.iload_n 1, 1) := dk_27 (dk_at dksJ12_checkIndex_0 1 rfl rfl)
theorem dJ12_checkIndex_2 : decode cJ12_checkIndex 2 = .ok (.aconst_null, 1) := dk_1 (dk_at dksJ12_checkIndex_0 2 rfl rfl)
theorem dJ12_checkIndex_3 : decode cJ12_checkIndex 3 = .ok (.invokestatic 105, 3) := dk_184 0 105 (dk_at dksJ12_checkIndex_0 3 rfl rfl)
theorem dJ12_checkIndex_6 : decode cJ12_checkIndex 6 = .ok (.ireturn, 1) := dk_172 (dk_at dksJ12_checkIndex_0 6 rfl rfl)
theorem q153 : (Jvm.Cond.initialized "java/util/Objects") ∈ lw_all := lw_g (lw_at lw_m1 36 rfl) rfl
theorem q1137 : (Jvm.Cond.static ({ cls := "java/util/Objects", name := "checkIndex", desc := "(II)I" } : Jvm.MethodName)) ∈ lw_all := lw_g (lw_at lw_m5 60 rfl) rfl
theorem q1138 : (Jvm.Cond.code ({ cls := "java/util/Objects", name := "checkIndex", desc := "(II)I" } : Jvm.MethodName) prog_46_method_17_code (2 : Nat) (Option.some Jvm.ClassFile.FieldType.int)) ∈ lw_all := lw_g (lw_at lw_m5 61 rfl) rfl
theorem q1139 : (Jvm.Cond.methodLink "java/util/Objects" (105 : Nat) ({ cls := "jdk/internal/util/Preconditions", name := "checkIndex", desc := "(IILjava/util/function/BiFunction;)I" } : Jvm.MethodName)) ∈ lw_all := lw_g (lw_at lw_m5 62 rfl) rfl
/-! java/lang/Integer -/
set_option maxRecDepth 100000
def RJ13 : String := "java/lang/Integer"
abbrev cJ13_signum : ByteArray := prog_30_method_56_code
def yJ13_signum : MethodName := ⟨RJ13, "signum", "(I)I"⟩
def dkwJ13_signum_0 : List UInt8 := [26, 16, 31, 122, 26, 116, 16, 31, 124, 128, 172]
abbrev dktJ13_signum_0 : List UInt8 := dkwJ13_signum_0 ++ []
theorem dksJ13_signum_0 : cJ13_signum.data.toList.drop 0 = dktJ13_signum_0 := by decide +kernel
theorem dJ13_signum_0 : decode cJ13_signum 0 = .ok (.iload_n 0, 1) := dk_26 (dk_at dksJ13_signum_0 0 rfl rfl)
theorem dJ13_signum_1 : decode cJ13_signum 1 = .ok (.bipush 31, 2) := dk_16 31 (dk_at dksJ13_signum_0 1 rfl rfl)
theorem dJ13_signum_3 : decode cJ13_signum 3 = .ok (.ishr, 1) := dk_122 (dk_at dksJ13_signum_0 3 rfl rfl)
theorem dJ13_signum_4 : decode cJ13_signum 4 = .ok (.iload_n 0, 1) := dk_26 (dk_at dksJ13_signum_0 4 rfl rfl)
theorem dJ13_signum_5 : decode cJ13_signum 5 = .ok (.ineg, 1) := dk_116 (dk_at dksJ13_signum_0 5 rfl rfl)
theorem dJ13_signum_6 : decode cJ13_signum 6 = .ok (.bipush 31, 2) := dk_16 31 (dk_at dksJ13_signum_0 6 rfl rfl)
theorem dJ13_signum_8 : decode cJ13_signum 8 = .ok (.iushr, 1) := dk_124 (dk_at dksJ13_signum_0 8 rfl rfl)
theorem dJ13_signum_9 : decode cJ13_signum 9 = .ok (.ior, 1) := dk_128 (dk_at dksJ13_signum_0 9 rfl rfl)
theorem dJ13_signum_10 : decode cJ13_signum 10 = .ok (.ireturn, 1) := dk_172 (dk_at dksJ13_signum_0 10 rfl rfl)
abbrev cJ13_bitCount : ByteArray := prog_30_method_49_code
def yJ13_bitCount : MethodName := ⟨RJ13, "bitCount", "(I)I"⟩
def dkwJ13_bitCount_2 : List UInt8 := [26, 16, 63, 126, 172]
abbrev dktJ13_bitCount_2 : List UInt8 := dkwJ13_bitCount_2 ++ []
def dkwJ13_bitCount_1 : List UInt8 := [26, 26, 7, 124, 96, 19, 1, 11, 126, 59, 26, 26, 16, 8, 124, 96, 59, 26, 26, 16, 16, 124, 96, 59]
abbrev dktJ13_bitCount_1 : List UInt8 := dkwJ13_bitCount_1 ++ dktJ13_bitCount_2
def dkwJ13_bitCount_0 : List UInt8 := [26, 26, 4, 124, 19, 1, 9, 126, 100, 59, 26, 19, 1, 10, 126, 26, 5, 124, 19, 1, 10, 126, 96, 59]
abbrev dktJ13_bitCount_0 : List UInt8 := dkwJ13_bitCount_0 ++ dktJ13_bitCount_1
theorem dksJ13_bitCount_0 : cJ13_bitCount.data.toList.drop 0 = dktJ13_bitCount_0 := by decide +kernel
theorem dksJ13_bitCount_1 : cJ13_bitCount.data.toList.drop 24 = dktJ13_bitCount_1 := dk_seg dksJ13_bitCount_0 24 rfl rfl
theorem dksJ13_bitCount_2 : cJ13_bitCount.data.toList.drop 48 = dktJ13_bitCount_2 := dk_seg dksJ13_bitCount_1 24 rfl rfl
theorem dJ13_bitCount_0 : decode cJ13_bitCount 0 = .ok (.iload_n 0, 1) := dk_26 (dk_at dksJ13_bitCount_0 0 rfl rfl)
theorem dJ13_bitCount_1 : decode cJ13_bitCount 1 = .ok (.iload_n 0, 1) := dk_26 (dk_at dksJ13_bitCount_0 1 rfl rfl)
theorem dJ13_bitCount_2 : decode cJ13_bitCount 2 = .ok (.iconst 1, 1) := dk_4 (dk_at dksJ13_bitCount_0 2 rfl rfl)
theorem dJ13_bitCount_3 : decode cJ13_bitCount 3 = .ok (.iushr, 1) := dk_124 (dk_at dksJ13_bitCount_0 3 rfl rfl)
theorem dJ13_bitCount_4 : decode cJ13_bitCount 4 = .ok (.ldc_w 265, 3) := dk_19 1 9 (dk_at dksJ13_bitCount_0 4 rfl rfl)
theorem dJ13_bitCount_7 : decode cJ13_bitCount 7 = .ok (.iand, 1) := dk_126 (dk_at dksJ13_bitCount_0 7 rfl rfl)
theorem dJ13_bitCount_8 : decode cJ13_bitCount 8 = .ok (.isub, 1) := dk_100 (dk_at dksJ13_bitCount_0 8 rfl rfl)
theorem dJ13_bitCount_9 : decode cJ13_bitCount 9 = .ok (.istore_n 0, 1) := dk_59 (dk_at dksJ13_bitCount_0 9 rfl rfl)
theorem dJ13_bitCount_10 : decode cJ13_bitCount 10 = .ok (.iload_n 0, 1) := dk_26 (dk_at dksJ13_bitCount_0 10 rfl rfl)
theorem dJ13_bitCount_11 : decode cJ13_bitCount 11 = .ok (.ldc_w 266, 3) := dk_19 1 10 (dk_at dksJ13_bitCount_0 11 rfl rfl)
theorem dJ13_bitCount_14 : decode cJ13_bitCount 14 = .ok (.iand, 1) := dk_126 (dk_at dksJ13_bitCount_0 14 rfl rfl)
theorem dJ13_bitCount_15 : decode cJ13_bitCount 15 = .ok (.iload_n 0, 1) := dk_26 (dk_at dksJ13_bitCount_0 15 rfl rfl)
theorem dJ13_bitCount_16 : decode cJ13_bitCount 16 = .ok (.iconst 2, 1) := dk_5 (dk_at dksJ13_bitCount_0 16 rfl rfl)
theorem dJ13_bitCount_17 : decode cJ13_bitCount 17 = .ok (.iushr, 1) := dk_124 (dk_at dksJ13_bitCount_0 17 rfl rfl)
theorem dJ13_bitCount_18 : decode cJ13_bitCount 18 = .ok (.ldc_w 266, 3) := dk_19 1 10 (dk_at dksJ13_bitCount_0 18 rfl rfl)
theorem dJ13_bitCount_21 : decode cJ13_bitCount 21 = .ok (.iand, 1) := dk_126 (dk_at dksJ13_bitCount_0 21 rfl rfl)
theorem dJ13_bitCount_22 : decode cJ13_bitCount 22 = .ok (.iadd, 1) := dk_96 (dk_at dksJ13_bitCount_0 22 rfl rfl)
theorem dJ13_bitCount_23 : decode cJ13_bitCount 23 = .ok (.istore_n 0, 1) := dk_59 (dk_at dksJ13_bitCount_0 23 rfl rfl)
theorem dJ13_bitCount_24 : decode cJ13_bitCount 24 = .ok (.iload_n 0, 1) := dk_26 (dk_at dksJ13_bitCount_1 0 rfl rfl)
theorem dJ13_bitCount_25 : decode cJ13_bitCount 25 = .ok (.iload_n 0, 1) := dk_26 (dk_at dksJ13_bitCount_1 1 rfl rfl)
theorem dJ13_bitCount_26 : decode cJ13_bitCount 26 = .ok (.iconst 4, 1) := dk_7 (dk_at dksJ13_bitCount_1 2 rfl rfl)
theorem dJ13_bitCount_27 : decode cJ13_bitCount 27 = .ok (.iushr, 1) := dk_124 (dk_at dksJ13_bitCount_1 3 rfl rfl)
theorem dJ13_bitCount_28 : decode cJ13_bitCount 28 = .ok (.iadd, 1) := dk_96 (dk_at dksJ13_bitCount_1 4 rfl rfl)
theorem dJ13_bitCount_29 : decode cJ13_bitCount 29 = .ok (.ldc_w 267, 3) := dk_19 1 11 (dk_at dksJ13_bitCount_1 5 rfl rfl)
theorem dJ13_bitCount_32 : decode cJ13_bitCount 32 = .ok (.iand, 1) := dk_126 (dk_at dksJ13_bitCount_1 8 rfl rfl)
theorem dJ13_bitCount_33 : decode cJ13_bitCount 33 = .ok (.istore_n 0, 1) := dk_59 (dk_at dksJ13_bitCount_1 9 rfl rfl)
theorem dJ13_bitCount_34 : decode cJ13_bitCount 34 = .ok (.iload_n 0, 1) := dk_26 (dk_at dksJ13_bitCount_1 10 rfl rfl)
theorem dJ13_bitCount_35 : decode cJ13_bitCount 35 = .ok (.iload_n 0, 1) := dk_26 (dk_at dksJ13_bitCount_1 11 rfl rfl)
theorem dJ13_bitCount_36 : decode cJ13_bitCount 36 = .ok (.bipush 8, 2) := dk_16 8 (dk_at dksJ13_bitCount_1 12 rfl rfl)
theorem dJ13_bitCount_38 : decode cJ13_bitCount 38 = .ok (.iushr, 1) := dk_124 (dk_at dksJ13_bitCount_1 14 rfl rfl)
theorem dJ13_bitCount_39 : decode cJ13_bitCount 39 = .ok (.iadd, 1) := dk_96 (dk_at dksJ13_bitCount_1 15 rfl rfl)
theorem dJ13_bitCount_40 : decode cJ13_bitCount 40 = .ok (.istore_n 0, 1) := dk_59 (dk_at dksJ13_bitCount_1 16 rfl rfl)
theorem dJ13_bitCount_41 : decode cJ13_bitCount 41 = .ok (.iload_n 0, 1) := dk_26 (dk_at dksJ13_bitCount_1 17 rfl rfl)
theorem dJ13_bitCount_42 : decode cJ13_bitCount 42 = .ok (.iload_n 0, 1) := dk_26 (dk_at dksJ13_bitCount_1 18 rfl rfl)
theorem dJ13_bitCount_43 : decode cJ13_bitCount 43 = .ok (.bipush 16, 2) := dk_16 16 (dk_at dksJ13_bitCount_1 19 rfl rfl)
theorem dJ13_bitCount_45 : decode cJ13_bitCount 45 = .ok (.iushr, 1) := dk_124 (dk_at dksJ13_bitCount_1 21 rfl rfl)
theorem dJ13_bitCount_46 : decode cJ13_bitCount 46 = .ok (.iadd, 1) := dk_96 (dk_at dksJ13_bitCount_1 22 rfl rfl)
theorem dJ13_bitCount_47 : decode cJ13_bitCount 47 = .ok (.istore_n 0, 1) := dk_59 (dk_at dksJ13_bitCount_1 23 rfl rfl)
theorem dJ13_bitCount_48 : decode cJ13_bitCount 48 = .ok (.iload_n 0, 1) := dk_26 (dk_at dksJ13_bitCount_2 0 rfl rfl)
theorem dJ13_bitCount_49 : decode cJ13_bitCount 49 = .ok (.bipush 63, 2) := dk_16 63 (dk_at dksJ13_bitCount_2 1 rfl rfl)
theorem dJ13_bitCount_51 : decode cJ13_bitCount 51 = .ok (.iand, 1) := dk_126 (dk_at dksJ13_bitCount_2 3 rfl rfl)
theorem dJ13_bitCount_52 : decode cJ13_bitCount 52 = .ok (.ireturn, 1) := dk_172 (dk_at dksJ13_bitCount_2 4 rfl rfl)
theorem q155 : (Jvm.Cond.initialized "java/lang/Integer") ∈ lw_all := lw_g (lw_at lw_m1 38 rfl) rfl
theorem q1356 : (Jvm.Cond.static ({ cls := "java/lang/Integer", name := "signum", desc := "(I)I" } : Jvm.MethodName)) ∈ lw_all := lw_g (lw_at lw_m6 39 rfl) rfl
theorem q1357 : (Jvm.Cond.code ({ cls := "java/lang/Integer", name := "signum", desc := "(I)I" } : Jvm.MethodName) prog_30_method_56_code (1 : Nat) (Option.some Jvm.ClassFile.FieldType.int)) ∈ lw_all := lw_g (lw_at lw_m6 40 rfl) rfl
theorem q1412 : (Jvm.Cond.static ({ cls := "java/lang/Integer", name := "bitCount", desc := "(I)I" } : Jvm.MethodName)) ∈ lw_all := lw_g (lw_at lw_m6 95 rfl) rfl
theorem q1413 : (Jvm.Cond.code ({ cls := "java/lang/Integer", name := "bitCount", desc := "(I)I" } : Jvm.MethodName) prog_30_method_49_code (1 : Nat) (Option.some Jvm.ClassFile.FieldType.int)) ∈ lw_all := lw_g (lw_at lw_m6 96 rfl) rfl
theorem q1414 : (Jvm.Cond.constant "java/lang/Integer" (265 : Nat) (1431655765 : Int32)) ∈ lw_all := lw_g (lw_at lw_m6 97 rfl) rfl
theorem q1415 : (Jvm.Cond.constant "java/lang/Integer" (266 : Nat) (858993459 : Int32)) ∈ lw_all := lw_g (lw_at lw_m6 98 rfl) rfl
theorem q1416 : (Jvm.Cond.constant "java/lang/Integer" (267 : Nat) (252645135 : Int32)) ∈ lw_all := lw_g (lw_at lw_m6 99 rfl) rfl
/-! java/lang/Object -/
set_option maxRecDepth 100000
def RJ14 : String := "java/lang/Object"
abbrev cJ14_init : ByteArray := object_method_1_code
def yJ14_init : MethodName := ⟨RJ14, "<init>", "()V"⟩
theorem dJ14_init_0 : decode cJ14_init 0 = .ok (.return_, 1) := by decide +kernel
theorem q162 : (Jvm.Cond.instanceMethod ({ cls := "java/lang/Object", name := "<init>", desc := "()V" } : Jvm.MethodName)) ∈ lw_all := lw_g (lw_at lw_m1 45 rfl) rfl
theorem q163 : (Jvm.Cond.code ({ cls := "java/lang/Object", name := "<init>", desc := "()V" } : Jvm.MethodName) object_method_1_code (1 : Nat) (Option.none : Option Jvm.ClassFile.FieldType)) ∈ lw_all := lw_g (lw_at lw_m1 46 rfl) rfl
theorem q1095 : (Jvm.Cond.instanceMethod ({ cls := "java/lang/Object", name := "getClass", desc := "()Ljava/lang/Class;" } : Jvm.MethodName)) ∈ lw_all := lw_g (lw_at lw_m5 18 rfl) rfl
theorem q1096 : (Jvm.Cond.sameMethod "java/lang/Object" "java/lang/Object" "getClass" "()Ljava/lang/Class;") ∈ lw_all := lw_g (lw_at lw_m5 19 rfl) rfl
theorem q1119 : (Jvm.Cond.native ({ cls := "java/lang/Object", name := "getClass", desc := "()Ljava/lang/Class;" } : Jvm.MethodName)) ∈ lw_all := lw_g (lw_at lw_m5 42 rfl) rfl
theorem q2213 : (Jvm.Cond.initialized "java/lang/Object") ∈ lw_all := lw_g (lw_at lw_m9 176 rfl) rfl
theorem q2244 : (Jvm.Cond.declares ({ cls := "java/lang/Object", name := "getClass", desc := "()Ljava/lang/Class;" } : Jvm.MethodName)) ∈ lw_tbl := lw_at lw_m9 207 rfl
/-! java/util/ArrayList -/
set_option maxRecDepth 100000
def RJ2 : String := "java/util/ArrayList"
def TJ2 : u_T := fun k => match k with
  | 0 => ("java/util/AbstractList", "modCount", "I", false)
  | 1 => ("java/util/ArrayList", "elementData", "[Ljava/lang/Object;", false)
  | _ => ("java/util/ArrayList", "size", "I", false)
def tyJ2 : Nat → FieldType := fun k => match k with
  | 0 => .int
  | 1 => .array (.object "java/lang/Object")
  | _ => .int
abbrev wsJ20 : List Cond := u_ws RJ2 TJ2 3
theorem nmJ2 : ∀ a, a < 3 → ∀ b, b < 3 → a ≠ b → (TJ2 a).2.1 ≠ (TJ2 b).2.1 := by decide +kernel
theorem tyJ2_ok : ∀ k, k < 3 → parseFieldDescriptor (TJ2 k).2.2.1 = some (tyJ2 k) := by decide +kernel
abbrev cJ2_init : ByteArray := prog_42_method_2_code
def yJ2_init : MethodName := ⟨RJ2, "<init>", "()V"⟩
def dkwJ2_init_0 : List UInt8 := [42, 183, 0, 1, 42, 178, 0, 39, 181, 0, 9, 177]
abbrev dktJ2_init_0 : List UInt8 := dkwJ2_init_0 ++ []
theorem dksJ2_init_0 : cJ2_init.data.toList.drop 0 = dktJ2_init_0 := by decide +kernel
theorem dJ2_init_0 : decode cJ2_init 0 = .ok (.aload_n 0, 1) := dk_42 (dk_at dksJ2_init_0 0 rfl rfl)
theorem dJ2_init_1 : decode cJ2_init 1 = .ok (.invokespecial 1, 3) := dk_183 0 1 (dk_at dksJ2_init_0 1 rfl rfl)
theorem dJ2_init_4 : decode cJ2_init 4 = .ok (.aload_n 0, 1) := dk_42 (dk_at dksJ2_init_0 4 rfl rfl)
theorem dJ2_init_5 : decode cJ2_init 5 = .ok (.getstatic 39, 3) := dk_178 0 39 (dk_at dksJ2_init_0 5 rfl rfl)
theorem dJ2_init_8 : decode cJ2_init 8 = .ok (.putfield 9, 3) := dk_181 0 9 (dk_at dksJ2_init_0 8 rfl rfl)
theorem dJ2_init_11 : decode cJ2_init 11 = .ok (.return_, 1) := dk_177 (dk_at dksJ2_init_0 11 rfl rfl)
abbrev cJ2_size : ByteArray := prog_42_method_8_code
def yJ2_size : MethodName := ⟨RJ2, "size", "()I"⟩
theorem dJ2_size_0 : decode cJ2_size 0 = .ok (.aload_n 0, 1) := by decide +kernel
theorem dJ2_size_1 : decode cJ2_size 1 = .ok (.getfield 48, 3) := by decide +kernel
theorem dJ2_size_4 : decode cJ2_size 4 = .ok (.ireturn, 1) := by decide +kernel
abbrev cJ2_add : ByteArray := prog_42_method_25_code
def yJ2_add : MethodName := ⟨RJ2, "add", "(Ljava/lang/Object;)Z"⟩
def dkwJ2_add_1 : List UInt8 := [172]
abbrev dktJ2_add_1 : List UInt8 := dkwJ2_add_1 ++ []
def dkwJ2_add_0 : List UInt8 := [42, 89, 180, 0, 63, 4, 96, 181, 0, 63, 42, 43, 42, 180, 0, 9, 42, 180, 0, 48, 182, 0, 131, 4]
abbrev dktJ2_add_0 : List UInt8 := dkwJ2_add_0 ++ dktJ2_add_1
theorem dksJ2_add_0 : cJ2_add.data.toList.drop 0 = dktJ2_add_0 := by decide +kernel
theorem dksJ2_add_1 : cJ2_add.data.toList.drop 24 = dktJ2_add_1 := dk_seg dksJ2_add_0 24 rfl rfl
theorem dJ2_add_0 : decode cJ2_add 0 = .ok (.aload_n 0, 1) := dk_42 (dk_at dksJ2_add_0 0 rfl rfl)
theorem dJ2_add_1 : decode cJ2_add 1 = .ok (.dup, 1) := dk_89 (dk_at dksJ2_add_0 1 rfl rfl)
theorem dJ2_add_2 : decode cJ2_add 2 = .ok (.getfield 63, 3) := dk_180 0 63 (dk_at dksJ2_add_0 2 rfl rfl)
theorem dJ2_add_5 : decode cJ2_add 5 = .ok (.iconst 1, 1) := dk_4 (dk_at dksJ2_add_0 5 rfl rfl)
theorem dJ2_add_6 : decode cJ2_add 6 = .ok (.iadd, 1) := dk_96 (dk_at dksJ2_add_0 6 rfl rfl)
theorem dJ2_add_7 : decode cJ2_add 7 = .ok (.putfield 63, 3) := dk_181 0 63 (dk_at dksJ2_add_0 7 rfl rfl)
theorem dJ2_add_10 : decode cJ2_add 10 = .ok (.aload_n 0, 1) := dk_42 (dk_at dksJ2_add_0 10 rfl rfl)
theorem dJ2_add_11 : decode cJ2_add 11 = .ok (.aload_n 1, 1) := dk_43 (dk_at dksJ2_add_0 11 rfl rfl)
theorem dJ2_add_12 : decode cJ2_add 12 = .ok (.aload_n 0, 1) := dk_42 (dk_at dksJ2_add_0 12 rfl rfl)
theorem dJ2_add_13 : decode cJ2_add 13 = .ok (.getfield 9, 3) := dk_180 0 9 (dk_at dksJ2_add_0 13 rfl rfl)
theorem dJ2_add_16 : decode cJ2_add 16 = .ok (.aload_n 0, 1) := dk_42 (dk_at dksJ2_add_0 16 rfl rfl)
theorem dJ2_add_17 : decode cJ2_add 17 = .ok (.getfield 48, 3) := dk_180 0 48 (dk_at dksJ2_add_0 17 rfl rfl)
theorem dJ2_add_20 : decode cJ2_add 20 = .ok (.invokevirtual 131, 3) := dk_182 0 131 (dk_at dksJ2_add_0 20 rfl rfl)
theorem dJ2_add_23 : decode cJ2_add 23 = .ok (.iconst 1, 1) := dk_4 (dk_at dksJ2_add_0 23 rfl rfl)
theorem dJ2_add_24 : decode cJ2_add 24 = .ok (.ireturn, 1) := dk_172 (dk_at dksJ2_add_1 0 rfl rfl)
abbrev cJ2_add_2 : ByteArray := prog_42_method_24_code
def yJ2_add_2 : MethodName := ⟨RJ2, "add", "(Ljava/lang/Object;[Ljava/lang/Object;I)V"⟩
def dkwJ2_add_2_0 : List UInt8 := [29, 44, 190, 160, 0, 8, 42, 182, 0, 129, 77, 44, 29, 43, 83, 42, 29, 4, 96, 181, 0, 48, 177]
abbrev dktJ2_add_2_0 : List UInt8 := dkwJ2_add_2_0 ++ []
theorem dksJ2_add_2_0 : cJ2_add_2.data.toList.drop 0 = dktJ2_add_2_0 := by decide +kernel
theorem dJ2_add_2_0 : decode cJ2_add_2 0 = .ok (.iload_n 3, 1) := dk_29 (dk_at dksJ2_add_2_0 0 rfl rfl)
theorem dJ2_add_2_1 : decode cJ2_add_2 1 = .ok (.aload_n 2, 1) := dk_44 (dk_at dksJ2_add_2_0 1 rfl rfl)
theorem dJ2_add_2_2 : decode cJ2_add_2 2 = .ok (.arraylength, 1) := dk_190 (dk_at dksJ2_add_2_0 2 rfl rfl)
theorem dJ2_add_2_3 : decode cJ2_add_2 3 = .ok (.if_icmp .ne 8, 3) := dk_160 0 8 (dk_at dksJ2_add_2_0 3 rfl rfl)
theorem dJ2_add_2_6 : decode cJ2_add_2 6 = .ok (.aload_n 0, 1) := dk_42 (dk_at dksJ2_add_2_0 6 rfl rfl)
theorem dJ2_add_2_7 : decode cJ2_add_2 7 = .ok (.invokevirtual 129, 3) := dk_182 0 129 (dk_at dksJ2_add_2_0 7 rfl rfl)
theorem dJ2_add_2_10 : decode cJ2_add_2 10 = .ok (.astore_n 2, 1) := dk_77 (dk_at dksJ2_add_2_0 10 rfl rfl)
theorem dJ2_add_2_11 : decode cJ2_add_2 11 = .ok (.aload_n 2, 1) := dk_44 (dk_at dksJ2_add_2_0 11 rfl rfl)
theorem dJ2_add_2_12 : decode cJ2_add_2 12 = .ok (.iload_n 3, 1) := dk_29 (dk_at dksJ2_add_2_0 12 rfl rfl)
theorem dJ2_add_2_13 : decode cJ2_add_2 13 = .ok (.aload_n 1, 1) := dk_43 (dk_at dksJ2_add_2_0 13 rfl rfl)
theorem dJ2_add_2_14 : decode cJ2_add_2 14 = .ok (.aastore, 1) := dk_83 (dk_at dksJ2_add_2_0 14 rfl rfl)
theorem dJ2_add_2_15 : decode cJ2_add_2 15 = .ok (.aload_n 0, 1) := dk_42 (dk_at dksJ2_add_2_0 15 rfl rfl)
theorem dJ2_add_2_16 : decode cJ2_add_2 16 = .ok (.iload_n 3, 1) := dk_29 (dk_at dksJ2_add_2_0 16 rfl rfl)
theorem dJ2_add_2_17 : decode cJ2_add_2 17 = .ok (.iconst 1, 1) := dk_4 (dk_at dksJ2_add_2_0 17 rfl rfl)
theorem dJ2_add_2_18 : decode cJ2_add_2 18 = .ok (.iadd, 1) := dk_96 (dk_at dksJ2_add_2_0 18 rfl rfl)
theorem dJ2_add_2_19 : decode cJ2_add_2 19 = .ok (.putfield 48, 3) := dk_181 0 48 (dk_at dksJ2_add_2_0 19 rfl rfl)
theorem dJ2_add_2_22 : decode cJ2_add_2 22 = .ok (.return_, 1) := dk_177 (dk_at dksJ2_add_2_0 22 rfl rfl)
abbrev cJ2_grow : ByteArray := prog_42_method_7_code
def yJ2_grow : MethodName := ⟨RJ2, "grow", "()[Ljava/lang/Object;"⟩
def dkwJ2_grow_0 : List UInt8 := [42, 42, 180, 0, 48, 4, 96, 182, 0, 69, 176]
abbrev dktJ2_grow_0 : List UInt8 := dkwJ2_grow_0 ++ []
theorem dksJ2_grow_0 : cJ2_grow.data.toList.drop 0 = dktJ2_grow_0 := by decide +kernel
theorem dJ2_grow_0 : decode cJ2_grow 0 = .ok (.aload_n 0, 1) := dk_42 (dk_at dksJ2_grow_0 0 rfl rfl)
theorem dJ2_grow_1 : decode cJ2_grow 1 = .ok (.aload_n 0, 1) := dk_42 (dk_at dksJ2_grow_0 1 rfl rfl)
theorem dJ2_grow_2 : decode cJ2_grow 2 = .ok (.getfield 48, 3) := dk_180 0 48 (dk_at dksJ2_grow_0 2 rfl rfl)
theorem dJ2_grow_5 : decode cJ2_grow 5 = .ok (.iconst 1, 1) := dk_4 (dk_at dksJ2_grow_0 5 rfl rfl)
theorem dJ2_grow_6 : decode cJ2_grow 6 = .ok (.iadd, 1) := dk_96 (dk_at dksJ2_grow_0 6 rfl rfl)
theorem dJ2_grow_7 : decode cJ2_grow 7 = .ok (.invokevirtual 69, 3) := dk_182 0 69 (dk_at dksJ2_grow_0 7 rfl rfl)
theorem dJ2_grow_10 : decode cJ2_grow 10 = .ok (.areturn, 1) := dk_176 (dk_at dksJ2_grow_0 10 rfl rfl)
abbrev cJ2_grow_2 : ByteArray := prog_42_method_6_code
def yJ2_grow_2 : MethodName := ⟨RJ2, "grow", "(I)[Ljava/lang/Object;"⟩
def dkwJ2_grow_2_2 : List UInt8 := [27, 184, 0, 79, 189, 0, 7, 90, 181, 0, 9, 176]
abbrev dktJ2_grow_2_2 : List UInt8 := dkwJ2_grow_2_2 ++ []
def dkwJ2_grow_2_1 : List UInt8 := [28, 4, 122, 184, 0, 73, 62, 42, 42, 180, 0, 9, 29, 184, 0, 66, 90, 181, 0, 9, 176, 42, 16, 10]
abbrev dktJ2_grow_2_1 : List UInt8 := dkwJ2_grow_2_1 ++ dktJ2_grow_2_2
def dkwJ2_grow_2_0 : List UInt8 := [42, 180, 0, 9, 190, 61, 28, 157, 0, 13, 42, 180, 0, 9, 178, 0, 39, 165, 0, 28, 28, 27, 28, 100]
abbrev dktJ2_grow_2_0 : List UInt8 := dkwJ2_grow_2_0 ++ dktJ2_grow_2_1
theorem dksJ2_grow_2_0 : cJ2_grow_2.data.toList.drop 0 = dktJ2_grow_2_0 := by decide +kernel
theorem dksJ2_grow_2_1 : cJ2_grow_2.data.toList.drop 24 = dktJ2_grow_2_1 := dk_seg dksJ2_grow_2_0 24 rfl rfl
theorem dksJ2_grow_2_2 : cJ2_grow_2.data.toList.drop 48 = dktJ2_grow_2_2 := dk_seg dksJ2_grow_2_1 24 rfl rfl
theorem dJ2_grow_2_0 : decode cJ2_grow_2 0 = .ok (.aload_n 0, 1) := dk_42 (dk_at dksJ2_grow_2_0 0 rfl rfl)
theorem dJ2_grow_2_1 : decode cJ2_grow_2 1 = .ok (.getfield 9, 3) := dk_180 0 9 (dk_at dksJ2_grow_2_0 1 rfl rfl)
theorem dJ2_grow_2_4 : decode cJ2_grow_2 4 = .ok (.arraylength, 1) := dk_190 (dk_at dksJ2_grow_2_0 4 rfl rfl)
theorem dJ2_grow_2_5 : decode cJ2_grow_2 5 = .ok (.istore_n 2, 1) := dk_61 (dk_at dksJ2_grow_2_0 5 rfl rfl)
theorem dJ2_grow_2_6 : decode cJ2_grow_2 6 = .ok (.iload_n 2, 1) := dk_28 (dk_at dksJ2_grow_2_0 6 rfl rfl)
theorem dJ2_grow_2_7 : decode cJ2_grow_2 7 = .ok (.ifCond .gt 13, 3) := dk_157 0 13 (dk_at dksJ2_grow_2_0 7 rfl rfl)
theorem dJ2_grow_2_10 : decode cJ2_grow_2 10 = .ok (.aload_n 0, 1) := dk_42 (dk_at dksJ2_grow_2_0 10 rfl rfl)
theorem dJ2_grow_2_11 : decode cJ2_grow_2 11 = .ok (.getfield 9, 3) := dk_180 0 9 (dk_at dksJ2_grow_2_0 11 rfl rfl)
theorem dJ2_grow_2_14 : decode cJ2_grow_2 14 = .ok (.getstatic 39, 3) := dk_178 0 39 (dk_at dksJ2_grow_2_0 14 rfl rfl)
theorem dJ2_grow_2_17 : decode cJ2_grow_2 17 = .ok (.if_acmp .eq 28, 3) := dk_165 0 28 (dk_at dksJ2_grow_2_0 17 rfl rfl)
theorem dJ2_grow_2_20 : decode cJ2_grow_2 20 = .ok (.iload_n 2, 1) := dk_28 (dk_at dksJ2_grow_2_0 20 rfl rfl)
theorem dJ2_grow_2_21 : decode cJ2_grow_2 21 = .ok (.iload_n 1, 1) := dk_27 (dk_at dksJ2_grow_2_0 21 rfl rfl)
theorem dJ2_grow_2_22 : decode cJ2_grow_2 22 = .ok (.iload_n 2, 1) := dk_28 (dk_at dksJ2_grow_2_0 22 rfl rfl)
theorem dJ2_grow_2_23 : decode cJ2_grow_2 23 = .ok (.isub, 1) := dk_100 (dk_at dksJ2_grow_2_0 23 rfl rfl)
theorem dJ2_grow_2_24 : decode cJ2_grow_2 24 = .ok (.iload_n 2, 1) := dk_28 (dk_at dksJ2_grow_2_1 0 rfl rfl)
theorem dJ2_grow_2_25 : decode cJ2_grow_2 25 = .ok (.iconst 1, 1) := dk_4 (dk_at dksJ2_grow_2_1 1 rfl rfl)
theorem dJ2_grow_2_26 : decode cJ2_grow_2 26 = .ok (.ishr, 1) := dk_122 (dk_at dksJ2_grow_2_1 2 rfl rfl)
theorem dJ2_grow_2_27 : decode cJ2_grow_2 27 = .ok (.invokestatic 73, 3) := dk_184 0 73 (dk_at dksJ2_grow_2_1 3 rfl rfl)
theorem dJ2_grow_2_30 : decode cJ2_grow_2 30 = .ok (.istore_n 3, 1) := dk_62 (dk_at dksJ2_grow_2_1 6 rfl rfl)
theorem dJ2_grow_2_31 : decode cJ2_grow_2 31 = .ok (.aload_n 0, 1) := dk_42 (dk_at dksJ2_grow_2_1 7 rfl rfl)
theorem dJ2_grow_2_32 : decode cJ2_grow_2 32 = .ok (.aload_n 0, 1) := dk_42 (dk_at dksJ2_grow_2_1 8 rfl rfl)
theorem dJ2_grow_2_33 : decode cJ2_grow_2 33 = .ok (.getfield 9, 3) := dk_180 0 9 (dk_at dksJ2_grow_2_1 9 rfl rfl)
theorem dJ2_grow_2_36 : decode cJ2_grow_2 36 = .ok (.iload_n 3, 1) := dk_29 (dk_at dksJ2_grow_2_1 12 rfl rfl)
theorem dJ2_grow_2_37 : decode cJ2_grow_2 37 = .ok (.invokestatic 66, 3) := dk_184 0 66 (dk_at dksJ2_grow_2_1 13 rfl rfl)
theorem dJ2_grow_2_40 : decode cJ2_grow_2 40 = .ok (.dup_x1, 1) := dk_90 (dk_at dksJ2_grow_2_1 16 rfl rfl)
theorem dJ2_grow_2_41 : decode cJ2_grow_2 41 = .ok (.putfield 9, 3) := dk_181 0 9 (dk_at dksJ2_grow_2_1 17 rfl rfl)
theorem dJ2_grow_2_44 : decode cJ2_grow_2 44 = .ok (.areturn, 1) := dk_176 (dk_at dksJ2_grow_2_1 20 rfl rfl)
theorem dJ2_grow_2_45 : decode cJ2_grow_2 45 = .ok (.aload_n 0, 1) := dk_42 (dk_at dksJ2_grow_2_1 21 rfl rfl)
theorem dJ2_grow_2_46 : decode cJ2_grow_2 46 = .ok (.bipush 10, 2) := dk_16 10 (dk_at dksJ2_grow_2_1 22 rfl rfl)
theorem dJ2_grow_2_48 : decode cJ2_grow_2 48 = .ok (.iload_n 1, 1) := dk_27 (dk_at dksJ2_grow_2_2 0 rfl rfl)
theorem dJ2_grow_2_49 : decode cJ2_grow_2 49 = .ok (.invokestatic 79, 3) := dk_184 0 79 (dk_at dksJ2_grow_2_2 1 rfl rfl)
theorem dJ2_grow_2_52 : decode cJ2_grow_2 52 = .ok (.anewarray 7, 3) := dk_189 0 7 (dk_at dksJ2_grow_2_2 4 rfl rfl)
theorem dJ2_grow_2_55 : decode cJ2_grow_2 55 = .ok (.dup_x1, 1) := dk_90 (dk_at dksJ2_grow_2_2 7 rfl rfl)
theorem dJ2_grow_2_56 : decode cJ2_grow_2 56 = .ok (.putfield 9, 3) := dk_181 0 9 (dk_at dksJ2_grow_2_2 8 rfl rfl)
theorem dJ2_grow_2_59 : decode cJ2_grow_2 59 = .ok (.areturn, 1) := dk_176 (dk_at dksJ2_grow_2_2 11 rfl rfl)
abbrev cJ2_get : ByteArray := prog_42_method_20_code
def yJ2_get : MethodName := ⟨RJ2, "get", "(I)Ljava/lang/Object;"⟩
def dkwJ2_get_0 : List UInt8 := [27, 42, 180, 0, 48, 184, 0, 118, 87, 42, 27, 182, 0, 123, 176]
abbrev dktJ2_get_0 : List UInt8 := dkwJ2_get_0 ++ []
theorem dksJ2_get_0 : cJ2_get.data.toList.drop 0 = dktJ2_get_0 := by decide +kernel
theorem dJ2_get_0 : decode cJ2_get 0 = .ok (.iload_n 1, 1) := dk_27 (dk_at dksJ2_get_0 0 rfl rfl)
theorem dJ2_get_1 : decode cJ2_get 1 = .ok (.aload_n 0, 1) := dk_42 (dk_at dksJ2_get_0 1 rfl rfl)
theorem dJ2_get_2 : decode cJ2_get 2 = .ok (.getfield 48, 3) := dk_180 0 48 (dk_at dksJ2_get_0 2 rfl rfl)
theorem dJ2_get_5 : decode cJ2_get 5 = .ok (.invokestatic 118, 3) := dk_184 0 118 (dk_at dksJ2_get_0 5 rfl rfl)
theorem dJ2_get_8 : decode cJ2_get 8 = .ok (.pop, 1) := dk_87 (dk_at dksJ2_get_0 8 rfl rfl)
theorem dJ2_get_9 : decode cJ2_get 9 = .ok (.aload_n 0, 1) := dk_42 (dk_at dksJ2_get_0 9 rfl rfl)
theorem dJ2_get_10 : decode cJ2_get 10 = .ok (.iload_n 1, 1) := dk_27 (dk_at dksJ2_get_0 10 rfl rfl)
theorem dJ2_get_11 : decode cJ2_get 11 = .ok (.invokevirtual 123, 3) := dk_182 0 123 (dk_at dksJ2_get_0 11 rfl rfl)
theorem dJ2_get_14 : decode cJ2_get 14 = .ok (.areturn, 1) := dk_176 (dk_at dksJ2_get_0 14 rfl rfl)
abbrev cJ2_elementData : ByteArray := prog_42_method_18_code
def yJ2_elementData : MethodName := ⟨RJ2, "elementData", "(I)Ljava/lang/Object;"⟩
def dkwJ2_elementData_0 : List UInt8 := [42, 180, 0, 9, 27, 50, 176]
abbrev dktJ2_elementData_0 : List UInt8 := dkwJ2_elementData_0 ++ []
theorem dksJ2_elementData_0 : cJ2_elementData.data.toList.drop 0 = dktJ2_elementData_0 := by decide +kernel
theorem dJ2_elementData_0 : decode cJ2_elementData 0 = .ok (.aload_n 0, 1) := dk_42 (dk_at dksJ2_elementData_0 0 rfl rfl)
theorem dJ2_elementData_1 : decode cJ2_elementData 1 = .ok (.getfield 9, 3) := dk_180 0 9 (dk_at dksJ2_elementData_0 1 rfl rfl)
theorem dJ2_elementData_4 : decode cJ2_elementData 4 = .ok (.iload_n 1, 1) := dk_27 (dk_at dksJ2_elementData_0 4 rfl rfl)
theorem dJ2_elementData_5 : decode cJ2_elementData 5 = .ok (.aaload, 1) := dk_50 (dk_at dksJ2_elementData_0 5 rfl rfl)
theorem dJ2_elementData_6 : decode cJ2_elementData 6 = .ok (.areturn, 1) := dk_176 (dk_at dksJ2_elementData_0 6 rfl rfl)
abbrev cJ2_set : ByteArray := prog_42_method_23_code
def yJ2_set : MethodName := ⟨RJ2, "set", "(ILjava/lang/Object;)Ljava/lang/Object;"⟩
def dkwJ2_set_0 : List UInt8 := [27, 42, 180, 0, 48, 184, 0, 118, 87, 42, 27, 182, 0, 123, 78, 42, 180, 0, 9, 27, 44, 83, 45, 176]
abbrev dktJ2_set_0 : List UInt8 := dkwJ2_set_0 ++ []
theorem dksJ2_set_0 : cJ2_set.data.toList.drop 0 = dktJ2_set_0 := by decide +kernel
theorem dJ2_set_0 : decode cJ2_set 0 = .ok (.iload_n 1, 1) := dk_27 (dk_at dksJ2_set_0 0 rfl rfl)
theorem dJ2_set_1 : decode cJ2_set 1 = .ok (.aload_n 0, 1) := dk_42 (dk_at dksJ2_set_0 1 rfl rfl)
theorem dJ2_set_2 : decode cJ2_set 2 = .ok (.getfield 48, 3) := dk_180 0 48 (dk_at dksJ2_set_0 2 rfl rfl)
theorem dJ2_set_5 : decode cJ2_set 5 = .ok (.invokestatic 118, 3) := dk_184 0 118 (dk_at dksJ2_set_0 5 rfl rfl)
theorem dJ2_set_8 : decode cJ2_set 8 = .ok (.pop, 1) := dk_87 (dk_at dksJ2_set_0 8 rfl rfl)
theorem dJ2_set_9 : decode cJ2_set 9 = .ok (.aload_n 0, 1) := dk_42 (dk_at dksJ2_set_0 9 rfl rfl)
theorem dJ2_set_10 : decode cJ2_set 10 = .ok (.iload_n 1, 1) := dk_27 (dk_at dksJ2_set_0 10 rfl rfl)
theorem dJ2_set_11 : decode cJ2_set 11 = .ok (.invokevirtual 123, 3) := dk_182 0 123 (dk_at dksJ2_set_0 11 rfl rfl)
theorem dJ2_set_14 : decode cJ2_set 14 = .ok (.astore_n 3, 1) := dk_78 (dk_at dksJ2_set_0 14 rfl rfl)
theorem dJ2_set_15 : decode cJ2_set 15 = .ok (.aload_n 0, 1) := dk_42 (dk_at dksJ2_set_0 15 rfl rfl)
theorem dJ2_set_16 : decode cJ2_set 16 = .ok (.getfield 9, 3) := dk_180 0 9 (dk_at dksJ2_set_0 16 rfl rfl)
theorem dJ2_set_19 : decode cJ2_set 19 = .ok (.iload_n 1, 1) := dk_27 (dk_at dksJ2_set_0 19 rfl rfl)
theorem dJ2_set_20 : decode cJ2_set 20 = .ok (.aload_n 2, 1) := dk_44 (dk_at dksJ2_set_0 20 rfl rfl)
theorem dJ2_set_21 : decode cJ2_set 21 = .ok (.aastore, 1) := dk_83 (dk_at dksJ2_set_0 21 rfl rfl)
theorem dJ2_set_22 : decode cJ2_set 22 = .ok (.aload_n 3, 1) := dk_45 (dk_at dksJ2_set_0 22 rfl rfl)
theorem dJ2_set_23 : decode cJ2_set 23 = .ok (.areturn, 1) := dk_176 (dk_at dksJ2_set_0 23 rfl rfl)
theorem q122 : (Jvm.Cond.initialized "java/util/ArrayList") ∈ lw_all := lw_g (lw_at lw_m1 5 rfl) rfl
theorem q197 : (Jvm.Cond.instantiable "java/util/ArrayList" (3 : Nat)) ∈ lw_all := lw_g (lw_at lw_m1 80 rfl) rfl
theorem q199 : (Jvm.Cond.instanceMethod ({ cls := "java/util/ArrayList", name := "<init>", desc := "()V" } : Jvm.MethodName)) ∈ lw_all := lw_g (lw_at lw_m1 82 rfl) rfl
theorem q200 : (Jvm.Cond.code ({ cls := "java/util/ArrayList", name := "<init>", desc := "()V" } : Jvm.MethodName) prog_42_method_2_code (1 : Nat) (Option.none : Option Jvm.ClassFile.FieldType)) ∈ lw_all := lw_g (lw_at lw_m1 83 rfl) rfl
theorem q201 : (Jvm.Cond.methodLink "java/util/ArrayList" (1 : Nat) ({ cls := "java/util/AbstractList", name := "<init>", desc := "()V" } : Jvm.MethodName)) ∈ lw_all := lw_g (lw_at lw_m1 84 rfl) rfl
theorem q208 : (Jvm.Cond.fieldLink "java/util/ArrayList" (39 : Nat) "java/util/ArrayList" "DEFAULTCAPACITY_EMPTY_ELEMENTDATA" "[Ljava/lang/Object;") ∈ lw_all := lw_g (lw_at lw_m1 91 rfl) rfl
theorem q209 : (Jvm.Cond.laysStatic "java/util/ArrayList" "DEFAULTCAPACITY_EMPTY_ELEMENTDATA" "[Ljava/lang/Object;") ∈ lw_tbl := lw_at lw_m1 92 rfl
theorem q210 : (Jvm.Cond.fieldLink "java/util/ArrayList" (9 : Nat) "java/util/ArrayList" "elementData" "[Ljava/lang/Object;") ∈ lw_all := lw_g (lw_at lw_m1 93 rfl) rfl
theorem q211 : (Jvm.Cond.fieldLink "java/util/ArrayList" (48 : Nat) "java/util/ArrayList" "size" "I") ∈ lw_all := lw_g (lw_at lw_m1 94 rfl) rfl
theorem q213 : (Jvm.Cond.fieldLink "java/util/ArrayList" (63 : Nat) "java/util/ArrayList" "modCount" "I") ∈ lw_all := lw_g (lw_at lw_m1 96 rfl) rfl
theorem q214 : (Jvm.Cond.sameField "java/util/ArrayList" "java/util/AbstractList" "modCount" "I") ∈ lw_all := lw_g (lw_at lw_m1 97 rfl) rfl
theorem q215 : (Jvm.Cond.lays "java/util/ArrayList" "java/util/ArrayList" "elementData" "[Ljava/lang/Object;") ∈ lw_all := lw_g (lw_at lw_m1 98 rfl) rfl
theorem q216 : (Jvm.Cond.soleField "java/util/ArrayList" "elementData") ∈ lw_all := lw_g (lw_at lw_m1 99 rfl) rfl
theorem q217 : (Jvm.Cond.lays "java/util/ArrayList" "java/util/ArrayList" "size" "I") ∈ lw_all := lw_g (lw_at lw_m1 100 rfl) rfl
theorem q218 : (Jvm.Cond.soleField "java/util/ArrayList" "size") ∈ lw_all := lw_g (lw_at lw_m1 101 rfl) rfl
theorem q219 : (Jvm.Cond.lays "java/util/ArrayList" "java/util/AbstractList" "modCount" "I") ∈ lw_all := lw_g (lw_at lw_m1 102 rfl) rfl
theorem q221 : (Jvm.Cond.superclass "java/util/ArrayList" "java/util/AbstractList") ∈ lw_all := lw_g (lw_at lw_m1 104 rfl) rfl
theorem q493 : (Jvm.Cond.instanceMethod ({ cls := "java/util/ArrayList", name := "size", desc := "()I" } : Jvm.MethodName)) ∈ lw_all := lw_g (lw_at lw_m2 136 rfl) rfl
theorem q494 : (Jvm.Cond.selects "java/util/ArrayList" ({ cls := "java/util/ArrayList", name := "size", desc := "()I" } : Jvm.MethodName) ({ cls := "java/util/ArrayList", name := "size", desc := "()I" } : Jvm.MethodName)) ∈ lw_all := lw_g (lw_at lw_m2 137 rfl) rfl
theorem q495 : (Jvm.Cond.code ({ cls := "java/util/ArrayList", name := "size", desc := "()I" } : Jvm.MethodName) prog_42_method_8_code (1 : Nat) (Option.some Jvm.ClassFile.FieldType.int)) ∈ lw_all := lw_g (lw_at lw_m2 138 rfl) rfl
theorem q1066 : (Jvm.Cond.instanceMethod ({ cls := "java/util/ArrayList", name := "add", desc := "(Ljava/lang/Object;)Z" } : Jvm.MethodName)) ∈ lw_all := lw_g (lw_at lw_m4 229 rfl) rfl
theorem q1067 : (Jvm.Cond.selects "java/util/ArrayList" ({ cls := "java/util/ArrayList", name := "add", desc := "(Ljava/lang/Object;)Z" } : Jvm.MethodName) ({ cls := "java/util/ArrayList", name := "add", desc := "(Ljava/lang/Object;)Z" } : Jvm.MethodName)) ∈ lw_all := lw_g (lw_at lw_m4 230 rfl) rfl
theorem q1068 : (Jvm.Cond.code ({ cls := "java/util/ArrayList", name := "add", desc := "(Ljava/lang/Object;)Z" } : Jvm.MethodName) prog_42_method_25_code (2 : Nat) (Option.some Jvm.ClassFile.FieldType.boolean)) ∈ lw_all := lw_g (lw_at lw_m4 231 rfl) rfl
theorem q1069 : (Jvm.Cond.methodLink "java/util/ArrayList" (131 : Nat) ({ cls := "java/util/ArrayList", name := "add", desc := "(Ljava/lang/Object;[Ljava/lang/Object;I)V" } : Jvm.MethodName)) ∈ lw_all := lw_g (lw_at lw_m4 232 rfl) rfl
theorem q1070 : (Jvm.Cond.privateMethod ({ cls := "java/util/ArrayList", name := "add", desc := "(Ljava/lang/Object;[Ljava/lang/Object;I)V" } : Jvm.MethodName)) ∈ lw_tbl := lw_at lw_m4 233 rfl
theorem q1071 : (Jvm.Cond.instanceMethod ({ cls := "java/util/ArrayList", name := "add", desc := "(Ljava/lang/Object;[Ljava/lang/Object;I)V" } : Jvm.MethodName)) ∈ lw_all := lw_g (lw_at lw_m4 234 rfl) rfl
theorem q1072 : (Jvm.Cond.code ({ cls := "java/util/ArrayList", name := "add", desc := "(Ljava/lang/Object;[Ljava/lang/Object;I)V" } : Jvm.MethodName) prog_42_method_24_code (4 : Nat) (Option.none : Option Jvm.ClassFile.FieldType)) ∈ lw_all := lw_g (lw_at lw_m4 235 rfl) rfl
theorem q1073 : (Jvm.Cond.methodLink "java/util/ArrayList" (129 : Nat) ({ cls := "java/util/ArrayList", name := "grow", desc := "()[Ljava/lang/Object;" } : Jvm.MethodName)) ∈ lw_all := lw_g (lw_at lw_m4 236 rfl) rfl
theorem q1074 : (Jvm.Cond.privateMethod ({ cls := "java/util/ArrayList", name := "grow", desc := "()[Ljava/lang/Object;" } : Jvm.MethodName)) ∈ lw_tbl := lw_at lw_m4 237 rfl
theorem q1075 : (Jvm.Cond.instanceMethod ({ cls := "java/util/ArrayList", name := "grow", desc := "()[Ljava/lang/Object;" } : Jvm.MethodName)) ∈ lw_all := lw_g (lw_at lw_m4 238 rfl) rfl
theorem q1076 : (Jvm.Cond.code ({ cls := "java/util/ArrayList", name := "grow", desc := "()[Ljava/lang/Object;" } : Jvm.MethodName) prog_42_method_7_code (1 : Nat) (Option.some (Jvm.ClassFile.FieldType.array (Jvm.ClassFile.FieldType.object "java/lang/Object")))) ∈ lw_all := lw_g (lw_at lw_m4 239 rfl) rfl
theorem q1077 : (Jvm.Cond.methodLink "java/util/ArrayList" (69 : Nat) ({ cls := "java/util/ArrayList", name := "grow", desc := "(I)[Ljava/lang/Object;" } : Jvm.MethodName)) ∈ lw_all := lw_g (lw_at lw_m5 0 rfl) rfl
theorem q1078 : (Jvm.Cond.privateMethod ({ cls := "java/util/ArrayList", name := "grow", desc := "(I)[Ljava/lang/Object;" } : Jvm.MethodName)) ∈ lw_tbl := lw_at lw_m5 1 rfl
theorem q1079 : (Jvm.Cond.instanceMethod ({ cls := "java/util/ArrayList", name := "grow", desc := "(I)[Ljava/lang/Object;" } : Jvm.MethodName)) ∈ lw_all := lw_g (lw_at lw_m5 2 rfl) rfl
theorem q1080 : (Jvm.Cond.code ({ cls := "java/util/ArrayList", name := "grow", desc := "(I)[Ljava/lang/Object;" } : Jvm.MethodName) prog_42_method_6_code (4 : Nat) (Option.some (Jvm.ClassFile.FieldType.array (Jvm.ClassFile.FieldType.object "java/lang/Object")))) ∈ lw_all := lw_g (lw_at lw_m5 3 rfl) rfl
theorem q1081 : (Jvm.Cond.methodLink "java/util/ArrayList" (73 : Nat) ({ cls := "jdk/internal/util/ArraysSupport", name := "newLength", desc := "(III)I" } : Jvm.MethodName)) ∈ lw_all := lw_g (lw_at lw_m5 4 rfl) rfl
theorem q1091 : (Jvm.Cond.methodLink "java/util/ArrayList" (66 : Nat) ({ cls := "java/util/Arrays", name := "copyOf", desc := "([Ljava/lang/Object;I)[Ljava/lang/Object;" } : Jvm.MethodName)) ∈ lw_all := lw_g (lw_at lw_m5 14 rfl) rfl
theorem q1118 : (Jvm.Cond.selects "java/util/ArrayList" ({ cls := "java/lang/Object", name := "getClass", desc := "()Ljava/lang/Class;" } : Jvm.MethodName) ({ cls := "java/lang/Object", name := "getClass", desc := "()Ljava/lang/Class;" } : Jvm.MethodName)) ∈ lw_all := lw_g (lw_at lw_m5 41 rfl) rfl
theorem q1130 : (Jvm.Cond.methodLink "java/util/ArrayList" (79 : Nat) ({ cls := "java/lang/Math", name := "max", desc := "(II)I" } : Jvm.MethodName)) ∈ lw_all := lw_g (lw_at lw_m5 53 rfl) rfl
theorem q1131 : (Jvm.Cond.classLink "java/util/ArrayList" (7 : Nat) "java/lang/Object") ∈ lw_all := lw_g (lw_at lw_m5 54 rfl) rfl
theorem q1133 : (Jvm.Cond.instanceMethod ({ cls := "java/util/ArrayList", name := "get", desc := "(I)Ljava/lang/Object;" } : Jvm.MethodName)) ∈ lw_all := lw_g (lw_at lw_m5 56 rfl) rfl
theorem q1134 : (Jvm.Cond.selects "java/util/ArrayList" ({ cls := "java/util/ArrayList", name := "get", desc := "(I)Ljava/lang/Object;" } : Jvm.MethodName) ({ cls := "java/util/ArrayList", name := "get", desc := "(I)Ljava/lang/Object;" } : Jvm.MethodName)) ∈ lw_all := lw_g (lw_at lw_m5 57 rfl) rfl
theorem q1135 : (Jvm.Cond.code ({ cls := "java/util/ArrayList", name := "get", desc := "(I)Ljava/lang/Object;" } : Jvm.MethodName) prog_42_method_20_code (2 : Nat) (Option.some (Jvm.ClassFile.FieldType.object "java/lang/Object"))) ∈ lw_all := lw_g (lw_at lw_m5 58 rfl) rfl
theorem q1136 : (Jvm.Cond.methodLink "java/util/ArrayList" (118 : Nat) ({ cls := "java/util/Objects", name := "checkIndex", desc := "(II)I" } : Jvm.MethodName)) ∈ lw_all := lw_g (lw_at lw_m5 59 rfl) rfl
theorem q1140 : (Jvm.Cond.methodLink "java/util/ArrayList" (123 : Nat) ({ cls := "java/util/ArrayList", name := "elementData", desc := "(I)Ljava/lang/Object;" } : Jvm.MethodName)) ∈ lw_all := lw_g (lw_at lw_m5 63 rfl) rfl
theorem q1141 : (Jvm.Cond.instanceMethod ({ cls := "java/util/ArrayList", name := "elementData", desc := "(I)Ljava/lang/Object;" } : Jvm.MethodName)) ∈ lw_all := lw_g (lw_at lw_m5 64 rfl) rfl
theorem q1142 : (Jvm.Cond.selects "java/util/ArrayList" ({ cls := "java/util/ArrayList", name := "elementData", desc := "(I)Ljava/lang/Object;" } : Jvm.MethodName) ({ cls := "java/util/ArrayList", name := "elementData", desc := "(I)Ljava/lang/Object;" } : Jvm.MethodName)) ∈ lw_all := lw_g (lw_at lw_m5 65 rfl) rfl
theorem q1143 : (Jvm.Cond.code ({ cls := "java/util/ArrayList", name := "elementData", desc := "(I)Ljava/lang/Object;" } : Jvm.MethodName) prog_42_method_18_code (2 : Nat) (Option.some (Jvm.ClassFile.FieldType.object "java/lang/Object"))) ∈ lw_all := lw_g (lw_at lw_m5 66 rfl) rfl
theorem q1204 : (Jvm.Cond.instanceMethod ({ cls := "java/util/ArrayList", name := "set", desc := "(ILjava/lang/Object;)Ljava/lang/Object;" } : Jvm.MethodName)) ∈ lw_all := lw_g (lw_at lw_m5 127 rfl) rfl
theorem q1205 : (Jvm.Cond.selects "java/util/ArrayList" ({ cls := "java/util/ArrayList", name := "set", desc := "(ILjava/lang/Object;)Ljava/lang/Object;" } : Jvm.MethodName) ({ cls := "java/util/ArrayList", name := "set", desc := "(ILjava/lang/Object;)Ljava/lang/Object;" } : Jvm.MethodName)) ∈ lw_all := lw_g (lw_at lw_m5 128 rfl) rfl
theorem q1206 : (Jvm.Cond.code ({ cls := "java/util/ArrayList", name := "set", desc := "(ILjava/lang/Object;)Ljava/lang/Object;" } : Jvm.MethodName) prog_42_method_23_code (4 : Nat) (Option.some (Jvm.ClassFile.FieldType.object "java/lang/Object"))) ∈ lw_all := lw_g (lw_at lw_m5 129 rfl) rfl
theorem q2224 : (Jvm.Cond.castable "java/util/ArrayList" "java/lang/Object") ∈ lw_tbl := lw_at lw_m9 187 rfl
theorem in_J2 : ∀ w ∈ wsJ20, w ∈ lw_all := lw_in wsJ20 [219, 215, 217] (by decide +kernel) (by decide +kernel)
/-! java/lang/String -/
set_option maxRecDepth 100000
def RJ3 : String := "java/lang/String"
abbrev cJ3_length : ByteArray := prog_33_method_54_code
def yJ3_length : MethodName := ⟨RJ3, "length", "()I"⟩
def dkwJ3_length_0 : List UInt8 := [42, 180, 0, 9, 190, 42, 182, 1, 79, 122, 172]
abbrev dktJ3_length_0 : List UInt8 := dkwJ3_length_0 ++ []
theorem dksJ3_length_0 : cJ3_length.data.toList.drop 0 = dktJ3_length_0 := by decide +kernel
theorem dJ3_length_0 : decode cJ3_length 0 = .ok (.aload_n 0, 1) := dk_42 (dk_at dksJ3_length_0 0 rfl rfl)
theorem dJ3_length_1 : decode cJ3_length 1 = .ok (.getfield 9, 3) := dk_180 0 9 (dk_at dksJ3_length_0 1 rfl rfl)
theorem dJ3_length_4 : decode cJ3_length 4 = .ok (.arraylength, 1) := dk_190 (dk_at dksJ3_length_0 4 rfl rfl)
theorem dJ3_length_5 : decode cJ3_length 5 = .ok (.aload_n 0, 1) := dk_42 (dk_at dksJ3_length_0 5 rfl rfl)
theorem dJ3_length_6 : decode cJ3_length 6 = .ok (.invokevirtual 335, 3) := dk_182 1 79 (dk_at dksJ3_length_0 6 rfl rfl)
theorem dJ3_length_9 : decode cJ3_length 9 = .ok (.ishr, 1) := dk_122 (dk_at dksJ3_length_0 9 rfl rfl)
theorem dJ3_length_10 : decode cJ3_length 10 = .ok (.ireturn, 1) := dk_172 (dk_at dksJ3_length_0 10 rfl rfl)
abbrev cJ3_coder : ByteArray := prog_33_method_152_code
def yJ3_coder : MethodName := ⟨RJ3, "coder", "()B"⟩
def dkwJ3_coder_0 : List UInt8 := [178, 0, 38, 153, 0, 10, 42, 180, 0, 15, 167, 0, 4, 4, 172]
abbrev dktJ3_coder_0 : List UInt8 := dkwJ3_coder_0 ++ []
theorem dksJ3_coder_0 : cJ3_coder.data.toList.drop 0 = dktJ3_coder_0 := by decide +kernel
theorem dJ3_coder_0 : decode cJ3_coder 0 = .ok (.getstatic 38, 3) := dk_178 0 38 (dk_at dksJ3_coder_0 0 rfl rfl)
theorem dJ3_coder_3 : decode cJ3_coder 3 = .ok (.ifCond .eq 10, 3) := dk_153 0 10 (dk_at dksJ3_coder_0 3 rfl rfl)
theorem dJ3_coder_6 : decode cJ3_coder 6 = .ok (.aload_n 0, 1) := dk_42 (dk_at dksJ3_coder_0 6 rfl rfl)
theorem dJ3_coder_7 : decode cJ3_coder 7 = .ok (.getfield 15, 3) := dk_180 0 15 (dk_at dksJ3_coder_0 7 rfl rfl)
theorem dJ3_coder_10 : decode cJ3_coder 10 = .ok (.goto 4, 3) := dk_167 0 4 (dk_at dksJ3_coder_0 10 rfl rfl)
theorem dJ3_coder_13 : decode cJ3_coder 13 = .ok (.iconst 1, 1) := dk_4 (dk_at dksJ3_coder_0 13 rfl rfl)
theorem dJ3_coder_14 : decode cJ3_coder 14 = .ok (.ireturn, 1) := dk_172 (dk_at dksJ3_coder_0 14 rfl rfl)
abbrev cJ3_charAt : ByteArray := prog_33_method_56_code
def yJ3_charAt : MethodName := ⟨RJ3, "charAt", "(I)C"⟩
def dkwJ3_charAt_1 : List UInt8 := [172]
abbrev dktJ3_charAt_1 : List UInt8 := dkwJ3_charAt_1 ++ []
def dkwJ3_charAt_0 : List UInt8 := [42, 182, 1, 236, 153, 0, 12, 42, 180, 0, 9, 27, 184, 1, 239, 172, 42, 180, 0, 9, 27, 184, 1, 242]
abbrev dktJ3_charAt_0 : List UInt8 := dkwJ3_charAt_0 ++ dktJ3_charAt_1
theorem dksJ3_charAt_0 : cJ3_charAt.data.toList.drop 0 = dktJ3_charAt_0 := by decide +kernel
theorem dksJ3_charAt_1 : cJ3_charAt.data.toList.drop 24 = dktJ3_charAt_1 := dk_seg dksJ3_charAt_0 24 rfl rfl
theorem dJ3_charAt_0 : decode cJ3_charAt 0 = .ok (.aload_n 0, 1) := dk_42 (dk_at dksJ3_charAt_0 0 rfl rfl)
theorem dJ3_charAt_1 : decode cJ3_charAt 1 = .ok (.invokevirtual 492, 3) := dk_182 1 236 (dk_at dksJ3_charAt_0 1 rfl rfl)
theorem dJ3_charAt_4 : decode cJ3_charAt 4 = .ok (.ifCond .eq 12, 3) := dk_153 0 12 (dk_at dksJ3_charAt_0 4 rfl rfl)
theorem dJ3_charAt_7 : decode cJ3_charAt 7 = .ok (.aload_n 0, 1) := dk_42 (dk_at dksJ3_charAt_0 7 rfl rfl)
theorem dJ3_charAt_8 : decode cJ3_charAt 8 = .ok (.getfield 9, 3) := dk_180 0 9 (dk_at dksJ3_charAt_0 8 rfl rfl)
theorem dJ3_charAt_11 : decode cJ3_charAt 11 = .ok (.iload_n 1, 1) := dk_27 (dk_at dksJ3_charAt_0 11 rfl rfl)
theorem dJ3_charAt_12 : decode cJ3_charAt 12 = .ok (.invokestatic 495, 3) := dk_184 1 239 (dk_at dksJ3_charAt_0 12 rfl rfl)
theorem dJ3_charAt_15 : decode cJ3_charAt 15 = .ok (.ireturn, 1) := dk_172 (dk_at dksJ3_charAt_0 15 rfl rfl)
theorem dJ3_charAt_16 : decode cJ3_charAt 16 = .ok (.aload_n 0, 1) := dk_42 (dk_at dksJ3_charAt_0 16 rfl rfl)
theorem dJ3_charAt_17 : decode cJ3_charAt 17 = .ok (.getfield 9, 3) := dk_180 0 9 (dk_at dksJ3_charAt_0 17 rfl rfl)
theorem dJ3_charAt_20 : decode cJ3_charAt 20 = .ok (.iload_n 1, 1) := dk_27 (dk_at dksJ3_charAt_0 20 rfl rfl)
theorem dJ3_charAt_21 : decode cJ3_charAt 21 = .ok (.invokestatic 498, 3) := dk_184 1 242 (dk_at dksJ3_charAt_0 21 rfl rfl)
theorem dJ3_charAt_24 : decode cJ3_charAt 24 = .ok (.ireturn, 1) := dk_172 (dk_at dksJ3_charAt_1 0 rfl rfl)
abbrev cJ3_isLatin1 : ByteArray := prog_33_method_154_code
def yJ3_isLatin1 : MethodName := ⟨RJ3, "isLatin1", "()Z"⟩
def dkwJ3_isLatin1_0 : List UInt8 := [178, 0, 38, 153, 0, 14, 42, 180, 0, 15, 154, 0, 7, 4, 167, 0, 4, 3, 172]
abbrev dktJ3_isLatin1_0 : List UInt8 := dkwJ3_isLatin1_0 ++ []
theorem dksJ3_isLatin1_0 : cJ3_isLatin1.data.toList.drop 0 = dktJ3_isLatin1_0 := by decide +kernel
theorem dJ3_isLatin1_0 : decode cJ3_isLatin1 0 = .ok (.getstatic 38, 3) := dk_178 0 38 (dk_at dksJ3_isLatin1_0 0 rfl rfl)
theorem dJ3_isLatin1_3 : decode cJ3_isLatin1 3 = .ok (.ifCond .eq 14, 3) := dk_153 0 14 (dk_at dksJ3_isLatin1_0 3 rfl rfl)
theorem dJ3_isLatin1_6 : decode cJ3_isLatin1 6 = .ok (.aload_n 0, 1) := dk_42 (dk_at dksJ3_isLatin1_0 6 rfl rfl)
theorem dJ3_isLatin1_7 : decode cJ3_isLatin1 7 = .ok (.getfield 15, 3) := dk_180 0 15 (dk_at dksJ3_isLatin1_0 7 rfl rfl)
theorem dJ3_isLatin1_10 : decode cJ3_isLatin1 10 = .ok (.ifCond .ne 7, 3) := dk_154 0 7 (dk_at dksJ3_isLatin1_0 10 rfl rfl)
theorem dJ3_isLatin1_13 : decode cJ3_isLatin1 13 = .ok (.iconst 1, 1) := dk_4 (dk_at dksJ3_isLatin1_0 13 rfl rfl)
theorem dJ3_isLatin1_14 : decode cJ3_isLatin1 14 = .ok (.goto 4, 3) := dk_167 0 4 (dk_at dksJ3_isLatin1_0 14 rfl rfl)
theorem dJ3_isLatin1_17 : decode cJ3_isLatin1 17 = .ok (.iconst 0, 1) := dk_3 (dk_at dksJ3_isLatin1_0 17 rfl rfl)
theorem dJ3_isLatin1_18 : decode cJ3_isLatin1 18 = .ok (.ireturn, 1) := dk_172 (dk_at dksJ3_isLatin1_0 18 rfl rfl)
abbrev cJ3_checkIndex : ByteArray := prog_33_method_155_code
def yJ3_checkIndex : MethodName := ⟨RJ3, "checkIndex", "(II)V"⟩
def dkwJ3_checkIndex_0 : List UInt8 := [26, 27, 178, 4, 29, 184, 4, 35, 87, 177]
abbrev dktJ3_checkIndex_0 : List UInt8 := dkwJ3_checkIndex_0 ++ []
theorem dksJ3_checkIndex_0 : cJ3_checkIndex.data.toList.drop 0 = dktJ3_checkIndex_0 := by decide +kernel
theorem dJ3_checkIndex_0 : decode cJ3_checkIndex 0 = .ok (.iload_n 0, 1) := dk_26 (dk_at dksJ3_checkIndex_0 0 rfl rfl)
theorem dJ3_checkIndex_1 : decode cJ3_checkIndex 1 = .ok (.iload_n 1, 1) := dk_27 (dk_at dksJ3_checkIndex_0 1 rfl rfl)
theorem dJ3_checkIndex_2 : decode cJ3_checkIndex 2 = .ok (.getstatic 1053, 3) := dk_178 4 29 (dk_at dksJ3_checkIndex_0 2 rfl rfl)
theorem dJ3_checkIndex_5 : decode cJ3_checkIndex 5 = .ok (.invokestatic 1059, 3) := dk_184 4 35 (dk_at dksJ3_checkIndex_0 5 rfl rfl)
theorem dJ3_checkIndex_8 : decode cJ3_checkIndex 8 = .ok (.pop, 1) := dk_87 (dk_at dksJ3_checkIndex_0 8 rfl rfl)
theorem dJ3_checkIndex_9 : decode cJ3_checkIndex 9 = .ok (.return_, 1) := dk_177 (dk_at dksJ3_checkIndex_0 9 rfl rfl)
theorem q137 : (Jvm.Cond.initialized "java/lang/String") ∈ lw_all := lw_g (lw_at lw_m1 20 rfl) rfl
theorem q798 : (Jvm.Cond.instanceMethod ({ cls := "java/lang/String", name := "length", desc := "()I" } : Jvm.MethodName)) ∈ lw_all := lw_g (lw_at lw_m3 201 rfl) rfl
theorem q799 : (Jvm.Cond.selects "java/lang/String" ({ cls := "java/lang/String", name := "length", desc := "()I" } : Jvm.MethodName) ({ cls := "java/lang/String", name := "length", desc := "()I" } : Jvm.MethodName)) ∈ lw_all := lw_g (lw_at lw_m3 202 rfl) rfl
theorem q800 : (Jvm.Cond.code ({ cls := "java/lang/String", name := "length", desc := "()I" } : Jvm.MethodName) prog_33_method_54_code (1 : Nat) (Option.some Jvm.ClassFile.FieldType.int)) ∈ lw_all := lw_g (lw_at lw_m3 203 rfl) rfl
theorem q801 : (Jvm.Cond.methodLink "java/lang/String" (335 : Nat) ({ cls := "java/lang/String", name := "coder", desc := "()B" } : Jvm.MethodName)) ∈ lw_all := lw_g (lw_at lw_m3 204 rfl) rfl
theorem q802 : (Jvm.Cond.instanceMethod ({ cls := "java/lang/String", name := "coder", desc := "()B" } : Jvm.MethodName)) ∈ lw_all := lw_g (lw_at lw_m3 205 rfl) rfl
theorem q803 : (Jvm.Cond.selects "java/lang/String" ({ cls := "java/lang/String", name := "coder", desc := "()B" } : Jvm.MethodName) ({ cls := "java/lang/String", name := "coder", desc := "()B" } : Jvm.MethodName)) ∈ lw_all := lw_g (lw_at lw_m3 206 rfl) rfl
theorem q804 : (Jvm.Cond.code ({ cls := "java/lang/String", name := "coder", desc := "()B" } : Jvm.MethodName) prog_33_method_152_code (1 : Nat) (Option.some Jvm.ClassFile.FieldType.byte)) ∈ lw_all := lw_g (lw_at lw_m3 207 rfl) rfl
theorem q805 : (Jvm.Cond.fieldLink "java/lang/String" (38 : Nat) "java/lang/String" "COMPACT_STRINGS" "Z") ∈ lw_all := lw_g (lw_at lw_m3 208 rfl) rfl
theorem q806 : (Jvm.Cond.laysStatic "java/lang/String" "COMPACT_STRINGS" "Z") ∈ lw_tbl := lw_at lw_m3 209 rfl
theorem q808 : (Jvm.Cond.instanceMethod ({ cls := "java/lang/String", name := "charAt", desc := "(I)C" } : Jvm.MethodName)) ∈ lw_all := lw_g (lw_at lw_m3 211 rfl) rfl
theorem q809 : (Jvm.Cond.selects "java/lang/String" ({ cls := "java/lang/String", name := "charAt", desc := "(I)C" } : Jvm.MethodName) ({ cls := "java/lang/String", name := "charAt", desc := "(I)C" } : Jvm.MethodName)) ∈ lw_all := lw_g (lw_at lw_m3 212 rfl) rfl
theorem q810 : (Jvm.Cond.code ({ cls := "java/lang/String", name := "charAt", desc := "(I)C" } : Jvm.MethodName) prog_33_method_56_code (2 : Nat) (Option.some Jvm.ClassFile.FieldType.char)) ∈ lw_all := lw_g (lw_at lw_m3 213 rfl) rfl
theorem q811 : (Jvm.Cond.methodLink "java/lang/String" (492 : Nat) ({ cls := "java/lang/String", name := "isLatin1", desc := "()Z" } : Jvm.MethodName)) ∈ lw_all := lw_g (lw_at lw_m3 214 rfl) rfl
theorem q812 : (Jvm.Cond.instanceMethod ({ cls := "java/lang/String", name := "isLatin1", desc := "()Z" } : Jvm.MethodName)) ∈ lw_all := lw_g (lw_at lw_m3 215 rfl) rfl
theorem q813 : (Jvm.Cond.selects "java/lang/String" ({ cls := "java/lang/String", name := "isLatin1", desc := "()Z" } : Jvm.MethodName) ({ cls := "java/lang/String", name := "isLatin1", desc := "()Z" } : Jvm.MethodName)) ∈ lw_all := lw_g (lw_at lw_m3 216 rfl) rfl
theorem q814 : (Jvm.Cond.code ({ cls := "java/lang/String", name := "isLatin1", desc := "()Z" } : Jvm.MethodName) prog_33_method_154_code (1 : Nat) (Option.some Jvm.ClassFile.FieldType.boolean)) ∈ lw_all := lw_g (lw_at lw_m3 217 rfl) rfl
theorem q815 : (Jvm.Cond.methodLink "java/lang/String" (495 : Nat) ({ cls := "java/lang/StringLatin1", name := "charAt", desc := "([BI)C" } : Jvm.MethodName)) ∈ lw_all := lw_g (lw_at lw_m3 218 rfl) rfl
theorem q819 : (Jvm.Cond.static ({ cls := "java/lang/String", name := "checkIndex", desc := "(II)V" } : Jvm.MethodName)) ∈ lw_all := lw_g (lw_at lw_m3 222 rfl) rfl
theorem q820 : (Jvm.Cond.code ({ cls := "java/lang/String", name := "checkIndex", desc := "(II)V" } : Jvm.MethodName) prog_33_method_155_code (2 : Nat) (Option.none : Option Jvm.ClassFile.FieldType)) ∈ lw_all := lw_g (lw_at lw_m3 223 rfl) rfl
theorem q821 : (Jvm.Cond.fieldLink "java/lang/String" (1053 : Nat) "jdk/internal/util/Preconditions" "SIOOBE_FORMATTER" "Ljava/util/function/BiFunction;") ∈ lw_all := lw_g (lw_at lw_m3 224 rfl) rfl
theorem q823 : (Jvm.Cond.methodLink "java/lang/String" (1059 : Nat) ({ cls := "jdk/internal/util/Preconditions", name := "checkIndex", desc := "(IILjava/util/function/BiFunction;)I" } : Jvm.MethodName)) ∈ lw_all := lw_g (lw_at lw_m3 226 rfl) rfl
theorem q826 : (Jvm.Cond.methodLink "java/lang/String" (498 : Nat) ({ cls := "java/lang/StringUTF16", name := "charAt", desc := "([BI)C" } : Jvm.MethodName)) ∈ lw_all := lw_g (lw_at lw_m3 229 rfl) rfl
theorem q2218 : (Jvm.Cond.castable "java/lang/String" "java/lang/Object") ∈ lw_tbl := lw_at lw_m9 181 rfl
theorem q2255 : (Jvm.Cond.fieldLink "java/lang/String" (9 : Nat) "java/lang/String" "value" "[B") ∈ lw_all := lw_g (lw_at lw_m9 218 rfl) rfl
theorem q2256 : (Jvm.Cond.fieldLink "java/lang/String" (15 : Nat) "java/lang/String" "coder" "B") ∈ lw_all := lw_g (lw_at lw_m9 219 rfl) rfl
/-! java/lang/StringLatin1 -/
set_option maxRecDepth 100000
def RJ4 : String := "java/lang/StringLatin1"
abbrev cJ4_charAt : ByteArray := prog_34_method_2_code
def yJ4_charAt : MethodName := ⟨RJ4, "charAt", "([BI)C"⟩
def dkwJ4_charAt_0 : List UInt8 := [27, 42, 190, 184, 0, 9, 42, 27, 51, 17, 0, 255, 126, 146, 172]
abbrev dktJ4_charAt_0 : List UInt8 := dkwJ4_charAt_0 ++ []
theorem dksJ4_charAt_0 : cJ4_charAt.data.toList.drop 0 = dktJ4_charAt_0 := by decide +kernel
theorem dJ4_charAt_0 : decode cJ4_charAt 0 = .ok (.iload_n 1, 1) := dk_27 (dk_at dksJ4_charAt_0 0 rfl rfl)
theorem dJ4_charAt_1 : decode cJ4_charAt 1 = .ok (.aload_n 0, 1) := dk_42 (dk_at dksJ4_charAt_0 1 rfl rfl)
theorem dJ4_charAt_2 : decode cJ4_charAt 2 = .ok (.arraylength, 1) := dk_190 (dk_at dksJ4_charAt_0 2 rfl rfl)
theorem dJ4_charAt_3 : decode cJ4_charAt 3 = .ok (.invokestatic 9, 3) := dk_184 0 9 (dk_at dksJ4_charAt_0 3 rfl rfl)
theorem dJ4_charAt_6 : decode cJ4_charAt 6 = .ok (.aload_n 0, 1) := dk_42 (dk_at dksJ4_charAt_0 6 rfl rfl)
theorem dJ4_charAt_7 : decode cJ4_charAt 7 = .ok (.iload_n 1, 1) := dk_27 (dk_at dksJ4_charAt_0 7 rfl rfl)
theorem dJ4_charAt_8 : decode cJ4_charAt 8 = .ok (.baload, 1) := dk_51 (dk_at dksJ4_charAt_0 8 rfl rfl)
theorem dJ4_charAt_9 : decode cJ4_charAt 9 = .ok (.sipush 255, 3) := dk_17 0 255 (dk_at dksJ4_charAt_0 9 rfl rfl)
theorem dJ4_charAt_12 : decode cJ4_charAt 12 = .ok (.iand, 1) := dk_126 (dk_at dksJ4_charAt_0 12 rfl rfl)
theorem dJ4_charAt_13 : decode cJ4_charAt 13 = .ok (.i2c, 1) := dk_146 (dk_at dksJ4_charAt_0 13 rfl rfl)
theorem dJ4_charAt_14 : decode cJ4_charAt 14 = .ok (.ireturn, 1) := dk_172 (dk_at dksJ4_charAt_0 14 rfl rfl)
theorem q138 : (Jvm.Cond.initialized "java/lang/StringLatin1") ∈ lw_all := lw_g (lw_at lw_m1 21 rfl) rfl
theorem q816 : (Jvm.Cond.static ({ cls := "java/lang/StringLatin1", name := "charAt", desc := "([BI)C" } : Jvm.MethodName)) ∈ lw_all := lw_g (lw_at lw_m3 219 rfl) rfl
theorem q817 : (Jvm.Cond.code ({ cls := "java/lang/StringLatin1", name := "charAt", desc := "([BI)C" } : Jvm.MethodName) prog_34_method_2_code (2 : Nat) (Option.some Jvm.ClassFile.FieldType.char)) ∈ lw_all := lw_g (lw_at lw_m3 220 rfl) rfl
theorem q818 : (Jvm.Cond.methodLink "java/lang/StringLatin1" (9 : Nat) ({ cls := "java/lang/String", name := "checkIndex", desc := "(II)V" } : Jvm.MethodName)) ∈ lw_all := lw_g (lw_at lw_m3 221 rfl) rfl
/-! jdk/internal/util/Preconditions -/
set_option maxRecDepth 100000
def RJ5 : String := "jdk/internal/util/Preconditions"
abbrev cJ5_checkIndex : ByteArray := prog_50_method_11_code
def yJ5_checkIndex : MethodName := ⟨RJ5, "checkIndex", "(IILjava/util/function/BiFunction;)I"⟩
def dkwJ5_checkIndex_0 : List UInt8 := [26, 155, 0, 8, 26, 27, 161, 0, 10, 44, 26, 27, 184, 0, 95, 191, 26, 172]
abbrev dktJ5_checkIndex_0 : List UInt8 := dkwJ5_checkIndex_0 ++ []
theorem dksJ5_checkIndex_0 : cJ5_checkIndex.data.toList.drop 0 = dktJ5_checkIndex_0 := by decide +kernel
theorem dJ5_checkIndex_0 : decode cJ5_checkIndex 0 = .ok (.iload_n 0, 1) := dk_26 (dk_at dksJ5_checkIndex_0 0 rfl rfl)
theorem dJ5_checkIndex_1 : decode cJ5_checkIndex 1 = .ok (.ifCond .lt 8, 3) := dk_155 0 8 (dk_at dksJ5_checkIndex_0 1 rfl rfl)
theorem dJ5_checkIndex_4 : decode cJ5_checkIndex 4 = .ok (.iload_n 0, 1) := dk_26 (dk_at dksJ5_checkIndex_0 4 rfl rfl)
theorem dJ5_checkIndex_5 : decode cJ5_checkIndex 5 = .ok (.iload_n 1, 1) := dk_27 (dk_at dksJ5_checkIndex_0 5 rfl rfl)
theorem dJ5_checkIndex_6 : decode cJ5_checkIndex 6 = .ok (.if_icmp .lt 10, 3) := dk_161 0 10 (dk_at dksJ5_checkIndex_0 6 rfl rfl)
theorem dJ5_checkIndex_9 : decode cJ5_checkIndex 9 = .ok (.aload_n 2, 1) := dk_44 (dk_at dksJ5_checkIndex_0 9 rfl rfl)
theorem dJ5_checkIndex_10 : decode cJ5_checkIndex 10 = .ok (.iload_n 0, 1) := dk_26 (dk_at dksJ5_checkIndex_0 10 rfl rfl)
theorem dJ5_checkIndex_11 : decode cJ5_checkIndex 11 = .ok (.iload_n 1, 1) := dk_27 (dk_at dksJ5_checkIndex_0 11 rfl rfl)
theorem dJ5_checkIndex_12 : decode cJ5_checkIndex 12 = .ok (.invokestatic 95, 3) := dk_184 0 95 (dk_at dksJ5_checkIndex_0 12 rfl rfl)
theorem dJ5_checkIndex_15 : decode cJ5_checkIndex 15 = .ok (.athrow, 1) := dk_191 (dk_at dksJ5_checkIndex_0 15 rfl rfl)
theorem dJ5_checkIndex_16 : decode cJ5_checkIndex 16 = .ok (.iload_n 0, 1) := dk_26 (dk_at dksJ5_checkIndex_0 16 rfl rfl)
theorem dJ5_checkIndex_17 : decode cJ5_checkIndex 17 = .ok (.ireturn, 1) := dk_172 (dk_at dksJ5_checkIndex_0 17 rfl rfl)
theorem q139 : (Jvm.Cond.initialized "jdk/internal/util/Preconditions") ∈ lw_all := lw_g (lw_at lw_m1 22 rfl) rfl
theorem q822 : (Jvm.Cond.laysStatic "jdk/internal/util/Preconditions" "SIOOBE_FORMATTER" "Ljava/util/function/BiFunction;") ∈ lw_tbl := lw_at lw_m3 225 rfl
theorem q824 : (Jvm.Cond.static ({ cls := "jdk/internal/util/Preconditions", name := "checkIndex", desc := "(IILjava/util/function/BiFunction;)I" } : Jvm.MethodName)) ∈ lw_all := lw_g (lw_at lw_m3 227 rfl) rfl
theorem q825 : (Jvm.Cond.code ({ cls := "jdk/internal/util/Preconditions", name := "checkIndex", desc := "(IILjava/util/function/BiFunction;)I" } : Jvm.MethodName) prog_50_method_11_code (3 : Nat) (Option.some Jvm.ClassFile.FieldType.int)) ∈ lw_all := lw_g (lw_at lw_m3 228 rfl) rfl
/-! java/lang/StringUTF16 -/
set_option maxRecDepth 100000
def RJ6 : String := "java/lang/StringUTF16"
abbrev cJ6_charAt : ByteArray := prog_35_method_83_code
def yJ6_charAt : MethodName := ⟨RJ6, "charAt", "([BI)C"⟩
def dkwJ6_charAt_0 : List UInt8 := [27, 42, 184, 0, 67, 42, 27, 184, 0, 71, 172]
abbrev dktJ6_charAt_0 : List UInt8 := dkwJ6_charAt_0 ++ []
theorem dksJ6_charAt_0 : cJ6_charAt.data.toList.drop 0 = dktJ6_charAt_0 := by decide +kernel
theorem dJ6_charAt_0 : decode cJ6_charAt 0 = .ok (.iload_n 1, 1) := dk_27 (dk_at dksJ6_charAt_0 0 rfl rfl)
theorem dJ6_charAt_1 : decode cJ6_charAt 1 = .ok (.aload_n 0, 1) := dk_42 (dk_at dksJ6_charAt_0 1 rfl rfl)
theorem dJ6_charAt_2 : decode cJ6_charAt 2 = .ok (.invokestatic 67, 3) := dk_184 0 67 (dk_at dksJ6_charAt_0 2 rfl rfl)
theorem dJ6_charAt_5 : decode cJ6_charAt 5 = .ok (.aload_n 0, 1) := dk_42 (dk_at dksJ6_charAt_0 5 rfl rfl)
theorem dJ6_charAt_6 : decode cJ6_charAt 6 = .ok (.iload_n 1, 1) := dk_27 (dk_at dksJ6_charAt_0 6 rfl rfl)
theorem dJ6_charAt_7 : decode cJ6_charAt 7 = .ok (.invokestatic 71, 3) := dk_184 0 71 (dk_at dksJ6_charAt_0 7 rfl rfl)
theorem dJ6_charAt_10 : decode cJ6_charAt 10 = .ok (.ireturn, 1) := dk_172 (dk_at dksJ6_charAt_0 10 rfl rfl)
abbrev cJ6_checkIndex : ByteArray := prog_35_method_91_code
def yJ6_checkIndex : MethodName := ⟨RJ6, "checkIndex", "(I[B)V"⟩
def dkwJ6_checkIndex_0 : List UInt8 := [26, 43, 184, 0, 48, 184, 1, 158, 177]
abbrev dktJ6_checkIndex_0 : List UInt8 := dkwJ6_checkIndex_0 ++ []
theorem dksJ6_checkIndex_0 : cJ6_checkIndex.data.toList.drop 0 = dktJ6_checkIndex_0 := by decide +kernel
theorem dJ6_checkIndex_0 : decode cJ6_checkIndex 0 = .ok (.iload_n 0, 1) := dk_26 (dk_at dksJ6_checkIndex_0 0 rfl rfl)
theorem dJ6_checkIndex_1 : decode cJ6_checkIndex 1 = .ok (.aload_n 1, 1) := dk_43 (dk_at dksJ6_checkIndex_0 1 rfl rfl)
theorem dJ6_checkIndex_2 : decode cJ6_checkIndex 2 = .ok (.invokestatic 48, 3) := dk_184 0 48 (dk_at dksJ6_checkIndex_0 2 rfl rfl)
theorem dJ6_checkIndex_5 : decode cJ6_checkIndex 5 = .ok (.invokestatic 414, 3) := dk_184 1 158 (dk_at dksJ6_checkIndex_0 5 rfl rfl)
theorem dJ6_checkIndex_8 : decode cJ6_checkIndex 8 = .ok (.return_, 1) := dk_177 (dk_at dksJ6_checkIndex_0 8 rfl rfl)
abbrev cJ6_length : ByteArray := prog_35_method_6_code
def yJ6_length : MethodName := ⟨RJ6, "length", "([B)I"⟩
def dkwJ6_length_0 : List UInt8 := [42, 190, 4, 122, 172]
abbrev dktJ6_length_0 : List UInt8 := dkwJ6_length_0 ++ []
theorem dksJ6_length_0 : cJ6_length.data.toList.drop 0 = dktJ6_length_0 := by decide +kernel
theorem dJ6_length_0 : decode cJ6_length 0 = .ok (.aload_n 0, 1) := dk_42 (dk_at dksJ6_length_0 0 rfl rfl)
theorem dJ6_length_1 : decode cJ6_length 1 = .ok (.arraylength, 1) := dk_190 (dk_at dksJ6_length_0 1 rfl rfl)
theorem dJ6_length_2 : decode cJ6_length 2 = .ok (.iconst 1, 1) := dk_4 (dk_at dksJ6_length_0 2 rfl rfl)
theorem dJ6_length_3 : decode cJ6_length 3 = .ok (.ishr, 1) := dk_122 (dk_at dksJ6_length_0 3 rfl rfl)
theorem dJ6_length_4 : decode cJ6_length 4 = .ok (.ireturn, 1) := dk_172 (dk_at dksJ6_length_0 4 rfl rfl)
abbrev cJ6_getChar : ByteArray := prog_35_method_5_code
def yJ6_getChar : MethodName := ⟨RJ6, "getChar", "([BI)C"⟩
def dkwJ6_getChar_2 : List UInt8 := [51, 17, 0, 255, 126, 178, 0, 63, 120, 128, 146, 172]
abbrev dktJ6_getChar_2 : List UInt8 := dkwJ6_getChar_2 ++ []
def dkwJ6_getChar_1 : List UInt8 := [183, 0, 56, 191, 27, 4, 120, 60, 42, 27, 132, 1, 1, 51, 17, 0, 255, 126, 178, 0, 59, 120, 42, 27]
abbrev dktJ6_getChar_1 : List UInt8 := dkwJ6_getChar_1 ++ dktJ6_getChar_2
def dkwJ6_getChar_0 : List UInt8 := [178, 0, 44, 154, 0, 25, 27, 155, 0, 11, 27, 42, 184, 0, 48, 161, 0, 13, 187, 0, 52, 89, 18, 54]
abbrev dktJ6_getChar_0 : List UInt8 := dkwJ6_getChar_0 ++ dktJ6_getChar_1
theorem dksJ6_getChar_0 : cJ6_getChar.data.toList.drop 0 = dktJ6_getChar_0 := by decide +kernel
theorem dksJ6_getChar_1 : cJ6_getChar.data.toList.drop 24 = dktJ6_getChar_1 := dk_seg dksJ6_getChar_0 24 rfl rfl
theorem dksJ6_getChar_2 : cJ6_getChar.data.toList.drop 48 = dktJ6_getChar_2 := dk_seg dksJ6_getChar_1 24 rfl rfl
theorem dJ6_getChar_0 : decode cJ6_getChar 0 = .ok (.getstatic 44, 3) := dk_178 0 44 (dk_at dksJ6_getChar_0 0 rfl rfl)
theorem dJ6_getChar_3 : decode cJ6_getChar 3 = .ok (.ifCond .ne 25, 3) := dk_154 0 25 (dk_at dksJ6_getChar_0 3 rfl rfl)
theorem dJ6_getChar_6 : decode cJ6_getChar 6 = .ok (.iload_n 1, 1) := dk_27 (dk_at dksJ6_getChar_0 6 rfl rfl)
theorem dJ6_getChar_7 : decode cJ6_getChar 7 = .ok (.ifCond .lt 11, 3) := dk_155 0 11 (dk_at dksJ6_getChar_0 7 rfl rfl)
theorem dJ6_getChar_10 : decode cJ6_getChar 10 = .ok (.iload_n 1, 1) := dk_27 (dk_at dksJ6_getChar_0 10 rfl rfl)
theorem dJ6_getChar_11 : decode cJ6_getChar 11 = .ok (.aload_n 0, 1) := dk_42 (dk_at dksJ6_getChar_0 11 rfl rfl)
theorem dJ6_getChar_12 : decode cJ6_getChar 12 = .ok (.invokestatic 48, 3) := dk_184 0 48 (dk_at dksJ6_getChar_0 12 rfl rfl)
theorem dJ6_getChar_15 : decode cJ6_getChar 15 = .ok (.if_icmp .lt 13, 3) := dk_161 0 13 (dk_at dksJ6_getChar_0 15 rfl rfl)
theorem dJ6_getChar_18 : decode cJ6_getChar 18 = .ok (.new 52, 3) := dk_187 0 52 (dk_at dksJ6_getChar_0 18 rfl rfl)
theorem dJ6_getChar_21 : decode cJ6_getChar 21 = .ok (.dup, 1) := dk_89 (dk_at dksJ6_getChar_0 21 rfl rfl)
theorem dJ6_getChar_22 : decode cJ6_getChar 22 = .ok (.ldc 54, 2) := dk_18 54 (dk_at dksJ6_getChar_0 22 rfl rfl)
theorem dJ6_getChar_24 : decode cJ6_getChar 24 = .ok (.invokespecial 56, 3) := dk_183 0 56 (dk_at dksJ6_getChar_1 0 rfl rfl)
theorem dJ6_getChar_27 : decode cJ6_getChar 27 = .ok (.athrow, 1) := dk_191 (dk_at dksJ6_getChar_1 3 rfl rfl)
theorem dJ6_getChar_28 : decode cJ6_getChar 28 = .ok (.iload_n 1, 1) := dk_27 (dk_at dksJ6_getChar_1 4 rfl rfl)
theorem dJ6_getChar_29 : decode cJ6_getChar 29 = .ok (.iconst 1, 1) := dk_4 (dk_at dksJ6_getChar_1 5 rfl rfl)
theorem dJ6_getChar_30 : decode cJ6_getChar 30 = .ok (.ishl, 1) := dk_120 (dk_at dksJ6_getChar_1 6 rfl rfl)
theorem dJ6_getChar_31 : decode cJ6_getChar 31 = .ok (.istore_n 1, 1) := dk_60 (dk_at dksJ6_getChar_1 7 rfl rfl)
theorem dJ6_getChar_32 : decode cJ6_getChar 32 = .ok (.aload_n 0, 1) := dk_42 (dk_at dksJ6_getChar_1 8 rfl rfl)
theorem dJ6_getChar_33 : decode cJ6_getChar 33 = .ok (.iload_n 1, 1) := dk_27 (dk_at dksJ6_getChar_1 9 rfl rfl)
theorem dJ6_getChar_34 : decode cJ6_getChar 34 = .ok (.iinc 1 1, 3) := dk_132 1 1 (dk_at dksJ6_getChar_1 10 rfl rfl)
theorem dJ6_getChar_37 : decode cJ6_getChar 37 = .ok (.baload, 1) := dk_51 (dk_at dksJ6_getChar_1 13 rfl rfl)
theorem dJ6_getChar_38 : decode cJ6_getChar 38 = .ok (.sipush 255, 3) := dk_17 0 255 (dk_at dksJ6_getChar_1 14 rfl rfl)
theorem dJ6_getChar_41 : decode cJ6_getChar 41 = .ok (.iand, 1) := dk_126 (dk_at dksJ6_getChar_1 17 rfl rfl)
theorem dJ6_getChar_42 : decode cJ6_getChar 42 = .ok (.getstatic 59, 3) := dk_178 0 59 (dk_at dksJ6_getChar_1 18 rfl rfl)
theorem dJ6_getChar_45 : decode cJ6_getChar 45 = .ok (.ishl, 1) := dk_120 (dk_at dksJ6_getChar_1 21 rfl rfl)
theorem dJ6_getChar_46 : decode cJ6_getChar 46 = .ok (.aload_n 0, 1) := dk_42 (dk_at dksJ6_getChar_1 22 rfl rfl)
theorem dJ6_getChar_47 : decode cJ6_getChar 47 = .ok (.iload_n 1, 1) := dk_27 (dk_at dksJ6_getChar_1 23 rfl rfl)
theorem dJ6_getChar_48 : decode cJ6_getChar 48 = .ok (.baload, 1) := dk_51 (dk_at dksJ6_getChar_2 0 rfl rfl)
theorem dJ6_getChar_49 : decode cJ6_getChar 49 = .ok (.sipush 255, 3) := dk_17 0 255 (dk_at dksJ6_getChar_2 1 rfl rfl)
theorem dJ6_getChar_52 : decode cJ6_getChar 52 = .ok (.iand, 1) := dk_126 (dk_at dksJ6_getChar_2 4 rfl rfl)
theorem dJ6_getChar_53 : decode cJ6_getChar 53 = .ok (.getstatic 63, 3) := dk_178 0 63 (dk_at dksJ6_getChar_2 5 rfl rfl)
theorem dJ6_getChar_56 : decode cJ6_getChar 56 = .ok (.ishl, 1) := dk_120 (dk_at dksJ6_getChar_2 8 rfl rfl)
theorem dJ6_getChar_57 : decode cJ6_getChar 57 = .ok (.ior, 1) := dk_128 (dk_at dksJ6_getChar_2 9 rfl rfl)
theorem dJ6_getChar_58 : decode cJ6_getChar 58 = .ok (.i2c, 1) := dk_146 (dk_at dksJ6_getChar_2 10 rfl rfl)
theorem dJ6_getChar_59 : decode cJ6_getChar 59 = .ok (.ireturn, 1) := dk_172 (dk_at dksJ6_getChar_2 11 rfl rfl)
theorem q140 : (Jvm.Cond.initialized "java/lang/StringUTF16") ∈ lw_all := lw_g (lw_at lw_m1 23 rfl) rfl
theorem q827 : (Jvm.Cond.static ({ cls := "java/lang/StringUTF16", name := "charAt", desc := "([BI)C" } : Jvm.MethodName)) ∈ lw_all := lw_g (lw_at lw_m3 230 rfl) rfl
theorem q828 : (Jvm.Cond.code ({ cls := "java/lang/StringUTF16", name := "charAt", desc := "([BI)C" } : Jvm.MethodName) prog_35_method_83_code (2 : Nat) (Option.some Jvm.ClassFile.FieldType.char)) ∈ lw_all := lw_g (lw_at lw_m3 231 rfl) rfl
theorem q829 : (Jvm.Cond.methodLink "java/lang/StringUTF16" (67 : Nat) ({ cls := "java/lang/StringUTF16", name := "checkIndex", desc := "(I[B)V" } : Jvm.MethodName)) ∈ lw_all := lw_g (lw_at lw_m3 232 rfl) rfl
theorem q830 : (Jvm.Cond.static ({ cls := "java/lang/StringUTF16", name := "checkIndex", desc := "(I[B)V" } : Jvm.MethodName)) ∈ lw_all := lw_g (lw_at lw_m3 233 rfl) rfl
theorem q831 : (Jvm.Cond.code ({ cls := "java/lang/StringUTF16", name := "checkIndex", desc := "(I[B)V" } : Jvm.MethodName) prog_35_method_91_code (2 : Nat) (Option.none : Option Jvm.ClassFile.FieldType)) ∈ lw_all := lw_g (lw_at lw_m3 234 rfl) rfl
theorem q832 : (Jvm.Cond.methodLink "java/lang/StringUTF16" (48 : Nat) ({ cls := "java/lang/StringUTF16", name := "length", desc := "([B)I" } : Jvm.MethodName)) ∈ lw_all := lw_g (lw_at lw_m3 235 rfl) rfl
theorem q833 : (Jvm.Cond.static ({ cls := "java/lang/StringUTF16", name := "length", desc := "([B)I" } : Jvm.MethodName)) ∈ lw_all := lw_g (lw_at lw_m3 236 rfl) rfl
theorem q834 : (Jvm.Cond.code ({ cls := "java/lang/StringUTF16", name := "length", desc := "([B)I" } : Jvm.MethodName) prog_35_method_6_code (1 : Nat) (Option.some Jvm.ClassFile.FieldType.int)) ∈ lw_all := lw_g (lw_at lw_m3 237 rfl) rfl
theorem q835 : (Jvm.Cond.methodLink "java/lang/StringUTF16" (414 : Nat) ({ cls := "java/lang/String", name := "checkIndex", desc := "(II)V" } : Jvm.MethodName)) ∈ lw_all := lw_g (lw_at lw_m3 238 rfl) rfl
theorem q836 : (Jvm.Cond.methodLink "java/lang/StringUTF16" (71 : Nat) ({ cls := "java/lang/StringUTF16", name := "getChar", desc := "([BI)C" } : Jvm.MethodName)) ∈ lw_all := lw_g (lw_at lw_m3 239 rfl) rfl
theorem q837 : (Jvm.Cond.static ({ cls := "java/lang/StringUTF16", name := "getChar", desc := "([BI)C" } : Jvm.MethodName)) ∈ lw_all := lw_g (lw_at lw_m4 0 rfl) rfl
theorem q838 : (Jvm.Cond.code ({ cls := "java/lang/StringUTF16", name := "getChar", desc := "([BI)C" } : Jvm.MethodName) prog_35_method_5_code (2 : Nat) (Option.some Jvm.ClassFile.FieldType.char)) ∈ lw_all := lw_g (lw_at lw_m4 1 rfl) rfl
theorem q839 : (Jvm.Cond.fieldLink "java/lang/StringUTF16" (44 : Nat) "java/lang/StringUTF16" "$assertionsDisabled" "Z") ∈ lw_all := lw_g (lw_at lw_m4 2 rfl) rfl
theorem q840 : (Jvm.Cond.laysStatic "java/lang/StringUTF16" "$assertionsDisabled" "Z") ∈ lw_tbl := lw_at lw_m4 3 rfl
theorem q841 : (Jvm.Cond.fieldLink "java/lang/StringUTF16" (59 : Nat) "java/lang/StringUTF16" "HI_BYTE_SHIFT" "I") ∈ lw_all := lw_g (lw_at lw_m4 4 rfl) rfl
theorem q842 : (Jvm.Cond.laysStatic "java/lang/StringUTF16" "HI_BYTE_SHIFT" "I") ∈ lw_tbl := lw_at lw_m4 5 rfl
theorem q843 : (Jvm.Cond.fieldLink "java/lang/StringUTF16" (63 : Nat) "java/lang/StringUTF16" "LO_BYTE_SHIFT" "I") ∈ lw_all := lw_g (lw_at lw_m4 6 rfl) rfl
theorem q844 : (Jvm.Cond.laysStatic "java/lang/StringUTF16" "LO_BYTE_SHIFT" "I") ∈ lw_tbl := lw_at lw_m4 7 rfl
/-! java/lang/Throwable -/
set_option maxRecDepth 100000
def RJ7 : String := "java/lang/Throwable"
def TJ7 : u_T := fun k => match k with
  | 0 => ("java/lang/Throwable", "cause", "Ljava/lang/Throwable;", false)
  | 1 => ("java/lang/Throwable", "stackTrace", "[Ljava/lang/StackTraceElement;", false)
  | 2 => ("java/lang/Throwable", "suppressedExceptions", "Ljava/util/List;", false)
  | 3 => ("java/lang/Throwable", "detailMessage", "Ljava/lang/String;", false)
  | _ => ("java/lang/Throwable", "backtrace", "Ljava/lang/Object;", false)
def tyJ7 : Nat → FieldType := fun k => match k with
  | 0 => .object "java/lang/Throwable"
  | 1 => .array (.object "java/lang/StackTraceElement")
  | 2 => .object "java/util/List"
  | 3 => .object "java/lang/String"
  | _ => .object "java/lang/Object"
abbrev wsJ70 : List Cond := u_ws RJ7 TJ7 5
theorem nmJ7 : ∀ a, a < 5 → ∀ b, b < 5 → a ≠ b → (TJ7 a).2.1 ≠ (TJ7 b).2.1 := by decide +kernel
theorem tyJ7_ok : ∀ k, k < 5 → parseFieldDescriptor (TJ7 k).2.2.1 = some (tyJ7 k) := by decide +kernel
abbrev cJ7_init : ByteArray := prog_37_method_1_code
def yJ7_init : MethodName := ⟨RJ7, "<init>", "()V"⟩
def dkwJ7_init_1 : List UInt8 := [182, 0, 27, 87, 177]
abbrev dktJ7_init_1 : List UInt8 := dkwJ7_init_1 ++ []
def dkwJ7_init_0 : List UInt8 := [42, 183, 0, 1, 42, 42, 181, 0, 7, 42, 178, 0, 13, 181, 0, 17, 42, 178, 0, 20, 181, 0, 24, 42]
abbrev dktJ7_init_0 : List UInt8 := dkwJ7_init_0 ++ dktJ7_init_1
theorem dksJ7_init_0 : cJ7_init.data.toList.drop 0 = dktJ7_init_0 := by decide +kernel
theorem dksJ7_init_1 : cJ7_init.data.toList.drop 24 = dktJ7_init_1 := dk_seg dksJ7_init_0 24 rfl rfl
theorem dJ7_init_0 : decode cJ7_init 0 = .ok (.aload_n 0, 1) := dk_42 (dk_at dksJ7_init_0 0 rfl rfl)
theorem dJ7_init_1 : decode cJ7_init 1 = .ok (.invokespecial 1, 3) := dk_183 0 1 (dk_at dksJ7_init_0 1 rfl rfl)
theorem dJ7_init_4 : decode cJ7_init 4 = .ok (.aload_n 0, 1) := dk_42 (dk_at dksJ7_init_0 4 rfl rfl)
theorem dJ7_init_5 : decode cJ7_init 5 = .ok (.aload_n 0, 1) := dk_42 (dk_at dksJ7_init_0 5 rfl rfl)
theorem dJ7_init_6 : decode cJ7_init 6 = .ok (.putfield 7, 3) := dk_181 0 7 (dk_at dksJ7_init_0 6 rfl rfl)
theorem dJ7_init_9 : decode cJ7_init 9 = .ok (.aload_n 0, 1) := dk_42 (dk_at dksJ7_init_0 9 rfl rfl)
theorem dJ7_init_10 : decode cJ7_init 10 = .ok (.getstatic 13, 3) := dk_178 0 13 (dk_at dksJ7_init_0 10 rfl rfl)
theorem dJ7_init_13 : decode cJ7_init 13 = .ok (.putfield 17, 3) := dk_181 0 17 (dk_at dksJ7_init_0 13 rfl rfl)
theorem dJ7_init_16 : decode cJ7_init 16 = .ok (.aload_n 0, 1) := dk_42 (dk_at dksJ7_init_0 16 rfl rfl)
theorem dJ7_init_17 : decode cJ7_init 17 = .ok (.getstatic 20, 3) := dk_178 0 20 (dk_at dksJ7_init_0 17 rfl rfl)
theorem dJ7_init_20 : decode cJ7_init 20 = .ok (.putfield 24, 3) := dk_181 0 24 (dk_at dksJ7_init_0 20 rfl rfl)
theorem dJ7_init_23 : decode cJ7_init 23 = .ok (.aload_n 0, 1) := dk_42 (dk_at dksJ7_init_0 23 rfl rfl)
theorem dJ7_init_24 : decode cJ7_init 24 = .ok (.invokevirtual 27, 3) := dk_182 0 27 (dk_at dksJ7_init_1 0 rfl rfl)
theorem dJ7_init_27 : decode cJ7_init 27 = .ok (.pop, 1) := dk_87 (dk_at dksJ7_init_1 3 rfl rfl)
theorem dJ7_init_28 : decode cJ7_init 28 = .ok (.return_, 1) := dk_177 (dk_at dksJ7_init_1 4 rfl rfl)
theorem q141 : (Jvm.Cond.initialized "java/lang/Throwable") ∈ lw_all := lw_g (lw_at lw_m1 24 rfl) rfl
theorem q854 : (Jvm.Cond.declares ({ cls := "java/lang/Throwable", name := "<init>", desc := "()V" } : Jvm.MethodName)) ∈ lw_tbl := lw_at lw_m4 17 rfl
theorem q855 : (Jvm.Cond.declares ({ cls := "java/lang/Throwable", name := "<init>", desc := "(Ljava/lang/String;)V" } : Jvm.MethodName)) ∈ lw_tbl := lw_at lw_m4 18 rfl
theorem q859 : (Jvm.Cond.lays "java/lang/Throwable" "java/lang/Throwable" "cause" "Ljava/lang/Throwable;") ∈ lw_all := lw_g (lw_at lw_m4 22 rfl) rfl
theorem q861 : (Jvm.Cond.lays "java/lang/Throwable" "java/lang/Throwable" "stackTrace" "[Ljava/lang/StackTraceElement;") ∈ lw_all := lw_g (lw_at lw_m4 24 rfl) rfl
theorem q863 : (Jvm.Cond.lays "java/lang/Throwable" "java/lang/Throwable" "suppressedExceptions" "Ljava/util/List;") ∈ lw_all := lw_g (lw_at lw_m4 26 rfl) rfl
theorem q865 : (Jvm.Cond.lays "java/lang/Throwable" "java/lang/Throwable" "detailMessage" "Ljava/lang/String;") ∈ lw_all := lw_g (lw_at lw_m4 28 rfl) rfl
theorem q867 : (Jvm.Cond.lays "java/lang/Throwable" "java/lang/Throwable" "backtrace" "Ljava/lang/Object;") ∈ lw_all := lw_g (lw_at lw_m4 30 rfl) rfl
theorem q868 : (Jvm.Cond.fieldLink "java/lang/Throwable" (198 : Nat) "java/lang/Throwable" "backtrace" "Ljava/lang/Object;") ∈ lw_all := lw_g (lw_at lw_m4 31 rfl) rfl
theorem q869 : (Jvm.Cond.superclass "java/lang/Throwable" "java/lang/Object") ∈ lw_all := lw_g (lw_at lw_m4 32 rfl) rfl
theorem q870 : (Jvm.Cond.instanceMethod ({ cls := "java/lang/Throwable", name := "<init>", desc := "()V" } : Jvm.MethodName)) ∈ lw_all := lw_g (lw_at lw_m4 33 rfl) rfl
theorem q871 : (Jvm.Cond.code ({ cls := "java/lang/Throwable", name := "<init>", desc := "()V" } : Jvm.MethodName) prog_37_method_1_code (1 : Nat) (Option.none : Option Jvm.ClassFile.FieldType)) ∈ lw_all := lw_g (lw_at lw_m4 34 rfl) rfl
theorem q872 : (Jvm.Cond.methodLink "java/lang/Throwable" (1 : Nat) ({ cls := "java/lang/Object", name := "<init>", desc := "()V" } : Jvm.MethodName)) ∈ lw_all := lw_g (lw_at lw_m4 35 rfl) rfl
theorem q873 : (Jvm.Cond.fieldLink "java/lang/Throwable" (13 : Nat) "java/lang/Throwable" "UNASSIGNED_STACK" "[Ljava/lang/StackTraceElement;") ∈ lw_all := lw_g (lw_at lw_m4 36 rfl) rfl
theorem q874 : (Jvm.Cond.laysStatic "java/lang/Throwable" "UNASSIGNED_STACK" "[Ljava/lang/StackTraceElement;") ∈ lw_tbl := lw_at lw_m4 37 rfl
theorem q875 : (Jvm.Cond.fieldLink "java/lang/Throwable" (20 : Nat) "java/lang/Throwable" "SUPPRESSED_SENTINEL" "Ljava/util/List;") ∈ lw_all := lw_g (lw_at lw_m4 38 rfl) rfl
theorem q876 : (Jvm.Cond.laysStatic "java/lang/Throwable" "SUPPRESSED_SENTINEL" "Ljava/util/List;") ∈ lw_tbl := lw_at lw_m4 39 rfl
theorem q877 : (Jvm.Cond.methodLink "java/lang/Throwable" (27 : Nat) ({ cls := "java/lang/Throwable", name := "fillInStackTrace", desc := "()Ljava/lang/Throwable;" } : Jvm.MethodName)) ∈ lw_all := lw_g (lw_at lw_m4 40 rfl) rfl
theorem q878 : (Jvm.Cond.instanceMethod ({ cls := "java/lang/Throwable", name := "fillInStackTrace", desc := "()Ljava/lang/Throwable;" } : Jvm.MethodName)) ∈ lw_all := lw_g (lw_at lw_m4 41 rfl) rfl
theorem q879 : (Jvm.Cond.sameMethod "java/lang/Throwable" "java/lang/Throwable" "fillInStackTrace" "()Ljava/lang/Throwable;") ∈ lw_all := lw_g (lw_at lw_m4 42 rfl) rfl
theorem q880 : (Jvm.Cond.codeSync ({ cls := "java/lang/Throwable", name := "fillInStackTrace", desc := "()Ljava/lang/Throwable;" } : Jvm.MethodName) prog_37_method_18_code (1 : Nat) (Option.some (Jvm.ClassFile.FieldType.object "java/lang/Throwable"))) ∈ lw_all := lw_g (lw_at lw_m4 43 rfl) rfl
theorem q881 : (Jvm.Cond.methodLink "java/lang/Throwable" (202 : Nat) ({ cls := "java/lang/Throwable", name := "fillInStackTrace", desc := "(I)Ljava/lang/Throwable;" } : Jvm.MethodName)) ∈ lw_all := lw_g (lw_at lw_m4 44 rfl) rfl
theorem q882 : (Jvm.Cond.privateMethod ({ cls := "java/lang/Throwable", name := "fillInStackTrace", desc := "(I)Ljava/lang/Throwable;" } : Jvm.MethodName)) ∈ lw_tbl := lw_at lw_m4 45 rfl
theorem q883 : (Jvm.Cond.instanceMethod ({ cls := "java/lang/Throwable", name := "fillInStackTrace", desc := "(I)Ljava/lang/Throwable;" } : Jvm.MethodName)) ∈ lw_all := lw_g (lw_at lw_m4 46 rfl) rfl
theorem q884 : (Jvm.Cond.instantiable "java/lang/Throwable" (6 : Nat)) ∈ lw_all := lw_g (lw_at lw_m4 47 rfl) rfl
theorem q885 : (Jvm.Cond.native ({ cls := "java/lang/Throwable", name := "fillInStackTrace", desc := "(I)Ljava/lang/Throwable;" } : Jvm.MethodName)) ∈ lw_all := lw_g (lw_at lw_m4 48 rfl) rfl
theorem q895 : (Jvm.Cond.fieldLink "java/lang/Throwable" (198 : Nat) "java/lang/Throwable" "backtrace" "Ljava/lang/Object;") ∈ lw_all := lw_g (lw_at lw_m4 58 rfl) rfl
theorem q896 : (Jvm.Cond.fieldLink "java/lang/Throwable" (7 : Nat) "java/lang/Throwable" "cause" "Ljava/lang/Throwable;") ∈ lw_all := lw_g (lw_at lw_m4 59 rfl) rfl
theorem q897 : (Jvm.Cond.fieldLink "java/lang/Throwable" (17 : Nat) "java/lang/Throwable" "stackTrace" "[Ljava/lang/StackTraceElement;") ∈ lw_all := lw_g (lw_at lw_m4 60 rfl) rfl
theorem q898 : (Jvm.Cond.fieldLink "java/lang/Throwable" (24 : Nat) "java/lang/Throwable" "suppressedExceptions" "Ljava/util/List;") ∈ lw_all := lw_g (lw_at lw_m4 61 rfl) rfl
theorem q901 : (Jvm.Cond.soleField "java/lang/Throwable" "backtrace") ∈ lw_all := lw_g (lw_at lw_m4 64 rfl) rfl
theorem q902 : (Jvm.Cond.soleField "java/lang/Throwable" "detailMessage") ∈ lw_all := lw_g (lw_at lw_m4 65 rfl) rfl
theorem q903 : (Jvm.Cond.soleField "java/lang/Throwable" "cause") ∈ lw_all := lw_g (lw_at lw_m4 66 rfl) rfl
theorem q904 : (Jvm.Cond.soleField "java/lang/Throwable" "stackTrace") ∈ lw_all := lw_g (lw_at lw_m4 67 rfl) rfl
theorem q906 : (Jvm.Cond.soleField "java/lang/Throwable" "depth") ∈ lw_all := lw_g (lw_at lw_m4 69 rfl) rfl
theorem q907 : (Jvm.Cond.soleField "java/lang/Throwable" "suppressedExceptions") ∈ lw_all := lw_g (lw_at lw_m4 70 rfl) rfl
theorem q2207 : (Jvm.Cond.sameMethod "java/lang/Throwable" "java/lang/Throwable" "fillInStackTrace" "(I)Ljava/lang/Throwable;") ∈ lw_all := lw_g (lw_at lw_m9 170 rfl) rfl
theorem q2241 : (Jvm.Cond.castable "java/lang/Throwable" "java/lang/Object") ∈ lw_tbl := lw_at lw_m9 204 rfl
theorem in_J7 : ∀ w ∈ wsJ70, w ∈ lw_all := lw_in wsJ70 [859, 861, 863, 865, 867] (by decide +kernel) (by decide +kernel)
/-! java/lang/Exception -/
set_option maxRecDepth 100000
def RJ8 : String := "java/lang/Exception"
abbrev cJ8_init : ByteArray := prog_29_method_1_code
def yJ8_init : MethodName := ⟨RJ8, "<init>", "()V"⟩
theorem dJ8_init_0 : decode cJ8_init 0 = .ok (.aload_n 0, 1) := by decide +kernel
theorem dJ8_init_1 : decode cJ8_init 1 = .ok (.invokespecial 1, 3) := by decide +kernel
theorem dJ8_init_4 : decode cJ8_init 4 = .ok (.return_, 1) := by decide +kernel
theorem q142 : (Jvm.Cond.initialized "java/lang/Exception") ∈ lw_all := lw_g (lw_at lw_m1 25 rfl) rfl
theorem q852 : (Jvm.Cond.declares ({ cls := "java/lang/Exception", name := "<init>", desc := "()V" } : Jvm.MethodName)) ∈ lw_tbl := lw_at lw_m4 15 rfl
theorem q853 : (Jvm.Cond.declares ({ cls := "java/lang/Exception", name := "<init>", desc := "(Ljava/lang/String;)V" } : Jvm.MethodName)) ∈ lw_tbl := lw_at lw_m4 16 rfl
theorem q890 : (Jvm.Cond.instanceMethod ({ cls := "java/lang/Exception", name := "<init>", desc := "()V" } : Jvm.MethodName)) ∈ lw_all := lw_g (lw_at lw_m4 53 rfl) rfl
theorem q891 : (Jvm.Cond.code ({ cls := "java/lang/Exception", name := "<init>", desc := "()V" } : Jvm.MethodName) prog_29_method_1_code (1 : Nat) (Option.none : Option Jvm.ClassFile.FieldType)) ∈ lw_all := lw_g (lw_at lw_m4 54 rfl) rfl
theorem q892 : (Jvm.Cond.methodLink "java/lang/Exception" (1 : Nat) ({ cls := "java/lang/Throwable", name := "<init>", desc := "()V" } : Jvm.MethodName)) ∈ lw_all := lw_g (lw_at lw_m4 55 rfl) rfl
/-! java/lang/Math -/
set_option maxRecDepth 100000
def RJ9 : String := "java/lang/Math"
abbrev cJ9_min : ByteArray := prog_32_method_69_code
def yJ9_min : MethodName := ⟨RJ9, "min", "(II)I"⟩
def dkwJ9_min_0 : List UInt8 := [26, 27, 163, 0, 7, 26, 167, 0, 4, 27, 172]
abbrev dktJ9_min_0 : List UInt8 := dkwJ9_min_0 ++ []
theorem dksJ9_min_0 : cJ9_min.data.toList.drop 0 = dktJ9_min_0 := by decide +kernel
theorem dJ9_min_0 : decode cJ9_min 0 = .ok (.iload_n 0, 1) := dk_26 (dk_at dksJ9_min_0 0 rfl rfl)
theorem dJ9_min_1 : decode cJ9_min 1 = .ok (.iload_n 1, 1) := dk_27 (dk_at dksJ9_min_0 1 rfl rfl)
theorem dJ9_min_2 : decode cJ9_min 2 = .ok (.if_icmp .gt 7, 3) := dk_163 0 7 (dk_at dksJ9_min_0 2 rfl rfl)
theorem dJ9_min_5 : decode cJ9_min 5 = .ok (.iload_n 0, 1) := dk_26 (dk_at dksJ9_min_0 5 rfl rfl)
theorem dJ9_min_6 : decode cJ9_min 6 = .ok (.goto 4, 3) := dk_167 0 4 (dk_at dksJ9_min_0 6 rfl rfl)
theorem dJ9_min_9 : decode cJ9_min 9 = .ok (.iload_n 1, 1) := dk_27 (dk_at dksJ9_min_0 9 rfl rfl)
theorem dJ9_min_10 : decode cJ9_min 10 = .ok (.ireturn, 1) := dk_172 (dk_at dksJ9_min_0 10 rfl rfl)
abbrev cJ9_max : ByteArray := prog_32_method_65_code
def yJ9_max : MethodName := ⟨RJ9, "max", "(II)I"⟩
def dkwJ9_max_0 : List UInt8 := [26, 27, 161, 0, 7, 26, 167, 0, 4, 27, 172]
abbrev dktJ9_max_0 : List UInt8 := dkwJ9_max_0 ++ []
theorem dksJ9_max_0 : cJ9_max.data.toList.drop 0 = dktJ9_max_0 := by decide +kernel
theorem dJ9_max_0 : decode cJ9_max 0 = .ok (.iload_n 0, 1) := dk_26 (dk_at dksJ9_max_0 0 rfl rfl)
theorem dJ9_max_1 : decode cJ9_max 1 = .ok (.iload_n 1, 1) := dk_27 (dk_at dksJ9_max_0 1 rfl rfl)
theorem dJ9_max_2 : decode cJ9_max 2 = .ok (.if_icmp .lt 7, 3) := dk_161 0 7 (dk_at dksJ9_max_0 2 rfl rfl)
theorem dJ9_max_5 : decode cJ9_max 5 = .ok (.iload_n 0, 1) := dk_26 (dk_at dksJ9_max_0 5 rfl rfl)
theorem dJ9_max_6 : decode cJ9_max 6 = .ok (.goto 4, 3) := dk_167 0 4 (dk_at dksJ9_max_0 6 rfl rfl)
theorem dJ9_max_9 : decode cJ9_max 9 = .ok (.iload_n 1, 1) := dk_27 (dk_at dksJ9_max_0 9 rfl rfl)
theorem dJ9_max_10 : decode cJ9_max 10 = .ok (.ireturn, 1) := dk_172 (dk_at dksJ9_max_0 10 rfl rfl)
theorem q144 : (Jvm.Cond.initialized "java/lang/Math") ∈ lw_all := lw_g (lw_at lw_m1 27 rfl) rfl
theorem q944 : (Jvm.Cond.static ({ cls := "java/lang/Math", name := "min", desc := "(II)I" } : Jvm.MethodName)) ∈ lw_all := lw_g (lw_at lw_m4 107 rfl) rfl
theorem q945 : (Jvm.Cond.code ({ cls := "java/lang/Math", name := "min", desc := "(II)I" } : Jvm.MethodName) prog_32_method_69_code (2 : Nat) (Option.some Jvm.ClassFile.FieldType.int)) ∈ lw_all := lw_g (lw_at lw_m4 108 rfl) rfl
theorem q1085 : (Jvm.Cond.static ({ cls := "java/lang/Math", name := "max", desc := "(II)I" } : Jvm.MethodName)) ∈ lw_all := lw_g (lw_at lw_m5 8 rfl) rfl
theorem q1086 : (Jvm.Cond.code ({ cls := "java/lang/Math", name := "max", desc := "(II)I" } : Jvm.MethodName) prog_32_method_65_code (2 : Nat) (Option.some Jvm.ClassFile.FieldType.int)) ∈ lw_all := lw_g (lw_at lw_m5 9 rfl) rfl
/-! OneDrum$All -/
set_option maxRecDepth 100000
def RX1 : String := "OneDrum$All"
def TX1 : u_T := fun k => match k with
  | 0 => ("OneDrum$All", "tape", "[B", true)
  | 1 => ("OneDrum$All", "size", "I", false)
  | 2 => ("OneDrum$All", "lastFault", "I", false)
  | 3 => ("OneDrum$All", "lastPlace", "I", false)
  | 4 => ("OneDrum$All", "wars", "Ljava/util/ArrayList;", true)
  | 5 => ("OneDrum$All", "scores", "Ljava/util/ArrayList;", true)
  | 6 => ("OneDrum$All", "hearings", "Ljava/util/ArrayList;", true)
  | _ => ("OneDrum$All", "villages", "Ljava/util/ArrayList;", true)
def tyX1 : Nat → FieldType := fun k => match k with
  | 0 => .array .byte
  | 1 => .int
  | 2 => .int
  | 3 => .int
  | 4 => .object "java/util/ArrayList"
  | 5 => .object "java/util/ArrayList"
  | 6 => .object "java/util/ArrayList"
  | _ => .object "java/util/ArrayList"
abbrev wsX10 : List Cond := u_ws RX1 TX1 8
theorem nmX1 : ∀ a, a < 8 → ∀ b, b < 8 → a ≠ b → (TX1 a).2.1 ≠ (TX1 b).2.1 := by decide +kernel
theorem tyX1_ok : ∀ k, k < 8 → parseFieldDescriptor (TX1 k).2.2.1 = some (tyX1 k) := by decide +kernel
abbrev cX1_init : ByteArray := prog_2_method_1_code
def yX1_init : MethodName := ⟨RX1, "<init>", "()V"⟩
def dkwX1_init_2 : List UInt8 := [183, 0, 21, 181, 0, 29, 42, 187, 0, 19, 89, 183, 0, 21, 181, 0, 32, 177]
abbrev dktX1_init_2 : List UInt8 := dkwX1_init_2 ++ []
def dkwX1_init_1 : List UInt8 := [183, 0, 21, 181, 0, 22, 42, 187, 0, 19, 89, 183, 0, 21, 181, 0, 26, 42, 187, 0, 19, 89]
abbrev dktX1_init_1 : List UInt8 := dkwX1_init_1 ++ dktX1_init_2
def dkwX1_init_0 : List UInt8 := [42, 183, 0, 3, 42, 17, 2, 88, 188, 8, 181, 0, 9, 42, 2, 181, 0, 15, 42, 187, 0, 19, 89]
abbrev dktX1_init_0 : List UInt8 := dkwX1_init_0 ++ dktX1_init_1
theorem dksX1_init_0 : cX1_init.data.toList.drop 0 = dktX1_init_0 := by decide +kernel
theorem dksX1_init_1 : cX1_init.data.toList.drop 23 = dktX1_init_1 := dk_seg dksX1_init_0 23 rfl rfl
theorem dksX1_init_2 : cX1_init.data.toList.drop 45 = dktX1_init_2 := dk_seg dksX1_init_1 22 rfl rfl
theorem dX1_init_0 : decode cX1_init 0 = .ok (.aload_n 0, 1) := dk_42 (dk_at dksX1_init_0 0 rfl rfl)
theorem dX1_init_1 : decode cX1_init 1 = .ok (.invokespecial 3, 3) := dk_183 0 3 (dk_at dksX1_init_0 1 rfl rfl)
theorem dX1_init_4 : decode cX1_init 4 = .ok (.aload_n 0, 1) := dk_42 (dk_at dksX1_init_0 4 rfl rfl)
theorem dX1_init_5 : decode cX1_init 5 = .ok (.sipush 600, 3) := dk_17 2 88 (dk_at dksX1_init_0 5 rfl rfl)
theorem dX1_init_8 : decode cX1_init 8 = .ok (.newarray .byte, 2) := dk_188_8 (dk_at dksX1_init_0 8 rfl rfl)
theorem dX1_init_10 : decode cX1_init 10 = .ok (.putfield 9, 3) := dk_181 0 9 (dk_at dksX1_init_0 10 rfl rfl)
theorem dX1_init_13 : decode cX1_init 13 = .ok (.aload_n 0, 1) := dk_42 (dk_at dksX1_init_0 13 rfl rfl)
theorem dX1_init_14 : decode cX1_init 14 = .ok (.iconst (-1), 1) := dk_2 (dk_at dksX1_init_0 14 rfl rfl)
theorem dX1_init_15 : decode cX1_init 15 = .ok (.putfield 15, 3) := dk_181 0 15 (dk_at dksX1_init_0 15 rfl rfl)
theorem dX1_init_18 : decode cX1_init 18 = .ok (.aload_n 0, 1) := dk_42 (dk_at dksX1_init_0 18 rfl rfl)
theorem dX1_init_19 : decode cX1_init 19 = .ok (.new 19, 3) := dk_187 0 19 (dk_at dksX1_init_0 19 rfl rfl)
theorem dX1_init_22 : decode cX1_init 22 = .ok (.dup, 1) := dk_89 (dk_at dksX1_init_0 22 rfl rfl)
theorem dX1_init_23 : decode cX1_init 23 = .ok (.invokespecial 21, 3) := dk_183 0 21 (dk_at dksX1_init_1 0 rfl rfl)
theorem dX1_init_26 : decode cX1_init 26 = .ok (.putfield 22, 3) := dk_181 0 22 (dk_at dksX1_init_1 3 rfl rfl)
theorem dX1_init_29 : decode cX1_init 29 = .ok (.aload_n 0, 1) := dk_42 (dk_at dksX1_init_1 6 rfl rfl)
theorem dX1_init_30 : decode cX1_init 30 = .ok (.new 19, 3) := dk_187 0 19 (dk_at dksX1_init_1 7 rfl rfl)
theorem dX1_init_33 : decode cX1_init 33 = .ok (.dup, 1) := dk_89 (dk_at dksX1_init_1 10 rfl rfl)
theorem dX1_init_34 : decode cX1_init 34 = .ok (.invokespecial 21, 3) := dk_183 0 21 (dk_at dksX1_init_1 11 rfl rfl)
theorem dX1_init_37 : decode cX1_init 37 = .ok (.putfield 26, 3) := dk_181 0 26 (dk_at dksX1_init_1 14 rfl rfl)
theorem dX1_init_40 : decode cX1_init 40 = .ok (.aload_n 0, 1) := dk_42 (dk_at dksX1_init_1 17 rfl rfl)
theorem dX1_init_41 : decode cX1_init 41 = .ok (.new 19, 3) := dk_187 0 19 (dk_at dksX1_init_1 18 rfl rfl)
theorem dX1_init_44 : decode cX1_init 44 = .ok (.dup, 1) := dk_89 (dk_at dksX1_init_1 21 rfl rfl)
theorem dX1_init_45 : decode cX1_init 45 = .ok (.invokespecial 21, 3) := dk_183 0 21 (dk_at dksX1_init_2 0 rfl rfl)
theorem dX1_init_48 : decode cX1_init 48 = .ok (.putfield 29, 3) := dk_181 0 29 (dk_at dksX1_init_2 3 rfl rfl)
theorem dX1_init_51 : decode cX1_init 51 = .ok (.aload_n 0, 1) := dk_42 (dk_at dksX1_init_2 6 rfl rfl)
theorem dX1_init_52 : decode cX1_init 52 = .ok (.new 19, 3) := dk_187 0 19 (dk_at dksX1_init_2 7 rfl rfl)
theorem dX1_init_55 : decode cX1_init 55 = .ok (.dup, 1) := dk_89 (dk_at dksX1_init_2 10 rfl rfl)
theorem dX1_init_56 : decode cX1_init 56 = .ok (.invokespecial 21, 3) := dk_183 0 21 (dk_at dksX1_init_2 11 rfl rfl)
theorem dX1_init_59 : decode cX1_init 59 = .ok (.putfield 32, 3) := dk_181 0 32 (dk_at dksX1_init_2 14 rfl rfl)
theorem dX1_init_62 : decode cX1_init 62 = .ok (.return_, 1) := dk_177 (dk_at dksX1_init_2 17 rfl rfl)
abbrev cX1_init_2 : ByteArray := prog_2_method_2_code
def yX1_init_2 : MethodName := ⟨RX1, "<init>", "(LOneDrum$All;)V"⟩
def dkwX1_init_2_10 : List UInt8 := [43, 180, 0, 32, 28, 182, 0, 50, 192, 0, 64, 182, 0, 56, 87, 132, 2, 1, 167, 255, 223, 177]
abbrev dktX1_init_2_10 : List UInt8 := dkwX1_init_2_10 ++ []
def dkwX1_init_2_9 : List UInt8 := [87, 132, 2, 1, 167, 255, 223, 3, 61, 28, 43, 180, 0, 32, 182, 0, 47, 162, 0, 28, 42, 180, 0, 32]
abbrev dktX1_init_2_9 : List UInt8 := dkwX1_init_2_9 ++ dktX1_init_2_10
def dkwX1_init_2_8 : List UInt8 := [182, 0, 47, 162, 0, 28, 42, 180, 0, 29, 43, 180, 0, 29, 28, 182, 0, 50, 192, 0, 62, 182, 0, 56]
abbrev dktX1_init_2_8 : List UInt8 := dkwX1_init_2_8 ++ dktX1_init_2_9
def dkwX1_init_2_7 : List UInt8 := [28, 182, 0, 50, 192, 0, 60, 182, 0, 56, 87, 132, 2, 1, 167, 255, 223, 3, 61, 28, 43, 180, 0, 29]
abbrev dktX1_init_2_7 : List UInt8 := dkwX1_init_2_7 ++ dktX1_init_2_8
def dkwX1_init_2_6 : List UInt8 := [167, 255, 223, 3, 61, 28, 43, 180, 0, 26, 182, 0, 47, 162, 0, 28, 42, 180, 0, 26, 43, 180, 0, 26]
abbrev dktX1_init_2_6 : List UInt8 := dkwX1_init_2_6 ++ dktX1_init_2_7
def dkwX1_init_2_5 : List UInt8 := [42, 180, 0, 22, 43, 180, 0, 22, 28, 182, 0, 50, 192, 0, 54, 182, 0, 56, 87, 132, 2, 1]
abbrev dktX1_init_2_5 : List UInt8 := dkwX1_init_2_5 ++ dktX1_init_2_6
def dkwX1_init_2_4 : List UInt8 := [181, 0, 44, 42, 43, 180, 0, 15, 181, 0, 15, 3, 61, 28, 43, 180, 0, 22, 182, 0, 47, 162, 0, 28]
abbrev dktX1_init_2_4 : List UInt8 := dkwX1_init_2_4 ++ dktX1_init_2_5
def dkwX1_init_2_3 : List UInt8 := [180, 0, 9, 3, 43, 180, 0, 35, 184, 0, 38, 42, 43, 180, 0, 35, 181, 0, 35, 42, 43, 180, 0, 44]
abbrev dktX1_init_2_3 : List UInt8 := dkwX1_init_2_3 ++ dktX1_init_2_4
def dkwX1_init_2_2 : List UInt8 := [183, 0, 21, 181, 0, 29, 42, 187, 0, 19, 89, 183, 0, 21, 181, 0, 32, 43, 180, 0, 9, 3, 42]
abbrev dktX1_init_2_2 : List UInt8 := dkwX1_init_2_2 ++ dktX1_init_2_3
def dkwX1_init_2_1 : List UInt8 := [183, 0, 21, 181, 0, 22, 42, 187, 0, 19, 89, 183, 0, 21, 181, 0, 26, 42, 187, 0, 19, 89]
abbrev dktX1_init_2_1 : List UInt8 := dkwX1_init_2_1 ++ dktX1_init_2_2
def dkwX1_init_2_0 : List UInt8 := [42, 183, 0, 3, 42, 17, 2, 88, 188, 8, 181, 0, 9, 42, 2, 181, 0, 15, 42, 187, 0, 19, 89]
abbrev dktX1_init_2_0 : List UInt8 := dkwX1_init_2_0 ++ dktX1_init_2_1
theorem dksX1_init_2_0 : cX1_init_2.data.toList.drop 0 = dktX1_init_2_0 := by decide +kernel
theorem dksX1_init_2_1 : cX1_init_2.data.toList.drop 23 = dktX1_init_2_1 := dk_seg dksX1_init_2_0 23 rfl rfl
theorem dksX1_init_2_2 : cX1_init_2.data.toList.drop 45 = dktX1_init_2_2 := dk_seg dksX1_init_2_1 22 rfl rfl
theorem dksX1_init_2_3 : cX1_init_2.data.toList.drop 68 = dktX1_init_2_3 := dk_seg dksX1_init_2_2 23 rfl rfl
theorem dksX1_init_2_4 : cX1_init_2.data.toList.drop 92 = dktX1_init_2_4 := dk_seg dksX1_init_2_3 24 rfl rfl
theorem dksX1_init_2_5 : cX1_init_2.data.toList.drop 116 = dktX1_init_2_5 := dk_seg dksX1_init_2_4 24 rfl rfl
theorem dksX1_init_2_6 : cX1_init_2.data.toList.drop 138 = dktX1_init_2_6 := dk_seg dksX1_init_2_5 22 rfl rfl
theorem dksX1_init_2_7 : cX1_init_2.data.toList.drop 162 = dktX1_init_2_7 := dk_seg dksX1_init_2_6 24 rfl rfl
theorem dksX1_init_2_8 : cX1_init_2.data.toList.drop 186 = dktX1_init_2_8 := dk_seg dksX1_init_2_7 24 rfl rfl
theorem dksX1_init_2_9 : cX1_init_2.data.toList.drop 210 = dktX1_init_2_9 := dk_seg dksX1_init_2_8 24 rfl rfl
theorem dksX1_init_2_10 : cX1_init_2.data.toList.drop 234 = dktX1_init_2_10 := dk_seg dksX1_init_2_9 24 rfl rfl
theorem dX1_init_2_0 : decode cX1_init_2 0 = .ok (.aload_n 0, 1) := dk_42 (dk_at dksX1_init_2_0 0 rfl rfl)
theorem dX1_init_2_1 : decode cX1_init_2 1 = .ok (.invokespecial 3, 3) := dk_183 0 3 (dk_at dksX1_init_2_0 1 rfl rfl)
theorem dX1_init_2_4 : decode cX1_init_2 4 = .ok (.aload_n 0, 1) := dk_42 (dk_at dksX1_init_2_0 4 rfl rfl)
theorem dX1_init_2_5 : decode cX1_init_2 5 = .ok (.sipush 600, 3) := dk_17 2 88 (dk_at dksX1_init_2_0 5 rfl rfl)
theorem dX1_init_2_8 : decode cX1_init_2 8 = .ok (.newarray .byte, 2) := dk_188_8 (dk_at dksX1_init_2_0 8 rfl rfl)
theorem dX1_init_2_10 : decode cX1_init_2 10 = .ok (.putfield 9, 3) := dk_181 0 9 (dk_at dksX1_init_2_0 10 rfl rfl)
theorem dX1_init_2_13 : decode cX1_init_2 13 = .ok (.aload_n 0, 1) := dk_42 (dk_at dksX1_init_2_0 13 rfl rfl)
theorem dX1_init_2_14 : decode cX1_init_2 14 = .ok (.iconst (-1), 1) := dk_2 (dk_at dksX1_init_2_0 14 rfl rfl)
theorem dX1_init_2_15 : decode cX1_init_2 15 = .ok (.putfield 15, 3) := dk_181 0 15 (dk_at dksX1_init_2_0 15 rfl rfl)
theorem dX1_init_2_18 : decode cX1_init_2 18 = .ok (.aload_n 0, 1) := dk_42 (dk_at dksX1_init_2_0 18 rfl rfl)
theorem dX1_init_2_19 : decode cX1_init_2 19 = .ok (.new 19, 3) := dk_187 0 19 (dk_at dksX1_init_2_0 19 rfl rfl)
theorem dX1_init_2_22 : decode cX1_init_2 22 = .ok (.dup, 1) := dk_89 (dk_at dksX1_init_2_0 22 rfl rfl)
theorem dX1_init_2_23 : decode cX1_init_2 23 = .ok (.invokespecial 21, 3) := dk_183 0 21 (dk_at dksX1_init_2_1 0 rfl rfl)
theorem dX1_init_2_26 : decode cX1_init_2 26 = .ok (.putfield 22, 3) := dk_181 0 22 (dk_at dksX1_init_2_1 3 rfl rfl)
theorem dX1_init_2_29 : decode cX1_init_2 29 = .ok (.aload_n 0, 1) := dk_42 (dk_at dksX1_init_2_1 6 rfl rfl)
theorem dX1_init_2_30 : decode cX1_init_2 30 = .ok (.new 19, 3) := dk_187 0 19 (dk_at dksX1_init_2_1 7 rfl rfl)
theorem dX1_init_2_33 : decode cX1_init_2 33 = .ok (.dup, 1) := dk_89 (dk_at dksX1_init_2_1 10 rfl rfl)
theorem dX1_init_2_34 : decode cX1_init_2 34 = .ok (.invokespecial 21, 3) := dk_183 0 21 (dk_at dksX1_init_2_1 11 rfl rfl)
theorem dX1_init_2_37 : decode cX1_init_2 37 = .ok (.putfield 26, 3) := dk_181 0 26 (dk_at dksX1_init_2_1 14 rfl rfl)
theorem dX1_init_2_40 : decode cX1_init_2 40 = .ok (.aload_n 0, 1) := dk_42 (dk_at dksX1_init_2_1 17 rfl rfl)
theorem dX1_init_2_41 : decode cX1_init_2 41 = .ok (.new 19, 3) := dk_187 0 19 (dk_at dksX1_init_2_1 18 rfl rfl)
theorem dX1_init_2_44 : decode cX1_init_2 44 = .ok (.dup, 1) := dk_89 (dk_at dksX1_init_2_1 21 rfl rfl)
theorem dX1_init_2_45 : decode cX1_init_2 45 = .ok (.invokespecial 21, 3) := dk_183 0 21 (dk_at dksX1_init_2_2 0 rfl rfl)
theorem dX1_init_2_48 : decode cX1_init_2 48 = .ok (.putfield 29, 3) := dk_181 0 29 (dk_at dksX1_init_2_2 3 rfl rfl)
theorem dX1_init_2_51 : decode cX1_init_2 51 = .ok (.aload_n 0, 1) := dk_42 (dk_at dksX1_init_2_2 6 rfl rfl)
theorem dX1_init_2_52 : decode cX1_init_2 52 = .ok (.new 19, 3) := dk_187 0 19 (dk_at dksX1_init_2_2 7 rfl rfl)
theorem dX1_init_2_55 : decode cX1_init_2 55 = .ok (.dup, 1) := dk_89 (dk_at dksX1_init_2_2 10 rfl rfl)
theorem dX1_init_2_56 : decode cX1_init_2 56 = .ok (.invokespecial 21, 3) := dk_183 0 21 (dk_at dksX1_init_2_2 11 rfl rfl)
theorem dX1_init_2_59 : decode cX1_init_2 59 = .ok (.putfield 32, 3) := dk_181 0 32 (dk_at dksX1_init_2_2 14 rfl rfl)
theorem dX1_init_2_62 : decode cX1_init_2 62 = .ok (.aload_n 1, 1) := dk_43 (dk_at dksX1_init_2_2 17 rfl rfl)
theorem dX1_init_2_63 : decode cX1_init_2 63 = .ok (.getfield 9, 3) := dk_180 0 9 (dk_at dksX1_init_2_2 18 rfl rfl)
theorem dX1_init_2_66 : decode cX1_init_2 66 = .ok (.iconst 0, 1) := dk_3 (dk_at dksX1_init_2_2 21 rfl rfl)
theorem dX1_init_2_67 : decode cX1_init_2 67 = .ok (.aload_n 0, 1) := dk_42 (dk_at dksX1_init_2_2 22 rfl rfl)
theorem dX1_init_2_68 : decode cX1_init_2 68 = .ok (.getfield 9, 3) := dk_180 0 9 (dk_at dksX1_init_2_3 0 rfl rfl)
theorem dX1_init_2_71 : decode cX1_init_2 71 = .ok (.iconst 0, 1) := dk_3 (dk_at dksX1_init_2_3 3 rfl rfl)
theorem dX1_init_2_72 : decode cX1_init_2 72 = .ok (.aload_n 1, 1) := dk_43 (dk_at dksX1_init_2_3 4 rfl rfl)
theorem dX1_init_2_73 : decode cX1_init_2 73 = .ok (.getfield 35, 3) := dk_180 0 35 (dk_at dksX1_init_2_3 5 rfl rfl)
theorem dX1_init_2_76 : decode cX1_init_2 76 = .ok (.invokestatic 38, 3) := dk_184 0 38 (dk_at dksX1_init_2_3 8 rfl rfl)
theorem dX1_init_2_79 : decode cX1_init_2 79 = .ok (.aload_n 0, 1) := dk_42 (dk_at dksX1_init_2_3 11 rfl rfl)
theorem dX1_init_2_80 : decode cX1_init_2 80 = .ok (.aload_n 1, 1) := dk_43 (dk_at dksX1_init_2_3 12 rfl rfl)
theorem dX1_init_2_81 : decode cX1_init_2 81 = .ok (.getfield 35, 3) := dk_180 0 35 (dk_at dksX1_init_2_3 13 rfl rfl)
theorem dX1_init_2_84 : decode cX1_init_2 84 = .ok (.putfield 35, 3) := dk_181 0 35 (dk_at dksX1_init_2_3 16 rfl rfl)
theorem dX1_init_2_87 : decode cX1_init_2 87 = .ok (.aload_n 0, 1) := dk_42 (dk_at dksX1_init_2_3 19 rfl rfl)
theorem dX1_init_2_88 : decode cX1_init_2 88 = .ok (.aload_n 1, 1) := dk_43 (dk_at dksX1_init_2_3 20 rfl rfl)
theorem dX1_init_2_89 : decode cX1_init_2 89 = .ok (.getfield 44, 3) := dk_180 0 44 (dk_at dksX1_init_2_3 21 rfl rfl)
theorem dX1_init_2_92 : decode cX1_init_2 92 = .ok (.putfield 44, 3) := dk_181 0 44 (dk_at dksX1_init_2_4 0 rfl rfl)
theorem dX1_init_2_95 : decode cX1_init_2 95 = .ok (.aload_n 0, 1) := dk_42 (dk_at dksX1_init_2_4 3 rfl rfl)
theorem dX1_init_2_96 : decode cX1_init_2 96 = .ok (.aload_n 1, 1) := dk_43 (dk_at dksX1_init_2_4 4 rfl rfl)
theorem dX1_init_2_97 : decode cX1_init_2 97 = .ok (.getfield 15, 3) := dk_180 0 15 (dk_at dksX1_init_2_4 5 rfl rfl)
theorem dX1_init_2_100 : decode cX1_init_2 100 = .ok (.putfield 15, 3) := dk_181 0 15 (dk_at dksX1_init_2_4 8 rfl rfl)
theorem dX1_init_2_103 : decode cX1_init_2 103 = .ok (.iconst 0, 1) := dk_3 (dk_at dksX1_init_2_4 11 rfl rfl)
theorem dX1_init_2_104 : decode cX1_init_2 104 = .ok (.istore_n 2, 1) := dk_61 (dk_at dksX1_init_2_4 12 rfl rfl)
theorem dX1_init_2_105 : decode cX1_init_2 105 = .ok (.iload_n 2, 1) := dk_28 (dk_at dksX1_init_2_4 13 rfl rfl)
theorem dX1_init_2_106 : decode cX1_init_2 106 = .ok (.aload_n 1, 1) := dk_43 (dk_at dksX1_init_2_4 14 rfl rfl)
theorem dX1_init_2_107 : decode cX1_init_2 107 = .ok (.getfield 22, 3) := dk_180 0 22 (dk_at dksX1_init_2_4 15 rfl rfl)
theorem dX1_init_2_110 : decode cX1_init_2 110 = .ok (.invokevirtual 47, 3) := dk_182 0 47 (dk_at dksX1_init_2_4 18 rfl rfl)
theorem dX1_init_2_113 : decode cX1_init_2 113 = .ok (.if_icmp .ge 28, 3) := dk_162 0 28 (dk_at dksX1_init_2_4 21 rfl rfl)
theorem dX1_init_2_116 : decode cX1_init_2 116 = .ok (.aload_n 0, 1) := dk_42 (dk_at dksX1_init_2_5 0 rfl rfl)
theorem dX1_init_2_117 : decode cX1_init_2 117 = .ok (.getfield 22, 3) := dk_180 0 22 (dk_at dksX1_init_2_5 1 rfl rfl)
theorem dX1_init_2_120 : decode cX1_init_2 120 = .ok (.aload_n 1, 1) := dk_43 (dk_at dksX1_init_2_5 4 rfl rfl)
theorem dX1_init_2_121 : decode cX1_init_2 121 = .ok (.getfield 22, 3) := dk_180 0 22 (dk_at dksX1_init_2_5 5 rfl rfl)
theorem dX1_init_2_124 : decode cX1_init_2 124 = .ok (.iload_n 2, 1) := dk_28 (dk_at dksX1_init_2_5 8 rfl rfl)
theorem dX1_init_2_125 : decode cX1_init_2 125 = .ok (.invokevirtual 50, 3) := dk_182 0 50 (dk_at dksX1_init_2_5 9 rfl rfl)
theorem dX1_init_2_128 : decode cX1_init_2 128 = .ok (.checkcast 54, 3) := dk_192 0 54 (dk_at dksX1_init_2_5 12 rfl rfl)
theorem dX1_init_2_131 : decode cX1_init_2 131 = .ok (.invokevirtual 56, 3) := dk_182 0 56 (dk_at dksX1_init_2_5 15 rfl rfl)
theorem dX1_init_2_134 : decode cX1_init_2 134 = .ok (.pop, 1) := dk_87 (dk_at dksX1_init_2_5 18 rfl rfl)
theorem dX1_init_2_135 : decode cX1_init_2 135 = .ok (.iinc 2 1, 3) := dk_132 2 1 (dk_at dksX1_init_2_5 19 rfl rfl)
theorem dX1_init_2_138 : decode cX1_init_2 138 = .ok (.goto (-33), 3) := dk_167 255 223 (dk_at dksX1_init_2_6 0 rfl rfl)
theorem dX1_init_2_141 : decode cX1_init_2 141 = .ok (.iconst 0, 1) := dk_3 (dk_at dksX1_init_2_6 3 rfl rfl)
theorem dX1_init_2_142 : decode cX1_init_2 142 = .ok (.istore_n 2, 1) := dk_61 (dk_at dksX1_init_2_6 4 rfl rfl)
theorem dX1_init_2_143 : decode cX1_init_2 143 = .ok (.iload_n 2, 1) := dk_28 (dk_at dksX1_init_2_6 5 rfl rfl)
theorem dX1_init_2_144 : decode cX1_init_2 144 = .ok (.aload_n 1, 1) := dk_43 (dk_at dksX1_init_2_6 6 rfl rfl)
theorem dX1_init_2_145 : decode cX1_init_2 145 = .ok (.getfield 26, 3) := dk_180 0 26 (dk_at dksX1_init_2_6 7 rfl rfl)
theorem dX1_init_2_148 : decode cX1_init_2 148 = .ok (.invokevirtual 47, 3) := dk_182 0 47 (dk_at dksX1_init_2_6 10 rfl rfl)
theorem dX1_init_2_151 : decode cX1_init_2 151 = .ok (.if_icmp .ge 28, 3) := dk_162 0 28 (dk_at dksX1_init_2_6 13 rfl rfl)
theorem dX1_init_2_154 : decode cX1_init_2 154 = .ok (.aload_n 0, 1) := dk_42 (dk_at dksX1_init_2_6 16 rfl rfl)
theorem dX1_init_2_155 : decode cX1_init_2 155 = .ok (.getfield 26, 3) := dk_180 0 26 (dk_at dksX1_init_2_6 17 rfl rfl)
theorem dX1_init_2_158 : decode cX1_init_2 158 = .ok (.aload_n 1, 1) := dk_43 (dk_at dksX1_init_2_6 20 rfl rfl)
theorem dX1_init_2_159 : decode cX1_init_2 159 = .ok (.getfield 26, 3) := dk_180 0 26 (dk_at dksX1_init_2_6 21 rfl rfl)
theorem dX1_init_2_162 : decode cX1_init_2 162 = .ok (.iload_n 2, 1) := dk_28 (dk_at dksX1_init_2_7 0 rfl rfl)
theorem dX1_init_2_163 : decode cX1_init_2 163 = .ok (.invokevirtual 50, 3) := dk_182 0 50 (dk_at dksX1_init_2_7 1 rfl rfl)
theorem dX1_init_2_166 : decode cX1_init_2 166 = .ok (.checkcast 60, 3) := dk_192 0 60 (dk_at dksX1_init_2_7 4 rfl rfl)
theorem dX1_init_2_169 : decode cX1_init_2 169 = .ok (.invokevirtual 56, 3) := dk_182 0 56 (dk_at dksX1_init_2_7 7 rfl rfl)
theorem dX1_init_2_172 : decode cX1_init_2 172 = .ok (.pop, 1) := dk_87 (dk_at dksX1_init_2_7 10 rfl rfl)
theorem dX1_init_2_173 : decode cX1_init_2 173 = .ok (.iinc 2 1, 3) := dk_132 2 1 (dk_at dksX1_init_2_7 11 rfl rfl)
theorem dX1_init_2_176 : decode cX1_init_2 176 = .ok (.goto (-33), 3) := dk_167 255 223 (dk_at dksX1_init_2_7 14 rfl rfl)
theorem dX1_init_2_179 : decode cX1_init_2 179 = .ok (.iconst 0, 1) := dk_3 (dk_at dksX1_init_2_7 17 rfl rfl)
theorem dX1_init_2_180 : decode cX1_init_2 180 = .ok (.istore_n 2, 1) := dk_61 (dk_at dksX1_init_2_7 18 rfl rfl)
theorem dX1_init_2_181 : decode cX1_init_2 181 = .ok (.iload_n 2, 1) := dk_28 (dk_at dksX1_init_2_7 19 rfl rfl)
theorem dX1_init_2_182 : decode cX1_init_2 182 = .ok (.aload_n 1, 1) := dk_43 (dk_at dksX1_init_2_7 20 rfl rfl)
theorem dX1_init_2_183 : decode cX1_init_2 183 = .ok (.getfield 29, 3) := dk_180 0 29 (dk_at dksX1_init_2_7 21 rfl rfl)
theorem dX1_init_2_186 : decode cX1_init_2 186 = .ok (.invokevirtual 47, 3) := dk_182 0 47 (dk_at dksX1_init_2_8 0 rfl rfl)
theorem dX1_init_2_189 : decode cX1_init_2 189 = .ok (.if_icmp .ge 28, 3) := dk_162 0 28 (dk_at dksX1_init_2_8 3 rfl rfl)
theorem dX1_init_2_192 : decode cX1_init_2 192 = .ok (.aload_n 0, 1) := dk_42 (dk_at dksX1_init_2_8 6 rfl rfl)
theorem dX1_init_2_193 : decode cX1_init_2 193 = .ok (.getfield 29, 3) := dk_180 0 29 (dk_at dksX1_init_2_8 7 rfl rfl)
theorem dX1_init_2_196 : decode cX1_init_2 196 = .ok (.aload_n 1, 1) := dk_43 (dk_at dksX1_init_2_8 10 rfl rfl)
theorem dX1_init_2_197 : decode cX1_init_2 197 = .ok (.getfield 29, 3) := dk_180 0 29 (dk_at dksX1_init_2_8 11 rfl rfl)
theorem dX1_init_2_200 : decode cX1_init_2 200 = .ok (.iload_n 2, 1) := dk_28 (dk_at dksX1_init_2_8 14 rfl rfl)
theorem dX1_init_2_201 : decode cX1_init_2 201 = .ok (.invokevirtual 50, 3) := dk_182 0 50 (dk_at dksX1_init_2_8 15 rfl rfl)
theorem dX1_init_2_204 : decode cX1_init_2 204 = .ok (.checkcast 62, 3) := dk_192 0 62 (dk_at dksX1_init_2_8 18 rfl rfl)
theorem dX1_init_2_207 : decode cX1_init_2 207 = .ok (.invokevirtual 56, 3) := dk_182 0 56 (dk_at dksX1_init_2_8 21 rfl rfl)
theorem dX1_init_2_210 : decode cX1_init_2 210 = .ok (.pop, 1) := dk_87 (dk_at dksX1_init_2_9 0 rfl rfl)
theorem dX1_init_2_211 : decode cX1_init_2 211 = .ok (.iinc 2 1, 3) := dk_132 2 1 (dk_at dksX1_init_2_9 1 rfl rfl)
theorem dX1_init_2_214 : decode cX1_init_2 214 = .ok (.goto (-33), 3) := dk_167 255 223 (dk_at dksX1_init_2_9 4 rfl rfl)
theorem dX1_init_2_217 : decode cX1_init_2 217 = .ok (.iconst 0, 1) := dk_3 (dk_at dksX1_init_2_9 7 rfl rfl)
theorem dX1_init_2_218 : decode cX1_init_2 218 = .ok (.istore_n 2, 1) := dk_61 (dk_at dksX1_init_2_9 8 rfl rfl)
theorem dX1_init_2_219 : decode cX1_init_2 219 = .ok (.iload_n 2, 1) := dk_28 (dk_at dksX1_init_2_9 9 rfl rfl)
theorem dX1_init_2_220 : decode cX1_init_2 220 = .ok (.aload_n 1, 1) := dk_43 (dk_at dksX1_init_2_9 10 rfl rfl)
theorem dX1_init_2_221 : decode cX1_init_2 221 = .ok (.getfield 32, 3) := dk_180 0 32 (dk_at dksX1_init_2_9 11 rfl rfl)
theorem dX1_init_2_224 : decode cX1_init_2 224 = .ok (.invokevirtual 47, 3) := dk_182 0 47 (dk_at dksX1_init_2_9 14 rfl rfl)
theorem dX1_init_2_227 : decode cX1_init_2 227 = .ok (.if_icmp .ge 28, 3) := dk_162 0 28 (dk_at dksX1_init_2_9 17 rfl rfl)
theorem dX1_init_2_230 : decode cX1_init_2 230 = .ok (.aload_n 0, 1) := dk_42 (dk_at dksX1_init_2_9 20 rfl rfl)
theorem dX1_init_2_231 : decode cX1_init_2 231 = .ok (.getfield 32, 3) := dk_180 0 32 (dk_at dksX1_init_2_9 21 rfl rfl)
theorem dX1_init_2_234 : decode cX1_init_2 234 = .ok (.aload_n 1, 1) := dk_43 (dk_at dksX1_init_2_10 0 rfl rfl)
theorem dX1_init_2_235 : decode cX1_init_2 235 = .ok (.getfield 32, 3) := dk_180 0 32 (dk_at dksX1_init_2_10 1 rfl rfl)
theorem dX1_init_2_238 : decode cX1_init_2 238 = .ok (.iload_n 2, 1) := dk_28 (dk_at dksX1_init_2_10 4 rfl rfl)
theorem dX1_init_2_239 : decode cX1_init_2 239 = .ok (.invokevirtual 50, 3) := dk_182 0 50 (dk_at dksX1_init_2_10 5 rfl rfl)
theorem dX1_init_2_242 : decode cX1_init_2 242 = .ok (.checkcast 64, 3) := dk_192 0 64 (dk_at dksX1_init_2_10 8 rfl rfl)
theorem dX1_init_2_245 : decode cX1_init_2 245 = .ok (.invokevirtual 56, 3) := dk_182 0 56 (dk_at dksX1_init_2_10 11 rfl rfl)
theorem dX1_init_2_248 : decode cX1_init_2 248 = .ok (.pop, 1) := dk_87 (dk_at dksX1_init_2_10 14 rfl rfl)
theorem dX1_init_2_249 : decode cX1_init_2 249 = .ok (.iinc 2 1, 3) := dk_132 2 1 (dk_at dksX1_init_2_10 15 rfl rfl)
theorem dX1_init_2_252 : decode cX1_init_2 252 = .ok (.goto (-33), 3) := dk_167 255 223 (dk_at dksX1_init_2_10 18 rfl rfl)
theorem dX1_init_2_255 : decode cX1_init_2 255 = .ok (.return_, 1) := dk_177 (dk_at dksX1_init_2_10 21 rfl rfl)
theorem q119 : (Jvm.Cond.initialized "OneDrum$All") ∈ lw_all := lw_g (lw_at lw_m1 2 rfl) rfl
theorem q191 : (Jvm.Cond.instantiable "OneDrum$All" (8 : Nat)) ∈ lw_all := lw_g (lw_at lw_m1 74 rfl) rfl
theorem q193 : (Jvm.Cond.instanceMethod ({ cls := "OneDrum$All", name := "<init>", desc := "()V" } : Jvm.MethodName)) ∈ lw_all := lw_g (lw_at lw_m1 76 rfl) rfl
theorem q194 : (Jvm.Cond.code ({ cls := "OneDrum$All", name := "<init>", desc := "()V" } : Jvm.MethodName) prog_2_method_1_code (1 : Nat) (Option.none : Option Jvm.ClassFile.FieldType)) ∈ lw_all := lw_g (lw_at lw_m1 77 rfl) rfl
theorem q195 : (Jvm.Cond.methodLink "OneDrum$All" (3 : Nat) ({ cls := "java/lang/Object", name := "<init>", desc := "()V" } : Jvm.MethodName)) ∈ lw_all := lw_g (lw_at lw_m1 78 rfl) rfl
theorem q196 : (Jvm.Cond.classLink "OneDrum$All" (19 : Nat) "java/util/ArrayList") ∈ lw_all := lw_g (lw_at lw_m1 79 rfl) rfl
theorem q198 : (Jvm.Cond.methodLink "OneDrum$All" (21 : Nat) ({ cls := "java/util/ArrayList", name := "<init>", desc := "()V" } : Jvm.MethodName)) ∈ lw_all := lw_g (lw_at lw_m1 81 rfl) rfl
theorem q223 : (Jvm.Cond.fieldLink "OneDrum$All" (9 : Nat) "OneDrum$All" "tape" "[B") ∈ lw_all := lw_g (lw_at lw_m1 106 rfl) rfl
theorem q226 : (Jvm.Cond.fieldLink "OneDrum$All" (35 : Nat) "OneDrum$All" "size" "I") ∈ lw_all := lw_g (lw_at lw_m1 109 rfl) rfl
theorem q228 : (Jvm.Cond.fieldLink "OneDrum$All" (44 : Nat) "OneDrum$All" "lastFault" "I") ∈ lw_all := lw_g (lw_at lw_m1 111 rfl) rfl
theorem q230 : (Jvm.Cond.fieldLink "OneDrum$All" (15 : Nat) "OneDrum$All" "lastPlace" "I") ∈ lw_all := lw_g (lw_at lw_m1 113 rfl) rfl
theorem q232 : (Jvm.Cond.fieldLink "OneDrum$All" (22 : Nat) "OneDrum$All" "wars" "Ljava/util/ArrayList;") ∈ lw_all := lw_g (lw_at lw_m1 115 rfl) rfl
theorem q235 : (Jvm.Cond.fieldLink "OneDrum$All" (26 : Nat) "OneDrum$All" "scores" "Ljava/util/ArrayList;") ∈ lw_all := lw_g (lw_at lw_m1 118 rfl) rfl
theorem q238 : (Jvm.Cond.fieldLink "OneDrum$All" (29 : Nat) "OneDrum$All" "hearings" "Ljava/util/ArrayList;") ∈ lw_all := lw_g (lw_at lw_m1 121 rfl) rfl
theorem q241 : (Jvm.Cond.fieldLink "OneDrum$All" (32 : Nat) "OneDrum$All" "villages" "Ljava/util/ArrayList;") ∈ lw_all := lw_g (lw_at lw_m1 124 rfl) rfl
theorem q244 : (Jvm.Cond.laysFinal "OneDrum$All" "OneDrum$All" "tape" "[B") ∈ lw_all := lw_g (lw_at lw_m1 127 rfl) rfl
theorem q245 : (Jvm.Cond.soleField "OneDrum$All" "tape") ∈ lw_all := lw_g (lw_at lw_m1 128 rfl) rfl
theorem q246 : (Jvm.Cond.lays "OneDrum$All" "OneDrum$All" "size" "I") ∈ lw_all := lw_g (lw_at lw_m1 129 rfl) rfl
theorem q247 : (Jvm.Cond.soleField "OneDrum$All" "size") ∈ lw_all := lw_g (lw_at lw_m1 130 rfl) rfl
theorem q248 : (Jvm.Cond.lays "OneDrum$All" "OneDrum$All" "lastFault" "I") ∈ lw_all := lw_g (lw_at lw_m1 131 rfl) rfl
theorem q249 : (Jvm.Cond.soleField "OneDrum$All" "lastFault") ∈ lw_all := lw_g (lw_at lw_m1 132 rfl) rfl
theorem q250 : (Jvm.Cond.lays "OneDrum$All" "OneDrum$All" "lastPlace" "I") ∈ lw_all := lw_g (lw_at lw_m1 133 rfl) rfl
theorem q251 : (Jvm.Cond.soleField "OneDrum$All" "lastPlace") ∈ lw_all := lw_g (lw_at lw_m1 134 rfl) rfl
theorem q252 : (Jvm.Cond.laysFinal "OneDrum$All" "OneDrum$All" "wars" "Ljava/util/ArrayList;") ∈ lw_all := lw_g (lw_at lw_m1 135 rfl) rfl
theorem q253 : (Jvm.Cond.soleField "OneDrum$All" "wars") ∈ lw_all := lw_g (lw_at lw_m1 136 rfl) rfl
theorem q254 : (Jvm.Cond.laysFinal "OneDrum$All" "OneDrum$All" "scores" "Ljava/util/ArrayList;") ∈ lw_all := lw_g (lw_at lw_m1 137 rfl) rfl
theorem q255 : (Jvm.Cond.soleField "OneDrum$All" "scores") ∈ lw_all := lw_g (lw_at lw_m1 138 rfl) rfl
theorem q256 : (Jvm.Cond.laysFinal "OneDrum$All" "OneDrum$All" "hearings" "Ljava/util/ArrayList;") ∈ lw_all := lw_g (lw_at lw_m1 139 rfl) rfl
theorem q257 : (Jvm.Cond.soleField "OneDrum$All" "hearings") ∈ lw_all := lw_g (lw_at lw_m1 140 rfl) rfl
theorem q258 : (Jvm.Cond.laysFinal "OneDrum$All" "OneDrum$All" "villages" "Ljava/util/ArrayList;") ∈ lw_all := lw_g (lw_at lw_m1 141 rfl) rfl
theorem q259 : (Jvm.Cond.soleField "OneDrum$All" "villages") ∈ lw_all := lw_g (lw_at lw_m1 142 rfl) rfl
theorem q260 : (Jvm.Cond.superclass "OneDrum$All" "java/lang/Object") ∈ lw_all := lw_g (lw_at lw_m1 143 rfl) rfl
theorem q1098 : (Jvm.Cond.selects "OneDrum$All" ({ cls := "java/lang/Object", name := "getClass", desc := "()Ljava/lang/Class;" } : Jvm.MethodName) ({ cls := "java/lang/Object", name := "getClass", desc := "()Ljava/lang/Class;" } : Jvm.MethodName)) ∈ lw_all := lw_g (lw_at lw_m5 21 rfl) rfl
theorem q1631 : (Jvm.Cond.instanceMethod ({ cls := "OneDrum$All", name := "<init>", desc := "(LOneDrum$All;)V" } : Jvm.MethodName)) ∈ lw_all := lw_g (lw_at lw_m7 74 rfl) rfl
theorem q1632 : (Jvm.Cond.code ({ cls := "OneDrum$All", name := "<init>", desc := "(LOneDrum$All;)V" } : Jvm.MethodName) prog_2_method_2_code (3 : Nat) (Option.none : Option Jvm.ClassFile.FieldType)) ∈ lw_all := lw_g (lw_at lw_m7 75 rfl) rfl
theorem q1633 : (Jvm.Cond.methodLink "OneDrum$All" (38 : Nat) ({ cls := "java/lang/System", name := "arraycopy", desc := "(Ljava/lang/Object;ILjava/lang/Object;II)V" } : Jvm.MethodName)) ∈ lw_all := lw_g (lw_at lw_m7 76 rfl) rfl
theorem q1634 : (Jvm.Cond.methodLink "OneDrum$All" (47 : Nat) ({ cls := "java/util/ArrayList", name := "size", desc := "()I" } : Jvm.MethodName)) ∈ lw_all := lw_g (lw_at lw_m7 77 rfl) rfl
theorem q1635 : (Jvm.Cond.methodLink "OneDrum$All" (50 : Nat) ({ cls := "java/util/ArrayList", name := "get", desc := "(I)Ljava/lang/Object;" } : Jvm.MethodName)) ∈ lw_all := lw_g (lw_at lw_m7 78 rfl) rfl
theorem q1636 : (Jvm.Cond.classLink "OneDrum$All" (54 : Nat) "OneDrum$War") ∈ lw_all := lw_g (lw_at lw_m7 79 rfl) rfl
theorem q1637 : (Jvm.Cond.methodLink "OneDrum$All" (56 : Nat) ({ cls := "java/util/ArrayList", name := "add", desc := "(Ljava/lang/Object;)Z" } : Jvm.MethodName)) ∈ lw_all := lw_g (lw_at lw_m7 80 rfl) rfl
theorem q1638 : (Jvm.Cond.classLink "OneDrum$All" (60 : Nat) "OneDrum$Score") ∈ lw_all := lw_g (lw_at lw_m7 81 rfl) rfl
theorem q1639 : (Jvm.Cond.classLink "OneDrum$All" (62 : Nat) "OneDrum$Hearing") ∈ lw_all := lw_g (lw_at lw_m7 82 rfl) rfl
theorem q1640 : (Jvm.Cond.classLink "OneDrum$All" (64 : Nat) "OneDrum$Villages") ∈ lw_all := lw_g (lw_at lw_m7 83 rfl) rfl
theorem q2219 : (Jvm.Cond.castable "OneDrum$All" "java/lang/Object") ∈ lw_tbl := lw_at lw_m9 182 rfl
theorem in_X1 : ∀ w ∈ wsX10, w ∈ lw_all := lw_in wsX10 [244, 246, 248, 250, 252, 254, 256, 258] (by decide +kernel) (by decide +kernel)
/-! OneDrum$ScoreReader -/
set_option maxRecDepth 100000
def RX10 : String := "OneDrum$ScoreReader"
def TX10 : u_T := fun k => match k with
  | 0 => ("OneDrum$Reader", "length", "I", true)
  | 1 => ("OneDrum$Reader", "at", "I", false)
  | 2 => ("OneDrum$Reader", "sort", "I", false)
  | 3 => ("OneDrum$Reader", "value", "I", false)
  | 4 => ("OneDrum$Reader", "letters", "I", false)
  | 5 => ("OneDrum$Reader", "word", "J", false)
  | 6 => ("OneDrum$Reader", "place", "I", false)
  | 7 => ("OneDrum$Reader", "fault", "I", false)
  | 8 => ("OneDrum$Reader", "faultPlace", "I", false)
  | 9 => ("OneDrum$Reader", "good", "Z", false)
  | 10 => ("OneDrum$Reader", "this$0", "LOneDrum;", true)
  | 11 => ("OneDrum$ScoreReader", "told", "LOneDrum$Score;", true)
  | _ => ("OneDrum$ScoreReader", "this$0", "LOneDrum;", true)
def tyX10 : Nat → FieldType := fun k => match k with
  | 0 => .int
  | 1 => .int
  | 2 => .int
  | 3 => .int
  | 4 => .int
  | 5 => .long
  | 6 => .int
  | 7 => .int
  | 8 => .int
  | 9 => .boolean
  | 10 => .object "OneDrum"
  | 11 => .object "OneDrum$Score"
  | _ => .object "OneDrum"
abbrev wsX100 : List Cond := u_ws RX10 TX10 13
-- two fields of one name: no nmX10
set_option maxRecDepth 100000 in
theorem tyX10_ok : ∀ k, k < 13 → parseFieldDescriptor (TX10 k).2.2.1 = some (tyX10 k) := by decide +kernel
abbrev cX10_init : ByteArray := prog_14_method_1_code
def yX10_init : MethodName := ⟨RX10, "<init>", "(LOneDrum;I)V"⟩
def dkwX10_init_0 : List UInt8 := [42, 43, 181, 0, 3, 42, 43, 28, 183, 0, 9, 42, 187, 0, 15, 89, 183, 0, 17, 181, 0, 20, 177]
abbrev dktX10_init_0 : List UInt8 := dkwX10_init_0 ++ []
theorem dksX10_init_0 : cX10_init.data.toList.drop 0 = dktX10_init_0 := by decide +kernel
theorem dX10_init_0 : decode cX10_init 0 = .ok (.aload_n 0, 1) := dk_42 (dk_at dksX10_init_0 0 rfl rfl)
theorem dX10_init_1 : decode cX10_init 1 = .ok (.aload_n 1, 1) := dk_43 (dk_at dksX10_init_0 1 rfl rfl)
theorem dX10_init_2 : decode cX10_init 2 = .ok (.putfield 3, 3) := dk_181 0 3 (dk_at dksX10_init_0 2 rfl rfl)
theorem dX10_init_5 : decode cX10_init 5 = .ok (.aload_n 0, 1) := dk_42 (dk_at dksX10_init_0 5 rfl rfl)
theorem dX10_init_6 : decode cX10_init 6 = .ok (.aload_n 1, 1) := dk_43 (dk_at dksX10_init_0 6 rfl rfl)
theorem dX10_init_7 : decode cX10_init 7 = .ok (.iload_n 2, 1) := dk_28 (dk_at dksX10_init_0 7 rfl rfl)
theorem dX10_init_8 : decode cX10_init 8 = .ok (.invokespecial 9, 3) := dk_183 0 9 (dk_at dksX10_init_0 8 rfl rfl)
theorem dX10_init_11 : decode cX10_init 11 = .ok (.aload_n 0, 1) := dk_42 (dk_at dksX10_init_0 11 rfl rfl)
theorem dX10_init_12 : decode cX10_init 12 = .ok (.new 15, 3) := dk_187 0 15 (dk_at dksX10_init_0 12 rfl rfl)
theorem dX10_init_15 : decode cX10_init 15 = .ok (.dup, 1) := dk_89 (dk_at dksX10_init_0 15 rfl rfl)
theorem dX10_init_16 : decode cX10_init 16 = .ok (.invokespecial 17, 3) := dk_183 0 17 (dk_at dksX10_init_0 16 rfl rfl)
theorem dX10_init_19 : decode cX10_init 19 = .ok (.putfield 20, 3) := dk_181 0 20 (dk_at dksX10_init_0 19 rfl rfl)
theorem dX10_init_22 : decode cX10_init 22 = .ok (.return_, 1) := dk_177 (dk_at dksX10_init_0 22 rfl rfl)
abbrev cX10_words : ByteArray := prog_14_method_2_code
def yX10_words : MethodName := ⟨RX10, "words", "()[Ljava/lang/String;"⟩
def dkwX10_words_0 : List UInt8 := [42, 180, 0, 3, 180, 0, 24, 176]
abbrev dktX10_words_0 : List UInt8 := dkwX10_words_0 ++ []
theorem dksX10_words_0 : cX10_words.data.toList.drop 0 = dktX10_words_0 := by decide +kernel
theorem dX10_words_0 : decode cX10_words 0 = .ok (.aload_n 0, 1) := dk_42 (dk_at dksX10_words_0 0 rfl rfl)
theorem dX10_words_1 : decode cX10_words 1 = .ok (.getfield 3, 3) := dk_180 0 3 (dk_at dksX10_words_0 1 rfl rfl)
theorem dX10_words_4 : decode cX10_words 4 = .ok (.getfield 24, 3) := dk_180 0 24 (dk_at dksX10_words_0 4 rfl rfl)
theorem dX10_words_7 : decode cX10_words 7 = .ok (.areturn, 1) := dk_176 (dk_at dksX10_words_0 7 rfl rfl)
abbrev cX10_line : ByteArray := prog_14_method_3_code
def yX10_line : MethodName := ⟨RX10, "line", "(II)V"⟩
def dkwX10_line_1 : List UInt8 := [167, 0, 13, 187, 0, 40, 89, 17, 2, 88, 183, 0, 42, 182, 0, 45, 177]
abbrev dktX10_line_1 : List UInt8 := dkwX10_line_1 ++ []
def dkwX10_line_0 : List UInt8 := [42, 3, 4, 182, 0, 28, 62, 42, 42, 180, 0, 32, 153, 0, 15, 42, 180, 0, 20, 180, 0, 36, 29, 50]
abbrev dktX10_line_0 : List UInt8 := dkwX10_line_0 ++ dktX10_line_1
theorem dksX10_line_0 : cX10_line.data.toList.drop 0 = dktX10_line_0 := by decide +kernel
theorem dksX10_line_1 : cX10_line.data.toList.drop 24 = dktX10_line_1 := dk_seg dksX10_line_0 24 rfl rfl
theorem dX10_line_0 : decode cX10_line 0 = .ok (.aload_n 0, 1) := dk_42 (dk_at dksX10_line_0 0 rfl rfl)
theorem dX10_line_1 : decode cX10_line 1 = .ok (.iconst 0, 1) := dk_3 (dk_at dksX10_line_0 1 rfl rfl)
theorem dX10_line_2 : decode cX10_line 2 = .ok (.iconst 1, 1) := dk_4 (dk_at dksX10_line_0 2 rfl rfl)
theorem dX10_line_3 : decode cX10_line 3 = .ok (.invokevirtual 28, 3) := dk_182 0 28 (dk_at dksX10_line_0 3 rfl rfl)
theorem dX10_line_6 : decode cX10_line 6 = .ok (.istore_n 3, 1) := dk_62 (dk_at dksX10_line_0 6 rfl rfl)
theorem dX10_line_7 : decode cX10_line 7 = .ok (.aload_n 0, 1) := dk_42 (dk_at dksX10_line_0 7 rfl rfl)
theorem dX10_line_8 : decode cX10_line 8 = .ok (.aload_n 0, 1) := dk_42 (dk_at dksX10_line_0 8 rfl rfl)
theorem dX10_line_9 : decode cX10_line 9 = .ok (.getfield 32, 3) := dk_180 0 32 (dk_at dksX10_line_0 9 rfl rfl)
theorem dX10_line_12 : decode cX10_line 12 = .ok (.ifCond .eq 15, 3) := dk_153 0 15 (dk_at dksX10_line_0 12 rfl rfl)
theorem dX10_line_15 : decode cX10_line 15 = .ok (.aload_n 0, 1) := dk_42 (dk_at dksX10_line_0 15 rfl rfl)
theorem dX10_line_16 : decode cX10_line 16 = .ok (.getfield 20, 3) := dk_180 0 20 (dk_at dksX10_line_0 16 rfl rfl)
theorem dX10_line_19 : decode cX10_line 19 = .ok (.getfield 36, 3) := dk_180 0 36 (dk_at dksX10_line_0 19 rfl rfl)
theorem dX10_line_22 : decode cX10_line 22 = .ok (.iload_n 3, 1) := dk_29 (dk_at dksX10_line_0 22 rfl rfl)
theorem dX10_line_23 : decode cX10_line 23 = .ok (.aaload, 1) := dk_50 (dk_at dksX10_line_0 23 rfl rfl)
theorem dX10_line_24 : decode cX10_line 24 = .ok (.goto 13, 3) := dk_167 0 13 (dk_at dksX10_line_1 0 rfl rfl)
theorem dX10_line_27 : decode cX10_line 27 = .ok (.new 40, 3) := dk_187 0 40 (dk_at dksX10_line_1 3 rfl rfl)
theorem dX10_line_30 : decode cX10_line 30 = .ok (.dup, 1) := dk_89 (dk_at dksX10_line_1 6 rfl rfl)
theorem dX10_line_31 : decode cX10_line 31 = .ok (.sipush 600, 3) := dk_17 2 88 (dk_at dksX10_line_1 7 rfl rfl)
theorem dX10_line_34 : decode cX10_line 34 = .ok (.invokespecial 42, 3) := dk_183 0 42 (dk_at dksX10_line_1 10 rfl rfl)
theorem dX10_line_37 : decode cX10_line 37 = .ok (.invokevirtual 45, 3) := dk_182 0 45 (dk_at dksX10_line_1 13 rfl rfl)
theorem dX10_line_40 : decode cX10_line 40 = .ok (.return_, 1) := dk_177 (dk_at dksX10_line_1 16 rfl rfl)
abbrev cX10_lay : ByteArray := prog_14_method_4_code
def yX10_lay : MethodName := ⟨RX10, "lay", "(I)I"⟩
def dkwX10_lay_0 : List UInt8 := [42, 180, 0, 3, 180, 0, 49, 180, 0, 53, 27, 42, 180, 0, 20, 184, 0, 59, 172]
abbrev dktX10_lay_0 : List UInt8 := dkwX10_lay_0 ++ []
theorem dksX10_lay_0 : cX10_lay.data.toList.drop 0 = dktX10_lay_0 := by decide +kernel
theorem dX10_lay_0 : decode cX10_lay 0 = .ok (.aload_n 0, 1) := dk_42 (dk_at dksX10_lay_0 0 rfl rfl)
theorem dX10_lay_1 : decode cX10_lay 1 = .ok (.getfield 3, 3) := dk_180 0 3 (dk_at dksX10_lay_0 1 rfl rfl)
theorem dX10_lay_4 : decode cX10_lay 4 = .ok (.getfield 49, 3) := dk_180 0 49 (dk_at dksX10_lay_0 4 rfl rfl)
theorem dX10_lay_7 : decode cX10_lay 7 = .ok (.getfield 53, 3) := dk_180 0 53 (dk_at dksX10_lay_0 7 rfl rfl)
theorem dX10_lay_10 : decode cX10_lay 10 = .ok (.iload_n 1, 1) := dk_27 (dk_at dksX10_lay_0 10 rfl rfl)
theorem dX10_lay_11 : decode cX10_lay 11 = .ok (.aload_n 0, 1) := dk_42 (dk_at dksX10_lay_0 11 rfl rfl)
theorem dX10_lay_12 : decode cX10_lay 12 = .ok (.getfield 20, 3) := dk_180 0 20 (dk_at dksX10_lay_0 12 rfl rfl)
theorem dX10_lay_15 : decode cX10_lay 15 = .ok (.invokestatic 59, 3) := dk_184 0 59 (dk_at dksX10_lay_0 15 rfl rfl)
theorem dX10_lay_18 : decode cX10_lay 18 = .ok (.ireturn, 1) := dk_172 (dk_at dksX10_lay_0 18 rfl rfl)
theorem q131 : (Jvm.Cond.initialized "OneDrum$ScoreReader") ∈ lw_all := lw_g (lw_at lw_m1 14 rfl) rfl
theorem q236 : (Jvm.Cond.fieldLink "OneDrum$ScoreReader" (53 : Nat) "OneDrum$All" "scores" "Ljava/util/ArrayList;") ∈ lw_all := lw_g (lw_at lw_m1 119 rfl) rfl
theorem q366 : (Jvm.Cond.fieldLinkNest "OneDrum$ScoreReader" (24 : Nat) "OneDrum" "scoreWords" "[Ljava/lang/String;" "OneDrum") ∈ lw_tbl := lw_at lw_m2 9 rfl
theorem q374 : (Jvm.Cond.fieldLinkNest "OneDrum$ScoreReader" (49 : Nat) "OneDrum" "all" "LOneDrum$All;" "OneDrum") ∈ lw_tbl := lw_at lw_m2 17 rfl
theorem q601 : (Jvm.Cond.fieldLink "OneDrum$ScoreReader" (32 : Nat) "OneDrum$ScoreReader" "good" "Z") ∈ lw_all := lw_g (lw_at lw_m3 4 rfl) rfl
theorem q602 : (Jvm.Cond.sameField "OneDrum$ScoreReader" "OneDrum$Reader" "good" "Z") ∈ lw_all := lw_g (lw_at lw_m3 5 rfl) rfl
theorem q635 : (Jvm.Cond.instantiable "OneDrum$ScoreReader" (13 : Nat)) ∈ lw_all := lw_g (lw_at lw_m3 38 rfl) rfl
theorem q637 : (Jvm.Cond.instanceMethod ({ cls := "OneDrum$ScoreReader", name := "<init>", desc := "(LOneDrum;I)V" } : Jvm.MethodName)) ∈ lw_all := lw_g (lw_at lw_m3 40 rfl) rfl
theorem q638 : (Jvm.Cond.code ({ cls := "OneDrum$ScoreReader", name := "<init>", desc := "(LOneDrum;I)V" } : Jvm.MethodName) prog_14_method_1_code (3 : Nat) (Option.none : Option Jvm.ClassFile.FieldType)) ∈ lw_all := lw_g (lw_at lw_m3 41 rfl) rfl
theorem q639 : (Jvm.Cond.methodLink "OneDrum$ScoreReader" (9 : Nat) ({ cls := "OneDrum$Reader", name := "<init>", desc := "(LOneDrum;I)V" } : Jvm.MethodName)) ∈ lw_all := lw_g (lw_at lw_m3 42 rfl) rfl
theorem q640 : (Jvm.Cond.classLink "OneDrum$ScoreReader" (15 : Nat) "OneDrum$Score") ∈ lw_all := lw_g (lw_at lw_m3 43 rfl) rfl
theorem q642 : (Jvm.Cond.methodLinkNest "OneDrum$ScoreReader" (17 : Nat) ({ cls := "OneDrum$Score", name := "<init>", desc := "()V" } : Jvm.MethodName) "OneDrum") ∈ lw_tbl := lw_at lw_m3 45 rfl
theorem q649 : (Jvm.Cond.fieldLink "OneDrum$ScoreReader" (36 : Nat) "OneDrum$Score" "given" "[LOneDrum$Beats;") ∈ lw_all := lw_g (lw_at lw_m3 52 rfl) rfl
theorem q654 : (Jvm.Cond.fieldLink "OneDrum$ScoreReader" (20 : Nat) "OneDrum$ScoreReader" "told" "LOneDrum$Score;") ∈ lw_all := lw_g (lw_at lw_m3 57 rfl) rfl
theorem q655 : (Jvm.Cond.fieldLink "OneDrum$ScoreReader" (3 : Nat) "OneDrum$ScoreReader" "this$0" "LOneDrum;") ∈ lw_all := lw_g (lw_at lw_m3 58 rfl) rfl
theorem q656 : (Jvm.Cond.laysFinal "OneDrum$ScoreReader" "OneDrum$ScoreReader" "told" "LOneDrum$Score;") ∈ lw_all := lw_g (lw_at lw_m3 59 rfl) rfl
theorem q657 : (Jvm.Cond.soleField "OneDrum$ScoreReader" "told") ∈ lw_all := lw_g (lw_at lw_m3 60 rfl) rfl
theorem q658 : (Jvm.Cond.laysFinal "OneDrum$ScoreReader" "OneDrum$ScoreReader" "this$0" "LOneDrum;") ∈ lw_all := lw_g (lw_at lw_m3 61 rfl) rfl
theorem q659 : (Jvm.Cond.soleField "OneDrum$ScoreReader" "this$0") ∈ lw_all := lw_g (lw_at lw_m3 62 rfl) rfl
theorem q660 : (Jvm.Cond.laysFinal "OneDrum$ScoreReader" "OneDrum$Reader" "length" "I") ∈ lw_all := lw_g (lw_at lw_m3 63 rfl) rfl
theorem q661 : (Jvm.Cond.lays "OneDrum$ScoreReader" "OneDrum$Reader" "at" "I") ∈ lw_all := lw_g (lw_at lw_m3 64 rfl) rfl
theorem q662 : (Jvm.Cond.lays "OneDrum$ScoreReader" "OneDrum$Reader" "sort" "I") ∈ lw_all := lw_g (lw_at lw_m3 65 rfl) rfl
theorem q663 : (Jvm.Cond.lays "OneDrum$ScoreReader" "OneDrum$Reader" "value" "I") ∈ lw_all := lw_g (lw_at lw_m3 66 rfl) rfl
theorem q664 : (Jvm.Cond.lays "OneDrum$ScoreReader" "OneDrum$Reader" "letters" "I") ∈ lw_all := lw_g (lw_at lw_m3 67 rfl) rfl
theorem q665 : (Jvm.Cond.lays "OneDrum$ScoreReader" "OneDrum$Reader" "word" "J") ∈ lw_all := lw_g (lw_at lw_m3 68 rfl) rfl
theorem q666 : (Jvm.Cond.lays "OneDrum$ScoreReader" "OneDrum$Reader" "place" "I") ∈ lw_all := lw_g (lw_at lw_m3 69 rfl) rfl
theorem q667 : (Jvm.Cond.lays "OneDrum$ScoreReader" "OneDrum$Reader" "fault" "I") ∈ lw_all := lw_g (lw_at lw_m3 70 rfl) rfl
theorem q668 : (Jvm.Cond.lays "OneDrum$ScoreReader" "OneDrum$Reader" "faultPlace" "I") ∈ lw_all := lw_g (lw_at lw_m3 71 rfl) rfl
theorem q669 : (Jvm.Cond.lays "OneDrum$ScoreReader" "OneDrum$Reader" "good" "Z") ∈ lw_all := lw_g (lw_at lw_m3 72 rfl) rfl
theorem q670 : (Jvm.Cond.laysFinal "OneDrum$ScoreReader" "OneDrum$Reader" "this$0" "LOneDrum;") ∈ lw_all := lw_g (lw_at lw_m3 73 rfl) rfl
theorem q671 : (Jvm.Cond.superclass "OneDrum$ScoreReader" "OneDrum$Reader") ∈ lw_all := lw_g (lw_at lw_m3 74 rfl) rfl
theorem q757 : (Jvm.Cond.selects "OneDrum$ScoreReader" ({ cls := "OneDrum$Reader", name := "text", desc := "()V" } : Jvm.MethodName) ({ cls := "OneDrum$Reader", name := "text", desc := "()V" } : Jvm.MethodName)) ∈ lw_all := lw_g (lw_at lw_m3 160 rfl) rfl
theorem q776 : (Jvm.Cond.selects "OneDrum$ScoreReader" ({ cls := "OneDrum$Reader", name := "words", desc := "()[Ljava/lang/String;" } : Jvm.MethodName) ({ cls := "OneDrum$ScoreReader", name := "words", desc := "()[Ljava/lang/String;" } : Jvm.MethodName)) ∈ lw_all := lw_g (lw_at lw_m3 179 rfl) rfl
theorem q777 : (Jvm.Cond.instanceMethod ({ cls := "OneDrum$ScoreReader", name := "words", desc := "()[Ljava/lang/String;" } : Jvm.MethodName)) ∈ lw_all := lw_g (lw_at lw_m3 180 rfl) rfl
theorem q778 : (Jvm.Cond.code ({ cls := "OneDrum$ScoreReader", name := "words", desc := "()[Ljava/lang/String;" } : Jvm.MethodName) prog_14_method_2_code (1 : Nat) (Option.some (Jvm.ClassFile.FieldType.array (Jvm.ClassFile.FieldType.object "java/lang/String")))) ∈ lw_all := lw_g (lw_at lw_m3 181 rfl) rfl
theorem q789 : (Jvm.Cond.selects "OneDrum$ScoreReader" ({ cls := "OneDrum$Reader", name := "oneOf", desc := "([Ljava/lang/String;)I" } : Jvm.MethodName) ({ cls := "OneDrum$Reader", name := "oneOf", desc := "([Ljava/lang/String;)I" } : Jvm.MethodName)) ∈ lw_all := lw_g (lw_at lw_m3 192 rfl) rfl
theorem q925 : (Jvm.Cond.selects "OneDrum$ScoreReader" ({ cls := "OneDrum$Reader", name := "note", desc := "(II)V" } : Jvm.MethodName) ({ cls := "OneDrum$Reader", name := "note", desc := "(II)V" } : Jvm.MethodName)) ∈ lw_all := lw_g (lw_at lw_m4 88 rfl) rfl
theorem q946 : (Jvm.Cond.selects "OneDrum$ScoreReader" ({ cls := "OneDrum$Reader", name := "line", desc := "(II)V" } : Jvm.MethodName) ({ cls := "OneDrum$ScoreReader", name := "line", desc := "(II)V" } : Jvm.MethodName)) ∈ lw_all := lw_g (lw_at lw_m4 109 rfl) rfl
theorem q947 : (Jvm.Cond.instanceMethod ({ cls := "OneDrum$ScoreReader", name := "line", desc := "(II)V" } : Jvm.MethodName)) ∈ lw_all := lw_g (lw_at lw_m4 110 rfl) rfl
theorem q948 : (Jvm.Cond.code ({ cls := "OneDrum$ScoreReader", name := "line", desc := "(II)V" } : Jvm.MethodName) prog_14_method_3_code (4 : Nat) (Option.none : Option Jvm.ClassFile.FieldType)) ∈ lw_all := lw_g (lw_at lw_m4 111 rfl) rfl
theorem q949 : (Jvm.Cond.methodLink "OneDrum$ScoreReader" (28 : Nat) ({ cls := "OneDrum$ScoreReader", name := "number", desc := "(II)I" } : Jvm.MethodName)) ∈ lw_all := lw_g (lw_at lw_m4 112 rfl) rfl
theorem q950 : (Jvm.Cond.sameMethod "OneDrum$ScoreReader" "OneDrum$Reader" "number" "(II)I") ∈ lw_all := lw_g (lw_at lw_m4 113 rfl) rfl
theorem q951 : (Jvm.Cond.selects "OneDrum$ScoreReader" ({ cls := "OneDrum$ScoreReader", name := "number", desc := "(II)I" } : Jvm.MethodName) ({ cls := "OneDrum$Reader", name := "number", desc := "(II)I" } : Jvm.MethodName)) ∈ lw_all := lw_g (lw_at lw_m4 114 rfl) rfl
theorem q952 : (Jvm.Cond.classLink "OneDrum$ScoreReader" (40 : Nat) "OneDrum$Beats") ∈ lw_all := lw_g (lw_at lw_m4 115 rfl) rfl
theorem q953 : (Jvm.Cond.methodLink "OneDrum$ScoreReader" (42 : Nat) ({ cls := "OneDrum$Beats", name := "<init>", desc := "(I)V" } : Jvm.MethodName)) ∈ lw_all := lw_g (lw_at lw_m4 116 rfl) rfl
theorem q954 : (Jvm.Cond.methodLink "OneDrum$ScoreReader" (45 : Nat) ({ cls := "OneDrum$ScoreReader", name := "beats", desc := "(LOneDrum$Beats;)V" } : Jvm.MethodName)) ∈ lw_all := lw_g (lw_at lw_m4 117 rfl) rfl
theorem q955 : (Jvm.Cond.sameMethod "OneDrum$ScoreReader" "OneDrum$Reader" "beats" "(LOneDrum$Beats;)V") ∈ lw_all := lw_g (lw_at lw_m4 118 rfl) rfl
theorem q957 : (Jvm.Cond.selects "OneDrum$ScoreReader" ({ cls := "OneDrum$ScoreReader", name := "beats", desc := "(LOneDrum$Beats;)V" } : Jvm.MethodName) ({ cls := "OneDrum$Reader", name := "beats", desc := "(LOneDrum$Beats;)V" } : Jvm.MethodName)) ∈ lw_all := lw_g (lw_at lw_m4 120 rfl) rfl
theorem q964 : (Jvm.Cond.selects "OneDrum$ScoreReader" ({ cls := "OneDrum$Reader", name := "beat", desc := "()I" } : Jvm.MethodName) ({ cls := "OneDrum$Reader", name := "beat", desc := "()I" } : Jvm.MethodName)) ∈ lw_all := lw_g (lw_at lw_m4 127 rfl) rfl
theorem q1108 : (Jvm.Cond.selects "OneDrum$ScoreReader" ({ cls := "java/lang/Object", name := "getClass", desc := "()Ljava/lang/Class;" } : Jvm.MethodName) ({ cls := "java/lang/Object", name := "getClass", desc := "()Ljava/lang/Class;" } : Jvm.MethodName)) ∈ lw_all := lw_g (lw_at lw_m5 31 rfl) rfl
theorem q1207 : (Jvm.Cond.selects "OneDrum$ScoreReader" ({ cls := "OneDrum$Reader", name := "lay", desc := "(I)I" } : Jvm.MethodName) ({ cls := "OneDrum$ScoreReader", name := "lay", desc := "(I)I" } : Jvm.MethodName)) ∈ lw_all := lw_g (lw_at lw_m5 130 rfl) rfl
theorem q1208 : (Jvm.Cond.instanceMethod ({ cls := "OneDrum$ScoreReader", name := "lay", desc := "(I)I" } : Jvm.MethodName)) ∈ lw_all := lw_g (lw_at lw_m5 131 rfl) rfl
theorem q1209 : (Jvm.Cond.code ({ cls := "OneDrum$ScoreReader", name := "lay", desc := "(I)I" } : Jvm.MethodName) prog_14_method_4_code (2 : Nat) (Option.some Jvm.ClassFile.FieldType.int)) ∈ lw_all := lw_g (lw_at lw_m5 132 rfl) rfl
theorem q1210 : (Jvm.Cond.methodLinkNest "OneDrum$ScoreReader" (59 : Nat) ({ cls := "OneDrum", name := "put", desc := "(Ljava/util/ArrayList;ILjava/lang/Object;)I" } : Jvm.MethodName) "OneDrum") ∈ lw_tbl := lw_at lw_m5 133 rfl
theorem q2210 : (Jvm.Cond.selects "OneDrum$ScoreReader" ({ cls := "OneDrum$Reader", name := "isWord", desc := "()Z" } : Jvm.MethodName) ({ cls := "OneDrum$Reader", name := "isWord", desc := "()Z" } : Jvm.MethodName)) ∈ lw_all := lw_g (lw_at lw_m9 173 rfl) rfl
theorem q2229 : (Jvm.Cond.castable "OneDrum$ScoreReader" "java/lang/Object") ∈ lw_tbl := lw_at lw_m9 192 rfl
theorem in_X10 : ∀ w ∈ wsX100, w ∈ lw_all := lw_in wsX100 [660, 661, 662, 663, 664, 665, 666, 667, 668, 669, 670, 656, 658] (by decide +kernel) (by decide +kernel)
/-! OneDrum$Score -/
set_option maxRecDepth 100000
def RX11 : String := "OneDrum$Score"
def TX11 : u_T := fun k => match k with
  | _ => ("OneDrum$Score", "given", "[LOneDrum$Beats;", true)
def tyX11 : Nat → FieldType := fun k => match k with
  | _ => .array (.object "OneDrum$Beats")
abbrev wsX110 : List Cond := u_ws RX11 TX11 1
theorem nmX11 : ∀ a, a < 1 → ∀ b, b < 1 → a ≠ b → (TX11 a).2.1 ≠ (TX11 b).2.1 := by decide +kernel
theorem tyX11_ok : ∀ k, k < 1 → parseFieldDescriptor (TX11 k).2.2.1 = some (tyX11 k) := by decide +kernel
abbrev cX11_init : ByteArray := prog_13_method_1_code
def yX11_init : MethodName := ⟨RX11, "<init>", "()V"⟩
def dkwX11_init_1 : List UInt8 := [187, 0, 9, 89, 16, 12, 183, 0, 11, 83, 181, 0, 14, 177]
abbrev dktX11_init_1 : List UInt8 := dkwX11_init_1 ++ []
def dkwX11_init_0 : List UInt8 := [42, 183, 0, 3, 42, 5, 189, 0, 9, 89, 3, 187, 0, 9, 89, 16, 12, 183, 0, 11, 83, 89, 4]
abbrev dktX11_init_0 : List UInt8 := dkwX11_init_0 ++ dktX11_init_1
theorem dksX11_init_0 : cX11_init.data.toList.drop 0 = dktX11_init_0 := by decide +kernel
theorem dksX11_init_1 : cX11_init.data.toList.drop 23 = dktX11_init_1 := dk_seg dksX11_init_0 23 rfl rfl
theorem dX11_init_0 : decode cX11_init 0 = .ok (.aload_n 0, 1) := dk_42 (dk_at dksX11_init_0 0 rfl rfl)
theorem dX11_init_1 : decode cX11_init 1 = .ok (.invokespecial 3, 3) := dk_183 0 3 (dk_at dksX11_init_0 1 rfl rfl)
theorem dX11_init_4 : decode cX11_init 4 = .ok (.aload_n 0, 1) := dk_42 (dk_at dksX11_init_0 4 rfl rfl)
theorem dX11_init_5 : decode cX11_init 5 = .ok (.iconst 2, 1) := dk_5 (dk_at dksX11_init_0 5 rfl rfl)
theorem dX11_init_6 : decode cX11_init 6 = .ok (.anewarray 9, 3) := dk_189 0 9 (dk_at dksX11_init_0 6 rfl rfl)
theorem dX11_init_9 : decode cX11_init 9 = .ok (.dup, 1) := dk_89 (dk_at dksX11_init_0 9 rfl rfl)
theorem dX11_init_10 : decode cX11_init 10 = .ok (.iconst 0, 1) := dk_3 (dk_at dksX11_init_0 10 rfl rfl)
theorem dX11_init_11 : decode cX11_init 11 = .ok (.new 9, 3) := dk_187 0 9 (dk_at dksX11_init_0 11 rfl rfl)
theorem dX11_init_14 : decode cX11_init 14 = .ok (.dup, 1) := dk_89 (dk_at dksX11_init_0 14 rfl rfl)
theorem dX11_init_15 : decode cX11_init 15 = .ok (.bipush 12, 2) := dk_16 12 (dk_at dksX11_init_0 15 rfl rfl)
theorem dX11_init_17 : decode cX11_init 17 = .ok (.invokespecial 11, 3) := dk_183 0 11 (dk_at dksX11_init_0 17 rfl rfl)
theorem dX11_init_20 : decode cX11_init 20 = .ok (.aastore, 1) := dk_83 (dk_at dksX11_init_0 20 rfl rfl)
theorem dX11_init_21 : decode cX11_init 21 = .ok (.dup, 1) := dk_89 (dk_at dksX11_init_0 21 rfl rfl)
theorem dX11_init_22 : decode cX11_init 22 = .ok (.iconst 1, 1) := dk_4 (dk_at dksX11_init_0 22 rfl rfl)
theorem dX11_init_23 : decode cX11_init 23 = .ok (.new 9, 3) := dk_187 0 9 (dk_at dksX11_init_1 0 rfl rfl)
theorem dX11_init_26 : decode cX11_init 26 = .ok (.dup, 1) := dk_89 (dk_at dksX11_init_1 3 rfl rfl)
theorem dX11_init_27 : decode cX11_init 27 = .ok (.bipush 12, 2) := dk_16 12 (dk_at dksX11_init_1 4 rfl rfl)
theorem dX11_init_29 : decode cX11_init 29 = .ok (.invokespecial 11, 3) := dk_183 0 11 (dk_at dksX11_init_1 6 rfl rfl)
theorem dX11_init_32 : decode cX11_init 32 = .ok (.aastore, 1) := dk_83 (dk_at dksX11_init_1 9 rfl rfl)
theorem dX11_init_33 : decode cX11_init 33 = .ok (.putfield 14, 3) := dk_181 0 14 (dk_at dksX11_init_1 10 rfl rfl)
theorem dX11_init_36 : decode cX11_init 36 = .ok (.return_, 1) := dk_177 (dk_at dksX11_init_1 13 rfl rfl)
theorem q132 : (Jvm.Cond.initialized "OneDrum$Score") ∈ lw_all := lw_g (lw_at lw_m1 15 rfl) rfl
theorem q641 : (Jvm.Cond.instantiable "OneDrum$Score" (1 : Nat)) ∈ lw_all := lw_g (lw_at lw_m3 44 rfl) rfl
theorem q643 : (Jvm.Cond.instanceMethod ({ cls := "OneDrum$Score", name := "<init>", desc := "()V" } : Jvm.MethodName)) ∈ lw_all := lw_g (lw_at lw_m3 46 rfl) rfl
theorem q644 : (Jvm.Cond.code ({ cls := "OneDrum$Score", name := "<init>", desc := "()V" } : Jvm.MethodName) prog_13_method_1_code (1 : Nat) (Option.none : Option Jvm.ClassFile.FieldType)) ∈ lw_all := lw_g (lw_at lw_m3 47 rfl) rfl
theorem q645 : (Jvm.Cond.methodLink "OneDrum$Score" (3 : Nat) ({ cls := "java/lang/Object", name := "<init>", desc := "()V" } : Jvm.MethodName)) ∈ lw_all := lw_g (lw_at lw_m3 48 rfl) rfl
theorem q646 : (Jvm.Cond.classLink "OneDrum$Score" (9 : Nat) "OneDrum$Beats") ∈ lw_all := lw_g (lw_at lw_m3 49 rfl) rfl
theorem q647 : (Jvm.Cond.methodLink "OneDrum$Score" (11 : Nat) ({ cls := "OneDrum$Beats", name := "<init>", desc := "(I)V" } : Jvm.MethodName)) ∈ lw_all := lw_g (lw_at lw_m3 50 rfl) rfl
theorem q648 : (Jvm.Cond.fieldLink "OneDrum$Score" (14 : Nat) "OneDrum$Score" "given" "[LOneDrum$Beats;") ∈ lw_all := lw_g (lw_at lw_m3 51 rfl) rfl
theorem q651 : (Jvm.Cond.laysFinal "OneDrum$Score" "OneDrum$Score" "given" "[LOneDrum$Beats;") ∈ lw_all := lw_g (lw_at lw_m3 54 rfl) rfl
theorem q652 : (Jvm.Cond.soleField "OneDrum$Score" "given") ∈ lw_all := lw_g (lw_at lw_m3 55 rfl) rfl
theorem q653 : (Jvm.Cond.superclass "OneDrum$Score" "java/lang/Object") ∈ lw_all := lw_g (lw_at lw_m3 56 rfl) rfl
theorem q1107 : (Jvm.Cond.selects "OneDrum$Score" ({ cls := "java/lang/Object", name := "getClass", desc := "()Ljava/lang/Class;" } : Jvm.MethodName) ({ cls := "java/lang/Object", name := "getClass", desc := "()Ljava/lang/Class;" } : Jvm.MethodName)) ∈ lw_all := lw_g (lw_at lw_m5 30 rfl) rfl
theorem q2230 : (Jvm.Cond.castable "OneDrum$Score" "java/lang/Object") ∈ lw_tbl := lw_at lw_m9 193 rfl
theorem in_X11 : ∀ w ∈ wsX110, w ∈ lw_all := lw_in wsX110 [651] (by decide +kernel) (by decide +kernel)
/-! OneDrum$HearingReader -/
set_option maxRecDepth 100000
def RX12 : String := "OneDrum$HearingReader"
def TX12 : u_T := fun k => match k with
  | 0 => ("OneDrum$Reader", "length", "I", true)
  | 1 => ("OneDrum$Reader", "at", "I", false)
  | 2 => ("OneDrum$Reader", "sort", "I", false)
  | 3 => ("OneDrum$Reader", "value", "I", false)
  | 4 => ("OneDrum$Reader", "letters", "I", false)
  | 5 => ("OneDrum$Reader", "word", "J", false)
  | 6 => ("OneDrum$Reader", "place", "I", false)
  | 7 => ("OneDrum$Reader", "fault", "I", false)
  | 8 => ("OneDrum$Reader", "faultPlace", "I", false)
  | 9 => ("OneDrum$Reader", "good", "Z", false)
  | 10 => ("OneDrum$Reader", "this$0", "LOneDrum;", true)
  | 11 => ("OneDrum$HearingReader", "told", "LOneDrum$Hearing;", true)
  | _ => ("OneDrum$HearingReader", "this$0", "LOneDrum;", true)
def tyX12 : Nat → FieldType := fun k => match k with
  | 0 => .int
  | 1 => .int
  | 2 => .int
  | 3 => .int
  | 4 => .int
  | 5 => .long
  | 6 => .int
  | 7 => .int
  | 8 => .int
  | 9 => .boolean
  | 10 => .object "OneDrum"
  | 11 => .object "OneDrum$Hearing"
  | _ => .object "OneDrum"
abbrev wsX120 : List Cond := u_ws RX12 TX12 13
-- two fields of one name: no nmX12
set_option maxRecDepth 100000 in
theorem tyX12_ok : ∀ k, k < 13 → parseFieldDescriptor (TX12 k).2.2.1 = some (tyX12 k) := by decide +kernel
abbrev cX12_init : ByteArray := prog_9_method_1_code
def yX12_init : MethodName := ⟨RX12, "<init>", "(LOneDrum;I)V"⟩
def dkwX12_init_0 : List UInt8 := [42, 43, 181, 0, 3, 42, 43, 28, 183, 0, 9, 42, 187, 0, 15, 89, 183, 0, 17, 181, 0, 20, 177]
abbrev dktX12_init_0 : List UInt8 := dkwX12_init_0 ++ []
theorem dksX12_init_0 : cX12_init.data.toList.drop 0 = dktX12_init_0 := by decide +kernel
theorem dX12_init_0 : decode cX12_init 0 = .ok (.aload_n 0, 1) := dk_42 (dk_at dksX12_init_0 0 rfl rfl)
theorem dX12_init_1 : decode cX12_init 1 = .ok (.aload_n 1, 1) := dk_43 (dk_at dksX12_init_0 1 rfl rfl)
theorem dX12_init_2 : decode cX12_init 2 = .ok (.putfield 3, 3) := dk_181 0 3 (dk_at dksX12_init_0 2 rfl rfl)
theorem dX12_init_5 : decode cX12_init 5 = .ok (.aload_n 0, 1) := dk_42 (dk_at dksX12_init_0 5 rfl rfl)
theorem dX12_init_6 : decode cX12_init 6 = .ok (.aload_n 1, 1) := dk_43 (dk_at dksX12_init_0 6 rfl rfl)
theorem dX12_init_7 : decode cX12_init 7 = .ok (.iload_n 2, 1) := dk_28 (dk_at dksX12_init_0 7 rfl rfl)
theorem dX12_init_8 : decode cX12_init 8 = .ok (.invokespecial 9, 3) := dk_183 0 9 (dk_at dksX12_init_0 8 rfl rfl)
theorem dX12_init_11 : decode cX12_init 11 = .ok (.aload_n 0, 1) := dk_42 (dk_at dksX12_init_0 11 rfl rfl)
theorem dX12_init_12 : decode cX12_init 12 = .ok (.new 15, 3) := dk_187 0 15 (dk_at dksX12_init_0 12 rfl rfl)
theorem dX12_init_15 : decode cX12_init 15 = .ok (.dup, 1) := dk_89 (dk_at dksX12_init_0 15 rfl rfl)
theorem dX12_init_16 : decode cX12_init 16 = .ok (.invokespecial 17, 3) := dk_183 0 17 (dk_at dksX12_init_0 16 rfl rfl)
theorem dX12_init_19 : decode cX12_init 19 = .ok (.putfield 20, 3) := dk_181 0 20 (dk_at dksX12_init_0 19 rfl rfl)
theorem dX12_init_22 : decode cX12_init 22 = .ok (.return_, 1) := dk_177 (dk_at dksX12_init_0 22 rfl rfl)
abbrev cX12_words : ByteArray := prog_9_method_2_code
def yX12_words : MethodName := ⟨RX12, "words", "()[Ljava/lang/String;"⟩
def dkwX12_words_0 : List UInt8 := [42, 180, 0, 3, 180, 0, 24, 176]
abbrev dktX12_words_0 : List UInt8 := dkwX12_words_0 ++ []
theorem dksX12_words_0 : cX12_words.data.toList.drop 0 = dktX12_words_0 := by decide +kernel
theorem dX12_words_0 : decode cX12_words 0 = .ok (.aload_n 0, 1) := dk_42 (dk_at dksX12_words_0 0 rfl rfl)
theorem dX12_words_1 : decode cX12_words 1 = .ok (.getfield 3, 3) := dk_180 0 3 (dk_at dksX12_words_0 1 rfl rfl)
theorem dX12_words_4 : decode cX12_words 4 = .ok (.getfield 24, 3) := dk_180 0 24 (dk_at dksX12_words_0 4 rfl rfl)
theorem dX12_words_7 : decode cX12_words 7 = .ok (.areturn, 1) := dk_176 (dk_at dksX12_words_0 7 rfl rfl)
abbrev cX12_line : ByteArray := prog_9_method_3_code
def yX12_line : MethodName := ⟨RX12, "line", "(II)V"⟩
def dkwX12_line_4 : List UInt8 := [153, 0, 14, 42, 180, 0, 20, 180, 0, 64, 29, 21, 4, 79, 177]
abbrev dktX12_line_4 : List UInt8 := dkwX12_line_4 ++ []
def dkwX12_line_3 : List UInt8 := [21, 4, 96, 21, 6, 79, 16, 6, 21, 4, 4, 96, 184, 0, 59, 54, 4, 167, 255, 178, 42, 180, 0, 51]
abbrev dktX12_line_3 : List UInt8 := dkwX12_line_3 ++ dktX12_line_4
def dkwX12_line_2 : List UInt8 := [182, 0, 47, 167, 0, 27, 42, 180, 0, 51, 153, 0, 20, 42, 180, 0, 20, 180, 0, 55, 16, 6, 29, 104]
abbrev dktX12_line_2 : List UInt8 := dkwX12_line_2 ++ dktX12_line_3
def dkwX12_line_1 : List UInt8 := [42, 180, 0, 3, 180, 0, 40, 182, 0, 43, 54, 6, 21, 4, 16, 6, 160, 0, 13, 42, 6, 21, 5]
abbrev dktX12_line_1 : List UInt8 := dkwX12_line_1 ++ dktX12_line_2
def dkwX12_line_0 : List UInt8 := [42, 3, 4, 182, 0, 28, 62, 3, 54, 4, 42, 182, 0, 32, 153, 0, 77, 42, 180, 0, 36, 54, 5, 42]
abbrev dktX12_line_0 : List UInt8 := dkwX12_line_0 ++ dktX12_line_1
theorem dksX12_line_0 : cX12_line.data.toList.drop 0 = dktX12_line_0 := by decide +kernel
theorem dksX12_line_1 : cX12_line.data.toList.drop 24 = dktX12_line_1 := dk_seg dksX12_line_0 24 rfl rfl
theorem dksX12_line_2 : cX12_line.data.toList.drop 47 = dktX12_line_2 := dk_seg dksX12_line_1 23 rfl rfl
theorem dksX12_line_3 : cX12_line.data.toList.drop 71 = dktX12_line_3 := dk_seg dksX12_line_2 24 rfl rfl
theorem dksX12_line_4 : cX12_line.data.toList.drop 95 = dktX12_line_4 := dk_seg dksX12_line_3 24 rfl rfl
theorem dX12_line_0 : decode cX12_line 0 = .ok (.aload_n 0, 1) := dk_42 (dk_at dksX12_line_0 0 rfl rfl)
theorem dX12_line_1 : decode cX12_line 1 = .ok (.iconst 0, 1) := dk_3 (dk_at dksX12_line_0 1 rfl rfl)
theorem dX12_line_2 : decode cX12_line 2 = .ok (.iconst 1, 1) := dk_4 (dk_at dksX12_line_0 2 rfl rfl)
theorem dX12_line_3 : decode cX12_line 3 = .ok (.invokevirtual 28, 3) := dk_182 0 28 (dk_at dksX12_line_0 3 rfl rfl)
theorem dX12_line_6 : decode cX12_line 6 = .ok (.istore_n 3, 1) := dk_62 (dk_at dksX12_line_0 6 rfl rfl)
theorem dX12_line_7 : decode cX12_line 7 = .ok (.iconst 0, 1) := dk_3 (dk_at dksX12_line_0 7 rfl rfl)
theorem dX12_line_8 : decode cX12_line 8 = .ok (.istore 4, 2) := dk_54 4 (dk_at dksX12_line_0 8 rfl rfl)
theorem dX12_line_10 : decode cX12_line 10 = .ok (.aload_n 0, 1) := dk_42 (dk_at dksX12_line_0 10 rfl rfl)
theorem dX12_line_11 : decode cX12_line 11 = .ok (.invokevirtual 32, 3) := dk_182 0 32 (dk_at dksX12_line_0 11 rfl rfl)
theorem dX12_line_14 : decode cX12_line 14 = .ok (.ifCond .eq 77, 3) := dk_153 0 77 (dk_at dksX12_line_0 14 rfl rfl)
theorem dX12_line_17 : decode cX12_line 17 = .ok (.aload_n 0, 1) := dk_42 (dk_at dksX12_line_0 17 rfl rfl)
theorem dX12_line_18 : decode cX12_line 18 = .ok (.getfield 36, 3) := dk_180 0 36 (dk_at dksX12_line_0 18 rfl rfl)
theorem dX12_line_21 : decode cX12_line 21 = .ok (.istore 5, 2) := dk_54 5 (dk_at dksX12_line_0 21 rfl rfl)
theorem dX12_line_23 : decode cX12_line 23 = .ok (.aload_n 0, 1) := dk_42 (dk_at dksX12_line_0 23 rfl rfl)
theorem dX12_line_24 : decode cX12_line 24 = .ok (.aload_n 0, 1) := dk_42 (dk_at dksX12_line_1 0 rfl rfl)
theorem dX12_line_25 : decode cX12_line 25 = .ok (.getfield 3, 3) := dk_180 0 3 (dk_at dksX12_line_1 1 rfl rfl)
theorem dX12_line_28 : decode cX12_line 28 = .ok (.getfield 40, 3) := dk_180 0 40 (dk_at dksX12_line_1 4 rfl rfl)
theorem dX12_line_31 : decode cX12_line 31 = .ok (.invokevirtual 43, 3) := dk_182 0 43 (dk_at dksX12_line_1 7 rfl rfl)
theorem dX12_line_34 : decode cX12_line 34 = .ok (.istore 6, 2) := dk_54 6 (dk_at dksX12_line_1 10 rfl rfl)
theorem dX12_line_36 : decode cX12_line 36 = .ok (.iload 4, 2) := dk_21 4 (dk_at dksX12_line_1 12 rfl rfl)
theorem dX12_line_38 : decode cX12_line 38 = .ok (.bipush 6, 2) := dk_16 6 (dk_at dksX12_line_1 14 rfl rfl)
theorem dX12_line_40 : decode cX12_line 40 = .ok (.if_icmp .ne 13, 3) := dk_160 0 13 (dk_at dksX12_line_1 16 rfl rfl)
theorem dX12_line_43 : decode cX12_line 43 = .ok (.aload_n 0, 1) := dk_42 (dk_at dksX12_line_1 19 rfl rfl)
theorem dX12_line_44 : decode cX12_line 44 = .ok (.iconst 3, 1) := dk_6 (dk_at dksX12_line_1 20 rfl rfl)
theorem dX12_line_45 : decode cX12_line 45 = .ok (.iload 5, 2) := dk_21 5 (dk_at dksX12_line_1 21 rfl rfl)
theorem dX12_line_47 : decode cX12_line 47 = .ok (.invokevirtual 47, 3) := dk_182 0 47 (dk_at dksX12_line_2 0 rfl rfl)
theorem dX12_line_50 : decode cX12_line 50 = .ok (.goto 27, 3) := dk_167 0 27 (dk_at dksX12_line_2 3 rfl rfl)
theorem dX12_line_53 : decode cX12_line 53 = .ok (.aload_n 0, 1) := dk_42 (dk_at dksX12_line_2 6 rfl rfl)
theorem dX12_line_54 : decode cX12_line 54 = .ok (.getfield 51, 3) := dk_180 0 51 (dk_at dksX12_line_2 7 rfl rfl)
theorem dX12_line_57 : decode cX12_line 57 = .ok (.ifCond .eq 20, 3) := dk_153 0 20 (dk_at dksX12_line_2 10 rfl rfl)
theorem dX12_line_60 : decode cX12_line 60 = .ok (.aload_n 0, 1) := dk_42 (dk_at dksX12_line_2 13 rfl rfl)
theorem dX12_line_61 : decode cX12_line 61 = .ok (.getfield 20, 3) := dk_180 0 20 (dk_at dksX12_line_2 14 rfl rfl)
theorem dX12_line_64 : decode cX12_line 64 = .ok (.getfield 55, 3) := dk_180 0 55 (dk_at dksX12_line_2 17 rfl rfl)
theorem dX12_line_67 : decode cX12_line 67 = .ok (.bipush 6, 2) := dk_16 6 (dk_at dksX12_line_2 20 rfl rfl)
theorem dX12_line_69 : decode cX12_line 69 = .ok (.iload_n 3, 1) := dk_29 (dk_at dksX12_line_2 22 rfl rfl)
theorem dX12_line_70 : decode cX12_line 70 = .ok (.imul, 1) := dk_104 (dk_at dksX12_line_2 23 rfl rfl)
theorem dX12_line_71 : decode cX12_line 71 = .ok (.iload 4, 2) := dk_21 4 (dk_at dksX12_line_3 0 rfl rfl)
theorem dX12_line_73 : decode cX12_line 73 = .ok (.iadd, 1) := dk_96 (dk_at dksX12_line_3 2 rfl rfl)
theorem dX12_line_74 : decode cX12_line 74 = .ok (.iload 6, 2) := dk_21 6 (dk_at dksX12_line_3 3 rfl rfl)
theorem dX12_line_76 : decode cX12_line 76 = .ok (.iastore, 1) := dk_79 (dk_at dksX12_line_3 5 rfl rfl)
theorem dX12_line_77 : decode cX12_line 77 = .ok (.bipush 6, 2) := dk_16 6 (dk_at dksX12_line_3 6 rfl rfl)
theorem dX12_line_79 : decode cX12_line 79 = .ok (.iload 4, 2) := dk_21 4 (dk_at dksX12_line_3 8 rfl rfl)
theorem dX12_line_81 : decode cX12_line 81 = .ok (.iconst 1, 1) := dk_4 (dk_at dksX12_line_3 10 rfl rfl)
theorem dX12_line_82 : decode cX12_line 82 = .ok (.iadd, 1) := dk_96 (dk_at dksX12_line_3 11 rfl rfl)
theorem dX12_line_83 : decode cX12_line 83 = .ok (.invokestatic 59, 3) := dk_184 0 59 (dk_at dksX12_line_3 12 rfl rfl)
theorem dX12_line_86 : decode cX12_line 86 = .ok (.istore 4, 2) := dk_54 4 (dk_at dksX12_line_3 15 rfl rfl)
theorem dX12_line_88 : decode cX12_line 88 = .ok (.goto (-78), 3) := dk_167 255 178 (dk_at dksX12_line_3 17 rfl rfl)
theorem dX12_line_91 : decode cX12_line 91 = .ok (.aload_n 0, 1) := dk_42 (dk_at dksX12_line_3 20 rfl rfl)
theorem dX12_line_92 : decode cX12_line 92 = .ok (.getfield 51, 3) := dk_180 0 51 (dk_at dksX12_line_3 21 rfl rfl)
theorem dX12_line_95 : decode cX12_line 95 = .ok (.ifCond .eq 14, 3) := dk_153 0 14 (dk_at dksX12_line_4 0 rfl rfl)
theorem dX12_line_98 : decode cX12_line 98 = .ok (.aload_n 0, 1) := dk_42 (dk_at dksX12_line_4 3 rfl rfl)
theorem dX12_line_99 : decode cX12_line 99 = .ok (.getfield 20, 3) := dk_180 0 20 (dk_at dksX12_line_4 4 rfl rfl)
theorem dX12_line_102 : decode cX12_line 102 = .ok (.getfield 64, 3) := dk_180 0 64 (dk_at dksX12_line_4 7 rfl rfl)
theorem dX12_line_105 : decode cX12_line 105 = .ok (.iload_n 3, 1) := dk_29 (dk_at dksX12_line_4 10 rfl rfl)
theorem dX12_line_106 : decode cX12_line 106 = .ok (.iload 4, 2) := dk_21 4 (dk_at dksX12_line_4 11 rfl rfl)
theorem dX12_line_108 : decode cX12_line 108 = .ok (.iastore, 1) := dk_79 (dk_at dksX12_line_4 13 rfl rfl)
theorem dX12_line_109 : decode cX12_line 109 = .ok (.return_, 1) := dk_177 (dk_at dksX12_line_4 14 rfl rfl)
abbrev cX12_lay : ByteArray := prog_9_method_4_code
def yX12_lay : MethodName := ⟨RX12, "lay", "(I)I"⟩
def dkwX12_lay_0 : List UInt8 := [42, 180, 0, 3, 180, 0, 67, 180, 0, 71, 27, 42, 180, 0, 20, 184, 0, 77, 172]
abbrev dktX12_lay_0 : List UInt8 := dkwX12_lay_0 ++ []
theorem dksX12_lay_0 : cX12_lay.data.toList.drop 0 = dktX12_lay_0 := by decide +kernel
theorem dX12_lay_0 : decode cX12_lay 0 = .ok (.aload_n 0, 1) := dk_42 (dk_at dksX12_lay_0 0 rfl rfl)
theorem dX12_lay_1 : decode cX12_lay 1 = .ok (.getfield 3, 3) := dk_180 0 3 (dk_at dksX12_lay_0 1 rfl rfl)
theorem dX12_lay_4 : decode cX12_lay 4 = .ok (.getfield 67, 3) := dk_180 0 67 (dk_at dksX12_lay_0 4 rfl rfl)
theorem dX12_lay_7 : decode cX12_lay 7 = .ok (.getfield 71, 3) := dk_180 0 71 (dk_at dksX12_lay_0 7 rfl rfl)
theorem dX12_lay_10 : decode cX12_lay 10 = .ok (.iload_n 1, 1) := dk_27 (dk_at dksX12_lay_0 10 rfl rfl)
theorem dX12_lay_11 : decode cX12_lay 11 = .ok (.aload_n 0, 1) := dk_42 (dk_at dksX12_lay_0 11 rfl rfl)
theorem dX12_lay_12 : decode cX12_lay 12 = .ok (.getfield 20, 3) := dk_180 0 20 (dk_at dksX12_lay_0 12 rfl rfl)
theorem dX12_lay_15 : decode cX12_lay 15 = .ok (.invokestatic 77, 3) := dk_184 0 77 (dk_at dksX12_lay_0 15 rfl rfl)
theorem dX12_lay_18 : decode cX12_lay 18 = .ok (.ireturn, 1) := dk_172 (dk_at dksX12_lay_0 18 rfl rfl)
theorem q133 : (Jvm.Cond.initialized "OneDrum$HearingReader") ∈ lw_all := lw_g (lw_at lw_m1 16 rfl) rfl
theorem q239 : (Jvm.Cond.fieldLink "OneDrum$HearingReader" (71 : Nat) "OneDrum$All" "hearings" "Ljava/util/ArrayList;") ∈ lw_all := lw_g (lw_at lw_m1 122 rfl) rfl
theorem q361 : (Jvm.Cond.fieldLinkNest "OneDrum$HearingReader" (40 : Nat) "OneDrum" "moveWords" "[Ljava/lang/String;" "OneDrum") ∈ lw_tbl := lw_at lw_m2 4 rfl
theorem q368 : (Jvm.Cond.fieldLinkNest "OneDrum$HearingReader" (24 : Nat) "OneDrum" "hearingWords" "[Ljava/lang/String;" "OneDrum") ∈ lw_tbl := lw_at lw_m2 11 rfl
theorem q373 : (Jvm.Cond.fieldLinkNest "OneDrum$HearingReader" (67 : Nat) "OneDrum" "all" "LOneDrum$All;" "OneDrum") ∈ lw_tbl := lw_at lw_m2 16 rfl
theorem q590 : (Jvm.Cond.fieldLink "OneDrum$HearingReader" (36 : Nat) "OneDrum$HearingReader" "place" "I") ∈ lw_all := lw_g (lw_at lw_m2 233 rfl) rfl
theorem q591 : (Jvm.Cond.sameField "OneDrum$HearingReader" "OneDrum$Reader" "place" "I") ∈ lw_all := lw_g (lw_at lw_m2 234 rfl) rfl
theorem q603 : (Jvm.Cond.fieldLink "OneDrum$HearingReader" (51 : Nat) "OneDrum$HearingReader" "good" "Z") ∈ lw_all := lw_g (lw_at lw_m3 6 rfl) rfl
theorem q604 : (Jvm.Cond.sameField "OneDrum$HearingReader" "OneDrum$Reader" "good" "Z") ∈ lw_all := lw_g (lw_at lw_m3 7 rfl) rfl
theorem q673 : (Jvm.Cond.instantiable "OneDrum$HearingReader" (13 : Nat)) ∈ lw_all := lw_g (lw_at lw_m3 76 rfl) rfl
theorem q675 : (Jvm.Cond.instanceMethod ({ cls := "OneDrum$HearingReader", name := "<init>", desc := "(LOneDrum;I)V" } : Jvm.MethodName)) ∈ lw_all := lw_g (lw_at lw_m3 78 rfl) rfl
theorem q676 : (Jvm.Cond.code ({ cls := "OneDrum$HearingReader", name := "<init>", desc := "(LOneDrum;I)V" } : Jvm.MethodName) prog_9_method_1_code (3 : Nat) (Option.none : Option Jvm.ClassFile.FieldType)) ∈ lw_all := lw_g (lw_at lw_m3 79 rfl) rfl
theorem q677 : (Jvm.Cond.methodLink "OneDrum$HearingReader" (9 : Nat) ({ cls := "OneDrum$Reader", name := "<init>", desc := "(LOneDrum;I)V" } : Jvm.MethodName)) ∈ lw_all := lw_g (lw_at lw_m3 80 rfl) rfl
theorem q678 : (Jvm.Cond.classLink "OneDrum$HearingReader" (15 : Nat) "OneDrum$Hearing") ∈ lw_all := lw_g (lw_at lw_m3 81 rfl) rfl
theorem q680 : (Jvm.Cond.methodLinkNest "OneDrum$HearingReader" (17 : Nat) ({ cls := "OneDrum$Hearing", name := "<init>", desc := "()V" } : Jvm.MethodName) "OneDrum") ∈ lw_tbl := lw_at lw_m3 83 rfl
theorem q685 : (Jvm.Cond.fieldLink "OneDrum$HearingReader" (64 : Nat) "OneDrum$Hearing" "many" "[I") ∈ lw_all := lw_g (lw_at lw_m3 88 rfl) rfl
theorem q689 : (Jvm.Cond.fieldLink "OneDrum$HearingReader" (55 : Nat) "OneDrum$Hearing" "moves" "[I") ∈ lw_all := lw_g (lw_at lw_m3 92 rfl) rfl
theorem q697 : (Jvm.Cond.fieldLink "OneDrum$HearingReader" (20 : Nat) "OneDrum$HearingReader" "told" "LOneDrum$Hearing;") ∈ lw_all := lw_g (lw_at lw_m3 100 rfl) rfl
theorem q698 : (Jvm.Cond.fieldLink "OneDrum$HearingReader" (3 : Nat) "OneDrum$HearingReader" "this$0" "LOneDrum;") ∈ lw_all := lw_g (lw_at lw_m3 101 rfl) rfl
theorem q699 : (Jvm.Cond.laysFinal "OneDrum$HearingReader" "OneDrum$HearingReader" "told" "LOneDrum$Hearing;") ∈ lw_all := lw_g (lw_at lw_m3 102 rfl) rfl
theorem q700 : (Jvm.Cond.soleField "OneDrum$HearingReader" "told") ∈ lw_all := lw_g (lw_at lw_m3 103 rfl) rfl
theorem q701 : (Jvm.Cond.laysFinal "OneDrum$HearingReader" "OneDrum$HearingReader" "this$0" "LOneDrum;") ∈ lw_all := lw_g (lw_at lw_m3 104 rfl) rfl
theorem q702 : (Jvm.Cond.soleField "OneDrum$HearingReader" "this$0") ∈ lw_all := lw_g (lw_at lw_m3 105 rfl) rfl
theorem q703 : (Jvm.Cond.laysFinal "OneDrum$HearingReader" "OneDrum$Reader" "length" "I") ∈ lw_all := lw_g (lw_at lw_m3 106 rfl) rfl
theorem q704 : (Jvm.Cond.lays "OneDrum$HearingReader" "OneDrum$Reader" "at" "I") ∈ lw_all := lw_g (lw_at lw_m3 107 rfl) rfl
theorem q705 : (Jvm.Cond.lays "OneDrum$HearingReader" "OneDrum$Reader" "sort" "I") ∈ lw_all := lw_g (lw_at lw_m3 108 rfl) rfl
theorem q706 : (Jvm.Cond.lays "OneDrum$HearingReader" "OneDrum$Reader" "value" "I") ∈ lw_all := lw_g (lw_at lw_m3 109 rfl) rfl
theorem q707 : (Jvm.Cond.lays "OneDrum$HearingReader" "OneDrum$Reader" "letters" "I") ∈ lw_all := lw_g (lw_at lw_m3 110 rfl) rfl
theorem q708 : (Jvm.Cond.lays "OneDrum$HearingReader" "OneDrum$Reader" "word" "J") ∈ lw_all := lw_g (lw_at lw_m3 111 rfl) rfl
theorem q709 : (Jvm.Cond.lays "OneDrum$HearingReader" "OneDrum$Reader" "place" "I") ∈ lw_all := lw_g (lw_at lw_m3 112 rfl) rfl
theorem q710 : (Jvm.Cond.lays "OneDrum$HearingReader" "OneDrum$Reader" "fault" "I") ∈ lw_all := lw_g (lw_at lw_m3 113 rfl) rfl
theorem q711 : (Jvm.Cond.lays "OneDrum$HearingReader" "OneDrum$Reader" "faultPlace" "I") ∈ lw_all := lw_g (lw_at lw_m3 114 rfl) rfl
theorem q712 : (Jvm.Cond.lays "OneDrum$HearingReader" "OneDrum$Reader" "good" "Z") ∈ lw_all := lw_g (lw_at lw_m3 115 rfl) rfl
theorem q713 : (Jvm.Cond.laysFinal "OneDrum$HearingReader" "OneDrum$Reader" "this$0" "LOneDrum;") ∈ lw_all := lw_g (lw_at lw_m3 116 rfl) rfl
theorem q714 : (Jvm.Cond.superclass "OneDrum$HearingReader" "OneDrum$Reader") ∈ lw_all := lw_g (lw_at lw_m3 117 rfl) rfl
theorem q756 : (Jvm.Cond.selects "OneDrum$HearingReader" ({ cls := "OneDrum$Reader", name := "text", desc := "()V" } : Jvm.MethodName) ({ cls := "OneDrum$Reader", name := "text", desc := "()V" } : Jvm.MethodName)) ∈ lw_all := lw_g (lw_at lw_m3 159 rfl) rfl
theorem q773 : (Jvm.Cond.selects "OneDrum$HearingReader" ({ cls := "OneDrum$Reader", name := "words", desc := "()[Ljava/lang/String;" } : Jvm.MethodName) ({ cls := "OneDrum$HearingReader", name := "words", desc := "()[Ljava/lang/String;" } : Jvm.MethodName)) ∈ lw_all := lw_g (lw_at lw_m3 176 rfl) rfl
theorem q774 : (Jvm.Cond.instanceMethod ({ cls := "OneDrum$HearingReader", name := "words", desc := "()[Ljava/lang/String;" } : Jvm.MethodName)) ∈ lw_all := lw_g (lw_at lw_m3 177 rfl) rfl
theorem q775 : (Jvm.Cond.code ({ cls := "OneDrum$HearingReader", name := "words", desc := "()[Ljava/lang/String;" } : Jvm.MethodName) prog_9_method_2_code (1 : Nat) (Option.some (Jvm.ClassFile.FieldType.array (Jvm.ClassFile.FieldType.object "java/lang/String")))) ∈ lw_all := lw_g (lw_at lw_m3 178 rfl) rfl
theorem q788 : (Jvm.Cond.selects "OneDrum$HearingReader" ({ cls := "OneDrum$Reader", name := "oneOf", desc := "([Ljava/lang/String;)I" } : Jvm.MethodName) ({ cls := "OneDrum$Reader", name := "oneOf", desc := "([Ljava/lang/String;)I" } : Jvm.MethodName)) ∈ lw_all := lw_g (lw_at lw_m3 191 rfl) rfl
theorem q912 : (Jvm.Cond.selects "OneDrum$HearingReader" ({ cls := "OneDrum$Reader", name := "line", desc := "(II)V" } : Jvm.MethodName) ({ cls := "OneDrum$HearingReader", name := "line", desc := "(II)V" } : Jvm.MethodName)) ∈ lw_all := lw_g (lw_at lw_m4 75 rfl) rfl
theorem q913 : (Jvm.Cond.instanceMethod ({ cls := "OneDrum$HearingReader", name := "line", desc := "(II)V" } : Jvm.MethodName)) ∈ lw_all := lw_g (lw_at lw_m4 76 rfl) rfl
theorem q914 : (Jvm.Cond.code ({ cls := "OneDrum$HearingReader", name := "line", desc := "(II)V" } : Jvm.MethodName) prog_9_method_3_code (7 : Nat) (Option.none : Option Jvm.ClassFile.FieldType)) ∈ lw_all := lw_g (lw_at lw_m4 77 rfl) rfl
theorem q915 : (Jvm.Cond.methodLink "OneDrum$HearingReader" (28 : Nat) ({ cls := "OneDrum$HearingReader", name := "number", desc := "(II)I" } : Jvm.MethodName)) ∈ lw_all := lw_g (lw_at lw_m4 78 rfl) rfl
theorem q916 : (Jvm.Cond.sameMethod "OneDrum$HearingReader" "OneDrum$Reader" "number" "(II)I") ∈ lw_all := lw_g (lw_at lw_m4 79 rfl) rfl
theorem q918 : (Jvm.Cond.selects "OneDrum$HearingReader" ({ cls := "OneDrum$HearingReader", name := "number", desc := "(II)I" } : Jvm.MethodName) ({ cls := "OneDrum$Reader", name := "number", desc := "(II)I" } : Jvm.MethodName)) ∈ lw_all := lw_g (lw_at lw_m4 81 rfl) rfl
theorem q924 : (Jvm.Cond.selects "OneDrum$HearingReader" ({ cls := "OneDrum$Reader", name := "note", desc := "(II)V" } : Jvm.MethodName) ({ cls := "OneDrum$Reader", name := "note", desc := "(II)V" } : Jvm.MethodName)) ∈ lw_all := lw_g (lw_at lw_m4 87 rfl) rfl
theorem q929 : (Jvm.Cond.methodLink "OneDrum$HearingReader" (32 : Nat) ({ cls := "OneDrum$HearingReader", name := "isWord", desc := "()Z" } : Jvm.MethodName)) ∈ lw_all := lw_g (lw_at lw_m4 92 rfl) rfl
theorem q930 : (Jvm.Cond.sameMethod "OneDrum$HearingReader" "OneDrum$Reader" "isWord" "()Z") ∈ lw_all := lw_g (lw_at lw_m4 93 rfl) rfl
theorem q932 : (Jvm.Cond.selects "OneDrum$HearingReader" ({ cls := "OneDrum$HearingReader", name := "isWord", desc := "()Z" } : Jvm.MethodName) ({ cls := "OneDrum$Reader", name := "isWord", desc := "()Z" } : Jvm.MethodName)) ∈ lw_all := lw_g (lw_at lw_m4 95 rfl) rfl
theorem q935 : (Jvm.Cond.methodLink "OneDrum$HearingReader" (43 : Nat) ({ cls := "OneDrum$HearingReader", name := "oneOf", desc := "([Ljava/lang/String;)I" } : Jvm.MethodName)) ∈ lw_all := lw_g (lw_at lw_m4 98 rfl) rfl
theorem q936 : (Jvm.Cond.sameMethod "OneDrum$HearingReader" "OneDrum$Reader" "oneOf" "([Ljava/lang/String;)I") ∈ lw_all := lw_g (lw_at lw_m4 99 rfl) rfl
theorem q938 : (Jvm.Cond.selects "OneDrum$HearingReader" ({ cls := "OneDrum$HearingReader", name := "oneOf", desc := "([Ljava/lang/String;)I" } : Jvm.MethodName) ({ cls := "OneDrum$Reader", name := "oneOf", desc := "([Ljava/lang/String;)I" } : Jvm.MethodName)) ∈ lw_all := lw_g (lw_at lw_m4 101 rfl) rfl
theorem q939 : (Jvm.Cond.methodLink "OneDrum$HearingReader" (47 : Nat) ({ cls := "OneDrum$HearingReader", name := "note", desc := "(II)V" } : Jvm.MethodName)) ∈ lw_all := lw_g (lw_at lw_m4 102 rfl) rfl
theorem q940 : (Jvm.Cond.sameMethod "OneDrum$HearingReader" "OneDrum$Reader" "note" "(II)V") ∈ lw_all := lw_g (lw_at lw_m4 103 rfl) rfl
theorem q942 : (Jvm.Cond.selects "OneDrum$HearingReader" ({ cls := "OneDrum$HearingReader", name := "note", desc := "(II)V" } : Jvm.MethodName) ({ cls := "OneDrum$Reader", name := "note", desc := "(II)V" } : Jvm.MethodName)) ∈ lw_all := lw_g (lw_at lw_m4 105 rfl) rfl
theorem q943 : (Jvm.Cond.methodLink "OneDrum$HearingReader" (59 : Nat) ({ cls := "java/lang/Math", name := "min", desc := "(II)I" } : Jvm.MethodName)) ∈ lw_all := lw_g (lw_at lw_m4 106 rfl) rfl
theorem q963 : (Jvm.Cond.selects "OneDrum$HearingReader" ({ cls := "OneDrum$Reader", name := "beat", desc := "()I" } : Jvm.MethodName) ({ cls := "OneDrum$Reader", name := "beat", desc := "()I" } : Jvm.MethodName)) ∈ lw_all := lw_g (lw_at lw_m4 126 rfl) rfl
theorem q1104 : (Jvm.Cond.selects "OneDrum$HearingReader" ({ cls := "java/lang/Object", name := "getClass", desc := "()Ljava/lang/Class;" } : Jvm.MethodName) ({ cls := "java/lang/Object", name := "getClass", desc := "()Ljava/lang/Class;" } : Jvm.MethodName)) ∈ lw_all := lw_g (lw_at lw_m5 27 rfl) rfl
theorem q1196 : (Jvm.Cond.selects "OneDrum$HearingReader" ({ cls := "OneDrum$Reader", name := "lay", desc := "(I)I" } : Jvm.MethodName) ({ cls := "OneDrum$HearingReader", name := "lay", desc := "(I)I" } : Jvm.MethodName)) ∈ lw_all := lw_g (lw_at lw_m5 119 rfl) rfl
theorem q1197 : (Jvm.Cond.instanceMethod ({ cls := "OneDrum$HearingReader", name := "lay", desc := "(I)I" } : Jvm.MethodName)) ∈ lw_all := lw_g (lw_at lw_m5 120 rfl) rfl
theorem q1198 : (Jvm.Cond.code ({ cls := "OneDrum$HearingReader", name := "lay", desc := "(I)I" } : Jvm.MethodName) prog_9_method_4_code (2 : Nat) (Option.some Jvm.ClassFile.FieldType.int)) ∈ lw_all := lw_g (lw_at lw_m5 121 rfl) rfl
theorem q1199 : (Jvm.Cond.methodLinkNest "OneDrum$HearingReader" (77 : Nat) ({ cls := "OneDrum", name := "put", desc := "(Ljava/util/ArrayList;ILjava/lang/Object;)I" } : Jvm.MethodName) "OneDrum") ∈ lw_tbl := lw_at lw_m5 122 rfl
theorem q2209 : (Jvm.Cond.selects "OneDrum$HearingReader" ({ cls := "OneDrum$Reader", name := "isWord", desc := "()Z" } : Jvm.MethodName) ({ cls := "OneDrum$Reader", name := "isWord", desc := "()Z" } : Jvm.MethodName)) ∈ lw_all := lw_g (lw_at lw_m9 172 rfl) rfl
theorem q2231 : (Jvm.Cond.castable "OneDrum$HearingReader" "java/lang/Object") ∈ lw_tbl := lw_at lw_m9 194 rfl
theorem in_X12 : ∀ w ∈ wsX120, w ∈ lw_all := lw_in wsX120 [703, 704, 705, 706, 707, 708, 709, 710, 711, 712, 713, 699, 701] (by decide +kernel) (by decide +kernel)
/-! OneDrum$Hearing -/
set_option maxRecDepth 100000
def RX13 : String := "OneDrum$Hearing"
def TX13 : u_T := fun k => match k with
  | 0 => ("OneDrum$Hearing", "many", "[I", true)
  | _ => ("OneDrum$Hearing", "moves", "[I", true)
def tyX13 : Nat → FieldType := fun k => match k with
  | 0 => .array .int
  | _ => .array .int
abbrev wsX130 : List Cond := u_ws RX13 TX13 2
theorem nmX13 : ∀ a, a < 2 → ∀ b, b < 2 → a ≠ b → (TX13 a).2.1 ≠ (TX13 b).2.1 := by decide +kernel
theorem tyX13_ok : ∀ k, k < 2 → parseFieldDescriptor (TX13 k).2.2.1 = some (tyX13 k) := by decide +kernel
abbrev cX13_init : ByteArray := prog_8_method_1_code
def yX13_init : MethodName := ⟨RX13, "<init>", "()V"⟩
def dkwX13_init_1 : List UInt8 := [181, 0, 15, 177]
abbrev dktX13_init_1 : List UInt8 := dkwX13_init_1 ++ []
def dkwX13_init_0 : List UInt8 := [42, 183, 0, 3, 42, 5, 188, 10, 89, 3, 2, 79, 89, 4, 2, 79, 181, 0, 9, 42, 16, 12, 188, 10]
abbrev dktX13_init_0 : List UInt8 := dkwX13_init_0 ++ dktX13_init_1
theorem dksX13_init_0 : cX13_init.data.toList.drop 0 = dktX13_init_0 := by decide +kernel
theorem dksX13_init_1 : cX13_init.data.toList.drop 24 = dktX13_init_1 := dk_seg dksX13_init_0 24 rfl rfl
theorem dX13_init_0 : decode cX13_init 0 = .ok (.aload_n 0, 1) := dk_42 (dk_at dksX13_init_0 0 rfl rfl)
theorem dX13_init_1 : decode cX13_init 1 = .ok (.invokespecial 3, 3) := dk_183 0 3 (dk_at dksX13_init_0 1 rfl rfl)
theorem dX13_init_4 : decode cX13_init 4 = .ok (.aload_n 0, 1) := dk_42 (dk_at dksX13_init_0 4 rfl rfl)
theorem dX13_init_5 : decode cX13_init 5 = .ok (.iconst 2, 1) := dk_5 (dk_at dksX13_init_0 5 rfl rfl)
theorem dX13_init_6 : decode cX13_init 6 = .ok (.newarray .int, 2) := dk_188_10 (dk_at dksX13_init_0 6 rfl rfl)
theorem dX13_init_8 : decode cX13_init 8 = .ok (.dup, 1) := dk_89 (dk_at dksX13_init_0 8 rfl rfl)
theorem dX13_init_9 : decode cX13_init 9 = .ok (.iconst 0, 1) := dk_3 (dk_at dksX13_init_0 9 rfl rfl)
theorem dX13_init_10 : decode cX13_init 10 = .ok (.iconst (-1), 1) := dk_2 (dk_at dksX13_init_0 10 rfl rfl)
theorem dX13_init_11 : decode cX13_init 11 = .ok (.iastore, 1) := dk_79 (dk_at dksX13_init_0 11 rfl rfl)
theorem dX13_init_12 : decode cX13_init 12 = .ok (.dup, 1) := dk_89 (dk_at dksX13_init_0 12 rfl rfl)
theorem dX13_init_13 : decode cX13_init 13 = .ok (.iconst 1, 1) := dk_4 (dk_at dksX13_init_0 13 rfl rfl)
theorem dX13_init_14 : decode cX13_init 14 = .ok (.iconst (-1), 1) := dk_2 (dk_at dksX13_init_0 14 rfl rfl)
theorem dX13_init_15 : decode cX13_init 15 = .ok (.iastore, 1) := dk_79 (dk_at dksX13_init_0 15 rfl rfl)
theorem dX13_init_16 : decode cX13_init 16 = .ok (.putfield 9, 3) := dk_181 0 9 (dk_at dksX13_init_0 16 rfl rfl)
theorem dX13_init_19 : decode cX13_init 19 = .ok (.aload_n 0, 1) := dk_42 (dk_at dksX13_init_0 19 rfl rfl)
theorem dX13_init_20 : decode cX13_init 20 = .ok (.bipush 12, 2) := dk_16 12 (dk_at dksX13_init_0 20 rfl rfl)
theorem dX13_init_22 : decode cX13_init 22 = .ok (.newarray .int, 2) := dk_188_10 (dk_at dksX13_init_0 22 rfl rfl)
theorem dX13_init_24 : decode cX13_init 24 = .ok (.putfield 15, 3) := dk_181 0 15 (dk_at dksX13_init_1 0 rfl rfl)
theorem dX13_init_27 : decode cX13_init 27 = .ok (.return_, 1) := dk_177 (dk_at dksX13_init_1 3 rfl rfl)
theorem q134 : (Jvm.Cond.initialized "OneDrum$Hearing") ∈ lw_all := lw_g (lw_at lw_m1 17 rfl) rfl
theorem q679 : (Jvm.Cond.instantiable "OneDrum$Hearing" (2 : Nat)) ∈ lw_all := lw_g (lw_at lw_m3 82 rfl) rfl
theorem q681 : (Jvm.Cond.instanceMethod ({ cls := "OneDrum$Hearing", name := "<init>", desc := "()V" } : Jvm.MethodName)) ∈ lw_all := lw_g (lw_at lw_m3 84 rfl) rfl
theorem q682 : (Jvm.Cond.code ({ cls := "OneDrum$Hearing", name := "<init>", desc := "()V" } : Jvm.MethodName) prog_8_method_1_code (1 : Nat) (Option.none : Option Jvm.ClassFile.FieldType)) ∈ lw_all := lw_g (lw_at lw_m3 85 rfl) rfl
theorem q683 : (Jvm.Cond.methodLink "OneDrum$Hearing" (3 : Nat) ({ cls := "java/lang/Object", name := "<init>", desc := "()V" } : Jvm.MethodName)) ∈ lw_all := lw_g (lw_at lw_m3 86 rfl) rfl
theorem q684 : (Jvm.Cond.fieldLink "OneDrum$Hearing" (9 : Nat) "OneDrum$Hearing" "many" "[I") ∈ lw_all := lw_g (lw_at lw_m3 87 rfl) rfl
theorem q688 : (Jvm.Cond.fieldLink "OneDrum$Hearing" (15 : Nat) "OneDrum$Hearing" "moves" "[I") ∈ lw_all := lw_g (lw_at lw_m3 91 rfl) rfl
theorem q692 : (Jvm.Cond.laysFinal "OneDrum$Hearing" "OneDrum$Hearing" "many" "[I") ∈ lw_all := lw_g (lw_at lw_m3 95 rfl) rfl
theorem q693 : (Jvm.Cond.soleField "OneDrum$Hearing" "many") ∈ lw_all := lw_g (lw_at lw_m3 96 rfl) rfl
theorem q694 : (Jvm.Cond.laysFinal "OneDrum$Hearing" "OneDrum$Hearing" "moves" "[I") ∈ lw_all := lw_g (lw_at lw_m3 97 rfl) rfl
theorem q695 : (Jvm.Cond.soleField "OneDrum$Hearing" "moves") ∈ lw_all := lw_g (lw_at lw_m3 98 rfl) rfl
theorem q696 : (Jvm.Cond.superclass "OneDrum$Hearing" "java/lang/Object") ∈ lw_all := lw_g (lw_at lw_m3 99 rfl) rfl
theorem q1103 : (Jvm.Cond.selects "OneDrum$Hearing" ({ cls := "java/lang/Object", name := "getClass", desc := "()Ljava/lang/Class;" } : Jvm.MethodName) ({ cls := "java/lang/Object", name := "getClass", desc := "()Ljava/lang/Class;" } : Jvm.MethodName)) ∈ lw_all := lw_g (lw_at lw_m5 26 rfl) rfl
theorem q2232 : (Jvm.Cond.castable "OneDrum$Hearing" "java/lang/Object") ∈ lw_tbl := lw_at lw_m9 195 rfl
theorem in_X13 : ∀ w ∈ wsX130, w ∈ lw_all := lw_in wsX130 [692, 694] (by decide +kernel) (by decide +kernel)
/-! OneDrum$VillageReader -/
set_option maxRecDepth 100000
def RX14 : String := "OneDrum$VillageReader"
def TX14 : u_T := fun k => match k with
  | 0 => ("OneDrum$Reader", "length", "I", true)
  | 1 => ("OneDrum$Reader", "at", "I", false)
  | 2 => ("OneDrum$Reader", "sort", "I", false)
  | 3 => ("OneDrum$Reader", "value", "I", false)
  | 4 => ("OneDrum$Reader", "letters", "I", false)
  | 5 => ("OneDrum$Reader", "word", "J", false)
  | 6 => ("OneDrum$Reader", "place", "I", false)
  | 7 => ("OneDrum$Reader", "fault", "I", false)
  | 8 => ("OneDrum$Reader", "faultPlace", "I", false)
  | 9 => ("OneDrum$Reader", "good", "Z", false)
  | 10 => ("OneDrum$Reader", "this$0", "LOneDrum;", true)
  | 11 => ("OneDrum$VillageReader", "told", "LOneDrum$Villages;", true)
  | _ => ("OneDrum$VillageReader", "this$0", "LOneDrum;", true)
def tyX14 : Nat → FieldType := fun k => match k with
  | 0 => .int
  | 1 => .int
  | 2 => .int
  | 3 => .int
  | 4 => .int
  | 5 => .long
  | 6 => .int
  | 7 => .int
  | 8 => .int
  | 9 => .boolean
  | 10 => .object "OneDrum"
  | 11 => .object "OneDrum$Villages"
  | _ => .object "OneDrum"
abbrev wsX140 : List Cond := u_ws RX14 TX14 13
-- two fields of one name: no nmX14
set_option maxRecDepth 100000 in
theorem tyX14_ok : ∀ k, k < 13 → parseFieldDescriptor (TX14 k).2.2.1 = some (tyX14 k) := by decide +kernel
abbrev cX14_init : ByteArray := prog_18_method_1_code
def yX14_init : MethodName := ⟨RX14, "<init>", "(LOneDrum;I)V"⟩
def dkwX14_init_0 : List UInt8 := [42, 43, 181, 0, 3, 42, 43, 28, 183, 0, 9, 42, 187, 0, 15, 89, 183, 0, 17, 181, 0, 20, 177]
abbrev dktX14_init_0 : List UInt8 := dkwX14_init_0 ++ []
theorem dksX14_init_0 : cX14_init.data.toList.drop 0 = dktX14_init_0 := by decide +kernel
theorem dX14_init_0 : decode cX14_init 0 = .ok (.aload_n 0, 1) := dk_42 (dk_at dksX14_init_0 0 rfl rfl)
theorem dX14_init_1 : decode cX14_init 1 = .ok (.aload_n 1, 1) := dk_43 (dk_at dksX14_init_0 1 rfl rfl)
theorem dX14_init_2 : decode cX14_init 2 = .ok (.putfield 3, 3) := dk_181 0 3 (dk_at dksX14_init_0 2 rfl rfl)
theorem dX14_init_5 : decode cX14_init 5 = .ok (.aload_n 0, 1) := dk_42 (dk_at dksX14_init_0 5 rfl rfl)
theorem dX14_init_6 : decode cX14_init 6 = .ok (.aload_n 1, 1) := dk_43 (dk_at dksX14_init_0 6 rfl rfl)
theorem dX14_init_7 : decode cX14_init 7 = .ok (.iload_n 2, 1) := dk_28 (dk_at dksX14_init_0 7 rfl rfl)
theorem dX14_init_8 : decode cX14_init 8 = .ok (.invokespecial 9, 3) := dk_183 0 9 (dk_at dksX14_init_0 8 rfl rfl)
theorem dX14_init_11 : decode cX14_init 11 = .ok (.aload_n 0, 1) := dk_42 (dk_at dksX14_init_0 11 rfl rfl)
theorem dX14_init_12 : decode cX14_init 12 = .ok (.new 15, 3) := dk_187 0 15 (dk_at dksX14_init_0 12 rfl rfl)
theorem dX14_init_15 : decode cX14_init 15 = .ok (.dup, 1) := dk_89 (dk_at dksX14_init_0 15 rfl rfl)
theorem dX14_init_16 : decode cX14_init 16 = .ok (.invokespecial 17, 3) := dk_183 0 17 (dk_at dksX14_init_0 16 rfl rfl)
theorem dX14_init_19 : decode cX14_init 19 = .ok (.putfield 20, 3) := dk_181 0 20 (dk_at dksX14_init_0 19 rfl rfl)
theorem dX14_init_22 : decode cX14_init 22 = .ok (.return_, 1) := dk_177 (dk_at dksX14_init_0 22 rfl rfl)
abbrev cX14_words : ByteArray := prog_18_method_2_code
def yX14_words : MethodName := ⟨RX14, "words", "()[Ljava/lang/String;"⟩
def dkwX14_words_0 : List UInt8 := [42, 180, 0, 3, 180, 0, 24, 176]
abbrev dktX14_words_0 : List UInt8 := dkwX14_words_0 ++ []
theorem dksX14_words_0 : cX14_words.data.toList.drop 0 = dktX14_words_0 := by decide +kernel
theorem dX14_words_0 : decode cX14_words 0 = .ok (.aload_n 0, 1) := dk_42 (dk_at dksX14_words_0 0 rfl rfl)
theorem dX14_words_1 : decode cX14_words 1 = .ok (.getfield 3, 3) := dk_180 0 3 (dk_at dksX14_words_0 1 rfl rfl)
theorem dX14_words_4 : decode cX14_words 4 = .ok (.getfield 24, 3) := dk_180 0 24 (dk_at dksX14_words_0 4 rfl rfl)
theorem dX14_words_7 : decode cX14_words 7 = .ok (.areturn, 1) := dk_176 (dk_at dksX14_words_0 7 rfl rfl)
abbrev cX14_line : ByteArray := prog_18_method_6_code
def yX14_line : MethodName := ⟨RX14, "line", "(II)V"⟩
def dkwX14_line_2 : List UInt8 := [180, 0, 36, 45, 180, 0, 91, 182, 0, 95, 192, 0, 92, 180, 0, 99, 4, 96, 181, 0, 99, 177]
abbrev dktX14_line_2 : List UInt8 := dkwX14_line_2 ++ []
def dkwX14_line_1 : List UInt8 := [180, 0, 88, 154, 0, 42, 45, 45, 180, 0, 91, 16, 8, 160, 0, 7, 4, 167, 0, 25, 42, 180, 0, 20]
abbrev dktX14_line_1 : List UInt8 := dkwX14_line_1 ++ dktX14_line_2
def dkwX14_line_0 : List UInt8 := [42, 27, 182, 0, 81, 78, 42, 42, 180, 0, 20, 180, 0, 36, 45, 16, 8, 28, 182, 0, 84, 42]
abbrev dktX14_line_0 : List UInt8 := dkwX14_line_0 ++ dktX14_line_1
theorem dksX14_line_0 : cX14_line.data.toList.drop 0 = dktX14_line_0 := by decide +kernel
theorem dksX14_line_1 : cX14_line.data.toList.drop 22 = dktX14_line_1 := dk_seg dksX14_line_0 22 rfl rfl
theorem dksX14_line_2 : cX14_line.data.toList.drop 46 = dktX14_line_2 := dk_seg dksX14_line_1 24 rfl rfl
theorem dX14_line_0 : decode cX14_line 0 = .ok (.aload_n 0, 1) := dk_42 (dk_at dksX14_line_0 0 rfl rfl)
theorem dX14_line_1 : decode cX14_line 1 = .ok (.iload_n 1, 1) := dk_27 (dk_at dksX14_line_0 1 rfl rfl)
theorem dX14_line_2 : decode cX14_line 2 = .ok (.invokevirtual 81, 3) := dk_182 0 81 (dk_at dksX14_line_0 2 rfl rfl)
theorem dX14_line_5 : decode cX14_line 5 = .ok (.astore_n 3, 1) := dk_78 (dk_at dksX14_line_0 5 rfl rfl)
theorem dX14_line_6 : decode cX14_line 6 = .ok (.aload_n 0, 1) := dk_42 (dk_at dksX14_line_0 6 rfl rfl)
theorem dX14_line_7 : decode cX14_line 7 = .ok (.aload_n 0, 1) := dk_42 (dk_at dksX14_line_0 7 rfl rfl)
theorem dX14_line_8 : decode cX14_line 8 = .ok (.getfield 20, 3) := dk_180 0 20 (dk_at dksX14_line_0 8 rfl rfl)
theorem dX14_line_11 : decode cX14_line 11 = .ok (.getfield 36, 3) := dk_180 0 36 (dk_at dksX14_line_0 11 rfl rfl)
theorem dX14_line_14 : decode cX14_line 14 = .ok (.aload_n 3, 1) := dk_45 (dk_at dksX14_line_0 14 rfl rfl)
theorem dX14_line_15 : decode cX14_line 15 = .ok (.bipush 8, 2) := dk_16 8 (dk_at dksX14_line_0 15 rfl rfl)
theorem dX14_line_17 : decode cX14_line 17 = .ok (.iload_n 2, 1) := dk_28 (dk_at dksX14_line_0 17 rfl rfl)
theorem dX14_line_18 : decode cX14_line 18 = .ok (.invokevirtual 84, 3) := dk_182 0 84 (dk_at dksX14_line_0 18 rfl rfl)
theorem dX14_line_21 : decode cX14_line 21 = .ok (.aload_n 0, 1) := dk_42 (dk_at dksX14_line_0 21 rfl rfl)
theorem dX14_line_22 : decode cX14_line 22 = .ok (.getfield 88, 3) := dk_180 0 88 (dk_at dksX14_line_1 0 rfl rfl)
theorem dX14_line_25 : decode cX14_line 25 = .ok (.ifCond .ne 42, 3) := dk_154 0 42 (dk_at dksX14_line_1 3 rfl rfl)
theorem dX14_line_28 : decode cX14_line 28 = .ok (.aload_n 3, 1) := dk_45 (dk_at dksX14_line_1 6 rfl rfl)
theorem dX14_line_29 : decode cX14_line 29 = .ok (.aload_n 3, 1) := dk_45 (dk_at dksX14_line_1 7 rfl rfl)
theorem dX14_line_30 : decode cX14_line 30 = .ok (.getfield 91, 3) := dk_180 0 91 (dk_at dksX14_line_1 8 rfl rfl)
theorem dX14_line_33 : decode cX14_line 33 = .ok (.bipush 8, 2) := dk_16 8 (dk_at dksX14_line_1 11 rfl rfl)
theorem dX14_line_35 : decode cX14_line 35 = .ok (.if_icmp .ne 7, 3) := dk_160 0 7 (dk_at dksX14_line_1 13 rfl rfl)
theorem dX14_line_38 : decode cX14_line 38 = .ok (.iconst 1, 1) := dk_4 (dk_at dksX14_line_1 16 rfl rfl)
theorem dX14_line_39 : decode cX14_line 39 = .ok (.goto 25, 3) := dk_167 0 25 (dk_at dksX14_line_1 17 rfl rfl)
theorem dX14_line_42 : decode cX14_line 42 = .ok (.aload_n 0, 1) := dk_42 (dk_at dksX14_line_1 20 rfl rfl)
theorem dX14_line_43 : decode cX14_line 43 = .ok (.getfield 20, 3) := dk_180 0 20 (dk_at dksX14_line_1 21 rfl rfl)
theorem dX14_line_46 : decode cX14_line 46 = .ok (.getfield 36, 3) := dk_180 0 36 (dk_at dksX14_line_2 0 rfl rfl)
theorem dX14_line_49 : decode cX14_line 49 = .ok (.aload_n 3, 1) := dk_45 (dk_at dksX14_line_2 3 rfl rfl)
theorem dX14_line_50 : decode cX14_line 50 = .ok (.getfield 91, 3) := dk_180 0 91 (dk_at dksX14_line_2 4 rfl rfl)
theorem dX14_line_53 : decode cX14_line 53 = .ok (.invokevirtual 95, 3) := dk_182 0 95 (dk_at dksX14_line_2 7 rfl rfl)
theorem dX14_line_56 : decode cX14_line 56 = .ok (.checkcast 92, 3) := dk_192 0 92 (dk_at dksX14_line_2 10 rfl rfl)
theorem dX14_line_59 : decode cX14_line 59 = .ok (.getfield 99, 3) := dk_180 0 99 (dk_at dksX14_line_2 13 rfl rfl)
theorem dX14_line_62 : decode cX14_line 62 = .ok (.iconst 1, 1) := dk_4 (dk_at dksX14_line_2 16 rfl rfl)
theorem dX14_line_63 : decode cX14_line 63 = .ok (.iadd, 1) := dk_96 (dk_at dksX14_line_2 17 rfl rfl)
theorem dX14_line_64 : decode cX14_line 64 = .ok (.putfield 99, 3) := dk_181 0 99 (dk_at dksX14_line_2 18 rfl rfl)
theorem dX14_line_67 : decode cX14_line 67 = .ok (.return_, 1) := dk_177 (dk_at dksX14_line_2 21 rfl rfl)
abbrev cX14_change : ByteArray := prog_18_method_5_code
def yX14_change : MethodName := ⟨RX14, "change", "(I)LOneDrum$Change;"⟩
def dkwX14_change_3 : List UInt8 := [187, 0, 73, 89, 28, 42, 182, 0, 54, 183, 0, 75, 176, 187, 0, 76, 89, 28, 183, 0, 78, 176]
abbrev dktX14_change_3 : List UInt8 := dkwX14_change_3 ++ []
def dkwX14_change_2 : List UInt8 := [187, 0, 65, 89, 28, 42, 4, 16, 9, 182, 0, 32, 183, 0, 67, 176, 42, 28, 182, 0, 69, 176]
abbrev dktX14_change_2 : List UInt8 := dkwX14_change_2 ++ dktX14_change_3
def dkwX14_change_1 : List UInt8 := [170, 0, 0, 0, 0, 61, 0, 0, 0, 0, 0, 0, 0, 2, 0, 0, 0, 26, 0, 0, 0, 42, 0, 0, 0, 48]
abbrev dktX14_change_1 : List UInt8 := dkwX14_change_1 ++ dktX14_change_2
def dkwX14_change_0 : List UInt8 := [42, 182, 0, 62, 61, 27]
abbrev dktX14_change_0 : List UInt8 := dkwX14_change_0 ++ dktX14_change_1
theorem dksX14_change_0 : cX14_change.data.toList.drop 0 = dktX14_change_0 := by decide +kernel
theorem dksX14_change_1 : cX14_change.data.toList.drop 6 = dktX14_change_1 := dk_seg dksX14_change_0 6 rfl rfl
theorem dksX14_change_2 : cX14_change.data.toList.drop 32 = dktX14_change_2 := dk_seg dksX14_change_1 26 rfl rfl
theorem dksX14_change_3 : cX14_change.data.toList.drop 54 = dktX14_change_3 := dk_seg dksX14_change_2 22 rfl rfl
theorem dX14_change_0 : decode cX14_change 0 = .ok (.aload_n 0, 1) := dk_42 (dk_at dksX14_change_0 0 rfl rfl)
theorem dX14_change_1 : decode cX14_change 1 = .ok (.invokevirtual 62, 3) := dk_182 0 62 (dk_at dksX14_change_0 1 rfl rfl)
theorem dX14_change_4 : decode cX14_change 4 = .ok (.istore_n 2, 1) := dk_61 (dk_at dksX14_change_0 4 rfl rfl)
theorem dX14_change_5 : decode cX14_change 5 = .ok (.iload_n 1, 1) := dk_27 (dk_at dksX14_change_0 5 rfl rfl)
theorem dX14_change_6 : decode cX14_change 6 = .ok (.tableswitch 61 0 2 #[26, 42, 48], 26) := by decide +kernel
theorem dX14_change_32 : decode cX14_change 32 = .ok (.new 65, 3) := dk_187 0 65 (dk_at dksX14_change_2 0 rfl rfl)
theorem dX14_change_35 : decode cX14_change 35 = .ok (.dup, 1) := dk_89 (dk_at dksX14_change_2 3 rfl rfl)
theorem dX14_change_36 : decode cX14_change 36 = .ok (.iload_n 2, 1) := dk_28 (dk_at dksX14_change_2 4 rfl rfl)
theorem dX14_change_37 : decode cX14_change 37 = .ok (.aload_n 0, 1) := dk_42 (dk_at dksX14_change_2 5 rfl rfl)
theorem dX14_change_38 : decode cX14_change 38 = .ok (.iconst 1, 1) := dk_4 (dk_at dksX14_change_2 6 rfl rfl)
theorem dX14_change_39 : decode cX14_change 39 = .ok (.bipush 9, 2) := dk_16 9 (dk_at dksX14_change_2 7 rfl rfl)
theorem dX14_change_41 : decode cX14_change 41 = .ok (.invokevirtual 32, 3) := dk_182 0 32 (dk_at dksX14_change_2 9 rfl rfl)
theorem dX14_change_44 : decode cX14_change 44 = .ok (.invokespecial 67, 3) := dk_183 0 67 (dk_at dksX14_change_2 12 rfl rfl)
theorem dX14_change_47 : decode cX14_change 47 = .ok (.areturn, 1) := dk_176 (dk_at dksX14_change_2 15 rfl rfl)
theorem dX14_change_48 : decode cX14_change 48 = .ok (.aload_n 0, 1) := dk_42 (dk_at dksX14_change_2 16 rfl rfl)
theorem dX14_change_49 : decode cX14_change 49 = .ok (.iload_n 2, 1) := dk_28 (dk_at dksX14_change_2 17 rfl rfl)
theorem dX14_change_50 : decode cX14_change 50 = .ok (.invokevirtual 69, 3) := dk_182 0 69 (dk_at dksX14_change_2 18 rfl rfl)
theorem dX14_change_53 : decode cX14_change 53 = .ok (.areturn, 1) := dk_176 (dk_at dksX14_change_2 21 rfl rfl)
theorem dX14_change_54 : decode cX14_change 54 = .ok (.new 73, 3) := dk_187 0 73 (dk_at dksX14_change_3 0 rfl rfl)
theorem dX14_change_57 : decode cX14_change 57 = .ok (.dup, 1) := dk_89 (dk_at dksX14_change_3 3 rfl rfl)
theorem dX14_change_58 : decode cX14_change 58 = .ok (.iload_n 2, 1) := dk_28 (dk_at dksX14_change_3 4 rfl rfl)
theorem dX14_change_59 : decode cX14_change 59 = .ok (.aload_n 0, 1) := dk_42 (dk_at dksX14_change_3 5 rfl rfl)
theorem dX14_change_60 : decode cX14_change 60 = .ok (.invokevirtual 54, 3) := dk_182 0 54 (dk_at dksX14_change_3 6 rfl rfl)
theorem dX14_change_63 : decode cX14_change 63 = .ok (.invokespecial 75, 3) := dk_183 0 75 (dk_at dksX14_change_3 9 rfl rfl)
theorem dX14_change_66 : decode cX14_change 66 = .ok (.areturn, 1) := dk_176 (dk_at dksX14_change_3 12 rfl rfl)
theorem dX14_change_67 : decode cX14_change 67 = .ok (.new 76, 3) := dk_187 0 76 (dk_at dksX14_change_3 13 rfl rfl)
theorem dX14_change_70 : decode cX14_change 70 = .ok (.dup, 1) := dk_89 (dk_at dksX14_change_3 16 rfl rfl)
theorem dX14_change_71 : decode cX14_change 71 = .ok (.iload_n 2, 1) := dk_28 (dk_at dksX14_change_3 17 rfl rfl)
theorem dX14_change_72 : decode cX14_change 72 = .ok (.invokespecial 78, 3) := dk_183 0 78 (dk_at dksX14_change_3 18 rfl rfl)
theorem dX14_change_75 : decode cX14_change 75 = .ok (.areturn, 1) := dk_176 (dk_at dksX14_change_3 21 rfl rfl)
abbrev cX14_parent : ByteArray := prog_18_method_3_code
def yX14_parent : MethodName := ⟨RX14, "parent", "()I"⟩
def dkwX14_parent_1 : List UInt8 := [16, 7, 184, 0, 46, 153, 0, 9, 42, 5, 27, 182, 0, 50, 28, 172]
abbrev dktX14_parent_1 : List UInt8 := dkwX14_parent_1 ++ []
def dkwX14_parent_0 : List UInt8 := [42, 180, 0, 28, 60, 42, 3, 16, 8, 182, 0, 32, 61, 28, 42, 180, 0, 20, 180, 0, 36, 182, 0, 40]
abbrev dktX14_parent_0 : List UInt8 := dkwX14_parent_0 ++ dktX14_parent_1
theorem dksX14_parent_0 : cX14_parent.data.toList.drop 0 = dktX14_parent_0 := by decide +kernel
theorem dksX14_parent_1 : cX14_parent.data.toList.drop 24 = dktX14_parent_1 := dk_seg dksX14_parent_0 24 rfl rfl
theorem dX14_parent_0 : decode cX14_parent 0 = .ok (.aload_n 0, 1) := dk_42 (dk_at dksX14_parent_0 0 rfl rfl)
theorem dX14_parent_1 : decode cX14_parent 1 = .ok (.getfield 28, 3) := dk_180 0 28 (dk_at dksX14_parent_0 1 rfl rfl)
theorem dX14_parent_4 : decode cX14_parent 4 = .ok (.istore_n 1, 1) := dk_60 (dk_at dksX14_parent_0 4 rfl rfl)
theorem dX14_parent_5 : decode cX14_parent 5 = .ok (.aload_n 0, 1) := dk_42 (dk_at dksX14_parent_0 5 rfl rfl)
theorem dX14_parent_6 : decode cX14_parent 6 = .ok (.iconst 0, 1) := dk_3 (dk_at dksX14_parent_0 6 rfl rfl)
theorem dX14_parent_7 : decode cX14_parent 7 = .ok (.bipush 8, 2) := dk_16 8 (dk_at dksX14_parent_0 7 rfl rfl)
theorem dX14_parent_9 : decode cX14_parent 9 = .ok (.invokevirtual 32, 3) := dk_182 0 32 (dk_at dksX14_parent_0 9 rfl rfl)
theorem dX14_parent_12 : decode cX14_parent 12 = .ok (.istore_n 2, 1) := dk_61 (dk_at dksX14_parent_0 12 rfl rfl)
theorem dX14_parent_13 : decode cX14_parent 13 = .ok (.iload_n 2, 1) := dk_28 (dk_at dksX14_parent_0 13 rfl rfl)
theorem dX14_parent_14 : decode cX14_parent 14 = .ok (.aload_n 0, 1) := dk_42 (dk_at dksX14_parent_0 14 rfl rfl)
theorem dX14_parent_15 : decode cX14_parent 15 = .ok (.getfield 20, 3) := dk_180 0 20 (dk_at dksX14_parent_0 15 rfl rfl)
theorem dX14_parent_18 : decode cX14_parent 18 = .ok (.getfield 36, 3) := dk_180 0 36 (dk_at dksX14_parent_0 18 rfl rfl)
theorem dX14_parent_21 : decode cX14_parent 21 = .ok (.invokevirtual 40, 3) := dk_182 0 40 (dk_at dksX14_parent_0 21 rfl rfl)
theorem dX14_parent_24 : decode cX14_parent 24 = .ok (.bipush 7, 2) := dk_16 7 (dk_at dksX14_parent_1 0 rfl rfl)
theorem dX14_parent_26 : decode cX14_parent 26 = .ok (.invokestatic 46, 3) := dk_184 0 46 (dk_at dksX14_parent_1 2 rfl rfl)
theorem dX14_parent_29 : decode cX14_parent 29 = .ok (.ifCond .eq 9, 3) := dk_153 0 9 (dk_at dksX14_parent_1 5 rfl rfl)
theorem dX14_parent_32 : decode cX14_parent 32 = .ok (.aload_n 0, 1) := dk_42 (dk_at dksX14_parent_1 8 rfl rfl)
theorem dX14_parent_33 : decode cX14_parent 33 = .ok (.iconst 2, 1) := dk_5 (dk_at dksX14_parent_1 9 rfl rfl)
theorem dX14_parent_34 : decode cX14_parent 34 = .ok (.iload_n 1, 1) := dk_27 (dk_at dksX14_parent_1 10 rfl rfl)
theorem dX14_parent_35 : decode cX14_parent 35 = .ok (.invokevirtual 50, 3) := dk_182 0 50 (dk_at dksX14_parent_1 11 rfl rfl)
theorem dX14_parent_38 : decode cX14_parent 38 = .ok (.iload_n 2, 1) := dk_28 (dk_at dksX14_parent_1 14 rfl rfl)
theorem dX14_parent_39 : decode cX14_parent 39 = .ok (.ireturn, 1) := dk_172 (dk_at dksX14_parent_1 15 rfl rfl)
abbrev cX14_swap : ByteArray := prog_18_method_4_code
def yX14_swap : MethodName := ⟨RX14, "swap", "(I)LOneDrum$Change;"⟩
def dkwX14_swap_1 : List UInt8 := [29, 182, 0, 50, 187, 0, 57, 89, 27, 28, 21, 4, 183, 0, 59, 176]
abbrev dktX14_swap_1 : List UInt8 := dkwX14_swap_1 ++ []
def dkwX14_swap_0 : List UInt8 := [42, 182, 0, 54, 61, 42, 180, 0, 28, 62, 42, 182, 0, 54, 54, 4, 28, 21, 4, 160, 0, 9, 42, 7]
abbrev dktX14_swap_0 : List UInt8 := dkwX14_swap_0 ++ dktX14_swap_1
theorem dksX14_swap_0 : cX14_swap.data.toList.drop 0 = dktX14_swap_0 := by decide +kernel
theorem dksX14_swap_1 : cX14_swap.data.toList.drop 24 = dktX14_swap_1 := dk_seg dksX14_swap_0 24 rfl rfl
theorem dX14_swap_0 : decode cX14_swap 0 = .ok (.aload_n 0, 1) := dk_42 (dk_at dksX14_swap_0 0 rfl rfl)
theorem dX14_swap_1 : decode cX14_swap 1 = .ok (.invokevirtual 54, 3) := dk_182 0 54 (dk_at dksX14_swap_0 1 rfl rfl)
theorem dX14_swap_4 : decode cX14_swap 4 = .ok (.istore_n 2, 1) := dk_61 (dk_at dksX14_swap_0 4 rfl rfl)
theorem dX14_swap_5 : decode cX14_swap 5 = .ok (.aload_n 0, 1) := dk_42 (dk_at dksX14_swap_0 5 rfl rfl)
theorem dX14_swap_6 : decode cX14_swap 6 = .ok (.getfield 28, 3) := dk_180 0 28 (dk_at dksX14_swap_0 6 rfl rfl)
theorem dX14_swap_9 : decode cX14_swap 9 = .ok (.istore_n 3, 1) := dk_62 (dk_at dksX14_swap_0 9 rfl rfl)
theorem dX14_swap_10 : decode cX14_swap 10 = .ok (.aload_n 0, 1) := dk_42 (dk_at dksX14_swap_0 10 rfl rfl)
theorem dX14_swap_11 : decode cX14_swap 11 = .ok (.invokevirtual 54, 3) := dk_182 0 54 (dk_at dksX14_swap_0 11 rfl rfl)
theorem dX14_swap_14 : decode cX14_swap 14 = .ok (.istore 4, 2) := dk_54 4 (dk_at dksX14_swap_0 14 rfl rfl)
theorem dX14_swap_16 : decode cX14_swap 16 = .ok (.iload_n 2, 1) := dk_28 (dk_at dksX14_swap_0 16 rfl rfl)
theorem dX14_swap_17 : decode cX14_swap 17 = .ok (.iload 4, 2) := dk_21 4 (dk_at dksX14_swap_0 17 rfl rfl)
theorem dX14_swap_19 : decode cX14_swap 19 = .ok (.if_icmp .ne 9, 3) := dk_160 0 9 (dk_at dksX14_swap_0 19 rfl rfl)
theorem dX14_swap_22 : decode cX14_swap 22 = .ok (.aload_n 0, 1) := dk_42 (dk_at dksX14_swap_0 22 rfl rfl)
theorem dX14_swap_23 : decode cX14_swap 23 = .ok (.iconst 4, 1) := dk_7 (dk_at dksX14_swap_0 23 rfl rfl)
theorem dX14_swap_24 : decode cX14_swap 24 = .ok (.iload_n 3, 1) := dk_29 (dk_at dksX14_swap_1 0 rfl rfl)
theorem dX14_swap_25 : decode cX14_swap 25 = .ok (.invokevirtual 50, 3) := dk_182 0 50 (dk_at dksX14_swap_1 1 rfl rfl)
theorem dX14_swap_28 : decode cX14_swap 28 = .ok (.new 57, 3) := dk_187 0 57 (dk_at dksX14_swap_1 4 rfl rfl)
theorem dX14_swap_31 : decode cX14_swap 31 = .ok (.dup, 1) := dk_89 (dk_at dksX14_swap_1 7 rfl rfl)
theorem dX14_swap_32 : decode cX14_swap 32 = .ok (.iload_n 1, 1) := dk_27 (dk_at dksX14_swap_1 8 rfl rfl)
theorem dX14_swap_33 : decode cX14_swap 33 = .ok (.iload_n 2, 1) := dk_28 (dk_at dksX14_swap_1 9 rfl rfl)
theorem dX14_swap_34 : decode cX14_swap 34 = .ok (.iload 4, 2) := dk_21 4 (dk_at dksX14_swap_1 10 rfl rfl)
theorem dX14_swap_36 : decode cX14_swap 36 = .ok (.invokespecial 59, 3) := dk_183 0 59 (dk_at dksX14_swap_1 12 rfl rfl)
theorem dX14_swap_39 : decode cX14_swap 39 = .ok (.areturn, 1) := dk_176 (dk_at dksX14_swap_1 15 rfl rfl)
abbrev cX14_lay : ByteArray := prog_18_method_7_code
def yX14_lay : MethodName := ⟨RX14, "lay", "(I)I"⟩
def dkwX14_lay_0 : List UInt8 := [42, 180, 0, 3, 180, 0, 102, 180, 0, 106, 27, 42, 180, 0, 20, 184, 0, 111, 172]
abbrev dktX14_lay_0 : List UInt8 := dkwX14_lay_0 ++ []
theorem dksX14_lay_0 : cX14_lay.data.toList.drop 0 = dktX14_lay_0 := by decide +kernel
theorem dX14_lay_0 : decode cX14_lay 0 = .ok (.aload_n 0, 1) := dk_42 (dk_at dksX14_lay_0 0 rfl rfl)
theorem dX14_lay_1 : decode cX14_lay 1 = .ok (.getfield 3, 3) := dk_180 0 3 (dk_at dksX14_lay_0 1 rfl rfl)
theorem dX14_lay_4 : decode cX14_lay 4 = .ok (.getfield 102, 3) := dk_180 0 102 (dk_at dksX14_lay_0 4 rfl rfl)
theorem dX14_lay_7 : decode cX14_lay 7 = .ok (.getfield 106, 3) := dk_180 0 106 (dk_at dksX14_lay_0 7 rfl rfl)
theorem dX14_lay_10 : decode cX14_lay 10 = .ok (.iload_n 1, 1) := dk_27 (dk_at dksX14_lay_0 10 rfl rfl)
theorem dX14_lay_11 : decode cX14_lay 11 = .ok (.aload_n 0, 1) := dk_42 (dk_at dksX14_lay_0 11 rfl rfl)
theorem dX14_lay_12 : decode cX14_lay 12 = .ok (.getfield 20, 3) := dk_180 0 20 (dk_at dksX14_lay_0 12 rfl rfl)
theorem dX14_lay_15 : decode cX14_lay 15 = .ok (.invokestatic 111, 3) := dk_184 0 111 (dk_at dksX14_lay_0 15 rfl rfl)
theorem dX14_lay_18 : decode cX14_lay 18 = .ok (.ireturn, 1) := dk_172 (dk_at dksX14_lay_0 18 rfl rfl)
theorem q135 : (Jvm.Cond.initialized "OneDrum$VillageReader") ∈ lw_all := lw_g (lw_at lw_m1 18 rfl) rfl
theorem q242 : (Jvm.Cond.fieldLink "OneDrum$VillageReader" (106 : Nat) "OneDrum$All" "villages" "Ljava/util/ArrayList;") ∈ lw_all := lw_g (lw_at lw_m1 125 rfl) rfl
theorem q370 : (Jvm.Cond.fieldLinkNest "OneDrum$VillageReader" (24 : Nat) "OneDrum" "villageWords" "[Ljava/lang/String;" "OneDrum") ∈ lw_tbl := lw_at lw_m2 13 rfl
theorem q377 : (Jvm.Cond.fieldLinkNest "OneDrum$VillageReader" (102 : Nat) "OneDrum" "all" "LOneDrum$All;" "OneDrum") ∈ lw_tbl := lw_at lw_m2 20 rfl
theorem q588 : (Jvm.Cond.fieldLink "OneDrum$VillageReader" (28 : Nat) "OneDrum$VillageReader" "place" "I") ∈ lw_all := lw_g (lw_at lw_m2 231 rfl) rfl
theorem q589 : (Jvm.Cond.sameField "OneDrum$VillageReader" "OneDrum$Reader" "place" "I") ∈ lw_all := lw_g (lw_at lw_m2 232 rfl) rfl
theorem q593 : (Jvm.Cond.fieldLink "OneDrum$VillageReader" (88 : Nat) "OneDrum$VillageReader" "fault" "I") ∈ lw_all := lw_g (lw_at lw_m2 236 rfl) rfl
theorem q594 : (Jvm.Cond.sameField "OneDrum$VillageReader" "OneDrum$Reader" "fault" "I") ∈ lw_all := lw_g (lw_at lw_m2 237 rfl) rfl
theorem q716 : (Jvm.Cond.instantiable "OneDrum$VillageReader" (13 : Nat)) ∈ lw_all := lw_g (lw_at lw_m3 119 rfl) rfl
theorem q718 : (Jvm.Cond.instanceMethod ({ cls := "OneDrum$VillageReader", name := "<init>", desc := "(LOneDrum;I)V" } : Jvm.MethodName)) ∈ lw_all := lw_g (lw_at lw_m3 121 rfl) rfl
theorem q719 : (Jvm.Cond.code ({ cls := "OneDrum$VillageReader", name := "<init>", desc := "(LOneDrum;I)V" } : Jvm.MethodName) prog_18_method_1_code (3 : Nat) (Option.none : Option Jvm.ClassFile.FieldType)) ∈ lw_all := lw_g (lw_at lw_m3 122 rfl) rfl
theorem q720 : (Jvm.Cond.methodLink "OneDrum$VillageReader" (9 : Nat) ({ cls := "OneDrum$Reader", name := "<init>", desc := "(LOneDrum;I)V" } : Jvm.MethodName)) ∈ lw_all := lw_g (lw_at lw_m3 123 rfl) rfl
theorem q721 : (Jvm.Cond.classLink "OneDrum$VillageReader" (15 : Nat) "OneDrum$Villages") ∈ lw_all := lw_g (lw_at lw_m3 124 rfl) rfl
theorem q723 : (Jvm.Cond.methodLinkNest "OneDrum$VillageReader" (17 : Nat) ({ cls := "OneDrum$Villages", name := "<init>", desc := "()V" } : Jvm.MethodName) "OneDrum") ∈ lw_tbl := lw_at lw_m3 126 rfl
theorem q730 : (Jvm.Cond.fieldLink "OneDrum$VillageReader" (36 : Nat) "OneDrum$Villages" "changes" "Ljava/util/ArrayList;") ∈ lw_all := lw_g (lw_at lw_m3 133 rfl) rfl
theorem q735 : (Jvm.Cond.fieldLink "OneDrum$VillageReader" (20 : Nat) "OneDrum$VillageReader" "told" "LOneDrum$Villages;") ∈ lw_all := lw_g (lw_at lw_m3 138 rfl) rfl
theorem q736 : (Jvm.Cond.fieldLink "OneDrum$VillageReader" (3 : Nat) "OneDrum$VillageReader" "this$0" "LOneDrum;") ∈ lw_all := lw_g (lw_at lw_m3 139 rfl) rfl
theorem q737 : (Jvm.Cond.laysFinal "OneDrum$VillageReader" "OneDrum$VillageReader" "told" "LOneDrum$Villages;") ∈ lw_all := lw_g (lw_at lw_m3 140 rfl) rfl
theorem q738 : (Jvm.Cond.soleField "OneDrum$VillageReader" "told") ∈ lw_all := lw_g (lw_at lw_m3 141 rfl) rfl
theorem q739 : (Jvm.Cond.laysFinal "OneDrum$VillageReader" "OneDrum$VillageReader" "this$0" "LOneDrum;") ∈ lw_all := lw_g (lw_at lw_m3 142 rfl) rfl
theorem q740 : (Jvm.Cond.soleField "OneDrum$VillageReader" "this$0") ∈ lw_all := lw_g (lw_at lw_m3 143 rfl) rfl
theorem q741 : (Jvm.Cond.laysFinal "OneDrum$VillageReader" "OneDrum$Reader" "length" "I") ∈ lw_all := lw_g (lw_at lw_m3 144 rfl) rfl
theorem q742 : (Jvm.Cond.lays "OneDrum$VillageReader" "OneDrum$Reader" "at" "I") ∈ lw_all := lw_g (lw_at lw_m3 145 rfl) rfl
theorem q743 : (Jvm.Cond.lays "OneDrum$VillageReader" "OneDrum$Reader" "sort" "I") ∈ lw_all := lw_g (lw_at lw_m3 146 rfl) rfl
theorem q744 : (Jvm.Cond.lays "OneDrum$VillageReader" "OneDrum$Reader" "value" "I") ∈ lw_all := lw_g (lw_at lw_m3 147 rfl) rfl
theorem q745 : (Jvm.Cond.lays "OneDrum$VillageReader" "OneDrum$Reader" "letters" "I") ∈ lw_all := lw_g (lw_at lw_m3 148 rfl) rfl
theorem q746 : (Jvm.Cond.lays "OneDrum$VillageReader" "OneDrum$Reader" "word" "J") ∈ lw_all := lw_g (lw_at lw_m3 149 rfl) rfl
theorem q747 : (Jvm.Cond.lays "OneDrum$VillageReader" "OneDrum$Reader" "place" "I") ∈ lw_all := lw_g (lw_at lw_m3 150 rfl) rfl
theorem q748 : (Jvm.Cond.lays "OneDrum$VillageReader" "OneDrum$Reader" "fault" "I") ∈ lw_all := lw_g (lw_at lw_m3 151 rfl) rfl
theorem q749 : (Jvm.Cond.lays "OneDrum$VillageReader" "OneDrum$Reader" "faultPlace" "I") ∈ lw_all := lw_g (lw_at lw_m3 152 rfl) rfl
theorem q750 : (Jvm.Cond.lays "OneDrum$VillageReader" "OneDrum$Reader" "good" "Z") ∈ lw_all := lw_g (lw_at lw_m3 153 rfl) rfl
theorem q751 : (Jvm.Cond.laysFinal "OneDrum$VillageReader" "OneDrum$Reader" "this$0" "LOneDrum;") ∈ lw_all := lw_g (lw_at lw_m3 154 rfl) rfl
theorem q752 : (Jvm.Cond.superclass "OneDrum$VillageReader" "OneDrum$Reader") ∈ lw_all := lw_g (lw_at lw_m3 155 rfl) rfl
theorem q758 : (Jvm.Cond.selects "OneDrum$VillageReader" ({ cls := "OneDrum$Reader", name := "text", desc := "()V" } : Jvm.MethodName) ({ cls := "OneDrum$Reader", name := "text", desc := "()V" } : Jvm.MethodName)) ∈ lw_all := lw_g (lw_at lw_m3 161 rfl) rfl
theorem q779 : (Jvm.Cond.selects "OneDrum$VillageReader" ({ cls := "OneDrum$Reader", name := "words", desc := "()[Ljava/lang/String;" } : Jvm.MethodName) ({ cls := "OneDrum$VillageReader", name := "words", desc := "()[Ljava/lang/String;" } : Jvm.MethodName)) ∈ lw_all := lw_g (lw_at lw_m3 182 rfl) rfl
theorem q780 : (Jvm.Cond.instanceMethod ({ cls := "OneDrum$VillageReader", name := "words", desc := "()[Ljava/lang/String;" } : Jvm.MethodName)) ∈ lw_all := lw_g (lw_at lw_m3 183 rfl) rfl
theorem q781 : (Jvm.Cond.code ({ cls := "OneDrum$VillageReader", name := "words", desc := "()[Ljava/lang/String;" } : Jvm.MethodName) prog_18_method_2_code (1 : Nat) (Option.some (Jvm.ClassFile.FieldType.array (Jvm.ClassFile.FieldType.object "java/lang/String")))) ∈ lw_all := lw_g (lw_at lw_m3 184 rfl) rfl
theorem q790 : (Jvm.Cond.selects "OneDrum$VillageReader" ({ cls := "OneDrum$Reader", name := "oneOf", desc := "([Ljava/lang/String;)I" } : Jvm.MethodName) ({ cls := "OneDrum$Reader", name := "oneOf", desc := "([Ljava/lang/String;)I" } : Jvm.MethodName)) ∈ lw_all := lw_g (lw_at lw_m3 193 rfl) rfl
theorem q926 : (Jvm.Cond.selects "OneDrum$VillageReader" ({ cls := "OneDrum$Reader", name := "note", desc := "(II)V" } : Jvm.MethodName) ({ cls := "OneDrum$Reader", name := "note", desc := "(II)V" } : Jvm.MethodName)) ∈ lw_all := lw_g (lw_at lw_m4 89 rfl) rfl
theorem q965 : (Jvm.Cond.selects "OneDrum$VillageReader" ({ cls := "OneDrum$Reader", name := "beat", desc := "()I" } : Jvm.MethodName) ({ cls := "OneDrum$Reader", name := "beat", desc := "()I" } : Jvm.MethodName)) ∈ lw_all := lw_g (lw_at lw_m4 128 rfl) rfl
theorem q973 : (Jvm.Cond.selects "OneDrum$VillageReader" ({ cls := "OneDrum$Reader", name := "line", desc := "(II)V" } : Jvm.MethodName) ({ cls := "OneDrum$VillageReader", name := "line", desc := "(II)V" } : Jvm.MethodName)) ∈ lw_all := lw_g (lw_at lw_m4 136 rfl) rfl
theorem q974 : (Jvm.Cond.instanceMethod ({ cls := "OneDrum$VillageReader", name := "line", desc := "(II)V" } : Jvm.MethodName)) ∈ lw_all := lw_g (lw_at lw_m4 137 rfl) rfl
theorem q975 : (Jvm.Cond.code ({ cls := "OneDrum$VillageReader", name := "line", desc := "(II)V" } : Jvm.MethodName) prog_18_method_6_code (4 : Nat) (Option.none : Option Jvm.ClassFile.FieldType)) ∈ lw_all := lw_g (lw_at lw_m4 138 rfl) rfl
theorem q976 : (Jvm.Cond.methodLink "OneDrum$VillageReader" (81 : Nat) ({ cls := "OneDrum$VillageReader", name := "change", desc := "(I)LOneDrum$Change;" } : Jvm.MethodName)) ∈ lw_all := lw_g (lw_at lw_m4 139 rfl) rfl
theorem q977 : (Jvm.Cond.privateMethod ({ cls := "OneDrum$VillageReader", name := "change", desc := "(I)LOneDrum$Change;" } : Jvm.MethodName)) ∈ lw_tbl := lw_at lw_m4 140 rfl
theorem q978 : (Jvm.Cond.instanceMethod ({ cls := "OneDrum$VillageReader", name := "change", desc := "(I)LOneDrum$Change;" } : Jvm.MethodName)) ∈ lw_all := lw_g (lw_at lw_m4 141 rfl) rfl
theorem q979 : (Jvm.Cond.code ({ cls := "OneDrum$VillageReader", name := "change", desc := "(I)LOneDrum$Change;" } : Jvm.MethodName) prog_18_method_5_code (3 : Nat) (Option.some (Jvm.ClassFile.FieldType.object "OneDrum$Change"))) ∈ lw_all := lw_g (lw_at lw_m4 142 rfl) rfl
theorem q980 : (Jvm.Cond.methodLink "OneDrum$VillageReader" (62 : Nat) ({ cls := "OneDrum$VillageReader", name := "parent", desc := "()I" } : Jvm.MethodName)) ∈ lw_all := lw_g (lw_at lw_m4 143 rfl) rfl
theorem q981 : (Jvm.Cond.privateMethod ({ cls := "OneDrum$VillageReader", name := "parent", desc := "()I" } : Jvm.MethodName)) ∈ lw_tbl := lw_at lw_m4 144 rfl
theorem q982 : (Jvm.Cond.instanceMethod ({ cls := "OneDrum$VillageReader", name := "parent", desc := "()I" } : Jvm.MethodName)) ∈ lw_all := lw_g (lw_at lw_m4 145 rfl) rfl
theorem q983 : (Jvm.Cond.code ({ cls := "OneDrum$VillageReader", name := "parent", desc := "()I" } : Jvm.MethodName) prog_18_method_3_code (3 : Nat) (Option.some Jvm.ClassFile.FieldType.int)) ∈ lw_all := lw_g (lw_at lw_m4 146 rfl) rfl
theorem q984 : (Jvm.Cond.methodLink "OneDrum$VillageReader" (32 : Nat) ({ cls := "OneDrum$VillageReader", name := "number", desc := "(II)I" } : Jvm.MethodName)) ∈ lw_all := lw_g (lw_at lw_m4 147 rfl) rfl
theorem q985 : (Jvm.Cond.sameMethod "OneDrum$VillageReader" "OneDrum$Reader" "number" "(II)I") ∈ lw_all := lw_g (lw_at lw_m4 148 rfl) rfl
theorem q986 : (Jvm.Cond.selects "OneDrum$VillageReader" ({ cls := "OneDrum$VillageReader", name := "number", desc := "(II)I" } : Jvm.MethodName) ({ cls := "OneDrum$Reader", name := "number", desc := "(II)I" } : Jvm.MethodName)) ∈ lw_all := lw_g (lw_at lw_m4 149 rfl) rfl
theorem q987 : (Jvm.Cond.methodLink "OneDrum$VillageReader" (40 : Nat) ({ cls := "java/util/ArrayList", name := "size", desc := "()I" } : Jvm.MethodName)) ∈ lw_all := lw_g (lw_at lw_m4 150 rfl) rfl
theorem q988 : (Jvm.Cond.methodLinkNest "OneDrum$VillageReader" (46 : Nat) ({ cls := "OneDrum", name := "in", desc := "(III)Z" } : Jvm.MethodName) "OneDrum") ∈ lw_tbl := lw_at lw_m4 151 rfl
theorem q989 : (Jvm.Cond.methodLink "OneDrum$VillageReader" (50 : Nat) ({ cls := "OneDrum$VillageReader", name := "note", desc := "(II)V" } : Jvm.MethodName)) ∈ lw_all := lw_g (lw_at lw_m4 152 rfl) rfl
theorem q990 : (Jvm.Cond.sameMethod "OneDrum$VillageReader" "OneDrum$Reader" "note" "(II)V") ∈ lw_all := lw_g (lw_at lw_m4 153 rfl) rfl
theorem q991 : (Jvm.Cond.selects "OneDrum$VillageReader" ({ cls := "OneDrum$VillageReader", name := "note", desc := "(II)V" } : Jvm.MethodName) ({ cls := "OneDrum$Reader", name := "note", desc := "(II)V" } : Jvm.MethodName)) ∈ lw_all := lw_g (lw_at lw_m4 154 rfl) rfl
theorem q992 : (Jvm.Cond.classLink "OneDrum$VillageReader" (65 : Nat) "OneDrum$Drop") ∈ lw_all := lw_g (lw_at lw_m4 155 rfl) rfl
theorem q994 : (Jvm.Cond.methodLink "OneDrum$VillageReader" (67 : Nat) ({ cls := "OneDrum$Drop", name := "<init>", desc := "(II)V" } : Jvm.MethodName)) ∈ lw_all := lw_g (lw_at lw_m4 157 rfl) rfl
theorem q1003 : (Jvm.Cond.fieldLink "OneDrum$VillageReader" (91 : Nat) "OneDrum$Change" "parent" "I") ∈ lw_all := lw_g (lw_at lw_m4 166 rfl) rfl
theorem q1005 : (Jvm.Cond.fieldLink "OneDrum$VillageReader" (99 : Nat) "OneDrum$Change" "depth" "I") ∈ lw_all := lw_g (lw_at lw_m4 168 rfl) rfl
theorem q1014 : (Jvm.Cond.methodLink "OneDrum$VillageReader" (69 : Nat) ({ cls := "OneDrum$VillageReader", name := "swap", desc := "(I)LOneDrum$Change;" } : Jvm.MethodName)) ∈ lw_all := lw_g (lw_at lw_m4 177 rfl) rfl
theorem q1015 : (Jvm.Cond.privateMethod ({ cls := "OneDrum$VillageReader", name := "swap", desc := "(I)LOneDrum$Change;" } : Jvm.MethodName)) ∈ lw_tbl := lw_at lw_m4 178 rfl
theorem q1016 : (Jvm.Cond.instanceMethod ({ cls := "OneDrum$VillageReader", name := "swap", desc := "(I)LOneDrum$Change;" } : Jvm.MethodName)) ∈ lw_all := lw_g (lw_at lw_m4 179 rfl) rfl
theorem q1017 : (Jvm.Cond.code ({ cls := "OneDrum$VillageReader", name := "swap", desc := "(I)LOneDrum$Change;" } : Jvm.MethodName) prog_18_method_4_code (5 : Nat) (Option.some (Jvm.ClassFile.FieldType.object "OneDrum$Change"))) ∈ lw_all := lw_g (lw_at lw_m4 180 rfl) rfl
theorem q1018 : (Jvm.Cond.methodLink "OneDrum$VillageReader" (54 : Nat) ({ cls := "OneDrum$VillageReader", name := "beat", desc := "()I" } : Jvm.MethodName)) ∈ lw_all := lw_g (lw_at lw_m4 181 rfl) rfl
theorem q1019 : (Jvm.Cond.sameMethod "OneDrum$VillageReader" "OneDrum$Reader" "beat" "()I") ∈ lw_all := lw_g (lw_at lw_m4 182 rfl) rfl
theorem q1021 : (Jvm.Cond.selects "OneDrum$VillageReader" ({ cls := "OneDrum$VillageReader", name := "beat", desc := "()I" } : Jvm.MethodName) ({ cls := "OneDrum$Reader", name := "beat", desc := "()I" } : Jvm.MethodName)) ∈ lw_all := lw_g (lw_at lw_m4 184 rfl) rfl
theorem q1022 : (Jvm.Cond.classLink "OneDrum$VillageReader" (57 : Nat) "OneDrum$Swap") ∈ lw_all := lw_g (lw_at lw_m4 185 rfl) rfl
theorem q1024 : (Jvm.Cond.methodLink "OneDrum$VillageReader" (59 : Nat) ({ cls := "OneDrum$Swap", name := "<init>", desc := "(III)V" } : Jvm.MethodName)) ∈ lw_all := lw_g (lw_at lw_m4 187 rfl) rfl
theorem q1037 : (Jvm.Cond.classLink "OneDrum$VillageReader" (73 : Nat) "OneDrum$Twice") ∈ lw_all := lw_g (lw_at lw_m4 200 rfl) rfl
theorem q1039 : (Jvm.Cond.methodLink "OneDrum$VillageReader" (75 : Nat) ({ cls := "OneDrum$Twice", name := "<init>", desc := "(II)V" } : Jvm.MethodName)) ∈ lw_all := lw_g (lw_at lw_m4 202 rfl) rfl
theorem q1049 : (Jvm.Cond.classLink "OneDrum$VillageReader" (76 : Nat) "OneDrum$Last") ∈ lw_all := lw_g (lw_at lw_m4 212 rfl) rfl
theorem q1051 : (Jvm.Cond.methodLink "OneDrum$VillageReader" (78 : Nat) ({ cls := "OneDrum$Last", name := "<init>", desc := "(I)V" } : Jvm.MethodName)) ∈ lw_all := lw_g (lw_at lw_m4 214 rfl) rfl
theorem q1058 : (Jvm.Cond.methodLink "OneDrum$VillageReader" (84 : Nat) ({ cls := "OneDrum$VillageReader", name := "add", desc := "(Ljava/util/ArrayList;Ljava/lang/Object;II)V" } : Jvm.MethodName)) ∈ lw_all := lw_g (lw_at lw_m4 221 rfl) rfl
theorem q1059 : (Jvm.Cond.sameMethod "OneDrum$VillageReader" "OneDrum$Reader" "add" "(Ljava/util/ArrayList;Ljava/lang/Object;II)V") ∈ lw_all := lw_g (lw_at lw_m4 222 rfl) rfl
theorem q1061 : (Jvm.Cond.selects "OneDrum$VillageReader" ({ cls := "OneDrum$VillageReader", name := "add", desc := "(Ljava/util/ArrayList;Ljava/lang/Object;II)V" } : Jvm.MethodName) ({ cls := "OneDrum$Reader", name := "add", desc := "(Ljava/util/ArrayList;Ljava/lang/Object;II)V" } : Jvm.MethodName)) ∈ lw_all := lw_g (lw_at lw_m4 224 rfl) rfl
theorem q1112 : (Jvm.Cond.selects "OneDrum$VillageReader" ({ cls := "java/lang/Object", name := "getClass", desc := "()Ljava/lang/Class;" } : Jvm.MethodName) ({ cls := "java/lang/Object", name := "getClass", desc := "()Ljava/lang/Class;" } : Jvm.MethodName)) ∈ lw_all := lw_g (lw_at lw_m5 35 rfl) rfl
theorem q1132 : (Jvm.Cond.methodLink "OneDrum$VillageReader" (95 : Nat) ({ cls := "java/util/ArrayList", name := "get", desc := "(I)Ljava/lang/Object;" } : Jvm.MethodName)) ∈ lw_all := lw_g (lw_at lw_m5 55 rfl) rfl
theorem q1144 : (Jvm.Cond.classLink "OneDrum$VillageReader" (92 : Nat) "OneDrum$Change") ∈ lw_all := lw_g (lw_at lw_m5 67 rfl) rfl
theorem q1211 : (Jvm.Cond.selects "OneDrum$VillageReader" ({ cls := "OneDrum$Reader", name := "lay", desc := "(I)I" } : Jvm.MethodName) ({ cls := "OneDrum$VillageReader", name := "lay", desc := "(I)I" } : Jvm.MethodName)) ∈ lw_all := lw_g (lw_at lw_m5 134 rfl) rfl
theorem q1212 : (Jvm.Cond.instanceMethod ({ cls := "OneDrum$VillageReader", name := "lay", desc := "(I)I" } : Jvm.MethodName)) ∈ lw_all := lw_g (lw_at lw_m5 135 rfl) rfl
theorem q1213 : (Jvm.Cond.code ({ cls := "OneDrum$VillageReader", name := "lay", desc := "(I)I" } : Jvm.MethodName) prog_18_method_7_code (2 : Nat) (Option.some Jvm.ClassFile.FieldType.int)) ∈ lw_all := lw_g (lw_at lw_m5 136 rfl) rfl
theorem q1214 : (Jvm.Cond.methodLinkNest "OneDrum$VillageReader" (111 : Nat) ({ cls := "OneDrum", name := "put", desc := "(Ljava/util/ArrayList;ILjava/lang/Object;)I" } : Jvm.MethodName) "OneDrum") ∈ lw_tbl := lw_at lw_m5 137 rfl
theorem q2211 : (Jvm.Cond.selects "OneDrum$VillageReader" ({ cls := "OneDrum$Reader", name := "isWord", desc := "()Z" } : Jvm.MethodName) ({ cls := "OneDrum$Reader", name := "isWord", desc := "()Z" } : Jvm.MethodName)) ∈ lw_all := lw_g (lw_at lw_m9 174 rfl) rfl
theorem q2233 : (Jvm.Cond.castable "OneDrum$VillageReader" "java/lang/Object") ∈ lw_tbl := lw_at lw_m9 196 rfl
theorem in_X14 : ∀ w ∈ wsX140, w ∈ lw_all := lw_in wsX140 [741, 742, 743, 744, 745, 746, 747, 748, 749, 750, 751, 737, 739] (by decide +kernel) (by decide +kernel)
/-! OneDrum$Villages -/
set_option maxRecDepth 100000
def RX15 : String := "OneDrum$Villages"
def TX15 : u_T := fun k => match k with
  | _ => ("OneDrum$Villages", "changes", "Ljava/util/ArrayList;", true)
def tyX15 : Nat → FieldType := fun k => match k with
  | _ => .object "java/util/ArrayList"
abbrev wsX150 : List Cond := u_ws RX15 TX15 1
theorem nmX15 : ∀ a, a < 1 → ∀ b, b < 1 → a ≠ b → (TX15 a).2.1 ≠ (TX15 b).2.1 := by decide +kernel
theorem tyX15_ok : ∀ k, k < 1 → parseFieldDescriptor (TX15 k).2.2.1 = some (tyX15 k) := by decide +kernel
abbrev cX15_init : ByteArray := prog_19_method_1_code
def yX15_init : MethodName := ⟨RX15, "<init>", "()V"⟩
def dkwX15_init_0 : List UInt8 := [42, 183, 0, 1, 42, 187, 0, 7, 89, 183, 0, 9, 181, 0, 10, 177]
abbrev dktX15_init_0 : List UInt8 := dkwX15_init_0 ++ []
theorem dksX15_init_0 : cX15_init.data.toList.drop 0 = dktX15_init_0 := by decide +kernel
theorem dX15_init_0 : decode cX15_init 0 = .ok (.aload_n 0, 1) := dk_42 (dk_at dksX15_init_0 0 rfl rfl)
theorem dX15_init_1 : decode cX15_init 1 = .ok (.invokespecial 1, 3) := dk_183 0 1 (dk_at dksX15_init_0 1 rfl rfl)
theorem dX15_init_4 : decode cX15_init 4 = .ok (.aload_n 0, 1) := dk_42 (dk_at dksX15_init_0 4 rfl rfl)
theorem dX15_init_5 : decode cX15_init 5 = .ok (.new 7, 3) := dk_187 0 7 (dk_at dksX15_init_0 5 rfl rfl)
theorem dX15_init_8 : decode cX15_init 8 = .ok (.dup, 1) := dk_89 (dk_at dksX15_init_0 8 rfl rfl)
theorem dX15_init_9 : decode cX15_init 9 = .ok (.invokespecial 9, 3) := dk_183 0 9 (dk_at dksX15_init_0 9 rfl rfl)
theorem dX15_init_12 : decode cX15_init 12 = .ok (.putfield 10, 3) := dk_181 0 10 (dk_at dksX15_init_0 12 rfl rfl)
theorem dX15_init_15 : decode cX15_init 15 = .ok (.return_, 1) := dk_177 (dk_at dksX15_init_0 15 rfl rfl)
theorem q136 : (Jvm.Cond.initialized "OneDrum$Villages") ∈ lw_all := lw_g (lw_at lw_m1 19 rfl) rfl
theorem q722 : (Jvm.Cond.instantiable "OneDrum$Villages" (1 : Nat)) ∈ lw_all := lw_g (lw_at lw_m3 125 rfl) rfl
theorem q724 : (Jvm.Cond.instanceMethod ({ cls := "OneDrum$Villages", name := "<init>", desc := "()V" } : Jvm.MethodName)) ∈ lw_all := lw_g (lw_at lw_m3 127 rfl) rfl
theorem q725 : (Jvm.Cond.code ({ cls := "OneDrum$Villages", name := "<init>", desc := "()V" } : Jvm.MethodName) prog_19_method_1_code (1 : Nat) (Option.none : Option Jvm.ClassFile.FieldType)) ∈ lw_all := lw_g (lw_at lw_m3 128 rfl) rfl
theorem q726 : (Jvm.Cond.methodLink "OneDrum$Villages" (1 : Nat) ({ cls := "java/lang/Object", name := "<init>", desc := "()V" } : Jvm.MethodName)) ∈ lw_all := lw_g (lw_at lw_m3 129 rfl) rfl
theorem q727 : (Jvm.Cond.classLink "OneDrum$Villages" (7 : Nat) "java/util/ArrayList") ∈ lw_all := lw_g (lw_at lw_m3 130 rfl) rfl
theorem q728 : (Jvm.Cond.methodLink "OneDrum$Villages" (9 : Nat) ({ cls := "java/util/ArrayList", name := "<init>", desc := "()V" } : Jvm.MethodName)) ∈ lw_all := lw_g (lw_at lw_m3 131 rfl) rfl
theorem q729 : (Jvm.Cond.fieldLink "OneDrum$Villages" (10 : Nat) "OneDrum$Villages" "changes" "Ljava/util/ArrayList;") ∈ lw_all := lw_g (lw_at lw_m3 132 rfl) rfl
theorem q732 : (Jvm.Cond.laysFinal "OneDrum$Villages" "OneDrum$Villages" "changes" "Ljava/util/ArrayList;") ∈ lw_all := lw_g (lw_at lw_m3 135 rfl) rfl
theorem q733 : (Jvm.Cond.soleField "OneDrum$Villages" "changes") ∈ lw_all := lw_g (lw_at lw_m3 136 rfl) rfl
theorem q734 : (Jvm.Cond.superclass "OneDrum$Villages" "java/lang/Object") ∈ lw_all := lw_g (lw_at lw_m3 137 rfl) rfl
theorem q1113 : (Jvm.Cond.selects "OneDrum$Villages" ({ cls := "java/lang/Object", name := "getClass", desc := "()Ljava/lang/Class;" } : Jvm.MethodName) ({ cls := "java/lang/Object", name := "getClass", desc := "()Ljava/lang/Class;" } : Jvm.MethodName)) ∈ lw_all := lw_g (lw_at lw_m5 36 rfl) rfl
theorem q2234 : (Jvm.Cond.castable "OneDrum$Villages" "java/lang/Object") ∈ lw_tbl := lw_at lw_m9 197 rfl
theorem in_X15 : ∀ w ∈ wsX150, w ∈ lw_all := lw_in wsX150 [732] (by decide +kernel) (by decide +kernel)
/-! OneDrum$Wrong -/
set_option maxRecDepth 100000
def RX16 : String := "OneDrum$Wrong"
def TX16 : u_T := fun k => match k with
  | 0 => ("java/lang/Throwable", "cause", "Ljava/lang/Throwable;", false)
  | 1 => ("java/lang/Throwable", "stackTrace", "[Ljava/lang/StackTraceElement;", false)
  | 2 => ("java/lang/Throwable", "suppressedExceptions", "Ljava/util/List;", false)
  | 3 => ("java/lang/Throwable", "detailMessage", "Ljava/lang/String;", false)
  | 4 => ("java/lang/Throwable", "backtrace", "Ljava/lang/Object;", false)
  | 5 => ("java/lang/Throwable", "depth", "I", false)
  | _ => ("OneDrum$Wrong", "place", "I", true)
def tyX16 : Nat → FieldType := fun k => match k with
  | 0 => .object "java/lang/Throwable"
  | 1 => .array (.object "java/lang/StackTraceElement")
  | 2 => .object "java/util/List"
  | 3 => .object "java/lang/String"
  | 4 => .object "java/lang/Object"
  | 5 => .int
  | _ => .int
abbrev wsX160 : List Cond := u_ws RX16 TX16 7
theorem nmX16 : ∀ a, a < 7 → ∀ b, b < 7 → a ≠ b → (TX16 a).2.1 ≠ (TX16 b).2.1 := by decide +kernel
theorem tyX16_ok : ∀ k, k < 7 → parseFieldDescriptor (TX16 k).2.2.1 = some (tyX16 k) := by decide +kernel
abbrev cX16_init : ByteArray := prog_22_method_1_code
def yX16_init : MethodName := ⟨RX16, "<init>", "(I)V"⟩
def dkwX16_init_0 : List UInt8 := [42, 183, 0, 1, 42, 27, 181, 0, 7, 177]
abbrev dktX16_init_0 : List UInt8 := dkwX16_init_0 ++ []
theorem dksX16_init_0 : cX16_init.data.toList.drop 0 = dktX16_init_0 := by decide +kernel
theorem dX16_init_0 : decode cX16_init 0 = .ok (.aload_n 0, 1) := dk_42 (dk_at dksX16_init_0 0 rfl rfl)
theorem dX16_init_1 : decode cX16_init 1 = .ok (.invokespecial 1, 3) := dk_183 0 1 (dk_at dksX16_init_0 1 rfl rfl)
theorem dX16_init_4 : decode cX16_init 4 = .ok (.aload_n 0, 1) := dk_42 (dk_at dksX16_init_0 4 rfl rfl)
theorem dX16_init_5 : decode cX16_init 5 = .ok (.iload_n 1, 1) := dk_27 (dk_at dksX16_init_0 5 rfl rfl)
theorem dX16_init_6 : decode cX16_init 6 = .ok (.putfield 7, 3) := dk_181 0 7 (dk_at dksX16_init_0 6 rfl rfl)
theorem dX16_init_9 : decode cX16_init 9 = .ok (.return_, 1) := dk_177 (dk_at dksX16_init_0 9 rfl rfl)
theorem q143 : (Jvm.Cond.initialized "OneDrum$Wrong") ∈ lw_all := lw_g (lw_at lw_m1 26 rfl) rfl
theorem q850 : (Jvm.Cond.instantiable "OneDrum$Wrong" (7 : Nat)) ∈ lw_all := lw_g (lw_at lw_m4 13 rfl) rfl
theorem q851 : (Jvm.Cond.castable "OneDrum$Wrong" "OneDrum$Wrong") ∈ lw_tbl := lw_at lw_m4 14 rfl
theorem q856 : (Jvm.Cond.selects "OneDrum$Wrong" ({ cls := "java/lang/Throwable", name := "fillInStackTrace", desc := "(I)Ljava/lang/Throwable;" } : Jvm.MethodName) ({ cls := "java/lang/Throwable", name := "fillInStackTrace", desc := "(I)Ljava/lang/Throwable;" } : Jvm.MethodName)) ∈ lw_all := lw_g (lw_at lw_m4 19 rfl) rfl
theorem q857 : (Jvm.Cond.selects "OneDrum$Wrong" ({ cls := "java/lang/Throwable", name := "fillInStackTrace", desc := "()Ljava/lang/Throwable;" } : Jvm.MethodName) ({ cls := "java/lang/Throwable", name := "fillInStackTrace", desc := "()Ljava/lang/Throwable;" } : Jvm.MethodName)) ∈ lw_all := lw_g (lw_at lw_m4 20 rfl) rfl
theorem q858 : (Jvm.Cond.lays "OneDrum$Wrong" "java/lang/Throwable" "cause" "Ljava/lang/Throwable;") ∈ lw_all := lw_g (lw_at lw_m4 21 rfl) rfl
theorem q860 : (Jvm.Cond.lays "OneDrum$Wrong" "java/lang/Throwable" "stackTrace" "[Ljava/lang/StackTraceElement;") ∈ lw_all := lw_g (lw_at lw_m4 23 rfl) rfl
theorem q862 : (Jvm.Cond.lays "OneDrum$Wrong" "java/lang/Throwable" "suppressedExceptions" "Ljava/util/List;") ∈ lw_all := lw_g (lw_at lw_m4 25 rfl) rfl
theorem q864 : (Jvm.Cond.lays "OneDrum$Wrong" "java/lang/Throwable" "detailMessage" "Ljava/lang/String;") ∈ lw_all := lw_g (lw_at lw_m4 27 rfl) rfl
theorem q866 : (Jvm.Cond.lays "OneDrum$Wrong" "java/lang/Throwable" "backtrace" "Ljava/lang/Object;") ∈ lw_all := lw_g (lw_at lw_m4 29 rfl) rfl
theorem q887 : (Jvm.Cond.instanceMethod ({ cls := "OneDrum$Wrong", name := "<init>", desc := "(I)V" } : Jvm.MethodName)) ∈ lw_all := lw_g (lw_at lw_m4 50 rfl) rfl
theorem q888 : (Jvm.Cond.code ({ cls := "OneDrum$Wrong", name := "<init>", desc := "(I)V" } : Jvm.MethodName) prog_22_method_1_code (2 : Nat) (Option.none : Option Jvm.ClassFile.FieldType)) ∈ lw_all := lw_g (lw_at lw_m4 51 rfl) rfl
theorem q889 : (Jvm.Cond.methodLink "OneDrum$Wrong" (1 : Nat) ({ cls := "java/lang/Exception", name := "<init>", desc := "()V" } : Jvm.MethodName)) ∈ lw_all := lw_g (lw_at lw_m4 52 rfl) rfl
theorem q893 : (Jvm.Cond.fieldLink "OneDrum$Wrong" (7 : Nat) "OneDrum$Wrong" "place" "I") ∈ lw_all := lw_g (lw_at lw_m4 56 rfl) rfl
theorem q899 : (Jvm.Cond.laysFinal "OneDrum$Wrong" "OneDrum$Wrong" "place" "I") ∈ lw_all := lw_g (lw_at lw_m4 62 rfl) rfl
theorem q900 : (Jvm.Cond.soleField "OneDrum$Wrong" "place") ∈ lw_all := lw_g (lw_at lw_m4 63 rfl) rfl
theorem q905 : (Jvm.Cond.lays "OneDrum$Wrong" "java/lang/Throwable" "depth" "I") ∈ lw_all := lw_g (lw_at lw_m4 68 rfl) rfl
theorem q908 : (Jvm.Cond.superclass "OneDrum$Wrong" "java/lang/Exception") ∈ lw_all := lw_g (lw_at lw_m4 71 rfl) rfl
theorem q1116 : (Jvm.Cond.selects "OneDrum$Wrong" ({ cls := "java/lang/Object", name := "getClass", desc := "()Ljava/lang/Class;" } : Jvm.MethodName) ({ cls := "java/lang/Object", name := "getClass", desc := "()Ljava/lang/Class;" } : Jvm.MethodName)) ∈ lw_all := lw_g (lw_at lw_m5 39 rfl) rfl
theorem q2235 : (Jvm.Cond.castable "OneDrum$Wrong" "java/lang/Object") ∈ lw_tbl := lw_at lw_m9 198 rfl
theorem in_X16 : ∀ w ∈ wsX160, w ∈ lw_all := lw_in wsX160 [858, 860, 862, 864, 866, 905, 899] (by decide +kernel) (by decide +kernel)
/-! OneDrum$Change -/
set_option maxRecDepth 100000
def RX17 : String := "OneDrum$Change"
abbrev cX17_init : ByteArray := prog_5_method_1_code
def yX17_init : MethodName := ⟨RX17, "<init>", "(I)V"⟩
def dkwX17_init_0 : List UInt8 := [42, 183, 0, 3, 42, 27, 181, 0, 9, 177]
abbrev dktX17_init_0 : List UInt8 := dkwX17_init_0 ++ []
theorem dksX17_init_0 : cX17_init.data.toList.drop 0 = dktX17_init_0 := by decide +kernel
theorem dX17_init_0 : decode cX17_init 0 = .ok (.aload_n 0, 1) := dk_42 (dk_at dksX17_init_0 0 rfl rfl)
theorem dX17_init_1 : decode cX17_init 1 = .ok (.invokespecial 3, 3) := dk_183 0 3 (dk_at dksX17_init_0 1 rfl rfl)
theorem dX17_init_4 : decode cX17_init 4 = .ok (.aload_n 0, 1) := dk_42 (dk_at dksX17_init_0 4 rfl rfl)
theorem dX17_init_5 : decode cX17_init 5 = .ok (.iload_n 1, 1) := dk_27 (dk_at dksX17_init_0 5 rfl rfl)
theorem dX17_init_6 : decode cX17_init 6 = .ok (.putfield 9, 3) := dk_181 0 9 (dk_at dksX17_init_0 6 rfl rfl)
theorem dX17_init_9 : decode cX17_init 9 = .ok (.return_, 1) := dk_177 (dk_at dksX17_init_0 9 rfl rfl)
abbrev cX17_first : ByteArray := prog_5_method_3_code
def yX17_first : MethodName := ⟨RX17, "first", "()I"⟩
theorem dX17_first_0 : decode cX17_first 0 = .ok (.iconst (-1), 1) := by decide +kernel
theorem dX17_first_1 : decode cX17_first 1 = .ok (.ireturn, 1) := by decide +kernel
abbrev cX17_second : ByteArray := prog_5_method_4_code
def yX17_second : MethodName := ⟨RX17, "second", "()I"⟩
theorem dX17_second_0 : decode cX17_second 0 = .ok (.iconst (-1), 1) := by decide +kernel
theorem dX17_second_1 : decode cX17_second 1 = .ok (.ireturn, 1) := by decide +kernel
theorem q145 : (Jvm.Cond.initialized "OneDrum$Change") ∈ lw_all := lw_g (lw_at lw_m1 28 rfl) rfl
theorem q998 : (Jvm.Cond.instanceMethod ({ cls := "OneDrum$Change", name := "<init>", desc := "(I)V" } : Jvm.MethodName)) ∈ lw_all := lw_g (lw_at lw_m4 161 rfl) rfl
theorem q999 : (Jvm.Cond.code ({ cls := "OneDrum$Change", name := "<init>", desc := "(I)V" } : Jvm.MethodName) prog_5_method_1_code (2 : Nat) (Option.none : Option Jvm.ClassFile.FieldType)) ∈ lw_all := lw_g (lw_at lw_m4 162 rfl) rfl
theorem q1000 : (Jvm.Cond.methodLink "OneDrum$Change" (3 : Nat) ({ cls := "java/lang/Object", name := "<init>", desc := "()V" } : Jvm.MethodName)) ∈ lw_all := lw_g (lw_at lw_m4 163 rfl) rfl
theorem q1002 : (Jvm.Cond.fieldLink "OneDrum$Change" (9 : Nat) "OneDrum$Change" "parent" "I") ∈ lw_all := lw_g (lw_at lw_m4 165 rfl) rfl
theorem q1010 : (Jvm.Cond.soleField "OneDrum$Change" "parent") ∈ lw_all := lw_g (lw_at lw_m4 173 rfl) rfl
theorem q1012 : (Jvm.Cond.soleField "OneDrum$Change" "depth") ∈ lw_all := lw_g (lw_at lw_m4 175 rfl) rfl
theorem q1470 : (Jvm.Cond.declares ({ cls := "OneDrum$Change", name := "kind", desc := "()I" } : Jvm.MethodName)) ∈ lw_tbl := lw_at lw_m6 153 rfl
theorem q1471 : (Jvm.Cond.sameMethod "OneDrum$Change" "OneDrum$Change" "kind" "()I") ∈ lw_all := lw_g (lw_at lw_m6 154 rfl) rfl
theorem q1485 : (Jvm.Cond.instanceMethod ({ cls := "OneDrum$Change", name := "first", desc := "()I" } : Jvm.MethodName)) ∈ lw_all := lw_g (lw_at lw_m6 168 rfl) rfl
theorem q1486 : (Jvm.Cond.sameMethod "OneDrum$Change" "OneDrum$Change" "first" "()I") ∈ lw_all := lw_g (lw_at lw_m6 169 rfl) rfl
theorem q1497 : (Jvm.Cond.code ({ cls := "OneDrum$Change", name := "first", desc := "()I" } : Jvm.MethodName) prog_5_method_3_code (1 : Nat) (Option.some Jvm.ClassFile.FieldType.int)) ∈ lw_all := lw_g (lw_at lw_m6 180 rfl) rfl
theorem q1499 : (Jvm.Cond.instanceMethod ({ cls := "OneDrum$Change", name := "second", desc := "()I" } : Jvm.MethodName)) ∈ lw_all := lw_g (lw_at lw_m6 182 rfl) rfl
theorem q1500 : (Jvm.Cond.sameMethod "OneDrum$Change" "OneDrum$Change" "second" "()I") ∈ lw_all := lw_g (lw_at lw_m6 183 rfl) rfl
theorem q1507 : (Jvm.Cond.code ({ cls := "OneDrum$Change", name := "second", desc := "()I" } : Jvm.MethodName) prog_5_method_4_code (1 : Nat) (Option.some Jvm.ClassFile.FieldType.int)) ∈ lw_all := lw_g (lw_at lw_m6 190 rfl) rfl
theorem q1518 : (Jvm.Cond.declares ({ cls := "OneDrum$Change", name := "tell", desc := "(LOneDrum$Beats;LOneDrum$Beats;)V" } : Jvm.MethodName)) ∈ lw_tbl := lw_at lw_m6 201 rfl
theorem q1519 : (Jvm.Cond.sameMethod "OneDrum$Change" "OneDrum$Change" "tell" "(LOneDrum$Beats;LOneDrum$Beats;)V") ∈ lw_all := lw_g (lw_at lw_m6 202 rfl) rfl
/-! OneDrum$Drop -/
set_option maxRecDepth 100000
def RX18 : String := "OneDrum$Drop"
def TX18 : u_T := fun k => match k with
  | 0 => ("OneDrum$Change", "parent", "I", true)
  | 1 => ("OneDrum$Change", "depth", "I", false)
  | _ => ("OneDrum$Drop", "n", "I", true)
def tyX18 : Nat → FieldType := fun k => match k with
  | 0 => .int
  | 1 => .int
  | _ => .int
abbrev wsX180 : List Cond := u_ws RX18 TX18 3
theorem nmX18 : ∀ a, a < 3 → ∀ b, b < 3 → a ≠ b → (TX18 a).2.1 ≠ (TX18 b).2.1 := by decide +kernel
theorem tyX18_ok : ∀ k, k < 3 → parseFieldDescriptor (TX18 k).2.2.1 = some (tyX18 k) := by decide +kernel
abbrev cX18_init : ByteArray := prog_6_method_1_code
def yX18_init : MethodName := ⟨RX18, "<init>", "(II)V"⟩
def dkwX18_init_0 : List UInt8 := [42, 27, 183, 0, 1, 42, 28, 181, 0, 7, 177]
abbrev dktX18_init_0 : List UInt8 := dkwX18_init_0 ++ []
theorem dksX18_init_0 : cX18_init.data.toList.drop 0 = dktX18_init_0 := by decide +kernel
theorem dX18_init_0 : decode cX18_init 0 = .ok (.aload_n 0, 1) := dk_42 (dk_at dksX18_init_0 0 rfl rfl)
theorem dX18_init_1 : decode cX18_init 1 = .ok (.iload_n 1, 1) := dk_27 (dk_at dksX18_init_0 1 rfl rfl)
theorem dX18_init_2 : decode cX18_init 2 = .ok (.invokespecial 1, 3) := dk_183 0 1 (dk_at dksX18_init_0 2 rfl rfl)
theorem dX18_init_5 : decode cX18_init 5 = .ok (.aload_n 0, 1) := dk_42 (dk_at dksX18_init_0 5 rfl rfl)
theorem dX18_init_6 : decode cX18_init 6 = .ok (.iload_n 2, 1) := dk_28 (dk_at dksX18_init_0 6 rfl rfl)
theorem dX18_init_7 : decode cX18_init 7 = .ok (.putfield 7, 3) := dk_181 0 7 (dk_at dksX18_init_0 7 rfl rfl)
theorem dX18_init_10 : decode cX18_init 10 = .ok (.return_, 1) := dk_177 (dk_at dksX18_init_0 10 rfl rfl)
abbrev cX18_kind : ByteArray := prog_6_method_2_code
def yX18_kind : MethodName := ⟨RX18, "kind", "()I"⟩
theorem dX18_kind_0 : decode cX18_kind 0 = .ok (.iconst 0, 1) := by decide +kernel
theorem dX18_kind_1 : decode cX18_kind 1 = .ok (.ireturn, 1) := by decide +kernel
abbrev cX18_first : ByteArray := prog_6_method_3_code
def yX18_first : MethodName := ⟨RX18, "first", "()I"⟩
theorem dX18_first_0 : decode cX18_first 0 = .ok (.aload_n 0, 1) := by decide +kernel
theorem dX18_first_1 : decode cX18_first 1 = .ok (.getfield 7, 3) := by decide +kernel
theorem dX18_first_4 : decode cX18_first 4 = .ok (.ireturn, 1) := by decide +kernel
abbrev cX18_tell : ByteArray := prog_6_method_4_code
def yX18_tell : MethodName := ⟨RX18, "tell", "(LOneDrum$Beats;LOneDrum$Beats;)V"⟩
def dkwX18_tell_1 : List UInt8 := [180, 0, 18, 29, 51, 182, 0, 22, 132, 3, 1, 167, 255, 224, 177]
abbrev dktX18_tell_1 : List UInt8 := dkwX18_tell_1 ++ []
def dkwX18_tell_0 : List UInt8 := [3, 62, 29, 43, 180, 0, 13, 162, 0, 30, 29, 4, 96, 42, 180, 0, 7, 112, 153, 0, 13, 44, 43]
abbrev dktX18_tell_0 : List UInt8 := dkwX18_tell_0 ++ dktX18_tell_1
theorem dksX18_tell_0 : cX18_tell.data.toList.drop 0 = dktX18_tell_0 := by decide +kernel
theorem dksX18_tell_1 : cX18_tell.data.toList.drop 23 = dktX18_tell_1 := dk_seg dksX18_tell_0 23 rfl rfl
theorem dX18_tell_0 : decode cX18_tell 0 = .ok (.iconst 0, 1) := dk_3 (dk_at dksX18_tell_0 0 rfl rfl)
theorem dX18_tell_1 : decode cX18_tell 1 = .ok (.istore_n 3, 1) := dk_62 (dk_at dksX18_tell_0 1 rfl rfl)
theorem dX18_tell_2 : decode cX18_tell 2 = .ok (.iload_n 3, 1) := dk_29 (dk_at dksX18_tell_0 2 rfl rfl)
theorem dX18_tell_3 : decode cX18_tell 3 = .ok (.aload_n 1, 1) := dk_43 (dk_at dksX18_tell_0 3 rfl rfl)
theorem dX18_tell_4 : decode cX18_tell 4 = .ok (.getfield 13, 3) := dk_180 0 13 (dk_at dksX18_tell_0 4 rfl rfl)
theorem dX18_tell_7 : decode cX18_tell 7 = .ok (.if_icmp .ge 30, 3) := dk_162 0 30 (dk_at dksX18_tell_0 7 rfl rfl)
theorem dX18_tell_10 : decode cX18_tell 10 = .ok (.iload_n 3, 1) := dk_29 (dk_at dksX18_tell_0 10 rfl rfl)
theorem dX18_tell_11 : decode cX18_tell 11 = .ok (.iconst 1, 1) := dk_4 (dk_at dksX18_tell_0 11 rfl rfl)
theorem dX18_tell_12 : decode cX18_tell 12 = .ok (.iadd, 1) := dk_96 (dk_at dksX18_tell_0 12 rfl rfl)
theorem dX18_tell_13 : decode cX18_tell 13 = .ok (.aload_n 0, 1) := dk_42 (dk_at dksX18_tell_0 13 rfl rfl)
theorem dX18_tell_14 : decode cX18_tell 14 = .ok (.getfield 7, 3) := dk_180 0 7 (dk_at dksX18_tell_0 14 rfl rfl)
theorem dX18_tell_17 : decode cX18_tell 17 = .ok (.irem, 1) := dk_112 (dk_at dksX18_tell_0 17 rfl rfl)
theorem dX18_tell_18 : decode cX18_tell 18 = .ok (.ifCond .eq 13, 3) := dk_153 0 13 (dk_at dksX18_tell_0 18 rfl rfl)
theorem dX18_tell_21 : decode cX18_tell 21 = .ok (.aload_n 2, 1) := dk_44 (dk_at dksX18_tell_0 21 rfl rfl)
theorem dX18_tell_22 : decode cX18_tell 22 = .ok (.aload_n 1, 1) := dk_43 (dk_at dksX18_tell_0 22 rfl rfl)
theorem dX18_tell_23 : decode cX18_tell 23 = .ok (.getfield 18, 3) := dk_180 0 18 (dk_at dksX18_tell_1 0 rfl rfl)
theorem dX18_tell_26 : decode cX18_tell 26 = .ok (.iload_n 3, 1) := dk_29 (dk_at dksX18_tell_1 3 rfl rfl)
theorem dX18_tell_27 : decode cX18_tell 27 = .ok (.baload, 1) := dk_51 (dk_at dksX18_tell_1 4 rfl rfl)
theorem dX18_tell_28 : decode cX18_tell 28 = .ok (.invokevirtual 22, 3) := dk_182 0 22 (dk_at dksX18_tell_1 5 rfl rfl)
theorem dX18_tell_31 : decode cX18_tell 31 = .ok (.iinc 3 1, 3) := dk_132 3 1 (dk_at dksX18_tell_1 8 rfl rfl)
theorem dX18_tell_34 : decode cX18_tell 34 = .ok (.goto (-32), 3) := dk_167 255 224 (dk_at dksX18_tell_1 11 rfl rfl)
theorem dX18_tell_37 : decode cX18_tell 37 = .ok (.return_, 1) := dk_177 (dk_at dksX18_tell_1 14 rfl rfl)
theorem q146 : (Jvm.Cond.initialized "OneDrum$Drop") ∈ lw_all := lw_g (lw_at lw_m1 29 rfl) rfl
theorem q340 : (Jvm.Cond.fieldLink "OneDrum$Drop" (18 : Nat) "OneDrum$Beats" "at" "[B") ∈ lw_all := lw_g (lw_at lw_m1 223 rfl) rfl
theorem q348 : (Jvm.Cond.fieldLink "OneDrum$Drop" (13 : Nat) "OneDrum$Beats" "many" "I") ∈ lw_all := lw_g (lw_at lw_m1 231 rfl) rfl
theorem q993 : (Jvm.Cond.instantiable "OneDrum$Drop" (3 : Nat)) ∈ lw_all := lw_g (lw_at lw_m4 156 rfl) rfl
theorem q995 : (Jvm.Cond.instanceMethod ({ cls := "OneDrum$Drop", name := "<init>", desc := "(II)V" } : Jvm.MethodName)) ∈ lw_all := lw_g (lw_at lw_m4 158 rfl) rfl
theorem q996 : (Jvm.Cond.code ({ cls := "OneDrum$Drop", name := "<init>", desc := "(II)V" } : Jvm.MethodName) prog_6_method_1_code (3 : Nat) (Option.none : Option Jvm.ClassFile.FieldType)) ∈ lw_all := lw_g (lw_at lw_m4 159 rfl) rfl
theorem q997 : (Jvm.Cond.methodLink "OneDrum$Drop" (1 : Nat) ({ cls := "OneDrum$Change", name := "<init>", desc := "(I)V" } : Jvm.MethodName)) ∈ lw_all := lw_g (lw_at lw_m4 160 rfl) rfl
theorem q1001 : (Jvm.Cond.fieldLink "OneDrum$Drop" (7 : Nat) "OneDrum$Drop" "n" "I") ∈ lw_all := lw_g (lw_at lw_m4 164 rfl) rfl
theorem q1007 : (Jvm.Cond.laysFinal "OneDrum$Drop" "OneDrum$Drop" "n" "I") ∈ lw_all := lw_g (lw_at lw_m4 170 rfl) rfl
theorem q1008 : (Jvm.Cond.soleField "OneDrum$Drop" "n") ∈ lw_all := lw_g (lw_at lw_m4 171 rfl) rfl
theorem q1009 : (Jvm.Cond.laysFinal "OneDrum$Drop" "OneDrum$Change" "parent" "I") ∈ lw_all := lw_g (lw_at lw_m4 172 rfl) rfl
theorem q1011 : (Jvm.Cond.lays "OneDrum$Drop" "OneDrum$Change" "depth" "I") ∈ lw_all := lw_g (lw_at lw_m4 174 rfl) rfl
theorem q1013 : (Jvm.Cond.superclass "OneDrum$Drop" "OneDrum$Change") ∈ lw_all := lw_g (lw_at lw_m4 176 rfl) rfl
theorem q1101 : (Jvm.Cond.selects "OneDrum$Drop" ({ cls := "java/lang/Object", name := "getClass", desc := "()Ljava/lang/Class;" } : Jvm.MethodName) ({ cls := "java/lang/Object", name := "getClass", desc := "()Ljava/lang/Class;" } : Jvm.MethodName)) ∈ lw_all := lw_g (lw_at lw_m5 24 rfl) rfl
theorem q1472 : (Jvm.Cond.selects "OneDrum$Drop" ({ cls := "OneDrum$Change", name := "kind", desc := "()I" } : Jvm.MethodName) ({ cls := "OneDrum$Drop", name := "kind", desc := "()I" } : Jvm.MethodName)) ∈ lw_all := lw_g (lw_at lw_m6 155 rfl) rfl
theorem q1473 : (Jvm.Cond.instanceMethod ({ cls := "OneDrum$Drop", name := "kind", desc := "()I" } : Jvm.MethodName)) ∈ lw_all := lw_g (lw_at lw_m6 156 rfl) rfl
theorem q1474 : (Jvm.Cond.code ({ cls := "OneDrum$Drop", name := "kind", desc := "()I" } : Jvm.MethodName) prog_6_method_2_code (1 : Nat) (Option.some Jvm.ClassFile.FieldType.int)) ∈ lw_all := lw_g (lw_at lw_m6 157 rfl) rfl
theorem q1487 : (Jvm.Cond.selects "OneDrum$Drop" ({ cls := "OneDrum$Change", name := "first", desc := "()I" } : Jvm.MethodName) ({ cls := "OneDrum$Drop", name := "first", desc := "()I" } : Jvm.MethodName)) ∈ lw_all := lw_g (lw_at lw_m6 170 rfl) rfl
theorem q1488 : (Jvm.Cond.instanceMethod ({ cls := "OneDrum$Drop", name := "first", desc := "()I" } : Jvm.MethodName)) ∈ lw_all := lw_g (lw_at lw_m6 171 rfl) rfl
theorem q1489 : (Jvm.Cond.code ({ cls := "OneDrum$Drop", name := "first", desc := "()I" } : Jvm.MethodName) prog_6_method_3_code (1 : Nat) (Option.some Jvm.ClassFile.FieldType.int)) ∈ lw_all := lw_g (lw_at lw_m6 172 rfl) rfl
theorem q1501 : (Jvm.Cond.selects "OneDrum$Drop" ({ cls := "OneDrum$Change", name := "second", desc := "()I" } : Jvm.MethodName) ({ cls := "OneDrum$Change", name := "second", desc := "()I" } : Jvm.MethodName)) ∈ lw_all := lw_g (lw_at lw_m6 184 rfl) rfl
theorem q1520 : (Jvm.Cond.selects "OneDrum$Drop" ({ cls := "OneDrum$Change", name := "tell", desc := "(LOneDrum$Beats;LOneDrum$Beats;)V" } : Jvm.MethodName) ({ cls := "OneDrum$Drop", name := "tell", desc := "(LOneDrum$Beats;LOneDrum$Beats;)V" } : Jvm.MethodName)) ∈ lw_all := lw_g (lw_at lw_m6 203 rfl) rfl
theorem q1521 : (Jvm.Cond.instanceMethod ({ cls := "OneDrum$Drop", name := "tell", desc := "(LOneDrum$Beats;LOneDrum$Beats;)V" } : Jvm.MethodName)) ∈ lw_all := lw_g (lw_at lw_m6 204 rfl) rfl
theorem q1522 : (Jvm.Cond.code ({ cls := "OneDrum$Drop", name := "tell", desc := "(LOneDrum$Beats;LOneDrum$Beats;)V" } : Jvm.MethodName) prog_6_method_4_code (4 : Nat) (Option.none : Option Jvm.ClassFile.FieldType)) ∈ lw_all := lw_g (lw_at lw_m6 205 rfl) rfl
theorem q1523 : (Jvm.Cond.methodLink "OneDrum$Drop" (22 : Nat) ({ cls := "OneDrum$Beats", name := "add", desc := "(I)V" } : Jvm.MethodName)) ∈ lw_all := lw_g (lw_at lw_m6 206 rfl) rfl
theorem q2214 : (Jvm.Cond.castable "OneDrum$Drop" "OneDrum$Change") ∈ lw_tbl := lw_at lw_m9 177 rfl
theorem q2236 : (Jvm.Cond.castable "OneDrum$Drop" "java/lang/Object") ∈ lw_tbl := lw_at lw_m9 199 rfl
theorem in_X18 : ∀ w ∈ wsX180, w ∈ lw_all := lw_in wsX180 [1009, 1011, 1007] (by decide +kernel) (by decide +kernel)
/-! OneDrum$Swap -/
set_option maxRecDepth 100000
def RX19 : String := "OneDrum$Swap"
def TX19 : u_T := fun k => match k with
  | 0 => ("OneDrum$Change", "parent", "I", true)
  | 1 => ("OneDrum$Change", "depth", "I", false)
  | 2 => ("OneDrum$Swap", "a", "I", true)
  | _ => ("OneDrum$Swap", "b", "I", true)
def tyX19 : Nat → FieldType := fun k => match k with
  | 0 => .int
  | 1 => .int
  | 2 => .int
  | _ => .int
abbrev wsX190 : List Cond := u_ws RX19 TX19 4
theorem nmX19 : ∀ a, a < 4 → ∀ b, b < 4 → a ≠ b → (TX19 a).2.1 ≠ (TX19 b).2.1 := by decide +kernel
theorem tyX19_ok : ∀ k, k < 4 → parseFieldDescriptor (TX19 k).2.2.1 = some (tyX19 k) := by decide +kernel
abbrev cX19_init : ByteArray := prog_16_method_1_code
def yX19_init : MethodName := ⟨RX19, "<init>", "(III)V"⟩
def dkwX19_init_0 : List UInt8 := [42, 27, 183, 0, 1, 42, 28, 181, 0, 7, 42, 29, 181, 0, 13, 177]
abbrev dktX19_init_0 : List UInt8 := dkwX19_init_0 ++ []
theorem dksX19_init_0 : cX19_init.data.toList.drop 0 = dktX19_init_0 := by decide +kernel
theorem dX19_init_0 : decode cX19_init 0 = .ok (.aload_n 0, 1) := dk_42 (dk_at dksX19_init_0 0 rfl rfl)
theorem dX19_init_1 : decode cX19_init 1 = .ok (.iload_n 1, 1) := dk_27 (dk_at dksX19_init_0 1 rfl rfl)
theorem dX19_init_2 : decode cX19_init 2 = .ok (.invokespecial 1, 3) := dk_183 0 1 (dk_at dksX19_init_0 2 rfl rfl)
theorem dX19_init_5 : decode cX19_init 5 = .ok (.aload_n 0, 1) := dk_42 (dk_at dksX19_init_0 5 rfl rfl)
theorem dX19_init_6 : decode cX19_init 6 = .ok (.iload_n 2, 1) := dk_28 (dk_at dksX19_init_0 6 rfl rfl)
theorem dX19_init_7 : decode cX19_init 7 = .ok (.putfield 7, 3) := dk_181 0 7 (dk_at dksX19_init_0 7 rfl rfl)
theorem dX19_init_10 : decode cX19_init 10 = .ok (.aload_n 0, 1) := dk_42 (dk_at dksX19_init_0 10 rfl rfl)
theorem dX19_init_11 : decode cX19_init 11 = .ok (.iload_n 3, 1) := dk_29 (dk_at dksX19_init_0 11 rfl rfl)
theorem dX19_init_12 : decode cX19_init 12 = .ok (.putfield 13, 3) := dk_181 0 13 (dk_at dksX19_init_0 12 rfl rfl)
theorem dX19_init_15 : decode cX19_init 15 = .ok (.return_, 1) := dk_177 (dk_at dksX19_init_0 15 rfl rfl)
abbrev cX19_kind : ByteArray := prog_16_method_2_code
def yX19_kind : MethodName := ⟨RX19, "kind", "()I"⟩
theorem dX19_kind_0 : decode cX19_kind 0 = .ok (.iconst 1, 1) := by decide +kernel
theorem dX19_kind_1 : decode cX19_kind 1 = .ok (.ireturn, 1) := by decide +kernel
abbrev cX19_first : ByteArray := prog_16_method_3_code
def yX19_first : MethodName := ⟨RX19, "first", "()I"⟩
theorem dX19_first_0 : decode cX19_first 0 = .ok (.aload_n 0, 1) := by decide +kernel
theorem dX19_first_1 : decode cX19_first 1 = .ok (.getfield 7, 3) := by decide +kernel
theorem dX19_first_4 : decode cX19_first 4 = .ok (.ireturn, 1) := by decide +kernel
abbrev cX19_second : ByteArray := prog_16_method_4_code
def yX19_second : MethodName := ⟨RX19, "second", "()I"⟩
theorem dX19_second_0 : decode cX19_second 0 = .ok (.aload_n 0, 1) := by decide +kernel
theorem dX19_second_1 : decode cX19_second 1 = .ok (.getfield 13, 3) := by decide +kernel
theorem dX19_second_4 : decode cX19_second 4 = .ok (.ireturn, 1) := by decide +kernel
abbrev cX19_tell : ByteArray := prog_16_method_5_code
def yX19_tell : MethodName := ⟨RX19, "tell", "(LOneDrum$Beats;LOneDrum$Beats;)V"⟩
def dkwX19_tell_2 : List UInt8 := [167, 0, 9, 43, 180, 0, 21, 29, 51, 182, 0, 25, 132, 3, 1, 167, 255, 195, 177]
abbrev dktX19_tell_2 : List UInt8 := dkwX19_tell_2 ++ []
def dkwX19_tell_1 : List UInt8 := [42, 180, 0, 13, 167, 0, 29, 43, 180, 0, 21, 29, 51, 42, 180, 0, 13, 160, 0, 10, 42, 180, 0, 7]
abbrev dktX19_tell_1 : List UInt8 := dkwX19_tell_1 ++ dktX19_tell_2
def dkwX19_tell_0 : List UInt8 := [3, 62, 29, 43, 180, 0, 16, 162, 0, 59, 44, 43, 180, 0, 21, 29, 51, 42, 180, 0, 7, 160, 0, 10]
abbrev dktX19_tell_0 : List UInt8 := dkwX19_tell_0 ++ dktX19_tell_1
theorem dksX19_tell_0 : cX19_tell.data.toList.drop 0 = dktX19_tell_0 := by decide +kernel
theorem dksX19_tell_1 : cX19_tell.data.toList.drop 24 = dktX19_tell_1 := dk_seg dksX19_tell_0 24 rfl rfl
theorem dksX19_tell_2 : cX19_tell.data.toList.drop 48 = dktX19_tell_2 := dk_seg dksX19_tell_1 24 rfl rfl
theorem dX19_tell_0 : decode cX19_tell 0 = .ok (.iconst 0, 1) := dk_3 (dk_at dksX19_tell_0 0 rfl rfl)
theorem dX19_tell_1 : decode cX19_tell 1 = .ok (.istore_n 3, 1) := dk_62 (dk_at dksX19_tell_0 1 rfl rfl)
theorem dX19_tell_2 : decode cX19_tell 2 = .ok (.iload_n 3, 1) := dk_29 (dk_at dksX19_tell_0 2 rfl rfl)
theorem dX19_tell_3 : decode cX19_tell 3 = .ok (.aload_n 1, 1) := dk_43 (dk_at dksX19_tell_0 3 rfl rfl)
theorem dX19_tell_4 : decode cX19_tell 4 = .ok (.getfield 16, 3) := dk_180 0 16 (dk_at dksX19_tell_0 4 rfl rfl)
theorem dX19_tell_7 : decode cX19_tell 7 = .ok (.if_icmp .ge 59, 3) := dk_162 0 59 (dk_at dksX19_tell_0 7 rfl rfl)
theorem dX19_tell_10 : decode cX19_tell 10 = .ok (.aload_n 2, 1) := dk_44 (dk_at dksX19_tell_0 10 rfl rfl)
theorem dX19_tell_11 : decode cX19_tell 11 = .ok (.aload_n 1, 1) := dk_43 (dk_at dksX19_tell_0 11 rfl rfl)
theorem dX19_tell_12 : decode cX19_tell 12 = .ok (.getfield 21, 3) := dk_180 0 21 (dk_at dksX19_tell_0 12 rfl rfl)
theorem dX19_tell_15 : decode cX19_tell 15 = .ok (.iload_n 3, 1) := dk_29 (dk_at dksX19_tell_0 15 rfl rfl)
theorem dX19_tell_16 : decode cX19_tell 16 = .ok (.baload, 1) := dk_51 (dk_at dksX19_tell_0 16 rfl rfl)
theorem dX19_tell_17 : decode cX19_tell 17 = .ok (.aload_n 0, 1) := dk_42 (dk_at dksX19_tell_0 17 rfl rfl)
theorem dX19_tell_18 : decode cX19_tell 18 = .ok (.getfield 7, 3) := dk_180 0 7 (dk_at dksX19_tell_0 18 rfl rfl)
theorem dX19_tell_21 : decode cX19_tell 21 = .ok (.if_icmp .ne 10, 3) := dk_160 0 10 (dk_at dksX19_tell_0 21 rfl rfl)
theorem dX19_tell_24 : decode cX19_tell 24 = .ok (.aload_n 0, 1) := dk_42 (dk_at dksX19_tell_1 0 rfl rfl)
theorem dX19_tell_25 : decode cX19_tell 25 = .ok (.getfield 13, 3) := dk_180 0 13 (dk_at dksX19_tell_1 1 rfl rfl)
theorem dX19_tell_28 : decode cX19_tell 28 = .ok (.goto 29, 3) := dk_167 0 29 (dk_at dksX19_tell_1 4 rfl rfl)
theorem dX19_tell_31 : decode cX19_tell 31 = .ok (.aload_n 1, 1) := dk_43 (dk_at dksX19_tell_1 7 rfl rfl)
theorem dX19_tell_32 : decode cX19_tell 32 = .ok (.getfield 21, 3) := dk_180 0 21 (dk_at dksX19_tell_1 8 rfl rfl)
theorem dX19_tell_35 : decode cX19_tell 35 = .ok (.iload_n 3, 1) := dk_29 (dk_at dksX19_tell_1 11 rfl rfl)
theorem dX19_tell_36 : decode cX19_tell 36 = .ok (.baload, 1) := dk_51 (dk_at dksX19_tell_1 12 rfl rfl)
theorem dX19_tell_37 : decode cX19_tell 37 = .ok (.aload_n 0, 1) := dk_42 (dk_at dksX19_tell_1 13 rfl rfl)
theorem dX19_tell_38 : decode cX19_tell 38 = .ok (.getfield 13, 3) := dk_180 0 13 (dk_at dksX19_tell_1 14 rfl rfl)
theorem dX19_tell_41 : decode cX19_tell 41 = .ok (.if_icmp .ne 10, 3) := dk_160 0 10 (dk_at dksX19_tell_1 17 rfl rfl)
theorem dX19_tell_44 : decode cX19_tell 44 = .ok (.aload_n 0, 1) := dk_42 (dk_at dksX19_tell_1 20 rfl rfl)
theorem dX19_tell_45 : decode cX19_tell 45 = .ok (.getfield 7, 3) := dk_180 0 7 (dk_at dksX19_tell_1 21 rfl rfl)
theorem dX19_tell_48 : decode cX19_tell 48 = .ok (.goto 9, 3) := dk_167 0 9 (dk_at dksX19_tell_2 0 rfl rfl)
theorem dX19_tell_51 : decode cX19_tell 51 = .ok (.aload_n 1, 1) := dk_43 (dk_at dksX19_tell_2 3 rfl rfl)
theorem dX19_tell_52 : decode cX19_tell 52 = .ok (.getfield 21, 3) := dk_180 0 21 (dk_at dksX19_tell_2 4 rfl rfl)
theorem dX19_tell_55 : decode cX19_tell 55 = .ok (.iload_n 3, 1) := dk_29 (dk_at dksX19_tell_2 7 rfl rfl)
theorem dX19_tell_56 : decode cX19_tell 56 = .ok (.baload, 1) := dk_51 (dk_at dksX19_tell_2 8 rfl rfl)
theorem dX19_tell_57 : decode cX19_tell 57 = .ok (.invokevirtual 25, 3) := dk_182 0 25 (dk_at dksX19_tell_2 9 rfl rfl)
theorem dX19_tell_60 : decode cX19_tell 60 = .ok (.iinc 3 1, 3) := dk_132 3 1 (dk_at dksX19_tell_2 12 rfl rfl)
theorem dX19_tell_63 : decode cX19_tell 63 = .ok (.goto (-61), 3) := dk_167 255 195 (dk_at dksX19_tell_2 15 rfl rfl)
theorem dX19_tell_66 : decode cX19_tell 66 = .ok (.return_, 1) := dk_177 (dk_at dksX19_tell_2 18 rfl rfl)
theorem q147 : (Jvm.Cond.initialized "OneDrum$Swap") ∈ lw_all := lw_g (lw_at lw_m1 30 rfl) rfl
theorem q341 : (Jvm.Cond.fieldLink "OneDrum$Swap" (21 : Nat) "OneDrum$Beats" "at" "[B") ∈ lw_all := lw_g (lw_at lw_m1 224 rfl) rfl
theorem q350 : (Jvm.Cond.fieldLink "OneDrum$Swap" (16 : Nat) "OneDrum$Beats" "many" "I") ∈ lw_all := lw_g (lw_at lw_m1 233 rfl) rfl
theorem q1023 : (Jvm.Cond.instantiable "OneDrum$Swap" (4 : Nat)) ∈ lw_all := lw_g (lw_at lw_m4 186 rfl) rfl
theorem q1025 : (Jvm.Cond.instanceMethod ({ cls := "OneDrum$Swap", name := "<init>", desc := "(III)V" } : Jvm.MethodName)) ∈ lw_all := lw_g (lw_at lw_m4 188 rfl) rfl
theorem q1026 : (Jvm.Cond.code ({ cls := "OneDrum$Swap", name := "<init>", desc := "(III)V" } : Jvm.MethodName) prog_16_method_1_code (4 : Nat) (Option.none : Option Jvm.ClassFile.FieldType)) ∈ lw_all := lw_g (lw_at lw_m4 189 rfl) rfl
theorem q1027 : (Jvm.Cond.methodLink "OneDrum$Swap" (1 : Nat) ({ cls := "OneDrum$Change", name := "<init>", desc := "(I)V" } : Jvm.MethodName)) ∈ lw_all := lw_g (lw_at lw_m4 190 rfl) rfl
theorem q1028 : (Jvm.Cond.fieldLink "OneDrum$Swap" (7 : Nat) "OneDrum$Swap" "a" "I") ∈ lw_all := lw_g (lw_at lw_m4 191 rfl) rfl
theorem q1029 : (Jvm.Cond.fieldLink "OneDrum$Swap" (13 : Nat) "OneDrum$Swap" "b" "I") ∈ lw_all := lw_g (lw_at lw_m4 192 rfl) rfl
theorem q1030 : (Jvm.Cond.laysFinal "OneDrum$Swap" "OneDrum$Swap" "a" "I") ∈ lw_all := lw_g (lw_at lw_m4 193 rfl) rfl
theorem q1031 : (Jvm.Cond.soleField "OneDrum$Swap" "a") ∈ lw_all := lw_g (lw_at lw_m4 194 rfl) rfl
theorem q1032 : (Jvm.Cond.laysFinal "OneDrum$Swap" "OneDrum$Swap" "b" "I") ∈ lw_all := lw_g (lw_at lw_m4 195 rfl) rfl
theorem q1033 : (Jvm.Cond.soleField "OneDrum$Swap" "b") ∈ lw_all := lw_g (lw_at lw_m4 196 rfl) rfl
theorem q1034 : (Jvm.Cond.laysFinal "OneDrum$Swap" "OneDrum$Change" "parent" "I") ∈ lw_all := lw_g (lw_at lw_m4 197 rfl) rfl
theorem q1035 : (Jvm.Cond.lays "OneDrum$Swap" "OneDrum$Change" "depth" "I") ∈ lw_all := lw_g (lw_at lw_m4 198 rfl) rfl
theorem q1036 : (Jvm.Cond.superclass "OneDrum$Swap" "OneDrum$Change") ∈ lw_all := lw_g (lw_at lw_m4 199 rfl) rfl
theorem q1110 : (Jvm.Cond.selects "OneDrum$Swap" ({ cls := "java/lang/Object", name := "getClass", desc := "()Ljava/lang/Class;" } : Jvm.MethodName) ({ cls := "java/lang/Object", name := "getClass", desc := "()Ljava/lang/Class;" } : Jvm.MethodName)) ∈ lw_all := lw_g (lw_at lw_m5 33 rfl) rfl
theorem q1478 : (Jvm.Cond.selects "OneDrum$Swap" ({ cls := "OneDrum$Change", name := "kind", desc := "()I" } : Jvm.MethodName) ({ cls := "OneDrum$Swap", name := "kind", desc := "()I" } : Jvm.MethodName)) ∈ lw_all := lw_g (lw_at lw_m6 161 rfl) rfl
theorem q1479 : (Jvm.Cond.instanceMethod ({ cls := "OneDrum$Swap", name := "kind", desc := "()I" } : Jvm.MethodName)) ∈ lw_all := lw_g (lw_at lw_m6 162 rfl) rfl
theorem q1480 : (Jvm.Cond.code ({ cls := "OneDrum$Swap", name := "kind", desc := "()I" } : Jvm.MethodName) prog_16_method_2_code (1 : Nat) (Option.some Jvm.ClassFile.FieldType.int)) ∈ lw_all := lw_g (lw_at lw_m6 163 rfl) rfl
theorem q1491 : (Jvm.Cond.selects "OneDrum$Swap" ({ cls := "OneDrum$Change", name := "first", desc := "()I" } : Jvm.MethodName) ({ cls := "OneDrum$Swap", name := "first", desc := "()I" } : Jvm.MethodName)) ∈ lw_all := lw_g (lw_at lw_m6 174 rfl) rfl
theorem q1492 : (Jvm.Cond.instanceMethod ({ cls := "OneDrum$Swap", name := "first", desc := "()I" } : Jvm.MethodName)) ∈ lw_all := lw_g (lw_at lw_m6 175 rfl) rfl
theorem q1493 : (Jvm.Cond.code ({ cls := "OneDrum$Swap", name := "first", desc := "()I" } : Jvm.MethodName) prog_16_method_3_code (1 : Nat) (Option.some Jvm.ClassFile.FieldType.int)) ∈ lw_all := lw_g (lw_at lw_m6 176 rfl) rfl
theorem q1503 : (Jvm.Cond.selects "OneDrum$Swap" ({ cls := "OneDrum$Change", name := "second", desc := "()I" } : Jvm.MethodName) ({ cls := "OneDrum$Swap", name := "second", desc := "()I" } : Jvm.MethodName)) ∈ lw_all := lw_g (lw_at lw_m6 186 rfl) rfl
theorem q1504 : (Jvm.Cond.instanceMethod ({ cls := "OneDrum$Swap", name := "second", desc := "()I" } : Jvm.MethodName)) ∈ lw_all := lw_g (lw_at lw_m6 187 rfl) rfl
theorem q1505 : (Jvm.Cond.code ({ cls := "OneDrum$Swap", name := "second", desc := "()I" } : Jvm.MethodName) prog_16_method_4_code (1 : Nat) (Option.some Jvm.ClassFile.FieldType.int)) ∈ lw_all := lw_g (lw_at lw_m6 188 rfl) rfl
theorem q1528 : (Jvm.Cond.selects "OneDrum$Swap" ({ cls := "OneDrum$Change", name := "tell", desc := "(LOneDrum$Beats;LOneDrum$Beats;)V" } : Jvm.MethodName) ({ cls := "OneDrum$Swap", name := "tell", desc := "(LOneDrum$Beats;LOneDrum$Beats;)V" } : Jvm.MethodName)) ∈ lw_all := lw_g (lw_at lw_m6 211 rfl) rfl
theorem q1529 : (Jvm.Cond.instanceMethod ({ cls := "OneDrum$Swap", name := "tell", desc := "(LOneDrum$Beats;LOneDrum$Beats;)V" } : Jvm.MethodName)) ∈ lw_all := lw_g (lw_at lw_m6 212 rfl) rfl
theorem q1530 : (Jvm.Cond.code ({ cls := "OneDrum$Swap", name := "tell", desc := "(LOneDrum$Beats;LOneDrum$Beats;)V" } : Jvm.MethodName) prog_16_method_5_code (4 : Nat) (Option.none : Option Jvm.ClassFile.FieldType)) ∈ lw_all := lw_g (lw_at lw_m6 213 rfl) rfl
theorem q1531 : (Jvm.Cond.methodLink "OneDrum$Swap" (25 : Nat) ({ cls := "OneDrum$Beats", name := "add", desc := "(I)V" } : Jvm.MethodName)) ∈ lw_all := lw_g (lw_at lw_m6 214 rfl) rfl
theorem q2216 : (Jvm.Cond.castable "OneDrum$Swap" "OneDrum$Change") ∈ lw_tbl := lw_at lw_m9 179 rfl
theorem q2237 : (Jvm.Cond.castable "OneDrum$Swap" "java/lang/Object") ∈ lw_tbl := lw_at lw_m9 200 rfl
theorem in_X19 : ∀ w ∈ wsX190, w ∈ lw_all := lw_in wsX190 [1034, 1035, 1030, 1032] (by decide +kernel) (by decide +kernel)
/-! OneDrum$Drum -/
set_option maxRecDepth 100000
def RX2 : String := "OneDrum$Drum"
def TX2 : u_T := fun k => match k with
  | 0 => ("OneDrum$Drum", "given", "[I", true)
  | 1 => ("OneDrum$Drum", "giver", "[I", true)
  | 2 => ("OneDrum$Drum", "played", "[I", true)
  | 3 => ("OneDrum$Drum", "echo", "[Z", true)
  | 4 => ("OneDrum$Drum", "many", "I", false)
  | _ => ("OneDrum$Drum", "this$0", "LOneDrum;", true)
def tyX2 : Nat → FieldType := fun k => match k with
  | 0 => .array .int
  | 1 => .array .int
  | 2 => .array .int
  | 3 => .array .boolean
  | 4 => .int
  | _ => .object "OneDrum"
abbrev wsX20 : List Cond := u_ws RX2 TX2 6
theorem nmX2 : ∀ a, a < 6 → ∀ b, b < 6 → a ≠ b → (TX2 a).2.1 ≠ (TX2 b).2.1 := by decide +kernel
theorem tyX2_ok : ∀ k, k < 6 → parseFieldDescriptor (TX2 k).2.2.1 = some (tyX2 k) := by decide +kernel
abbrev cX2_init : ByteArray := prog_7_method_1_code
def yX2_init : MethodName := ⟨RX2, "<init>", "(LOneDrum;)V"⟩
def dkwX2_init_1 : List UInt8 := [181, 0, 19, 42, 16, 24, 188, 10, 181, 0, 22, 42, 16, 24, 188, 4, 181, 0, 25, 177]
abbrev dktX2_init_1 : List UInt8 := dkwX2_init_1 ++ []
def dkwX2_init_0 : List UInt8 := [42, 43, 181, 0, 3, 42, 183, 0, 9, 42, 16, 24, 188, 10, 181, 0, 15, 42, 16, 24, 188, 10]
abbrev dktX2_init_0 : List UInt8 := dkwX2_init_0 ++ dktX2_init_1
theorem dksX2_init_0 : cX2_init.data.toList.drop 0 = dktX2_init_0 := by decide +kernel
theorem dksX2_init_1 : cX2_init.data.toList.drop 22 = dktX2_init_1 := dk_seg dksX2_init_0 22 rfl rfl
theorem dX2_init_0 : decode cX2_init 0 = .ok (.aload_n 0, 1) := dk_42 (dk_at dksX2_init_0 0 rfl rfl)
theorem dX2_init_1 : decode cX2_init 1 = .ok (.aload_n 1, 1) := dk_43 (dk_at dksX2_init_0 1 rfl rfl)
theorem dX2_init_2 : decode cX2_init 2 = .ok (.putfield 3, 3) := dk_181 0 3 (dk_at dksX2_init_0 2 rfl rfl)
theorem dX2_init_5 : decode cX2_init 5 = .ok (.aload_n 0, 1) := dk_42 (dk_at dksX2_init_0 5 rfl rfl)
theorem dX2_init_6 : decode cX2_init 6 = .ok (.invokespecial 9, 3) := dk_183 0 9 (dk_at dksX2_init_0 6 rfl rfl)
theorem dX2_init_9 : decode cX2_init 9 = .ok (.aload_n 0, 1) := dk_42 (dk_at dksX2_init_0 9 rfl rfl)
theorem dX2_init_10 : decode cX2_init 10 = .ok (.bipush 24, 2) := dk_16 24 (dk_at dksX2_init_0 10 rfl rfl)
theorem dX2_init_12 : decode cX2_init 12 = .ok (.newarray .int, 2) := dk_188_10 (dk_at dksX2_init_0 12 rfl rfl)
theorem dX2_init_14 : decode cX2_init 14 = .ok (.putfield 15, 3) := dk_181 0 15 (dk_at dksX2_init_0 14 rfl rfl)
theorem dX2_init_17 : decode cX2_init 17 = .ok (.aload_n 0, 1) := dk_42 (dk_at dksX2_init_0 17 rfl rfl)
theorem dX2_init_18 : decode cX2_init 18 = .ok (.bipush 24, 2) := dk_16 24 (dk_at dksX2_init_0 18 rfl rfl)
theorem dX2_init_20 : decode cX2_init 20 = .ok (.newarray .int, 2) := dk_188_10 (dk_at dksX2_init_0 20 rfl rfl)
theorem dX2_init_22 : decode cX2_init 22 = .ok (.putfield 19, 3) := dk_181 0 19 (dk_at dksX2_init_1 0 rfl rfl)
theorem dX2_init_25 : decode cX2_init 25 = .ok (.aload_n 0, 1) := dk_42 (dk_at dksX2_init_1 3 rfl rfl)
theorem dX2_init_26 : decode cX2_init 26 = .ok (.bipush 24, 2) := dk_16 24 (dk_at dksX2_init_1 4 rfl rfl)
theorem dX2_init_28 : decode cX2_init 28 = .ok (.newarray .int, 2) := dk_188_10 (dk_at dksX2_init_1 6 rfl rfl)
theorem dX2_init_30 : decode cX2_init 30 = .ok (.putfield 22, 3) := dk_181 0 22 (dk_at dksX2_init_1 8 rfl rfl)
theorem dX2_init_33 : decode cX2_init 33 = .ok (.aload_n 0, 1) := dk_42 (dk_at dksX2_init_1 11 rfl rfl)
theorem dX2_init_34 : decode cX2_init 34 = .ok (.bipush 24, 2) := dk_16 24 (dk_at dksX2_init_1 12 rfl rfl)
theorem dX2_init_36 : decode cX2_init 36 = .ok (.newarray .boolean, 2) := dk_188_4 (dk_at dksX2_init_1 14 rfl rfl)
theorem dX2_init_38 : decode cX2_init 38 = .ok (.putfield 25, 3) := dk_181 0 25 (dk_at dksX2_init_1 16 rfl rfl)
theorem dX2_init_41 : decode cX2_init 41 = .ok (.return_, 1) := dk_177 (dk_at dksX2_init_1 19 rfl rfl)
abbrev cX2_lay : ByteArray := prog_7_method_2_code
def yX2_lay : MethodName := ⟨RX2, "lay", "(LOneDrum$Beats;LOneDrum$Beats;)V"⟩
def dkwX2_lay_5 : List UInt8 := [167, 255, 214, 167, 255, 145, 177]
abbrev dktX2_lay_5 : List UInt8 := dkwX2_lay_5 ++ []
def dkwX2_lay_4 : List UInt8 := [180, 0, 33, 162, 0, 24, 42, 44, 180, 0, 45, 21, 4, 51, 4, 182, 0, 49, 132, 5, 1, 132, 4, 1]
abbrev dktX2_lay_4 : List UInt8 := dkwX2_lay_4 ++ dktX2_lay_5
def dkwX2_lay_3 : List UInt8 := [167, 255, 216, 3, 54, 5, 21, 5, 42, 180, 0, 3, 180, 0, 36, 180, 0, 40, 162, 0, 33, 21, 4, 44]
abbrev dktX2_lay_3 : List UInt8 := dkwX2_lay_3 ++ dktX2_lay_4
def dkwX2_lay_2 : List UInt8 := [180, 0, 33, 162, 0, 23, 42, 43, 180, 0, 45, 29, 51, 3, 182, 0, 49, 132, 5, 1, 132, 3, 1]
abbrev dktX2_lay_2 : List UInt8 := dkwX2_lay_2 ++ dktX2_lay_3
def dkwX2_lay_1 : List UInt8 := [162, 0, 100, 3, 54, 5, 21, 5, 42, 180, 0, 3, 180, 0, 36, 180, 0, 40, 162, 0, 31, 29, 43]
abbrev dktX2_lay_1 : List UInt8 := dkwX2_lay_1 ++ dktX2_lay_2
def dkwX2_lay_0 : List UInt8 := [42, 3, 181, 0, 29, 3, 62, 3, 54, 4, 29, 43, 180, 0, 33, 161, 0, 12, 21, 4, 44, 180, 0, 33]
abbrev dktX2_lay_0 : List UInt8 := dkwX2_lay_0 ++ dktX2_lay_1
theorem dksX2_lay_0 : cX2_lay.data.toList.drop 0 = dktX2_lay_0 := by decide +kernel
theorem dksX2_lay_1 : cX2_lay.data.toList.drop 24 = dktX2_lay_1 := dk_seg dksX2_lay_0 24 rfl rfl
theorem dksX2_lay_2 : cX2_lay.data.toList.drop 47 = dktX2_lay_2 := dk_seg dksX2_lay_1 23 rfl rfl
theorem dksX2_lay_3 : cX2_lay.data.toList.drop 70 = dktX2_lay_3 := dk_seg dksX2_lay_2 23 rfl rfl
theorem dksX2_lay_4 : cX2_lay.data.toList.drop 94 = dktX2_lay_4 := dk_seg dksX2_lay_3 24 rfl rfl
theorem dksX2_lay_5 : cX2_lay.data.toList.drop 118 = dktX2_lay_5 := dk_seg dksX2_lay_4 24 rfl rfl
theorem dX2_lay_0 : decode cX2_lay 0 = .ok (.aload_n 0, 1) := dk_42 (dk_at dksX2_lay_0 0 rfl rfl)
theorem dX2_lay_1 : decode cX2_lay 1 = .ok (.iconst 0, 1) := dk_3 (dk_at dksX2_lay_0 1 rfl rfl)
theorem dX2_lay_2 : decode cX2_lay 2 = .ok (.putfield 29, 3) := dk_181 0 29 (dk_at dksX2_lay_0 2 rfl rfl)
theorem dX2_lay_5 : decode cX2_lay 5 = .ok (.iconst 0, 1) := dk_3 (dk_at dksX2_lay_0 5 rfl rfl)
theorem dX2_lay_6 : decode cX2_lay 6 = .ok (.istore_n 3, 1) := dk_62 (dk_at dksX2_lay_0 6 rfl rfl)
theorem dX2_lay_7 : decode cX2_lay 7 = .ok (.iconst 0, 1) := dk_3 (dk_at dksX2_lay_0 7 rfl rfl)
theorem dX2_lay_8 : decode cX2_lay 8 = .ok (.istore 4, 2) := dk_54 4 (dk_at dksX2_lay_0 8 rfl rfl)
theorem dX2_lay_10 : decode cX2_lay 10 = .ok (.iload_n 3, 1) := dk_29 (dk_at dksX2_lay_0 10 rfl rfl)
theorem dX2_lay_11 : decode cX2_lay 11 = .ok (.aload_n 1, 1) := dk_43 (dk_at dksX2_lay_0 11 rfl rfl)
theorem dX2_lay_12 : decode cX2_lay 12 = .ok (.getfield 33, 3) := dk_180 0 33 (dk_at dksX2_lay_0 12 rfl rfl)
theorem dX2_lay_15 : decode cX2_lay 15 = .ok (.if_icmp .lt 12, 3) := dk_161 0 12 (dk_at dksX2_lay_0 15 rfl rfl)
theorem dX2_lay_18 : decode cX2_lay 18 = .ok (.iload 4, 2) := dk_21 4 (dk_at dksX2_lay_0 18 rfl rfl)
theorem dX2_lay_20 : decode cX2_lay 20 = .ok (.aload_n 2, 1) := dk_44 (dk_at dksX2_lay_0 20 rfl rfl)
theorem dX2_lay_21 : decode cX2_lay 21 = .ok (.getfield 33, 3) := dk_180 0 33 (dk_at dksX2_lay_0 21 rfl rfl)
theorem dX2_lay_24 : decode cX2_lay 24 = .ok (.if_icmp .ge 100, 3) := dk_162 0 100 (dk_at dksX2_lay_1 0 rfl rfl)
theorem dX2_lay_27 : decode cX2_lay 27 = .ok (.iconst 0, 1) := dk_3 (dk_at dksX2_lay_1 3 rfl rfl)
theorem dX2_lay_28 : decode cX2_lay 28 = .ok (.istore 5, 2) := dk_54 5 (dk_at dksX2_lay_1 4 rfl rfl)
theorem dX2_lay_30 : decode cX2_lay 30 = .ok (.iload 5, 2) := dk_21 5 (dk_at dksX2_lay_1 6 rfl rfl)
theorem dX2_lay_32 : decode cX2_lay 32 = .ok (.aload_n 0, 1) := dk_42 (dk_at dksX2_lay_1 8 rfl rfl)
theorem dX2_lay_33 : decode cX2_lay 33 = .ok (.getfield 3, 3) := dk_180 0 3 (dk_at dksX2_lay_1 9 rfl rfl)
theorem dX2_lay_36 : decode cX2_lay 36 = .ok (.getfield 36, 3) := dk_180 0 36 (dk_at dksX2_lay_1 12 rfl rfl)
theorem dX2_lay_39 : decode cX2_lay 39 = .ok (.getfield 40, 3) := dk_180 0 40 (dk_at dksX2_lay_1 15 rfl rfl)
theorem dX2_lay_42 : decode cX2_lay 42 = .ok (.if_icmp .ge 31, 3) := dk_162 0 31 (dk_at dksX2_lay_1 18 rfl rfl)
theorem dX2_lay_45 : decode cX2_lay 45 = .ok (.iload_n 3, 1) := dk_29 (dk_at dksX2_lay_1 21 rfl rfl)
theorem dX2_lay_46 : decode cX2_lay 46 = .ok (.aload_n 1, 1) := dk_43 (dk_at dksX2_lay_1 22 rfl rfl)
theorem dX2_lay_47 : decode cX2_lay 47 = .ok (.getfield 33, 3) := dk_180 0 33 (dk_at dksX2_lay_2 0 rfl rfl)
theorem dX2_lay_50 : decode cX2_lay 50 = .ok (.if_icmp .ge 23, 3) := dk_162 0 23 (dk_at dksX2_lay_2 3 rfl rfl)
theorem dX2_lay_53 : decode cX2_lay 53 = .ok (.aload_n 0, 1) := dk_42 (dk_at dksX2_lay_2 6 rfl rfl)
theorem dX2_lay_54 : decode cX2_lay 54 = .ok (.aload_n 1, 1) := dk_43 (dk_at dksX2_lay_2 7 rfl rfl)
theorem dX2_lay_55 : decode cX2_lay 55 = .ok (.getfield 45, 3) := dk_180 0 45 (dk_at dksX2_lay_2 8 rfl rfl)
theorem dX2_lay_58 : decode cX2_lay 58 = .ok (.iload_n 3, 1) := dk_29 (dk_at dksX2_lay_2 11 rfl rfl)
theorem dX2_lay_59 : decode cX2_lay 59 = .ok (.baload, 1) := dk_51 (dk_at dksX2_lay_2 12 rfl rfl)
theorem dX2_lay_60 : decode cX2_lay 60 = .ok (.iconst 0, 1) := dk_3 (dk_at dksX2_lay_2 13 rfl rfl)
theorem dX2_lay_61 : decode cX2_lay 61 = .ok (.invokevirtual 49, 3) := dk_182 0 49 (dk_at dksX2_lay_2 14 rfl rfl)
theorem dX2_lay_64 : decode cX2_lay 64 = .ok (.iinc 5 1, 3) := dk_132 5 1 (dk_at dksX2_lay_2 17 rfl rfl)
theorem dX2_lay_67 : decode cX2_lay 67 = .ok (.iinc 3 1, 3) := dk_132 3 1 (dk_at dksX2_lay_2 20 rfl rfl)
theorem dX2_lay_70 : decode cX2_lay 70 = .ok (.goto (-40), 3) := dk_167 255 216 (dk_at dksX2_lay_3 0 rfl rfl)
theorem dX2_lay_73 : decode cX2_lay 73 = .ok (.iconst 0, 1) := dk_3 (dk_at dksX2_lay_3 3 rfl rfl)
theorem dX2_lay_74 : decode cX2_lay 74 = .ok (.istore 5, 2) := dk_54 5 (dk_at dksX2_lay_3 4 rfl rfl)
theorem dX2_lay_76 : decode cX2_lay 76 = .ok (.iload 5, 2) := dk_21 5 (dk_at dksX2_lay_3 6 rfl rfl)
theorem dX2_lay_78 : decode cX2_lay 78 = .ok (.aload_n 0, 1) := dk_42 (dk_at dksX2_lay_3 8 rfl rfl)
theorem dX2_lay_79 : decode cX2_lay 79 = .ok (.getfield 3, 3) := dk_180 0 3 (dk_at dksX2_lay_3 9 rfl rfl)
theorem dX2_lay_82 : decode cX2_lay 82 = .ok (.getfield 36, 3) := dk_180 0 36 (dk_at dksX2_lay_3 12 rfl rfl)
theorem dX2_lay_85 : decode cX2_lay 85 = .ok (.getfield 40, 3) := dk_180 0 40 (dk_at dksX2_lay_3 15 rfl rfl)
theorem dX2_lay_88 : decode cX2_lay 88 = .ok (.if_icmp .ge 33, 3) := dk_162 0 33 (dk_at dksX2_lay_3 18 rfl rfl)
theorem dX2_lay_91 : decode cX2_lay 91 = .ok (.iload 4, 2) := dk_21 4 (dk_at dksX2_lay_3 21 rfl rfl)
theorem dX2_lay_93 : decode cX2_lay 93 = .ok (.aload_n 2, 1) := dk_44 (dk_at dksX2_lay_3 23 rfl rfl)
theorem dX2_lay_94 : decode cX2_lay 94 = .ok (.getfield 33, 3) := dk_180 0 33 (dk_at dksX2_lay_4 0 rfl rfl)
theorem dX2_lay_97 : decode cX2_lay 97 = .ok (.if_icmp .ge 24, 3) := dk_162 0 24 (dk_at dksX2_lay_4 3 rfl rfl)
theorem dX2_lay_100 : decode cX2_lay 100 = .ok (.aload_n 0, 1) := dk_42 (dk_at dksX2_lay_4 6 rfl rfl)
theorem dX2_lay_101 : decode cX2_lay 101 = .ok (.aload_n 2, 1) := dk_44 (dk_at dksX2_lay_4 7 rfl rfl)
theorem dX2_lay_102 : decode cX2_lay 102 = .ok (.getfield 45, 3) := dk_180 0 45 (dk_at dksX2_lay_4 8 rfl rfl)
theorem dX2_lay_105 : decode cX2_lay 105 = .ok (.iload 4, 2) := dk_21 4 (dk_at dksX2_lay_4 11 rfl rfl)
theorem dX2_lay_107 : decode cX2_lay 107 = .ok (.baload, 1) := dk_51 (dk_at dksX2_lay_4 13 rfl rfl)
theorem dX2_lay_108 : decode cX2_lay 108 = .ok (.iconst 1, 1) := dk_4 (dk_at dksX2_lay_4 14 rfl rfl)
theorem dX2_lay_109 : decode cX2_lay 109 = .ok (.invokevirtual 49, 3) := dk_182 0 49 (dk_at dksX2_lay_4 15 rfl rfl)
theorem dX2_lay_112 : decode cX2_lay 112 = .ok (.iinc 5 1, 3) := dk_132 5 1 (dk_at dksX2_lay_4 18 rfl rfl)
theorem dX2_lay_115 : decode cX2_lay 115 = .ok (.iinc 4 1, 3) := dk_132 4 1 (dk_at dksX2_lay_4 21 rfl rfl)
theorem dX2_lay_118 : decode cX2_lay 118 = .ok (.goto (-42), 3) := dk_167 255 214 (dk_at dksX2_lay_5 0 rfl rfl)
theorem dX2_lay_121 : decode cX2_lay 121 = .ok (.goto (-111), 3) := dk_167 255 145 (dk_at dksX2_lay_5 3 rfl rfl)
theorem dX2_lay_124 : decode cX2_lay 124 = .ok (.return_, 1) := dk_177 (dk_at dksX2_lay_5 6 rfl rfl)
abbrev cX2_give : ByteArray := prog_7_method_3_code
def yX2_give : MethodName := ⟨RX2, "give", "(II)V"⟩
def dkwX2_give_1 : List UInt8 := [180, 0, 29, 4, 96, 181, 0, 29, 177]
abbrev dktX2_give_1 : List UInt8 := dkwX2_give_1 ++ []
def dkwX2_give_0 : List UInt8 := [42, 180, 0, 15, 42, 180, 0, 29, 27, 79, 42, 180, 0, 19, 42, 180, 0, 29, 28, 79, 42, 89]
abbrev dktX2_give_0 : List UInt8 := dkwX2_give_0 ++ dktX2_give_1
theorem dksX2_give_0 : cX2_give.data.toList.drop 0 = dktX2_give_0 := by decide +kernel
theorem dksX2_give_1 : cX2_give.data.toList.drop 22 = dktX2_give_1 := dk_seg dksX2_give_0 22 rfl rfl
theorem dX2_give_0 : decode cX2_give 0 = .ok (.aload_n 0, 1) := dk_42 (dk_at dksX2_give_0 0 rfl rfl)
theorem dX2_give_1 : decode cX2_give 1 = .ok (.getfield 15, 3) := dk_180 0 15 (dk_at dksX2_give_0 1 rfl rfl)
theorem dX2_give_4 : decode cX2_give 4 = .ok (.aload_n 0, 1) := dk_42 (dk_at dksX2_give_0 4 rfl rfl)
theorem dX2_give_5 : decode cX2_give 5 = .ok (.getfield 29, 3) := dk_180 0 29 (dk_at dksX2_give_0 5 rfl rfl)
theorem dX2_give_8 : decode cX2_give 8 = .ok (.iload_n 1, 1) := dk_27 (dk_at dksX2_give_0 8 rfl rfl)
theorem dX2_give_9 : decode cX2_give 9 = .ok (.iastore, 1) := dk_79 (dk_at dksX2_give_0 9 rfl rfl)
theorem dX2_give_10 : decode cX2_give 10 = .ok (.aload_n 0, 1) := dk_42 (dk_at dksX2_give_0 10 rfl rfl)
theorem dX2_give_11 : decode cX2_give 11 = .ok (.getfield 19, 3) := dk_180 0 19 (dk_at dksX2_give_0 11 rfl rfl)
theorem dX2_give_14 : decode cX2_give 14 = .ok (.aload_n 0, 1) := dk_42 (dk_at dksX2_give_0 14 rfl rfl)
theorem dX2_give_15 : decode cX2_give 15 = .ok (.getfield 29, 3) := dk_180 0 29 (dk_at dksX2_give_0 15 rfl rfl)
theorem dX2_give_18 : decode cX2_give 18 = .ok (.iload_n 2, 1) := dk_28 (dk_at dksX2_give_0 18 rfl rfl)
theorem dX2_give_19 : decode cX2_give 19 = .ok (.iastore, 1) := dk_79 (dk_at dksX2_give_0 19 rfl rfl)
theorem dX2_give_20 : decode cX2_give 20 = .ok (.aload_n 0, 1) := dk_42 (dk_at dksX2_give_0 20 rfl rfl)
theorem dX2_give_21 : decode cX2_give 21 = .ok (.dup, 1) := dk_89 (dk_at dksX2_give_0 21 rfl rfl)
theorem dX2_give_22 : decode cX2_give 22 = .ok (.getfield 29, 3) := dk_180 0 29 (dk_at dksX2_give_1 0 rfl rfl)
theorem dX2_give_25 : decode cX2_give 25 = .ok (.iconst 1, 1) := dk_4 (dk_at dksX2_give_1 3 rfl rfl)
theorem dX2_give_26 : decode cX2_give 26 = .ok (.iadd, 1) := dk_96 (dk_at dksX2_give_1 4 rfl rfl)
theorem dX2_give_27 : decode cX2_give 27 = .ok (.putfield 29, 3) := dk_181 0 29 (dk_at dksX2_give_1 5 rfl rfl)
theorem dX2_give_30 : decode cX2_give 30 = .ok (.return_, 1) := dk_177 (dk_at dksX2_give_1 8 rfl rfl)
abbrev cX2_play : ByteArray := prog_7_method_4_code
def yX2_play : MethodName := ⟨RX2, "play", "(I)V"⟩
def dkwX2_play_10 : List UInt8 := [167, 255, 220, 177]
abbrev dktX2_play_10 : List UInt8 := dkwX2_play_10 ++ []
def dkwX2_play_9 : List UInt8 := [180, 0, 25, 28, 51, 153, 0, 7, 4, 167, 0, 9, 42, 180, 0, 22, 28, 46, 79, 132, 2, 1]
abbrev dktX2_play_9 : List UInt8 := dkwX2_play_9 ++ dktX2_play_10
def dkwX2_play_8 : List UInt8 := [132, 2, 1, 167, 255, 169, 3, 61, 28, 42, 180, 0, 29, 162, 0, 34, 42, 180, 0, 22, 28, 42]
abbrev dktX2_play_8 : List UInt8 := dkwX2_play_8 ++ dktX2_play_9
def dkwX2_play_7 : List UInt8 := [28, 42, 180, 0, 3, 180, 0, 36, 180, 0, 63, 96, 46, 154, 0, 7, 4, 167, 0, 4, 3, 84]
abbrev dktX2_play_7 : List UInt8 := dkwX2_play_7 ++ dktX2_play_8
def dkwX2_play_6 : List UInt8 := [180, 0, 3, 180, 0, 36, 180, 0, 63, 96, 42, 180, 0, 22, 28, 46, 5, 160, 0, 27, 42, 180, 0, 22]
abbrev dktX2_play_6 : List UInt8 := dkwX2_play_6 ++ dktX2_play_7
def dkwX2_play_5 : List UInt8 := [162, 0, 74, 42, 180, 0, 3, 180, 0, 36, 180, 0, 63, 158, 0, 61, 42, 180, 0, 25, 28, 42]
abbrev dktX2_play_5 : List UInt8 := dkwX2_play_5 ++ dktX2_play_6
def dkwX2_play_4 : List UInt8 := [132, 2, 1, 167, 255, 163, 3, 61, 28, 42, 180, 0, 3, 180, 0, 36, 180, 0, 63, 96, 42, 180, 0, 29]
abbrev dktX2_play_4 : List UInt8 := dkwX2_play_4 ++ dktX2_play_5
def dkwX2_play_3 : List UInt8 := [29, 153, 0, 7, 3, 167, 0, 9, 42, 180, 0, 15, 28, 46, 46, 79, 42, 180, 0, 25, 28, 3, 84]
abbrev dktX2_play_3 : List UInt8 := dkwX2_play_3 ++ dktX2_play_4
def dkwX2_play_2 : List UInt8 := [154, 0, 7, 4, 167, 0, 4, 3, 62, 42, 180, 0, 22, 28, 42, 180, 0, 3, 180, 0, 36, 180, 0, 60]
abbrev dktX2_play_2 : List UInt8 := dkwX2_play_2 ++ dktX2_play_3
def dkwX2_play_1 : List UInt8 := [180, 0, 36, 180, 0, 57, 158, 0, 24, 28, 4, 96, 42, 180, 0, 3, 180, 0, 36, 180, 0, 57, 112]
abbrev dktX2_play_1 : List UInt8 := dkwX2_play_1 ++ dktX2_play_2
def dkwX2_play_0 : List UInt8 := [3, 61, 28, 42, 180, 0, 29, 162, 0, 91, 27, 28, 184, 0, 53, 154, 0, 33, 42, 180, 0, 3]
abbrev dktX2_play_0 : List UInt8 := dkwX2_play_0 ++ dktX2_play_1
theorem dksX2_play_0 : cX2_play.data.toList.drop 0 = dktX2_play_0 := by decide +kernel
theorem dksX2_play_1 : cX2_play.data.toList.drop 22 = dktX2_play_1 := dk_seg dksX2_play_0 22 rfl rfl
theorem dksX2_play_2 : cX2_play.data.toList.drop 45 = dktX2_play_2 := dk_seg dksX2_play_1 23 rfl rfl
theorem dksX2_play_3 : cX2_play.data.toList.drop 69 = dktX2_play_3 := dk_seg dksX2_play_2 24 rfl rfl
theorem dksX2_play_4 : cX2_play.data.toList.drop 92 = dktX2_play_4 := dk_seg dksX2_play_3 23 rfl rfl
theorem dksX2_play_5 : cX2_play.data.toList.drop 116 = dktX2_play_5 := dk_seg dksX2_play_4 24 rfl rfl
theorem dksX2_play_6 : cX2_play.data.toList.drop 138 = dktX2_play_6 := dk_seg dksX2_play_5 22 rfl rfl
theorem dksX2_play_7 : cX2_play.data.toList.drop 162 = dktX2_play_7 := dk_seg dksX2_play_6 24 rfl rfl
theorem dksX2_play_8 : cX2_play.data.toList.drop 184 = dktX2_play_8 := dk_seg dksX2_play_7 22 rfl rfl
theorem dksX2_play_9 : cX2_play.data.toList.drop 206 = dktX2_play_9 := dk_seg dksX2_play_8 22 rfl rfl
theorem dksX2_play_10 : cX2_play.data.toList.drop 228 = dktX2_play_10 := dk_seg dksX2_play_9 22 rfl rfl
theorem dX2_play_0 : decode cX2_play 0 = .ok (.iconst 0, 1) := dk_3 (dk_at dksX2_play_0 0 rfl rfl)
theorem dX2_play_1 : decode cX2_play 1 = .ok (.istore_n 2, 1) := dk_61 (dk_at dksX2_play_0 1 rfl rfl)
theorem dX2_play_2 : decode cX2_play 2 = .ok (.iload_n 2, 1) := dk_28 (dk_at dksX2_play_0 2 rfl rfl)
theorem dX2_play_3 : decode cX2_play 3 = .ok (.aload_n 0, 1) := dk_42 (dk_at dksX2_play_0 3 rfl rfl)
theorem dX2_play_4 : decode cX2_play 4 = .ok (.getfield 29, 3) := dk_180 0 29 (dk_at dksX2_play_0 4 rfl rfl)
theorem dX2_play_7 : decode cX2_play 7 = .ok (.if_icmp .ge 91, 3) := dk_162 0 91 (dk_at dksX2_play_0 7 rfl rfl)
theorem dX2_play_10 : decode cX2_play 10 = .ok (.iload_n 1, 1) := dk_27 (dk_at dksX2_play_0 10 rfl rfl)
theorem dX2_play_11 : decode cX2_play 11 = .ok (.iload_n 2, 1) := dk_28 (dk_at dksX2_play_0 11 rfl rfl)
theorem dX2_play_12 : decode cX2_play 12 = .ok (.invokestatic 53, 3) := dk_184 0 53 (dk_at dksX2_play_0 12 rfl rfl)
theorem dX2_play_15 : decode cX2_play 15 = .ok (.ifCond .ne 33, 3) := dk_154 0 33 (dk_at dksX2_play_0 15 rfl rfl)
theorem dX2_play_18 : decode cX2_play 18 = .ok (.aload_n 0, 1) := dk_42 (dk_at dksX2_play_0 18 rfl rfl)
theorem dX2_play_19 : decode cX2_play 19 = .ok (.getfield 3, 3) := dk_180 0 3 (dk_at dksX2_play_0 19 rfl rfl)
theorem dX2_play_22 : decode cX2_play 22 = .ok (.getfield 36, 3) := dk_180 0 36 (dk_at dksX2_play_1 0 rfl rfl)
theorem dX2_play_25 : decode cX2_play 25 = .ok (.getfield 57, 3) := dk_180 0 57 (dk_at dksX2_play_1 3 rfl rfl)
theorem dX2_play_28 : decode cX2_play 28 = .ok (.ifCond .le 24, 3) := dk_158 0 24 (dk_at dksX2_play_1 6 rfl rfl)
theorem dX2_play_31 : decode cX2_play 31 = .ok (.iload_n 2, 1) := dk_28 (dk_at dksX2_play_1 9 rfl rfl)
theorem dX2_play_32 : decode cX2_play 32 = .ok (.iconst 1, 1) := dk_4 (dk_at dksX2_play_1 10 rfl rfl)
theorem dX2_play_33 : decode cX2_play 33 = .ok (.iadd, 1) := dk_96 (dk_at dksX2_play_1 11 rfl rfl)
theorem dX2_play_34 : decode cX2_play 34 = .ok (.aload_n 0, 1) := dk_42 (dk_at dksX2_play_1 12 rfl rfl)
theorem dX2_play_35 : decode cX2_play 35 = .ok (.getfield 3, 3) := dk_180 0 3 (dk_at dksX2_play_1 13 rfl rfl)
theorem dX2_play_38 : decode cX2_play 38 = .ok (.getfield 36, 3) := dk_180 0 36 (dk_at dksX2_play_1 16 rfl rfl)
theorem dX2_play_41 : decode cX2_play 41 = .ok (.getfield 57, 3) := dk_180 0 57 (dk_at dksX2_play_1 19 rfl rfl)
theorem dX2_play_44 : decode cX2_play 44 = .ok (.irem, 1) := dk_112 (dk_at dksX2_play_1 22 rfl rfl)
theorem dX2_play_45 : decode cX2_play 45 = .ok (.ifCond .ne 7, 3) := dk_154 0 7 (dk_at dksX2_play_2 0 rfl rfl)
theorem dX2_play_48 : decode cX2_play 48 = .ok (.iconst 1, 1) := dk_4 (dk_at dksX2_play_2 3 rfl rfl)
theorem dX2_play_49 : decode cX2_play 49 = .ok (.goto 4, 3) := dk_167 0 4 (dk_at dksX2_play_2 4 rfl rfl)
theorem dX2_play_52 : decode cX2_play 52 = .ok (.iconst 0, 1) := dk_3 (dk_at dksX2_play_2 7 rfl rfl)
theorem dX2_play_53 : decode cX2_play 53 = .ok (.istore_n 3, 1) := dk_62 (dk_at dksX2_play_2 8 rfl rfl)
theorem dX2_play_54 : decode cX2_play 54 = .ok (.aload_n 0, 1) := dk_42 (dk_at dksX2_play_2 9 rfl rfl)
theorem dX2_play_55 : decode cX2_play 55 = .ok (.getfield 22, 3) := dk_180 0 22 (dk_at dksX2_play_2 10 rfl rfl)
theorem dX2_play_58 : decode cX2_play 58 = .ok (.iload_n 2, 1) := dk_28 (dk_at dksX2_play_2 13 rfl rfl)
theorem dX2_play_59 : decode cX2_play 59 = .ok (.aload_n 0, 1) := dk_42 (dk_at dksX2_play_2 14 rfl rfl)
theorem dX2_play_60 : decode cX2_play 60 = .ok (.getfield 3, 3) := dk_180 0 3 (dk_at dksX2_play_2 15 rfl rfl)
theorem dX2_play_63 : decode cX2_play 63 = .ok (.getfield 36, 3) := dk_180 0 36 (dk_at dksX2_play_2 18 rfl rfl)
theorem dX2_play_66 : decode cX2_play 66 = .ok (.getfield 60, 3) := dk_180 0 60 (dk_at dksX2_play_2 21 rfl rfl)
theorem dX2_play_69 : decode cX2_play 69 = .ok (.iload_n 3, 1) := dk_29 (dk_at dksX2_play_3 0 rfl rfl)
theorem dX2_play_70 : decode cX2_play 70 = .ok (.ifCond .eq 7, 3) := dk_153 0 7 (dk_at dksX2_play_3 1 rfl rfl)
theorem dX2_play_73 : decode cX2_play 73 = .ok (.iconst 0, 1) := dk_3 (dk_at dksX2_play_3 4 rfl rfl)
theorem dX2_play_74 : decode cX2_play 74 = .ok (.goto 9, 3) := dk_167 0 9 (dk_at dksX2_play_3 5 rfl rfl)
theorem dX2_play_77 : decode cX2_play 77 = .ok (.aload_n 0, 1) := dk_42 (dk_at dksX2_play_3 8 rfl rfl)
theorem dX2_play_78 : decode cX2_play 78 = .ok (.getfield 15, 3) := dk_180 0 15 (dk_at dksX2_play_3 9 rfl rfl)
theorem dX2_play_81 : decode cX2_play 81 = .ok (.iload_n 2, 1) := dk_28 (dk_at dksX2_play_3 12 rfl rfl)
theorem dX2_play_82 : decode cX2_play 82 = .ok (.iaload, 1) := dk_46 (dk_at dksX2_play_3 13 rfl rfl)
theorem dX2_play_83 : decode cX2_play 83 = .ok (.iaload, 1) := dk_46 (dk_at dksX2_play_3 14 rfl rfl)
theorem dX2_play_84 : decode cX2_play 84 = .ok (.iastore, 1) := dk_79 (dk_at dksX2_play_3 15 rfl rfl)
theorem dX2_play_85 : decode cX2_play 85 = .ok (.aload_n 0, 1) := dk_42 (dk_at dksX2_play_3 16 rfl rfl)
theorem dX2_play_86 : decode cX2_play 86 = .ok (.getfield 25, 3) := dk_180 0 25 (dk_at dksX2_play_3 17 rfl rfl)
theorem dX2_play_89 : decode cX2_play 89 = .ok (.iload_n 2, 1) := dk_28 (dk_at dksX2_play_3 20 rfl rfl)
theorem dX2_play_90 : decode cX2_play 90 = .ok (.iconst 0, 1) := dk_3 (dk_at dksX2_play_3 21 rfl rfl)
theorem dX2_play_91 : decode cX2_play 91 = .ok (.bastore, 1) := dk_84 (dk_at dksX2_play_3 22 rfl rfl)
theorem dX2_play_92 : decode cX2_play 92 = .ok (.iinc 2 1, 3) := dk_132 2 1 (dk_at dksX2_play_4 0 rfl rfl)
theorem dX2_play_95 : decode cX2_play 95 = .ok (.goto (-93), 3) := dk_167 255 163 (dk_at dksX2_play_4 3 rfl rfl)
theorem dX2_play_98 : decode cX2_play 98 = .ok (.iconst 0, 1) := dk_3 (dk_at dksX2_play_4 6 rfl rfl)
theorem dX2_play_99 : decode cX2_play 99 = .ok (.istore_n 2, 1) := dk_61 (dk_at dksX2_play_4 7 rfl rfl)
theorem dX2_play_100 : decode cX2_play 100 = .ok (.iload_n 2, 1) := dk_28 (dk_at dksX2_play_4 8 rfl rfl)
theorem dX2_play_101 : decode cX2_play 101 = .ok (.aload_n 0, 1) := dk_42 (dk_at dksX2_play_4 9 rfl rfl)
theorem dX2_play_102 : decode cX2_play 102 = .ok (.getfield 3, 3) := dk_180 0 3 (dk_at dksX2_play_4 10 rfl rfl)
theorem dX2_play_105 : decode cX2_play 105 = .ok (.getfield 36, 3) := dk_180 0 36 (dk_at dksX2_play_4 13 rfl rfl)
theorem dX2_play_108 : decode cX2_play 108 = .ok (.getfield 63, 3) := dk_180 0 63 (dk_at dksX2_play_4 16 rfl rfl)
theorem dX2_play_111 : decode cX2_play 111 = .ok (.iadd, 1) := dk_96 (dk_at dksX2_play_4 19 rfl rfl)
theorem dX2_play_112 : decode cX2_play 112 = .ok (.aload_n 0, 1) := dk_42 (dk_at dksX2_play_4 20 rfl rfl)
theorem dX2_play_113 : decode cX2_play 113 = .ok (.getfield 29, 3) := dk_180 0 29 (dk_at dksX2_play_4 21 rfl rfl)
theorem dX2_play_116 : decode cX2_play 116 = .ok (.if_icmp .ge 74, 3) := dk_162 0 74 (dk_at dksX2_play_5 0 rfl rfl)
theorem dX2_play_119 : decode cX2_play 119 = .ok (.aload_n 0, 1) := dk_42 (dk_at dksX2_play_5 3 rfl rfl)
theorem dX2_play_120 : decode cX2_play 120 = .ok (.getfield 3, 3) := dk_180 0 3 (dk_at dksX2_play_5 4 rfl rfl)
theorem dX2_play_123 : decode cX2_play 123 = .ok (.getfield 36, 3) := dk_180 0 36 (dk_at dksX2_play_5 7 rfl rfl)
theorem dX2_play_126 : decode cX2_play 126 = .ok (.getfield 63, 3) := dk_180 0 63 (dk_at dksX2_play_5 10 rfl rfl)
theorem dX2_play_129 : decode cX2_play 129 = .ok (.ifCond .le 61, 3) := dk_158 0 61 (dk_at dksX2_play_5 13 rfl rfl)
theorem dX2_play_132 : decode cX2_play 132 = .ok (.aload_n 0, 1) := dk_42 (dk_at dksX2_play_5 16 rfl rfl)
theorem dX2_play_133 : decode cX2_play 133 = .ok (.getfield 25, 3) := dk_180 0 25 (dk_at dksX2_play_5 17 rfl rfl)
theorem dX2_play_136 : decode cX2_play 136 = .ok (.iload_n 2, 1) := dk_28 (dk_at dksX2_play_5 20 rfl rfl)
theorem dX2_play_137 : decode cX2_play 137 = .ok (.aload_n 0, 1) := dk_42 (dk_at dksX2_play_5 21 rfl rfl)
theorem dX2_play_138 : decode cX2_play 138 = .ok (.getfield 3, 3) := dk_180 0 3 (dk_at dksX2_play_6 0 rfl rfl)
theorem dX2_play_141 : decode cX2_play 141 = .ok (.getfield 36, 3) := dk_180 0 36 (dk_at dksX2_play_6 3 rfl rfl)
theorem dX2_play_144 : decode cX2_play 144 = .ok (.getfield 63, 3) := dk_180 0 63 (dk_at dksX2_play_6 6 rfl rfl)
theorem dX2_play_147 : decode cX2_play 147 = .ok (.iadd, 1) := dk_96 (dk_at dksX2_play_6 9 rfl rfl)
theorem dX2_play_148 : decode cX2_play 148 = .ok (.aload_n 0, 1) := dk_42 (dk_at dksX2_play_6 10 rfl rfl)
theorem dX2_play_149 : decode cX2_play 149 = .ok (.getfield 22, 3) := dk_180 0 22 (dk_at dksX2_play_6 11 rfl rfl)
theorem dX2_play_152 : decode cX2_play 152 = .ok (.iload_n 2, 1) := dk_28 (dk_at dksX2_play_6 14 rfl rfl)
theorem dX2_play_153 : decode cX2_play 153 = .ok (.iaload, 1) := dk_46 (dk_at dksX2_play_6 15 rfl rfl)
theorem dX2_play_154 : decode cX2_play 154 = .ok (.iconst 2, 1) := dk_5 (dk_at dksX2_play_6 16 rfl rfl)
theorem dX2_play_155 : decode cX2_play 155 = .ok (.if_icmp .ne 27, 3) := dk_160 0 27 (dk_at dksX2_play_6 17 rfl rfl)
theorem dX2_play_158 : decode cX2_play 158 = .ok (.aload_n 0, 1) := dk_42 (dk_at dksX2_play_6 20 rfl rfl)
theorem dX2_play_159 : decode cX2_play 159 = .ok (.getfield 22, 3) := dk_180 0 22 (dk_at dksX2_play_6 21 rfl rfl)
theorem dX2_play_162 : decode cX2_play 162 = .ok (.iload_n 2, 1) := dk_28 (dk_at dksX2_play_7 0 rfl rfl)
theorem dX2_play_163 : decode cX2_play 163 = .ok (.aload_n 0, 1) := dk_42 (dk_at dksX2_play_7 1 rfl rfl)
theorem dX2_play_164 : decode cX2_play 164 = .ok (.getfield 3, 3) := dk_180 0 3 (dk_at dksX2_play_7 2 rfl rfl)
theorem dX2_play_167 : decode cX2_play 167 = .ok (.getfield 36, 3) := dk_180 0 36 (dk_at dksX2_play_7 5 rfl rfl)
theorem dX2_play_170 : decode cX2_play 170 = .ok (.getfield 63, 3) := dk_180 0 63 (dk_at dksX2_play_7 8 rfl rfl)
theorem dX2_play_173 : decode cX2_play 173 = .ok (.iadd, 1) := dk_96 (dk_at dksX2_play_7 11 rfl rfl)
theorem dX2_play_174 : decode cX2_play 174 = .ok (.iaload, 1) := dk_46 (dk_at dksX2_play_7 12 rfl rfl)
theorem dX2_play_175 : decode cX2_play 175 = .ok (.ifCond .ne 7, 3) := dk_154 0 7 (dk_at dksX2_play_7 13 rfl rfl)
theorem dX2_play_178 : decode cX2_play 178 = .ok (.iconst 1, 1) := dk_4 (dk_at dksX2_play_7 16 rfl rfl)
theorem dX2_play_179 : decode cX2_play 179 = .ok (.goto 4, 3) := dk_167 0 4 (dk_at dksX2_play_7 17 rfl rfl)
theorem dX2_play_182 : decode cX2_play 182 = .ok (.iconst 0, 1) := dk_3 (dk_at dksX2_play_7 20 rfl rfl)
theorem dX2_play_183 : decode cX2_play 183 = .ok (.bastore, 1) := dk_84 (dk_at dksX2_play_7 21 rfl rfl)
theorem dX2_play_184 : decode cX2_play 184 = .ok (.iinc 2 1, 3) := dk_132 2 1 (dk_at dksX2_play_8 0 rfl rfl)
theorem dX2_play_187 : decode cX2_play 187 = .ok (.goto (-87), 3) := dk_167 255 169 (dk_at dksX2_play_8 3 rfl rfl)
theorem dX2_play_190 : decode cX2_play 190 = .ok (.iconst 0, 1) := dk_3 (dk_at dksX2_play_8 6 rfl rfl)
theorem dX2_play_191 : decode cX2_play 191 = .ok (.istore_n 2, 1) := dk_61 (dk_at dksX2_play_8 7 rfl rfl)
theorem dX2_play_192 : decode cX2_play 192 = .ok (.iload_n 2, 1) := dk_28 (dk_at dksX2_play_8 8 rfl rfl)
theorem dX2_play_193 : decode cX2_play 193 = .ok (.aload_n 0, 1) := dk_42 (dk_at dksX2_play_8 9 rfl rfl)
theorem dX2_play_194 : decode cX2_play 194 = .ok (.getfield 29, 3) := dk_180 0 29 (dk_at dksX2_play_8 10 rfl rfl)
theorem dX2_play_197 : decode cX2_play 197 = .ok (.if_icmp .ge 34, 3) := dk_162 0 34 (dk_at dksX2_play_8 13 rfl rfl)
theorem dX2_play_200 : decode cX2_play 200 = .ok (.aload_n 0, 1) := dk_42 (dk_at dksX2_play_8 16 rfl rfl)
theorem dX2_play_201 : decode cX2_play 201 = .ok (.getfield 22, 3) := dk_180 0 22 (dk_at dksX2_play_8 17 rfl rfl)
theorem dX2_play_204 : decode cX2_play 204 = .ok (.iload_n 2, 1) := dk_28 (dk_at dksX2_play_8 20 rfl rfl)
theorem dX2_play_205 : decode cX2_play 205 = .ok (.aload_n 0, 1) := dk_42 (dk_at dksX2_play_8 21 rfl rfl)
theorem dX2_play_206 : decode cX2_play 206 = .ok (.getfield 25, 3) := dk_180 0 25 (dk_at dksX2_play_9 0 rfl rfl)
theorem dX2_play_209 : decode cX2_play 209 = .ok (.iload_n 2, 1) := dk_28 (dk_at dksX2_play_9 3 rfl rfl)
theorem dX2_play_210 : decode cX2_play 210 = .ok (.baload, 1) := dk_51 (dk_at dksX2_play_9 4 rfl rfl)
theorem dX2_play_211 : decode cX2_play 211 = .ok (.ifCond .eq 7, 3) := dk_153 0 7 (dk_at dksX2_play_9 5 rfl rfl)
theorem dX2_play_214 : decode cX2_play 214 = .ok (.iconst 1, 1) := dk_4 (dk_at dksX2_play_9 8 rfl rfl)
theorem dX2_play_215 : decode cX2_play 215 = .ok (.goto 9, 3) := dk_167 0 9 (dk_at dksX2_play_9 9 rfl rfl)
theorem dX2_play_218 : decode cX2_play 218 = .ok (.aload_n 0, 1) := dk_42 (dk_at dksX2_play_9 12 rfl rfl)
theorem dX2_play_219 : decode cX2_play 219 = .ok (.getfield 22, 3) := dk_180 0 22 (dk_at dksX2_play_9 13 rfl rfl)
theorem dX2_play_222 : decode cX2_play 222 = .ok (.iload_n 2, 1) := dk_28 (dk_at dksX2_play_9 16 rfl rfl)
theorem dX2_play_223 : decode cX2_play 223 = .ok (.iaload, 1) := dk_46 (dk_at dksX2_play_9 17 rfl rfl)
theorem dX2_play_224 : decode cX2_play 224 = .ok (.iastore, 1) := dk_79 (dk_at dksX2_play_9 18 rfl rfl)
theorem dX2_play_225 : decode cX2_play 225 = .ok (.iinc 2 1, 3) := dk_132 2 1 (dk_at dksX2_play_9 19 rfl rfl)
theorem dX2_play_228 : decode cX2_play 228 = .ok (.goto (-36), 3) := dk_167 255 220 (dk_at dksX2_play_10 0 rfl rfl)
theorem dX2_play_231 : decode cX2_play 231 = .ok (.return_, 1) := dk_177 (dk_at dksX2_play_10 3 rfl rfl)
abbrev cX2_heardMany : ByteArray := prog_7_method_5_code
def yX2_heardMany : MethodName := ⟨RX2, "heardMany", "(LOneDrum$Army;)I"⟩
def dkwX2_heardMany_1 : List UInt8 := [4, 100, 43, 180, 0, 70, 108, 4, 96, 172]
abbrev dktX2_heardMany_1 : List UInt8 := dkwX2_heardMany_1 ++ []
def dkwX2_heardMany_0 : List UInt8 := [42, 180, 0, 29, 43, 180, 0, 65, 163, 0, 7, 3, 167, 0, 21, 42, 180, 0, 29, 43, 180, 0, 65, 100]
abbrev dktX2_heardMany_0 : List UInt8 := dkwX2_heardMany_0 ++ dktX2_heardMany_1
theorem dksX2_heardMany_0 : cX2_heardMany.data.toList.drop 0 = dktX2_heardMany_0 := by decide +kernel
theorem dksX2_heardMany_1 : cX2_heardMany.data.toList.drop 24 = dktX2_heardMany_1 := dk_seg dksX2_heardMany_0 24 rfl rfl
theorem dX2_heardMany_0 : decode cX2_heardMany 0 = .ok (.aload_n 0, 1) := dk_42 (dk_at dksX2_heardMany_0 0 rfl rfl)
theorem dX2_heardMany_1 : decode cX2_heardMany 1 = .ok (.getfield 29, 3) := dk_180 0 29 (dk_at dksX2_heardMany_0 1 rfl rfl)
theorem dX2_heardMany_4 : decode cX2_heardMany 4 = .ok (.aload_n 1, 1) := dk_43 (dk_at dksX2_heardMany_0 4 rfl rfl)
theorem dX2_heardMany_5 : decode cX2_heardMany 5 = .ok (.getfield 65, 3) := dk_180 0 65 (dk_at dksX2_heardMany_0 5 rfl rfl)
theorem dX2_heardMany_8 : decode cX2_heardMany 8 = .ok (.if_icmp .gt 7, 3) := dk_163 0 7 (dk_at dksX2_heardMany_0 8 rfl rfl)
theorem dX2_heardMany_11 : decode cX2_heardMany 11 = .ok (.iconst 0, 1) := dk_3 (dk_at dksX2_heardMany_0 11 rfl rfl)
theorem dX2_heardMany_12 : decode cX2_heardMany 12 = .ok (.goto 21, 3) := dk_167 0 21 (dk_at dksX2_heardMany_0 12 rfl rfl)
theorem dX2_heardMany_15 : decode cX2_heardMany 15 = .ok (.aload_n 0, 1) := dk_42 (dk_at dksX2_heardMany_0 15 rfl rfl)
theorem dX2_heardMany_16 : decode cX2_heardMany 16 = .ok (.getfield 29, 3) := dk_180 0 29 (dk_at dksX2_heardMany_0 16 rfl rfl)
theorem dX2_heardMany_19 : decode cX2_heardMany 19 = .ok (.aload_n 1, 1) := dk_43 (dk_at dksX2_heardMany_0 19 rfl rfl)
theorem dX2_heardMany_20 : decode cX2_heardMany 20 = .ok (.getfield 65, 3) := dk_180 0 65 (dk_at dksX2_heardMany_0 20 rfl rfl)
theorem dX2_heardMany_23 : decode cX2_heardMany 23 = .ok (.isub, 1) := dk_100 (dk_at dksX2_heardMany_0 23 rfl rfl)
theorem dX2_heardMany_24 : decode cX2_heardMany 24 = .ok (.iconst 1, 1) := dk_4 (dk_at dksX2_heardMany_1 0 rfl rfl)
theorem dX2_heardMany_25 : decode cX2_heardMany 25 = .ok (.isub, 1) := dk_100 (dk_at dksX2_heardMany_1 1 rfl rfl)
theorem dX2_heardMany_26 : decode cX2_heardMany 26 = .ok (.aload_n 1, 1) := dk_43 (dk_at dksX2_heardMany_1 2 rfl rfl)
theorem dX2_heardMany_27 : decode cX2_heardMany 27 = .ok (.getfield 70, 3) := dk_180 0 70 (dk_at dksX2_heardMany_1 3 rfl rfl)
theorem dX2_heardMany_30 : decode cX2_heardMany 30 = .ok (.idiv, 1) := dk_108 (dk_at dksX2_heardMany_1 6 rfl rfl)
theorem dX2_heardMany_31 : decode cX2_heardMany 31 = .ok (.iconst 1, 1) := dk_4 (dk_at dksX2_heardMany_1 7 rfl rfl)
theorem dX2_heardMany_32 : decode cX2_heardMany 32 = .ok (.iadd, 1) := dk_96 (dk_at dksX2_heardMany_1 8 rfl rfl)
theorem dX2_heardMany_33 : decode cX2_heardMany 33 = .ok (.ireturn, 1) := dk_172 (dk_at dksX2_heardMany_1 9 rfl rfl)
abbrev cX2_heard : ByteArray := prog_7_method_7_code
def yX2_heard : MethodName := ⟨RX2, "heard", "(LOneDrum$Army;I)I"⟩
def dkwX2_heard_0 : List UInt8 := [42, 180, 0, 22, 42, 43, 28, 182, 0, 73, 46, 172]
abbrev dktX2_heard_0 : List UInt8 := dkwX2_heard_0 ++ []
theorem dksX2_heard_0 : cX2_heard.data.toList.drop 0 = dktX2_heard_0 := by decide +kernel
theorem dX2_heard_0 : decode cX2_heard 0 = .ok (.aload_n 0, 1) := dk_42 (dk_at dksX2_heard_0 0 rfl rfl)
theorem dX2_heard_1 : decode cX2_heard 1 = .ok (.getfield 22, 3) := dk_180 0 22 (dk_at dksX2_heard_0 1 rfl rfl)
theorem dX2_heard_4 : decode cX2_heard 4 = .ok (.aload_n 0, 1) := dk_42 (dk_at dksX2_heard_0 4 rfl rfl)
theorem dX2_heard_5 : decode cX2_heard 5 = .ok (.aload_n 1, 1) := dk_43 (dk_at dksX2_heard_0 5 rfl rfl)
theorem dX2_heard_6 : decode cX2_heard 6 = .ok (.iload_n 2, 1) := dk_28 (dk_at dksX2_heard_0 6 rfl rfl)
theorem dX2_heard_7 : decode cX2_heard 7 = .ok (.invokevirtual 73, 3) := dk_182 0 73 (dk_at dksX2_heard_0 7 rfl rfl)
theorem dX2_heard_10 : decode cX2_heard 10 = .ok (.iaload, 1) := dk_46 (dk_at dksX2_heard_0 10 rfl rfl)
theorem dX2_heard_11 : decode cX2_heard 11 = .ok (.ireturn, 1) := dk_172 (dk_at dksX2_heard_0 11 rfl rfl)
abbrev cX2_placeOf : ByteArray := prog_7_method_6_code
def yX2_placeOf : MethodName := ⟨RX2, "placeOf", "(LOneDrum$Army;I)I"⟩
def dkwX2_placeOf_0 : List UInt8 := [43, 180, 0, 65, 28, 43, 180, 0, 70, 104, 96, 172]
abbrev dktX2_placeOf_0 : List UInt8 := dkwX2_placeOf_0 ++ []
theorem dksX2_placeOf_0 : cX2_placeOf.data.toList.drop 0 = dktX2_placeOf_0 := by decide +kernel
theorem dX2_placeOf_0 : decode cX2_placeOf 0 = .ok (.aload_n 1, 1) := dk_43 (dk_at dksX2_placeOf_0 0 rfl rfl)
theorem dX2_placeOf_1 : decode cX2_placeOf 1 = .ok (.getfield 65, 3) := dk_180 0 65 (dk_at dksX2_placeOf_0 1 rfl rfl)
theorem dX2_placeOf_4 : decode cX2_placeOf 4 = .ok (.iload_n 2, 1) := dk_28 (dk_at dksX2_placeOf_0 4 rfl rfl)
theorem dX2_placeOf_5 : decode cX2_placeOf 5 = .ok (.aload_n 1, 1) := dk_43 (dk_at dksX2_placeOf_0 5 rfl rfl)
theorem dX2_placeOf_6 : decode cX2_placeOf 6 = .ok (.getfield 70, 3) := dk_180 0 70 (dk_at dksX2_placeOf_0 6 rfl rfl)
theorem dX2_placeOf_9 : decode cX2_placeOf 9 = .ok (.imul, 1) := dk_104 (dk_at dksX2_placeOf_0 9 rfl rfl)
theorem dX2_placeOf_10 : decode cX2_placeOf 10 = .ok (.iadd, 1) := dk_96 (dk_at dksX2_placeOf_0 10 rfl rfl)
theorem dX2_placeOf_11 : decode cX2_placeOf 11 = .ok (.ireturn, 1) := dk_172 (dk_at dksX2_placeOf_0 11 rfl rfl)
theorem q123 : (Jvm.Cond.initialized "OneDrum$Drum") ∈ lw_all := lw_g (lw_at lw_m1 6 rfl) rfl
theorem q263 : (Jvm.Cond.instantiable "OneDrum$Drum" (6 : Nat)) ∈ lw_all := lw_g (lw_at lw_m1 146 rfl) rfl
theorem q265 : (Jvm.Cond.instanceMethod ({ cls := "OneDrum$Drum", name := "<init>", desc := "(LOneDrum;)V" } : Jvm.MethodName)) ∈ lw_all := lw_g (lw_at lw_m1 148 rfl) rfl
theorem q266 : (Jvm.Cond.code ({ cls := "OneDrum$Drum", name := "<init>", desc := "(LOneDrum;)V" } : Jvm.MethodName) prog_7_method_1_code (2 : Nat) (Option.none : Option Jvm.ClassFile.FieldType)) ∈ lw_all := lw_g (lw_at lw_m1 149 rfl) rfl
theorem q267 : (Jvm.Cond.methodLink "OneDrum$Drum" (9 : Nat) ({ cls := "java/lang/Object", name := "<init>", desc := "()V" } : Jvm.MethodName)) ∈ lw_all := lw_g (lw_at lw_m1 150 rfl) rfl
theorem q268 : (Jvm.Cond.fieldLink "OneDrum$Drum" (15 : Nat) "OneDrum$Drum" "given" "[I") ∈ lw_all := lw_g (lw_at lw_m1 151 rfl) rfl
theorem q270 : (Jvm.Cond.fieldLink "OneDrum$Drum" (19 : Nat) "OneDrum$Drum" "giver" "[I") ∈ lw_all := lw_g (lw_at lw_m1 153 rfl) rfl
theorem q273 : (Jvm.Cond.fieldLink "OneDrum$Drum" (22 : Nat) "OneDrum$Drum" "played" "[I") ∈ lw_all := lw_g (lw_at lw_m1 156 rfl) rfl
theorem q275 : (Jvm.Cond.fieldLink "OneDrum$Drum" (25 : Nat) "OneDrum$Drum" "echo" "[Z") ∈ lw_all := lw_g (lw_at lw_m1 158 rfl) rfl
theorem q278 : (Jvm.Cond.fieldLink "OneDrum$Drum" (29 : Nat) "OneDrum$Drum" "many" "I") ∈ lw_all := lw_g (lw_at lw_m1 161 rfl) rfl
theorem q280 : (Jvm.Cond.fieldLink "OneDrum$Drum" (3 : Nat) "OneDrum$Drum" "this$0" "LOneDrum;") ∈ lw_all := lw_g (lw_at lw_m1 163 rfl) rfl
theorem q281 : (Jvm.Cond.laysFinal "OneDrum$Drum" "OneDrum$Drum" "given" "[I") ∈ lw_all := lw_g (lw_at lw_m1 164 rfl) rfl
theorem q282 : (Jvm.Cond.soleField "OneDrum$Drum" "given") ∈ lw_all := lw_g (lw_at lw_m1 165 rfl) rfl
theorem q283 : (Jvm.Cond.laysFinal "OneDrum$Drum" "OneDrum$Drum" "giver" "[I") ∈ lw_all := lw_g (lw_at lw_m1 166 rfl) rfl
theorem q284 : (Jvm.Cond.soleField "OneDrum$Drum" "giver") ∈ lw_all := lw_g (lw_at lw_m1 167 rfl) rfl
theorem q285 : (Jvm.Cond.laysFinal "OneDrum$Drum" "OneDrum$Drum" "played" "[I") ∈ lw_all := lw_g (lw_at lw_m1 168 rfl) rfl
theorem q286 : (Jvm.Cond.soleField "OneDrum$Drum" "played") ∈ lw_all := lw_g (lw_at lw_m1 169 rfl) rfl
theorem q287 : (Jvm.Cond.laysFinal "OneDrum$Drum" "OneDrum$Drum" "echo" "[Z") ∈ lw_all := lw_g (lw_at lw_m1 170 rfl) rfl
theorem q288 : (Jvm.Cond.soleField "OneDrum$Drum" "echo") ∈ lw_all := lw_g (lw_at lw_m1 171 rfl) rfl
theorem q289 : (Jvm.Cond.lays "OneDrum$Drum" "OneDrum$Drum" "many" "I") ∈ lw_all := lw_g (lw_at lw_m1 172 rfl) rfl
theorem q290 : (Jvm.Cond.soleField "OneDrum$Drum" "many") ∈ lw_all := lw_g (lw_at lw_m1 173 rfl) rfl
theorem q291 : (Jvm.Cond.laysFinal "OneDrum$Drum" "OneDrum$Drum" "this$0" "LOneDrum;") ∈ lw_all := lw_g (lw_at lw_m1 174 rfl) rfl
theorem q292 : (Jvm.Cond.soleField "OneDrum$Drum" "this$0") ∈ lw_all := lw_g (lw_at lw_m1 175 rfl) rfl
theorem q293 : (Jvm.Cond.superclass "OneDrum$Drum" "java/lang/Object") ∈ lw_all := lw_g (lw_at lw_m1 176 rfl) rfl
theorem q337 : (Jvm.Cond.fieldLink "OneDrum$Drum" (45 : Nat) "OneDrum$Beats" "at" "[B") ∈ lw_all := lw_g (lw_at lw_m1 220 rfl) rfl
theorem q346 : (Jvm.Cond.fieldLink "OneDrum$Drum" (33 : Nat) "OneDrum$Beats" "many" "I") ∈ lw_all := lw_g (lw_at lw_m1 229 rfl) rfl
theorem q382 : (Jvm.Cond.fieldLinkNest "OneDrum$Drum" (36 : Nat) "OneDrum" "war" "LOneDrum$War;" "OneDrum") ∈ lw_tbl := lw_at lw_m2 25 rfl
theorem q524 : (Jvm.Cond.fieldLink "OneDrum$Drum" (65 : Nat) "OneDrum$Army" "from" "I") ∈ lw_all := lw_g (lw_at lw_m2 167 rfl) rfl
theorem q528 : (Jvm.Cond.fieldLink "OneDrum$Drum" (70 : Nat) "OneDrum$Army" "step" "I") ∈ lw_all := lw_g (lw_at lw_m2 171 rfl) rfl
theorem q552 : (Jvm.Cond.fieldLink "OneDrum$Drum" (40 : Nat) "OneDrum$War" "turn" "I") ∈ lw_all := lw_g (lw_at lw_m2 195 rfl) rfl
theorem q555 : (Jvm.Cond.fieldLink "OneDrum$Drum" (57 : Nat) "OneDrum$War" "tired" "I") ∈ lw_all := lw_g (lw_at lw_m2 198 rfl) rfl
theorem q558 : (Jvm.Cond.fieldLink "OneDrum$Drum" (63 : Nat) "OneDrum$War" "echo" "I") ∈ lw_all := lw_g (lw_at lw_m2 201 rfl) rfl
theorem q562 : (Jvm.Cond.fieldLink "OneDrum$Drum" (60 : Nat) "OneDrum$War" "wet" "[I") ∈ lw_all := lw_g (lw_at lw_m2 205 rfl) rfl
theorem q1102 : (Jvm.Cond.selects "OneDrum$Drum" ({ cls := "java/lang/Object", name := "getClass", desc := "()Ljava/lang/Class;" } : Jvm.MethodName) ({ cls := "java/lang/Object", name := "getClass", desc := "()Ljava/lang/Class;" } : Jvm.MethodName)) ∈ lw_all := lw_g (lw_at lw_m5 25 rfl) rfl
theorem q1271 : (Jvm.Cond.instanceMethod ({ cls := "OneDrum$Drum", name := "lay", desc := "(LOneDrum$Beats;LOneDrum$Beats;)V" } : Jvm.MethodName)) ∈ lw_all := lw_g (lw_at lw_m5 194 rfl) rfl
theorem q1272 : (Jvm.Cond.selects "OneDrum$Drum" ({ cls := "OneDrum$Drum", name := "lay", desc := "(LOneDrum$Beats;LOneDrum$Beats;)V" } : Jvm.MethodName) ({ cls := "OneDrum$Drum", name := "lay", desc := "(LOneDrum$Beats;LOneDrum$Beats;)V" } : Jvm.MethodName)) ∈ lw_all := lw_g (lw_at lw_m5 195 rfl) rfl
theorem q1273 : (Jvm.Cond.code ({ cls := "OneDrum$Drum", name := "lay", desc := "(LOneDrum$Beats;LOneDrum$Beats;)V" } : Jvm.MethodName) prog_7_method_2_code (6 : Nat) (Option.none : Option Jvm.ClassFile.FieldType)) ∈ lw_all := lw_g (lw_at lw_m5 196 rfl) rfl
theorem q1274 : (Jvm.Cond.methodLink "OneDrum$Drum" (49 : Nat) ({ cls := "OneDrum$Drum", name := "give", desc := "(II)V" } : Jvm.MethodName)) ∈ lw_all := lw_g (lw_at lw_m5 197 rfl) rfl
theorem q1275 : (Jvm.Cond.privateMethod ({ cls := "OneDrum$Drum", name := "give", desc := "(II)V" } : Jvm.MethodName)) ∈ lw_tbl := lw_at lw_m5 198 rfl
theorem q1276 : (Jvm.Cond.instanceMethod ({ cls := "OneDrum$Drum", name := "give", desc := "(II)V" } : Jvm.MethodName)) ∈ lw_all := lw_g (lw_at lw_m5 199 rfl) rfl
theorem q1277 : (Jvm.Cond.code ({ cls := "OneDrum$Drum", name := "give", desc := "(II)V" } : Jvm.MethodName) prog_7_method_3_code (3 : Nat) (Option.none : Option Jvm.ClassFile.FieldType)) ∈ lw_all := lw_g (lw_at lw_m5 200 rfl) rfl
theorem q1279 : (Jvm.Cond.instanceMethod ({ cls := "OneDrum$Drum", name := "play", desc := "(I)V" } : Jvm.MethodName)) ∈ lw_all := lw_g (lw_at lw_m5 202 rfl) rfl
theorem q1280 : (Jvm.Cond.selects "OneDrum$Drum" ({ cls := "OneDrum$Drum", name := "play", desc := "(I)V" } : Jvm.MethodName) ({ cls := "OneDrum$Drum", name := "play", desc := "(I)V" } : Jvm.MethodName)) ∈ lw_all := lw_g (lw_at lw_m5 203 rfl) rfl
theorem q1281 : (Jvm.Cond.code ({ cls := "OneDrum$Drum", name := "play", desc := "(I)V" } : Jvm.MethodName) prog_7_method_4_code (4 : Nat) (Option.none : Option Jvm.ClassFile.FieldType)) ∈ lw_all := lw_g (lw_at lw_m5 204 rfl) rfl
theorem q1282 : (Jvm.Cond.methodLinkNest "OneDrum$Drum" (53 : Nat) ({ cls := "OneDrum", name := "has", desc := "(II)Z" } : Jvm.MethodName) "OneDrum") ∈ lw_tbl := lw_at lw_m5 205 rfl
theorem q1290 : (Jvm.Cond.instanceMethod ({ cls := "OneDrum$Drum", name := "heardMany", desc := "(LOneDrum$Army;)I" } : Jvm.MethodName)) ∈ lw_all := lw_g (lw_at lw_m5 213 rfl) rfl
theorem q1291 : (Jvm.Cond.selects "OneDrum$Drum" ({ cls := "OneDrum$Drum", name := "heardMany", desc := "(LOneDrum$Army;)I" } : Jvm.MethodName) ({ cls := "OneDrum$Drum", name := "heardMany", desc := "(LOneDrum$Army;)I" } : Jvm.MethodName)) ∈ lw_all := lw_g (lw_at lw_m5 214 rfl) rfl
theorem q1292 : (Jvm.Cond.code ({ cls := "OneDrum$Drum", name := "heardMany", desc := "(LOneDrum$Army;)I" } : Jvm.MethodName) prog_7_method_5_code (2 : Nat) (Option.some Jvm.ClassFile.FieldType.int)) ∈ lw_all := lw_g (lw_at lw_m5 215 rfl) rfl
theorem q1294 : (Jvm.Cond.instanceMethod ({ cls := "OneDrum$Drum", name := "heard", desc := "(LOneDrum$Army;I)I" } : Jvm.MethodName)) ∈ lw_all := lw_g (lw_at lw_m5 217 rfl) rfl
theorem q1295 : (Jvm.Cond.selects "OneDrum$Drum" ({ cls := "OneDrum$Drum", name := "heard", desc := "(LOneDrum$Army;I)I" } : Jvm.MethodName) ({ cls := "OneDrum$Drum", name := "heard", desc := "(LOneDrum$Army;I)I" } : Jvm.MethodName)) ∈ lw_all := lw_g (lw_at lw_m5 218 rfl) rfl
theorem q1296 : (Jvm.Cond.code ({ cls := "OneDrum$Drum", name := "heard", desc := "(LOneDrum$Army;I)I" } : Jvm.MethodName) prog_7_method_7_code (3 : Nat) (Option.some Jvm.ClassFile.FieldType.int)) ∈ lw_all := lw_g (lw_at lw_m5 219 rfl) rfl
theorem q1297 : (Jvm.Cond.methodLink "OneDrum$Drum" (73 : Nat) ({ cls := "OneDrum$Drum", name := "placeOf", desc := "(LOneDrum$Army;I)I" } : Jvm.MethodName)) ∈ lw_all := lw_g (lw_at lw_m5 220 rfl) rfl
theorem q1298 : (Jvm.Cond.instanceMethod ({ cls := "OneDrum$Drum", name := "placeOf", desc := "(LOneDrum$Army;I)I" } : Jvm.MethodName)) ∈ lw_all := lw_g (lw_at lw_m5 221 rfl) rfl
theorem q1299 : (Jvm.Cond.selects "OneDrum$Drum" ({ cls := "OneDrum$Drum", name := "placeOf", desc := "(LOneDrum$Army;I)I" } : Jvm.MethodName) ({ cls := "OneDrum$Drum", name := "placeOf", desc := "(LOneDrum$Army;I)I" } : Jvm.MethodName)) ∈ lw_all := lw_g (lw_at lw_m5 222 rfl) rfl
theorem q1300 : (Jvm.Cond.code ({ cls := "OneDrum$Drum", name := "placeOf", desc := "(LOneDrum$Army;I)I" } : Jvm.MethodName) prog_7_method_6_code (3 : Nat) (Option.some Jvm.ClassFile.FieldType.int)) ∈ lw_all := lw_g (lw_at lw_m5 223 rfl) rfl
theorem q2225 : (Jvm.Cond.castable "OneDrum$Drum" "java/lang/Object") ∈ lw_tbl := lw_at lw_m9 188 rfl
theorem in_X2 : ∀ w ∈ wsX20, w ∈ lw_all := lw_in wsX20 [281, 283, 285, 287, 289, 291] (by decide +kernel) (by decide +kernel)
/-! OneDrum$Twice -/
set_option maxRecDepth 100000
def RX20 : String := "OneDrum$Twice"
def TX20 : u_T := fun k => match k with
  | 0 => ("OneDrum$Change", "parent", "I", true)
  | 1 => ("OneDrum$Change", "depth", "I", false)
  | _ => ("OneDrum$Twice", "beat", "I", true)
def tyX20 : Nat → FieldType := fun k => match k with
  | 0 => .int
  | 1 => .int
  | _ => .int
abbrev wsX200 : List Cond := u_ws RX20 TX20 3
theorem nmX20 : ∀ a, a < 3 → ∀ b, b < 3 → a ≠ b → (TX20 a).2.1 ≠ (TX20 b).2.1 := by decide +kernel
theorem tyX20_ok : ∀ k, k < 3 → parseFieldDescriptor (TX20 k).2.2.1 = some (tyX20 k) := by decide +kernel
abbrev cX20_init : ByteArray := prog_17_method_1_code
def yX20_init : MethodName := ⟨RX20, "<init>", "(II)V"⟩
def dkwX20_init_0 : List UInt8 := [42, 27, 183, 0, 1, 42, 28, 181, 0, 7, 177]
abbrev dktX20_init_0 : List UInt8 := dkwX20_init_0 ++ []
theorem dksX20_init_0 : cX20_init.data.toList.drop 0 = dktX20_init_0 := by decide +kernel
theorem dX20_init_0 : decode cX20_init 0 = .ok (.aload_n 0, 1) := dk_42 (dk_at dksX20_init_0 0 rfl rfl)
theorem dX20_init_1 : decode cX20_init 1 = .ok (.iload_n 1, 1) := dk_27 (dk_at dksX20_init_0 1 rfl rfl)
theorem dX20_init_2 : decode cX20_init 2 = .ok (.invokespecial 1, 3) := dk_183 0 1 (dk_at dksX20_init_0 2 rfl rfl)
theorem dX20_init_5 : decode cX20_init 5 = .ok (.aload_n 0, 1) := dk_42 (dk_at dksX20_init_0 5 rfl rfl)
theorem dX20_init_6 : decode cX20_init 6 = .ok (.iload_n 2, 1) := dk_28 (dk_at dksX20_init_0 6 rfl rfl)
theorem dX20_init_7 : decode cX20_init 7 = .ok (.putfield 7, 3) := dk_181 0 7 (dk_at dksX20_init_0 7 rfl rfl)
theorem dX20_init_10 : decode cX20_init 10 = .ok (.return_, 1) := dk_177 (dk_at dksX20_init_0 10 rfl rfl)
abbrev cX20_kind : ByteArray := prog_17_method_2_code
def yX20_kind : MethodName := ⟨RX20, "kind", "()I"⟩
theorem dX20_kind_0 : decode cX20_kind 0 = .ok (.iconst 2, 1) := by decide +kernel
theorem dX20_kind_1 : decode cX20_kind 1 = .ok (.ireturn, 1) := by decide +kernel
abbrev cX20_first : ByteArray := prog_17_method_3_code
def yX20_first : MethodName := ⟨RX20, "first", "()I"⟩
theorem dX20_first_0 : decode cX20_first 0 = .ok (.aload_n 0, 1) := by decide +kernel
theorem dX20_first_1 : decode cX20_first 1 = .ok (.getfield 7, 3) := by decide +kernel
theorem dX20_first_4 : decode cX20_first 4 = .ok (.ireturn, 1) := by decide +kernel
abbrev cX20_tell : ByteArray := prog_17_method_4_code
def yX20_tell : MethodName := ⟨RX20, "tell", "(LOneDrum$Beats;LOneDrum$Beats;)V"⟩
def dkwX20_tell_1 : List UInt8 := [29, 51, 42, 180, 0, 7, 160, 0, 11, 44, 42, 180, 0, 7, 182, 0, 22, 132, 3, 1, 167, 255, 214, 177]
abbrev dktX20_tell_1 : List UInt8 := dkwX20_tell_1 ++ []
def dkwX20_tell_0 : List UInt8 := [3, 62, 29, 43, 180, 0, 13, 162, 0, 40, 44, 43, 180, 0, 18, 29, 51, 182, 0, 22, 43, 180, 0, 18]
abbrev dktX20_tell_0 : List UInt8 := dkwX20_tell_0 ++ dktX20_tell_1
theorem dksX20_tell_0 : cX20_tell.data.toList.drop 0 = dktX20_tell_0 := by decide +kernel
theorem dksX20_tell_1 : cX20_tell.data.toList.drop 24 = dktX20_tell_1 := dk_seg dksX20_tell_0 24 rfl rfl
theorem dX20_tell_0 : decode cX20_tell 0 = .ok (.iconst 0, 1) := dk_3 (dk_at dksX20_tell_0 0 rfl rfl)
theorem dX20_tell_1 : decode cX20_tell 1 = .ok (.istore_n 3, 1) := dk_62 (dk_at dksX20_tell_0 1 rfl rfl)
theorem dX20_tell_2 : decode cX20_tell 2 = .ok (.iload_n 3, 1) := dk_29 (dk_at dksX20_tell_0 2 rfl rfl)
theorem dX20_tell_3 : decode cX20_tell 3 = .ok (.aload_n 1, 1) := dk_43 (dk_at dksX20_tell_0 3 rfl rfl)
theorem dX20_tell_4 : decode cX20_tell 4 = .ok (.getfield 13, 3) := dk_180 0 13 (dk_at dksX20_tell_0 4 rfl rfl)
theorem dX20_tell_7 : decode cX20_tell 7 = .ok (.if_icmp .ge 40, 3) := dk_162 0 40 (dk_at dksX20_tell_0 7 rfl rfl)
theorem dX20_tell_10 : decode cX20_tell 10 = .ok (.aload_n 2, 1) := dk_44 (dk_at dksX20_tell_0 10 rfl rfl)
theorem dX20_tell_11 : decode cX20_tell 11 = .ok (.aload_n 1, 1) := dk_43 (dk_at dksX20_tell_0 11 rfl rfl)
theorem dX20_tell_12 : decode cX20_tell 12 = .ok (.getfield 18, 3) := dk_180 0 18 (dk_at dksX20_tell_0 12 rfl rfl)
theorem dX20_tell_15 : decode cX20_tell 15 = .ok (.iload_n 3, 1) := dk_29 (dk_at dksX20_tell_0 15 rfl rfl)
theorem dX20_tell_16 : decode cX20_tell 16 = .ok (.baload, 1) := dk_51 (dk_at dksX20_tell_0 16 rfl rfl)
theorem dX20_tell_17 : decode cX20_tell 17 = .ok (.invokevirtual 22, 3) := dk_182 0 22 (dk_at dksX20_tell_0 17 rfl rfl)
theorem dX20_tell_20 : decode cX20_tell 20 = .ok (.aload_n 1, 1) := dk_43 (dk_at dksX20_tell_0 20 rfl rfl)
theorem dX20_tell_21 : decode cX20_tell 21 = .ok (.getfield 18, 3) := dk_180 0 18 (dk_at dksX20_tell_0 21 rfl rfl)
theorem dX20_tell_24 : decode cX20_tell 24 = .ok (.iload_n 3, 1) := dk_29 (dk_at dksX20_tell_1 0 rfl rfl)
theorem dX20_tell_25 : decode cX20_tell 25 = .ok (.baload, 1) := dk_51 (dk_at dksX20_tell_1 1 rfl rfl)
theorem dX20_tell_26 : decode cX20_tell 26 = .ok (.aload_n 0, 1) := dk_42 (dk_at dksX20_tell_1 2 rfl rfl)
theorem dX20_tell_27 : decode cX20_tell 27 = .ok (.getfield 7, 3) := dk_180 0 7 (dk_at dksX20_tell_1 3 rfl rfl)
theorem dX20_tell_30 : decode cX20_tell 30 = .ok (.if_icmp .ne 11, 3) := dk_160 0 11 (dk_at dksX20_tell_1 6 rfl rfl)
theorem dX20_tell_33 : decode cX20_tell 33 = .ok (.aload_n 2, 1) := dk_44 (dk_at dksX20_tell_1 9 rfl rfl)
theorem dX20_tell_34 : decode cX20_tell 34 = .ok (.aload_n 0, 1) := dk_42 (dk_at dksX20_tell_1 10 rfl rfl)
theorem dX20_tell_35 : decode cX20_tell 35 = .ok (.getfield 7, 3) := dk_180 0 7 (dk_at dksX20_tell_1 11 rfl rfl)
theorem dX20_tell_38 : decode cX20_tell 38 = .ok (.invokevirtual 22, 3) := dk_182 0 22 (dk_at dksX20_tell_1 14 rfl rfl)
theorem dX20_tell_41 : decode cX20_tell 41 = .ok (.iinc 3 1, 3) := dk_132 3 1 (dk_at dksX20_tell_1 17 rfl rfl)
theorem dX20_tell_44 : decode cX20_tell 44 = .ok (.goto (-42), 3) := dk_167 255 214 (dk_at dksX20_tell_1 20 rfl rfl)
theorem dX20_tell_47 : decode cX20_tell 47 = .ok (.return_, 1) := dk_177 (dk_at dksX20_tell_1 23 rfl rfl)
theorem q148 : (Jvm.Cond.initialized "OneDrum$Twice") ∈ lw_all := lw_g (lw_at lw_m1 31 rfl) rfl
theorem q339 : (Jvm.Cond.fieldLink "OneDrum$Twice" (18 : Nat) "OneDrum$Beats" "at" "[B") ∈ lw_all := lw_g (lw_at lw_m1 222 rfl) rfl
theorem q349 : (Jvm.Cond.fieldLink "OneDrum$Twice" (13 : Nat) "OneDrum$Beats" "many" "I") ∈ lw_all := lw_g (lw_at lw_m1 232 rfl) rfl
theorem q1038 : (Jvm.Cond.instantiable "OneDrum$Twice" (3 : Nat)) ∈ lw_all := lw_g (lw_at lw_m4 201 rfl) rfl
theorem q1040 : (Jvm.Cond.instanceMethod ({ cls := "OneDrum$Twice", name := "<init>", desc := "(II)V" } : Jvm.MethodName)) ∈ lw_all := lw_g (lw_at lw_m4 203 rfl) rfl
theorem q1041 : (Jvm.Cond.code ({ cls := "OneDrum$Twice", name := "<init>", desc := "(II)V" } : Jvm.MethodName) prog_17_method_1_code (3 : Nat) (Option.none : Option Jvm.ClassFile.FieldType)) ∈ lw_all := lw_g (lw_at lw_m4 204 rfl) rfl
theorem q1042 : (Jvm.Cond.methodLink "OneDrum$Twice" (1 : Nat) ({ cls := "OneDrum$Change", name := "<init>", desc := "(I)V" } : Jvm.MethodName)) ∈ lw_all := lw_g (lw_at lw_m4 205 rfl) rfl
theorem q1043 : (Jvm.Cond.fieldLink "OneDrum$Twice" (7 : Nat) "OneDrum$Twice" "beat" "I") ∈ lw_all := lw_g (lw_at lw_m4 206 rfl) rfl
theorem q1044 : (Jvm.Cond.laysFinal "OneDrum$Twice" "OneDrum$Twice" "beat" "I") ∈ lw_all := lw_g (lw_at lw_m4 207 rfl) rfl
theorem q1045 : (Jvm.Cond.soleField "OneDrum$Twice" "beat") ∈ lw_all := lw_g (lw_at lw_m4 208 rfl) rfl
theorem q1046 : (Jvm.Cond.laysFinal "OneDrum$Twice" "OneDrum$Change" "parent" "I") ∈ lw_all := lw_g (lw_at lw_m4 209 rfl) rfl
theorem q1047 : (Jvm.Cond.lays "OneDrum$Twice" "OneDrum$Change" "depth" "I") ∈ lw_all := lw_g (lw_at lw_m4 210 rfl) rfl
theorem q1048 : (Jvm.Cond.superclass "OneDrum$Twice" "OneDrum$Change") ∈ lw_all := lw_g (lw_at lw_m4 211 rfl) rfl
theorem q1111 : (Jvm.Cond.selects "OneDrum$Twice" ({ cls := "java/lang/Object", name := "getClass", desc := "()Ljava/lang/Class;" } : Jvm.MethodName) ({ cls := "java/lang/Object", name := "getClass", desc := "()Ljava/lang/Class;" } : Jvm.MethodName)) ∈ lw_all := lw_g (lw_at lw_m5 34 rfl) rfl
theorem q1481 : (Jvm.Cond.selects "OneDrum$Twice" ({ cls := "OneDrum$Change", name := "kind", desc := "()I" } : Jvm.MethodName) ({ cls := "OneDrum$Twice", name := "kind", desc := "()I" } : Jvm.MethodName)) ∈ lw_all := lw_g (lw_at lw_m6 164 rfl) rfl
theorem q1482 : (Jvm.Cond.instanceMethod ({ cls := "OneDrum$Twice", name := "kind", desc := "()I" } : Jvm.MethodName)) ∈ lw_all := lw_g (lw_at lw_m6 165 rfl) rfl
theorem q1483 : (Jvm.Cond.code ({ cls := "OneDrum$Twice", name := "kind", desc := "()I" } : Jvm.MethodName) prog_17_method_2_code (1 : Nat) (Option.some Jvm.ClassFile.FieldType.int)) ∈ lw_all := lw_g (lw_at lw_m6 166 rfl) rfl
theorem q1494 : (Jvm.Cond.selects "OneDrum$Twice" ({ cls := "OneDrum$Change", name := "first", desc := "()I" } : Jvm.MethodName) ({ cls := "OneDrum$Twice", name := "first", desc := "()I" } : Jvm.MethodName)) ∈ lw_all := lw_g (lw_at lw_m6 177 rfl) rfl
theorem q1495 : (Jvm.Cond.instanceMethod ({ cls := "OneDrum$Twice", name := "first", desc := "()I" } : Jvm.MethodName)) ∈ lw_all := lw_g (lw_at lw_m6 178 rfl) rfl
theorem q1496 : (Jvm.Cond.code ({ cls := "OneDrum$Twice", name := "first", desc := "()I" } : Jvm.MethodName) prog_17_method_3_code (1 : Nat) (Option.some Jvm.ClassFile.FieldType.int)) ∈ lw_all := lw_g (lw_at lw_m6 179 rfl) rfl
theorem q1506 : (Jvm.Cond.selects "OneDrum$Twice" ({ cls := "OneDrum$Change", name := "second", desc := "()I" } : Jvm.MethodName) ({ cls := "OneDrum$Change", name := "second", desc := "()I" } : Jvm.MethodName)) ∈ lw_all := lw_g (lw_at lw_m6 189 rfl) rfl
theorem q1532 : (Jvm.Cond.selects "OneDrum$Twice" ({ cls := "OneDrum$Change", name := "tell", desc := "(LOneDrum$Beats;LOneDrum$Beats;)V" } : Jvm.MethodName) ({ cls := "OneDrum$Twice", name := "tell", desc := "(LOneDrum$Beats;LOneDrum$Beats;)V" } : Jvm.MethodName)) ∈ lw_all := lw_g (lw_at lw_m6 215 rfl) rfl
theorem q1533 : (Jvm.Cond.instanceMethod ({ cls := "OneDrum$Twice", name := "tell", desc := "(LOneDrum$Beats;LOneDrum$Beats;)V" } : Jvm.MethodName)) ∈ lw_all := lw_g (lw_at lw_m6 216 rfl) rfl
theorem q1534 : (Jvm.Cond.code ({ cls := "OneDrum$Twice", name := "tell", desc := "(LOneDrum$Beats;LOneDrum$Beats;)V" } : Jvm.MethodName) prog_17_method_4_code (4 : Nat) (Option.none : Option Jvm.ClassFile.FieldType)) ∈ lw_all := lw_g (lw_at lw_m6 217 rfl) rfl
theorem q1535 : (Jvm.Cond.methodLink "OneDrum$Twice" (22 : Nat) ({ cls := "OneDrum$Beats", name := "add", desc := "(I)V" } : Jvm.MethodName)) ∈ lw_all := lw_g (lw_at lw_m6 218 rfl) rfl
theorem q2217 : (Jvm.Cond.castable "OneDrum$Twice" "OneDrum$Change") ∈ lw_tbl := lw_at lw_m9 180 rfl
theorem q2238 : (Jvm.Cond.castable "OneDrum$Twice" "java/lang/Object") ∈ lw_tbl := lw_at lw_m9 201 rfl
theorem in_X20 : ∀ w ∈ wsX200, w ∈ lw_all := lw_in wsX200 [1046, 1047, 1044] (by decide +kernel) (by decide +kernel)
/-! OneDrum$Last -/
set_option maxRecDepth 100000
def RX21 : String := "OneDrum$Last"
def TX21 : u_T := fun k => match k with
  | 0 => ("OneDrum$Change", "parent", "I", true)
  | _ => ("OneDrum$Change", "depth", "I", false)
def tyX21 : Nat → FieldType := fun k => match k with
  | 0 => .int
  | _ => .int
abbrev wsX210 : List Cond := u_ws RX21 TX21 2
theorem nmX21 : ∀ a, a < 2 → ∀ b, b < 2 → a ≠ b → (TX21 a).2.1 ≠ (TX21 b).2.1 := by decide +kernel
theorem tyX21_ok : ∀ k, k < 2 → parseFieldDescriptor (TX21 k).2.2.1 = some (tyX21 k) := by decide +kernel
abbrev cX21_init : ByteArray := prog_10_method_1_code
def yX21_init : MethodName := ⟨RX21, "<init>", "(I)V"⟩
def dkwX21_init_0 : List UInt8 := [42, 27, 183, 0, 1, 177]
abbrev dktX21_init_0 : List UInt8 := dkwX21_init_0 ++ []
theorem dksX21_init_0 : cX21_init.data.toList.drop 0 = dktX21_init_0 := by decide +kernel
theorem dX21_init_0 : decode cX21_init 0 = .ok (.aload_n 0, 1) := dk_42 (dk_at dksX21_init_0 0 rfl rfl)
theorem dX21_init_1 : decode cX21_init 1 = .ok (.iload_n 1, 1) := dk_27 (dk_at dksX21_init_0 1 rfl rfl)
theorem dX21_init_2 : decode cX21_init 2 = .ok (.invokespecial 1, 3) := dk_183 0 1 (dk_at dksX21_init_0 2 rfl rfl)
theorem dX21_init_5 : decode cX21_init 5 = .ok (.return_, 1) := dk_177 (dk_at dksX21_init_0 5 rfl rfl)
abbrev cX21_kind : ByteArray := prog_10_method_2_code
def yX21_kind : MethodName := ⟨RX21, "kind", "()I"⟩
theorem dX21_kind_0 : decode cX21_kind 0 = .ok (.iconst 3, 1) := by decide +kernel
theorem dX21_kind_1 : decode cX21_kind 1 = .ok (.ireturn, 1) := by decide +kernel
abbrev cX21_tell : ByteArray := prog_10_method_3_code
def yX21_tell : MethodName := ⟨RX21, "tell", "(LOneDrum$Beats;LOneDrum$Beats;)V"⟩
def dkwX21_tell_1 : List UInt8 := [132, 3, 1, 167, 255, 233, 177]
abbrev dktX21_tell_1 : List UInt8 := dkwX21_tell_1 ++ []
def dkwX21_tell_0 : List UInt8 := [3, 62, 29, 4, 96, 43, 180, 0, 7, 162, 0, 19, 44, 43, 180, 0, 13, 29, 51, 182, 0, 17]
abbrev dktX21_tell_0 : List UInt8 := dkwX21_tell_0 ++ dktX21_tell_1
theorem dksX21_tell_0 : cX21_tell.data.toList.drop 0 = dktX21_tell_0 := by decide +kernel
theorem dksX21_tell_1 : cX21_tell.data.toList.drop 22 = dktX21_tell_1 := dk_seg dksX21_tell_0 22 rfl rfl
theorem dX21_tell_0 : decode cX21_tell 0 = .ok (.iconst 0, 1) := dk_3 (dk_at dksX21_tell_0 0 rfl rfl)
theorem dX21_tell_1 : decode cX21_tell 1 = .ok (.istore_n 3, 1) := dk_62 (dk_at dksX21_tell_0 1 rfl rfl)
theorem dX21_tell_2 : decode cX21_tell 2 = .ok (.iload_n 3, 1) := dk_29 (dk_at dksX21_tell_0 2 rfl rfl)
theorem dX21_tell_3 : decode cX21_tell 3 = .ok (.iconst 1, 1) := dk_4 (dk_at dksX21_tell_0 3 rfl rfl)
theorem dX21_tell_4 : decode cX21_tell 4 = .ok (.iadd, 1) := dk_96 (dk_at dksX21_tell_0 4 rfl rfl)
theorem dX21_tell_5 : decode cX21_tell 5 = .ok (.aload_n 1, 1) := dk_43 (dk_at dksX21_tell_0 5 rfl rfl)
theorem dX21_tell_6 : decode cX21_tell 6 = .ok (.getfield 7, 3) := dk_180 0 7 (dk_at dksX21_tell_0 6 rfl rfl)
theorem dX21_tell_9 : decode cX21_tell 9 = .ok (.if_icmp .ge 19, 3) := dk_162 0 19 (dk_at dksX21_tell_0 9 rfl rfl)
theorem dX21_tell_12 : decode cX21_tell 12 = .ok (.aload_n 2, 1) := dk_44 (dk_at dksX21_tell_0 12 rfl rfl)
theorem dX21_tell_13 : decode cX21_tell 13 = .ok (.aload_n 1, 1) := dk_43 (dk_at dksX21_tell_0 13 rfl rfl)
theorem dX21_tell_14 : decode cX21_tell 14 = .ok (.getfield 13, 3) := dk_180 0 13 (dk_at dksX21_tell_0 14 rfl rfl)
theorem dX21_tell_17 : decode cX21_tell 17 = .ok (.iload_n 3, 1) := dk_29 (dk_at dksX21_tell_0 17 rfl rfl)
theorem dX21_tell_18 : decode cX21_tell 18 = .ok (.baload, 1) := dk_51 (dk_at dksX21_tell_0 18 rfl rfl)
theorem dX21_tell_19 : decode cX21_tell 19 = .ok (.invokevirtual 17, 3) := dk_182 0 17 (dk_at dksX21_tell_0 19 rfl rfl)
theorem dX21_tell_22 : decode cX21_tell 22 = .ok (.iinc 3 1, 3) := dk_132 3 1 (dk_at dksX21_tell_1 0 rfl rfl)
theorem dX21_tell_25 : decode cX21_tell 25 = .ok (.goto (-23), 3) := dk_167 255 233 (dk_at dksX21_tell_1 3 rfl rfl)
theorem dX21_tell_28 : decode cX21_tell 28 = .ok (.return_, 1) := dk_177 (dk_at dksX21_tell_1 6 rfl rfl)
theorem q149 : (Jvm.Cond.initialized "OneDrum$Last") ∈ lw_all := lw_g (lw_at lw_m1 32 rfl) rfl
theorem q338 : (Jvm.Cond.fieldLink "OneDrum$Last" (13 : Nat) "OneDrum$Beats" "at" "[B") ∈ lw_all := lw_g (lw_at lw_m1 221 rfl) rfl
theorem q347 : (Jvm.Cond.fieldLink "OneDrum$Last" (7 : Nat) "OneDrum$Beats" "many" "I") ∈ lw_all := lw_g (lw_at lw_m1 230 rfl) rfl
theorem q1050 : (Jvm.Cond.instantiable "OneDrum$Last" (2 : Nat)) ∈ lw_all := lw_g (lw_at lw_m4 213 rfl) rfl
theorem q1052 : (Jvm.Cond.instanceMethod ({ cls := "OneDrum$Last", name := "<init>", desc := "(I)V" } : Jvm.MethodName)) ∈ lw_all := lw_g (lw_at lw_m4 215 rfl) rfl
theorem q1053 : (Jvm.Cond.code ({ cls := "OneDrum$Last", name := "<init>", desc := "(I)V" } : Jvm.MethodName) prog_10_method_1_code (2 : Nat) (Option.none : Option Jvm.ClassFile.FieldType)) ∈ lw_all := lw_g (lw_at lw_m4 216 rfl) rfl
theorem q1054 : (Jvm.Cond.methodLink "OneDrum$Last" (1 : Nat) ({ cls := "OneDrum$Change", name := "<init>", desc := "(I)V" } : Jvm.MethodName)) ∈ lw_all := lw_g (lw_at lw_m4 217 rfl) rfl
theorem q1055 : (Jvm.Cond.laysFinal "OneDrum$Last" "OneDrum$Change" "parent" "I") ∈ lw_all := lw_g (lw_at lw_m4 218 rfl) rfl
theorem q1056 : (Jvm.Cond.lays "OneDrum$Last" "OneDrum$Change" "depth" "I") ∈ lw_all := lw_g (lw_at lw_m4 219 rfl) rfl
theorem q1057 : (Jvm.Cond.superclass "OneDrum$Last" "OneDrum$Change") ∈ lw_all := lw_g (lw_at lw_m4 220 rfl) rfl
theorem q1105 : (Jvm.Cond.selects "OneDrum$Last" ({ cls := "java/lang/Object", name := "getClass", desc := "()Ljava/lang/Class;" } : Jvm.MethodName) ({ cls := "java/lang/Object", name := "getClass", desc := "()Ljava/lang/Class;" } : Jvm.MethodName)) ∈ lw_all := lw_g (lw_at lw_m5 28 rfl) rfl
theorem q1475 : (Jvm.Cond.selects "OneDrum$Last" ({ cls := "OneDrum$Change", name := "kind", desc := "()I" } : Jvm.MethodName) ({ cls := "OneDrum$Last", name := "kind", desc := "()I" } : Jvm.MethodName)) ∈ lw_all := lw_g (lw_at lw_m6 158 rfl) rfl
theorem q1476 : (Jvm.Cond.instanceMethod ({ cls := "OneDrum$Last", name := "kind", desc := "()I" } : Jvm.MethodName)) ∈ lw_all := lw_g (lw_at lw_m6 159 rfl) rfl
theorem q1477 : (Jvm.Cond.code ({ cls := "OneDrum$Last", name := "kind", desc := "()I" } : Jvm.MethodName) prog_10_method_2_code (1 : Nat) (Option.some Jvm.ClassFile.FieldType.int)) ∈ lw_all := lw_g (lw_at lw_m6 160 rfl) rfl
theorem q1490 : (Jvm.Cond.selects "OneDrum$Last" ({ cls := "OneDrum$Change", name := "first", desc := "()I" } : Jvm.MethodName) ({ cls := "OneDrum$Change", name := "first", desc := "()I" } : Jvm.MethodName)) ∈ lw_all := lw_g (lw_at lw_m6 173 rfl) rfl
theorem q1502 : (Jvm.Cond.selects "OneDrum$Last" ({ cls := "OneDrum$Change", name := "second", desc := "()I" } : Jvm.MethodName) ({ cls := "OneDrum$Change", name := "second", desc := "()I" } : Jvm.MethodName)) ∈ lw_all := lw_g (lw_at lw_m6 185 rfl) rfl
theorem q1524 : (Jvm.Cond.selects "OneDrum$Last" ({ cls := "OneDrum$Change", name := "tell", desc := "(LOneDrum$Beats;LOneDrum$Beats;)V" } : Jvm.MethodName) ({ cls := "OneDrum$Last", name := "tell", desc := "(LOneDrum$Beats;LOneDrum$Beats;)V" } : Jvm.MethodName)) ∈ lw_all := lw_g (lw_at lw_m6 207 rfl) rfl
theorem q1525 : (Jvm.Cond.instanceMethod ({ cls := "OneDrum$Last", name := "tell", desc := "(LOneDrum$Beats;LOneDrum$Beats;)V" } : Jvm.MethodName)) ∈ lw_all := lw_g (lw_at lw_m6 208 rfl) rfl
theorem q1526 : (Jvm.Cond.code ({ cls := "OneDrum$Last", name := "tell", desc := "(LOneDrum$Beats;LOneDrum$Beats;)V" } : Jvm.MethodName) prog_10_method_3_code (4 : Nat) (Option.none : Option Jvm.ClassFile.FieldType)) ∈ lw_all := lw_g (lw_at lw_m6 209 rfl) rfl
theorem q1527 : (Jvm.Cond.methodLink "OneDrum$Last" (17 : Nat) ({ cls := "OneDrum$Beats", name := "add", desc := "(I)V" } : Jvm.MethodName)) ∈ lw_all := lw_g (lw_at lw_m6 210 rfl) rfl
theorem q2215 : (Jvm.Cond.castable "OneDrum$Last" "OneDrum$Change") ∈ lw_tbl := lw_at lw_m9 178 rfl
theorem q2239 : (Jvm.Cond.castable "OneDrum$Last" "java/lang/Object") ∈ lw_tbl := lw_at lw_m9 202 rfl
theorem in_X21 : ∀ w ∈ wsX210, w ∈ lw_all := lw_in wsX210 [1055, 1056] (by decide +kernel) (by decide +kernel)
/-! OneDrum$Order -/
set_option maxRecDepth 100000
def RX22 : String := "OneDrum$Order"
def TX22 : u_T := fun k => match k with
  | 0 => ("OneDrum$Order", "move", "I", true)
  | _ => ("OneDrum$Order", "code", "LOneDrum$Beats;", true)
def tyX22 : Nat → FieldType := fun k => match k with
  | 0 => .int
  | _ => .object "OneDrum$Beats"
abbrev wsX220 : List Cond := u_ws RX22 TX22 2
theorem nmX22 : ∀ a, a < 2 → ∀ b, b < 2 → a ≠ b → (TX22 a).2.1 ≠ (TX22 b).2.1 := by decide +kernel
theorem tyX22_ok : ∀ k, k < 2 → parseFieldDescriptor (TX22 k).2.2.1 = some (tyX22 k) := by decide +kernel
abbrev cX22_init : ByteArray := prog_11_method_1_code
def yX22_init : MethodName := ⟨RX22, "<init>", "(I)V"⟩
def dkwX22_init_0 : List UInt8 := [42, 183, 0, 3, 42, 187, 0, 9, 89, 7, 183, 0, 11, 181, 0, 14, 42, 27, 181, 0, 20, 177]
abbrev dktX22_init_0 : List UInt8 := dkwX22_init_0 ++ []
theorem dksX22_init_0 : cX22_init.data.toList.drop 0 = dktX22_init_0 := by decide +kernel
theorem dX22_init_0 : decode cX22_init 0 = .ok (.aload_n 0, 1) := dk_42 (dk_at dksX22_init_0 0 rfl rfl)
theorem dX22_init_1 : decode cX22_init 1 = .ok (.invokespecial 3, 3) := dk_183 0 3 (dk_at dksX22_init_0 1 rfl rfl)
theorem dX22_init_4 : decode cX22_init 4 = .ok (.aload_n 0, 1) := dk_42 (dk_at dksX22_init_0 4 rfl rfl)
theorem dX22_init_5 : decode cX22_init 5 = .ok (.new 9, 3) := dk_187 0 9 (dk_at dksX22_init_0 5 rfl rfl)
theorem dX22_init_8 : decode cX22_init 8 = .ok (.dup, 1) := dk_89 (dk_at dksX22_init_0 8 rfl rfl)
theorem dX22_init_9 : decode cX22_init 9 = .ok (.iconst 4, 1) := dk_7 (dk_at dksX22_init_0 9 rfl rfl)
theorem dX22_init_10 : decode cX22_init 10 = .ok (.invokespecial 11, 3) := dk_183 0 11 (dk_at dksX22_init_0 10 rfl rfl)
theorem dX22_init_13 : decode cX22_init 13 = .ok (.putfield 14, 3) := dk_181 0 14 (dk_at dksX22_init_0 13 rfl rfl)
theorem dX22_init_16 : decode cX22_init 16 = .ok (.aload_n 0, 1) := dk_42 (dk_at dksX22_init_0 16 rfl rfl)
theorem dX22_init_17 : decode cX22_init 17 = .ok (.iload_n 1, 1) := dk_27 (dk_at dksX22_init_0 17 rfl rfl)
theorem dX22_init_18 : decode cX22_init 18 = .ok (.putfield 20, 3) := dk_181 0 20 (dk_at dksX22_init_0 18 rfl rfl)
theorem dX22_init_21 : decode cX22_init 21 = .ok (.return_, 1) := dk_177 (dk_at dksX22_init_0 21 rfl rfl)
theorem q154 : (Jvm.Cond.initialized "OneDrum$Order") ∈ lw_all := lw_g (lw_at lw_m1 37 rfl) rfl
theorem q1106 : (Jvm.Cond.selects "OneDrum$Order" ({ cls := "java/lang/Object", name := "getClass", desc := "()Ljava/lang/Class;" } : Jvm.MethodName) ({ cls := "java/lang/Object", name := "getClass", desc := "()Ljava/lang/Class;" } : Jvm.MethodName)) ∈ lw_all := lw_g (lw_at lw_m5 29 rfl) rfl
theorem q1165 : (Jvm.Cond.instantiable "OneDrum$Order" (2 : Nat)) ∈ lw_all := lw_g (lw_at lw_m5 88 rfl) rfl
theorem q1170 : (Jvm.Cond.instanceMethod ({ cls := "OneDrum$Order", name := "<init>", desc := "(I)V" } : Jvm.MethodName)) ∈ lw_all := lw_g (lw_at lw_m5 93 rfl) rfl
theorem q1171 : (Jvm.Cond.code ({ cls := "OneDrum$Order", name := "<init>", desc := "(I)V" } : Jvm.MethodName) prog_11_method_1_code (2 : Nat) (Option.none : Option Jvm.ClassFile.FieldType)) ∈ lw_all := lw_g (lw_at lw_m5 94 rfl) rfl
theorem q1172 : (Jvm.Cond.methodLink "OneDrum$Order" (3 : Nat) ({ cls := "java/lang/Object", name := "<init>", desc := "()V" } : Jvm.MethodName)) ∈ lw_all := lw_g (lw_at lw_m5 95 rfl) rfl
theorem q1173 : (Jvm.Cond.classLink "OneDrum$Order" (9 : Nat) "OneDrum$Beats") ∈ lw_all := lw_g (lw_at lw_m5 96 rfl) rfl
theorem q1174 : (Jvm.Cond.methodLink "OneDrum$Order" (11 : Nat) ({ cls := "OneDrum$Beats", name := "<init>", desc := "(I)V" } : Jvm.MethodName)) ∈ lw_all := lw_g (lw_at lw_m5 97 rfl) rfl
theorem q1175 : (Jvm.Cond.fieldLink "OneDrum$Order" (20 : Nat) "OneDrum$Order" "move" "I") ∈ lw_all := lw_g (lw_at lw_m5 98 rfl) rfl
theorem q1178 : (Jvm.Cond.fieldLink "OneDrum$Order" (14 : Nat) "OneDrum$Order" "code" "LOneDrum$Beats;") ∈ lw_all := lw_g (lw_at lw_m5 101 rfl) rfl
theorem q1182 : (Jvm.Cond.laysFinal "OneDrum$Order" "OneDrum$Order" "move" "I") ∈ lw_all := lw_g (lw_at lw_m5 105 rfl) rfl
theorem q1183 : (Jvm.Cond.soleField "OneDrum$Order" "move") ∈ lw_all := lw_g (lw_at lw_m5 106 rfl) rfl
theorem q1184 : (Jvm.Cond.laysFinal "OneDrum$Order" "OneDrum$Order" "code" "LOneDrum$Beats;") ∈ lw_all := lw_g (lw_at lw_m5 107 rfl) rfl
theorem q1185 : (Jvm.Cond.soleField "OneDrum$Order" "code") ∈ lw_all := lw_g (lw_at lw_m5 108 rfl) rfl
theorem q1186 : (Jvm.Cond.superclass "OneDrum$Order" "java/lang/Object") ∈ lw_all := lw_g (lw_at lw_m5 109 rfl) rfl
theorem q2240 : (Jvm.Cond.castable "OneDrum$Order" "java/lang/Object") ∈ lw_tbl := lw_at lw_m9 203 rfl
theorem in_X22 : ∀ w ∈ wsX220, w ∈ lw_all := lw_in wsX220 [1182, 1184] (by decide +kernel) (by decide +kernel)
/-! OneDrum$Sense -/
set_option maxRecDepth 100000
def RX3 : String := "OneDrum$Sense"
def TX3 : u_T := fun k => match k with
  | 0 => ("OneDrum$Sense", "move", "[I", true)
  | 1 => ("OneDrum$Sense", "first", "[I", true)
  | 2 => ("OneDrum$Sense", "order", "[I", true)
  | 3 => ("OneDrum$Sense", "many", "I", false)
  | 4 => ("OneDrum$Sense", "danced", "I", false)
  | 5 => ("OneDrum$Sense", "a", "LOneDrum$Army;", false)
  | _ => ("OneDrum$Sense", "this$0", "LOneDrum;", true)
def tyX3 : Nat → FieldType := fun k => match k with
  | 0 => .array .int
  | 1 => .array .int
  | 2 => .array .int
  | 3 => .int
  | 4 => .int
  | 5 => .object "OneDrum$Army"
  | _ => .object "OneDrum"
abbrev wsX30 : List Cond := u_ws RX3 TX3 7
theorem nmX3 : ∀ a, a < 7 → ∀ b, b < 7 → a ≠ b → (TX3 a).2.1 ≠ (TX3 b).2.1 := by decide +kernel
theorem tyX3_ok : ∀ k, k < 7 → parseFieldDescriptor (TX3 k).2.2.1 = some (tyX3 k) := by decide +kernel
abbrev cX3_init : ByteArray := prog_15_method_1_code
def yX3_init : MethodName := ⟨RX3, "<init>", "(LOneDrum;)V"⟩
def dkwX3_init_1 : List UInt8 := [181, 0, 19, 42, 16, 24, 188, 10, 181, 0, 22, 177]
abbrev dktX3_init_1 : List UInt8 := dkwX3_init_1 ++ []
def dkwX3_init_0 : List UInt8 := [42, 43, 181, 0, 3, 42, 183, 0, 9, 42, 16, 24, 188, 10, 181, 0, 15, 42, 16, 24, 188, 10]
abbrev dktX3_init_0 : List UInt8 := dkwX3_init_0 ++ dktX3_init_1
theorem dksX3_init_0 : cX3_init.data.toList.drop 0 = dktX3_init_0 := by decide +kernel
theorem dksX3_init_1 : cX3_init.data.toList.drop 22 = dktX3_init_1 := dk_seg dksX3_init_0 22 rfl rfl
theorem dX3_init_0 : decode cX3_init 0 = .ok (.aload_n 0, 1) := dk_42 (dk_at dksX3_init_0 0 rfl rfl)
theorem dX3_init_1 : decode cX3_init 1 = .ok (.aload_n 1, 1) := dk_43 (dk_at dksX3_init_0 1 rfl rfl)
theorem dX3_init_2 : decode cX3_init 2 = .ok (.putfield 3, 3) := dk_181 0 3 (dk_at dksX3_init_0 2 rfl rfl)
theorem dX3_init_5 : decode cX3_init 5 = .ok (.aload_n 0, 1) := dk_42 (dk_at dksX3_init_0 5 rfl rfl)
theorem dX3_init_6 : decode cX3_init 6 = .ok (.invokespecial 9, 3) := dk_183 0 9 (dk_at dksX3_init_0 6 rfl rfl)
theorem dX3_init_9 : decode cX3_init 9 = .ok (.aload_n 0, 1) := dk_42 (dk_at dksX3_init_0 9 rfl rfl)
theorem dX3_init_10 : decode cX3_init 10 = .ok (.bipush 24, 2) := dk_16 24 (dk_at dksX3_init_0 10 rfl rfl)
theorem dX3_init_12 : decode cX3_init 12 = .ok (.newarray .int, 2) := dk_188_10 (dk_at dksX3_init_0 12 rfl rfl)
theorem dX3_init_14 : decode cX3_init 14 = .ok (.putfield 15, 3) := dk_181 0 15 (dk_at dksX3_init_0 14 rfl rfl)
theorem dX3_init_17 : decode cX3_init 17 = .ok (.aload_n 0, 1) := dk_42 (dk_at dksX3_init_0 17 rfl rfl)
theorem dX3_init_18 : decode cX3_init 18 = .ok (.bipush 24, 2) := dk_16 24 (dk_at dksX3_init_0 18 rfl rfl)
theorem dX3_init_20 : decode cX3_init 20 = .ok (.newarray .int, 2) := dk_188_10 (dk_at dksX3_init_0 20 rfl rfl)
theorem dX3_init_22 : decode cX3_init 22 = .ok (.putfield 19, 3) := dk_181 0 19 (dk_at dksX3_init_1 0 rfl rfl)
theorem dX3_init_25 : decode cX3_init 25 = .ok (.aload_n 0, 1) := dk_42 (dk_at dksX3_init_1 3 rfl rfl)
theorem dX3_init_26 : decode cX3_init 26 = .ok (.bipush 24, 2) := dk_16 24 (dk_at dksX3_init_1 4 rfl rfl)
theorem dX3_init_28 : decode cX3_init 28 = .ok (.newarray .int, 2) := dk_188_10 (dk_at dksX3_init_1 6 rfl rfl)
theorem dX3_init_30 : decode cX3_init 30 = .ok (.putfield 22, 3) := dk_181 0 22 (dk_at dksX3_init_1 8 rfl rfl)
theorem dX3_init_33 : decode cX3_init 33 = .ok (.return_, 1) := dk_177 (dk_at dksX3_init_1 11 rfl rfl)
abbrev cX3_of : ByteArray := prog_15_method_4_code
def yX3_of : MethodName := ⟨RX3, "of", "(I)LOneDrum$Sense;"⟩
def dkwX3_of_7 : List UInt8 := [167, 255, 139, 42, 176]
abbrev dktX3_of_7 : List UInt8 := dkwX3_of_7 ++ []
def dkwX3_of_6 : List UInt8 := [180, 0, 41, 180, 0, 55, 21, 4, 182, 0, 67, 192, 0, 26, 180, 0, 25, 180, 0, 31, 96, 62]
abbrev dktX3_of_6 : List UInt8 := dkwX3_of_6 ++ dktX3_of_7
def dkwX3_of_5 : List UInt8 := [180, 0, 22, 42, 180, 0, 85, 21, 4, 79, 42, 89, 180, 0, 85, 4, 96, 181, 0, 85, 29, 42]
abbrev dktX3_of_5 : List UInt8 := dkwX3_of_5 ++ dktX3_of_6
def dkwX3_of_4 : List UInt8 := [21, 4, 182, 0, 67, 192, 0, 26, 180, 0, 97, 79, 42, 180, 0, 19, 42, 180, 0, 85, 29, 79, 42]
abbrev dktX3_of_4 : List UInt8 := dkwX3_of_4 ++ dktX3_of_5
def dkwX3_of_3 : List UInt8 := [181, 0, 86, 132, 3, 1, 167, 255, 224, 42, 180, 0, 15, 42, 180, 0, 85, 42, 180, 0, 41, 180, 0, 55]
abbrev dktX3_of_3 : List UInt8 := dkwX3_of_3 ++ dktX3_of_4
def dkwX3_of_2 : List UInt8 := [162, 0, 118, 42, 29, 28, 182, 0, 93, 54, 4, 21, 4, 2, 160, 0, 19, 42, 89, 180, 0, 86, 4, 96]
abbrev dktX3_of_2 : List UInt8 := dkwX3_of_2 ++ dktX3_of_3
def dkwX3_of_1 : List UInt8 := [181, 0, 86, 42, 180, 0, 3, 180, 0, 37, 42, 180, 0, 41, 182, 0, 89, 61, 3, 62, 29, 28]
abbrev dktX3_of_1 : List UInt8 := dkwX3_of_1 ++ dktX3_of_2
def dkwX3_of_0 : List UInt8 := [42, 42, 180, 0, 3, 180, 0, 75, 180, 0, 79, 27, 50, 181, 0, 41, 42, 3, 181, 0, 85, 42, 3]
abbrev dktX3_of_0 : List UInt8 := dkwX3_of_0 ++ dktX3_of_1
theorem dksX3_of_0 : cX3_of.data.toList.drop 0 = dktX3_of_0 := by decide +kernel
theorem dksX3_of_1 : cX3_of.data.toList.drop 23 = dktX3_of_1 := dk_seg dksX3_of_0 23 rfl rfl
theorem dksX3_of_2 : cX3_of.data.toList.drop 45 = dktX3_of_2 := dk_seg dksX3_of_1 22 rfl rfl
theorem dksX3_of_3 : cX3_of.data.toList.drop 69 = dktX3_of_3 := dk_seg dksX3_of_2 24 rfl rfl
theorem dksX3_of_4 : cX3_of.data.toList.drop 93 = dktX3_of_4 := dk_seg dksX3_of_3 24 rfl rfl
theorem dksX3_of_5 : cX3_of.data.toList.drop 116 = dktX3_of_5 := dk_seg dksX3_of_4 23 rfl rfl
theorem dksX3_of_6 : cX3_of.data.toList.drop 138 = dktX3_of_6 := dk_seg dksX3_of_5 22 rfl rfl
theorem dksX3_of_7 : cX3_of.data.toList.drop 160 = dktX3_of_7 := dk_seg dksX3_of_6 22 rfl rfl
theorem dX3_of_0 : decode cX3_of 0 = .ok (.aload_n 0, 1) := dk_42 (dk_at dksX3_of_0 0 rfl rfl)
theorem dX3_of_1 : decode cX3_of 1 = .ok (.aload_n 0, 1) := dk_42 (dk_at dksX3_of_0 1 rfl rfl)
theorem dX3_of_2 : decode cX3_of 2 = .ok (.getfield 3, 3) := dk_180 0 3 (dk_at dksX3_of_0 2 rfl rfl)
theorem dX3_of_5 : decode cX3_of 5 = .ok (.getfield 75, 3) := dk_180 0 75 (dk_at dksX3_of_0 5 rfl rfl)
theorem dX3_of_8 : decode cX3_of 8 = .ok (.getfield 79, 3) := dk_180 0 79 (dk_at dksX3_of_0 8 rfl rfl)
theorem dX3_of_11 : decode cX3_of 11 = .ok (.iload_n 1, 1) := dk_27 (dk_at dksX3_of_0 11 rfl rfl)
theorem dX3_of_12 : decode cX3_of 12 = .ok (.aaload, 1) := dk_50 (dk_at dksX3_of_0 12 rfl rfl)
theorem dX3_of_13 : decode cX3_of 13 = .ok (.putfield 41, 3) := dk_181 0 41 (dk_at dksX3_of_0 13 rfl rfl)
theorem dX3_of_16 : decode cX3_of 16 = .ok (.aload_n 0, 1) := dk_42 (dk_at dksX3_of_0 16 rfl rfl)
theorem dX3_of_17 : decode cX3_of 17 = .ok (.iconst 0, 1) := dk_3 (dk_at dksX3_of_0 17 rfl rfl)
theorem dX3_of_18 : decode cX3_of 18 = .ok (.putfield 85, 3) := dk_181 0 85 (dk_at dksX3_of_0 18 rfl rfl)
theorem dX3_of_21 : decode cX3_of 21 = .ok (.aload_n 0, 1) := dk_42 (dk_at dksX3_of_0 21 rfl rfl)
theorem dX3_of_22 : decode cX3_of 22 = .ok (.iconst 0, 1) := dk_3 (dk_at dksX3_of_0 22 rfl rfl)
theorem dX3_of_23 : decode cX3_of 23 = .ok (.putfield 86, 3) := dk_181 0 86 (dk_at dksX3_of_1 0 rfl rfl)
theorem dX3_of_26 : decode cX3_of 26 = .ok (.aload_n 0, 1) := dk_42 (dk_at dksX3_of_1 3 rfl rfl)
theorem dX3_of_27 : decode cX3_of 27 = .ok (.getfield 3, 3) := dk_180 0 3 (dk_at dksX3_of_1 4 rfl rfl)
theorem dX3_of_30 : decode cX3_of 30 = .ok (.getfield 37, 3) := dk_180 0 37 (dk_at dksX3_of_1 7 rfl rfl)
theorem dX3_of_33 : decode cX3_of 33 = .ok (.aload_n 0, 1) := dk_42 (dk_at dksX3_of_1 10 rfl rfl)
theorem dX3_of_34 : decode cX3_of 34 = .ok (.getfield 41, 3) := dk_180 0 41 (dk_at dksX3_of_1 11 rfl rfl)
theorem dX3_of_37 : decode cX3_of 37 = .ok (.invokevirtual 89, 3) := dk_182 0 89 (dk_at dksX3_of_1 14 rfl rfl)
theorem dX3_of_40 : decode cX3_of 40 = .ok (.istore_n 2, 1) := dk_61 (dk_at dksX3_of_1 17 rfl rfl)
theorem dX3_of_41 : decode cX3_of 41 = .ok (.iconst 0, 1) := dk_3 (dk_at dksX3_of_1 18 rfl rfl)
theorem dX3_of_42 : decode cX3_of 42 = .ok (.istore_n 3, 1) := dk_62 (dk_at dksX3_of_1 19 rfl rfl)
theorem dX3_of_43 : decode cX3_of 43 = .ok (.iload_n 3, 1) := dk_29 (dk_at dksX3_of_1 20 rfl rfl)
theorem dX3_of_44 : decode cX3_of 44 = .ok (.iload_n 2, 1) := dk_28 (dk_at dksX3_of_1 21 rfl rfl)
theorem dX3_of_45 : decode cX3_of 45 = .ok (.if_icmp .ge 118, 3) := dk_162 0 118 (dk_at dksX3_of_2 0 rfl rfl)
theorem dX3_of_48 : decode cX3_of 48 = .ok (.aload_n 0, 1) := dk_42 (dk_at dksX3_of_2 3 rfl rfl)
theorem dX3_of_49 : decode cX3_of 49 = .ok (.iload_n 3, 1) := dk_29 (dk_at dksX3_of_2 4 rfl rfl)
theorem dX3_of_50 : decode cX3_of 50 = .ok (.iload_n 2, 1) := dk_28 (dk_at dksX3_of_2 5 rfl rfl)
theorem dX3_of_51 : decode cX3_of 51 = .ok (.invokevirtual 93, 3) := dk_182 0 93 (dk_at dksX3_of_2 6 rfl rfl)
theorem dX3_of_54 : decode cX3_of 54 = .ok (.istore 4, 2) := dk_54 4 (dk_at dksX3_of_2 9 rfl rfl)
theorem dX3_of_56 : decode cX3_of 56 = .ok (.iload 4, 2) := dk_21 4 (dk_at dksX3_of_2 11 rfl rfl)
theorem dX3_of_58 : decode cX3_of 58 = .ok (.iconst (-1), 1) := dk_2 (dk_at dksX3_of_2 13 rfl rfl)
theorem dX3_of_59 : decode cX3_of 59 = .ok (.if_icmp .ne 19, 3) := dk_160 0 19 (dk_at dksX3_of_2 14 rfl rfl)
theorem dX3_of_62 : decode cX3_of 62 = .ok (.aload_n 0, 1) := dk_42 (dk_at dksX3_of_2 17 rfl rfl)
theorem dX3_of_63 : decode cX3_of 63 = .ok (.dup, 1) := dk_89 (dk_at dksX3_of_2 18 rfl rfl)
theorem dX3_of_64 : decode cX3_of 64 = .ok (.getfield 86, 3) := dk_180 0 86 (dk_at dksX3_of_2 19 rfl rfl)
theorem dX3_of_67 : decode cX3_of 67 = .ok (.iconst 1, 1) := dk_4 (dk_at dksX3_of_2 22 rfl rfl)
theorem dX3_of_68 : decode cX3_of 68 = .ok (.iadd, 1) := dk_96 (dk_at dksX3_of_2 23 rfl rfl)
theorem dX3_of_69 : decode cX3_of 69 = .ok (.putfield 86, 3) := dk_181 0 86 (dk_at dksX3_of_3 0 rfl rfl)
theorem dX3_of_72 : decode cX3_of 72 = .ok (.iinc 3 1, 3) := dk_132 3 1 (dk_at dksX3_of_3 3 rfl rfl)
theorem dX3_of_75 : decode cX3_of 75 = .ok (.goto (-32), 3) := dk_167 255 224 (dk_at dksX3_of_3 6 rfl rfl)
theorem dX3_of_78 : decode cX3_of 78 = .ok (.aload_n 0, 1) := dk_42 (dk_at dksX3_of_3 9 rfl rfl)
theorem dX3_of_79 : decode cX3_of 79 = .ok (.getfield 15, 3) := dk_180 0 15 (dk_at dksX3_of_3 10 rfl rfl)
theorem dX3_of_82 : decode cX3_of 82 = .ok (.aload_n 0, 1) := dk_42 (dk_at dksX3_of_3 13 rfl rfl)
theorem dX3_of_83 : decode cX3_of 83 = .ok (.getfield 85, 3) := dk_180 0 85 (dk_at dksX3_of_3 14 rfl rfl)
theorem dX3_of_86 : decode cX3_of 86 = .ok (.aload_n 0, 1) := dk_42 (dk_at dksX3_of_3 17 rfl rfl)
theorem dX3_of_87 : decode cX3_of 87 = .ok (.getfield 41, 3) := dk_180 0 41 (dk_at dksX3_of_3 18 rfl rfl)
theorem dX3_of_90 : decode cX3_of 90 = .ok (.getfield 55, 3) := dk_180 0 55 (dk_at dksX3_of_3 21 rfl rfl)
theorem dX3_of_93 : decode cX3_of 93 = .ok (.iload 4, 2) := dk_21 4 (dk_at dksX3_of_4 0 rfl rfl)
theorem dX3_of_95 : decode cX3_of 95 = .ok (.invokevirtual 67, 3) := dk_182 0 67 (dk_at dksX3_of_4 2 rfl rfl)
theorem dX3_of_98 : decode cX3_of 98 = .ok (.checkcast 26, 3) := dk_192 0 26 (dk_at dksX3_of_4 5 rfl rfl)
theorem dX3_of_101 : decode cX3_of 101 = .ok (.getfield 97, 3) := dk_180 0 97 (dk_at dksX3_of_4 8 rfl rfl)
theorem dX3_of_104 : decode cX3_of 104 = .ok (.iastore, 1) := dk_79 (dk_at dksX3_of_4 11 rfl rfl)
theorem dX3_of_105 : decode cX3_of 105 = .ok (.aload_n 0, 1) := dk_42 (dk_at dksX3_of_4 12 rfl rfl)
theorem dX3_of_106 : decode cX3_of 106 = .ok (.getfield 19, 3) := dk_180 0 19 (dk_at dksX3_of_4 13 rfl rfl)
theorem dX3_of_109 : decode cX3_of 109 = .ok (.aload_n 0, 1) := dk_42 (dk_at dksX3_of_4 16 rfl rfl)
theorem dX3_of_110 : decode cX3_of 110 = .ok (.getfield 85, 3) := dk_180 0 85 (dk_at dksX3_of_4 17 rfl rfl)
theorem dX3_of_113 : decode cX3_of 113 = .ok (.iload_n 3, 1) := dk_29 (dk_at dksX3_of_4 20 rfl rfl)
theorem dX3_of_114 : decode cX3_of 114 = .ok (.iastore, 1) := dk_79 (dk_at dksX3_of_4 21 rfl rfl)
theorem dX3_of_115 : decode cX3_of 115 = .ok (.aload_n 0, 1) := dk_42 (dk_at dksX3_of_4 22 rfl rfl)
theorem dX3_of_116 : decode cX3_of 116 = .ok (.getfield 22, 3) := dk_180 0 22 (dk_at dksX3_of_5 0 rfl rfl)
theorem dX3_of_119 : decode cX3_of 119 = .ok (.aload_n 0, 1) := dk_42 (dk_at dksX3_of_5 3 rfl rfl)
theorem dX3_of_120 : decode cX3_of 120 = .ok (.getfield 85, 3) := dk_180 0 85 (dk_at dksX3_of_5 4 rfl rfl)
theorem dX3_of_123 : decode cX3_of 123 = .ok (.iload 4, 2) := dk_21 4 (dk_at dksX3_of_5 7 rfl rfl)
theorem dX3_of_125 : decode cX3_of 125 = .ok (.iastore, 1) := dk_79 (dk_at dksX3_of_5 9 rfl rfl)
theorem dX3_of_126 : decode cX3_of 126 = .ok (.aload_n 0, 1) := dk_42 (dk_at dksX3_of_5 10 rfl rfl)
theorem dX3_of_127 : decode cX3_of 127 = .ok (.dup, 1) := dk_89 (dk_at dksX3_of_5 11 rfl rfl)
theorem dX3_of_128 : decode cX3_of 128 = .ok (.getfield 85, 3) := dk_180 0 85 (dk_at dksX3_of_5 12 rfl rfl)
theorem dX3_of_131 : decode cX3_of 131 = .ok (.iconst 1, 1) := dk_4 (dk_at dksX3_of_5 15 rfl rfl)
theorem dX3_of_132 : decode cX3_of 132 = .ok (.iadd, 1) := dk_96 (dk_at dksX3_of_5 16 rfl rfl)
theorem dX3_of_133 : decode cX3_of 133 = .ok (.putfield 85, 3) := dk_181 0 85 (dk_at dksX3_of_5 17 rfl rfl)
theorem dX3_of_136 : decode cX3_of 136 = .ok (.iload_n 3, 1) := dk_29 (dk_at dksX3_of_5 20 rfl rfl)
theorem dX3_of_137 : decode cX3_of 137 = .ok (.aload_n 0, 1) := dk_42 (dk_at dksX3_of_5 21 rfl rfl)
theorem dX3_of_138 : decode cX3_of 138 = .ok (.getfield 41, 3) := dk_180 0 41 (dk_at dksX3_of_6 0 rfl rfl)
theorem dX3_of_141 : decode cX3_of 141 = .ok (.getfield 55, 3) := dk_180 0 55 (dk_at dksX3_of_6 3 rfl rfl)
theorem dX3_of_144 : decode cX3_of 144 = .ok (.iload 4, 2) := dk_21 4 (dk_at dksX3_of_6 6 rfl rfl)
theorem dX3_of_146 : decode cX3_of 146 = .ok (.invokevirtual 67, 3) := dk_182 0 67 (dk_at dksX3_of_6 8 rfl rfl)
theorem dX3_of_149 : decode cX3_of 149 = .ok (.checkcast 26, 3) := dk_192 0 26 (dk_at dksX3_of_6 11 rfl rfl)
theorem dX3_of_152 : decode cX3_of 152 = .ok (.getfield 25, 3) := dk_180 0 25 (dk_at dksX3_of_6 14 rfl rfl)
theorem dX3_of_155 : decode cX3_of 155 = .ok (.getfield 31, 3) := dk_180 0 31 (dk_at dksX3_of_6 17 rfl rfl)
theorem dX3_of_158 : decode cX3_of 158 = .ok (.iadd, 1) := dk_96 (dk_at dksX3_of_6 20 rfl rfl)
theorem dX3_of_159 : decode cX3_of 159 = .ok (.istore_n 3, 1) := dk_62 (dk_at dksX3_of_6 21 rfl rfl)
theorem dX3_of_160 : decode cX3_of 160 = .ok (.goto (-117), 3) := dk_167 255 139 (dk_at dksX3_of_7 0 rfl rfl)
theorem dX3_of_163 : decode cX3_of 163 = .ok (.aload_n 0, 1) := dk_42 (dk_at dksX3_of_7 3 rfl rfl)
theorem dX3_of_164 : decode cX3_of 164 = .ok (.areturn, 1) := dk_176 (dk_at dksX3_of_7 4 rfl rfl)
abbrev cX3_longest : ByteArray := prog_15_method_3_code
def yX3_longest : MethodName := ⟨RX3, "longest", "(II)I"⟩
def dkwX3_longest_3 : List UInt8 := [192, 0, 26, 180, 0, 25, 180, 0, 31, 164, 0, 6, 21, 4, 62, 132, 4, 1, 167, 255, 171, 29, 172]
abbrev dktX3_longest_3 : List UInt8 := dkwX3_longest_3 ++ []
def dkwX3_longest_2 : List UInt8 := [29, 2, 159, 0, 34, 25, 5, 180, 0, 25, 180, 0, 31, 42, 180, 0, 41, 180, 0, 55, 29, 182, 0, 67]
abbrev dktX3_longest_2 : List UInt8 := dkwX3_longest_2 ++ dktX3_longest_3
def dkwX3_longest_1 : List UInt8 := [180, 0, 55, 21, 4, 182, 0, 67, 192, 0, 26, 58, 5, 42, 25, 5, 27, 28, 182, 0, 71, 153, 0, 42]
abbrev dktX3_longest_1 : List UInt8 := dkwX3_longest_1 ++ dktX3_longest_2
def dkwX3_longest_0 : List UInt8 := [2, 62, 3, 54, 4, 21, 4, 42, 180, 0, 41, 180, 0, 55, 182, 0, 61, 162, 0, 76, 42, 180, 0, 41]
abbrev dktX3_longest_0 : List UInt8 := dkwX3_longest_0 ++ dktX3_longest_1
theorem dksX3_longest_0 : cX3_longest.data.toList.drop 0 = dktX3_longest_0 := by decide +kernel
theorem dksX3_longest_1 : cX3_longest.data.toList.drop 24 = dktX3_longest_1 := dk_seg dksX3_longest_0 24 rfl rfl
theorem dksX3_longest_2 : cX3_longest.data.toList.drop 48 = dktX3_longest_2 := dk_seg dksX3_longest_1 24 rfl rfl
theorem dksX3_longest_3 : cX3_longest.data.toList.drop 72 = dktX3_longest_3 := dk_seg dksX3_longest_2 24 rfl rfl
theorem dX3_longest_0 : decode cX3_longest 0 = .ok (.iconst (-1), 1) := dk_2 (dk_at dksX3_longest_0 0 rfl rfl)
theorem dX3_longest_1 : decode cX3_longest 1 = .ok (.istore_n 3, 1) := dk_62 (dk_at dksX3_longest_0 1 rfl rfl)
theorem dX3_longest_2 : decode cX3_longest 2 = .ok (.iconst 0, 1) := dk_3 (dk_at dksX3_longest_0 2 rfl rfl)
theorem dX3_longest_3 : decode cX3_longest 3 = .ok (.istore 4, 2) := dk_54 4 (dk_at dksX3_longest_0 3 rfl rfl)
theorem dX3_longest_5 : decode cX3_longest 5 = .ok (.iload 4, 2) := dk_21 4 (dk_at dksX3_longest_0 5 rfl rfl)
theorem dX3_longest_7 : decode cX3_longest 7 = .ok (.aload_n 0, 1) := dk_42 (dk_at dksX3_longest_0 7 rfl rfl)
theorem dX3_longest_8 : decode cX3_longest 8 = .ok (.getfield 41, 3) := dk_180 0 41 (dk_at dksX3_longest_0 8 rfl rfl)
theorem dX3_longest_11 : decode cX3_longest 11 = .ok (.getfield 55, 3) := dk_180 0 55 (dk_at dksX3_longest_0 11 rfl rfl)
theorem dX3_longest_14 : decode cX3_longest 14 = .ok (.invokevirtual 61, 3) := dk_182 0 61 (dk_at dksX3_longest_0 14 rfl rfl)
theorem dX3_longest_17 : decode cX3_longest 17 = .ok (.if_icmp .ge 76, 3) := dk_162 0 76 (dk_at dksX3_longest_0 17 rfl rfl)
theorem dX3_longest_20 : decode cX3_longest 20 = .ok (.aload_n 0, 1) := dk_42 (dk_at dksX3_longest_0 20 rfl rfl)
theorem dX3_longest_21 : decode cX3_longest 21 = .ok (.getfield 41, 3) := dk_180 0 41 (dk_at dksX3_longest_0 21 rfl rfl)
theorem dX3_longest_24 : decode cX3_longest 24 = .ok (.getfield 55, 3) := dk_180 0 55 (dk_at dksX3_longest_1 0 rfl rfl)
theorem dX3_longest_27 : decode cX3_longest 27 = .ok (.iload 4, 2) := dk_21 4 (dk_at dksX3_longest_1 3 rfl rfl)
theorem dX3_longest_29 : decode cX3_longest 29 = .ok (.invokevirtual 67, 3) := dk_182 0 67 (dk_at dksX3_longest_1 5 rfl rfl)
theorem dX3_longest_32 : decode cX3_longest 32 = .ok (.checkcast 26, 3) := dk_192 0 26 (dk_at dksX3_longest_1 8 rfl rfl)
theorem dX3_longest_35 : decode cX3_longest 35 = .ok (.astore 5, 2) := dk_58 5 (dk_at dksX3_longest_1 11 rfl rfl)
theorem dX3_longest_37 : decode cX3_longest 37 = .ok (.aload_n 0, 1) := dk_42 (dk_at dksX3_longest_1 13 rfl rfl)
theorem dX3_longest_38 : decode cX3_longest 38 = .ok (.aload 5, 2) := dk_25 5 (dk_at dksX3_longest_1 14 rfl rfl)
theorem dX3_longest_40 : decode cX3_longest 40 = .ok (.iload_n 1, 1) := dk_27 (dk_at dksX3_longest_1 16 rfl rfl)
theorem dX3_longest_41 : decode cX3_longest 41 = .ok (.iload_n 2, 1) := dk_28 (dk_at dksX3_longest_1 17 rfl rfl)
theorem dX3_longest_42 : decode cX3_longest 42 = .ok (.invokevirtual 71, 3) := dk_182 0 71 (dk_at dksX3_longest_1 18 rfl rfl)
theorem dX3_longest_45 : decode cX3_longest 45 = .ok (.ifCond .eq 42, 3) := dk_153 0 42 (dk_at dksX3_longest_1 21 rfl rfl)
theorem dX3_longest_48 : decode cX3_longest 48 = .ok (.iload_n 3, 1) := dk_29 (dk_at dksX3_longest_2 0 rfl rfl)
theorem dX3_longest_49 : decode cX3_longest 49 = .ok (.iconst (-1), 1) := dk_2 (dk_at dksX3_longest_2 1 rfl rfl)
theorem dX3_longest_50 : decode cX3_longest 50 = .ok (.if_icmp .eq 34, 3) := dk_159 0 34 (dk_at dksX3_longest_2 2 rfl rfl)
theorem dX3_longest_53 : decode cX3_longest 53 = .ok (.aload 5, 2) := dk_25 5 (dk_at dksX3_longest_2 5 rfl rfl)
theorem dX3_longest_55 : decode cX3_longest 55 = .ok (.getfield 25, 3) := dk_180 0 25 (dk_at dksX3_longest_2 7 rfl rfl)
theorem dX3_longest_58 : decode cX3_longest 58 = .ok (.getfield 31, 3) := dk_180 0 31 (dk_at dksX3_longest_2 10 rfl rfl)
theorem dX3_longest_61 : decode cX3_longest 61 = .ok (.aload_n 0, 1) := dk_42 (dk_at dksX3_longest_2 13 rfl rfl)
theorem dX3_longest_62 : decode cX3_longest 62 = .ok (.getfield 41, 3) := dk_180 0 41 (dk_at dksX3_longest_2 14 rfl rfl)
theorem dX3_longest_65 : decode cX3_longest 65 = .ok (.getfield 55, 3) := dk_180 0 55 (dk_at dksX3_longest_2 17 rfl rfl)
theorem dX3_longest_68 : decode cX3_longest 68 = .ok (.iload_n 3, 1) := dk_29 (dk_at dksX3_longest_2 20 rfl rfl)
theorem dX3_longest_69 : decode cX3_longest 69 = .ok (.invokevirtual 67, 3) := dk_182 0 67 (dk_at dksX3_longest_2 21 rfl rfl)
theorem dX3_longest_72 : decode cX3_longest 72 = .ok (.checkcast 26, 3) := dk_192 0 26 (dk_at dksX3_longest_3 0 rfl rfl)
theorem dX3_longest_75 : decode cX3_longest 75 = .ok (.getfield 25, 3) := dk_180 0 25 (dk_at dksX3_longest_3 3 rfl rfl)
theorem dX3_longest_78 : decode cX3_longest 78 = .ok (.getfield 31, 3) := dk_180 0 31 (dk_at dksX3_longest_3 6 rfl rfl)
theorem dX3_longest_81 : decode cX3_longest 81 = .ok (.if_icmp .le 6, 3) := dk_164 0 6 (dk_at dksX3_longest_3 9 rfl rfl)
theorem dX3_longest_84 : decode cX3_longest 84 = .ok (.iload 4, 2) := dk_21 4 (dk_at dksX3_longest_3 12 rfl rfl)
theorem dX3_longest_86 : decode cX3_longest 86 = .ok (.istore_n 3, 1) := dk_62 (dk_at dksX3_longest_3 14 rfl rfl)
theorem dX3_longest_87 : decode cX3_longest 87 = .ok (.iinc 4 1, 3) := dk_132 4 1 (dk_at dksX3_longest_3 15 rfl rfl)
theorem dX3_longest_90 : decode cX3_longest 90 = .ok (.goto (-85), 3) := dk_167 255 171 (dk_at dksX3_longest_3 18 rfl rfl)
theorem dX3_longest_93 : decode cX3_longest 93 = .ok (.iload_n 3, 1) := dk_29 (dk_at dksX3_longest_3 21 rfl rfl)
theorem dX3_longest_94 : decode cX3_longest 94 = .ok (.ireturn, 1) := dk_172 (dk_at dksX3_longest_3 22 rfl rfl)
abbrev cX3_fits : ByteArray := prog_15_method_2_code
def yX3_fits : MethodName := ⟨RX3, "fits", "(LOneDrum$Order;II)Z"⟩
def dkwX3_fits_2 : List UInt8 := [43, 180, 0, 25, 180, 0, 51, 21, 4, 51, 159, 0, 5, 3, 172, 132, 4, 1, 167, 255, 208, 4, 172]
abbrev dktX3_fits_2 : List UInt8 := dkwX3_fits_2 ++ []
def dkwX3_fits_1 : List UInt8 := [180, 0, 31, 162, 0, 42, 42, 180, 0, 3, 180, 0, 37, 42, 180, 0, 41, 28, 21, 4, 96, 182, 0, 45]
abbrev dktX3_fits_1 : List UInt8 := dkwX3_fits_1 ++ dktX3_fits_2
def dkwX3_fits_0 : List UInt8 := [28, 43, 180, 0, 25, 180, 0, 31, 96, 29, 164, 0, 5, 3, 172, 3, 54, 4, 21, 4, 43, 180, 0, 25]
abbrev dktX3_fits_0 : List UInt8 := dkwX3_fits_0 ++ dktX3_fits_1
theorem dksX3_fits_0 : cX3_fits.data.toList.drop 0 = dktX3_fits_0 := by decide +kernel
theorem dksX3_fits_1 : cX3_fits.data.toList.drop 24 = dktX3_fits_1 := dk_seg dksX3_fits_0 24 rfl rfl
theorem dksX3_fits_2 : cX3_fits.data.toList.drop 48 = dktX3_fits_2 := dk_seg dksX3_fits_1 24 rfl rfl
theorem dX3_fits_0 : decode cX3_fits 0 = .ok (.iload_n 2, 1) := dk_28 (dk_at dksX3_fits_0 0 rfl rfl)
theorem dX3_fits_1 : decode cX3_fits 1 = .ok (.aload_n 1, 1) := dk_43 (dk_at dksX3_fits_0 1 rfl rfl)
theorem dX3_fits_2 : decode cX3_fits 2 = .ok (.getfield 25, 3) := dk_180 0 25 (dk_at dksX3_fits_0 2 rfl rfl)
theorem dX3_fits_5 : decode cX3_fits 5 = .ok (.getfield 31, 3) := dk_180 0 31 (dk_at dksX3_fits_0 5 rfl rfl)
theorem dX3_fits_8 : decode cX3_fits 8 = .ok (.iadd, 1) := dk_96 (dk_at dksX3_fits_0 8 rfl rfl)
theorem dX3_fits_9 : decode cX3_fits 9 = .ok (.iload_n 3, 1) := dk_29 (dk_at dksX3_fits_0 9 rfl rfl)
theorem dX3_fits_10 : decode cX3_fits 10 = .ok (.if_icmp .le 5, 3) := dk_164 0 5 (dk_at dksX3_fits_0 10 rfl rfl)
theorem dX3_fits_13 : decode cX3_fits 13 = .ok (.iconst 0, 1) := dk_3 (dk_at dksX3_fits_0 13 rfl rfl)
theorem dX3_fits_14 : decode cX3_fits 14 = .ok (.ireturn, 1) := dk_172 (dk_at dksX3_fits_0 14 rfl rfl)
theorem dX3_fits_15 : decode cX3_fits 15 = .ok (.iconst 0, 1) := dk_3 (dk_at dksX3_fits_0 15 rfl rfl)
theorem dX3_fits_16 : decode cX3_fits 16 = .ok (.istore 4, 2) := dk_54 4 (dk_at dksX3_fits_0 16 rfl rfl)
theorem dX3_fits_18 : decode cX3_fits 18 = .ok (.iload 4, 2) := dk_21 4 (dk_at dksX3_fits_0 18 rfl rfl)
theorem dX3_fits_20 : decode cX3_fits 20 = .ok (.aload_n 1, 1) := dk_43 (dk_at dksX3_fits_0 20 rfl rfl)
theorem dX3_fits_21 : decode cX3_fits 21 = .ok (.getfield 25, 3) := dk_180 0 25 (dk_at dksX3_fits_0 21 rfl rfl)
theorem dX3_fits_24 : decode cX3_fits 24 = .ok (.getfield 31, 3) := dk_180 0 31 (dk_at dksX3_fits_1 0 rfl rfl)
theorem dX3_fits_27 : decode cX3_fits 27 = .ok (.if_icmp .ge 42, 3) := dk_162 0 42 (dk_at dksX3_fits_1 3 rfl rfl)
theorem dX3_fits_30 : decode cX3_fits 30 = .ok (.aload_n 0, 1) := dk_42 (dk_at dksX3_fits_1 6 rfl rfl)
theorem dX3_fits_31 : decode cX3_fits 31 = .ok (.getfield 3, 3) := dk_180 0 3 (dk_at dksX3_fits_1 7 rfl rfl)
theorem dX3_fits_34 : decode cX3_fits 34 = .ok (.getfield 37, 3) := dk_180 0 37 (dk_at dksX3_fits_1 10 rfl rfl)
theorem dX3_fits_37 : decode cX3_fits 37 = .ok (.aload_n 0, 1) := dk_42 (dk_at dksX3_fits_1 13 rfl rfl)
theorem dX3_fits_38 : decode cX3_fits 38 = .ok (.getfield 41, 3) := dk_180 0 41 (dk_at dksX3_fits_1 14 rfl rfl)
theorem dX3_fits_41 : decode cX3_fits 41 = .ok (.iload_n 2, 1) := dk_28 (dk_at dksX3_fits_1 17 rfl rfl)
theorem dX3_fits_42 : decode cX3_fits 42 = .ok (.iload 4, 2) := dk_21 4 (dk_at dksX3_fits_1 18 rfl rfl)
theorem dX3_fits_44 : decode cX3_fits 44 = .ok (.iadd, 1) := dk_96 (dk_at dksX3_fits_1 20 rfl rfl)
theorem dX3_fits_45 : decode cX3_fits 45 = .ok (.invokevirtual 45, 3) := dk_182 0 45 (dk_at dksX3_fits_1 21 rfl rfl)
theorem dX3_fits_48 : decode cX3_fits 48 = .ok (.aload_n 1, 1) := dk_43 (dk_at dksX3_fits_2 0 rfl rfl)
theorem dX3_fits_49 : decode cX3_fits 49 = .ok (.getfield 25, 3) := dk_180 0 25 (dk_at dksX3_fits_2 1 rfl rfl)
theorem dX3_fits_52 : decode cX3_fits 52 = .ok (.getfield 51, 3) := dk_180 0 51 (dk_at dksX3_fits_2 4 rfl rfl)
theorem dX3_fits_55 : decode cX3_fits 55 = .ok (.iload 4, 2) := dk_21 4 (dk_at dksX3_fits_2 7 rfl rfl)
theorem dX3_fits_57 : decode cX3_fits 57 = .ok (.baload, 1) := dk_51 (dk_at dksX3_fits_2 9 rfl rfl)
theorem dX3_fits_58 : decode cX3_fits 58 = .ok (.if_icmp .eq 5, 3) := dk_159 0 5 (dk_at dksX3_fits_2 10 rfl rfl)
theorem dX3_fits_61 : decode cX3_fits 61 = .ok (.iconst 0, 1) := dk_3 (dk_at dksX3_fits_2 13 rfl rfl)
theorem dX3_fits_62 : decode cX3_fits 62 = .ok (.ireturn, 1) := dk_172 (dk_at dksX3_fits_2 14 rfl rfl)
theorem dX3_fits_63 : decode cX3_fits 63 = .ok (.iinc 4 1, 3) := dk_132 4 1 (dk_at dksX3_fits_2 15 rfl rfl)
theorem dX3_fits_66 : decode cX3_fits 66 = .ok (.goto (-48), 3) := dk_167 255 208 (dk_at dksX3_fits_2 18 rfl rfl)
theorem dX3_fits_69 : decode cX3_fits 69 = .ok (.iconst 1, 1) := dk_4 (dk_at dksX3_fits_2 21 rfl rfl)
theorem dX3_fits_70 : decode cX3_fits 70 = .ok (.ireturn, 1) := dk_172 (dk_at dksX3_fits_2 22 rfl rfl)
abbrev cX3_echoed : ByteArray := prog_15_method_9_code
def yX3_echoed : MethodName := ⟨RX3, "echoed", "()I"⟩
def dkwX3_echoed_4 : List UInt8 := [167, 255, 165, 27, 172]
abbrev dktX3_echoed_4 : List UInt8 := dkwX3_echoed_4 ++ []
def dkwX3_echoed_3 : List UInt8 := [3, 62, 132, 4, 1, 167, 255, 196, 27, 29, 153, 0, 7, 4, 167, 0, 4, 3, 96, 60, 132, 2, 1]
abbrev dktX3_echoed_3 : List UInt8 := dkwX3_echoed_3 ++ dktX3_echoed_4
def dkwX3_echoed_2 : List UInt8 := [42, 180, 0, 41, 42, 180, 0, 19, 28, 46, 21, 4, 96, 182, 0, 106, 51, 153, 0, 7, 4, 167, 0, 4]
abbrev dktX3_echoed_2 : List UInt8 := dkwX3_echoed_2 ++ dktX3_echoed_3
def dkwX3_echoed_1 : List UInt8 := [162, 0, 56, 29, 154, 0, 40, 42, 180, 0, 3, 180, 0, 37, 180, 0, 112, 42, 180, 0, 3, 180, 0, 37]
abbrev dktX3_echoed_1 : List UInt8 := dkwX3_echoed_1 ++ dktX3_echoed_2
def dkwX3_echoed_0 : List UInt8 := [3, 60, 3, 61, 28, 42, 180, 0, 85, 162, 0, 89, 3, 62, 3, 54, 4, 21, 4, 42, 28, 182, 0, 99]
abbrev dktX3_echoed_0 : List UInt8 := dkwX3_echoed_0 ++ dktX3_echoed_1
theorem dksX3_echoed_0 : cX3_echoed.data.toList.drop 0 = dktX3_echoed_0 := by decide +kernel
theorem dksX3_echoed_1 : cX3_echoed.data.toList.drop 24 = dktX3_echoed_1 := dk_seg dksX3_echoed_0 24 rfl rfl
theorem dksX3_echoed_2 : cX3_echoed.data.toList.drop 48 = dktX3_echoed_2 := dk_seg dksX3_echoed_1 24 rfl rfl
theorem dksX3_echoed_3 : cX3_echoed.data.toList.drop 72 = dktX3_echoed_3 := dk_seg dksX3_echoed_2 24 rfl rfl
theorem dksX3_echoed_4 : cX3_echoed.data.toList.drop 95 = dktX3_echoed_4 := dk_seg dksX3_echoed_3 23 rfl rfl
theorem dX3_echoed_0 : decode cX3_echoed 0 = .ok (.iconst 0, 1) := dk_3 (dk_at dksX3_echoed_0 0 rfl rfl)
theorem dX3_echoed_1 : decode cX3_echoed 1 = .ok (.istore_n 1, 1) := dk_60 (dk_at dksX3_echoed_0 1 rfl rfl)
theorem dX3_echoed_2 : decode cX3_echoed 2 = .ok (.iconst 0, 1) := dk_3 (dk_at dksX3_echoed_0 2 rfl rfl)
theorem dX3_echoed_3 : decode cX3_echoed 3 = .ok (.istore_n 2, 1) := dk_61 (dk_at dksX3_echoed_0 3 rfl rfl)
theorem dX3_echoed_4 : decode cX3_echoed 4 = .ok (.iload_n 2, 1) := dk_28 (dk_at dksX3_echoed_0 4 rfl rfl)
theorem dX3_echoed_5 : decode cX3_echoed 5 = .ok (.aload_n 0, 1) := dk_42 (dk_at dksX3_echoed_0 5 rfl rfl)
theorem dX3_echoed_6 : decode cX3_echoed 6 = .ok (.getfield 85, 3) := dk_180 0 85 (dk_at dksX3_echoed_0 6 rfl rfl)
theorem dX3_echoed_9 : decode cX3_echoed 9 = .ok (.if_icmp .ge 89, 3) := dk_162 0 89 (dk_at dksX3_echoed_0 9 rfl rfl)
theorem dX3_echoed_12 : decode cX3_echoed 12 = .ok (.iconst 0, 1) := dk_3 (dk_at dksX3_echoed_0 12 rfl rfl)
theorem dX3_echoed_13 : decode cX3_echoed 13 = .ok (.istore_n 3, 1) := dk_62 (dk_at dksX3_echoed_0 13 rfl rfl)
theorem dX3_echoed_14 : decode cX3_echoed 14 = .ok (.iconst 0, 1) := dk_3 (dk_at dksX3_echoed_0 14 rfl rfl)
theorem dX3_echoed_15 : decode cX3_echoed 15 = .ok (.istore 4, 2) := dk_54 4 (dk_at dksX3_echoed_0 15 rfl rfl)
theorem dX3_echoed_17 : decode cX3_echoed 17 = .ok (.iload 4, 2) := dk_21 4 (dk_at dksX3_echoed_0 17 rfl rfl)
theorem dX3_echoed_19 : decode cX3_echoed 19 = .ok (.aload_n 0, 1) := dk_42 (dk_at dksX3_echoed_0 19 rfl rfl)
theorem dX3_echoed_20 : decode cX3_echoed 20 = .ok (.iload_n 2, 1) := dk_28 (dk_at dksX3_echoed_0 20 rfl rfl)
theorem dX3_echoed_21 : decode cX3_echoed 21 = .ok (.invokevirtual 99, 3) := dk_182 0 99 (dk_at dksX3_echoed_0 21 rfl rfl)
theorem dX3_echoed_24 : decode cX3_echoed 24 = .ok (.if_icmp .ge 56, 3) := dk_162 0 56 (dk_at dksX3_echoed_1 0 rfl rfl)
theorem dX3_echoed_27 : decode cX3_echoed 27 = .ok (.iload_n 3, 1) := dk_29 (dk_at dksX3_echoed_1 3 rfl rfl)
theorem dX3_echoed_28 : decode cX3_echoed 28 = .ok (.ifCond .ne 40, 3) := dk_154 0 40 (dk_at dksX3_echoed_1 4 rfl rfl)
theorem dX3_echoed_31 : decode cX3_echoed 31 = .ok (.aload_n 0, 1) := dk_42 (dk_at dksX3_echoed_1 7 rfl rfl)
theorem dX3_echoed_32 : decode cX3_echoed 32 = .ok (.getfield 3, 3) := dk_180 0 3 (dk_at dksX3_echoed_1 8 rfl rfl)
theorem dX3_echoed_35 : decode cX3_echoed 35 = .ok (.getfield 37, 3) := dk_180 0 37 (dk_at dksX3_echoed_1 11 rfl rfl)
theorem dX3_echoed_38 : decode cX3_echoed 38 = .ok (.getfield 112, 3) := dk_180 0 112 (dk_at dksX3_echoed_1 14 rfl rfl)
theorem dX3_echoed_41 : decode cX3_echoed 41 = .ok (.aload_n 0, 1) := dk_42 (dk_at dksX3_echoed_1 17 rfl rfl)
theorem dX3_echoed_42 : decode cX3_echoed 42 = .ok (.getfield 3, 3) := dk_180 0 3 (dk_at dksX3_echoed_1 18 rfl rfl)
theorem dX3_echoed_45 : decode cX3_echoed 45 = .ok (.getfield 37, 3) := dk_180 0 37 (dk_at dksX3_echoed_1 21 rfl rfl)
theorem dX3_echoed_48 : decode cX3_echoed 48 = .ok (.aload_n 0, 1) := dk_42 (dk_at dksX3_echoed_2 0 rfl rfl)
theorem dX3_echoed_49 : decode cX3_echoed 49 = .ok (.getfield 41, 3) := dk_180 0 41 (dk_at dksX3_echoed_2 1 rfl rfl)
theorem dX3_echoed_52 : decode cX3_echoed 52 = .ok (.aload_n 0, 1) := dk_42 (dk_at dksX3_echoed_2 4 rfl rfl)
theorem dX3_echoed_53 : decode cX3_echoed 53 = .ok (.getfield 19, 3) := dk_180 0 19 (dk_at dksX3_echoed_2 5 rfl rfl)
theorem dX3_echoed_56 : decode cX3_echoed 56 = .ok (.iload_n 2, 1) := dk_28 (dk_at dksX3_echoed_2 8 rfl rfl)
theorem dX3_echoed_57 : decode cX3_echoed 57 = .ok (.iaload, 1) := dk_46 (dk_at dksX3_echoed_2 9 rfl rfl)
theorem dX3_echoed_58 : decode cX3_echoed 58 = .ok (.iload 4, 2) := dk_21 4 (dk_at dksX3_echoed_2 10 rfl rfl)
theorem dX3_echoed_60 : decode cX3_echoed 60 = .ok (.iadd, 1) := dk_96 (dk_at dksX3_echoed_2 12 rfl rfl)
theorem dX3_echoed_61 : decode cX3_echoed 61 = .ok (.invokevirtual 106, 3) := dk_182 0 106 (dk_at dksX3_echoed_2 13 rfl rfl)
theorem dX3_echoed_64 : decode cX3_echoed 64 = .ok (.baload, 1) := dk_51 (dk_at dksX3_echoed_2 16 rfl rfl)
theorem dX3_echoed_65 : decode cX3_echoed 65 = .ok (.ifCond .eq 7, 3) := dk_153 0 7 (dk_at dksX3_echoed_2 17 rfl rfl)
theorem dX3_echoed_68 : decode cX3_echoed 68 = .ok (.iconst 1, 1) := dk_4 (dk_at dksX3_echoed_2 20 rfl rfl)
theorem dX3_echoed_69 : decode cX3_echoed 69 = .ok (.goto 4, 3) := dk_167 0 4 (dk_at dksX3_echoed_2 21 rfl rfl)
theorem dX3_echoed_72 : decode cX3_echoed 72 = .ok (.iconst 0, 1) := dk_3 (dk_at dksX3_echoed_3 0 rfl rfl)
theorem dX3_echoed_73 : decode cX3_echoed 73 = .ok (.istore_n 3, 1) := dk_62 (dk_at dksX3_echoed_3 1 rfl rfl)
theorem dX3_echoed_74 : decode cX3_echoed 74 = .ok (.iinc 4 1, 3) := dk_132 4 1 (dk_at dksX3_echoed_3 2 rfl rfl)
theorem dX3_echoed_77 : decode cX3_echoed 77 = .ok (.goto (-60), 3) := dk_167 255 196 (dk_at dksX3_echoed_3 5 rfl rfl)
theorem dX3_echoed_80 : decode cX3_echoed 80 = .ok (.iload_n 1, 1) := dk_27 (dk_at dksX3_echoed_3 8 rfl rfl)
theorem dX3_echoed_81 : decode cX3_echoed 81 = .ok (.iload_n 3, 1) := dk_29 (dk_at dksX3_echoed_3 9 rfl rfl)
theorem dX3_echoed_82 : decode cX3_echoed 82 = .ok (.ifCond .eq 7, 3) := dk_153 0 7 (dk_at dksX3_echoed_3 10 rfl rfl)
theorem dX3_echoed_85 : decode cX3_echoed 85 = .ok (.iconst 1, 1) := dk_4 (dk_at dksX3_echoed_3 13 rfl rfl)
theorem dX3_echoed_86 : decode cX3_echoed 86 = .ok (.goto 4, 3) := dk_167 0 4 (dk_at dksX3_echoed_3 14 rfl rfl)
theorem dX3_echoed_89 : decode cX3_echoed 89 = .ok (.iconst 0, 1) := dk_3 (dk_at dksX3_echoed_3 17 rfl rfl)
theorem dX3_echoed_90 : decode cX3_echoed 90 = .ok (.iadd, 1) := dk_96 (dk_at dksX3_echoed_3 18 rfl rfl)
theorem dX3_echoed_91 : decode cX3_echoed 91 = .ok (.istore_n 1, 1) := dk_60 (dk_at dksX3_echoed_3 19 rfl rfl)
theorem dX3_echoed_92 : decode cX3_echoed 92 = .ok (.iinc 2 1, 3) := dk_132 2 1 (dk_at dksX3_echoed_3 20 rfl rfl)
theorem dX3_echoed_95 : decode cX3_echoed 95 = .ok (.goto (-91), 3) := dk_167 255 165 (dk_at dksX3_echoed_4 0 rfl rfl)
theorem dX3_echoed_98 : decode cX3_echoed 98 = .ok (.iload_n 1, 1) := dk_27 (dk_at dksX3_echoed_4 3 rfl rfl)
theorem dX3_echoed_99 : decode cX3_echoed 99 = .ok (.ireturn, 1) := dk_172 (dk_at dksX3_echoed_4 4 rfl rfl)
abbrev cX3_length : ByteArray := prog_15_method_6_code
def yX3_length : MethodName := ⟨RX3, "length", "(I)I"⟩
def dkwX3_length_1 : List UInt8 := [180, 0, 31, 172]
abbrev dktX3_length_1 : List UInt8 := dkwX3_length_1 ++ []
def dkwX3_length_0 : List UInt8 := [42, 180, 0, 41, 180, 0, 55, 42, 180, 0, 22, 27, 46, 182, 0, 67, 192, 0, 26, 180, 0, 25]
abbrev dktX3_length_0 : List UInt8 := dkwX3_length_0 ++ dktX3_length_1
theorem dksX3_length_0 : cX3_length.data.toList.drop 0 = dktX3_length_0 := by decide +kernel
theorem dksX3_length_1 : cX3_length.data.toList.drop 22 = dktX3_length_1 := dk_seg dksX3_length_0 22 rfl rfl
theorem dX3_length_0 : decode cX3_length 0 = .ok (.aload_n 0, 1) := dk_42 (dk_at dksX3_length_0 0 rfl rfl)
theorem dX3_length_1 : decode cX3_length 1 = .ok (.getfield 41, 3) := dk_180 0 41 (dk_at dksX3_length_0 1 rfl rfl)
theorem dX3_length_4 : decode cX3_length 4 = .ok (.getfield 55, 3) := dk_180 0 55 (dk_at dksX3_length_0 4 rfl rfl)
theorem dX3_length_7 : decode cX3_length 7 = .ok (.aload_n 0, 1) := dk_42 (dk_at dksX3_length_0 7 rfl rfl)
theorem dX3_length_8 : decode cX3_length 8 = .ok (.getfield 22, 3) := dk_180 0 22 (dk_at dksX3_length_0 8 rfl rfl)
theorem dX3_length_11 : decode cX3_length 11 = .ok (.iload_n 1, 1) := dk_27 (dk_at dksX3_length_0 11 rfl rfl)
theorem dX3_length_12 : decode cX3_length 12 = .ok (.iaload, 1) := dk_46 (dk_at dksX3_length_0 12 rfl rfl)
theorem dX3_length_13 : decode cX3_length 13 = .ok (.invokevirtual 67, 3) := dk_182 0 67 (dk_at dksX3_length_0 13 rfl rfl)
theorem dX3_length_16 : decode cX3_length 16 = .ok (.checkcast 26, 3) := dk_192 0 26 (dk_at dksX3_length_0 16 rfl rfl)
theorem dX3_length_19 : decode cX3_length 19 = .ok (.getfield 25, 3) := dk_180 0 25 (dk_at dksX3_length_0 19 rfl rfl)
theorem dX3_length_22 : decode cX3_length 22 = .ok (.getfield 31, 3) := dk_180 0 31 (dk_at dksX3_length_1 0 rfl rfl)
theorem dX3_length_25 : decode cX3_length 25 = .ok (.ireturn, 1) := dk_172 (dk_at dksX3_length_1 3 rfl rfl)
abbrev cX3_place : ByteArray := prog_15_method_10_code
def yX3_place : MethodName := ⟨RX3, "place", "(I)I"⟩
def dkwX3_place_0 : List UInt8 := [42, 180, 0, 3, 180, 0, 37, 42, 180, 0, 41, 42, 180, 0, 19, 27, 46, 182, 0, 106, 172]
abbrev dktX3_place_0 : List UInt8 := dkwX3_place_0 ++ []
theorem dksX3_place_0 : cX3_place.data.toList.drop 0 = dktX3_place_0 := by decide +kernel
theorem dX3_place_0 : decode cX3_place 0 = .ok (.aload_n 0, 1) := dk_42 (dk_at dksX3_place_0 0 rfl rfl)
theorem dX3_place_1 : decode cX3_place 1 = .ok (.getfield 3, 3) := dk_180 0 3 (dk_at dksX3_place_0 1 rfl rfl)
theorem dX3_place_4 : decode cX3_place 4 = .ok (.getfield 37, 3) := dk_180 0 37 (dk_at dksX3_place_0 4 rfl rfl)
theorem dX3_place_7 : decode cX3_place 7 = .ok (.aload_n 0, 1) := dk_42 (dk_at dksX3_place_0 7 rfl rfl)
theorem dX3_place_8 : decode cX3_place 8 = .ok (.getfield 41, 3) := dk_180 0 41 (dk_at dksX3_place_0 8 rfl rfl)
theorem dX3_place_11 : decode cX3_place 11 = .ok (.aload_n 0, 1) := dk_42 (dk_at dksX3_place_0 11 rfl rfl)
theorem dX3_place_12 : decode cX3_place 12 = .ok (.getfield 19, 3) := dk_180 0 19 (dk_at dksX3_place_0 12 rfl rfl)
theorem dX3_place_15 : decode cX3_place 15 = .ok (.iload_n 1, 1) := dk_27 (dk_at dksX3_place_0 15 rfl rfl)
theorem dX3_place_16 : decode cX3_place 16 = .ok (.iaload, 1) := dk_46 (dk_at dksX3_place_0 16 rfl rfl)
theorem dX3_place_17 : decode cX3_place 17 = .ok (.invokevirtual 106, 3) := dk_182 0 106 (dk_at dksX3_place_0 17 rfl rfl)
theorem dX3_place_20 : decode cX3_place 20 = .ok (.ireturn, 1) := dk_172 (dk_at dksX3_place_0 20 rfl rfl)
abbrev cX3_purity : ByteArray := prog_15_method_8_code
def yX3_purity : MethodName := ⟨RX3, "purity", "(II)I"⟩
def dkwX3_purity_1 : List UInt8 := [4, 167, 0, 4, 5, 172]
abbrev dktX3_purity_1 : List UInt8 := dkwX3_purity_1 ++ []
def dkwX3_purity_0 : List UInt8 := [42, 27, 28, 182, 0, 109, 62, 29, 42, 27, 182, 0, 99, 160, 0, 7, 3, 167, 0, 12, 29, 158, 0, 7]
abbrev dktX3_purity_0 : List UInt8 := dkwX3_purity_0 ++ dktX3_purity_1
theorem dksX3_purity_0 : cX3_purity.data.toList.drop 0 = dktX3_purity_0 := by decide +kernel
theorem dksX3_purity_1 : cX3_purity.data.toList.drop 24 = dktX3_purity_1 := dk_seg dksX3_purity_0 24 rfl rfl
theorem dX3_purity_0 : decode cX3_purity 0 = .ok (.aload_n 0, 1) := dk_42 (dk_at dksX3_purity_0 0 rfl rfl)
theorem dX3_purity_1 : decode cX3_purity 1 = .ok (.iload_n 1, 1) := dk_27 (dk_at dksX3_purity_0 1 rfl rfl)
theorem dX3_purity_2 : decode cX3_purity 2 = .ok (.iload_n 2, 1) := dk_28 (dk_at dksX3_purity_0 2 rfl rfl)
theorem dX3_purity_3 : decode cX3_purity 3 = .ok (.invokevirtual 109, 3) := dk_182 0 109 (dk_at dksX3_purity_0 3 rfl rfl)
theorem dX3_purity_6 : decode cX3_purity 6 = .ok (.istore_n 3, 1) := dk_62 (dk_at dksX3_purity_0 6 rfl rfl)
theorem dX3_purity_7 : decode cX3_purity 7 = .ok (.iload_n 3, 1) := dk_29 (dk_at dksX3_purity_0 7 rfl rfl)
theorem dX3_purity_8 : decode cX3_purity 8 = .ok (.aload_n 0, 1) := dk_42 (dk_at dksX3_purity_0 8 rfl rfl)
theorem dX3_purity_9 : decode cX3_purity 9 = .ok (.iload_n 1, 1) := dk_27 (dk_at dksX3_purity_0 9 rfl rfl)
theorem dX3_purity_10 : decode cX3_purity 10 = .ok (.invokevirtual 99, 3) := dk_182 0 99 (dk_at dksX3_purity_0 10 rfl rfl)
theorem dX3_purity_13 : decode cX3_purity 13 = .ok (.if_icmp .ne 7, 3) := dk_160 0 7 (dk_at dksX3_purity_0 13 rfl rfl)
theorem dX3_purity_16 : decode cX3_purity 16 = .ok (.iconst 0, 1) := dk_3 (dk_at dksX3_purity_0 16 rfl rfl)
theorem dX3_purity_17 : decode cX3_purity 17 = .ok (.goto 12, 3) := dk_167 0 12 (dk_at dksX3_purity_0 17 rfl rfl)
theorem dX3_purity_20 : decode cX3_purity 20 = .ok (.iload_n 3, 1) := dk_29 (dk_at dksX3_purity_0 20 rfl rfl)
theorem dX3_purity_21 : decode cX3_purity 21 = .ok (.ifCond .le 7, 3) := dk_158 0 7 (dk_at dksX3_purity_0 21 rfl rfl)
theorem dX3_purity_24 : decode cX3_purity 24 = .ok (.iconst 1, 1) := dk_4 (dk_at dksX3_purity_1 0 rfl rfl)
theorem dX3_purity_25 : decode cX3_purity 25 = .ok (.goto 4, 3) := dk_167 0 4 (dk_at dksX3_purity_1 1 rfl rfl)
theorem dX3_purity_28 : decode cX3_purity 28 = .ok (.iconst 2, 1) := dk_5 (dk_at dksX3_purity_1 4 rfl rfl)
theorem dX3_purity_29 : decode cX3_purity 29 = .ok (.ireturn, 1) := dk_172 (dk_at dksX3_purity_1 5 rfl rfl)
abbrev cX3_own : ByteArray := prog_15_method_7_code
def yX3_own : MethodName := ⟨RX3, "own", "(II)I"⟩
def dkwX3_own_2 : List UInt8 := [182, 0, 106, 46, 28, 160, 0, 7, 4, 167, 0, 4, 3, 96, 62, 132, 4, 1, 167, 255, 197, 29, 172]
abbrev dktX3_own_2 : List UInt8 := dkwX3_own_2 ++ []
def dkwX3_own_1 : List UInt8 := [180, 0, 103, 42, 180, 0, 3, 180, 0, 37, 42, 180, 0, 41, 42, 180, 0, 19, 27, 46, 21, 4, 96]
abbrev dktX3_own_1 : List UInt8 := dkwX3_own_1 ++ dktX3_own_2
def dkwX3_own_0 : List UInt8 := [3, 62, 3, 54, 4, 21, 4, 42, 27, 182, 0, 99, 162, 0, 55, 29, 42, 180, 0, 3, 180, 0, 37]
abbrev dktX3_own_0 : List UInt8 := dkwX3_own_0 ++ dktX3_own_1
theorem dksX3_own_0 : cX3_own.data.toList.drop 0 = dktX3_own_0 := by decide +kernel
theorem dksX3_own_1 : cX3_own.data.toList.drop 23 = dktX3_own_1 := dk_seg dksX3_own_0 23 rfl rfl
theorem dksX3_own_2 : cX3_own.data.toList.drop 46 = dktX3_own_2 := dk_seg dksX3_own_1 23 rfl rfl
theorem dX3_own_0 : decode cX3_own 0 = .ok (.iconst 0, 1) := dk_3 (dk_at dksX3_own_0 0 rfl rfl)
theorem dX3_own_1 : decode cX3_own 1 = .ok (.istore_n 3, 1) := dk_62 (dk_at dksX3_own_0 1 rfl rfl)
theorem dX3_own_2 : decode cX3_own 2 = .ok (.iconst 0, 1) := dk_3 (dk_at dksX3_own_0 2 rfl rfl)
theorem dX3_own_3 : decode cX3_own 3 = .ok (.istore 4, 2) := dk_54 4 (dk_at dksX3_own_0 3 rfl rfl)
theorem dX3_own_5 : decode cX3_own 5 = .ok (.iload 4, 2) := dk_21 4 (dk_at dksX3_own_0 5 rfl rfl)
theorem dX3_own_7 : decode cX3_own 7 = .ok (.aload_n 0, 1) := dk_42 (dk_at dksX3_own_0 7 rfl rfl)
theorem dX3_own_8 : decode cX3_own 8 = .ok (.iload_n 1, 1) := dk_27 (dk_at dksX3_own_0 8 rfl rfl)
theorem dX3_own_9 : decode cX3_own 9 = .ok (.invokevirtual 99, 3) := dk_182 0 99 (dk_at dksX3_own_0 9 rfl rfl)
theorem dX3_own_12 : decode cX3_own 12 = .ok (.if_icmp .ge 55, 3) := dk_162 0 55 (dk_at dksX3_own_0 12 rfl rfl)
theorem dX3_own_15 : decode cX3_own 15 = .ok (.iload_n 3, 1) := dk_29 (dk_at dksX3_own_0 15 rfl rfl)
theorem dX3_own_16 : decode cX3_own 16 = .ok (.aload_n 0, 1) := dk_42 (dk_at dksX3_own_0 16 rfl rfl)
theorem dX3_own_17 : decode cX3_own 17 = .ok (.getfield 3, 3) := dk_180 0 3 (dk_at dksX3_own_0 17 rfl rfl)
theorem dX3_own_20 : decode cX3_own 20 = .ok (.getfield 37, 3) := dk_180 0 37 (dk_at dksX3_own_0 20 rfl rfl)
theorem dX3_own_23 : decode cX3_own 23 = .ok (.getfield 103, 3) := dk_180 0 103 (dk_at dksX3_own_1 0 rfl rfl)
theorem dX3_own_26 : decode cX3_own 26 = .ok (.aload_n 0, 1) := dk_42 (dk_at dksX3_own_1 3 rfl rfl)
theorem dX3_own_27 : decode cX3_own 27 = .ok (.getfield 3, 3) := dk_180 0 3 (dk_at dksX3_own_1 4 rfl rfl)
theorem dX3_own_30 : decode cX3_own 30 = .ok (.getfield 37, 3) := dk_180 0 37 (dk_at dksX3_own_1 7 rfl rfl)
theorem dX3_own_33 : decode cX3_own 33 = .ok (.aload_n 0, 1) := dk_42 (dk_at dksX3_own_1 10 rfl rfl)
theorem dX3_own_34 : decode cX3_own 34 = .ok (.getfield 41, 3) := dk_180 0 41 (dk_at dksX3_own_1 11 rfl rfl)
theorem dX3_own_37 : decode cX3_own 37 = .ok (.aload_n 0, 1) := dk_42 (dk_at dksX3_own_1 14 rfl rfl)
theorem dX3_own_38 : decode cX3_own 38 = .ok (.getfield 19, 3) := dk_180 0 19 (dk_at dksX3_own_1 15 rfl rfl)
theorem dX3_own_41 : decode cX3_own 41 = .ok (.iload_n 1, 1) := dk_27 (dk_at dksX3_own_1 18 rfl rfl)
theorem dX3_own_42 : decode cX3_own 42 = .ok (.iaload, 1) := dk_46 (dk_at dksX3_own_1 19 rfl rfl)
theorem dX3_own_43 : decode cX3_own 43 = .ok (.iload 4, 2) := dk_21 4 (dk_at dksX3_own_1 20 rfl rfl)
theorem dX3_own_45 : decode cX3_own 45 = .ok (.iadd, 1) := dk_96 (dk_at dksX3_own_1 22 rfl rfl)
theorem dX3_own_46 : decode cX3_own 46 = .ok (.invokevirtual 106, 3) := dk_182 0 106 (dk_at dksX3_own_2 0 rfl rfl)
theorem dX3_own_49 : decode cX3_own 49 = .ok (.iaload, 1) := dk_46 (dk_at dksX3_own_2 3 rfl rfl)
theorem dX3_own_50 : decode cX3_own 50 = .ok (.iload_n 2, 1) := dk_28 (dk_at dksX3_own_2 4 rfl rfl)
theorem dX3_own_51 : decode cX3_own 51 = .ok (.if_icmp .ne 7, 3) := dk_160 0 7 (dk_at dksX3_own_2 5 rfl rfl)
theorem dX3_own_54 : decode cX3_own 54 = .ok (.iconst 1, 1) := dk_4 (dk_at dksX3_own_2 8 rfl rfl)
theorem dX3_own_55 : decode cX3_own 55 = .ok (.goto 4, 3) := dk_167 0 4 (dk_at dksX3_own_2 9 rfl rfl)
theorem dX3_own_58 : decode cX3_own 58 = .ok (.iconst 0, 1) := dk_3 (dk_at dksX3_own_2 12 rfl rfl)
theorem dX3_own_59 : decode cX3_own 59 = .ok (.iadd, 1) := dk_96 (dk_at dksX3_own_2 13 rfl rfl)
theorem dX3_own_60 : decode cX3_own 60 = .ok (.istore_n 3, 1) := dk_62 (dk_at dksX3_own_2 14 rfl rfl)
theorem dX3_own_61 : decode cX3_own 61 = .ok (.iinc 4 1, 3) := dk_132 4 1 (dk_at dksX3_own_2 15 rfl rfl)
theorem dX3_own_64 : decode cX3_own 64 = .ok (.goto (-59), 3) := dk_167 255 197 (dk_at dksX3_own_2 18 rfl rfl)
theorem dX3_own_67 : decode cX3_own 67 = .ok (.iload_n 3, 1) := dk_29 (dk_at dksX3_own_2 21 rfl rfl)
theorem dX3_own_68 : decode cX3_own 68 = .ok (.ireturn, 1) := dk_172 (dk_at dksX3_own_2 22 rfl rfl)
abbrev cX3_has : ByteArray := prog_15_method_5_code
def yX3_has : MethodName := ⟨RX3, "has", "(I)Z"⟩
def dkwX3_has_1 : List UInt8 := [132, 2, 1, 167, 255, 233, 3, 172]
abbrev dktX3_has_1 : List UInt8 := dkwX3_has_1 ++ []
def dkwX3_has_0 : List UInt8 := [3, 61, 28, 42, 180, 0, 85, 162, 0, 21, 42, 180, 0, 15, 28, 46, 27, 160, 0, 5, 4, 172]
abbrev dktX3_has_0 : List UInt8 := dkwX3_has_0 ++ dktX3_has_1
theorem dksX3_has_0 : cX3_has.data.toList.drop 0 = dktX3_has_0 := by decide +kernel
theorem dksX3_has_1 : cX3_has.data.toList.drop 22 = dktX3_has_1 := dk_seg dksX3_has_0 22 rfl rfl
theorem dX3_has_0 : decode cX3_has 0 = .ok (.iconst 0, 1) := dk_3 (dk_at dksX3_has_0 0 rfl rfl)
theorem dX3_has_1 : decode cX3_has 1 = .ok (.istore_n 2, 1) := dk_61 (dk_at dksX3_has_0 1 rfl rfl)
theorem dX3_has_2 : decode cX3_has 2 = .ok (.iload_n 2, 1) := dk_28 (dk_at dksX3_has_0 2 rfl rfl)
theorem dX3_has_3 : decode cX3_has 3 = .ok (.aload_n 0, 1) := dk_42 (dk_at dksX3_has_0 3 rfl rfl)
theorem dX3_has_4 : decode cX3_has 4 = .ok (.getfield 85, 3) := dk_180 0 85 (dk_at dksX3_has_0 4 rfl rfl)
theorem dX3_has_7 : decode cX3_has 7 = .ok (.if_icmp .ge 21, 3) := dk_162 0 21 (dk_at dksX3_has_0 7 rfl rfl)
theorem dX3_has_10 : decode cX3_has 10 = .ok (.aload_n 0, 1) := dk_42 (dk_at dksX3_has_0 10 rfl rfl)
theorem dX3_has_11 : decode cX3_has 11 = .ok (.getfield 15, 3) := dk_180 0 15 (dk_at dksX3_has_0 11 rfl rfl)
theorem dX3_has_14 : decode cX3_has 14 = .ok (.iload_n 2, 1) := dk_28 (dk_at dksX3_has_0 14 rfl rfl)
theorem dX3_has_15 : decode cX3_has 15 = .ok (.iaload, 1) := dk_46 (dk_at dksX3_has_0 15 rfl rfl)
theorem dX3_has_16 : decode cX3_has 16 = .ok (.iload_n 1, 1) := dk_27 (dk_at dksX3_has_0 16 rfl rfl)
theorem dX3_has_17 : decode cX3_has 17 = .ok (.if_icmp .ne 5, 3) := dk_160 0 5 (dk_at dksX3_has_0 17 rfl rfl)
theorem dX3_has_20 : decode cX3_has 20 = .ok (.iconst 1, 1) := dk_4 (dk_at dksX3_has_0 20 rfl rfl)
theorem dX3_has_21 : decode cX3_has 21 = .ok (.ireturn, 1) := dk_172 (dk_at dksX3_has_0 21 rfl rfl)
theorem dX3_has_22 : decode cX3_has 22 = .ok (.iinc 2 1, 3) := dk_132 2 1 (dk_at dksX3_has_1 0 rfl rfl)
theorem dX3_has_25 : decode cX3_has 25 = .ok (.goto (-23), 3) := dk_167 255 233 (dk_at dksX3_has_1 3 rfl rfl)
theorem dX3_has_28 : decode cX3_has 28 = .ok (.iconst 0, 1) := dk_3 (dk_at dksX3_has_1 6 rfl rfl)
theorem dX3_has_29 : decode cX3_has 29 = .ok (.ireturn, 1) := dk_172 (dk_at dksX3_has_1 7 rfl rfl)
abbrev cX3_isAsTold : ByteArray := prog_15_method_11_code
def yX3_isAsTold : MethodName := ⟨RX3, "isAsTold", "(LOneDrum$Hearing;I)Z"⟩
def dkwX3_isAsTold_2 : List UInt8 := [180, 0, 124, 16, 6, 28, 104, 29, 96, 46, 159, 0, 5, 3, 172, 132, 3, 1, 167, 255, 223, 4, 172]
abbrev dktX3_isAsTold_2 : List UInt8 := dkwX3_isAsTold_2 ++ []
def dkwX3_isAsTold_1 : List UInt8 := [28, 46, 159, 0, 5, 3, 172, 3, 62, 29, 42, 180, 0, 85, 162, 0, 31, 42, 180, 0, 15, 29, 46, 43]
abbrev dktX3_isAsTold_1 : List UInt8 := dkwX3_isAsTold_1 ++ dktX3_isAsTold_2
def dkwX3_isAsTold_0 : List UInt8 := [43, 180, 0, 116, 28, 46, 2, 160, 0, 5, 4, 172, 42, 28, 182, 0, 120, 180, 0, 85, 43, 180, 0, 116]
abbrev dktX3_isAsTold_0 : List UInt8 := dkwX3_isAsTold_0 ++ dktX3_isAsTold_1
theorem dksX3_isAsTold_0 : cX3_isAsTold.data.toList.drop 0 = dktX3_isAsTold_0 := by decide +kernel
theorem dksX3_isAsTold_1 : cX3_isAsTold.data.toList.drop 24 = dktX3_isAsTold_1 := dk_seg dksX3_isAsTold_0 24 rfl rfl
theorem dksX3_isAsTold_2 : cX3_isAsTold.data.toList.drop 48 = dktX3_isAsTold_2 := dk_seg dksX3_isAsTold_1 24 rfl rfl
theorem dX3_isAsTold_0 : decode cX3_isAsTold 0 = .ok (.aload_n 1, 1) := dk_43 (dk_at dksX3_isAsTold_0 0 rfl rfl)
theorem dX3_isAsTold_1 : decode cX3_isAsTold 1 = .ok (.getfield 116, 3) := dk_180 0 116 (dk_at dksX3_isAsTold_0 1 rfl rfl)
theorem dX3_isAsTold_4 : decode cX3_isAsTold 4 = .ok (.iload_n 2, 1) := dk_28 (dk_at dksX3_isAsTold_0 4 rfl rfl)
theorem dX3_isAsTold_5 : decode cX3_isAsTold 5 = .ok (.iaload, 1) := dk_46 (dk_at dksX3_isAsTold_0 5 rfl rfl)
theorem dX3_isAsTold_6 : decode cX3_isAsTold 6 = .ok (.iconst (-1), 1) := dk_2 (dk_at dksX3_isAsTold_0 6 rfl rfl)
theorem dX3_isAsTold_7 : decode cX3_isAsTold 7 = .ok (.if_icmp .ne 5, 3) := dk_160 0 5 (dk_at dksX3_isAsTold_0 7 rfl rfl)
theorem dX3_isAsTold_10 : decode cX3_isAsTold 10 = .ok (.iconst 1, 1) := dk_4 (dk_at dksX3_isAsTold_0 10 rfl rfl)
theorem dX3_isAsTold_11 : decode cX3_isAsTold 11 = .ok (.ireturn, 1) := dk_172 (dk_at dksX3_isAsTold_0 11 rfl rfl)
theorem dX3_isAsTold_12 : decode cX3_isAsTold 12 = .ok (.aload_n 0, 1) := dk_42 (dk_at dksX3_isAsTold_0 12 rfl rfl)
theorem dX3_isAsTold_13 : decode cX3_isAsTold 13 = .ok (.iload_n 2, 1) := dk_28 (dk_at dksX3_isAsTold_0 13 rfl rfl)
theorem dX3_isAsTold_14 : decode cX3_isAsTold 14 = .ok (.invokevirtual 120, 3) := dk_182 0 120 (dk_at dksX3_isAsTold_0 14 rfl rfl)
theorem dX3_isAsTold_17 : decode cX3_isAsTold 17 = .ok (.getfield 85, 3) := dk_180 0 85 (dk_at dksX3_isAsTold_0 17 rfl rfl)
theorem dX3_isAsTold_20 : decode cX3_isAsTold 20 = .ok (.aload_n 1, 1) := dk_43 (dk_at dksX3_isAsTold_0 20 rfl rfl)
theorem dX3_isAsTold_21 : decode cX3_isAsTold 21 = .ok (.getfield 116, 3) := dk_180 0 116 (dk_at dksX3_isAsTold_0 21 rfl rfl)
theorem dX3_isAsTold_24 : decode cX3_isAsTold 24 = .ok (.iload_n 2, 1) := dk_28 (dk_at dksX3_isAsTold_1 0 rfl rfl)
theorem dX3_isAsTold_25 : decode cX3_isAsTold 25 = .ok (.iaload, 1) := dk_46 (dk_at dksX3_isAsTold_1 1 rfl rfl)
theorem dX3_isAsTold_26 : decode cX3_isAsTold 26 = .ok (.if_icmp .eq 5, 3) := dk_159 0 5 (dk_at dksX3_isAsTold_1 2 rfl rfl)
theorem dX3_isAsTold_29 : decode cX3_isAsTold 29 = .ok (.iconst 0, 1) := dk_3 (dk_at dksX3_isAsTold_1 5 rfl rfl)
theorem dX3_isAsTold_30 : decode cX3_isAsTold 30 = .ok (.ireturn, 1) := dk_172 (dk_at dksX3_isAsTold_1 6 rfl rfl)
theorem dX3_isAsTold_31 : decode cX3_isAsTold 31 = .ok (.iconst 0, 1) := dk_3 (dk_at dksX3_isAsTold_1 7 rfl rfl)
theorem dX3_isAsTold_32 : decode cX3_isAsTold 32 = .ok (.istore_n 3, 1) := dk_62 (dk_at dksX3_isAsTold_1 8 rfl rfl)
theorem dX3_isAsTold_33 : decode cX3_isAsTold 33 = .ok (.iload_n 3, 1) := dk_29 (dk_at dksX3_isAsTold_1 9 rfl rfl)
theorem dX3_isAsTold_34 : decode cX3_isAsTold 34 = .ok (.aload_n 0, 1) := dk_42 (dk_at dksX3_isAsTold_1 10 rfl rfl)
theorem dX3_isAsTold_35 : decode cX3_isAsTold 35 = .ok (.getfield 85, 3) := dk_180 0 85 (dk_at dksX3_isAsTold_1 11 rfl rfl)
theorem dX3_isAsTold_38 : decode cX3_isAsTold 38 = .ok (.if_icmp .ge 31, 3) := dk_162 0 31 (dk_at dksX3_isAsTold_1 14 rfl rfl)
theorem dX3_isAsTold_41 : decode cX3_isAsTold 41 = .ok (.aload_n 0, 1) := dk_42 (dk_at dksX3_isAsTold_1 17 rfl rfl)
theorem dX3_isAsTold_42 : decode cX3_isAsTold 42 = .ok (.getfield 15, 3) := dk_180 0 15 (dk_at dksX3_isAsTold_1 18 rfl rfl)
theorem dX3_isAsTold_45 : decode cX3_isAsTold 45 = .ok (.iload_n 3, 1) := dk_29 (dk_at dksX3_isAsTold_1 21 rfl rfl)
theorem dX3_isAsTold_46 : decode cX3_isAsTold 46 = .ok (.iaload, 1) := dk_46 (dk_at dksX3_isAsTold_1 22 rfl rfl)
theorem dX3_isAsTold_47 : decode cX3_isAsTold 47 = .ok (.aload_n 1, 1) := dk_43 (dk_at dksX3_isAsTold_1 23 rfl rfl)
theorem dX3_isAsTold_48 : decode cX3_isAsTold 48 = .ok (.getfield 124, 3) := dk_180 0 124 (dk_at dksX3_isAsTold_2 0 rfl rfl)
theorem dX3_isAsTold_51 : decode cX3_isAsTold 51 = .ok (.bipush 6, 2) := dk_16 6 (dk_at dksX3_isAsTold_2 3 rfl rfl)
theorem dX3_isAsTold_53 : decode cX3_isAsTold 53 = .ok (.iload_n 2, 1) := dk_28 (dk_at dksX3_isAsTold_2 5 rfl rfl)
theorem dX3_isAsTold_54 : decode cX3_isAsTold 54 = .ok (.imul, 1) := dk_104 (dk_at dksX3_isAsTold_2 6 rfl rfl)
theorem dX3_isAsTold_55 : decode cX3_isAsTold 55 = .ok (.iload_n 3, 1) := dk_29 (dk_at dksX3_isAsTold_2 7 rfl rfl)
theorem dX3_isAsTold_56 : decode cX3_isAsTold 56 = .ok (.iadd, 1) := dk_96 (dk_at dksX3_isAsTold_2 8 rfl rfl)
theorem dX3_isAsTold_57 : decode cX3_isAsTold 57 = .ok (.iaload, 1) := dk_46 (dk_at dksX3_isAsTold_2 9 rfl rfl)
theorem dX3_isAsTold_58 : decode cX3_isAsTold 58 = .ok (.if_icmp .eq 5, 3) := dk_159 0 5 (dk_at dksX3_isAsTold_2 10 rfl rfl)
theorem dX3_isAsTold_61 : decode cX3_isAsTold 61 = .ok (.iconst 0, 1) := dk_3 (dk_at dksX3_isAsTold_2 13 rfl rfl)
theorem dX3_isAsTold_62 : decode cX3_isAsTold 62 = .ok (.ireturn, 1) := dk_172 (dk_at dksX3_isAsTold_2 14 rfl rfl)
theorem dX3_isAsTold_63 : decode cX3_isAsTold 63 = .ok (.iinc 3 1, 3) := dk_132 3 1 (dk_at dksX3_isAsTold_2 15 rfl rfl)
theorem dX3_isAsTold_66 : decode cX3_isAsTold 66 = .ok (.goto (-33), 3) := dk_167 255 223 (dk_at dksX3_isAsTold_2 18 rfl rfl)
theorem dX3_isAsTold_69 : decode cX3_isAsTold 69 = .ok (.iconst 1, 1) := dk_4 (dk_at dksX3_isAsTold_2 21 rfl rfl)
theorem dX3_isAsTold_70 : decode cX3_isAsTold 70 = .ok (.ireturn, 1) := dk_172 (dk_at dksX3_isAsTold_2 22 rfl rfl)
theorem q124 : (Jvm.Cond.initialized "OneDrum$Sense") ∈ lw_all := lw_g (lw_at lw_m1 7 rfl) rfl
theorem q271 : (Jvm.Cond.fieldLink "OneDrum$Sense" (103 : Nat) "OneDrum$Drum" "giver" "[I") ∈ lw_all := lw_g (lw_at lw_m1 154 rfl) rfl
theorem q276 : (Jvm.Cond.fieldLink "OneDrum$Sense" (112 : Nat) "OneDrum$Drum" "echo" "[Z") ∈ lw_all := lw_g (lw_at lw_m1 159 rfl) rfl
theorem q298 : (Jvm.Cond.instantiable "OneDrum$Sense" (7 : Nat)) ∈ lw_all := lw_g (lw_at lw_m1 181 rfl) rfl
theorem q300 : (Jvm.Cond.instanceMethod ({ cls := "OneDrum$Sense", name := "<init>", desc := "(LOneDrum;)V" } : Jvm.MethodName)) ∈ lw_all := lw_g (lw_at lw_m1 183 rfl) rfl
theorem q301 : (Jvm.Cond.code ({ cls := "OneDrum$Sense", name := "<init>", desc := "(LOneDrum;)V" } : Jvm.MethodName) prog_15_method_1_code (2 : Nat) (Option.none : Option Jvm.ClassFile.FieldType)) ∈ lw_all := lw_g (lw_at lw_m1 184 rfl) rfl
theorem q302 : (Jvm.Cond.methodLink "OneDrum$Sense" (9 : Nat) ({ cls := "java/lang/Object", name := "<init>", desc := "()V" } : Jvm.MethodName)) ∈ lw_all := lw_g (lw_at lw_m1 185 rfl) rfl
theorem q303 : (Jvm.Cond.fieldLink "OneDrum$Sense" (15 : Nat) "OneDrum$Sense" "move" "[I") ∈ lw_all := lw_g (lw_at lw_m1 186 rfl) rfl
theorem q305 : (Jvm.Cond.fieldLink "OneDrum$Sense" (19 : Nat) "OneDrum$Sense" "first" "[I") ∈ lw_all := lw_g (lw_at lw_m1 188 rfl) rfl
theorem q306 : (Jvm.Cond.fieldLink "OneDrum$Sense" (22 : Nat) "OneDrum$Sense" "order" "[I") ∈ lw_all := lw_g (lw_at lw_m1 189 rfl) rfl
theorem q308 : (Jvm.Cond.fieldLink "OneDrum$Sense" (85 : Nat) "OneDrum$Sense" "many" "I") ∈ lw_all := lw_g (lw_at lw_m1 191 rfl) rfl
theorem q310 : (Jvm.Cond.fieldLink "OneDrum$Sense" (86 : Nat) "OneDrum$Sense" "danced" "I") ∈ lw_all := lw_g (lw_at lw_m1 193 rfl) rfl
theorem q312 : (Jvm.Cond.fieldLink "OneDrum$Sense" (41 : Nat) "OneDrum$Sense" "a" "LOneDrum$Army;") ∈ lw_all := lw_g (lw_at lw_m1 195 rfl) rfl
theorem q313 : (Jvm.Cond.fieldLink "OneDrum$Sense" (3 : Nat) "OneDrum$Sense" "this$0" "LOneDrum;") ∈ lw_all := lw_g (lw_at lw_m1 196 rfl) rfl
theorem q314 : (Jvm.Cond.laysFinal "OneDrum$Sense" "OneDrum$Sense" "move" "[I") ∈ lw_all := lw_g (lw_at lw_m1 197 rfl) rfl
theorem q315 : (Jvm.Cond.soleField "OneDrum$Sense" "move") ∈ lw_all := lw_g (lw_at lw_m1 198 rfl) rfl
theorem q316 : (Jvm.Cond.laysFinal "OneDrum$Sense" "OneDrum$Sense" "first" "[I") ∈ lw_all := lw_g (lw_at lw_m1 199 rfl) rfl
theorem q317 : (Jvm.Cond.soleField "OneDrum$Sense" "first") ∈ lw_all := lw_g (lw_at lw_m1 200 rfl) rfl
theorem q318 : (Jvm.Cond.laysFinal "OneDrum$Sense" "OneDrum$Sense" "order" "[I") ∈ lw_all := lw_g (lw_at lw_m1 201 rfl) rfl
theorem q319 : (Jvm.Cond.soleField "OneDrum$Sense" "order") ∈ lw_all := lw_g (lw_at lw_m1 202 rfl) rfl
theorem q320 : (Jvm.Cond.lays "OneDrum$Sense" "OneDrum$Sense" "many" "I") ∈ lw_all := lw_g (lw_at lw_m1 203 rfl) rfl
theorem q321 : (Jvm.Cond.soleField "OneDrum$Sense" "many") ∈ lw_all := lw_g (lw_at lw_m1 204 rfl) rfl
theorem q322 : (Jvm.Cond.lays "OneDrum$Sense" "OneDrum$Sense" "danced" "I") ∈ lw_all := lw_g (lw_at lw_m1 205 rfl) rfl
theorem q323 : (Jvm.Cond.soleField "OneDrum$Sense" "danced") ∈ lw_all := lw_g (lw_at lw_m1 206 rfl) rfl
theorem q324 : (Jvm.Cond.lays "OneDrum$Sense" "OneDrum$Sense" "a" "LOneDrum$Army;") ∈ lw_all := lw_g (lw_at lw_m1 207 rfl) rfl
theorem q325 : (Jvm.Cond.soleField "OneDrum$Sense" "a") ∈ lw_all := lw_g (lw_at lw_m1 208 rfl) rfl
theorem q326 : (Jvm.Cond.laysFinal "OneDrum$Sense" "OneDrum$Sense" "this$0" "LOneDrum;") ∈ lw_all := lw_g (lw_at lw_m1 209 rfl) rfl
theorem q327 : (Jvm.Cond.soleField "OneDrum$Sense" "this$0") ∈ lw_all := lw_g (lw_at lw_m1 210 rfl) rfl
theorem q328 : (Jvm.Cond.superclass "OneDrum$Sense" "java/lang/Object") ∈ lw_all := lw_g (lw_at lw_m1 211 rfl) rfl
theorem q336 : (Jvm.Cond.fieldLink "OneDrum$Sense" (51 : Nat) "OneDrum$Beats" "at" "[B") ∈ lw_all := lw_g (lw_at lw_m1 219 rfl) rfl
theorem q345 : (Jvm.Cond.fieldLink "OneDrum$Sense" (31 : Nat) "OneDrum$Beats" "many" "I") ∈ lw_all := lw_g (lw_at lw_m1 228 rfl) rfl
theorem q379 : (Jvm.Cond.fieldLinkNest "OneDrum$Sense" (37 : Nat) "OneDrum" "drum" "LOneDrum$Drum;" "OneDrum") ∈ lw_tbl := lw_at lw_m2 22 rfl
theorem q383 : (Jvm.Cond.fieldLinkNest "OneDrum$Sense" (75 : Nat) "OneDrum" "war" "LOneDrum$War;" "OneDrum") ∈ lw_tbl := lw_at lw_m2 26 rfl
theorem q537 : (Jvm.Cond.fieldLink "OneDrum$Sense" (55 : Nat) "OneDrum$Army" "orders" "Ljava/util/ArrayList;") ∈ lw_all := lw_g (lw_at lw_m2 180 rfl) rfl
theorem q567 : (Jvm.Cond.fieldLink "OneDrum$Sense" (79 : Nat) "OneDrum$War" "armies" "[LOneDrum$Army;") ∈ lw_all := lw_g (lw_at lw_m2 210 rfl) rfl
theorem q686 : (Jvm.Cond.fieldLink "OneDrum$Sense" (116 : Nat) "OneDrum$Hearing" "many" "[I") ∈ lw_all := lw_g (lw_at lw_m3 89 rfl) rfl
theorem q690 : (Jvm.Cond.fieldLink "OneDrum$Sense" (124 : Nat) "OneDrum$Hearing" "moves" "[I") ∈ lw_all := lw_g (lw_at lw_m3 93 rfl) rfl
theorem q1109 : (Jvm.Cond.selects "OneDrum$Sense" ({ cls := "java/lang/Object", name := "getClass", desc := "()Ljava/lang/Class;" } : Jvm.MethodName) ({ cls := "java/lang/Object", name := "getClass", desc := "()Ljava/lang/Class;" } : Jvm.MethodName)) ∈ lw_all := lw_g (lw_at lw_m5 32 rfl) rfl
theorem q1176 : (Jvm.Cond.fieldLink "OneDrum$Sense" (97 : Nat) "OneDrum$Order" "move" "I") ∈ lw_all := lw_g (lw_at lw_m5 99 rfl) rfl
theorem q1179 : (Jvm.Cond.fieldLink "OneDrum$Sense" (25 : Nat) "OneDrum$Order" "code" "LOneDrum$Beats;") ∈ lw_all := lw_g (lw_at lw_m5 102 rfl) rfl
theorem q1306 : (Jvm.Cond.instanceMethod ({ cls := "OneDrum$Sense", name := "of", desc := "(I)LOneDrum$Sense;" } : Jvm.MethodName)) ∈ lw_all := lw_g (lw_at lw_m5 229 rfl) rfl
theorem q1307 : (Jvm.Cond.selects "OneDrum$Sense" ({ cls := "OneDrum$Sense", name := "of", desc := "(I)LOneDrum$Sense;" } : Jvm.MethodName) ({ cls := "OneDrum$Sense", name := "of", desc := "(I)LOneDrum$Sense;" } : Jvm.MethodName)) ∈ lw_all := lw_g (lw_at lw_m5 230 rfl) rfl
theorem q1308 : (Jvm.Cond.code ({ cls := "OneDrum$Sense", name := "of", desc := "(I)LOneDrum$Sense;" } : Jvm.MethodName) prog_15_method_4_code (5 : Nat) (Option.some (Jvm.ClassFile.FieldType.object "OneDrum$Sense"))) ∈ lw_all := lw_g (lw_at lw_m5 231 rfl) rfl
theorem q1309 : (Jvm.Cond.methodLink "OneDrum$Sense" (89 : Nat) ({ cls := "OneDrum$Drum", name := "heardMany", desc := "(LOneDrum$Army;)I" } : Jvm.MethodName)) ∈ lw_all := lw_g (lw_at lw_m5 232 rfl) rfl
theorem q1310 : (Jvm.Cond.methodLink "OneDrum$Sense" (93 : Nat) ({ cls := "OneDrum$Sense", name := "longest", desc := "(II)I" } : Jvm.MethodName)) ∈ lw_all := lw_g (lw_at lw_m5 233 rfl) rfl
theorem q1311 : (Jvm.Cond.privateMethod ({ cls := "OneDrum$Sense", name := "longest", desc := "(II)I" } : Jvm.MethodName)) ∈ lw_tbl := lw_at lw_m5 234 rfl
theorem q1312 : (Jvm.Cond.instanceMethod ({ cls := "OneDrum$Sense", name := "longest", desc := "(II)I" } : Jvm.MethodName)) ∈ lw_all := lw_g (lw_at lw_m5 235 rfl) rfl
theorem q1313 : (Jvm.Cond.code ({ cls := "OneDrum$Sense", name := "longest", desc := "(II)I" } : Jvm.MethodName) prog_15_method_3_code (6 : Nat) (Option.some Jvm.ClassFile.FieldType.int)) ∈ lw_all := lw_g (lw_at lw_m5 236 rfl) rfl
theorem q1314 : (Jvm.Cond.methodLink "OneDrum$Sense" (61 : Nat) ({ cls := "java/util/ArrayList", name := "size", desc := "()I" } : Jvm.MethodName)) ∈ lw_all := lw_g (lw_at lw_m5 237 rfl) rfl
theorem q1315 : (Jvm.Cond.methodLink "OneDrum$Sense" (67 : Nat) ({ cls := "java/util/ArrayList", name := "get", desc := "(I)Ljava/lang/Object;" } : Jvm.MethodName)) ∈ lw_all := lw_g (lw_at lw_m5 238 rfl) rfl
theorem q1316 : (Jvm.Cond.classLink "OneDrum$Sense" (26 : Nat) "OneDrum$Order") ∈ lw_all := lw_g (lw_at lw_m5 239 rfl) rfl
theorem q1317 : (Jvm.Cond.methodLink "OneDrum$Sense" (71 : Nat) ({ cls := "OneDrum$Sense", name := "fits", desc := "(LOneDrum$Order;II)Z" } : Jvm.MethodName)) ∈ lw_all := lw_g (lw_at lw_m6 0 rfl) rfl
theorem q1318 : (Jvm.Cond.privateMethod ({ cls := "OneDrum$Sense", name := "fits", desc := "(LOneDrum$Order;II)Z" } : Jvm.MethodName)) ∈ lw_tbl := lw_at lw_m6 1 rfl
theorem q1319 : (Jvm.Cond.instanceMethod ({ cls := "OneDrum$Sense", name := "fits", desc := "(LOneDrum$Order;II)Z" } : Jvm.MethodName)) ∈ lw_all := lw_g (lw_at lw_m6 2 rfl) rfl
theorem q1320 : (Jvm.Cond.code ({ cls := "OneDrum$Sense", name := "fits", desc := "(LOneDrum$Order;II)Z" } : Jvm.MethodName) prog_15_method_2_code (5 : Nat) (Option.some Jvm.ClassFile.FieldType.boolean)) ∈ lw_all := lw_g (lw_at lw_m6 3 rfl) rfl
theorem q1321 : (Jvm.Cond.methodLink "OneDrum$Sense" (45 : Nat) ({ cls := "OneDrum$Drum", name := "heard", desc := "(LOneDrum$Army;I)I" } : Jvm.MethodName)) ∈ lw_all := lw_g (lw_at lw_m6 4 rfl) rfl
theorem q1323 : (Jvm.Cond.instanceMethod ({ cls := "OneDrum$Sense", name := "echoed", desc := "()I" } : Jvm.MethodName)) ∈ lw_all := lw_g (lw_at lw_m6 6 rfl) rfl
theorem q1324 : (Jvm.Cond.selects "OneDrum$Sense" ({ cls := "OneDrum$Sense", name := "echoed", desc := "()I" } : Jvm.MethodName) ({ cls := "OneDrum$Sense", name := "echoed", desc := "()I" } : Jvm.MethodName)) ∈ lw_all := lw_g (lw_at lw_m6 7 rfl) rfl
theorem q1325 : (Jvm.Cond.code ({ cls := "OneDrum$Sense", name := "echoed", desc := "()I" } : Jvm.MethodName) prog_15_method_9_code (5 : Nat) (Option.some Jvm.ClassFile.FieldType.int)) ∈ lw_all := lw_g (lw_at lw_m6 8 rfl) rfl
theorem q1326 : (Jvm.Cond.methodLink "OneDrum$Sense" (99 : Nat) ({ cls := "OneDrum$Sense", name := "length", desc := "(I)I" } : Jvm.MethodName)) ∈ lw_all := lw_g (lw_at lw_m6 9 rfl) rfl
theorem q1327 : (Jvm.Cond.privateMethod ({ cls := "OneDrum$Sense", name := "length", desc := "(I)I" } : Jvm.MethodName)) ∈ lw_tbl := lw_at lw_m6 10 rfl
theorem q1328 : (Jvm.Cond.instanceMethod ({ cls := "OneDrum$Sense", name := "length", desc := "(I)I" } : Jvm.MethodName)) ∈ lw_all := lw_g (lw_at lw_m6 11 rfl) rfl
theorem q1329 : (Jvm.Cond.code ({ cls := "OneDrum$Sense", name := "length", desc := "(I)I" } : Jvm.MethodName) prog_15_method_6_code (2 : Nat) (Option.some Jvm.ClassFile.FieldType.int)) ∈ lw_all := lw_g (lw_at lw_m6 12 rfl) rfl
theorem q1330 : (Jvm.Cond.methodLink "OneDrum$Sense" (106 : Nat) ({ cls := "OneDrum$Drum", name := "placeOf", desc := "(LOneDrum$Army;I)I" } : Jvm.MethodName)) ∈ lw_all := lw_g (lw_at lw_m6 13 rfl) rfl
theorem q1332 : (Jvm.Cond.instanceMethod ({ cls := "OneDrum$Sense", name := "place", desc := "(I)I" } : Jvm.MethodName)) ∈ lw_all := lw_g (lw_at lw_m6 15 rfl) rfl
theorem q1333 : (Jvm.Cond.selects "OneDrum$Sense" ({ cls := "OneDrum$Sense", name := "place", desc := "(I)I" } : Jvm.MethodName) ({ cls := "OneDrum$Sense", name := "place", desc := "(I)I" } : Jvm.MethodName)) ∈ lw_all := lw_g (lw_at lw_m6 16 rfl) rfl
theorem q1334 : (Jvm.Cond.code ({ cls := "OneDrum$Sense", name := "place", desc := "(I)I" } : Jvm.MethodName) prog_15_method_10_code (2 : Nat) (Option.some Jvm.ClassFile.FieldType.int)) ∈ lw_all := lw_g (lw_at lw_m6 17 rfl) rfl
theorem q1336 : (Jvm.Cond.instanceMethod ({ cls := "OneDrum$Sense", name := "purity", desc := "(II)I" } : Jvm.MethodName)) ∈ lw_all := lw_g (lw_at lw_m6 19 rfl) rfl
theorem q1337 : (Jvm.Cond.selects "OneDrum$Sense" ({ cls := "OneDrum$Sense", name := "purity", desc := "(II)I" } : Jvm.MethodName) ({ cls := "OneDrum$Sense", name := "purity", desc := "(II)I" } : Jvm.MethodName)) ∈ lw_all := lw_g (lw_at lw_m6 20 rfl) rfl
theorem q1338 : (Jvm.Cond.code ({ cls := "OneDrum$Sense", name := "purity", desc := "(II)I" } : Jvm.MethodName) prog_15_method_8_code (4 : Nat) (Option.some Jvm.ClassFile.FieldType.int)) ∈ lw_all := lw_g (lw_at lw_m6 21 rfl) rfl
theorem q1339 : (Jvm.Cond.methodLink "OneDrum$Sense" (109 : Nat) ({ cls := "OneDrum$Sense", name := "own", desc := "(II)I" } : Jvm.MethodName)) ∈ lw_all := lw_g (lw_at lw_m6 22 rfl) rfl
theorem q1340 : (Jvm.Cond.instanceMethod ({ cls := "OneDrum$Sense", name := "own", desc := "(II)I" } : Jvm.MethodName)) ∈ lw_all := lw_g (lw_at lw_m6 23 rfl) rfl
theorem q1341 : (Jvm.Cond.selects "OneDrum$Sense" ({ cls := "OneDrum$Sense", name := "own", desc := "(II)I" } : Jvm.MethodName) ({ cls := "OneDrum$Sense", name := "own", desc := "(II)I" } : Jvm.MethodName)) ∈ lw_all := lw_g (lw_at lw_m6 24 rfl) rfl
theorem q1342 : (Jvm.Cond.code ({ cls := "OneDrum$Sense", name := "own", desc := "(II)I" } : Jvm.MethodName) prog_15_method_7_code (5 : Nat) (Option.some Jvm.ClassFile.FieldType.int)) ∈ lw_all := lw_g (lw_at lw_m6 25 rfl) rfl
theorem q1386 : (Jvm.Cond.instanceMethod ({ cls := "OneDrum$Sense", name := "has", desc := "(I)Z" } : Jvm.MethodName)) ∈ lw_all := lw_g (lw_at lw_m6 69 rfl) rfl
theorem q1387 : (Jvm.Cond.selects "OneDrum$Sense" ({ cls := "OneDrum$Sense", name := "has", desc := "(I)Z" } : Jvm.MethodName) ({ cls := "OneDrum$Sense", name := "has", desc := "(I)Z" } : Jvm.MethodName)) ∈ lw_all := lw_g (lw_at lw_m6 70 rfl) rfl
theorem q1388 : (Jvm.Cond.code ({ cls := "OneDrum$Sense", name := "has", desc := "(I)Z" } : Jvm.MethodName) prog_15_method_5_code (3 : Nat) (Option.some Jvm.ClassFile.FieldType.boolean)) ∈ lw_all := lw_g (lw_at lw_m6 71 rfl) rfl
theorem q1407 : (Jvm.Cond.instanceMethod ({ cls := "OneDrum$Sense", name := "isAsTold", desc := "(LOneDrum$Hearing;I)Z" } : Jvm.MethodName)) ∈ lw_all := lw_g (lw_at lw_m6 90 rfl) rfl
theorem q1408 : (Jvm.Cond.selects "OneDrum$Sense" ({ cls := "OneDrum$Sense", name := "isAsTold", desc := "(LOneDrum$Hearing;I)Z" } : Jvm.MethodName) ({ cls := "OneDrum$Sense", name := "isAsTold", desc := "(LOneDrum$Hearing;I)Z" } : Jvm.MethodName)) ∈ lw_all := lw_g (lw_at lw_m6 91 rfl) rfl
theorem q1409 : (Jvm.Cond.code ({ cls := "OneDrum$Sense", name := "isAsTold", desc := "(LOneDrum$Hearing;I)Z" } : Jvm.MethodName) prog_15_method_11_code (4 : Nat) (Option.some Jvm.ClassFile.FieldType.boolean)) ∈ lw_all := lw_g (lw_at lw_m6 92 rfl) rfl
theorem q1410 : (Jvm.Cond.methodLink "OneDrum$Sense" (120 : Nat) ({ cls := "OneDrum$Sense", name := "of", desc := "(I)LOneDrum$Sense;" } : Jvm.MethodName)) ∈ lw_all := lw_g (lw_at lw_m6 93 rfl) rfl
theorem q2220 : (Jvm.Cond.castable "OneDrum$Sense" "java/lang/Object") ∈ lw_tbl := lw_at lw_m9 183 rfl
theorem in_X3 : ∀ w ∈ wsX30, w ∈ lw_all := lw_in wsX30 [314, 316, 318, 320, 322, 324, 326] (by decide +kernel) (by decide +kernel)
/-! OneDrum$Beats -/
set_option maxRecDepth 100000
def RX4 : String := "OneDrum$Beats"
def TX4 : u_T := fun k => match k with
  | 0 => ("OneDrum$Beats", "at", "[B", true)
  | _ => ("OneDrum$Beats", "many", "I", false)
def tyX4 : Nat → FieldType := fun k => match k with
  | 0 => .array .byte
  | _ => .int
abbrev wsX40 : List Cond := u_ws RX4 TX4 2
theorem nmX4 : ∀ a, a < 2 → ∀ b, b < 2 → a ≠ b → (TX4 a).2.1 ≠ (TX4 b).2.1 := by decide +kernel
theorem tyX4_ok : ∀ k, k < 2 → parseFieldDescriptor (TX4 k).2.2.1 = some (tyX4 k) := by decide +kernel
abbrev cX4_init : ByteArray := prog_4_method_1_code
def yX4_init : MethodName := ⟨RX4, "<init>", "(I)V"⟩
def dkwX4_init_0 : List UInt8 := [42, 183, 0, 1, 42, 27, 188, 8, 181, 0, 7, 177]
abbrev dktX4_init_0 : List UInt8 := dkwX4_init_0 ++ []
theorem dksX4_init_0 : cX4_init.data.toList.drop 0 = dktX4_init_0 := by decide +kernel
theorem dX4_init_0 : decode cX4_init 0 = .ok (.aload_n 0, 1) := dk_42 (dk_at dksX4_init_0 0 rfl rfl)
theorem dX4_init_1 : decode cX4_init 1 = .ok (.invokespecial 1, 3) := dk_183 0 1 (dk_at dksX4_init_0 1 rfl rfl)
theorem dX4_init_4 : decode cX4_init 4 = .ok (.aload_n 0, 1) := dk_42 (dk_at dksX4_init_0 4 rfl rfl)
theorem dX4_init_5 : decode cX4_init 5 = .ok (.iload_n 1, 1) := dk_27 (dk_at dksX4_init_0 5 rfl rfl)
theorem dX4_init_6 : decode cX4_init 6 = .ok (.newarray .byte, 2) := dk_188_8 (dk_at dksX4_init_0 6 rfl rfl)
theorem dX4_init_8 : decode cX4_init 8 = .ok (.putfield 7, 3) := dk_181 0 7 (dk_at dksX4_init_0 8 rfl rfl)
theorem dX4_init_11 : decode cX4_init 11 = .ok (.return_, 1) := dk_177 (dk_at dksX4_init_0 11 rfl rfl)
abbrev cX4_add : ByteArray := prog_4_method_2_code
def yX4_add : MethodName := ⟨RX4, "add", "(I)V"⟩
def dkwX4_add_1 : List UInt8 := [42, 89, 180, 0, 13, 4, 96, 181, 0, 13, 177]
abbrev dktX4_add_1 : List UInt8 := dkwX4_add_1 ++ []
def dkwX4_add_0 : List UInt8 := [42, 180, 0, 13, 42, 180, 0, 7, 190, 160, 0, 4, 177, 42, 180, 0, 7, 42, 180, 0, 13, 27, 145, 84]
abbrev dktX4_add_0 : List UInt8 := dkwX4_add_0 ++ dktX4_add_1
theorem dksX4_add_0 : cX4_add.data.toList.drop 0 = dktX4_add_0 := by decide +kernel
theorem dksX4_add_1 : cX4_add.data.toList.drop 24 = dktX4_add_1 := dk_seg dksX4_add_0 24 rfl rfl
theorem dX4_add_0 : decode cX4_add 0 = .ok (.aload_n 0, 1) := dk_42 (dk_at dksX4_add_0 0 rfl rfl)
theorem dX4_add_1 : decode cX4_add 1 = .ok (.getfield 13, 3) := dk_180 0 13 (dk_at dksX4_add_0 1 rfl rfl)
theorem dX4_add_4 : decode cX4_add 4 = .ok (.aload_n 0, 1) := dk_42 (dk_at dksX4_add_0 4 rfl rfl)
theorem dX4_add_5 : decode cX4_add 5 = .ok (.getfield 7, 3) := dk_180 0 7 (dk_at dksX4_add_0 5 rfl rfl)
theorem dX4_add_8 : decode cX4_add 8 = .ok (.arraylength, 1) := dk_190 (dk_at dksX4_add_0 8 rfl rfl)
theorem dX4_add_9 : decode cX4_add 9 = .ok (.if_icmp .ne 4, 3) := dk_160 0 4 (dk_at dksX4_add_0 9 rfl rfl)
theorem dX4_add_12 : decode cX4_add 12 = .ok (.return_, 1) := dk_177 (dk_at dksX4_add_0 12 rfl rfl)
theorem dX4_add_13 : decode cX4_add 13 = .ok (.aload_n 0, 1) := dk_42 (dk_at dksX4_add_0 13 rfl rfl)
theorem dX4_add_14 : decode cX4_add 14 = .ok (.getfield 7, 3) := dk_180 0 7 (dk_at dksX4_add_0 14 rfl rfl)
theorem dX4_add_17 : decode cX4_add 17 = .ok (.aload_n 0, 1) := dk_42 (dk_at dksX4_add_0 17 rfl rfl)
theorem dX4_add_18 : decode cX4_add 18 = .ok (.getfield 13, 3) := dk_180 0 13 (dk_at dksX4_add_0 18 rfl rfl)
theorem dX4_add_21 : decode cX4_add 21 = .ok (.iload_n 1, 1) := dk_27 (dk_at dksX4_add_0 21 rfl rfl)
theorem dX4_add_22 : decode cX4_add 22 = .ok (.i2b, 1) := dk_145 (dk_at dksX4_add_0 22 rfl rfl)
theorem dX4_add_23 : decode cX4_add 23 = .ok (.bastore, 1) := dk_84 (dk_at dksX4_add_0 23 rfl rfl)
theorem dX4_add_24 : decode cX4_add 24 = .ok (.aload_n 0, 1) := dk_42 (dk_at dksX4_add_1 0 rfl rfl)
theorem dX4_add_25 : decode cX4_add 25 = .ok (.dup, 1) := dk_89 (dk_at dksX4_add_1 1 rfl rfl)
theorem dX4_add_26 : decode cX4_add 26 = .ok (.getfield 13, 3) := dk_180 0 13 (dk_at dksX4_add_1 2 rfl rfl)
theorem dX4_add_29 : decode cX4_add 29 = .ok (.iconst 1, 1) := dk_4 (dk_at dksX4_add_1 5 rfl rfl)
theorem dX4_add_30 : decode cX4_add 30 = .ok (.iadd, 1) := dk_96 (dk_at dksX4_add_1 6 rfl rfl)
theorem dX4_add_31 : decode cX4_add 31 = .ok (.putfield 13, 3) := dk_181 0 13 (dk_at dksX4_add_1 7 rfl rfl)
theorem dX4_add_34 : decode cX4_add 34 = .ok (.return_, 1) := dk_177 (dk_at dksX4_add_1 10 rfl rfl)
abbrev cX4_lay : ByteArray := prog_4_method_4_code
def yX4_lay : MethodName := ⟨RX4, "lay", "(II)V"⟩
def dkwX4_lay_1 : List UInt8 := [104, 122, 6, 126, 145, 84, 132, 3, 1, 167, 255, 230, 177]
abbrev dktX4_lay_1 : List UInt8 := dkwX4_lay_1 ++ []
def dkwX4_lay_0 : List UInt8 := [42, 28, 181, 0, 13, 3, 62, 29, 28, 162, 0, 27, 42, 180, 0, 7, 29, 27, 5, 28, 4, 100, 29, 100]
abbrev dktX4_lay_0 : List UInt8 := dkwX4_lay_0 ++ dktX4_lay_1
theorem dksX4_lay_0 : cX4_lay.data.toList.drop 0 = dktX4_lay_0 := by decide +kernel
theorem dksX4_lay_1 : cX4_lay.data.toList.drop 24 = dktX4_lay_1 := dk_seg dksX4_lay_0 24 rfl rfl
theorem dX4_lay_0 : decode cX4_lay 0 = .ok (.aload_n 0, 1) := dk_42 (dk_at dksX4_lay_0 0 rfl rfl)
theorem dX4_lay_1 : decode cX4_lay 1 = .ok (.iload_n 2, 1) := dk_28 (dk_at dksX4_lay_0 1 rfl rfl)
theorem dX4_lay_2 : decode cX4_lay 2 = .ok (.putfield 13, 3) := dk_181 0 13 (dk_at dksX4_lay_0 2 rfl rfl)
theorem dX4_lay_5 : decode cX4_lay 5 = .ok (.iconst 0, 1) := dk_3 (dk_at dksX4_lay_0 5 rfl rfl)
theorem dX4_lay_6 : decode cX4_lay 6 = .ok (.istore_n 3, 1) := dk_62 (dk_at dksX4_lay_0 6 rfl rfl)
theorem dX4_lay_7 : decode cX4_lay 7 = .ok (.iload_n 3, 1) := dk_29 (dk_at dksX4_lay_0 7 rfl rfl)
theorem dX4_lay_8 : decode cX4_lay 8 = .ok (.iload_n 2, 1) := dk_28 (dk_at dksX4_lay_0 8 rfl rfl)
theorem dX4_lay_9 : decode cX4_lay 9 = .ok (.if_icmp .ge 27, 3) := dk_162 0 27 (dk_at dksX4_lay_0 9 rfl rfl)
theorem dX4_lay_12 : decode cX4_lay 12 = .ok (.aload_n 0, 1) := dk_42 (dk_at dksX4_lay_0 12 rfl rfl)
theorem dX4_lay_13 : decode cX4_lay 13 = .ok (.getfield 7, 3) := dk_180 0 7 (dk_at dksX4_lay_0 13 rfl rfl)
theorem dX4_lay_16 : decode cX4_lay 16 = .ok (.iload_n 3, 1) := dk_29 (dk_at dksX4_lay_0 16 rfl rfl)
theorem dX4_lay_17 : decode cX4_lay 17 = .ok (.iload_n 1, 1) := dk_27 (dk_at dksX4_lay_0 17 rfl rfl)
theorem dX4_lay_18 : decode cX4_lay 18 = .ok (.iconst 2, 1) := dk_5 (dk_at dksX4_lay_0 18 rfl rfl)
theorem dX4_lay_19 : decode cX4_lay 19 = .ok (.iload_n 2, 1) := dk_28 (dk_at dksX4_lay_0 19 rfl rfl)
theorem dX4_lay_20 : decode cX4_lay 20 = .ok (.iconst 1, 1) := dk_4 (dk_at dksX4_lay_0 20 rfl rfl)
theorem dX4_lay_21 : decode cX4_lay 21 = .ok (.isub, 1) := dk_100 (dk_at dksX4_lay_0 21 rfl rfl)
theorem dX4_lay_22 : decode cX4_lay 22 = .ok (.iload_n 3, 1) := dk_29 (dk_at dksX4_lay_0 22 rfl rfl)
theorem dX4_lay_23 : decode cX4_lay 23 = .ok (.isub, 1) := dk_100 (dk_at dksX4_lay_0 23 rfl rfl)
theorem dX4_lay_24 : decode cX4_lay 24 = .ok (.imul, 1) := dk_104 (dk_at dksX4_lay_1 0 rfl rfl)
theorem dX4_lay_25 : decode cX4_lay 25 = .ok (.ishr, 1) := dk_122 (dk_at dksX4_lay_1 1 rfl rfl)
theorem dX4_lay_26 : decode cX4_lay 26 = .ok (.iconst 3, 1) := dk_6 (dk_at dksX4_lay_1 2 rfl rfl)
theorem dX4_lay_27 : decode cX4_lay 27 = .ok (.iand, 1) := dk_126 (dk_at dksX4_lay_1 3 rfl rfl)
theorem dX4_lay_28 : decode cX4_lay 28 = .ok (.i2b, 1) := dk_145 (dk_at dksX4_lay_1 4 rfl rfl)
theorem dX4_lay_29 : decode cX4_lay 29 = .ok (.bastore, 1) := dk_84 (dk_at dksX4_lay_1 5 rfl rfl)
theorem dX4_lay_30 : decode cX4_lay 30 = .ok (.iinc 3 1, 3) := dk_132 3 1 (dk_at dksX4_lay_1 6 rfl rfl)
theorem dX4_lay_33 : decode cX4_lay 33 = .ok (.goto (-26), 3) := dk_167 255 230 (dk_at dksX4_lay_1 9 rfl rfl)
theorem dX4_lay_36 : decode cX4_lay 36 = .ok (.return_, 1) := dk_177 (dk_at dksX4_lay_1 12 rfl rfl)
abbrev cX4_beginsWith : ByteArray := prog_4_method_6_code
def yX4_beginsWith : MethodName := ⟨RX4, "beginsWith", "(LOneDrum$Beats;)Z"⟩
def dkwX4_beginsWith_1 : List UInt8 := [43, 180, 0, 7, 28, 51, 159, 0, 5, 3, 172, 132, 2, 1, 167, 255, 220, 4, 172]
abbrev dktX4_beginsWith_1 : List UInt8 := dkwX4_beginsWith_1 ++ []
def dkwX4_beginsWith_0 : List UInt8 := [3, 61, 28, 43, 180, 0, 13, 162, 0, 34, 28, 42, 180, 0, 13, 162, 0, 18, 42, 180, 0, 7, 28, 51]
abbrev dktX4_beginsWith_0 : List UInt8 := dkwX4_beginsWith_0 ++ dktX4_beginsWith_1
theorem dksX4_beginsWith_0 : cX4_beginsWith.data.toList.drop 0 = dktX4_beginsWith_0 := by decide +kernel
theorem dksX4_beginsWith_1 : cX4_beginsWith.data.toList.drop 24 = dktX4_beginsWith_1 := dk_seg dksX4_beginsWith_0 24 rfl rfl
theorem dX4_beginsWith_0 : decode cX4_beginsWith 0 = .ok (.iconst 0, 1) := dk_3 (dk_at dksX4_beginsWith_0 0 rfl rfl)
theorem dX4_beginsWith_1 : decode cX4_beginsWith 1 = .ok (.istore_n 2, 1) := dk_61 (dk_at dksX4_beginsWith_0 1 rfl rfl)
theorem dX4_beginsWith_2 : decode cX4_beginsWith 2 = .ok (.iload_n 2, 1) := dk_28 (dk_at dksX4_beginsWith_0 2 rfl rfl)
theorem dX4_beginsWith_3 : decode cX4_beginsWith 3 = .ok (.aload_n 1, 1) := dk_43 (dk_at dksX4_beginsWith_0 3 rfl rfl)
theorem dX4_beginsWith_4 : decode cX4_beginsWith 4 = .ok (.getfield 13, 3) := dk_180 0 13 (dk_at dksX4_beginsWith_0 4 rfl rfl)
theorem dX4_beginsWith_7 : decode cX4_beginsWith 7 = .ok (.if_icmp .ge 34, 3) := dk_162 0 34 (dk_at dksX4_beginsWith_0 7 rfl rfl)
theorem dX4_beginsWith_10 : decode cX4_beginsWith 10 = .ok (.iload_n 2, 1) := dk_28 (dk_at dksX4_beginsWith_0 10 rfl rfl)
theorem dX4_beginsWith_11 : decode cX4_beginsWith 11 = .ok (.aload_n 0, 1) := dk_42 (dk_at dksX4_beginsWith_0 11 rfl rfl)
theorem dX4_beginsWith_12 : decode cX4_beginsWith 12 = .ok (.getfield 13, 3) := dk_180 0 13 (dk_at dksX4_beginsWith_0 12 rfl rfl)
theorem dX4_beginsWith_15 : decode cX4_beginsWith 15 = .ok (.if_icmp .ge 18, 3) := dk_162 0 18 (dk_at dksX4_beginsWith_0 15 rfl rfl)
theorem dX4_beginsWith_18 : decode cX4_beginsWith 18 = .ok (.aload_n 0, 1) := dk_42 (dk_at dksX4_beginsWith_0 18 rfl rfl)
theorem dX4_beginsWith_19 : decode cX4_beginsWith 19 = .ok (.getfield 7, 3) := dk_180 0 7 (dk_at dksX4_beginsWith_0 19 rfl rfl)
theorem dX4_beginsWith_22 : decode cX4_beginsWith 22 = .ok (.iload_n 2, 1) := dk_28 (dk_at dksX4_beginsWith_0 22 rfl rfl)
theorem dX4_beginsWith_23 : decode cX4_beginsWith 23 = .ok (.baload, 1) := dk_51 (dk_at dksX4_beginsWith_0 23 rfl rfl)
theorem dX4_beginsWith_24 : decode cX4_beginsWith 24 = .ok (.aload_n 1, 1) := dk_43 (dk_at dksX4_beginsWith_1 0 rfl rfl)
theorem dX4_beginsWith_25 : decode cX4_beginsWith 25 = .ok (.getfield 7, 3) := dk_180 0 7 (dk_at dksX4_beginsWith_1 1 rfl rfl)
theorem dX4_beginsWith_28 : decode cX4_beginsWith 28 = .ok (.iload_n 2, 1) := dk_28 (dk_at dksX4_beginsWith_1 4 rfl rfl)
theorem dX4_beginsWith_29 : decode cX4_beginsWith 29 = .ok (.baload, 1) := dk_51 (dk_at dksX4_beginsWith_1 5 rfl rfl)
theorem dX4_beginsWith_30 : decode cX4_beginsWith 30 = .ok (.if_icmp .eq 5, 3) := dk_159 0 5 (dk_at dksX4_beginsWith_1 6 rfl rfl)
theorem dX4_beginsWith_33 : decode cX4_beginsWith 33 = .ok (.iconst 0, 1) := dk_3 (dk_at dksX4_beginsWith_1 9 rfl rfl)
theorem dX4_beginsWith_34 : decode cX4_beginsWith 34 = .ok (.ireturn, 1) := dk_172 (dk_at dksX4_beginsWith_1 10 rfl rfl)
theorem dX4_beginsWith_35 : decode cX4_beginsWith 35 = .ok (.iinc 2 1, 3) := dk_132 2 1 (dk_at dksX4_beginsWith_1 11 rfl rfl)
theorem dX4_beginsWith_38 : decode cX4_beginsWith 38 = .ok (.goto (-36), 3) := dk_167 255 220 (dk_at dksX4_beginsWith_1 14 rfl rfl)
theorem dX4_beginsWith_41 : decode cX4_beginsWith 41 = .ok (.iconst 1, 1) := dk_4 (dk_at dksX4_beginsWith_1 17 rfl rfl)
theorem dX4_beginsWith_42 : decode cX4_beginsWith 42 = .ok (.ireturn, 1) := dk_172 (dk_at dksX4_beginsWith_1 18 rfl rfl)
abbrev cX4_isLike : ByteArray := prog_4_method_5_code
def yX4_isLike : MethodName := ⟨RX4, "isLike", "(LOneDrum$Beats;)Z"⟩
def dkwX4_isLike_2 : List UInt8 := [180, 0, 13, 43, 180, 0, 13, 160, 0, 7, 4, 167, 0, 4, 3, 172]
abbrev dktX4_isLike_2 : List UInt8 := dkwX4_isLike_2 ++ []
def dkwX4_isLike_1 : List UInt8 := [180, 0, 7, 28, 51, 43, 180, 0, 7, 28, 51, 159, 0, 5, 3, 172, 132, 2, 1, 167, 255, 217, 42]
abbrev dktX4_isLike_1 : List UInt8 := dkwX4_isLike_1 ++ dktX4_isLike_2
def dkwX4_isLike_0 : List UInt8 := [3, 61, 28, 42, 180, 0, 13, 162, 0, 37, 42, 180, 0, 13, 43, 180, 0, 13, 160, 0, 18, 42]
abbrev dktX4_isLike_0 : List UInt8 := dkwX4_isLike_0 ++ dktX4_isLike_1
theorem dksX4_isLike_0 : cX4_isLike.data.toList.drop 0 = dktX4_isLike_0 := by decide +kernel
theorem dksX4_isLike_1 : cX4_isLike.data.toList.drop 22 = dktX4_isLike_1 := dk_seg dksX4_isLike_0 22 rfl rfl
theorem dksX4_isLike_2 : cX4_isLike.data.toList.drop 45 = dktX4_isLike_2 := dk_seg dksX4_isLike_1 23 rfl rfl
theorem dX4_isLike_0 : decode cX4_isLike 0 = .ok (.iconst 0, 1) := dk_3 (dk_at dksX4_isLike_0 0 rfl rfl)
theorem dX4_isLike_1 : decode cX4_isLike 1 = .ok (.istore_n 2, 1) := dk_61 (dk_at dksX4_isLike_0 1 rfl rfl)
theorem dX4_isLike_2 : decode cX4_isLike 2 = .ok (.iload_n 2, 1) := dk_28 (dk_at dksX4_isLike_0 2 rfl rfl)
theorem dX4_isLike_3 : decode cX4_isLike 3 = .ok (.aload_n 0, 1) := dk_42 (dk_at dksX4_isLike_0 3 rfl rfl)
theorem dX4_isLike_4 : decode cX4_isLike 4 = .ok (.getfield 13, 3) := dk_180 0 13 (dk_at dksX4_isLike_0 4 rfl rfl)
theorem dX4_isLike_7 : decode cX4_isLike 7 = .ok (.if_icmp .ge 37, 3) := dk_162 0 37 (dk_at dksX4_isLike_0 7 rfl rfl)
theorem dX4_isLike_10 : decode cX4_isLike 10 = .ok (.aload_n 0, 1) := dk_42 (dk_at dksX4_isLike_0 10 rfl rfl)
theorem dX4_isLike_11 : decode cX4_isLike 11 = .ok (.getfield 13, 3) := dk_180 0 13 (dk_at dksX4_isLike_0 11 rfl rfl)
theorem dX4_isLike_14 : decode cX4_isLike 14 = .ok (.aload_n 1, 1) := dk_43 (dk_at dksX4_isLike_0 14 rfl rfl)
theorem dX4_isLike_15 : decode cX4_isLike 15 = .ok (.getfield 13, 3) := dk_180 0 13 (dk_at dksX4_isLike_0 15 rfl rfl)
theorem dX4_isLike_18 : decode cX4_isLike 18 = .ok (.if_icmp .ne 18, 3) := dk_160 0 18 (dk_at dksX4_isLike_0 18 rfl rfl)
theorem dX4_isLike_21 : decode cX4_isLike 21 = .ok (.aload_n 0, 1) := dk_42 (dk_at dksX4_isLike_0 21 rfl rfl)
theorem dX4_isLike_22 : decode cX4_isLike 22 = .ok (.getfield 7, 3) := dk_180 0 7 (dk_at dksX4_isLike_1 0 rfl rfl)
theorem dX4_isLike_25 : decode cX4_isLike 25 = .ok (.iload_n 2, 1) := dk_28 (dk_at dksX4_isLike_1 3 rfl rfl)
theorem dX4_isLike_26 : decode cX4_isLike 26 = .ok (.baload, 1) := dk_51 (dk_at dksX4_isLike_1 4 rfl rfl)
theorem dX4_isLike_27 : decode cX4_isLike 27 = .ok (.aload_n 1, 1) := dk_43 (dk_at dksX4_isLike_1 5 rfl rfl)
theorem dX4_isLike_28 : decode cX4_isLike 28 = .ok (.getfield 7, 3) := dk_180 0 7 (dk_at dksX4_isLike_1 6 rfl rfl)
theorem dX4_isLike_31 : decode cX4_isLike 31 = .ok (.iload_n 2, 1) := dk_28 (dk_at dksX4_isLike_1 9 rfl rfl)
theorem dX4_isLike_32 : decode cX4_isLike 32 = .ok (.baload, 1) := dk_51 (dk_at dksX4_isLike_1 10 rfl rfl)
theorem dX4_isLike_33 : decode cX4_isLike 33 = .ok (.if_icmp .eq 5, 3) := dk_159 0 5 (dk_at dksX4_isLike_1 11 rfl rfl)
theorem dX4_isLike_36 : decode cX4_isLike 36 = .ok (.iconst 0, 1) := dk_3 (dk_at dksX4_isLike_1 14 rfl rfl)
theorem dX4_isLike_37 : decode cX4_isLike 37 = .ok (.ireturn, 1) := dk_172 (dk_at dksX4_isLike_1 15 rfl rfl)
theorem dX4_isLike_38 : decode cX4_isLike 38 = .ok (.iinc 2 1, 3) := dk_132 2 1 (dk_at dksX4_isLike_1 16 rfl rfl)
theorem dX4_isLike_41 : decode cX4_isLike 41 = .ok (.goto (-39), 3) := dk_167 255 217 (dk_at dksX4_isLike_1 19 rfl rfl)
theorem dX4_isLike_44 : decode cX4_isLike 44 = .ok (.aload_n 0, 1) := dk_42 (dk_at dksX4_isLike_1 22 rfl rfl)
theorem dX4_isLike_45 : decode cX4_isLike 45 = .ok (.getfield 13, 3) := dk_180 0 13 (dk_at dksX4_isLike_2 0 rfl rfl)
theorem dX4_isLike_48 : decode cX4_isLike 48 = .ok (.aload_n 1, 1) := dk_43 (dk_at dksX4_isLike_2 3 rfl rfl)
theorem dX4_isLike_49 : decode cX4_isLike 49 = .ok (.getfield 13, 3) := dk_180 0 13 (dk_at dksX4_isLike_2 4 rfl rfl)
theorem dX4_isLike_52 : decode cX4_isLike 52 = .ok (.if_icmp .ne 7, 3) := dk_160 0 7 (dk_at dksX4_isLike_2 7 rfl rfl)
theorem dX4_isLike_55 : decode cX4_isLike 55 = .ok (.iconst 1, 1) := dk_4 (dk_at dksX4_isLike_2 10 rfl rfl)
theorem dX4_isLike_56 : decode cX4_isLike 56 = .ok (.goto 4, 3) := dk_167 0 4 (dk_at dksX4_isLike_2 11 rfl rfl)
theorem dX4_isLike_59 : decode cX4_isLike 59 = .ok (.iconst 0, 1) := dk_3 (dk_at dksX4_isLike_2 14 rfl rfl)
theorem dX4_isLike_60 : decode cX4_isLike 60 = .ok (.ireturn, 1) := dk_172 (dk_at dksX4_isLike_2 15 rfl rfl)
theorem q125 : (Jvm.Cond.initialized "OneDrum$Beats") ∈ lw_all := lw_g (lw_at lw_m1 8 rfl) rfl
theorem q330 : (Jvm.Cond.instantiable "OneDrum$Beats" (2 : Nat)) ∈ lw_all := lw_g (lw_at lw_m1 213 rfl) rfl
theorem q332 : (Jvm.Cond.instanceMethod ({ cls := "OneDrum$Beats", name := "<init>", desc := "(I)V" } : Jvm.MethodName)) ∈ lw_all := lw_g (lw_at lw_m1 215 rfl) rfl
theorem q333 : (Jvm.Cond.code ({ cls := "OneDrum$Beats", name := "<init>", desc := "(I)V" } : Jvm.MethodName) prog_4_method_1_code (2 : Nat) (Option.none : Option Jvm.ClassFile.FieldType)) ∈ lw_all := lw_g (lw_at lw_m1 216 rfl) rfl
theorem q334 : (Jvm.Cond.methodLink "OneDrum$Beats" (1 : Nat) ({ cls := "java/lang/Object", name := "<init>", desc := "()V" } : Jvm.MethodName)) ∈ lw_all := lw_g (lw_at lw_m1 217 rfl) rfl
theorem q335 : (Jvm.Cond.fieldLink "OneDrum$Beats" (7 : Nat) "OneDrum$Beats" "at" "[B") ∈ lw_all := lw_g (lw_at lw_m1 218 rfl) rfl
theorem q344 : (Jvm.Cond.fieldLink "OneDrum$Beats" (13 : Nat) "OneDrum$Beats" "many" "I") ∈ lw_all := lw_g (lw_at lw_m1 227 rfl) rfl
theorem q353 : (Jvm.Cond.laysFinal "OneDrum$Beats" "OneDrum$Beats" "at" "[B") ∈ lw_all := lw_g (lw_at lw_m1 236 rfl) rfl
theorem q354 : (Jvm.Cond.soleField "OneDrum$Beats" "at") ∈ lw_all := lw_g (lw_at lw_m1 237 rfl) rfl
theorem q355 : (Jvm.Cond.lays "OneDrum$Beats" "OneDrum$Beats" "many" "I") ∈ lw_all := lw_g (lw_at lw_m1 238 rfl) rfl
theorem q356 : (Jvm.Cond.soleField "OneDrum$Beats" "many") ∈ lw_all := lw_g (lw_at lw_m1 239 rfl) rfl
theorem q357 : (Jvm.Cond.superclass "OneDrum$Beats" "java/lang/Object") ∈ lw_all := lw_g (lw_at lw_m2 0 rfl) rfl
theorem q969 : (Jvm.Cond.instanceMethod ({ cls := "OneDrum$Beats", name := "add", desc := "(I)V" } : Jvm.MethodName)) ∈ lw_all := lw_g (lw_at lw_m4 132 rfl) rfl
theorem q970 : (Jvm.Cond.selects "OneDrum$Beats" ({ cls := "OneDrum$Beats", name := "add", desc := "(I)V" } : Jvm.MethodName) ({ cls := "OneDrum$Beats", name := "add", desc := "(I)V" } : Jvm.MethodName)) ∈ lw_all := lw_g (lw_at lw_m4 133 rfl) rfl
theorem q971 : (Jvm.Cond.code ({ cls := "OneDrum$Beats", name := "add", desc := "(I)V" } : Jvm.MethodName) prog_4_method_2_code (2 : Nat) (Option.none : Option Jvm.ClassFile.FieldType)) ∈ lw_all := lw_g (lw_at lw_m4 134 rfl) rfl
theorem q1100 : (Jvm.Cond.selects "OneDrum$Beats" ({ cls := "java/lang/Object", name := "getClass", desc := "()Ljava/lang/Class;" } : Jvm.MethodName) ({ cls := "java/lang/Object", name := "getClass", desc := "()Ljava/lang/Class;" } : Jvm.MethodName)) ∈ lw_all := lw_g (lw_at lw_m5 23 rfl) rfl
theorem q1382 : (Jvm.Cond.instanceMethod ({ cls := "OneDrum$Beats", name := "lay", desc := "(II)V" } : Jvm.MethodName)) ∈ lw_all := lw_g (lw_at lw_m6 65 rfl) rfl
theorem q1383 : (Jvm.Cond.selects "OneDrum$Beats" ({ cls := "OneDrum$Beats", name := "lay", desc := "(II)V" } : Jvm.MethodName) ({ cls := "OneDrum$Beats", name := "lay", desc := "(II)V" } : Jvm.MethodName)) ∈ lw_all := lw_g (lw_at lw_m6 66 rfl) rfl
theorem q1384 : (Jvm.Cond.code ({ cls := "OneDrum$Beats", name := "lay", desc := "(II)V" } : Jvm.MethodName) prog_4_method_4_code (4 : Nat) (Option.none : Option Jvm.ClassFile.FieldType)) ∈ lw_all := lw_g (lw_at lw_m6 67 rfl) rfl
theorem q1444 : (Jvm.Cond.instanceMethod ({ cls := "OneDrum$Beats", name := "beginsWith", desc := "(LOneDrum$Beats;)Z" } : Jvm.MethodName)) ∈ lw_all := lw_g (lw_at lw_m6 127 rfl) rfl
theorem q1445 : (Jvm.Cond.selects "OneDrum$Beats" ({ cls := "OneDrum$Beats", name := "beginsWith", desc := "(LOneDrum$Beats;)Z" } : Jvm.MethodName) ({ cls := "OneDrum$Beats", name := "beginsWith", desc := "(LOneDrum$Beats;)Z" } : Jvm.MethodName)) ∈ lw_all := lw_g (lw_at lw_m6 128 rfl) rfl
theorem q1446 : (Jvm.Cond.code ({ cls := "OneDrum$Beats", name := "beginsWith", desc := "(LOneDrum$Beats;)Z" } : Jvm.MethodName) prog_4_method_6_code (3 : Nat) (Option.some Jvm.ClassFile.FieldType.boolean)) ∈ lw_all := lw_g (lw_at lw_m6 129 rfl) rfl
theorem q1452 : (Jvm.Cond.instanceMethod ({ cls := "OneDrum$Beats", name := "isLike", desc := "(LOneDrum$Beats;)Z" } : Jvm.MethodName)) ∈ lw_all := lw_g (lw_at lw_m6 135 rfl) rfl
theorem q1453 : (Jvm.Cond.selects "OneDrum$Beats" ({ cls := "OneDrum$Beats", name := "isLike", desc := "(LOneDrum$Beats;)Z" } : Jvm.MethodName) ({ cls := "OneDrum$Beats", name := "isLike", desc := "(LOneDrum$Beats;)Z" } : Jvm.MethodName)) ∈ lw_all := lw_g (lw_at lw_m6 136 rfl) rfl
theorem q1454 : (Jvm.Cond.code ({ cls := "OneDrum$Beats", name := "isLike", desc := "(LOneDrum$Beats;)Z" } : Jvm.MethodName) prog_4_method_5_code (3 : Nat) (Option.some Jvm.ClassFile.FieldType.boolean)) ∈ lw_all := lw_g (lw_at lw_m6 137 rfl) rfl
theorem q2221 : (Jvm.Cond.castable "OneDrum$Beats" "java/lang/Object") ∈ lw_tbl := lw_at lw_m9 184 rfl
theorem in_X4 : ∀ w ∈ wsX40, w ∈ lw_all := lw_in wsX40 [353, 355] (by decide +kernel) (by decide +kernel)
/-! OneDrum$Reader -/
set_option maxRecDepth 100000
def RX6 : String := "OneDrum$Reader"
abbrev cX6_init : ByteArray := prog_12_method_1_code
def yX6_init : MethodName := ⟨RX6, "<init>", "(LOneDrum;I)V"⟩
def dkwX6_init_0 : List UInt8 := [42, 43, 181, 0, 3, 42, 183, 0, 9, 42, 28, 181, 0, 15, 177]
abbrev dktX6_init_0 : List UInt8 := dkwX6_init_0 ++ []
theorem dksX6_init_0 : cX6_init.data.toList.drop 0 = dktX6_init_0 := by decide +kernel
theorem dX6_init_0 : decode cX6_init 0 = .ok (.aload_n 0, 1) := dk_42 (dk_at dksX6_init_0 0 rfl rfl)
theorem dX6_init_1 : decode cX6_init 1 = .ok (.aload_n 1, 1) := dk_43 (dk_at dksX6_init_0 1 rfl rfl)
theorem dX6_init_2 : decode cX6_init 2 = .ok (.putfield 3, 3) := dk_181 0 3 (dk_at dksX6_init_0 2 rfl rfl)
theorem dX6_init_5 : decode cX6_init 5 = .ok (.aload_n 0, 1) := dk_42 (dk_at dksX6_init_0 5 rfl rfl)
theorem dX6_init_6 : decode cX6_init 6 = .ok (.invokespecial 9, 3) := dk_183 0 9 (dk_at dksX6_init_0 6 rfl rfl)
theorem dX6_init_9 : decode cX6_init 9 = .ok (.aload_n 0, 1) := dk_42 (dk_at dksX6_init_0 9 rfl rfl)
theorem dX6_init_10 : decode cX6_init 10 = .ok (.iload_n 2, 1) := dk_28 (dk_at dksX6_init_0 10 rfl rfl)
theorem dX6_init_11 : decode cX6_init 11 = .ok (.putfield 15, 3) := dk_181 0 15 (dk_at dksX6_init_0 11 rfl rfl)
theorem dX6_init_14 : decode cX6_init 14 = .ok (.return_, 1) := dk_177 (dk_at dksX6_init_0 14 rfl rfl)
abbrev cX6_text : ByteArray := prog_12_method_16_code
def yX6_text : MethodName := ⟨RX6, "text", "()V"⟩
def dkwX6_text_2 : List UInt8 := [191, 42, 182, 0, 87, 167, 255, 207, 177]
abbrev dktX6_text_2 : List UInt8 := dkwX6_text_2 ++ []
def dkwX6_text_1 : List UInt8 := [61, 42, 4, 181, 0, 83, 42, 28, 27, 182, 0, 130, 42, 180, 0, 53, 7, 159, 0, 8, 42, 182, 0, 75]
abbrev dktX6_text_1 : List UInt8 := dkwX6_text_1 ++ dktX6_text_2
def dkwX6_text_0 : List UInt8 := [42, 182, 0, 87, 42, 180, 0, 53, 153, 0, 48, 42, 180, 0, 36, 60, 42, 42, 182, 0, 126, 182, 0, 98]
abbrev dktX6_text_0 : List UInt8 := dkwX6_text_0 ++ dktX6_text_1
theorem dksX6_text_0 : cX6_text.data.toList.drop 0 = dktX6_text_0 := by decide +kernel
theorem dksX6_text_1 : cX6_text.data.toList.drop 24 = dktX6_text_1 := dk_seg dksX6_text_0 24 rfl rfl
theorem dksX6_text_2 : cX6_text.data.toList.drop 48 = dktX6_text_2 := dk_seg dksX6_text_1 24 rfl rfl
theorem dX6_text_0 : decode cX6_text 0 = .ok (.aload_n 0, 1) := dk_42 (dk_at dksX6_text_0 0 rfl rfl)
theorem dX6_text_1 : decode cX6_text 1 = .ok (.invokevirtual 87, 3) := dk_182 0 87 (dk_at dksX6_text_0 1 rfl rfl)
theorem dX6_text_4 : decode cX6_text 4 = .ok (.aload_n 0, 1) := dk_42 (dk_at dksX6_text_0 4 rfl rfl)
theorem dX6_text_5 : decode cX6_text 5 = .ok (.getfield 53, 3) := dk_180 0 53 (dk_at dksX6_text_0 5 rfl rfl)
theorem dX6_text_8 : decode cX6_text 8 = .ok (.ifCond .eq 48, 3) := dk_153 0 48 (dk_at dksX6_text_0 8 rfl rfl)
theorem dX6_text_11 : decode cX6_text 11 = .ok (.aload_n 0, 1) := dk_42 (dk_at dksX6_text_0 11 rfl rfl)
theorem dX6_text_12 : decode cX6_text 12 = .ok (.getfield 36, 3) := dk_180 0 36 (dk_at dksX6_text_0 12 rfl rfl)
theorem dX6_text_15 : decode cX6_text 15 = .ok (.istore_n 1, 1) := dk_60 (dk_at dksX6_text_0 15 rfl rfl)
theorem dX6_text_16 : decode cX6_text 16 = .ok (.aload_n 0, 1) := dk_42 (dk_at dksX6_text_0 16 rfl rfl)
theorem dX6_text_17 : decode cX6_text 17 = .ok (.aload_n 0, 1) := dk_42 (dk_at dksX6_text_0 17 rfl rfl)
theorem dX6_text_18 : decode cX6_text 18 = .ok (.invokevirtual 126, 3) := dk_182 0 126 (dk_at dksX6_text_0 18 rfl rfl)
theorem dX6_text_21 : decode cX6_text 21 = .ok (.invokevirtual 98, 3) := dk_182 0 98 (dk_at dksX6_text_0 21 rfl rfl)
theorem dX6_text_24 : decode cX6_text 24 = .ok (.istore_n 2, 1) := dk_61 (dk_at dksX6_text_1 0 rfl rfl)
theorem dX6_text_25 : decode cX6_text 25 = .ok (.aload_n 0, 1) := dk_42 (dk_at dksX6_text_1 1 rfl rfl)
theorem dX6_text_26 : decode cX6_text 26 = .ok (.iconst 1, 1) := dk_4 (dk_at dksX6_text_1 2 rfl rfl)
theorem dX6_text_27 : decode cX6_text 27 = .ok (.putfield 83, 3) := dk_181 0 83 (dk_at dksX6_text_1 3 rfl rfl)
theorem dX6_text_30 : decode cX6_text 30 = .ok (.aload_n 0, 1) := dk_42 (dk_at dksX6_text_1 6 rfl rfl)
theorem dX6_text_31 : decode cX6_text 31 = .ok (.iload_n 2, 1) := dk_28 (dk_at dksX6_text_1 7 rfl rfl)
theorem dX6_text_32 : decode cX6_text 32 = .ok (.iload_n 1, 1) := dk_27 (dk_at dksX6_text_1 8 rfl rfl)
theorem dX6_text_33 : decode cX6_text 33 = .ok (.invokevirtual 130, 3) := dk_182 0 130 (dk_at dksX6_text_1 9 rfl rfl)
theorem dX6_text_36 : decode cX6_text 36 = .ok (.aload_n 0, 1) := dk_42 (dk_at dksX6_text_1 12 rfl rfl)
theorem dX6_text_37 : decode cX6_text 37 = .ok (.getfield 53, 3) := dk_180 0 53 (dk_at dksX6_text_1 13 rfl rfl)
theorem dX6_text_40 : decode cX6_text 40 = .ok (.iconst 4, 1) := dk_7 (dk_at dksX6_text_1 16 rfl rfl)
theorem dX6_text_41 : decode cX6_text 41 = .ok (.if_icmp .eq 8, 3) := dk_159 0 8 (dk_at dksX6_text_1 17 rfl rfl)
theorem dX6_text_44 : decode cX6_text 44 = .ok (.aload_n 0, 1) := dk_42 (dk_at dksX6_text_1 20 rfl rfl)
theorem dX6_text_45 : decode cX6_text 45 = .ok (.invokevirtual 75, 3) := dk_182 0 75 (dk_at dksX6_text_1 21 rfl rfl)
theorem dX6_text_48 : decode cX6_text 48 = .ok (.athrow, 1) := dk_191 (dk_at dksX6_text_2 0 rfl rfl)
theorem dX6_text_49 : decode cX6_text 49 = .ok (.aload_n 0, 1) := dk_42 (dk_at dksX6_text_2 1 rfl rfl)
theorem dX6_text_50 : decode cX6_text 50 = .ok (.invokevirtual 87, 3) := dk_182 0 87 (dk_at dksX6_text_2 2 rfl rfl)
theorem dX6_text_53 : decode cX6_text 53 = .ok (.goto (-49), 3) := dk_167 255 207 (dk_at dksX6_text_2 5 rfl rfl)
theorem dX6_text_56 : decode cX6_text 56 = .ok (.return_, 1) := dk_177 (dk_at dksX6_text_2 8 rfl rfl)
abbrev cX6_next : ByteArray := prog_12_method_3_code
def yX6_next : MethodName := ⟨RX6, "next", "()V"⟩
def dkwX6_next_11 : List UInt8 := [4, 181, 0, 53, 42, 89, 180, 0, 19, 4, 96, 181, 0, 19, 177]
abbrev dktX6_next_11 : List UInt8 := dkwX6_next_11 ++ []
def dkwX6_next_10 : List UInt8 := [180, 0, 39, 2, 160, 0, 7, 3, 167, 0, 17, 42, 180, 0, 39, 16, 59, 160, 0, 7, 7, 167, 0, 4]
abbrev dktX6_next_10 : List UInt8 := dkwX6_next_10 ++ dktX6_next_11
def dkwX6_next_9 : List UInt8 := [167, 255, 198, 42, 27, 5, 164, 0, 7, 4, 167, 0, 4, 6, 181, 0, 53, 167, 0, 43, 42, 42]
abbrev dktX6_next_9 : List UInt8 := dkwX6_next_9 ++ dktX6_next_10
def dkwX6_next_8 : List UInt8 := [167, 0, 7, 42, 180, 0, 39, 181, 0, 39, 132, 1, 1, 42, 89, 180, 0, 19, 4, 96, 181, 0, 19]
abbrev dktX6_next_8 : List UInt8 := dkwX6_next_8 ++ dktX6_next_9
def dkwX6_next_7 : List UInt8 := [153, 0, 50, 42, 27, 5, 162, 0, 21, 16, 10, 42, 180, 0, 39, 104, 42, 182, 0, 32, 96, 16, 48, 100]
abbrev dktX6_next_7 : List UInt8 := dkwX6_next_7 ++ dktX6_next_8
def dkwX6_next_6 : List UInt8 := [184, 0, 42, 153, 0, 88, 3, 60, 42, 3, 181, 0, 39, 42, 182, 0, 32, 16, 48, 16, 57, 184, 0, 42]
abbrev dktX6_next_6 : List UInt8 := dkwX6_next_6 ++ dktX6_next_7
def dkwX6_next_5 : List UInt8 := [96, 181, 0, 19, 167, 255, 205, 42, 5, 181, 0, 53, 167, 0, 142, 42, 180, 0, 39, 16, 48, 16, 57]
abbrev dktX6_next_5 : List UInt8 := dkwX6_next_5 ++ dktX6_next_6
def dkwX6_next_4 : List UInt8 := [182, 0, 32, 133, 129, 181, 0, 46, 42, 89, 180, 0, 50, 4, 96, 181, 0, 50, 42, 89, 180, 0, 19, 4]
abbrev dktX6_next_4 : List UInt8 := dkwX6_next_4 ++ dktX6_next_5
def dkwX6_next_3 : List UInt8 := [182, 0, 32, 16, 97, 16, 122, 184, 0, 42, 153, 0, 43, 42, 42, 180, 0, 46, 16, 8, 121, 42]
abbrev dktX6_next_3 : List UInt8 := dkwX6_next_3 ++ dktX6_next_4
def dkwX6_next_2 : List UInt8 := [180, 0, 39, 16, 97, 16, 122, 184, 0, 42, 153, 0, 75, 42, 9, 181, 0, 46, 42, 3, 181, 0, 50, 42]
abbrev dktX6_next_2 : List UInt8 := dkwX6_next_2 ++ dktX6_next_3
def dkwX6_next_1 : List UInt8 := [96, 181, 0, 19, 167, 255, 228, 42, 42, 180, 0, 19, 181, 0, 36, 42, 42, 182, 0, 32, 181, 0, 39, 42]
abbrev dktX6_next_1 : List UInt8 := dkwX6_next_1 ++ dktX6_next_2
def dkwX6_next_0 : List UInt8 := [42, 182, 0, 32, 16, 10, 159, 0, 12, 42, 182, 0, 32, 16, 32, 160, 0, 16, 42, 89, 180, 0, 19, 4]
abbrev dktX6_next_0 : List UInt8 := dkwX6_next_0 ++ dktX6_next_1
theorem dksX6_next_0 : cX6_next.data.toList.drop 0 = dktX6_next_0 := by decide +kernel
theorem dksX6_next_1 : cX6_next.data.toList.drop 24 = dktX6_next_1 := dk_seg dksX6_next_0 24 rfl rfl
theorem dksX6_next_2 : cX6_next.data.toList.drop 48 = dktX6_next_2 := dk_seg dksX6_next_1 24 rfl rfl
theorem dksX6_next_3 : cX6_next.data.toList.drop 72 = dktX6_next_3 := dk_seg dksX6_next_2 24 rfl rfl
theorem dksX6_next_4 : cX6_next.data.toList.drop 94 = dktX6_next_4 := dk_seg dksX6_next_3 22 rfl rfl
theorem dksX6_next_5 : cX6_next.data.toList.drop 118 = dktX6_next_5 := dk_seg dksX6_next_4 24 rfl rfl
theorem dksX6_next_6 : cX6_next.data.toList.drop 141 = dktX6_next_6 := dk_seg dksX6_next_5 23 rfl rfl
theorem dksX6_next_7 : cX6_next.data.toList.drop 165 = dktX6_next_7 := dk_seg dksX6_next_6 24 rfl rfl
theorem dksX6_next_8 : cX6_next.data.toList.drop 189 = dktX6_next_8 := dk_seg dksX6_next_7 24 rfl rfl
theorem dksX6_next_9 : cX6_next.data.toList.drop 212 = dktX6_next_9 := dk_seg dksX6_next_8 23 rfl rfl
theorem dksX6_next_10 : cX6_next.data.toList.drop 234 = dktX6_next_10 := dk_seg dksX6_next_9 22 rfl rfl
theorem dksX6_next_11 : cX6_next.data.toList.drop 258 = dktX6_next_11 := dk_seg dksX6_next_10 24 rfl rfl
theorem dX6_next_0 : decode cX6_next 0 = .ok (.aload_n 0, 1) := dk_42 (dk_at dksX6_next_0 0 rfl rfl)
theorem dX6_next_1 : decode cX6_next 1 = .ok (.invokevirtual 32, 3) := dk_182 0 32 (dk_at dksX6_next_0 1 rfl rfl)
theorem dX6_next_4 : decode cX6_next 4 = .ok (.bipush 10, 2) := dk_16 10 (dk_at dksX6_next_0 4 rfl rfl)
theorem dX6_next_6 : decode cX6_next 6 = .ok (.if_icmp .eq 12, 3) := dk_159 0 12 (dk_at dksX6_next_0 6 rfl rfl)
theorem dX6_next_9 : decode cX6_next 9 = .ok (.aload_n 0, 1) := dk_42 (dk_at dksX6_next_0 9 rfl rfl)
theorem dX6_next_10 : decode cX6_next 10 = .ok (.invokevirtual 32, 3) := dk_182 0 32 (dk_at dksX6_next_0 10 rfl rfl)
theorem dX6_next_13 : decode cX6_next 13 = .ok (.bipush 32, 2) := dk_16 32 (dk_at dksX6_next_0 13 rfl rfl)
theorem dX6_next_15 : decode cX6_next 15 = .ok (.if_icmp .ne 16, 3) := dk_160 0 16 (dk_at dksX6_next_0 15 rfl rfl)
theorem dX6_next_18 : decode cX6_next 18 = .ok (.aload_n 0, 1) := dk_42 (dk_at dksX6_next_0 18 rfl rfl)
theorem dX6_next_19 : decode cX6_next 19 = .ok (.dup, 1) := dk_89 (dk_at dksX6_next_0 19 rfl rfl)
theorem dX6_next_20 : decode cX6_next 20 = .ok (.getfield 19, 3) := dk_180 0 19 (dk_at dksX6_next_0 20 rfl rfl)
theorem dX6_next_23 : decode cX6_next 23 = .ok (.iconst 1, 1) := dk_4 (dk_at dksX6_next_0 23 rfl rfl)
theorem dX6_next_24 : decode cX6_next 24 = .ok (.iadd, 1) := dk_96 (dk_at dksX6_next_1 0 rfl rfl)
theorem dX6_next_25 : decode cX6_next 25 = .ok (.putfield 19, 3) := dk_181 0 19 (dk_at dksX6_next_1 1 rfl rfl)
theorem dX6_next_28 : decode cX6_next 28 = .ok (.goto (-28), 3) := dk_167 255 228 (dk_at dksX6_next_1 4 rfl rfl)
theorem dX6_next_31 : decode cX6_next 31 = .ok (.aload_n 0, 1) := dk_42 (dk_at dksX6_next_1 7 rfl rfl)
theorem dX6_next_32 : decode cX6_next 32 = .ok (.aload_n 0, 1) := dk_42 (dk_at dksX6_next_1 8 rfl rfl)
theorem dX6_next_33 : decode cX6_next 33 = .ok (.getfield 19, 3) := dk_180 0 19 (dk_at dksX6_next_1 9 rfl rfl)
theorem dX6_next_36 : decode cX6_next 36 = .ok (.putfield 36, 3) := dk_181 0 36 (dk_at dksX6_next_1 12 rfl rfl)
theorem dX6_next_39 : decode cX6_next 39 = .ok (.aload_n 0, 1) := dk_42 (dk_at dksX6_next_1 15 rfl rfl)
theorem dX6_next_40 : decode cX6_next 40 = .ok (.aload_n 0, 1) := dk_42 (dk_at dksX6_next_1 16 rfl rfl)
theorem dX6_next_41 : decode cX6_next 41 = .ok (.invokevirtual 32, 3) := dk_182 0 32 (dk_at dksX6_next_1 17 rfl rfl)
theorem dX6_next_44 : decode cX6_next 44 = .ok (.putfield 39, 3) := dk_181 0 39 (dk_at dksX6_next_1 20 rfl rfl)
theorem dX6_next_47 : decode cX6_next 47 = .ok (.aload_n 0, 1) := dk_42 (dk_at dksX6_next_1 23 rfl rfl)
theorem dX6_next_48 : decode cX6_next 48 = .ok (.getfield 39, 3) := dk_180 0 39 (dk_at dksX6_next_2 0 rfl rfl)
theorem dX6_next_51 : decode cX6_next 51 = .ok (.bipush 97, 2) := dk_16 97 (dk_at dksX6_next_2 3 rfl rfl)
theorem dX6_next_53 : decode cX6_next 53 = .ok (.bipush 122, 2) := dk_16 122 (dk_at dksX6_next_2 5 rfl rfl)
theorem dX6_next_55 : decode cX6_next 55 = .ok (.invokestatic 42, 3) := dk_184 0 42 (dk_at dksX6_next_2 7 rfl rfl)
theorem dX6_next_58 : decode cX6_next 58 = .ok (.ifCond .eq 75, 3) := dk_153 0 75 (dk_at dksX6_next_2 10 rfl rfl)
theorem dX6_next_61 : decode cX6_next 61 = .ok (.aload_n 0, 1) := dk_42 (dk_at dksX6_next_2 13 rfl rfl)
theorem dX6_next_62 : decode cX6_next 62 = .ok (.lconst 0, 1) := dk_9 (dk_at dksX6_next_2 14 rfl rfl)
theorem dX6_next_63 : decode cX6_next 63 = .ok (.putfield 46, 3) := dk_181 0 46 (dk_at dksX6_next_2 15 rfl rfl)
theorem dX6_next_66 : decode cX6_next 66 = .ok (.aload_n 0, 1) := dk_42 (dk_at dksX6_next_2 18 rfl rfl)
theorem dX6_next_67 : decode cX6_next 67 = .ok (.iconst 0, 1) := dk_3 (dk_at dksX6_next_2 19 rfl rfl)
theorem dX6_next_68 : decode cX6_next 68 = .ok (.putfield 50, 3) := dk_181 0 50 (dk_at dksX6_next_2 20 rfl rfl)
theorem dX6_next_71 : decode cX6_next 71 = .ok (.aload_n 0, 1) := dk_42 (dk_at dksX6_next_2 23 rfl rfl)
theorem dX6_next_72 : decode cX6_next 72 = .ok (.invokevirtual 32, 3) := dk_182 0 32 (dk_at dksX6_next_3 0 rfl rfl)
theorem dX6_next_75 : decode cX6_next 75 = .ok (.bipush 97, 2) := dk_16 97 (dk_at dksX6_next_3 3 rfl rfl)
theorem dX6_next_77 : decode cX6_next 77 = .ok (.bipush 122, 2) := dk_16 122 (dk_at dksX6_next_3 5 rfl rfl)
theorem dX6_next_79 : decode cX6_next 79 = .ok (.invokestatic 42, 3) := dk_184 0 42 (dk_at dksX6_next_3 7 rfl rfl)
theorem dX6_next_82 : decode cX6_next 82 = .ok (.ifCond .eq 43, 3) := dk_153 0 43 (dk_at dksX6_next_3 10 rfl rfl)
theorem dX6_next_85 : decode cX6_next 85 = .ok (.aload_n 0, 1) := dk_42 (dk_at dksX6_next_3 13 rfl rfl)
theorem dX6_next_86 : decode cX6_next 86 = .ok (.aload_n 0, 1) := dk_42 (dk_at dksX6_next_3 14 rfl rfl)
theorem dX6_next_87 : decode cX6_next 87 = .ok (.getfield 46, 3) := dk_180 0 46 (dk_at dksX6_next_3 15 rfl rfl)
theorem dX6_next_90 : decode cX6_next 90 = .ok (.bipush 8, 2) := dk_16 8 (dk_at dksX6_next_3 18 rfl rfl)
theorem dX6_next_92 : decode cX6_next 92 = .ok (.lshl, 1) := dk_121 (dk_at dksX6_next_3 20 rfl rfl)
theorem dX6_next_93 : decode cX6_next 93 = .ok (.aload_n 0, 1) := dk_42 (dk_at dksX6_next_3 21 rfl rfl)
theorem dX6_next_94 : decode cX6_next 94 = .ok (.invokevirtual 32, 3) := dk_182 0 32 (dk_at dksX6_next_4 0 rfl rfl)
theorem dX6_next_97 : decode cX6_next 97 = .ok (.i2l, 1) := dk_133 (dk_at dksX6_next_4 3 rfl rfl)
theorem dX6_next_98 : decode cX6_next 98 = .ok (.lor, 1) := dk_129 (dk_at dksX6_next_4 4 rfl rfl)
theorem dX6_next_99 : decode cX6_next 99 = .ok (.putfield 46, 3) := dk_181 0 46 (dk_at dksX6_next_4 5 rfl rfl)
theorem dX6_next_102 : decode cX6_next 102 = .ok (.aload_n 0, 1) := dk_42 (dk_at dksX6_next_4 8 rfl rfl)
theorem dX6_next_103 : decode cX6_next 103 = .ok (.dup, 1) := dk_89 (dk_at dksX6_next_4 9 rfl rfl)
theorem dX6_next_104 : decode cX6_next 104 = .ok (.getfield 50, 3) := dk_180 0 50 (dk_at dksX6_next_4 10 rfl rfl)
theorem dX6_next_107 : decode cX6_next 107 = .ok (.iconst 1, 1) := dk_4 (dk_at dksX6_next_4 13 rfl rfl)
theorem dX6_next_108 : decode cX6_next 108 = .ok (.iadd, 1) := dk_96 (dk_at dksX6_next_4 14 rfl rfl)
theorem dX6_next_109 : decode cX6_next 109 = .ok (.putfield 50, 3) := dk_181 0 50 (dk_at dksX6_next_4 15 rfl rfl)
theorem dX6_next_112 : decode cX6_next 112 = .ok (.aload_n 0, 1) := dk_42 (dk_at dksX6_next_4 18 rfl rfl)
theorem dX6_next_113 : decode cX6_next 113 = .ok (.dup, 1) := dk_89 (dk_at dksX6_next_4 19 rfl rfl)
theorem dX6_next_114 : decode cX6_next 114 = .ok (.getfield 19, 3) := dk_180 0 19 (dk_at dksX6_next_4 20 rfl rfl)
theorem dX6_next_117 : decode cX6_next 117 = .ok (.iconst 1, 1) := dk_4 (dk_at dksX6_next_4 23 rfl rfl)
theorem dX6_next_118 : decode cX6_next 118 = .ok (.iadd, 1) := dk_96 (dk_at dksX6_next_5 0 rfl rfl)
theorem dX6_next_119 : decode cX6_next 119 = .ok (.putfield 19, 3) := dk_181 0 19 (dk_at dksX6_next_5 1 rfl rfl)
theorem dX6_next_122 : decode cX6_next 122 = .ok (.goto (-51), 3) := dk_167 255 205 (dk_at dksX6_next_5 4 rfl rfl)
theorem dX6_next_125 : decode cX6_next 125 = .ok (.aload_n 0, 1) := dk_42 (dk_at dksX6_next_5 7 rfl rfl)
theorem dX6_next_126 : decode cX6_next 126 = .ok (.iconst 2, 1) := dk_5 (dk_at dksX6_next_5 8 rfl rfl)
theorem dX6_next_127 : decode cX6_next 127 = .ok (.putfield 53, 3) := dk_181 0 53 (dk_at dksX6_next_5 9 rfl rfl)
theorem dX6_next_130 : decode cX6_next 130 = .ok (.goto 142, 3) := dk_167 0 142 (dk_at dksX6_next_5 12 rfl rfl)
theorem dX6_next_133 : decode cX6_next 133 = .ok (.aload_n 0, 1) := dk_42 (dk_at dksX6_next_5 15 rfl rfl)
theorem dX6_next_134 : decode cX6_next 134 = .ok (.getfield 39, 3) := dk_180 0 39 (dk_at dksX6_next_5 16 rfl rfl)
theorem dX6_next_137 : decode cX6_next 137 = .ok (.bipush 48, 2) := dk_16 48 (dk_at dksX6_next_5 19 rfl rfl)
theorem dX6_next_139 : decode cX6_next 139 = .ok (.bipush 57, 2) := dk_16 57 (dk_at dksX6_next_5 21 rfl rfl)
theorem dX6_next_141 : decode cX6_next 141 = .ok (.invokestatic 42, 3) := dk_184 0 42 (dk_at dksX6_next_6 0 rfl rfl)
theorem dX6_next_144 : decode cX6_next 144 = .ok (.ifCond .eq 88, 3) := dk_153 0 88 (dk_at dksX6_next_6 3 rfl rfl)
theorem dX6_next_147 : decode cX6_next 147 = .ok (.iconst 0, 1) := dk_3 (dk_at dksX6_next_6 6 rfl rfl)
theorem dX6_next_148 : decode cX6_next 148 = .ok (.istore_n 1, 1) := dk_60 (dk_at dksX6_next_6 7 rfl rfl)
theorem dX6_next_149 : decode cX6_next 149 = .ok (.aload_n 0, 1) := dk_42 (dk_at dksX6_next_6 8 rfl rfl)
theorem dX6_next_150 : decode cX6_next 150 = .ok (.iconst 0, 1) := dk_3 (dk_at dksX6_next_6 9 rfl rfl)
theorem dX6_next_151 : decode cX6_next 151 = .ok (.putfield 39, 3) := dk_181 0 39 (dk_at dksX6_next_6 10 rfl rfl)
theorem dX6_next_154 : decode cX6_next 154 = .ok (.aload_n 0, 1) := dk_42 (dk_at dksX6_next_6 13 rfl rfl)
theorem dX6_next_155 : decode cX6_next 155 = .ok (.invokevirtual 32, 3) := dk_182 0 32 (dk_at dksX6_next_6 14 rfl rfl)
theorem dX6_next_158 : decode cX6_next 158 = .ok (.bipush 48, 2) := dk_16 48 (dk_at dksX6_next_6 17 rfl rfl)
theorem dX6_next_160 : decode cX6_next 160 = .ok (.bipush 57, 2) := dk_16 57 (dk_at dksX6_next_6 19 rfl rfl)
theorem dX6_next_162 : decode cX6_next 162 = .ok (.invokestatic 42, 3) := dk_184 0 42 (dk_at dksX6_next_6 21 rfl rfl)
theorem dX6_next_165 : decode cX6_next 165 = .ok (.ifCond .eq 50, 3) := dk_153 0 50 (dk_at dksX6_next_7 0 rfl rfl)
theorem dX6_next_168 : decode cX6_next 168 = .ok (.aload_n 0, 1) := dk_42 (dk_at dksX6_next_7 3 rfl rfl)
theorem dX6_next_169 : decode cX6_next 169 = .ok (.iload_n 1, 1) := dk_27 (dk_at dksX6_next_7 4 rfl rfl)
theorem dX6_next_170 : decode cX6_next 170 = .ok (.iconst 2, 1) := dk_5 (dk_at dksX6_next_7 5 rfl rfl)
theorem dX6_next_171 : decode cX6_next 171 = .ok (.if_icmp .ge 21, 3) := dk_162 0 21 (dk_at dksX6_next_7 6 rfl rfl)
theorem dX6_next_174 : decode cX6_next 174 = .ok (.bipush 10, 2) := dk_16 10 (dk_at dksX6_next_7 9 rfl rfl)
theorem dX6_next_176 : decode cX6_next 176 = .ok (.aload_n 0, 1) := dk_42 (dk_at dksX6_next_7 11 rfl rfl)
theorem dX6_next_177 : decode cX6_next 177 = .ok (.getfield 39, 3) := dk_180 0 39 (dk_at dksX6_next_7 12 rfl rfl)
theorem dX6_next_180 : decode cX6_next 180 = .ok (.imul, 1) := dk_104 (dk_at dksX6_next_7 15 rfl rfl)
theorem dX6_next_181 : decode cX6_next 181 = .ok (.aload_n 0, 1) := dk_42 (dk_at dksX6_next_7 16 rfl rfl)
theorem dX6_next_182 : decode cX6_next 182 = .ok (.invokevirtual 32, 3) := dk_182 0 32 (dk_at dksX6_next_7 17 rfl rfl)
theorem dX6_next_185 : decode cX6_next 185 = .ok (.iadd, 1) := dk_96 (dk_at dksX6_next_7 20 rfl rfl)
theorem dX6_next_186 : decode cX6_next 186 = .ok (.bipush 48, 2) := dk_16 48 (dk_at dksX6_next_7 21 rfl rfl)
theorem dX6_next_188 : decode cX6_next 188 = .ok (.isub, 1) := dk_100 (dk_at dksX6_next_7 23 rfl rfl)
theorem dX6_next_189 : decode cX6_next 189 = .ok (.goto 7, 3) := dk_167 0 7 (dk_at dksX6_next_8 0 rfl rfl)
theorem dX6_next_192 : decode cX6_next 192 = .ok (.aload_n 0, 1) := dk_42 (dk_at dksX6_next_8 3 rfl rfl)
theorem dX6_next_193 : decode cX6_next 193 = .ok (.getfield 39, 3) := dk_180 0 39 (dk_at dksX6_next_8 4 rfl rfl)
theorem dX6_next_196 : decode cX6_next 196 = .ok (.putfield 39, 3) := dk_181 0 39 (dk_at dksX6_next_8 7 rfl rfl)
theorem dX6_next_199 : decode cX6_next 199 = .ok (.iinc 1 1, 3) := dk_132 1 1 (dk_at dksX6_next_8 10 rfl rfl)
theorem dX6_next_202 : decode cX6_next 202 = .ok (.aload_n 0, 1) := dk_42 (dk_at dksX6_next_8 13 rfl rfl)
theorem dX6_next_203 : decode cX6_next 203 = .ok (.dup, 1) := dk_89 (dk_at dksX6_next_8 14 rfl rfl)
theorem dX6_next_204 : decode cX6_next 204 = .ok (.getfield 19, 3) := dk_180 0 19 (dk_at dksX6_next_8 15 rfl rfl)
theorem dX6_next_207 : decode cX6_next 207 = .ok (.iconst 1, 1) := dk_4 (dk_at dksX6_next_8 18 rfl rfl)
theorem dX6_next_208 : decode cX6_next 208 = .ok (.iadd, 1) := dk_96 (dk_at dksX6_next_8 19 rfl rfl)
theorem dX6_next_209 : decode cX6_next 209 = .ok (.putfield 19, 3) := dk_181 0 19 (dk_at dksX6_next_8 20 rfl rfl)
theorem dX6_next_212 : decode cX6_next 212 = .ok (.goto (-58), 3) := dk_167 255 198 (dk_at dksX6_next_9 0 rfl rfl)
theorem dX6_next_215 : decode cX6_next 215 = .ok (.aload_n 0, 1) := dk_42 (dk_at dksX6_next_9 3 rfl rfl)
theorem dX6_next_216 : decode cX6_next 216 = .ok (.iload_n 1, 1) := dk_27 (dk_at dksX6_next_9 4 rfl rfl)
theorem dX6_next_217 : decode cX6_next 217 = .ok (.iconst 2, 1) := dk_5 (dk_at dksX6_next_9 5 rfl rfl)
theorem dX6_next_218 : decode cX6_next 218 = .ok (.if_icmp .le 7, 3) := dk_164 0 7 (dk_at dksX6_next_9 6 rfl rfl)
theorem dX6_next_221 : decode cX6_next 221 = .ok (.iconst 1, 1) := dk_4 (dk_at dksX6_next_9 9 rfl rfl)
theorem dX6_next_222 : decode cX6_next 222 = .ok (.goto 4, 3) := dk_167 0 4 (dk_at dksX6_next_9 10 rfl rfl)
theorem dX6_next_225 : decode cX6_next 225 = .ok (.iconst 3, 1) := dk_6 (dk_at dksX6_next_9 13 rfl rfl)
theorem dX6_next_226 : decode cX6_next 226 = .ok (.putfield 53, 3) := dk_181 0 53 (dk_at dksX6_next_9 14 rfl rfl)
theorem dX6_next_229 : decode cX6_next 229 = .ok (.goto 43, 3) := dk_167 0 43 (dk_at dksX6_next_9 17 rfl rfl)
theorem dX6_next_232 : decode cX6_next 232 = .ok (.aload_n 0, 1) := dk_42 (dk_at dksX6_next_9 20 rfl rfl)
theorem dX6_next_233 : decode cX6_next 233 = .ok (.aload_n 0, 1) := dk_42 (dk_at dksX6_next_9 21 rfl rfl)
theorem dX6_next_234 : decode cX6_next 234 = .ok (.getfield 39, 3) := dk_180 0 39 (dk_at dksX6_next_10 0 rfl rfl)
theorem dX6_next_237 : decode cX6_next 237 = .ok (.iconst (-1), 1) := dk_2 (dk_at dksX6_next_10 3 rfl rfl)
theorem dX6_next_238 : decode cX6_next 238 = .ok (.if_icmp .ne 7, 3) := dk_160 0 7 (dk_at dksX6_next_10 4 rfl rfl)
theorem dX6_next_241 : decode cX6_next 241 = .ok (.iconst 0, 1) := dk_3 (dk_at dksX6_next_10 7 rfl rfl)
theorem dX6_next_242 : decode cX6_next 242 = .ok (.goto 17, 3) := dk_167 0 17 (dk_at dksX6_next_10 8 rfl rfl)
theorem dX6_next_245 : decode cX6_next 245 = .ok (.aload_n 0, 1) := dk_42 (dk_at dksX6_next_10 11 rfl rfl)
theorem dX6_next_246 : decode cX6_next 246 = .ok (.getfield 39, 3) := dk_180 0 39 (dk_at dksX6_next_10 12 rfl rfl)
theorem dX6_next_249 : decode cX6_next 249 = .ok (.bipush 59, 2) := dk_16 59 (dk_at dksX6_next_10 15 rfl rfl)
theorem dX6_next_251 : decode cX6_next 251 = .ok (.if_icmp .ne 7, 3) := dk_160 0 7 (dk_at dksX6_next_10 17 rfl rfl)
theorem dX6_next_254 : decode cX6_next 254 = .ok (.iconst 4, 1) := dk_7 (dk_at dksX6_next_10 20 rfl rfl)
theorem dX6_next_255 : decode cX6_next 255 = .ok (.goto 4, 3) := dk_167 0 4 (dk_at dksX6_next_10 21 rfl rfl)
theorem dX6_next_258 : decode cX6_next 258 = .ok (.iconst 1, 1) := dk_4 (dk_at dksX6_next_11 0 rfl rfl)
theorem dX6_next_259 : decode cX6_next 259 = .ok (.putfield 53, 3) := dk_181 0 53 (dk_at dksX6_next_11 1 rfl rfl)
theorem dX6_next_262 : decode cX6_next 262 = .ok (.aload_n 0, 1) := dk_42 (dk_at dksX6_next_11 4 rfl rfl)
theorem dX6_next_263 : decode cX6_next 263 = .ok (.dup, 1) := dk_89 (dk_at dksX6_next_11 5 rfl rfl)
theorem dX6_next_264 : decode cX6_next 264 = .ok (.getfield 19, 3) := dk_180 0 19 (dk_at dksX6_next_11 6 rfl rfl)
theorem dX6_next_267 : decode cX6_next 267 = .ok (.iconst 1, 1) := dk_4 (dk_at dksX6_next_11 9 rfl rfl)
theorem dX6_next_268 : decode cX6_next 268 = .ok (.iadd, 1) := dk_96 (dk_at dksX6_next_11 10 rfl rfl)
theorem dX6_next_269 : decode cX6_next 269 = .ok (.putfield 19, 3) := dk_181 0 19 (dk_at dksX6_next_11 11 rfl rfl)
theorem dX6_next_272 : decode cX6_next 272 = .ok (.return_, 1) := dk_177 (dk_at dksX6_next_11 14 rfl rfl)
abbrev cX6_see : ByteArray := prog_12_method_2_code
def yX6_see : MethodName := ⟨RX6, "see", "()I"⟩
def dkwX6_see_1 : List UInt8 := [180, 0, 19, 51, 17, 0, 255, 126, 167, 0, 4, 2, 172]
abbrev dktX6_see_1 : List UInt8 := dkwX6_see_1 ++ []
def dkwX6_see_0 : List UInt8 := [42, 180, 0, 19, 42, 180, 0, 15, 162, 0, 25, 42, 180, 0, 3, 180, 0, 22, 180, 0, 26, 42]
abbrev dktX6_see_0 : List UInt8 := dkwX6_see_0 ++ dktX6_see_1
theorem dksX6_see_0 : cX6_see.data.toList.drop 0 = dktX6_see_0 := by decide +kernel
theorem dksX6_see_1 : cX6_see.data.toList.drop 22 = dktX6_see_1 := dk_seg dksX6_see_0 22 rfl rfl
theorem dX6_see_0 : decode cX6_see 0 = .ok (.aload_n 0, 1) := dk_42 (dk_at dksX6_see_0 0 rfl rfl)
theorem dX6_see_1 : decode cX6_see 1 = .ok (.getfield 19, 3) := dk_180 0 19 (dk_at dksX6_see_0 1 rfl rfl)
theorem dX6_see_4 : decode cX6_see 4 = .ok (.aload_n 0, 1) := dk_42 (dk_at dksX6_see_0 4 rfl rfl)
theorem dX6_see_5 : decode cX6_see 5 = .ok (.getfield 15, 3) := dk_180 0 15 (dk_at dksX6_see_0 5 rfl rfl)
theorem dX6_see_8 : decode cX6_see 8 = .ok (.if_icmp .ge 25, 3) := dk_162 0 25 (dk_at dksX6_see_0 8 rfl rfl)
theorem dX6_see_11 : decode cX6_see 11 = .ok (.aload_n 0, 1) := dk_42 (dk_at dksX6_see_0 11 rfl rfl)
theorem dX6_see_12 : decode cX6_see 12 = .ok (.getfield 3, 3) := dk_180 0 3 (dk_at dksX6_see_0 12 rfl rfl)
theorem dX6_see_15 : decode cX6_see 15 = .ok (.getfield 22, 3) := dk_180 0 22 (dk_at dksX6_see_0 15 rfl rfl)
theorem dX6_see_18 : decode cX6_see 18 = .ok (.getfield 26, 3) := dk_180 0 26 (dk_at dksX6_see_0 18 rfl rfl)
theorem dX6_see_21 : decode cX6_see 21 = .ok (.aload_n 0, 1) := dk_42 (dk_at dksX6_see_0 21 rfl rfl)
theorem dX6_see_22 : decode cX6_see 22 = .ok (.getfield 19, 3) := dk_180 0 19 (dk_at dksX6_see_1 0 rfl rfl)
theorem dX6_see_25 : decode cX6_see 25 = .ok (.baload, 1) := dk_51 (dk_at dksX6_see_1 3 rfl rfl)
theorem dX6_see_26 : decode cX6_see 26 = .ok (.sipush 255, 3) := dk_17 0 255 (dk_at dksX6_see_1 4 rfl rfl)
theorem dX6_see_29 : decode cX6_see 29 = .ok (.iand, 1) := dk_126 (dk_at dksX6_see_1 7 rfl rfl)
theorem dX6_see_30 : decode cX6_see 30 = .ok (.goto 4, 3) := dk_167 0 4 (dk_at dksX6_see_1 8 rfl rfl)
theorem dX6_see_33 : decode cX6_see 33 = .ok (.iconst (-1), 1) := dk_2 (dk_at dksX6_see_1 11 rfl rfl)
theorem dX6_see_34 : decode cX6_see 34 = .ok (.ireturn, 1) := dk_172 (dk_at dksX6_see_1 12 rfl rfl)
abbrev cX6_oneOf : ByteArray := prog_12_method_9_code
def yX6_oneOf : MethodName := ⟨RX6, "oneOf", "([Ljava/lang/String;)I"⟩
def dkwX6_oneOf_1 : List UInt8 := [28, 43, 190, 160, 0, 8, 42, 182, 0, 75, 191, 42, 182, 0, 87, 28, 172]
abbrev dktX6_oneOf_1 : List UInt8 := dkwX6_oneOf_1 ++ []
def dkwX6_oneOf_0 : List UInt8 := [3, 61, 28, 43, 190, 162, 0, 19, 42, 43, 28, 50, 182, 0, 90, 154, 0, 9, 132, 2, 1, 167, 255, 237]
abbrev dktX6_oneOf_0 : List UInt8 := dkwX6_oneOf_0 ++ dktX6_oneOf_1
theorem dksX6_oneOf_0 : cX6_oneOf.data.toList.drop 0 = dktX6_oneOf_0 := by decide +kernel
theorem dksX6_oneOf_1 : cX6_oneOf.data.toList.drop 24 = dktX6_oneOf_1 := dk_seg dksX6_oneOf_0 24 rfl rfl
theorem dX6_oneOf_0 : decode cX6_oneOf 0 = .ok (.iconst 0, 1) := dk_3 (dk_at dksX6_oneOf_0 0 rfl rfl)
theorem dX6_oneOf_1 : decode cX6_oneOf 1 = .ok (.istore_n 2, 1) := dk_61 (dk_at dksX6_oneOf_0 1 rfl rfl)
theorem dX6_oneOf_2 : decode cX6_oneOf 2 = .ok (.iload_n 2, 1) := dk_28 (dk_at dksX6_oneOf_0 2 rfl rfl)
theorem dX6_oneOf_3 : decode cX6_oneOf 3 = .ok (.aload_n 1, 1) := dk_43 (dk_at dksX6_oneOf_0 3 rfl rfl)
theorem dX6_oneOf_4 : decode cX6_oneOf 4 = .ok (.arraylength, 1) := dk_190 (dk_at dksX6_oneOf_0 4 rfl rfl)
theorem dX6_oneOf_5 : decode cX6_oneOf 5 = .ok (.if_icmp .ge 19, 3) := dk_162 0 19 (dk_at dksX6_oneOf_0 5 rfl rfl)
theorem dX6_oneOf_8 : decode cX6_oneOf 8 = .ok (.aload_n 0, 1) := dk_42 (dk_at dksX6_oneOf_0 8 rfl rfl)
theorem dX6_oneOf_9 : decode cX6_oneOf 9 = .ok (.aload_n 1, 1) := dk_43 (dk_at dksX6_oneOf_0 9 rfl rfl)
theorem dX6_oneOf_10 : decode cX6_oneOf 10 = .ok (.iload_n 2, 1) := dk_28 (dk_at dksX6_oneOf_0 10 rfl rfl)
theorem dX6_oneOf_11 : decode cX6_oneOf 11 = .ok (.aaload, 1) := dk_50 (dk_at dksX6_oneOf_0 11 rfl rfl)
theorem dX6_oneOf_12 : decode cX6_oneOf 12 = .ok (.invokevirtual 90, 3) := dk_182 0 90 (dk_at dksX6_oneOf_0 12 rfl rfl)
theorem dX6_oneOf_15 : decode cX6_oneOf 15 = .ok (.ifCond .ne 9, 3) := dk_154 0 9 (dk_at dksX6_oneOf_0 15 rfl rfl)
theorem dX6_oneOf_18 : decode cX6_oneOf 18 = .ok (.iinc 2 1, 3) := dk_132 2 1 (dk_at dksX6_oneOf_0 18 rfl rfl)
theorem dX6_oneOf_21 : decode cX6_oneOf 21 = .ok (.goto (-19), 3) := dk_167 255 237 (dk_at dksX6_oneOf_0 21 rfl rfl)
theorem dX6_oneOf_24 : decode cX6_oneOf 24 = .ok (.iload_n 2, 1) := dk_28 (dk_at dksX6_oneOf_1 0 rfl rfl)
theorem dX6_oneOf_25 : decode cX6_oneOf 25 = .ok (.aload_n 1, 1) := dk_43 (dk_at dksX6_oneOf_1 1 rfl rfl)
theorem dX6_oneOf_26 : decode cX6_oneOf 26 = .ok (.arraylength, 1) := dk_190 (dk_at dksX6_oneOf_1 2 rfl rfl)
theorem dX6_oneOf_27 : decode cX6_oneOf 27 = .ok (.if_icmp .ne 8, 3) := dk_160 0 8 (dk_at dksX6_oneOf_1 3 rfl rfl)
theorem dX6_oneOf_30 : decode cX6_oneOf 30 = .ok (.aload_n 0, 1) := dk_42 (dk_at dksX6_oneOf_1 6 rfl rfl)
theorem dX6_oneOf_31 : decode cX6_oneOf 31 = .ok (.invokevirtual 75, 3) := dk_182 0 75 (dk_at dksX6_oneOf_1 7 rfl rfl)
theorem dX6_oneOf_34 : decode cX6_oneOf 34 = .ok (.athrow, 1) := dk_191 (dk_at dksX6_oneOf_1 10 rfl rfl)
theorem dX6_oneOf_35 : decode cX6_oneOf 35 = .ok (.aload_n 0, 1) := dk_42 (dk_at dksX6_oneOf_1 11 rfl rfl)
theorem dX6_oneOf_36 : decode cX6_oneOf 36 = .ok (.invokevirtual 87, 3) := dk_182 0 87 (dk_at dksX6_oneOf_1 12 rfl rfl)
theorem dX6_oneOf_39 : decode cX6_oneOf 39 = .ok (.iload_n 2, 1) := dk_28 (dk_at dksX6_oneOf_1 15 rfl rfl)
theorem dX6_oneOf_40 : decode cX6_oneOf 40 = .ok (.ireturn, 1) := dk_172 (dk_at dksX6_oneOf_1 16 rfl rfl)
abbrev cX6_isWord : ByteArray := prog_12_method_5_code
def yX6_isWord : MethodName := ⟨RX6, "isWord", "(Ljava/lang/String;)Z"⟩
def dkwX6_isWord_2 : List UInt8 := [132, 4, 1, 167, 255, 231, 32, 42, 180, 0, 46, 148, 154, 0, 7, 4, 167, 0, 4, 3, 172]
abbrev dktX6_isWord_2 : List UInt8 := dkwX6_isWord_2 ++ []
def dkwX6_isWord_1 : List UInt8 := [54, 4, 21, 4, 43, 182, 0, 56, 162, 0, 22, 32, 16, 8, 121, 43, 21, 4, 182, 0, 60, 133, 129, 65]
abbrev dktX6_isWord_1 : List UInt8 := dkwX6_isWord_1 ++ dktX6_isWord_2
def dkwX6_isWord_0 : List UInt8 := [42, 180, 0, 53, 5, 160, 0, 14, 42, 180, 0, 50, 43, 182, 0, 56, 159, 0, 5, 3, 172, 9, 65, 3]
abbrev dktX6_isWord_0 : List UInt8 := dkwX6_isWord_0 ++ dktX6_isWord_1
theorem dksX6_isWord_0 : cX6_isWord.data.toList.drop 0 = dktX6_isWord_0 := by decide +kernel
theorem dksX6_isWord_1 : cX6_isWord.data.toList.drop 24 = dktX6_isWord_1 := dk_seg dksX6_isWord_0 24 rfl rfl
theorem dksX6_isWord_2 : cX6_isWord.data.toList.drop 48 = dktX6_isWord_2 := dk_seg dksX6_isWord_1 24 rfl rfl
theorem dX6_isWord_0 : decode cX6_isWord 0 = .ok (.aload_n 0, 1) := dk_42 (dk_at dksX6_isWord_0 0 rfl rfl)
theorem dX6_isWord_1 : decode cX6_isWord 1 = .ok (.getfield 53, 3) := dk_180 0 53 (dk_at dksX6_isWord_0 1 rfl rfl)
theorem dX6_isWord_4 : decode cX6_isWord 4 = .ok (.iconst 2, 1) := dk_5 (dk_at dksX6_isWord_0 4 rfl rfl)
theorem dX6_isWord_5 : decode cX6_isWord 5 = .ok (.if_icmp .ne 14, 3) := dk_160 0 14 (dk_at dksX6_isWord_0 5 rfl rfl)
theorem dX6_isWord_8 : decode cX6_isWord 8 = .ok (.aload_n 0, 1) := dk_42 (dk_at dksX6_isWord_0 8 rfl rfl)
theorem dX6_isWord_9 : decode cX6_isWord 9 = .ok (.getfield 50, 3) := dk_180 0 50 (dk_at dksX6_isWord_0 9 rfl rfl)
theorem dX6_isWord_12 : decode cX6_isWord 12 = .ok (.aload_n 1, 1) := dk_43 (dk_at dksX6_isWord_0 12 rfl rfl)
theorem dX6_isWord_13 : decode cX6_isWord 13 = .ok (.invokevirtual 56, 3) := dk_182 0 56 (dk_at dksX6_isWord_0 13 rfl rfl)
theorem dX6_isWord_16 : decode cX6_isWord 16 = .ok (.if_icmp .eq 5, 3) := dk_159 0 5 (dk_at dksX6_isWord_0 16 rfl rfl)
theorem dX6_isWord_19 : decode cX6_isWord 19 = .ok (.iconst 0, 1) := dk_3 (dk_at dksX6_isWord_0 19 rfl rfl)
theorem dX6_isWord_20 : decode cX6_isWord 20 = .ok (.ireturn, 1) := dk_172 (dk_at dksX6_isWord_0 20 rfl rfl)
theorem dX6_isWord_21 : decode cX6_isWord 21 = .ok (.lconst 0, 1) := dk_9 (dk_at dksX6_isWord_0 21 rfl rfl)
theorem dX6_isWord_22 : decode cX6_isWord 22 = .ok (.lstore_n 2, 1) := dk_65 (dk_at dksX6_isWord_0 22 rfl rfl)
theorem dX6_isWord_23 : decode cX6_isWord 23 = .ok (.iconst 0, 1) := dk_3 (dk_at dksX6_isWord_0 23 rfl rfl)
theorem dX6_isWord_24 : decode cX6_isWord 24 = .ok (.istore 4, 2) := dk_54 4 (dk_at dksX6_isWord_1 0 rfl rfl)
theorem dX6_isWord_26 : decode cX6_isWord 26 = .ok (.iload 4, 2) := dk_21 4 (dk_at dksX6_isWord_1 2 rfl rfl)
theorem dX6_isWord_28 : decode cX6_isWord 28 = .ok (.aload_n 1, 1) := dk_43 (dk_at dksX6_isWord_1 4 rfl rfl)
theorem dX6_isWord_29 : decode cX6_isWord 29 = .ok (.invokevirtual 56, 3) := dk_182 0 56 (dk_at dksX6_isWord_1 5 rfl rfl)
theorem dX6_isWord_32 : decode cX6_isWord 32 = .ok (.if_icmp .ge 22, 3) := dk_162 0 22 (dk_at dksX6_isWord_1 8 rfl rfl)
theorem dX6_isWord_35 : decode cX6_isWord 35 = .ok (.lload_n 2, 1) := dk_32 (dk_at dksX6_isWord_1 11 rfl rfl)
theorem dX6_isWord_36 : decode cX6_isWord 36 = .ok (.bipush 8, 2) := dk_16 8 (dk_at dksX6_isWord_1 12 rfl rfl)
theorem dX6_isWord_38 : decode cX6_isWord 38 = .ok (.lshl, 1) := dk_121 (dk_at dksX6_isWord_1 14 rfl rfl)
theorem dX6_isWord_39 : decode cX6_isWord 39 = .ok (.aload_n 1, 1) := dk_43 (dk_at dksX6_isWord_1 15 rfl rfl)
theorem dX6_isWord_40 : decode cX6_isWord 40 = .ok (.iload 4, 2) := dk_21 4 (dk_at dksX6_isWord_1 16 rfl rfl)
theorem dX6_isWord_42 : decode cX6_isWord 42 = .ok (.invokevirtual 60, 3) := dk_182 0 60 (dk_at dksX6_isWord_1 18 rfl rfl)
theorem dX6_isWord_45 : decode cX6_isWord 45 = .ok (.i2l, 1) := dk_133 (dk_at dksX6_isWord_1 21 rfl rfl)
theorem dX6_isWord_46 : decode cX6_isWord 46 = .ok (.lor, 1) := dk_129 (dk_at dksX6_isWord_1 22 rfl rfl)
theorem dX6_isWord_47 : decode cX6_isWord 47 = .ok (.lstore_n 2, 1) := dk_65 (dk_at dksX6_isWord_1 23 rfl rfl)
theorem dX6_isWord_48 : decode cX6_isWord 48 = .ok (.iinc 4 1, 3) := dk_132 4 1 (dk_at dksX6_isWord_2 0 rfl rfl)
theorem dX6_isWord_51 : decode cX6_isWord 51 = .ok (.goto (-25), 3) := dk_167 255 231 (dk_at dksX6_isWord_2 3 rfl rfl)
theorem dX6_isWord_54 : decode cX6_isWord 54 = .ok (.lload_n 2, 1) := dk_32 (dk_at dksX6_isWord_2 6 rfl rfl)
theorem dX6_isWord_55 : decode cX6_isWord 55 = .ok (.aload_n 0, 1) := dk_42 (dk_at dksX6_isWord_2 7 rfl rfl)
theorem dX6_isWord_56 : decode cX6_isWord 56 = .ok (.getfield 46, 3) := dk_180 0 46 (dk_at dksX6_isWord_2 8 rfl rfl)
theorem dX6_isWord_59 : decode cX6_isWord 59 = .ok (.lcmp, 1) := dk_148 (dk_at dksX6_isWord_2 11 rfl rfl)
theorem dX6_isWord_60 : decode cX6_isWord 60 = .ok (.ifCond .ne 7, 3) := dk_154 0 7 (dk_at dksX6_isWord_2 12 rfl rfl)
theorem dX6_isWord_63 : decode cX6_isWord 63 = .ok (.iconst 1, 1) := dk_4 (dk_at dksX6_isWord_2 15 rfl rfl)
theorem dX6_isWord_64 : decode cX6_isWord 64 = .ok (.goto 4, 3) := dk_167 0 4 (dk_at dksX6_isWord_2 16 rfl rfl)
theorem dX6_isWord_67 : decode cX6_isWord 67 = .ok (.iconst 0, 1) := dk_3 (dk_at dksX6_isWord_2 19 rfl rfl)
theorem dX6_isWord_68 : decode cX6_isWord 68 = .ok (.ireturn, 1) := dk_172 (dk_at dksX6_isWord_2 20 rfl rfl)
abbrev cX6_wrong : ByteArray := prog_12_method_6_code
def yX6_wrong : MethodName := ⟨RX6, "wrong", "()LOneDrum$Wrong;"⟩
def dkwX6_wrong_0 : List UInt8 := [187, 0, 64, 89, 42, 180, 0, 36, 183, 0, 66, 176]
abbrev dktX6_wrong_0 : List UInt8 := dkwX6_wrong_0 ++ []
theorem dksX6_wrong_0 : cX6_wrong.data.toList.drop 0 = dktX6_wrong_0 := by decide +kernel
theorem dX6_wrong_0 : decode cX6_wrong 0 = .ok (.new 64, 3) := dk_187 0 64 (dk_at dksX6_wrong_0 0 rfl rfl)
theorem dX6_wrong_3 : decode cX6_wrong 3 = .ok (.dup, 1) := dk_89 (dk_at dksX6_wrong_0 3 rfl rfl)
theorem dX6_wrong_4 : decode cX6_wrong 4 = .ok (.aload_n 0, 1) := dk_42 (dk_at dksX6_wrong_0 4 rfl rfl)
theorem dX6_wrong_5 : decode cX6_wrong 5 = .ok (.getfield 36, 3) := dk_180 0 36 (dk_at dksX6_wrong_0 5 rfl rfl)
theorem dX6_wrong_8 : decode cX6_wrong 8 = .ok (.invokespecial 66, 3) := dk_183 0 66 (dk_at dksX6_wrong_0 8 rfl rfl)
theorem dX6_wrong_11 : decode cX6_wrong 11 = .ok (.areturn, 1) := dk_176 (dk_at dksX6_wrong_0 11 rfl rfl)
abbrev cX6_number : ByteArray := prog_12_method_8_code
def yX6_number : MethodName := ⟨RX6, "number", "(II)I"⟩
def dkwX6_number_1 : List UInt8 := [154, 0, 17, 42, 5, 42, 180, 0, 36, 182, 0, 79, 42, 3, 181, 0, 83, 42, 182, 0, 87, 29, 172]
abbrev dktX6_number_1 : List UInt8 := dkwX6_number_1 ++ []
def dkwX6_number_0 : List UInt8 := [42, 180, 0, 53, 6, 159, 0, 8, 42, 182, 0, 75, 191, 42, 180, 0, 39, 62, 29, 27, 28, 184, 0, 42]
abbrev dktX6_number_0 : List UInt8 := dkwX6_number_0 ++ dktX6_number_1
theorem dksX6_number_0 : cX6_number.data.toList.drop 0 = dktX6_number_0 := by decide +kernel
theorem dksX6_number_1 : cX6_number.data.toList.drop 24 = dktX6_number_1 := dk_seg dksX6_number_0 24 rfl rfl
theorem dX6_number_0 : decode cX6_number 0 = .ok (.aload_n 0, 1) := dk_42 (dk_at dksX6_number_0 0 rfl rfl)
theorem dX6_number_1 : decode cX6_number 1 = .ok (.getfield 53, 3) := dk_180 0 53 (dk_at dksX6_number_0 1 rfl rfl)
theorem dX6_number_4 : decode cX6_number 4 = .ok (.iconst 3, 1) := dk_6 (dk_at dksX6_number_0 4 rfl rfl)
theorem dX6_number_5 : decode cX6_number 5 = .ok (.if_icmp .eq 8, 3) := dk_159 0 8 (dk_at dksX6_number_0 5 rfl rfl)
theorem dX6_number_8 : decode cX6_number 8 = .ok (.aload_n 0, 1) := dk_42 (dk_at dksX6_number_0 8 rfl rfl)
theorem dX6_number_9 : decode cX6_number 9 = .ok (.invokevirtual 75, 3) := dk_182 0 75 (dk_at dksX6_number_0 9 rfl rfl)
theorem dX6_number_12 : decode cX6_number 12 = .ok (.athrow, 1) := dk_191 (dk_at dksX6_number_0 12 rfl rfl)
theorem dX6_number_13 : decode cX6_number 13 = .ok (.aload_n 0, 1) := dk_42 (dk_at dksX6_number_0 13 rfl rfl)
theorem dX6_number_14 : decode cX6_number 14 = .ok (.getfield 39, 3) := dk_180 0 39 (dk_at dksX6_number_0 14 rfl rfl)
theorem dX6_number_17 : decode cX6_number 17 = .ok (.istore_n 3, 1) := dk_62 (dk_at dksX6_number_0 17 rfl rfl)
theorem dX6_number_18 : decode cX6_number 18 = .ok (.iload_n 3, 1) := dk_29 (dk_at dksX6_number_0 18 rfl rfl)
theorem dX6_number_19 : decode cX6_number 19 = .ok (.iload_n 1, 1) := dk_27 (dk_at dksX6_number_0 19 rfl rfl)
theorem dX6_number_20 : decode cX6_number 20 = .ok (.iload_n 2, 1) := dk_28 (dk_at dksX6_number_0 20 rfl rfl)
theorem dX6_number_21 : decode cX6_number 21 = .ok (.invokestatic 42, 3) := dk_184 0 42 (dk_at dksX6_number_0 21 rfl rfl)
theorem dX6_number_24 : decode cX6_number 24 = .ok (.ifCond .ne 17, 3) := dk_154 0 17 (dk_at dksX6_number_1 0 rfl rfl)
theorem dX6_number_27 : decode cX6_number 27 = .ok (.aload_n 0, 1) := dk_42 (dk_at dksX6_number_1 3 rfl rfl)
theorem dX6_number_28 : decode cX6_number 28 = .ok (.iconst 2, 1) := dk_5 (dk_at dksX6_number_1 4 rfl rfl)
theorem dX6_number_29 : decode cX6_number 29 = .ok (.aload_n 0, 1) := dk_42 (dk_at dksX6_number_1 5 rfl rfl)
theorem dX6_number_30 : decode cX6_number 30 = .ok (.getfield 36, 3) := dk_180 0 36 (dk_at dksX6_number_1 6 rfl rfl)
theorem dX6_number_33 : decode cX6_number 33 = .ok (.invokevirtual 79, 3) := dk_182 0 79 (dk_at dksX6_number_1 9 rfl rfl)
theorem dX6_number_36 : decode cX6_number 36 = .ok (.aload_n 0, 1) := dk_42 (dk_at dksX6_number_1 12 rfl rfl)
theorem dX6_number_37 : decode cX6_number 37 = .ok (.iconst 0, 1) := dk_3 (dk_at dksX6_number_1 13 rfl rfl)
theorem dX6_number_38 : decode cX6_number 38 = .ok (.putfield 83, 3) := dk_181 0 83 (dk_at dksX6_number_1 14 rfl rfl)
theorem dX6_number_41 : decode cX6_number 41 = .ok (.aload_n 0, 1) := dk_42 (dk_at dksX6_number_1 17 rfl rfl)
theorem dX6_number_42 : decode cX6_number 42 = .ok (.invokevirtual 87, 3) := dk_182 0 87 (dk_at dksX6_number_1 18 rfl rfl)
theorem dX6_number_45 : decode cX6_number 45 = .ok (.iload_n 3, 1) := dk_29 (dk_at dksX6_number_1 21 rfl rfl)
theorem dX6_number_46 : decode cX6_number 46 = .ok (.ireturn, 1) := dk_172 (dk_at dksX6_number_1 22 rfl rfl)
abbrev cX6_note : ByteArray := prog_12_method_7_code
def yX6_note : MethodName := ⟨RX6, "note", "(II)V"⟩
def dkwX6_note_1 : List UInt8 := [180, 0, 69, 27, 163, 0, 4, 177, 42, 27, 181, 0, 69, 42, 28, 181, 0, 72, 177]
abbrev dktX6_note_1 : List UInt8 := dkwX6_note_1 ++ []
def dkwX6_note_0 : List UInt8 := [42, 180, 0, 69, 158, 0, 28, 42, 180, 0, 72, 28, 161, 0, 19, 42, 180, 0, 72, 28, 160, 0, 12, 42]
abbrev dktX6_note_0 : List UInt8 := dkwX6_note_0 ++ dktX6_note_1
theorem dksX6_note_0 : cX6_note.data.toList.drop 0 = dktX6_note_0 := by decide +kernel
theorem dksX6_note_1 : cX6_note.data.toList.drop 24 = dktX6_note_1 := dk_seg dksX6_note_0 24 rfl rfl
theorem dX6_note_0 : decode cX6_note 0 = .ok (.aload_n 0, 1) := dk_42 (dk_at dksX6_note_0 0 rfl rfl)
theorem dX6_note_1 : decode cX6_note 1 = .ok (.getfield 69, 3) := dk_180 0 69 (dk_at dksX6_note_0 1 rfl rfl)
theorem dX6_note_4 : decode cX6_note 4 = .ok (.ifCond .le 28, 3) := dk_158 0 28 (dk_at dksX6_note_0 4 rfl rfl)
theorem dX6_note_7 : decode cX6_note 7 = .ok (.aload_n 0, 1) := dk_42 (dk_at dksX6_note_0 7 rfl rfl)
theorem dX6_note_8 : decode cX6_note 8 = .ok (.getfield 72, 3) := dk_180 0 72 (dk_at dksX6_note_0 8 rfl rfl)
theorem dX6_note_11 : decode cX6_note 11 = .ok (.iload_n 2, 1) := dk_28 (dk_at dksX6_note_0 11 rfl rfl)
theorem dX6_note_12 : decode cX6_note 12 = .ok (.if_icmp .lt 19, 3) := dk_161 0 19 (dk_at dksX6_note_0 12 rfl rfl)
theorem dX6_note_15 : decode cX6_note 15 = .ok (.aload_n 0, 1) := dk_42 (dk_at dksX6_note_0 15 rfl rfl)
theorem dX6_note_16 : decode cX6_note 16 = .ok (.getfield 72, 3) := dk_180 0 72 (dk_at dksX6_note_0 16 rfl rfl)
theorem dX6_note_19 : decode cX6_note 19 = .ok (.iload_n 2, 1) := dk_28 (dk_at dksX6_note_0 19 rfl rfl)
theorem dX6_note_20 : decode cX6_note 20 = .ok (.if_icmp .ne 12, 3) := dk_160 0 12 (dk_at dksX6_note_0 20 rfl rfl)
theorem dX6_note_23 : decode cX6_note 23 = .ok (.aload_n 0, 1) := dk_42 (dk_at dksX6_note_0 23 rfl rfl)
theorem dX6_note_24 : decode cX6_note 24 = .ok (.getfield 69, 3) := dk_180 0 69 (dk_at dksX6_note_1 0 rfl rfl)
theorem dX6_note_27 : decode cX6_note 27 = .ok (.iload_n 1, 1) := dk_27 (dk_at dksX6_note_1 3 rfl rfl)
theorem dX6_note_28 : decode cX6_note 28 = .ok (.if_icmp .gt 4, 3) := dk_163 0 4 (dk_at dksX6_note_1 4 rfl rfl)
theorem dX6_note_31 : decode cX6_note 31 = .ok (.return_, 1) := dk_177 (dk_at dksX6_note_1 7 rfl rfl)
theorem dX6_note_32 : decode cX6_note 32 = .ok (.aload_n 0, 1) := dk_42 (dk_at dksX6_note_1 8 rfl rfl)
theorem dX6_note_33 : decode cX6_note 33 = .ok (.iload_n 1, 1) := dk_27 (dk_at dksX6_note_1 9 rfl rfl)
theorem dX6_note_34 : decode cX6_note 34 = .ok (.putfield 69, 3) := dk_181 0 69 (dk_at dksX6_note_1 10 rfl rfl)
theorem dX6_note_37 : decode cX6_note 37 = .ok (.aload_n 0, 1) := dk_42 (dk_at dksX6_note_1 13 rfl rfl)
theorem dX6_note_38 : decode cX6_note 38 = .ok (.iload_n 2, 1) := dk_28 (dk_at dksX6_note_1 14 rfl rfl)
theorem dX6_note_39 : decode cX6_note 39 = .ok (.putfield 72, 3) := dk_181 0 72 (dk_at dksX6_note_1 15 rfl rfl)
theorem dX6_note_42 : decode cX6_note 42 = .ok (.return_, 1) := dk_177 (dk_at dksX6_note_1 18 rfl rfl)
abbrev cX6_isWord_2 : ByteArray := prog_12_method_4_code
def yX6_isWord_2 : MethodName := ⟨RX6, "isWord", "()Z"⟩
def dkwX6_isWord_2_0 : List UInt8 := [42, 180, 0, 53, 5, 160, 0, 7, 4, 167, 0, 4, 3, 172]
abbrev dktX6_isWord_2_0 : List UInt8 := dkwX6_isWord_2_0 ++ []
theorem dksX6_isWord_2_0 : cX6_isWord_2.data.toList.drop 0 = dktX6_isWord_2_0 := by decide +kernel
theorem dX6_isWord_2_0 : decode cX6_isWord_2 0 = .ok (.aload_n 0, 1) := dk_42 (dk_at dksX6_isWord_2_0 0 rfl rfl)
theorem dX6_isWord_2_1 : decode cX6_isWord_2 1 = .ok (.getfield 53, 3) := dk_180 0 53 (dk_at dksX6_isWord_2_0 1 rfl rfl)
theorem dX6_isWord_2_4 : decode cX6_isWord_2 4 = .ok (.iconst 2, 1) := dk_5 (dk_at dksX6_isWord_2_0 4 rfl rfl)
theorem dX6_isWord_2_5 : decode cX6_isWord_2 5 = .ok (.if_icmp .ne 7, 3) := dk_160 0 7 (dk_at dksX6_isWord_2_0 5 rfl rfl)
theorem dX6_isWord_2_8 : decode cX6_isWord_2 8 = .ok (.iconst 1, 1) := dk_4 (dk_at dksX6_isWord_2_0 8 rfl rfl)
theorem dX6_isWord_2_9 : decode cX6_isWord_2 9 = .ok (.goto 4, 3) := dk_167 0 4 (dk_at dksX6_isWord_2_0 9 rfl rfl)
theorem dX6_isWord_2_12 : decode cX6_isWord_2 12 = .ok (.iconst 0, 1) := dk_3 (dk_at dksX6_isWord_2_0 12 rfl rfl)
theorem dX6_isWord_2_13 : decode cX6_isWord_2 13 = .ok (.ireturn, 1) := dk_172 (dk_at dksX6_isWord_2_0 13 rfl rfl)
abbrev cX6_beats : ByteArray := prog_12_method_11_code
def yX6_beats : MethodName := ⟨RX6, "beats", "(LOneDrum$Beats;)V"⟩
def dkwX6_beats_1 : List UInt8 := [28, 182, 0, 79, 167, 0, 8, 43, 29, 182, 0, 112, 42, 182, 0, 115, 154, 255, 216, 177]
abbrev dktX6_beats_1 : List UInt8 := dkwX6_beats_1 ++ []
def dkwX6_beats_0 : List UInt8 := [42, 180, 0, 36, 61, 42, 182, 0, 102, 62, 43, 180, 0, 105, 43, 180, 0, 110, 190, 160, 0, 12, 42, 6]
abbrev dktX6_beats_0 : List UInt8 := dkwX6_beats_0 ++ dktX6_beats_1
theorem dksX6_beats_0 : cX6_beats.data.toList.drop 0 = dktX6_beats_0 := by decide +kernel
theorem dksX6_beats_1 : cX6_beats.data.toList.drop 24 = dktX6_beats_1 := dk_seg dksX6_beats_0 24 rfl rfl
theorem dX6_beats_0 : decode cX6_beats 0 = .ok (.aload_n 0, 1) := dk_42 (dk_at dksX6_beats_0 0 rfl rfl)
theorem dX6_beats_1 : decode cX6_beats 1 = .ok (.getfield 36, 3) := dk_180 0 36 (dk_at dksX6_beats_0 1 rfl rfl)
theorem dX6_beats_4 : decode cX6_beats 4 = .ok (.istore_n 2, 1) := dk_61 (dk_at dksX6_beats_0 4 rfl rfl)
theorem dX6_beats_5 : decode cX6_beats 5 = .ok (.aload_n 0, 1) := dk_42 (dk_at dksX6_beats_0 5 rfl rfl)
theorem dX6_beats_6 : decode cX6_beats 6 = .ok (.invokevirtual 102, 3) := dk_182 0 102 (dk_at dksX6_beats_0 6 rfl rfl)
theorem dX6_beats_9 : decode cX6_beats 9 = .ok (.istore_n 3, 1) := dk_62 (dk_at dksX6_beats_0 9 rfl rfl)
theorem dX6_beats_10 : decode cX6_beats 10 = .ok (.aload_n 1, 1) := dk_43 (dk_at dksX6_beats_0 10 rfl rfl)
theorem dX6_beats_11 : decode cX6_beats 11 = .ok (.getfield 105, 3) := dk_180 0 105 (dk_at dksX6_beats_0 11 rfl rfl)
theorem dX6_beats_14 : decode cX6_beats 14 = .ok (.aload_n 1, 1) := dk_43 (dk_at dksX6_beats_0 14 rfl rfl)
theorem dX6_beats_15 : decode cX6_beats 15 = .ok (.getfield 110, 3) := dk_180 0 110 (dk_at dksX6_beats_0 15 rfl rfl)
theorem dX6_beats_18 : decode cX6_beats 18 = .ok (.arraylength, 1) := dk_190 (dk_at dksX6_beats_0 18 rfl rfl)
theorem dX6_beats_19 : decode cX6_beats 19 = .ok (.if_icmp .ne 12, 3) := dk_160 0 12 (dk_at dksX6_beats_0 19 rfl rfl)
theorem dX6_beats_22 : decode cX6_beats 22 = .ok (.aload_n 0, 1) := dk_42 (dk_at dksX6_beats_0 22 rfl rfl)
theorem dX6_beats_23 : decode cX6_beats 23 = .ok (.iconst 3, 1) := dk_6 (dk_at dksX6_beats_0 23 rfl rfl)
theorem dX6_beats_24 : decode cX6_beats 24 = .ok (.iload_n 2, 1) := dk_28 (dk_at dksX6_beats_1 0 rfl rfl)
theorem dX6_beats_25 : decode cX6_beats 25 = .ok (.invokevirtual 79, 3) := dk_182 0 79 (dk_at dksX6_beats_1 1 rfl rfl)
theorem dX6_beats_28 : decode cX6_beats 28 = .ok (.goto 8, 3) := dk_167 0 8 (dk_at dksX6_beats_1 4 rfl rfl)
theorem dX6_beats_31 : decode cX6_beats 31 = .ok (.aload_n 1, 1) := dk_43 (dk_at dksX6_beats_1 7 rfl rfl)
theorem dX6_beats_32 : decode cX6_beats 32 = .ok (.iload_n 3, 1) := dk_29 (dk_at dksX6_beats_1 8 rfl rfl)
theorem dX6_beats_33 : decode cX6_beats 33 = .ok (.invokevirtual 112, 3) := dk_182 0 112 (dk_at dksX6_beats_1 9 rfl rfl)
theorem dX6_beats_36 : decode cX6_beats 36 = .ok (.aload_n 0, 1) := dk_42 (dk_at dksX6_beats_1 12 rfl rfl)
theorem dX6_beats_37 : decode cX6_beats 37 = .ok (.invokevirtual 115, 3) := dk_182 0 115 (dk_at dksX6_beats_1 13 rfl rfl)
theorem dX6_beats_40 : decode cX6_beats 40 = .ok (.ifCond .ne (-40), 3) := dk_154 255 216 (dk_at dksX6_beats_1 16 rfl rfl)
theorem dX6_beats_43 : decode cX6_beats 43 = .ok (.return_, 1) := dk_177 (dk_at dksX6_beats_1 19 rfl rfl)
abbrev cX6_beat : ByteArray := prog_12_method_10_code
def yX6_beat : MethodName := ⟨RX6, "beat", "()I"⟩
def dkwX6_beat_0 : List UInt8 := [42, 42, 180, 0, 3, 180, 0, 94, 182, 0, 98, 172]
abbrev dktX6_beat_0 : List UInt8 := dkwX6_beat_0 ++ []
theorem dksX6_beat_0 : cX6_beat.data.toList.drop 0 = dktX6_beat_0 := by decide +kernel
theorem dX6_beat_0 : decode cX6_beat 0 = .ok (.aload_n 0, 1) := dk_42 (dk_at dksX6_beat_0 0 rfl rfl)
theorem dX6_beat_1 : decode cX6_beat 1 = .ok (.aload_n 0, 1) := dk_42 (dk_at dksX6_beat_0 1 rfl rfl)
theorem dX6_beat_2 : decode cX6_beat 2 = .ok (.getfield 3, 3) := dk_180 0 3 (dk_at dksX6_beat_0 2 rfl rfl)
theorem dX6_beat_5 : decode cX6_beat 5 = .ok (.getfield 94, 3) := dk_180 0 94 (dk_at dksX6_beat_0 5 rfl rfl)
theorem dX6_beat_8 : decode cX6_beat 8 = .ok (.invokevirtual 98, 3) := dk_182 0 98 (dk_at dksX6_beat_0 8 rfl rfl)
theorem dX6_beat_11 : decode cX6_beat 11 = .ok (.ireturn, 1) := dk_172 (dk_at dksX6_beat_0 11 rfl rfl)
abbrev cX6_add : ByteArray := prog_12_method_15_code
def yX6_add : MethodName := ⟨RX6, "add", "(Ljava/util/ArrayList;Ljava/lang/Object;II)V"⟩
def dkwX6_add_1 : List UInt8 := [177]
abbrev dktX6_add_1 : List UInt8 := dkwX6_add_1 ++ []
def dkwX6_add_0 : List UInt8 := [43, 182, 0, 118, 29, 160, 0, 13, 42, 6, 21, 4, 182, 0, 79, 167, 0, 9, 43, 44, 182, 0, 123, 87]
abbrev dktX6_add_0 : List UInt8 := dkwX6_add_0 ++ dktX6_add_1
theorem dksX6_add_0 : cX6_add.data.toList.drop 0 = dktX6_add_0 := by decide +kernel
theorem dksX6_add_1 : cX6_add.data.toList.drop 24 = dktX6_add_1 := dk_seg dksX6_add_0 24 rfl rfl
theorem dX6_add_0 : decode cX6_add 0 = .ok (.aload_n 1, 1) := dk_43 (dk_at dksX6_add_0 0 rfl rfl)
theorem dX6_add_1 : decode cX6_add 1 = .ok (.invokevirtual 118, 3) := dk_182 0 118 (dk_at dksX6_add_0 1 rfl rfl)
theorem dX6_add_4 : decode cX6_add 4 = .ok (.iload_n 3, 1) := dk_29 (dk_at dksX6_add_0 4 rfl rfl)
theorem dX6_add_5 : decode cX6_add 5 = .ok (.if_icmp .ne 13, 3) := dk_160 0 13 (dk_at dksX6_add_0 5 rfl rfl)
theorem dX6_add_8 : decode cX6_add 8 = .ok (.aload_n 0, 1) := dk_42 (dk_at dksX6_add_0 8 rfl rfl)
theorem dX6_add_9 : decode cX6_add 9 = .ok (.iconst 3, 1) := dk_6 (dk_at dksX6_add_0 9 rfl rfl)
theorem dX6_add_10 : decode cX6_add 10 = .ok (.iload 4, 2) := dk_21 4 (dk_at dksX6_add_0 10 rfl rfl)
theorem dX6_add_12 : decode cX6_add 12 = .ok (.invokevirtual 79, 3) := dk_182 0 79 (dk_at dksX6_add_0 12 rfl rfl)
theorem dX6_add_15 : decode cX6_add 15 = .ok (.goto 9, 3) := dk_167 0 9 (dk_at dksX6_add_0 15 rfl rfl)
theorem dX6_add_18 : decode cX6_add 18 = .ok (.aload_n 1, 1) := dk_43 (dk_at dksX6_add_0 18 rfl rfl)
theorem dX6_add_19 : decode cX6_add 19 = .ok (.aload_n 2, 1) := dk_44 (dk_at dksX6_add_0 19 rfl rfl)
theorem dX6_add_20 : decode cX6_add 20 = .ok (.invokevirtual 123, 3) := dk_182 0 123 (dk_at dksX6_add_0 20 rfl rfl)
theorem dX6_add_23 : decode cX6_add 23 = .ok (.pop, 1) := dk_87 (dk_at dksX6_add_0 23 rfl rfl)
theorem dX6_add_24 : decode cX6_add 24 = .ok (.return_, 1) := dk_177 (dk_at dksX6_add_1 0 rfl rfl)
theorem q127 : (Jvm.Cond.initialized "OneDrum$Reader") ∈ lw_all := lw_g (lw_at lw_m1 10 rfl) rfl
theorem q224 : (Jvm.Cond.fieldLink "OneDrum$Reader" (26 : Nat) "OneDrum$All" "tape" "[B") ∈ lw_all := lw_g (lw_at lw_m1 107 rfl) rfl
theorem q342 : (Jvm.Cond.fieldLink "OneDrum$Reader" (110 : Nat) "OneDrum$Beats" "at" "[B") ∈ lw_all := lw_g (lw_at lw_m1 225 rfl) rfl
theorem q351 : (Jvm.Cond.fieldLink "OneDrum$Reader" (105 : Nat) "OneDrum$Beats" "many" "I") ∈ lw_all := lw_g (lw_at lw_m1 234 rfl) rfl
theorem q360 : (Jvm.Cond.fieldLinkNest "OneDrum$Reader" (94 : Nat) "OneDrum" "beatWords" "[Ljava/lang/String;" "OneDrum") ∈ lw_tbl := lw_at lw_m2 3 rfl
theorem q372 : (Jvm.Cond.fieldLinkNest "OneDrum$Reader" (22 : Nat) "OneDrum" "all" "LOneDrum$All;" "OneDrum") ∈ lw_tbl := lw_at lw_m2 15 rfl
theorem q506 : (Jvm.Cond.instanceMethod ({ cls := "OneDrum$Reader", name := "<init>", desc := "(LOneDrum;I)V" } : Jvm.MethodName)) ∈ lw_all := lw_g (lw_at lw_m2 149 rfl) rfl
theorem q507 : (Jvm.Cond.code ({ cls := "OneDrum$Reader", name := "<init>", desc := "(LOneDrum;I)V" } : Jvm.MethodName) prog_12_method_1_code (3 : Nat) (Option.none : Option Jvm.ClassFile.FieldType)) ∈ lw_all := lw_g (lw_at lw_m2 150 rfl) rfl
theorem q508 : (Jvm.Cond.methodLink "OneDrum$Reader" (9 : Nat) ({ cls := "java/lang/Object", name := "<init>", desc := "()V" } : Jvm.MethodName)) ∈ lw_all := lw_g (lw_at lw_m2 151 rfl) rfl
theorem q582 : (Jvm.Cond.fieldLink "OneDrum$Reader" (15 : Nat) "OneDrum$Reader" "length" "I") ∈ lw_all := lw_g (lw_at lw_m2 225 rfl) rfl
theorem q583 : (Jvm.Cond.fieldLink "OneDrum$Reader" (19 : Nat) "OneDrum$Reader" "at" "I") ∈ lw_all := lw_g (lw_at lw_m2 226 rfl) rfl
theorem q584 : (Jvm.Cond.fieldLink "OneDrum$Reader" (53 : Nat) "OneDrum$Reader" "sort" "I") ∈ lw_all := lw_g (lw_at lw_m2 227 rfl) rfl
theorem q585 : (Jvm.Cond.fieldLink "OneDrum$Reader" (39 : Nat) "OneDrum$Reader" "value" "I") ∈ lw_all := lw_g (lw_at lw_m2 228 rfl) rfl
theorem q586 : (Jvm.Cond.fieldLink "OneDrum$Reader" (50 : Nat) "OneDrum$Reader" "letters" "I") ∈ lw_all := lw_g (lw_at lw_m2 229 rfl) rfl
theorem q587 : (Jvm.Cond.fieldLink "OneDrum$Reader" (46 : Nat) "OneDrum$Reader" "word" "J") ∈ lw_all := lw_g (lw_at lw_m2 230 rfl) rfl
theorem q592 : (Jvm.Cond.fieldLink "OneDrum$Reader" (36 : Nat) "OneDrum$Reader" "place" "I") ∈ lw_all := lw_g (lw_at lw_m2 235 rfl) rfl
theorem q595 : (Jvm.Cond.fieldLink "OneDrum$Reader" (69 : Nat) "OneDrum$Reader" "fault" "I") ∈ lw_all := lw_g (lw_at lw_m2 238 rfl) rfl
theorem q597 : (Jvm.Cond.fieldLink "OneDrum$Reader" (72 : Nat) "OneDrum$Reader" "faultPlace" "I") ∈ lw_all := lw_g (lw_at lw_m3 0 rfl) rfl
theorem q605 : (Jvm.Cond.fieldLink "OneDrum$Reader" (83 : Nat) "OneDrum$Reader" "good" "Z") ∈ lw_all := lw_g (lw_at lw_m3 8 rfl) rfl
theorem q606 : (Jvm.Cond.fieldLink "OneDrum$Reader" (3 : Nat) "OneDrum$Reader" "this$0" "LOneDrum;") ∈ lw_all := lw_g (lw_at lw_m3 9 rfl) rfl
theorem q612 : (Jvm.Cond.soleField "OneDrum$Reader" "length") ∈ lw_all := lw_g (lw_at lw_m3 15 rfl) rfl
theorem q614 : (Jvm.Cond.soleField "OneDrum$Reader" "at") ∈ lw_all := lw_g (lw_at lw_m3 17 rfl) rfl
theorem q616 : (Jvm.Cond.soleField "OneDrum$Reader" "sort") ∈ lw_all := lw_g (lw_at lw_m3 19 rfl) rfl
theorem q618 : (Jvm.Cond.soleField "OneDrum$Reader" "value") ∈ lw_all := lw_g (lw_at lw_m3 21 rfl) rfl
theorem q620 : (Jvm.Cond.soleField "OneDrum$Reader" "letters") ∈ lw_all := lw_g (lw_at lw_m3 23 rfl) rfl
theorem q622 : (Jvm.Cond.soleField "OneDrum$Reader" "word") ∈ lw_all := lw_g (lw_at lw_m3 25 rfl) rfl
theorem q624 : (Jvm.Cond.soleField "OneDrum$Reader" "place") ∈ lw_all := lw_g (lw_at lw_m3 27 rfl) rfl
theorem q626 : (Jvm.Cond.soleField "OneDrum$Reader" "fault") ∈ lw_all := lw_g (lw_at lw_m3 29 rfl) rfl
theorem q628 : (Jvm.Cond.soleField "OneDrum$Reader" "faultPlace") ∈ lw_all := lw_g (lw_at lw_m3 31 rfl) rfl
theorem q630 : (Jvm.Cond.soleField "OneDrum$Reader" "good") ∈ lw_all := lw_g (lw_at lw_m3 33 rfl) rfl
theorem q632 : (Jvm.Cond.soleField "OneDrum$Reader" "this$0") ∈ lw_all := lw_g (lw_at lw_m3 35 rfl) rfl
theorem q754 : (Jvm.Cond.instanceMethod ({ cls := "OneDrum$Reader", name := "text", desc := "()V" } : Jvm.MethodName)) ∈ lw_all := lw_g (lw_at lw_m3 157 rfl) rfl
theorem q755 : (Jvm.Cond.sameMethod "OneDrum$Reader" "OneDrum$Reader" "text" "()V") ∈ lw_all := lw_g (lw_at lw_m3 158 rfl) rfl
theorem q760 : (Jvm.Cond.code ({ cls := "OneDrum$Reader", name := "text", desc := "()V" } : Jvm.MethodName) prog_12_method_16_code (3 : Nat) (Option.none : Option Jvm.ClassFile.FieldType)) ∈ lw_all := lw_g (lw_at lw_m3 163 rfl) rfl
theorem q761 : (Jvm.Cond.methodLink "OneDrum$Reader" (87 : Nat) ({ cls := "OneDrum$Reader", name := "next", desc := "()V" } : Jvm.MethodName)) ∈ lw_all := lw_g (lw_at lw_m3 164 rfl) rfl
theorem q762 : (Jvm.Cond.privateMethod ({ cls := "OneDrum$Reader", name := "next", desc := "()V" } : Jvm.MethodName)) ∈ lw_tbl := lw_at lw_m3 165 rfl
theorem q763 : (Jvm.Cond.instanceMethod ({ cls := "OneDrum$Reader", name := "next", desc := "()V" } : Jvm.MethodName)) ∈ lw_all := lw_g (lw_at lw_m3 166 rfl) rfl
theorem q764 : (Jvm.Cond.code ({ cls := "OneDrum$Reader", name := "next", desc := "()V" } : Jvm.MethodName) prog_12_method_3_code (2 : Nat) (Option.none : Option Jvm.ClassFile.FieldType)) ∈ lw_all := lw_g (lw_at lw_m3 167 rfl) rfl
theorem q765 : (Jvm.Cond.methodLink "OneDrum$Reader" (32 : Nat) ({ cls := "OneDrum$Reader", name := "see", desc := "()I" } : Jvm.MethodName)) ∈ lw_all := lw_g (lw_at lw_m3 168 rfl) rfl
theorem q766 : (Jvm.Cond.privateMethod ({ cls := "OneDrum$Reader", name := "see", desc := "()I" } : Jvm.MethodName)) ∈ lw_tbl := lw_at lw_m3 169 rfl
theorem q767 : (Jvm.Cond.instanceMethod ({ cls := "OneDrum$Reader", name := "see", desc := "()I" } : Jvm.MethodName)) ∈ lw_all := lw_g (lw_at lw_m3 170 rfl) rfl
theorem q768 : (Jvm.Cond.code ({ cls := "OneDrum$Reader", name := "see", desc := "()I" } : Jvm.MethodName) prog_12_method_2_code (1 : Nat) (Option.some Jvm.ClassFile.FieldType.int)) ∈ lw_all := lw_g (lw_at lw_m3 171 rfl) rfl
theorem q769 : (Jvm.Cond.methodLinkNest "OneDrum$Reader" (42 : Nat) ({ cls := "OneDrum", name := "in", desc := "(III)Z" } : Jvm.MethodName) "OneDrum") ∈ lw_tbl := lw_at lw_m3 172 rfl
theorem q770 : (Jvm.Cond.methodLink "OneDrum$Reader" (126 : Nat) ({ cls := "OneDrum$Reader", name := "words", desc := "()[Ljava/lang/String;" } : Jvm.MethodName)) ∈ lw_all := lw_g (lw_at lw_m3 173 rfl) rfl
theorem q771 : (Jvm.Cond.declares ({ cls := "OneDrum$Reader", name := "words", desc := "()[Ljava/lang/String;" } : Jvm.MethodName)) ∈ lw_tbl := lw_at lw_m3 174 rfl
theorem q772 : (Jvm.Cond.sameMethod "OneDrum$Reader" "OneDrum$Reader" "words" "()[Ljava/lang/String;") ∈ lw_all := lw_g (lw_at lw_m3 175 rfl) rfl
theorem q785 : (Jvm.Cond.methodLink "OneDrum$Reader" (98 : Nat) ({ cls := "OneDrum$Reader", name := "oneOf", desc := "([Ljava/lang/String;)I" } : Jvm.MethodName)) ∈ lw_all := lw_g (lw_at lw_m3 188 rfl) rfl
theorem q786 : (Jvm.Cond.instanceMethod ({ cls := "OneDrum$Reader", name := "oneOf", desc := "([Ljava/lang/String;)I" } : Jvm.MethodName)) ∈ lw_all := lw_g (lw_at lw_m3 189 rfl) rfl
theorem q787 : (Jvm.Cond.sameMethod "OneDrum$Reader" "OneDrum$Reader" "oneOf" "([Ljava/lang/String;)I") ∈ lw_all := lw_g (lw_at lw_m3 190 rfl) rfl
theorem q792 : (Jvm.Cond.code ({ cls := "OneDrum$Reader", name := "oneOf", desc := "([Ljava/lang/String;)I" } : Jvm.MethodName) prog_12_method_9_code (3 : Nat) (Option.some Jvm.ClassFile.FieldType.int)) ∈ lw_all := lw_g (lw_at lw_m3 195 rfl) rfl
theorem q793 : (Jvm.Cond.methodLink "OneDrum$Reader" (90 : Nat) ({ cls := "OneDrum$Reader", name := "isWord", desc := "(Ljava/lang/String;)Z" } : Jvm.MethodName)) ∈ lw_all := lw_g (lw_at lw_m3 196 rfl) rfl
theorem q794 : (Jvm.Cond.privateMethod ({ cls := "OneDrum$Reader", name := "isWord", desc := "(Ljava/lang/String;)Z" } : Jvm.MethodName)) ∈ lw_tbl := lw_at lw_m3 197 rfl
theorem q795 : (Jvm.Cond.instanceMethod ({ cls := "OneDrum$Reader", name := "isWord", desc := "(Ljava/lang/String;)Z" } : Jvm.MethodName)) ∈ lw_all := lw_g (lw_at lw_m3 198 rfl) rfl
theorem q796 : (Jvm.Cond.code ({ cls := "OneDrum$Reader", name := "isWord", desc := "(Ljava/lang/String;)Z" } : Jvm.MethodName) prog_12_method_5_code (5 : Nat) (Option.some Jvm.ClassFile.FieldType.boolean)) ∈ lw_all := lw_g (lw_at lw_m3 199 rfl) rfl
theorem q797 : (Jvm.Cond.methodLink "OneDrum$Reader" (56 : Nat) ({ cls := "java/lang/String", name := "length", desc := "()I" } : Jvm.MethodName)) ∈ lw_all := lw_g (lw_at lw_m3 200 rfl) rfl
theorem q807 : (Jvm.Cond.methodLink "OneDrum$Reader" (60 : Nat) ({ cls := "java/lang/String", name := "charAt", desc := "(I)C" } : Jvm.MethodName)) ∈ lw_all := lw_g (lw_at lw_m3 210 rfl) rfl
theorem q845 : (Jvm.Cond.methodLink "OneDrum$Reader" (75 : Nat) ({ cls := "OneDrum$Reader", name := "wrong", desc := "()LOneDrum$Wrong;" } : Jvm.MethodName)) ∈ lw_all := lw_g (lw_at lw_m4 8 rfl) rfl
theorem q846 : (Jvm.Cond.privateMethod ({ cls := "OneDrum$Reader", name := "wrong", desc := "()LOneDrum$Wrong;" } : Jvm.MethodName)) ∈ lw_tbl := lw_at lw_m4 9 rfl
theorem q847 : (Jvm.Cond.instanceMethod ({ cls := "OneDrum$Reader", name := "wrong", desc := "()LOneDrum$Wrong;" } : Jvm.MethodName)) ∈ lw_all := lw_g (lw_at lw_m4 10 rfl) rfl
theorem q848 : (Jvm.Cond.code ({ cls := "OneDrum$Reader", name := "wrong", desc := "()LOneDrum$Wrong;" } : Jvm.MethodName) prog_12_method_6_code (1 : Nat) (Option.some (Jvm.ClassFile.FieldType.object "OneDrum$Wrong"))) ∈ lw_all := lw_g (lw_at lw_m4 11 rfl) rfl
theorem q849 : (Jvm.Cond.classLink "OneDrum$Reader" (64 : Nat) "OneDrum$Wrong") ∈ lw_all := lw_g (lw_at lw_m4 12 rfl) rfl
theorem q886 : (Jvm.Cond.methodLink "OneDrum$Reader" (66 : Nat) ({ cls := "OneDrum$Wrong", name := "<init>", desc := "(I)V" } : Jvm.MethodName)) ∈ lw_all := lw_g (lw_at lw_m4 49 rfl) rfl
theorem q909 : (Jvm.Cond.methodLink "OneDrum$Reader" (130 : Nat) ({ cls := "OneDrum$Reader", name := "line", desc := "(II)V" } : Jvm.MethodName)) ∈ lw_all := lw_g (lw_at lw_m4 72 rfl) rfl
theorem q910 : (Jvm.Cond.declares ({ cls := "OneDrum$Reader", name := "line", desc := "(II)V" } : Jvm.MethodName)) ∈ lw_tbl := lw_at lw_m4 73 rfl
theorem q911 : (Jvm.Cond.sameMethod "OneDrum$Reader" "OneDrum$Reader" "line" "(II)V") ∈ lw_all := lw_g (lw_at lw_m4 74 rfl) rfl
theorem q917 : (Jvm.Cond.declares ({ cls := "OneDrum$Reader", name := "number", desc := "(II)I" } : Jvm.MethodName)) ∈ lw_tbl := lw_at lw_m4 80 rfl
theorem q919 : (Jvm.Cond.instanceMethod ({ cls := "OneDrum$Reader", name := "number", desc := "(II)I" } : Jvm.MethodName)) ∈ lw_all := lw_g (lw_at lw_m4 82 rfl) rfl
theorem q920 : (Jvm.Cond.code ({ cls := "OneDrum$Reader", name := "number", desc := "(II)I" } : Jvm.MethodName) prog_12_method_8_code (4 : Nat) (Option.some Jvm.ClassFile.FieldType.int)) ∈ lw_all := lw_g (lw_at lw_m4 83 rfl) rfl
theorem q921 : (Jvm.Cond.methodLink "OneDrum$Reader" (79 : Nat) ({ cls := "OneDrum$Reader", name := "note", desc := "(II)V" } : Jvm.MethodName)) ∈ lw_all := lw_g (lw_at lw_m4 84 rfl) rfl
theorem q922 : (Jvm.Cond.instanceMethod ({ cls := "OneDrum$Reader", name := "note", desc := "(II)V" } : Jvm.MethodName)) ∈ lw_all := lw_g (lw_at lw_m4 85 rfl) rfl
theorem q923 : (Jvm.Cond.sameMethod "OneDrum$Reader" "OneDrum$Reader" "note" "(II)V") ∈ lw_all := lw_g (lw_at lw_m4 86 rfl) rfl
theorem q928 : (Jvm.Cond.code ({ cls := "OneDrum$Reader", name := "note", desc := "(II)V" } : Jvm.MethodName) prog_12_method_7_code (3 : Nat) (Option.none : Option Jvm.ClassFile.FieldType)) ∈ lw_all := lw_g (lw_at lw_m4 91 rfl) rfl
theorem q931 : (Jvm.Cond.declares ({ cls := "OneDrum$Reader", name := "isWord", desc := "()Z" } : Jvm.MethodName)) ∈ lw_tbl := lw_at lw_m4 94 rfl
theorem q933 : (Jvm.Cond.instanceMethod ({ cls := "OneDrum$Reader", name := "isWord", desc := "()Z" } : Jvm.MethodName)) ∈ lw_all := lw_g (lw_at lw_m4 96 rfl) rfl
theorem q934 : (Jvm.Cond.code ({ cls := "OneDrum$Reader", name := "isWord", desc := "()Z" } : Jvm.MethodName) prog_12_method_4_code (1 : Nat) (Option.some Jvm.ClassFile.FieldType.boolean)) ∈ lw_all := lw_g (lw_at lw_m4 97 rfl) rfl
theorem q937 : (Jvm.Cond.declares ({ cls := "OneDrum$Reader", name := "oneOf", desc := "([Ljava/lang/String;)I" } : Jvm.MethodName)) ∈ lw_tbl := lw_at lw_m4 100 rfl
theorem q941 : (Jvm.Cond.declares ({ cls := "OneDrum$Reader", name := "note", desc := "(II)V" } : Jvm.MethodName)) ∈ lw_tbl := lw_at lw_m4 104 rfl
theorem q956 : (Jvm.Cond.declares ({ cls := "OneDrum$Reader", name := "beats", desc := "(LOneDrum$Beats;)V" } : Jvm.MethodName)) ∈ lw_tbl := lw_at lw_m4 119 rfl
theorem q958 : (Jvm.Cond.instanceMethod ({ cls := "OneDrum$Reader", name := "beats", desc := "(LOneDrum$Beats;)V" } : Jvm.MethodName)) ∈ lw_all := lw_g (lw_at lw_m4 121 rfl) rfl
theorem q959 : (Jvm.Cond.code ({ cls := "OneDrum$Reader", name := "beats", desc := "(LOneDrum$Beats;)V" } : Jvm.MethodName) prog_12_method_11_code (4 : Nat) (Option.none : Option Jvm.ClassFile.FieldType)) ∈ lw_all := lw_g (lw_at lw_m4 122 rfl) rfl
theorem q960 : (Jvm.Cond.methodLink "OneDrum$Reader" (102 : Nat) ({ cls := "OneDrum$Reader", name := "beat", desc := "()I" } : Jvm.MethodName)) ∈ lw_all := lw_g (lw_at lw_m4 123 rfl) rfl
theorem q961 : (Jvm.Cond.instanceMethod ({ cls := "OneDrum$Reader", name := "beat", desc := "()I" } : Jvm.MethodName)) ∈ lw_all := lw_g (lw_at lw_m4 124 rfl) rfl
theorem q962 : (Jvm.Cond.sameMethod "OneDrum$Reader" "OneDrum$Reader" "beat" "()I") ∈ lw_all := lw_g (lw_at lw_m4 125 rfl) rfl
theorem q967 : (Jvm.Cond.code ({ cls := "OneDrum$Reader", name := "beat", desc := "()I" } : Jvm.MethodName) prog_12_method_10_code (1 : Nat) (Option.some Jvm.ClassFile.FieldType.int)) ∈ lw_all := lw_g (lw_at lw_m4 130 rfl) rfl
theorem q968 : (Jvm.Cond.methodLink "OneDrum$Reader" (112 : Nat) ({ cls := "OneDrum$Beats", name := "add", desc := "(I)V" } : Jvm.MethodName)) ∈ lw_all := lw_g (lw_at lw_m4 131 rfl) rfl
theorem q972 : (Jvm.Cond.methodLink "OneDrum$Reader" (115 : Nat) ({ cls := "OneDrum$Reader", name := "isWord", desc := "()Z" } : Jvm.MethodName)) ∈ lw_all := lw_g (lw_at lw_m4 135 rfl) rfl
theorem q1020 : (Jvm.Cond.declares ({ cls := "OneDrum$Reader", name := "beat", desc := "()I" } : Jvm.MethodName)) ∈ lw_tbl := lw_at lw_m4 183 rfl
theorem q1060 : (Jvm.Cond.declares ({ cls := "OneDrum$Reader", name := "add", desc := "(Ljava/util/ArrayList;Ljava/lang/Object;II)V" } : Jvm.MethodName)) ∈ lw_tbl := lw_at lw_m4 223 rfl
theorem q1062 : (Jvm.Cond.instanceMethod ({ cls := "OneDrum$Reader", name := "add", desc := "(Ljava/util/ArrayList;Ljava/lang/Object;II)V" } : Jvm.MethodName)) ∈ lw_all := lw_g (lw_at lw_m4 225 rfl) rfl
theorem q1063 : (Jvm.Cond.code ({ cls := "OneDrum$Reader", name := "add", desc := "(Ljava/util/ArrayList;Ljava/lang/Object;II)V" } : Jvm.MethodName) prog_12_method_15_code (5 : Nat) (Option.none : Option Jvm.ClassFile.FieldType)) ∈ lw_all := lw_g (lw_at lw_m4 226 rfl) rfl
theorem q1064 : (Jvm.Cond.methodLink "OneDrum$Reader" (118 : Nat) ({ cls := "java/util/ArrayList", name := "size", desc := "()I" } : Jvm.MethodName)) ∈ lw_all := lw_g (lw_at lw_m4 227 rfl) rfl
theorem q1065 : (Jvm.Cond.methodLink "OneDrum$Reader" (123 : Nat) ({ cls := "java/util/ArrayList", name := "add", desc := "(Ljava/lang/Object;)Z" } : Jvm.MethodName)) ∈ lw_all := lw_g (lw_at lw_m4 228 rfl) rfl
theorem q1194 : (Jvm.Cond.declares ({ cls := "OneDrum$Reader", name := "lay", desc := "(I)I" } : Jvm.MethodName)) ∈ lw_tbl := lw_at lw_m5 117 rfl
theorem q1195 : (Jvm.Cond.sameMethod "OneDrum$Reader" "OneDrum$Reader" "lay" "(I)I") ∈ lw_all := lw_g (lw_at lw_m5 118 rfl) rfl
theorem q2203 : (Jvm.Cond.sameMethod "OneDrum$Reader" "OneDrum$Reader" "next" "()V") ∈ lw_all := lw_g (lw_at lw_m9 166 rfl) rfl
theorem q2204 : (Jvm.Cond.sameMethod "OneDrum$Reader" "OneDrum$Reader" "see" "()I") ∈ lw_all := lw_g (lw_at lw_m9 167 rfl) rfl
theorem q2205 : (Jvm.Cond.sameMethod "OneDrum$Reader" "OneDrum$Reader" "isWord" "(Ljava/lang/String;)Z") ∈ lw_all := lw_g (lw_at lw_m9 168 rfl) rfl
theorem q2206 : (Jvm.Cond.sameMethod "OneDrum$Reader" "OneDrum$Reader" "wrong" "()LOneDrum$Wrong;") ∈ lw_all := lw_g (lw_at lw_m9 169 rfl) rfl
theorem q2208 : (Jvm.Cond.sameMethod "OneDrum$Reader" "OneDrum$Reader" "isWord" "()Z") ∈ lw_all := lw_g (lw_at lw_m9 171 rfl) rfl
/-! OneDrum$WarReader -/
set_option maxRecDepth 100000
def RX7 : String := "OneDrum$WarReader"
def TX7 : u_T := fun k => match k with
  | 0 => ("OneDrum$Reader", "length", "I", true)
  | 1 => ("OneDrum$Reader", "at", "I", false)
  | 2 => ("OneDrum$Reader", "sort", "I", false)
  | 3 => ("OneDrum$Reader", "value", "I", false)
  | 4 => ("OneDrum$Reader", "letters", "I", false)
  | 5 => ("OneDrum$Reader", "word", "J", false)
  | 6 => ("OneDrum$Reader", "place", "I", false)
  | 7 => ("OneDrum$Reader", "fault", "I", false)
  | 8 => ("OneDrum$Reader", "faultPlace", "I", false)
  | 9 => ("OneDrum$Reader", "good", "Z", false)
  | 10 => ("OneDrum$Reader", "this$0", "LOneDrum;", true)
  | 11 => ("OneDrum$WarReader", "told", "LOneDrum$War;", true)
  | _ => ("OneDrum$WarReader", "this$0", "LOneDrum;", true)
def tyX7 : Nat → FieldType := fun k => match k with
  | 0 => .int
  | 1 => .int
  | 2 => .int
  | 3 => .int
  | 4 => .int
  | 5 => .long
  | 6 => .int
  | 7 => .int
  | 8 => .int
  | 9 => .boolean
  | 10 => .object "OneDrum"
  | 11 => .object "OneDrum$War"
  | _ => .object "OneDrum"
abbrev wsX70 : List Cond := u_ws RX7 TX7 13
-- two fields of one name: no nmX7
set_option maxRecDepth 100000 in
theorem tyX7_ok : ∀ k, k < 13 → parseFieldDescriptor (TX7 k).2.2.1 = some (tyX7 k) := by decide +kernel
abbrev cX7_init : ByteArray := prog_21_method_1_code
def yX7_init : MethodName := ⟨RX7, "<init>", "(LOneDrum;I)V"⟩
def dkwX7_init_0 : List UInt8 := [42, 43, 181, 0, 3, 42, 43, 28, 183, 0, 9, 42, 187, 0, 15, 89, 183, 0, 17, 181, 0, 20, 177]
abbrev dktX7_init_0 : List UInt8 := dkwX7_init_0 ++ []
theorem dksX7_init_0 : cX7_init.data.toList.drop 0 = dktX7_init_0 := by decide +kernel
theorem dX7_init_0 : decode cX7_init 0 = .ok (.aload_n 0, 1) := dk_42 (dk_at dksX7_init_0 0 rfl rfl)
theorem dX7_init_1 : decode cX7_init 1 = .ok (.aload_n 1, 1) := dk_43 (dk_at dksX7_init_0 1 rfl rfl)
theorem dX7_init_2 : decode cX7_init 2 = .ok (.putfield 3, 3) := dk_181 0 3 (dk_at dksX7_init_0 2 rfl rfl)
theorem dX7_init_5 : decode cX7_init 5 = .ok (.aload_n 0, 1) := dk_42 (dk_at dksX7_init_0 5 rfl rfl)
theorem dX7_init_6 : decode cX7_init 6 = .ok (.aload_n 1, 1) := dk_43 (dk_at dksX7_init_0 6 rfl rfl)
theorem dX7_init_7 : decode cX7_init 7 = .ok (.iload_n 2, 1) := dk_28 (dk_at dksX7_init_0 7 rfl rfl)
theorem dX7_init_8 : decode cX7_init 8 = .ok (.invokespecial 9, 3) := dk_183 0 9 (dk_at dksX7_init_0 8 rfl rfl)
theorem dX7_init_11 : decode cX7_init 11 = .ok (.aload_n 0, 1) := dk_42 (dk_at dksX7_init_0 11 rfl rfl)
theorem dX7_init_12 : decode cX7_init 12 = .ok (.new 15, 3) := dk_187 0 15 (dk_at dksX7_init_0 12 rfl rfl)
theorem dX7_init_15 : decode cX7_init 15 = .ok (.dup, 1) := dk_89 (dk_at dksX7_init_0 15 rfl rfl)
theorem dX7_init_16 : decode cX7_init 16 = .ok (.invokespecial 17, 3) := dk_183 0 17 (dk_at dksX7_init_0 16 rfl rfl)
theorem dX7_init_19 : decode cX7_init 19 = .ok (.putfield 20, 3) := dk_181 0 20 (dk_at dksX7_init_0 19 rfl rfl)
theorem dX7_init_22 : decode cX7_init 22 = .ok (.return_, 1) := dk_177 (dk_at dksX7_init_0 22 rfl rfl)
abbrev cX7_words : ByteArray := prog_21_method_2_code
def yX7_words : MethodName := ⟨RX7, "words", "()[Ljava/lang/String;"⟩
def dkwX7_words_0 : List UInt8 := [42, 180, 0, 3, 180, 0, 24, 176]
abbrev dktX7_words_0 : List UInt8 := dkwX7_words_0 ++ []
theorem dksX7_words_0 : cX7_words.data.toList.drop 0 = dktX7_words_0 := by decide +kernel
theorem dX7_words_0 : decode cX7_words 0 = .ok (.aload_n 0, 1) := dk_42 (dk_at dksX7_words_0 0 rfl rfl)
theorem dX7_words_1 : decode cX7_words 1 = .ok (.getfield 3, 3) := dk_180 0 3 (dk_at dksX7_words_0 1 rfl rfl)
theorem dX7_words_4 : decode cX7_words 4 = .ok (.getfield 24, 3) := dk_180 0 24 (dk_at dksX7_words_0 4 rfl rfl)
theorem dX7_words_7 : decode cX7_words 7 = .ok (.areturn, 1) := dk_176 (dk_at dksX7_words_0 7 rfl rfl)
abbrev cX7_line : ByteArray := prog_21_method_5_code
def yX7_line : MethodName := ⟨RX7, "line", "(II)V"⟩
def dkwX7_line_8 : List UInt8 := [182, 0, 105, 177]
abbrev dktX7_line_8 : List UInt8 := dkwX7_line_8 ++ []
def dkwX7_line_7 : List UInt8 := [167, 0, 25, 42, 182, 0, 43, 42, 3, 16, 20, 182, 0, 28, 181, 0, 102, 167, 0, 8, 42, 28]
abbrev dktX7_line_7 : List UInt8 := dkwX7_line_7 ++ dktX7_line_8
def dkwX7_line_6 : List UInt8 := [182, 0, 28, 181, 0, 96, 167, 0, 41, 42, 182, 0, 43, 42, 3, 6, 182, 0, 28, 181, 0, 99]
abbrev dktX7_line_6 : List UInt8 := dkwX7_line_6 ++ dktX7_line_7
def dkwX7_line_5 : List UInt8 := [42, 182, 0, 43, 42, 3, 6, 182, 0, 28, 181, 0, 93, 167, 0, 57, 42, 182, 0, 43, 42, 4, 7]
abbrev dktX7_line_5 : List UInt8 := dkwX7_line_5 ++ dktX7_line_6
def dkwX7_line_4 : List UInt8 := [167, 0, 94, 42, 182, 0, 85, 62, 42, 180, 0, 20, 180, 0, 89, 29, 42, 182, 0, 85, 79, 167, 0, 73]
abbrev dktX7_line_4 : List UInt8 := dkwX7_line_4 ++ dktX7_line_5
def dkwX7_line_3 : List UInt8 := [182, 0, 28, 181, 0, 79, 167, 0, 111, 42, 180, 0, 20, 42, 3, 16, 9, 182, 0, 28, 181, 0, 82]
abbrev dktX7_line_3 : List UInt8 := dkwX7_line_3 ++ dktX7_line_4
def dkwX7_line_2 : List UInt8 := [42, 180, 0, 20, 42, 4, 7, 182, 0, 28, 181, 0, 75, 167, 0, 128, 42, 180, 0, 20, 42, 3, 16, 9]
abbrev dktX7_line_2 : List UInt8 := dkwX7_line_2 ++ dktX7_line_3
def dkwX7_line_1 : List UInt8 := [170, 0, 0, 0, 0, 0, 183, 0, 0, 0, 0, 0, 0, 0, 7, 0, 0, 0, 47, 0, 0, 0, 63, 0, 0, 0, 80, 0, 0, 0, 97, 0, 0, 0, 118, 0, 0, 0, 134, 0, 0, 0, 150, 0, 0, 0, 166]
abbrev dktX7_line_1 : List UInt8 := dkwX7_line_1 ++ dktX7_line_2
def dkwX7_line_0 : List UInt8 := [27]
abbrev dktX7_line_0 : List UInt8 := dkwX7_line_0 ++ dktX7_line_1
theorem dksX7_line_0 : cX7_line.data.toList.drop 0 = dktX7_line_0 := by decide +kernel
theorem dksX7_line_1 : cX7_line.data.toList.drop 1 = dktX7_line_1 := dk_seg dksX7_line_0 1 rfl rfl
theorem dksX7_line_2 : cX7_line.data.toList.drop 48 = dktX7_line_2 := dk_seg dksX7_line_1 47 rfl rfl
theorem dksX7_line_3 : cX7_line.data.toList.drop 72 = dktX7_line_3 := dk_seg dksX7_line_2 24 rfl rfl
theorem dksX7_line_4 : cX7_line.data.toList.drop 95 = dktX7_line_4 := dk_seg dksX7_line_3 23 rfl rfl
theorem dksX7_line_5 : cX7_line.data.toList.drop 119 = dktX7_line_5 := dk_seg dksX7_line_4 24 rfl rfl
theorem dksX7_line_6 : cX7_line.data.toList.drop 142 = dktX7_line_6 := dk_seg dksX7_line_5 23 rfl rfl
theorem dksX7_line_7 : cX7_line.data.toList.drop 164 = dktX7_line_7 := dk_seg dksX7_line_6 22 rfl rfl
theorem dksX7_line_8 : cX7_line.data.toList.drop 186 = dktX7_line_8 := dk_seg dksX7_line_7 22 rfl rfl
theorem dX7_line_0 : decode cX7_line 0 = .ok (.iload_n 1, 1) := dk_27 (dk_at dksX7_line_0 0 rfl rfl)
theorem dX7_line_1 : decode cX7_line 1 = .ok (.tableswitch 183 0 7 #[47, 63, 80, 97, 118, 134, 150, 166], 47) := by decide +kernel
theorem dX7_line_48 : decode cX7_line 48 = .ok (.aload_n 0, 1) := dk_42 (dk_at dksX7_line_2 0 rfl rfl)
theorem dX7_line_49 : decode cX7_line 49 = .ok (.getfield 20, 3) := dk_180 0 20 (dk_at dksX7_line_2 1 rfl rfl)
theorem dX7_line_52 : decode cX7_line 52 = .ok (.aload_n 0, 1) := dk_42 (dk_at dksX7_line_2 4 rfl rfl)
theorem dX7_line_53 : decode cX7_line 53 = .ok (.iconst 1, 1) := dk_4 (dk_at dksX7_line_2 5 rfl rfl)
theorem dX7_line_54 : decode cX7_line 54 = .ok (.iconst 4, 1) := dk_7 (dk_at dksX7_line_2 6 rfl rfl)
theorem dX7_line_55 : decode cX7_line 55 = .ok (.invokevirtual 28, 3) := dk_182 0 28 (dk_at dksX7_line_2 7 rfl rfl)
theorem dX7_line_58 : decode cX7_line 58 = .ok (.putfield 75, 3) := dk_181 0 75 (dk_at dksX7_line_2 10 rfl rfl)
theorem dX7_line_61 : decode cX7_line 61 = .ok (.goto 128, 3) := dk_167 0 128 (dk_at dksX7_line_2 13 rfl rfl)
theorem dX7_line_64 : decode cX7_line 64 = .ok (.aload_n 0, 1) := dk_42 (dk_at dksX7_line_2 16 rfl rfl)
theorem dX7_line_65 : decode cX7_line 65 = .ok (.getfield 20, 3) := dk_180 0 20 (dk_at dksX7_line_2 17 rfl rfl)
theorem dX7_line_68 : decode cX7_line 68 = .ok (.aload_n 0, 1) := dk_42 (dk_at dksX7_line_2 20 rfl rfl)
theorem dX7_line_69 : decode cX7_line 69 = .ok (.iconst 0, 1) := dk_3 (dk_at dksX7_line_2 21 rfl rfl)
theorem dX7_line_70 : decode cX7_line 70 = .ok (.bipush 9, 2) := dk_16 9 (dk_at dksX7_line_2 22 rfl rfl)
theorem dX7_line_72 : decode cX7_line 72 = .ok (.invokevirtual 28, 3) := dk_182 0 28 (dk_at dksX7_line_3 0 rfl rfl)
theorem dX7_line_75 : decode cX7_line 75 = .ok (.putfield 79, 3) := dk_181 0 79 (dk_at dksX7_line_3 3 rfl rfl)
theorem dX7_line_78 : decode cX7_line 78 = .ok (.goto 111, 3) := dk_167 0 111 (dk_at dksX7_line_3 6 rfl rfl)
theorem dX7_line_81 : decode cX7_line 81 = .ok (.aload_n 0, 1) := dk_42 (dk_at dksX7_line_3 9 rfl rfl)
theorem dX7_line_82 : decode cX7_line 82 = .ok (.getfield 20, 3) := dk_180 0 20 (dk_at dksX7_line_3 10 rfl rfl)
theorem dX7_line_85 : decode cX7_line 85 = .ok (.aload_n 0, 1) := dk_42 (dk_at dksX7_line_3 13 rfl rfl)
theorem dX7_line_86 : decode cX7_line 86 = .ok (.iconst 0, 1) := dk_3 (dk_at dksX7_line_3 14 rfl rfl)
theorem dX7_line_87 : decode cX7_line 87 = .ok (.bipush 9, 2) := dk_16 9 (dk_at dksX7_line_3 15 rfl rfl)
theorem dX7_line_89 : decode cX7_line 89 = .ok (.invokevirtual 28, 3) := dk_182 0 28 (dk_at dksX7_line_3 17 rfl rfl)
theorem dX7_line_92 : decode cX7_line 92 = .ok (.putfield 82, 3) := dk_181 0 82 (dk_at dksX7_line_3 20 rfl rfl)
theorem dX7_line_95 : decode cX7_line 95 = .ok (.goto 94, 3) := dk_167 0 94 (dk_at dksX7_line_4 0 rfl rfl)
theorem dX7_line_98 : decode cX7_line 98 = .ok (.aload_n 0, 1) := dk_42 (dk_at dksX7_line_4 3 rfl rfl)
theorem dX7_line_99 : decode cX7_line 99 = .ok (.invokevirtual 85, 3) := dk_182 0 85 (dk_at dksX7_line_4 4 rfl rfl)
theorem dX7_line_102 : decode cX7_line 102 = .ok (.istore_n 3, 1) := dk_62 (dk_at dksX7_line_4 7 rfl rfl)
theorem dX7_line_103 : decode cX7_line 103 = .ok (.aload_n 0, 1) := dk_42 (dk_at dksX7_line_4 8 rfl rfl)
theorem dX7_line_104 : decode cX7_line 104 = .ok (.getfield 20, 3) := dk_180 0 20 (dk_at dksX7_line_4 9 rfl rfl)
theorem dX7_line_107 : decode cX7_line 107 = .ok (.getfield 89, 3) := dk_180 0 89 (dk_at dksX7_line_4 12 rfl rfl)
theorem dX7_line_110 : decode cX7_line 110 = .ok (.iload_n 3, 1) := dk_29 (dk_at dksX7_line_4 15 rfl rfl)
theorem dX7_line_111 : decode cX7_line 111 = .ok (.aload_n 0, 1) := dk_42 (dk_at dksX7_line_4 16 rfl rfl)
theorem dX7_line_112 : decode cX7_line 112 = .ok (.invokevirtual 85, 3) := dk_182 0 85 (dk_at dksX7_line_4 17 rfl rfl)
theorem dX7_line_115 : decode cX7_line 115 = .ok (.iastore, 1) := dk_79 (dk_at dksX7_line_4 20 rfl rfl)
theorem dX7_line_116 : decode cX7_line 116 = .ok (.goto 73, 3) := dk_167 0 73 (dk_at dksX7_line_4 21 rfl rfl)
theorem dX7_line_119 : decode cX7_line 119 = .ok (.aload_n 0, 1) := dk_42 (dk_at dksX7_line_5 0 rfl rfl)
theorem dX7_line_120 : decode cX7_line 120 = .ok (.invokevirtual 43, 3) := dk_182 0 43 (dk_at dksX7_line_5 1 rfl rfl)
theorem dX7_line_123 : decode cX7_line 123 = .ok (.aload_n 0, 1) := dk_42 (dk_at dksX7_line_5 4 rfl rfl)
theorem dX7_line_124 : decode cX7_line 124 = .ok (.iconst 0, 1) := dk_3 (dk_at dksX7_line_5 5 rfl rfl)
theorem dX7_line_125 : decode cX7_line 125 = .ok (.iconst 3, 1) := dk_6 (dk_at dksX7_line_5 6 rfl rfl)
theorem dX7_line_126 : decode cX7_line 126 = .ok (.invokevirtual 28, 3) := dk_182 0 28 (dk_at dksX7_line_5 7 rfl rfl)
theorem dX7_line_129 : decode cX7_line 129 = .ok (.putfield 93, 3) := dk_181 0 93 (dk_at dksX7_line_5 10 rfl rfl)
theorem dX7_line_132 : decode cX7_line 132 = .ok (.goto 57, 3) := dk_167 0 57 (dk_at dksX7_line_5 13 rfl rfl)
theorem dX7_line_135 : decode cX7_line 135 = .ok (.aload_n 0, 1) := dk_42 (dk_at dksX7_line_5 16 rfl rfl)
theorem dX7_line_136 : decode cX7_line 136 = .ok (.invokevirtual 43, 3) := dk_182 0 43 (dk_at dksX7_line_5 17 rfl rfl)
theorem dX7_line_139 : decode cX7_line 139 = .ok (.aload_n 0, 1) := dk_42 (dk_at dksX7_line_5 20 rfl rfl)
theorem dX7_line_140 : decode cX7_line 140 = .ok (.iconst 1, 1) := dk_4 (dk_at dksX7_line_5 21 rfl rfl)
theorem dX7_line_141 : decode cX7_line 141 = .ok (.iconst 4, 1) := dk_7 (dk_at dksX7_line_5 22 rfl rfl)
theorem dX7_line_142 : decode cX7_line 142 = .ok (.invokevirtual 28, 3) := dk_182 0 28 (dk_at dksX7_line_6 0 rfl rfl)
theorem dX7_line_145 : decode cX7_line 145 = .ok (.putfield 96, 3) := dk_181 0 96 (dk_at dksX7_line_6 3 rfl rfl)
theorem dX7_line_148 : decode cX7_line 148 = .ok (.goto 41, 3) := dk_167 0 41 (dk_at dksX7_line_6 6 rfl rfl)
theorem dX7_line_151 : decode cX7_line 151 = .ok (.aload_n 0, 1) := dk_42 (dk_at dksX7_line_6 9 rfl rfl)
theorem dX7_line_152 : decode cX7_line 152 = .ok (.invokevirtual 43, 3) := dk_182 0 43 (dk_at dksX7_line_6 10 rfl rfl)
theorem dX7_line_155 : decode cX7_line 155 = .ok (.aload_n 0, 1) := dk_42 (dk_at dksX7_line_6 13 rfl rfl)
theorem dX7_line_156 : decode cX7_line 156 = .ok (.iconst 0, 1) := dk_3 (dk_at dksX7_line_6 14 rfl rfl)
theorem dX7_line_157 : decode cX7_line 157 = .ok (.iconst 3, 1) := dk_6 (dk_at dksX7_line_6 15 rfl rfl)
theorem dX7_line_158 : decode cX7_line 158 = .ok (.invokevirtual 28, 3) := dk_182 0 28 (dk_at dksX7_line_6 16 rfl rfl)
theorem dX7_line_161 : decode cX7_line 161 = .ok (.putfield 99, 3) := dk_181 0 99 (dk_at dksX7_line_6 19 rfl rfl)
theorem dX7_line_164 : decode cX7_line 164 = .ok (.goto 25, 3) := dk_167 0 25 (dk_at dksX7_line_7 0 rfl rfl)
theorem dX7_line_167 : decode cX7_line 167 = .ok (.aload_n 0, 1) := dk_42 (dk_at dksX7_line_7 3 rfl rfl)
theorem dX7_line_168 : decode cX7_line 168 = .ok (.invokevirtual 43, 3) := dk_182 0 43 (dk_at dksX7_line_7 4 rfl rfl)
theorem dX7_line_171 : decode cX7_line 171 = .ok (.aload_n 0, 1) := dk_42 (dk_at dksX7_line_7 7 rfl rfl)
theorem dX7_line_172 : decode cX7_line 172 = .ok (.iconst 0, 1) := dk_3 (dk_at dksX7_line_7 8 rfl rfl)
theorem dX7_line_173 : decode cX7_line 173 = .ok (.bipush 20, 2) := dk_16 20 (dk_at dksX7_line_7 9 rfl rfl)
theorem dX7_line_175 : decode cX7_line 175 = .ok (.invokevirtual 28, 3) := dk_182 0 28 (dk_at dksX7_line_7 11 rfl rfl)
theorem dX7_line_178 : decode cX7_line 178 = .ok (.putfield 102, 3) := dk_181 0 102 (dk_at dksX7_line_7 14 rfl rfl)
theorem dX7_line_181 : decode cX7_line 181 = .ok (.goto 8, 3) := dk_167 0 8 (dk_at dksX7_line_7 17 rfl rfl)
theorem dX7_line_184 : decode cX7_line 184 = .ok (.aload_n 0, 1) := dk_42 (dk_at dksX7_line_7 20 rfl rfl)
theorem dX7_line_185 : decode cX7_line 185 = .ok (.iload_n 2, 1) := dk_28 (dk_at dksX7_line_7 21 rfl rfl)
theorem dX7_line_186 : decode cX7_line 186 = .ok (.invokevirtual 105, 3) := dk_182 0 105 (dk_at dksX7_line_8 0 rfl rfl)
theorem dX7_line_189 : decode cX7_line 189 = .ok (.return_, 1) := dk_177 (dk_at dksX7_line_8 3 rfl rfl)
abbrev cX7_army : ByteArray := prog_21_method_3_code
def yX7_army : MethodName := ⟨RX7, "army", "()LOneDrum$Army;"⟩
def dkwX7_army_1 : List UInt8 := [167, 0, 10, 187, 0, 40, 89, 183, 0, 42, 176]
abbrev dktX7_army_1 : List UInt8 := dkwX7_army_1 ++ []
def dkwX7_army_0 : List UInt8 := [42, 3, 4, 182, 0, 28, 60, 42, 180, 0, 32, 153, 0, 15, 42, 180, 0, 20, 180, 0, 36, 27, 50]
abbrev dktX7_army_0 : List UInt8 := dkwX7_army_0 ++ dktX7_army_1
theorem dksX7_army_0 : cX7_army.data.toList.drop 0 = dktX7_army_0 := by decide +kernel
theorem dksX7_army_1 : cX7_army.data.toList.drop 23 = dktX7_army_1 := dk_seg dksX7_army_0 23 rfl rfl
theorem dX7_army_0 : decode cX7_army 0 = .ok (.aload_n 0, 1) := dk_42 (dk_at dksX7_army_0 0 rfl rfl)
theorem dX7_army_1 : decode cX7_army 1 = .ok (.iconst 0, 1) := dk_3 (dk_at dksX7_army_0 1 rfl rfl)
theorem dX7_army_2 : decode cX7_army 2 = .ok (.iconst 1, 1) := dk_4 (dk_at dksX7_army_0 2 rfl rfl)
theorem dX7_army_3 : decode cX7_army 3 = .ok (.invokevirtual 28, 3) := dk_182 0 28 (dk_at dksX7_army_0 3 rfl rfl)
theorem dX7_army_6 : decode cX7_army 6 = .ok (.istore_n 1, 1) := dk_60 (dk_at dksX7_army_0 6 rfl rfl)
theorem dX7_army_7 : decode cX7_army 7 = .ok (.aload_n 0, 1) := dk_42 (dk_at dksX7_army_0 7 rfl rfl)
theorem dX7_army_8 : decode cX7_army 8 = .ok (.getfield 32, 3) := dk_180 0 32 (dk_at dksX7_army_0 8 rfl rfl)
theorem dX7_army_11 : decode cX7_army 11 = .ok (.ifCond .eq 15, 3) := dk_153 0 15 (dk_at dksX7_army_0 11 rfl rfl)
theorem dX7_army_14 : decode cX7_army 14 = .ok (.aload_n 0, 1) := dk_42 (dk_at dksX7_army_0 14 rfl rfl)
theorem dX7_army_15 : decode cX7_army 15 = .ok (.getfield 20, 3) := dk_180 0 20 (dk_at dksX7_army_0 15 rfl rfl)
theorem dX7_army_18 : decode cX7_army 18 = .ok (.getfield 36, 3) := dk_180 0 36 (dk_at dksX7_army_0 18 rfl rfl)
theorem dX7_army_21 : decode cX7_army 21 = .ok (.iload_n 1, 1) := dk_27 (dk_at dksX7_army_0 21 rfl rfl)
theorem dX7_army_22 : decode cX7_army 22 = .ok (.aaload, 1) := dk_50 (dk_at dksX7_army_0 22 rfl rfl)
theorem dX7_army_23 : decode cX7_army 23 = .ok (.goto 10, 3) := dk_167 0 10 (dk_at dksX7_army_1 0 rfl rfl)
theorem dX7_army_26 : decode cX7_army 26 = .ok (.new 40, 3) := dk_187 0 40 (dk_at dksX7_army_1 3 rfl rfl)
theorem dX7_army_29 : decode cX7_army 29 = .ok (.dup, 1) := dk_89 (dk_at dksX7_army_1 6 rfl rfl)
theorem dX7_army_30 : decode cX7_army 30 = .ok (.invokespecial 42, 3) := dk_183 0 42 (dk_at dksX7_army_1 7 rfl rfl)
theorem dX7_army_33 : decode cX7_army 33 = .ok (.areturn, 1) := dk_176 (dk_at dksX7_army_1 10 rfl rfl)
abbrev cX7_order : ByteArray := prog_21_method_4_code
def yX7_order : MethodName := ⟨RX7, "order", "(I)V"⟩
def dkwX7_order_1 : List UInt8 := [42, 45, 180, 0, 59, 182, 0, 63, 42, 44, 180, 0, 67, 45, 16, 6, 27, 182, 0, 71, 177]
abbrev dktX7_order_1 : List UInt8 := dkwX7_order_1 ++ []
def dkwX7_order_0 : List UInt8 := [42, 182, 0, 43, 77, 187, 0, 47, 89, 42, 42, 180, 0, 3, 180, 0, 49, 182, 0, 52, 183, 0, 56, 78]
abbrev dktX7_order_0 : List UInt8 := dkwX7_order_0 ++ dktX7_order_1
theorem dksX7_order_0 : cX7_order.data.toList.drop 0 = dktX7_order_0 := by decide +kernel
theorem dksX7_order_1 : cX7_order.data.toList.drop 24 = dktX7_order_1 := dk_seg dksX7_order_0 24 rfl rfl
theorem dX7_order_0 : decode cX7_order 0 = .ok (.aload_n 0, 1) := dk_42 (dk_at dksX7_order_0 0 rfl rfl)
theorem dX7_order_1 : decode cX7_order 1 = .ok (.invokevirtual 43, 3) := dk_182 0 43 (dk_at dksX7_order_0 1 rfl rfl)
theorem dX7_order_4 : decode cX7_order 4 = .ok (.astore_n 2, 1) := dk_77 (dk_at dksX7_order_0 4 rfl rfl)
theorem dX7_order_5 : decode cX7_order 5 = .ok (.new 47, 3) := dk_187 0 47 (dk_at dksX7_order_0 5 rfl rfl)
theorem dX7_order_8 : decode cX7_order 8 = .ok (.dup, 1) := dk_89 (dk_at dksX7_order_0 8 rfl rfl)
theorem dX7_order_9 : decode cX7_order 9 = .ok (.aload_n 0, 1) := dk_42 (dk_at dksX7_order_0 9 rfl rfl)
theorem dX7_order_10 : decode cX7_order 10 = .ok (.aload_n 0, 1) := dk_42 (dk_at dksX7_order_0 10 rfl rfl)
theorem dX7_order_11 : decode cX7_order 11 = .ok (.getfield 3, 3) := dk_180 0 3 (dk_at dksX7_order_0 11 rfl rfl)
theorem dX7_order_14 : decode cX7_order 14 = .ok (.getfield 49, 3) := dk_180 0 49 (dk_at dksX7_order_0 14 rfl rfl)
theorem dX7_order_17 : decode cX7_order 17 = .ok (.invokevirtual 52, 3) := dk_182 0 52 (dk_at dksX7_order_0 17 rfl rfl)
theorem dX7_order_20 : decode cX7_order 20 = .ok (.invokespecial 56, 3) := dk_183 0 56 (dk_at dksX7_order_0 20 rfl rfl)
theorem dX7_order_23 : decode cX7_order 23 = .ok (.astore_n 3, 1) := dk_78 (dk_at dksX7_order_0 23 rfl rfl)
theorem dX7_order_24 : decode cX7_order 24 = .ok (.aload_n 0, 1) := dk_42 (dk_at dksX7_order_1 0 rfl rfl)
theorem dX7_order_25 : decode cX7_order 25 = .ok (.aload_n 3, 1) := dk_45 (dk_at dksX7_order_1 1 rfl rfl)
theorem dX7_order_26 : decode cX7_order 26 = .ok (.getfield 59, 3) := dk_180 0 59 (dk_at dksX7_order_1 2 rfl rfl)
theorem dX7_order_29 : decode cX7_order 29 = .ok (.invokevirtual 63, 3) := dk_182 0 63 (dk_at dksX7_order_1 5 rfl rfl)
theorem dX7_order_32 : decode cX7_order 32 = .ok (.aload_n 0, 1) := dk_42 (dk_at dksX7_order_1 8 rfl rfl)
theorem dX7_order_33 : decode cX7_order 33 = .ok (.aload_n 2, 1) := dk_44 (dk_at dksX7_order_1 9 rfl rfl)
theorem dX7_order_34 : decode cX7_order 34 = .ok (.getfield 67, 3) := dk_180 0 67 (dk_at dksX7_order_1 10 rfl rfl)
theorem dX7_order_37 : decode cX7_order 37 = .ok (.aload_n 3, 1) := dk_45 (dk_at dksX7_order_1 13 rfl rfl)
theorem dX7_order_38 : decode cX7_order 38 = .ok (.bipush 6, 2) := dk_16 6 (dk_at dksX7_order_1 14 rfl rfl)
theorem dX7_order_40 : decode cX7_order 40 = .ok (.iload_n 1, 1) := dk_27 (dk_at dksX7_order_1 16 rfl rfl)
theorem dX7_order_41 : decode cX7_order 41 = .ok (.invokevirtual 71, 3) := dk_182 0 71 (dk_at dksX7_order_1 17 rfl rfl)
theorem dX7_order_44 : decode cX7_order 44 = .ok (.return_, 1) := dk_177 (dk_at dksX7_order_1 20 rfl rfl)
abbrev cX7_lay : ByteArray := prog_21_method_6_code
def yX7_lay : MethodName := ⟨RX7, "lay", "(I)I"⟩
def dkwX7_lay_0 : List UInt8 := [42, 180, 0, 3, 180, 0, 108, 180, 0, 112, 27, 42, 180, 0, 20, 184, 0, 117, 172]
abbrev dktX7_lay_0 : List UInt8 := dkwX7_lay_0 ++ []
theorem dksX7_lay_0 : cX7_lay.data.toList.drop 0 = dktX7_lay_0 := by decide +kernel
theorem dX7_lay_0 : decode cX7_lay 0 = .ok (.aload_n 0, 1) := dk_42 (dk_at dksX7_lay_0 0 rfl rfl)
theorem dX7_lay_1 : decode cX7_lay 1 = .ok (.getfield 3, 3) := dk_180 0 3 (dk_at dksX7_lay_0 1 rfl rfl)
theorem dX7_lay_4 : decode cX7_lay 4 = .ok (.getfield 108, 3) := dk_180 0 108 (dk_at dksX7_lay_0 4 rfl rfl)
theorem dX7_lay_7 : decode cX7_lay 7 = .ok (.getfield 112, 3) := dk_180 0 112 (dk_at dksX7_lay_0 7 rfl rfl)
theorem dX7_lay_10 : decode cX7_lay 10 = .ok (.iload_n 1, 1) := dk_27 (dk_at dksX7_lay_0 10 rfl rfl)
theorem dX7_lay_11 : decode cX7_lay 11 = .ok (.aload_n 0, 1) := dk_42 (dk_at dksX7_lay_0 11 rfl rfl)
theorem dX7_lay_12 : decode cX7_lay 12 = .ok (.getfield 20, 3) := dk_180 0 20 (dk_at dksX7_lay_0 12 rfl rfl)
theorem dX7_lay_15 : decode cX7_lay 15 = .ok (.invokestatic 117, 3) := dk_184 0 117 (dk_at dksX7_lay_0 15 rfl rfl)
theorem dX7_lay_18 : decode cX7_lay 18 = .ok (.ireturn, 1) := dk_172 (dk_at dksX7_lay_0 18 rfl rfl)
theorem q128 : (Jvm.Cond.initialized "OneDrum$WarReader") ∈ lw_all := lw_g (lw_at lw_m1 11 rfl) rfl
theorem q233 : (Jvm.Cond.fieldLink "OneDrum$WarReader" (112 : Nat) "OneDrum$All" "wars" "Ljava/util/ArrayList;") ∈ lw_all := lw_g (lw_at lw_m1 116 rfl) rfl
theorem q362 : (Jvm.Cond.fieldLinkNest "OneDrum$WarReader" (49 : Nat) "OneDrum" "moveWords" "[Ljava/lang/String;" "OneDrum") ∈ lw_tbl := lw_at lw_m2 5 rfl
theorem q364 : (Jvm.Cond.fieldLinkNest "OneDrum$WarReader" (24 : Nat) "OneDrum" "warWords" "[Ljava/lang/String;" "OneDrum") ∈ lw_tbl := lw_at lw_m2 7 rfl
theorem q376 : (Jvm.Cond.fieldLinkNest "OneDrum$WarReader" (108 : Nat) "OneDrum" "all" "LOneDrum$All;" "OneDrum") ∈ lw_tbl := lw_at lw_m2 19 rfl
theorem q501 : (Jvm.Cond.instantiable "OneDrum$WarReader" (13 : Nat)) ∈ lw_all := lw_g (lw_at lw_m2 144 rfl) rfl
theorem q503 : (Jvm.Cond.instanceMethod ({ cls := "OneDrum$WarReader", name := "<init>", desc := "(LOneDrum;I)V" } : Jvm.MethodName)) ∈ lw_all := lw_g (lw_at lw_m2 146 rfl) rfl
theorem q504 : (Jvm.Cond.code ({ cls := "OneDrum$WarReader", name := "<init>", desc := "(LOneDrum;I)V" } : Jvm.MethodName) prog_21_method_1_code (3 : Nat) (Option.none : Option Jvm.ClassFile.FieldType)) ∈ lw_all := lw_g (lw_at lw_m2 147 rfl) rfl
theorem q505 : (Jvm.Cond.methodLink "OneDrum$WarReader" (9 : Nat) ({ cls := "OneDrum$Reader", name := "<init>", desc := "(LOneDrum;I)V" } : Jvm.MethodName)) ∈ lw_all := lw_g (lw_at lw_m2 148 rfl) rfl
theorem q509 : (Jvm.Cond.classLink "OneDrum$WarReader" (15 : Nat) "OneDrum$War") ∈ lw_all := lw_g (lw_at lw_m2 152 rfl) rfl
theorem q511 : (Jvm.Cond.methodLink "OneDrum$WarReader" (17 : Nat) ({ cls := "OneDrum$War", name := "<init>", desc := "()V" } : Jvm.MethodName)) ∈ lw_all := lw_g (lw_at lw_m2 154 rfl) rfl
theorem q525 : (Jvm.Cond.fieldLink "OneDrum$WarReader" (93 : Nat) "OneDrum$Army" "from" "I") ∈ lw_all := lw_g (lw_at lw_m2 168 rfl) rfl
theorem q529 : (Jvm.Cond.fieldLink "OneDrum$WarReader" (96 : Nat) "OneDrum$Army" "step" "I") ∈ lw_all := lw_g (lw_at lw_m2 172 rfl) rfl
theorem q531 : (Jvm.Cond.fieldLink "OneDrum$WarReader" (99 : Nat) "OneDrum$Army" "lag" "I") ∈ lw_all := lw_g (lw_at lw_m2 174 rfl) rfl
theorem q534 : (Jvm.Cond.fieldLink "OneDrum$WarReader" (102 : Nat) "OneDrum$Army" "place" "I") ∈ lw_all := lw_g (lw_at lw_m2 177 rfl) rfl
theorem q538 : (Jvm.Cond.fieldLink "OneDrum$WarReader" (67 : Nat) "OneDrum$Army" "orders" "Ljava/util/ArrayList;") ∈ lw_all := lw_g (lw_at lw_m2 181 rfl) rfl
theorem q553 : (Jvm.Cond.fieldLink "OneDrum$WarReader" (75 : Nat) "OneDrum$War" "turn" "I") ∈ lw_all := lw_g (lw_at lw_m2 196 rfl) rfl
theorem q556 : (Jvm.Cond.fieldLink "OneDrum$WarReader" (79 : Nat) "OneDrum$War" "tired" "I") ∈ lw_all := lw_g (lw_at lw_m2 199 rfl) rfl
theorem q559 : (Jvm.Cond.fieldLink "OneDrum$WarReader" (82 : Nat) "OneDrum$War" "echo" "I") ∈ lw_all := lw_g (lw_at lw_m2 202 rfl) rfl
theorem q563 : (Jvm.Cond.fieldLink "OneDrum$WarReader" (89 : Nat) "OneDrum$War" "wet" "[I") ∈ lw_all := lw_g (lw_at lw_m2 206 rfl) rfl
theorem q566 : (Jvm.Cond.fieldLink "OneDrum$WarReader" (36 : Nat) "OneDrum$War" "armies" "[LOneDrum$Army;") ∈ lw_all := lw_g (lw_at lw_m2 209 rfl) rfl
theorem q580 : (Jvm.Cond.fieldLink "OneDrum$WarReader" (20 : Nat) "OneDrum$WarReader" "told" "LOneDrum$War;") ∈ lw_all := lw_g (lw_at lw_m2 223 rfl) rfl
theorem q581 : (Jvm.Cond.fieldLink "OneDrum$WarReader" (3 : Nat) "OneDrum$WarReader" "this$0" "LOneDrum;") ∈ lw_all := lw_g (lw_at lw_m2 224 rfl) rfl
theorem q599 : (Jvm.Cond.fieldLink "OneDrum$WarReader" (32 : Nat) "OneDrum$WarReader" "good" "Z") ∈ lw_all := lw_g (lw_at lw_m3 2 rfl) rfl
theorem q600 : (Jvm.Cond.sameField "OneDrum$WarReader" "OneDrum$Reader" "good" "Z") ∈ lw_all := lw_g (lw_at lw_m3 3 rfl) rfl
theorem q607 : (Jvm.Cond.laysFinal "OneDrum$WarReader" "OneDrum$WarReader" "told" "LOneDrum$War;") ∈ lw_all := lw_g (lw_at lw_m3 10 rfl) rfl
theorem q608 : (Jvm.Cond.soleField "OneDrum$WarReader" "told") ∈ lw_all := lw_g (lw_at lw_m3 11 rfl) rfl
theorem q609 : (Jvm.Cond.laysFinal "OneDrum$WarReader" "OneDrum$WarReader" "this$0" "LOneDrum;") ∈ lw_all := lw_g (lw_at lw_m3 12 rfl) rfl
theorem q610 : (Jvm.Cond.soleField "OneDrum$WarReader" "this$0") ∈ lw_all := lw_g (lw_at lw_m3 13 rfl) rfl
theorem q611 : (Jvm.Cond.laysFinal "OneDrum$WarReader" "OneDrum$Reader" "length" "I") ∈ lw_all := lw_g (lw_at lw_m3 14 rfl) rfl
theorem q613 : (Jvm.Cond.lays "OneDrum$WarReader" "OneDrum$Reader" "at" "I") ∈ lw_all := lw_g (lw_at lw_m3 16 rfl) rfl
theorem q615 : (Jvm.Cond.lays "OneDrum$WarReader" "OneDrum$Reader" "sort" "I") ∈ lw_all := lw_g (lw_at lw_m3 18 rfl) rfl
theorem q617 : (Jvm.Cond.lays "OneDrum$WarReader" "OneDrum$Reader" "value" "I") ∈ lw_all := lw_g (lw_at lw_m3 20 rfl) rfl
theorem q619 : (Jvm.Cond.lays "OneDrum$WarReader" "OneDrum$Reader" "letters" "I") ∈ lw_all := lw_g (lw_at lw_m3 22 rfl) rfl
theorem q621 : (Jvm.Cond.lays "OneDrum$WarReader" "OneDrum$Reader" "word" "J") ∈ lw_all := lw_g (lw_at lw_m3 24 rfl) rfl
theorem q623 : (Jvm.Cond.lays "OneDrum$WarReader" "OneDrum$Reader" "place" "I") ∈ lw_all := lw_g (lw_at lw_m3 26 rfl) rfl
theorem q625 : (Jvm.Cond.lays "OneDrum$WarReader" "OneDrum$Reader" "fault" "I") ∈ lw_all := lw_g (lw_at lw_m3 28 rfl) rfl
theorem q627 : (Jvm.Cond.lays "OneDrum$WarReader" "OneDrum$Reader" "faultPlace" "I") ∈ lw_all := lw_g (lw_at lw_m3 30 rfl) rfl
theorem q629 : (Jvm.Cond.lays "OneDrum$WarReader" "OneDrum$Reader" "good" "Z") ∈ lw_all := lw_g (lw_at lw_m3 32 rfl) rfl
theorem q631 : (Jvm.Cond.laysFinal "OneDrum$WarReader" "OneDrum$Reader" "this$0" "LOneDrum;") ∈ lw_all := lw_g (lw_at lw_m3 34 rfl) rfl
theorem q633 : (Jvm.Cond.superclass "OneDrum$WarReader" "OneDrum$Reader") ∈ lw_all := lw_g (lw_at lw_m3 36 rfl) rfl
theorem q759 : (Jvm.Cond.selects "OneDrum$WarReader" ({ cls := "OneDrum$Reader", name := "text", desc := "()V" } : Jvm.MethodName) ({ cls := "OneDrum$Reader", name := "text", desc := "()V" } : Jvm.MethodName)) ∈ lw_all := lw_g (lw_at lw_m3 162 rfl) rfl
theorem q782 : (Jvm.Cond.selects "OneDrum$WarReader" ({ cls := "OneDrum$Reader", name := "words", desc := "()[Ljava/lang/String;" } : Jvm.MethodName) ({ cls := "OneDrum$WarReader", name := "words", desc := "()[Ljava/lang/String;" } : Jvm.MethodName)) ∈ lw_all := lw_g (lw_at lw_m3 185 rfl) rfl
theorem q783 : (Jvm.Cond.instanceMethod ({ cls := "OneDrum$WarReader", name := "words", desc := "()[Ljava/lang/String;" } : Jvm.MethodName)) ∈ lw_all := lw_g (lw_at lw_m3 186 rfl) rfl
theorem q784 : (Jvm.Cond.code ({ cls := "OneDrum$WarReader", name := "words", desc := "()[Ljava/lang/String;" } : Jvm.MethodName) prog_21_method_2_code (1 : Nat) (Option.some (Jvm.ClassFile.FieldType.array (Jvm.ClassFile.FieldType.object "java/lang/String")))) ∈ lw_all := lw_g (lw_at lw_m3 187 rfl) rfl
theorem q791 : (Jvm.Cond.selects "OneDrum$WarReader" ({ cls := "OneDrum$Reader", name := "oneOf", desc := "([Ljava/lang/String;)I" } : Jvm.MethodName) ({ cls := "OneDrum$Reader", name := "oneOf", desc := "([Ljava/lang/String;)I" } : Jvm.MethodName)) ∈ lw_all := lw_g (lw_at lw_m3 194 rfl) rfl
theorem q927 : (Jvm.Cond.selects "OneDrum$WarReader" ({ cls := "OneDrum$Reader", name := "note", desc := "(II)V" } : Jvm.MethodName) ({ cls := "OneDrum$Reader", name := "note", desc := "(II)V" } : Jvm.MethodName)) ∈ lw_all := lw_g (lw_at lw_m4 90 rfl) rfl
theorem q966 : (Jvm.Cond.selects "OneDrum$WarReader" ({ cls := "OneDrum$Reader", name := "beat", desc := "()I" } : Jvm.MethodName) ({ cls := "OneDrum$Reader", name := "beat", desc := "()I" } : Jvm.MethodName)) ∈ lw_all := lw_g (lw_at lw_m4 129 rfl) rfl
theorem q1115 : (Jvm.Cond.selects "OneDrum$WarReader" ({ cls := "java/lang/Object", name := "getClass", desc := "()Ljava/lang/Class;" } : Jvm.MethodName) ({ cls := "java/lang/Object", name := "getClass", desc := "()Ljava/lang/Class;" } : Jvm.MethodName)) ∈ lw_all := lw_g (lw_at lw_m5 38 rfl) rfl
theorem q1145 : (Jvm.Cond.selects "OneDrum$WarReader" ({ cls := "OneDrum$Reader", name := "line", desc := "(II)V" } : Jvm.MethodName) ({ cls := "OneDrum$WarReader", name := "line", desc := "(II)V" } : Jvm.MethodName)) ∈ lw_all := lw_g (lw_at lw_m5 68 rfl) rfl
theorem q1146 : (Jvm.Cond.instanceMethod ({ cls := "OneDrum$WarReader", name := "line", desc := "(II)V" } : Jvm.MethodName)) ∈ lw_all := lw_g (lw_at lw_m5 69 rfl) rfl
theorem q1147 : (Jvm.Cond.code ({ cls := "OneDrum$WarReader", name := "line", desc := "(II)V" } : Jvm.MethodName) prog_21_method_5_code (4 : Nat) (Option.none : Option Jvm.ClassFile.FieldType)) ∈ lw_all := lw_g (lw_at lw_m5 70 rfl) rfl
theorem q1148 : (Jvm.Cond.methodLink "OneDrum$WarReader" (28 : Nat) ({ cls := "OneDrum$WarReader", name := "number", desc := "(II)I" } : Jvm.MethodName)) ∈ lw_all := lw_g (lw_at lw_m5 71 rfl) rfl
theorem q1149 : (Jvm.Cond.sameMethod "OneDrum$WarReader" "OneDrum$Reader" "number" "(II)I") ∈ lw_all := lw_g (lw_at lw_m5 72 rfl) rfl
theorem q1150 : (Jvm.Cond.selects "OneDrum$WarReader" ({ cls := "OneDrum$WarReader", name := "number", desc := "(II)I" } : Jvm.MethodName) ({ cls := "OneDrum$Reader", name := "number", desc := "(II)I" } : Jvm.MethodName)) ∈ lw_all := lw_g (lw_at lw_m5 73 rfl) rfl
theorem q1151 : (Jvm.Cond.methodLink "OneDrum$WarReader" (85 : Nat) ({ cls := "OneDrum$WarReader", name := "beat", desc := "()I" } : Jvm.MethodName)) ∈ lw_all := lw_g (lw_at lw_m5 74 rfl) rfl
theorem q1152 : (Jvm.Cond.sameMethod "OneDrum$WarReader" "OneDrum$Reader" "beat" "()I") ∈ lw_all := lw_g (lw_at lw_m5 75 rfl) rfl
theorem q1153 : (Jvm.Cond.selects "OneDrum$WarReader" ({ cls := "OneDrum$WarReader", name := "beat", desc := "()I" } : Jvm.MethodName) ({ cls := "OneDrum$Reader", name := "beat", desc := "()I" } : Jvm.MethodName)) ∈ lw_all := lw_g (lw_at lw_m5 76 rfl) rfl
theorem q1154 : (Jvm.Cond.methodLink "OneDrum$WarReader" (43 : Nat) ({ cls := "OneDrum$WarReader", name := "army", desc := "()LOneDrum$Army;" } : Jvm.MethodName)) ∈ lw_all := lw_g (lw_at lw_m5 77 rfl) rfl
theorem q1155 : (Jvm.Cond.privateMethod ({ cls := "OneDrum$WarReader", name := "army", desc := "()LOneDrum$Army;" } : Jvm.MethodName)) ∈ lw_tbl := lw_at lw_m5 78 rfl
theorem q1156 : (Jvm.Cond.instanceMethod ({ cls := "OneDrum$WarReader", name := "army", desc := "()LOneDrum$Army;" } : Jvm.MethodName)) ∈ lw_all := lw_g (lw_at lw_m5 79 rfl) rfl
theorem q1157 : (Jvm.Cond.code ({ cls := "OneDrum$WarReader", name := "army", desc := "()LOneDrum$Army;" } : Jvm.MethodName) prog_21_method_3_code (2 : Nat) (Option.some (Jvm.ClassFile.FieldType.object "OneDrum$Army"))) ∈ lw_all := lw_g (lw_at lw_m5 80 rfl) rfl
theorem q1158 : (Jvm.Cond.classLink "OneDrum$WarReader" (40 : Nat) "OneDrum$Army") ∈ lw_all := lw_g (lw_at lw_m5 81 rfl) rfl
theorem q1159 : (Jvm.Cond.methodLinkNest "OneDrum$WarReader" (42 : Nat) ({ cls := "OneDrum$Army", name := "<init>", desc := "()V" } : Jvm.MethodName) "OneDrum") ∈ lw_tbl := lw_at lw_m5 82 rfl
theorem q1160 : (Jvm.Cond.methodLink "OneDrum$WarReader" (105 : Nat) ({ cls := "OneDrum$WarReader", name := "order", desc := "(I)V" } : Jvm.MethodName)) ∈ lw_all := lw_g (lw_at lw_m5 83 rfl) rfl
theorem q1161 : (Jvm.Cond.privateMethod ({ cls := "OneDrum$WarReader", name := "order", desc := "(I)V" } : Jvm.MethodName)) ∈ lw_tbl := lw_at lw_m5 84 rfl
theorem q1162 : (Jvm.Cond.instanceMethod ({ cls := "OneDrum$WarReader", name := "order", desc := "(I)V" } : Jvm.MethodName)) ∈ lw_all := lw_g (lw_at lw_m5 85 rfl) rfl
theorem q1163 : (Jvm.Cond.code ({ cls := "OneDrum$WarReader", name := "order", desc := "(I)V" } : Jvm.MethodName) prog_21_method_4_code (4 : Nat) (Option.none : Option Jvm.ClassFile.FieldType)) ∈ lw_all := lw_g (lw_at lw_m5 86 rfl) rfl
theorem q1164 : (Jvm.Cond.classLink "OneDrum$WarReader" (47 : Nat) "OneDrum$Order") ∈ lw_all := lw_g (lw_at lw_m5 87 rfl) rfl
theorem q1166 : (Jvm.Cond.methodLink "OneDrum$WarReader" (52 : Nat) ({ cls := "OneDrum$WarReader", name := "oneOf", desc := "([Ljava/lang/String;)I" } : Jvm.MethodName)) ∈ lw_all := lw_g (lw_at lw_m5 89 rfl) rfl
theorem q1167 : (Jvm.Cond.sameMethod "OneDrum$WarReader" "OneDrum$Reader" "oneOf" "([Ljava/lang/String;)I") ∈ lw_all := lw_g (lw_at lw_m5 90 rfl) rfl
theorem q1168 : (Jvm.Cond.selects "OneDrum$WarReader" ({ cls := "OneDrum$WarReader", name := "oneOf", desc := "([Ljava/lang/String;)I" } : Jvm.MethodName) ({ cls := "OneDrum$Reader", name := "oneOf", desc := "([Ljava/lang/String;)I" } : Jvm.MethodName)) ∈ lw_all := lw_g (lw_at lw_m5 91 rfl) rfl
theorem q1169 : (Jvm.Cond.methodLink "OneDrum$WarReader" (56 : Nat) ({ cls := "OneDrum$Order", name := "<init>", desc := "(I)V" } : Jvm.MethodName)) ∈ lw_all := lw_g (lw_at lw_m5 92 rfl) rfl
theorem q1180 : (Jvm.Cond.fieldLink "OneDrum$WarReader" (59 : Nat) "OneDrum$Order" "code" "LOneDrum$Beats;") ∈ lw_all := lw_g (lw_at lw_m5 103 rfl) rfl
theorem q1187 : (Jvm.Cond.methodLink "OneDrum$WarReader" (63 : Nat) ({ cls := "OneDrum$WarReader", name := "beats", desc := "(LOneDrum$Beats;)V" } : Jvm.MethodName)) ∈ lw_all := lw_g (lw_at lw_m5 110 rfl) rfl
theorem q1188 : (Jvm.Cond.sameMethod "OneDrum$WarReader" "OneDrum$Reader" "beats" "(LOneDrum$Beats;)V") ∈ lw_all := lw_g (lw_at lw_m5 111 rfl) rfl
theorem q1189 : (Jvm.Cond.selects "OneDrum$WarReader" ({ cls := "OneDrum$WarReader", name := "beats", desc := "(LOneDrum$Beats;)V" } : Jvm.MethodName) ({ cls := "OneDrum$Reader", name := "beats", desc := "(LOneDrum$Beats;)V" } : Jvm.MethodName)) ∈ lw_all := lw_g (lw_at lw_m5 112 rfl) rfl
theorem q1190 : (Jvm.Cond.methodLink "OneDrum$WarReader" (71 : Nat) ({ cls := "OneDrum$WarReader", name := "add", desc := "(Ljava/util/ArrayList;Ljava/lang/Object;II)V" } : Jvm.MethodName)) ∈ lw_all := lw_g (lw_at lw_m5 113 rfl) rfl
theorem q1191 : (Jvm.Cond.sameMethod "OneDrum$WarReader" "OneDrum$Reader" "add" "(Ljava/util/ArrayList;Ljava/lang/Object;II)V") ∈ lw_all := lw_g (lw_at lw_m5 114 rfl) rfl
theorem q1192 : (Jvm.Cond.selects "OneDrum$WarReader" ({ cls := "OneDrum$WarReader", name := "add", desc := "(Ljava/util/ArrayList;Ljava/lang/Object;II)V" } : Jvm.MethodName) ({ cls := "OneDrum$Reader", name := "add", desc := "(Ljava/util/ArrayList;Ljava/lang/Object;II)V" } : Jvm.MethodName)) ∈ lw_all := lw_g (lw_at lw_m5 115 rfl) rfl
theorem q1215 : (Jvm.Cond.selects "OneDrum$WarReader" ({ cls := "OneDrum$Reader", name := "lay", desc := "(I)I" } : Jvm.MethodName) ({ cls := "OneDrum$WarReader", name := "lay", desc := "(I)I" } : Jvm.MethodName)) ∈ lw_all := lw_g (lw_at lw_m5 138 rfl) rfl
theorem q1216 : (Jvm.Cond.instanceMethod ({ cls := "OneDrum$WarReader", name := "lay", desc := "(I)I" } : Jvm.MethodName)) ∈ lw_all := lw_g (lw_at lw_m5 139 rfl) rfl
theorem q1217 : (Jvm.Cond.code ({ cls := "OneDrum$WarReader", name := "lay", desc := "(I)I" } : Jvm.MethodName) prog_21_method_6_code (2 : Nat) (Option.some Jvm.ClassFile.FieldType.int)) ∈ lw_all := lw_g (lw_at lw_m5 140 rfl) rfl
theorem q1218 : (Jvm.Cond.methodLinkNest "OneDrum$WarReader" (117 : Nat) ({ cls := "OneDrum", name := "put", desc := "(Ljava/util/ArrayList;ILjava/lang/Object;)I" } : Jvm.MethodName) "OneDrum") ∈ lw_tbl := lw_at lw_m5 141 rfl
theorem q2212 : (Jvm.Cond.selects "OneDrum$WarReader" ({ cls := "OneDrum$Reader", name := "isWord", desc := "()Z" } : Jvm.MethodName) ({ cls := "OneDrum$Reader", name := "isWord", desc := "()Z" } : Jvm.MethodName)) ∈ lw_all := lw_g (lw_at lw_m9 175 rfl) rfl
theorem q2227 : (Jvm.Cond.castable "OneDrum$WarReader" "java/lang/Object") ∈ lw_tbl := lw_at lw_m9 190 rfl
theorem in_X7 : ∀ w ∈ wsX70, w ∈ lw_all := lw_in wsX70 [611, 613, 615, 617, 619, 621, 623, 625, 627, 629, 631, 607, 609] (by decide +kernel) (by decide +kernel)
/-! OneDrum$War -/
set_option maxRecDepth 100000
def RX8 : String := "OneDrum$War"
def TX8 : u_T := fun k => match k with
  | 0 => ("OneDrum$War", "turn", "I", false)
  | 1 => ("OneDrum$War", "tired", "I", false)
  | 2 => ("OneDrum$War", "echo", "I", false)
  | 3 => ("OneDrum$War", "wet", "[I", true)
  | _ => ("OneDrum$War", "armies", "[LOneDrum$Army;", true)
def tyX8 : Nat → FieldType := fun k => match k with
  | 0 => .int
  | 1 => .int
  | 2 => .int
  | 3 => .array .int
  | _ => .array (.object "OneDrum$Army")
abbrev wsX80 : List Cond := u_ws RX8 TX8 5
theorem nmX8 : ∀ a, a < 5 → ∀ b, b < 5 → a ≠ b → (TX8 a).2.1 ≠ (TX8 b).2.1 := by decide +kernel
theorem tyX8_ok : ∀ k, k < 5 → parseFieldDescriptor (TX8 k).2.2.1 = some (tyX8 k) := by decide +kernel
abbrev cX8_init : ByteArray := prog_20_method_1_code
def yX8_init : MethodName := ⟨RX8, "<init>", "()V"⟩
def dkwX8_init_2 : List UInt8 := [4, 187, 0, 17, 89, 183, 0, 19, 83, 181, 0, 20, 42, 180, 0, 20, 4, 50, 16, 10, 181, 0, 24, 177]
abbrev dktX8_init_2 : List UInt8 := dkwX8_init_2 ++ []
def dkwX8_init_1 : List UInt8 := [79, 89, 6, 6, 79, 181, 0, 13, 42, 5, 189, 0, 17, 89, 3, 187, 0, 17, 89, 183, 0, 19, 83, 89]
abbrev dktX8_init_1 : List UInt8 := dkwX8_init_1 ++ dktX8_init_2
def dkwX8_init_0 : List UInt8 := [42, 183, 0, 1, 42, 4, 181, 0, 7, 42, 7, 188, 10, 89, 3, 3, 79, 89, 4, 4, 79, 89, 5, 5]
abbrev dktX8_init_0 : List UInt8 := dkwX8_init_0 ++ dktX8_init_1
theorem dksX8_init_0 : cX8_init.data.toList.drop 0 = dktX8_init_0 := by decide +kernel
theorem dksX8_init_1 : cX8_init.data.toList.drop 24 = dktX8_init_1 := dk_seg dksX8_init_0 24 rfl rfl
theorem dksX8_init_2 : cX8_init.data.toList.drop 48 = dktX8_init_2 := dk_seg dksX8_init_1 24 rfl rfl
theorem dX8_init_0 : decode cX8_init 0 = .ok (.aload_n 0, 1) := dk_42 (dk_at dksX8_init_0 0 rfl rfl)
theorem dX8_init_1 : decode cX8_init 1 = .ok (.invokespecial 1, 3) := dk_183 0 1 (dk_at dksX8_init_0 1 rfl rfl)
theorem dX8_init_4 : decode cX8_init 4 = .ok (.aload_n 0, 1) := dk_42 (dk_at dksX8_init_0 4 rfl rfl)
theorem dX8_init_5 : decode cX8_init 5 = .ok (.iconst 1, 1) := dk_4 (dk_at dksX8_init_0 5 rfl rfl)
theorem dX8_init_6 : decode cX8_init 6 = .ok (.putfield 7, 3) := dk_181 0 7 (dk_at dksX8_init_0 6 rfl rfl)
theorem dX8_init_9 : decode cX8_init 9 = .ok (.aload_n 0, 1) := dk_42 (dk_at dksX8_init_0 9 rfl rfl)
theorem dX8_init_10 : decode cX8_init 10 = .ok (.iconst 4, 1) := dk_7 (dk_at dksX8_init_0 10 rfl rfl)
theorem dX8_init_11 : decode cX8_init 11 = .ok (.newarray .int, 2) := dk_188_10 (dk_at dksX8_init_0 11 rfl rfl)
theorem dX8_init_13 : decode cX8_init 13 = .ok (.dup, 1) := dk_89 (dk_at dksX8_init_0 13 rfl rfl)
theorem dX8_init_14 : decode cX8_init 14 = .ok (.iconst 0, 1) := dk_3 (dk_at dksX8_init_0 14 rfl rfl)
theorem dX8_init_15 : decode cX8_init 15 = .ok (.iconst 0, 1) := dk_3 (dk_at dksX8_init_0 15 rfl rfl)
theorem dX8_init_16 : decode cX8_init 16 = .ok (.iastore, 1) := dk_79 (dk_at dksX8_init_0 16 rfl rfl)
theorem dX8_init_17 : decode cX8_init 17 = .ok (.dup, 1) := dk_89 (dk_at dksX8_init_0 17 rfl rfl)
theorem dX8_init_18 : decode cX8_init 18 = .ok (.iconst 1, 1) := dk_4 (dk_at dksX8_init_0 18 rfl rfl)
theorem dX8_init_19 : decode cX8_init 19 = .ok (.iconst 1, 1) := dk_4 (dk_at dksX8_init_0 19 rfl rfl)
theorem dX8_init_20 : decode cX8_init 20 = .ok (.iastore, 1) := dk_79 (dk_at dksX8_init_0 20 rfl rfl)
theorem dX8_init_21 : decode cX8_init 21 = .ok (.dup, 1) := dk_89 (dk_at dksX8_init_0 21 rfl rfl)
theorem dX8_init_22 : decode cX8_init 22 = .ok (.iconst 2, 1) := dk_5 (dk_at dksX8_init_0 22 rfl rfl)
theorem dX8_init_23 : decode cX8_init 23 = .ok (.iconst 2, 1) := dk_5 (dk_at dksX8_init_0 23 rfl rfl)
theorem dX8_init_24 : decode cX8_init 24 = .ok (.iastore, 1) := dk_79 (dk_at dksX8_init_1 0 rfl rfl)
theorem dX8_init_25 : decode cX8_init 25 = .ok (.dup, 1) := dk_89 (dk_at dksX8_init_1 1 rfl rfl)
theorem dX8_init_26 : decode cX8_init 26 = .ok (.iconst 3, 1) := dk_6 (dk_at dksX8_init_1 2 rfl rfl)
theorem dX8_init_27 : decode cX8_init 27 = .ok (.iconst 3, 1) := dk_6 (dk_at dksX8_init_1 3 rfl rfl)
theorem dX8_init_28 : decode cX8_init 28 = .ok (.iastore, 1) := dk_79 (dk_at dksX8_init_1 4 rfl rfl)
theorem dX8_init_29 : decode cX8_init 29 = .ok (.putfield 13, 3) := dk_181 0 13 (dk_at dksX8_init_1 5 rfl rfl)
theorem dX8_init_32 : decode cX8_init 32 = .ok (.aload_n 0, 1) := dk_42 (dk_at dksX8_init_1 8 rfl rfl)
theorem dX8_init_33 : decode cX8_init 33 = .ok (.iconst 2, 1) := dk_5 (dk_at dksX8_init_1 9 rfl rfl)
theorem dX8_init_34 : decode cX8_init 34 = .ok (.anewarray 17, 3) := dk_189 0 17 (dk_at dksX8_init_1 10 rfl rfl)
theorem dX8_init_37 : decode cX8_init 37 = .ok (.dup, 1) := dk_89 (dk_at dksX8_init_1 13 rfl rfl)
theorem dX8_init_38 : decode cX8_init 38 = .ok (.iconst 0, 1) := dk_3 (dk_at dksX8_init_1 14 rfl rfl)
theorem dX8_init_39 : decode cX8_init 39 = .ok (.new 17, 3) := dk_187 0 17 (dk_at dksX8_init_1 15 rfl rfl)
theorem dX8_init_42 : decode cX8_init 42 = .ok (.dup, 1) := dk_89 (dk_at dksX8_init_1 18 rfl rfl)
theorem dX8_init_43 : decode cX8_init 43 = .ok (.invokespecial 19, 3) := dk_183 0 19 (dk_at dksX8_init_1 19 rfl rfl)
theorem dX8_init_46 : decode cX8_init 46 = .ok (.aastore, 1) := dk_83 (dk_at dksX8_init_1 22 rfl rfl)
theorem dX8_init_47 : decode cX8_init 47 = .ok (.dup, 1) := dk_89 (dk_at dksX8_init_1 23 rfl rfl)
theorem dX8_init_48 : decode cX8_init 48 = .ok (.iconst 1, 1) := dk_4 (dk_at dksX8_init_2 0 rfl rfl)
theorem dX8_init_49 : decode cX8_init 49 = .ok (.new 17, 3) := dk_187 0 17 (dk_at dksX8_init_2 1 rfl rfl)
theorem dX8_init_52 : decode cX8_init 52 = .ok (.dup, 1) := dk_89 (dk_at dksX8_init_2 4 rfl rfl)
theorem dX8_init_53 : decode cX8_init 53 = .ok (.invokespecial 19, 3) := dk_183 0 19 (dk_at dksX8_init_2 5 rfl rfl)
theorem dX8_init_56 : decode cX8_init 56 = .ok (.aastore, 1) := dk_83 (dk_at dksX8_init_2 8 rfl rfl)
theorem dX8_init_57 : decode cX8_init 57 = .ok (.putfield 20, 3) := dk_181 0 20 (dk_at dksX8_init_2 9 rfl rfl)
theorem dX8_init_60 : decode cX8_init 60 = .ok (.aload_n 0, 1) := dk_42 (dk_at dksX8_init_2 12 rfl rfl)
theorem dX8_init_61 : decode cX8_init 61 = .ok (.getfield 20, 3) := dk_180 0 20 (dk_at dksX8_init_2 13 rfl rfl)
theorem dX8_init_64 : decode cX8_init 64 = .ok (.iconst 1, 1) := dk_4 (dk_at dksX8_init_2 16 rfl rfl)
theorem dX8_init_65 : decode cX8_init 65 = .ok (.aaload, 1) := dk_50 (dk_at dksX8_init_2 17 rfl rfl)
theorem dX8_init_66 : decode cX8_init 66 = .ok (.bipush 10, 2) := dk_16 10 (dk_at dksX8_init_2 18 rfl rfl)
theorem dX8_init_68 : decode cX8_init 68 = .ok (.putfield 24, 3) := dk_181 0 24 (dk_at dksX8_init_2 20 rfl rfl)
theorem dX8_init_71 : decode cX8_init 71 = .ok (.return_, 1) := dk_177 (dk_at dksX8_init_2 23 rfl rfl)
theorem q129 : (Jvm.Cond.initialized "OneDrum$War") ∈ lw_all := lw_g (lw_at lw_m1 12 rfl) rfl
theorem q510 : (Jvm.Cond.instantiable "OneDrum$War" (5 : Nat)) ∈ lw_all := lw_g (lw_at lw_m2 153 rfl) rfl
theorem q512 : (Jvm.Cond.instanceMethod ({ cls := "OneDrum$War", name := "<init>", desc := "()V" } : Jvm.MethodName)) ∈ lw_all := lw_g (lw_at lw_m2 155 rfl) rfl
theorem q513 : (Jvm.Cond.code ({ cls := "OneDrum$War", name := "<init>", desc := "()V" } : Jvm.MethodName) prog_20_method_1_code (1 : Nat) (Option.none : Option Jvm.ClassFile.FieldType)) ∈ lw_all := lw_g (lw_at lw_m2 156 rfl) rfl
theorem q514 : (Jvm.Cond.methodLink "OneDrum$War" (1 : Nat) ({ cls := "java/lang/Object", name := "<init>", desc := "()V" } : Jvm.MethodName)) ∈ lw_all := lw_g (lw_at lw_m2 157 rfl) rfl
theorem q515 : (Jvm.Cond.classLink "OneDrum$War" (17 : Nat) "OneDrum$Army") ∈ lw_all := lw_g (lw_at lw_m2 158 rfl) rfl
theorem q518 : (Jvm.Cond.methodLinkNest "OneDrum$War" (19 : Nat) ({ cls := "OneDrum$Army", name := "<init>", desc := "()V" } : Jvm.MethodName) "OneDrum") ∈ lw_tbl := lw_at lw_m2 161 rfl
theorem q533 : (Jvm.Cond.fieldLink "OneDrum$War" (24 : Nat) "OneDrum$Army" "place" "I") ∈ lw_all := lw_g (lw_at lw_m2 176 rfl) rfl
theorem q551 : (Jvm.Cond.fieldLink "OneDrum$War" (7 : Nat) "OneDrum$War" "turn" "I") ∈ lw_all := lw_g (lw_at lw_m2 194 rfl) rfl
theorem q561 : (Jvm.Cond.fieldLink "OneDrum$War" (13 : Nat) "OneDrum$War" "wet" "[I") ∈ lw_all := lw_g (lw_at lw_m2 204 rfl) rfl
theorem q565 : (Jvm.Cond.fieldLink "OneDrum$War" (20 : Nat) "OneDrum$War" "armies" "[LOneDrum$Army;") ∈ lw_all := lw_g (lw_at lw_m2 208 rfl) rfl
theorem q569 : (Jvm.Cond.lays "OneDrum$War" "OneDrum$War" "turn" "I") ∈ lw_all := lw_g (lw_at lw_m2 212 rfl) rfl
theorem q570 : (Jvm.Cond.soleField "OneDrum$War" "turn") ∈ lw_all := lw_g (lw_at lw_m2 213 rfl) rfl
theorem q571 : (Jvm.Cond.lays "OneDrum$War" "OneDrum$War" "tired" "I") ∈ lw_all := lw_g (lw_at lw_m2 214 rfl) rfl
theorem q572 : (Jvm.Cond.soleField "OneDrum$War" "tired") ∈ lw_all := lw_g (lw_at lw_m2 215 rfl) rfl
theorem q573 : (Jvm.Cond.lays "OneDrum$War" "OneDrum$War" "echo" "I") ∈ lw_all := lw_g (lw_at lw_m2 216 rfl) rfl
theorem q574 : (Jvm.Cond.soleField "OneDrum$War" "echo") ∈ lw_all := lw_g (lw_at lw_m2 217 rfl) rfl
theorem q575 : (Jvm.Cond.laysFinal "OneDrum$War" "OneDrum$War" "wet" "[I") ∈ lw_all := lw_g (lw_at lw_m2 218 rfl) rfl
theorem q576 : (Jvm.Cond.soleField "OneDrum$War" "wet") ∈ lw_all := lw_g (lw_at lw_m2 219 rfl) rfl
theorem q577 : (Jvm.Cond.laysFinal "OneDrum$War" "OneDrum$War" "armies" "[LOneDrum$Army;") ∈ lw_all := lw_g (lw_at lw_m2 220 rfl) rfl
theorem q578 : (Jvm.Cond.soleField "OneDrum$War" "armies") ∈ lw_all := lw_g (lw_at lw_m2 221 rfl) rfl
theorem q579 : (Jvm.Cond.superclass "OneDrum$War" "java/lang/Object") ∈ lw_all := lw_g (lw_at lw_m2 222 rfl) rfl
theorem q1114 : (Jvm.Cond.selects "OneDrum$War" ({ cls := "java/lang/Object", name := "getClass", desc := "()Ljava/lang/Class;" } : Jvm.MethodName) ({ cls := "java/lang/Object", name := "getClass", desc := "()Ljava/lang/Class;" } : Jvm.MethodName)) ∈ lw_all := lw_g (lw_at lw_m5 37 rfl) rfl
theorem q2228 : (Jvm.Cond.castable "OneDrum$War" "java/lang/Object") ∈ lw_tbl := lw_at lw_m9 191 rfl
theorem in_X8 : ∀ w ∈ wsX80, w ∈ lw_all := lw_in wsX80 [569, 571, 573, 575, 577] (by decide +kernel) (by decide +kernel)
/-! OneDrum$Army -/
set_option maxRecDepth 100000
def RX9 : String := "OneDrum$Army"
def TX9 : u_T := fun k => match k with
  | 0 => ("OneDrum$Army", "from", "I", false)
  | 1 => ("OneDrum$Army", "step", "I", false)
  | 2 => ("OneDrum$Army", "lag", "I", false)
  | 3 => ("OneDrum$Army", "place", "I", false)
  | _ => ("OneDrum$Army", "orders", "Ljava/util/ArrayList;", true)
def tyX9 : Nat → FieldType := fun k => match k with
  | 0 => .int
  | 1 => .int
  | 2 => .int
  | 3 => .int
  | _ => .object "java/util/ArrayList"
abbrev wsX90 : List Cond := u_ws RX9 TX9 5
theorem nmX9 : ∀ a, a < 5 → ∀ b, b < 5 → a ≠ b → (TX9 a).2.1 ≠ (TX9 b).2.1 := by decide +kernel
theorem tyX9_ok : ∀ k, k < 5 → parseFieldDescriptor (TX9 k).2.2.1 = some (tyX9 k) := by decide +kernel
abbrev cX9_init : ByteArray := prog_3_method_1_code
def yX9_init : MethodName := ⟨RX9, "<init>", "()V"⟩
def dkwX9_init_0 : List UInt8 := [42, 183, 0, 1, 42, 4, 181, 0, 7, 42, 187, 0, 13, 89, 183, 0, 15, 181, 0, 16, 177]
abbrev dktX9_init_0 : List UInt8 := dkwX9_init_0 ++ []
theorem dksX9_init_0 : cX9_init.data.toList.drop 0 = dktX9_init_0 := by decide +kernel
theorem dX9_init_0 : decode cX9_init 0 = .ok (.aload_n 0, 1) := dk_42 (dk_at dksX9_init_0 0 rfl rfl)
theorem dX9_init_1 : decode cX9_init 1 = .ok (.invokespecial 1, 3) := dk_183 0 1 (dk_at dksX9_init_0 1 rfl rfl)
theorem dX9_init_4 : decode cX9_init 4 = .ok (.aload_n 0, 1) := dk_42 (dk_at dksX9_init_0 4 rfl rfl)
theorem dX9_init_5 : decode cX9_init 5 = .ok (.iconst 1, 1) := dk_4 (dk_at dksX9_init_0 5 rfl rfl)
theorem dX9_init_6 : decode cX9_init 6 = .ok (.putfield 7, 3) := dk_181 0 7 (dk_at dksX9_init_0 6 rfl rfl)
theorem dX9_init_9 : decode cX9_init 9 = .ok (.aload_n 0, 1) := dk_42 (dk_at dksX9_init_0 9 rfl rfl)
theorem dX9_init_10 : decode cX9_init 10 = .ok (.new 13, 3) := dk_187 0 13 (dk_at dksX9_init_0 10 rfl rfl)
theorem dX9_init_13 : decode cX9_init 13 = .ok (.dup, 1) := dk_89 (dk_at dksX9_init_0 13 rfl rfl)
theorem dX9_init_14 : decode cX9_init 14 = .ok (.invokespecial 15, 3) := dk_183 0 15 (dk_at dksX9_init_0 14 rfl rfl)
theorem dX9_init_17 : decode cX9_init 17 = .ok (.putfield 16, 3) := dk_181 0 16 (dk_at dksX9_init_0 17 rfl rfl)
theorem dX9_init_20 : decode cX9_init 20 = .ok (.return_, 1) := dk_177 (dk_at dksX9_init_0 20 rfl rfl)
theorem q130 : (Jvm.Cond.initialized "OneDrum$Army") ∈ lw_all := lw_g (lw_at lw_m1 13 rfl) rfl
theorem q517 : (Jvm.Cond.instantiable "OneDrum$Army" (5 : Nat)) ∈ lw_all := lw_g (lw_at lw_m2 160 rfl) rfl
theorem q519 : (Jvm.Cond.instanceMethod ({ cls := "OneDrum$Army", name := "<init>", desc := "()V" } : Jvm.MethodName)) ∈ lw_all := lw_g (lw_at lw_m2 162 rfl) rfl
theorem q520 : (Jvm.Cond.code ({ cls := "OneDrum$Army", name := "<init>", desc := "()V" } : Jvm.MethodName) prog_3_method_1_code (1 : Nat) (Option.none : Option Jvm.ClassFile.FieldType)) ∈ lw_all := lw_g (lw_at lw_m2 163 rfl) rfl
theorem q521 : (Jvm.Cond.methodLink "OneDrum$Army" (1 : Nat) ({ cls := "java/lang/Object", name := "<init>", desc := "()V" } : Jvm.MethodName)) ∈ lw_all := lw_g (lw_at lw_m2 164 rfl) rfl
theorem q522 : (Jvm.Cond.classLink "OneDrum$Army" (13 : Nat) "java/util/ArrayList") ∈ lw_all := lw_g (lw_at lw_m2 165 rfl) rfl
theorem q523 : (Jvm.Cond.methodLink "OneDrum$Army" (15 : Nat) ({ cls := "java/util/ArrayList", name := "<init>", desc := "()V" } : Jvm.MethodName)) ∈ lw_all := lw_g (lw_at lw_m2 166 rfl) rfl
theorem q527 : (Jvm.Cond.fieldLink "OneDrum$Army" (7 : Nat) "OneDrum$Army" "step" "I") ∈ lw_all := lw_g (lw_at lw_m2 170 rfl) rfl
theorem q536 : (Jvm.Cond.fieldLink "OneDrum$Army" (16 : Nat) "OneDrum$Army" "orders" "Ljava/util/ArrayList;") ∈ lw_all := lw_g (lw_at lw_m2 179 rfl) rfl
theorem q540 : (Jvm.Cond.lays "OneDrum$Army" "OneDrum$Army" "from" "I") ∈ lw_all := lw_g (lw_at lw_m2 183 rfl) rfl
theorem q541 : (Jvm.Cond.soleField "OneDrum$Army" "from") ∈ lw_all := lw_g (lw_at lw_m2 184 rfl) rfl
theorem q542 : (Jvm.Cond.lays "OneDrum$Army" "OneDrum$Army" "step" "I") ∈ lw_all := lw_g (lw_at lw_m2 185 rfl) rfl
theorem q543 : (Jvm.Cond.soleField "OneDrum$Army" "step") ∈ lw_all := lw_g (lw_at lw_m2 186 rfl) rfl
theorem q544 : (Jvm.Cond.lays "OneDrum$Army" "OneDrum$Army" "lag" "I") ∈ lw_all := lw_g (lw_at lw_m2 187 rfl) rfl
theorem q545 : (Jvm.Cond.soleField "OneDrum$Army" "lag") ∈ lw_all := lw_g (lw_at lw_m2 188 rfl) rfl
theorem q546 : (Jvm.Cond.lays "OneDrum$Army" "OneDrum$Army" "place" "I") ∈ lw_all := lw_g (lw_at lw_m2 189 rfl) rfl
theorem q547 : (Jvm.Cond.soleField "OneDrum$Army" "place") ∈ lw_all := lw_g (lw_at lw_m2 190 rfl) rfl
theorem q548 : (Jvm.Cond.laysFinal "OneDrum$Army" "OneDrum$Army" "orders" "Ljava/util/ArrayList;") ∈ lw_all := lw_g (lw_at lw_m2 191 rfl) rfl
theorem q549 : (Jvm.Cond.soleField "OneDrum$Army" "orders") ∈ lw_all := lw_g (lw_at lw_m2 192 rfl) rfl
theorem q550 : (Jvm.Cond.superclass "OneDrum$Army" "java/lang/Object") ∈ lw_all := lw_g (lw_at lw_m2 193 rfl) rfl
theorem q1099 : (Jvm.Cond.selects "OneDrum$Army" ({ cls := "java/lang/Object", name := "getClass", desc := "()Ljava/lang/Class;" } : Jvm.MethodName) ({ cls := "java/lang/Object", name := "getClass", desc := "()Ljava/lang/Class;" } : Jvm.MethodName)) ∈ lw_all := lw_g (lw_at lw_m5 22 rfl) rfl
theorem q2222 : (Jvm.Cond.castable "OneDrum$Army" "java/lang/Object") ∈ lw_tbl := lw_at lw_m9 185 rfl
theorem in_X9 : ∀ w ∈ wsX90, w ∈ lw_all := lw_in wsX90 [540, 542, 544, 546, 548] (by decide +kernel) (by decide +kernel)
