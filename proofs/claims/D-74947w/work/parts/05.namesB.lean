/-! BalloonMail -/
set_option maxRecDepth 100000
def RX1 : String := "BalloonMail"
def TX1 : u_T := fun k => match k with
  | 0 => ("BalloonMail", "buffer", "[B", true)
  | 1 => ("BalloonMail", "bufferLength", "I", false)
  | 2 => ("BalloonMail", "errorPosition", "I", false)
  | 3 => ("BalloonMail", "siege", "LBalloonMail$Siege;", false)
  | 4 => ("BalloonMail", "state", "LBalloonMail$State;", false)
  | 5 => ("BalloonMail", "history", "Ljava/util/ArrayList;", true)
  | 6 => ("BalloonMail", "snapshots", "[LBalloonMail$State;", true)
  | 7 => ("BalloonMail", "winds", "[J", true)
  | 8 => ("BalloonMail", "next", "[J", true)
  | 9 => ("BalloonMail", "gain", "[J", true)
  | 10 => ("BalloonMail", "total", "[J", true)
  | _ => ("BalloonMail", "value", "[I", true)
def tyX1 : Nat → FieldType := fun k => match k with
  | 0 => .array .byte
  | 1 => .int
  | 2 => .int
  | 3 => .object "BalloonMail$Siege"
  | 4 => .object "BalloonMail$State"
  | 5 => .object "java/util/ArrayList"
  | 6 => .array (.object "BalloonMail$State")
  | 7 => .array .long
  | 8 => .array .long
  | 9 => .array .long
  | 10 => .array .long
  | _ => .array .int
abbrev wsX10 : List Cond := u_ws RX1 TX1 12
theorem nmX1 : ∀ a, a < 12 → ∀ b, b < 12 → a ≠ b → (TX1 a).2.1 ≠ (TX1 b).2.1 := by decide +kernel
theorem tyX1_ok : ∀ k, k < 12 → parseFieldDescriptor (TX1 k).2.2.1 = some (tyX1 k) := by decide +kernel
abbrev cX1_init : ByteArray := prog_1_method_3_code
def yX1_init : MethodName := ⟨RX1, "<init>", "()V"⟩
def dkwX1_init_4 : List UInt8 := [188, 11, 181, 0, 58, 42, 17, 97, 168, 188, 10, 181, 0, 61, 177]
abbrev dktX1_init_4 : List UInt8 := dkwX1_init_4 ++ []
def dkwX1_init_3 : List UInt8 := [181, 0, 48, 42, 16, 6, 188, 11, 181, 0, 52, 42, 16, 90, 188, 11, 181, 0, 55, 42, 17, 22, 0]
abbrev dktX1_init_3 : List UInt8 := dkwX1_init_3 ++ dktX1_init_4
def dkwX1_init_2 : List UInt8 := [187, 0, 35, 89, 5, 183, 0, 37, 181, 0, 40, 42, 5, 189, 0, 26, 181, 0, 44, 42, 16, 6, 188, 11]
abbrev dktX1_init_2 : List UInt8 := dkwX1_init_2 ++ dktX1_init_3
def dkwX1_init_1 : List UInt8 := [183, 0, 21, 181, 0, 22, 42, 187, 0, 26, 89, 42, 180, 0, 22, 183, 0, 28, 181, 0, 31, 42]
abbrev dktX1_init_1 : List UInt8 := dkwX1_init_1 ++ dktX1_init_2
def dkwX1_init_0 : List UInt8 := [42, 183, 0, 5, 42, 17, 3, 132, 188, 8, 181, 0, 11, 42, 16, 254, 181, 0, 15, 42, 187, 0, 19, 89]
abbrev dktX1_init_0 : List UInt8 := dkwX1_init_0 ++ dktX1_init_1
theorem dksX1_init_0 : cX1_init.data.toList.drop 0 = dktX1_init_0 := by decide +kernel
theorem dksX1_init_1 : cX1_init.data.toList.drop 24 = dktX1_init_1 := dk_seg dksX1_init_0 24 rfl rfl
theorem dksX1_init_2 : cX1_init.data.toList.drop 46 = dktX1_init_2 := dk_seg dksX1_init_1 22 rfl rfl
theorem dksX1_init_3 : cX1_init.data.toList.drop 70 = dktX1_init_3 := dk_seg dksX1_init_2 24 rfl rfl
theorem dksX1_init_4 : cX1_init.data.toList.drop 93 = dktX1_init_4 := dk_seg dksX1_init_3 23 rfl rfl
theorem dX1_init_0 : decode cX1_init 0 = .ok (.aload_n 0, 1) := dk_42 (dk_at dksX1_init_0 0 rfl rfl)
theorem dX1_init_1 : decode cX1_init 1 = .ok (.invokespecial 5, 3) := dk_183 0 5 (dk_at dksX1_init_0 1 rfl rfl)
theorem dX1_init_4 : decode cX1_init 4 = .ok (.aload_n 0, 1) := dk_42 (dk_at dksX1_init_0 4 rfl rfl)
theorem dX1_init_5 : decode cX1_init 5 = .ok (.sipush 900, 3) := dk_17 3 132 (dk_at dksX1_init_0 5 rfl rfl)
theorem dX1_init_8 : decode cX1_init 8 = .ok (.newarray .byte, 2) := dk_188_8 (dk_at dksX1_init_0 8 rfl rfl)
theorem dX1_init_10 : decode cX1_init 10 = .ok (.putfield 11, 3) := dk_181 0 11 (dk_at dksX1_init_0 10 rfl rfl)
theorem dX1_init_13 : decode cX1_init 13 = .ok (.aload_n 0, 1) := dk_42 (dk_at dksX1_init_0 13 rfl rfl)
theorem dX1_init_14 : decode cX1_init 14 = .ok (.bipush (-2), 2) := dk_16 254 (dk_at dksX1_init_0 14 rfl rfl)
theorem dX1_init_16 : decode cX1_init 16 = .ok (.putfield 15, 3) := dk_181 0 15 (dk_at dksX1_init_0 16 rfl rfl)
theorem dX1_init_19 : decode cX1_init 19 = .ok (.aload_n 0, 1) := dk_42 (dk_at dksX1_init_0 19 rfl rfl)
theorem dX1_init_20 : decode cX1_init 20 = .ok (.new 19, 3) := dk_187 0 19 (dk_at dksX1_init_0 20 rfl rfl)
theorem dX1_init_23 : decode cX1_init 23 = .ok (.dup, 1) := dk_89 (dk_at dksX1_init_0 23 rfl rfl)
theorem dX1_init_24 : decode cX1_init 24 = .ok (.invokespecial 21, 3) := dk_183 0 21 (dk_at dksX1_init_1 0 rfl rfl)
theorem dX1_init_27 : decode cX1_init 27 = .ok (.putfield 22, 3) := dk_181 0 22 (dk_at dksX1_init_1 3 rfl rfl)
theorem dX1_init_30 : decode cX1_init 30 = .ok (.aload_n 0, 1) := dk_42 (dk_at dksX1_init_1 6 rfl rfl)
theorem dX1_init_31 : decode cX1_init 31 = .ok (.new 26, 3) := dk_187 0 26 (dk_at dksX1_init_1 7 rfl rfl)
theorem dX1_init_34 : decode cX1_init 34 = .ok (.dup, 1) := dk_89 (dk_at dksX1_init_1 10 rfl rfl)
theorem dX1_init_35 : decode cX1_init 35 = .ok (.aload_n 0, 1) := dk_42 (dk_at dksX1_init_1 11 rfl rfl)
theorem dX1_init_36 : decode cX1_init 36 = .ok (.getfield 22, 3) := dk_180 0 22 (dk_at dksX1_init_1 12 rfl rfl)
theorem dX1_init_39 : decode cX1_init 39 = .ok (.invokespecial 28, 3) := dk_183 0 28 (dk_at dksX1_init_1 15 rfl rfl)
theorem dX1_init_42 : decode cX1_init 42 = .ok (.putfield 31, 3) := dk_181 0 31 (dk_at dksX1_init_1 18 rfl rfl)
theorem dX1_init_45 : decode cX1_init 45 = .ok (.aload_n 0, 1) := dk_42 (dk_at dksX1_init_1 21 rfl rfl)
theorem dX1_init_46 : decode cX1_init 46 = .ok (.new 35, 3) := dk_187 0 35 (dk_at dksX1_init_2 0 rfl rfl)
theorem dX1_init_49 : decode cX1_init 49 = .ok (.dup, 1) := dk_89 (dk_at dksX1_init_2 3 rfl rfl)
theorem dX1_init_50 : decode cX1_init 50 = .ok (.iconst 2, 1) := dk_5 (dk_at dksX1_init_2 4 rfl rfl)
theorem dX1_init_51 : decode cX1_init 51 = .ok (.invokespecial 37, 3) := dk_183 0 37 (dk_at dksX1_init_2 5 rfl rfl)
theorem dX1_init_54 : decode cX1_init 54 = .ok (.putfield 40, 3) := dk_181 0 40 (dk_at dksX1_init_2 8 rfl rfl)
theorem dX1_init_57 : decode cX1_init 57 = .ok (.aload_n 0, 1) := dk_42 (dk_at dksX1_init_2 11 rfl rfl)
theorem dX1_init_58 : decode cX1_init 58 = .ok (.iconst 2, 1) := dk_5 (dk_at dksX1_init_2 12 rfl rfl)
theorem dX1_init_59 : decode cX1_init 59 = .ok (.anewarray 26, 3) := dk_189 0 26 (dk_at dksX1_init_2 13 rfl rfl)
theorem dX1_init_62 : decode cX1_init 62 = .ok (.putfield 44, 3) := dk_181 0 44 (dk_at dksX1_init_2 16 rfl rfl)
theorem dX1_init_65 : decode cX1_init 65 = .ok (.aload_n 0, 1) := dk_42 (dk_at dksX1_init_2 19 rfl rfl)
theorem dX1_init_66 : decode cX1_init 66 = .ok (.bipush 6, 2) := dk_16 6 (dk_at dksX1_init_2 20 rfl rfl)
theorem dX1_init_68 : decode cX1_init 68 = .ok (.newarray .long, 2) := dk_188_11 (dk_at dksX1_init_2 22 rfl rfl)
theorem dX1_init_70 : decode cX1_init 70 = .ok (.putfield 48, 3) := dk_181 0 48 (dk_at dksX1_init_3 0 rfl rfl)
theorem dX1_init_73 : decode cX1_init 73 = .ok (.aload_n 0, 1) := dk_42 (dk_at dksX1_init_3 3 rfl rfl)
theorem dX1_init_74 : decode cX1_init 74 = .ok (.bipush 6, 2) := dk_16 6 (dk_at dksX1_init_3 4 rfl rfl)
theorem dX1_init_76 : decode cX1_init 76 = .ok (.newarray .long, 2) := dk_188_11 (dk_at dksX1_init_3 6 rfl rfl)
theorem dX1_init_78 : decode cX1_init 78 = .ok (.putfield 52, 3) := dk_181 0 52 (dk_at dksX1_init_3 8 rfl rfl)
theorem dX1_init_81 : decode cX1_init 81 = .ok (.aload_n 0, 1) := dk_42 (dk_at dksX1_init_3 11 rfl rfl)
theorem dX1_init_82 : decode cX1_init 82 = .ok (.bipush 90, 2) := dk_16 90 (dk_at dksX1_init_3 12 rfl rfl)
theorem dX1_init_84 : decode cX1_init 84 = .ok (.newarray .long, 2) := dk_188_11 (dk_at dksX1_init_3 14 rfl rfl)
theorem dX1_init_86 : decode cX1_init 86 = .ok (.putfield 55, 3) := dk_181 0 55 (dk_at dksX1_init_3 16 rfl rfl)
theorem dX1_init_89 : decode cX1_init 89 = .ok (.aload_n 0, 1) := dk_42 (dk_at dksX1_init_3 19 rfl rfl)
theorem dX1_init_90 : decode cX1_init 90 = .ok (.sipush 5632, 3) := dk_17 22 0 (dk_at dksX1_init_3 20 rfl rfl)
theorem dX1_init_93 : decode cX1_init 93 = .ok (.newarray .long, 2) := dk_188_11 (dk_at dksX1_init_4 0 rfl rfl)
theorem dX1_init_95 : decode cX1_init 95 = .ok (.putfield 58, 3) := dk_181 0 58 (dk_at dksX1_init_4 2 rfl rfl)
theorem dX1_init_98 : decode cX1_init 98 = .ok (.aload_n 0, 1) := dk_42 (dk_at dksX1_init_4 5 rfl rfl)
theorem dX1_init_99 : decode cX1_init 99 = .ok (.sipush 25000, 3) := dk_17 97 168 (dk_at dksX1_init_4 6 rfl rfl)
theorem dX1_init_102 : decode cX1_init 102 = .ok (.newarray .int, 2) := dk_188_10 (dk_at dksX1_init_4 9 rfl rfl)
theorem dX1_init_104 : decode cX1_init 104 = .ok (.putfield 61, 3) := dk_181 0 61 (dk_at dksX1_init_4 11 rfl rfl)
theorem dX1_init_107 : decode cX1_init 107 = .ok (.return_, 1) := dk_177 (dk_at dksX1_init_4 14 rfl rfl)
abbrev cX1_append : ByteArray := prog_1_method_4_code
def yX1_append : MethodName := ⟨RX1, "append", "(IIIII)I"⟩
def dkwX1_append_2 : List UInt8 := [172]
abbrev dktX1_append_2 : List UInt8 := dkwX1_append_2 ++ []
def dkwX1_append_1 : List UInt8 := [182, 0, 68, 42, 29, 182, 0, 68, 42, 21, 4, 182, 0, 68, 42, 21, 5, 182, 0, 68, 42, 180, 0, 65]
abbrev dktX1_append_1 : List UInt8 := dkwX1_append_1 ++ dktX1_append_2
def dkwX1_append_0 : List UInt8 := [42, 180, 0, 65, 16, 20, 96, 17, 3, 132, 164, 0, 5, 2, 172, 42, 27, 182, 0, 68, 42, 28]
abbrev dktX1_append_0 : List UInt8 := dkwX1_append_0 ++ dktX1_append_1
theorem dksX1_append_0 : cX1_append.data.toList.drop 0 = dktX1_append_0 := by decide +kernel
theorem dksX1_append_1 : cX1_append.data.toList.drop 22 = dktX1_append_1 := dk_seg dksX1_append_0 22 rfl rfl
theorem dksX1_append_2 : cX1_append.data.toList.drop 46 = dktX1_append_2 := dk_seg dksX1_append_1 24 rfl rfl
theorem dX1_append_0 : decode cX1_append 0 = .ok (.aload_n 0, 1) := dk_42 (dk_at dksX1_append_0 0 rfl rfl)
theorem dX1_append_1 : decode cX1_append 1 = .ok (.getfield 65, 3) := dk_180 0 65 (dk_at dksX1_append_0 1 rfl rfl)
theorem dX1_append_4 : decode cX1_append 4 = .ok (.bipush 20, 2) := dk_16 20 (dk_at dksX1_append_0 4 rfl rfl)
theorem dX1_append_6 : decode cX1_append 6 = .ok (.iadd, 1) := dk_96 (dk_at dksX1_append_0 6 rfl rfl)
theorem dX1_append_7 : decode cX1_append 7 = .ok (.sipush 900, 3) := dk_17 3 132 (dk_at dksX1_append_0 7 rfl rfl)
theorem dX1_append_10 : decode cX1_append 10 = .ok (.if_icmp .le 5, 3) := dk_164 0 5 (dk_at dksX1_append_0 10 rfl rfl)
theorem dX1_append_13 : decode cX1_append 13 = .ok (.iconst (-1), 1) := dk_2 (dk_at dksX1_append_0 13 rfl rfl)
theorem dX1_append_14 : decode cX1_append 14 = .ok (.ireturn, 1) := dk_172 (dk_at dksX1_append_0 14 rfl rfl)
theorem dX1_append_15 : decode cX1_append 15 = .ok (.aload_n 0, 1) := dk_42 (dk_at dksX1_append_0 15 rfl rfl)
theorem dX1_append_16 : decode cX1_append 16 = .ok (.iload_n 1, 1) := dk_27 (dk_at dksX1_append_0 16 rfl rfl)
theorem dX1_append_17 : decode cX1_append 17 = .ok (.invokevirtual 68, 3) := dk_182 0 68 (dk_at dksX1_append_0 17 rfl rfl)
theorem dX1_append_20 : decode cX1_append 20 = .ok (.aload_n 0, 1) := dk_42 (dk_at dksX1_append_0 20 rfl rfl)
theorem dX1_append_21 : decode cX1_append 21 = .ok (.iload_n 2, 1) := dk_28 (dk_at dksX1_append_0 21 rfl rfl)
theorem dX1_append_22 : decode cX1_append 22 = .ok (.invokevirtual 68, 3) := dk_182 0 68 (dk_at dksX1_append_1 0 rfl rfl)
theorem dX1_append_25 : decode cX1_append 25 = .ok (.aload_n 0, 1) := dk_42 (dk_at dksX1_append_1 3 rfl rfl)
theorem dX1_append_26 : decode cX1_append 26 = .ok (.iload_n 3, 1) := dk_29 (dk_at dksX1_append_1 4 rfl rfl)
theorem dX1_append_27 : decode cX1_append 27 = .ok (.invokevirtual 68, 3) := dk_182 0 68 (dk_at dksX1_append_1 5 rfl rfl)
theorem dX1_append_30 : decode cX1_append 30 = .ok (.aload_n 0, 1) := dk_42 (dk_at dksX1_append_1 8 rfl rfl)
theorem dX1_append_31 : decode cX1_append 31 = .ok (.iload 4, 2) := dk_21 4 (dk_at dksX1_append_1 9 rfl rfl)
theorem dX1_append_33 : decode cX1_append 33 = .ok (.invokevirtual 68, 3) := dk_182 0 68 (dk_at dksX1_append_1 11 rfl rfl)
theorem dX1_append_36 : decode cX1_append 36 = .ok (.aload_n 0, 1) := dk_42 (dk_at dksX1_append_1 14 rfl rfl)
theorem dX1_append_37 : decode cX1_append 37 = .ok (.iload 5, 2) := dk_21 5 (dk_at dksX1_append_1 15 rfl rfl)
theorem dX1_append_39 : decode cX1_append 39 = .ok (.invokevirtual 68, 3) := dk_182 0 68 (dk_at dksX1_append_1 17 rfl rfl)
theorem dX1_append_42 : decode cX1_append 42 = .ok (.aload_n 0, 1) := dk_42 (dk_at dksX1_append_1 20 rfl rfl)
theorem dX1_append_43 : decode cX1_append 43 = .ok (.getfield 65, 3) := dk_180 0 65 (dk_at dksX1_append_1 21 rfl rfl)
theorem dX1_append_46 : decode cX1_append 46 = .ok (.ireturn, 1) := dk_172 (dk_at dksX1_append_2 0 rfl rfl)
abbrev cX1_appendWord : ByteArray := prog_1_method_5_code
def yX1_appendWord : MethodName := ⟨RX1, "appendWord", "(I)V"⟩
def dkwX1_appendWord_1 : List UInt8 := [122, 145, 84, 132, 2, 248, 167, 255, 229, 177]
abbrev dktX1_appendWord_1 : List UInt8 := dkwX1_appendWord_1 ++ []
def dkwX1_appendWord_0 : List UInt8 := [16, 24, 61, 28, 155, 0, 29, 42, 180, 0, 11, 42, 89, 180, 0, 65, 90, 4, 96, 181, 0, 65, 27, 28]
abbrev dktX1_appendWord_0 : List UInt8 := dkwX1_appendWord_0 ++ dktX1_appendWord_1
theorem dksX1_appendWord_0 : cX1_appendWord.data.toList.drop 0 = dktX1_appendWord_0 := by decide +kernel
theorem dksX1_appendWord_1 : cX1_appendWord.data.toList.drop 24 = dktX1_appendWord_1 := dk_seg dksX1_appendWord_0 24 rfl rfl
theorem dX1_appendWord_0 : decode cX1_appendWord 0 = .ok (.bipush 24, 2) := dk_16 24 (dk_at dksX1_appendWord_0 0 rfl rfl)
theorem dX1_appendWord_2 : decode cX1_appendWord 2 = .ok (.istore_n 2, 1) := dk_61 (dk_at dksX1_appendWord_0 2 rfl rfl)
theorem dX1_appendWord_3 : decode cX1_appendWord 3 = .ok (.iload_n 2, 1) := dk_28 (dk_at dksX1_appendWord_0 3 rfl rfl)
theorem dX1_appendWord_4 : decode cX1_appendWord 4 = .ok (.ifCond .lt 29, 3) := dk_155 0 29 (dk_at dksX1_appendWord_0 4 rfl rfl)
theorem dX1_appendWord_7 : decode cX1_appendWord 7 = .ok (.aload_n 0, 1) := dk_42 (dk_at dksX1_appendWord_0 7 rfl rfl)
theorem dX1_appendWord_8 : decode cX1_appendWord 8 = .ok (.getfield 11, 3) := dk_180 0 11 (dk_at dksX1_appendWord_0 8 rfl rfl)
theorem dX1_appendWord_11 : decode cX1_appendWord 11 = .ok (.aload_n 0, 1) := dk_42 (dk_at dksX1_appendWord_0 11 rfl rfl)
theorem dX1_appendWord_12 : decode cX1_appendWord 12 = .ok (.dup, 1) := dk_89 (dk_at dksX1_appendWord_0 12 rfl rfl)
theorem dX1_appendWord_13 : decode cX1_appendWord 13 = .ok (.getfield 65, 3) := dk_180 0 65 (dk_at dksX1_appendWord_0 13 rfl rfl)
theorem dX1_appendWord_16 : decode cX1_appendWord 16 = .ok (.dup_x1, 1) := dk_90 (dk_at dksX1_appendWord_0 16 rfl rfl)
theorem dX1_appendWord_17 : decode cX1_appendWord 17 = .ok (.iconst 1, 1) := dk_4 (dk_at dksX1_appendWord_0 17 rfl rfl)
theorem dX1_appendWord_18 : decode cX1_appendWord 18 = .ok (.iadd, 1) := dk_96 (dk_at dksX1_appendWord_0 18 rfl rfl)
theorem dX1_appendWord_19 : decode cX1_appendWord 19 = .ok (.putfield 65, 3) := dk_181 0 65 (dk_at dksX1_appendWord_0 19 rfl rfl)
theorem dX1_appendWord_22 : decode cX1_appendWord 22 = .ok (.iload_n 1, 1) := dk_27 (dk_at dksX1_appendWord_0 22 rfl rfl)
theorem dX1_appendWord_23 : decode cX1_appendWord 23 = .ok (.iload_n 2, 1) := dk_28 (dk_at dksX1_appendWord_0 23 rfl rfl)
theorem dX1_appendWord_24 : decode cX1_appendWord 24 = .ok (.ishr, 1) := dk_122 (dk_at dksX1_appendWord_1 0 rfl rfl)
theorem dX1_appendWord_25 : decode cX1_appendWord 25 = .ok (.i2b, 1) := dk_145 (dk_at dksX1_appendWord_1 1 rfl rfl)
theorem dX1_appendWord_26 : decode cX1_appendWord 26 = .ok (.bastore, 1) := dk_84 (dk_at dksX1_appendWord_1 2 rfl rfl)
theorem dX1_appendWord_27 : decode cX1_appendWord 27 = .ok (.iinc 2 (-8), 3) := dk_132 2 248 (dk_at dksX1_appendWord_1 3 rfl rfl)
theorem dX1_appendWord_30 : decode cX1_appendWord 30 = .ok (.goto (-27), 3) := dk_167 255 229 (dk_at dksX1_appendWord_1 6 rfl rfl)
theorem dX1_appendWord_33 : decode cX1_appendWord 33 = .ok (.return_, 1) := dk_177 (dk_at dksX1_appendWord_1 9 rfl rfl)
abbrev cX1_parse : ByteArray := prog_1_method_6_code
def yX1_parse : MethodName := ⟨RX1, "parse", "(I)I"⟩
def dkwX1_parse_4 : List UInt8 := [28, 1, 83, 132, 2, 1, 167, 255, 241, 3, 172]
abbrev dktX1_parse_4 : List UInt8 := dkwX1_parse_4 ++ []
def dkwX1_parse_3 : List UInt8 := [183, 0, 28, 181, 0, 31, 42, 180, 0, 40, 182, 0, 92, 3, 61, 28, 5, 162, 0, 16, 42, 180, 0, 44]
abbrev dktX1_parse_3 : List UInt8 := dkwX1_parse_3 ++ dktX1_parse_4
def dkwX1_parse_2 : List UInt8 := [181, 0, 15, 44, 180, 0, 89, 172, 42, 16, 254, 181, 0, 15, 42, 187, 0, 26, 89, 42, 180, 0, 22]
abbrev dktX1_parse_2 : List UInt8 := dkwX1_parse_2 ++ dktX1_parse_3
def dkwX1_parse_1 : List UInt8 := [187, 0, 75, 89, 42, 27, 183, 0, 77, 182, 0, 80, 181, 0, 22, 167, 0, 17, 77, 42, 44, 180, 0, 86]
abbrev dktX1_parse_1 : List UInt8 := dkwX1_parse_1 ++ dktX1_parse_2
def dkwX1_parse_0 : List UInt8 := [27, 133, 9, 42, 180, 0, 65, 133, 184, 0, 71, 154, 0, 5, 2, 172, 42, 3, 181, 0, 65, 42]
abbrev dktX1_parse_0 : List UInt8 := dkwX1_parse_0 ++ dktX1_parse_1
theorem dksX1_parse_0 : cX1_parse.data.toList.drop 0 = dktX1_parse_0 := by decide +kernel
theorem dksX1_parse_1 : cX1_parse.data.toList.drop 22 = dktX1_parse_1 := dk_seg dksX1_parse_0 22 rfl rfl
theorem dksX1_parse_2 : cX1_parse.data.toList.drop 46 = dktX1_parse_2 := dk_seg dksX1_parse_1 24 rfl rfl
theorem dksX1_parse_3 : cX1_parse.data.toList.drop 69 = dktX1_parse_3 := dk_seg dksX1_parse_2 23 rfl rfl
theorem dksX1_parse_4 : cX1_parse.data.toList.drop 93 = dktX1_parse_4 := dk_seg dksX1_parse_3 24 rfl rfl
theorem dX1_parse_0 : decode cX1_parse 0 = .ok (.iload_n 1, 1) := dk_27 (dk_at dksX1_parse_0 0 rfl rfl)
theorem dX1_parse_1 : decode cX1_parse 1 = .ok (.i2l, 1) := dk_133 (dk_at dksX1_parse_0 1 rfl rfl)
theorem dX1_parse_2 : decode cX1_parse 2 = .ok (.lconst 0, 1) := dk_9 (dk_at dksX1_parse_0 2 rfl rfl)
theorem dX1_parse_3 : decode cX1_parse 3 = .ok (.aload_n 0, 1) := dk_42 (dk_at dksX1_parse_0 3 rfl rfl)
theorem dX1_parse_4 : decode cX1_parse 4 = .ok (.getfield 65, 3) := dk_180 0 65 (dk_at dksX1_parse_0 4 rfl rfl)
theorem dX1_parse_7 : decode cX1_parse 7 = .ok (.i2l, 1) := dk_133 (dk_at dksX1_parse_0 7 rfl rfl)
theorem dX1_parse_8 : decode cX1_parse 8 = .ok (.invokestatic 71, 3) := dk_184 0 71 (dk_at dksX1_parse_0 8 rfl rfl)
theorem dX1_parse_11 : decode cX1_parse 11 = .ok (.ifCond .ne 5, 3) := dk_154 0 5 (dk_at dksX1_parse_0 11 rfl rfl)
theorem dX1_parse_14 : decode cX1_parse 14 = .ok (.iconst (-1), 1) := dk_2 (dk_at dksX1_parse_0 14 rfl rfl)
theorem dX1_parse_15 : decode cX1_parse 15 = .ok (.ireturn, 1) := dk_172 (dk_at dksX1_parse_0 15 rfl rfl)
theorem dX1_parse_16 : decode cX1_parse 16 = .ok (.aload_n 0, 1) := dk_42 (dk_at dksX1_parse_0 16 rfl rfl)
theorem dX1_parse_17 : decode cX1_parse 17 = .ok (.iconst 0, 1) := dk_3 (dk_at dksX1_parse_0 17 rfl rfl)
theorem dX1_parse_18 : decode cX1_parse 18 = .ok (.putfield 65, 3) := dk_181 0 65 (dk_at dksX1_parse_0 18 rfl rfl)
theorem dX1_parse_21 : decode cX1_parse 21 = .ok (.aload_n 0, 1) := dk_42 (dk_at dksX1_parse_0 21 rfl rfl)
theorem dX1_parse_22 : decode cX1_parse 22 = .ok (.new 75, 3) := dk_187 0 75 (dk_at dksX1_parse_1 0 rfl rfl)
theorem dX1_parse_25 : decode cX1_parse 25 = .ok (.dup, 1) := dk_89 (dk_at dksX1_parse_1 3 rfl rfl)
theorem dX1_parse_26 : decode cX1_parse 26 = .ok (.aload_n 0, 1) := dk_42 (dk_at dksX1_parse_1 4 rfl rfl)
theorem dX1_parse_27 : decode cX1_parse 27 = .ok (.iload_n 1, 1) := dk_27 (dk_at dksX1_parse_1 5 rfl rfl)
theorem dX1_parse_28 : decode cX1_parse 28 = .ok (.invokespecial 77, 3) := dk_183 0 77 (dk_at dksX1_parse_1 6 rfl rfl)
theorem dX1_parse_31 : decode cX1_parse 31 = .ok (.invokevirtual 80, 3) := dk_182 0 80 (dk_at dksX1_parse_1 9 rfl rfl)
theorem dX1_parse_34 : decode cX1_parse 34 = .ok (.putfield 22, 3) := dk_181 0 22 (dk_at dksX1_parse_1 12 rfl rfl)
theorem dX1_parse_37 : decode cX1_parse 37 = .ok (.goto 17, 3) := dk_167 0 17 (dk_at dksX1_parse_1 15 rfl rfl)
theorem dX1_parse_40 : decode cX1_parse 40 = .ok (.astore_n 2, 1) := dk_77 (dk_at dksX1_parse_1 18 rfl rfl)
theorem dX1_parse_41 : decode cX1_parse 41 = .ok (.aload_n 0, 1) := dk_42 (dk_at dksX1_parse_1 19 rfl rfl)
theorem dX1_parse_42 : decode cX1_parse 42 = .ok (.aload_n 2, 1) := dk_44 (dk_at dksX1_parse_1 20 rfl rfl)
theorem dX1_parse_43 : decode cX1_parse 43 = .ok (.getfield 86, 3) := dk_180 0 86 (dk_at dksX1_parse_1 21 rfl rfl)
theorem dX1_parse_46 : decode cX1_parse 46 = .ok (.putfield 15, 3) := dk_181 0 15 (dk_at dksX1_parse_2 0 rfl rfl)
theorem dX1_parse_49 : decode cX1_parse 49 = .ok (.aload_n 2, 1) := dk_44 (dk_at dksX1_parse_2 3 rfl rfl)
theorem dX1_parse_50 : decode cX1_parse 50 = .ok (.getfield 89, 3) := dk_180 0 89 (dk_at dksX1_parse_2 4 rfl rfl)
theorem dX1_parse_53 : decode cX1_parse 53 = .ok (.ireturn, 1) := dk_172 (dk_at dksX1_parse_2 7 rfl rfl)
theorem dX1_parse_54 : decode cX1_parse 54 = .ok (.aload_n 0, 1) := dk_42 (dk_at dksX1_parse_2 8 rfl rfl)
theorem dX1_parse_55 : decode cX1_parse 55 = .ok (.bipush (-2), 2) := dk_16 254 (dk_at dksX1_parse_2 9 rfl rfl)
theorem dX1_parse_57 : decode cX1_parse 57 = .ok (.putfield 15, 3) := dk_181 0 15 (dk_at dksX1_parse_2 11 rfl rfl)
theorem dX1_parse_60 : decode cX1_parse 60 = .ok (.aload_n 0, 1) := dk_42 (dk_at dksX1_parse_2 14 rfl rfl)
theorem dX1_parse_61 : decode cX1_parse 61 = .ok (.new 26, 3) := dk_187 0 26 (dk_at dksX1_parse_2 15 rfl rfl)
theorem dX1_parse_64 : decode cX1_parse 64 = .ok (.dup, 1) := dk_89 (dk_at dksX1_parse_2 18 rfl rfl)
theorem dX1_parse_65 : decode cX1_parse 65 = .ok (.aload_n 0, 1) := dk_42 (dk_at dksX1_parse_2 19 rfl rfl)
theorem dX1_parse_66 : decode cX1_parse 66 = .ok (.getfield 22, 3) := dk_180 0 22 (dk_at dksX1_parse_2 20 rfl rfl)
theorem dX1_parse_69 : decode cX1_parse 69 = .ok (.invokespecial 28, 3) := dk_183 0 28 (dk_at dksX1_parse_3 0 rfl rfl)
theorem dX1_parse_72 : decode cX1_parse 72 = .ok (.putfield 31, 3) := dk_181 0 31 (dk_at dksX1_parse_3 3 rfl rfl)
theorem dX1_parse_75 : decode cX1_parse 75 = .ok (.aload_n 0, 1) := dk_42 (dk_at dksX1_parse_3 6 rfl rfl)
theorem dX1_parse_76 : decode cX1_parse 76 = .ok (.getfield 40, 3) := dk_180 0 40 (dk_at dksX1_parse_3 7 rfl rfl)
theorem dX1_parse_79 : decode cX1_parse 79 = .ok (.invokevirtual 92, 3) := dk_182 0 92 (dk_at dksX1_parse_3 10 rfl rfl)
theorem dX1_parse_82 : decode cX1_parse 82 = .ok (.iconst 0, 1) := dk_3 (dk_at dksX1_parse_3 13 rfl rfl)
theorem dX1_parse_83 : decode cX1_parse 83 = .ok (.istore_n 2, 1) := dk_61 (dk_at dksX1_parse_3 14 rfl rfl)
theorem dX1_parse_84 : decode cX1_parse 84 = .ok (.iload_n 2, 1) := dk_28 (dk_at dksX1_parse_3 15 rfl rfl)
theorem dX1_parse_85 : decode cX1_parse 85 = .ok (.iconst 2, 1) := dk_5 (dk_at dksX1_parse_3 16 rfl rfl)
theorem dX1_parse_86 : decode cX1_parse 86 = .ok (.if_icmp .ge 16, 3) := dk_162 0 16 (dk_at dksX1_parse_3 17 rfl rfl)
theorem dX1_parse_89 : decode cX1_parse 89 = .ok (.aload_n 0, 1) := dk_42 (dk_at dksX1_parse_3 20 rfl rfl)
theorem dX1_parse_90 : decode cX1_parse 90 = .ok (.getfield 44, 3) := dk_180 0 44 (dk_at dksX1_parse_3 21 rfl rfl)
theorem dX1_parse_93 : decode cX1_parse 93 = .ok (.iload_n 2, 1) := dk_28 (dk_at dksX1_parse_4 0 rfl rfl)
theorem dX1_parse_94 : decode cX1_parse 94 = .ok (.aconst_null, 1) := dk_1 (dk_at dksX1_parse_4 1 rfl rfl)
theorem dX1_parse_95 : decode cX1_parse 95 = .ok (.aastore, 1) := dk_83 (dk_at dksX1_parse_4 2 rfl rfl)
theorem dX1_parse_96 : decode cX1_parse 96 = .ok (.iinc 2 1, 3) := dk_132 2 1 (dk_at dksX1_parse_4 3 rfl rfl)
theorem dX1_parse_99 : decode cX1_parse 99 = .ok (.goto (-15), 3) := dk_167 255 241 (dk_at dksX1_parse_4 6 rfl rfl)
theorem dX1_parse_102 : decode cX1_parse 102 = .ok (.iconst 0, 1) := dk_3 (dk_at dksX1_parse_4 9 rfl rfl)
theorem dX1_parse_103 : decode cX1_parse 103 = .ok (.ireturn, 1) := dk_172 (dk_at dksX1_parse_4 10 rfl rfl)
abbrev cX1_inRange : ByteArray := prog_1_method_1_code
def yX1_inRange : MethodName := ⟨RX1, "inRange", "(JJJ)Z"⟩
def dkwX1_inRange_0 : List UInt8 := [30, 32, 148, 155, 0, 14, 30, 22, 4, 148, 157, 0, 7, 4, 167, 0, 4, 3, 172]
abbrev dktX1_inRange_0 : List UInt8 := dkwX1_inRange_0 ++ []
theorem dksX1_inRange_0 : cX1_inRange.data.toList.drop 0 = dktX1_inRange_0 := by decide +kernel
theorem dX1_inRange_0 : decode cX1_inRange 0 = .ok (.lload_n 0, 1) := dk_30 (dk_at dksX1_inRange_0 0 rfl rfl)
theorem dX1_inRange_1 : decode cX1_inRange 1 = .ok (.lload_n 2, 1) := dk_32 (dk_at dksX1_inRange_0 1 rfl rfl)
theorem dX1_inRange_2 : decode cX1_inRange 2 = .ok (.lcmp, 1) := dk_148 (dk_at dksX1_inRange_0 2 rfl rfl)
theorem dX1_inRange_3 : decode cX1_inRange 3 = .ok (.ifCond .lt 14, 3) := dk_155 0 14 (dk_at dksX1_inRange_0 3 rfl rfl)
theorem dX1_inRange_6 : decode cX1_inRange 6 = .ok (.lload_n 0, 1) := dk_30 (dk_at dksX1_inRange_0 6 rfl rfl)
theorem dX1_inRange_7 : decode cX1_inRange 7 = .ok (.lload 4, 2) := dk_22 4 (dk_at dksX1_inRange_0 7 rfl rfl)
theorem dX1_inRange_9 : decode cX1_inRange 9 = .ok (.lcmp, 1) := dk_148 (dk_at dksX1_inRange_0 9 rfl rfl)
theorem dX1_inRange_10 : decode cX1_inRange 10 = .ok (.ifCond .gt 7, 3) := dk_157 0 7 (dk_at dksX1_inRange_0 10 rfl rfl)
theorem dX1_inRange_13 : decode cX1_inRange 13 = .ok (.iconst 1, 1) := dk_4 (dk_at dksX1_inRange_0 13 rfl rfl)
theorem dX1_inRange_14 : decode cX1_inRange 14 = .ok (.goto 4, 3) := dk_167 0 4 (dk_at dksX1_inRange_0 14 rfl rfl)
theorem dX1_inRange_17 : decode cX1_inRange 17 = .ok (.iconst 0, 1) := dk_3 (dk_at dksX1_inRange_0 17 rfl rfl)
theorem dX1_inRange_18 : decode cX1_inRange 18 = .ok (.ireturn, 1) := dk_172 (dk_at dksX1_inRange_0 18 rfl rfl)
abbrev cX1_errorPosition : ByteArray := prog_1_method_7_code
def yX1_errorPosition : MethodName := ⟨RX1, "errorPosition", "()I"⟩
theorem dX1_errorPosition_0 : decode cX1_errorPosition 0 = .ok (.aload_n 0, 1) := by decide +kernel
theorem dX1_errorPosition_1 : decode cX1_errorPosition 1 = .ok (.getfield 15, 3) := by decide +kernel
theorem dX1_errorPosition_4 : decode cX1_errorPosition 4 = .ok (.ireturn, 1) := by decide +kernel
abbrev cX1_regionCount : ByteArray := prog_1_method_8_code
def yX1_regionCount : MethodName := ⟨RX1, "regionCount", "()I"⟩
def dkwX1_regionCount_0 : List UInt8 := [42, 180, 0, 22, 180, 0, 95, 182, 0, 98, 172]
abbrev dktX1_regionCount_0 : List UInt8 := dkwX1_regionCount_0 ++ []
theorem dksX1_regionCount_0 : cX1_regionCount.data.toList.drop 0 = dktX1_regionCount_0 := by decide +kernel
theorem dX1_regionCount_0 : decode cX1_regionCount 0 = .ok (.aload_n 0, 1) := dk_42 (dk_at dksX1_regionCount_0 0 rfl rfl)
theorem dX1_regionCount_1 : decode cX1_regionCount 1 = .ok (.getfield 22, 3) := dk_180 0 22 (dk_at dksX1_regionCount_0 1 rfl rfl)
theorem dX1_regionCount_4 : decode cX1_regionCount 4 = .ok (.getfield 95, 3) := dk_180 0 95 (dk_at dksX1_regionCount_0 4 rfl rfl)
theorem dX1_regionCount_7 : decode cX1_regionCount 7 = .ok (.invokevirtual 98, 3) := dk_182 0 98 (dk_at dksX1_regionCount_0 7 rfl rfl)
theorem dX1_regionCount_10 : decode cX1_regionCount 10 = .ok (.ireturn, 1) := dk_172 (dk_at dksX1_regionCount_0 10 rfl rfl)
abbrev cX1_windCount : ByteArray := prog_1_method_9_code
def yX1_windCount : MethodName := ⟨RX1, "windCount", "()I"⟩
def dkwX1_windCount_0 : List UInt8 := [42, 180, 0, 22, 180, 0, 102, 182, 0, 98, 172]
abbrev dktX1_windCount_0 : List UInt8 := dkwX1_windCount_0 ++ []
theorem dksX1_windCount_0 : cX1_windCount.data.toList.drop 0 = dktX1_windCount_0 := by decide +kernel
theorem dX1_windCount_0 : decode cX1_windCount 0 = .ok (.aload_n 0, 1) := dk_42 (dk_at dksX1_windCount_0 0 rfl rfl)
theorem dX1_windCount_1 : decode cX1_windCount 1 = .ok (.getfield 22, 3) := dk_180 0 22 (dk_at dksX1_windCount_0 1 rfl rfl)
theorem dX1_windCount_4 : decode cX1_windCount 4 = .ok (.getfield 102, 3) := dk_180 0 102 (dk_at dksX1_windCount_0 4 rfl rfl)
theorem dX1_windCount_7 : decode cX1_windCount 7 = .ok (.invokevirtual 98, 3) := dk_182 0 98 (dk_at dksX1_windCount_0 7 rfl rfl)
theorem dX1_windCount_10 : decode cX1_windCount 10 = .ok (.ireturn, 1) := dk_172 (dk_at dksX1_windCount_0 10 rfl rfl)
abbrev cX1_balloonCount : ByteArray := prog_1_method_10_code
def yX1_balloonCount : MethodName := ⟨RX1, "balloonCount", "()I"⟩
def dkwX1_balloonCount_0 : List UInt8 := [42, 180, 0, 22, 180, 0, 104, 182, 0, 98, 172]
abbrev dktX1_balloonCount_0 : List UInt8 := dkwX1_balloonCount_0 ++ []
theorem dksX1_balloonCount_0 : cX1_balloonCount.data.toList.drop 0 = dktX1_balloonCount_0 := by decide +kernel
theorem dX1_balloonCount_0 : decode cX1_balloonCount 0 = .ok (.aload_n 0, 1) := dk_42 (dk_at dksX1_balloonCount_0 0 rfl rfl)
theorem dX1_balloonCount_1 : decode cX1_balloonCount 1 = .ok (.getfield 22, 3) := dk_180 0 22 (dk_at dksX1_balloonCount_0 1 rfl rfl)
theorem dX1_balloonCount_4 : decode cX1_balloonCount 4 = .ok (.getfield 104, 3) := dk_180 0 104 (dk_at dksX1_balloonCount_0 4 rfl rfl)
theorem dX1_balloonCount_7 : decode cX1_balloonCount 7 = .ok (.invokevirtual 98, 3) := dk_182 0 98 (dk_at dksX1_balloonCount_0 7 rfl rfl)
theorem dX1_balloonCount_10 : decode cX1_balloonCount 10 = .ok (.ireturn, 1) := dk_172 (dk_at dksX1_balloonCount_0 10 rfl rfl)
abbrev cX1_letterCount : ByteArray := prog_1_method_11_code
def yX1_letterCount : MethodName := ⟨RX1, "letterCount", "()I"⟩
def dkwX1_letterCount_0 : List UInt8 := [42, 180, 0, 22, 180, 0, 107, 182, 0, 98, 172]
abbrev dktX1_letterCount_0 : List UInt8 := dkwX1_letterCount_0 ++ []
theorem dksX1_letterCount_0 : cX1_letterCount.data.toList.drop 0 = dktX1_letterCount_0 := by decide +kernel
theorem dX1_letterCount_0 : decode cX1_letterCount 0 = .ok (.aload_n 0, 1) := dk_42 (dk_at dksX1_letterCount_0 0 rfl rfl)
theorem dX1_letterCount_1 : decode cX1_letterCount 1 = .ok (.getfield 22, 3) := dk_180 0 22 (dk_at dksX1_letterCount_0 1 rfl rfl)
theorem dX1_letterCount_4 : decode cX1_letterCount 4 = .ok (.getfield 107, 3) := dk_180 0 107 (dk_at dksX1_letterCount_0 4 rfl rfl)
theorem dX1_letterCount_7 : decode cX1_letterCount 7 = .ok (.invokevirtual 98, 3) := dk_182 0 98 (dk_at dksX1_letterCount_0 7 rfl rfl)
theorem dX1_letterCount_10 : decode cX1_letterCount 10 = .ok (.ireturn, 1) := dk_172 (dk_at dksX1_letterCount_0 10 rfl rfl)
abbrev cX1_capacity : ByteArray := prog_1_method_17_code
def yX1_capacity : MethodName := ⟨RX1, "capacity", "(I)I"⟩
def dkwX1_capacity_1 : List UInt8 := [180, 0, 132, 167, 0, 4, 2, 172]
abbrev dktX1_capacity_1 : List UInt8 := dkwX1_capacity_1 ++ []
def dkwX1_capacity_0 : List UInt8 := [42, 27, 182, 0, 122, 153, 0, 23, 42, 180, 0, 22, 180, 0, 104, 27, 182, 0, 126, 192, 0, 130]
abbrev dktX1_capacity_0 : List UInt8 := dkwX1_capacity_0 ++ dktX1_capacity_1
theorem dksX1_capacity_0 : cX1_capacity.data.toList.drop 0 = dktX1_capacity_0 := by decide +kernel
theorem dksX1_capacity_1 : cX1_capacity.data.toList.drop 22 = dktX1_capacity_1 := dk_seg dksX1_capacity_0 22 rfl rfl
theorem dX1_capacity_0 : decode cX1_capacity 0 = .ok (.aload_n 0, 1) := dk_42 (dk_at dksX1_capacity_0 0 rfl rfl)
theorem dX1_capacity_1 : decode cX1_capacity 1 = .ok (.iload_n 1, 1) := dk_27 (dk_at dksX1_capacity_0 1 rfl rfl)
theorem dX1_capacity_2 : decode cX1_capacity 2 = .ok (.invokevirtual 122, 3) := dk_182 0 122 (dk_at dksX1_capacity_0 2 rfl rfl)
theorem dX1_capacity_5 : decode cX1_capacity 5 = .ok (.ifCond .eq 23, 3) := dk_153 0 23 (dk_at dksX1_capacity_0 5 rfl rfl)
theorem dX1_capacity_8 : decode cX1_capacity 8 = .ok (.aload_n 0, 1) := dk_42 (dk_at dksX1_capacity_0 8 rfl rfl)
theorem dX1_capacity_9 : decode cX1_capacity 9 = .ok (.getfield 22, 3) := dk_180 0 22 (dk_at dksX1_capacity_0 9 rfl rfl)
theorem dX1_capacity_12 : decode cX1_capacity 12 = .ok (.getfield 104, 3) := dk_180 0 104 (dk_at dksX1_capacity_0 12 rfl rfl)
theorem dX1_capacity_15 : decode cX1_capacity 15 = .ok (.iload_n 1, 1) := dk_27 (dk_at dksX1_capacity_0 15 rfl rfl)
theorem dX1_capacity_16 : decode cX1_capacity 16 = .ok (.invokevirtual 126, 3) := dk_182 0 126 (dk_at dksX1_capacity_0 16 rfl rfl)
theorem dX1_capacity_19 : decode cX1_capacity 19 = .ok (.checkcast 130, 3) := dk_192 0 130 (dk_at dksX1_capacity_0 19 rfl rfl)
theorem dX1_capacity_22 : decode cX1_capacity 22 = .ok (.getfield 132, 3) := dk_180 0 132 (dk_at dksX1_capacity_1 0 rfl rfl)
theorem dX1_capacity_25 : decode cX1_capacity 25 = .ok (.goto 4, 3) := dk_167 0 4 (dk_at dksX1_capacity_1 3 rfl rfl)
theorem dX1_capacity_28 : decode cX1_capacity 28 = .ok (.iconst (-1), 1) := dk_2 (dk_at dksX1_capacity_1 6 rfl rfl)
theorem dX1_capacity_29 : decode cX1_capacity 29 = .ok (.ireturn, 1) := dk_172 (dk_at dksX1_capacity_1 7 rfl rfl)
abbrev cX1_isBalloon : ByteArray := prog_1_method_14_code
def yX1_isBalloon : MethodName := ⟨RX1, "isBalloon", "(I)Z"⟩
def dkwX1_isBalloon_0 : List UInt8 := [27, 133, 9, 42, 182, 0, 116, 4, 100, 133, 184, 0, 71, 172]
abbrev dktX1_isBalloon_0 : List UInt8 := dkwX1_isBalloon_0 ++ []
theorem dksX1_isBalloon_0 : cX1_isBalloon.data.toList.drop 0 = dktX1_isBalloon_0 := by decide +kernel
theorem dX1_isBalloon_0 : decode cX1_isBalloon 0 = .ok (.iload_n 1, 1) := dk_27 (dk_at dksX1_isBalloon_0 0 rfl rfl)
theorem dX1_isBalloon_1 : decode cX1_isBalloon 1 = .ok (.i2l, 1) := dk_133 (dk_at dksX1_isBalloon_0 1 rfl rfl)
theorem dX1_isBalloon_2 : decode cX1_isBalloon 2 = .ok (.lconst 0, 1) := dk_9 (dk_at dksX1_isBalloon_0 2 rfl rfl)
theorem dX1_isBalloon_3 : decode cX1_isBalloon 3 = .ok (.aload_n 0, 1) := dk_42 (dk_at dksX1_isBalloon_0 3 rfl rfl)
theorem dX1_isBalloon_4 : decode cX1_isBalloon 4 = .ok (.invokevirtual 116, 3) := dk_182 0 116 (dk_at dksX1_isBalloon_0 4 rfl rfl)
theorem dX1_isBalloon_7 : decode cX1_isBalloon 7 = .ok (.iconst 1, 1) := dk_4 (dk_at dksX1_isBalloon_0 7 rfl rfl)
theorem dX1_isBalloon_8 : decode cX1_isBalloon 8 = .ok (.isub, 1) := dk_100 (dk_at dksX1_isBalloon_0 8 rfl rfl)
theorem dX1_isBalloon_9 : decode cX1_isBalloon 9 = .ok (.i2l, 1) := dk_133 (dk_at dksX1_isBalloon_0 9 rfl rfl)
theorem dX1_isBalloon_10 : decode cX1_isBalloon 10 = .ok (.invokestatic 71, 3) := dk_184 0 71 (dk_at dksX1_isBalloon_0 10 rfl rfl)
theorem dX1_isBalloon_13 : decode cX1_isBalloon 13 = .ok (.ireturn, 1) := dk_172 (dk_at dksX1_isBalloon_0 13 rfl rfl)
abbrev cX1_letterWeight : ByteArray := prog_1_method_18_code
def yX1_letterWeight : MethodName := ⟨RX1, "letterWeight", "(I)I"⟩
def dkwX1_letterWeight_1 : List UInt8 := [180, 0, 140, 167, 0, 4, 2, 172]
abbrev dktX1_letterWeight_1 : List UInt8 := dkwX1_letterWeight_1 ++ []
def dkwX1_letterWeight_0 : List UInt8 := [42, 27, 182, 0, 135, 153, 0, 23, 42, 180, 0, 22, 180, 0, 107, 27, 182, 0, 126, 192, 0, 138]
abbrev dktX1_letterWeight_0 : List UInt8 := dkwX1_letterWeight_0 ++ dktX1_letterWeight_1
theorem dksX1_letterWeight_0 : cX1_letterWeight.data.toList.drop 0 = dktX1_letterWeight_0 := by decide +kernel
theorem dksX1_letterWeight_1 : cX1_letterWeight.data.toList.drop 22 = dktX1_letterWeight_1 := dk_seg dksX1_letterWeight_0 22 rfl rfl
theorem dX1_letterWeight_0 : decode cX1_letterWeight 0 = .ok (.aload_n 0, 1) := dk_42 (dk_at dksX1_letterWeight_0 0 rfl rfl)
theorem dX1_letterWeight_1 : decode cX1_letterWeight 1 = .ok (.iload_n 1, 1) := dk_27 (dk_at dksX1_letterWeight_0 1 rfl rfl)
theorem dX1_letterWeight_2 : decode cX1_letterWeight 2 = .ok (.invokevirtual 135, 3) := dk_182 0 135 (dk_at dksX1_letterWeight_0 2 rfl rfl)
theorem dX1_letterWeight_5 : decode cX1_letterWeight 5 = .ok (.ifCond .eq 23, 3) := dk_153 0 23 (dk_at dksX1_letterWeight_0 5 rfl rfl)
theorem dX1_letterWeight_8 : decode cX1_letterWeight 8 = .ok (.aload_n 0, 1) := dk_42 (dk_at dksX1_letterWeight_0 8 rfl rfl)
theorem dX1_letterWeight_9 : decode cX1_letterWeight 9 = .ok (.getfield 22, 3) := dk_180 0 22 (dk_at dksX1_letterWeight_0 9 rfl rfl)
theorem dX1_letterWeight_12 : decode cX1_letterWeight 12 = .ok (.getfield 107, 3) := dk_180 0 107 (dk_at dksX1_letterWeight_0 12 rfl rfl)
theorem dX1_letterWeight_15 : decode cX1_letterWeight 15 = .ok (.iload_n 1, 1) := dk_27 (dk_at dksX1_letterWeight_0 15 rfl rfl)
theorem dX1_letterWeight_16 : decode cX1_letterWeight 16 = .ok (.invokevirtual 126, 3) := dk_182 0 126 (dk_at dksX1_letterWeight_0 16 rfl rfl)
theorem dX1_letterWeight_19 : decode cX1_letterWeight 19 = .ok (.checkcast 138, 3) := dk_192 0 138 (dk_at dksX1_letterWeight_0 19 rfl rfl)
theorem dX1_letterWeight_22 : decode cX1_letterWeight 22 = .ok (.getfield 140, 3) := dk_180 0 140 (dk_at dksX1_letterWeight_1 0 rfl rfl)
theorem dX1_letterWeight_25 : decode cX1_letterWeight 25 = .ok (.goto 4, 3) := dk_167 0 4 (dk_at dksX1_letterWeight_1 3 rfl rfl)
theorem dX1_letterWeight_28 : decode cX1_letterWeight 28 = .ok (.iconst (-1), 1) := dk_2 (dk_at dksX1_letterWeight_1 6 rfl rfl)
theorem dX1_letterWeight_29 : decode cX1_letterWeight 29 = .ok (.ireturn, 1) := dk_172 (dk_at dksX1_letterWeight_1 7 rfl rfl)
abbrev cX1_isLetter : ByteArray := prog_1_method_15_code
def yX1_isLetter : MethodName := ⟨RX1, "isLetter", "(I)Z"⟩
def dkwX1_isLetter_0 : List UInt8 := [27, 133, 9, 42, 182, 0, 119, 4, 100, 133, 184, 0, 71, 172]
abbrev dktX1_isLetter_0 : List UInt8 := dkwX1_isLetter_0 ++ []
theorem dksX1_isLetter_0 : cX1_isLetter.data.toList.drop 0 = dktX1_isLetter_0 := by decide +kernel
theorem dX1_isLetter_0 : decode cX1_isLetter 0 = .ok (.iload_n 1, 1) := dk_27 (dk_at dksX1_isLetter_0 0 rfl rfl)
theorem dX1_isLetter_1 : decode cX1_isLetter 1 = .ok (.i2l, 1) := dk_133 (dk_at dksX1_isLetter_0 1 rfl rfl)
theorem dX1_isLetter_2 : decode cX1_isLetter 2 = .ok (.lconst 0, 1) := dk_9 (dk_at dksX1_isLetter_0 2 rfl rfl)
theorem dX1_isLetter_3 : decode cX1_isLetter 3 = .ok (.aload_n 0, 1) := dk_42 (dk_at dksX1_isLetter_0 3 rfl rfl)
theorem dX1_isLetter_4 : decode cX1_isLetter 4 = .ok (.invokevirtual 119, 3) := dk_182 0 119 (dk_at dksX1_isLetter_0 4 rfl rfl)
theorem dX1_isLetter_7 : decode cX1_isLetter 7 = .ok (.iconst 1, 1) := dk_4 (dk_at dksX1_isLetter_0 7 rfl rfl)
theorem dX1_isLetter_8 : decode cX1_isLetter 8 = .ok (.isub, 1) := dk_100 (dk_at dksX1_isLetter_0 8 rfl rfl)
theorem dX1_isLetter_9 : decode cX1_isLetter 9 = .ok (.i2l, 1) := dk_133 (dk_at dksX1_isLetter_0 9 rfl rfl)
theorem dX1_isLetter_10 : decode cX1_isLetter 10 = .ok (.invokestatic 71, 3) := dk_184 0 71 (dk_at dksX1_isLetter_0 10 rfl rfl)
theorem dX1_isLetter_13 : decode cX1_isLetter 13 = .ok (.ireturn, 1) := dk_172 (dk_at dksX1_isLetter_0 13 rfl rfl)
abbrev cX1_windChance : ByteArray := prog_1_method_22_code
def yX1_windChance : MethodName := ⟨RX1, "windChance", "(II)J"⟩
def dkwX1_windChance_1 : List UInt8 := [182, 0, 179, 42, 180, 0, 48, 27, 47, 173]
abbrev dktX1_windChance_1 : List UInt8 := dkwX1_windChance_1 ++ []
def dkwX1_windChance_0 : List UInt8 := [42, 27, 182, 0, 171, 153, 0, 10, 28, 184, 0, 174, 154, 0, 7, 20, 0, 177, 173, 42, 28, 16, 254]
abbrev dktX1_windChance_0 : List UInt8 := dkwX1_windChance_0 ++ dktX1_windChance_1
theorem dksX1_windChance_0 : cX1_windChance.data.toList.drop 0 = dktX1_windChance_0 := by decide +kernel
theorem dksX1_windChance_1 : cX1_windChance.data.toList.drop 23 = dktX1_windChance_1 := dk_seg dksX1_windChance_0 23 rfl rfl
theorem dX1_windChance_0 : decode cX1_windChance 0 = .ok (.aload_n 0, 1) := dk_42 (dk_at dksX1_windChance_0 0 rfl rfl)
theorem dX1_windChance_1 : decode cX1_windChance 1 = .ok (.iload_n 1, 1) := dk_27 (dk_at dksX1_windChance_0 1 rfl rfl)
theorem dX1_windChance_2 : decode cX1_windChance 2 = .ok (.invokevirtual 171, 3) := dk_182 0 171 (dk_at dksX1_windChance_0 2 rfl rfl)
theorem dX1_windChance_5 : decode cX1_windChance 5 = .ok (.ifCond .eq 10, 3) := dk_153 0 10 (dk_at dksX1_windChance_0 5 rfl rfl)
theorem dX1_windChance_8 : decode cX1_windChance 8 = .ok (.iload_n 2, 1) := dk_28 (dk_at dksX1_windChance_0 8 rfl rfl)
theorem dX1_windChance_9 : decode cX1_windChance 9 = .ok (.invokestatic 174, 3) := dk_184 0 174 (dk_at dksX1_windChance_0 9 rfl rfl)
theorem dX1_windChance_12 : decode cX1_windChance 12 = .ok (.ifCond .ne 7, 3) := dk_154 0 7 (dk_at dksX1_windChance_0 12 rfl rfl)
theorem dX1_windChance_15 : decode cX1_windChance 15 = .ok (.ldc2_w 177, 3) := dk_20 0 177 (dk_at dksX1_windChance_0 15 rfl rfl)
theorem dX1_windChance_18 : decode cX1_windChance 18 = .ok (.lreturn, 1) := dk_173 (dk_at dksX1_windChance_0 18 rfl rfl)
theorem dX1_windChance_19 : decode cX1_windChance 19 = .ok (.aload_n 0, 1) := dk_42 (dk_at dksX1_windChance_0 19 rfl rfl)
theorem dX1_windChance_20 : decode cX1_windChance 20 = .ok (.iload_n 2, 1) := dk_28 (dk_at dksX1_windChance_0 20 rfl rfl)
theorem dX1_windChance_21 : decode cX1_windChance 21 = .ok (.bipush (-2), 2) := dk_16 254 (dk_at dksX1_windChance_0 21 rfl rfl)
theorem dX1_windChance_23 : decode cX1_windChance 23 = .ok (.invokevirtual 179, 3) := dk_182 0 179 (dk_at dksX1_windChance_1 0 rfl rfl)
theorem dX1_windChance_26 : decode cX1_windChance 26 = .ok (.aload_n 0, 1) := dk_42 (dk_at dksX1_windChance_1 3 rfl rfl)
theorem dX1_windChance_27 : decode cX1_windChance 27 = .ok (.getfield 48, 3) := dk_180 0 48 (dk_at dksX1_windChance_1 4 rfl rfl)
theorem dX1_windChance_30 : decode cX1_windChance 30 = .ok (.iload_n 1, 1) := dk_27 (dk_at dksX1_windChance_1 7 rfl rfl)
theorem dX1_windChance_31 : decode cX1_windChance 31 = .ok (.laload, 1) := dk_47 (dk_at dksX1_windChance_1 8 rfl rfl)
theorem dX1_windChance_32 : decode cX1_windChance 32 = .ok (.lreturn, 1) := dk_173 (dk_at dksX1_windChance_1 9 rfl rfl)
abbrev cX1_isWind : ByteArray := prog_1_method_13_code
def yX1_isWind : MethodName := ⟨RX1, "isWind", "(I)Z"⟩
def dkwX1_isWind_0 : List UInt8 := [27, 133, 9, 42, 182, 0, 113, 4, 100, 133, 184, 0, 71, 172]
abbrev dktX1_isWind_0 : List UInt8 := dkwX1_isWind_0 ++ []
theorem dksX1_isWind_0 : cX1_isWind.data.toList.drop 0 = dktX1_isWind_0 := by decide +kernel
theorem dX1_isWind_0 : decode cX1_isWind 0 = .ok (.iload_n 1, 1) := dk_27 (dk_at dksX1_isWind_0 0 rfl rfl)
theorem dX1_isWind_1 : decode cX1_isWind 1 = .ok (.i2l, 1) := dk_133 (dk_at dksX1_isWind_0 1 rfl rfl)
theorem dX1_isWind_2 : decode cX1_isWind 2 = .ok (.lconst 0, 1) := dk_9 (dk_at dksX1_isWind_0 2 rfl rfl)
theorem dX1_isWind_3 : decode cX1_isWind 3 = .ok (.aload_n 0, 1) := dk_42 (dk_at dksX1_isWind_0 3 rfl rfl)
theorem dX1_isWind_4 : decode cX1_isWind 4 = .ok (.invokevirtual 113, 3) := dk_182 0 113 (dk_at dksX1_isWind_0 4 rfl rfl)
theorem dX1_isWind_7 : decode cX1_isWind 7 = .ok (.iconst 1, 1) := dk_4 (dk_at dksX1_isWind_0 7 rfl rfl)
theorem dX1_isWind_8 : decode cX1_isWind 8 = .ok (.isub, 1) := dk_100 (dk_at dksX1_isWind_0 8 rfl rfl)
theorem dX1_isWind_9 : decode cX1_isWind 9 = .ok (.i2l, 1) := dk_133 (dk_at dksX1_isWind_0 9 rfl rfl)
theorem dX1_isWind_10 : decode cX1_isWind 10 = .ok (.invokestatic 71, 3) := dk_184 0 71 (dk_at dksX1_isWind_0 10 rfl rfl)
theorem dX1_isWind_13 : decode cX1_isWind 13 = .ok (.ireturn, 1) := dk_172 (dk_at dksX1_isWind_0 13 rfl rfl)
abbrev cX1_isAhead : ByteArray := prog_1_method_21_code
def yX1_isAhead : MethodName := ⟨RX1, "isAhead", "(I)Z"⟩
def dkwX1_isAhead_0 : List UInt8 := [26, 133, 9, 20, 0, 169, 184, 0, 71, 172]
abbrev dktX1_isAhead_0 : List UInt8 := dkwX1_isAhead_0 ++ []
theorem dksX1_isAhead_0 : cX1_isAhead.data.toList.drop 0 = dktX1_isAhead_0 := by decide +kernel
theorem dX1_isAhead_0 : decode cX1_isAhead 0 = .ok (.iload_n 0, 1) := dk_26 (dk_at dksX1_isAhead_0 0 rfl rfl)
theorem dX1_isAhead_1 : decode cX1_isAhead 1 = .ok (.i2l, 1) := dk_133 (dk_at dksX1_isAhead_0 1 rfl rfl)
theorem dX1_isAhead_2 : decode cX1_isAhead 2 = .ok (.lconst 0, 1) := dk_9 (dk_at dksX1_isAhead_0 2 rfl rfl)
theorem dX1_isAhead_3 : decode cX1_isAhead 3 = .ok (.ldc2_w 169, 3) := dk_20 0 169 (dk_at dksX1_isAhead_0 3 rfl rfl)
theorem dX1_isAhead_6 : decode cX1_isAhead 6 = .ok (.invokestatic 71, 3) := dk_184 0 71 (dk_at dksX1_isAhead_0 6 rfl rfl)
theorem dX1_isAhead_9 : decode cX1_isAhead 9 = .ok (.ireturn, 1) := dk_172 (dk_at dksX1_isAhead_0 9 rfl rfl)
abbrev cX1_layWinds : ByteArray := prog_1_method_19_code
def yX1_layWinds : MethodName := ⟨RX1, "layWinds", "(II)V"⟩
def dkwX1_layWinds_6 : List UInt8 := [132, 3, 1, 167, 255, 156, 177]
abbrev dktX1_layWinds_6 : List UInt8 := dkwX1_layWinds_6 ++ []
def dkwX1_layWinds_5 : List UInt8 := [21, 4, 28, 160, 0, 7, 9, 167, 0, 10, 42, 180, 0, 52, 21, 4, 47, 80, 132, 4, 1, 167, 255, 220]
abbrev dktX1_layWinds_5 : List UInt8 := dkwX1_layWinds_5 ++ dktX1_layWinds_6
def dkwX1_layWinds_4 : List UInt8 := [132, 4, 1, 167, 255, 238, 3, 54, 4, 21, 4, 42, 182, 0, 113, 162, 0, 33, 42, 180, 0, 48, 21, 4]
abbrev dktX1_layWinds_4 : List UInt8 := dkwX1_layWinds_4 ++ dktX1_layWinds_5
def dkwX1_layWinds_3 : List UInt8 := [132, 4, 1, 167, 255, 236, 3, 54, 4, 21, 4, 42, 182, 0, 113, 162, 0, 15, 42, 21, 4, 182, 0, 146]
abbrev dktX1_layWinds_3 : List UInt8 := dkwX1_layWinds_3 ++ dktX1_layWinds_4
def dkwX1_layWinds_2 : List UInt8 := [162, 0, 101, 3, 54, 4, 21, 4, 42, 182, 0, 113, 162, 0, 17, 42, 180, 0, 52, 21, 4, 9, 80]
abbrev dktX1_layWinds_2 : List UInt8 := dkwX1_layWinds_2 ++ dktX1_layWinds_3
def dkwX1_layWinds_1 : List UInt8 := [160, 0, 12, 29, 28, 159, 0, 7, 10, 167, 0, 4, 9, 80, 132, 3, 1, 167, 255, 218, 3, 62, 29, 27]
abbrev dktX1_layWinds_1 : List UInt8 := dkwX1_layWinds_1 ++ dktX1_layWinds_2
def dkwX1_layWinds_0 : List UInt8 := [3, 62, 29, 42, 182, 0, 113, 162, 0, 36, 42, 180, 0, 48, 29, 29, 42, 180, 0, 31, 180, 0, 143]
abbrev dktX1_layWinds_0 : List UInt8 := dkwX1_layWinds_0 ++ dktX1_layWinds_1
theorem dksX1_layWinds_0 : cX1_layWinds.data.toList.drop 0 = dktX1_layWinds_0 := by decide +kernel
theorem dksX1_layWinds_1 : cX1_layWinds.data.toList.drop 23 = dktX1_layWinds_1 := dk_seg dksX1_layWinds_0 23 rfl rfl
theorem dksX1_layWinds_2 : cX1_layWinds.data.toList.drop 47 = dktX1_layWinds_2 := dk_seg dksX1_layWinds_1 24 rfl rfl
theorem dksX1_layWinds_3 : cX1_layWinds.data.toList.drop 70 = dktX1_layWinds_3 := dk_seg dksX1_layWinds_2 23 rfl rfl
theorem dksX1_layWinds_4 : cX1_layWinds.data.toList.drop 94 = dktX1_layWinds_4 := dk_seg dksX1_layWinds_3 24 rfl rfl
theorem dksX1_layWinds_5 : cX1_layWinds.data.toList.drop 118 = dktX1_layWinds_5 := dk_seg dksX1_layWinds_4 24 rfl rfl
theorem dksX1_layWinds_6 : cX1_layWinds.data.toList.drop 142 = dktX1_layWinds_6 := dk_seg dksX1_layWinds_5 24 rfl rfl
theorem dX1_layWinds_0 : decode cX1_layWinds 0 = .ok (.iconst 0, 1) := dk_3 (dk_at dksX1_layWinds_0 0 rfl rfl)
theorem dX1_layWinds_1 : decode cX1_layWinds 1 = .ok (.istore_n 3, 1) := dk_62 (dk_at dksX1_layWinds_0 1 rfl rfl)
theorem dX1_layWinds_2 : decode cX1_layWinds 2 = .ok (.iload_n 3, 1) := dk_29 (dk_at dksX1_layWinds_0 2 rfl rfl)
theorem dX1_layWinds_3 : decode cX1_layWinds 3 = .ok (.aload_n 0, 1) := dk_42 (dk_at dksX1_layWinds_0 3 rfl rfl)
theorem dX1_layWinds_4 : decode cX1_layWinds 4 = .ok (.invokevirtual 113, 3) := dk_182 0 113 (dk_at dksX1_layWinds_0 4 rfl rfl)
theorem dX1_layWinds_7 : decode cX1_layWinds 7 = .ok (.if_icmp .ge 36, 3) := dk_162 0 36 (dk_at dksX1_layWinds_0 7 rfl rfl)
theorem dX1_layWinds_10 : decode cX1_layWinds 10 = .ok (.aload_n 0, 1) := dk_42 (dk_at dksX1_layWinds_0 10 rfl rfl)
theorem dX1_layWinds_11 : decode cX1_layWinds 11 = .ok (.getfield 48, 3) := dk_180 0 48 (dk_at dksX1_layWinds_0 11 rfl rfl)
theorem dX1_layWinds_14 : decode cX1_layWinds 14 = .ok (.iload_n 3, 1) := dk_29 (dk_at dksX1_layWinds_0 14 rfl rfl)
theorem dX1_layWinds_15 : decode cX1_layWinds 15 = .ok (.iload_n 3, 1) := dk_29 (dk_at dksX1_layWinds_0 15 rfl rfl)
theorem dX1_layWinds_16 : decode cX1_layWinds 16 = .ok (.aload_n 0, 1) := dk_42 (dk_at dksX1_layWinds_0 16 rfl rfl)
theorem dX1_layWinds_17 : decode cX1_layWinds 17 = .ok (.getfield 31, 3) := dk_180 0 31 (dk_at dksX1_layWinds_0 17 rfl rfl)
theorem dX1_layWinds_20 : decode cX1_layWinds 20 = .ok (.getfield 143, 3) := dk_180 0 143 (dk_at dksX1_layWinds_0 20 rfl rfl)
theorem dX1_layWinds_23 : decode cX1_layWinds 23 = .ok (.if_icmp .ne 12, 3) := dk_160 0 12 (dk_at dksX1_layWinds_1 0 rfl rfl)
theorem dX1_layWinds_26 : decode cX1_layWinds 26 = .ok (.iload_n 3, 1) := dk_29 (dk_at dksX1_layWinds_1 3 rfl rfl)
theorem dX1_layWinds_27 : decode cX1_layWinds 27 = .ok (.iload_n 2, 1) := dk_28 (dk_at dksX1_layWinds_1 4 rfl rfl)
theorem dX1_layWinds_28 : decode cX1_layWinds 28 = .ok (.if_icmp .eq 7, 3) := dk_159 0 7 (dk_at dksX1_layWinds_1 5 rfl rfl)
theorem dX1_layWinds_31 : decode cX1_layWinds 31 = .ok (.lconst 1, 1) := dk_10 (dk_at dksX1_layWinds_1 8 rfl rfl)
theorem dX1_layWinds_32 : decode cX1_layWinds 32 = .ok (.goto 4, 3) := dk_167 0 4 (dk_at dksX1_layWinds_1 9 rfl rfl)
theorem dX1_layWinds_35 : decode cX1_layWinds 35 = .ok (.lconst 0, 1) := dk_9 (dk_at dksX1_layWinds_1 12 rfl rfl)
theorem dX1_layWinds_36 : decode cX1_layWinds 36 = .ok (.lastore, 1) := dk_80 (dk_at dksX1_layWinds_1 13 rfl rfl)
theorem dX1_layWinds_37 : decode cX1_layWinds 37 = .ok (.iinc 3 1, 3) := dk_132 3 1 (dk_at dksX1_layWinds_1 14 rfl rfl)
theorem dX1_layWinds_40 : decode cX1_layWinds 40 = .ok (.goto (-38), 3) := dk_167 255 218 (dk_at dksX1_layWinds_1 17 rfl rfl)
theorem dX1_layWinds_43 : decode cX1_layWinds 43 = .ok (.iconst 0, 1) := dk_3 (dk_at dksX1_layWinds_1 20 rfl rfl)
theorem dX1_layWinds_44 : decode cX1_layWinds 44 = .ok (.istore_n 3, 1) := dk_62 (dk_at dksX1_layWinds_1 21 rfl rfl)
theorem dX1_layWinds_45 : decode cX1_layWinds 45 = .ok (.iload_n 3, 1) := dk_29 (dk_at dksX1_layWinds_1 22 rfl rfl)
theorem dX1_layWinds_46 : decode cX1_layWinds 46 = .ok (.iload_n 1, 1) := dk_27 (dk_at dksX1_layWinds_1 23 rfl rfl)
theorem dX1_layWinds_47 : decode cX1_layWinds 47 = .ok (.if_icmp .ge 101, 3) := dk_162 0 101 (dk_at dksX1_layWinds_2 0 rfl rfl)
theorem dX1_layWinds_50 : decode cX1_layWinds 50 = .ok (.iconst 0, 1) := dk_3 (dk_at dksX1_layWinds_2 3 rfl rfl)
theorem dX1_layWinds_51 : decode cX1_layWinds 51 = .ok (.istore 4, 2) := dk_54 4 (dk_at dksX1_layWinds_2 4 rfl rfl)
theorem dX1_layWinds_53 : decode cX1_layWinds 53 = .ok (.iload 4, 2) := dk_21 4 (dk_at dksX1_layWinds_2 6 rfl rfl)
theorem dX1_layWinds_55 : decode cX1_layWinds 55 = .ok (.aload_n 0, 1) := dk_42 (dk_at dksX1_layWinds_2 8 rfl rfl)
theorem dX1_layWinds_56 : decode cX1_layWinds 56 = .ok (.invokevirtual 113, 3) := dk_182 0 113 (dk_at dksX1_layWinds_2 9 rfl rfl)
theorem dX1_layWinds_59 : decode cX1_layWinds 59 = .ok (.if_icmp .ge 17, 3) := dk_162 0 17 (dk_at dksX1_layWinds_2 12 rfl rfl)
theorem dX1_layWinds_62 : decode cX1_layWinds 62 = .ok (.aload_n 0, 1) := dk_42 (dk_at dksX1_layWinds_2 15 rfl rfl)
theorem dX1_layWinds_63 : decode cX1_layWinds 63 = .ok (.getfield 52, 3) := dk_180 0 52 (dk_at dksX1_layWinds_2 16 rfl rfl)
theorem dX1_layWinds_66 : decode cX1_layWinds 66 = .ok (.iload 4, 2) := dk_21 4 (dk_at dksX1_layWinds_2 19 rfl rfl)
theorem dX1_layWinds_68 : decode cX1_layWinds 68 = .ok (.lconst 0, 1) := dk_9 (dk_at dksX1_layWinds_2 21 rfl rfl)
theorem dX1_layWinds_69 : decode cX1_layWinds 69 = .ok (.lastore, 1) := dk_80 (dk_at dksX1_layWinds_2 22 rfl rfl)
theorem dX1_layWinds_70 : decode cX1_layWinds 70 = .ok (.iinc 4 1, 3) := dk_132 4 1 (dk_at dksX1_layWinds_3 0 rfl rfl)
theorem dX1_layWinds_73 : decode cX1_layWinds 73 = .ok (.goto (-20), 3) := dk_167 255 236 (dk_at dksX1_layWinds_3 3 rfl rfl)
theorem dX1_layWinds_76 : decode cX1_layWinds 76 = .ok (.iconst 0, 1) := dk_3 (dk_at dksX1_layWinds_3 6 rfl rfl)
theorem dX1_layWinds_77 : decode cX1_layWinds 77 = .ok (.istore 4, 2) := dk_54 4 (dk_at dksX1_layWinds_3 7 rfl rfl)
theorem dX1_layWinds_79 : decode cX1_layWinds 79 = .ok (.iload 4, 2) := dk_21 4 (dk_at dksX1_layWinds_3 9 rfl rfl)
theorem dX1_layWinds_81 : decode cX1_layWinds 81 = .ok (.aload_n 0, 1) := dk_42 (dk_at dksX1_layWinds_3 11 rfl rfl)
theorem dX1_layWinds_82 : decode cX1_layWinds 82 = .ok (.invokevirtual 113, 3) := dk_182 0 113 (dk_at dksX1_layWinds_3 12 rfl rfl)
theorem dX1_layWinds_85 : decode cX1_layWinds 85 = .ok (.if_icmp .ge 15, 3) := dk_162 0 15 (dk_at dksX1_layWinds_3 15 rfl rfl)
theorem dX1_layWinds_88 : decode cX1_layWinds 88 = .ok (.aload_n 0, 1) := dk_42 (dk_at dksX1_layWinds_3 18 rfl rfl)
theorem dX1_layWinds_89 : decode cX1_layWinds 89 = .ok (.iload 4, 2) := dk_21 4 (dk_at dksX1_layWinds_3 19 rfl rfl)
theorem dX1_layWinds_91 : decode cX1_layWinds 91 = .ok (.invokevirtual 146, 3) := dk_182 0 146 (dk_at dksX1_layWinds_3 21 rfl rfl)
theorem dX1_layWinds_94 : decode cX1_layWinds 94 = .ok (.iinc 4 1, 3) := dk_132 4 1 (dk_at dksX1_layWinds_4 0 rfl rfl)
theorem dX1_layWinds_97 : decode cX1_layWinds 97 = .ok (.goto (-18), 3) := dk_167 255 238 (dk_at dksX1_layWinds_4 3 rfl rfl)
theorem dX1_layWinds_100 : decode cX1_layWinds 100 = .ok (.iconst 0, 1) := dk_3 (dk_at dksX1_layWinds_4 6 rfl rfl)
theorem dX1_layWinds_101 : decode cX1_layWinds 101 = .ok (.istore 4, 2) := dk_54 4 (dk_at dksX1_layWinds_4 7 rfl rfl)
theorem dX1_layWinds_103 : decode cX1_layWinds 103 = .ok (.iload 4, 2) := dk_21 4 (dk_at dksX1_layWinds_4 9 rfl rfl)
theorem dX1_layWinds_105 : decode cX1_layWinds 105 = .ok (.aload_n 0, 1) := dk_42 (dk_at dksX1_layWinds_4 11 rfl rfl)
theorem dX1_layWinds_106 : decode cX1_layWinds 106 = .ok (.invokevirtual 113, 3) := dk_182 0 113 (dk_at dksX1_layWinds_4 12 rfl rfl)
theorem dX1_layWinds_109 : decode cX1_layWinds 109 = .ok (.if_icmp .ge 33, 3) := dk_162 0 33 (dk_at dksX1_layWinds_4 15 rfl rfl)
theorem dX1_layWinds_112 : decode cX1_layWinds 112 = .ok (.aload_n 0, 1) := dk_42 (dk_at dksX1_layWinds_4 18 rfl rfl)
theorem dX1_layWinds_113 : decode cX1_layWinds 113 = .ok (.getfield 48, 3) := dk_180 0 48 (dk_at dksX1_layWinds_4 19 rfl rfl)
theorem dX1_layWinds_116 : decode cX1_layWinds 116 = .ok (.iload 4, 2) := dk_21 4 (dk_at dksX1_layWinds_4 22 rfl rfl)
theorem dX1_layWinds_118 : decode cX1_layWinds 118 = .ok (.iload 4, 2) := dk_21 4 (dk_at dksX1_layWinds_5 0 rfl rfl)
theorem dX1_layWinds_120 : decode cX1_layWinds 120 = .ok (.iload_n 2, 1) := dk_28 (dk_at dksX1_layWinds_5 2 rfl rfl)
theorem dX1_layWinds_121 : decode cX1_layWinds 121 = .ok (.if_icmp .ne 7, 3) := dk_160 0 7 (dk_at dksX1_layWinds_5 3 rfl rfl)
theorem dX1_layWinds_124 : decode cX1_layWinds 124 = .ok (.lconst 0, 1) := dk_9 (dk_at dksX1_layWinds_5 6 rfl rfl)
theorem dX1_layWinds_125 : decode cX1_layWinds 125 = .ok (.goto 10, 3) := dk_167 0 10 (dk_at dksX1_layWinds_5 7 rfl rfl)
theorem dX1_layWinds_128 : decode cX1_layWinds 128 = .ok (.aload_n 0, 1) := dk_42 (dk_at dksX1_layWinds_5 10 rfl rfl)
theorem dX1_layWinds_129 : decode cX1_layWinds 129 = .ok (.getfield 52, 3) := dk_180 0 52 (dk_at dksX1_layWinds_5 11 rfl rfl)
theorem dX1_layWinds_132 : decode cX1_layWinds 132 = .ok (.iload 4, 2) := dk_21 4 (dk_at dksX1_layWinds_5 14 rfl rfl)
theorem dX1_layWinds_134 : decode cX1_layWinds 134 = .ok (.laload, 1) := dk_47 (dk_at dksX1_layWinds_5 16 rfl rfl)
theorem dX1_layWinds_135 : decode cX1_layWinds 135 = .ok (.lastore, 1) := dk_80 (dk_at dksX1_layWinds_5 17 rfl rfl)
theorem dX1_layWinds_136 : decode cX1_layWinds 136 = .ok (.iinc 4 1, 3) := dk_132 4 1 (dk_at dksX1_layWinds_5 18 rfl rfl)
theorem dX1_layWinds_139 : decode cX1_layWinds 139 = .ok (.goto (-36), 3) := dk_167 255 220 (dk_at dksX1_layWinds_5 21 rfl rfl)
theorem dX1_layWinds_142 : decode cX1_layWinds 142 = .ok (.iinc 3 1, 3) := dk_132 3 1 (dk_at dksX1_layWinds_6 0 rfl rfl)
theorem dX1_layWinds_145 : decode cX1_layWinds 145 = .ok (.goto (-100), 3) := dk_167 255 156 (dk_at dksX1_layWinds_6 3 rfl rfl)
theorem dX1_layWinds_148 : decode cX1_layWinds 148 = .ok (.return_, 1) := dk_177 (dk_at dksX1_layWinds_6 6 rfl rfl)
abbrev cX1_spread : ByteArray := prog_1_method_20_code
def yX1_spread : MethodName := ⟨RX1, "spread", "(I)V"⟩
def dkwX1_spread_4 : List UInt8 := [180, 0, 168, 133, 105, 97, 80, 132, 3, 1, 167, 255, 198, 177]
abbrev dktX1_spread_4 : List UInt8 := dkwX1_spread_4 ++ []
def dkwX1_spread_3 : List UInt8 := [180, 0, 165, 92, 47, 42, 180, 0, 48, 27, 47, 44, 180, 0, 160, 29, 182, 0, 126, 192, 0, 163]
abbrev dktX1_spread_3 : List UInt8 := dkwX1_spread_3 ++ dktX1_spread_4
def dkwX1_spread_2 : List UInt8 := [180, 0, 160, 182, 0, 98, 162, 0, 53, 42, 180, 0, 52, 44, 180, 0, 160, 29, 182, 0, 126, 192, 0, 163]
abbrev dktX1_spread_2 : List UInt8 := dkwX1_spread_2 ++ dktX1_spread_3
def dkwX1_spread_1 : List UInt8 := [47, 42, 180, 0, 48, 27, 47, 16, 10, 44, 182, 0, 155, 100, 133, 105, 97, 80, 3, 62, 29, 44]
abbrev dktX1_spread_1 : List UInt8 := dkwX1_spread_1 ++ dktX1_spread_2
def dkwX1_spread_0 : List UInt8 := [42, 180, 0, 22, 180, 0, 102, 27, 182, 0, 126, 192, 0, 149, 180, 0, 151, 77, 42, 180, 0, 52, 27, 92]
abbrev dktX1_spread_0 : List UInt8 := dkwX1_spread_0 ++ dktX1_spread_1
theorem dksX1_spread_0 : cX1_spread.data.toList.drop 0 = dktX1_spread_0 := by decide +kernel
theorem dksX1_spread_1 : cX1_spread.data.toList.drop 24 = dktX1_spread_1 := dk_seg dksX1_spread_0 24 rfl rfl
theorem dksX1_spread_2 : cX1_spread.data.toList.drop 46 = dktX1_spread_2 := dk_seg dksX1_spread_1 22 rfl rfl
theorem dksX1_spread_3 : cX1_spread.data.toList.drop 70 = dktX1_spread_3 := dk_seg dksX1_spread_2 24 rfl rfl
theorem dksX1_spread_4 : cX1_spread.data.toList.drop 92 = dktX1_spread_4 := dk_seg dksX1_spread_3 22 rfl rfl
theorem dX1_spread_0 : decode cX1_spread 0 = .ok (.aload_n 0, 1) := dk_42 (dk_at dksX1_spread_0 0 rfl rfl)
theorem dX1_spread_1 : decode cX1_spread 1 = .ok (.getfield 22, 3) := dk_180 0 22 (dk_at dksX1_spread_0 1 rfl rfl)
theorem dX1_spread_4 : decode cX1_spread 4 = .ok (.getfield 102, 3) := dk_180 0 102 (dk_at dksX1_spread_0 4 rfl rfl)
theorem dX1_spread_7 : decode cX1_spread 7 = .ok (.iload_n 1, 1) := dk_27 (dk_at dksX1_spread_0 7 rfl rfl)
theorem dX1_spread_8 : decode cX1_spread 8 = .ok (.invokevirtual 126, 3) := dk_182 0 126 (dk_at dksX1_spread_0 8 rfl rfl)
theorem dX1_spread_11 : decode cX1_spread 11 = .ok (.checkcast 149, 3) := dk_192 0 149 (dk_at dksX1_spread_0 11 rfl rfl)
theorem dX1_spread_14 : decode cX1_spread 14 = .ok (.getfield 151, 3) := dk_180 0 151 (dk_at dksX1_spread_0 14 rfl rfl)
theorem dX1_spread_17 : decode cX1_spread 17 = .ok (.astore_n 2, 1) := dk_77 (dk_at dksX1_spread_0 17 rfl rfl)
theorem dX1_spread_18 : decode cX1_spread 18 = .ok (.aload_n 0, 1) := dk_42 (dk_at dksX1_spread_0 18 rfl rfl)
theorem dX1_spread_19 : decode cX1_spread 19 = .ok (.getfield 52, 3) := dk_180 0 52 (dk_at dksX1_spread_0 19 rfl rfl)
theorem dX1_spread_22 : decode cX1_spread 22 = .ok (.iload_n 1, 1) := dk_27 (dk_at dksX1_spread_0 22 rfl rfl)
theorem dX1_spread_23 : decode cX1_spread 23 = .ok (.dup2, 1) := dk_92 (dk_at dksX1_spread_0 23 rfl rfl)
theorem dX1_spread_24 : decode cX1_spread 24 = .ok (.laload, 1) := dk_47 (dk_at dksX1_spread_1 0 rfl rfl)
theorem dX1_spread_25 : decode cX1_spread 25 = .ok (.aload_n 0, 1) := dk_42 (dk_at dksX1_spread_1 1 rfl rfl)
theorem dX1_spread_26 : decode cX1_spread 26 = .ok (.getfield 48, 3) := dk_180 0 48 (dk_at dksX1_spread_1 2 rfl rfl)
theorem dX1_spread_29 : decode cX1_spread 29 = .ok (.iload_n 1, 1) := dk_27 (dk_at dksX1_spread_1 5 rfl rfl)
theorem dX1_spread_30 : decode cX1_spread 30 = .ok (.laload, 1) := dk_47 (dk_at dksX1_spread_1 6 rfl rfl)
theorem dX1_spread_31 : decode cX1_spread 31 = .ok (.bipush 10, 2) := dk_16 10 (dk_at dksX1_spread_1 7 rfl rfl)
theorem dX1_spread_33 : decode cX1_spread 33 = .ok (.aload_n 2, 1) := dk_44 (dk_at dksX1_spread_1 9 rfl rfl)
theorem dX1_spread_34 : decode cX1_spread 34 = .ok (.invokevirtual 155, 3) := dk_182 0 155 (dk_at dksX1_spread_1 10 rfl rfl)
theorem dX1_spread_37 : decode cX1_spread 37 = .ok (.isub, 1) := dk_100 (dk_at dksX1_spread_1 13 rfl rfl)
theorem dX1_spread_38 : decode cX1_spread 38 = .ok (.i2l, 1) := dk_133 (dk_at dksX1_spread_1 14 rfl rfl)
theorem dX1_spread_39 : decode cX1_spread 39 = .ok (.lmul, 1) := dk_105 (dk_at dksX1_spread_1 15 rfl rfl)
theorem dX1_spread_40 : decode cX1_spread 40 = .ok (.ladd, 1) := dk_97 (dk_at dksX1_spread_1 16 rfl rfl)
theorem dX1_spread_41 : decode cX1_spread 41 = .ok (.lastore, 1) := dk_80 (dk_at dksX1_spread_1 17 rfl rfl)
theorem dX1_spread_42 : decode cX1_spread 42 = .ok (.iconst 0, 1) := dk_3 (dk_at dksX1_spread_1 18 rfl rfl)
theorem dX1_spread_43 : decode cX1_spread 43 = .ok (.istore_n 3, 1) := dk_62 (dk_at dksX1_spread_1 19 rfl rfl)
theorem dX1_spread_44 : decode cX1_spread 44 = .ok (.iload_n 3, 1) := dk_29 (dk_at dksX1_spread_1 20 rfl rfl)
theorem dX1_spread_45 : decode cX1_spread 45 = .ok (.aload_n 2, 1) := dk_44 (dk_at dksX1_spread_1 21 rfl rfl)
theorem dX1_spread_46 : decode cX1_spread 46 = .ok (.getfield 160, 3) := dk_180 0 160 (dk_at dksX1_spread_2 0 rfl rfl)
theorem dX1_spread_49 : decode cX1_spread 49 = .ok (.invokevirtual 98, 3) := dk_182 0 98 (dk_at dksX1_spread_2 3 rfl rfl)
theorem dX1_spread_52 : decode cX1_spread 52 = .ok (.if_icmp .ge 53, 3) := dk_162 0 53 (dk_at dksX1_spread_2 6 rfl rfl)
theorem dX1_spread_55 : decode cX1_spread 55 = .ok (.aload_n 0, 1) := dk_42 (dk_at dksX1_spread_2 9 rfl rfl)
theorem dX1_spread_56 : decode cX1_spread 56 = .ok (.getfield 52, 3) := dk_180 0 52 (dk_at dksX1_spread_2 10 rfl rfl)
theorem dX1_spread_59 : decode cX1_spread 59 = .ok (.aload_n 2, 1) := dk_44 (dk_at dksX1_spread_2 13 rfl rfl)
theorem dX1_spread_60 : decode cX1_spread 60 = .ok (.getfield 160, 3) := dk_180 0 160 (dk_at dksX1_spread_2 14 rfl rfl)
theorem dX1_spread_63 : decode cX1_spread 63 = .ok (.iload_n 3, 1) := dk_29 (dk_at dksX1_spread_2 17 rfl rfl)
theorem dX1_spread_64 : decode cX1_spread 64 = .ok (.invokevirtual 126, 3) := dk_182 0 126 (dk_at dksX1_spread_2 18 rfl rfl)
theorem dX1_spread_67 : decode cX1_spread 67 = .ok (.checkcast 163, 3) := dk_192 0 163 (dk_at dksX1_spread_2 21 rfl rfl)
theorem dX1_spread_70 : decode cX1_spread 70 = .ok (.getfield 165, 3) := dk_180 0 165 (dk_at dksX1_spread_3 0 rfl rfl)
theorem dX1_spread_73 : decode cX1_spread 73 = .ok (.dup2, 1) := dk_92 (dk_at dksX1_spread_3 3 rfl rfl)
theorem dX1_spread_74 : decode cX1_spread 74 = .ok (.laload, 1) := dk_47 (dk_at dksX1_spread_3 4 rfl rfl)
theorem dX1_spread_75 : decode cX1_spread 75 = .ok (.aload_n 0, 1) := dk_42 (dk_at dksX1_spread_3 5 rfl rfl)
theorem dX1_spread_76 : decode cX1_spread 76 = .ok (.getfield 48, 3) := dk_180 0 48 (dk_at dksX1_spread_3 6 rfl rfl)
theorem dX1_spread_79 : decode cX1_spread 79 = .ok (.iload_n 1, 1) := dk_27 (dk_at dksX1_spread_3 9 rfl rfl)
theorem dX1_spread_80 : decode cX1_spread 80 = .ok (.laload, 1) := dk_47 (dk_at dksX1_spread_3 10 rfl rfl)
theorem dX1_spread_81 : decode cX1_spread 81 = .ok (.aload_n 2, 1) := dk_44 (dk_at dksX1_spread_3 11 rfl rfl)
theorem dX1_spread_82 : decode cX1_spread 82 = .ok (.getfield 160, 3) := dk_180 0 160 (dk_at dksX1_spread_3 12 rfl rfl)
theorem dX1_spread_85 : decode cX1_spread 85 = .ok (.iload_n 3, 1) := dk_29 (dk_at dksX1_spread_3 15 rfl rfl)
theorem dX1_spread_86 : decode cX1_spread 86 = .ok (.invokevirtual 126, 3) := dk_182 0 126 (dk_at dksX1_spread_3 16 rfl rfl)
theorem dX1_spread_89 : decode cX1_spread 89 = .ok (.checkcast 163, 3) := dk_192 0 163 (dk_at dksX1_spread_3 19 rfl rfl)
theorem dX1_spread_92 : decode cX1_spread 92 = .ok (.getfield 168, 3) := dk_180 0 168 (dk_at dksX1_spread_4 0 rfl rfl)
theorem dX1_spread_95 : decode cX1_spread 95 = .ok (.i2l, 1) := dk_133 (dk_at dksX1_spread_4 3 rfl rfl)
theorem dX1_spread_96 : decode cX1_spread 96 = .ok (.lmul, 1) := dk_105 (dk_at dksX1_spread_4 4 rfl rfl)
theorem dX1_spread_97 : decode cX1_spread 97 = .ok (.ladd, 1) := dk_97 (dk_at dksX1_spread_4 5 rfl rfl)
theorem dX1_spread_98 : decode cX1_spread 98 = .ok (.lastore, 1) := dk_80 (dk_at dksX1_spread_4 6 rfl rfl)
theorem dX1_spread_99 : decode cX1_spread 99 = .ok (.iinc 3 1, 3) := dk_132 3 1 (dk_at dksX1_spread_4 7 rfl rfl)
theorem dX1_spread_102 : decode cX1_spread 102 = .ok (.goto (-58), 3) := dk_167 255 198 (dk_at dksX1_spread_4 10 rfl rfl)
theorem dX1_spread_105 : decode cX1_spread 105 = .ok (.return_, 1) := dk_177 (dk_at dksX1_spread_4 13 rfl rfl)
abbrev cX1_avoidChance : ByteArray := prog_1_method_23_code
def yX1_avoidChance : MethodName := ⟨RX1, "avoidChance", "(II)J"⟩
def dkwX1_avoidChance_2 : List UInt8 := [47, 97, 66, 132, 5, 1, 167, 255, 234, 33, 173]
abbrev dktX1_avoidChance_2 : List UInt8 := dkwX1_avoidChance_2 ++ []
def dkwX1_avoidChance_1 : List UInt8 := [182, 0, 179, 9, 66, 3, 54, 5, 21, 5, 42, 182, 0, 113, 162, 0, 19, 33, 42, 180, 0, 48, 21, 5]
abbrev dktX1_avoidChance_1 : List UInt8 := dkwX1_avoidChance_1 ++ dktX1_avoidChance_2
def dkwX1_avoidChance_0 : List UInt8 := [42, 27, 182, 0, 171, 153, 0, 10, 28, 184, 0, 174, 154, 0, 7, 20, 0, 177, 173, 42, 28, 27]
abbrev dktX1_avoidChance_0 : List UInt8 := dkwX1_avoidChance_0 ++ dktX1_avoidChance_1
theorem dksX1_avoidChance_0 : cX1_avoidChance.data.toList.drop 0 = dktX1_avoidChance_0 := by decide +kernel
theorem dksX1_avoidChance_1 : cX1_avoidChance.data.toList.drop 22 = dktX1_avoidChance_1 := dk_seg dksX1_avoidChance_0 22 rfl rfl
theorem dksX1_avoidChance_2 : cX1_avoidChance.data.toList.drop 46 = dktX1_avoidChance_2 := dk_seg dksX1_avoidChance_1 24 rfl rfl
theorem dX1_avoidChance_0 : decode cX1_avoidChance 0 = .ok (.aload_n 0, 1) := dk_42 (dk_at dksX1_avoidChance_0 0 rfl rfl)
theorem dX1_avoidChance_1 : decode cX1_avoidChance 1 = .ok (.iload_n 1, 1) := dk_27 (dk_at dksX1_avoidChance_0 1 rfl rfl)
theorem dX1_avoidChance_2 : decode cX1_avoidChance 2 = .ok (.invokevirtual 171, 3) := dk_182 0 171 (dk_at dksX1_avoidChance_0 2 rfl rfl)
theorem dX1_avoidChance_5 : decode cX1_avoidChance 5 = .ok (.ifCond .eq 10, 3) := dk_153 0 10 (dk_at dksX1_avoidChance_0 5 rfl rfl)
theorem dX1_avoidChance_8 : decode cX1_avoidChance 8 = .ok (.iload_n 2, 1) := dk_28 (dk_at dksX1_avoidChance_0 8 rfl rfl)
theorem dX1_avoidChance_9 : decode cX1_avoidChance 9 = .ok (.invokestatic 174, 3) := dk_184 0 174 (dk_at dksX1_avoidChance_0 9 rfl rfl)
theorem dX1_avoidChance_12 : decode cX1_avoidChance 12 = .ok (.ifCond .ne 7, 3) := dk_154 0 7 (dk_at dksX1_avoidChance_0 12 rfl rfl)
theorem dX1_avoidChance_15 : decode cX1_avoidChance 15 = .ok (.ldc2_w 177, 3) := dk_20 0 177 (dk_at dksX1_avoidChance_0 15 rfl rfl)
theorem dX1_avoidChance_18 : decode cX1_avoidChance 18 = .ok (.lreturn, 1) := dk_173 (dk_at dksX1_avoidChance_0 18 rfl rfl)
theorem dX1_avoidChance_19 : decode cX1_avoidChance 19 = .ok (.aload_n 0, 1) := dk_42 (dk_at dksX1_avoidChance_0 19 rfl rfl)
theorem dX1_avoidChance_20 : decode cX1_avoidChance 20 = .ok (.iload_n 2, 1) := dk_28 (dk_at dksX1_avoidChance_0 20 rfl rfl)
theorem dX1_avoidChance_21 : decode cX1_avoidChance 21 = .ok (.iload_n 1, 1) := dk_27 (dk_at dksX1_avoidChance_0 21 rfl rfl)
theorem dX1_avoidChance_22 : decode cX1_avoidChance 22 = .ok (.invokevirtual 179, 3) := dk_182 0 179 (dk_at dksX1_avoidChance_1 0 rfl rfl)
theorem dX1_avoidChance_25 : decode cX1_avoidChance 25 = .ok (.lconst 0, 1) := dk_9 (dk_at dksX1_avoidChance_1 3 rfl rfl)
theorem dX1_avoidChance_26 : decode cX1_avoidChance 26 = .ok (.lstore_n 3, 1) := dk_66 (dk_at dksX1_avoidChance_1 4 rfl rfl)
theorem dX1_avoidChance_27 : decode cX1_avoidChance 27 = .ok (.iconst 0, 1) := dk_3 (dk_at dksX1_avoidChance_1 5 rfl rfl)
theorem dX1_avoidChance_28 : decode cX1_avoidChance 28 = .ok (.istore 5, 2) := dk_54 5 (dk_at dksX1_avoidChance_1 6 rfl rfl)
theorem dX1_avoidChance_30 : decode cX1_avoidChance 30 = .ok (.iload 5, 2) := dk_21 5 (dk_at dksX1_avoidChance_1 8 rfl rfl)
theorem dX1_avoidChance_32 : decode cX1_avoidChance 32 = .ok (.aload_n 0, 1) := dk_42 (dk_at dksX1_avoidChance_1 10 rfl rfl)
theorem dX1_avoidChance_33 : decode cX1_avoidChance 33 = .ok (.invokevirtual 113, 3) := dk_182 0 113 (dk_at dksX1_avoidChance_1 11 rfl rfl)
theorem dX1_avoidChance_36 : decode cX1_avoidChance 36 = .ok (.if_icmp .ge 19, 3) := dk_162 0 19 (dk_at dksX1_avoidChance_1 14 rfl rfl)
theorem dX1_avoidChance_39 : decode cX1_avoidChance 39 = .ok (.lload_n 3, 1) := dk_33 (dk_at dksX1_avoidChance_1 17 rfl rfl)
theorem dX1_avoidChance_40 : decode cX1_avoidChance 40 = .ok (.aload_n 0, 1) := dk_42 (dk_at dksX1_avoidChance_1 18 rfl rfl)
theorem dX1_avoidChance_41 : decode cX1_avoidChance 41 = .ok (.getfield 48, 3) := dk_180 0 48 (dk_at dksX1_avoidChance_1 19 rfl rfl)
theorem dX1_avoidChance_44 : decode cX1_avoidChance 44 = .ok (.iload 5, 2) := dk_21 5 (dk_at dksX1_avoidChance_1 22 rfl rfl)
theorem dX1_avoidChance_46 : decode cX1_avoidChance 46 = .ok (.laload, 1) := dk_47 (dk_at dksX1_avoidChance_2 0 rfl rfl)
theorem dX1_avoidChance_47 : decode cX1_avoidChance 47 = .ok (.ladd, 1) := dk_97 (dk_at dksX1_avoidChance_2 1 rfl rfl)
theorem dX1_avoidChance_48 : decode cX1_avoidChance 48 = .ok (.lstore_n 3, 1) := dk_66 (dk_at dksX1_avoidChance_2 2 rfl rfl)
theorem dX1_avoidChance_49 : decode cX1_avoidChance 49 = .ok (.iinc 5 1, 3) := dk_132 5 1 (dk_at dksX1_avoidChance_2 3 rfl rfl)
theorem dX1_avoidChance_52 : decode cX1_avoidChance 52 = .ok (.goto (-22), 3) := dk_167 255 234 (dk_at dksX1_avoidChance_2 6 rfl rfl)
theorem dX1_avoidChance_55 : decode cX1_avoidChance 55 = .ok (.lload_n 3, 1) := dk_33 (dk_at dksX1_avoidChance_2 9 rfl rfl)
theorem dX1_avoidChance_56 : decode cX1_avoidChance 56 = .ok (.lreturn, 1) := dk_173 (dk_at dksX1_avoidChance_2 10 rfl rfl)
abbrev cX1_landingChance : ByteArray := prog_1_method_24_code
def yX1_landingChance : MethodName := ⟨RX1, "landingChance", "(II)J"⟩
def dkwX1_landingChance_5 : List UInt8 := [173]
abbrev dktX1_landingChance_5 : List UInt8 := dkwX1_landingChance_5 ++ []
def dkwX1_landingChance_4 : List UInt8 := [182, 0, 155, 100, 167, 0, 9, 25, 6, 27, 182, 0, 188, 133, 105, 97, 66, 132, 5, 1, 167, 255, 189, 33]
abbrev dktX1_landingChance_4 : List UInt8 := dkwX1_landingChance_4 ++ dktX1_landingChance_5
def dkwX1_landingChance_3 : List UInt8 := [180, 0, 186, 58, 6, 33, 42, 180, 0, 48, 21, 5, 47, 27, 16, 254, 160, 0, 14, 16, 10, 25, 6]
abbrev dktX1_landingChance_3 : List UInt8 := dkwX1_landingChance_3 ++ dktX1_landingChance_4
def dkwX1_landingChance_2 : List UInt8 := [42, 182, 0, 113, 162, 0, 64, 42, 180, 0, 22, 180, 0, 102, 21, 5, 182, 0, 126, 192, 0, 149]
abbrev dktX1_landingChance_2 : List UInt8 := dkwX1_landingChance_2 ++ dktX1_landingChance_3
def dkwX1_landingChance_1 : List UInt8 := [182, 0, 113, 154, 0, 7, 20, 0, 177, 173, 42, 28, 16, 254, 182, 0, 179, 9, 66, 3, 54, 5, 21, 5]
abbrev dktX1_landingChance_1 : List UInt8 := dkwX1_landingChance_1 ++ dktX1_landingChance_2
def dkwX1_landingChance_0 : List UInt8 := [27, 16, 254, 159, 0, 11, 42, 27, 182, 0, 183, 153, 0, 17, 28, 184, 0, 174, 153, 0, 10, 42]
abbrev dktX1_landingChance_0 : List UInt8 := dkwX1_landingChance_0 ++ dktX1_landingChance_1
theorem dksX1_landingChance_0 : cX1_landingChance.data.toList.drop 0 = dktX1_landingChance_0 := by decide +kernel
theorem dksX1_landingChance_1 : cX1_landingChance.data.toList.drop 22 = dktX1_landingChance_1 := dk_seg dksX1_landingChance_0 22 rfl rfl
theorem dksX1_landingChance_2 : cX1_landingChance.data.toList.drop 46 = dktX1_landingChance_2 := dk_seg dksX1_landingChance_1 24 rfl rfl
theorem dksX1_landingChance_3 : cX1_landingChance.data.toList.drop 68 = dktX1_landingChance_3 := dk_seg dksX1_landingChance_2 22 rfl rfl
theorem dksX1_landingChance_4 : cX1_landingChance.data.toList.drop 91 = dktX1_landingChance_4 := dk_seg dksX1_landingChance_3 23 rfl rfl
theorem dksX1_landingChance_5 : cX1_landingChance.data.toList.drop 115 = dktX1_landingChance_5 := dk_seg dksX1_landingChance_4 24 rfl rfl
theorem dX1_landingChance_0 : decode cX1_landingChance 0 = .ok (.iload_n 1, 1) := dk_27 (dk_at dksX1_landingChance_0 0 rfl rfl)
theorem dX1_landingChance_1 : decode cX1_landingChance 1 = .ok (.bipush (-2), 2) := dk_16 254 (dk_at dksX1_landingChance_0 1 rfl rfl)
theorem dX1_landingChance_3 : decode cX1_landingChance 3 = .ok (.if_icmp .eq 11, 3) := dk_159 0 11 (dk_at dksX1_landingChance_0 3 rfl rfl)
theorem dX1_landingChance_6 : decode cX1_landingChance 6 = .ok (.aload_n 0, 1) := dk_42 (dk_at dksX1_landingChance_0 6 rfl rfl)
theorem dX1_landingChance_7 : decode cX1_landingChance 7 = .ok (.iload_n 1, 1) := dk_27 (dk_at dksX1_landingChance_0 7 rfl rfl)
theorem dX1_landingChance_8 : decode cX1_landingChance 8 = .ok (.invokevirtual 183, 3) := dk_182 0 183 (dk_at dksX1_landingChance_0 8 rfl rfl)
theorem dX1_landingChance_11 : decode cX1_landingChance 11 = .ok (.ifCond .eq 17, 3) := dk_153 0 17 (dk_at dksX1_landingChance_0 11 rfl rfl)
theorem dX1_landingChance_14 : decode cX1_landingChance 14 = .ok (.iload_n 2, 1) := dk_28 (dk_at dksX1_landingChance_0 14 rfl rfl)
theorem dX1_landingChance_15 : decode cX1_landingChance 15 = .ok (.invokestatic 174, 3) := dk_184 0 174 (dk_at dksX1_landingChance_0 15 rfl rfl)
theorem dX1_landingChance_18 : decode cX1_landingChance 18 = .ok (.ifCond .eq 10, 3) := dk_153 0 10 (dk_at dksX1_landingChance_0 18 rfl rfl)
theorem dX1_landingChance_21 : decode cX1_landingChance 21 = .ok (.aload_n 0, 1) := dk_42 (dk_at dksX1_landingChance_0 21 rfl rfl)
theorem dX1_landingChance_22 : decode cX1_landingChance 22 = .ok (.invokevirtual 113, 3) := dk_182 0 113 (dk_at dksX1_landingChance_1 0 rfl rfl)
theorem dX1_landingChance_25 : decode cX1_landingChance 25 = .ok (.ifCond .ne 7, 3) := dk_154 0 7 (dk_at dksX1_landingChance_1 3 rfl rfl)
theorem dX1_landingChance_28 : decode cX1_landingChance 28 = .ok (.ldc2_w 177, 3) := dk_20 0 177 (dk_at dksX1_landingChance_1 6 rfl rfl)
theorem dX1_landingChance_31 : decode cX1_landingChance 31 = .ok (.lreturn, 1) := dk_173 (dk_at dksX1_landingChance_1 9 rfl rfl)
theorem dX1_landingChance_32 : decode cX1_landingChance 32 = .ok (.aload_n 0, 1) := dk_42 (dk_at dksX1_landingChance_1 10 rfl rfl)
theorem dX1_landingChance_33 : decode cX1_landingChance 33 = .ok (.iload_n 2, 1) := dk_28 (dk_at dksX1_landingChance_1 11 rfl rfl)
theorem dX1_landingChance_34 : decode cX1_landingChance 34 = .ok (.bipush (-2), 2) := dk_16 254 (dk_at dksX1_landingChance_1 12 rfl rfl)
theorem dX1_landingChance_36 : decode cX1_landingChance 36 = .ok (.invokevirtual 179, 3) := dk_182 0 179 (dk_at dksX1_landingChance_1 14 rfl rfl)
theorem dX1_landingChance_39 : decode cX1_landingChance 39 = .ok (.lconst 0, 1) := dk_9 (dk_at dksX1_landingChance_1 17 rfl rfl)
theorem dX1_landingChance_40 : decode cX1_landingChance 40 = .ok (.lstore_n 3, 1) := dk_66 (dk_at dksX1_landingChance_1 18 rfl rfl)
theorem dX1_landingChance_41 : decode cX1_landingChance 41 = .ok (.iconst 0, 1) := dk_3 (dk_at dksX1_landingChance_1 19 rfl rfl)
theorem dX1_landingChance_42 : decode cX1_landingChance 42 = .ok (.istore 5, 2) := dk_54 5 (dk_at dksX1_landingChance_1 20 rfl rfl)
theorem dX1_landingChance_44 : decode cX1_landingChance 44 = .ok (.iload 5, 2) := dk_21 5 (dk_at dksX1_landingChance_1 22 rfl rfl)
theorem dX1_landingChance_46 : decode cX1_landingChance 46 = .ok (.aload_n 0, 1) := dk_42 (dk_at dksX1_landingChance_2 0 rfl rfl)
theorem dX1_landingChance_47 : decode cX1_landingChance 47 = .ok (.invokevirtual 113, 3) := dk_182 0 113 (dk_at dksX1_landingChance_2 1 rfl rfl)
theorem dX1_landingChance_50 : decode cX1_landingChance 50 = .ok (.if_icmp .ge 64, 3) := dk_162 0 64 (dk_at dksX1_landingChance_2 4 rfl rfl)
theorem dX1_landingChance_53 : decode cX1_landingChance 53 = .ok (.aload_n 0, 1) := dk_42 (dk_at dksX1_landingChance_2 7 rfl rfl)
theorem dX1_landingChance_54 : decode cX1_landingChance 54 = .ok (.getfield 22, 3) := dk_180 0 22 (dk_at dksX1_landingChance_2 8 rfl rfl)
theorem dX1_landingChance_57 : decode cX1_landingChance 57 = .ok (.getfield 102, 3) := dk_180 0 102 (dk_at dksX1_landingChance_2 11 rfl rfl)
theorem dX1_landingChance_60 : decode cX1_landingChance 60 = .ok (.iload 5, 2) := dk_21 5 (dk_at dksX1_landingChance_2 14 rfl rfl)
theorem dX1_landingChance_62 : decode cX1_landingChance 62 = .ok (.invokevirtual 126, 3) := dk_182 0 126 (dk_at dksX1_landingChance_2 16 rfl rfl)
theorem dX1_landingChance_65 : decode cX1_landingChance 65 = .ok (.checkcast 149, 3) := dk_192 0 149 (dk_at dksX1_landingChance_2 19 rfl rfl)
theorem dX1_landingChance_68 : decode cX1_landingChance 68 = .ok (.getfield 186, 3) := dk_180 0 186 (dk_at dksX1_landingChance_3 0 rfl rfl)
theorem dX1_landingChance_71 : decode cX1_landingChance 71 = .ok (.astore 6, 2) := dk_58 6 (dk_at dksX1_landingChance_3 3 rfl rfl)
theorem dX1_landingChance_73 : decode cX1_landingChance 73 = .ok (.lload_n 3, 1) := dk_33 (dk_at dksX1_landingChance_3 5 rfl rfl)
theorem dX1_landingChance_74 : decode cX1_landingChance 74 = .ok (.aload_n 0, 1) := dk_42 (dk_at dksX1_landingChance_3 6 rfl rfl)
theorem dX1_landingChance_75 : decode cX1_landingChance 75 = .ok (.getfield 48, 3) := dk_180 0 48 (dk_at dksX1_landingChance_3 7 rfl rfl)
theorem dX1_landingChance_78 : decode cX1_landingChance 78 = .ok (.iload 5, 2) := dk_21 5 (dk_at dksX1_landingChance_3 10 rfl rfl)
theorem dX1_landingChance_80 : decode cX1_landingChance 80 = .ok (.laload, 1) := dk_47 (dk_at dksX1_landingChance_3 12 rfl rfl)
theorem dX1_landingChance_81 : decode cX1_landingChance 81 = .ok (.iload_n 1, 1) := dk_27 (dk_at dksX1_landingChance_3 13 rfl rfl)
theorem dX1_landingChance_82 : decode cX1_landingChance 82 = .ok (.bipush (-2), 2) := dk_16 254 (dk_at dksX1_landingChance_3 14 rfl rfl)
theorem dX1_landingChance_84 : decode cX1_landingChance 84 = .ok (.if_icmp .ne 14, 3) := dk_160 0 14 (dk_at dksX1_landingChance_3 16 rfl rfl)
theorem dX1_landingChance_87 : decode cX1_landingChance 87 = .ok (.bipush 10, 2) := dk_16 10 (dk_at dksX1_landingChance_3 19 rfl rfl)
theorem dX1_landingChance_89 : decode cX1_landingChance 89 = .ok (.aload 6, 2) := dk_25 6 (dk_at dksX1_landingChance_3 21 rfl rfl)
theorem dX1_landingChance_91 : decode cX1_landingChance 91 = .ok (.invokevirtual 155, 3) := dk_182 0 155 (dk_at dksX1_landingChance_4 0 rfl rfl)
theorem dX1_landingChance_94 : decode cX1_landingChance 94 = .ok (.isub, 1) := dk_100 (dk_at dksX1_landingChance_4 3 rfl rfl)
theorem dX1_landingChance_95 : decode cX1_landingChance 95 = .ok (.goto 9, 3) := dk_167 0 9 (dk_at dksX1_landingChance_4 4 rfl rfl)
theorem dX1_landingChance_98 : decode cX1_landingChance 98 = .ok (.aload 6, 2) := dk_25 6 (dk_at dksX1_landingChance_4 7 rfl rfl)
theorem dX1_landingChance_100 : decode cX1_landingChance 100 = .ok (.iload_n 1, 1) := dk_27 (dk_at dksX1_landingChance_4 9 rfl rfl)
theorem dX1_landingChance_101 : decode cX1_landingChance 101 = .ok (.invokevirtual 188, 3) := dk_182 0 188 (dk_at dksX1_landingChance_4 10 rfl rfl)
theorem dX1_landingChance_104 : decode cX1_landingChance 104 = .ok (.i2l, 1) := dk_133 (dk_at dksX1_landingChance_4 13 rfl rfl)
theorem dX1_landingChance_105 : decode cX1_landingChance 105 = .ok (.lmul, 1) := dk_105 (dk_at dksX1_landingChance_4 14 rfl rfl)
theorem dX1_landingChance_106 : decode cX1_landingChance 106 = .ok (.ladd, 1) := dk_97 (dk_at dksX1_landingChance_4 15 rfl rfl)
theorem dX1_landingChance_107 : decode cX1_landingChance 107 = .ok (.lstore_n 3, 1) := dk_66 (dk_at dksX1_landingChance_4 16 rfl rfl)
theorem dX1_landingChance_108 : decode cX1_landingChance 108 = .ok (.iinc 5 1, 3) := dk_132 5 1 (dk_at dksX1_landingChance_4 17 rfl rfl)
theorem dX1_landingChance_111 : decode cX1_landingChance 111 = .ok (.goto (-67), 3) := dk_167 255 189 (dk_at dksX1_landingChance_4 20 rfl rfl)
theorem dX1_landingChance_114 : decode cX1_landingChance 114 = .ok (.lload_n 3, 1) := dk_33 (dk_at dksX1_landingChance_4 23 rfl rfl)
theorem dX1_landingChance_115 : decode cX1_landingChance 115 = .ok (.lreturn, 1) := dk_173 (dk_at dksX1_landingChance_5 0 rfl rfl)
abbrev cX1_isRegion : ByteArray := prog_1_method_12_code
def yX1_isRegion : MethodName := ⟨RX1, "isRegion", "(I)Z"⟩
def dkwX1_isRegion_0 : List UInt8 := [27, 133, 9, 42, 182, 0, 110, 4, 100, 133, 184, 0, 71, 172]
abbrev dktX1_isRegion_0 : List UInt8 := dkwX1_isRegion_0 ++ []
theorem dksX1_isRegion_0 : cX1_isRegion.data.toList.drop 0 = dktX1_isRegion_0 := by decide +kernel
theorem dX1_isRegion_0 : decode cX1_isRegion 0 = .ok (.iload_n 1, 1) := dk_27 (dk_at dksX1_isRegion_0 0 rfl rfl)
theorem dX1_isRegion_1 : decode cX1_isRegion 1 = .ok (.i2l, 1) := dk_133 (dk_at dksX1_isRegion_0 1 rfl rfl)
theorem dX1_isRegion_2 : decode cX1_isRegion 2 = .ok (.lconst 0, 1) := dk_9 (dk_at dksX1_isRegion_0 2 rfl rfl)
theorem dX1_isRegion_3 : decode cX1_isRegion 3 = .ok (.aload_n 0, 1) := dk_42 (dk_at dksX1_isRegion_0 3 rfl rfl)
theorem dX1_isRegion_4 : decode cX1_isRegion 4 = .ok (.invokevirtual 110, 3) := dk_182 0 110 (dk_at dksX1_isRegion_0 4 rfl rfl)
theorem dX1_isRegion_7 : decode cX1_isRegion 7 = .ok (.iconst 1, 1) := dk_4 (dk_at dksX1_isRegion_0 7 rfl rfl)
theorem dX1_isRegion_8 : decode cX1_isRegion 8 = .ok (.isub, 1) := dk_100 (dk_at dksX1_isRegion_0 8 rfl rfl)
theorem dX1_isRegion_9 : decode cX1_isRegion 9 = .ok (.i2l, 1) := dk_133 (dk_at dksX1_isRegion_0 9 rfl rfl)
theorem dX1_isRegion_10 : decode cX1_isRegion 10 = .ok (.invokestatic 71, 3) := dk_184 0 71 (dk_at dksX1_isRegion_0 10 rfl rfl)
theorem dX1_isRegion_13 : decode cX1_isRegion 13 = .ok (.ireturn, 1) := dk_172 (dk_at dksX1_isRegion_0 13 rfl rfl)
abbrev cX1_deliveryChance : ByteArray := prog_1_method_26_code
def yX1_deliveryChance : MethodName := ⟨RX1, "deliveryChance", "(I)J"⟩
def dkwX1_deliveryChance_1 : List UInt8 := [186, 0, 202, 0, 0, 182, 0, 205, 173]
abbrev dktX1_deliveryChance_1 : List UInt8 := dkwX1_deliveryChance_1 ++ []
def dkwX1_deliveryChance_0 : List UInt8 := [27, 184, 0, 174, 153, 0, 10, 42, 182, 0, 113, 154, 0, 7, 20, 0, 177, 173, 42, 27]
abbrev dktX1_deliveryChance_0 : List UInt8 := dkwX1_deliveryChance_0 ++ dktX1_deliveryChance_1
theorem dksX1_deliveryChance_0 : cX1_deliveryChance.data.toList.drop 0 = dktX1_deliveryChance_0 := by decide +kernel
theorem dksX1_deliveryChance_1 : cX1_deliveryChance.data.toList.drop 20 = dktX1_deliveryChance_1 := dk_seg dksX1_deliveryChance_0 20 rfl rfl
theorem dX1_deliveryChance_0 : decode cX1_deliveryChance 0 = .ok (.iload_n 1, 1) := dk_27 (dk_at dksX1_deliveryChance_0 0 rfl rfl)
theorem dX1_deliveryChance_1 : decode cX1_deliveryChance 1 = .ok (.invokestatic 174, 3) := dk_184 0 174 (dk_at dksX1_deliveryChance_0 1 rfl rfl)
theorem dX1_deliveryChance_4 : decode cX1_deliveryChance 4 = .ok (.ifCond .eq 10, 3) := dk_153 0 10 (dk_at dksX1_deliveryChance_0 4 rfl rfl)
theorem dX1_deliveryChance_7 : decode cX1_deliveryChance 7 = .ok (.aload_n 0, 1) := dk_42 (dk_at dksX1_deliveryChance_0 7 rfl rfl)
theorem dX1_deliveryChance_8 : decode cX1_deliveryChance 8 = .ok (.invokevirtual 113, 3) := dk_182 0 113 (dk_at dksX1_deliveryChance_0 8 rfl rfl)
theorem dX1_deliveryChance_11 : decode cX1_deliveryChance 11 = .ok (.ifCond .ne 7, 3) := dk_154 0 7 (dk_at dksX1_deliveryChance_0 11 rfl rfl)
theorem dX1_deliveryChance_14 : decode cX1_deliveryChance 14 = .ok (.ldc2_w 177, 3) := dk_20 0 177 (dk_at dksX1_deliveryChance_0 14 rfl rfl)
theorem dX1_deliveryChance_17 : decode cX1_deliveryChance 17 = .ok (.lreturn, 1) := dk_173 (dk_at dksX1_deliveryChance_0 17 rfl rfl)
theorem dX1_deliveryChance_18 : decode cX1_deliveryChance 18 = .ok (.aload_n 0, 1) := dk_42 (dk_at dksX1_deliveryChance_0 18 rfl rfl)
theorem dX1_deliveryChance_19 : decode cX1_deliveryChance 19 = .ok (.iload_n 1, 1) := dk_27 (dk_at dksX1_deliveryChance_0 19 rfl rfl)
theorem dX1_deliveryChance_20 : decode cX1_deliveryChance 20 = .ok (.invokedynamic 202, 5) := by decide +kernel
theorem dX1_deliveryChance_25 : decode cX1_deliveryChance 25 = .ok (.invokevirtual 205, 3) := dk_182 0 205 (dk_at dksX1_deliveryChance_1 5 rfl rfl)
theorem dX1_deliveryChance_28 : decode cX1_deliveryChance 28 = .ok (.lreturn, 1) := dk_173 (dk_at dksX1_deliveryChance_1 8 rfl rfl)
abbrev cX1_lambda_deliveryChance_0 : ByteArray := prog_1_method_74_code
def yX1_lambda_deliveryChance_0 : MethodName := ⟨RX1, "lambda$deliveryChance$0", "(LBalloonMail$Region;)J"⟩
theorem dX1_lambda_deliveryChance_0_0 : decode cX1_lambda_deliveryChance_0 0 = .ok (.lconst 1, 1) := by decide +kernel
theorem dX1_lambda_deliveryChance_0_1 : decode cX1_lambda_deliveryChance_0 1 = .ok (.lreturn, 1) := by decide +kernel
abbrev cX1_landed : ByteArray := prog_1_method_25_code
def yX1_landed : MethodName := ⟨RX1, "landed", "(ILBalloonMail$Gain;)J"⟩
def dkwX1_landed_6 : List UInt8 := [167, 255, 130, 33, 173]
abbrev dktX1_landed_6 : List UInt8 := dkwX1_landed_6 ++ []
def dkwX1_landed_5 : List UInt8 := [133, 105, 44, 25, 8, 185, 0, 196, 2, 0, 105, 97, 66, 132, 7, 1, 167, 255, 171, 132, 5, 1]
abbrev dktX1_landed_5 : List UInt8 := dkwX1_landed_5 ++ dktX1_landed_6
def dkwX1_landed_4 : List UInt8 := [47, 25, 6, 21, 7, 182, 0, 126, 192, 0, 163, 180, 0, 168, 133, 105, 16, 10, 25, 8, 180, 0, 193, 100]
abbrev dktX1_landed_4 : List UInt8 := dkwX1_landed_4 ++ dktX1_landed_5
def dkwX1_landed_3 : List UInt8 := [182, 0, 126, 192, 0, 163, 180, 0, 165, 182, 0, 126, 192, 0, 191, 58, 8, 33, 42, 180, 0, 48, 21, 5]
abbrev dktX1_landed_3 : List UInt8 := dkwX1_landed_3 ++ dktX1_landed_4
def dkwX1_landed_2 : List UInt8 := [54, 7, 21, 7, 25, 6, 182, 0, 98, 162, 0, 81, 42, 180, 0, 22, 180, 0, 95, 25, 6, 21, 7]
abbrev dktX1_landed_2 : List UInt8 := dkwX1_landed_2 ++ dktX1_landed_3
def dkwX1_landed_1 : List UInt8 := [180, 0, 22, 180, 0, 102, 21, 5, 182, 0, 126, 192, 0, 149, 180, 0, 186, 180, 0, 160, 58, 6, 3]
abbrev dktX1_landed_1 : List UInt8 := dkwX1_landed_1 ++ dktX1_landed_2
def dkwX1_landed_0 : List UInt8 := [42, 27, 16, 254, 182, 0, 179, 9, 66, 3, 54, 5, 21, 5, 42, 182, 0, 113, 162, 0, 123, 42]
abbrev dktX1_landed_0 : List UInt8 := dkwX1_landed_0 ++ dktX1_landed_1
theorem dksX1_landed_0 : cX1_landed.data.toList.drop 0 = dktX1_landed_0 := by decide +kernel
theorem dksX1_landed_1 : cX1_landed.data.toList.drop 22 = dktX1_landed_1 := dk_seg dksX1_landed_0 22 rfl rfl
theorem dksX1_landed_2 : cX1_landed.data.toList.drop 45 = dktX1_landed_2 := dk_seg dksX1_landed_1 23 rfl rfl
theorem dksX1_landed_3 : cX1_landed.data.toList.drop 68 = dktX1_landed_3 := dk_seg dksX1_landed_2 23 rfl rfl
theorem dksX1_landed_4 : cX1_landed.data.toList.drop 92 = dktX1_landed_4 := dk_seg dksX1_landed_3 24 rfl rfl
theorem dksX1_landed_5 : cX1_landed.data.toList.drop 116 = dktX1_landed_5 := dk_seg dksX1_landed_4 24 rfl rfl
theorem dksX1_landed_6 : cX1_landed.data.toList.drop 138 = dktX1_landed_6 := dk_seg dksX1_landed_5 22 rfl rfl
theorem dX1_landed_0 : decode cX1_landed 0 = .ok (.aload_n 0, 1) := dk_42 (dk_at dksX1_landed_0 0 rfl rfl)
theorem dX1_landed_1 : decode cX1_landed 1 = .ok (.iload_n 1, 1) := dk_27 (dk_at dksX1_landed_0 1 rfl rfl)
theorem dX1_landed_2 : decode cX1_landed 2 = .ok (.bipush (-2), 2) := dk_16 254 (dk_at dksX1_landed_0 2 rfl rfl)
theorem dX1_landed_4 : decode cX1_landed 4 = .ok (.invokevirtual 179, 3) := dk_182 0 179 (dk_at dksX1_landed_0 4 rfl rfl)
theorem dX1_landed_7 : decode cX1_landed 7 = .ok (.lconst 0, 1) := dk_9 (dk_at dksX1_landed_0 7 rfl rfl)
theorem dX1_landed_8 : decode cX1_landed 8 = .ok (.lstore_n 3, 1) := dk_66 (dk_at dksX1_landed_0 8 rfl rfl)
theorem dX1_landed_9 : decode cX1_landed 9 = .ok (.iconst 0, 1) := dk_3 (dk_at dksX1_landed_0 9 rfl rfl)
theorem dX1_landed_10 : decode cX1_landed 10 = .ok (.istore 5, 2) := dk_54 5 (dk_at dksX1_landed_0 10 rfl rfl)
theorem dX1_landed_12 : decode cX1_landed 12 = .ok (.iload 5, 2) := dk_21 5 (dk_at dksX1_landed_0 12 rfl rfl)
theorem dX1_landed_14 : decode cX1_landed 14 = .ok (.aload_n 0, 1) := dk_42 (dk_at dksX1_landed_0 14 rfl rfl)
theorem dX1_landed_15 : decode cX1_landed 15 = .ok (.invokevirtual 113, 3) := dk_182 0 113 (dk_at dksX1_landed_0 15 rfl rfl)
theorem dX1_landed_18 : decode cX1_landed 18 = .ok (.if_icmp .ge 123, 3) := dk_162 0 123 (dk_at dksX1_landed_0 18 rfl rfl)
theorem dX1_landed_21 : decode cX1_landed 21 = .ok (.aload_n 0, 1) := dk_42 (dk_at dksX1_landed_0 21 rfl rfl)
theorem dX1_landed_22 : decode cX1_landed 22 = .ok (.getfield 22, 3) := dk_180 0 22 (dk_at dksX1_landed_1 0 rfl rfl)
theorem dX1_landed_25 : decode cX1_landed 25 = .ok (.getfield 102, 3) := dk_180 0 102 (dk_at dksX1_landed_1 3 rfl rfl)
theorem dX1_landed_28 : decode cX1_landed 28 = .ok (.iload 5, 2) := dk_21 5 (dk_at dksX1_landed_1 6 rfl rfl)
theorem dX1_landed_30 : decode cX1_landed 30 = .ok (.invokevirtual 126, 3) := dk_182 0 126 (dk_at dksX1_landed_1 8 rfl rfl)
theorem dX1_landed_33 : decode cX1_landed 33 = .ok (.checkcast 149, 3) := dk_192 0 149 (dk_at dksX1_landed_1 11 rfl rfl)
theorem dX1_landed_36 : decode cX1_landed 36 = .ok (.getfield 186, 3) := dk_180 0 186 (dk_at dksX1_landed_1 14 rfl rfl)
theorem dX1_landed_39 : decode cX1_landed 39 = .ok (.getfield 160, 3) := dk_180 0 160 (dk_at dksX1_landed_1 17 rfl rfl)
theorem dX1_landed_42 : decode cX1_landed 42 = .ok (.astore 6, 2) := dk_58 6 (dk_at dksX1_landed_1 20 rfl rfl)
theorem dX1_landed_44 : decode cX1_landed 44 = .ok (.iconst 0, 1) := dk_3 (dk_at dksX1_landed_1 22 rfl rfl)
theorem dX1_landed_45 : decode cX1_landed 45 = .ok (.istore 7, 2) := dk_54 7 (dk_at dksX1_landed_2 0 rfl rfl)
theorem dX1_landed_47 : decode cX1_landed 47 = .ok (.iload 7, 2) := dk_21 7 (dk_at dksX1_landed_2 2 rfl rfl)
theorem dX1_landed_49 : decode cX1_landed 49 = .ok (.aload 6, 2) := dk_25 6 (dk_at dksX1_landed_2 4 rfl rfl)
theorem dX1_landed_51 : decode cX1_landed 51 = .ok (.invokevirtual 98, 3) := dk_182 0 98 (dk_at dksX1_landed_2 6 rfl rfl)
theorem dX1_landed_54 : decode cX1_landed 54 = .ok (.if_icmp .ge 81, 3) := dk_162 0 81 (dk_at dksX1_landed_2 9 rfl rfl)
theorem dX1_landed_57 : decode cX1_landed 57 = .ok (.aload_n 0, 1) := dk_42 (dk_at dksX1_landed_2 12 rfl rfl)
theorem dX1_landed_58 : decode cX1_landed 58 = .ok (.getfield 22, 3) := dk_180 0 22 (dk_at dksX1_landed_2 13 rfl rfl)
theorem dX1_landed_61 : decode cX1_landed 61 = .ok (.getfield 95, 3) := dk_180 0 95 (dk_at dksX1_landed_2 16 rfl rfl)
theorem dX1_landed_64 : decode cX1_landed 64 = .ok (.aload 6, 2) := dk_25 6 (dk_at dksX1_landed_2 19 rfl rfl)
theorem dX1_landed_66 : decode cX1_landed 66 = .ok (.iload 7, 2) := dk_21 7 (dk_at dksX1_landed_2 21 rfl rfl)
theorem dX1_landed_68 : decode cX1_landed 68 = .ok (.invokevirtual 126, 3) := dk_182 0 126 (dk_at dksX1_landed_3 0 rfl rfl)
theorem dX1_landed_71 : decode cX1_landed 71 = .ok (.checkcast 163, 3) := dk_192 0 163 (dk_at dksX1_landed_3 3 rfl rfl)
theorem dX1_landed_74 : decode cX1_landed 74 = .ok (.getfield 165, 3) := dk_180 0 165 (dk_at dksX1_landed_3 6 rfl rfl)
theorem dX1_landed_77 : decode cX1_landed 77 = .ok (.invokevirtual 126, 3) := dk_182 0 126 (dk_at dksX1_landed_3 9 rfl rfl)
theorem dX1_landed_80 : decode cX1_landed 80 = .ok (.checkcast 191, 3) := dk_192 0 191 (dk_at dksX1_landed_3 12 rfl rfl)
theorem dX1_landed_83 : decode cX1_landed 83 = .ok (.astore 8, 2) := dk_58 8 (dk_at dksX1_landed_3 15 rfl rfl)
theorem dX1_landed_85 : decode cX1_landed 85 = .ok (.lload_n 3, 1) := dk_33 (dk_at dksX1_landed_3 17 rfl rfl)
theorem dX1_landed_86 : decode cX1_landed 86 = .ok (.aload_n 0, 1) := dk_42 (dk_at dksX1_landed_3 18 rfl rfl)
theorem dX1_landed_87 : decode cX1_landed 87 = .ok (.getfield 48, 3) := dk_180 0 48 (dk_at dksX1_landed_3 19 rfl rfl)
theorem dX1_landed_90 : decode cX1_landed 90 = .ok (.iload 5, 2) := dk_21 5 (dk_at dksX1_landed_3 22 rfl rfl)
theorem dX1_landed_92 : decode cX1_landed 92 = .ok (.laload, 1) := dk_47 (dk_at dksX1_landed_4 0 rfl rfl)
theorem dX1_landed_93 : decode cX1_landed 93 = .ok (.aload 6, 2) := dk_25 6 (dk_at dksX1_landed_4 1 rfl rfl)
theorem dX1_landed_95 : decode cX1_landed 95 = .ok (.iload 7, 2) := dk_21 7 (dk_at dksX1_landed_4 3 rfl rfl)
theorem dX1_landed_97 : decode cX1_landed 97 = .ok (.invokevirtual 126, 3) := dk_182 0 126 (dk_at dksX1_landed_4 5 rfl rfl)
theorem dX1_landed_100 : decode cX1_landed 100 = .ok (.checkcast 163, 3) := dk_192 0 163 (dk_at dksX1_landed_4 8 rfl rfl)
theorem dX1_landed_103 : decode cX1_landed 103 = .ok (.getfield 168, 3) := dk_180 0 168 (dk_at dksX1_landed_4 11 rfl rfl)
theorem dX1_landed_106 : decode cX1_landed 106 = .ok (.i2l, 1) := dk_133 (dk_at dksX1_landed_4 14 rfl rfl)
theorem dX1_landed_107 : decode cX1_landed 107 = .ok (.lmul, 1) := dk_105 (dk_at dksX1_landed_4 15 rfl rfl)
theorem dX1_landed_108 : decode cX1_landed 108 = .ok (.bipush 10, 2) := dk_16 10 (dk_at dksX1_landed_4 16 rfl rfl)
theorem dX1_landed_110 : decode cX1_landed 110 = .ok (.aload 8, 2) := dk_25 8 (dk_at dksX1_landed_4 18 rfl rfl)
theorem dX1_landed_112 : decode cX1_landed 112 = .ok (.getfield 193, 3) := dk_180 0 193 (dk_at dksX1_landed_4 20 rfl rfl)
theorem dX1_landed_115 : decode cX1_landed 115 = .ok (.isub, 1) := dk_100 (dk_at dksX1_landed_4 23 rfl rfl)
theorem dX1_landed_116 : decode cX1_landed 116 = .ok (.i2l, 1) := dk_133 (dk_at dksX1_landed_5 0 rfl rfl)
theorem dX1_landed_117 : decode cX1_landed 117 = .ok (.lmul, 1) := dk_105 (dk_at dksX1_landed_5 1 rfl rfl)
theorem dX1_landed_118 : decode cX1_landed 118 = .ok (.aload_n 2, 1) := dk_44 (dk_at dksX1_landed_5 2 rfl rfl)
theorem dX1_landed_119 : decode cX1_landed 119 = .ok (.aload 8, 2) := dk_25 8 (dk_at dksX1_landed_5 3 rfl rfl)
theorem dX1_landed_121 : decode cX1_landed 121 = .ok (.invokeinterface 196 2, 5) := by decide +kernel
theorem dX1_landed_126 : decode cX1_landed 126 = .ok (.lmul, 1) := dk_105 (dk_at dksX1_landed_5 10 rfl rfl)
theorem dX1_landed_127 : decode cX1_landed 127 = .ok (.ladd, 1) := dk_97 (dk_at dksX1_landed_5 11 rfl rfl)
theorem dX1_landed_128 : decode cX1_landed 128 = .ok (.lstore_n 3, 1) := dk_66 (dk_at dksX1_landed_5 12 rfl rfl)
theorem dX1_landed_129 : decode cX1_landed 129 = .ok (.iinc 7 1, 3) := dk_132 7 1 (dk_at dksX1_landed_5 13 rfl rfl)
theorem dX1_landed_132 : decode cX1_landed 132 = .ok (.goto (-85), 3) := dk_167 255 171 (dk_at dksX1_landed_5 16 rfl rfl)
theorem dX1_landed_135 : decode cX1_landed 135 = .ok (.iinc 5 1, 3) := dk_132 5 1 (dk_at dksX1_landed_5 19 rfl rfl)
theorem dX1_landed_138 : decode cX1_landed 138 = .ok (.goto (-126), 3) := dk_167 255 130 (dk_at dksX1_landed_6 0 rfl rfl)
theorem dX1_landed_141 : decode cX1_landed 141 = .ok (.lload_n 3, 1) := dk_33 (dk_at dksX1_landed_6 3 rfl rfl)
theorem dX1_landed_142 : decode cX1_landed 142 = .ok (.lreturn, 1) := dk_173 (dk_at dksX1_landed_6 4 rfl rfl)
abbrev cX1_answerChance : ByteArray := prog_1_method_29_code
def yX1_answerChance : MethodName := ⟨RX1, "answerChance", "(II)J"⟩
def dkwX1_answerChance_0 : List UInt8 := [42, 27, 28, 182, 0, 218, 153, 0, 12, 42, 27, 28, 182, 0, 222, 167, 0, 6, 20, 0, 177, 173]
abbrev dktX1_answerChance_0 : List UInt8 := dkwX1_answerChance_0 ++ []
theorem dksX1_answerChance_0 : cX1_answerChance.data.toList.drop 0 = dktX1_answerChance_0 := by decide +kernel
theorem dX1_answerChance_0 : decode cX1_answerChance 0 = .ok (.aload_n 0, 1) := dk_42 (dk_at dksX1_answerChance_0 0 rfl rfl)
theorem dX1_answerChance_1 : decode cX1_answerChance 1 = .ok (.iload_n 1, 1) := dk_27 (dk_at dksX1_answerChance_0 1 rfl rfl)
theorem dX1_answerChance_2 : decode cX1_answerChance 2 = .ok (.iload_n 2, 1) := dk_28 (dk_at dksX1_answerChance_0 2 rfl rfl)
theorem dX1_answerChance_3 : decode cX1_answerChance 3 = .ok (.invokevirtual 218, 3) := dk_182 0 218 (dk_at dksX1_answerChance_0 3 rfl rfl)
theorem dX1_answerChance_6 : decode cX1_answerChance 6 = .ok (.ifCond .eq 12, 3) := dk_153 0 12 (dk_at dksX1_answerChance_0 6 rfl rfl)
theorem dX1_answerChance_9 : decode cX1_answerChance 9 = .ok (.aload_n 0, 1) := dk_42 (dk_at dksX1_answerChance_0 9 rfl rfl)
theorem dX1_answerChance_10 : decode cX1_answerChance 10 = .ok (.iload_n 1, 1) := dk_27 (dk_at dksX1_answerChance_0 10 rfl rfl)
theorem dX1_answerChance_11 : decode cX1_answerChance 11 = .ok (.iload_n 2, 1) := dk_28 (dk_at dksX1_answerChance_0 11 rfl rfl)
theorem dX1_answerChance_12 : decode cX1_answerChance 12 = .ok (.invokevirtual 222, 3) := dk_182 0 222 (dk_at dksX1_answerChance_0 12 rfl rfl)
theorem dX1_answerChance_15 : decode cX1_answerChance 15 = .ok (.goto 6, 3) := dk_167 0 6 (dk_at dksX1_answerChance_0 15 rfl rfl)
theorem dX1_answerChance_18 : decode cX1_answerChance 18 = .ok (.ldc2_w 177, 3) := dk_20 0 177 (dk_at dksX1_answerChance_0 18 rfl rfl)
theorem dX1_answerChance_21 : decode cX1_answerChance 21 = .ok (.lreturn, 1) := dk_173 (dk_at dksX1_answerChance_0 21 rfl rfl)
abbrev cX1_canAnswer : ByteArray := prog_1_method_28_code
def yX1_canAnswer : MethodName := ⟨RX1, "canAnswer", "(II)Z"⟩
def dkwX1_canAnswer_1 : List UInt8 := [158, 0, 7, 4, 167, 0, 4, 3, 172]
abbrev dktX1_canAnswer_1 : List UInt8 := dkwX1_canAnswer_1 ++ []
def dkwX1_canAnswer_0 : List UInt8 := [27, 133, 9, 20, 0, 216, 184, 0, 71, 153, 0, 21, 28, 184, 0, 174, 153, 0, 14, 42, 182, 0, 113]
abbrev dktX1_canAnswer_0 : List UInt8 := dkwX1_canAnswer_0 ++ dktX1_canAnswer_1
theorem dksX1_canAnswer_0 : cX1_canAnswer.data.toList.drop 0 = dktX1_canAnswer_0 := by decide +kernel
theorem dksX1_canAnswer_1 : cX1_canAnswer.data.toList.drop 23 = dktX1_canAnswer_1 := dk_seg dksX1_canAnswer_0 23 rfl rfl
theorem dX1_canAnswer_0 : decode cX1_canAnswer 0 = .ok (.iload_n 1, 1) := dk_27 (dk_at dksX1_canAnswer_0 0 rfl rfl)
theorem dX1_canAnswer_1 : decode cX1_canAnswer 1 = .ok (.i2l, 1) := dk_133 (dk_at dksX1_canAnswer_0 1 rfl rfl)
theorem dX1_canAnswer_2 : decode cX1_canAnswer 2 = .ok (.lconst 0, 1) := dk_9 (dk_at dksX1_canAnswer_0 2 rfl rfl)
theorem dX1_canAnswer_3 : decode cX1_canAnswer 3 = .ok (.ldc2_w 216, 3) := dk_20 0 216 (dk_at dksX1_canAnswer_0 3 rfl rfl)
theorem dX1_canAnswer_6 : decode cX1_canAnswer 6 = .ok (.invokestatic 71, 3) := dk_184 0 71 (dk_at dksX1_canAnswer_0 6 rfl rfl)
theorem dX1_canAnswer_9 : decode cX1_canAnswer 9 = .ok (.ifCond .eq 21, 3) := dk_153 0 21 (dk_at dksX1_canAnswer_0 9 rfl rfl)
theorem dX1_canAnswer_12 : decode cX1_canAnswer 12 = .ok (.iload_n 2, 1) := dk_28 (dk_at dksX1_canAnswer_0 12 rfl rfl)
theorem dX1_canAnswer_13 : decode cX1_canAnswer 13 = .ok (.invokestatic 174, 3) := dk_184 0 174 (dk_at dksX1_canAnswer_0 13 rfl rfl)
theorem dX1_canAnswer_16 : decode cX1_canAnswer 16 = .ok (.ifCond .eq 14, 3) := dk_153 0 14 (dk_at dksX1_canAnswer_0 16 rfl rfl)
theorem dX1_canAnswer_19 : decode cX1_canAnswer 19 = .ok (.aload_n 0, 1) := dk_42 (dk_at dksX1_canAnswer_0 19 rfl rfl)
theorem dX1_canAnswer_20 : decode cX1_canAnswer 20 = .ok (.invokevirtual 113, 3) := dk_182 0 113 (dk_at dksX1_canAnswer_0 20 rfl rfl)
theorem dX1_canAnswer_23 : decode cX1_canAnswer 23 = .ok (.ifCond .le 7, 3) := dk_158 0 7 (dk_at dksX1_canAnswer_1 0 rfl rfl)
theorem dX1_canAnswer_26 : decode cX1_canAnswer 26 = .ok (.iconst 1, 1) := dk_4 (dk_at dksX1_canAnswer_1 3 rfl rfl)
theorem dX1_canAnswer_27 : decode cX1_canAnswer 27 = .ok (.goto 4, 3) := dk_167 0 4 (dk_at dksX1_canAnswer_1 4 rfl rfl)
theorem dX1_canAnswer_30 : decode cX1_canAnswer 30 = .ok (.iconst 0, 1) := dk_3 (dk_at dksX1_canAnswer_1 7 rfl rfl)
theorem dX1_canAnswer_31 : decode cX1_canAnswer 31 = .ok (.ireturn, 1) := dk_172 (dk_at dksX1_canAnswer_1 8 rfl rfl)
abbrev cX1_answered : ByteArray := prog_1_method_27_code
def yX1_answered : MethodName := ⟨RX1, "answered", "(II)J"⟩
def dkwX1_answered_0 : List UInt8 := [27, 184, 0, 209, 66, 42, 28, 27, 33, 186, 0, 213, 0, 0, 182, 0, 205, 173]
abbrev dktX1_answered_0 : List UInt8 := dkwX1_answered_0 ++ []
theorem dksX1_answered_0 : cX1_answered.data.toList.drop 0 = dktX1_answered_0 := by decide +kernel
theorem dX1_answered_0 : decode cX1_answered 0 = .ok (.iload_n 1, 1) := dk_27 (dk_at dksX1_answered_0 0 rfl rfl)
theorem dX1_answered_1 : decode cX1_answered 1 = .ok (.invokestatic 209, 3) := dk_184 0 209 (dk_at dksX1_answered_0 1 rfl rfl)
theorem dX1_answered_4 : decode cX1_answered 4 = .ok (.lstore_n 3, 1) := dk_66 (dk_at dksX1_answered_0 4 rfl rfl)
theorem dX1_answered_5 : decode cX1_answered 5 = .ok (.aload_n 0, 1) := dk_42 (dk_at dksX1_answered_0 5 rfl rfl)
theorem dX1_answered_6 : decode cX1_answered 6 = .ok (.iload_n 2, 1) := dk_28 (dk_at dksX1_answered_0 6 rfl rfl)
theorem dX1_answered_7 : decode cX1_answered 7 = .ok (.iload_n 1, 1) := dk_27 (dk_at dksX1_answered_0 7 rfl rfl)
theorem dX1_answered_8 : decode cX1_answered 8 = .ok (.lload_n 3, 1) := dk_33 (dk_at dksX1_answered_0 8 rfl rfl)
theorem dX1_answered_9 : decode cX1_answered 9 = .ok (.invokedynamic 213, 5) := by decide +kernel
theorem dX1_answered_14 : decode cX1_answered 14 = .ok (.invokevirtual 205, 3) := dk_182 0 205 (dk_at dksX1_answered_0 14 rfl rfl)
theorem dX1_answered_17 : decode cX1_answered 17 = .ok (.lreturn, 1) := dk_173 (dk_at dksX1_answered_0 17 rfl rfl)
abbrev cX1_power : ByteArray := prog_1_method_2_code
def yX1_power : MethodName := ⟨RX1, "power", "(I)J"⟩
def dkwX1_power_0 : List UInt8 := [10, 64, 3, 62, 29, 26, 162, 0, 15, 31, 20, 0, 3, 105, 64, 132, 3, 1, 167, 255, 242, 31, 173]
abbrev dktX1_power_0 : List UInt8 := dkwX1_power_0 ++ []
theorem dksX1_power_0 : cX1_power.data.toList.drop 0 = dktX1_power_0 := by decide +kernel
theorem dX1_power_0 : decode cX1_power 0 = .ok (.lconst 1, 1) := dk_10 (dk_at dksX1_power_0 0 rfl rfl)
theorem dX1_power_1 : decode cX1_power 1 = .ok (.lstore_n 1, 1) := dk_64 (dk_at dksX1_power_0 1 rfl rfl)
theorem dX1_power_2 : decode cX1_power 2 = .ok (.iconst 0, 1) := dk_3 (dk_at dksX1_power_0 2 rfl rfl)
theorem dX1_power_3 : decode cX1_power 3 = .ok (.istore_n 3, 1) := dk_62 (dk_at dksX1_power_0 3 rfl rfl)
theorem dX1_power_4 : decode cX1_power 4 = .ok (.iload_n 3, 1) := dk_29 (dk_at dksX1_power_0 4 rfl rfl)
theorem dX1_power_5 : decode cX1_power 5 = .ok (.iload_n 0, 1) := dk_26 (dk_at dksX1_power_0 5 rfl rfl)
theorem dX1_power_6 : decode cX1_power 6 = .ok (.if_icmp .ge 15, 3) := dk_162 0 15 (dk_at dksX1_power_0 6 rfl rfl)
theorem dX1_power_9 : decode cX1_power 9 = .ok (.lload_n 1, 1) := dk_31 (dk_at dksX1_power_0 9 rfl rfl)
theorem dX1_power_10 : decode cX1_power 10 = .ok (.ldc2_w 3, 3) := dk_20 0 3 (dk_at dksX1_power_0 10 rfl rfl)
theorem dX1_power_13 : decode cX1_power 13 = .ok (.lmul, 1) := dk_105 (dk_at dksX1_power_0 13 rfl rfl)
theorem dX1_power_14 : decode cX1_power 14 = .ok (.lstore_n 1, 1) := dk_64 (dk_at dksX1_power_0 14 rfl rfl)
theorem dX1_power_15 : decode cX1_power 15 = .ok (.iinc 3 1, 3) := dk_132 3 1 (dk_at dksX1_power_0 15 rfl rfl)
theorem dX1_power_18 : decode cX1_power 18 = .ok (.goto (-14), 3) := dk_167 255 242 (dk_at dksX1_power_0 18 rfl rfl)
theorem dX1_power_21 : decode cX1_power 21 = .ok (.lload_n 1, 1) := dk_31 (dk_at dksX1_power_0 21 rfl rfl)
theorem dX1_power_22 : decode cX1_power 22 = .ok (.lreturn, 1) := dk_173 (dk_at dksX1_power_0 22 rfl rfl)
abbrev cX1_lambda_answered_1 : ByteArray := prog_1_method_73_code
def yX1_lambda_answered_1 : MethodName := ⟨RX1, "lambda$answered$1", "(IJLBalloonMail$Region;)J"⟩
def dkwX1_lambda_answered_1_1 : List UInt8 := [55, 4, 132, 6, 1, 167, 255, 234, 31, 22, 4, 101, 173]
abbrev dktX1_lambda_answered_1_1 : List UInt8 := dkwX1_lambda_answered_1_1 ++ []
def dkwX1_lambda_answered_1_0 : List UInt8 := [10, 55, 4, 3, 54, 6, 21, 6, 26, 162, 0, 22, 22, 4, 16, 10, 45, 180, 1, 80, 100, 133, 105]
abbrev dktX1_lambda_answered_1_0 : List UInt8 := dkwX1_lambda_answered_1_0 ++ dktX1_lambda_answered_1_1
theorem dksX1_lambda_answered_1_0 : cX1_lambda_answered_1.data.toList.drop 0 = dktX1_lambda_answered_1_0 := by decide +kernel
theorem dksX1_lambda_answered_1_1 : cX1_lambda_answered_1.data.toList.drop 23 = dktX1_lambda_answered_1_1 := dk_seg dksX1_lambda_answered_1_0 23 rfl rfl
theorem dX1_lambda_answered_1_0 : decode cX1_lambda_answered_1 0 = .ok (.lconst 1, 1) := dk_10 (dk_at dksX1_lambda_answered_1_0 0 rfl rfl)
theorem dX1_lambda_answered_1_1 : decode cX1_lambda_answered_1 1 = .ok (.lstore 4, 2) := dk_55 4 (dk_at dksX1_lambda_answered_1_0 1 rfl rfl)
theorem dX1_lambda_answered_1_3 : decode cX1_lambda_answered_1 3 = .ok (.iconst 0, 1) := dk_3 (dk_at dksX1_lambda_answered_1_0 3 rfl rfl)
theorem dX1_lambda_answered_1_4 : decode cX1_lambda_answered_1 4 = .ok (.istore 6, 2) := dk_54 6 (dk_at dksX1_lambda_answered_1_0 4 rfl rfl)
theorem dX1_lambda_answered_1_6 : decode cX1_lambda_answered_1 6 = .ok (.iload 6, 2) := dk_21 6 (dk_at dksX1_lambda_answered_1_0 6 rfl rfl)
theorem dX1_lambda_answered_1_8 : decode cX1_lambda_answered_1 8 = .ok (.iload_n 0, 1) := dk_26 (dk_at dksX1_lambda_answered_1_0 8 rfl rfl)
theorem dX1_lambda_answered_1_9 : decode cX1_lambda_answered_1 9 = .ok (.if_icmp .ge 22, 3) := dk_162 0 22 (dk_at dksX1_lambda_answered_1_0 9 rfl rfl)
theorem dX1_lambda_answered_1_12 : decode cX1_lambda_answered_1 12 = .ok (.lload 4, 2) := dk_22 4 (dk_at dksX1_lambda_answered_1_0 12 rfl rfl)
theorem dX1_lambda_answered_1_14 : decode cX1_lambda_answered_1 14 = .ok (.bipush 10, 2) := dk_16 10 (dk_at dksX1_lambda_answered_1_0 14 rfl rfl)
theorem dX1_lambda_answered_1_16 : decode cX1_lambda_answered_1 16 = .ok (.aload_n 3, 1) := dk_45 (dk_at dksX1_lambda_answered_1_0 16 rfl rfl)
theorem dX1_lambda_answered_1_17 : decode cX1_lambda_answered_1 17 = .ok (.getfield 336, 3) := dk_180 1 80 (dk_at dksX1_lambda_answered_1_0 17 rfl rfl)
theorem dX1_lambda_answered_1_20 : decode cX1_lambda_answered_1 20 = .ok (.isub, 1) := dk_100 (dk_at dksX1_lambda_answered_1_0 20 rfl rfl)
theorem dX1_lambda_answered_1_21 : decode cX1_lambda_answered_1 21 = .ok (.i2l, 1) := dk_133 (dk_at dksX1_lambda_answered_1_0 21 rfl rfl)
theorem dX1_lambda_answered_1_22 : decode cX1_lambda_answered_1 22 = .ok (.lmul, 1) := dk_105 (dk_at dksX1_lambda_answered_1_0 22 rfl rfl)
theorem dX1_lambda_answered_1_23 : decode cX1_lambda_answered_1 23 = .ok (.lstore 4, 2) := dk_55 4 (dk_at dksX1_lambda_answered_1_1 0 rfl rfl)
theorem dX1_lambda_answered_1_25 : decode cX1_lambda_answered_1 25 = .ok (.iinc 6 1, 3) := dk_132 6 1 (dk_at dksX1_lambda_answered_1_1 2 rfl rfl)
theorem dX1_lambda_answered_1_28 : decode cX1_lambda_answered_1 28 = .ok (.goto (-22), 3) := dk_167 255 234 (dk_at dksX1_lambda_answered_1_1 5 rfl rfl)
theorem dX1_lambda_answered_1_31 : decode cX1_lambda_answered_1 31 = .ok (.lload_n 1, 1) := dk_31 (dk_at dksX1_lambda_answered_1_1 8 rfl rfl)
theorem dX1_lambda_answered_1_32 : decode cX1_lambda_answered_1 32 = .ok (.lload 4, 2) := dk_22 4 (dk_at dksX1_lambda_answered_1_1 9 rfl rfl)
theorem dX1_lambda_answered_1_34 : decode cX1_lambda_answered_1 34 = .ok (.lsub, 1) := dk_101 (dk_at dksX1_lambda_answered_1_1 11 rfl rfl)
theorem dX1_lambda_answered_1_35 : decode cX1_lambda_answered_1 35 = .ok (.lreturn, 1) := dk_173 (dk_at dksX1_lambda_answered_1_1 12 rfl rfl)
abbrev cX1_answerPermille : ByteArray := prog_1_method_30_code
def yX1_answerPermille : MethodName := ⟨RX1, "answerPermille", "(II)I"⟩
def dkwX1_answerPermille_1 : List UInt8 := [184, 0, 209, 109, 136, 167, 0, 4, 2, 172]
abbrev dktX1_answerPermille_1 : List UInt8 := dkwX1_answerPermille_1 ++ []
def dkwX1_answerPermille_0 : List UInt8 := [42, 27, 28, 182, 0, 218, 153, 0, 26, 42, 27, 28, 182, 0, 222, 20, 0, 226, 105, 28, 5, 96, 27, 96]
abbrev dktX1_answerPermille_0 : List UInt8 := dkwX1_answerPermille_0 ++ dktX1_answerPermille_1
theorem dksX1_answerPermille_0 : cX1_answerPermille.data.toList.drop 0 = dktX1_answerPermille_0 := by decide +kernel
theorem dksX1_answerPermille_1 : cX1_answerPermille.data.toList.drop 24 = dktX1_answerPermille_1 := dk_seg dksX1_answerPermille_0 24 rfl rfl
theorem dX1_answerPermille_0 : decode cX1_answerPermille 0 = .ok (.aload_n 0, 1) := dk_42 (dk_at dksX1_answerPermille_0 0 rfl rfl)
theorem dX1_answerPermille_1 : decode cX1_answerPermille 1 = .ok (.iload_n 1, 1) := dk_27 (dk_at dksX1_answerPermille_0 1 rfl rfl)
theorem dX1_answerPermille_2 : decode cX1_answerPermille 2 = .ok (.iload_n 2, 1) := dk_28 (dk_at dksX1_answerPermille_0 2 rfl rfl)
theorem dX1_answerPermille_3 : decode cX1_answerPermille 3 = .ok (.invokevirtual 218, 3) := dk_182 0 218 (dk_at dksX1_answerPermille_0 3 rfl rfl)
theorem dX1_answerPermille_6 : decode cX1_answerPermille 6 = .ok (.ifCond .eq 26, 3) := dk_153 0 26 (dk_at dksX1_answerPermille_0 6 rfl rfl)
theorem dX1_answerPermille_9 : decode cX1_answerPermille 9 = .ok (.aload_n 0, 1) := dk_42 (dk_at dksX1_answerPermille_0 9 rfl rfl)
theorem dX1_answerPermille_10 : decode cX1_answerPermille 10 = .ok (.iload_n 1, 1) := dk_27 (dk_at dksX1_answerPermille_0 10 rfl rfl)
theorem dX1_answerPermille_11 : decode cX1_answerPermille 11 = .ok (.iload_n 2, 1) := dk_28 (dk_at dksX1_answerPermille_0 11 rfl rfl)
theorem dX1_answerPermille_12 : decode cX1_answerPermille 12 = .ok (.invokevirtual 222, 3) := dk_182 0 222 (dk_at dksX1_answerPermille_0 12 rfl rfl)
theorem dX1_answerPermille_15 : decode cX1_answerPermille 15 = .ok (.ldc2_w 226, 3) := dk_20 0 226 (dk_at dksX1_answerPermille_0 15 rfl rfl)
theorem dX1_answerPermille_18 : decode cX1_answerPermille 18 = .ok (.lmul, 1) := dk_105 (dk_at dksX1_answerPermille_0 18 rfl rfl)
theorem dX1_answerPermille_19 : decode cX1_answerPermille 19 = .ok (.iload_n 2, 1) := dk_28 (dk_at dksX1_answerPermille_0 19 rfl rfl)
theorem dX1_answerPermille_20 : decode cX1_answerPermille 20 = .ok (.iconst 2, 1) := dk_5 (dk_at dksX1_answerPermille_0 20 rfl rfl)
theorem dX1_answerPermille_21 : decode cX1_answerPermille 21 = .ok (.iadd, 1) := dk_96 (dk_at dksX1_answerPermille_0 21 rfl rfl)
theorem dX1_answerPermille_22 : decode cX1_answerPermille 22 = .ok (.iload_n 1, 1) := dk_27 (dk_at dksX1_answerPermille_0 22 rfl rfl)
theorem dX1_answerPermille_23 : decode cX1_answerPermille 23 = .ok (.iadd, 1) := dk_96 (dk_at dksX1_answerPermille_0 23 rfl rfl)
theorem dX1_answerPermille_24 : decode cX1_answerPermille 24 = .ok (.invokestatic 209, 3) := dk_184 0 209 (dk_at dksX1_answerPermille_1 0 rfl rfl)
theorem dX1_answerPermille_27 : decode cX1_answerPermille 27 = .ok (.ldiv, 1) := dk_109 (dk_at dksX1_answerPermille_1 3 rfl rfl)
theorem dX1_answerPermille_28 : decode cX1_answerPermille 28 = .ok (.l2i, 1) := dk_136 (dk_at dksX1_answerPermille_1 4 rfl rfl)
theorem dX1_answerPermille_29 : decode cX1_answerPermille 29 = .ok (.goto 4, 3) := dk_167 0 4 (dk_at dksX1_answerPermille_1 5 rfl rfl)
theorem dX1_answerPermille_32 : decode cX1_answerPermille 32 = .ok (.iconst (-1), 1) := dk_2 (dk_at dksX1_answerPermille_1 8 rfl rfl)
theorem dX1_answerPermille_33 : decode cX1_answerPermille 33 = .ok (.ireturn, 1) := dk_172 (dk_at dksX1_answerPermille_1 9 rfl rfl)
abbrev cX1_bestDay : ByteArray := prog_1_method_32_code
def yX1_bestDay : MethodName := ⟨RX1, "bestDay", "(I)I"⟩
def dkwX1_bestDay_2 : List UInt8 := [167, 0, 9, 21, 5, 61, 22, 6, 66, 132, 5, 1, 167, 255, 221, 28, 172]
abbrev dktX1_bestDay_2 : List UInt8 := dkwX1_bestDay_2 ++ []
def dkwX1_bestDay_1 : List UInt8 := [21, 5, 16, 8, 163, 0, 34, 42, 27, 21, 5, 182, 0, 228, 55, 6, 22, 6, 33, 148, 157, 0, 6]
abbrev dktX1_bestDay_1 : List UInt8 := dkwX1_bestDay_1 ++ dktX1_bestDay_2
def dkwX1_bestDay_0 : List UInt8 := [42, 27, 3, 182, 0, 218, 154, 0, 5, 2, 172, 3, 61, 42, 27, 3, 182, 0, 228, 66, 4, 54, 5]
abbrev dktX1_bestDay_0 : List UInt8 := dkwX1_bestDay_0 ++ dktX1_bestDay_1
theorem dksX1_bestDay_0 : cX1_bestDay.data.toList.drop 0 = dktX1_bestDay_0 := by decide +kernel
theorem dksX1_bestDay_1 : cX1_bestDay.data.toList.drop 23 = dktX1_bestDay_1 := dk_seg dksX1_bestDay_0 23 rfl rfl
theorem dksX1_bestDay_2 : cX1_bestDay.data.toList.drop 46 = dktX1_bestDay_2 := dk_seg dksX1_bestDay_1 23 rfl rfl
theorem dX1_bestDay_0 : decode cX1_bestDay 0 = .ok (.aload_n 0, 1) := dk_42 (dk_at dksX1_bestDay_0 0 rfl rfl)
theorem dX1_bestDay_1 : decode cX1_bestDay 1 = .ok (.iload_n 1, 1) := dk_27 (dk_at dksX1_bestDay_0 1 rfl rfl)
theorem dX1_bestDay_2 : decode cX1_bestDay 2 = .ok (.iconst 0, 1) := dk_3 (dk_at dksX1_bestDay_0 2 rfl rfl)
theorem dX1_bestDay_3 : decode cX1_bestDay 3 = .ok (.invokevirtual 218, 3) := dk_182 0 218 (dk_at dksX1_bestDay_0 3 rfl rfl)
theorem dX1_bestDay_6 : decode cX1_bestDay 6 = .ok (.ifCond .ne 5, 3) := dk_154 0 5 (dk_at dksX1_bestDay_0 6 rfl rfl)
theorem dX1_bestDay_9 : decode cX1_bestDay 9 = .ok (.iconst (-1), 1) := dk_2 (dk_at dksX1_bestDay_0 9 rfl rfl)
theorem dX1_bestDay_10 : decode cX1_bestDay 10 = .ok (.ireturn, 1) := dk_172 (dk_at dksX1_bestDay_0 10 rfl rfl)
theorem dX1_bestDay_11 : decode cX1_bestDay 11 = .ok (.iconst 0, 1) := dk_3 (dk_at dksX1_bestDay_0 11 rfl rfl)
theorem dX1_bestDay_12 : decode cX1_bestDay 12 = .ok (.istore_n 2, 1) := dk_61 (dk_at dksX1_bestDay_0 12 rfl rfl)
theorem dX1_bestDay_13 : decode cX1_bestDay 13 = .ok (.aload_n 0, 1) := dk_42 (dk_at dksX1_bestDay_0 13 rfl rfl)
theorem dX1_bestDay_14 : decode cX1_bestDay 14 = .ok (.iload_n 1, 1) := dk_27 (dk_at dksX1_bestDay_0 14 rfl rfl)
theorem dX1_bestDay_15 : decode cX1_bestDay 15 = .ok (.iconst 0, 1) := dk_3 (dk_at dksX1_bestDay_0 15 rfl rfl)
theorem dX1_bestDay_16 : decode cX1_bestDay 16 = .ok (.invokevirtual 228, 3) := dk_182 0 228 (dk_at dksX1_bestDay_0 16 rfl rfl)
theorem dX1_bestDay_19 : decode cX1_bestDay 19 = .ok (.lstore_n 3, 1) := dk_66 (dk_at dksX1_bestDay_0 19 rfl rfl)
theorem dX1_bestDay_20 : decode cX1_bestDay 20 = .ok (.iconst 1, 1) := dk_4 (dk_at dksX1_bestDay_0 20 rfl rfl)
theorem dX1_bestDay_21 : decode cX1_bestDay 21 = .ok (.istore 5, 2) := dk_54 5 (dk_at dksX1_bestDay_0 21 rfl rfl)
theorem dX1_bestDay_23 : decode cX1_bestDay 23 = .ok (.iload 5, 2) := dk_21 5 (dk_at dksX1_bestDay_1 0 rfl rfl)
theorem dX1_bestDay_25 : decode cX1_bestDay 25 = .ok (.bipush 8, 2) := dk_16 8 (dk_at dksX1_bestDay_1 2 rfl rfl)
theorem dX1_bestDay_27 : decode cX1_bestDay 27 = .ok (.if_icmp .gt 34, 3) := dk_163 0 34 (dk_at dksX1_bestDay_1 4 rfl rfl)
theorem dX1_bestDay_30 : decode cX1_bestDay 30 = .ok (.aload_n 0, 1) := dk_42 (dk_at dksX1_bestDay_1 7 rfl rfl)
theorem dX1_bestDay_31 : decode cX1_bestDay 31 = .ok (.iload_n 1, 1) := dk_27 (dk_at dksX1_bestDay_1 8 rfl rfl)
theorem dX1_bestDay_32 : decode cX1_bestDay 32 = .ok (.iload 5, 2) := dk_21 5 (dk_at dksX1_bestDay_1 9 rfl rfl)
theorem dX1_bestDay_34 : decode cX1_bestDay 34 = .ok (.invokevirtual 228, 3) := dk_182 0 228 (dk_at dksX1_bestDay_1 11 rfl rfl)
theorem dX1_bestDay_37 : decode cX1_bestDay 37 = .ok (.lstore 6, 2) := dk_55 6 (dk_at dksX1_bestDay_1 14 rfl rfl)
theorem dX1_bestDay_39 : decode cX1_bestDay 39 = .ok (.lload 6, 2) := dk_22 6 (dk_at dksX1_bestDay_1 16 rfl rfl)
theorem dX1_bestDay_41 : decode cX1_bestDay 41 = .ok (.lload_n 3, 1) := dk_33 (dk_at dksX1_bestDay_1 18 rfl rfl)
theorem dX1_bestDay_42 : decode cX1_bestDay 42 = .ok (.lcmp, 1) := dk_148 (dk_at dksX1_bestDay_1 19 rfl rfl)
theorem dX1_bestDay_43 : decode cX1_bestDay 43 = .ok (.ifCond .gt 6, 3) := dk_157 0 6 (dk_at dksX1_bestDay_1 20 rfl rfl)
theorem dX1_bestDay_46 : decode cX1_bestDay 46 = .ok (.goto 9, 3) := dk_167 0 9 (dk_at dksX1_bestDay_2 0 rfl rfl)
theorem dX1_bestDay_49 : decode cX1_bestDay 49 = .ok (.iload 5, 2) := dk_21 5 (dk_at dksX1_bestDay_2 3 rfl rfl)
theorem dX1_bestDay_51 : decode cX1_bestDay 51 = .ok (.istore_n 2, 1) := dk_61 (dk_at dksX1_bestDay_2 5 rfl rfl)
theorem dX1_bestDay_52 : decode cX1_bestDay 52 = .ok (.lload 6, 2) := dk_22 6 (dk_at dksX1_bestDay_2 6 rfl rfl)
theorem dX1_bestDay_54 : decode cX1_bestDay 54 = .ok (.lstore_n 3, 1) := dk_66 (dk_at dksX1_bestDay_2 8 rfl rfl)
theorem dX1_bestDay_55 : decode cX1_bestDay 55 = .ok (.iinc 5 1, 3) := dk_132 5 1 (dk_at dksX1_bestDay_2 9 rfl rfl)
theorem dX1_bestDay_58 : decode cX1_bestDay 58 = .ok (.goto (-35), 3) := dk_167 255 221 (dk_at dksX1_bestDay_2 12 rfl rfl)
theorem dX1_bestDay_61 : decode cX1_bestDay 61 = .ok (.iload_n 2, 1) := dk_28 (dk_at dksX1_bestDay_2 15 rfl rfl)
theorem dX1_bestDay_62 : decode cX1_bestDay 62 = .ok (.ireturn, 1) := dk_172 (dk_at dksX1_bestDay_2 16 rfl rfl)
abbrev cX1_scaled : ByteArray := prog_1_method_31_code
def yX1_scaled : MethodName := ⟨RX1, "scaled", "(II)J"⟩
def dkwX1_scaled_0 : List UInt8 := [42, 27, 28, 182, 0, 222, 16, 8, 28, 100, 7, 96, 27, 100, 184, 0, 209, 105, 173]
abbrev dktX1_scaled_0 : List UInt8 := dkwX1_scaled_0 ++ []
theorem dksX1_scaled_0 : cX1_scaled.data.toList.drop 0 = dktX1_scaled_0 := by decide +kernel
theorem dX1_scaled_0 : decode cX1_scaled 0 = .ok (.aload_n 0, 1) := dk_42 (dk_at dksX1_scaled_0 0 rfl rfl)
theorem dX1_scaled_1 : decode cX1_scaled 1 = .ok (.iload_n 1, 1) := dk_27 (dk_at dksX1_scaled_0 1 rfl rfl)
theorem dX1_scaled_2 : decode cX1_scaled 2 = .ok (.iload_n 2, 1) := dk_28 (dk_at dksX1_scaled_0 2 rfl rfl)
theorem dX1_scaled_3 : decode cX1_scaled 3 = .ok (.invokevirtual 222, 3) := dk_182 0 222 (dk_at dksX1_scaled_0 3 rfl rfl)
theorem dX1_scaled_6 : decode cX1_scaled 6 = .ok (.bipush 8, 2) := dk_16 8 (dk_at dksX1_scaled_0 6 rfl rfl)
theorem dX1_scaled_8 : decode cX1_scaled 8 = .ok (.iload_n 2, 1) := dk_28 (dk_at dksX1_scaled_0 8 rfl rfl)
theorem dX1_scaled_9 : decode cX1_scaled 9 = .ok (.isub, 1) := dk_100 (dk_at dksX1_scaled_0 9 rfl rfl)
theorem dX1_scaled_10 : decode cX1_scaled 10 = .ok (.iconst 4, 1) := dk_7 (dk_at dksX1_scaled_0 10 rfl rfl)
theorem dX1_scaled_11 : decode cX1_scaled 11 = .ok (.iadd, 1) := dk_96 (dk_at dksX1_scaled_0 11 rfl rfl)
theorem dX1_scaled_12 : decode cX1_scaled 12 = .ok (.iload_n 1, 1) := dk_27 (dk_at dksX1_scaled_0 12 rfl rfl)
theorem dX1_scaled_13 : decode cX1_scaled 13 = .ok (.isub, 1) := dk_100 (dk_at dksX1_scaled_0 13 rfl rfl)
theorem dX1_scaled_14 : decode cX1_scaled 14 = .ok (.invokestatic 209, 3) := dk_184 0 209 (dk_at dksX1_scaled_0 14 rfl rfl)
theorem dX1_scaled_17 : decode cX1_scaled 17 = .ok (.lmul, 1) := dk_105 (dk_at dksX1_scaled_0 17 rfl rfl)
theorem dX1_scaled_18 : decode cX1_scaled 18 = .ok (.lreturn, 1) := dk_173 (dk_at dksX1_scaled_0 18 rfl rfl)
abbrev cX1_assignmentTotal : ByteArray := prog_1_method_35_code
def yX1_assignmentTotal : MethodName := ⟨RX1, "assignmentTotal", "()J"⟩
def dkwX1_assignmentTotal_0 : List UInt8 := [42, 182, 0, 113, 154, 0, 7, 20, 0, 177, 173, 42, 182, 0, 247, 42, 180, 0, 58, 3, 47, 173]
abbrev dktX1_assignmentTotal_0 : List UInt8 := dkwX1_assignmentTotal_0 ++ []
theorem dksX1_assignmentTotal_0 : cX1_assignmentTotal.data.toList.drop 0 = dktX1_assignmentTotal_0 := by decide +kernel
theorem dX1_assignmentTotal_0 : decode cX1_assignmentTotal 0 = .ok (.aload_n 0, 1) := dk_42 (dk_at dksX1_assignmentTotal_0 0 rfl rfl)
theorem dX1_assignmentTotal_1 : decode cX1_assignmentTotal 1 = .ok (.invokevirtual 113, 3) := dk_182 0 113 (dk_at dksX1_assignmentTotal_0 1 rfl rfl)
theorem dX1_assignmentTotal_4 : decode cX1_assignmentTotal 4 = .ok (.ifCond .ne 7, 3) := dk_154 0 7 (dk_at dksX1_assignmentTotal_0 4 rfl rfl)
theorem dX1_assignmentTotal_7 : decode cX1_assignmentTotal 7 = .ok (.ldc2_w 177, 3) := dk_20 0 177 (dk_at dksX1_assignmentTotal_0 7 rfl rfl)
theorem dX1_assignmentTotal_10 : decode cX1_assignmentTotal 10 = .ok (.lreturn, 1) := dk_173 (dk_at dksX1_assignmentTotal_0 10 rfl rfl)
theorem dX1_assignmentTotal_11 : decode cX1_assignmentTotal 11 = .ok (.aload_n 0, 1) := dk_42 (dk_at dksX1_assignmentTotal_0 11 rfl rfl)
theorem dX1_assignmentTotal_12 : decode cX1_assignmentTotal 12 = .ok (.invokevirtual 247, 3) := dk_182 0 247 (dk_at dksX1_assignmentTotal_0 12 rfl rfl)
theorem dX1_assignmentTotal_15 : decode cX1_assignmentTotal 15 = .ok (.aload_n 0, 1) := dk_42 (dk_at dksX1_assignmentTotal_0 15 rfl rfl)
theorem dX1_assignmentTotal_16 : decode cX1_assignmentTotal 16 = .ok (.getfield 58, 3) := dk_180 0 58 (dk_at dksX1_assignmentTotal_0 16 rfl rfl)
theorem dX1_assignmentTotal_19 : decode cX1_assignmentTotal 19 = .ok (.iconst 0, 1) := dk_3 (dk_at dksX1_assignmentTotal_0 19 rfl rfl)
theorem dX1_assignmentTotal_20 : decode cX1_assignmentTotal 20 = .ok (.laload, 1) := dk_47 (dk_at dksX1_assignmentTotal_0 20 rfl rfl)
theorem dX1_assignmentTotal_21 : decode cX1_assignmentTotal 21 = .ok (.lreturn, 1) := dk_173 (dk_at dksX1_assignmentTotal_0 21 rfl rfl)
abbrev cX1_layTotals : ByteArray := prog_1_method_33_code
def yX1_layTotals : MethodName := ⟨RX1, "layTotals", "()V"⟩
def dkwX1_layTotals_9 : List UInt8 := [132, 3, 1, 167, 255, 170, 132, 2, 255, 167, 255, 158, 177]
abbrev dktX1_layTotals_9 : List UInt8 := dkwX1_layTotals_9 ++ []
def dkwX1_layTotals_8 : List UInt8 := [184, 0, 241, 55, 4, 132, 6, 1, 167, 255, 210, 42, 180, 0, 58, 27, 28, 104, 29, 96, 22, 4, 80]
abbrev dktX1_layTotals_8 : List UInt8 := dkwX1_layTotals_8 ++ dktX1_layTotals_9
def dkwX1_layTotals_7 : List UInt8 := [154, 0, 33, 29, 21, 6, 122, 4, 126, 154, 0, 18, 22, 4, 42, 28, 21, 6, 29, 182, 0, 237]
abbrev dktX1_layTotals_7 : List UInt8 := dkwX1_layTotals_7 ++ dktX1_layTotals_8
def dkwX1_layTotals_6 : List UInt8 := [47, 55, 4, 3, 54, 6, 21, 6, 16, 8, 163, 0, 45, 42, 180, 0, 31, 180, 0, 234, 28, 46]
abbrev dktX1_layTotals_6 : List UInt8 := dkwX1_layTotals_6 ++ dktX1_layTotals_7
def dkwX1_layTotals_5 : List UInt8 := [100, 61, 28, 155, 0, 100, 3, 62, 29, 27, 162, 0, 87, 42, 180, 0, 58, 27, 28, 4, 96, 104, 29, 96]
abbrev dktX1_layTotals_5 : List UInt8 := dkwX1_layTotals_5 ++ dktX1_layTotals_6
def dkwX1_layTotals_4 : List UInt8 := [180, 0, 58, 27, 42, 182, 0, 116, 104, 28, 96, 9, 80, 132, 2, 1, 167, 255, 234, 42, 182, 0, 116, 4]
abbrev dktX1_layTotals_4 : List UInt8 := dkwX1_layTotals_4 ++ dktX1_layTotals_5
def dkwX1_layTotals_3 : List UInt8 := [132, 2, 1, 167, 255, 195, 132, 1, 1, 167, 255, 179, 17, 2, 0, 60, 3, 61, 28, 27, 162, 0, 23, 42]
abbrev dktX1_layTotals_3 : List UInt8 := dkwX1_layTotals_3 ++ dktX1_layTotals_4
def dkwX1_layTotals_2 : List UInt8 := [180, 0, 22, 180, 0, 104, 27, 182, 0, 126, 192, 0, 130, 180, 0, 231, 28, 182, 0, 228, 105, 80]
abbrev dktX1_layTotals_2 : List UInt8 := dkwX1_layTotals_2 ++ dktX1_layTotals_3
def dkwX1_layTotals_1 : List UInt8 := [27, 104, 28, 96, 42, 180, 0, 22, 180, 0, 104, 27, 182, 0, 126, 192, 0, 130, 180, 0, 132, 133, 42, 42]
abbrev dktX1_layTotals_1 : List UInt8 := dkwX1_layTotals_1 ++ dktX1_layTotals_2
def dkwX1_layTotals_0 : List UInt8 := [3, 60, 27, 42, 182, 0, 116, 162, 0, 75, 3, 61, 28, 16, 8, 163, 0, 61, 42, 180, 0, 55, 16, 9]
abbrev dktX1_layTotals_0 : List UInt8 := dkwX1_layTotals_0 ++ dktX1_layTotals_1
theorem dksX1_layTotals_0 : cX1_layTotals.data.toList.drop 0 = dktX1_layTotals_0 := by decide +kernel
theorem dksX1_layTotals_1 : cX1_layTotals.data.toList.drop 24 = dktX1_layTotals_1 := dk_seg dksX1_layTotals_0 24 rfl rfl
theorem dksX1_layTotals_2 : cX1_layTotals.data.toList.drop 48 = dktX1_layTotals_2 := dk_seg dksX1_layTotals_1 24 rfl rfl
theorem dksX1_layTotals_3 : cX1_layTotals.data.toList.drop 70 = dktX1_layTotals_3 := dk_seg dksX1_layTotals_2 22 rfl rfl
theorem dksX1_layTotals_4 : cX1_layTotals.data.toList.drop 94 = dktX1_layTotals_4 := dk_seg dksX1_layTotals_3 24 rfl rfl
theorem dksX1_layTotals_5 : cX1_layTotals.data.toList.drop 118 = dktX1_layTotals_5 := dk_seg dksX1_layTotals_4 24 rfl rfl
theorem dksX1_layTotals_6 : cX1_layTotals.data.toList.drop 142 = dktX1_layTotals_6 := dk_seg dksX1_layTotals_5 24 rfl rfl
theorem dksX1_layTotals_7 : cX1_layTotals.data.toList.drop 164 = dktX1_layTotals_7 := dk_seg dksX1_layTotals_6 22 rfl rfl
theorem dksX1_layTotals_8 : cX1_layTotals.data.toList.drop 186 = dktX1_layTotals_8 := dk_seg dksX1_layTotals_7 22 rfl rfl
theorem dksX1_layTotals_9 : cX1_layTotals.data.toList.drop 209 = dktX1_layTotals_9 := dk_seg dksX1_layTotals_8 23 rfl rfl
theorem dX1_layTotals_0 : decode cX1_layTotals 0 = .ok (.iconst 0, 1) := dk_3 (dk_at dksX1_layTotals_0 0 rfl rfl)
theorem dX1_layTotals_1 : decode cX1_layTotals 1 = .ok (.istore_n 1, 1) := dk_60 (dk_at dksX1_layTotals_0 1 rfl rfl)
theorem dX1_layTotals_2 : decode cX1_layTotals 2 = .ok (.iload_n 1, 1) := dk_27 (dk_at dksX1_layTotals_0 2 rfl rfl)
theorem dX1_layTotals_3 : decode cX1_layTotals 3 = .ok (.aload_n 0, 1) := dk_42 (dk_at dksX1_layTotals_0 3 rfl rfl)
theorem dX1_layTotals_4 : decode cX1_layTotals 4 = .ok (.invokevirtual 116, 3) := dk_182 0 116 (dk_at dksX1_layTotals_0 4 rfl rfl)
theorem dX1_layTotals_7 : decode cX1_layTotals 7 = .ok (.if_icmp .ge 75, 3) := dk_162 0 75 (dk_at dksX1_layTotals_0 7 rfl rfl)
theorem dX1_layTotals_10 : decode cX1_layTotals 10 = .ok (.iconst 0, 1) := dk_3 (dk_at dksX1_layTotals_0 10 rfl rfl)
theorem dX1_layTotals_11 : decode cX1_layTotals 11 = .ok (.istore_n 2, 1) := dk_61 (dk_at dksX1_layTotals_0 11 rfl rfl)
theorem dX1_layTotals_12 : decode cX1_layTotals 12 = .ok (.iload_n 2, 1) := dk_28 (dk_at dksX1_layTotals_0 12 rfl rfl)
theorem dX1_layTotals_13 : decode cX1_layTotals 13 = .ok (.bipush 8, 2) := dk_16 8 (dk_at dksX1_layTotals_0 13 rfl rfl)
theorem dX1_layTotals_15 : decode cX1_layTotals 15 = .ok (.if_icmp .gt 61, 3) := dk_163 0 61 (dk_at dksX1_layTotals_0 15 rfl rfl)
theorem dX1_layTotals_18 : decode cX1_layTotals 18 = .ok (.aload_n 0, 1) := dk_42 (dk_at dksX1_layTotals_0 18 rfl rfl)
theorem dX1_layTotals_19 : decode cX1_layTotals 19 = .ok (.getfield 55, 3) := dk_180 0 55 (dk_at dksX1_layTotals_0 19 rfl rfl)
theorem dX1_layTotals_22 : decode cX1_layTotals 22 = .ok (.bipush 9, 2) := dk_16 9 (dk_at dksX1_layTotals_0 22 rfl rfl)
theorem dX1_layTotals_24 : decode cX1_layTotals 24 = .ok (.iload_n 1, 1) := dk_27 (dk_at dksX1_layTotals_1 0 rfl rfl)
theorem dX1_layTotals_25 : decode cX1_layTotals 25 = .ok (.imul, 1) := dk_104 (dk_at dksX1_layTotals_1 1 rfl rfl)
theorem dX1_layTotals_26 : decode cX1_layTotals 26 = .ok (.iload_n 2, 1) := dk_28 (dk_at dksX1_layTotals_1 2 rfl rfl)
theorem dX1_layTotals_27 : decode cX1_layTotals 27 = .ok (.iadd, 1) := dk_96 (dk_at dksX1_layTotals_1 3 rfl rfl)
theorem dX1_layTotals_28 : decode cX1_layTotals 28 = .ok (.aload_n 0, 1) := dk_42 (dk_at dksX1_layTotals_1 4 rfl rfl)
theorem dX1_layTotals_29 : decode cX1_layTotals 29 = .ok (.getfield 22, 3) := dk_180 0 22 (dk_at dksX1_layTotals_1 5 rfl rfl)
theorem dX1_layTotals_32 : decode cX1_layTotals 32 = .ok (.getfield 104, 3) := dk_180 0 104 (dk_at dksX1_layTotals_1 8 rfl rfl)
theorem dX1_layTotals_35 : decode cX1_layTotals 35 = .ok (.iload_n 1, 1) := dk_27 (dk_at dksX1_layTotals_1 11 rfl rfl)
theorem dX1_layTotals_36 : decode cX1_layTotals 36 = .ok (.invokevirtual 126, 3) := dk_182 0 126 (dk_at dksX1_layTotals_1 12 rfl rfl)
theorem dX1_layTotals_39 : decode cX1_layTotals 39 = .ok (.checkcast 130, 3) := dk_192 0 130 (dk_at dksX1_layTotals_1 15 rfl rfl)
theorem dX1_layTotals_42 : decode cX1_layTotals 42 = .ok (.getfield 132, 3) := dk_180 0 132 (dk_at dksX1_layTotals_1 18 rfl rfl)
theorem dX1_layTotals_45 : decode cX1_layTotals 45 = .ok (.i2l, 1) := dk_133 (dk_at dksX1_layTotals_1 21 rfl rfl)
theorem dX1_layTotals_46 : decode cX1_layTotals 46 = .ok (.aload_n 0, 1) := dk_42 (dk_at dksX1_layTotals_1 22 rfl rfl)
theorem dX1_layTotals_47 : decode cX1_layTotals 47 = .ok (.aload_n 0, 1) := dk_42 (dk_at dksX1_layTotals_1 23 rfl rfl)
theorem dX1_layTotals_48 : decode cX1_layTotals 48 = .ok (.getfield 22, 3) := dk_180 0 22 (dk_at dksX1_layTotals_2 0 rfl rfl)
theorem dX1_layTotals_51 : decode cX1_layTotals 51 = .ok (.getfield 104, 3) := dk_180 0 104 (dk_at dksX1_layTotals_2 3 rfl rfl)
theorem dX1_layTotals_54 : decode cX1_layTotals 54 = .ok (.iload_n 1, 1) := dk_27 (dk_at dksX1_layTotals_2 6 rfl rfl)
theorem dX1_layTotals_55 : decode cX1_layTotals 55 = .ok (.invokevirtual 126, 3) := dk_182 0 126 (dk_at dksX1_layTotals_2 7 rfl rfl)
theorem dX1_layTotals_58 : decode cX1_layTotals 58 = .ok (.checkcast 130, 3) := dk_192 0 130 (dk_at dksX1_layTotals_2 10 rfl rfl)
theorem dX1_layTotals_61 : decode cX1_layTotals 61 = .ok (.getfield 231, 3) := dk_180 0 231 (dk_at dksX1_layTotals_2 13 rfl rfl)
theorem dX1_layTotals_64 : decode cX1_layTotals 64 = .ok (.iload_n 2, 1) := dk_28 (dk_at dksX1_layTotals_2 16 rfl rfl)
theorem dX1_layTotals_65 : decode cX1_layTotals 65 = .ok (.invokevirtual 228, 3) := dk_182 0 228 (dk_at dksX1_layTotals_2 17 rfl rfl)
theorem dX1_layTotals_68 : decode cX1_layTotals 68 = .ok (.lmul, 1) := dk_105 (dk_at dksX1_layTotals_2 20 rfl rfl)
theorem dX1_layTotals_69 : decode cX1_layTotals 69 = .ok (.lastore, 1) := dk_80 (dk_at dksX1_layTotals_2 21 rfl rfl)
theorem dX1_layTotals_70 : decode cX1_layTotals 70 = .ok (.iinc 2 1, 3) := dk_132 2 1 (dk_at dksX1_layTotals_3 0 rfl rfl)
theorem dX1_layTotals_73 : decode cX1_layTotals 73 = .ok (.goto (-61), 3) := dk_167 255 195 (dk_at dksX1_layTotals_3 3 rfl rfl)
theorem dX1_layTotals_76 : decode cX1_layTotals 76 = .ok (.iinc 1 1, 3) := dk_132 1 1 (dk_at dksX1_layTotals_3 6 rfl rfl)
theorem dX1_layTotals_79 : decode cX1_layTotals 79 = .ok (.goto (-77), 3) := dk_167 255 179 (dk_at dksX1_layTotals_3 9 rfl rfl)
theorem dX1_layTotals_82 : decode cX1_layTotals 82 = .ok (.sipush 512, 3) := dk_17 2 0 (dk_at dksX1_layTotals_3 12 rfl rfl)
theorem dX1_layTotals_85 : decode cX1_layTotals 85 = .ok (.istore_n 1, 1) := dk_60 (dk_at dksX1_layTotals_3 15 rfl rfl)
theorem dX1_layTotals_86 : decode cX1_layTotals 86 = .ok (.iconst 0, 1) := dk_3 (dk_at dksX1_layTotals_3 16 rfl rfl)
theorem dX1_layTotals_87 : decode cX1_layTotals 87 = .ok (.istore_n 2, 1) := dk_61 (dk_at dksX1_layTotals_3 17 rfl rfl)
theorem dX1_layTotals_88 : decode cX1_layTotals 88 = .ok (.iload_n 2, 1) := dk_28 (dk_at dksX1_layTotals_3 18 rfl rfl)
theorem dX1_layTotals_89 : decode cX1_layTotals 89 = .ok (.iload_n 1, 1) := dk_27 (dk_at dksX1_layTotals_3 19 rfl rfl)
theorem dX1_layTotals_90 : decode cX1_layTotals 90 = .ok (.if_icmp .ge 23, 3) := dk_162 0 23 (dk_at dksX1_layTotals_3 20 rfl rfl)
theorem dX1_layTotals_93 : decode cX1_layTotals 93 = .ok (.aload_n 0, 1) := dk_42 (dk_at dksX1_layTotals_3 23 rfl rfl)
theorem dX1_layTotals_94 : decode cX1_layTotals 94 = .ok (.getfield 58, 3) := dk_180 0 58 (dk_at dksX1_layTotals_4 0 rfl rfl)
theorem dX1_layTotals_97 : decode cX1_layTotals 97 = .ok (.iload_n 1, 1) := dk_27 (dk_at dksX1_layTotals_4 3 rfl rfl)
theorem dX1_layTotals_98 : decode cX1_layTotals 98 = .ok (.aload_n 0, 1) := dk_42 (dk_at dksX1_layTotals_4 4 rfl rfl)
theorem dX1_layTotals_99 : decode cX1_layTotals 99 = .ok (.invokevirtual 116, 3) := dk_182 0 116 (dk_at dksX1_layTotals_4 5 rfl rfl)
theorem dX1_layTotals_102 : decode cX1_layTotals 102 = .ok (.imul, 1) := dk_104 (dk_at dksX1_layTotals_4 8 rfl rfl)
theorem dX1_layTotals_103 : decode cX1_layTotals 103 = .ok (.iload_n 2, 1) := dk_28 (dk_at dksX1_layTotals_4 9 rfl rfl)
theorem dX1_layTotals_104 : decode cX1_layTotals 104 = .ok (.iadd, 1) := dk_96 (dk_at dksX1_layTotals_4 10 rfl rfl)
theorem dX1_layTotals_105 : decode cX1_layTotals 105 = .ok (.lconst 0, 1) := dk_9 (dk_at dksX1_layTotals_4 11 rfl rfl)
theorem dX1_layTotals_106 : decode cX1_layTotals 106 = .ok (.lastore, 1) := dk_80 (dk_at dksX1_layTotals_4 12 rfl rfl)
theorem dX1_layTotals_107 : decode cX1_layTotals 107 = .ok (.iinc 2 1, 3) := dk_132 2 1 (dk_at dksX1_layTotals_4 13 rfl rfl)
theorem dX1_layTotals_110 : decode cX1_layTotals 110 = .ok (.goto (-22), 3) := dk_167 255 234 (dk_at dksX1_layTotals_4 16 rfl rfl)
theorem dX1_layTotals_113 : decode cX1_layTotals 113 = .ok (.aload_n 0, 1) := dk_42 (dk_at dksX1_layTotals_4 19 rfl rfl)
theorem dX1_layTotals_114 : decode cX1_layTotals 114 = .ok (.invokevirtual 116, 3) := dk_182 0 116 (dk_at dksX1_layTotals_4 20 rfl rfl)
theorem dX1_layTotals_117 : decode cX1_layTotals 117 = .ok (.iconst 1, 1) := dk_4 (dk_at dksX1_layTotals_4 23 rfl rfl)
theorem dX1_layTotals_118 : decode cX1_layTotals 118 = .ok (.isub, 1) := dk_100 (dk_at dksX1_layTotals_5 0 rfl rfl)
theorem dX1_layTotals_119 : decode cX1_layTotals 119 = .ok (.istore_n 2, 1) := dk_61 (dk_at dksX1_layTotals_5 1 rfl rfl)
theorem dX1_layTotals_120 : decode cX1_layTotals 120 = .ok (.iload_n 2, 1) := dk_28 (dk_at dksX1_layTotals_5 2 rfl rfl)
theorem dX1_layTotals_121 : decode cX1_layTotals 121 = .ok (.ifCond .lt 100, 3) := dk_155 0 100 (dk_at dksX1_layTotals_5 3 rfl rfl)
theorem dX1_layTotals_124 : decode cX1_layTotals 124 = .ok (.iconst 0, 1) := dk_3 (dk_at dksX1_layTotals_5 6 rfl rfl)
theorem dX1_layTotals_125 : decode cX1_layTotals 125 = .ok (.istore_n 3, 1) := dk_62 (dk_at dksX1_layTotals_5 7 rfl rfl)
theorem dX1_layTotals_126 : decode cX1_layTotals 126 = .ok (.iload_n 3, 1) := dk_29 (dk_at dksX1_layTotals_5 8 rfl rfl)
theorem dX1_layTotals_127 : decode cX1_layTotals 127 = .ok (.iload_n 1, 1) := dk_27 (dk_at dksX1_layTotals_5 9 rfl rfl)
theorem dX1_layTotals_128 : decode cX1_layTotals 128 = .ok (.if_icmp .ge 87, 3) := dk_162 0 87 (dk_at dksX1_layTotals_5 10 rfl rfl)
theorem dX1_layTotals_131 : decode cX1_layTotals 131 = .ok (.aload_n 0, 1) := dk_42 (dk_at dksX1_layTotals_5 13 rfl rfl)
theorem dX1_layTotals_132 : decode cX1_layTotals 132 = .ok (.getfield 58, 3) := dk_180 0 58 (dk_at dksX1_layTotals_5 14 rfl rfl)
theorem dX1_layTotals_135 : decode cX1_layTotals 135 = .ok (.iload_n 1, 1) := dk_27 (dk_at dksX1_layTotals_5 17 rfl rfl)
theorem dX1_layTotals_136 : decode cX1_layTotals 136 = .ok (.iload_n 2, 1) := dk_28 (dk_at dksX1_layTotals_5 18 rfl rfl)
theorem dX1_layTotals_137 : decode cX1_layTotals 137 = .ok (.iconst 1, 1) := dk_4 (dk_at dksX1_layTotals_5 19 rfl rfl)
theorem dX1_layTotals_138 : decode cX1_layTotals 138 = .ok (.iadd, 1) := dk_96 (dk_at dksX1_layTotals_5 20 rfl rfl)
theorem dX1_layTotals_139 : decode cX1_layTotals 139 = .ok (.imul, 1) := dk_104 (dk_at dksX1_layTotals_5 21 rfl rfl)
theorem dX1_layTotals_140 : decode cX1_layTotals 140 = .ok (.iload_n 3, 1) := dk_29 (dk_at dksX1_layTotals_5 22 rfl rfl)
theorem dX1_layTotals_141 : decode cX1_layTotals 141 = .ok (.iadd, 1) := dk_96 (dk_at dksX1_layTotals_5 23 rfl rfl)
theorem dX1_layTotals_142 : decode cX1_layTotals 142 = .ok (.laload, 1) := dk_47 (dk_at dksX1_layTotals_6 0 rfl rfl)
theorem dX1_layTotals_143 : decode cX1_layTotals 143 = .ok (.lstore 4, 2) := dk_55 4 (dk_at dksX1_layTotals_6 1 rfl rfl)
theorem dX1_layTotals_145 : decode cX1_layTotals 145 = .ok (.iconst 0, 1) := dk_3 (dk_at dksX1_layTotals_6 3 rfl rfl)
theorem dX1_layTotals_146 : decode cX1_layTotals 146 = .ok (.istore 6, 2) := dk_54 6 (dk_at dksX1_layTotals_6 4 rfl rfl)
theorem dX1_layTotals_148 : decode cX1_layTotals 148 = .ok (.iload 6, 2) := dk_21 6 (dk_at dksX1_layTotals_6 6 rfl rfl)
theorem dX1_layTotals_150 : decode cX1_layTotals 150 = .ok (.bipush 8, 2) := dk_16 8 (dk_at dksX1_layTotals_6 8 rfl rfl)
theorem dX1_layTotals_152 : decode cX1_layTotals 152 = .ok (.if_icmp .gt 45, 3) := dk_163 0 45 (dk_at dksX1_layTotals_6 10 rfl rfl)
theorem dX1_layTotals_155 : decode cX1_layTotals 155 = .ok (.aload_n 0, 1) := dk_42 (dk_at dksX1_layTotals_6 13 rfl rfl)
theorem dX1_layTotals_156 : decode cX1_layTotals 156 = .ok (.getfield 31, 3) := dk_180 0 31 (dk_at dksX1_layTotals_6 14 rfl rfl)
theorem dX1_layTotals_159 : decode cX1_layTotals 159 = .ok (.getfield 234, 3) := dk_180 0 234 (dk_at dksX1_layTotals_6 17 rfl rfl)
theorem dX1_layTotals_162 : decode cX1_layTotals 162 = .ok (.iload_n 2, 1) := dk_28 (dk_at dksX1_layTotals_6 20 rfl rfl)
theorem dX1_layTotals_163 : decode cX1_layTotals 163 = .ok (.iaload, 1) := dk_46 (dk_at dksX1_layTotals_6 21 rfl rfl)
theorem dX1_layTotals_164 : decode cX1_layTotals 164 = .ok (.ifCond .ne 33, 3) := dk_154 0 33 (dk_at dksX1_layTotals_7 0 rfl rfl)
theorem dX1_layTotals_167 : decode cX1_layTotals 167 = .ok (.iload_n 3, 1) := dk_29 (dk_at dksX1_layTotals_7 3 rfl rfl)
theorem dX1_layTotals_168 : decode cX1_layTotals 168 = .ok (.iload 6, 2) := dk_21 6 (dk_at dksX1_layTotals_7 4 rfl rfl)
theorem dX1_layTotals_170 : decode cX1_layTotals 170 = .ok (.ishr, 1) := dk_122 (dk_at dksX1_layTotals_7 6 rfl rfl)
theorem dX1_layTotals_171 : decode cX1_layTotals 171 = .ok (.iconst 1, 1) := dk_4 (dk_at dksX1_layTotals_7 7 rfl rfl)
theorem dX1_layTotals_172 : decode cX1_layTotals 172 = .ok (.iand, 1) := dk_126 (dk_at dksX1_layTotals_7 8 rfl rfl)
theorem dX1_layTotals_173 : decode cX1_layTotals 173 = .ok (.ifCond .ne 18, 3) := dk_154 0 18 (dk_at dksX1_layTotals_7 9 rfl rfl)
theorem dX1_layTotals_176 : decode cX1_layTotals 176 = .ok (.lload 4, 2) := dk_22 4 (dk_at dksX1_layTotals_7 12 rfl rfl)
theorem dX1_layTotals_178 : decode cX1_layTotals 178 = .ok (.aload_n 0, 1) := dk_42 (dk_at dksX1_layTotals_7 14 rfl rfl)
theorem dX1_layTotals_179 : decode cX1_layTotals 179 = .ok (.iload_n 2, 1) := dk_28 (dk_at dksX1_layTotals_7 15 rfl rfl)
theorem dX1_layTotals_180 : decode cX1_layTotals 180 = .ok (.iload 6, 2) := dk_21 6 (dk_at dksX1_layTotals_7 16 rfl rfl)
theorem dX1_layTotals_182 : decode cX1_layTotals 182 = .ok (.iload_n 3, 1) := dk_29 (dk_at dksX1_layTotals_7 18 rfl rfl)
theorem dX1_layTotals_183 : decode cX1_layTotals 183 = .ok (.invokevirtual 237, 3) := dk_182 0 237 (dk_at dksX1_layTotals_7 19 rfl rfl)
theorem dX1_layTotals_186 : decode cX1_layTotals 186 = .ok (.invokestatic 241, 3) := dk_184 0 241 (dk_at dksX1_layTotals_8 0 rfl rfl)
theorem dX1_layTotals_189 : decode cX1_layTotals 189 = .ok (.lstore 4, 2) := dk_55 4 (dk_at dksX1_layTotals_8 3 rfl rfl)
theorem dX1_layTotals_191 : decode cX1_layTotals 191 = .ok (.iinc 6 1, 3) := dk_132 6 1 (dk_at dksX1_layTotals_8 5 rfl rfl)
theorem dX1_layTotals_194 : decode cX1_layTotals 194 = .ok (.goto (-46), 3) := dk_167 255 210 (dk_at dksX1_layTotals_8 8 rfl rfl)
theorem dX1_layTotals_197 : decode cX1_layTotals 197 = .ok (.aload_n 0, 1) := dk_42 (dk_at dksX1_layTotals_8 11 rfl rfl)
theorem dX1_layTotals_198 : decode cX1_layTotals 198 = .ok (.getfield 58, 3) := dk_180 0 58 (dk_at dksX1_layTotals_8 12 rfl rfl)
theorem dX1_layTotals_201 : decode cX1_layTotals 201 = .ok (.iload_n 1, 1) := dk_27 (dk_at dksX1_layTotals_8 15 rfl rfl)
theorem dX1_layTotals_202 : decode cX1_layTotals 202 = .ok (.iload_n 2, 1) := dk_28 (dk_at dksX1_layTotals_8 16 rfl rfl)
theorem dX1_layTotals_203 : decode cX1_layTotals 203 = .ok (.imul, 1) := dk_104 (dk_at dksX1_layTotals_8 17 rfl rfl)
theorem dX1_layTotals_204 : decode cX1_layTotals 204 = .ok (.iload_n 3, 1) := dk_29 (dk_at dksX1_layTotals_8 18 rfl rfl)
theorem dX1_layTotals_205 : decode cX1_layTotals 205 = .ok (.iadd, 1) := dk_96 (dk_at dksX1_layTotals_8 19 rfl rfl)
theorem dX1_layTotals_206 : decode cX1_layTotals 206 = .ok (.lload 4, 2) := dk_22 4 (dk_at dksX1_layTotals_8 20 rfl rfl)
theorem dX1_layTotals_208 : decode cX1_layTotals 208 = .ok (.lastore, 1) := dk_80 (dk_at dksX1_layTotals_8 22 rfl rfl)
theorem dX1_layTotals_209 : decode cX1_layTotals 209 = .ok (.iinc 3 1, 3) := dk_132 3 1 (dk_at dksX1_layTotals_9 0 rfl rfl)
theorem dX1_layTotals_212 : decode cX1_layTotals 212 = .ok (.goto (-86), 3) := dk_167 255 170 (dk_at dksX1_layTotals_9 3 rfl rfl)
theorem dX1_layTotals_215 : decode cX1_layTotals 215 = .ok (.iinc 2 (-1), 3) := dk_132 2 255 (dk_at dksX1_layTotals_9 6 rfl rfl)
theorem dX1_layTotals_218 : decode cX1_layTotals 218 = .ok (.goto (-98), 3) := dk_167 255 158 (dk_at dksX1_layTotals_9 9 rfl rfl)
theorem dX1_layTotals_221 : decode cX1_layTotals 221 = .ok (.return_, 1) := dk_177 (dk_at dksX1_layTotals_9 12 rfl rfl)
abbrev cX1_with : ByteArray := prog_1_method_34_code
def yX1_with : MethodName := ⟨RX1, "with", "(III)J"⟩
def dkwX1_with_1 : List UInt8 := [120, 128, 96, 47, 97, 173]
abbrev dktX1_with_1 : List UInt8 := dkwX1_with_1 ++ []
def dkwX1_with_0 : List UInt8 := [42, 180, 0, 55, 16, 9, 27, 104, 28, 96, 47, 42, 180, 0, 58, 27, 4, 96, 16, 9, 120, 29, 4, 28]
abbrev dktX1_with_0 : List UInt8 := dkwX1_with_0 ++ dktX1_with_1
theorem dksX1_with_0 : cX1_with.data.toList.drop 0 = dktX1_with_0 := by decide +kernel
theorem dksX1_with_1 : cX1_with.data.toList.drop 24 = dktX1_with_1 := dk_seg dksX1_with_0 24 rfl rfl
theorem dX1_with_0 : decode cX1_with 0 = .ok (.aload_n 0, 1) := dk_42 (dk_at dksX1_with_0 0 rfl rfl)
theorem dX1_with_1 : decode cX1_with 1 = .ok (.getfield 55, 3) := dk_180 0 55 (dk_at dksX1_with_0 1 rfl rfl)
theorem dX1_with_4 : decode cX1_with 4 = .ok (.bipush 9, 2) := dk_16 9 (dk_at dksX1_with_0 4 rfl rfl)
theorem dX1_with_6 : decode cX1_with 6 = .ok (.iload_n 1, 1) := dk_27 (dk_at dksX1_with_0 6 rfl rfl)
theorem dX1_with_7 : decode cX1_with 7 = .ok (.imul, 1) := dk_104 (dk_at dksX1_with_0 7 rfl rfl)
theorem dX1_with_8 : decode cX1_with 8 = .ok (.iload_n 2, 1) := dk_28 (dk_at dksX1_with_0 8 rfl rfl)
theorem dX1_with_9 : decode cX1_with 9 = .ok (.iadd, 1) := dk_96 (dk_at dksX1_with_0 9 rfl rfl)
theorem dX1_with_10 : decode cX1_with 10 = .ok (.laload, 1) := dk_47 (dk_at dksX1_with_0 10 rfl rfl)
theorem dX1_with_11 : decode cX1_with 11 = .ok (.aload_n 0, 1) := dk_42 (dk_at dksX1_with_0 11 rfl rfl)
theorem dX1_with_12 : decode cX1_with 12 = .ok (.getfield 58, 3) := dk_180 0 58 (dk_at dksX1_with_0 12 rfl rfl)
theorem dX1_with_15 : decode cX1_with 15 = .ok (.iload_n 1, 1) := dk_27 (dk_at dksX1_with_0 15 rfl rfl)
theorem dX1_with_16 : decode cX1_with 16 = .ok (.iconst 1, 1) := dk_4 (dk_at dksX1_with_0 16 rfl rfl)
theorem dX1_with_17 : decode cX1_with 17 = .ok (.iadd, 1) := dk_96 (dk_at dksX1_with_0 17 rfl rfl)
theorem dX1_with_18 : decode cX1_with 18 = .ok (.bipush 9, 2) := dk_16 9 (dk_at dksX1_with_0 18 rfl rfl)
theorem dX1_with_20 : decode cX1_with 20 = .ok (.ishl, 1) := dk_120 (dk_at dksX1_with_0 20 rfl rfl)
theorem dX1_with_21 : decode cX1_with 21 = .ok (.iload_n 3, 1) := dk_29 (dk_at dksX1_with_0 21 rfl rfl)
theorem dX1_with_22 : decode cX1_with 22 = .ok (.iconst 1, 1) := dk_4 (dk_at dksX1_with_0 22 rfl rfl)
theorem dX1_with_23 : decode cX1_with 23 = .ok (.iload_n 2, 1) := dk_28 (dk_at dksX1_with_0 23 rfl rfl)
theorem dX1_with_24 : decode cX1_with 24 = .ok (.ishl, 1) := dk_120 (dk_at dksX1_with_1 0 rfl rfl)
theorem dX1_with_25 : decode cX1_with 25 = .ok (.ior, 1) := dk_128 (dk_at dksX1_with_1 1 rfl rfl)
theorem dX1_with_26 : decode cX1_with 26 = .ok (.iadd, 1) := dk_96 (dk_at dksX1_with_1 2 rfl rfl)
theorem dX1_with_27 : decode cX1_with 27 = .ok (.laload, 1) := dk_47 (dk_at dksX1_with_1 3 rfl rfl)
theorem dX1_with_28 : decode cX1_with 28 = .ok (.ladd, 1) := dk_97 (dk_at dksX1_with_1 4 rfl rfl)
theorem dX1_with_29 : decode cX1_with 29 = .ok (.lreturn, 1) := dk_173 (dk_at dksX1_with_1 5 rfl rfl)
abbrev cX1_assignedDay : ByteArray := prog_1_method_36_code
def yX1_assignedDay : MethodName := ⟨RX1, "assignedDay", "(I)I"⟩
def dkwX1_assignedDay_5 : List UInt8 := [167, 255, 167, 29, 172]
abbrev dktX1_assignedDay_5 : List UInt8 := dkwX1_assignedDay_5 ++ []
def dkwX1_assignedDay_4 : List UInt8 := [21, 5, 62, 132, 5, 255, 167, 255, 198, 29, 16, 254, 159, 0, 9, 28, 4, 29, 120, 128, 61, 132, 4, 1]
abbrev dktX1_assignedDay_4 : List UInt8 := dkwX1_assignedDay_4 ++ dktX1_assignedDay_5
def dkwX1_assignedDay_3 : List UInt8 := [21, 4, 21, 5, 28, 182, 0, 237, 42, 180, 0, 58, 21, 4, 16, 9, 120, 28, 96, 47, 148, 154, 0, 6]
abbrev dktX1_assignedDay_3 : List UInt8 := dkwX1_assignedDay_3 ++ dktX1_assignedDay_4
def dkwX1_assignedDay_2 : List UInt8 := [42, 180, 0, 31, 180, 0, 234, 21, 4, 46, 154, 0, 46, 28, 21, 5, 122, 4, 126, 154, 0, 31, 42]
abbrev dktX1_assignedDay_2 : List UInt8 := dkwX1_assignedDay_2 ++ dktX1_assignedDay_3
def dkwX1_assignedDay_1 : List UInt8 := [16, 254, 62, 3, 54, 4, 21, 4, 27, 163, 0, 89, 16, 254, 62, 16, 8, 54, 5, 21, 5, 155, 0, 59]
abbrev dktX1_assignedDay_1 : List UInt8 := dkwX1_assignedDay_1 ++ dktX1_assignedDay_2
def dkwX1_assignedDay_0 : List UInt8 := [42, 27, 182, 0, 122, 153, 0, 10, 42, 182, 0, 113, 154, 0, 5, 2, 172, 42, 182, 0, 247, 3, 61]
abbrev dktX1_assignedDay_0 : List UInt8 := dkwX1_assignedDay_0 ++ dktX1_assignedDay_1
theorem dksX1_assignedDay_0 : cX1_assignedDay.data.toList.drop 0 = dktX1_assignedDay_0 := by decide +kernel
theorem dksX1_assignedDay_1 : cX1_assignedDay.data.toList.drop 23 = dktX1_assignedDay_1 := dk_seg dksX1_assignedDay_0 23 rfl rfl
theorem dksX1_assignedDay_2 : cX1_assignedDay.data.toList.drop 47 = dktX1_assignedDay_2 := dk_seg dksX1_assignedDay_1 24 rfl rfl
theorem dksX1_assignedDay_3 : cX1_assignedDay.data.toList.drop 70 = dktX1_assignedDay_3 := dk_seg dksX1_assignedDay_2 23 rfl rfl
theorem dksX1_assignedDay_4 : cX1_assignedDay.data.toList.drop 94 = dktX1_assignedDay_4 := dk_seg dksX1_assignedDay_3 24 rfl rfl
theorem dksX1_assignedDay_5 : cX1_assignedDay.data.toList.drop 118 = dktX1_assignedDay_5 := dk_seg dksX1_assignedDay_4 24 rfl rfl
theorem dX1_assignedDay_0 : decode cX1_assignedDay 0 = .ok (.aload_n 0, 1) := dk_42 (dk_at dksX1_assignedDay_0 0 rfl rfl)
theorem dX1_assignedDay_1 : decode cX1_assignedDay 1 = .ok (.iload_n 1, 1) := dk_27 (dk_at dksX1_assignedDay_0 1 rfl rfl)
theorem dX1_assignedDay_2 : decode cX1_assignedDay 2 = .ok (.invokevirtual 122, 3) := dk_182 0 122 (dk_at dksX1_assignedDay_0 2 rfl rfl)
theorem dX1_assignedDay_5 : decode cX1_assignedDay 5 = .ok (.ifCond .eq 10, 3) := dk_153 0 10 (dk_at dksX1_assignedDay_0 5 rfl rfl)
theorem dX1_assignedDay_8 : decode cX1_assignedDay 8 = .ok (.aload_n 0, 1) := dk_42 (dk_at dksX1_assignedDay_0 8 rfl rfl)
theorem dX1_assignedDay_9 : decode cX1_assignedDay 9 = .ok (.invokevirtual 113, 3) := dk_182 0 113 (dk_at dksX1_assignedDay_0 9 rfl rfl)
theorem dX1_assignedDay_12 : decode cX1_assignedDay 12 = .ok (.ifCond .ne 5, 3) := dk_154 0 5 (dk_at dksX1_assignedDay_0 12 rfl rfl)
theorem dX1_assignedDay_15 : decode cX1_assignedDay 15 = .ok (.iconst (-1), 1) := dk_2 (dk_at dksX1_assignedDay_0 15 rfl rfl)
theorem dX1_assignedDay_16 : decode cX1_assignedDay 16 = .ok (.ireturn, 1) := dk_172 (dk_at dksX1_assignedDay_0 16 rfl rfl)
theorem dX1_assignedDay_17 : decode cX1_assignedDay 17 = .ok (.aload_n 0, 1) := dk_42 (dk_at dksX1_assignedDay_0 17 rfl rfl)
theorem dX1_assignedDay_18 : decode cX1_assignedDay 18 = .ok (.invokevirtual 247, 3) := dk_182 0 247 (dk_at dksX1_assignedDay_0 18 rfl rfl)
theorem dX1_assignedDay_21 : decode cX1_assignedDay 21 = .ok (.iconst 0, 1) := dk_3 (dk_at dksX1_assignedDay_0 21 rfl rfl)
theorem dX1_assignedDay_22 : decode cX1_assignedDay 22 = .ok (.istore_n 2, 1) := dk_61 (dk_at dksX1_assignedDay_0 22 rfl rfl)
theorem dX1_assignedDay_23 : decode cX1_assignedDay 23 = .ok (.bipush (-2), 2) := dk_16 254 (dk_at dksX1_assignedDay_1 0 rfl rfl)
theorem dX1_assignedDay_25 : decode cX1_assignedDay 25 = .ok (.istore_n 3, 1) := dk_62 (dk_at dksX1_assignedDay_1 2 rfl rfl)
theorem dX1_assignedDay_26 : decode cX1_assignedDay 26 = .ok (.iconst 0, 1) := dk_3 (dk_at dksX1_assignedDay_1 3 rfl rfl)
theorem dX1_assignedDay_27 : decode cX1_assignedDay 27 = .ok (.istore 4, 2) := dk_54 4 (dk_at dksX1_assignedDay_1 4 rfl rfl)
theorem dX1_assignedDay_29 : decode cX1_assignedDay 29 = .ok (.iload 4, 2) := dk_21 4 (dk_at dksX1_assignedDay_1 6 rfl rfl)
theorem dX1_assignedDay_31 : decode cX1_assignedDay 31 = .ok (.iload_n 1, 1) := dk_27 (dk_at dksX1_assignedDay_1 8 rfl rfl)
theorem dX1_assignedDay_32 : decode cX1_assignedDay 32 = .ok (.if_icmp .gt 89, 3) := dk_163 0 89 (dk_at dksX1_assignedDay_1 9 rfl rfl)
theorem dX1_assignedDay_35 : decode cX1_assignedDay 35 = .ok (.bipush (-2), 2) := dk_16 254 (dk_at dksX1_assignedDay_1 12 rfl rfl)
theorem dX1_assignedDay_37 : decode cX1_assignedDay 37 = .ok (.istore_n 3, 1) := dk_62 (dk_at dksX1_assignedDay_1 14 rfl rfl)
theorem dX1_assignedDay_38 : decode cX1_assignedDay 38 = .ok (.bipush 8, 2) := dk_16 8 (dk_at dksX1_assignedDay_1 15 rfl rfl)
theorem dX1_assignedDay_40 : decode cX1_assignedDay 40 = .ok (.istore 5, 2) := dk_54 5 (dk_at dksX1_assignedDay_1 17 rfl rfl)
theorem dX1_assignedDay_42 : decode cX1_assignedDay 42 = .ok (.iload 5, 2) := dk_21 5 (dk_at dksX1_assignedDay_1 19 rfl rfl)
theorem dX1_assignedDay_44 : decode cX1_assignedDay 44 = .ok (.ifCond .lt 59, 3) := dk_155 0 59 (dk_at dksX1_assignedDay_1 21 rfl rfl)
theorem dX1_assignedDay_47 : decode cX1_assignedDay 47 = .ok (.aload_n 0, 1) := dk_42 (dk_at dksX1_assignedDay_2 0 rfl rfl)
theorem dX1_assignedDay_48 : decode cX1_assignedDay 48 = .ok (.getfield 31, 3) := dk_180 0 31 (dk_at dksX1_assignedDay_2 1 rfl rfl)
theorem dX1_assignedDay_51 : decode cX1_assignedDay 51 = .ok (.getfield 234, 3) := dk_180 0 234 (dk_at dksX1_assignedDay_2 4 rfl rfl)
theorem dX1_assignedDay_54 : decode cX1_assignedDay 54 = .ok (.iload 4, 2) := dk_21 4 (dk_at dksX1_assignedDay_2 7 rfl rfl)
theorem dX1_assignedDay_56 : decode cX1_assignedDay 56 = .ok (.iaload, 1) := dk_46 (dk_at dksX1_assignedDay_2 9 rfl rfl)
theorem dX1_assignedDay_57 : decode cX1_assignedDay 57 = .ok (.ifCond .ne 46, 3) := dk_154 0 46 (dk_at dksX1_assignedDay_2 10 rfl rfl)
theorem dX1_assignedDay_60 : decode cX1_assignedDay 60 = .ok (.iload_n 2, 1) := dk_28 (dk_at dksX1_assignedDay_2 13 rfl rfl)
theorem dX1_assignedDay_61 : decode cX1_assignedDay 61 = .ok (.iload 5, 2) := dk_21 5 (dk_at dksX1_assignedDay_2 14 rfl rfl)
theorem dX1_assignedDay_63 : decode cX1_assignedDay 63 = .ok (.ishr, 1) := dk_122 (dk_at dksX1_assignedDay_2 16 rfl rfl)
theorem dX1_assignedDay_64 : decode cX1_assignedDay 64 = .ok (.iconst 1, 1) := dk_4 (dk_at dksX1_assignedDay_2 17 rfl rfl)
theorem dX1_assignedDay_65 : decode cX1_assignedDay 65 = .ok (.iand, 1) := dk_126 (dk_at dksX1_assignedDay_2 18 rfl rfl)
theorem dX1_assignedDay_66 : decode cX1_assignedDay 66 = .ok (.ifCond .ne 31, 3) := dk_154 0 31 (dk_at dksX1_assignedDay_2 19 rfl rfl)
theorem dX1_assignedDay_69 : decode cX1_assignedDay 69 = .ok (.aload_n 0, 1) := dk_42 (dk_at dksX1_assignedDay_2 22 rfl rfl)
theorem dX1_assignedDay_70 : decode cX1_assignedDay 70 = .ok (.iload 4, 2) := dk_21 4 (dk_at dksX1_assignedDay_3 0 rfl rfl)
theorem dX1_assignedDay_72 : decode cX1_assignedDay 72 = .ok (.iload 5, 2) := dk_21 5 (dk_at dksX1_assignedDay_3 2 rfl rfl)
theorem dX1_assignedDay_74 : decode cX1_assignedDay 74 = .ok (.iload_n 2, 1) := dk_28 (dk_at dksX1_assignedDay_3 4 rfl rfl)
theorem dX1_assignedDay_75 : decode cX1_assignedDay 75 = .ok (.invokevirtual 237, 3) := dk_182 0 237 (dk_at dksX1_assignedDay_3 5 rfl rfl)
theorem dX1_assignedDay_78 : decode cX1_assignedDay 78 = .ok (.aload_n 0, 1) := dk_42 (dk_at dksX1_assignedDay_3 8 rfl rfl)
theorem dX1_assignedDay_79 : decode cX1_assignedDay 79 = .ok (.getfield 58, 3) := dk_180 0 58 (dk_at dksX1_assignedDay_3 9 rfl rfl)
theorem dX1_assignedDay_82 : decode cX1_assignedDay 82 = .ok (.iload 4, 2) := dk_21 4 (dk_at dksX1_assignedDay_3 12 rfl rfl)
theorem dX1_assignedDay_84 : decode cX1_assignedDay 84 = .ok (.bipush 9, 2) := dk_16 9 (dk_at dksX1_assignedDay_3 14 rfl rfl)
theorem dX1_assignedDay_86 : decode cX1_assignedDay 86 = .ok (.ishl, 1) := dk_120 (dk_at dksX1_assignedDay_3 16 rfl rfl)
theorem dX1_assignedDay_87 : decode cX1_assignedDay 87 = .ok (.iload_n 2, 1) := dk_28 (dk_at dksX1_assignedDay_3 17 rfl rfl)
theorem dX1_assignedDay_88 : decode cX1_assignedDay 88 = .ok (.iadd, 1) := dk_96 (dk_at dksX1_assignedDay_3 18 rfl rfl)
theorem dX1_assignedDay_89 : decode cX1_assignedDay 89 = .ok (.laload, 1) := dk_47 (dk_at dksX1_assignedDay_3 19 rfl rfl)
theorem dX1_assignedDay_90 : decode cX1_assignedDay 90 = .ok (.lcmp, 1) := dk_148 (dk_at dksX1_assignedDay_3 20 rfl rfl)
theorem dX1_assignedDay_91 : decode cX1_assignedDay 91 = .ok (.ifCond .ne 6, 3) := dk_154 0 6 (dk_at dksX1_assignedDay_3 21 rfl rfl)
theorem dX1_assignedDay_94 : decode cX1_assignedDay 94 = .ok (.iload 5, 2) := dk_21 5 (dk_at dksX1_assignedDay_4 0 rfl rfl)
theorem dX1_assignedDay_96 : decode cX1_assignedDay 96 = .ok (.istore_n 3, 1) := dk_62 (dk_at dksX1_assignedDay_4 2 rfl rfl)
theorem dX1_assignedDay_97 : decode cX1_assignedDay 97 = .ok (.iinc 5 (-1), 3) := dk_132 5 255 (dk_at dksX1_assignedDay_4 3 rfl rfl)
theorem dX1_assignedDay_100 : decode cX1_assignedDay 100 = .ok (.goto (-58), 3) := dk_167 255 198 (dk_at dksX1_assignedDay_4 6 rfl rfl)
theorem dX1_assignedDay_103 : decode cX1_assignedDay 103 = .ok (.iload_n 3, 1) := dk_29 (dk_at dksX1_assignedDay_4 9 rfl rfl)
theorem dX1_assignedDay_104 : decode cX1_assignedDay 104 = .ok (.bipush (-2), 2) := dk_16 254 (dk_at dksX1_assignedDay_4 10 rfl rfl)
theorem dX1_assignedDay_106 : decode cX1_assignedDay 106 = .ok (.if_icmp .eq 9, 3) := dk_159 0 9 (dk_at dksX1_assignedDay_4 12 rfl rfl)
theorem dX1_assignedDay_109 : decode cX1_assignedDay 109 = .ok (.iload_n 2, 1) := dk_28 (dk_at dksX1_assignedDay_4 15 rfl rfl)
theorem dX1_assignedDay_110 : decode cX1_assignedDay 110 = .ok (.iconst 1, 1) := dk_4 (dk_at dksX1_assignedDay_4 16 rfl rfl)
theorem dX1_assignedDay_111 : decode cX1_assignedDay 111 = .ok (.iload_n 3, 1) := dk_29 (dk_at dksX1_assignedDay_4 17 rfl rfl)
theorem dX1_assignedDay_112 : decode cX1_assignedDay 112 = .ok (.ishl, 1) := dk_120 (dk_at dksX1_assignedDay_4 18 rfl rfl)
theorem dX1_assignedDay_113 : decode cX1_assignedDay 113 = .ok (.ior, 1) := dk_128 (dk_at dksX1_assignedDay_4 19 rfl rfl)
theorem dX1_assignedDay_114 : decode cX1_assignedDay 114 = .ok (.istore_n 2, 1) := dk_61 (dk_at dksX1_assignedDay_4 20 rfl rfl)
theorem dX1_assignedDay_115 : decode cX1_assignedDay 115 = .ok (.iinc 4 1, 3) := dk_132 4 1 (dk_at dksX1_assignedDay_4 21 rfl rfl)
theorem dX1_assignedDay_118 : decode cX1_assignedDay 118 = .ok (.goto (-89), 3) := dk_167 255 167 (dk_at dksX1_assignedDay_5 0 rfl rfl)
theorem dX1_assignedDay_121 : decode cX1_assignedDay 121 = .ok (.iload_n 3, 1) := dk_29 (dk_at dksX1_assignedDay_5 3 rfl rfl)
theorem dX1_assignedDay_122 : decode cX1_assignedDay 122 = .ok (.ireturn, 1) := dk_172 (dk_at dksX1_assignedDay_5 4 rfl rfl)
abbrev cX1_bestLoad : ByteArray := prog_1_method_39_code
def yX1_bestLoad : MethodName := ⟨RX1, "bestLoad", "(I)I"⟩
def dkwX1_bestLoad_8 : List UInt8 := [100, 61, 132, 4, 255, 167, 255, 198, 29, 172]
abbrev dktX1_bestLoad_8 : List UInt8 := dkwX1_bestLoad_8 ++ []
def dkwX1_bestLoad_7 : List UInt8 := [21, 4, 120, 128, 62, 28, 42, 180, 0, 22, 180, 0, 107, 21, 4, 182, 0, 126, 192, 0, 138, 180, 0, 140]
abbrev dktX1_bestLoad_7 : List UInt8 := dkwX1_bestLoad_7 ++ dktX1_bestLoad_8
def dkwX1_bestLoad_6 : List UInt8 := [42, 21, 4, 4, 96, 28, 182, 0, 253, 42, 21, 4, 28, 182, 0, 253, 160, 0, 6, 167, 0, 31, 29, 4]
abbrev dktX1_bestLoad_6 : List UInt8 := dkwX1_bestLoad_6 ++ dktX1_bestLoad_7
def dkwX1_bestLoad_5 : List UInt8 := [167, 255, 215, 132, 3, 1, 167, 255, 198, 3, 62, 42, 182, 0, 119, 4, 100, 54, 4, 21, 4, 155, 0, 59]
abbrev dktX1_bestLoad_5 : List UInt8 := dkwX1_bestLoad_5 ++ dktX1_bestLoad_6
def dkwX1_bestLoad_4 : List UInt8 := [21, 4, 96, 42, 29, 21, 4, 182, 0, 253, 42, 29, 21, 4, 182, 1, 4, 184, 1, 7, 79, 132, 4, 1]
abbrev dktX1_bestLoad_4 : List UInt8 := dkwX1_bestLoad_4 ++ dktX1_bestLoad_5
def dkwX1_bestLoad_3 : List UInt8 := [162, 0, 56, 3, 54, 4, 21, 4, 28, 163, 0, 41, 42, 180, 0, 61, 17, 3, 232, 29, 4, 96, 104]
abbrev dktX1_bestLoad_3 : List UInt8 := dkwX1_bestLoad_3 ++ dktX1_bestLoad_4
def dkwX1_bestLoad_2 : List UInt8 := [163, 0, 16, 42, 180, 0, 61, 29, 3, 79, 132, 3, 1, 167, 255, 241, 3, 62, 29, 42, 182, 0, 119]
abbrev dktX1_bestLoad_2 : List UInt8 := dkwX1_bestLoad_2 ++ dktX1_bestLoad_3
def dkwX1_bestLoad_1 : List UInt8 := [172, 42, 180, 0, 22, 180, 0, 104, 27, 182, 0, 126, 192, 0, 130, 180, 0, 132, 61, 3, 62, 29, 28]
abbrev dktX1_bestLoad_1 : List UInt8 := dkwX1_bestLoad_1 ++ dktX1_bestLoad_2
def dkwX1_bestLoad_0 : List UInt8 := [42, 27, 182, 0, 122, 154, 0, 5, 2, 172, 42, 180, 0, 31, 180, 0, 234, 27, 46, 153, 0, 6, 16, 254]
abbrev dktX1_bestLoad_0 : List UInt8 := dkwX1_bestLoad_0 ++ dktX1_bestLoad_1
theorem dksX1_bestLoad_0 : cX1_bestLoad.data.toList.drop 0 = dktX1_bestLoad_0 := by decide +kernel
theorem dksX1_bestLoad_1 : cX1_bestLoad.data.toList.drop 24 = dktX1_bestLoad_1 := dk_seg dksX1_bestLoad_0 24 rfl rfl
theorem dksX1_bestLoad_2 : cX1_bestLoad.data.toList.drop 47 = dktX1_bestLoad_2 := dk_seg dksX1_bestLoad_1 23 rfl rfl
theorem dksX1_bestLoad_3 : cX1_bestLoad.data.toList.drop 70 = dktX1_bestLoad_3 := dk_seg dksX1_bestLoad_2 23 rfl rfl
theorem dksX1_bestLoad_4 : cX1_bestLoad.data.toList.drop 93 = dktX1_bestLoad_4 := dk_seg dksX1_bestLoad_3 23 rfl rfl
theorem dksX1_bestLoad_5 : cX1_bestLoad.data.toList.drop 117 = dktX1_bestLoad_5 := dk_seg dksX1_bestLoad_4 24 rfl rfl
theorem dksX1_bestLoad_6 : cX1_bestLoad.data.toList.drop 141 = dktX1_bestLoad_6 := dk_seg dksX1_bestLoad_5 24 rfl rfl
theorem dksX1_bestLoad_7 : cX1_bestLoad.data.toList.drop 165 = dktX1_bestLoad_7 := dk_seg dksX1_bestLoad_6 24 rfl rfl
theorem dksX1_bestLoad_8 : cX1_bestLoad.data.toList.drop 189 = dktX1_bestLoad_8 := dk_seg dksX1_bestLoad_7 24 rfl rfl
theorem dX1_bestLoad_0 : decode cX1_bestLoad 0 = .ok (.aload_n 0, 1) := dk_42 (dk_at dksX1_bestLoad_0 0 rfl rfl)
theorem dX1_bestLoad_1 : decode cX1_bestLoad 1 = .ok (.iload_n 1, 1) := dk_27 (dk_at dksX1_bestLoad_0 1 rfl rfl)
theorem dX1_bestLoad_2 : decode cX1_bestLoad 2 = .ok (.invokevirtual 122, 3) := dk_182 0 122 (dk_at dksX1_bestLoad_0 2 rfl rfl)
theorem dX1_bestLoad_5 : decode cX1_bestLoad 5 = .ok (.ifCond .ne 5, 3) := dk_154 0 5 (dk_at dksX1_bestLoad_0 5 rfl rfl)
theorem dX1_bestLoad_8 : decode cX1_bestLoad 8 = .ok (.iconst (-1), 1) := dk_2 (dk_at dksX1_bestLoad_0 8 rfl rfl)
theorem dX1_bestLoad_9 : decode cX1_bestLoad 9 = .ok (.ireturn, 1) := dk_172 (dk_at dksX1_bestLoad_0 9 rfl rfl)
theorem dX1_bestLoad_10 : decode cX1_bestLoad 10 = .ok (.aload_n 0, 1) := dk_42 (dk_at dksX1_bestLoad_0 10 rfl rfl)
theorem dX1_bestLoad_11 : decode cX1_bestLoad 11 = .ok (.getfield 31, 3) := dk_180 0 31 (dk_at dksX1_bestLoad_0 11 rfl rfl)
theorem dX1_bestLoad_14 : decode cX1_bestLoad 14 = .ok (.getfield 234, 3) := dk_180 0 234 (dk_at dksX1_bestLoad_0 14 rfl rfl)
theorem dX1_bestLoad_17 : decode cX1_bestLoad 17 = .ok (.iload_n 1, 1) := dk_27 (dk_at dksX1_bestLoad_0 17 rfl rfl)
theorem dX1_bestLoad_18 : decode cX1_bestLoad 18 = .ok (.iaload, 1) := dk_46 (dk_at dksX1_bestLoad_0 18 rfl rfl)
theorem dX1_bestLoad_19 : decode cX1_bestLoad 19 = .ok (.ifCond .eq 6, 3) := dk_153 0 6 (dk_at dksX1_bestLoad_0 19 rfl rfl)
theorem dX1_bestLoad_22 : decode cX1_bestLoad 22 = .ok (.bipush (-2), 2) := dk_16 254 (dk_at dksX1_bestLoad_0 22 rfl rfl)
theorem dX1_bestLoad_24 : decode cX1_bestLoad 24 = .ok (.ireturn, 1) := dk_172 (dk_at dksX1_bestLoad_1 0 rfl rfl)
theorem dX1_bestLoad_25 : decode cX1_bestLoad 25 = .ok (.aload_n 0, 1) := dk_42 (dk_at dksX1_bestLoad_1 1 rfl rfl)
theorem dX1_bestLoad_26 : decode cX1_bestLoad 26 = .ok (.getfield 22, 3) := dk_180 0 22 (dk_at dksX1_bestLoad_1 2 rfl rfl)
theorem dX1_bestLoad_29 : decode cX1_bestLoad 29 = .ok (.getfield 104, 3) := dk_180 0 104 (dk_at dksX1_bestLoad_1 5 rfl rfl)
theorem dX1_bestLoad_32 : decode cX1_bestLoad 32 = .ok (.iload_n 1, 1) := dk_27 (dk_at dksX1_bestLoad_1 8 rfl rfl)
theorem dX1_bestLoad_33 : decode cX1_bestLoad 33 = .ok (.invokevirtual 126, 3) := dk_182 0 126 (dk_at dksX1_bestLoad_1 9 rfl rfl)
theorem dX1_bestLoad_36 : decode cX1_bestLoad 36 = .ok (.checkcast 130, 3) := dk_192 0 130 (dk_at dksX1_bestLoad_1 12 rfl rfl)
theorem dX1_bestLoad_39 : decode cX1_bestLoad 39 = .ok (.getfield 132, 3) := dk_180 0 132 (dk_at dksX1_bestLoad_1 15 rfl rfl)
theorem dX1_bestLoad_42 : decode cX1_bestLoad 42 = .ok (.istore_n 2, 1) := dk_61 (dk_at dksX1_bestLoad_1 18 rfl rfl)
theorem dX1_bestLoad_43 : decode cX1_bestLoad 43 = .ok (.iconst 0, 1) := dk_3 (dk_at dksX1_bestLoad_1 19 rfl rfl)
theorem dX1_bestLoad_44 : decode cX1_bestLoad 44 = .ok (.istore_n 3, 1) := dk_62 (dk_at dksX1_bestLoad_1 20 rfl rfl)
theorem dX1_bestLoad_45 : decode cX1_bestLoad 45 = .ok (.iload_n 3, 1) := dk_29 (dk_at dksX1_bestLoad_1 21 rfl rfl)
theorem dX1_bestLoad_46 : decode cX1_bestLoad 46 = .ok (.iload_n 2, 1) := dk_28 (dk_at dksX1_bestLoad_1 22 rfl rfl)
theorem dX1_bestLoad_47 : decode cX1_bestLoad 47 = .ok (.if_icmp .gt 16, 3) := dk_163 0 16 (dk_at dksX1_bestLoad_2 0 rfl rfl)
theorem dX1_bestLoad_50 : decode cX1_bestLoad 50 = .ok (.aload_n 0, 1) := dk_42 (dk_at dksX1_bestLoad_2 3 rfl rfl)
theorem dX1_bestLoad_51 : decode cX1_bestLoad 51 = .ok (.getfield 61, 3) := dk_180 0 61 (dk_at dksX1_bestLoad_2 4 rfl rfl)
theorem dX1_bestLoad_54 : decode cX1_bestLoad 54 = .ok (.iload_n 3, 1) := dk_29 (dk_at dksX1_bestLoad_2 7 rfl rfl)
theorem dX1_bestLoad_55 : decode cX1_bestLoad 55 = .ok (.iconst 0, 1) := dk_3 (dk_at dksX1_bestLoad_2 8 rfl rfl)
theorem dX1_bestLoad_56 : decode cX1_bestLoad 56 = .ok (.iastore, 1) := dk_79 (dk_at dksX1_bestLoad_2 9 rfl rfl)
theorem dX1_bestLoad_57 : decode cX1_bestLoad 57 = .ok (.iinc 3 1, 3) := dk_132 3 1 (dk_at dksX1_bestLoad_2 10 rfl rfl)
theorem dX1_bestLoad_60 : decode cX1_bestLoad 60 = .ok (.goto (-15), 3) := dk_167 255 241 (dk_at dksX1_bestLoad_2 13 rfl rfl)
theorem dX1_bestLoad_63 : decode cX1_bestLoad 63 = .ok (.iconst 0, 1) := dk_3 (dk_at dksX1_bestLoad_2 16 rfl rfl)
theorem dX1_bestLoad_64 : decode cX1_bestLoad 64 = .ok (.istore_n 3, 1) := dk_62 (dk_at dksX1_bestLoad_2 17 rfl rfl)
theorem dX1_bestLoad_65 : decode cX1_bestLoad 65 = .ok (.iload_n 3, 1) := dk_29 (dk_at dksX1_bestLoad_2 18 rfl rfl)
theorem dX1_bestLoad_66 : decode cX1_bestLoad 66 = .ok (.aload_n 0, 1) := dk_42 (dk_at dksX1_bestLoad_2 19 rfl rfl)
theorem dX1_bestLoad_67 : decode cX1_bestLoad 67 = .ok (.invokevirtual 119, 3) := dk_182 0 119 (dk_at dksX1_bestLoad_2 20 rfl rfl)
theorem dX1_bestLoad_70 : decode cX1_bestLoad 70 = .ok (.if_icmp .ge 56, 3) := dk_162 0 56 (dk_at dksX1_bestLoad_3 0 rfl rfl)
theorem dX1_bestLoad_73 : decode cX1_bestLoad 73 = .ok (.iconst 0, 1) := dk_3 (dk_at dksX1_bestLoad_3 3 rfl rfl)
theorem dX1_bestLoad_74 : decode cX1_bestLoad 74 = .ok (.istore 4, 2) := dk_54 4 (dk_at dksX1_bestLoad_3 4 rfl rfl)
theorem dX1_bestLoad_76 : decode cX1_bestLoad 76 = .ok (.iload 4, 2) := dk_21 4 (dk_at dksX1_bestLoad_3 6 rfl rfl)
theorem dX1_bestLoad_78 : decode cX1_bestLoad 78 = .ok (.iload_n 2, 1) := dk_28 (dk_at dksX1_bestLoad_3 8 rfl rfl)
theorem dX1_bestLoad_79 : decode cX1_bestLoad 79 = .ok (.if_icmp .gt 41, 3) := dk_163 0 41 (dk_at dksX1_bestLoad_3 9 rfl rfl)
theorem dX1_bestLoad_82 : decode cX1_bestLoad 82 = .ok (.aload_n 0, 1) := dk_42 (dk_at dksX1_bestLoad_3 12 rfl rfl)
theorem dX1_bestLoad_83 : decode cX1_bestLoad 83 = .ok (.getfield 61, 3) := dk_180 0 61 (dk_at dksX1_bestLoad_3 13 rfl rfl)
theorem dX1_bestLoad_86 : decode cX1_bestLoad 86 = .ok (.sipush 1000, 3) := dk_17 3 232 (dk_at dksX1_bestLoad_3 16 rfl rfl)
theorem dX1_bestLoad_89 : decode cX1_bestLoad 89 = .ok (.iload_n 3, 1) := dk_29 (dk_at dksX1_bestLoad_3 19 rfl rfl)
theorem dX1_bestLoad_90 : decode cX1_bestLoad 90 = .ok (.iconst 1, 1) := dk_4 (dk_at dksX1_bestLoad_3 20 rfl rfl)
theorem dX1_bestLoad_91 : decode cX1_bestLoad 91 = .ok (.iadd, 1) := dk_96 (dk_at dksX1_bestLoad_3 21 rfl rfl)
theorem dX1_bestLoad_92 : decode cX1_bestLoad 92 = .ok (.imul, 1) := dk_104 (dk_at dksX1_bestLoad_3 22 rfl rfl)
theorem dX1_bestLoad_93 : decode cX1_bestLoad 93 = .ok (.iload 4, 2) := dk_21 4 (dk_at dksX1_bestLoad_4 0 rfl rfl)
theorem dX1_bestLoad_95 : decode cX1_bestLoad 95 = .ok (.iadd, 1) := dk_96 (dk_at dksX1_bestLoad_4 2 rfl rfl)
theorem dX1_bestLoad_96 : decode cX1_bestLoad 96 = .ok (.aload_n 0, 1) := dk_42 (dk_at dksX1_bestLoad_4 3 rfl rfl)
theorem dX1_bestLoad_97 : decode cX1_bestLoad 97 = .ok (.iload_n 3, 1) := dk_29 (dk_at dksX1_bestLoad_4 4 rfl rfl)
theorem dX1_bestLoad_98 : decode cX1_bestLoad 98 = .ok (.iload 4, 2) := dk_21 4 (dk_at dksX1_bestLoad_4 5 rfl rfl)
theorem dX1_bestLoad_100 : decode cX1_bestLoad 100 = .ok (.invokevirtual 253, 3) := dk_182 0 253 (dk_at dksX1_bestLoad_4 7 rfl rfl)
theorem dX1_bestLoad_103 : decode cX1_bestLoad 103 = .ok (.aload_n 0, 1) := dk_42 (dk_at dksX1_bestLoad_4 10 rfl rfl)
theorem dX1_bestLoad_104 : decode cX1_bestLoad 104 = .ok (.iload_n 3, 1) := dk_29 (dk_at dksX1_bestLoad_4 11 rfl rfl)
theorem dX1_bestLoad_105 : decode cX1_bestLoad 105 = .ok (.iload 4, 2) := dk_21 4 (dk_at dksX1_bestLoad_4 12 rfl rfl)
theorem dX1_bestLoad_107 : decode cX1_bestLoad 107 = .ok (.invokevirtual 260, 3) := dk_182 1 4 (dk_at dksX1_bestLoad_4 14 rfl rfl)
theorem dX1_bestLoad_110 : decode cX1_bestLoad 110 = .ok (.invokestatic 263, 3) := dk_184 1 7 (dk_at dksX1_bestLoad_4 17 rfl rfl)
theorem dX1_bestLoad_113 : decode cX1_bestLoad 113 = .ok (.iastore, 1) := dk_79 (dk_at dksX1_bestLoad_4 20 rfl rfl)
theorem dX1_bestLoad_114 : decode cX1_bestLoad 114 = .ok (.iinc 4 1, 3) := dk_132 4 1 (dk_at dksX1_bestLoad_4 21 rfl rfl)
theorem dX1_bestLoad_117 : decode cX1_bestLoad 117 = .ok (.goto (-41), 3) := dk_167 255 215 (dk_at dksX1_bestLoad_5 0 rfl rfl)
theorem dX1_bestLoad_120 : decode cX1_bestLoad 120 = .ok (.iinc 3 1, 3) := dk_132 3 1 (dk_at dksX1_bestLoad_5 3 rfl rfl)
theorem dX1_bestLoad_123 : decode cX1_bestLoad 123 = .ok (.goto (-58), 3) := dk_167 255 198 (dk_at dksX1_bestLoad_5 6 rfl rfl)
theorem dX1_bestLoad_126 : decode cX1_bestLoad 126 = .ok (.iconst 0, 1) := dk_3 (dk_at dksX1_bestLoad_5 9 rfl rfl)
theorem dX1_bestLoad_127 : decode cX1_bestLoad 127 = .ok (.istore_n 3, 1) := dk_62 (dk_at dksX1_bestLoad_5 10 rfl rfl)
theorem dX1_bestLoad_128 : decode cX1_bestLoad 128 = .ok (.aload_n 0, 1) := dk_42 (dk_at dksX1_bestLoad_5 11 rfl rfl)
theorem dX1_bestLoad_129 : decode cX1_bestLoad 129 = .ok (.invokevirtual 119, 3) := dk_182 0 119 (dk_at dksX1_bestLoad_5 12 rfl rfl)
theorem dX1_bestLoad_132 : decode cX1_bestLoad 132 = .ok (.iconst 1, 1) := dk_4 (dk_at dksX1_bestLoad_5 15 rfl rfl)
theorem dX1_bestLoad_133 : decode cX1_bestLoad 133 = .ok (.isub, 1) := dk_100 (dk_at dksX1_bestLoad_5 16 rfl rfl)
theorem dX1_bestLoad_134 : decode cX1_bestLoad 134 = .ok (.istore 4, 2) := dk_54 4 (dk_at dksX1_bestLoad_5 17 rfl rfl)
theorem dX1_bestLoad_136 : decode cX1_bestLoad 136 = .ok (.iload 4, 2) := dk_21 4 (dk_at dksX1_bestLoad_5 19 rfl rfl)
theorem dX1_bestLoad_138 : decode cX1_bestLoad 138 = .ok (.ifCond .lt 59, 3) := dk_155 0 59 (dk_at dksX1_bestLoad_5 21 rfl rfl)
theorem dX1_bestLoad_141 : decode cX1_bestLoad 141 = .ok (.aload_n 0, 1) := dk_42 (dk_at dksX1_bestLoad_6 0 rfl rfl)
theorem dX1_bestLoad_142 : decode cX1_bestLoad 142 = .ok (.iload 4, 2) := dk_21 4 (dk_at dksX1_bestLoad_6 1 rfl rfl)
theorem dX1_bestLoad_144 : decode cX1_bestLoad 144 = .ok (.iconst 1, 1) := dk_4 (dk_at dksX1_bestLoad_6 3 rfl rfl)
theorem dX1_bestLoad_145 : decode cX1_bestLoad 145 = .ok (.iadd, 1) := dk_96 (dk_at dksX1_bestLoad_6 4 rfl rfl)
theorem dX1_bestLoad_146 : decode cX1_bestLoad 146 = .ok (.iload_n 2, 1) := dk_28 (dk_at dksX1_bestLoad_6 5 rfl rfl)
theorem dX1_bestLoad_147 : decode cX1_bestLoad 147 = .ok (.invokevirtual 253, 3) := dk_182 0 253 (dk_at dksX1_bestLoad_6 6 rfl rfl)
theorem dX1_bestLoad_150 : decode cX1_bestLoad 150 = .ok (.aload_n 0, 1) := dk_42 (dk_at dksX1_bestLoad_6 9 rfl rfl)
theorem dX1_bestLoad_151 : decode cX1_bestLoad 151 = .ok (.iload 4, 2) := dk_21 4 (dk_at dksX1_bestLoad_6 10 rfl rfl)
theorem dX1_bestLoad_153 : decode cX1_bestLoad 153 = .ok (.iload_n 2, 1) := dk_28 (dk_at dksX1_bestLoad_6 12 rfl rfl)
theorem dX1_bestLoad_154 : decode cX1_bestLoad 154 = .ok (.invokevirtual 253, 3) := dk_182 0 253 (dk_at dksX1_bestLoad_6 13 rfl rfl)
theorem dX1_bestLoad_157 : decode cX1_bestLoad 157 = .ok (.if_icmp .ne 6, 3) := dk_160 0 6 (dk_at dksX1_bestLoad_6 16 rfl rfl)
theorem dX1_bestLoad_160 : decode cX1_bestLoad 160 = .ok (.goto 31, 3) := dk_167 0 31 (dk_at dksX1_bestLoad_6 19 rfl rfl)
theorem dX1_bestLoad_163 : decode cX1_bestLoad 163 = .ok (.iload_n 3, 1) := dk_29 (dk_at dksX1_bestLoad_6 22 rfl rfl)
theorem dX1_bestLoad_164 : decode cX1_bestLoad 164 = .ok (.iconst 1, 1) := dk_4 (dk_at dksX1_bestLoad_6 23 rfl rfl)
theorem dX1_bestLoad_165 : decode cX1_bestLoad 165 = .ok (.iload 4, 2) := dk_21 4 (dk_at dksX1_bestLoad_7 0 rfl rfl)
theorem dX1_bestLoad_167 : decode cX1_bestLoad 167 = .ok (.ishl, 1) := dk_120 (dk_at dksX1_bestLoad_7 2 rfl rfl)
theorem dX1_bestLoad_168 : decode cX1_bestLoad 168 = .ok (.ior, 1) := dk_128 (dk_at dksX1_bestLoad_7 3 rfl rfl)
theorem dX1_bestLoad_169 : decode cX1_bestLoad 169 = .ok (.istore_n 3, 1) := dk_62 (dk_at dksX1_bestLoad_7 4 rfl rfl)
theorem dX1_bestLoad_170 : decode cX1_bestLoad 170 = .ok (.iload_n 2, 1) := dk_28 (dk_at dksX1_bestLoad_7 5 rfl rfl)
theorem dX1_bestLoad_171 : decode cX1_bestLoad 171 = .ok (.aload_n 0, 1) := dk_42 (dk_at dksX1_bestLoad_7 6 rfl rfl)
theorem dX1_bestLoad_172 : decode cX1_bestLoad 172 = .ok (.getfield 22, 3) := dk_180 0 22 (dk_at dksX1_bestLoad_7 7 rfl rfl)
theorem dX1_bestLoad_175 : decode cX1_bestLoad 175 = .ok (.getfield 107, 3) := dk_180 0 107 (dk_at dksX1_bestLoad_7 10 rfl rfl)
theorem dX1_bestLoad_178 : decode cX1_bestLoad 178 = .ok (.iload 4, 2) := dk_21 4 (dk_at dksX1_bestLoad_7 13 rfl rfl)
theorem dX1_bestLoad_180 : decode cX1_bestLoad 180 = .ok (.invokevirtual 126, 3) := dk_182 0 126 (dk_at dksX1_bestLoad_7 15 rfl rfl)
theorem dX1_bestLoad_183 : decode cX1_bestLoad 183 = .ok (.checkcast 138, 3) := dk_192 0 138 (dk_at dksX1_bestLoad_7 18 rfl rfl)
theorem dX1_bestLoad_186 : decode cX1_bestLoad 186 = .ok (.getfield 140, 3) := dk_180 0 140 (dk_at dksX1_bestLoad_7 21 rfl rfl)
theorem dX1_bestLoad_189 : decode cX1_bestLoad 189 = .ok (.isub, 1) := dk_100 (dk_at dksX1_bestLoad_8 0 rfl rfl)
theorem dX1_bestLoad_190 : decode cX1_bestLoad 190 = .ok (.istore_n 2, 1) := dk_61 (dk_at dksX1_bestLoad_8 1 rfl rfl)
theorem dX1_bestLoad_191 : decode cX1_bestLoad 191 = .ok (.iinc 4 (-1), 3) := dk_132 4 255 (dk_at dksX1_bestLoad_8 2 rfl rfl)
theorem dX1_bestLoad_194 : decode cX1_bestLoad 194 = .ok (.goto (-58), 3) := dk_167 255 198 (dk_at dksX1_bestLoad_8 5 rfl rfl)
theorem dX1_bestLoad_197 : decode cX1_bestLoad 197 = .ok (.iload_n 3, 1) := dk_29 (dk_at dksX1_bestLoad_8 8 rfl rfl)
theorem dX1_bestLoad_198 : decode cX1_bestLoad 198 = .ok (.ireturn, 1) := dk_172 (dk_at dksX1_bestLoad_8 9 rfl rfl)
abbrev cX1_valueAt : ByteArray := prog_1_method_37_code
def yX1_valueAt : MethodName := ⟨RX1, "valueAt", "(II)I"⟩
def dkwX1_valueAt_0 : List UInt8 := [42, 180, 0, 61, 17, 3, 232, 27, 104, 28, 96, 46, 172]
abbrev dktX1_valueAt_0 : List UInt8 := dkwX1_valueAt_0 ++ []
theorem dksX1_valueAt_0 : cX1_valueAt.data.toList.drop 0 = dktX1_valueAt_0 := by decide +kernel
theorem dX1_valueAt_0 : decode cX1_valueAt 0 = .ok (.aload_n 0, 1) := dk_42 (dk_at dksX1_valueAt_0 0 rfl rfl)
theorem dX1_valueAt_1 : decode cX1_valueAt 1 = .ok (.getfield 61, 3) := dk_180 0 61 (dk_at dksX1_valueAt_0 1 rfl rfl)
theorem dX1_valueAt_4 : decode cX1_valueAt 4 = .ok (.sipush 1000, 3) := dk_17 3 232 (dk_at dksX1_valueAt_0 4 rfl rfl)
theorem dX1_valueAt_7 : decode cX1_valueAt 7 = .ok (.iload_n 1, 1) := dk_27 (dk_at dksX1_valueAt_0 7 rfl rfl)
theorem dX1_valueAt_8 : decode cX1_valueAt 8 = .ok (.imul, 1) := dk_104 (dk_at dksX1_valueAt_0 8 rfl rfl)
theorem dX1_valueAt_9 : decode cX1_valueAt 9 = .ok (.iload_n 2, 1) := dk_28 (dk_at dksX1_valueAt_0 9 rfl rfl)
theorem dX1_valueAt_10 : decode cX1_valueAt 10 = .ok (.iadd, 1) := dk_96 (dk_at dksX1_valueAt_0 10 rfl rfl)
theorem dX1_valueAt_11 : decode cX1_valueAt 11 = .ok (.iaload, 1) := dk_46 (dk_at dksX1_valueAt_0 11 rfl rfl)
theorem dX1_valueAt_12 : decode cX1_valueAt 12 = .ok (.ireturn, 1) := dk_172 (dk_at dksX1_valueAt_0 12 rfl rfl)
abbrev cX1_withLetter : ByteArray := prog_1_method_38_code
def yX1_withLetter : MethodName := ⟨RX1, "withLetter", "(II)I"⟩
def dkwX1_withLetter_2 : List UInt8 := [182, 0, 253, 17, 39, 16, 45, 180, 1, 1, 104, 96, 45, 180, 0, 140, 100, 172]
abbrev dktX1_withLetter_2 : List UInt8 := dkwX1_withLetter_2 ++ []
def dkwX1_withLetter_1 : List UInt8 := [154, 0, 11, 45, 180, 0, 140, 28, 164, 0, 7, 2, 167, 0, 28, 42, 27, 28, 45, 180, 0, 140, 100]
abbrev dktX1_withLetter_1 : List UInt8 := dkwX1_withLetter_1 ++ dktX1_withLetter_2
def dkwX1_withLetter_0 : List UInt8 := [42, 180, 0, 22, 180, 0, 107, 27, 182, 0, 126, 192, 0, 138, 78, 42, 180, 0, 31, 180, 0, 250, 27, 46]
abbrev dktX1_withLetter_0 : List UInt8 := dkwX1_withLetter_0 ++ dktX1_withLetter_1
theorem dksX1_withLetter_0 : cX1_withLetter.data.toList.drop 0 = dktX1_withLetter_0 := by decide +kernel
theorem dksX1_withLetter_1 : cX1_withLetter.data.toList.drop 24 = dktX1_withLetter_1 := dk_seg dksX1_withLetter_0 24 rfl rfl
theorem dksX1_withLetter_2 : cX1_withLetter.data.toList.drop 47 = dktX1_withLetter_2 := dk_seg dksX1_withLetter_1 23 rfl rfl
theorem dX1_withLetter_0 : decode cX1_withLetter 0 = .ok (.aload_n 0, 1) := dk_42 (dk_at dksX1_withLetter_0 0 rfl rfl)
theorem dX1_withLetter_1 : decode cX1_withLetter 1 = .ok (.getfield 22, 3) := dk_180 0 22 (dk_at dksX1_withLetter_0 1 rfl rfl)
theorem dX1_withLetter_4 : decode cX1_withLetter 4 = .ok (.getfield 107, 3) := dk_180 0 107 (dk_at dksX1_withLetter_0 4 rfl rfl)
theorem dX1_withLetter_7 : decode cX1_withLetter 7 = .ok (.iload_n 1, 1) := dk_27 (dk_at dksX1_withLetter_0 7 rfl rfl)
theorem dX1_withLetter_8 : decode cX1_withLetter 8 = .ok (.invokevirtual 126, 3) := dk_182 0 126 (dk_at dksX1_withLetter_0 8 rfl rfl)
theorem dX1_withLetter_11 : decode cX1_withLetter 11 = .ok (.checkcast 138, 3) := dk_192 0 138 (dk_at dksX1_withLetter_0 11 rfl rfl)
theorem dX1_withLetter_14 : decode cX1_withLetter 14 = .ok (.astore_n 3, 1) := dk_78 (dk_at dksX1_withLetter_0 14 rfl rfl)
theorem dX1_withLetter_15 : decode cX1_withLetter 15 = .ok (.aload_n 0, 1) := dk_42 (dk_at dksX1_withLetter_0 15 rfl rfl)
theorem dX1_withLetter_16 : decode cX1_withLetter 16 = .ok (.getfield 31, 3) := dk_180 0 31 (dk_at dksX1_withLetter_0 16 rfl rfl)
theorem dX1_withLetter_19 : decode cX1_withLetter 19 = .ok (.getfield 250, 3) := dk_180 0 250 (dk_at dksX1_withLetter_0 19 rfl rfl)
theorem dX1_withLetter_22 : decode cX1_withLetter 22 = .ok (.iload_n 1, 1) := dk_27 (dk_at dksX1_withLetter_0 22 rfl rfl)
theorem dX1_withLetter_23 : decode cX1_withLetter 23 = .ok (.iaload, 1) := dk_46 (dk_at dksX1_withLetter_0 23 rfl rfl)
theorem dX1_withLetter_24 : decode cX1_withLetter 24 = .ok (.ifCond .ne 11, 3) := dk_154 0 11 (dk_at dksX1_withLetter_1 0 rfl rfl)
theorem dX1_withLetter_27 : decode cX1_withLetter 27 = .ok (.aload_n 3, 1) := dk_45 (dk_at dksX1_withLetter_1 3 rfl rfl)
theorem dX1_withLetter_28 : decode cX1_withLetter 28 = .ok (.getfield 140, 3) := dk_180 0 140 (dk_at dksX1_withLetter_1 4 rfl rfl)
theorem dX1_withLetter_31 : decode cX1_withLetter 31 = .ok (.iload_n 2, 1) := dk_28 (dk_at dksX1_withLetter_1 7 rfl rfl)
theorem dX1_withLetter_32 : decode cX1_withLetter 32 = .ok (.if_icmp .le 7, 3) := dk_164 0 7 (dk_at dksX1_withLetter_1 8 rfl rfl)
theorem dX1_withLetter_35 : decode cX1_withLetter 35 = .ok (.iconst (-1), 1) := dk_2 (dk_at dksX1_withLetter_1 11 rfl rfl)
theorem dX1_withLetter_36 : decode cX1_withLetter 36 = .ok (.goto 28, 3) := dk_167 0 28 (dk_at dksX1_withLetter_1 12 rfl rfl)
theorem dX1_withLetter_39 : decode cX1_withLetter 39 = .ok (.aload_n 0, 1) := dk_42 (dk_at dksX1_withLetter_1 15 rfl rfl)
theorem dX1_withLetter_40 : decode cX1_withLetter 40 = .ok (.iload_n 1, 1) := dk_27 (dk_at dksX1_withLetter_1 16 rfl rfl)
theorem dX1_withLetter_41 : decode cX1_withLetter 41 = .ok (.iload_n 2, 1) := dk_28 (dk_at dksX1_withLetter_1 17 rfl rfl)
theorem dX1_withLetter_42 : decode cX1_withLetter 42 = .ok (.aload_n 3, 1) := dk_45 (dk_at dksX1_withLetter_1 18 rfl rfl)
theorem dX1_withLetter_43 : decode cX1_withLetter 43 = .ok (.getfield 140, 3) := dk_180 0 140 (dk_at dksX1_withLetter_1 19 rfl rfl)
theorem dX1_withLetter_46 : decode cX1_withLetter 46 = .ok (.isub, 1) := dk_100 (dk_at dksX1_withLetter_1 22 rfl rfl)
theorem dX1_withLetter_47 : decode cX1_withLetter 47 = .ok (.invokevirtual 253, 3) := dk_182 0 253 (dk_at dksX1_withLetter_2 0 rfl rfl)
theorem dX1_withLetter_50 : decode cX1_withLetter 50 = .ok (.sipush 10000, 3) := dk_17 39 16 (dk_at dksX1_withLetter_2 3 rfl rfl)
theorem dX1_withLetter_53 : decode cX1_withLetter 53 = .ok (.aload_n 3, 1) := dk_45 (dk_at dksX1_withLetter_2 6 rfl rfl)
theorem dX1_withLetter_54 : decode cX1_withLetter 54 = .ok (.getfield 257, 3) := dk_180 1 1 (dk_at dksX1_withLetter_2 7 rfl rfl)
theorem dX1_withLetter_57 : decode cX1_withLetter 57 = .ok (.imul, 1) := dk_104 (dk_at dksX1_withLetter_2 10 rfl rfl)
theorem dX1_withLetter_58 : decode cX1_withLetter 58 = .ok (.iadd, 1) := dk_96 (dk_at dksX1_withLetter_2 11 rfl rfl)
theorem dX1_withLetter_59 : decode cX1_withLetter 59 = .ok (.aload_n 3, 1) := dk_45 (dk_at dksX1_withLetter_2 12 rfl rfl)
theorem dX1_withLetter_60 : decode cX1_withLetter 60 = .ok (.getfield 140, 3) := dk_180 0 140 (dk_at dksX1_withLetter_2 13 rfl rfl)
theorem dX1_withLetter_63 : decode cX1_withLetter 63 = .ok (.isub, 1) := dk_100 (dk_at dksX1_withLetter_2 16 rfl rfl)
theorem dX1_withLetter_64 : decode cX1_withLetter 64 = .ok (.ireturn, 1) := dk_172 (dk_at dksX1_withLetter_2 17 rfl rfl)
abbrev cX1_weightOf : ByteArray := prog_1_method_40_code
def yX1_weightOf : MethodName := ⟨RX1, "weightOf", "(I)I"⟩
def dkwX1_weightOf_0 : List UInt8 := [42, 27, 182, 1, 9, 153, 0, 14, 42, 180, 0, 22, 27, 182, 1, 12, 167, 0, 4, 2, 172]
abbrev dktX1_weightOf_0 : List UInt8 := dkwX1_weightOf_0 ++ []
theorem dksX1_weightOf_0 : cX1_weightOf.data.toList.drop 0 = dktX1_weightOf_0 := by decide +kernel
theorem dX1_weightOf_0 : decode cX1_weightOf 0 = .ok (.aload_n 0, 1) := dk_42 (dk_at dksX1_weightOf_0 0 rfl rfl)
theorem dX1_weightOf_1 : decode cX1_weightOf 1 = .ok (.iload_n 1, 1) := dk_27 (dk_at dksX1_weightOf_0 1 rfl rfl)
theorem dX1_weightOf_2 : decode cX1_weightOf 2 = .ok (.invokevirtual 265, 3) := dk_182 1 9 (dk_at dksX1_weightOf_0 2 rfl rfl)
theorem dX1_weightOf_5 : decode cX1_weightOf 5 = .ok (.ifCond .eq 14, 3) := dk_153 0 14 (dk_at dksX1_weightOf_0 5 rfl rfl)
theorem dX1_weightOf_8 : decode cX1_weightOf 8 = .ok (.aload_n 0, 1) := dk_42 (dk_at dksX1_weightOf_0 8 rfl rfl)
theorem dX1_weightOf_9 : decode cX1_weightOf 9 = .ok (.getfield 22, 3) := dk_180 0 22 (dk_at dksX1_weightOf_0 9 rfl rfl)
theorem dX1_weightOf_12 : decode cX1_weightOf 12 = .ok (.iload_n 1, 1) := dk_27 (dk_at dksX1_weightOf_0 12 rfl rfl)
theorem dX1_weightOf_13 : decode cX1_weightOf 13 = .ok (.invokevirtual 268, 3) := dk_182 1 12 (dk_at dksX1_weightOf_0 13 rfl rfl)
theorem dX1_weightOf_16 : decode cX1_weightOf 16 = .ok (.goto 4, 3) := dk_167 0 4 (dk_at dksX1_weightOf_0 16 rfl rfl)
theorem dX1_weightOf_19 : decode cX1_weightOf 19 = .ok (.iconst (-1), 1) := dk_2 (dk_at dksX1_weightOf_0 19 rfl rfl)
theorem dX1_weightOf_20 : decode cX1_weightOf 20 = .ok (.ireturn, 1) := dk_172 (dk_at dksX1_weightOf_0 20 rfl rfl)
abbrev cX1_areLetters : ByteArray := prog_1_method_16_code
def yX1_areLetters : MethodName := ⟨RX1, "areLetters", "(I)Z"⟩
def dkwX1_areLetters_0 : List UInt8 := [27, 133, 9, 10, 42, 182, 0, 119, 121, 10, 101, 184, 0, 71, 172]
abbrev dktX1_areLetters_0 : List UInt8 := dkwX1_areLetters_0 ++ []
theorem dksX1_areLetters_0 : cX1_areLetters.data.toList.drop 0 = dktX1_areLetters_0 := by decide +kernel
theorem dX1_areLetters_0 : decode cX1_areLetters 0 = .ok (.iload_n 1, 1) := dk_27 (dk_at dksX1_areLetters_0 0 rfl rfl)
theorem dX1_areLetters_1 : decode cX1_areLetters 1 = .ok (.i2l, 1) := dk_133 (dk_at dksX1_areLetters_0 1 rfl rfl)
theorem dX1_areLetters_2 : decode cX1_areLetters 2 = .ok (.lconst 0, 1) := dk_9 (dk_at dksX1_areLetters_0 2 rfl rfl)
theorem dX1_areLetters_3 : decode cX1_areLetters 3 = .ok (.lconst 1, 1) := dk_10 (dk_at dksX1_areLetters_0 3 rfl rfl)
theorem dX1_areLetters_4 : decode cX1_areLetters 4 = .ok (.aload_n 0, 1) := dk_42 (dk_at dksX1_areLetters_0 4 rfl rfl)
theorem dX1_areLetters_5 : decode cX1_areLetters 5 = .ok (.invokevirtual 119, 3) := dk_182 0 119 (dk_at dksX1_areLetters_0 5 rfl rfl)
theorem dX1_areLetters_8 : decode cX1_areLetters 8 = .ok (.lshl, 1) := dk_121 (dk_at dksX1_areLetters_0 8 rfl rfl)
theorem dX1_areLetters_9 : decode cX1_areLetters 9 = .ok (.lconst 1, 1) := dk_10 (dk_at dksX1_areLetters_0 9 rfl rfl)
theorem dX1_areLetters_10 : decode cX1_areLetters 10 = .ok (.lsub, 1) := dk_101 (dk_at dksX1_areLetters_0 10 rfl rfl)
theorem dX1_areLetters_11 : decode cX1_areLetters 11 = .ok (.invokestatic 71, 3) := dk_184 0 71 (dk_at dksX1_areLetters_0 11 rfl rfl)
theorem dX1_areLetters_14 : decode cX1_areLetters 14 = .ok (.ireturn, 1) := dk_172 (dk_at dksX1_areLetters_0 14 rfl rfl)
abbrev cX1_priorityOf : ByteArray := prog_1_method_41_code
def yX1_priorityOf : MethodName := ⟨RX1, "priorityOf", "(I)I"⟩
def dkwX1_priorityOf_0 : List UInt8 := [42, 27, 182, 1, 9, 153, 0, 14, 42, 180, 0, 22, 27, 182, 1, 13, 167, 0, 4, 2, 172]
abbrev dktX1_priorityOf_0 : List UInt8 := dkwX1_priorityOf_0 ++ []
theorem dksX1_priorityOf_0 : cX1_priorityOf.data.toList.drop 0 = dktX1_priorityOf_0 := by decide +kernel
theorem dX1_priorityOf_0 : decode cX1_priorityOf 0 = .ok (.aload_n 0, 1) := dk_42 (dk_at dksX1_priorityOf_0 0 rfl rfl)
theorem dX1_priorityOf_1 : decode cX1_priorityOf 1 = .ok (.iload_n 1, 1) := dk_27 (dk_at dksX1_priorityOf_0 1 rfl rfl)
theorem dX1_priorityOf_2 : decode cX1_priorityOf 2 = .ok (.invokevirtual 265, 3) := dk_182 1 9 (dk_at dksX1_priorityOf_0 2 rfl rfl)
theorem dX1_priorityOf_5 : decode cX1_priorityOf 5 = .ok (.ifCond .eq 14, 3) := dk_153 0 14 (dk_at dksX1_priorityOf_0 5 rfl rfl)
theorem dX1_priorityOf_8 : decode cX1_priorityOf 8 = .ok (.aload_n 0, 1) := dk_42 (dk_at dksX1_priorityOf_0 8 rfl rfl)
theorem dX1_priorityOf_9 : decode cX1_priorityOf 9 = .ok (.getfield 22, 3) := dk_180 0 22 (dk_at dksX1_priorityOf_0 9 rfl rfl)
theorem dX1_priorityOf_12 : decode cX1_priorityOf 12 = .ok (.iload_n 1, 1) := dk_27 (dk_at dksX1_priorityOf_0 12 rfl rfl)
theorem dX1_priorityOf_13 : decode cX1_priorityOf 13 = .ok (.invokevirtual 269, 3) := dk_182 1 13 (dk_at dksX1_priorityOf_0 13 rfl rfl)
theorem dX1_priorityOf_16 : decode cX1_priorityOf 16 = .ok (.goto 4, 3) := dk_167 0 4 (dk_at dksX1_priorityOf_0 16 rfl rfl)
theorem dX1_priorityOf_19 : decode cX1_priorityOf 19 = .ok (.iconst (-1), 1) := dk_2 (dk_at dksX1_priorityOf_0 19 rfl rfl)
theorem dX1_priorityOf_20 : decode cX1_priorityOf 20 = .ok (.ireturn, 1) := dk_172 (dk_at dksX1_priorityOf_0 20 rfl rfl)
abbrev cX1_lettersIn : ByteArray := prog_1_method_44_code
def yX1_lettersIn : MethodName := ⟨RX1, "lettersIn", "(I)I"⟩
def dkwX1_lettersIn_0 : List UInt8 := [27, 184, 1, 17, 153, 0, 11, 42, 27, 182, 1, 20, 167, 0, 4, 2, 172]
abbrev dktX1_lettersIn_0 : List UInt8 := dkwX1_lettersIn_0 ++ []
theorem dksX1_lettersIn_0 : cX1_lettersIn.data.toList.drop 0 = dktX1_lettersIn_0 := by decide +kernel
theorem dX1_lettersIn_0 : decode cX1_lettersIn 0 = .ok (.iload_n 1, 1) := dk_27 (dk_at dksX1_lettersIn_0 0 rfl rfl)
theorem dX1_lettersIn_1 : decode cX1_lettersIn 1 = .ok (.invokestatic 273, 3) := dk_184 1 17 (dk_at dksX1_lettersIn_0 1 rfl rfl)
theorem dX1_lettersIn_4 : decode cX1_lettersIn 4 = .ok (.ifCond .eq 11, 3) := dk_153 0 11 (dk_at dksX1_lettersIn_0 4 rfl rfl)
theorem dX1_lettersIn_7 : decode cX1_lettersIn 7 = .ok (.aload_n 0, 1) := dk_42 (dk_at dksX1_lettersIn_0 7 rfl rfl)
theorem dX1_lettersIn_8 : decode cX1_lettersIn 8 = .ok (.iload_n 1, 1) := dk_27 (dk_at dksX1_lettersIn_0 8 rfl rfl)
theorem dX1_lettersIn_9 : decode cX1_lettersIn 9 = .ok (.invokevirtual 276, 3) := dk_182 1 20 (dk_at dksX1_lettersIn_0 9 rfl rfl)
theorem dX1_lettersIn_12 : decode cX1_lettersIn 12 = .ok (.goto 4, 3) := dk_167 0 4 (dk_at dksX1_lettersIn_0 12 rfl rfl)
theorem dX1_lettersIn_15 : decode cX1_lettersIn 15 = .ok (.iconst (-1), 1) := dk_2 (dk_at dksX1_lettersIn_0 15 rfl rfl)
theorem dX1_lettersIn_16 : decode cX1_lettersIn 16 = .ok (.ireturn, 1) := dk_172 (dk_at dksX1_lettersIn_0 16 rfl rfl)
abbrev cX1_isState : ByteArray := prog_1_method_43_code
def yX1_isState : MethodName := ⟨RX1, "isState", "(I)Z"⟩
def dkwX1_isState_0 : List UInt8 := [26, 133, 9, 20, 1, 15, 184, 0, 71, 172]
abbrev dktX1_isState_0 : List UInt8 := dkwX1_isState_0 ++ []
theorem dksX1_isState_0 : cX1_isState.data.toList.drop 0 = dktX1_isState_0 := by decide +kernel
theorem dX1_isState_0 : decode cX1_isState 0 = .ok (.iload_n 0, 1) := dk_26 (dk_at dksX1_isState_0 0 rfl rfl)
theorem dX1_isState_1 : decode cX1_isState 1 = .ok (.i2l, 1) := dk_133 (dk_at dksX1_isState_0 1 rfl rfl)
theorem dX1_isState_2 : decode cX1_isState 2 = .ok (.lconst 0, 1) := dk_9 (dk_at dksX1_isState_0 2 rfl rfl)
theorem dX1_isState_3 : decode cX1_isState 3 = .ok (.ldc2_w 271, 3) := dk_20 1 15 (dk_at dksX1_isState_0 3 rfl rfl)
theorem dX1_isState_6 : decode cX1_isState 6 = .ok (.invokestatic 71, 3) := dk_184 0 71 (dk_at dksX1_isState_0 6 rfl rfl)
theorem dX1_isState_9 : decode cX1_isState 9 = .ok (.ireturn, 1) := dk_172 (dk_at dksX1_isState_0 9 rfl rfl)
abbrev cX1_setIn : ByteArray := prog_1_method_42_code
def yX1_setIn : MethodName := ⟨RX1, "setIn", "(I)I"⟩
def dkwX1_setIn_1 : List UInt8 := [160, 0, 9, 28, 4, 29, 120, 128, 61, 132, 3, 1, 167, 255, 226, 28, 172]
abbrev dktX1_setIn_1 : List UInt8 := dkwX1_setIn_1 ++ []
def dkwX1_setIn_0 : List UInt8 := [3, 61, 3, 62, 29, 42, 182, 0, 119, 162, 0, 28, 42, 180, 0, 31, 180, 0, 250, 29, 46, 27]
abbrev dktX1_setIn_0 : List UInt8 := dkwX1_setIn_0 ++ dktX1_setIn_1
theorem dksX1_setIn_0 : cX1_setIn.data.toList.drop 0 = dktX1_setIn_0 := by decide +kernel
theorem dksX1_setIn_1 : cX1_setIn.data.toList.drop 22 = dktX1_setIn_1 := dk_seg dksX1_setIn_0 22 rfl rfl
theorem dX1_setIn_0 : decode cX1_setIn 0 = .ok (.iconst 0, 1) := dk_3 (dk_at dksX1_setIn_0 0 rfl rfl)
theorem dX1_setIn_1 : decode cX1_setIn 1 = .ok (.istore_n 2, 1) := dk_61 (dk_at dksX1_setIn_0 1 rfl rfl)
theorem dX1_setIn_2 : decode cX1_setIn 2 = .ok (.iconst 0, 1) := dk_3 (dk_at dksX1_setIn_0 2 rfl rfl)
theorem dX1_setIn_3 : decode cX1_setIn 3 = .ok (.istore_n 3, 1) := dk_62 (dk_at dksX1_setIn_0 3 rfl rfl)
theorem dX1_setIn_4 : decode cX1_setIn 4 = .ok (.iload_n 3, 1) := dk_29 (dk_at dksX1_setIn_0 4 rfl rfl)
theorem dX1_setIn_5 : decode cX1_setIn 5 = .ok (.aload_n 0, 1) := dk_42 (dk_at dksX1_setIn_0 5 rfl rfl)
theorem dX1_setIn_6 : decode cX1_setIn 6 = .ok (.invokevirtual 119, 3) := dk_182 0 119 (dk_at dksX1_setIn_0 6 rfl rfl)
theorem dX1_setIn_9 : decode cX1_setIn 9 = .ok (.if_icmp .ge 28, 3) := dk_162 0 28 (dk_at dksX1_setIn_0 9 rfl rfl)
theorem dX1_setIn_12 : decode cX1_setIn 12 = .ok (.aload_n 0, 1) := dk_42 (dk_at dksX1_setIn_0 12 rfl rfl)
theorem dX1_setIn_13 : decode cX1_setIn 13 = .ok (.getfield 31, 3) := dk_180 0 31 (dk_at dksX1_setIn_0 13 rfl rfl)
theorem dX1_setIn_16 : decode cX1_setIn 16 = .ok (.getfield 250, 3) := dk_180 0 250 (dk_at dksX1_setIn_0 16 rfl rfl)
theorem dX1_setIn_19 : decode cX1_setIn 19 = .ok (.iload_n 3, 1) := dk_29 (dk_at dksX1_setIn_0 19 rfl rfl)
theorem dX1_setIn_20 : decode cX1_setIn 20 = .ok (.iaload, 1) := dk_46 (dk_at dksX1_setIn_0 20 rfl rfl)
theorem dX1_setIn_21 : decode cX1_setIn 21 = .ok (.iload_n 1, 1) := dk_27 (dk_at dksX1_setIn_0 21 rfl rfl)
theorem dX1_setIn_22 : decode cX1_setIn 22 = .ok (.if_icmp .ne 9, 3) := dk_160 0 9 (dk_at dksX1_setIn_1 0 rfl rfl)
theorem dX1_setIn_25 : decode cX1_setIn 25 = .ok (.iload_n 2, 1) := dk_28 (dk_at dksX1_setIn_1 3 rfl rfl)
theorem dX1_setIn_26 : decode cX1_setIn 26 = .ok (.iconst 1, 1) := dk_4 (dk_at dksX1_setIn_1 4 rfl rfl)
theorem dX1_setIn_27 : decode cX1_setIn 27 = .ok (.iload_n 3, 1) := dk_29 (dk_at dksX1_setIn_1 5 rfl rfl)
theorem dX1_setIn_28 : decode cX1_setIn 28 = .ok (.ishl, 1) := dk_120 (dk_at dksX1_setIn_1 6 rfl rfl)
theorem dX1_setIn_29 : decode cX1_setIn 29 = .ok (.ior, 1) := dk_128 (dk_at dksX1_setIn_1 7 rfl rfl)
theorem dX1_setIn_30 : decode cX1_setIn 30 = .ok (.istore_n 2, 1) := dk_61 (dk_at dksX1_setIn_1 8 rfl rfl)
theorem dX1_setIn_31 : decode cX1_setIn 31 = .ok (.iinc 3 1, 3) := dk_132 3 1 (dk_at dksX1_setIn_1 9 rfl rfl)
theorem dX1_setIn_34 : decode cX1_setIn 34 = .ok (.goto (-30), 3) := dk_167 255 226 (dk_at dksX1_setIn_1 12 rfl rfl)
theorem dX1_setIn_37 : decode cX1_setIn 37 = .ok (.iload_n 2, 1) := dk_28 (dk_at dksX1_setIn_1 15 rfl rfl)
theorem dX1_setIn_38 : decode cX1_setIn 38 = .ok (.ireturn, 1) := dk_172 (dk_at dksX1_setIn_1 16 rfl rfl)
abbrev cX1_day : ByteArray := prog_1_method_45_code
def yX1_day : MethodName := ⟨RX1, "day", "()I"⟩
def dkwX1_day_0 : List UInt8 := [42, 180, 0, 31, 180, 1, 23, 172]
abbrev dktX1_day_0 : List UInt8 := dkwX1_day_0 ++ []
theorem dksX1_day_0 : cX1_day.data.toList.drop 0 = dktX1_day_0 := by decide +kernel
theorem dX1_day_0 : decode cX1_day 0 = .ok (.aload_n 0, 1) := dk_42 (dk_at dksX1_day_0 0 rfl rfl)
theorem dX1_day_1 : decode cX1_day 1 = .ok (.getfield 31, 3) := dk_180 0 31 (dk_at dksX1_day_0 1 rfl rfl)
theorem dX1_day_4 : decode cX1_day 4 = .ok (.getfield 279, 3) := dk_180 1 23 (dk_at dksX1_day_0 4 rfl rfl)
theorem dX1_day_7 : decode cX1_day 7 = .ok (.ireturn, 1) := dk_172 (dk_at dksX1_day_0 7 rfl rfl)
abbrev cX1_wind : ByteArray := prog_1_method_46_code
def yX1_wind : MethodName := ⟨RX1, "wind", "()I"⟩
def dkwX1_wind_0 : List UInt8 := [42, 182, 0, 113, 154, 0, 8, 16, 254, 167, 0, 10, 42, 180, 0, 31, 180, 0, 143, 172]
abbrev dktX1_wind_0 : List UInt8 := dkwX1_wind_0 ++ []
theorem dksX1_wind_0 : cX1_wind.data.toList.drop 0 = dktX1_wind_0 := by decide +kernel
theorem dX1_wind_0 : decode cX1_wind 0 = .ok (.aload_n 0, 1) := dk_42 (dk_at dksX1_wind_0 0 rfl rfl)
theorem dX1_wind_1 : decode cX1_wind 1 = .ok (.invokevirtual 113, 3) := dk_182 0 113 (dk_at dksX1_wind_0 1 rfl rfl)
theorem dX1_wind_4 : decode cX1_wind 4 = .ok (.ifCond .ne 8, 3) := dk_154 0 8 (dk_at dksX1_wind_0 4 rfl rfl)
theorem dX1_wind_7 : decode cX1_wind 7 = .ok (.bipush (-2), 2) := dk_16 254 (dk_at dksX1_wind_0 7 rfl rfl)
theorem dX1_wind_9 : decode cX1_wind 9 = .ok (.goto 10, 3) := dk_167 0 10 (dk_at dksX1_wind_0 9 rfl rfl)
theorem dX1_wind_12 : decode cX1_wind 12 = .ok (.aload_n 0, 1) := dk_42 (dk_at dksX1_wind_0 12 rfl rfl)
theorem dX1_wind_13 : decode cX1_wind 13 = .ok (.getfield 31, 3) := dk_180 0 31 (dk_at dksX1_wind_0 13 rfl rfl)
theorem dX1_wind_16 : decode cX1_wind 16 = .ok (.getfield 143, 3) := dk_180 0 143 (dk_at dksX1_wind_0 16 rfl rfl)
theorem dX1_wind_19 : decode cX1_wind 19 = .ok (.ireturn, 1) := dk_172 (dk_at dksX1_wind_0 19 rfl rfl)
abbrev cX1_launch : ByteArray := prog_1_method_48_code
def yX1_launch : MethodName := ⟨RX1, "launch", "(II)I"⟩
def dkwX1_launch_14 : List UInt8 := [181, 1, 71, 21, 5, 172]
abbrev dktX1_launch_14 : List UInt8 := dkwX1_launch_14 ++ []
def dkwX1_launch_13 : List UInt8 := [192, 0, 191, 182, 1, 67, 167, 0, 19, 42, 180, 0, 31, 89, 180, 1, 71, 45, 180, 0, 231, 96]
abbrev dktX1_launch_13 : List UInt8 := dkwX1_launch_13 ++ dktX1_launch_14
def dkwX1_launch_12 : List UInt8 := [21, 5, 6, 160, 0, 30, 42, 27, 45, 180, 0, 231, 42, 180, 0, 22, 180, 0, 95, 21, 4, 182, 0, 126]
abbrev dktX1_launch_12 : List UInt8 := dkwX1_launch_12 ++ dktX1_launch_13
def dkwX1_launch_11 : List UInt8 := [42, 180, 0, 31, 180, 1, 43, 27, 50, 3, 21, 5, 6, 160, 0, 7, 5, 167, 0, 4, 4, 182, 1, 63]
abbrev dktX1_launch_11 : List UInt8 := dkwX1_launch_11 ++ dktX1_launch_12
def dkwX1_launch_10 : List UInt8 := [180, 0, 31, 180, 0, 234, 27, 21, 5, 79, 42, 180, 0, 31, 21, 5, 27, 182, 1, 60, 42, 180, 0, 31]
abbrev dktX1_launch_10 : List UInt8 := dkwX1_launch_10 ++ dktX1_launch_11
def dkwX1_launch_9 : List UInt8 := [21, 4, 182, 0, 126, 192, 0, 191, 180, 0, 193, 162, 0, 7, 5, 167, 0, 4, 6, 54, 5, 42]
abbrev dktX1_launch_9 : List UInt8 := dkwX1_launch_9 ++ dktX1_launch_10
def dkwX1_launch_8 : List UInt8 := [16, 254, 160, 0, 7, 4, 167, 0, 36, 42, 180, 0, 31, 182, 1, 51, 42, 180, 0, 22, 180, 0, 95]
abbrev dktX1_launch_8 : List UInt8 := dkwX1_launch_8 ++ dktX1_launch_9
def dkwX1_launch_7 : List UInt8 := [182, 1, 51, 16, 254, 182, 1, 54, 54, 4, 42, 180, 0, 31, 180, 1, 57, 27, 21, 4, 79, 21, 4]
abbrev dktX1_launch_7 : List UInt8 := dkwX1_launch_7 ++ dktX1_launch_8
def dkwX1_launch_6 : List UInt8 := [180, 0, 102, 42, 180, 0, 31, 180, 0, 143, 182, 0, 126, 192, 0, 149, 180, 0, 186, 42, 180, 0, 31]
abbrev dktX1_launch_6 : List UInt8 := dkwX1_launch_6 ++ dktX1_launch_7
def dkwX1_launch_5 : List UInt8 := [180, 0, 231, 100, 181, 1, 37, 42, 180, 0, 31, 180, 1, 43, 27, 28, 184, 1, 47, 83, 42, 180, 0, 22]
abbrev dktX1_launch_5 : List UInt8 := dkwX1_launch_5 ++ dktX1_launch_6
def dkwX1_launch_4 : List UInt8 := [45, 180, 0, 231, 162, 0, 6, 16, 252, 172, 42, 182, 1, 40, 42, 180, 0, 31, 89, 180, 1, 37, 45]
abbrev dktX1_launch_4 : List UInt8 := dkwX1_launch_4 ++ dktX1_launch_5
def dkwX1_launch_3 : List UInt8 := [180, 0, 22, 28, 182, 1, 12, 45, 180, 0, 132, 164, 0, 6, 16, 253, 172, 42, 180, 0, 31, 180, 1, 37]
abbrev dktX1_launch_3 : List UInt8 := dkwX1_launch_3 ++ dktX1_launch_4
def dkwX1_launch_2 : List UInt8 := [154, 0, 6, 16, 254, 172, 42, 180, 0, 22, 180, 0, 104, 27, 182, 0, 126, 192, 0, 130, 78, 42]
abbrev dktX1_launch_2 : List UInt8 := dkwX1_launch_2 ++ dktX1_launch_3
def dkwX1_launch_1 : List UInt8 := [180, 0, 234, 27, 46, 154, 0, 22, 28, 42, 3, 182, 1, 20, 2, 130, 126, 154, 0, 10, 42, 182, 0, 113]
abbrev dktX1_launch_1 : List UInt8 := dkwX1_launch_1 ++ dktX1_launch_2
def dkwX1_launch_0 : List UInt8 := [42, 27, 182, 0, 122, 153, 0, 11, 42, 28, 182, 1, 9, 154, 0, 5, 2, 172, 42, 180, 0, 31]
abbrev dktX1_launch_0 : List UInt8 := dkwX1_launch_0 ++ dktX1_launch_1
theorem dksX1_launch_0 : cX1_launch.data.toList.drop 0 = dktX1_launch_0 := by decide +kernel
theorem dksX1_launch_1 : cX1_launch.data.toList.drop 22 = dktX1_launch_1 := dk_seg dksX1_launch_0 22 rfl rfl
theorem dksX1_launch_2 : cX1_launch.data.toList.drop 46 = dktX1_launch_2 := dk_seg dksX1_launch_1 24 rfl rfl
theorem dksX1_launch_3 : cX1_launch.data.toList.drop 68 = dktX1_launch_3 := dk_seg dksX1_launch_2 22 rfl rfl
theorem dksX1_launch_4 : cX1_launch.data.toList.drop 92 = dktX1_launch_4 := dk_seg dksX1_launch_3 24 rfl rfl
theorem dksX1_launch_5 : cX1_launch.data.toList.drop 115 = dktX1_launch_5 := dk_seg dksX1_launch_4 23 rfl rfl
theorem dksX1_launch_6 : cX1_launch.data.toList.drop 139 = dktX1_launch_6 := dk_seg dksX1_launch_5 24 rfl rfl
theorem dksX1_launch_7 : cX1_launch.data.toList.drop 162 = dktX1_launch_7 := dk_seg dksX1_launch_6 23 rfl rfl
theorem dksX1_launch_8 : cX1_launch.data.toList.drop 185 = dktX1_launch_8 := dk_seg dksX1_launch_7 23 rfl rfl
theorem dksX1_launch_9 : cX1_launch.data.toList.drop 208 = dktX1_launch_9 := dk_seg dksX1_launch_8 23 rfl rfl
theorem dksX1_launch_10 : cX1_launch.data.toList.drop 230 = dktX1_launch_10 := dk_seg dksX1_launch_9 22 rfl rfl
theorem dksX1_launch_11 : cX1_launch.data.toList.drop 254 = dktX1_launch_11 := dk_seg dksX1_launch_10 24 rfl rfl
theorem dksX1_launch_12 : cX1_launch.data.toList.drop 278 = dktX1_launch_12 := dk_seg dksX1_launch_11 24 rfl rfl
theorem dksX1_launch_13 : cX1_launch.data.toList.drop 302 = dktX1_launch_13 := dk_seg dksX1_launch_12 24 rfl rfl
theorem dksX1_launch_14 : cX1_launch.data.toList.drop 324 = dktX1_launch_14 := dk_seg dksX1_launch_13 22 rfl rfl
theorem dX1_launch_0 : decode cX1_launch 0 = .ok (.aload_n 0, 1) := dk_42 (dk_at dksX1_launch_0 0 rfl rfl)
theorem dX1_launch_1 : decode cX1_launch 1 = .ok (.iload_n 1, 1) := dk_27 (dk_at dksX1_launch_0 1 rfl rfl)
theorem dX1_launch_2 : decode cX1_launch 2 = .ok (.invokevirtual 122, 3) := dk_182 0 122 (dk_at dksX1_launch_0 2 rfl rfl)
theorem dX1_launch_5 : decode cX1_launch 5 = .ok (.ifCond .eq 11, 3) := dk_153 0 11 (dk_at dksX1_launch_0 5 rfl rfl)
theorem dX1_launch_8 : decode cX1_launch 8 = .ok (.aload_n 0, 1) := dk_42 (dk_at dksX1_launch_0 8 rfl rfl)
theorem dX1_launch_9 : decode cX1_launch 9 = .ok (.iload_n 2, 1) := dk_28 (dk_at dksX1_launch_0 9 rfl rfl)
theorem dX1_launch_10 : decode cX1_launch 10 = .ok (.invokevirtual 265, 3) := dk_182 1 9 (dk_at dksX1_launch_0 10 rfl rfl)
theorem dX1_launch_13 : decode cX1_launch 13 = .ok (.ifCond .ne 5, 3) := dk_154 0 5 (dk_at dksX1_launch_0 13 rfl rfl)
theorem dX1_launch_16 : decode cX1_launch 16 = .ok (.iconst (-1), 1) := dk_2 (dk_at dksX1_launch_0 16 rfl rfl)
theorem dX1_launch_17 : decode cX1_launch 17 = .ok (.ireturn, 1) := dk_172 (dk_at dksX1_launch_0 17 rfl rfl)
theorem dX1_launch_18 : decode cX1_launch 18 = .ok (.aload_n 0, 1) := dk_42 (dk_at dksX1_launch_0 18 rfl rfl)
theorem dX1_launch_19 : decode cX1_launch 19 = .ok (.getfield 31, 3) := dk_180 0 31 (dk_at dksX1_launch_0 19 rfl rfl)
theorem dX1_launch_22 : decode cX1_launch 22 = .ok (.getfield 234, 3) := dk_180 0 234 (dk_at dksX1_launch_1 0 rfl rfl)
theorem dX1_launch_25 : decode cX1_launch 25 = .ok (.iload_n 1, 1) := dk_27 (dk_at dksX1_launch_1 3 rfl rfl)
theorem dX1_launch_26 : decode cX1_launch 26 = .ok (.iaload, 1) := dk_46 (dk_at dksX1_launch_1 4 rfl rfl)
theorem dX1_launch_27 : decode cX1_launch 27 = .ok (.ifCond .ne 22, 3) := dk_154 0 22 (dk_at dksX1_launch_1 5 rfl rfl)
theorem dX1_launch_30 : decode cX1_launch 30 = .ok (.iload_n 2, 1) := dk_28 (dk_at dksX1_launch_1 8 rfl rfl)
theorem dX1_launch_31 : decode cX1_launch 31 = .ok (.aload_n 0, 1) := dk_42 (dk_at dksX1_launch_1 9 rfl rfl)
theorem dX1_launch_32 : decode cX1_launch 32 = .ok (.iconst 0, 1) := dk_3 (dk_at dksX1_launch_1 10 rfl rfl)
theorem dX1_launch_33 : decode cX1_launch 33 = .ok (.invokevirtual 276, 3) := dk_182 1 20 (dk_at dksX1_launch_1 11 rfl rfl)
theorem dX1_launch_36 : decode cX1_launch 36 = .ok (.iconst (-1), 1) := dk_2 (dk_at dksX1_launch_1 14 rfl rfl)
theorem dX1_launch_37 : decode cX1_launch 37 = .ok (.ixor, 1) := dk_130 (dk_at dksX1_launch_1 15 rfl rfl)
theorem dX1_launch_38 : decode cX1_launch 38 = .ok (.iand, 1) := dk_126 (dk_at dksX1_launch_1 16 rfl rfl)
theorem dX1_launch_39 : decode cX1_launch 39 = .ok (.ifCond .ne 10, 3) := dk_154 0 10 (dk_at dksX1_launch_1 17 rfl rfl)
theorem dX1_launch_42 : decode cX1_launch 42 = .ok (.aload_n 0, 1) := dk_42 (dk_at dksX1_launch_1 20 rfl rfl)
theorem dX1_launch_43 : decode cX1_launch 43 = .ok (.invokevirtual 113, 3) := dk_182 0 113 (dk_at dksX1_launch_1 21 rfl rfl)
theorem dX1_launch_46 : decode cX1_launch 46 = .ok (.ifCond .ne 6, 3) := dk_154 0 6 (dk_at dksX1_launch_2 0 rfl rfl)
theorem dX1_launch_49 : decode cX1_launch 49 = .ok (.bipush (-2), 2) := dk_16 254 (dk_at dksX1_launch_2 3 rfl rfl)
theorem dX1_launch_51 : decode cX1_launch 51 = .ok (.ireturn, 1) := dk_172 (dk_at dksX1_launch_2 5 rfl rfl)
theorem dX1_launch_52 : decode cX1_launch 52 = .ok (.aload_n 0, 1) := dk_42 (dk_at dksX1_launch_2 6 rfl rfl)
theorem dX1_launch_53 : decode cX1_launch 53 = .ok (.getfield 22, 3) := dk_180 0 22 (dk_at dksX1_launch_2 7 rfl rfl)
theorem dX1_launch_56 : decode cX1_launch 56 = .ok (.getfield 104, 3) := dk_180 0 104 (dk_at dksX1_launch_2 10 rfl rfl)
theorem dX1_launch_59 : decode cX1_launch 59 = .ok (.iload_n 1, 1) := dk_27 (dk_at dksX1_launch_2 13 rfl rfl)
theorem dX1_launch_60 : decode cX1_launch 60 = .ok (.invokevirtual 126, 3) := dk_182 0 126 (dk_at dksX1_launch_2 14 rfl rfl)
theorem dX1_launch_63 : decode cX1_launch 63 = .ok (.checkcast 130, 3) := dk_192 0 130 (dk_at dksX1_launch_2 17 rfl rfl)
theorem dX1_launch_66 : decode cX1_launch 66 = .ok (.astore_n 3, 1) := dk_78 (dk_at dksX1_launch_2 20 rfl rfl)
theorem dX1_launch_67 : decode cX1_launch 67 = .ok (.aload_n 0, 1) := dk_42 (dk_at dksX1_launch_2 21 rfl rfl)
theorem dX1_launch_68 : decode cX1_launch 68 = .ok (.getfield 22, 3) := dk_180 0 22 (dk_at dksX1_launch_3 0 rfl rfl)
theorem dX1_launch_71 : decode cX1_launch 71 = .ok (.iload_n 2, 1) := dk_28 (dk_at dksX1_launch_3 3 rfl rfl)
theorem dX1_launch_72 : decode cX1_launch 72 = .ok (.invokevirtual 268, 3) := dk_182 1 12 (dk_at dksX1_launch_3 4 rfl rfl)
theorem dX1_launch_75 : decode cX1_launch 75 = .ok (.aload_n 3, 1) := dk_45 (dk_at dksX1_launch_3 7 rfl rfl)
theorem dX1_launch_76 : decode cX1_launch 76 = .ok (.getfield 132, 3) := dk_180 0 132 (dk_at dksX1_launch_3 8 rfl rfl)
theorem dX1_launch_79 : decode cX1_launch 79 = .ok (.if_icmp .le 6, 3) := dk_164 0 6 (dk_at dksX1_launch_3 11 rfl rfl)
theorem dX1_launch_82 : decode cX1_launch 82 = .ok (.bipush (-3), 2) := dk_16 253 (dk_at dksX1_launch_3 14 rfl rfl)
theorem dX1_launch_84 : decode cX1_launch 84 = .ok (.ireturn, 1) := dk_172 (dk_at dksX1_launch_3 16 rfl rfl)
theorem dX1_launch_85 : decode cX1_launch 85 = .ok (.aload_n 0, 1) := dk_42 (dk_at dksX1_launch_3 17 rfl rfl)
theorem dX1_launch_86 : decode cX1_launch 86 = .ok (.getfield 31, 3) := dk_180 0 31 (dk_at dksX1_launch_3 18 rfl rfl)
theorem dX1_launch_89 : decode cX1_launch 89 = .ok (.getfield 293, 3) := dk_180 1 37 (dk_at dksX1_launch_3 21 rfl rfl)
theorem dX1_launch_92 : decode cX1_launch 92 = .ok (.aload_n 3, 1) := dk_45 (dk_at dksX1_launch_4 0 rfl rfl)
theorem dX1_launch_93 : decode cX1_launch 93 = .ok (.getfield 231, 3) := dk_180 0 231 (dk_at dksX1_launch_4 1 rfl rfl)
theorem dX1_launch_96 : decode cX1_launch 96 = .ok (.if_icmp .ge 6, 3) := dk_162 0 6 (dk_at dksX1_launch_4 4 rfl rfl)
theorem dX1_launch_99 : decode cX1_launch 99 = .ok (.bipush (-4), 2) := dk_16 252 (dk_at dksX1_launch_4 7 rfl rfl)
theorem dX1_launch_101 : decode cX1_launch 101 = .ok (.ireturn, 1) := dk_172 (dk_at dksX1_launch_4 9 rfl rfl)
theorem dX1_launch_102 : decode cX1_launch 102 = .ok (.aload_n 0, 1) := dk_42 (dk_at dksX1_launch_4 10 rfl rfl)
theorem dX1_launch_103 : decode cX1_launch 103 = .ok (.invokevirtual 296, 3) := dk_182 1 40 (dk_at dksX1_launch_4 11 rfl rfl)
theorem dX1_launch_106 : decode cX1_launch 106 = .ok (.aload_n 0, 1) := dk_42 (dk_at dksX1_launch_4 14 rfl rfl)
theorem dX1_launch_107 : decode cX1_launch 107 = .ok (.getfield 31, 3) := dk_180 0 31 (dk_at dksX1_launch_4 15 rfl rfl)
theorem dX1_launch_110 : decode cX1_launch 110 = .ok (.dup, 1) := dk_89 (dk_at dksX1_launch_4 18 rfl rfl)
theorem dX1_launch_111 : decode cX1_launch 111 = .ok (.getfield 293, 3) := dk_180 1 37 (dk_at dksX1_launch_4 19 rfl rfl)
theorem dX1_launch_114 : decode cX1_launch 114 = .ok (.aload_n 3, 1) := dk_45 (dk_at dksX1_launch_4 22 rfl rfl)
theorem dX1_launch_115 : decode cX1_launch 115 = .ok (.getfield 231, 3) := dk_180 0 231 (dk_at dksX1_launch_5 0 rfl rfl)
theorem dX1_launch_118 : decode cX1_launch 118 = .ok (.isub, 1) := dk_100 (dk_at dksX1_launch_5 3 rfl rfl)
theorem dX1_launch_119 : decode cX1_launch 119 = .ok (.putfield 293, 3) := dk_181 1 37 (dk_at dksX1_launch_5 4 rfl rfl)
theorem dX1_launch_122 : decode cX1_launch 122 = .ok (.aload_n 0, 1) := dk_42 (dk_at dksX1_launch_5 7 rfl rfl)
theorem dX1_launch_123 : decode cX1_launch 123 = .ok (.getfield 31, 3) := dk_180 0 31 (dk_at dksX1_launch_5 8 rfl rfl)
theorem dX1_launch_126 : decode cX1_launch 126 = .ok (.getfield 299, 3) := dk_180 1 43 (dk_at dksX1_launch_5 11 rfl rfl)
theorem dX1_launch_129 : decode cX1_launch 129 = .ok (.iload_n 1, 1) := dk_27 (dk_at dksX1_launch_5 14 rfl rfl)
theorem dX1_launch_130 : decode cX1_launch 130 = .ok (.iload_n 2, 1) := dk_28 (dk_at dksX1_launch_5 15 rfl rfl)
theorem dX1_launch_131 : decode cX1_launch 131 = .ok (.invokestatic 303, 3) := dk_184 1 47 (dk_at dksX1_launch_5 16 rfl rfl)
theorem dX1_launch_134 : decode cX1_launch 134 = .ok (.aastore, 1) := dk_83 (dk_at dksX1_launch_5 19 rfl rfl)
theorem dX1_launch_135 : decode cX1_launch 135 = .ok (.aload_n 0, 1) := dk_42 (dk_at dksX1_launch_5 20 rfl rfl)
theorem dX1_launch_136 : decode cX1_launch 136 = .ok (.getfield 22, 3) := dk_180 0 22 (dk_at dksX1_launch_5 21 rfl rfl)
theorem dX1_launch_139 : decode cX1_launch 139 = .ok (.getfield 102, 3) := dk_180 0 102 (dk_at dksX1_launch_6 0 rfl rfl)
theorem dX1_launch_142 : decode cX1_launch 142 = .ok (.aload_n 0, 1) := dk_42 (dk_at dksX1_launch_6 3 rfl rfl)
theorem dX1_launch_143 : decode cX1_launch 143 = .ok (.getfield 31, 3) := dk_180 0 31 (dk_at dksX1_launch_6 4 rfl rfl)
theorem dX1_launch_146 : decode cX1_launch 146 = .ok (.getfield 143, 3) := dk_180 0 143 (dk_at dksX1_launch_6 7 rfl rfl)
theorem dX1_launch_149 : decode cX1_launch 149 = .ok (.invokevirtual 126, 3) := dk_182 0 126 (dk_at dksX1_launch_6 10 rfl rfl)
theorem dX1_launch_152 : decode cX1_launch 152 = .ok (.checkcast 149, 3) := dk_192 0 149 (dk_at dksX1_launch_6 13 rfl rfl)
theorem dX1_launch_155 : decode cX1_launch 155 = .ok (.getfield 186, 3) := dk_180 0 186 (dk_at dksX1_launch_6 16 rfl rfl)
theorem dX1_launch_158 : decode cX1_launch 158 = .ok (.aload_n 0, 1) := dk_42 (dk_at dksX1_launch_6 19 rfl rfl)
theorem dX1_launch_159 : decode cX1_launch 159 = .ok (.getfield 31, 3) := dk_180 0 31 (dk_at dksX1_launch_6 20 rfl rfl)
theorem dX1_launch_162 : decode cX1_launch 162 = .ok (.invokevirtual 307, 3) := dk_182 1 51 (dk_at dksX1_launch_7 0 rfl rfl)
theorem dX1_launch_165 : decode cX1_launch 165 = .ok (.bipush (-2), 2) := dk_16 254 (dk_at dksX1_launch_7 3 rfl rfl)
theorem dX1_launch_167 : decode cX1_launch 167 = .ok (.invokevirtual 310, 3) := dk_182 1 54 (dk_at dksX1_launch_7 5 rfl rfl)
theorem dX1_launch_170 : decode cX1_launch 170 = .ok (.istore 4, 2) := dk_54 4 (dk_at dksX1_launch_7 8 rfl rfl)
theorem dX1_launch_172 : decode cX1_launch 172 = .ok (.aload_n 0, 1) := dk_42 (dk_at dksX1_launch_7 10 rfl rfl)
theorem dX1_launch_173 : decode cX1_launch 173 = .ok (.getfield 31, 3) := dk_180 0 31 (dk_at dksX1_launch_7 11 rfl rfl)
theorem dX1_launch_176 : decode cX1_launch 176 = .ok (.getfield 313, 3) := dk_180 1 57 (dk_at dksX1_launch_7 14 rfl rfl)
theorem dX1_launch_179 : decode cX1_launch 179 = .ok (.iload_n 1, 1) := dk_27 (dk_at dksX1_launch_7 17 rfl rfl)
theorem dX1_launch_180 : decode cX1_launch 180 = .ok (.iload 4, 2) := dk_21 4 (dk_at dksX1_launch_7 18 rfl rfl)
theorem dX1_launch_182 : decode cX1_launch 182 = .ok (.iastore, 1) := dk_79 (dk_at dksX1_launch_7 20 rfl rfl)
theorem dX1_launch_183 : decode cX1_launch 183 = .ok (.iload 4, 2) := dk_21 4 (dk_at dksX1_launch_7 21 rfl rfl)
theorem dX1_launch_185 : decode cX1_launch 185 = .ok (.bipush (-2), 2) := dk_16 254 (dk_at dksX1_launch_8 0 rfl rfl)
theorem dX1_launch_187 : decode cX1_launch 187 = .ok (.if_icmp .ne 7, 3) := dk_160 0 7 (dk_at dksX1_launch_8 2 rfl rfl)
theorem dX1_launch_190 : decode cX1_launch 190 = .ok (.iconst 1, 1) := dk_4 (dk_at dksX1_launch_8 5 rfl rfl)
theorem dX1_launch_191 : decode cX1_launch 191 = .ok (.goto 36, 3) := dk_167 0 36 (dk_at dksX1_launch_8 6 rfl rfl)
theorem dX1_launch_194 : decode cX1_launch 194 = .ok (.aload_n 0, 1) := dk_42 (dk_at dksX1_launch_8 9 rfl rfl)
theorem dX1_launch_195 : decode cX1_launch 195 = .ok (.getfield 31, 3) := dk_180 0 31 (dk_at dksX1_launch_8 10 rfl rfl)
theorem dX1_launch_198 : decode cX1_launch 198 = .ok (.invokevirtual 307, 3) := dk_182 1 51 (dk_at dksX1_launch_8 13 rfl rfl)
theorem dX1_launch_201 : decode cX1_launch 201 = .ok (.aload_n 0, 1) := dk_42 (dk_at dksX1_launch_8 16 rfl rfl)
theorem dX1_launch_202 : decode cX1_launch 202 = .ok (.getfield 22, 3) := dk_180 0 22 (dk_at dksX1_launch_8 17 rfl rfl)
theorem dX1_launch_205 : decode cX1_launch 205 = .ok (.getfield 95, 3) := dk_180 0 95 (dk_at dksX1_launch_8 20 rfl rfl)
theorem dX1_launch_208 : decode cX1_launch 208 = .ok (.iload 4, 2) := dk_21 4 (dk_at dksX1_launch_9 0 rfl rfl)
theorem dX1_launch_210 : decode cX1_launch 210 = .ok (.invokevirtual 126, 3) := dk_182 0 126 (dk_at dksX1_launch_9 2 rfl rfl)
theorem dX1_launch_213 : decode cX1_launch 213 = .ok (.checkcast 191, 3) := dk_192 0 191 (dk_at dksX1_launch_9 5 rfl rfl)
theorem dX1_launch_216 : decode cX1_launch 216 = .ok (.getfield 193, 3) := dk_180 0 193 (dk_at dksX1_launch_9 8 rfl rfl)
theorem dX1_launch_219 : decode cX1_launch 219 = .ok (.if_icmp .ge 7, 3) := dk_162 0 7 (dk_at dksX1_launch_9 11 rfl rfl)
theorem dX1_launch_222 : decode cX1_launch 222 = .ok (.iconst 2, 1) := dk_5 (dk_at dksX1_launch_9 14 rfl rfl)
theorem dX1_launch_223 : decode cX1_launch 223 = .ok (.goto 4, 3) := dk_167 0 4 (dk_at dksX1_launch_9 15 rfl rfl)
theorem dX1_launch_226 : decode cX1_launch 226 = .ok (.iconst 3, 1) := dk_6 (dk_at dksX1_launch_9 18 rfl rfl)
theorem dX1_launch_227 : decode cX1_launch 227 = .ok (.istore 5, 2) := dk_54 5 (dk_at dksX1_launch_9 19 rfl rfl)
theorem dX1_launch_229 : decode cX1_launch 229 = .ok (.aload_n 0, 1) := dk_42 (dk_at dksX1_launch_9 21 rfl rfl)
theorem dX1_launch_230 : decode cX1_launch 230 = .ok (.getfield 31, 3) := dk_180 0 31 (dk_at dksX1_launch_10 0 rfl rfl)
theorem dX1_launch_233 : decode cX1_launch 233 = .ok (.getfield 234, 3) := dk_180 0 234 (dk_at dksX1_launch_10 3 rfl rfl)
theorem dX1_launch_236 : decode cX1_launch 236 = .ok (.iload_n 1, 1) := dk_27 (dk_at dksX1_launch_10 6 rfl rfl)
theorem dX1_launch_237 : decode cX1_launch 237 = .ok (.iload 5, 2) := dk_21 5 (dk_at dksX1_launch_10 7 rfl rfl)
theorem dX1_launch_239 : decode cX1_launch 239 = .ok (.iastore, 1) := dk_79 (dk_at dksX1_launch_10 9 rfl rfl)
theorem dX1_launch_240 : decode cX1_launch 240 = .ok (.aload_n 0, 1) := dk_42 (dk_at dksX1_launch_10 10 rfl rfl)
theorem dX1_launch_241 : decode cX1_launch 241 = .ok (.getfield 31, 3) := dk_180 0 31 (dk_at dksX1_launch_10 11 rfl rfl)
theorem dX1_launch_244 : decode cX1_launch 244 = .ok (.iload 5, 2) := dk_21 5 (dk_at dksX1_launch_10 14 rfl rfl)
theorem dX1_launch_246 : decode cX1_launch 246 = .ok (.iload_n 1, 1) := dk_27 (dk_at dksX1_launch_10 16 rfl rfl)
theorem dX1_launch_247 : decode cX1_launch 247 = .ok (.invokevirtual 316, 3) := dk_182 1 60 (dk_at dksX1_launch_10 17 rfl rfl)
theorem dX1_launch_250 : decode cX1_launch 250 = .ok (.aload_n 0, 1) := dk_42 (dk_at dksX1_launch_10 20 rfl rfl)
theorem dX1_launch_251 : decode cX1_launch 251 = .ok (.getfield 31, 3) := dk_180 0 31 (dk_at dksX1_launch_10 21 rfl rfl)
theorem dX1_launch_254 : decode cX1_launch 254 = .ok (.aload_n 0, 1) := dk_42 (dk_at dksX1_launch_11 0 rfl rfl)
theorem dX1_launch_255 : decode cX1_launch 255 = .ok (.getfield 31, 3) := dk_180 0 31 (dk_at dksX1_launch_11 1 rfl rfl)
theorem dX1_launch_258 : decode cX1_launch 258 = .ok (.getfield 299, 3) := dk_180 1 43 (dk_at dksX1_launch_11 4 rfl rfl)
theorem dX1_launch_261 : decode cX1_launch 261 = .ok (.iload_n 1, 1) := dk_27 (dk_at dksX1_launch_11 7 rfl rfl)
theorem dX1_launch_262 : decode cX1_launch 262 = .ok (.aaload, 1) := dk_50 (dk_at dksX1_launch_11 8 rfl rfl)
theorem dX1_launch_263 : decode cX1_launch 263 = .ok (.iconst 0, 1) := dk_3 (dk_at dksX1_launch_11 9 rfl rfl)
theorem dX1_launch_264 : decode cX1_launch 264 = .ok (.iload 5, 2) := dk_21 5 (dk_at dksX1_launch_11 10 rfl rfl)
theorem dX1_launch_266 : decode cX1_launch 266 = .ok (.iconst 3, 1) := dk_6 (dk_at dksX1_launch_11 12 rfl rfl)
theorem dX1_launch_267 : decode cX1_launch 267 = .ok (.if_icmp .ne 7, 3) := dk_160 0 7 (dk_at dksX1_launch_11 13 rfl rfl)
theorem dX1_launch_270 : decode cX1_launch 270 = .ok (.iconst 2, 1) := dk_5 (dk_at dksX1_launch_11 16 rfl rfl)
theorem dX1_launch_271 : decode cX1_launch 271 = .ok (.goto 4, 3) := dk_167 0 4 (dk_at dksX1_launch_11 17 rfl rfl)
theorem dX1_launch_274 : decode cX1_launch 274 = .ok (.iconst 1, 1) := dk_4 (dk_at dksX1_launch_11 20 rfl rfl)
theorem dX1_launch_275 : decode cX1_launch 275 = .ok (.invokevirtual 319, 3) := dk_182 1 63 (dk_at dksX1_launch_11 21 rfl rfl)
theorem dX1_launch_278 : decode cX1_launch 278 = .ok (.iload 5, 2) := dk_21 5 (dk_at dksX1_launch_12 0 rfl rfl)
theorem dX1_launch_280 : decode cX1_launch 280 = .ok (.iconst 3, 1) := dk_6 (dk_at dksX1_launch_12 2 rfl rfl)
theorem dX1_launch_281 : decode cX1_launch 281 = .ok (.if_icmp .ne 30, 3) := dk_160 0 30 (dk_at dksX1_launch_12 3 rfl rfl)
theorem dX1_launch_284 : decode cX1_launch 284 = .ok (.aload_n 0, 1) := dk_42 (dk_at dksX1_launch_12 6 rfl rfl)
theorem dX1_launch_285 : decode cX1_launch 285 = .ok (.iload_n 1, 1) := dk_27 (dk_at dksX1_launch_12 7 rfl rfl)
theorem dX1_launch_286 : decode cX1_launch 286 = .ok (.aload_n 3, 1) := dk_45 (dk_at dksX1_launch_12 8 rfl rfl)
theorem dX1_launch_287 : decode cX1_launch 287 = .ok (.getfield 231, 3) := dk_180 0 231 (dk_at dksX1_launch_12 9 rfl rfl)
theorem dX1_launch_290 : decode cX1_launch 290 = .ok (.aload_n 0, 1) := dk_42 (dk_at dksX1_launch_12 12 rfl rfl)
theorem dX1_launch_291 : decode cX1_launch 291 = .ok (.getfield 22, 3) := dk_180 0 22 (dk_at dksX1_launch_12 13 rfl rfl)
theorem dX1_launch_294 : decode cX1_launch 294 = .ok (.getfield 95, 3) := dk_180 0 95 (dk_at dksX1_launch_12 16 rfl rfl)
theorem dX1_launch_297 : decode cX1_launch 297 = .ok (.iload 4, 2) := dk_21 4 (dk_at dksX1_launch_12 19 rfl rfl)
theorem dX1_launch_299 : decode cX1_launch 299 = .ok (.invokevirtual 126, 3) := dk_182 0 126 (dk_at dksX1_launch_12 21 rfl rfl)
theorem dX1_launch_302 : decode cX1_launch 302 = .ok (.checkcast 191, 3) := dk_192 0 191 (dk_at dksX1_launch_13 0 rfl rfl)
theorem dX1_launch_305 : decode cX1_launch 305 = .ok (.invokevirtual 323, 3) := dk_182 1 67 (dk_at dksX1_launch_13 3 rfl rfl)
theorem dX1_launch_308 : decode cX1_launch 308 = .ok (.goto 19, 3) := dk_167 0 19 (dk_at dksX1_launch_13 6 rfl rfl)
theorem dX1_launch_311 : decode cX1_launch 311 = .ok (.aload_n 0, 1) := dk_42 (dk_at dksX1_launch_13 9 rfl rfl)
theorem dX1_launch_312 : decode cX1_launch 312 = .ok (.getfield 31, 3) := dk_180 0 31 (dk_at dksX1_launch_13 10 rfl rfl)
theorem dX1_launch_315 : decode cX1_launch 315 = .ok (.dup, 1) := dk_89 (dk_at dksX1_launch_13 13 rfl rfl)
theorem dX1_launch_316 : decode cX1_launch 316 = .ok (.getfield 327, 3) := dk_180 1 71 (dk_at dksX1_launch_13 14 rfl rfl)
theorem dX1_launch_319 : decode cX1_launch 319 = .ok (.aload_n 3, 1) := dk_45 (dk_at dksX1_launch_13 17 rfl rfl)
theorem dX1_launch_320 : decode cX1_launch 320 = .ok (.getfield 231, 3) := dk_180 0 231 (dk_at dksX1_launch_13 18 rfl rfl)
theorem dX1_launch_323 : decode cX1_launch 323 = .ok (.iadd, 1) := dk_96 (dk_at dksX1_launch_13 21 rfl rfl)
theorem dX1_launch_324 : decode cX1_launch 324 = .ok (.putfield 327, 3) := dk_181 1 71 (dk_at dksX1_launch_14 0 rfl rfl)
theorem dX1_launch_327 : decode cX1_launch 327 = .ok (.iload 5, 2) := dk_21 5 (dk_at dksX1_launch_14 3 rfl rfl)
theorem dX1_launch_329 : decode cX1_launch 329 = .ok (.ireturn, 1) := dk_172 (dk_at dksX1_launch_14 5 rfl rfl)
abbrev cX1_keep : ByteArray := prog_1_method_47_code
def yX1_keep : MethodName := ⟨RX1, "keep", "()V"⟩
def dkwX1_keep_1 : List UInt8 := [180, 0, 40, 42, 180, 0, 31, 42, 180, 0, 22, 182, 1, 29, 182, 1, 33, 87, 177]
abbrev dktX1_keep_1 : List UInt8 := dkwX1_keep_1 ++ []
def dkwX1_keep_0 : List UInt8 := [42, 180, 0, 40, 182, 0, 98, 16, 12, 160, 0, 12, 42, 180, 0, 40, 3, 182, 1, 26, 87, 42]
abbrev dktX1_keep_0 : List UInt8 := dkwX1_keep_0 ++ dktX1_keep_1
theorem dksX1_keep_0 : cX1_keep.data.toList.drop 0 = dktX1_keep_0 := by decide +kernel
theorem dksX1_keep_1 : cX1_keep.data.toList.drop 22 = dktX1_keep_1 := dk_seg dksX1_keep_0 22 rfl rfl
theorem dX1_keep_0 : decode cX1_keep 0 = .ok (.aload_n 0, 1) := dk_42 (dk_at dksX1_keep_0 0 rfl rfl)
theorem dX1_keep_1 : decode cX1_keep 1 = .ok (.getfield 40, 3) := dk_180 0 40 (dk_at dksX1_keep_0 1 rfl rfl)
theorem dX1_keep_4 : decode cX1_keep 4 = .ok (.invokevirtual 98, 3) := dk_182 0 98 (dk_at dksX1_keep_0 4 rfl rfl)
theorem dX1_keep_7 : decode cX1_keep 7 = .ok (.bipush 12, 2) := dk_16 12 (dk_at dksX1_keep_0 7 rfl rfl)
theorem dX1_keep_9 : decode cX1_keep 9 = .ok (.if_icmp .ne 12, 3) := dk_160 0 12 (dk_at dksX1_keep_0 9 rfl rfl)
theorem dX1_keep_12 : decode cX1_keep 12 = .ok (.aload_n 0, 1) := dk_42 (dk_at dksX1_keep_0 12 rfl rfl)
theorem dX1_keep_13 : decode cX1_keep 13 = .ok (.getfield 40, 3) := dk_180 0 40 (dk_at dksX1_keep_0 13 rfl rfl)
theorem dX1_keep_16 : decode cX1_keep 16 = .ok (.iconst 0, 1) := dk_3 (dk_at dksX1_keep_0 16 rfl rfl)
theorem dX1_keep_17 : decode cX1_keep 17 = .ok (.invokevirtual 282, 3) := dk_182 1 26 (dk_at dksX1_keep_0 17 rfl rfl)
theorem dX1_keep_20 : decode cX1_keep 20 = .ok (.pop, 1) := dk_87 (dk_at dksX1_keep_0 20 rfl rfl)
theorem dX1_keep_21 : decode cX1_keep 21 = .ok (.aload_n 0, 1) := dk_42 (dk_at dksX1_keep_0 21 rfl rfl)
theorem dX1_keep_22 : decode cX1_keep 22 = .ok (.getfield 40, 3) := dk_180 0 40 (dk_at dksX1_keep_1 0 rfl rfl)
theorem dX1_keep_25 : decode cX1_keep 25 = .ok (.aload_n 0, 1) := dk_42 (dk_at dksX1_keep_1 3 rfl rfl)
theorem dX1_keep_26 : decode cX1_keep 26 = .ok (.getfield 31, 3) := dk_180 0 31 (dk_at dksX1_keep_1 4 rfl rfl)
theorem dX1_keep_29 : decode cX1_keep 29 = .ok (.aload_n 0, 1) := dk_42 (dk_at dksX1_keep_1 7 rfl rfl)
theorem dX1_keep_30 : decode cX1_keep 30 = .ok (.getfield 22, 3) := dk_180 0 22 (dk_at dksX1_keep_1 8 rfl rfl)
theorem dX1_keep_33 : decode cX1_keep 33 = .ok (.invokevirtual 285, 3) := dk_182 1 29 (dk_at dksX1_keep_1 11 rfl rfl)
theorem dX1_keep_36 : decode cX1_keep 36 = .ok (.invokevirtual 289, 3) := dk_182 1 33 (dk_at dksX1_keep_1 14 rfl rfl)
theorem dX1_keep_39 : decode cX1_keep 39 = .ok (.pop, 1) := dk_87 (dk_at dksX1_keep_1 17 rfl rfl)
theorem dX1_keep_40 : decode cX1_keep 40 = .ok (.return_, 1) := dk_177 (dk_at dksX1_keep_1 18 rfl rfl)
abbrev cX1_setOf : ByteArray := prog_1_method_49_code
def yX1_setOf : MethodName := ⟨RX1, "setOf", "(I)Ljava/util/BitSet;"⟩
def dkwX1_setOf_1 : List UInt8 := [160, 0, 8, 43, 28, 182, 1, 77, 132, 2, 1, 167, 255, 233, 43, 176]
abbrev dktX1_setOf_1 : List UInt8 := dkwX1_setOf_1 ++ []
def dkwX1_setOf_0 : List UInt8 := [187, 1, 74, 89, 16, 24, 183, 1, 76, 76, 3, 61, 28, 16, 24, 162, 0, 23, 26, 28, 122, 4, 126, 4]
abbrev dktX1_setOf_0 : List UInt8 := dkwX1_setOf_0 ++ dktX1_setOf_1
theorem dksX1_setOf_0 : cX1_setOf.data.toList.drop 0 = dktX1_setOf_0 := by decide +kernel
theorem dksX1_setOf_1 : cX1_setOf.data.toList.drop 24 = dktX1_setOf_1 := dk_seg dksX1_setOf_0 24 rfl rfl
theorem dX1_setOf_0 : decode cX1_setOf 0 = .ok (.new 330, 3) := dk_187 1 74 (dk_at dksX1_setOf_0 0 rfl rfl)
theorem dX1_setOf_3 : decode cX1_setOf 3 = .ok (.dup, 1) := dk_89 (dk_at dksX1_setOf_0 3 rfl rfl)
theorem dX1_setOf_4 : decode cX1_setOf 4 = .ok (.bipush 24, 2) := dk_16 24 (dk_at dksX1_setOf_0 4 rfl rfl)
theorem dX1_setOf_6 : decode cX1_setOf 6 = .ok (.invokespecial 332, 3) := dk_183 1 76 (dk_at dksX1_setOf_0 6 rfl rfl)
theorem dX1_setOf_9 : decode cX1_setOf 9 = .ok (.astore_n 1, 1) := dk_76 (dk_at dksX1_setOf_0 9 rfl rfl)
theorem dX1_setOf_10 : decode cX1_setOf 10 = .ok (.iconst 0, 1) := dk_3 (dk_at dksX1_setOf_0 10 rfl rfl)
theorem dX1_setOf_11 : decode cX1_setOf 11 = .ok (.istore_n 2, 1) := dk_61 (dk_at dksX1_setOf_0 11 rfl rfl)
theorem dX1_setOf_12 : decode cX1_setOf 12 = .ok (.iload_n 2, 1) := dk_28 (dk_at dksX1_setOf_0 12 rfl rfl)
theorem dX1_setOf_13 : decode cX1_setOf 13 = .ok (.bipush 24, 2) := dk_16 24 (dk_at dksX1_setOf_0 13 rfl rfl)
theorem dX1_setOf_15 : decode cX1_setOf 15 = .ok (.if_icmp .ge 23, 3) := dk_162 0 23 (dk_at dksX1_setOf_0 15 rfl rfl)
theorem dX1_setOf_18 : decode cX1_setOf 18 = .ok (.iload_n 0, 1) := dk_26 (dk_at dksX1_setOf_0 18 rfl rfl)
theorem dX1_setOf_19 : decode cX1_setOf 19 = .ok (.iload_n 2, 1) := dk_28 (dk_at dksX1_setOf_0 19 rfl rfl)
theorem dX1_setOf_20 : decode cX1_setOf 20 = .ok (.ishr, 1) := dk_122 (dk_at dksX1_setOf_0 20 rfl rfl)
theorem dX1_setOf_21 : decode cX1_setOf 21 = .ok (.iconst 1, 1) := dk_4 (dk_at dksX1_setOf_0 21 rfl rfl)
theorem dX1_setOf_22 : decode cX1_setOf 22 = .ok (.iand, 1) := dk_126 (dk_at dksX1_setOf_0 22 rfl rfl)
theorem dX1_setOf_23 : decode cX1_setOf 23 = .ok (.iconst 1, 1) := dk_4 (dk_at dksX1_setOf_0 23 rfl rfl)
theorem dX1_setOf_24 : decode cX1_setOf 24 = .ok (.if_icmp .ne 8, 3) := dk_160 0 8 (dk_at dksX1_setOf_1 0 rfl rfl)
theorem dX1_setOf_27 : decode cX1_setOf 27 = .ok (.aload_n 1, 1) := dk_43 (dk_at dksX1_setOf_1 3 rfl rfl)
theorem dX1_setOf_28 : decode cX1_setOf 28 = .ok (.iload_n 2, 1) := dk_28 (dk_at dksX1_setOf_1 4 rfl rfl)
theorem dX1_setOf_29 : decode cX1_setOf 29 = .ok (.invokevirtual 333, 3) := dk_182 1 77 (dk_at dksX1_setOf_1 5 rfl rfl)
theorem dX1_setOf_32 : decode cX1_setOf 32 = .ok (.iinc 2 1, 3) := dk_132 2 1 (dk_at dksX1_setOf_1 8 rfl rfl)
theorem dX1_setOf_35 : decode cX1_setOf 35 = .ok (.goto (-23), 3) := dk_167 255 233 (dk_at dksX1_setOf_1 11 rfl rfl)
theorem dX1_setOf_38 : decode cX1_setOf 38 = .ok (.aload_n 1, 1) := dk_43 (dk_at dksX1_setOf_1 14 rfl rfl)
theorem dX1_setOf_39 : decode cX1_setOf 39 = .ok (.areturn, 1) := dk_176 (dk_at dksX1_setOf_1 15 rfl rfl)
abbrev cX1_release : ByteArray := prog_1_method_50_code
def yX1_release : MethodName := ⟨RX1, "release", "(IILBalloonMail$Region;)V"⟩
def dkwX1_release_3 : List UInt8 := [132, 4, 1, 167, 255, 186, 177]
abbrev dktX1_release_3 : List UInt8 := dkwX1_release_3 ++ []
def dkwX1_release_2 : List UInt8 := [183, 1, 92, 182, 1, 94, 87, 167, 0, 16, 42, 180, 0, 31, 89, 180, 1, 71, 4, 96, 181, 1, 71]
abbrev dktX1_release_2 : List UInt8 := dkwX1_release_2 ++ dktX1_release_3
def dkwX1_release_1 : List UInt8 := [180, 0, 31, 180, 1, 83, 187, 1, 87, 89, 27, 42, 180, 0, 31, 180, 1, 23, 45, 180, 1, 89, 96]
abbrev dktX1_release_1 : List UInt8 := dkwX1_release_1 ++ dktX1_release_2
def dkwX1_release_0 : List UInt8 := [3, 54, 4, 21, 4, 28, 162, 0, 70, 42, 180, 0, 31, 182, 1, 51, 45, 180, 1, 80, 162, 0, 37, 42]
abbrev dktX1_release_0 : List UInt8 := dkwX1_release_0 ++ dktX1_release_1
theorem dksX1_release_0 : cX1_release.data.toList.drop 0 = dktX1_release_0 := by decide +kernel
theorem dksX1_release_1 : cX1_release.data.toList.drop 24 = dktX1_release_1 := dk_seg dksX1_release_0 24 rfl rfl
theorem dksX1_release_2 : cX1_release.data.toList.drop 47 = dktX1_release_2 := dk_seg dksX1_release_1 23 rfl rfl
theorem dksX1_release_3 : cX1_release.data.toList.drop 70 = dktX1_release_3 := dk_seg dksX1_release_2 23 rfl rfl
theorem dX1_release_0 : decode cX1_release 0 = .ok (.iconst 0, 1) := dk_3 (dk_at dksX1_release_0 0 rfl rfl)
theorem dX1_release_1 : decode cX1_release 1 = .ok (.istore 4, 2) := dk_54 4 (dk_at dksX1_release_0 1 rfl rfl)
theorem dX1_release_3 : decode cX1_release 3 = .ok (.iload 4, 2) := dk_21 4 (dk_at dksX1_release_0 3 rfl rfl)
theorem dX1_release_5 : decode cX1_release 5 = .ok (.iload_n 2, 1) := dk_28 (dk_at dksX1_release_0 5 rfl rfl)
theorem dX1_release_6 : decode cX1_release 6 = .ok (.if_icmp .ge 70, 3) := dk_162 0 70 (dk_at dksX1_release_0 6 rfl rfl)
theorem dX1_release_9 : decode cX1_release 9 = .ok (.aload_n 0, 1) := dk_42 (dk_at dksX1_release_0 9 rfl rfl)
theorem dX1_release_10 : decode cX1_release 10 = .ok (.getfield 31, 3) := dk_180 0 31 (dk_at dksX1_release_0 10 rfl rfl)
theorem dX1_release_13 : decode cX1_release 13 = .ok (.invokevirtual 307, 3) := dk_182 1 51 (dk_at dksX1_release_0 13 rfl rfl)
theorem dX1_release_16 : decode cX1_release 16 = .ok (.aload_n 3, 1) := dk_45 (dk_at dksX1_release_0 16 rfl rfl)
theorem dX1_release_17 : decode cX1_release 17 = .ok (.getfield 336, 3) := dk_180 1 80 (dk_at dksX1_release_0 17 rfl rfl)
theorem dX1_release_20 : decode cX1_release 20 = .ok (.if_icmp .ge 37, 3) := dk_162 0 37 (dk_at dksX1_release_0 20 rfl rfl)
theorem dX1_release_23 : decode cX1_release 23 = .ok (.aload_n 0, 1) := dk_42 (dk_at dksX1_release_0 23 rfl rfl)
theorem dX1_release_24 : decode cX1_release 24 = .ok (.getfield 31, 3) := dk_180 0 31 (dk_at dksX1_release_1 0 rfl rfl)
theorem dX1_release_27 : decode cX1_release 27 = .ok (.getfield 339, 3) := dk_180 1 83 (dk_at dksX1_release_1 3 rfl rfl)
theorem dX1_release_30 : decode cX1_release 30 = .ok (.new 343, 3) := dk_187 1 87 (dk_at dksX1_release_1 6 rfl rfl)
theorem dX1_release_33 : decode cX1_release 33 = .ok (.dup, 1) := dk_89 (dk_at dksX1_release_1 9 rfl rfl)
theorem dX1_release_34 : decode cX1_release 34 = .ok (.iload_n 1, 1) := dk_27 (dk_at dksX1_release_1 10 rfl rfl)
theorem dX1_release_35 : decode cX1_release 35 = .ok (.aload_n 0, 1) := dk_42 (dk_at dksX1_release_1 11 rfl rfl)
theorem dX1_release_36 : decode cX1_release 36 = .ok (.getfield 31, 3) := dk_180 0 31 (dk_at dksX1_release_1 12 rfl rfl)
theorem dX1_release_39 : decode cX1_release 39 = .ok (.getfield 279, 3) := dk_180 1 23 (dk_at dksX1_release_1 15 rfl rfl)
theorem dX1_release_42 : decode cX1_release 42 = .ok (.aload_n 3, 1) := dk_45 (dk_at dksX1_release_1 18 rfl rfl)
theorem dX1_release_43 : decode cX1_release 43 = .ok (.getfield 345, 3) := dk_180 1 89 (dk_at dksX1_release_1 19 rfl rfl)
theorem dX1_release_46 : decode cX1_release 46 = .ok (.iadd, 1) := dk_96 (dk_at dksX1_release_1 22 rfl rfl)
theorem dX1_release_47 : decode cX1_release 47 = .ok (.invokespecial 348, 3) := dk_183 1 92 (dk_at dksX1_release_2 0 rfl rfl)
theorem dX1_release_50 : decode cX1_release 50 = .ok (.invokevirtual 350, 3) := dk_182 1 94 (dk_at dksX1_release_2 3 rfl rfl)
theorem dX1_release_53 : decode cX1_release 53 = .ok (.pop, 1) := dk_87 (dk_at dksX1_release_2 6 rfl rfl)
theorem dX1_release_54 : decode cX1_release 54 = .ok (.goto 16, 3) := dk_167 0 16 (dk_at dksX1_release_2 7 rfl rfl)
theorem dX1_release_57 : decode cX1_release 57 = .ok (.aload_n 0, 1) := dk_42 (dk_at dksX1_release_2 10 rfl rfl)
theorem dX1_release_58 : decode cX1_release 58 = .ok (.getfield 31, 3) := dk_180 0 31 (dk_at dksX1_release_2 11 rfl rfl)
theorem dX1_release_61 : decode cX1_release 61 = .ok (.dup, 1) := dk_89 (dk_at dksX1_release_2 14 rfl rfl)
theorem dX1_release_62 : decode cX1_release 62 = .ok (.getfield 327, 3) := dk_180 1 71 (dk_at dksX1_release_2 15 rfl rfl)
theorem dX1_release_65 : decode cX1_release 65 = .ok (.iconst 1, 1) := dk_4 (dk_at dksX1_release_2 18 rfl rfl)
theorem dX1_release_66 : decode cX1_release 66 = .ok (.iadd, 1) := dk_96 (dk_at dksX1_release_2 19 rfl rfl)
theorem dX1_release_67 : decode cX1_release 67 = .ok (.putfield 327, 3) := dk_181 1 71 (dk_at dksX1_release_2 20 rfl rfl)
theorem dX1_release_70 : decode cX1_release 70 = .ok (.iinc 4 1, 3) := dk_132 4 1 (dk_at dksX1_release_3 0 rfl rfl)
theorem dX1_release_73 : decode cX1_release 73 = .ok (.goto (-70), 3) := dk_167 255 186 (dk_at dksX1_release_3 3 rfl rfl)
theorem dX1_release_76 : decode cX1_release 76 = .ok (.return_, 1) := dk_177 (dk_at dksX1_release_3 6 rfl rfl)
abbrev cX1_nextDay : ByteArray := prog_1_method_51_code
def yX1_nextDay : MethodName := ⟨RX1, "nextDay", "()I"⟩
def dkwX1_nextDay_8 : List UInt8 := [180, 1, 115, 50, 5, 6, 182, 1, 63, 167, 255, 168, 42, 182, 1, 118, 172]
abbrev dktX1_nextDay_8 : List UInt8 := dkwX1_nextDay_8 ++ []
def dkwX1_nextDay_7 : List UInt8 := [180, 0, 31, 7, 45, 180, 1, 115, 182, 1, 60, 42, 180, 0, 31, 42, 180, 0, 31, 180, 1, 43, 45]
abbrev dktX1_nextDay_7 : List UInt8 := dkwX1_nextDay_7 ++ dktX1_nextDay_8
def dkwX1_nextDay_6 : List UInt8 := [167, 255, 223, 44, 185, 1, 113, 1, 0, 42, 180, 0, 31, 89, 180, 1, 37, 4, 96, 181, 1, 37, 42]
abbrev dktX1_nextDay_6 : List UInt8 := dkwX1_nextDay_6 ++ dktX1_nextDay_7
def dkwX1_nextDay_5 : List UInt8 := [185, 1, 107, 1, 0, 192, 1, 87, 78, 45, 180, 1, 110, 42, 180, 0, 31, 180, 1, 23, 159, 0, 6]
abbrev dktX1_nextDay_5 : List UInt8 := dkwX1_nextDay_5 ++ dktX1_nextDay_6
def dkwX1_nextDay_4 : List UInt8 := [180, 0, 31, 180, 1, 83, 182, 1, 97, 77, 44, 185, 1, 101, 1, 0, 153, 0, 85, 44]
abbrev dktX1_nextDay_4 : List UInt8 := dkwX1_nextDay_4 ++ dktX1_nextDay_5
def dkwX1_nextDay_3 : List UInt8 := [180, 0, 143, 27, 159, 0, 18, 42, 180, 0, 31, 8, 42, 180, 0, 31, 180, 0, 143, 182, 1, 60, 42]
abbrev dktX1_nextDay_3 : List UInt8 := dkwX1_nextDay_3 ++ dktX1_nextDay_4
def dkwX1_nextDay_2 : List UInt8 := [182, 1, 54, 181, 0, 143, 42, 180, 0, 31, 89, 180, 1, 23, 4, 96, 181, 1, 23, 42, 180, 0, 31]
abbrev dktX1_nextDay_2 : List UInt8 := dkwX1_nextDay_2 ++ dktX1_nextDay_3
def dkwX1_nextDay_1 : List UInt8 := [180, 0, 22, 180, 0, 102, 27, 182, 0, 126, 192, 0, 149, 180, 0, 151, 42, 180, 0, 31, 182, 1, 51, 27]
abbrev dktX1_nextDay_1 : List UInt8 := dkwX1_nextDay_1 ++ dktX1_nextDay_2
def dkwX1_nextDay_0 : List UInt8 := [42, 182, 1, 40, 42, 180, 0, 31, 180, 0, 143, 60, 42, 182, 0, 113, 158, 0, 38, 42, 180, 0, 31, 42]
abbrev dktX1_nextDay_0 : List UInt8 := dkwX1_nextDay_0 ++ dktX1_nextDay_1
theorem dksX1_nextDay_0 : cX1_nextDay.data.toList.drop 0 = dktX1_nextDay_0 := by decide +kernel
theorem dksX1_nextDay_1 : cX1_nextDay.data.toList.drop 24 = dktX1_nextDay_1 := dk_seg dksX1_nextDay_0 24 rfl rfl
theorem dksX1_nextDay_2 : cX1_nextDay.data.toList.drop 48 = dktX1_nextDay_2 := dk_seg dksX1_nextDay_1 24 rfl rfl
theorem dksX1_nextDay_3 : cX1_nextDay.data.toList.drop 71 = dktX1_nextDay_3 := dk_seg dksX1_nextDay_2 23 rfl rfl
theorem dksX1_nextDay_4 : cX1_nextDay.data.toList.drop 94 = dktX1_nextDay_4 := dk_seg dksX1_nextDay_3 23 rfl rfl
theorem dksX1_nextDay_5 : cX1_nextDay.data.toList.drop 114 = dktX1_nextDay_5 := dk_seg dksX1_nextDay_4 20 rfl rfl
theorem dksX1_nextDay_6 : cX1_nextDay.data.toList.drop 137 = dktX1_nextDay_6 := dk_seg dksX1_nextDay_5 23 rfl rfl
theorem dksX1_nextDay_7 : cX1_nextDay.data.toList.drop 160 = dktX1_nextDay_7 := dk_seg dksX1_nextDay_6 23 rfl rfl
theorem dksX1_nextDay_8 : cX1_nextDay.data.toList.drop 183 = dktX1_nextDay_8 := dk_seg dksX1_nextDay_7 23 rfl rfl
theorem dX1_nextDay_0 : decode cX1_nextDay 0 = .ok (.aload_n 0, 1) := dk_42 (dk_at dksX1_nextDay_0 0 rfl rfl)
theorem dX1_nextDay_1 : decode cX1_nextDay 1 = .ok (.invokevirtual 296, 3) := dk_182 1 40 (dk_at dksX1_nextDay_0 1 rfl rfl)
theorem dX1_nextDay_4 : decode cX1_nextDay 4 = .ok (.aload_n 0, 1) := dk_42 (dk_at dksX1_nextDay_0 4 rfl rfl)
theorem dX1_nextDay_5 : decode cX1_nextDay 5 = .ok (.getfield 31, 3) := dk_180 0 31 (dk_at dksX1_nextDay_0 5 rfl rfl)
theorem dX1_nextDay_8 : decode cX1_nextDay 8 = .ok (.getfield 143, 3) := dk_180 0 143 (dk_at dksX1_nextDay_0 8 rfl rfl)
theorem dX1_nextDay_11 : decode cX1_nextDay 11 = .ok (.istore_n 1, 1) := dk_60 (dk_at dksX1_nextDay_0 11 rfl rfl)
theorem dX1_nextDay_12 : decode cX1_nextDay 12 = .ok (.aload_n 0, 1) := dk_42 (dk_at dksX1_nextDay_0 12 rfl rfl)
theorem dX1_nextDay_13 : decode cX1_nextDay 13 = .ok (.invokevirtual 113, 3) := dk_182 0 113 (dk_at dksX1_nextDay_0 13 rfl rfl)
theorem dX1_nextDay_16 : decode cX1_nextDay 16 = .ok (.ifCond .le 38, 3) := dk_158 0 38 (dk_at dksX1_nextDay_0 16 rfl rfl)
theorem dX1_nextDay_19 : decode cX1_nextDay 19 = .ok (.aload_n 0, 1) := dk_42 (dk_at dksX1_nextDay_0 19 rfl rfl)
theorem dX1_nextDay_20 : decode cX1_nextDay 20 = .ok (.getfield 31, 3) := dk_180 0 31 (dk_at dksX1_nextDay_0 20 rfl rfl)
theorem dX1_nextDay_23 : decode cX1_nextDay 23 = .ok (.aload_n 0, 1) := dk_42 (dk_at dksX1_nextDay_0 23 rfl rfl)
theorem dX1_nextDay_24 : decode cX1_nextDay 24 = .ok (.getfield 22, 3) := dk_180 0 22 (dk_at dksX1_nextDay_1 0 rfl rfl)
theorem dX1_nextDay_27 : decode cX1_nextDay 27 = .ok (.getfield 102, 3) := dk_180 0 102 (dk_at dksX1_nextDay_1 3 rfl rfl)
theorem dX1_nextDay_30 : decode cX1_nextDay 30 = .ok (.iload_n 1, 1) := dk_27 (dk_at dksX1_nextDay_1 6 rfl rfl)
theorem dX1_nextDay_31 : decode cX1_nextDay 31 = .ok (.invokevirtual 126, 3) := dk_182 0 126 (dk_at dksX1_nextDay_1 7 rfl rfl)
theorem dX1_nextDay_34 : decode cX1_nextDay 34 = .ok (.checkcast 149, 3) := dk_192 0 149 (dk_at dksX1_nextDay_1 10 rfl rfl)
theorem dX1_nextDay_37 : decode cX1_nextDay 37 = .ok (.getfield 151, 3) := dk_180 0 151 (dk_at dksX1_nextDay_1 13 rfl rfl)
theorem dX1_nextDay_40 : decode cX1_nextDay 40 = .ok (.aload_n 0, 1) := dk_42 (dk_at dksX1_nextDay_1 16 rfl rfl)
theorem dX1_nextDay_41 : decode cX1_nextDay 41 = .ok (.getfield 31, 3) := dk_180 0 31 (dk_at dksX1_nextDay_1 17 rfl rfl)
theorem dX1_nextDay_44 : decode cX1_nextDay 44 = .ok (.invokevirtual 307, 3) := dk_182 1 51 (dk_at dksX1_nextDay_1 20 rfl rfl)
theorem dX1_nextDay_47 : decode cX1_nextDay 47 = .ok (.iload_n 1, 1) := dk_27 (dk_at dksX1_nextDay_1 23 rfl rfl)
theorem dX1_nextDay_48 : decode cX1_nextDay 48 = .ok (.invokevirtual 310, 3) := dk_182 1 54 (dk_at dksX1_nextDay_2 0 rfl rfl)
theorem dX1_nextDay_51 : decode cX1_nextDay 51 = .ok (.putfield 143, 3) := dk_181 0 143 (dk_at dksX1_nextDay_2 3 rfl rfl)
theorem dX1_nextDay_54 : decode cX1_nextDay 54 = .ok (.aload_n 0, 1) := dk_42 (dk_at dksX1_nextDay_2 6 rfl rfl)
theorem dX1_nextDay_55 : decode cX1_nextDay 55 = .ok (.getfield 31, 3) := dk_180 0 31 (dk_at dksX1_nextDay_2 7 rfl rfl)
theorem dX1_nextDay_58 : decode cX1_nextDay 58 = .ok (.dup, 1) := dk_89 (dk_at dksX1_nextDay_2 10 rfl rfl)
theorem dX1_nextDay_59 : decode cX1_nextDay 59 = .ok (.getfield 279, 3) := dk_180 1 23 (dk_at dksX1_nextDay_2 11 rfl rfl)
theorem dX1_nextDay_62 : decode cX1_nextDay 62 = .ok (.iconst 1, 1) := dk_4 (dk_at dksX1_nextDay_2 14 rfl rfl)
theorem dX1_nextDay_63 : decode cX1_nextDay 63 = .ok (.iadd, 1) := dk_96 (dk_at dksX1_nextDay_2 15 rfl rfl)
theorem dX1_nextDay_64 : decode cX1_nextDay 64 = .ok (.putfield 279, 3) := dk_181 1 23 (dk_at dksX1_nextDay_2 16 rfl rfl)
theorem dX1_nextDay_67 : decode cX1_nextDay 67 = .ok (.aload_n 0, 1) := dk_42 (dk_at dksX1_nextDay_2 19 rfl rfl)
theorem dX1_nextDay_68 : decode cX1_nextDay 68 = .ok (.getfield 31, 3) := dk_180 0 31 (dk_at dksX1_nextDay_2 20 rfl rfl)
theorem dX1_nextDay_71 : decode cX1_nextDay 71 = .ok (.getfield 143, 3) := dk_180 0 143 (dk_at dksX1_nextDay_3 0 rfl rfl)
theorem dX1_nextDay_74 : decode cX1_nextDay 74 = .ok (.iload_n 1, 1) := dk_27 (dk_at dksX1_nextDay_3 3 rfl rfl)
theorem dX1_nextDay_75 : decode cX1_nextDay 75 = .ok (.if_icmp .eq 18, 3) := dk_159 0 18 (dk_at dksX1_nextDay_3 4 rfl rfl)
theorem dX1_nextDay_78 : decode cX1_nextDay 78 = .ok (.aload_n 0, 1) := dk_42 (dk_at dksX1_nextDay_3 7 rfl rfl)
theorem dX1_nextDay_79 : decode cX1_nextDay 79 = .ok (.getfield 31, 3) := dk_180 0 31 (dk_at dksX1_nextDay_3 8 rfl rfl)
theorem dX1_nextDay_82 : decode cX1_nextDay 82 = .ok (.iconst 5, 1) := dk_8 (dk_at dksX1_nextDay_3 11 rfl rfl)
theorem dX1_nextDay_83 : decode cX1_nextDay 83 = .ok (.aload_n 0, 1) := dk_42 (dk_at dksX1_nextDay_3 12 rfl rfl)
theorem dX1_nextDay_84 : decode cX1_nextDay 84 = .ok (.getfield 31, 3) := dk_180 0 31 (dk_at dksX1_nextDay_3 13 rfl rfl)
theorem dX1_nextDay_87 : decode cX1_nextDay 87 = .ok (.getfield 143, 3) := dk_180 0 143 (dk_at dksX1_nextDay_3 16 rfl rfl)
theorem dX1_nextDay_90 : decode cX1_nextDay 90 = .ok (.invokevirtual 316, 3) := dk_182 1 60 (dk_at dksX1_nextDay_3 19 rfl rfl)
theorem dX1_nextDay_93 : decode cX1_nextDay 93 = .ok (.aload_n 0, 1) := dk_42 (dk_at dksX1_nextDay_3 22 rfl rfl)
theorem dX1_nextDay_94 : decode cX1_nextDay 94 = .ok (.getfield 31, 3) := dk_180 0 31 (dk_at dksX1_nextDay_4 0 rfl rfl)
theorem dX1_nextDay_97 : decode cX1_nextDay 97 = .ok (.getfield 339, 3) := dk_180 1 83 (dk_at dksX1_nextDay_4 3 rfl rfl)
theorem dX1_nextDay_100 : decode cX1_nextDay 100 = .ok (.invokevirtual 353, 3) := dk_182 1 97 (dk_at dksX1_nextDay_4 6 rfl rfl)
theorem dX1_nextDay_103 : decode cX1_nextDay 103 = .ok (.astore_n 2, 1) := dk_77 (dk_at dksX1_nextDay_4 9 rfl rfl)
theorem dX1_nextDay_104 : decode cX1_nextDay 104 = .ok (.aload_n 2, 1) := dk_44 (dk_at dksX1_nextDay_4 10 rfl rfl)
theorem dX1_nextDay_105 : decode cX1_nextDay 105 = .ok (.invokeinterface 357 1, 5) := by decide +kernel
theorem dX1_nextDay_110 : decode cX1_nextDay 110 = .ok (.ifCond .eq 85, 3) := dk_153 0 85 (dk_at dksX1_nextDay_4 16 rfl rfl)
theorem dX1_nextDay_113 : decode cX1_nextDay 113 = .ok (.aload_n 2, 1) := dk_44 (dk_at dksX1_nextDay_4 19 rfl rfl)
theorem dX1_nextDay_114 : decode cX1_nextDay 114 = .ok (.invokeinterface 363 1, 5) := by decide +kernel
theorem dX1_nextDay_119 : decode cX1_nextDay 119 = .ok (.checkcast 343, 3) := dk_192 1 87 (dk_at dksX1_nextDay_5 5 rfl rfl)
theorem dX1_nextDay_122 : decode cX1_nextDay 122 = .ok (.astore_n 3, 1) := dk_78 (dk_at dksX1_nextDay_5 8 rfl rfl)
theorem dX1_nextDay_123 : decode cX1_nextDay 123 = .ok (.aload_n 3, 1) := dk_45 (dk_at dksX1_nextDay_5 9 rfl rfl)
theorem dX1_nextDay_124 : decode cX1_nextDay 124 = .ok (.getfield 366, 3) := dk_180 1 110 (dk_at dksX1_nextDay_5 10 rfl rfl)
theorem dX1_nextDay_127 : decode cX1_nextDay 127 = .ok (.aload_n 0, 1) := dk_42 (dk_at dksX1_nextDay_5 13 rfl rfl)
theorem dX1_nextDay_128 : decode cX1_nextDay 128 = .ok (.getfield 31, 3) := dk_180 0 31 (dk_at dksX1_nextDay_5 14 rfl rfl)
theorem dX1_nextDay_131 : decode cX1_nextDay 131 = .ok (.getfield 279, 3) := dk_180 1 23 (dk_at dksX1_nextDay_5 17 rfl rfl)
theorem dX1_nextDay_134 : decode cX1_nextDay 134 = .ok (.if_icmp .eq 6, 3) := dk_159 0 6 (dk_at dksX1_nextDay_5 20 rfl rfl)
theorem dX1_nextDay_137 : decode cX1_nextDay 137 = .ok (.goto (-33), 3) := dk_167 255 223 (dk_at dksX1_nextDay_6 0 rfl rfl)
theorem dX1_nextDay_140 : decode cX1_nextDay 140 = .ok (.aload_n 2, 1) := dk_44 (dk_at dksX1_nextDay_6 3 rfl rfl)
theorem dX1_nextDay_141 : decode cX1_nextDay 141 = .ok (.invokeinterface 369 1, 5) := by decide +kernel
theorem dX1_nextDay_146 : decode cX1_nextDay 146 = .ok (.aload_n 0, 1) := dk_42 (dk_at dksX1_nextDay_6 9 rfl rfl)
theorem dX1_nextDay_147 : decode cX1_nextDay 147 = .ok (.getfield 31, 3) := dk_180 0 31 (dk_at dksX1_nextDay_6 10 rfl rfl)
theorem dX1_nextDay_150 : decode cX1_nextDay 150 = .ok (.dup, 1) := dk_89 (dk_at dksX1_nextDay_6 13 rfl rfl)
theorem dX1_nextDay_151 : decode cX1_nextDay 151 = .ok (.getfield 293, 3) := dk_180 1 37 (dk_at dksX1_nextDay_6 14 rfl rfl)
theorem dX1_nextDay_154 : decode cX1_nextDay 154 = .ok (.iconst 1, 1) := dk_4 (dk_at dksX1_nextDay_6 17 rfl rfl)
theorem dX1_nextDay_155 : decode cX1_nextDay 155 = .ok (.iadd, 1) := dk_96 (dk_at dksX1_nextDay_6 18 rfl rfl)
theorem dX1_nextDay_156 : decode cX1_nextDay 156 = .ok (.putfield 293, 3) := dk_181 1 37 (dk_at dksX1_nextDay_6 19 rfl rfl)
theorem dX1_nextDay_159 : decode cX1_nextDay 159 = .ok (.aload_n 0, 1) := dk_42 (dk_at dksX1_nextDay_6 22 rfl rfl)
theorem dX1_nextDay_160 : decode cX1_nextDay 160 = .ok (.getfield 31, 3) := dk_180 0 31 (dk_at dksX1_nextDay_7 0 rfl rfl)
theorem dX1_nextDay_163 : decode cX1_nextDay 163 = .ok (.iconst 4, 1) := dk_7 (dk_at dksX1_nextDay_7 3 rfl rfl)
theorem dX1_nextDay_164 : decode cX1_nextDay 164 = .ok (.aload_n 3, 1) := dk_45 (dk_at dksX1_nextDay_7 4 rfl rfl)
theorem dX1_nextDay_165 : decode cX1_nextDay 165 = .ok (.getfield 371, 3) := dk_180 1 115 (dk_at dksX1_nextDay_7 5 rfl rfl)
theorem dX1_nextDay_168 : decode cX1_nextDay 168 = .ok (.invokevirtual 316, 3) := dk_182 1 60 (dk_at dksX1_nextDay_7 8 rfl rfl)
theorem dX1_nextDay_171 : decode cX1_nextDay 171 = .ok (.aload_n 0, 1) := dk_42 (dk_at dksX1_nextDay_7 11 rfl rfl)
theorem dX1_nextDay_172 : decode cX1_nextDay 172 = .ok (.getfield 31, 3) := dk_180 0 31 (dk_at dksX1_nextDay_7 12 rfl rfl)
theorem dX1_nextDay_175 : decode cX1_nextDay 175 = .ok (.aload_n 0, 1) := dk_42 (dk_at dksX1_nextDay_7 15 rfl rfl)
theorem dX1_nextDay_176 : decode cX1_nextDay 176 = .ok (.getfield 31, 3) := dk_180 0 31 (dk_at dksX1_nextDay_7 16 rfl rfl)
theorem dX1_nextDay_179 : decode cX1_nextDay 179 = .ok (.getfield 299, 3) := dk_180 1 43 (dk_at dksX1_nextDay_7 19 rfl rfl)
theorem dX1_nextDay_182 : decode cX1_nextDay 182 = .ok (.aload_n 3, 1) := dk_45 (dk_at dksX1_nextDay_7 22 rfl rfl)
theorem dX1_nextDay_183 : decode cX1_nextDay 183 = .ok (.getfield 371, 3) := dk_180 1 115 (dk_at dksX1_nextDay_8 0 rfl rfl)
theorem dX1_nextDay_186 : decode cX1_nextDay 186 = .ok (.aaload, 1) := dk_50 (dk_at dksX1_nextDay_8 3 rfl rfl)
theorem dX1_nextDay_187 : decode cX1_nextDay 187 = .ok (.iconst 2, 1) := dk_5 (dk_at dksX1_nextDay_8 4 rfl rfl)
theorem dX1_nextDay_188 : decode cX1_nextDay 188 = .ok (.iconst 3, 1) := dk_6 (dk_at dksX1_nextDay_8 5 rfl rfl)
theorem dX1_nextDay_189 : decode cX1_nextDay 189 = .ok (.invokevirtual 319, 3) := dk_182 1 63 (dk_at dksX1_nextDay_8 6 rfl rfl)
theorem dX1_nextDay_192 : decode cX1_nextDay 192 = .ok (.goto (-88), 3) := dk_167 255 168 (dk_at dksX1_nextDay_8 9 rfl rfl)
theorem dX1_nextDay_195 : decode cX1_nextDay 195 = .ok (.aload_n 0, 1) := dk_42 (dk_at dksX1_nextDay_8 12 rfl rfl)
theorem dX1_nextDay_196 : decode cX1_nextDay 196 = .ok (.invokevirtual 374, 3) := dk_182 1 118 (dk_at dksX1_nextDay_8 13 rfl rfl)
theorem dX1_nextDay_199 : decode cX1_nextDay 199 = .ok (.ireturn, 1) := dk_172 (dk_at dksX1_nextDay_8 16 rfl rfl)
abbrev cX1_balloonState : ByteArray := prog_1_method_52_code
def yX1_balloonState : MethodName := ⟨RX1, "balloonState", "(I)I"⟩
def dkwX1_balloonState_0 : List UInt8 := [42, 27, 182, 0, 122, 153, 0, 15, 42, 180, 0, 31, 180, 0, 234, 27, 46, 167, 0, 4, 2, 172]
abbrev dktX1_balloonState_0 : List UInt8 := dkwX1_balloonState_0 ++ []
theorem dksX1_balloonState_0 : cX1_balloonState.data.toList.drop 0 = dktX1_balloonState_0 := by decide +kernel
theorem dX1_balloonState_0 : decode cX1_balloonState 0 = .ok (.aload_n 0, 1) := dk_42 (dk_at dksX1_balloonState_0 0 rfl rfl)
theorem dX1_balloonState_1 : decode cX1_balloonState 1 = .ok (.iload_n 1, 1) := dk_27 (dk_at dksX1_balloonState_0 1 rfl rfl)
theorem dX1_balloonState_2 : decode cX1_balloonState 2 = .ok (.invokevirtual 122, 3) := dk_182 0 122 (dk_at dksX1_balloonState_0 2 rfl rfl)
theorem dX1_balloonState_5 : decode cX1_balloonState 5 = .ok (.ifCond .eq 15, 3) := dk_153 0 15 (dk_at dksX1_balloonState_0 5 rfl rfl)
theorem dX1_balloonState_8 : decode cX1_balloonState 8 = .ok (.aload_n 0, 1) := dk_42 (dk_at dksX1_balloonState_0 8 rfl rfl)
theorem dX1_balloonState_9 : decode cX1_balloonState 9 = .ok (.getfield 31, 3) := dk_180 0 31 (dk_at dksX1_balloonState_0 9 rfl rfl)
theorem dX1_balloonState_12 : decode cX1_balloonState 12 = .ok (.getfield 234, 3) := dk_180 0 234 (dk_at dksX1_balloonState_0 12 rfl rfl)
theorem dX1_balloonState_15 : decode cX1_balloonState 15 = .ok (.iload_n 1, 1) := dk_27 (dk_at dksX1_balloonState_0 15 rfl rfl)
theorem dX1_balloonState_16 : decode cX1_balloonState 16 = .ok (.iaload, 1) := dk_46 (dk_at dksX1_balloonState_0 16 rfl rfl)
theorem dX1_balloonState_17 : decode cX1_balloonState 17 = .ok (.goto 4, 3) := dk_167 0 4 (dk_at dksX1_balloonState_0 17 rfl rfl)
theorem dX1_balloonState_20 : decode cX1_balloonState 20 = .ok (.iconst (-1), 1) := dk_2 (dk_at dksX1_balloonState_0 20 rfl rfl)
theorem dX1_balloonState_21 : decode cX1_balloonState 21 = .ok (.ireturn, 1) := dk_172 (dk_at dksX1_balloonState_0 21 rfl rfl)
abbrev cX1_balloonRegion : ByteArray := prog_1_method_53_code
def yX1_balloonRegion : MethodName := ⟨RX1, "balloonRegion", "(I)I"⟩
def dkwX1_balloonRegion_0 : List UInt8 := [42, 27, 182, 0, 122, 153, 0, 15, 42, 180, 0, 31, 180, 1, 57, 27, 46, 167, 0, 4, 2, 172]
abbrev dktX1_balloonRegion_0 : List UInt8 := dkwX1_balloonRegion_0 ++ []
theorem dksX1_balloonRegion_0 : cX1_balloonRegion.data.toList.drop 0 = dktX1_balloonRegion_0 := by decide +kernel
theorem dX1_balloonRegion_0 : decode cX1_balloonRegion 0 = .ok (.aload_n 0, 1) := dk_42 (dk_at dksX1_balloonRegion_0 0 rfl rfl)
theorem dX1_balloonRegion_1 : decode cX1_balloonRegion 1 = .ok (.iload_n 1, 1) := dk_27 (dk_at dksX1_balloonRegion_0 1 rfl rfl)
theorem dX1_balloonRegion_2 : decode cX1_balloonRegion 2 = .ok (.invokevirtual 122, 3) := dk_182 0 122 (dk_at dksX1_balloonRegion_0 2 rfl rfl)
theorem dX1_balloonRegion_5 : decode cX1_balloonRegion 5 = .ok (.ifCond .eq 15, 3) := dk_153 0 15 (dk_at dksX1_balloonRegion_0 5 rfl rfl)
theorem dX1_balloonRegion_8 : decode cX1_balloonRegion 8 = .ok (.aload_n 0, 1) := dk_42 (dk_at dksX1_balloonRegion_0 8 rfl rfl)
theorem dX1_balloonRegion_9 : decode cX1_balloonRegion 9 = .ok (.getfield 31, 3) := dk_180 0 31 (dk_at dksX1_balloonRegion_0 9 rfl rfl)
theorem dX1_balloonRegion_12 : decode cX1_balloonRegion 12 = .ok (.getfield 313, 3) := dk_180 1 57 (dk_at dksX1_balloonRegion_0 12 rfl rfl)
theorem dX1_balloonRegion_15 : decode cX1_balloonRegion 15 = .ok (.iload_n 1, 1) := dk_27 (dk_at dksX1_balloonRegion_0 15 rfl rfl)
theorem dX1_balloonRegion_16 : decode cX1_balloonRegion 16 = .ok (.iaload, 1) := dk_46 (dk_at dksX1_balloonRegion_0 16 rfl rfl)
theorem dX1_balloonRegion_17 : decode cX1_balloonRegion 17 = .ok (.goto 4, 3) := dk_167 0 4 (dk_at dksX1_balloonRegion_0 17 rfl rfl)
theorem dX1_balloonRegion_20 : decode cX1_balloonRegion 20 = .ok (.iconst (-1), 1) := dk_2 (dk_at dksX1_balloonRegion_0 20 rfl rfl)
theorem dX1_balloonRegion_21 : decode cX1_balloonRegion 21 = .ok (.ireturn, 1) := dk_172 (dk_at dksX1_balloonRegion_0 21 rfl rfl)
abbrev cX1_cargo : ByteArray := prog_1_method_54_code
def yX1_cargo : MethodName := ⟨RX1, "cargo", "(I)I"⟩
def dkwX1_cargo_2 : List UInt8 := [182, 1, 120, 54, 4, 167, 255, 234, 28, 172]
abbrev dktX1_cargo_2 : List UInt8 := dkwX1_cargo_2 ++ []
def dkwX1_cargo_1 : List UInt8 := [182, 1, 120, 54, 4, 21, 4, 155, 0, 23, 28, 4, 21, 4, 120, 128, 61, 45, 21, 4, 4, 96]
abbrev dktX1_cargo_1 : List UInt8 := dkwX1_cargo_1 ++ dktX1_cargo_2
def dkwX1_cargo_0 : List UInt8 := [42, 27, 182, 0, 122, 154, 0, 5, 2, 172, 3, 61, 42, 180, 0, 31, 180, 1, 43, 27, 50, 78, 45, 3]
abbrev dktX1_cargo_0 : List UInt8 := dkwX1_cargo_0 ++ dktX1_cargo_1
theorem dksX1_cargo_0 : cX1_cargo.data.toList.drop 0 = dktX1_cargo_0 := by decide +kernel
theorem dksX1_cargo_1 : cX1_cargo.data.toList.drop 24 = dktX1_cargo_1 := dk_seg dksX1_cargo_0 24 rfl rfl
theorem dksX1_cargo_2 : cX1_cargo.data.toList.drop 46 = dktX1_cargo_2 := dk_seg dksX1_cargo_1 22 rfl rfl
theorem dX1_cargo_0 : decode cX1_cargo 0 = .ok (.aload_n 0, 1) := dk_42 (dk_at dksX1_cargo_0 0 rfl rfl)
theorem dX1_cargo_1 : decode cX1_cargo 1 = .ok (.iload_n 1, 1) := dk_27 (dk_at dksX1_cargo_0 1 rfl rfl)
theorem dX1_cargo_2 : decode cX1_cargo 2 = .ok (.invokevirtual 122, 3) := dk_182 0 122 (dk_at dksX1_cargo_0 2 rfl rfl)
theorem dX1_cargo_5 : decode cX1_cargo 5 = .ok (.ifCond .ne 5, 3) := dk_154 0 5 (dk_at dksX1_cargo_0 5 rfl rfl)
theorem dX1_cargo_8 : decode cX1_cargo 8 = .ok (.iconst (-1), 1) := dk_2 (dk_at dksX1_cargo_0 8 rfl rfl)
theorem dX1_cargo_9 : decode cX1_cargo 9 = .ok (.ireturn, 1) := dk_172 (dk_at dksX1_cargo_0 9 rfl rfl)
theorem dX1_cargo_10 : decode cX1_cargo 10 = .ok (.iconst 0, 1) := dk_3 (dk_at dksX1_cargo_0 10 rfl rfl)
theorem dX1_cargo_11 : decode cX1_cargo 11 = .ok (.istore_n 2, 1) := dk_61 (dk_at dksX1_cargo_0 11 rfl rfl)
theorem dX1_cargo_12 : decode cX1_cargo 12 = .ok (.aload_n 0, 1) := dk_42 (dk_at dksX1_cargo_0 12 rfl rfl)
theorem dX1_cargo_13 : decode cX1_cargo 13 = .ok (.getfield 31, 3) := dk_180 0 31 (dk_at dksX1_cargo_0 13 rfl rfl)
theorem dX1_cargo_16 : decode cX1_cargo 16 = .ok (.getfield 299, 3) := dk_180 1 43 (dk_at dksX1_cargo_0 16 rfl rfl)
theorem dX1_cargo_19 : decode cX1_cargo 19 = .ok (.iload_n 1, 1) := dk_27 (dk_at dksX1_cargo_0 19 rfl rfl)
theorem dX1_cargo_20 : decode cX1_cargo 20 = .ok (.aaload, 1) := dk_50 (dk_at dksX1_cargo_0 20 rfl rfl)
theorem dX1_cargo_21 : decode cX1_cargo 21 = .ok (.astore_n 3, 1) := dk_78 (dk_at dksX1_cargo_0 21 rfl rfl)
theorem dX1_cargo_22 : decode cX1_cargo 22 = .ok (.aload_n 3, 1) := dk_45 (dk_at dksX1_cargo_0 22 rfl rfl)
theorem dX1_cargo_23 : decode cX1_cargo 23 = .ok (.iconst 0, 1) := dk_3 (dk_at dksX1_cargo_0 23 rfl rfl)
theorem dX1_cargo_24 : decode cX1_cargo 24 = .ok (.invokevirtual 376, 3) := dk_182 1 120 (dk_at dksX1_cargo_1 0 rfl rfl)
theorem dX1_cargo_27 : decode cX1_cargo 27 = .ok (.istore 4, 2) := dk_54 4 (dk_at dksX1_cargo_1 3 rfl rfl)
theorem dX1_cargo_29 : decode cX1_cargo 29 = .ok (.iload 4, 2) := dk_21 4 (dk_at dksX1_cargo_1 5 rfl rfl)
theorem dX1_cargo_31 : decode cX1_cargo 31 = .ok (.ifCond .lt 23, 3) := dk_155 0 23 (dk_at dksX1_cargo_1 7 rfl rfl)
theorem dX1_cargo_34 : decode cX1_cargo 34 = .ok (.iload_n 2, 1) := dk_28 (dk_at dksX1_cargo_1 10 rfl rfl)
theorem dX1_cargo_35 : decode cX1_cargo 35 = .ok (.iconst 1, 1) := dk_4 (dk_at dksX1_cargo_1 11 rfl rfl)
theorem dX1_cargo_36 : decode cX1_cargo 36 = .ok (.iload 4, 2) := dk_21 4 (dk_at dksX1_cargo_1 12 rfl rfl)
theorem dX1_cargo_38 : decode cX1_cargo 38 = .ok (.ishl, 1) := dk_120 (dk_at dksX1_cargo_1 14 rfl rfl)
theorem dX1_cargo_39 : decode cX1_cargo 39 = .ok (.ior, 1) := dk_128 (dk_at dksX1_cargo_1 15 rfl rfl)
theorem dX1_cargo_40 : decode cX1_cargo 40 = .ok (.istore_n 2, 1) := dk_61 (dk_at dksX1_cargo_1 16 rfl rfl)
theorem dX1_cargo_41 : decode cX1_cargo 41 = .ok (.aload_n 3, 1) := dk_45 (dk_at dksX1_cargo_1 17 rfl rfl)
theorem dX1_cargo_42 : decode cX1_cargo 42 = .ok (.iload 4, 2) := dk_21 4 (dk_at dksX1_cargo_1 18 rfl rfl)
theorem dX1_cargo_44 : decode cX1_cargo 44 = .ok (.iconst 1, 1) := dk_4 (dk_at dksX1_cargo_1 20 rfl rfl)
theorem dX1_cargo_45 : decode cX1_cargo 45 = .ok (.iadd, 1) := dk_96 (dk_at dksX1_cargo_1 21 rfl rfl)
theorem dX1_cargo_46 : decode cX1_cargo 46 = .ok (.invokevirtual 376, 3) := dk_182 1 120 (dk_at dksX1_cargo_2 0 rfl rfl)
theorem dX1_cargo_49 : decode cX1_cargo 49 = .ok (.istore 4, 2) := dk_54 4 (dk_at dksX1_cargo_2 3 rfl rfl)
theorem dX1_cargo_51 : decode cX1_cargo 51 = .ok (.goto (-22), 3) := dk_167 255 234 (dk_at dksX1_cargo_2 5 rfl rfl)
theorem dX1_cargo_54 : decode cX1_cargo 54 = .ok (.iload_n 2, 1) := dk_28 (dk_at dksX1_cargo_2 8 rfl rfl)
theorem dX1_cargo_55 : decode cX1_cargo 55 = .ok (.ireturn, 1) := dk_172 (dk_at dksX1_cargo_2 9 rfl rfl)
abbrev cX1_letterState : ByteArray := prog_1_method_55_code
def yX1_letterState : MethodName := ⟨RX1, "letterState", "(I)I"⟩
def dkwX1_letterState_0 : List UInt8 := [42, 27, 182, 0, 135, 153, 0, 15, 42, 180, 0, 31, 180, 0, 250, 27, 46, 167, 0, 4, 2, 172]
abbrev dktX1_letterState_0 : List UInt8 := dkwX1_letterState_0 ++ []
theorem dksX1_letterState_0 : cX1_letterState.data.toList.drop 0 = dktX1_letterState_0 := by decide +kernel
theorem dX1_letterState_0 : decode cX1_letterState 0 = .ok (.aload_n 0, 1) := dk_42 (dk_at dksX1_letterState_0 0 rfl rfl)
theorem dX1_letterState_1 : decode cX1_letterState 1 = .ok (.iload_n 1, 1) := dk_27 (dk_at dksX1_letterState_0 1 rfl rfl)
theorem dX1_letterState_2 : decode cX1_letterState 2 = .ok (.invokevirtual 135, 3) := dk_182 0 135 (dk_at dksX1_letterState_0 2 rfl rfl)
theorem dX1_letterState_5 : decode cX1_letterState 5 = .ok (.ifCond .eq 15, 3) := dk_153 0 15 (dk_at dksX1_letterState_0 5 rfl rfl)
theorem dX1_letterState_8 : decode cX1_letterState 8 = .ok (.aload_n 0, 1) := dk_42 (dk_at dksX1_letterState_0 8 rfl rfl)
theorem dX1_letterState_9 : decode cX1_letterState 9 = .ok (.getfield 31, 3) := dk_180 0 31 (dk_at dksX1_letterState_0 9 rfl rfl)
theorem dX1_letterState_12 : decode cX1_letterState 12 = .ok (.getfield 250, 3) := dk_180 0 250 (dk_at dksX1_letterState_0 12 rfl rfl)
theorem dX1_letterState_15 : decode cX1_letterState 15 = .ok (.iload_n 1, 1) := dk_27 (dk_at dksX1_letterState_0 15 rfl rfl)
theorem dX1_letterState_16 : decode cX1_letterState 16 = .ok (.iaload, 1) := dk_46 (dk_at dksX1_letterState_0 16 rfl rfl)
theorem dX1_letterState_17 : decode cX1_letterState 17 = .ok (.goto 4, 3) := dk_167 0 4 (dk_at dksX1_letterState_0 17 rfl rfl)
theorem dX1_letterState_20 : decode cX1_letterState 20 = .ok (.iconst (-1), 1) := dk_2 (dk_at dksX1_letterState_0 20 rfl rfl)
theorem dX1_letterState_21 : decode cX1_letterState 21 = .ok (.ireturn, 1) := dk_172 (dk_at dksX1_letterState_0 21 rfl rfl)
abbrev cX1_answerDay : ByteArray := prog_1_method_56_code
def yX1_answerDay : MethodName := ⟨RX1, "answerDay", "(I)I"⟩
def dkwX1_answerDay_0 : List UInt8 := [42, 27, 182, 0, 135, 153, 0, 15, 42, 180, 0, 31, 180, 1, 123, 27, 46, 167, 0, 4, 2, 172]
abbrev dktX1_answerDay_0 : List UInt8 := dkwX1_answerDay_0 ++ []
theorem dksX1_answerDay_0 : cX1_answerDay.data.toList.drop 0 = dktX1_answerDay_0 := by decide +kernel
theorem dX1_answerDay_0 : decode cX1_answerDay 0 = .ok (.aload_n 0, 1) := dk_42 (dk_at dksX1_answerDay_0 0 rfl rfl)
theorem dX1_answerDay_1 : decode cX1_answerDay 1 = .ok (.iload_n 1, 1) := dk_27 (dk_at dksX1_answerDay_0 1 rfl rfl)
theorem dX1_answerDay_2 : decode cX1_answerDay 2 = .ok (.invokevirtual 135, 3) := dk_182 0 135 (dk_at dksX1_answerDay_0 2 rfl rfl)
theorem dX1_answerDay_5 : decode cX1_answerDay 5 = .ok (.ifCond .eq 15, 3) := dk_153 0 15 (dk_at dksX1_answerDay_0 5 rfl rfl)
theorem dX1_answerDay_8 : decode cX1_answerDay 8 = .ok (.aload_n 0, 1) := dk_42 (dk_at dksX1_answerDay_0 8 rfl rfl)
theorem dX1_answerDay_9 : decode cX1_answerDay 9 = .ok (.getfield 31, 3) := dk_180 0 31 (dk_at dksX1_answerDay_0 9 rfl rfl)
theorem dX1_answerDay_12 : decode cX1_answerDay 12 = .ok (.getfield 379, 3) := dk_180 1 123 (dk_at dksX1_answerDay_0 12 rfl rfl)
theorem dX1_answerDay_15 : decode cX1_answerDay 15 = .ok (.iload_n 1, 1) := dk_27 (dk_at dksX1_answerDay_0 15 rfl rfl)
theorem dX1_answerDay_16 : decode cX1_answerDay 16 = .ok (.iaload, 1) := dk_46 (dk_at dksX1_answerDay_0 16 rfl rfl)
theorem dX1_answerDay_17 : decode cX1_answerDay 17 = .ok (.goto 4, 3) := dk_167 0 4 (dk_at dksX1_answerDay_0 17 rfl rfl)
theorem dX1_answerDay_20 : decode cX1_answerDay 20 = .ok (.iconst (-1), 1) := dk_2 (dk_at dksX1_answerDay_0 20 rfl rfl)
theorem dX1_answerDay_21 : decode cX1_answerDay 21 = .ok (.ireturn, 1) := dk_172 (dk_at dksX1_answerDay_0 21 rfl rfl)
abbrev cX1_pigeonsInLoft : ByteArray := prog_1_method_57_code
def yX1_pigeonsInLoft : MethodName := ⟨RX1, "pigeonsInLoft", "()I"⟩
def dkwX1_pigeonsInLoft_0 : List UInt8 := [42, 180, 0, 31, 180, 1, 37, 172]
abbrev dktX1_pigeonsInLoft_0 : List UInt8 := dkwX1_pigeonsInLoft_0 ++ []
theorem dksX1_pigeonsInLoft_0 : cX1_pigeonsInLoft.data.toList.drop 0 = dktX1_pigeonsInLoft_0 := by decide +kernel
theorem dX1_pigeonsInLoft_0 : decode cX1_pigeonsInLoft 0 = .ok (.aload_n 0, 1) := dk_42 (dk_at dksX1_pigeonsInLoft_0 0 rfl rfl)
theorem dX1_pigeonsInLoft_1 : decode cX1_pigeonsInLoft 1 = .ok (.getfield 31, 3) := dk_180 0 31 (dk_at dksX1_pigeonsInLoft_0 1 rfl rfl)
theorem dX1_pigeonsInLoft_4 : decode cX1_pigeonsInLoft 4 = .ok (.getfield 293, 3) := dk_180 1 37 (dk_at dksX1_pigeonsInLoft_0 4 rfl rfl)
theorem dX1_pigeonsInLoft_7 : decode cX1_pigeonsInLoft 7 = .ok (.ireturn, 1) := dk_172 (dk_at dksX1_pigeonsInLoft_0 7 rfl rfl)
abbrev cX1_pigeonsOnTheWay : ByteArray := prog_1_method_58_code
def yX1_pigeonsOnTheWay : MethodName := ⟨RX1, "pigeonsOnTheWay", "()I"⟩
def dkwX1_pigeonsOnTheWay_0 : List UInt8 := [42, 180, 0, 31, 180, 1, 83, 182, 1, 126, 172]
abbrev dktX1_pigeonsOnTheWay_0 : List UInt8 := dkwX1_pigeonsOnTheWay_0 ++ []
theorem dksX1_pigeonsOnTheWay_0 : cX1_pigeonsOnTheWay.data.toList.drop 0 = dktX1_pigeonsOnTheWay_0 := by decide +kernel
theorem dX1_pigeonsOnTheWay_0 : decode cX1_pigeonsOnTheWay 0 = .ok (.aload_n 0, 1) := dk_42 (dk_at dksX1_pigeonsOnTheWay_0 0 rfl rfl)
theorem dX1_pigeonsOnTheWay_1 : decode cX1_pigeonsOnTheWay 1 = .ok (.getfield 31, 3) := dk_180 0 31 (dk_at dksX1_pigeonsOnTheWay_0 1 rfl rfl)
theorem dX1_pigeonsOnTheWay_4 : decode cX1_pigeonsOnTheWay 4 = .ok (.getfield 339, 3) := dk_180 1 83 (dk_at dksX1_pigeonsOnTheWay_0 4 rfl rfl)
theorem dX1_pigeonsOnTheWay_7 : decode cX1_pigeonsOnTheWay 7 = .ok (.invokevirtual 382, 3) := dk_182 1 126 (dk_at dksX1_pigeonsOnTheWay_0 7 rfl rfl)
theorem dX1_pigeonsOnTheWay_10 : decode cX1_pigeonsOnTheWay 10 = .ok (.ireturn, 1) := dk_172 (dk_at dksX1_pigeonsOnTheWay_0 10 rfl rfl)
abbrev cX1_pigeonsLost : ByteArray := prog_1_method_59_code
def yX1_pigeonsLost : MethodName := ⟨RX1, "pigeonsLost", "()I"⟩
def dkwX1_pigeonsLost_0 : List UInt8 := [42, 180, 0, 31, 180, 1, 71, 172]
abbrev dktX1_pigeonsLost_0 : List UInt8 := dkwX1_pigeonsLost_0 ++ []
theorem dksX1_pigeonsLost_0 : cX1_pigeonsLost.data.toList.drop 0 = dktX1_pigeonsLost_0 := by decide +kernel
theorem dX1_pigeonsLost_0 : decode cX1_pigeonsLost 0 = .ok (.aload_n 0, 1) := dk_42 (dk_at dksX1_pigeonsLost_0 0 rfl rfl)
theorem dX1_pigeonsLost_1 : decode cX1_pigeonsLost 1 = .ok (.getfield 31, 3) := dk_180 0 31 (dk_at dksX1_pigeonsLost_0 1 rfl rfl)
theorem dX1_pigeonsLost_4 : decode cX1_pigeonsLost 4 = .ok (.getfield 327, 3) := dk_180 1 71 (dk_at dksX1_pigeonsLost_0 4 rfl rfl)
theorem dX1_pigeonsLost_7 : decode cX1_pigeonsLost 7 = .ok (.ireturn, 1) := dk_172 (dk_at dksX1_pigeonsLost_0 7 rfl rfl)
abbrev cX1_nextReturn : ByteArray := prog_1_method_60_code
def yX1_nextReturn : MethodName := ⟨RX1, "nextReturn", "()I"⟩
def dkwX1_nextReturn_2 : List UInt8 := [180, 1, 110, 60, 167, 255, 218, 27, 172]
abbrev dktX1_nextReturn_2 : List UInt8 := dkwX1_nextReturn_2 ++ []
def dkwX1_nextReturn_1 : List UInt8 := [185, 1, 107, 1, 0, 192, 1, 87, 78, 27, 16, 254, 159, 0, 11, 45, 180, 1, 110, 27, 162, 0, 8, 45]
abbrev dktX1_nextReturn_1 : List UInt8 := dkwX1_nextReturn_1 ++ dktX1_nextReturn_2
def dkwX1_nextReturn_0 : List UInt8 := [16, 254, 60, 42, 180, 0, 31, 180, 1, 83, 182, 1, 97, 77, 44, 185, 1, 101, 1, 0, 153, 0, 35, 44]
abbrev dktX1_nextReturn_0 : List UInt8 := dkwX1_nextReturn_0 ++ dktX1_nextReturn_1
theorem dksX1_nextReturn_0 : cX1_nextReturn.data.toList.drop 0 = dktX1_nextReturn_0 := by decide +kernel
theorem dksX1_nextReturn_1 : cX1_nextReturn.data.toList.drop 24 = dktX1_nextReturn_1 := dk_seg dksX1_nextReturn_0 24 rfl rfl
theorem dksX1_nextReturn_2 : cX1_nextReturn.data.toList.drop 48 = dktX1_nextReturn_2 := dk_seg dksX1_nextReturn_1 24 rfl rfl
theorem dX1_nextReturn_0 : decode cX1_nextReturn 0 = .ok (.bipush (-2), 2) := dk_16 254 (dk_at dksX1_nextReturn_0 0 rfl rfl)
theorem dX1_nextReturn_2 : decode cX1_nextReturn 2 = .ok (.istore_n 1, 1) := dk_60 (dk_at dksX1_nextReturn_0 2 rfl rfl)
theorem dX1_nextReturn_3 : decode cX1_nextReturn 3 = .ok (.aload_n 0, 1) := dk_42 (dk_at dksX1_nextReturn_0 3 rfl rfl)
theorem dX1_nextReturn_4 : decode cX1_nextReturn 4 = .ok (.getfield 31, 3) := dk_180 0 31 (dk_at dksX1_nextReturn_0 4 rfl rfl)
theorem dX1_nextReturn_7 : decode cX1_nextReturn 7 = .ok (.getfield 339, 3) := dk_180 1 83 (dk_at dksX1_nextReturn_0 7 rfl rfl)
theorem dX1_nextReturn_10 : decode cX1_nextReturn 10 = .ok (.invokevirtual 353, 3) := dk_182 1 97 (dk_at dksX1_nextReturn_0 10 rfl rfl)
theorem dX1_nextReturn_13 : decode cX1_nextReturn 13 = .ok (.astore_n 2, 1) := dk_77 (dk_at dksX1_nextReturn_0 13 rfl rfl)
theorem dX1_nextReturn_14 : decode cX1_nextReturn 14 = .ok (.aload_n 2, 1) := dk_44 (dk_at dksX1_nextReturn_0 14 rfl rfl)
theorem dX1_nextReturn_15 : decode cX1_nextReturn 15 = .ok (.invokeinterface 357 1, 5) := by decide +kernel
theorem dX1_nextReturn_20 : decode cX1_nextReturn 20 = .ok (.ifCond .eq 35, 3) := dk_153 0 35 (dk_at dksX1_nextReturn_0 20 rfl rfl)
theorem dX1_nextReturn_23 : decode cX1_nextReturn 23 = .ok (.aload_n 2, 1) := dk_44 (dk_at dksX1_nextReturn_0 23 rfl rfl)
theorem dX1_nextReturn_24 : decode cX1_nextReturn 24 = .ok (.invokeinterface 363 1, 5) := by decide +kernel
theorem dX1_nextReturn_29 : decode cX1_nextReturn 29 = .ok (.checkcast 343, 3) := dk_192 1 87 (dk_at dksX1_nextReturn_1 5 rfl rfl)
theorem dX1_nextReturn_32 : decode cX1_nextReturn 32 = .ok (.astore_n 3, 1) := dk_78 (dk_at dksX1_nextReturn_1 8 rfl rfl)
theorem dX1_nextReturn_33 : decode cX1_nextReturn 33 = .ok (.iload_n 1, 1) := dk_27 (dk_at dksX1_nextReturn_1 9 rfl rfl)
theorem dX1_nextReturn_34 : decode cX1_nextReturn 34 = .ok (.bipush (-2), 2) := dk_16 254 (dk_at dksX1_nextReturn_1 10 rfl rfl)
theorem dX1_nextReturn_36 : decode cX1_nextReturn 36 = .ok (.if_icmp .eq 11, 3) := dk_159 0 11 (dk_at dksX1_nextReturn_1 12 rfl rfl)
theorem dX1_nextReturn_39 : decode cX1_nextReturn 39 = .ok (.aload_n 3, 1) := dk_45 (dk_at dksX1_nextReturn_1 15 rfl rfl)
theorem dX1_nextReturn_40 : decode cX1_nextReturn 40 = .ok (.getfield 366, 3) := dk_180 1 110 (dk_at dksX1_nextReturn_1 16 rfl rfl)
theorem dX1_nextReturn_43 : decode cX1_nextReturn 43 = .ok (.iload_n 1, 1) := dk_27 (dk_at dksX1_nextReturn_1 19 rfl rfl)
theorem dX1_nextReturn_44 : decode cX1_nextReturn 44 = .ok (.if_icmp .ge 8, 3) := dk_162 0 8 (dk_at dksX1_nextReturn_1 20 rfl rfl)
theorem dX1_nextReturn_47 : decode cX1_nextReturn 47 = .ok (.aload_n 3, 1) := dk_45 (dk_at dksX1_nextReturn_1 23 rfl rfl)
theorem dX1_nextReturn_48 : decode cX1_nextReturn 48 = .ok (.getfield 366, 3) := dk_180 1 110 (dk_at dksX1_nextReturn_2 0 rfl rfl)
theorem dX1_nextReturn_51 : decode cX1_nextReturn 51 = .ok (.istore_n 1, 1) := dk_60 (dk_at dksX1_nextReturn_2 3 rfl rfl)
theorem dX1_nextReturn_52 : decode cX1_nextReturn 52 = .ok (.goto (-38), 3) := dk_167 255 218 (dk_at dksX1_nextReturn_2 4 rfl rfl)
theorem dX1_nextReturn_55 : decode cX1_nextReturn 55 = .ok (.iload_n 1, 1) := dk_27 (dk_at dksX1_nextReturn_2 7 rfl rfl)
theorem dX1_nextReturn_56 : decode cX1_nextReturn 56 = .ok (.ireturn, 1) := dk_172 (dk_at dksX1_nextReturn_2 8 rfl rfl)
abbrev cX1_weightIn : ByteArray := prog_1_method_61_code
def yX1_weightIn : MethodName := ⟨RX1, "weightIn", "(I)I"⟩
def dkwX1_weightIn_0 : List UInt8 := [27, 184, 1, 17, 153, 0, 18, 42, 180, 0, 22, 42, 27, 182, 1, 20, 182, 1, 12, 167, 0, 4, 2, 172]
abbrev dktX1_weightIn_0 : List UInt8 := dkwX1_weightIn_0 ++ []
theorem dksX1_weightIn_0 : cX1_weightIn.data.toList.drop 0 = dktX1_weightIn_0 := by decide +kernel
theorem dX1_weightIn_0 : decode cX1_weightIn 0 = .ok (.iload_n 1, 1) := dk_27 (dk_at dksX1_weightIn_0 0 rfl rfl)
theorem dX1_weightIn_1 : decode cX1_weightIn 1 = .ok (.invokestatic 273, 3) := dk_184 1 17 (dk_at dksX1_weightIn_0 1 rfl rfl)
theorem dX1_weightIn_4 : decode cX1_weightIn 4 = .ok (.ifCond .eq 18, 3) := dk_153 0 18 (dk_at dksX1_weightIn_0 4 rfl rfl)
theorem dX1_weightIn_7 : decode cX1_weightIn 7 = .ok (.aload_n 0, 1) := dk_42 (dk_at dksX1_weightIn_0 7 rfl rfl)
theorem dX1_weightIn_8 : decode cX1_weightIn 8 = .ok (.getfield 22, 3) := dk_180 0 22 (dk_at dksX1_weightIn_0 8 rfl rfl)
theorem dX1_weightIn_11 : decode cX1_weightIn 11 = .ok (.aload_n 0, 1) := dk_42 (dk_at dksX1_weightIn_0 11 rfl rfl)
theorem dX1_weightIn_12 : decode cX1_weightIn 12 = .ok (.iload_n 1, 1) := dk_27 (dk_at dksX1_weightIn_0 12 rfl rfl)
theorem dX1_weightIn_13 : decode cX1_weightIn 13 = .ok (.invokevirtual 276, 3) := dk_182 1 20 (dk_at dksX1_weightIn_0 13 rfl rfl)
theorem dX1_weightIn_16 : decode cX1_weightIn 16 = .ok (.invokevirtual 268, 3) := dk_182 1 12 (dk_at dksX1_weightIn_0 16 rfl rfl)
theorem dX1_weightIn_19 : decode cX1_weightIn 19 = .ok (.goto 4, 3) := dk_167 0 4 (dk_at dksX1_weightIn_0 19 rfl rfl)
theorem dX1_weightIn_22 : decode cX1_weightIn 22 = .ok (.iconst (-1), 1) := dk_2 (dk_at dksX1_weightIn_0 22 rfl rfl)
theorem dX1_weightIn_23 : decode cX1_weightIn 23 = .ok (.ireturn, 1) := dk_172 (dk_at dksX1_weightIn_0 23 rfl rfl)
abbrev cX1_answeredPriority : ByteArray := prog_1_method_62_code
def yX1_answeredPriority : MethodName := ⟨RX1, "answeredPriority", "()I"⟩
def dkwX1_answeredPriority_0 : List UInt8 := [42, 180, 0, 22, 42, 6, 182, 1, 20, 182, 1, 13, 172]
abbrev dktX1_answeredPriority_0 : List UInt8 := dkwX1_answeredPriority_0 ++ []
theorem dksX1_answeredPriority_0 : cX1_answeredPriority.data.toList.drop 0 = dktX1_answeredPriority_0 := by decide +kernel
theorem dX1_answeredPriority_0 : decode cX1_answeredPriority 0 = .ok (.aload_n 0, 1) := dk_42 (dk_at dksX1_answeredPriority_0 0 rfl rfl)
theorem dX1_answeredPriority_1 : decode cX1_answeredPriority 1 = .ok (.getfield 22, 3) := dk_180 0 22 (dk_at dksX1_answeredPriority_0 1 rfl rfl)
theorem dX1_answeredPriority_4 : decode cX1_answeredPriority 4 = .ok (.aload_n 0, 1) := dk_42 (dk_at dksX1_answeredPriority_0 4 rfl rfl)
theorem dX1_answeredPriority_5 : decode cX1_answeredPriority 5 = .ok (.iconst 3, 1) := dk_6 (dk_at dksX1_answeredPriority_0 5 rfl rfl)
theorem dX1_answeredPriority_6 : decode cX1_answeredPriority 6 = .ok (.invokevirtual 276, 3) := dk_182 1 20 (dk_at dksX1_answeredPriority_0 6 rfl rfl)
theorem dX1_answeredPriority_9 : decode cX1_answeredPriority 9 = .ok (.invokevirtual 269, 3) := dk_182 1 13 (dk_at dksX1_answeredPriority_0 9 rfl rfl)
theorem dX1_answeredPriority_12 : decode cX1_answeredPriority 12 = .ok (.ireturn, 1) := dk_172 (dk_at dksX1_answeredPriority_0 12 rfl rfl)
abbrev cX1_balloonsIn : ByteArray := prog_1_method_63_code
def yX1_balloonsIn : MethodName := ⟨RX1, "balloonsIn", "(I)I"⟩
def dkwX1_balloonsIn_1 : List UInt8 := [180, 0, 31, 180, 1, 57, 29, 46, 27, 160, 0, 6, 132, 2, 1, 132, 3, 1, 167, 255, 229, 28, 172]
abbrev dktX1_balloonsIn_1 : List UInt8 := dkwX1_balloonsIn_1 ++ []
def dkwX1_balloonsIn_0 : List UInt8 := [42, 27, 182, 0, 183, 154, 0, 5, 2, 172, 3, 61, 3, 62, 29, 42, 182, 0, 116, 162, 0, 25, 42]
abbrev dktX1_balloonsIn_0 : List UInt8 := dkwX1_balloonsIn_0 ++ dktX1_balloonsIn_1
theorem dksX1_balloonsIn_0 : cX1_balloonsIn.data.toList.drop 0 = dktX1_balloonsIn_0 := by decide +kernel
theorem dksX1_balloonsIn_1 : cX1_balloonsIn.data.toList.drop 23 = dktX1_balloonsIn_1 := dk_seg dksX1_balloonsIn_0 23 rfl rfl
theorem dX1_balloonsIn_0 : decode cX1_balloonsIn 0 = .ok (.aload_n 0, 1) := dk_42 (dk_at dksX1_balloonsIn_0 0 rfl rfl)
theorem dX1_balloonsIn_1 : decode cX1_balloonsIn 1 = .ok (.iload_n 1, 1) := dk_27 (dk_at dksX1_balloonsIn_0 1 rfl rfl)
theorem dX1_balloonsIn_2 : decode cX1_balloonsIn 2 = .ok (.invokevirtual 183, 3) := dk_182 0 183 (dk_at dksX1_balloonsIn_0 2 rfl rfl)
theorem dX1_balloonsIn_5 : decode cX1_balloonsIn 5 = .ok (.ifCond .ne 5, 3) := dk_154 0 5 (dk_at dksX1_balloonsIn_0 5 rfl rfl)
theorem dX1_balloonsIn_8 : decode cX1_balloonsIn 8 = .ok (.iconst (-1), 1) := dk_2 (dk_at dksX1_balloonsIn_0 8 rfl rfl)
theorem dX1_balloonsIn_9 : decode cX1_balloonsIn 9 = .ok (.ireturn, 1) := dk_172 (dk_at dksX1_balloonsIn_0 9 rfl rfl)
theorem dX1_balloonsIn_10 : decode cX1_balloonsIn 10 = .ok (.iconst 0, 1) := dk_3 (dk_at dksX1_balloonsIn_0 10 rfl rfl)
theorem dX1_balloonsIn_11 : decode cX1_balloonsIn 11 = .ok (.istore_n 2, 1) := dk_61 (dk_at dksX1_balloonsIn_0 11 rfl rfl)
theorem dX1_balloonsIn_12 : decode cX1_balloonsIn 12 = .ok (.iconst 0, 1) := dk_3 (dk_at dksX1_balloonsIn_0 12 rfl rfl)
theorem dX1_balloonsIn_13 : decode cX1_balloonsIn 13 = .ok (.istore_n 3, 1) := dk_62 (dk_at dksX1_balloonsIn_0 13 rfl rfl)
theorem dX1_balloonsIn_14 : decode cX1_balloonsIn 14 = .ok (.iload_n 3, 1) := dk_29 (dk_at dksX1_balloonsIn_0 14 rfl rfl)
theorem dX1_balloonsIn_15 : decode cX1_balloonsIn 15 = .ok (.aload_n 0, 1) := dk_42 (dk_at dksX1_balloonsIn_0 15 rfl rfl)
theorem dX1_balloonsIn_16 : decode cX1_balloonsIn 16 = .ok (.invokevirtual 116, 3) := dk_182 0 116 (dk_at dksX1_balloonsIn_0 16 rfl rfl)
theorem dX1_balloonsIn_19 : decode cX1_balloonsIn 19 = .ok (.if_icmp .ge 25, 3) := dk_162 0 25 (dk_at dksX1_balloonsIn_0 19 rfl rfl)
theorem dX1_balloonsIn_22 : decode cX1_balloonsIn 22 = .ok (.aload_n 0, 1) := dk_42 (dk_at dksX1_balloonsIn_0 22 rfl rfl)
theorem dX1_balloonsIn_23 : decode cX1_balloonsIn 23 = .ok (.getfield 31, 3) := dk_180 0 31 (dk_at dksX1_balloonsIn_1 0 rfl rfl)
theorem dX1_balloonsIn_26 : decode cX1_balloonsIn 26 = .ok (.getfield 313, 3) := dk_180 1 57 (dk_at dksX1_balloonsIn_1 3 rfl rfl)
theorem dX1_balloonsIn_29 : decode cX1_balloonsIn 29 = .ok (.iload_n 3, 1) := dk_29 (dk_at dksX1_balloonsIn_1 6 rfl rfl)
theorem dX1_balloonsIn_30 : decode cX1_balloonsIn 30 = .ok (.iaload, 1) := dk_46 (dk_at dksX1_balloonsIn_1 7 rfl rfl)
theorem dX1_balloonsIn_31 : decode cX1_balloonsIn 31 = .ok (.iload_n 1, 1) := dk_27 (dk_at dksX1_balloonsIn_1 8 rfl rfl)
theorem dX1_balloonsIn_32 : decode cX1_balloonsIn 32 = .ok (.if_icmp .ne 6, 3) := dk_160 0 6 (dk_at dksX1_balloonsIn_1 9 rfl rfl)
theorem dX1_balloonsIn_35 : decode cX1_balloonsIn 35 = .ok (.iinc 2 1, 3) := dk_132 2 1 (dk_at dksX1_balloonsIn_1 12 rfl rfl)
theorem dX1_balloonsIn_38 : decode cX1_balloonsIn 38 = .ok (.iinc 3 1, 3) := dk_132 3 1 (dk_at dksX1_balloonsIn_1 15 rfl rfl)
theorem dX1_balloonsIn_41 : decode cX1_balloonsIn 41 = .ok (.goto (-27), 3) := dk_167 255 229 (dk_at dksX1_balloonsIn_1 18 rfl rfl)
theorem dX1_balloonsIn_44 : decode cX1_balloonsIn 44 = .ok (.iload_n 2, 1) := dk_28 (dk_at dksX1_balloonsIn_1 21 rfl rfl)
theorem dX1_balloonsIn_45 : decode cX1_balloonsIn 45 = .ok (.ireturn, 1) := dk_172 (dk_at dksX1_balloonsIn_1 22 rfl rfl)
abbrev cX1_eventCount : ByteArray := prog_1_method_64_code
def yX1_eventCount : MethodName := ⟨RX1, "eventCount", "()I"⟩
def dkwX1_eventCount_0 : List UInt8 := [42, 180, 0, 31, 180, 1, 127, 182, 1, 131, 172]
abbrev dktX1_eventCount_0 : List UInt8 := dkwX1_eventCount_0 ++ []
theorem dksX1_eventCount_0 : cX1_eventCount.data.toList.drop 0 = dktX1_eventCount_0 := by decide +kernel
theorem dX1_eventCount_0 : decode cX1_eventCount 0 = .ok (.aload_n 0, 1) := dk_42 (dk_at dksX1_eventCount_0 0 rfl rfl)
theorem dX1_eventCount_1 : decode cX1_eventCount 1 = .ok (.getfield 31, 3) := dk_180 0 31 (dk_at dksX1_eventCount_0 1 rfl rfl)
theorem dX1_eventCount_4 : decode cX1_eventCount 4 = .ok (.getfield 383, 3) := dk_180 1 127 (dk_at dksX1_eventCount_0 4 rfl rfl)
theorem dX1_eventCount_7 : decode cX1_eventCount 7 = .ok (.invokevirtual 387, 3) := dk_182 1 131 (dk_at dksX1_eventCount_0 7 rfl rfl)
theorem dX1_eventCount_10 : decode cX1_eventCount 10 = .ok (.ireturn, 1) := dk_172 (dk_at dksX1_eventCount_0 10 rfl rfl)
abbrev cX1_undo : ByteArray := prog_1_method_69_code
def yX1_undo : MethodName := ⟨RX1, "undo", "()Z"⟩
def dkwX1_undo_1 : List UInt8 := [4, 100, 182, 1, 26, 192, 0, 26, 181, 0, 31, 4, 172]
abbrev dktX1_undo_1 : List UInt8 := dkwX1_undo_1 ++ []
def dkwX1_undo_0 : List UInt8 := [42, 180, 0, 40, 182, 1, 149, 153, 0, 5, 3, 172, 42, 42, 180, 0, 40, 42, 180, 0, 40, 182, 0, 98]
abbrev dktX1_undo_0 : List UInt8 := dkwX1_undo_0 ++ dktX1_undo_1
theorem dksX1_undo_0 : cX1_undo.data.toList.drop 0 = dktX1_undo_0 := by decide +kernel
theorem dksX1_undo_1 : cX1_undo.data.toList.drop 24 = dktX1_undo_1 := dk_seg dksX1_undo_0 24 rfl rfl
theorem dX1_undo_0 : decode cX1_undo 0 = .ok (.aload_n 0, 1) := dk_42 (dk_at dksX1_undo_0 0 rfl rfl)
theorem dX1_undo_1 : decode cX1_undo 1 = .ok (.getfield 40, 3) := dk_180 0 40 (dk_at dksX1_undo_0 1 rfl rfl)
theorem dX1_undo_4 : decode cX1_undo 4 = .ok (.invokevirtual 405, 3) := dk_182 1 149 (dk_at dksX1_undo_0 4 rfl rfl)
theorem dX1_undo_7 : decode cX1_undo 7 = .ok (.ifCond .eq 5, 3) := dk_153 0 5 (dk_at dksX1_undo_0 7 rfl rfl)
theorem dX1_undo_10 : decode cX1_undo 10 = .ok (.iconst 0, 1) := dk_3 (dk_at dksX1_undo_0 10 rfl rfl)
theorem dX1_undo_11 : decode cX1_undo 11 = .ok (.ireturn, 1) := dk_172 (dk_at dksX1_undo_0 11 rfl rfl)
theorem dX1_undo_12 : decode cX1_undo 12 = .ok (.aload_n 0, 1) := dk_42 (dk_at dksX1_undo_0 12 rfl rfl)
theorem dX1_undo_13 : decode cX1_undo 13 = .ok (.aload_n 0, 1) := dk_42 (dk_at dksX1_undo_0 13 rfl rfl)
theorem dX1_undo_14 : decode cX1_undo 14 = .ok (.getfield 40, 3) := dk_180 0 40 (dk_at dksX1_undo_0 14 rfl rfl)
theorem dX1_undo_17 : decode cX1_undo 17 = .ok (.aload_n 0, 1) := dk_42 (dk_at dksX1_undo_0 17 rfl rfl)
theorem dX1_undo_18 : decode cX1_undo 18 = .ok (.getfield 40, 3) := dk_180 0 40 (dk_at dksX1_undo_0 18 rfl rfl)
theorem dX1_undo_21 : decode cX1_undo 21 = .ok (.invokevirtual 98, 3) := dk_182 0 98 (dk_at dksX1_undo_0 21 rfl rfl)
theorem dX1_undo_24 : decode cX1_undo 24 = .ok (.iconst 1, 1) := dk_4 (dk_at dksX1_undo_1 0 rfl rfl)
theorem dX1_undo_25 : decode cX1_undo 25 = .ok (.isub, 1) := dk_100 (dk_at dksX1_undo_1 1 rfl rfl)
theorem dX1_undo_26 : decode cX1_undo 26 = .ok (.invokevirtual 282, 3) := dk_182 1 26 (dk_at dksX1_undo_1 2 rfl rfl)
theorem dX1_undo_29 : decode cX1_undo 29 = .ok (.checkcast 26, 3) := dk_192 0 26 (dk_at dksX1_undo_1 5 rfl rfl)
theorem dX1_undo_32 : decode cX1_undo 32 = .ok (.putfield 31, 3) := dk_181 0 31 (dk_at dksX1_undo_1 8 rfl rfl)
theorem dX1_undo_35 : decode cX1_undo 35 = .ok (.iconst 1, 1) := dk_4 (dk_at dksX1_undo_1 11 rfl rfl)
theorem dX1_undo_36 : decode cX1_undo 36 = .ok (.ireturn, 1) := dk_172 (dk_at dksX1_undo_1 12 rfl rfl)
abbrev cX1_undoDepth : ByteArray := prog_1_method_70_code
def yX1_undoDepth : MethodName := ⟨RX1, "undoDepth", "()I"⟩
def dkwX1_undoDepth_0 : List UInt8 := [42, 180, 0, 40, 182, 0, 98, 172]
abbrev dktX1_undoDepth_0 : List UInt8 := dkwX1_undoDepth_0 ++ []
theorem dksX1_undoDepth_0 : cX1_undoDepth.data.toList.drop 0 = dktX1_undoDepth_0 := by decide +kernel
theorem dX1_undoDepth_0 : decode cX1_undoDepth 0 = .ok (.aload_n 0, 1) := dk_42 (dk_at dksX1_undoDepth_0 0 rfl rfl)
theorem dX1_undoDepth_1 : decode cX1_undoDepth 1 = .ok (.getfield 40, 3) := dk_180 0 40 (dk_at dksX1_undoDepth_0 1 rfl rfl)
theorem dX1_undoDepth_4 : decode cX1_undoDepth 4 = .ok (.invokevirtual 98, 3) := dk_182 0 98 (dk_at dksX1_undoDepth_0 4 rfl rfl)
theorem dX1_undoDepth_7 : decode cX1_undoDepth 7 = .ok (.ireturn, 1) := dk_172 (dk_at dksX1_undoDepth_0 7 rfl rfl)
abbrev cX1_saveSnapshot : ByteArray := prog_1_method_71_code
def yX1_saveSnapshot : MethodName := ⟨RX1, "saveSnapshot", "(I)Z"⟩
def dkwX1_saveSnapshot_1 : List UInt8 := [180, 0, 22, 182, 1, 29, 83, 4, 172]
abbrev dktX1_saveSnapshot_1 : List UInt8 := dkwX1_saveSnapshot_1 ++ []
def dkwX1_saveSnapshot_0 : List UInt8 := [27, 133, 9, 10, 184, 0, 71, 154, 0, 5, 3, 172, 42, 180, 0, 44, 27, 42, 180, 0, 31, 42]
abbrev dktX1_saveSnapshot_0 : List UInt8 := dkwX1_saveSnapshot_0 ++ dktX1_saveSnapshot_1
theorem dksX1_saveSnapshot_0 : cX1_saveSnapshot.data.toList.drop 0 = dktX1_saveSnapshot_0 := by decide +kernel
theorem dksX1_saveSnapshot_1 : cX1_saveSnapshot.data.toList.drop 22 = dktX1_saveSnapshot_1 := dk_seg dksX1_saveSnapshot_0 22 rfl rfl
theorem dX1_saveSnapshot_0 : decode cX1_saveSnapshot 0 = .ok (.iload_n 1, 1) := dk_27 (dk_at dksX1_saveSnapshot_0 0 rfl rfl)
theorem dX1_saveSnapshot_1 : decode cX1_saveSnapshot 1 = .ok (.i2l, 1) := dk_133 (dk_at dksX1_saveSnapshot_0 1 rfl rfl)
theorem dX1_saveSnapshot_2 : decode cX1_saveSnapshot 2 = .ok (.lconst 0, 1) := dk_9 (dk_at dksX1_saveSnapshot_0 2 rfl rfl)
theorem dX1_saveSnapshot_3 : decode cX1_saveSnapshot 3 = .ok (.lconst 1, 1) := dk_10 (dk_at dksX1_saveSnapshot_0 3 rfl rfl)
theorem dX1_saveSnapshot_4 : decode cX1_saveSnapshot 4 = .ok (.invokestatic 71, 3) := dk_184 0 71 (dk_at dksX1_saveSnapshot_0 4 rfl rfl)
theorem dX1_saveSnapshot_7 : decode cX1_saveSnapshot 7 = .ok (.ifCond .ne 5, 3) := dk_154 0 5 (dk_at dksX1_saveSnapshot_0 7 rfl rfl)
theorem dX1_saveSnapshot_10 : decode cX1_saveSnapshot 10 = .ok (.iconst 0, 1) := dk_3 (dk_at dksX1_saveSnapshot_0 10 rfl rfl)
theorem dX1_saveSnapshot_11 : decode cX1_saveSnapshot 11 = .ok (.ireturn, 1) := dk_172 (dk_at dksX1_saveSnapshot_0 11 rfl rfl)
theorem dX1_saveSnapshot_12 : decode cX1_saveSnapshot 12 = .ok (.aload_n 0, 1) := dk_42 (dk_at dksX1_saveSnapshot_0 12 rfl rfl)
theorem dX1_saveSnapshot_13 : decode cX1_saveSnapshot 13 = .ok (.getfield 44, 3) := dk_180 0 44 (dk_at dksX1_saveSnapshot_0 13 rfl rfl)
theorem dX1_saveSnapshot_16 : decode cX1_saveSnapshot 16 = .ok (.iload_n 1, 1) := dk_27 (dk_at dksX1_saveSnapshot_0 16 rfl rfl)
theorem dX1_saveSnapshot_17 : decode cX1_saveSnapshot 17 = .ok (.aload_n 0, 1) := dk_42 (dk_at dksX1_saveSnapshot_0 17 rfl rfl)
theorem dX1_saveSnapshot_18 : decode cX1_saveSnapshot 18 = .ok (.getfield 31, 3) := dk_180 0 31 (dk_at dksX1_saveSnapshot_0 18 rfl rfl)
theorem dX1_saveSnapshot_21 : decode cX1_saveSnapshot 21 = .ok (.aload_n 0, 1) := dk_42 (dk_at dksX1_saveSnapshot_0 21 rfl rfl)
theorem dX1_saveSnapshot_22 : decode cX1_saveSnapshot 22 = .ok (.getfield 22, 3) := dk_180 0 22 (dk_at dksX1_saveSnapshot_1 0 rfl rfl)
theorem dX1_saveSnapshot_25 : decode cX1_saveSnapshot 25 = .ok (.invokevirtual 285, 3) := dk_182 1 29 (dk_at dksX1_saveSnapshot_1 3 rfl rfl)
theorem dX1_saveSnapshot_28 : decode cX1_saveSnapshot 28 = .ok (.aastore, 1) := dk_83 (dk_at dksX1_saveSnapshot_1 6 rfl rfl)
theorem dX1_saveSnapshot_29 : decode cX1_saveSnapshot 29 = .ok (.iconst 1, 1) := dk_4 (dk_at dksX1_saveSnapshot_1 7 rfl rfl)
theorem dX1_saveSnapshot_30 : decode cX1_saveSnapshot 30 = .ok (.ireturn, 1) := dk_172 (dk_at dksX1_saveSnapshot_1 8 rfl rfl)
abbrev cX1_restoreSnapshot : ByteArray := prog_1_method_72_code
def yX1_restoreSnapshot : MethodName := ⟨RX1, "restoreSnapshot", "(I)Z"⟩
def dkwX1_restoreSnapshot_1 : List UInt8 := [180, 0, 44, 27, 50, 42, 180, 0, 22, 182, 1, 29, 181, 0, 31, 42, 180, 0, 40, 182, 0, 92, 4, 172]
abbrev dktX1_restoreSnapshot_1 : List UInt8 := dkwX1_restoreSnapshot_1 ++ []
def dkwX1_restoreSnapshot_0 : List UInt8 := [27, 133, 9, 10, 184, 0, 71, 153, 0, 12, 42, 180, 0, 44, 27, 50, 199, 0, 5, 3, 172, 42, 42]
abbrev dktX1_restoreSnapshot_0 : List UInt8 := dkwX1_restoreSnapshot_0 ++ dktX1_restoreSnapshot_1
theorem dksX1_restoreSnapshot_0 : cX1_restoreSnapshot.data.toList.drop 0 = dktX1_restoreSnapshot_0 := by decide +kernel
theorem dksX1_restoreSnapshot_1 : cX1_restoreSnapshot.data.toList.drop 23 = dktX1_restoreSnapshot_1 := dk_seg dksX1_restoreSnapshot_0 23 rfl rfl
theorem dX1_restoreSnapshot_0 : decode cX1_restoreSnapshot 0 = .ok (.iload_n 1, 1) := dk_27 (dk_at dksX1_restoreSnapshot_0 0 rfl rfl)
theorem dX1_restoreSnapshot_1 : decode cX1_restoreSnapshot 1 = .ok (.i2l, 1) := dk_133 (dk_at dksX1_restoreSnapshot_0 1 rfl rfl)
theorem dX1_restoreSnapshot_2 : decode cX1_restoreSnapshot 2 = .ok (.lconst 0, 1) := dk_9 (dk_at dksX1_restoreSnapshot_0 2 rfl rfl)
theorem dX1_restoreSnapshot_3 : decode cX1_restoreSnapshot 3 = .ok (.lconst 1, 1) := dk_10 (dk_at dksX1_restoreSnapshot_0 3 rfl rfl)
theorem dX1_restoreSnapshot_4 : decode cX1_restoreSnapshot 4 = .ok (.invokestatic 71, 3) := dk_184 0 71 (dk_at dksX1_restoreSnapshot_0 4 rfl rfl)
theorem dX1_restoreSnapshot_7 : decode cX1_restoreSnapshot 7 = .ok (.ifCond .eq 12, 3) := dk_153 0 12 (dk_at dksX1_restoreSnapshot_0 7 rfl rfl)
theorem dX1_restoreSnapshot_10 : decode cX1_restoreSnapshot 10 = .ok (.aload_n 0, 1) := dk_42 (dk_at dksX1_restoreSnapshot_0 10 rfl rfl)
theorem dX1_restoreSnapshot_11 : decode cX1_restoreSnapshot 11 = .ok (.getfield 44, 3) := dk_180 0 44 (dk_at dksX1_restoreSnapshot_0 11 rfl rfl)
theorem dX1_restoreSnapshot_14 : decode cX1_restoreSnapshot 14 = .ok (.iload_n 1, 1) := dk_27 (dk_at dksX1_restoreSnapshot_0 14 rfl rfl)
theorem dX1_restoreSnapshot_15 : decode cX1_restoreSnapshot 15 = .ok (.aaload, 1) := dk_50 (dk_at dksX1_restoreSnapshot_0 15 rfl rfl)
theorem dX1_restoreSnapshot_16 : decode cX1_restoreSnapshot 16 = .ok (.ifnonnull 5, 3) := dk_199 0 5 (dk_at dksX1_restoreSnapshot_0 16 rfl rfl)
theorem dX1_restoreSnapshot_19 : decode cX1_restoreSnapshot 19 = .ok (.iconst 0, 1) := dk_3 (dk_at dksX1_restoreSnapshot_0 19 rfl rfl)
theorem dX1_restoreSnapshot_20 : decode cX1_restoreSnapshot 20 = .ok (.ireturn, 1) := dk_172 (dk_at dksX1_restoreSnapshot_0 20 rfl rfl)
theorem dX1_restoreSnapshot_21 : decode cX1_restoreSnapshot 21 = .ok (.aload_n 0, 1) := dk_42 (dk_at dksX1_restoreSnapshot_0 21 rfl rfl)
theorem dX1_restoreSnapshot_22 : decode cX1_restoreSnapshot 22 = .ok (.aload_n 0, 1) := dk_42 (dk_at dksX1_restoreSnapshot_0 22 rfl rfl)
theorem dX1_restoreSnapshot_23 : decode cX1_restoreSnapshot 23 = .ok (.getfield 44, 3) := dk_180 0 44 (dk_at dksX1_restoreSnapshot_1 0 rfl rfl)
theorem dX1_restoreSnapshot_26 : decode cX1_restoreSnapshot 26 = .ok (.iload_n 1, 1) := dk_27 (dk_at dksX1_restoreSnapshot_1 3 rfl rfl)
theorem dX1_restoreSnapshot_27 : decode cX1_restoreSnapshot 27 = .ok (.aaload, 1) := dk_50 (dk_at dksX1_restoreSnapshot_1 4 rfl rfl)
theorem dX1_restoreSnapshot_28 : decode cX1_restoreSnapshot 28 = .ok (.aload_n 0, 1) := dk_42 (dk_at dksX1_restoreSnapshot_1 5 rfl rfl)
theorem dX1_restoreSnapshot_29 : decode cX1_restoreSnapshot 29 = .ok (.getfield 22, 3) := dk_180 0 22 (dk_at dksX1_restoreSnapshot_1 6 rfl rfl)
theorem dX1_restoreSnapshot_32 : decode cX1_restoreSnapshot 32 = .ok (.invokevirtual 285, 3) := dk_182 1 29 (dk_at dksX1_restoreSnapshot_1 9 rfl rfl)
theorem dX1_restoreSnapshot_35 : decode cX1_restoreSnapshot 35 = .ok (.putfield 31, 3) := dk_181 0 31 (dk_at dksX1_restoreSnapshot_1 12 rfl rfl)
theorem dX1_restoreSnapshot_38 : decode cX1_restoreSnapshot 38 = .ok (.aload_n 0, 1) := dk_42 (dk_at dksX1_restoreSnapshot_1 15 rfl rfl)
theorem dX1_restoreSnapshot_39 : decode cX1_restoreSnapshot 39 = .ok (.getfield 40, 3) := dk_180 0 40 (dk_at dksX1_restoreSnapshot_1 16 rfl rfl)
theorem dX1_restoreSnapshot_42 : decode cX1_restoreSnapshot 42 = .ok (.invokevirtual 92, 3) := dk_182 0 92 (dk_at dksX1_restoreSnapshot_1 19 rfl rfl)
theorem dX1_restoreSnapshot_45 : decode cX1_restoreSnapshot 45 = .ok (.iconst 1, 1) := dk_4 (dk_at dksX1_restoreSnapshot_1 22 rfl rfl)
theorem dX1_restoreSnapshot_46 : decode cX1_restoreSnapshot 46 = .ok (.ireturn, 1) := dk_172 (dk_at dksX1_restoreSnapshot_1 23 rfl rfl)
abbrev cX1_eventKind : ByteArray := prog_1_method_66_code
def yX1_eventKind : MethodName := ⟨RX1, "eventKind", "(I)I"⟩
def dkwX1_eventKind_0 : List UInt8 := [42, 27, 182, 1, 140, 180, 1, 144, 172]
abbrev dktX1_eventKind_0 : List UInt8 := dkwX1_eventKind_0 ++ []
theorem dksX1_eventKind_0 : cX1_eventKind.data.toList.drop 0 = dktX1_eventKind_0 := by decide +kernel
theorem dX1_eventKind_0 : decode cX1_eventKind 0 = .ok (.aload_n 0, 1) := dk_42 (dk_at dksX1_eventKind_0 0 rfl rfl)
theorem dX1_eventKind_1 : decode cX1_eventKind 1 = .ok (.iload_n 1, 1) := dk_27 (dk_at dksX1_eventKind_0 1 rfl rfl)
theorem dX1_eventKind_2 : decode cX1_eventKind 2 = .ok (.invokevirtual 396, 3) := dk_182 1 140 (dk_at dksX1_eventKind_0 2 rfl rfl)
theorem dX1_eventKind_5 : decode cX1_eventKind 5 = .ok (.getfield 400, 3) := dk_180 1 144 (dk_at dksX1_eventKind_0 5 rfl rfl)
theorem dX1_eventKind_8 : decode cX1_eventKind 8 = .ok (.ireturn, 1) := dk_172 (dk_at dksX1_eventKind_0 8 rfl rfl)
abbrev cX1_event : ByteArray := prog_1_method_65_code
def yX1_event : MethodName := ⟨RX1, "event", "(I)LBalloonMail$Event;"⟩
def dkwX1_event_3 : List UInt8 := [160, 0, 6, 25, 4, 176, 167, 255, 225, 187, 1, 134, 89, 183, 1, 136, 191]
abbrev dktX1_event_3 : List UInt8 := dkwX1_event_3 ++ []
def dkwX1_event_2 : List UInt8 := [185, 1, 101, 1, 0, 153, 0, 28, 45, 185, 1, 107, 1, 0, 192, 1, 138, 58, 4, 28, 132, 2, 1, 27]
abbrev dktX1_event_2 : List UInt8 := dkwX1_event_2 ++ dktX1_event_3
def dkwX1_event_1 : List UInt8 := [187, 1, 134, 89, 183, 1, 136, 191, 3, 61, 42, 180, 0, 31, 180, 1, 127, 182, 1, 137, 78, 45]
abbrev dktX1_event_1 : List UInt8 := dkwX1_event_1 ++ dktX1_event_2
def dkwX1_event_0 : List UInt8 := [27, 133, 9, 42, 180, 0, 31, 180, 1, 127, 182, 1, 131, 4, 100, 133, 184, 0, 71, 154, 0, 11]
abbrev dktX1_event_0 : List UInt8 := dkwX1_event_0 ++ dktX1_event_1
theorem dksX1_event_0 : cX1_event.data.toList.drop 0 = dktX1_event_0 := by decide +kernel
theorem dksX1_event_1 : cX1_event.data.toList.drop 22 = dktX1_event_1 := dk_seg dksX1_event_0 22 rfl rfl
theorem dksX1_event_2 : cX1_event.data.toList.drop 44 = dktX1_event_2 := dk_seg dksX1_event_1 22 rfl rfl
theorem dksX1_event_3 : cX1_event.data.toList.drop 68 = dktX1_event_3 := dk_seg dksX1_event_2 24 rfl rfl
theorem dX1_event_0 : decode cX1_event 0 = .ok (.iload_n 1, 1) := dk_27 (dk_at dksX1_event_0 0 rfl rfl)
theorem dX1_event_1 : decode cX1_event 1 = .ok (.i2l, 1) := dk_133 (dk_at dksX1_event_0 1 rfl rfl)
theorem dX1_event_2 : decode cX1_event 2 = .ok (.lconst 0, 1) := dk_9 (dk_at dksX1_event_0 2 rfl rfl)
theorem dX1_event_3 : decode cX1_event 3 = .ok (.aload_n 0, 1) := dk_42 (dk_at dksX1_event_0 3 rfl rfl)
theorem dX1_event_4 : decode cX1_event 4 = .ok (.getfield 31, 3) := dk_180 0 31 (dk_at dksX1_event_0 4 rfl rfl)
theorem dX1_event_7 : decode cX1_event 7 = .ok (.getfield 383, 3) := dk_180 1 127 (dk_at dksX1_event_0 7 rfl rfl)
theorem dX1_event_10 : decode cX1_event 10 = .ok (.invokevirtual 387, 3) := dk_182 1 131 (dk_at dksX1_event_0 10 rfl rfl)
theorem dX1_event_13 : decode cX1_event 13 = .ok (.iconst 1, 1) := dk_4 (dk_at dksX1_event_0 13 rfl rfl)
theorem dX1_event_14 : decode cX1_event 14 = .ok (.isub, 1) := dk_100 (dk_at dksX1_event_0 14 rfl rfl)
theorem dX1_event_15 : decode cX1_event 15 = .ok (.i2l, 1) := dk_133 (dk_at dksX1_event_0 15 rfl rfl)
theorem dX1_event_16 : decode cX1_event 16 = .ok (.invokestatic 71, 3) := dk_184 0 71 (dk_at dksX1_event_0 16 rfl rfl)
theorem dX1_event_19 : decode cX1_event 19 = .ok (.ifCond .ne 11, 3) := dk_154 0 11 (dk_at dksX1_event_0 19 rfl rfl)
theorem dX1_event_22 : decode cX1_event 22 = .ok (.new 390, 3) := dk_187 1 134 (dk_at dksX1_event_1 0 rfl rfl)
theorem dX1_event_25 : decode cX1_event 25 = .ok (.dup, 1) := dk_89 (dk_at dksX1_event_1 3 rfl rfl)
theorem dX1_event_26 : decode cX1_event 26 = .ok (.invokespecial 392, 3) := dk_183 1 136 (dk_at dksX1_event_1 4 rfl rfl)
theorem dX1_event_29 : decode cX1_event 29 = .ok (.athrow, 1) := dk_191 (dk_at dksX1_event_1 7 rfl rfl)
theorem dX1_event_30 : decode cX1_event 30 = .ok (.iconst 0, 1) := dk_3 (dk_at dksX1_event_1 8 rfl rfl)
theorem dX1_event_31 : decode cX1_event 31 = .ok (.istore_n 2, 1) := dk_61 (dk_at dksX1_event_1 9 rfl rfl)
theorem dX1_event_32 : decode cX1_event 32 = .ok (.aload_n 0, 1) := dk_42 (dk_at dksX1_event_1 10 rfl rfl)
theorem dX1_event_33 : decode cX1_event 33 = .ok (.getfield 31, 3) := dk_180 0 31 (dk_at dksX1_event_1 11 rfl rfl)
theorem dX1_event_36 : decode cX1_event 36 = .ok (.getfield 383, 3) := dk_180 1 127 (dk_at dksX1_event_1 14 rfl rfl)
theorem dX1_event_39 : decode cX1_event 39 = .ok (.invokevirtual 393, 3) := dk_182 1 137 (dk_at dksX1_event_1 17 rfl rfl)
theorem dX1_event_42 : decode cX1_event 42 = .ok (.astore_n 3, 1) := dk_78 (dk_at dksX1_event_1 20 rfl rfl)
theorem dX1_event_43 : decode cX1_event 43 = .ok (.aload_n 3, 1) := dk_45 (dk_at dksX1_event_1 21 rfl rfl)
theorem dX1_event_44 : decode cX1_event 44 = .ok (.invokeinterface 357 1, 5) := by decide +kernel
theorem dX1_event_49 : decode cX1_event 49 = .ok (.ifCond .eq 28, 3) := dk_153 0 28 (dk_at dksX1_event_2 5 rfl rfl)
theorem dX1_event_52 : decode cX1_event 52 = .ok (.aload_n 3, 1) := dk_45 (dk_at dksX1_event_2 8 rfl rfl)
theorem dX1_event_53 : decode cX1_event 53 = .ok (.invokeinterface 363 1, 5) := by decide +kernel
theorem dX1_event_58 : decode cX1_event 58 = .ok (.checkcast 394, 3) := dk_192 1 138 (dk_at dksX1_event_2 14 rfl rfl)
theorem dX1_event_61 : decode cX1_event 61 = .ok (.astore 4, 2) := dk_58 4 (dk_at dksX1_event_2 17 rfl rfl)
theorem dX1_event_63 : decode cX1_event 63 = .ok (.iload_n 2, 1) := dk_28 (dk_at dksX1_event_2 19 rfl rfl)
theorem dX1_event_64 : decode cX1_event 64 = .ok (.iinc 2 1, 3) := dk_132 2 1 (dk_at dksX1_event_2 20 rfl rfl)
theorem dX1_event_67 : decode cX1_event 67 = .ok (.iload_n 1, 1) := dk_27 (dk_at dksX1_event_2 23 rfl rfl)
theorem dX1_event_68 : decode cX1_event 68 = .ok (.if_icmp .ne 6, 3) := dk_160 0 6 (dk_at dksX1_event_3 0 rfl rfl)
theorem dX1_event_71 : decode cX1_event 71 = .ok (.aload 4, 2) := dk_25 4 (dk_at dksX1_event_3 3 rfl rfl)
theorem dX1_event_73 : decode cX1_event 73 = .ok (.areturn, 1) := dk_176 (dk_at dksX1_event_3 5 rfl rfl)
theorem dX1_event_74 : decode cX1_event 74 = .ok (.goto (-31), 3) := dk_167 255 225 (dk_at dksX1_event_3 6 rfl rfl)
theorem dX1_event_77 : decode cX1_event 77 = .ok (.new 390, 3) := dk_187 1 134 (dk_at dksX1_event_3 9 rfl rfl)
theorem dX1_event_80 : decode cX1_event 80 = .ok (.dup, 1) := dk_89 (dk_at dksX1_event_3 12 rfl rfl)
theorem dX1_event_81 : decode cX1_event 81 = .ok (.invokespecial 392, 3) := dk_183 1 136 (dk_at dksX1_event_3 13 rfl rfl)
theorem dX1_event_84 : decode cX1_event 84 = .ok (.athrow, 1) := dk_191 (dk_at dksX1_event_3 16 rfl rfl)
abbrev cX1_eventNumber : ByteArray := prog_1_method_67_code
def yX1_eventNumber : MethodName := ⟨RX1, "eventNumber", "(I)I"⟩
def dkwX1_eventNumber_0 : List UInt8 := [42, 27, 182, 1, 140, 180, 1, 147, 172]
abbrev dktX1_eventNumber_0 : List UInt8 := dkwX1_eventNumber_0 ++ []
theorem dksX1_eventNumber_0 : cX1_eventNumber.data.toList.drop 0 = dktX1_eventNumber_0 := by decide +kernel
theorem dX1_eventNumber_0 : decode cX1_eventNumber 0 = .ok (.aload_n 0, 1) := dk_42 (dk_at dksX1_eventNumber_0 0 rfl rfl)
theorem dX1_eventNumber_1 : decode cX1_eventNumber 1 = .ok (.iload_n 1, 1) := dk_27 (dk_at dksX1_eventNumber_0 1 rfl rfl)
theorem dX1_eventNumber_2 : decode cX1_eventNumber 2 = .ok (.invokevirtual 396, 3) := dk_182 1 140 (dk_at dksX1_eventNumber_0 2 rfl rfl)
theorem dX1_eventNumber_5 : decode cX1_eventNumber 5 = .ok (.getfield 403, 3) := dk_180 1 147 (dk_at dksX1_eventNumber_0 5 rfl rfl)
theorem dX1_eventNumber_8 : decode cX1_eventNumber 8 = .ok (.ireturn, 1) := dk_172 (dk_at dksX1_eventNumber_0 8 rfl rfl)
abbrev cX1_eventDay : ByteArray := prog_1_method_68_code
def yX1_eventDay : MethodName := ⟨RX1, "eventDay", "(I)I"⟩
def dkwX1_eventDay_0 : List UInt8 := [42, 27, 182, 1, 140, 180, 1, 148, 172]
abbrev dktX1_eventDay_0 : List UInt8 := dkwX1_eventDay_0 ++ []
theorem dksX1_eventDay_0 : cX1_eventDay.data.toList.drop 0 = dktX1_eventDay_0 := by decide +kernel
theorem dX1_eventDay_0 : decode cX1_eventDay 0 = .ok (.aload_n 0, 1) := dk_42 (dk_at dksX1_eventDay_0 0 rfl rfl)
theorem dX1_eventDay_1 : decode cX1_eventDay 1 = .ok (.iload_n 1, 1) := dk_27 (dk_at dksX1_eventDay_0 1 rfl rfl)
theorem dX1_eventDay_2 : decode cX1_eventDay 2 = .ok (.invokevirtual 396, 3) := dk_182 1 140 (dk_at dksX1_eventDay_0 2 rfl rfl)
theorem dX1_eventDay_5 : decode cX1_eventDay 5 = .ok (.getfield 404, 3) := dk_180 1 148 (dk_at dksX1_eventDay_0 5 rfl rfl)
theorem dX1_eventDay_8 : decode cX1_eventDay 8 = .ok (.ireturn, 1) := dk_172 (dk_at dksX1_eventDay_0 8 rfl rfl)
theorem q96 : (Jvm.Cond.initialized "BalloonMail") ∈ lw_all := lw_g (lw_at lw_m1 1 rfl) rfl
theorem q153 : (Jvm.Cond.instantiable "BalloonMail" (12 : Nat)) ∈ lw_all := lw_g (lw_at lw_m1 58 rfl) rfl
theorem q155 : (Jvm.Cond.instanceMethod ({ cls := "BalloonMail", name := "<init>", desc := "()V" } : Jvm.MethodName)) ∈ lw_all := lw_g (lw_at lw_m1 60 rfl) rfl
theorem q156 : (Jvm.Cond.code ({ cls := "BalloonMail", name := "<init>", desc := "()V" } : Jvm.MethodName) prog_1_method_3_code (1 : Nat) (Option.none : Option Jvm.ClassFile.FieldType)) ∈ lw_all := lw_g (lw_at lw_m1 61 rfl) rfl
theorem q157 : (Jvm.Cond.methodLink "BalloonMail" (5 : Nat) ({ cls := "java/lang/Object", name := "<init>", desc := "()V" } : Jvm.MethodName)) ∈ lw_all := lw_g (lw_at lw_m1 62 rfl) rfl
theorem q160 : (Jvm.Cond.classLink "BalloonMail" (19 : Nat) "BalloonMail$Siege") ∈ lw_all := lw_g (lw_at lw_m1 65 rfl) rfl
theorem q162 : (Jvm.Cond.methodLinkNest "BalloonMail" (21 : Nat) ({ cls := "BalloonMail$Siege", name := "<init>", desc := "()V" } : Jvm.MethodName) "BalloonMail") ∈ lw_tbl := lw_at lw_m1 67 rfl
theorem q203 : (Jvm.Cond.fieldLinkNest "BalloonMail" (95 : Nat) "BalloonMail$Siege" "regions" "Ljava/util/ArrayList;" "BalloonMail") ∈ lw_tbl := lw_at lw_m1 108 rfl
theorem q206 : (Jvm.Cond.fieldLinkNest "BalloonMail" (102 : Nat) "BalloonMail$Siege" "winds" "Ljava/util/ArrayList;" "BalloonMail") ∈ lw_tbl := lw_at lw_m1 111 rfl
theorem q209 : (Jvm.Cond.fieldLinkNest "BalloonMail" (104 : Nat) "BalloonMail$Siege" "balloons" "Ljava/util/ArrayList;" "BalloonMail") ∈ lw_tbl := lw_at lw_m1 114 rfl
theorem q212 : (Jvm.Cond.fieldLinkNest "BalloonMail" (107 : Nat) "BalloonMail$Siege" "letters" "Ljava/util/ArrayList;" "BalloonMail") ∈ lw_tbl := lw_at lw_m1 117 rfl
theorem q240 : (Jvm.Cond.classLink "BalloonMail" (26 : Nat) "BalloonMail$State") ∈ lw_all := lw_g (lw_at lw_m1 145 rfl) rfl
theorem q242 : (Jvm.Cond.methodLink "BalloonMail" (28 : Nat) ({ cls := "BalloonMail$State", name := "<init>", desc := "(LBalloonMail$Siege;)V" } : Jvm.MethodName)) ∈ lw_all := lw_g (lw_at lw_m1 147 rfl) rfl
theorem q314 : (Jvm.Cond.fieldLinkNest "BalloonMail" (234 : Nat) "BalloonMail$State" "balloonState" "[I" "BalloonMail") ∈ lw_tbl := lw_at lw_m1 219 rfl
theorem q316 : (Jvm.Cond.fieldLinkNest "BalloonMail" (313 : Nat) "BalloonMail$State" "balloonRegion" "[I" "BalloonMail") ∈ lw_tbl := lw_at lw_m1 221 rfl
theorem q318 : (Jvm.Cond.fieldLinkNest "BalloonMail" (250 : Nat) "BalloonMail$State" "letterState" "[I" "BalloonMail") ∈ lw_tbl := lw_at lw_m1 223 rfl
theorem q320 : (Jvm.Cond.fieldLinkNest "BalloonMail" (379 : Nat) "BalloonMail$State" "answerDay" "[I" "BalloonMail") ∈ lw_tbl := lw_at lw_m1 225 rfl
theorem q322 : (Jvm.Cond.fieldLinkNest "BalloonMail" (299 : Nat) "BalloonMail$State" "cargo" "[Ljava/util/BitSet;" "BalloonMail") ∈ lw_tbl := lw_at lw_m1 227 rfl
theorem q324 : (Jvm.Cond.fieldLinkNest "BalloonMail" (339 : Nat) "BalloonMail$State" "flying" "Ljava/util/LinkedList;" "BalloonMail") ∈ lw_tbl := lw_at lw_m1 229 rfl
theorem q326 : (Jvm.Cond.fieldLinkNest "BalloonMail" (383 : Nat) "BalloonMail$State" "journal" "Ljava/util/ArrayDeque;" "BalloonMail") ∈ lw_tbl := lw_at lw_m1 231 rfl
theorem q328 : (Jvm.Cond.fieldLinkNest "BalloonMail" (279 : Nat) "BalloonMail$State" "day" "I" "BalloonMail") ∈ lw_tbl := lw_at lw_m1 233 rfl
theorem q330 : (Jvm.Cond.fieldLinkNest "BalloonMail" (143 : Nat) "BalloonMail$State" "wind" "I" "BalloonMail") ∈ lw_tbl := lw_at lw_m1 235 rfl
theorem q332 : (Jvm.Cond.fieldLinkNest "BalloonMail" (293 : Nat) "BalloonMail$State" "loft" "I" "BalloonMail") ∈ lw_tbl := lw_at lw_m1 237 rfl
theorem q334 : (Jvm.Cond.fieldLinkNest "BalloonMail" (327 : Nat) "BalloonMail$State" "lost" "I" "BalloonMail") ∈ lw_tbl := lw_at lw_m1 239 rfl
theorem q361 : (Jvm.Cond.classLink "BalloonMail" (35 : Nat) "java/util/ArrayList") ∈ lw_all := lw_g (lw_at lw_m2 26 rfl) rfl
theorem q362 : (Jvm.Cond.methodLink "BalloonMail" (37 : Nat) ({ cls := "java/util/ArrayList", name := "<init>", desc := "(I)V" } : Jvm.MethodName)) ∈ lw_all := lw_g (lw_at lw_m2 27 rfl) rfl
theorem q365 : (Jvm.Cond.fieldLink "BalloonMail" (11 : Nat) "BalloonMail" "buffer" "[B") ∈ lw_all := lw_g (lw_at lw_m2 30 rfl) rfl
theorem q366 : (Jvm.Cond.fieldLink "BalloonMail" (65 : Nat) "BalloonMail" "bufferLength" "I") ∈ lw_all := lw_g (lw_at lw_m2 31 rfl) rfl
theorem q367 : (Jvm.Cond.fieldLink "BalloonMail" (15 : Nat) "BalloonMail" "errorPosition" "I") ∈ lw_all := lw_g (lw_at lw_m2 32 rfl) rfl
theorem q368 : (Jvm.Cond.fieldLink "BalloonMail" (22 : Nat) "BalloonMail" "siege" "LBalloonMail$Siege;") ∈ lw_all := lw_g (lw_at lw_m2 33 rfl) rfl
theorem q369 : (Jvm.Cond.fieldLink "BalloonMail" (31 : Nat) "BalloonMail" "state" "LBalloonMail$State;") ∈ lw_all := lw_g (lw_at lw_m2 34 rfl) rfl
theorem q370 : (Jvm.Cond.fieldLink "BalloonMail" (40 : Nat) "BalloonMail" "history" "Ljava/util/ArrayList;") ∈ lw_all := lw_g (lw_at lw_m2 35 rfl) rfl
theorem q371 : (Jvm.Cond.fieldLink "BalloonMail" (44 : Nat) "BalloonMail" "snapshots" "[LBalloonMail$State;") ∈ lw_all := lw_g (lw_at lw_m2 36 rfl) rfl
theorem q372 : (Jvm.Cond.fieldLink "BalloonMail" (48 : Nat) "BalloonMail" "winds" "[J") ∈ lw_all := lw_g (lw_at lw_m2 37 rfl) rfl
theorem q373 : (Jvm.Cond.fieldLink "BalloonMail" (52 : Nat) "BalloonMail" "next" "[J") ∈ lw_all := lw_g (lw_at lw_m2 38 rfl) rfl
theorem q374 : (Jvm.Cond.fieldLink "BalloonMail" (55 : Nat) "BalloonMail" "gain" "[J") ∈ lw_all := lw_g (lw_at lw_m2 39 rfl) rfl
theorem q375 : (Jvm.Cond.fieldLink "BalloonMail" (58 : Nat) "BalloonMail" "total" "[J") ∈ lw_all := lw_g (lw_at lw_m2 40 rfl) rfl
theorem q376 : (Jvm.Cond.fieldLink "BalloonMail" (61 : Nat) "BalloonMail" "value" "[I") ∈ lw_all := lw_g (lw_at lw_m2 41 rfl) rfl
theorem q377 : (Jvm.Cond.laysFinal "BalloonMail" "BalloonMail" "buffer" "[B") ∈ lw_all := lw_g (lw_at lw_m2 42 rfl) rfl
theorem q378 : (Jvm.Cond.soleField "BalloonMail" "buffer") ∈ lw_all := lw_g (lw_at lw_m2 43 rfl) rfl
theorem q379 : (Jvm.Cond.lays "BalloonMail" "BalloonMail" "bufferLength" "I") ∈ lw_all := lw_g (lw_at lw_m2 44 rfl) rfl
theorem q380 : (Jvm.Cond.soleField "BalloonMail" "bufferLength") ∈ lw_all := lw_g (lw_at lw_m2 45 rfl) rfl
theorem q381 : (Jvm.Cond.lays "BalloonMail" "BalloonMail" "errorPosition" "I") ∈ lw_all := lw_g (lw_at lw_m2 46 rfl) rfl
theorem q382 : (Jvm.Cond.soleField "BalloonMail" "errorPosition") ∈ lw_all := lw_g (lw_at lw_m2 47 rfl) rfl
theorem q383 : (Jvm.Cond.lays "BalloonMail" "BalloonMail" "siege" "LBalloonMail$Siege;") ∈ lw_all := lw_g (lw_at lw_m2 48 rfl) rfl
theorem q384 : (Jvm.Cond.soleField "BalloonMail" "siege") ∈ lw_all := lw_g (lw_at lw_m2 49 rfl) rfl
theorem q385 : (Jvm.Cond.lays "BalloonMail" "BalloonMail" "state" "LBalloonMail$State;") ∈ lw_all := lw_g (lw_at lw_m2 50 rfl) rfl
theorem q386 : (Jvm.Cond.soleField "BalloonMail" "state") ∈ lw_all := lw_g (lw_at lw_m2 51 rfl) rfl
theorem q387 : (Jvm.Cond.laysFinal "BalloonMail" "BalloonMail" "history" "Ljava/util/ArrayList;") ∈ lw_all := lw_g (lw_at lw_m2 52 rfl) rfl
theorem q388 : (Jvm.Cond.soleField "BalloonMail" "history") ∈ lw_all := lw_g (lw_at lw_m2 53 rfl) rfl
theorem q389 : (Jvm.Cond.laysFinal "BalloonMail" "BalloonMail" "snapshots" "[LBalloonMail$State;") ∈ lw_all := lw_g (lw_at lw_m2 54 rfl) rfl
theorem q390 : (Jvm.Cond.soleField "BalloonMail" "snapshots") ∈ lw_all := lw_g (lw_at lw_m2 55 rfl) rfl
theorem q391 : (Jvm.Cond.laysFinal "BalloonMail" "BalloonMail" "winds" "[J") ∈ lw_all := lw_g (lw_at lw_m2 56 rfl) rfl
theorem q392 : (Jvm.Cond.soleField "BalloonMail" "winds") ∈ lw_all := lw_g (lw_at lw_m2 57 rfl) rfl
theorem q393 : (Jvm.Cond.laysFinal "BalloonMail" "BalloonMail" "next" "[J") ∈ lw_all := lw_g (lw_at lw_m2 58 rfl) rfl
theorem q394 : (Jvm.Cond.soleField "BalloonMail" "next") ∈ lw_all := lw_g (lw_at lw_m2 59 rfl) rfl
theorem q395 : (Jvm.Cond.laysFinal "BalloonMail" "BalloonMail" "gain" "[J") ∈ lw_all := lw_g (lw_at lw_m2 60 rfl) rfl
theorem q396 : (Jvm.Cond.soleField "BalloonMail" "gain") ∈ lw_all := lw_g (lw_at lw_m2 61 rfl) rfl
theorem q397 : (Jvm.Cond.laysFinal "BalloonMail" "BalloonMail" "total" "[J") ∈ lw_all := lw_g (lw_at lw_m2 62 rfl) rfl
theorem q398 : (Jvm.Cond.soleField "BalloonMail" "total") ∈ lw_all := lw_g (lw_at lw_m2 63 rfl) rfl
theorem q399 : (Jvm.Cond.laysFinal "BalloonMail" "BalloonMail" "value" "[I") ∈ lw_all := lw_g (lw_at lw_m2 64 rfl) rfl
theorem q400 : (Jvm.Cond.soleField "BalloonMail" "value") ∈ lw_all := lw_g (lw_at lw_m2 65 rfl) rfl
theorem q401 : (Jvm.Cond.superclass "BalloonMail" "java/lang/Object") ∈ lw_all := lw_g (lw_at lw_m2 66 rfl) rfl
theorem q403 : (Jvm.Cond.instanceMethod ({ cls := "BalloonMail", name := "append", desc := "(IIIII)I" } : Jvm.MethodName)) ∈ lw_all := lw_g (lw_at lw_m2 68 rfl) rfl
theorem q404 : (Jvm.Cond.selects "BalloonMail" ({ cls := "BalloonMail", name := "append", desc := "(IIIII)I" } : Jvm.MethodName) ({ cls := "BalloonMail", name := "append", desc := "(IIIII)I" } : Jvm.MethodName)) ∈ lw_all := lw_g (lw_at lw_m2 69 rfl) rfl
theorem q405 : (Jvm.Cond.code ({ cls := "BalloonMail", name := "append", desc := "(IIIII)I" } : Jvm.MethodName) prog_1_method_4_code (6 : Nat) (Option.some Jvm.ClassFile.FieldType.int)) ∈ lw_all := lw_g (lw_at lw_m2 70 rfl) rfl
theorem q406 : (Jvm.Cond.methodLink "BalloonMail" (68 : Nat) ({ cls := "BalloonMail", name := "appendWord", desc := "(I)V" } : Jvm.MethodName)) ∈ lw_all := lw_g (lw_at lw_m2 71 rfl) rfl
theorem q407 : (Jvm.Cond.privateMethod ({ cls := "BalloonMail", name := "appendWord", desc := "(I)V" } : Jvm.MethodName)) ∈ lw_tbl := lw_at lw_m2 72 rfl
theorem q408 : (Jvm.Cond.instanceMethod ({ cls := "BalloonMail", name := "appendWord", desc := "(I)V" } : Jvm.MethodName)) ∈ lw_all := lw_g (lw_at lw_m2 73 rfl) rfl
theorem q409 : (Jvm.Cond.code ({ cls := "BalloonMail", name := "appendWord", desc := "(I)V" } : Jvm.MethodName) prog_1_method_5_code (3 : Nat) (Option.none : Option Jvm.ClassFile.FieldType)) ∈ lw_all := lw_g (lw_at lw_m2 74 rfl) rfl
theorem q411 : (Jvm.Cond.instanceMethod ({ cls := "BalloonMail", name := "parse", desc := "(I)I" } : Jvm.MethodName)) ∈ lw_all := lw_g (lw_at lw_m2 76 rfl) rfl
theorem q412 : (Jvm.Cond.selects "BalloonMail" ({ cls := "BalloonMail", name := "parse", desc := "(I)I" } : Jvm.MethodName) ({ cls := "BalloonMail", name := "parse", desc := "(I)I" } : Jvm.MethodName)) ∈ lw_all := lw_g (lw_at lw_m2 77 rfl) rfl
theorem q413 : (Jvm.Cond.codeWith ({ cls := "BalloonMail", name := "parse", desc := "(I)I" } : Jvm.MethodName) prog_1_method_6_code (3 : Nat) (Option.some Jvm.ClassFile.FieldType.int) [((21 : Nat), (37 : Nat), (40 : Nat), (84 : Nat))]) ∈ lw_all := lw_g (lw_at lw_m2 78 rfl) rfl
theorem q414 : (Jvm.Cond.classLink "BalloonMail" (84 : Nat) "BalloonMail$ParseException") ∈ lw_all := lw_g (lw_at lw_m2 79 rfl) rfl
theorem q415 : (Jvm.Cond.methodLink "BalloonMail" (71 : Nat) ({ cls := "BalloonMail", name := "inRange", desc := "(JJJ)Z" } : Jvm.MethodName)) ∈ lw_all := lw_g (lw_at lw_m2 80 rfl) rfl
theorem q416 : (Jvm.Cond.static ({ cls := "BalloonMail", name := "inRange", desc := "(JJJ)Z" } : Jvm.MethodName)) ∈ lw_all := lw_g (lw_at lw_m2 81 rfl) rfl
theorem q417 : (Jvm.Cond.code ({ cls := "BalloonMail", name := "inRange", desc := "(JJJ)Z" } : Jvm.MethodName) prog_1_method_1_code (6 : Nat) (Option.some Jvm.ClassFile.FieldType.boolean)) ∈ lw_all := lw_g (lw_at lw_m2 82 rfl) rfl
theorem q418 : (Jvm.Cond.classLink "BalloonMail" (75 : Nat) "BalloonMail$Parser") ∈ lw_all := lw_g (lw_at lw_m2 83 rfl) rfl
theorem q420 : (Jvm.Cond.methodLink "BalloonMail" (77 : Nat) ({ cls := "BalloonMail$Parser", name := "<init>", desc := "(LBalloonMail;I)V" } : Jvm.MethodName)) ∈ lw_all := lw_g (lw_at lw_m2 85 rfl) rfl
theorem q448 : (Jvm.Cond.selects "BalloonMail" ({ cls := "java/lang/Object", name := "getClass", desc := "()Ljava/lang/Class;" } : Jvm.MethodName) ({ cls := "java/lang/Object", name := "getClass", desc := "()Ljava/lang/Class;" } : Jvm.MethodName)) ∈ lw_all := lw_g (lw_at lw_m2 113 rfl) rfl
theorem q764 : (Jvm.Cond.methodLink "BalloonMail" (80 : Nat) ({ cls := "BalloonMail$Parser", name := "parse", desc := "()LBalloonMail$Siege;" } : Jvm.MethodName)) ∈ lw_all := lw_g (lw_at lw_m3 189 rfl) rfl
theorem q824 : (Jvm.Cond.fieldLinkNest "BalloonMail" (89 : Nat) "BalloonMail$ParseException" "code" "I" "BalloonMail") ∈ lw_tbl := lw_at lw_m4 9 rfl
theorem q826 : (Jvm.Cond.fieldLinkNest "BalloonMail" (86 : Nat) "BalloonMail$ParseException" "position" "I" "BalloonMail") ∈ lw_tbl := lw_at lw_m4 11 rfl
theorem q1080 : (Jvm.Cond.fieldLinkNest "BalloonMail" (193 : Nat) "BalloonMail$Region" "risk" "I" "BalloonMail") ∈ lw_tbl := lw_at lw_m5 25 rfl
theorem q1082 : (Jvm.Cond.fieldLinkNest "BalloonMail" (345 : Nat) "BalloonMail$Region" "distance" "I" "BalloonMail") ∈ lw_tbl := lw_at lw_m5 27 rfl
theorem q1084 : (Jvm.Cond.fieldLinkNest "BalloonMail" (336 : Nat) "BalloonMail$Region" "comesBack" "I" "BalloonMail") ∈ lw_tbl := lw_at lw_m5 29 rfl
theorem q1141 : (Jvm.Cond.fieldLinkNest "BalloonMail" (160 : Nat) "BalloonMail$Choices" "all" "Ljava/util/ArrayList;" "BalloonMail") ∈ lw_tbl := lw_at lw_m5 86 rfl
theorem q1147 : (Jvm.Cond.fieldLinkNest "BalloonMail" (186 : Nat) "BalloonMail$Wind" "regions" "LBalloonMail$Choices;" "BalloonMail") ∈ lw_tbl := lw_at lw_m5 92 rfl
theorem q1150 : (Jvm.Cond.fieldLinkNest "BalloonMail" (151 : Nat) "BalloonMail$Wind" "turns" "LBalloonMail$Choices;" "BalloonMail") ∈ lw_tbl := lw_at lw_m5 95 rfl
theorem q1179 : (Jvm.Cond.fieldLinkNest "BalloonMail" (165 : Nat) "BalloonMail$Choice" "number" "I" "BalloonMail") ∈ lw_tbl := lw_at lw_m5 124 rfl
theorem q1182 : (Jvm.Cond.fieldLinkNest "BalloonMail" (168 : Nat) "BalloonMail$Choice" "weight" "I" "BalloonMail") ∈ lw_tbl := lw_at lw_m5 127 rfl
theorem q1204 : (Jvm.Cond.fieldLinkNest "BalloonMail" (132 : Nat) "BalloonMail$Balloon" "capacity" "I" "BalloonMail") ∈ lw_tbl := lw_at lw_m5 149 rfl
theorem q1206 : (Jvm.Cond.fieldLinkNest "BalloonMail" (231 : Nat) "BalloonMail$Balloon" "pigeons" "I" "BalloonMail") ∈ lw_tbl := lw_at lw_m5 151 rfl
theorem q1224 : (Jvm.Cond.fieldLinkNest "BalloonMail" (140 : Nat) "BalloonMail$Letter" "weight" "I" "BalloonMail") ∈ lw_tbl := lw_at lw_m5 169 rfl
theorem q1227 : (Jvm.Cond.fieldLinkNest "BalloonMail" (257 : Nat) "BalloonMail$Letter" "priority" "I" "BalloonMail") ∈ lw_tbl := lw_at lw_m5 172 rfl
theorem q1276 : (Jvm.Cond.methodLink "BalloonMail" (92 : Nat) ({ cls := "java/util/ArrayList", name := "clear", desc := "()V" } : Jvm.MethodName)) ∈ lw_all := lw_g (lw_at lw_m5 221 rfl) rfl
theorem q1281 : (Jvm.Cond.instanceMethod ({ cls := "BalloonMail", name := "errorPosition", desc := "()I" } : Jvm.MethodName)) ∈ lw_all := lw_g (lw_at lw_m5 226 rfl) rfl
theorem q1282 : (Jvm.Cond.selects "BalloonMail" ({ cls := "BalloonMail", name := "errorPosition", desc := "()I" } : Jvm.MethodName) ({ cls := "BalloonMail", name := "errorPosition", desc := "()I" } : Jvm.MethodName)) ∈ lw_all := lw_g (lw_at lw_m5 227 rfl) rfl
theorem q1283 : (Jvm.Cond.code ({ cls := "BalloonMail", name := "errorPosition", desc := "()I" } : Jvm.MethodName) prog_1_method_7_code (1 : Nat) (Option.some Jvm.ClassFile.FieldType.int)) ∈ lw_all := lw_g (lw_at lw_m5 228 rfl) rfl
theorem q1285 : (Jvm.Cond.instanceMethod ({ cls := "BalloonMail", name := "regionCount", desc := "()I" } : Jvm.MethodName)) ∈ lw_all := lw_g (lw_at lw_m5 230 rfl) rfl
theorem q1286 : (Jvm.Cond.selects "BalloonMail" ({ cls := "BalloonMail", name := "regionCount", desc := "()I" } : Jvm.MethodName) ({ cls := "BalloonMail", name := "regionCount", desc := "()I" } : Jvm.MethodName)) ∈ lw_all := lw_g (lw_at lw_m5 231 rfl) rfl
theorem q1287 : (Jvm.Cond.code ({ cls := "BalloonMail", name := "regionCount", desc := "()I" } : Jvm.MethodName) prog_1_method_8_code (1 : Nat) (Option.some Jvm.ClassFile.FieldType.int)) ∈ lw_all := lw_g (lw_at lw_m5 232 rfl) rfl
theorem q1288 : (Jvm.Cond.methodLink "BalloonMail" (98 : Nat) ({ cls := "java/util/ArrayList", name := "size", desc := "()I" } : Jvm.MethodName)) ∈ lw_all := lw_g (lw_at lw_m5 233 rfl) rfl
theorem q1290 : (Jvm.Cond.instanceMethod ({ cls := "BalloonMail", name := "windCount", desc := "()I" } : Jvm.MethodName)) ∈ lw_all := lw_g (lw_at lw_m5 235 rfl) rfl
theorem q1291 : (Jvm.Cond.selects "BalloonMail" ({ cls := "BalloonMail", name := "windCount", desc := "()I" } : Jvm.MethodName) ({ cls := "BalloonMail", name := "windCount", desc := "()I" } : Jvm.MethodName)) ∈ lw_all := lw_g (lw_at lw_m5 236 rfl) rfl
theorem q1292 : (Jvm.Cond.code ({ cls := "BalloonMail", name := "windCount", desc := "()I" } : Jvm.MethodName) prog_1_method_9_code (1 : Nat) (Option.some Jvm.ClassFile.FieldType.int)) ∈ lw_all := lw_g (lw_at lw_m5 237 rfl) rfl
theorem q1294 : (Jvm.Cond.instanceMethod ({ cls := "BalloonMail", name := "balloonCount", desc := "()I" } : Jvm.MethodName)) ∈ lw_all := lw_g (lw_at lw_m5 239 rfl) rfl
theorem q1295 : (Jvm.Cond.selects "BalloonMail" ({ cls := "BalloonMail", name := "balloonCount", desc := "()I" } : Jvm.MethodName) ({ cls := "BalloonMail", name := "balloonCount", desc := "()I" } : Jvm.MethodName)) ∈ lw_all := lw_g (lw_at lw_m6 0 rfl) rfl
theorem q1296 : (Jvm.Cond.code ({ cls := "BalloonMail", name := "balloonCount", desc := "()I" } : Jvm.MethodName) prog_1_method_10_code (1 : Nat) (Option.some Jvm.ClassFile.FieldType.int)) ∈ lw_all := lw_g (lw_at lw_m6 1 rfl) rfl
theorem q1298 : (Jvm.Cond.instanceMethod ({ cls := "BalloonMail", name := "letterCount", desc := "()I" } : Jvm.MethodName)) ∈ lw_all := lw_g (lw_at lw_m6 3 rfl) rfl
theorem q1299 : (Jvm.Cond.selects "BalloonMail" ({ cls := "BalloonMail", name := "letterCount", desc := "()I" } : Jvm.MethodName) ({ cls := "BalloonMail", name := "letterCount", desc := "()I" } : Jvm.MethodName)) ∈ lw_all := lw_g (lw_at lw_m6 4 rfl) rfl
theorem q1300 : (Jvm.Cond.code ({ cls := "BalloonMail", name := "letterCount", desc := "()I" } : Jvm.MethodName) prog_1_method_11_code (1 : Nat) (Option.some Jvm.ClassFile.FieldType.int)) ∈ lw_all := lw_g (lw_at lw_m6 5 rfl) rfl
theorem q1302 : (Jvm.Cond.instanceMethod ({ cls := "BalloonMail", name := "capacity", desc := "(I)I" } : Jvm.MethodName)) ∈ lw_all := lw_g (lw_at lw_m6 7 rfl) rfl
theorem q1303 : (Jvm.Cond.selects "BalloonMail" ({ cls := "BalloonMail", name := "capacity", desc := "(I)I" } : Jvm.MethodName) ({ cls := "BalloonMail", name := "capacity", desc := "(I)I" } : Jvm.MethodName)) ∈ lw_all := lw_g (lw_at lw_m6 8 rfl) rfl
theorem q1304 : (Jvm.Cond.code ({ cls := "BalloonMail", name := "capacity", desc := "(I)I" } : Jvm.MethodName) prog_1_method_17_code (2 : Nat) (Option.some Jvm.ClassFile.FieldType.int)) ∈ lw_all := lw_g (lw_at lw_m6 9 rfl) rfl
theorem q1305 : (Jvm.Cond.methodLink "BalloonMail" (122 : Nat) ({ cls := "BalloonMail", name := "isBalloon", desc := "(I)Z" } : Jvm.MethodName)) ∈ lw_all := lw_g (lw_at lw_m6 10 rfl) rfl
theorem q1306 : (Jvm.Cond.privateMethod ({ cls := "BalloonMail", name := "isBalloon", desc := "(I)Z" } : Jvm.MethodName)) ∈ lw_tbl := lw_at lw_m6 11 rfl
theorem q1307 : (Jvm.Cond.instanceMethod ({ cls := "BalloonMail", name := "isBalloon", desc := "(I)Z" } : Jvm.MethodName)) ∈ lw_all := lw_g (lw_at lw_m6 12 rfl) rfl
theorem q1308 : (Jvm.Cond.code ({ cls := "BalloonMail", name := "isBalloon", desc := "(I)Z" } : Jvm.MethodName) prog_1_method_14_code (2 : Nat) (Option.some Jvm.ClassFile.FieldType.boolean)) ∈ lw_all := lw_g (lw_at lw_m6 13 rfl) rfl
theorem q1309 : (Jvm.Cond.methodLink "BalloonMail" (116 : Nat) ({ cls := "BalloonMail", name := "balloonCount", desc := "()I" } : Jvm.MethodName)) ∈ lw_all := lw_g (lw_at lw_m6 14 rfl) rfl
theorem q1310 : (Jvm.Cond.methodLink "BalloonMail" (126 : Nat) ({ cls := "java/util/ArrayList", name := "get", desc := "(I)Ljava/lang/Object;" } : Jvm.MethodName)) ∈ lw_all := lw_g (lw_at lw_m6 15 rfl) rfl
theorem q1311 : (Jvm.Cond.classLink "BalloonMail" (130 : Nat) "BalloonMail$Balloon") ∈ lw_all := lw_g (lw_at lw_m6 16 rfl) rfl
theorem q1313 : (Jvm.Cond.instanceMethod ({ cls := "BalloonMail", name := "letterWeight", desc := "(I)I" } : Jvm.MethodName)) ∈ lw_all := lw_g (lw_at lw_m6 18 rfl) rfl
theorem q1314 : (Jvm.Cond.selects "BalloonMail" ({ cls := "BalloonMail", name := "letterWeight", desc := "(I)I" } : Jvm.MethodName) ({ cls := "BalloonMail", name := "letterWeight", desc := "(I)I" } : Jvm.MethodName)) ∈ lw_all := lw_g (lw_at lw_m6 19 rfl) rfl
theorem q1315 : (Jvm.Cond.code ({ cls := "BalloonMail", name := "letterWeight", desc := "(I)I" } : Jvm.MethodName) prog_1_method_18_code (2 : Nat) (Option.some Jvm.ClassFile.FieldType.int)) ∈ lw_all := lw_g (lw_at lw_m6 20 rfl) rfl
theorem q1316 : (Jvm.Cond.methodLink "BalloonMail" (135 : Nat) ({ cls := "BalloonMail", name := "isLetter", desc := "(I)Z" } : Jvm.MethodName)) ∈ lw_all := lw_g (lw_at lw_m6 21 rfl) rfl
theorem q1317 : (Jvm.Cond.privateMethod ({ cls := "BalloonMail", name := "isLetter", desc := "(I)Z" } : Jvm.MethodName)) ∈ lw_tbl := lw_at lw_m6 22 rfl
theorem q1318 : (Jvm.Cond.instanceMethod ({ cls := "BalloonMail", name := "isLetter", desc := "(I)Z" } : Jvm.MethodName)) ∈ lw_all := lw_g (lw_at lw_m6 23 rfl) rfl
theorem q1319 : (Jvm.Cond.code ({ cls := "BalloonMail", name := "isLetter", desc := "(I)Z" } : Jvm.MethodName) prog_1_method_15_code (2 : Nat) (Option.some Jvm.ClassFile.FieldType.boolean)) ∈ lw_all := lw_g (lw_at lw_m6 24 rfl) rfl
theorem q1320 : (Jvm.Cond.methodLink "BalloonMail" (119 : Nat) ({ cls := "BalloonMail", name := "letterCount", desc := "()I" } : Jvm.MethodName)) ∈ lw_all := lw_g (lw_at lw_m6 25 rfl) rfl
theorem q1321 : (Jvm.Cond.classLink "BalloonMail" (138 : Nat) "BalloonMail$Letter") ∈ lw_all := lw_g (lw_at lw_m6 26 rfl) rfl
theorem q1323 : (Jvm.Cond.instanceMethod ({ cls := "BalloonMail", name := "windChance", desc := "(II)J" } : Jvm.MethodName)) ∈ lw_all := lw_g (lw_at lw_m6 28 rfl) rfl
theorem q1324 : (Jvm.Cond.selects "BalloonMail" ({ cls := "BalloonMail", name := "windChance", desc := "(II)J" } : Jvm.MethodName) ({ cls := "BalloonMail", name := "windChance", desc := "(II)J" } : Jvm.MethodName)) ∈ lw_all := lw_g (lw_at lw_m6 29 rfl) rfl
theorem q1325 : (Jvm.Cond.code ({ cls := "BalloonMail", name := "windChance", desc := "(II)J" } : Jvm.MethodName) prog_1_method_22_code (3 : Nat) (Option.some Jvm.ClassFile.FieldType.long)) ∈ lw_all := lw_g (lw_at lw_m6 30 rfl) rfl
theorem q1326 : (Jvm.Cond.methodLink "BalloonMail" (171 : Nat) ({ cls := "BalloonMail", name := "isWind", desc := "(I)Z" } : Jvm.MethodName)) ∈ lw_all := lw_g (lw_at lw_m6 31 rfl) rfl
theorem q1327 : (Jvm.Cond.privateMethod ({ cls := "BalloonMail", name := "isWind", desc := "(I)Z" } : Jvm.MethodName)) ∈ lw_tbl := lw_at lw_m6 32 rfl
theorem q1328 : (Jvm.Cond.instanceMethod ({ cls := "BalloonMail", name := "isWind", desc := "(I)Z" } : Jvm.MethodName)) ∈ lw_all := lw_g (lw_at lw_m6 33 rfl) rfl
theorem q1329 : (Jvm.Cond.code ({ cls := "BalloonMail", name := "isWind", desc := "(I)Z" } : Jvm.MethodName) prog_1_method_13_code (2 : Nat) (Option.some Jvm.ClassFile.FieldType.boolean)) ∈ lw_all := lw_g (lw_at lw_m6 34 rfl) rfl
theorem q1330 : (Jvm.Cond.methodLink "BalloonMail" (113 : Nat) ({ cls := "BalloonMail", name := "windCount", desc := "()I" } : Jvm.MethodName)) ∈ lw_all := lw_g (lw_at lw_m6 35 rfl) rfl
theorem q1331 : (Jvm.Cond.methodLink "BalloonMail" (174 : Nat) ({ cls := "BalloonMail", name := "isAhead", desc := "(I)Z" } : Jvm.MethodName)) ∈ lw_all := lw_g (lw_at lw_m6 36 rfl) rfl
theorem q1332 : (Jvm.Cond.static ({ cls := "BalloonMail", name := "isAhead", desc := "(I)Z" } : Jvm.MethodName)) ∈ lw_all := lw_g (lw_at lw_m6 37 rfl) rfl
theorem q1333 : (Jvm.Cond.code ({ cls := "BalloonMail", name := "isAhead", desc := "(I)Z" } : Jvm.MethodName) prog_1_method_21_code (1 : Nat) (Option.some Jvm.ClassFile.FieldType.boolean)) ∈ lw_all := lw_g (lw_at lw_m6 38 rfl) rfl
theorem q1334 : (Jvm.Cond.constantLong "BalloonMail" (169 : Nat) (8 : Int64)) ∈ lw_all := lw_g (lw_at lw_m6 39 rfl) rfl
theorem q1335 : (Jvm.Cond.constantLong "BalloonMail" (177 : Nat) (-1 : Int64)) ∈ lw_all := lw_g (lw_at lw_m6 40 rfl) rfl
theorem q1336 : (Jvm.Cond.methodLink "BalloonMail" (179 : Nat) ({ cls := "BalloonMail", name := "layWinds", desc := "(II)V" } : Jvm.MethodName)) ∈ lw_all := lw_g (lw_at lw_m6 41 rfl) rfl
theorem q1337 : (Jvm.Cond.privateMethod ({ cls := "BalloonMail", name := "layWinds", desc := "(II)V" } : Jvm.MethodName)) ∈ lw_tbl := lw_at lw_m6 42 rfl
theorem q1338 : (Jvm.Cond.instanceMethod ({ cls := "BalloonMail", name := "layWinds", desc := "(II)V" } : Jvm.MethodName)) ∈ lw_all := lw_g (lw_at lw_m6 43 rfl) rfl
theorem q1339 : (Jvm.Cond.code ({ cls := "BalloonMail", name := "layWinds", desc := "(II)V" } : Jvm.MethodName) prog_1_method_19_code (5 : Nat) (Option.none : Option Jvm.ClassFile.FieldType)) ∈ lw_all := lw_g (lw_at lw_m6 44 rfl) rfl
theorem q1340 : (Jvm.Cond.methodLink "BalloonMail" (146 : Nat) ({ cls := "BalloonMail", name := "spread", desc := "(I)V" } : Jvm.MethodName)) ∈ lw_all := lw_g (lw_at lw_m6 45 rfl) rfl
theorem q1341 : (Jvm.Cond.privateMethod ({ cls := "BalloonMail", name := "spread", desc := "(I)V" } : Jvm.MethodName)) ∈ lw_tbl := lw_at lw_m6 46 rfl
theorem q1342 : (Jvm.Cond.instanceMethod ({ cls := "BalloonMail", name := "spread", desc := "(I)V" } : Jvm.MethodName)) ∈ lw_all := lw_g (lw_at lw_m6 47 rfl) rfl
theorem q1343 : (Jvm.Cond.code ({ cls := "BalloonMail", name := "spread", desc := "(I)V" } : Jvm.MethodName) prog_1_method_20_code (4 : Nat) (Option.none : Option Jvm.ClassFile.FieldType)) ∈ lw_all := lw_g (lw_at lw_m6 48 rfl) rfl
theorem q1344 : (Jvm.Cond.classLink "BalloonMail" (149 : Nat) "BalloonMail$Wind") ∈ lw_all := lw_g (lw_at lw_m6 49 rfl) rfl
theorem q1345 : (Jvm.Cond.methodLink "BalloonMail" (155 : Nat) ({ cls := "BalloonMail$Choices", name := "sum", desc := "()I" } : Jvm.MethodName)) ∈ lw_all := lw_g (lw_at lw_m6 50 rfl) rfl
theorem q1346 : (Jvm.Cond.classLink "BalloonMail" (163 : Nat) "BalloonMail$Choice") ∈ lw_all := lw_g (lw_at lw_m6 51 rfl) rfl
theorem q1348 : (Jvm.Cond.instanceMethod ({ cls := "BalloonMail", name := "avoidChance", desc := "(II)J" } : Jvm.MethodName)) ∈ lw_all := lw_g (lw_at lw_m6 53 rfl) rfl
theorem q1349 : (Jvm.Cond.selects "BalloonMail" ({ cls := "BalloonMail", name := "avoidChance", desc := "(II)J" } : Jvm.MethodName) ({ cls := "BalloonMail", name := "avoidChance", desc := "(II)J" } : Jvm.MethodName)) ∈ lw_all := lw_g (lw_at lw_m6 54 rfl) rfl
theorem q1350 : (Jvm.Cond.code ({ cls := "BalloonMail", name := "avoidChance", desc := "(II)J" } : Jvm.MethodName) prog_1_method_23_code (6 : Nat) (Option.some Jvm.ClassFile.FieldType.long)) ∈ lw_all := lw_g (lw_at lw_m6 55 rfl) rfl
theorem q1352 : (Jvm.Cond.instanceMethod ({ cls := "BalloonMail", name := "landingChance", desc := "(II)J" } : Jvm.MethodName)) ∈ lw_all := lw_g (lw_at lw_m6 57 rfl) rfl
theorem q1353 : (Jvm.Cond.selects "BalloonMail" ({ cls := "BalloonMail", name := "landingChance", desc := "(II)J" } : Jvm.MethodName) ({ cls := "BalloonMail", name := "landingChance", desc := "(II)J" } : Jvm.MethodName)) ∈ lw_all := lw_g (lw_at lw_m6 58 rfl) rfl
theorem q1354 : (Jvm.Cond.code ({ cls := "BalloonMail", name := "landingChance", desc := "(II)J" } : Jvm.MethodName) prog_1_method_24_code (7 : Nat) (Option.some Jvm.ClassFile.FieldType.long)) ∈ lw_all := lw_g (lw_at lw_m6 59 rfl) rfl
theorem q1355 : (Jvm.Cond.methodLink "BalloonMail" (183 : Nat) ({ cls := "BalloonMail", name := "isRegion", desc := "(I)Z" } : Jvm.MethodName)) ∈ lw_all := lw_g (lw_at lw_m6 60 rfl) rfl
theorem q1356 : (Jvm.Cond.privateMethod ({ cls := "BalloonMail", name := "isRegion", desc := "(I)Z" } : Jvm.MethodName)) ∈ lw_tbl := lw_at lw_m6 61 rfl
theorem q1357 : (Jvm.Cond.instanceMethod ({ cls := "BalloonMail", name := "isRegion", desc := "(I)Z" } : Jvm.MethodName)) ∈ lw_all := lw_g (lw_at lw_m6 62 rfl) rfl
theorem q1358 : (Jvm.Cond.code ({ cls := "BalloonMail", name := "isRegion", desc := "(I)Z" } : Jvm.MethodName) prog_1_method_12_code (2 : Nat) (Option.some Jvm.ClassFile.FieldType.boolean)) ∈ lw_all := lw_g (lw_at lw_m6 63 rfl) rfl
theorem q1359 : (Jvm.Cond.methodLink "BalloonMail" (110 : Nat) ({ cls := "BalloonMail", name := "regionCount", desc := "()I" } : Jvm.MethodName)) ∈ lw_all := lw_g (lw_at lw_m6 64 rfl) rfl
theorem q1360 : (Jvm.Cond.methodLink "BalloonMail" (188 : Nat) ({ cls := "BalloonMail$Choices", name := "weight", desc := "(I)I" } : Jvm.MethodName)) ∈ lw_all := lw_g (lw_at lw_m6 65 rfl) rfl
theorem q1362 : (Jvm.Cond.instanceMethod ({ cls := "BalloonMail", name := "deliveryChance", desc := "(I)J" } : Jvm.MethodName)) ∈ lw_all := lw_g (lw_at lw_m6 67 rfl) rfl
theorem q1363 : (Jvm.Cond.selects "BalloonMail" ({ cls := "BalloonMail", name := "deliveryChance", desc := "(I)J" } : Jvm.MethodName) ({ cls := "BalloonMail", name := "deliveryChance", desc := "(I)J" } : Jvm.MethodName)) ∈ lw_all := lw_g (lw_at lw_m6 68 rfl) rfl
theorem q1364 : (Jvm.Cond.code ({ cls := "BalloonMail", name := "deliveryChance", desc := "(I)J" } : Jvm.MethodName) prog_1_method_26_code (2 : Nat) (Option.some Jvm.ClassFile.FieldType.long)) ∈ lw_all := lw_g (lw_at lw_m6 69 rfl) rfl
theorem q1365 : (Jvm.Cond.static ({ cls := "BalloonMail", name := "lambda$deliveryChance$0", desc := "(LBalloonMail$Region;)J" } : Jvm.MethodName)) ∈ lw_all := lw_g (lw_at lw_m6 70 rfl) rfl
theorem q1366 : (Jvm.Cond.code ({ cls := "BalloonMail", name := "lambda$deliveryChance$0", desc := "(LBalloonMail$Region;)J" } : Jvm.MethodName) prog_1_method_74_code (1 : Nat) (Option.some Jvm.ClassFile.FieldType.long)) ∈ lw_all := lw_g (lw_at lw_m6 71 rfl) rfl
theorem q1367 : (Jvm.Cond.methodLink "BalloonMail" (205 : Nat) ({ cls := "BalloonMail", name := "landed", desc := "(ILBalloonMail$Gain;)J" } : Jvm.MethodName)) ∈ lw_all := lw_g (lw_at lw_m6 72 rfl) rfl
theorem q1368 : (Jvm.Cond.privateMethod ({ cls := "BalloonMail", name := "landed", desc := "(ILBalloonMail$Gain;)J" } : Jvm.MethodName)) ∈ lw_tbl := lw_at lw_m6 73 rfl
theorem q1369 : (Jvm.Cond.instanceMethod ({ cls := "BalloonMail", name := "landed", desc := "(ILBalloonMail$Gain;)J" } : Jvm.MethodName)) ∈ lw_all := lw_g (lw_at lw_m6 74 rfl) rfl
theorem q1370 : (Jvm.Cond.code ({ cls := "BalloonMail", name := "landed", desc := "(ILBalloonMail$Gain;)J" } : Jvm.MethodName) prog_1_method_25_code (9 : Nat) (Option.some Jvm.ClassFile.FieldType.long)) ∈ lw_all := lw_g (lw_at lw_m6 75 rfl) rfl
theorem q1371 : (Jvm.Cond.classLink "BalloonMail" (191 : Nat) "BalloonMail$Region") ∈ lw_all := lw_g (lw_at lw_m6 76 rfl) rfl
theorem q1372 : (Jvm.Cond.interfaceEntry "BalloonMail" (196 : Nat)) ∈ lw_tbl := lw_at lw_m6 77 rfl
theorem q1373 : (Jvm.Cond.methodLink "BalloonMail" (196 : Nat) ({ cls := "BalloonMail$Gain", name := "in", desc := "(LBalloonMail$Region;)J" } : Jvm.MethodName)) ∈ lw_all := lw_g (lw_at lw_m6 78 rfl) rfl
theorem q1377 : (Jvm.Cond.instanceMethod ({ cls := "BalloonMail", name := "answerChance", desc := "(II)J" } : Jvm.MethodName)) ∈ lw_all := lw_g (lw_at lw_m6 82 rfl) rfl
theorem q1378 : (Jvm.Cond.selects "BalloonMail" ({ cls := "BalloonMail", name := "answerChance", desc := "(II)J" } : Jvm.MethodName) ({ cls := "BalloonMail", name := "answerChance", desc := "(II)J" } : Jvm.MethodName)) ∈ lw_all := lw_g (lw_at lw_m6 83 rfl) rfl
theorem q1379 : (Jvm.Cond.code ({ cls := "BalloonMail", name := "answerChance", desc := "(II)J" } : Jvm.MethodName) prog_1_method_29_code (3 : Nat) (Option.some Jvm.ClassFile.FieldType.long)) ∈ lw_all := lw_g (lw_at lw_m6 84 rfl) rfl
theorem q1380 : (Jvm.Cond.methodLink "BalloonMail" (218 : Nat) ({ cls := "BalloonMail", name := "canAnswer", desc := "(II)Z" } : Jvm.MethodName)) ∈ lw_all := lw_g (lw_at lw_m6 85 rfl) rfl
theorem q1381 : (Jvm.Cond.privateMethod ({ cls := "BalloonMail", name := "canAnswer", desc := "(II)Z" } : Jvm.MethodName)) ∈ lw_tbl := lw_at lw_m6 86 rfl
theorem q1382 : (Jvm.Cond.instanceMethod ({ cls := "BalloonMail", name := "canAnswer", desc := "(II)Z" } : Jvm.MethodName)) ∈ lw_all := lw_g (lw_at lw_m6 87 rfl) rfl
theorem q1383 : (Jvm.Cond.code ({ cls := "BalloonMail", name := "canAnswer", desc := "(II)Z" } : Jvm.MethodName) prog_1_method_28_code (3 : Nat) (Option.some Jvm.ClassFile.FieldType.boolean)) ∈ lw_all := lw_g (lw_at lw_m6 88 rfl) rfl
theorem q1384 : (Jvm.Cond.constantLong "BalloonMail" (216 : Nat) (4 : Int64)) ∈ lw_all := lw_g (lw_at lw_m6 89 rfl) rfl
theorem q1385 : (Jvm.Cond.methodLink "BalloonMail" (222 : Nat) ({ cls := "BalloonMail", name := "answered", desc := "(II)J" } : Jvm.MethodName)) ∈ lw_all := lw_g (lw_at lw_m6 90 rfl) rfl
theorem q1386 : (Jvm.Cond.privateMethod ({ cls := "BalloonMail", name := "answered", desc := "(II)J" } : Jvm.MethodName)) ∈ lw_tbl := lw_at lw_m6 91 rfl
theorem q1387 : (Jvm.Cond.instanceMethod ({ cls := "BalloonMail", name := "answered", desc := "(II)J" } : Jvm.MethodName)) ∈ lw_all := lw_g (lw_at lw_m6 92 rfl) rfl
theorem q1388 : (Jvm.Cond.code ({ cls := "BalloonMail", name := "answered", desc := "(II)J" } : Jvm.MethodName) prog_1_method_27_code (5 : Nat) (Option.some Jvm.ClassFile.FieldType.long)) ∈ lw_all := lw_g (lw_at lw_m6 93 rfl) rfl
theorem q1389 : (Jvm.Cond.methodLink "BalloonMail" (209 : Nat) ({ cls := "BalloonMail", name := "power", desc := "(I)J" } : Jvm.MethodName)) ∈ lw_all := lw_g (lw_at lw_m6 94 rfl) rfl
theorem q1390 : (Jvm.Cond.static ({ cls := "BalloonMail", name := "power", desc := "(I)J" } : Jvm.MethodName)) ∈ lw_all := lw_g (lw_at lw_m6 95 rfl) rfl
theorem q1391 : (Jvm.Cond.code ({ cls := "BalloonMail", name := "power", desc := "(I)J" } : Jvm.MethodName) prog_1_method_2_code (4 : Nat) (Option.some Jvm.ClassFile.FieldType.long)) ∈ lw_all := lw_g (lw_at lw_m6 96 rfl) rfl
theorem q1392 : (Jvm.Cond.constantLong "BalloonMail" (3 : Nat) (10 : Int64)) ∈ lw_all := lw_g (lw_at lw_m6 97 rfl) rfl
theorem q1393 : (Jvm.Cond.static ({ cls := "BalloonMail", name := "lambda$answered$1", desc := "(IJLBalloonMail$Region;)J" } : Jvm.MethodName)) ∈ lw_all := lw_g (lw_at lw_m6 98 rfl) rfl
theorem q1394 : (Jvm.Cond.code ({ cls := "BalloonMail", name := "lambda$answered$1", desc := "(IJLBalloonMail$Region;)J" } : Jvm.MethodName) prog_1_method_73_code (7 : Nat) (Option.some Jvm.ClassFile.FieldType.long)) ∈ lw_all := lw_g (lw_at lw_m6 99 rfl) rfl
theorem q1396 : (Jvm.Cond.instanceMethod ({ cls := "BalloonMail", name := "answerPermille", desc := "(II)I" } : Jvm.MethodName)) ∈ lw_all := lw_g (lw_at lw_m6 101 rfl) rfl
theorem q1397 : (Jvm.Cond.selects "BalloonMail" ({ cls := "BalloonMail", name := "answerPermille", desc := "(II)I" } : Jvm.MethodName) ({ cls := "BalloonMail", name := "answerPermille", desc := "(II)I" } : Jvm.MethodName)) ∈ lw_all := lw_g (lw_at lw_m6 102 rfl) rfl
theorem q1398 : (Jvm.Cond.code ({ cls := "BalloonMail", name := "answerPermille", desc := "(II)I" } : Jvm.MethodName) prog_1_method_30_code (3 : Nat) (Option.some Jvm.ClassFile.FieldType.int)) ∈ lw_all := lw_g (lw_at lw_m6 103 rfl) rfl
theorem q1399 : (Jvm.Cond.constantLong "BalloonMail" (226 : Nat) (1000 : Int64)) ∈ lw_all := lw_g (lw_at lw_m6 104 rfl) rfl
theorem q1401 : (Jvm.Cond.instanceMethod ({ cls := "BalloonMail", name := "bestDay", desc := "(I)I" } : Jvm.MethodName)) ∈ lw_all := lw_g (lw_at lw_m6 106 rfl) rfl
theorem q1402 : (Jvm.Cond.selects "BalloonMail" ({ cls := "BalloonMail", name := "bestDay", desc := "(I)I" } : Jvm.MethodName) ({ cls := "BalloonMail", name := "bestDay", desc := "(I)I" } : Jvm.MethodName)) ∈ lw_all := lw_g (lw_at lw_m6 107 rfl) rfl
theorem q1403 : (Jvm.Cond.code ({ cls := "BalloonMail", name := "bestDay", desc := "(I)I" } : Jvm.MethodName) prog_1_method_32_code (8 : Nat) (Option.some Jvm.ClassFile.FieldType.int)) ∈ lw_all := lw_g (lw_at lw_m6 108 rfl) rfl
theorem q1404 : (Jvm.Cond.methodLink "BalloonMail" (228 : Nat) ({ cls := "BalloonMail", name := "scaled", desc := "(II)J" } : Jvm.MethodName)) ∈ lw_all := lw_g (lw_at lw_m6 109 rfl) rfl
theorem q1405 : (Jvm.Cond.privateMethod ({ cls := "BalloonMail", name := "scaled", desc := "(II)J" } : Jvm.MethodName)) ∈ lw_tbl := lw_at lw_m6 110 rfl
theorem q1406 : (Jvm.Cond.instanceMethod ({ cls := "BalloonMail", name := "scaled", desc := "(II)J" } : Jvm.MethodName)) ∈ lw_all := lw_g (lw_at lw_m6 111 rfl) rfl
theorem q1407 : (Jvm.Cond.code ({ cls := "BalloonMail", name := "scaled", desc := "(II)J" } : Jvm.MethodName) prog_1_method_31_code (3 : Nat) (Option.some Jvm.ClassFile.FieldType.long)) ∈ lw_all := lw_g (lw_at lw_m6 112 rfl) rfl
theorem q1409 : (Jvm.Cond.instanceMethod ({ cls := "BalloonMail", name := "assignmentTotal", desc := "()J" } : Jvm.MethodName)) ∈ lw_all := lw_g (lw_at lw_m6 114 rfl) rfl
theorem q1410 : (Jvm.Cond.selects "BalloonMail" ({ cls := "BalloonMail", name := "assignmentTotal", desc := "()J" } : Jvm.MethodName) ({ cls := "BalloonMail", name := "assignmentTotal", desc := "()J" } : Jvm.MethodName)) ∈ lw_all := lw_g (lw_at lw_m6 115 rfl) rfl
theorem q1411 : (Jvm.Cond.code ({ cls := "BalloonMail", name := "assignmentTotal", desc := "()J" } : Jvm.MethodName) prog_1_method_35_code (1 : Nat) (Option.some Jvm.ClassFile.FieldType.long)) ∈ lw_all := lw_g (lw_at lw_m6 116 rfl) rfl
theorem q1412 : (Jvm.Cond.methodLink "BalloonMail" (247 : Nat) ({ cls := "BalloonMail", name := "layTotals", desc := "()V" } : Jvm.MethodName)) ∈ lw_all := lw_g (lw_at lw_m6 117 rfl) rfl
theorem q1413 : (Jvm.Cond.privateMethod ({ cls := "BalloonMail", name := "layTotals", desc := "()V" } : Jvm.MethodName)) ∈ lw_tbl := lw_at lw_m6 118 rfl
theorem q1414 : (Jvm.Cond.instanceMethod ({ cls := "BalloonMail", name := "layTotals", desc := "()V" } : Jvm.MethodName)) ∈ lw_all := lw_g (lw_at lw_m6 119 rfl) rfl
theorem q1415 : (Jvm.Cond.code ({ cls := "BalloonMail", name := "layTotals", desc := "()V" } : Jvm.MethodName) prog_1_method_33_code (7 : Nat) (Option.none : Option Jvm.ClassFile.FieldType)) ∈ lw_all := lw_g (lw_at lw_m6 120 rfl) rfl
theorem q1416 : (Jvm.Cond.methodLink "BalloonMail" (237 : Nat) ({ cls := "BalloonMail", name := "with", desc := "(III)J" } : Jvm.MethodName)) ∈ lw_all := lw_g (lw_at lw_m6 121 rfl) rfl
theorem q1417 : (Jvm.Cond.privateMethod ({ cls := "BalloonMail", name := "with", desc := "(III)J" } : Jvm.MethodName)) ∈ lw_tbl := lw_at lw_m6 122 rfl
theorem q1418 : (Jvm.Cond.instanceMethod ({ cls := "BalloonMail", name := "with", desc := "(III)J" } : Jvm.MethodName)) ∈ lw_all := lw_g (lw_at lw_m6 123 rfl) rfl
theorem q1419 : (Jvm.Cond.code ({ cls := "BalloonMail", name := "with", desc := "(III)J" } : Jvm.MethodName) prog_1_method_34_code (4 : Nat) (Option.some Jvm.ClassFile.FieldType.long)) ∈ lw_all := lw_g (lw_at lw_m6 124 rfl) rfl
theorem q1420 : (Jvm.Cond.methodLink "BalloonMail" (241 : Nat) ({ cls := "java/lang/Math", name := "max", desc := "(JJ)J" } : Jvm.MethodName)) ∈ lw_all := lw_g (lw_at lw_m6 125 rfl) rfl
theorem q1424 : (Jvm.Cond.instanceMethod ({ cls := "BalloonMail", name := "assignedDay", desc := "(I)I" } : Jvm.MethodName)) ∈ lw_all := lw_g (lw_at lw_m6 129 rfl) rfl
theorem q1425 : (Jvm.Cond.selects "BalloonMail" ({ cls := "BalloonMail", name := "assignedDay", desc := "(I)I" } : Jvm.MethodName) ({ cls := "BalloonMail", name := "assignedDay", desc := "(I)I" } : Jvm.MethodName)) ∈ lw_all := lw_g (lw_at lw_m6 130 rfl) rfl
theorem q1426 : (Jvm.Cond.code ({ cls := "BalloonMail", name := "assignedDay", desc := "(I)I" } : Jvm.MethodName) prog_1_method_36_code (6 : Nat) (Option.some Jvm.ClassFile.FieldType.int)) ∈ lw_all := lw_g (lw_at lw_m6 131 rfl) rfl
theorem q1428 : (Jvm.Cond.instanceMethod ({ cls := "BalloonMail", name := "bestLoad", desc := "(I)I" } : Jvm.MethodName)) ∈ lw_all := lw_g (lw_at lw_m6 133 rfl) rfl
theorem q1429 : (Jvm.Cond.selects "BalloonMail" ({ cls := "BalloonMail", name := "bestLoad", desc := "(I)I" } : Jvm.MethodName) ({ cls := "BalloonMail", name := "bestLoad", desc := "(I)I" } : Jvm.MethodName)) ∈ lw_all := lw_g (lw_at lw_m6 134 rfl) rfl
theorem q1430 : (Jvm.Cond.code ({ cls := "BalloonMail", name := "bestLoad", desc := "(I)I" } : Jvm.MethodName) prog_1_method_39_code (5 : Nat) (Option.some Jvm.ClassFile.FieldType.int)) ∈ lw_all := lw_g (lw_at lw_m6 135 rfl) rfl
theorem q1431 : (Jvm.Cond.methodLink "BalloonMail" (253 : Nat) ({ cls := "BalloonMail", name := "valueAt", desc := "(II)I" } : Jvm.MethodName)) ∈ lw_all := lw_g (lw_at lw_m6 136 rfl) rfl
theorem q1432 : (Jvm.Cond.privateMethod ({ cls := "BalloonMail", name := "valueAt", desc := "(II)I" } : Jvm.MethodName)) ∈ lw_tbl := lw_at lw_m6 137 rfl
theorem q1433 : (Jvm.Cond.instanceMethod ({ cls := "BalloonMail", name := "valueAt", desc := "(II)I" } : Jvm.MethodName)) ∈ lw_all := lw_g (lw_at lw_m6 138 rfl) rfl
theorem q1434 : (Jvm.Cond.code ({ cls := "BalloonMail", name := "valueAt", desc := "(II)I" } : Jvm.MethodName) prog_1_method_37_code (3 : Nat) (Option.some Jvm.ClassFile.FieldType.int)) ∈ lw_all := lw_g (lw_at lw_m6 139 rfl) rfl
theorem q1435 : (Jvm.Cond.methodLink "BalloonMail" (260 : Nat) ({ cls := "BalloonMail", name := "withLetter", desc := "(II)I" } : Jvm.MethodName)) ∈ lw_all := lw_g (lw_at lw_m6 140 rfl) rfl
theorem q1436 : (Jvm.Cond.privateMethod ({ cls := "BalloonMail", name := "withLetter", desc := "(II)I" } : Jvm.MethodName)) ∈ lw_tbl := lw_at lw_m6 141 rfl
theorem q1437 : (Jvm.Cond.instanceMethod ({ cls := "BalloonMail", name := "withLetter", desc := "(II)I" } : Jvm.MethodName)) ∈ lw_all := lw_g (lw_at lw_m6 142 rfl) rfl
theorem q1438 : (Jvm.Cond.code ({ cls := "BalloonMail", name := "withLetter", desc := "(II)I" } : Jvm.MethodName) prog_1_method_38_code (4 : Nat) (Option.some Jvm.ClassFile.FieldType.int)) ∈ lw_all := lw_g (lw_at lw_m6 143 rfl) rfl
theorem q1439 : (Jvm.Cond.methodLink "BalloonMail" (263 : Nat) ({ cls := "java/lang/Math", name := "max", desc := "(II)I" } : Jvm.MethodName)) ∈ lw_all := lw_g (lw_at lw_m6 144 rfl) rfl
theorem q1441 : (Jvm.Cond.instanceMethod ({ cls := "BalloonMail", name := "weightOf", desc := "(I)I" } : Jvm.MethodName)) ∈ lw_all := lw_g (lw_at lw_m6 146 rfl) rfl
theorem q1442 : (Jvm.Cond.selects "BalloonMail" ({ cls := "BalloonMail", name := "weightOf", desc := "(I)I" } : Jvm.MethodName) ({ cls := "BalloonMail", name := "weightOf", desc := "(I)I" } : Jvm.MethodName)) ∈ lw_all := lw_g (lw_at lw_m6 147 rfl) rfl
theorem q1443 : (Jvm.Cond.code ({ cls := "BalloonMail", name := "weightOf", desc := "(I)I" } : Jvm.MethodName) prog_1_method_40_code (2 : Nat) (Option.some Jvm.ClassFile.FieldType.int)) ∈ lw_all := lw_g (lw_at lw_m6 148 rfl) rfl
theorem q1444 : (Jvm.Cond.methodLink "BalloonMail" (265 : Nat) ({ cls := "BalloonMail", name := "areLetters", desc := "(I)Z" } : Jvm.MethodName)) ∈ lw_all := lw_g (lw_at lw_m6 149 rfl) rfl
theorem q1445 : (Jvm.Cond.privateMethod ({ cls := "BalloonMail", name := "areLetters", desc := "(I)Z" } : Jvm.MethodName)) ∈ lw_tbl := lw_at lw_m6 150 rfl
theorem q1446 : (Jvm.Cond.instanceMethod ({ cls := "BalloonMail", name := "areLetters", desc := "(I)Z" } : Jvm.MethodName)) ∈ lw_all := lw_g (lw_at lw_m6 151 rfl) rfl
theorem q1447 : (Jvm.Cond.code ({ cls := "BalloonMail", name := "areLetters", desc := "(I)Z" } : Jvm.MethodName) prog_1_method_16_code (2 : Nat) (Option.some Jvm.ClassFile.FieldType.boolean)) ∈ lw_all := lw_g (lw_at lw_m6 152 rfl) rfl
theorem q1448 : (Jvm.Cond.methodLink "BalloonMail" (268 : Nat) ({ cls := "BalloonMail$Siege", name := "weight", desc := "(I)I" } : Jvm.MethodName)) ∈ lw_all := lw_g (lw_at lw_m6 153 rfl) rfl
theorem q1456 : (Jvm.Cond.instanceMethod ({ cls := "BalloonMail", name := "priorityOf", desc := "(I)I" } : Jvm.MethodName)) ∈ lw_all := lw_g (lw_at lw_m6 161 rfl) rfl
theorem q1457 : (Jvm.Cond.selects "BalloonMail" ({ cls := "BalloonMail", name := "priorityOf", desc := "(I)I" } : Jvm.MethodName) ({ cls := "BalloonMail", name := "priorityOf", desc := "(I)I" } : Jvm.MethodName)) ∈ lw_all := lw_g (lw_at lw_m6 162 rfl) rfl
theorem q1458 : (Jvm.Cond.code ({ cls := "BalloonMail", name := "priorityOf", desc := "(I)I" } : Jvm.MethodName) prog_1_method_41_code (2 : Nat) (Option.some Jvm.ClassFile.FieldType.int)) ∈ lw_all := lw_g (lw_at lw_m6 163 rfl) rfl
theorem q1459 : (Jvm.Cond.methodLink "BalloonMail" (269 : Nat) ({ cls := "BalloonMail$Siege", name := "priority", desc := "(I)I" } : Jvm.MethodName)) ∈ lw_all := lw_g (lw_at lw_m6 164 rfl) rfl
theorem q1464 : (Jvm.Cond.instanceMethod ({ cls := "BalloonMail", name := "lettersIn", desc := "(I)I" } : Jvm.MethodName)) ∈ lw_all := lw_g (lw_at lw_m6 169 rfl) rfl
theorem q1465 : (Jvm.Cond.selects "BalloonMail" ({ cls := "BalloonMail", name := "lettersIn", desc := "(I)I" } : Jvm.MethodName) ({ cls := "BalloonMail", name := "lettersIn", desc := "(I)I" } : Jvm.MethodName)) ∈ lw_all := lw_g (lw_at lw_m6 170 rfl) rfl
theorem q1466 : (Jvm.Cond.code ({ cls := "BalloonMail", name := "lettersIn", desc := "(I)I" } : Jvm.MethodName) prog_1_method_44_code (2 : Nat) (Option.some Jvm.ClassFile.FieldType.int)) ∈ lw_all := lw_g (lw_at lw_m6 171 rfl) rfl
theorem q1467 : (Jvm.Cond.methodLink "BalloonMail" (273 : Nat) ({ cls := "BalloonMail", name := "isState", desc := "(I)Z" } : Jvm.MethodName)) ∈ lw_all := lw_g (lw_at lw_m6 172 rfl) rfl
theorem q1468 : (Jvm.Cond.static ({ cls := "BalloonMail", name := "isState", desc := "(I)Z" } : Jvm.MethodName)) ∈ lw_all := lw_g (lw_at lw_m6 173 rfl) rfl
theorem q1469 : (Jvm.Cond.code ({ cls := "BalloonMail", name := "isState", desc := "(I)Z" } : Jvm.MethodName) prog_1_method_43_code (1 : Nat) (Option.some Jvm.ClassFile.FieldType.boolean)) ∈ lw_all := lw_g (lw_at lw_m6 174 rfl) rfl
theorem q1470 : (Jvm.Cond.constantLong "BalloonMail" (271 : Nat) (3 : Int64)) ∈ lw_all := lw_g (lw_at lw_m6 175 rfl) rfl
theorem q1471 : (Jvm.Cond.methodLink "BalloonMail" (276 : Nat) ({ cls := "BalloonMail", name := "setIn", desc := "(I)I" } : Jvm.MethodName)) ∈ lw_all := lw_g (lw_at lw_m6 176 rfl) rfl
theorem q1472 : (Jvm.Cond.privateMethod ({ cls := "BalloonMail", name := "setIn", desc := "(I)I" } : Jvm.MethodName)) ∈ lw_tbl := lw_at lw_m6 177 rfl
theorem q1473 : (Jvm.Cond.instanceMethod ({ cls := "BalloonMail", name := "setIn", desc := "(I)I" } : Jvm.MethodName)) ∈ lw_all := lw_g (lw_at lw_m6 178 rfl) rfl
theorem q1474 : (Jvm.Cond.code ({ cls := "BalloonMail", name := "setIn", desc := "(I)I" } : Jvm.MethodName) prog_1_method_42_code (4 : Nat) (Option.some Jvm.ClassFile.FieldType.int)) ∈ lw_all := lw_g (lw_at lw_m6 179 rfl) rfl
theorem q1476 : (Jvm.Cond.instanceMethod ({ cls := "BalloonMail", name := "day", desc := "()I" } : Jvm.MethodName)) ∈ lw_all := lw_g (lw_at lw_m6 181 rfl) rfl
theorem q1477 : (Jvm.Cond.selects "BalloonMail" ({ cls := "BalloonMail", name := "day", desc := "()I" } : Jvm.MethodName) ({ cls := "BalloonMail", name := "day", desc := "()I" } : Jvm.MethodName)) ∈ lw_all := lw_g (lw_at lw_m6 182 rfl) rfl
theorem q1478 : (Jvm.Cond.code ({ cls := "BalloonMail", name := "day", desc := "()I" } : Jvm.MethodName) prog_1_method_45_code (1 : Nat) (Option.some Jvm.ClassFile.FieldType.int)) ∈ lw_all := lw_g (lw_at lw_m6 183 rfl) rfl
theorem q1480 : (Jvm.Cond.instanceMethod ({ cls := "BalloonMail", name := "wind", desc := "()I" } : Jvm.MethodName)) ∈ lw_all := lw_g (lw_at lw_m6 185 rfl) rfl
theorem q1481 : (Jvm.Cond.selects "BalloonMail" ({ cls := "BalloonMail", name := "wind", desc := "()I" } : Jvm.MethodName) ({ cls := "BalloonMail", name := "wind", desc := "()I" } : Jvm.MethodName)) ∈ lw_all := lw_g (lw_at lw_m6 186 rfl) rfl
theorem q1482 : (Jvm.Cond.code ({ cls := "BalloonMail", name := "wind", desc := "()I" } : Jvm.MethodName) prog_1_method_46_code (1 : Nat) (Option.some Jvm.ClassFile.FieldType.int)) ∈ lw_all := lw_g (lw_at lw_m6 187 rfl) rfl
theorem q1484 : (Jvm.Cond.instanceMethod ({ cls := "BalloonMail", name := "launch", desc := "(II)I" } : Jvm.MethodName)) ∈ lw_all := lw_g (lw_at lw_m6 189 rfl) rfl
theorem q1485 : (Jvm.Cond.selects "BalloonMail" ({ cls := "BalloonMail", name := "launch", desc := "(II)I" } : Jvm.MethodName) ({ cls := "BalloonMail", name := "launch", desc := "(II)I" } : Jvm.MethodName)) ∈ lw_all := lw_g (lw_at lw_m6 190 rfl) rfl
theorem q1486 : (Jvm.Cond.code ({ cls := "BalloonMail", name := "launch", desc := "(II)I" } : Jvm.MethodName) prog_1_method_48_code (6 : Nat) (Option.some Jvm.ClassFile.FieldType.int)) ∈ lw_all := lw_g (lw_at lw_m6 191 rfl) rfl
theorem q1487 : (Jvm.Cond.methodLink "BalloonMail" (296 : Nat) ({ cls := "BalloonMail", name := "keep", desc := "()V" } : Jvm.MethodName)) ∈ lw_all := lw_g (lw_at lw_m6 192 rfl) rfl
theorem q1488 : (Jvm.Cond.privateMethod ({ cls := "BalloonMail", name := "keep", desc := "()V" } : Jvm.MethodName)) ∈ lw_tbl := lw_at lw_m6 193 rfl
theorem q1489 : (Jvm.Cond.instanceMethod ({ cls := "BalloonMail", name := "keep", desc := "()V" } : Jvm.MethodName)) ∈ lw_all := lw_g (lw_at lw_m6 194 rfl) rfl
theorem q1490 : (Jvm.Cond.code ({ cls := "BalloonMail", name := "keep", desc := "()V" } : Jvm.MethodName) prog_1_method_47_code (1 : Nat) (Option.none : Option Jvm.ClassFile.FieldType)) ∈ lw_all := lw_g (lw_at lw_m6 195 rfl) rfl
theorem q1491 : (Jvm.Cond.methodLink "BalloonMail" (282 : Nat) ({ cls := "java/util/ArrayList", name := "remove", desc := "(I)Ljava/lang/Object;" } : Jvm.MethodName)) ∈ lw_all := lw_g (lw_at lw_m6 196 rfl) rfl
theorem q1500 : (Jvm.Cond.methodLink "BalloonMail" (285 : Nat) ({ cls := "BalloonMail$State", name := "copy", desc := "(LBalloonMail$Siege;)LBalloonMail$State;" } : Jvm.MethodName)) ∈ lw_all := lw_g (lw_at lw_m6 205 rfl) rfl
theorem q1822 : (Jvm.Cond.methodLink "BalloonMail" (289 : Nat) ({ cls := "java/util/ArrayList", name := "add", desc := "(Ljava/lang/Object;)Z" } : Jvm.MethodName)) ∈ lw_all := lw_g (lw_at lw_m8 47 rfl) rfl
theorem q1823 : (Jvm.Cond.methodLink "BalloonMail" (303 : Nat) ({ cls := "BalloonMail", name := "setOf", desc := "(I)Ljava/util/BitSet;" } : Jvm.MethodName)) ∈ lw_all := lw_g (lw_at lw_m8 48 rfl) rfl
theorem q1824 : (Jvm.Cond.static ({ cls := "BalloonMail", name := "setOf", desc := "(I)Ljava/util/BitSet;" } : Jvm.MethodName)) ∈ lw_all := lw_g (lw_at lw_m8 49 rfl) rfl
theorem q1825 : (Jvm.Cond.code ({ cls := "BalloonMail", name := "setOf", desc := "(I)Ljava/util/BitSet;" } : Jvm.MethodName) prog_1_method_49_code (3 : Nat) (Option.some (Jvm.ClassFile.FieldType.object "java/util/BitSet"))) ∈ lw_all := lw_g (lw_at lw_m8 50 rfl) rfl
theorem q1826 : (Jvm.Cond.classLink "BalloonMail" (330 : Nat) "java/util/BitSet") ∈ lw_all := lw_g (lw_at lw_m8 51 rfl) rfl
theorem q1827 : (Jvm.Cond.methodLink "BalloonMail" (332 : Nat) ({ cls := "java/util/BitSet", name := "<init>", desc := "(I)V" } : Jvm.MethodName)) ∈ lw_all := lw_g (lw_at lw_m8 52 rfl) rfl
theorem q1830 : (Jvm.Cond.methodLink "BalloonMail" (333 : Nat) ({ cls := "java/util/BitSet", name := "set", desc := "(I)V" } : Jvm.MethodName)) ∈ lw_all := lw_g (lw_at lw_m8 55 rfl) rfl
theorem q1831 : (Jvm.Cond.methodLink "BalloonMail" (307 : Nat) ({ cls := "BalloonMail$State", name := "draw", desc := "()I" } : Jvm.MethodName)) ∈ lw_all := lw_g (lw_at lw_m8 56 rfl) rfl
theorem q1840 : (Jvm.Cond.methodLink "BalloonMail" (310 : Nat) ({ cls := "BalloonMail$Choices", name := "chosen", desc := "(II)I" } : Jvm.MethodName)) ∈ lw_all := lw_g (lw_at lw_m8 65 rfl) rfl
theorem q1844 : (Jvm.Cond.methodLink "BalloonMail" (316 : Nat) ({ cls := "BalloonMail$State", name := "note", desc := "(II)V" } : Jvm.MethodName)) ∈ lw_all := lw_g (lw_at lw_m8 69 rfl) rfl
theorem q1866 : (Jvm.Cond.fieldLinkNest "BalloonMail" (400 : Nat) "BalloonMail$Event" "kind" "I" "BalloonMail") ∈ lw_tbl := lw_at lw_m8 91 rfl
theorem q1868 : (Jvm.Cond.fieldLinkNest "BalloonMail" (403 : Nat) "BalloonMail$Event" "number" "I" "BalloonMail") ∈ lw_tbl := lw_at lw_m8 93 rfl
theorem q1870 : (Jvm.Cond.fieldLinkNest "BalloonMail" (404 : Nat) "BalloonMail$Event" "day" "I" "BalloonMail") ∈ lw_tbl := lw_at lw_m8 95 rfl
theorem q1878 : (Jvm.Cond.methodLink "BalloonMail" (319 : Nat) ({ cls := "BalloonMail$State", name := "setLetters", desc := "(Ljava/util/BitSet;II)V" } : Jvm.MethodName)) ∈ lw_all := lw_g (lw_at lw_m8 103 rfl) rfl
theorem q1895 : (Jvm.Cond.methodLink "BalloonMail" (323 : Nat) ({ cls := "BalloonMail", name := "release", desc := "(IILBalloonMail$Region;)V" } : Jvm.MethodName)) ∈ lw_all := lw_g (lw_at lw_m8 120 rfl) rfl
theorem q1896 : (Jvm.Cond.privateMethod ({ cls := "BalloonMail", name := "release", desc := "(IILBalloonMail$Region;)V" } : Jvm.MethodName)) ∈ lw_tbl := lw_at lw_m8 121 rfl
theorem q1897 : (Jvm.Cond.instanceMethod ({ cls := "BalloonMail", name := "release", desc := "(IILBalloonMail$Region;)V" } : Jvm.MethodName)) ∈ lw_all := lw_g (lw_at lw_m8 122 rfl) rfl
theorem q1898 : (Jvm.Cond.code ({ cls := "BalloonMail", name := "release", desc := "(IILBalloonMail$Region;)V" } : Jvm.MethodName) prog_1_method_50_code (5 : Nat) (Option.none : Option Jvm.ClassFile.FieldType)) ∈ lw_all := lw_g (lw_at lw_m8 123 rfl) rfl
theorem q1899 : (Jvm.Cond.classLink "BalloonMail" (343 : Nat) "BalloonMail$Pigeon") ∈ lw_all := lw_g (lw_at lw_m8 124 rfl) rfl
theorem q1901 : (Jvm.Cond.methodLink "BalloonMail" (348 : Nat) ({ cls := "BalloonMail$Pigeon", name := "<init>", desc := "(II)V" } : Jvm.MethodName)) ∈ lw_all := lw_g (lw_at lw_m8 126 rfl) rfl
theorem q1906 : (Jvm.Cond.fieldLinkNest "BalloonMail" (371 : Nat) "BalloonMail$Pigeon" "balloon" "I" "BalloonMail") ∈ lw_tbl := lw_at lw_m8 131 rfl
theorem q1908 : (Jvm.Cond.fieldLinkNest "BalloonMail" (366 : Nat) "BalloonMail$Pigeon" "due" "I" "BalloonMail") ∈ lw_tbl := lw_at lw_m8 133 rfl
theorem q1914 : (Jvm.Cond.methodLink "BalloonMail" (350 : Nat) ({ cls := "java/util/LinkedList", name := "add", desc := "(Ljava/lang/Object;)Z" } : Jvm.MethodName)) ∈ lw_all := lw_g (lw_at lw_m8 139 rfl) rfl
theorem q1916 : (Jvm.Cond.instanceMethod ({ cls := "BalloonMail", name := "nextDay", desc := "()I" } : Jvm.MethodName)) ∈ lw_all := lw_g (lw_at lw_m8 141 rfl) rfl
theorem q1917 : (Jvm.Cond.selects "BalloonMail" ({ cls := "BalloonMail", name := "nextDay", desc := "()I" } : Jvm.MethodName) ({ cls := "BalloonMail", name := "nextDay", desc := "()I" } : Jvm.MethodName)) ∈ lw_all := lw_g (lw_at lw_m8 142 rfl) rfl
theorem q1918 : (Jvm.Cond.code ({ cls := "BalloonMail", name := "nextDay", desc := "()I" } : Jvm.MethodName) prog_1_method_51_code (4 : Nat) (Option.some Jvm.ClassFile.FieldType.int)) ∈ lw_all := lw_g (lw_at lw_m8 143 rfl) rfl
theorem q1919 : (Jvm.Cond.methodLink "BalloonMail" (353 : Nat) ({ cls := "java/util/LinkedList", name := "iterator", desc := "()Ljava/util/Iterator;" } : Jvm.MethodName)) ∈ lw_all := lw_g (lw_at lw_m8 144 rfl) rfl
theorem q1920 : (Jvm.Cond.interfaceEntry "BalloonMail" (357 : Nat)) ∈ lw_tbl := lw_at lw_m8 145 rfl
theorem q1921 : (Jvm.Cond.methodLink "BalloonMail" (357 : Nat) ({ cls := "java/util/Iterator", name := "hasNext", desc := "()Z" } : Jvm.MethodName)) ∈ lw_all := lw_g (lw_at lw_m8 146 rfl) rfl
theorem q1922 : (Jvm.Cond.interfaceEntry "BalloonMail" (363 : Nat)) ∈ lw_tbl := lw_at lw_m8 147 rfl
theorem q1923 : (Jvm.Cond.methodLink "BalloonMail" (363 : Nat) ({ cls := "java/util/Iterator", name := "next", desc := "()Ljava/lang/Object;" } : Jvm.MethodName)) ∈ lw_all := lw_g (lw_at lw_m8 148 rfl) rfl
theorem q1924 : (Jvm.Cond.interfaceEntry "BalloonMail" (369 : Nat)) ∈ lw_tbl := lw_at lw_m8 149 rfl
theorem q1925 : (Jvm.Cond.methodLink "BalloonMail" (369 : Nat) ({ cls := "java/util/Iterator", name := "remove", desc := "()V" } : Jvm.MethodName)) ∈ lw_all := lw_g (lw_at lw_m8 150 rfl) rfl
theorem q2014 : (Jvm.Cond.methodLink "BalloonMail" (374 : Nat) ({ cls := "BalloonMail", name := "wind", desc := "()I" } : Jvm.MethodName)) ∈ lw_all := lw_g (lw_at lw_m8 239 rfl) rfl
theorem q2016 : (Jvm.Cond.instanceMethod ({ cls := "BalloonMail", name := "balloonState", desc := "(I)I" } : Jvm.MethodName)) ∈ lw_all := lw_g (lw_at lw_m9 1 rfl) rfl
theorem q2017 : (Jvm.Cond.selects "BalloonMail" ({ cls := "BalloonMail", name := "balloonState", desc := "(I)I" } : Jvm.MethodName) ({ cls := "BalloonMail", name := "balloonState", desc := "(I)I" } : Jvm.MethodName)) ∈ lw_all := lw_g (lw_at lw_m9 2 rfl) rfl
theorem q2018 : (Jvm.Cond.code ({ cls := "BalloonMail", name := "balloonState", desc := "(I)I" } : Jvm.MethodName) prog_1_method_52_code (2 : Nat) (Option.some Jvm.ClassFile.FieldType.int)) ∈ lw_all := lw_g (lw_at lw_m9 3 rfl) rfl
theorem q2020 : (Jvm.Cond.instanceMethod ({ cls := "BalloonMail", name := "balloonRegion", desc := "(I)I" } : Jvm.MethodName)) ∈ lw_all := lw_g (lw_at lw_m9 5 rfl) rfl
theorem q2021 : (Jvm.Cond.selects "BalloonMail" ({ cls := "BalloonMail", name := "balloonRegion", desc := "(I)I" } : Jvm.MethodName) ({ cls := "BalloonMail", name := "balloonRegion", desc := "(I)I" } : Jvm.MethodName)) ∈ lw_all := lw_g (lw_at lw_m9 6 rfl) rfl
theorem q2022 : (Jvm.Cond.code ({ cls := "BalloonMail", name := "balloonRegion", desc := "(I)I" } : Jvm.MethodName) prog_1_method_53_code (2 : Nat) (Option.some Jvm.ClassFile.FieldType.int)) ∈ lw_all := lw_g (lw_at lw_m9 7 rfl) rfl
theorem q2024 : (Jvm.Cond.instanceMethod ({ cls := "BalloonMail", name := "cargo", desc := "(I)I" } : Jvm.MethodName)) ∈ lw_all := lw_g (lw_at lw_m9 9 rfl) rfl
theorem q2025 : (Jvm.Cond.selects "BalloonMail" ({ cls := "BalloonMail", name := "cargo", desc := "(I)I" } : Jvm.MethodName) ({ cls := "BalloonMail", name := "cargo", desc := "(I)I" } : Jvm.MethodName)) ∈ lw_all := lw_g (lw_at lw_m9 10 rfl) rfl
theorem q2026 : (Jvm.Cond.code ({ cls := "BalloonMail", name := "cargo", desc := "(I)I" } : Jvm.MethodName) prog_1_method_54_code (5 : Nat) (Option.some Jvm.ClassFile.FieldType.int)) ∈ lw_all := lw_g (lw_at lw_m9 11 rfl) rfl
theorem q2027 : (Jvm.Cond.methodLink "BalloonMail" (376 : Nat) ({ cls := "java/util/BitSet", name := "nextSetBit", desc := "(I)I" } : Jvm.MethodName)) ∈ lw_all := lw_g (lw_at lw_m9 12 rfl) rfl
theorem q2029 : (Jvm.Cond.instanceMethod ({ cls := "BalloonMail", name := "letterState", desc := "(I)I" } : Jvm.MethodName)) ∈ lw_all := lw_g (lw_at lw_m9 14 rfl) rfl
theorem q2030 : (Jvm.Cond.selects "BalloonMail" ({ cls := "BalloonMail", name := "letterState", desc := "(I)I" } : Jvm.MethodName) ({ cls := "BalloonMail", name := "letterState", desc := "(I)I" } : Jvm.MethodName)) ∈ lw_all := lw_g (lw_at lw_m9 15 rfl) rfl
theorem q2031 : (Jvm.Cond.code ({ cls := "BalloonMail", name := "letterState", desc := "(I)I" } : Jvm.MethodName) prog_1_method_55_code (2 : Nat) (Option.some Jvm.ClassFile.FieldType.int)) ∈ lw_all := lw_g (lw_at lw_m9 16 rfl) rfl
theorem q2033 : (Jvm.Cond.instanceMethod ({ cls := "BalloonMail", name := "answerDay", desc := "(I)I" } : Jvm.MethodName)) ∈ lw_all := lw_g (lw_at lw_m9 18 rfl) rfl
theorem q2034 : (Jvm.Cond.selects "BalloonMail" ({ cls := "BalloonMail", name := "answerDay", desc := "(I)I" } : Jvm.MethodName) ({ cls := "BalloonMail", name := "answerDay", desc := "(I)I" } : Jvm.MethodName)) ∈ lw_all := lw_g (lw_at lw_m9 19 rfl) rfl
theorem q2035 : (Jvm.Cond.code ({ cls := "BalloonMail", name := "answerDay", desc := "(I)I" } : Jvm.MethodName) prog_1_method_56_code (2 : Nat) (Option.some Jvm.ClassFile.FieldType.int)) ∈ lw_all := lw_g (lw_at lw_m9 20 rfl) rfl
theorem q2037 : (Jvm.Cond.instanceMethod ({ cls := "BalloonMail", name := "pigeonsInLoft", desc := "()I" } : Jvm.MethodName)) ∈ lw_all := lw_g (lw_at lw_m9 22 rfl) rfl
theorem q2038 : (Jvm.Cond.selects "BalloonMail" ({ cls := "BalloonMail", name := "pigeonsInLoft", desc := "()I" } : Jvm.MethodName) ({ cls := "BalloonMail", name := "pigeonsInLoft", desc := "()I" } : Jvm.MethodName)) ∈ lw_all := lw_g (lw_at lw_m9 23 rfl) rfl
theorem q2039 : (Jvm.Cond.code ({ cls := "BalloonMail", name := "pigeonsInLoft", desc := "()I" } : Jvm.MethodName) prog_1_method_57_code (1 : Nat) (Option.some Jvm.ClassFile.FieldType.int)) ∈ lw_all := lw_g (lw_at lw_m9 24 rfl) rfl
theorem q2041 : (Jvm.Cond.instanceMethod ({ cls := "BalloonMail", name := "pigeonsOnTheWay", desc := "()I" } : Jvm.MethodName)) ∈ lw_all := lw_g (lw_at lw_m9 26 rfl) rfl
theorem q2042 : (Jvm.Cond.selects "BalloonMail" ({ cls := "BalloonMail", name := "pigeonsOnTheWay", desc := "()I" } : Jvm.MethodName) ({ cls := "BalloonMail", name := "pigeonsOnTheWay", desc := "()I" } : Jvm.MethodName)) ∈ lw_all := lw_g (lw_at lw_m9 27 rfl) rfl
theorem q2043 : (Jvm.Cond.code ({ cls := "BalloonMail", name := "pigeonsOnTheWay", desc := "()I" } : Jvm.MethodName) prog_1_method_58_code (1 : Nat) (Option.some Jvm.ClassFile.FieldType.int)) ∈ lw_all := lw_g (lw_at lw_m9 28 rfl) rfl
theorem q2044 : (Jvm.Cond.methodLink "BalloonMail" (382 : Nat) ({ cls := "java/util/LinkedList", name := "size", desc := "()I" } : Jvm.MethodName)) ∈ lw_all := lw_g (lw_at lw_m9 29 rfl) rfl
theorem q2046 : (Jvm.Cond.instanceMethod ({ cls := "BalloonMail", name := "pigeonsLost", desc := "()I" } : Jvm.MethodName)) ∈ lw_all := lw_g (lw_at lw_m9 31 rfl) rfl
theorem q2047 : (Jvm.Cond.selects "BalloonMail" ({ cls := "BalloonMail", name := "pigeonsLost", desc := "()I" } : Jvm.MethodName) ({ cls := "BalloonMail", name := "pigeonsLost", desc := "()I" } : Jvm.MethodName)) ∈ lw_all := lw_g (lw_at lw_m9 32 rfl) rfl
theorem q2048 : (Jvm.Cond.code ({ cls := "BalloonMail", name := "pigeonsLost", desc := "()I" } : Jvm.MethodName) prog_1_method_59_code (1 : Nat) (Option.some Jvm.ClassFile.FieldType.int)) ∈ lw_all := lw_g (lw_at lw_m9 33 rfl) rfl
theorem q2050 : (Jvm.Cond.instanceMethod ({ cls := "BalloonMail", name := "nextReturn", desc := "()I" } : Jvm.MethodName)) ∈ lw_all := lw_g (lw_at lw_m9 35 rfl) rfl
theorem q2051 : (Jvm.Cond.selects "BalloonMail" ({ cls := "BalloonMail", name := "nextReturn", desc := "()I" } : Jvm.MethodName) ({ cls := "BalloonMail", name := "nextReturn", desc := "()I" } : Jvm.MethodName)) ∈ lw_all := lw_g (lw_at lw_m9 36 rfl) rfl
theorem q2052 : (Jvm.Cond.code ({ cls := "BalloonMail", name := "nextReturn", desc := "()I" } : Jvm.MethodName) prog_1_method_60_code (4 : Nat) (Option.some Jvm.ClassFile.FieldType.int)) ∈ lw_all := lw_g (lw_at lw_m9 37 rfl) rfl
theorem q2054 : (Jvm.Cond.instanceMethod ({ cls := "BalloonMail", name := "weightIn", desc := "(I)I" } : Jvm.MethodName)) ∈ lw_all := lw_g (lw_at lw_m9 39 rfl) rfl
theorem q2055 : (Jvm.Cond.selects "BalloonMail" ({ cls := "BalloonMail", name := "weightIn", desc := "(I)I" } : Jvm.MethodName) ({ cls := "BalloonMail", name := "weightIn", desc := "(I)I" } : Jvm.MethodName)) ∈ lw_all := lw_g (lw_at lw_m9 40 rfl) rfl
theorem q2056 : (Jvm.Cond.code ({ cls := "BalloonMail", name := "weightIn", desc := "(I)I" } : Jvm.MethodName) prog_1_method_61_code (2 : Nat) (Option.some Jvm.ClassFile.FieldType.int)) ∈ lw_all := lw_g (lw_at lw_m9 41 rfl) rfl
theorem q2058 : (Jvm.Cond.instanceMethod ({ cls := "BalloonMail", name := "answeredPriority", desc := "()I" } : Jvm.MethodName)) ∈ lw_all := lw_g (lw_at lw_m9 43 rfl) rfl
theorem q2059 : (Jvm.Cond.selects "BalloonMail" ({ cls := "BalloonMail", name := "answeredPriority", desc := "()I" } : Jvm.MethodName) ({ cls := "BalloonMail", name := "answeredPriority", desc := "()I" } : Jvm.MethodName)) ∈ lw_all := lw_g (lw_at lw_m9 44 rfl) rfl
theorem q2060 : (Jvm.Cond.code ({ cls := "BalloonMail", name := "answeredPriority", desc := "()I" } : Jvm.MethodName) prog_1_method_62_code (1 : Nat) (Option.some Jvm.ClassFile.FieldType.int)) ∈ lw_all := lw_g (lw_at lw_m9 45 rfl) rfl
theorem q2062 : (Jvm.Cond.instanceMethod ({ cls := "BalloonMail", name := "balloonsIn", desc := "(I)I" } : Jvm.MethodName)) ∈ lw_all := lw_g (lw_at lw_m9 47 rfl) rfl
theorem q2063 : (Jvm.Cond.selects "BalloonMail" ({ cls := "BalloonMail", name := "balloonsIn", desc := "(I)I" } : Jvm.MethodName) ({ cls := "BalloonMail", name := "balloonsIn", desc := "(I)I" } : Jvm.MethodName)) ∈ lw_all := lw_g (lw_at lw_m9 48 rfl) rfl
theorem q2064 : (Jvm.Cond.code ({ cls := "BalloonMail", name := "balloonsIn", desc := "(I)I" } : Jvm.MethodName) prog_1_method_63_code (4 : Nat) (Option.some Jvm.ClassFile.FieldType.int)) ∈ lw_all := lw_g (lw_at lw_m9 49 rfl) rfl
theorem q2066 : (Jvm.Cond.instanceMethod ({ cls := "BalloonMail", name := "eventCount", desc := "()I" } : Jvm.MethodName)) ∈ lw_all := lw_g (lw_at lw_m9 51 rfl) rfl
theorem q2067 : (Jvm.Cond.selects "BalloonMail" ({ cls := "BalloonMail", name := "eventCount", desc := "()I" } : Jvm.MethodName) ({ cls := "BalloonMail", name := "eventCount", desc := "()I" } : Jvm.MethodName)) ∈ lw_all := lw_g (lw_at lw_m9 52 rfl) rfl
theorem q2068 : (Jvm.Cond.code ({ cls := "BalloonMail", name := "eventCount", desc := "()I" } : Jvm.MethodName) prog_1_method_64_code (1 : Nat) (Option.some Jvm.ClassFile.FieldType.int)) ∈ lw_all := lw_g (lw_at lw_m9 53 rfl) rfl
theorem q2069 : (Jvm.Cond.methodLink "BalloonMail" (387 : Nat) ({ cls := "java/util/ArrayDeque", name := "size", desc := "()I" } : Jvm.MethodName)) ∈ lw_all := lw_g (lw_at lw_m9 54 rfl) rfl
theorem q2071 : (Jvm.Cond.instanceMethod ({ cls := "BalloonMail", name := "undo", desc := "()Z" } : Jvm.MethodName)) ∈ lw_all := lw_g (lw_at lw_m9 56 rfl) rfl
theorem q2072 : (Jvm.Cond.selects "BalloonMail" ({ cls := "BalloonMail", name := "undo", desc := "()Z" } : Jvm.MethodName) ({ cls := "BalloonMail", name := "undo", desc := "()Z" } : Jvm.MethodName)) ∈ lw_all := lw_g (lw_at lw_m9 57 rfl) rfl
theorem q2073 : (Jvm.Cond.code ({ cls := "BalloonMail", name := "undo", desc := "()Z" } : Jvm.MethodName) prog_1_method_69_code (1 : Nat) (Option.some Jvm.ClassFile.FieldType.boolean)) ∈ lw_all := lw_g (lw_at lw_m9 58 rfl) rfl
theorem q2074 : (Jvm.Cond.methodLink "BalloonMail" (405 : Nat) ({ cls := "java/util/ArrayList", name := "isEmpty", desc := "()Z" } : Jvm.MethodName)) ∈ lw_all := lw_g (lw_at lw_m9 59 rfl) rfl
theorem q2079 : (Jvm.Cond.instanceMethod ({ cls := "BalloonMail", name := "undoDepth", desc := "()I" } : Jvm.MethodName)) ∈ lw_all := lw_g (lw_at lw_m9 64 rfl) rfl
theorem q2080 : (Jvm.Cond.selects "BalloonMail" ({ cls := "BalloonMail", name := "undoDepth", desc := "()I" } : Jvm.MethodName) ({ cls := "BalloonMail", name := "undoDepth", desc := "()I" } : Jvm.MethodName)) ∈ lw_all := lw_g (lw_at lw_m9 65 rfl) rfl
theorem q2081 : (Jvm.Cond.code ({ cls := "BalloonMail", name := "undoDepth", desc := "()I" } : Jvm.MethodName) prog_1_method_70_code (1 : Nat) (Option.some Jvm.ClassFile.FieldType.int)) ∈ lw_all := lw_g (lw_at lw_m9 66 rfl) rfl
theorem q2083 : (Jvm.Cond.instanceMethod ({ cls := "BalloonMail", name := "saveSnapshot", desc := "(I)Z" } : Jvm.MethodName)) ∈ lw_all := lw_g (lw_at lw_m9 68 rfl) rfl
theorem q2084 : (Jvm.Cond.selects "BalloonMail" ({ cls := "BalloonMail", name := "saveSnapshot", desc := "(I)Z" } : Jvm.MethodName) ({ cls := "BalloonMail", name := "saveSnapshot", desc := "(I)Z" } : Jvm.MethodName)) ∈ lw_all := lw_g (lw_at lw_m9 69 rfl) rfl
theorem q2085 : (Jvm.Cond.code ({ cls := "BalloonMail", name := "saveSnapshot", desc := "(I)Z" } : Jvm.MethodName) prog_1_method_71_code (2 : Nat) (Option.some Jvm.ClassFile.FieldType.boolean)) ∈ lw_all := lw_g (lw_at lw_m9 70 rfl) rfl
theorem q2087 : (Jvm.Cond.instanceMethod ({ cls := "BalloonMail", name := "restoreSnapshot", desc := "(I)Z" } : Jvm.MethodName)) ∈ lw_all := lw_g (lw_at lw_m9 72 rfl) rfl
theorem q2088 : (Jvm.Cond.selects "BalloonMail" ({ cls := "BalloonMail", name := "restoreSnapshot", desc := "(I)Z" } : Jvm.MethodName) ({ cls := "BalloonMail", name := "restoreSnapshot", desc := "(I)Z" } : Jvm.MethodName)) ∈ lw_all := lw_g (lw_at lw_m9 73 rfl) rfl
theorem q2089 : (Jvm.Cond.code ({ cls := "BalloonMail", name := "restoreSnapshot", desc := "(I)Z" } : Jvm.MethodName) prog_1_method_72_code (2 : Nat) (Option.some Jvm.ClassFile.FieldType.boolean)) ∈ lw_all := lw_g (lw_at lw_m9 74 rfl) rfl
theorem q2110 : (Jvm.Cond.instanceMethod ({ cls := "BalloonMail", name := "eventKind", desc := "(I)I" } : Jvm.MethodName)) ∈ lw_all := lw_g (lw_at lw_m9 95 rfl) rfl
theorem q2111 : (Jvm.Cond.selects "BalloonMail" ({ cls := "BalloonMail", name := "eventKind", desc := "(I)I" } : Jvm.MethodName) ({ cls := "BalloonMail", name := "eventKind", desc := "(I)I" } : Jvm.MethodName)) ∈ lw_all := lw_g (lw_at lw_m9 96 rfl) rfl
theorem q2112 : (Jvm.Cond.code ({ cls := "BalloonMail", name := "eventKind", desc := "(I)I" } : Jvm.MethodName) prog_1_method_66_code (2 : Nat) (Option.some Jvm.ClassFile.FieldType.int)) ∈ lw_all := lw_g (lw_at lw_m9 97 rfl) rfl
theorem q2113 : (Jvm.Cond.methodLink "BalloonMail" (396 : Nat) ({ cls := "BalloonMail", name := "event", desc := "(I)LBalloonMail$Event;" } : Jvm.MethodName)) ∈ lw_all := lw_g (lw_at lw_m9 98 rfl) rfl
theorem q2114 : (Jvm.Cond.privateMethod ({ cls := "BalloonMail", name := "event", desc := "(I)LBalloonMail$Event;" } : Jvm.MethodName)) ∈ lw_tbl := lw_at lw_m9 99 rfl
theorem q2115 : (Jvm.Cond.instanceMethod ({ cls := "BalloonMail", name := "event", desc := "(I)LBalloonMail$Event;" } : Jvm.MethodName)) ∈ lw_all := lw_g (lw_at lw_m9 100 rfl) rfl
theorem q2116 : (Jvm.Cond.code ({ cls := "BalloonMail", name := "event", desc := "(I)LBalloonMail$Event;" } : Jvm.MethodName) prog_1_method_65_code (5 : Nat) (Option.some (Jvm.ClassFile.FieldType.object "BalloonMail$Event"))) ∈ lw_all := lw_g (lw_at lw_m9 101 rfl) rfl
theorem q2117 : (Jvm.Cond.classLink "BalloonMail" (390 : Nat) "java/lang/IndexOutOfBoundsException") ∈ lw_all := lw_g (lw_at lw_m9 102 rfl) rfl
theorem q2118 : (Jvm.Cond.methodLink "BalloonMail" (392 : Nat) ({ cls := "java/lang/IndexOutOfBoundsException", name := "<init>", desc := "()V" } : Jvm.MethodName)) ∈ lw_all := lw_g (lw_at lw_m9 103 rfl) rfl
theorem q2122 : (Jvm.Cond.methodLink "BalloonMail" (393 : Nat) ({ cls := "java/util/ArrayDeque", name := "iterator", desc := "()Ljava/util/Iterator;" } : Jvm.MethodName)) ∈ lw_all := lw_g (lw_at lw_m9 107 rfl) rfl
theorem q2123 : (Jvm.Cond.classLink "BalloonMail" (394 : Nat) "BalloonMail$Event") ∈ lw_all := lw_g (lw_at lw_m9 108 rfl) rfl
theorem q2128 : (Jvm.Cond.instanceMethod ({ cls := "BalloonMail", name := "eventNumber", desc := "(I)I" } : Jvm.MethodName)) ∈ lw_all := lw_g (lw_at lw_m9 113 rfl) rfl
theorem q2129 : (Jvm.Cond.selects "BalloonMail" ({ cls := "BalloonMail", name := "eventNumber", desc := "(I)I" } : Jvm.MethodName) ({ cls := "BalloonMail", name := "eventNumber", desc := "(I)I" } : Jvm.MethodName)) ∈ lw_all := lw_g (lw_at lw_m9 114 rfl) rfl
theorem q2130 : (Jvm.Cond.code ({ cls := "BalloonMail", name := "eventNumber", desc := "(I)I" } : Jvm.MethodName) prog_1_method_67_code (2 : Nat) (Option.some Jvm.ClassFile.FieldType.int)) ∈ lw_all := lw_g (lw_at lw_m9 115 rfl) rfl
theorem q2135 : (Jvm.Cond.instanceMethod ({ cls := "BalloonMail", name := "eventDay", desc := "(I)I" } : Jvm.MethodName)) ∈ lw_all := lw_g (lw_at lw_m9 120 rfl) rfl
theorem q2136 : (Jvm.Cond.selects "BalloonMail" ({ cls := "BalloonMail", name := "eventDay", desc := "(I)I" } : Jvm.MethodName) ({ cls := "BalloonMail", name := "eventDay", desc := "(I)I" } : Jvm.MethodName)) ∈ lw_all := lw_g (lw_at lw_m9 121 rfl) rfl
theorem q2137 : (Jvm.Cond.code ({ cls := "BalloonMail", name := "eventDay", desc := "(I)I" } : Jvm.MethodName) prog_1_method_68_code (2 : Nat) (Option.some Jvm.ClassFile.FieldType.int)) ∈ lw_all := lw_g (lw_at lw_m9 122 rfl) rfl
theorem q2700 : (Jvm.Cond.castable "BalloonMail" "java/lang/Object") ∈ lw_tbl := lw_at lw_m11 205 rfl
theorem in_X1 : ∀ w ∈ wsX10, w ∈ lw_all := lw_in wsX10 [377, 379, 381, 383, 385, 387, 389, 391, 393, 395, 397, 399] (by decide +kernel) (by decide +kernel)
