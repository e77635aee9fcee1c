/-! BalloonMailModel -/
set_option maxRecDepth 100000
def RX4 : String := "BalloonMailModel"
def TX4 : u_T := fun k => match k with
  | 0 => ("BalloonMailModel", "thrown", "I", false)
  | 1 => ("BalloonMailModel", "now", "[I", true)
  | 2 => ("BalloonMailModel", "regions", "[I", true)
  | 3 => ("BalloonMailModel", "risk", "[I", true)
  | 4 => ("BalloonMailModel", "distance", "[I", true)
  | 5 => ("BalloonMailModel", "comesBack", "[I", true)
  | 6 => ("BalloonMailModel", "winds", "[I", true)
  | 7 => ("BalloonMailModel", "named", "[I", true)
  | 8 => ("BalloonMailModel", "namedRegion", "[I", true)
  | 9 => ("BalloonMailModel", "namedWeight", "[I", true)
  | 10 => ("BalloonMailModel", "turns", "[I", true)
  | 11 => ("BalloonMailModel", "turnFrom", "[I", true)
  | 12 => ("BalloonMailModel", "turnTo", "[I", true)
  | 13 => ("BalloonMailModel", "turnWeight", "[I", true)
  | 14 => ("BalloonMailModel", "balloons", "[I", true)
  | 15 => ("BalloonMailModel", "room", "[I", true)
  | 16 => ("BalloonMailModel", "pigeons", "[I", true)
  | 17 => ("BalloonMailModel", "letters", "[I", true)
  | 18 => ("BalloonMailModel", "weight", "[I", true)
  | 19 => ("BalloonMailModel", "priority", "[I", true)
  | 20 => ("BalloonMailModel", "loftSize", "I", false)
  | 21 => ("BalloonMailModel", "startWind", "I", false)
  | 22 => ("BalloonMailModel", "seed", "I", false)
  | 23 => ("BalloonMailModel", "draftLoft", "I", false)
  | 24 => ("BalloonMailModel", "draftStart", "I", false)
  | 25 => ("BalloonMailModel", "draftSeed", "I", false)
  | 26 => ("BalloonMailModel", "text", "[B", true)
  | 27 => ("BalloonMailModel", "length", "I", false)
  | 28 => ("BalloonMailModel", "textSize", "I", false)
  | 29 => ("BalloonMailModel", "start", "I", false)
  | 30 => ("BalloonMailModel", "next", "I", false)
  | 31 => ("BalloonMailModel", "token", "I", false)
  | 32 => ("BalloonMailModel", "value", "I", false)
  | 33 => ("BalloonMailModel", "error", "I", false)
  | 34 => ("BalloonMailModel", "errorAt", "I", false)
  | 35 => ("BalloonMailModel", "number", "I", false)
  | 36 => ("BalloonMailModel", "chance", "[J", true)
  | 37 => ("BalloonMailModel", "chanceNext", "[J", true)
  | 38 => ("BalloonMailModel", "total", "[J", true)
  | 39 => ("BalloonMailModel", "worth", "[J", true)
  | 40 => ("BalloonMailModel", "best", "[I", true)
  | 41 => ("BalloonMailModel", "undos", "I", false)
  | 42 => ("BalloonMailModel", "undo", "[I", true)
  | 43 => ("BalloonMailModel", "slots", "[I", true)
  | _ => ("BalloonMailModel", "isSaved", "[Z", true)
def tyX4 : Nat → FieldType := fun k => match k with
  | 0 => .int
  | 1 => .array .int
  | 2 => .array .int
  | 3 => .array .int
  | 4 => .array .int
  | 5 => .array .int
  | 6 => .array .int
  | 7 => .array .int
  | 8 => .array .int
  | 9 => .array .int
  | 10 => .array .int
  | 11 => .array .int
  | 12 => .array .int
  | 13 => .array .int
  | 14 => .array .int
  | 15 => .array .int
  | 16 => .array .int
  | 17 => .array .int
  | 18 => .array .int
  | 19 => .array .int
  | 20 => .int
  | 21 => .int
  | 22 => .int
  | 23 => .int
  | 24 => .int
  | 25 => .int
  | 26 => .array .byte
  | 27 => .int
  | 28 => .int
  | 29 => .int
  | 30 => .int
  | 31 => .int
  | 32 => .int
  | 33 => .int
  | 34 => .int
  | 35 => .int
  | 36 => .array .long
  | 37 => .array .long
  | 38 => .array .long
  | 39 => .array .long
  | 40 => .array .int
  | 41 => .int
  | 42 => .array .int
  | 43 => .array .int
  | _ => .array .boolean
abbrev wsX40 : List Cond := u_ws RX4 TX4 45
set_option maxRecDepth 100000 in
theorem nmX4 : ∀ a, a < 45 → ∀ b, b < 45 → a ≠ b → (TX4 a).2.1 ≠ (TX4 b).2.1 := by decide +kernel
set_option maxRecDepth 100000 in
theorem tyX4_ok : ∀ k, k < 45 → parseFieldDescriptor (TX4 k).2.2.1 = some (tyX4 k) := by decide +kernel
abbrev cX4_thrown : ByteArray := prog_16_method_1_code
def yX4_thrown : MethodName := ⟨RX4, "thrown", "()I"⟩
theorem dX4_thrown_0 : decode cX4_thrown 0 = .ok (.aload_n 0, 1) := by decide +kernel
theorem dX4_thrown_1 : decode cX4_thrown 1 = .ok (.getfield 1, 3) := by decide +kernel
theorem dX4_thrown_4 : decode cX4_thrown 4 = .ok (.ireturn, 1) := by decide +kernel
abbrev cX4_init : ByteArray := prog_16_method_4_code
def yX4_init : MethodName := ⟨RX4, "<init>", "()V"⟩
def dkwX4_init_10 : List UInt8 := [188, 4, 181, 0, 100, 42, 16, 8, 181, 0, 104, 42, 4, 181, 0, 107, 42, 182, 0, 110, 177]
abbrev dktX4_init_10 : List UInt8 := dkwX4_init_10 ++ []
def dkwX4_init_9 : List UInt8 := [181, 0, 91, 42, 17, 9, 252, 188, 10, 181, 0, 94, 42, 17, 1, 170, 188, 10, 181, 0, 97, 42, 5]
abbrev dktX4_init_9 : List UInt8 := dkwX4_init_9 ++ dktX4_init_10
def dkwX4_init_8 : List UInt8 := [17, 22, 0, 188, 11, 181, 0, 85, 42, 16, 90, 188, 11, 181, 0, 88, 42, 17, 97, 168, 188, 10]
abbrev dktX4_init_8 : List UInt8 := dkwX4_init_8 ++ dktX4_init_9
def dkwX4_init_7 : List UInt8 := [16, 254, 181, 0, 75, 42, 16, 6, 188, 11, 181, 0, 78, 42, 16, 6, 188, 11, 181, 0, 82, 42]
abbrev dktX4_init_7 : List UInt8 := dkwX4_init_7 ++ dktX4_init_8
def dkwX4_init_6 : List UInt8 := [188, 10, 181, 0, 65, 42, 16, 48, 188, 10, 181, 0, 68, 42, 17, 3, 132, 188, 8, 181, 0, 71, 42]
abbrev dktX4_init_6 : List UInt8 := dkwX4_init_6 ++ dktX4_init_7
def dkwX4_init_5 : List UInt8 := [188, 10, 181, 0, 56, 42, 16, 20, 188, 10, 181, 0, 59, 42, 5, 188, 10, 181, 0, 62, 42, 16, 48]
abbrev dktX4_init_5 : List UInt8 := dkwX4_init_5 ++ dktX4_init_6
def dkwX4_init_4 : List UInt8 := [188, 10, 181, 0, 47, 42, 16, 60, 188, 10, 181, 0, 50, 42, 5, 188, 10, 181, 0, 53, 42, 16, 20]
abbrev dktX4_init_4 : List UInt8 := dkwX4_init_4 ++ dktX4_init_5
def dkwX4_init_3 : List UInt8 := [188, 10, 181, 0, 38, 42, 5, 188, 10, 181, 0, 41, 42, 16, 60, 188, 10, 181, 0, 44, 42, 16, 60]
abbrev dktX4_init_3 : List UInt8 := dkwX4_init_3 ++ dktX4_init_4
def dkwX4_init_2 : List UInt8 := [188, 10, 181, 0, 29, 42, 16, 12, 188, 10, 181, 0, 32, 42, 16, 96, 188, 10, 181, 0, 35, 42, 16, 96]
abbrev dktX4_init_2 : List UInt8 := dkwX4_init_2 ++ dktX4_init_3
def dkwX4_init_1 : List UInt8 := [188, 10, 181, 0, 20, 42, 16, 16, 188, 10, 181, 0, 23, 42, 16, 16, 188, 10, 181, 0, 26, 42, 5]
abbrev dktX4_init_1 : List UInt8 := dkwX4_init_1 ++ dktX4_init_2
def dkwX4_init_0 : List UInt8 := [42, 183, 0, 7, 42, 17, 0, 213, 188, 10, 181, 0, 13, 42, 5, 188, 10, 181, 0, 17, 42, 16, 16]
abbrev dktX4_init_0 : List UInt8 := dkwX4_init_0 ++ dktX4_init_1
theorem dksX4_init_0 : cX4_init.data.toList.drop 0 = dktX4_init_0 := by decide +kernel
theorem dksX4_init_1 : cX4_init.data.toList.drop 23 = dktX4_init_1 := dk_seg dksX4_init_0 23 rfl rfl
theorem dksX4_init_2 : cX4_init.data.toList.drop 46 = dktX4_init_2 := dk_seg dksX4_init_1 23 rfl rfl
theorem dksX4_init_3 : cX4_init.data.toList.drop 70 = dktX4_init_3 := dk_seg dksX4_init_2 24 rfl rfl
theorem dksX4_init_4 : cX4_init.data.toList.drop 93 = dktX4_init_4 := dk_seg dksX4_init_3 23 rfl rfl
theorem dksX4_init_5 : cX4_init.data.toList.drop 116 = dktX4_init_5 := dk_seg dksX4_init_4 23 rfl rfl
theorem dksX4_init_6 : cX4_init.data.toList.drop 139 = dktX4_init_6 := dk_seg dksX4_init_5 23 rfl rfl
theorem dksX4_init_7 : cX4_init.data.toList.drop 162 = dktX4_init_7 := dk_seg dksX4_init_6 23 rfl rfl
theorem dksX4_init_8 : cX4_init.data.toList.drop 184 = dktX4_init_8 := dk_seg dksX4_init_7 22 rfl rfl
theorem dksX4_init_9 : cX4_init.data.toList.drop 206 = dktX4_init_9 := dk_seg dksX4_init_8 22 rfl rfl
theorem dksX4_init_10 : cX4_init.data.toList.drop 229 = dktX4_init_10 := dk_seg dksX4_init_9 23 rfl rfl
theorem dX4_init_0 : decode cX4_init 0 = .ok (.aload_n 0, 1) := dk_42 (dk_at dksX4_init_0 0 rfl rfl)
theorem dX4_init_1 : decode cX4_init 1 = .ok (.invokespecial 7, 3) := dk_183 0 7 (dk_at dksX4_init_0 1 rfl rfl)
theorem dX4_init_4 : decode cX4_init 4 = .ok (.aload_n 0, 1) := dk_42 (dk_at dksX4_init_0 4 rfl rfl)
theorem dX4_init_5 : decode cX4_init 5 = .ok (.sipush 213, 3) := dk_17 0 213 (dk_at dksX4_init_0 5 rfl rfl)
theorem dX4_init_8 : decode cX4_init 8 = .ok (.newarray .int, 2) := dk_188_10 (dk_at dksX4_init_0 8 rfl rfl)
theorem dX4_init_10 : decode cX4_init 10 = .ok (.putfield 13, 3) := dk_181 0 13 (dk_at dksX4_init_0 10 rfl rfl)
theorem dX4_init_13 : decode cX4_init 13 = .ok (.aload_n 0, 1) := dk_42 (dk_at dksX4_init_0 13 rfl rfl)
theorem dX4_init_14 : decode cX4_init 14 = .ok (.iconst 2, 1) := dk_5 (dk_at dksX4_init_0 14 rfl rfl)
theorem dX4_init_15 : decode cX4_init 15 = .ok (.newarray .int, 2) := dk_188_10 (dk_at dksX4_init_0 15 rfl rfl)
theorem dX4_init_17 : decode cX4_init 17 = .ok (.putfield 17, 3) := dk_181 0 17 (dk_at dksX4_init_0 17 rfl rfl)
theorem dX4_init_20 : decode cX4_init 20 = .ok (.aload_n 0, 1) := dk_42 (dk_at dksX4_init_0 20 rfl rfl)
theorem dX4_init_21 : decode cX4_init 21 = .ok (.bipush 16, 2) := dk_16 16 (dk_at dksX4_init_0 21 rfl rfl)
theorem dX4_init_23 : decode cX4_init 23 = .ok (.newarray .int, 2) := dk_188_10 (dk_at dksX4_init_1 0 rfl rfl)
theorem dX4_init_25 : decode cX4_init 25 = .ok (.putfield 20, 3) := dk_181 0 20 (dk_at dksX4_init_1 2 rfl rfl)
theorem dX4_init_28 : decode cX4_init 28 = .ok (.aload_n 0, 1) := dk_42 (dk_at dksX4_init_1 5 rfl rfl)
theorem dX4_init_29 : decode cX4_init 29 = .ok (.bipush 16, 2) := dk_16 16 (dk_at dksX4_init_1 6 rfl rfl)
theorem dX4_init_31 : decode cX4_init 31 = .ok (.newarray .int, 2) := dk_188_10 (dk_at dksX4_init_1 8 rfl rfl)
theorem dX4_init_33 : decode cX4_init 33 = .ok (.putfield 23, 3) := dk_181 0 23 (dk_at dksX4_init_1 10 rfl rfl)
theorem dX4_init_36 : decode cX4_init 36 = .ok (.aload_n 0, 1) := dk_42 (dk_at dksX4_init_1 13 rfl rfl)
theorem dX4_init_37 : decode cX4_init 37 = .ok (.bipush 16, 2) := dk_16 16 (dk_at dksX4_init_1 14 rfl rfl)
theorem dX4_init_39 : decode cX4_init 39 = .ok (.newarray .int, 2) := dk_188_10 (dk_at dksX4_init_1 16 rfl rfl)
theorem dX4_init_41 : decode cX4_init 41 = .ok (.putfield 26, 3) := dk_181 0 26 (dk_at dksX4_init_1 18 rfl rfl)
theorem dX4_init_44 : decode cX4_init 44 = .ok (.aload_n 0, 1) := dk_42 (dk_at dksX4_init_1 21 rfl rfl)
theorem dX4_init_45 : decode cX4_init 45 = .ok (.iconst 2, 1) := dk_5 (dk_at dksX4_init_1 22 rfl rfl)
theorem dX4_init_46 : decode cX4_init 46 = .ok (.newarray .int, 2) := dk_188_10 (dk_at dksX4_init_2 0 rfl rfl)
theorem dX4_init_48 : decode cX4_init 48 = .ok (.putfield 29, 3) := dk_181 0 29 (dk_at dksX4_init_2 2 rfl rfl)
theorem dX4_init_51 : decode cX4_init 51 = .ok (.aload_n 0, 1) := dk_42 (dk_at dksX4_init_2 5 rfl rfl)
theorem dX4_init_52 : decode cX4_init 52 = .ok (.bipush 12, 2) := dk_16 12 (dk_at dksX4_init_2 6 rfl rfl)
theorem dX4_init_54 : decode cX4_init 54 = .ok (.newarray .int, 2) := dk_188_10 (dk_at dksX4_init_2 8 rfl rfl)
theorem dX4_init_56 : decode cX4_init 56 = .ok (.putfield 32, 3) := dk_181 0 32 (dk_at dksX4_init_2 10 rfl rfl)
theorem dX4_init_59 : decode cX4_init 59 = .ok (.aload_n 0, 1) := dk_42 (dk_at dksX4_init_2 13 rfl rfl)
theorem dX4_init_60 : decode cX4_init 60 = .ok (.bipush 96, 2) := dk_16 96 (dk_at dksX4_init_2 14 rfl rfl)
theorem dX4_init_62 : decode cX4_init 62 = .ok (.newarray .int, 2) := dk_188_10 (dk_at dksX4_init_2 16 rfl rfl)
theorem dX4_init_64 : decode cX4_init 64 = .ok (.putfield 35, 3) := dk_181 0 35 (dk_at dksX4_init_2 18 rfl rfl)
theorem dX4_init_67 : decode cX4_init 67 = .ok (.aload_n 0, 1) := dk_42 (dk_at dksX4_init_2 21 rfl rfl)
theorem dX4_init_68 : decode cX4_init 68 = .ok (.bipush 96, 2) := dk_16 96 (dk_at dksX4_init_2 22 rfl rfl)
theorem dX4_init_70 : decode cX4_init 70 = .ok (.newarray .int, 2) := dk_188_10 (dk_at dksX4_init_3 0 rfl rfl)
theorem dX4_init_72 : decode cX4_init 72 = .ok (.putfield 38, 3) := dk_181 0 38 (dk_at dksX4_init_3 2 rfl rfl)
theorem dX4_init_75 : decode cX4_init 75 = .ok (.aload_n 0, 1) := dk_42 (dk_at dksX4_init_3 5 rfl rfl)
theorem dX4_init_76 : decode cX4_init 76 = .ok (.iconst 2, 1) := dk_5 (dk_at dksX4_init_3 6 rfl rfl)
theorem dX4_init_77 : decode cX4_init 77 = .ok (.newarray .int, 2) := dk_188_10 (dk_at dksX4_init_3 7 rfl rfl)
theorem dX4_init_79 : decode cX4_init 79 = .ok (.putfield 41, 3) := dk_181 0 41 (dk_at dksX4_init_3 9 rfl rfl)
theorem dX4_init_82 : decode cX4_init 82 = .ok (.aload_n 0, 1) := dk_42 (dk_at dksX4_init_3 12 rfl rfl)
theorem dX4_init_83 : decode cX4_init 83 = .ok (.bipush 60, 2) := dk_16 60 (dk_at dksX4_init_3 13 rfl rfl)
theorem dX4_init_85 : decode cX4_init 85 = .ok (.newarray .int, 2) := dk_188_10 (dk_at dksX4_init_3 15 rfl rfl)
theorem dX4_init_87 : decode cX4_init 87 = .ok (.putfield 44, 3) := dk_181 0 44 (dk_at dksX4_init_3 17 rfl rfl)
theorem dX4_init_90 : decode cX4_init 90 = .ok (.aload_n 0, 1) := dk_42 (dk_at dksX4_init_3 20 rfl rfl)
theorem dX4_init_91 : decode cX4_init 91 = .ok (.bipush 60, 2) := dk_16 60 (dk_at dksX4_init_3 21 rfl rfl)
theorem dX4_init_93 : decode cX4_init 93 = .ok (.newarray .int, 2) := dk_188_10 (dk_at dksX4_init_4 0 rfl rfl)
theorem dX4_init_95 : decode cX4_init 95 = .ok (.putfield 47, 3) := dk_181 0 47 (dk_at dksX4_init_4 2 rfl rfl)
theorem dX4_init_98 : decode cX4_init 98 = .ok (.aload_n 0, 1) := dk_42 (dk_at dksX4_init_4 5 rfl rfl)
theorem dX4_init_99 : decode cX4_init 99 = .ok (.bipush 60, 2) := dk_16 60 (dk_at dksX4_init_4 6 rfl rfl)
theorem dX4_init_101 : decode cX4_init 101 = .ok (.newarray .int, 2) := dk_188_10 (dk_at dksX4_init_4 8 rfl rfl)
theorem dX4_init_103 : decode cX4_init 103 = .ok (.putfield 50, 3) := dk_181 0 50 (dk_at dksX4_init_4 10 rfl rfl)
theorem dX4_init_106 : decode cX4_init 106 = .ok (.aload_n 0, 1) := dk_42 (dk_at dksX4_init_4 13 rfl rfl)
theorem dX4_init_107 : decode cX4_init 107 = .ok (.iconst 2, 1) := dk_5 (dk_at dksX4_init_4 14 rfl rfl)
theorem dX4_init_108 : decode cX4_init 108 = .ok (.newarray .int, 2) := dk_188_10 (dk_at dksX4_init_4 15 rfl rfl)
theorem dX4_init_110 : decode cX4_init 110 = .ok (.putfield 53, 3) := dk_181 0 53 (dk_at dksX4_init_4 17 rfl rfl)
theorem dX4_init_113 : decode cX4_init 113 = .ok (.aload_n 0, 1) := dk_42 (dk_at dksX4_init_4 20 rfl rfl)
theorem dX4_init_114 : decode cX4_init 114 = .ok (.bipush 20, 2) := dk_16 20 (dk_at dksX4_init_4 21 rfl rfl)
theorem dX4_init_116 : decode cX4_init 116 = .ok (.newarray .int, 2) := dk_188_10 (dk_at dksX4_init_5 0 rfl rfl)
theorem dX4_init_118 : decode cX4_init 118 = .ok (.putfield 56, 3) := dk_181 0 56 (dk_at dksX4_init_5 2 rfl rfl)
theorem dX4_init_121 : decode cX4_init 121 = .ok (.aload_n 0, 1) := dk_42 (dk_at dksX4_init_5 5 rfl rfl)
theorem dX4_init_122 : decode cX4_init 122 = .ok (.bipush 20, 2) := dk_16 20 (dk_at dksX4_init_5 6 rfl rfl)
theorem dX4_init_124 : decode cX4_init 124 = .ok (.newarray .int, 2) := dk_188_10 (dk_at dksX4_init_5 8 rfl rfl)
theorem dX4_init_126 : decode cX4_init 126 = .ok (.putfield 59, 3) := dk_181 0 59 (dk_at dksX4_init_5 10 rfl rfl)
theorem dX4_init_129 : decode cX4_init 129 = .ok (.aload_n 0, 1) := dk_42 (dk_at dksX4_init_5 13 rfl rfl)
theorem dX4_init_130 : decode cX4_init 130 = .ok (.iconst 2, 1) := dk_5 (dk_at dksX4_init_5 14 rfl rfl)
theorem dX4_init_131 : decode cX4_init 131 = .ok (.newarray .int, 2) := dk_188_10 (dk_at dksX4_init_5 15 rfl rfl)
theorem dX4_init_133 : decode cX4_init 133 = .ok (.putfield 62, 3) := dk_181 0 62 (dk_at dksX4_init_5 17 rfl rfl)
theorem dX4_init_136 : decode cX4_init 136 = .ok (.aload_n 0, 1) := dk_42 (dk_at dksX4_init_5 20 rfl rfl)
theorem dX4_init_137 : decode cX4_init 137 = .ok (.bipush 48, 2) := dk_16 48 (dk_at dksX4_init_5 21 rfl rfl)
theorem dX4_init_139 : decode cX4_init 139 = .ok (.newarray .int, 2) := dk_188_10 (dk_at dksX4_init_6 0 rfl rfl)
theorem dX4_init_141 : decode cX4_init 141 = .ok (.putfield 65, 3) := dk_181 0 65 (dk_at dksX4_init_6 2 rfl rfl)
theorem dX4_init_144 : decode cX4_init 144 = .ok (.aload_n 0, 1) := dk_42 (dk_at dksX4_init_6 5 rfl rfl)
theorem dX4_init_145 : decode cX4_init 145 = .ok (.bipush 48, 2) := dk_16 48 (dk_at dksX4_init_6 6 rfl rfl)
theorem dX4_init_147 : decode cX4_init 147 = .ok (.newarray .int, 2) := dk_188_10 (dk_at dksX4_init_6 8 rfl rfl)
theorem dX4_init_149 : decode cX4_init 149 = .ok (.putfield 68, 3) := dk_181 0 68 (dk_at dksX4_init_6 10 rfl rfl)
theorem dX4_init_152 : decode cX4_init 152 = .ok (.aload_n 0, 1) := dk_42 (dk_at dksX4_init_6 13 rfl rfl)
theorem dX4_init_153 : decode cX4_init 153 = .ok (.sipush 900, 3) := dk_17 3 132 (dk_at dksX4_init_6 14 rfl rfl)
theorem dX4_init_156 : decode cX4_init 156 = .ok (.newarray .byte, 2) := dk_188_8 (dk_at dksX4_init_6 17 rfl rfl)
theorem dX4_init_158 : decode cX4_init 158 = .ok (.putfield 71, 3) := dk_181 0 71 (dk_at dksX4_init_6 19 rfl rfl)
theorem dX4_init_161 : decode cX4_init 161 = .ok (.aload_n 0, 1) := dk_42 (dk_at dksX4_init_6 22 rfl rfl)
theorem dX4_init_162 : decode cX4_init 162 = .ok (.bipush (-2), 2) := dk_16 254 (dk_at dksX4_init_7 0 rfl rfl)
theorem dX4_init_164 : decode cX4_init 164 = .ok (.putfield 75, 3) := dk_181 0 75 (dk_at dksX4_init_7 2 rfl rfl)
theorem dX4_init_167 : decode cX4_init 167 = .ok (.aload_n 0, 1) := dk_42 (dk_at dksX4_init_7 5 rfl rfl)
theorem dX4_init_168 : decode cX4_init 168 = .ok (.bipush 6, 2) := dk_16 6 (dk_at dksX4_init_7 6 rfl rfl)
theorem dX4_init_170 : decode cX4_init 170 = .ok (.newarray .long, 2) := dk_188_11 (dk_at dksX4_init_7 8 rfl rfl)
theorem dX4_init_172 : decode cX4_init 172 = .ok (.putfield 78, 3) := dk_181 0 78 (dk_at dksX4_init_7 10 rfl rfl)
theorem dX4_init_175 : decode cX4_init 175 = .ok (.aload_n 0, 1) := dk_42 (dk_at dksX4_init_7 13 rfl rfl)
theorem dX4_init_176 : decode cX4_init 176 = .ok (.bipush 6, 2) := dk_16 6 (dk_at dksX4_init_7 14 rfl rfl)
theorem dX4_init_178 : decode cX4_init 178 = .ok (.newarray .long, 2) := dk_188_11 (dk_at dksX4_init_7 16 rfl rfl)
theorem dX4_init_180 : decode cX4_init 180 = .ok (.putfield 82, 3) := dk_181 0 82 (dk_at dksX4_init_7 18 rfl rfl)
theorem dX4_init_183 : decode cX4_init 183 = .ok (.aload_n 0, 1) := dk_42 (dk_at dksX4_init_7 21 rfl rfl)
theorem dX4_init_184 : decode cX4_init 184 = .ok (.sipush 5632, 3) := dk_17 22 0 (dk_at dksX4_init_8 0 rfl rfl)
theorem dX4_init_187 : decode cX4_init 187 = .ok (.newarray .long, 2) := dk_188_11 (dk_at dksX4_init_8 3 rfl rfl)
theorem dX4_init_189 : decode cX4_init 189 = .ok (.putfield 85, 3) := dk_181 0 85 (dk_at dksX4_init_8 5 rfl rfl)
theorem dX4_init_192 : decode cX4_init 192 = .ok (.aload_n 0, 1) := dk_42 (dk_at dksX4_init_8 8 rfl rfl)
theorem dX4_init_193 : decode cX4_init 193 = .ok (.bipush 90, 2) := dk_16 90 (dk_at dksX4_init_8 9 rfl rfl)
theorem dX4_init_195 : decode cX4_init 195 = .ok (.newarray .long, 2) := dk_188_11 (dk_at dksX4_init_8 11 rfl rfl)
theorem dX4_init_197 : decode cX4_init 197 = .ok (.putfield 88, 3) := dk_181 0 88 (dk_at dksX4_init_8 13 rfl rfl)
theorem dX4_init_200 : decode cX4_init 200 = .ok (.aload_n 0, 1) := dk_42 (dk_at dksX4_init_8 16 rfl rfl)
theorem dX4_init_201 : decode cX4_init 201 = .ok (.sipush 25000, 3) := dk_17 97 168 (dk_at dksX4_init_8 17 rfl rfl)
theorem dX4_init_204 : decode cX4_init 204 = .ok (.newarray .int, 2) := dk_188_10 (dk_at dksX4_init_8 20 rfl rfl)
theorem dX4_init_206 : decode cX4_init 206 = .ok (.putfield 91, 3) := dk_181 0 91 (dk_at dksX4_init_9 0 rfl rfl)
theorem dX4_init_209 : decode cX4_init 209 = .ok (.aload_n 0, 1) := dk_42 (dk_at dksX4_init_9 3 rfl rfl)
theorem dX4_init_210 : decode cX4_init 210 = .ok (.sipush 2556, 3) := dk_17 9 252 (dk_at dksX4_init_9 4 rfl rfl)
theorem dX4_init_213 : decode cX4_init 213 = .ok (.newarray .int, 2) := dk_188_10 (dk_at dksX4_init_9 7 rfl rfl)
theorem dX4_init_215 : decode cX4_init 215 = .ok (.putfield 94, 3) := dk_181 0 94 (dk_at dksX4_init_9 9 rfl rfl)
theorem dX4_init_218 : decode cX4_init 218 = .ok (.aload_n 0, 1) := dk_42 (dk_at dksX4_init_9 12 rfl rfl)
theorem dX4_init_219 : decode cX4_init 219 = .ok (.sipush 426, 3) := dk_17 1 170 (dk_at dksX4_init_9 13 rfl rfl)
theorem dX4_init_222 : decode cX4_init 222 = .ok (.newarray .int, 2) := dk_188_10 (dk_at dksX4_init_9 16 rfl rfl)
theorem dX4_init_224 : decode cX4_init 224 = .ok (.putfield 97, 3) := dk_181 0 97 (dk_at dksX4_init_9 18 rfl rfl)
theorem dX4_init_227 : decode cX4_init 227 = .ok (.aload_n 0, 1) := dk_42 (dk_at dksX4_init_9 21 rfl rfl)
theorem dX4_init_228 : decode cX4_init 228 = .ok (.iconst 2, 1) := dk_5 (dk_at dksX4_init_9 22 rfl rfl)
theorem dX4_init_229 : decode cX4_init 229 = .ok (.newarray .boolean, 2) := dk_188_4 (dk_at dksX4_init_10 0 rfl rfl)
theorem dX4_init_231 : decode cX4_init 231 = .ok (.putfield 100, 3) := dk_181 0 100 (dk_at dksX4_init_10 2 rfl rfl)
theorem dX4_init_234 : decode cX4_init 234 = .ok (.aload_n 0, 1) := dk_42 (dk_at dksX4_init_10 5 rfl rfl)
theorem dX4_init_235 : decode cX4_init 235 = .ok (.bipush 8, 2) := dk_16 8 (dk_at dksX4_init_10 6 rfl rfl)
theorem dX4_init_237 : decode cX4_init 237 = .ok (.putfield 104, 3) := dk_181 0 104 (dk_at dksX4_init_10 8 rfl rfl)
theorem dX4_init_240 : decode cX4_init 240 = .ok (.aload_n 0, 1) := dk_42 (dk_at dksX4_init_10 11 rfl rfl)
theorem dX4_init_241 : decode cX4_init 241 = .ok (.iconst 1, 1) := dk_4 (dk_at dksX4_init_10 12 rfl rfl)
theorem dX4_init_242 : decode cX4_init 242 = .ok (.putfield 107, 3) := dk_181 0 107 (dk_at dksX4_init_10 13 rfl rfl)
theorem dX4_init_245 : decode cX4_init 245 = .ok (.aload_n 0, 1) := dk_42 (dk_at dksX4_init_10 16 rfl rfl)
theorem dX4_init_246 : decode cX4_init 246 = .ok (.invokevirtual 110, 3) := dk_182 0 110 (dk_at dksX4_init_10 17 rfl rfl)
theorem dX4_init_249 : decode cX4_init 249 = .ok (.return_, 1) := dk_177 (dk_at dksX4_init_10 20 rfl rfl)
abbrev cX4_begins : ByteArray := prog_16_method_25_code
def yX4_begins : MethodName := ⟨RX4, "begins", "()V"⟩
def dkwX4_begins_5 : List UInt8 := [181, 0, 243, 42, 180, 0, 100, 3, 3, 84, 42, 180, 0, 100, 4, 3, 84, 177]
abbrev dktX4_begins_5 : List UInt8 := dkwX4_begins_5 ++ []
def dkwX4_begins_4 : List UInt8 := [16, 24, 162, 0, 20, 42, 180, 0, 13, 16, 59, 27, 96, 16, 254, 79, 132, 1, 1, 167, 255, 236, 42, 3]
abbrev dktX4_begins_4 : List UInt8 := dkwX4_begins_4 ++ dktX4_begins_5
def dkwX4_begins_3 : List UInt8 := [162, 0, 20, 42, 180, 0, 13, 16, 15, 27, 96, 16, 254, 79, 132, 1, 1, 167, 255, 236, 3, 60, 27]
abbrev dktX4_begins_3 : List UInt8 := dkwX4_begins_3 ++ dktX4_begins_4
def dkwX4_begins_2 : List UInt8 := [180, 0, 13, 5, 42, 180, 0, 107, 79, 42, 180, 0, 13, 6, 42, 180, 0, 104, 79, 3, 60, 27, 16, 10]
abbrev dktX4_begins_2 : List UInt8 := dkwX4_begins_2 ++ dktX4_begins_3
def dkwX4_begins_1 : List UInt8 := [180, 0, 13, 4, 42, 180, 0, 29, 3, 46, 154, 0, 8, 16, 254, 167, 0, 7, 42, 180, 0, 240, 79, 42]
abbrev dktX4_begins_1 : List UInt8 := dkwX4_begins_1 ++ dktX4_begins_2
def dkwX4_begins_0 : List UInt8 := [3, 60, 27, 17, 0, 213, 162, 0, 16, 42, 180, 0, 13, 27, 3, 79, 132, 1, 1, 167, 255, 239, 42]
abbrev dktX4_begins_0 : List UInt8 := dkwX4_begins_0 ++ dktX4_begins_1
theorem dksX4_begins_0 : cX4_begins.data.toList.drop 0 = dktX4_begins_0 := by decide +kernel
theorem dksX4_begins_1 : cX4_begins.data.toList.drop 23 = dktX4_begins_1 := dk_seg dksX4_begins_0 23 rfl rfl
theorem dksX4_begins_2 : cX4_begins.data.toList.drop 47 = dktX4_begins_2 := dk_seg dksX4_begins_1 24 rfl rfl
theorem dksX4_begins_3 : cX4_begins.data.toList.drop 71 = dktX4_begins_3 := dk_seg dksX4_begins_2 24 rfl rfl
theorem dksX4_begins_4 : cX4_begins.data.toList.drop 94 = dktX4_begins_4 := dk_seg dksX4_begins_3 23 rfl rfl
theorem dksX4_begins_5 : cX4_begins.data.toList.drop 118 = dktX4_begins_5 := dk_seg dksX4_begins_4 24 rfl rfl
theorem dX4_begins_0 : decode cX4_begins 0 = .ok (.iconst 0, 1) := dk_3 (dk_at dksX4_begins_0 0 rfl rfl)
theorem dX4_begins_1 : decode cX4_begins 1 = .ok (.istore_n 1, 1) := dk_60 (dk_at dksX4_begins_0 1 rfl rfl)
theorem dX4_begins_2 : decode cX4_begins 2 = .ok (.iload_n 1, 1) := dk_27 (dk_at dksX4_begins_0 2 rfl rfl)
theorem dX4_begins_3 : decode cX4_begins 3 = .ok (.sipush 213, 3) := dk_17 0 213 (dk_at dksX4_begins_0 3 rfl rfl)
theorem dX4_begins_6 : decode cX4_begins 6 = .ok (.if_icmp .ge 16, 3) := dk_162 0 16 (dk_at dksX4_begins_0 6 rfl rfl)
theorem dX4_begins_9 : decode cX4_begins 9 = .ok (.aload_n 0, 1) := dk_42 (dk_at dksX4_begins_0 9 rfl rfl)
theorem dX4_begins_10 : decode cX4_begins 10 = .ok (.getfield 13, 3) := dk_180 0 13 (dk_at dksX4_begins_0 10 rfl rfl)
theorem dX4_begins_13 : decode cX4_begins 13 = .ok (.iload_n 1, 1) := dk_27 (dk_at dksX4_begins_0 13 rfl rfl)
theorem dX4_begins_14 : decode cX4_begins 14 = .ok (.iconst 0, 1) := dk_3 (dk_at dksX4_begins_0 14 rfl rfl)
theorem dX4_begins_15 : decode cX4_begins 15 = .ok (.iastore, 1) := dk_79 (dk_at dksX4_begins_0 15 rfl rfl)
theorem dX4_begins_16 : decode cX4_begins 16 = .ok (.iinc 1 1, 3) := dk_132 1 1 (dk_at dksX4_begins_0 16 rfl rfl)
theorem dX4_begins_19 : decode cX4_begins 19 = .ok (.goto (-17), 3) := dk_167 255 239 (dk_at dksX4_begins_0 19 rfl rfl)
theorem dX4_begins_22 : decode cX4_begins 22 = .ok (.aload_n 0, 1) := dk_42 (dk_at dksX4_begins_0 22 rfl rfl)
theorem dX4_begins_23 : decode cX4_begins 23 = .ok (.getfield 13, 3) := dk_180 0 13 (dk_at dksX4_begins_1 0 rfl rfl)
theorem dX4_begins_26 : decode cX4_begins 26 = .ok (.iconst 1, 1) := dk_4 (dk_at dksX4_begins_1 3 rfl rfl)
theorem dX4_begins_27 : decode cX4_begins 27 = .ok (.aload_n 0, 1) := dk_42 (dk_at dksX4_begins_1 4 rfl rfl)
theorem dX4_begins_28 : decode cX4_begins 28 = .ok (.getfield 29, 3) := dk_180 0 29 (dk_at dksX4_begins_1 5 rfl rfl)
theorem dX4_begins_31 : decode cX4_begins 31 = .ok (.iconst 0, 1) := dk_3 (dk_at dksX4_begins_1 8 rfl rfl)
theorem dX4_begins_32 : decode cX4_begins 32 = .ok (.iaload, 1) := dk_46 (dk_at dksX4_begins_1 9 rfl rfl)
theorem dX4_begins_33 : decode cX4_begins 33 = .ok (.ifCond .ne 8, 3) := dk_154 0 8 (dk_at dksX4_begins_1 10 rfl rfl)
theorem dX4_begins_36 : decode cX4_begins 36 = .ok (.bipush (-2), 2) := dk_16 254 (dk_at dksX4_begins_1 13 rfl rfl)
theorem dX4_begins_38 : decode cX4_begins 38 = .ok (.goto 7, 3) := dk_167 0 7 (dk_at dksX4_begins_1 15 rfl rfl)
theorem dX4_begins_41 : decode cX4_begins 41 = .ok (.aload_n 0, 1) := dk_42 (dk_at dksX4_begins_1 18 rfl rfl)
theorem dX4_begins_42 : decode cX4_begins 42 = .ok (.getfield 240, 3) := dk_180 0 240 (dk_at dksX4_begins_1 19 rfl rfl)
theorem dX4_begins_45 : decode cX4_begins 45 = .ok (.iastore, 1) := dk_79 (dk_at dksX4_begins_1 22 rfl rfl)
theorem dX4_begins_46 : decode cX4_begins 46 = .ok (.aload_n 0, 1) := dk_42 (dk_at dksX4_begins_1 23 rfl rfl)
theorem dX4_begins_47 : decode cX4_begins 47 = .ok (.getfield 13, 3) := dk_180 0 13 (dk_at dksX4_begins_2 0 rfl rfl)
theorem dX4_begins_50 : decode cX4_begins 50 = .ok (.iconst 2, 1) := dk_5 (dk_at dksX4_begins_2 3 rfl rfl)
theorem dX4_begins_51 : decode cX4_begins 51 = .ok (.aload_n 0, 1) := dk_42 (dk_at dksX4_begins_2 4 rfl rfl)
theorem dX4_begins_52 : decode cX4_begins 52 = .ok (.getfield 107, 3) := dk_180 0 107 (dk_at dksX4_begins_2 5 rfl rfl)
theorem dX4_begins_55 : decode cX4_begins 55 = .ok (.iastore, 1) := dk_79 (dk_at dksX4_begins_2 8 rfl rfl)
theorem dX4_begins_56 : decode cX4_begins 56 = .ok (.aload_n 0, 1) := dk_42 (dk_at dksX4_begins_2 9 rfl rfl)
theorem dX4_begins_57 : decode cX4_begins 57 = .ok (.getfield 13, 3) := dk_180 0 13 (dk_at dksX4_begins_2 10 rfl rfl)
theorem dX4_begins_60 : decode cX4_begins 60 = .ok (.iconst 3, 1) := dk_6 (dk_at dksX4_begins_2 13 rfl rfl)
theorem dX4_begins_61 : decode cX4_begins 61 = .ok (.aload_n 0, 1) := dk_42 (dk_at dksX4_begins_2 14 rfl rfl)
theorem dX4_begins_62 : decode cX4_begins 62 = .ok (.getfield 104, 3) := dk_180 0 104 (dk_at dksX4_begins_2 15 rfl rfl)
theorem dX4_begins_65 : decode cX4_begins 65 = .ok (.iastore, 1) := dk_79 (dk_at dksX4_begins_2 18 rfl rfl)
theorem dX4_begins_66 : decode cX4_begins 66 = .ok (.iconst 0, 1) := dk_3 (dk_at dksX4_begins_2 19 rfl rfl)
theorem dX4_begins_67 : decode cX4_begins 67 = .ok (.istore_n 1, 1) := dk_60 (dk_at dksX4_begins_2 20 rfl rfl)
theorem dX4_begins_68 : decode cX4_begins 68 = .ok (.iload_n 1, 1) := dk_27 (dk_at dksX4_begins_2 21 rfl rfl)
theorem dX4_begins_69 : decode cX4_begins 69 = .ok (.bipush 10, 2) := dk_16 10 (dk_at dksX4_begins_2 22 rfl rfl)
theorem dX4_begins_71 : decode cX4_begins 71 = .ok (.if_icmp .ge 20, 3) := dk_162 0 20 (dk_at dksX4_begins_3 0 rfl rfl)
theorem dX4_begins_74 : decode cX4_begins 74 = .ok (.aload_n 0, 1) := dk_42 (dk_at dksX4_begins_3 3 rfl rfl)
theorem dX4_begins_75 : decode cX4_begins 75 = .ok (.getfield 13, 3) := dk_180 0 13 (dk_at dksX4_begins_3 4 rfl rfl)
theorem dX4_begins_78 : decode cX4_begins 78 = .ok (.bipush 15, 2) := dk_16 15 (dk_at dksX4_begins_3 7 rfl rfl)
theorem dX4_begins_80 : decode cX4_begins 80 = .ok (.iload_n 1, 1) := dk_27 (dk_at dksX4_begins_3 9 rfl rfl)
theorem dX4_begins_81 : decode cX4_begins 81 = .ok (.iadd, 1) := dk_96 (dk_at dksX4_begins_3 10 rfl rfl)
theorem dX4_begins_82 : decode cX4_begins 82 = .ok (.bipush (-2), 2) := dk_16 254 (dk_at dksX4_begins_3 11 rfl rfl)
theorem dX4_begins_84 : decode cX4_begins 84 = .ok (.iastore, 1) := dk_79 (dk_at dksX4_begins_3 13 rfl rfl)
theorem dX4_begins_85 : decode cX4_begins 85 = .ok (.iinc 1 1, 3) := dk_132 1 1 (dk_at dksX4_begins_3 14 rfl rfl)
theorem dX4_begins_88 : decode cX4_begins 88 = .ok (.goto (-20), 3) := dk_167 255 236 (dk_at dksX4_begins_3 17 rfl rfl)
theorem dX4_begins_91 : decode cX4_begins 91 = .ok (.iconst 0, 1) := dk_3 (dk_at dksX4_begins_3 20 rfl rfl)
theorem dX4_begins_92 : decode cX4_begins 92 = .ok (.istore_n 1, 1) := dk_60 (dk_at dksX4_begins_3 21 rfl rfl)
theorem dX4_begins_93 : decode cX4_begins 93 = .ok (.iload_n 1, 1) := dk_27 (dk_at dksX4_begins_3 22 rfl rfl)
theorem dX4_begins_94 : decode cX4_begins 94 = .ok (.bipush 24, 2) := dk_16 24 (dk_at dksX4_begins_4 0 rfl rfl)
theorem dX4_begins_96 : decode cX4_begins 96 = .ok (.if_icmp .ge 20, 3) := dk_162 0 20 (dk_at dksX4_begins_4 2 rfl rfl)
theorem dX4_begins_99 : decode cX4_begins 99 = .ok (.aload_n 0, 1) := dk_42 (dk_at dksX4_begins_4 5 rfl rfl)
theorem dX4_begins_100 : decode cX4_begins 100 = .ok (.getfield 13, 3) := dk_180 0 13 (dk_at dksX4_begins_4 6 rfl rfl)
theorem dX4_begins_103 : decode cX4_begins 103 = .ok (.bipush 59, 2) := dk_16 59 (dk_at dksX4_begins_4 9 rfl rfl)
theorem dX4_begins_105 : decode cX4_begins 105 = .ok (.iload_n 1, 1) := dk_27 (dk_at dksX4_begins_4 11 rfl rfl)
theorem dX4_begins_106 : decode cX4_begins 106 = .ok (.iadd, 1) := dk_96 (dk_at dksX4_begins_4 12 rfl rfl)
theorem dX4_begins_107 : decode cX4_begins 107 = .ok (.bipush (-2), 2) := dk_16 254 (dk_at dksX4_begins_4 13 rfl rfl)
theorem dX4_begins_109 : decode cX4_begins 109 = .ok (.iastore, 1) := dk_79 (dk_at dksX4_begins_4 15 rfl rfl)
theorem dX4_begins_110 : decode cX4_begins 110 = .ok (.iinc 1 1, 3) := dk_132 1 1 (dk_at dksX4_begins_4 16 rfl rfl)
theorem dX4_begins_113 : decode cX4_begins 113 = .ok (.goto (-20), 3) := dk_167 255 236 (dk_at dksX4_begins_4 19 rfl rfl)
theorem dX4_begins_116 : decode cX4_begins 116 = .ok (.aload_n 0, 1) := dk_42 (dk_at dksX4_begins_4 22 rfl rfl)
theorem dX4_begins_117 : decode cX4_begins 117 = .ok (.iconst 0, 1) := dk_3 (dk_at dksX4_begins_4 23 rfl rfl)
theorem dX4_begins_118 : decode cX4_begins 118 = .ok (.putfield 243, 3) := dk_181 0 243 (dk_at dksX4_begins_5 0 rfl rfl)
theorem dX4_begins_121 : decode cX4_begins 121 = .ok (.aload_n 0, 1) := dk_42 (dk_at dksX4_begins_5 3 rfl rfl)
theorem dX4_begins_122 : decode cX4_begins 122 = .ok (.getfield 100, 3) := dk_180 0 100 (dk_at dksX4_begins_5 4 rfl rfl)
theorem dX4_begins_125 : decode cX4_begins 125 = .ok (.iconst 0, 1) := dk_3 (dk_at dksX4_begins_5 7 rfl rfl)
theorem dX4_begins_126 : decode cX4_begins 126 = .ok (.iconst 0, 1) := dk_3 (dk_at dksX4_begins_5 8 rfl rfl)
theorem dX4_begins_127 : decode cX4_begins 127 = .ok (.bastore, 1) := dk_84 (dk_at dksX4_begins_5 9 rfl rfl)
theorem dX4_begins_128 : decode cX4_begins 128 = .ok (.aload_n 0, 1) := dk_42 (dk_at dksX4_begins_5 10 rfl rfl)
theorem dX4_begins_129 : decode cX4_begins 129 = .ok (.getfield 100, 3) := dk_180 0 100 (dk_at dksX4_begins_5 11 rfl rfl)
theorem dX4_begins_132 : decode cX4_begins 132 = .ok (.iconst 1, 1) := dk_4 (dk_at dksX4_begins_5 14 rfl rfl)
theorem dX4_begins_133 : decode cX4_begins 133 = .ok (.iconst 0, 1) := dk_3 (dk_at dksX4_begins_5 15 rfl rfl)
theorem dX4_begins_134 : decode cX4_begins 134 = .ok (.bastore, 1) := dk_84 (dk_at dksX4_begins_5 16 rfl rfl)
theorem dX4_begins_135 : decode cX4_begins 135 = .ok (.return_, 1) := dk_177 (dk_at dksX4_begins_5 17 rfl rfl)
abbrev cX4_append : ByteArray := prog_16_method_5_code
def yX4_append : MethodName := ⟨RX4, "append", "(IIIII)I"⟩
def dkwX4_append_2 : List UInt8 := [182, 0, 116, 42, 180, 0, 113, 172]
abbrev dktX4_append_2 : List UInt8 := dkwX4_append_2 ++ []
def dkwX4_append_1 : List UInt8 := [182, 0, 116, 42, 28, 182, 0, 116, 42, 29, 182, 0, 116, 42, 21, 4, 182, 0, 116, 42, 21, 5]
abbrev dktX4_append_1 : List UInt8 := dkwX4_append_1 ++ dktX4_append_2
def dkwX4_append_0 : List UInt8 := [42, 3, 181, 0, 1, 42, 180, 0, 113, 16, 20, 96, 17, 3, 132, 164, 0, 5, 2, 172, 42, 27]
abbrev dktX4_append_0 : List UInt8 := dkwX4_append_0 ++ dktX4_append_1
theorem dksX4_append_0 : cX4_append.data.toList.drop 0 = dktX4_append_0 := by decide +kernel
theorem dksX4_append_1 : cX4_append.data.toList.drop 22 = dktX4_append_1 := dk_seg dksX4_append_0 22 rfl rfl
theorem dksX4_append_2 : cX4_append.data.toList.drop 44 = dktX4_append_2 := dk_seg dksX4_append_1 22 rfl rfl
theorem dX4_append_0 : decode cX4_append 0 = .ok (.aload_n 0, 1) := dk_42 (dk_at dksX4_append_0 0 rfl rfl)
theorem dX4_append_1 : decode cX4_append 1 = .ok (.iconst 0, 1) := dk_3 (dk_at dksX4_append_0 1 rfl rfl)
theorem dX4_append_2 : decode cX4_append 2 = .ok (.putfield 1, 3) := dk_181 0 1 (dk_at dksX4_append_0 2 rfl rfl)
theorem dX4_append_5 : decode cX4_append 5 = .ok (.aload_n 0, 1) := dk_42 (dk_at dksX4_append_0 5 rfl rfl)
theorem dX4_append_6 : decode cX4_append 6 = .ok (.getfield 113, 3) := dk_180 0 113 (dk_at dksX4_append_0 6 rfl rfl)
theorem dX4_append_9 : decode cX4_append 9 = .ok (.bipush 20, 2) := dk_16 20 (dk_at dksX4_append_0 9 rfl rfl)
theorem dX4_append_11 : decode cX4_append 11 = .ok (.iadd, 1) := dk_96 (dk_at dksX4_append_0 11 rfl rfl)
theorem dX4_append_12 : decode cX4_append 12 = .ok (.sipush 900, 3) := dk_17 3 132 (dk_at dksX4_append_0 12 rfl rfl)
theorem dX4_append_15 : decode cX4_append 15 = .ok (.if_icmp .le 5, 3) := dk_164 0 5 (dk_at dksX4_append_0 15 rfl rfl)
theorem dX4_append_18 : decode cX4_append 18 = .ok (.iconst (-1), 1) := dk_2 (dk_at dksX4_append_0 18 rfl rfl)
theorem dX4_append_19 : decode cX4_append 19 = .ok (.ireturn, 1) := dk_172 (dk_at dksX4_append_0 19 rfl rfl)
theorem dX4_append_20 : decode cX4_append 20 = .ok (.aload_n 0, 1) := dk_42 (dk_at dksX4_append_0 20 rfl rfl)
theorem dX4_append_21 : decode cX4_append 21 = .ok (.iload_n 1, 1) := dk_27 (dk_at dksX4_append_0 21 rfl rfl)
theorem dX4_append_22 : decode cX4_append 22 = .ok (.invokevirtual 116, 3) := dk_182 0 116 (dk_at dksX4_append_1 0 rfl rfl)
theorem dX4_append_25 : decode cX4_append 25 = .ok (.aload_n 0, 1) := dk_42 (dk_at dksX4_append_1 3 rfl rfl)
theorem dX4_append_26 : decode cX4_append 26 = .ok (.iload_n 2, 1) := dk_28 (dk_at dksX4_append_1 4 rfl rfl)
theorem dX4_append_27 : decode cX4_append 27 = .ok (.invokevirtual 116, 3) := dk_182 0 116 (dk_at dksX4_append_1 5 rfl rfl)
theorem dX4_append_30 : decode cX4_append 30 = .ok (.aload_n 0, 1) := dk_42 (dk_at dksX4_append_1 8 rfl rfl)
theorem dX4_append_31 : decode cX4_append 31 = .ok (.iload_n 3, 1) := dk_29 (dk_at dksX4_append_1 9 rfl rfl)
theorem dX4_append_32 : decode cX4_append 32 = .ok (.invokevirtual 116, 3) := dk_182 0 116 (dk_at dksX4_append_1 10 rfl rfl)
theorem dX4_append_35 : decode cX4_append 35 = .ok (.aload_n 0, 1) := dk_42 (dk_at dksX4_append_1 13 rfl rfl)
theorem dX4_append_36 : decode cX4_append 36 = .ok (.iload 4, 2) := dk_21 4 (dk_at dksX4_append_1 14 rfl rfl)
theorem dX4_append_38 : decode cX4_append 38 = .ok (.invokevirtual 116, 3) := dk_182 0 116 (dk_at dksX4_append_1 16 rfl rfl)
theorem dX4_append_41 : decode cX4_append 41 = .ok (.aload_n 0, 1) := dk_42 (dk_at dksX4_append_1 19 rfl rfl)
theorem dX4_append_42 : decode cX4_append 42 = .ok (.iload 5, 2) := dk_21 5 (dk_at dksX4_append_1 20 rfl rfl)
theorem dX4_append_44 : decode cX4_append 44 = .ok (.invokevirtual 116, 3) := dk_182 0 116 (dk_at dksX4_append_2 0 rfl rfl)
theorem dX4_append_47 : decode cX4_append 47 = .ok (.aload_n 0, 1) := dk_42 (dk_at dksX4_append_2 3 rfl rfl)
theorem dX4_append_48 : decode cX4_append 48 = .ok (.getfield 113, 3) := dk_180 0 113 (dk_at dksX4_append_2 4 rfl rfl)
theorem dX4_append_51 : decode cX4_append 51 = .ok (.ireturn, 1) := dk_172 (dk_at dksX4_append_2 7 rfl rfl)
abbrev cX4_bytesOf : ByteArray := prog_16_method_6_code
def yX4_bytesOf : MethodName := ⟨RX4, "bytesOf", "(I)V"⟩
def dkwX4_bytesOf_1 : List UInt8 := [180, 0, 113, 4, 96, 181, 0, 113, 132, 2, 248, 167, 255, 226, 177]
abbrev dktX4_bytesOf_1 : List UInt8 := dkwX4_bytesOf_1 ++ []
def dkwX4_bytesOf_0 : List UInt8 := [16, 24, 61, 28, 155, 0, 32, 42, 180, 0, 71, 42, 180, 0, 113, 27, 28, 122, 145, 84, 42, 89]
abbrev dktX4_bytesOf_0 : List UInt8 := dkwX4_bytesOf_0 ++ dktX4_bytesOf_1
theorem dksX4_bytesOf_0 : cX4_bytesOf.data.toList.drop 0 = dktX4_bytesOf_0 := by decide +kernel
theorem dksX4_bytesOf_1 : cX4_bytesOf.data.toList.drop 22 = dktX4_bytesOf_1 := dk_seg dksX4_bytesOf_0 22 rfl rfl
theorem dX4_bytesOf_0 : decode cX4_bytesOf 0 = .ok (.bipush 24, 2) := dk_16 24 (dk_at dksX4_bytesOf_0 0 rfl rfl)
theorem dX4_bytesOf_2 : decode cX4_bytesOf 2 = .ok (.istore_n 2, 1) := dk_61 (dk_at dksX4_bytesOf_0 2 rfl rfl)
theorem dX4_bytesOf_3 : decode cX4_bytesOf 3 = .ok (.iload_n 2, 1) := dk_28 (dk_at dksX4_bytesOf_0 3 rfl rfl)
theorem dX4_bytesOf_4 : decode cX4_bytesOf 4 = .ok (.ifCond .lt 32, 3) := dk_155 0 32 (dk_at dksX4_bytesOf_0 4 rfl rfl)
theorem dX4_bytesOf_7 : decode cX4_bytesOf 7 = .ok (.aload_n 0, 1) := dk_42 (dk_at dksX4_bytesOf_0 7 rfl rfl)
theorem dX4_bytesOf_8 : decode cX4_bytesOf 8 = .ok (.getfield 71, 3) := dk_180 0 71 (dk_at dksX4_bytesOf_0 8 rfl rfl)
theorem dX4_bytesOf_11 : decode cX4_bytesOf 11 = .ok (.aload_n 0, 1) := dk_42 (dk_at dksX4_bytesOf_0 11 rfl rfl)
theorem dX4_bytesOf_12 : decode cX4_bytesOf 12 = .ok (.getfield 113, 3) := dk_180 0 113 (dk_at dksX4_bytesOf_0 12 rfl rfl)
theorem dX4_bytesOf_15 : decode cX4_bytesOf 15 = .ok (.iload_n 1, 1) := dk_27 (dk_at dksX4_bytesOf_0 15 rfl rfl)
theorem dX4_bytesOf_16 : decode cX4_bytesOf 16 = .ok (.iload_n 2, 1) := dk_28 (dk_at dksX4_bytesOf_0 16 rfl rfl)
theorem dX4_bytesOf_17 : decode cX4_bytesOf 17 = .ok (.ishr, 1) := dk_122 (dk_at dksX4_bytesOf_0 17 rfl rfl)
theorem dX4_bytesOf_18 : decode cX4_bytesOf 18 = .ok (.i2b, 1) := dk_145 (dk_at dksX4_bytesOf_0 18 rfl rfl)
theorem dX4_bytesOf_19 : decode cX4_bytesOf 19 = .ok (.bastore, 1) := dk_84 (dk_at dksX4_bytesOf_0 19 rfl rfl)
theorem dX4_bytesOf_20 : decode cX4_bytesOf 20 = .ok (.aload_n 0, 1) := dk_42 (dk_at dksX4_bytesOf_0 20 rfl rfl)
theorem dX4_bytesOf_21 : decode cX4_bytesOf 21 = .ok (.dup, 1) := dk_89 (dk_at dksX4_bytesOf_0 21 rfl rfl)
theorem dX4_bytesOf_22 : decode cX4_bytesOf 22 = .ok (.getfield 113, 3) := dk_180 0 113 (dk_at dksX4_bytesOf_1 0 rfl rfl)
theorem dX4_bytesOf_25 : decode cX4_bytesOf 25 = .ok (.iconst 1, 1) := dk_4 (dk_at dksX4_bytesOf_1 3 rfl rfl)
theorem dX4_bytesOf_26 : decode cX4_bytesOf 26 = .ok (.iadd, 1) := dk_96 (dk_at dksX4_bytesOf_1 4 rfl rfl)
theorem dX4_bytesOf_27 : decode cX4_bytesOf 27 = .ok (.putfield 113, 3) := dk_181 0 113 (dk_at dksX4_bytesOf_1 5 rfl rfl)
theorem dX4_bytesOf_30 : decode cX4_bytesOf 30 = .ok (.iinc 2 (-8), 3) := dk_132 2 248 (dk_at dksX4_bytesOf_1 8 rfl rfl)
theorem dX4_bytesOf_33 : decode cX4_bytesOf 33 = .ok (.goto (-30), 3) := dk_167 255 226 (dk_at dksX4_bytesOf_1 11 rfl rfl)
theorem dX4_bytesOf_36 : decode cX4_bytesOf 36 = .ok (.return_, 1) := dk_177 (dk_at dksX4_bytesOf_1 14 rfl rfl)
abbrev cX4_parse : ByteArray := prog_16_method_21_code
def yX4_parse : MethodName := ⟨RX4, "parse", "(I)I"⟩
def dkwX4_parse_5 : List UInt8 := [182, 0, 226, 61, 167, 255, 240, 28, 154, 0, 8, 42, 180, 0, 152, 172, 42, 182, 0, 229, 3, 172]
abbrev dktX4_parse_5 : List UInt8 := dkwX4_parse_5 ++ []
def dkwX4_parse_4 : List UInt8 := [16, 254, 181, 0, 194, 42, 182, 0, 162, 4, 61, 28, 153, 0, 18, 42, 180, 0, 136, 153, 0, 11, 42]
abbrev dktX4_parse_4 : List UInt8 := dkwX4_parse_4 ++ dktX4_parse_5
def dkwX4_parse_3 : List UInt8 := [4, 3, 79, 42, 180, 0, 62, 4, 3, 79, 42, 16, 254, 181, 0, 182, 42, 16, 254, 181, 0, 190, 42]
abbrev dktX4_parse_3 : List UInt8 := dkwX4_parse_3 ++ dktX4_parse_4
def dkwX4_parse_2 : List UInt8 := [180, 0, 17, 4, 3, 79, 42, 180, 0, 29, 4, 3, 79, 42, 180, 0, 41, 4, 3, 79, 42, 180, 0, 53]
abbrev dktX4_parse_2 : List UInt8 := dkwX4_parse_2 ++ dktX4_parse_3
def dkwX4_parse_1 : List UInt8 := [42, 3, 181, 0, 113, 42, 3, 181, 0, 123, 42, 3, 181, 0, 152, 42, 16, 254, 181, 0, 75, 42]
abbrev dktX4_parse_1 : List UInt8 := dkwX4_parse_1 ++ dktX4_parse_2
def dkwX4_parse_0 : List UInt8 := [42, 3, 181, 0, 1, 27, 3, 42, 180, 0, 113, 184, 0, 139, 154, 0, 5, 2, 172, 42, 27, 181, 0, 120]
abbrev dktX4_parse_0 : List UInt8 := dkwX4_parse_0 ++ dktX4_parse_1
theorem dksX4_parse_0 : cX4_parse.data.toList.drop 0 = dktX4_parse_0 := by decide +kernel
theorem dksX4_parse_1 : cX4_parse.data.toList.drop 24 = dktX4_parse_1 := dk_seg dksX4_parse_0 24 rfl rfl
theorem dksX4_parse_2 : cX4_parse.data.toList.drop 46 = dktX4_parse_2 := dk_seg dksX4_parse_1 22 rfl rfl
theorem dksX4_parse_3 : cX4_parse.data.toList.drop 70 = dktX4_parse_3 := dk_seg dksX4_parse_2 24 rfl rfl
theorem dksX4_parse_4 : cX4_parse.data.toList.drop 93 = dktX4_parse_4 := dk_seg dksX4_parse_3 23 rfl rfl
theorem dksX4_parse_5 : cX4_parse.data.toList.drop 116 = dktX4_parse_5 := dk_seg dksX4_parse_4 23 rfl rfl
theorem dX4_parse_0 : decode cX4_parse 0 = .ok (.aload_n 0, 1) := dk_42 (dk_at dksX4_parse_0 0 rfl rfl)
theorem dX4_parse_1 : decode cX4_parse 1 = .ok (.iconst 0, 1) := dk_3 (dk_at dksX4_parse_0 1 rfl rfl)
theorem dX4_parse_2 : decode cX4_parse 2 = .ok (.putfield 1, 3) := dk_181 0 1 (dk_at dksX4_parse_0 2 rfl rfl)
theorem dX4_parse_5 : decode cX4_parse 5 = .ok (.iload_n 1, 1) := dk_27 (dk_at dksX4_parse_0 5 rfl rfl)
theorem dX4_parse_6 : decode cX4_parse 6 = .ok (.iconst 0, 1) := dk_3 (dk_at dksX4_parse_0 6 rfl rfl)
theorem dX4_parse_7 : decode cX4_parse 7 = .ok (.aload_n 0, 1) := dk_42 (dk_at dksX4_parse_0 7 rfl rfl)
theorem dX4_parse_8 : decode cX4_parse 8 = .ok (.getfield 113, 3) := dk_180 0 113 (dk_at dksX4_parse_0 8 rfl rfl)
theorem dX4_parse_11 : decode cX4_parse 11 = .ok (.invokestatic 139, 3) := dk_184 0 139 (dk_at dksX4_parse_0 11 rfl rfl)
theorem dX4_parse_14 : decode cX4_parse 14 = .ok (.ifCond .ne 5, 3) := dk_154 0 5 (dk_at dksX4_parse_0 14 rfl rfl)
theorem dX4_parse_17 : decode cX4_parse 17 = .ok (.iconst (-1), 1) := dk_2 (dk_at dksX4_parse_0 17 rfl rfl)
theorem dX4_parse_18 : decode cX4_parse 18 = .ok (.ireturn, 1) := dk_172 (dk_at dksX4_parse_0 18 rfl rfl)
theorem dX4_parse_19 : decode cX4_parse 19 = .ok (.aload_n 0, 1) := dk_42 (dk_at dksX4_parse_0 19 rfl rfl)
theorem dX4_parse_20 : decode cX4_parse 20 = .ok (.iload_n 1, 1) := dk_27 (dk_at dksX4_parse_0 20 rfl rfl)
theorem dX4_parse_21 : decode cX4_parse 21 = .ok (.putfield 120, 3) := dk_181 0 120 (dk_at dksX4_parse_0 21 rfl rfl)
theorem dX4_parse_24 : decode cX4_parse 24 = .ok (.aload_n 0, 1) := dk_42 (dk_at dksX4_parse_1 0 rfl rfl)
theorem dX4_parse_25 : decode cX4_parse 25 = .ok (.iconst 0, 1) := dk_3 (dk_at dksX4_parse_1 1 rfl rfl)
theorem dX4_parse_26 : decode cX4_parse 26 = .ok (.putfield 113, 3) := dk_181 0 113 (dk_at dksX4_parse_1 2 rfl rfl)
theorem dX4_parse_29 : decode cX4_parse 29 = .ok (.aload_n 0, 1) := dk_42 (dk_at dksX4_parse_1 5 rfl rfl)
theorem dX4_parse_30 : decode cX4_parse 30 = .ok (.iconst 0, 1) := dk_3 (dk_at dksX4_parse_1 6 rfl rfl)
theorem dX4_parse_31 : decode cX4_parse 31 = .ok (.putfield 123, 3) := dk_181 0 123 (dk_at dksX4_parse_1 7 rfl rfl)
theorem dX4_parse_34 : decode cX4_parse 34 = .ok (.aload_n 0, 1) := dk_42 (dk_at dksX4_parse_1 10 rfl rfl)
theorem dX4_parse_35 : decode cX4_parse 35 = .ok (.iconst 0, 1) := dk_3 (dk_at dksX4_parse_1 11 rfl rfl)
theorem dX4_parse_36 : decode cX4_parse 36 = .ok (.putfield 152, 3) := dk_181 0 152 (dk_at dksX4_parse_1 12 rfl rfl)
theorem dX4_parse_39 : decode cX4_parse 39 = .ok (.aload_n 0, 1) := dk_42 (dk_at dksX4_parse_1 15 rfl rfl)
theorem dX4_parse_40 : decode cX4_parse 40 = .ok (.bipush (-2), 2) := dk_16 254 (dk_at dksX4_parse_1 16 rfl rfl)
theorem dX4_parse_42 : decode cX4_parse 42 = .ok (.putfield 75, 3) := dk_181 0 75 (dk_at dksX4_parse_1 18 rfl rfl)
theorem dX4_parse_45 : decode cX4_parse 45 = .ok (.aload_n 0, 1) := dk_42 (dk_at dksX4_parse_1 21 rfl rfl)
theorem dX4_parse_46 : decode cX4_parse 46 = .ok (.getfield 17, 3) := dk_180 0 17 (dk_at dksX4_parse_2 0 rfl rfl)
theorem dX4_parse_49 : decode cX4_parse 49 = .ok (.iconst 1, 1) := dk_4 (dk_at dksX4_parse_2 3 rfl rfl)
theorem dX4_parse_50 : decode cX4_parse 50 = .ok (.iconst 0, 1) := dk_3 (dk_at dksX4_parse_2 4 rfl rfl)
theorem dX4_parse_51 : decode cX4_parse 51 = .ok (.iastore, 1) := dk_79 (dk_at dksX4_parse_2 5 rfl rfl)
theorem dX4_parse_52 : decode cX4_parse 52 = .ok (.aload_n 0, 1) := dk_42 (dk_at dksX4_parse_2 6 rfl rfl)
theorem dX4_parse_53 : decode cX4_parse 53 = .ok (.getfield 29, 3) := dk_180 0 29 (dk_at dksX4_parse_2 7 rfl rfl)
theorem dX4_parse_56 : decode cX4_parse 56 = .ok (.iconst 1, 1) := dk_4 (dk_at dksX4_parse_2 10 rfl rfl)
theorem dX4_parse_57 : decode cX4_parse 57 = .ok (.iconst 0, 1) := dk_3 (dk_at dksX4_parse_2 11 rfl rfl)
theorem dX4_parse_58 : decode cX4_parse 58 = .ok (.iastore, 1) := dk_79 (dk_at dksX4_parse_2 12 rfl rfl)
theorem dX4_parse_59 : decode cX4_parse 59 = .ok (.aload_n 0, 1) := dk_42 (dk_at dksX4_parse_2 13 rfl rfl)
theorem dX4_parse_60 : decode cX4_parse 60 = .ok (.getfield 41, 3) := dk_180 0 41 (dk_at dksX4_parse_2 14 rfl rfl)
theorem dX4_parse_63 : decode cX4_parse 63 = .ok (.iconst 1, 1) := dk_4 (dk_at dksX4_parse_2 17 rfl rfl)
theorem dX4_parse_64 : decode cX4_parse 64 = .ok (.iconst 0, 1) := dk_3 (dk_at dksX4_parse_2 18 rfl rfl)
theorem dX4_parse_65 : decode cX4_parse 65 = .ok (.iastore, 1) := dk_79 (dk_at dksX4_parse_2 19 rfl rfl)
theorem dX4_parse_66 : decode cX4_parse 66 = .ok (.aload_n 0, 1) := dk_42 (dk_at dksX4_parse_2 20 rfl rfl)
theorem dX4_parse_67 : decode cX4_parse 67 = .ok (.getfield 53, 3) := dk_180 0 53 (dk_at dksX4_parse_2 21 rfl rfl)
theorem dX4_parse_70 : decode cX4_parse 70 = .ok (.iconst 1, 1) := dk_4 (dk_at dksX4_parse_3 0 rfl rfl)
theorem dX4_parse_71 : decode cX4_parse 71 = .ok (.iconst 0, 1) := dk_3 (dk_at dksX4_parse_3 1 rfl rfl)
theorem dX4_parse_72 : decode cX4_parse 72 = .ok (.iastore, 1) := dk_79 (dk_at dksX4_parse_3 2 rfl rfl)
theorem dX4_parse_73 : decode cX4_parse 73 = .ok (.aload_n 0, 1) := dk_42 (dk_at dksX4_parse_3 3 rfl rfl)
theorem dX4_parse_74 : decode cX4_parse 74 = .ok (.getfield 62, 3) := dk_180 0 62 (dk_at dksX4_parse_3 4 rfl rfl)
theorem dX4_parse_77 : decode cX4_parse 77 = .ok (.iconst 1, 1) := dk_4 (dk_at dksX4_parse_3 7 rfl rfl)
theorem dX4_parse_78 : decode cX4_parse 78 = .ok (.iconst 0, 1) := dk_3 (dk_at dksX4_parse_3 8 rfl rfl)
theorem dX4_parse_79 : decode cX4_parse 79 = .ok (.iastore, 1) := dk_79 (dk_at dksX4_parse_3 9 rfl rfl)
theorem dX4_parse_80 : decode cX4_parse 80 = .ok (.aload_n 0, 1) := dk_42 (dk_at dksX4_parse_3 10 rfl rfl)
theorem dX4_parse_81 : decode cX4_parse 81 = .ok (.bipush (-2), 2) := dk_16 254 (dk_at dksX4_parse_3 11 rfl rfl)
theorem dX4_parse_83 : decode cX4_parse 83 = .ok (.putfield 182, 3) := dk_181 0 182 (dk_at dksX4_parse_3 13 rfl rfl)
theorem dX4_parse_86 : decode cX4_parse 86 = .ok (.aload_n 0, 1) := dk_42 (dk_at dksX4_parse_3 16 rfl rfl)
theorem dX4_parse_87 : decode cX4_parse 87 = .ok (.bipush (-2), 2) := dk_16 254 (dk_at dksX4_parse_3 17 rfl rfl)
theorem dX4_parse_89 : decode cX4_parse 89 = .ok (.putfield 190, 3) := dk_181 0 190 (dk_at dksX4_parse_3 19 rfl rfl)
theorem dX4_parse_92 : decode cX4_parse 92 = .ok (.aload_n 0, 1) := dk_42 (dk_at dksX4_parse_3 22 rfl rfl)
theorem dX4_parse_93 : decode cX4_parse 93 = .ok (.bipush (-2), 2) := dk_16 254 (dk_at dksX4_parse_4 0 rfl rfl)
theorem dX4_parse_95 : decode cX4_parse 95 = .ok (.putfield 194, 3) := dk_181 0 194 (dk_at dksX4_parse_4 2 rfl rfl)
theorem dX4_parse_98 : decode cX4_parse 98 = .ok (.aload_n 0, 1) := dk_42 (dk_at dksX4_parse_4 5 rfl rfl)
theorem dX4_parse_99 : decode cX4_parse 99 = .ok (.invokevirtual 162, 3) := dk_182 0 162 (dk_at dksX4_parse_4 6 rfl rfl)
theorem dX4_parse_102 : decode cX4_parse 102 = .ok (.iconst 1, 1) := dk_4 (dk_at dksX4_parse_4 9 rfl rfl)
theorem dX4_parse_103 : decode cX4_parse 103 = .ok (.istore_n 2, 1) := dk_61 (dk_at dksX4_parse_4 10 rfl rfl)
theorem dX4_parse_104 : decode cX4_parse 104 = .ok (.iload_n 2, 1) := dk_28 (dk_at dksX4_parse_4 11 rfl rfl)
theorem dX4_parse_105 : decode cX4_parse 105 = .ok (.ifCond .eq 18, 3) := dk_153 0 18 (dk_at dksX4_parse_4 12 rfl rfl)
theorem dX4_parse_108 : decode cX4_parse 108 = .ok (.aload_n 0, 1) := dk_42 (dk_at dksX4_parse_4 15 rfl rfl)
theorem dX4_parse_109 : decode cX4_parse 109 = .ok (.getfield 136, 3) := dk_180 0 136 (dk_at dksX4_parse_4 16 rfl rfl)
theorem dX4_parse_112 : decode cX4_parse 112 = .ok (.ifCond .eq 11, 3) := dk_153 0 11 (dk_at dksX4_parse_4 19 rfl rfl)
theorem dX4_parse_115 : decode cX4_parse 115 = .ok (.aload_n 0, 1) := dk_42 (dk_at dksX4_parse_4 22 rfl rfl)
theorem dX4_parse_116 : decode cX4_parse 116 = .ok (.invokevirtual 226, 3) := dk_182 0 226 (dk_at dksX4_parse_5 0 rfl rfl)
theorem dX4_parse_119 : decode cX4_parse 119 = .ok (.istore_n 2, 1) := dk_61 (dk_at dksX4_parse_5 3 rfl rfl)
theorem dX4_parse_120 : decode cX4_parse 120 = .ok (.goto (-16), 3) := dk_167 255 240 (dk_at dksX4_parse_5 4 rfl rfl)
theorem dX4_parse_123 : decode cX4_parse 123 = .ok (.iload_n 2, 1) := dk_28 (dk_at dksX4_parse_5 7 rfl rfl)
theorem dX4_parse_124 : decode cX4_parse 124 = .ok (.ifCond .ne 8, 3) := dk_154 0 8 (dk_at dksX4_parse_5 8 rfl rfl)
theorem dX4_parse_127 : decode cX4_parse 127 = .ok (.aload_n 0, 1) := dk_42 (dk_at dksX4_parse_5 11 rfl rfl)
theorem dX4_parse_128 : decode cX4_parse 128 = .ok (.getfield 152, 3) := dk_180 0 152 (dk_at dksX4_parse_5 12 rfl rfl)
theorem dX4_parse_131 : decode cX4_parse 131 = .ok (.ireturn, 1) := dk_172 (dk_at dksX4_parse_5 15 rfl rfl)
theorem dX4_parse_132 : decode cX4_parse 132 = .ok (.aload_n 0, 1) := dk_42 (dk_at dksX4_parse_5 16 rfl rfl)
theorem dX4_parse_133 : decode cX4_parse 133 = .ok (.invokevirtual 229, 3) := dk_182 0 229 (dk_at dksX4_parse_5 17 rfl rfl)
theorem dX4_parse_136 : decode cX4_parse 136 = .ok (.iconst 0, 1) := dk_3 (dk_at dksX4_parse_5 20 rfl rfl)
theorem dX4_parse_137 : decode cX4_parse 137 = .ok (.ireturn, 1) := dk_172 (dk_at dksX4_parse_5 21 rfl rfl)
abbrev cX4_within : ByteArray := prog_16_method_2_code
def yX4_within : MethodName := ⟨RX4, "within", "(III)Z"⟩
def dkwX4_within_0 : List UInt8 := [26, 27, 161, 0, 12, 26, 28, 163, 0, 7, 4, 167, 0, 4, 3, 172]
abbrev dktX4_within_0 : List UInt8 := dkwX4_within_0 ++ []
theorem dksX4_within_0 : cX4_within.data.toList.drop 0 = dktX4_within_0 := by decide +kernel
theorem dX4_within_0 : decode cX4_within 0 = .ok (.iload_n 0, 1) := dk_26 (dk_at dksX4_within_0 0 rfl rfl)
theorem dX4_within_1 : decode cX4_within 1 = .ok (.iload_n 1, 1) := dk_27 (dk_at dksX4_within_0 1 rfl rfl)
theorem dX4_within_2 : decode cX4_within 2 = .ok (.if_icmp .lt 12, 3) := dk_161 0 12 (dk_at dksX4_within_0 2 rfl rfl)
theorem dX4_within_5 : decode cX4_within 5 = .ok (.iload_n 0, 1) := dk_26 (dk_at dksX4_within_0 5 rfl rfl)
theorem dX4_within_6 : decode cX4_within 6 = .ok (.iload_n 2, 1) := dk_28 (dk_at dksX4_within_0 6 rfl rfl)
theorem dX4_within_7 : decode cX4_within 7 = .ok (.if_icmp .gt 7, 3) := dk_163 0 7 (dk_at dksX4_within_0 7 rfl rfl)
theorem dX4_within_10 : decode cX4_within 10 = .ok (.iconst 1, 1) := dk_4 (dk_at dksX4_within_0 10 rfl rfl)
theorem dX4_within_11 : decode cX4_within 11 = .ok (.goto 4, 3) := dk_167 0 4 (dk_at dksX4_within_0 11 rfl rfl)
theorem dX4_within_14 : decode cX4_within 14 = .ok (.iconst 0, 1) := dk_3 (dk_at dksX4_within_0 14 rfl rfl)
theorem dX4_within_15 : decode cX4_within 15 = .ok (.ireturn, 1) := dk_172 (dk_at dksX4_within_0 15 rfl rfl)
abbrev cX4_advance : ByteArray := prog_16_method_8_code
def yX4_advance : MethodName := ⟨RX4, "advance", "()V"⟩
def dkwX4_advance_12 : List UInt8 := [181, 0, 136, 177]
abbrev dktX4_advance_12 : List UInt8 := dkwX4_advance_12 ++ []
def dkwX4_advance_11 : List UInt8 := [42, 89, 180, 0, 123, 4, 96, 181, 0, 123, 42, 27, 16, 59, 160, 0, 7, 6, 167, 0, 4, 7]
abbrev dktX4_advance_11 : List UInt8 := dkwX4_advance_11 ++ dktX4_advance_12
def dkwX4_advance_10 : List UInt8 := [42, 180, 0, 123, 42, 180, 0, 130, 100, 7, 164, 0, 7, 7, 167, 0, 4, 5, 181, 0, 136, 167, 0, 28]
abbrev dktX4_advance_10 : List UInt8 := dkwX4_advance_10 ++ dktX4_advance_11
def dkwX4_advance_9 : List UInt8 := [167, 0, 7, 42, 180, 0, 133, 181, 0, 133, 42, 89, 180, 0, 123, 4, 96, 181, 0, 123, 167, 255, 185, 42]
abbrev dktX4_advance_9 : List UInt8 := dkwX4_advance_9 ++ dktX4_advance_10
def dkwX4_advance_8 : List UInt8 := [162, 0, 25, 16, 10, 42, 180, 0, 133, 104, 42, 42, 180, 0, 123, 182, 0, 126, 96, 16, 48, 100]
abbrev dktX4_advance_8 : List UInt8 := dkwX4_advance_8 ++ dktX4_advance_9
def dkwX4_advance_7 : List UInt8 := [182, 0, 126, 16, 48, 16, 57, 184, 0, 139, 153, 0, 59, 42, 42, 180, 0, 123, 42, 180, 0, 130, 100, 7]
abbrev dktX4_advance_7 : List UInt8 := dkwX4_advance_7 ++ dktX4_advance_8
def dkwX4_advance_6 : List UInt8 := [181, 0, 136, 167, 0, 138, 27, 16, 48, 16, 57, 184, 0, 139, 153, 0, 102, 42, 42, 180, 0, 123]
abbrev dktX4_advance_6 : List UInt8 := dkwX4_advance_6 ++ dktX4_advance_7
def dkwX4_advance_5 : List UInt8 := [167, 255, 228, 42, 42, 180, 0, 123, 42, 180, 0, 130, 100, 16, 8, 164, 0, 7, 7, 167, 0, 4, 4]
abbrev dktX4_advance_5 : List UInt8 := dkwX4_advance_5 ++ dktX4_advance_6
def dkwX4_advance_4 : List UInt8 := [182, 0, 126, 16, 97, 16, 122, 184, 0, 139, 153, 0, 16, 42, 89, 180, 0, 123, 4, 96, 181, 0, 123]
abbrev dktX4_advance_4 : List UInt8 := dkwX4_advance_4 ++ dktX4_advance_5
def dkwX4_advance_3 : List UInt8 := [181, 0, 136, 167, 0, 206, 27, 16, 97, 16, 122, 184, 0, 139, 153, 0, 60, 42, 42, 180, 0, 123]
abbrev dktX4_advance_3 : List UInt8 := dkwX4_advance_3 ++ dktX4_advance_4
def dkwX4_advance_2 : List UInt8 := [42, 3, 181, 0, 133, 42, 42, 180, 0, 123, 182, 0, 126, 60, 27, 16, 254, 160, 0, 11, 42, 3]
abbrev dktX4_advance_2 : List UInt8 := dkwX4_advance_2 ++ dktX4_advance_3
def dkwX4_advance_1 : List UInt8 := [160, 0, 16, 42, 89, 180, 0, 123, 4, 96, 181, 0, 123, 167, 255, 220, 42, 42, 180, 0, 123, 181, 0, 130]
abbrev dktX4_advance_1 : List UInt8 := dkwX4_advance_1 ++ dktX4_advance_2
def dkwX4_advance_0 : List UInt8 := [42, 42, 180, 0, 123, 182, 0, 126, 16, 32, 159, 0, 16, 42, 42, 180, 0, 123, 182, 0, 126, 16, 10]
abbrev dktX4_advance_0 : List UInt8 := dkwX4_advance_0 ++ dktX4_advance_1
theorem dksX4_advance_0 : cX4_advance.data.toList.drop 0 = dktX4_advance_0 := by decide +kernel
theorem dksX4_advance_1 : cX4_advance.data.toList.drop 23 = dktX4_advance_1 := dk_seg dksX4_advance_0 23 rfl rfl
theorem dksX4_advance_2 : cX4_advance.data.toList.drop 47 = dktX4_advance_2 := dk_seg dksX4_advance_1 24 rfl rfl
theorem dksX4_advance_3 : cX4_advance.data.toList.drop 69 = dktX4_advance_3 := dk_seg dksX4_advance_2 22 rfl rfl
theorem dksX4_advance_4 : cX4_advance.data.toList.drop 91 = dktX4_advance_4 := dk_seg dksX4_advance_3 22 rfl rfl
theorem dksX4_advance_5 : cX4_advance.data.toList.drop 114 = dktX4_advance_5 := dk_seg dksX4_advance_4 23 rfl rfl
theorem dksX4_advance_6 : cX4_advance.data.toList.drop 137 = dktX4_advance_6 := dk_seg dksX4_advance_5 23 rfl rfl
theorem dksX4_advance_7 : cX4_advance.data.toList.drop 159 = dktX4_advance_7 := dk_seg dksX4_advance_6 22 rfl rfl
theorem dksX4_advance_8 : cX4_advance.data.toList.drop 183 = dktX4_advance_8 := dk_seg dksX4_advance_7 24 rfl rfl
theorem dksX4_advance_9 : cX4_advance.data.toList.drop 205 = dktX4_advance_9 := dk_seg dksX4_advance_8 22 rfl rfl
theorem dksX4_advance_10 : cX4_advance.data.toList.drop 229 = dktX4_advance_10 := dk_seg dksX4_advance_9 24 rfl rfl
theorem dksX4_advance_11 : cX4_advance.data.toList.drop 253 = dktX4_advance_11 := dk_seg dksX4_advance_10 24 rfl rfl
theorem dksX4_advance_12 : cX4_advance.data.toList.drop 275 = dktX4_advance_12 := dk_seg dksX4_advance_11 22 rfl rfl
theorem dX4_advance_0 : decode cX4_advance 0 = .ok (.aload_n 0, 1) := dk_42 (dk_at dksX4_advance_0 0 rfl rfl)
theorem dX4_advance_1 : decode cX4_advance 1 = .ok (.aload_n 0, 1) := dk_42 (dk_at dksX4_advance_0 1 rfl rfl)
theorem dX4_advance_2 : decode cX4_advance 2 = .ok (.getfield 123, 3) := dk_180 0 123 (dk_at dksX4_advance_0 2 rfl rfl)
theorem dX4_advance_5 : decode cX4_advance 5 = .ok (.invokevirtual 126, 3) := dk_182 0 126 (dk_at dksX4_advance_0 5 rfl rfl)
theorem dX4_advance_8 : decode cX4_advance 8 = .ok (.bipush 32, 2) := dk_16 32 (dk_at dksX4_advance_0 8 rfl rfl)
theorem dX4_advance_10 : decode cX4_advance 10 = .ok (.if_icmp .eq 16, 3) := dk_159 0 16 (dk_at dksX4_advance_0 10 rfl rfl)
theorem dX4_advance_13 : decode cX4_advance 13 = .ok (.aload_n 0, 1) := dk_42 (dk_at dksX4_advance_0 13 rfl rfl)
theorem dX4_advance_14 : decode cX4_advance 14 = .ok (.aload_n 0, 1) := dk_42 (dk_at dksX4_advance_0 14 rfl rfl)
theorem dX4_advance_15 : decode cX4_advance 15 = .ok (.getfield 123, 3) := dk_180 0 123 (dk_at dksX4_advance_0 15 rfl rfl)
theorem dX4_advance_18 : decode cX4_advance 18 = .ok (.invokevirtual 126, 3) := dk_182 0 126 (dk_at dksX4_advance_0 18 rfl rfl)
theorem dX4_advance_21 : decode cX4_advance 21 = .ok (.bipush 10, 2) := dk_16 10 (dk_at dksX4_advance_0 21 rfl rfl)
theorem dX4_advance_23 : decode cX4_advance 23 = .ok (.if_icmp .ne 16, 3) := dk_160 0 16 (dk_at dksX4_advance_1 0 rfl rfl)
theorem dX4_advance_26 : decode cX4_advance 26 = .ok (.aload_n 0, 1) := dk_42 (dk_at dksX4_advance_1 3 rfl rfl)
theorem dX4_advance_27 : decode cX4_advance 27 = .ok (.dup, 1) := dk_89 (dk_at dksX4_advance_1 4 rfl rfl)
theorem dX4_advance_28 : decode cX4_advance 28 = .ok (.getfield 123, 3) := dk_180 0 123 (dk_at dksX4_advance_1 5 rfl rfl)
theorem dX4_advance_31 : decode cX4_advance 31 = .ok (.iconst 1, 1) := dk_4 (dk_at dksX4_advance_1 8 rfl rfl)
theorem dX4_advance_32 : decode cX4_advance 32 = .ok (.iadd, 1) := dk_96 (dk_at dksX4_advance_1 9 rfl rfl)
theorem dX4_advance_33 : decode cX4_advance 33 = .ok (.putfield 123, 3) := dk_181 0 123 (dk_at dksX4_advance_1 10 rfl rfl)
theorem dX4_advance_36 : decode cX4_advance 36 = .ok (.goto (-36), 3) := dk_167 255 220 (dk_at dksX4_advance_1 13 rfl rfl)
theorem dX4_advance_39 : decode cX4_advance 39 = .ok (.aload_n 0, 1) := dk_42 (dk_at dksX4_advance_1 16 rfl rfl)
theorem dX4_advance_40 : decode cX4_advance 40 = .ok (.aload_n 0, 1) := dk_42 (dk_at dksX4_advance_1 17 rfl rfl)
theorem dX4_advance_41 : decode cX4_advance 41 = .ok (.getfield 123, 3) := dk_180 0 123 (dk_at dksX4_advance_1 18 rfl rfl)
theorem dX4_advance_44 : decode cX4_advance 44 = .ok (.putfield 130, 3) := dk_181 0 130 (dk_at dksX4_advance_1 21 rfl rfl)
theorem dX4_advance_47 : decode cX4_advance 47 = .ok (.aload_n 0, 1) := dk_42 (dk_at dksX4_advance_2 0 rfl rfl)
theorem dX4_advance_48 : decode cX4_advance 48 = .ok (.iconst 0, 1) := dk_3 (dk_at dksX4_advance_2 1 rfl rfl)
theorem dX4_advance_49 : decode cX4_advance 49 = .ok (.putfield 133, 3) := dk_181 0 133 (dk_at dksX4_advance_2 2 rfl rfl)
theorem dX4_advance_52 : decode cX4_advance 52 = .ok (.aload_n 0, 1) := dk_42 (dk_at dksX4_advance_2 5 rfl rfl)
theorem dX4_advance_53 : decode cX4_advance 53 = .ok (.aload_n 0, 1) := dk_42 (dk_at dksX4_advance_2 6 rfl rfl)
theorem dX4_advance_54 : decode cX4_advance 54 = .ok (.getfield 123, 3) := dk_180 0 123 (dk_at dksX4_advance_2 7 rfl rfl)
theorem dX4_advance_57 : decode cX4_advance 57 = .ok (.invokevirtual 126, 3) := dk_182 0 126 (dk_at dksX4_advance_2 10 rfl rfl)
theorem dX4_advance_60 : decode cX4_advance 60 = .ok (.istore_n 1, 1) := dk_60 (dk_at dksX4_advance_2 13 rfl rfl)
theorem dX4_advance_61 : decode cX4_advance 61 = .ok (.iload_n 1, 1) := dk_27 (dk_at dksX4_advance_2 14 rfl rfl)
theorem dX4_advance_62 : decode cX4_advance 62 = .ok (.bipush (-2), 2) := dk_16 254 (dk_at dksX4_advance_2 15 rfl rfl)
theorem dX4_advance_64 : decode cX4_advance 64 = .ok (.if_icmp .ne 11, 3) := dk_160 0 11 (dk_at dksX4_advance_2 17 rfl rfl)
theorem dX4_advance_67 : decode cX4_advance 67 = .ok (.aload_n 0, 1) := dk_42 (dk_at dksX4_advance_2 20 rfl rfl)
theorem dX4_advance_68 : decode cX4_advance 68 = .ok (.iconst 0, 1) := dk_3 (dk_at dksX4_advance_2 21 rfl rfl)
theorem dX4_advance_69 : decode cX4_advance 69 = .ok (.putfield 136, 3) := dk_181 0 136 (dk_at dksX4_advance_3 0 rfl rfl)
theorem dX4_advance_72 : decode cX4_advance 72 = .ok (.goto 206, 3) := dk_167 0 206 (dk_at dksX4_advance_3 3 rfl rfl)
theorem dX4_advance_75 : decode cX4_advance 75 = .ok (.iload_n 1, 1) := dk_27 (dk_at dksX4_advance_3 6 rfl rfl)
theorem dX4_advance_76 : decode cX4_advance 76 = .ok (.bipush 97, 2) := dk_16 97 (dk_at dksX4_advance_3 7 rfl rfl)
theorem dX4_advance_78 : decode cX4_advance 78 = .ok (.bipush 122, 2) := dk_16 122 (dk_at dksX4_advance_3 9 rfl rfl)
theorem dX4_advance_80 : decode cX4_advance 80 = .ok (.invokestatic 139, 3) := dk_184 0 139 (dk_at dksX4_advance_3 11 rfl rfl)
theorem dX4_advance_83 : decode cX4_advance 83 = .ok (.ifCond .eq 60, 3) := dk_153 0 60 (dk_at dksX4_advance_3 14 rfl rfl)
theorem dX4_advance_86 : decode cX4_advance 86 = .ok (.aload_n 0, 1) := dk_42 (dk_at dksX4_advance_3 17 rfl rfl)
theorem dX4_advance_87 : decode cX4_advance 87 = .ok (.aload_n 0, 1) := dk_42 (dk_at dksX4_advance_3 18 rfl rfl)
theorem dX4_advance_88 : decode cX4_advance 88 = .ok (.getfield 123, 3) := dk_180 0 123 (dk_at dksX4_advance_3 19 rfl rfl)
theorem dX4_advance_91 : decode cX4_advance 91 = .ok (.invokevirtual 126, 3) := dk_182 0 126 (dk_at dksX4_advance_4 0 rfl rfl)
theorem dX4_advance_94 : decode cX4_advance 94 = .ok (.bipush 97, 2) := dk_16 97 (dk_at dksX4_advance_4 3 rfl rfl)
theorem dX4_advance_96 : decode cX4_advance 96 = .ok (.bipush 122, 2) := dk_16 122 (dk_at dksX4_advance_4 5 rfl rfl)
theorem dX4_advance_98 : decode cX4_advance 98 = .ok (.invokestatic 139, 3) := dk_184 0 139 (dk_at dksX4_advance_4 7 rfl rfl)
theorem dX4_advance_101 : decode cX4_advance 101 = .ok (.ifCond .eq 16, 3) := dk_153 0 16 (dk_at dksX4_advance_4 10 rfl rfl)
theorem dX4_advance_104 : decode cX4_advance 104 = .ok (.aload_n 0, 1) := dk_42 (dk_at dksX4_advance_4 13 rfl rfl)
theorem dX4_advance_105 : decode cX4_advance 105 = .ok (.dup, 1) := dk_89 (dk_at dksX4_advance_4 14 rfl rfl)
theorem dX4_advance_106 : decode cX4_advance 106 = .ok (.getfield 123, 3) := dk_180 0 123 (dk_at dksX4_advance_4 15 rfl rfl)
theorem dX4_advance_109 : decode cX4_advance 109 = .ok (.iconst 1, 1) := dk_4 (dk_at dksX4_advance_4 18 rfl rfl)
theorem dX4_advance_110 : decode cX4_advance 110 = .ok (.iadd, 1) := dk_96 (dk_at dksX4_advance_4 19 rfl rfl)
theorem dX4_advance_111 : decode cX4_advance 111 = .ok (.putfield 123, 3) := dk_181 0 123 (dk_at dksX4_advance_4 20 rfl rfl)
theorem dX4_advance_114 : decode cX4_advance 114 = .ok (.goto (-28), 3) := dk_167 255 228 (dk_at dksX4_advance_5 0 rfl rfl)
theorem dX4_advance_117 : decode cX4_advance 117 = .ok (.aload_n 0, 1) := dk_42 (dk_at dksX4_advance_5 3 rfl rfl)
theorem dX4_advance_118 : decode cX4_advance 118 = .ok (.aload_n 0, 1) := dk_42 (dk_at dksX4_advance_5 4 rfl rfl)
theorem dX4_advance_119 : decode cX4_advance 119 = .ok (.getfield 123, 3) := dk_180 0 123 (dk_at dksX4_advance_5 5 rfl rfl)
theorem dX4_advance_122 : decode cX4_advance 122 = .ok (.aload_n 0, 1) := dk_42 (dk_at dksX4_advance_5 8 rfl rfl)
theorem dX4_advance_123 : decode cX4_advance 123 = .ok (.getfield 130, 3) := dk_180 0 130 (dk_at dksX4_advance_5 9 rfl rfl)
theorem dX4_advance_126 : decode cX4_advance 126 = .ok (.isub, 1) := dk_100 (dk_at dksX4_advance_5 12 rfl rfl)
theorem dX4_advance_127 : decode cX4_advance 127 = .ok (.bipush 8, 2) := dk_16 8 (dk_at dksX4_advance_5 13 rfl rfl)
theorem dX4_advance_129 : decode cX4_advance 129 = .ok (.if_icmp .le 7, 3) := dk_164 0 7 (dk_at dksX4_advance_5 15 rfl rfl)
theorem dX4_advance_132 : decode cX4_advance 132 = .ok (.iconst 4, 1) := dk_7 (dk_at dksX4_advance_5 18 rfl rfl)
theorem dX4_advance_133 : decode cX4_advance 133 = .ok (.goto 4, 3) := dk_167 0 4 (dk_at dksX4_advance_5 19 rfl rfl)
theorem dX4_advance_136 : decode cX4_advance 136 = .ok (.iconst 1, 1) := dk_4 (dk_at dksX4_advance_5 22 rfl rfl)
theorem dX4_advance_137 : decode cX4_advance 137 = .ok (.putfield 136, 3) := dk_181 0 136 (dk_at dksX4_advance_6 0 rfl rfl)
theorem dX4_advance_140 : decode cX4_advance 140 = .ok (.goto 138, 3) := dk_167 0 138 (dk_at dksX4_advance_6 3 rfl rfl)
theorem dX4_advance_143 : decode cX4_advance 143 = .ok (.iload_n 1, 1) := dk_27 (dk_at dksX4_advance_6 6 rfl rfl)
theorem dX4_advance_144 : decode cX4_advance 144 = .ok (.bipush 48, 2) := dk_16 48 (dk_at dksX4_advance_6 7 rfl rfl)
theorem dX4_advance_146 : decode cX4_advance 146 = .ok (.bipush 57, 2) := dk_16 57 (dk_at dksX4_advance_6 9 rfl rfl)
theorem dX4_advance_148 : decode cX4_advance 148 = .ok (.invokestatic 139, 3) := dk_184 0 139 (dk_at dksX4_advance_6 11 rfl rfl)
theorem dX4_advance_151 : decode cX4_advance 151 = .ok (.ifCond .eq 102, 3) := dk_153 0 102 (dk_at dksX4_advance_6 14 rfl rfl)
theorem dX4_advance_154 : decode cX4_advance 154 = .ok (.aload_n 0, 1) := dk_42 (dk_at dksX4_advance_6 17 rfl rfl)
theorem dX4_advance_155 : decode cX4_advance 155 = .ok (.aload_n 0, 1) := dk_42 (dk_at dksX4_advance_6 18 rfl rfl)
theorem dX4_advance_156 : decode cX4_advance 156 = .ok (.getfield 123, 3) := dk_180 0 123 (dk_at dksX4_advance_6 19 rfl rfl)
theorem dX4_advance_159 : decode cX4_advance 159 = .ok (.invokevirtual 126, 3) := dk_182 0 126 (dk_at dksX4_advance_7 0 rfl rfl)
theorem dX4_advance_162 : decode cX4_advance 162 = .ok (.bipush 48, 2) := dk_16 48 (dk_at dksX4_advance_7 3 rfl rfl)
theorem dX4_advance_164 : decode cX4_advance 164 = .ok (.bipush 57, 2) := dk_16 57 (dk_at dksX4_advance_7 5 rfl rfl)
theorem dX4_advance_166 : decode cX4_advance 166 = .ok (.invokestatic 139, 3) := dk_184 0 139 (dk_at dksX4_advance_7 7 rfl rfl)
theorem dX4_advance_169 : decode cX4_advance 169 = .ok (.ifCond .eq 59, 3) := dk_153 0 59 (dk_at dksX4_advance_7 10 rfl rfl)
theorem dX4_advance_172 : decode cX4_advance 172 = .ok (.aload_n 0, 1) := dk_42 (dk_at dksX4_advance_7 13 rfl rfl)
theorem dX4_advance_173 : decode cX4_advance 173 = .ok (.aload_n 0, 1) := dk_42 (dk_at dksX4_advance_7 14 rfl rfl)
theorem dX4_advance_174 : decode cX4_advance 174 = .ok (.getfield 123, 3) := dk_180 0 123 (dk_at dksX4_advance_7 15 rfl rfl)
theorem dX4_advance_177 : decode cX4_advance 177 = .ok (.aload_n 0, 1) := dk_42 (dk_at dksX4_advance_7 18 rfl rfl)
theorem dX4_advance_178 : decode cX4_advance 178 = .ok (.getfield 130, 3) := dk_180 0 130 (dk_at dksX4_advance_7 19 rfl rfl)
theorem dX4_advance_181 : decode cX4_advance 181 = .ok (.isub, 1) := dk_100 (dk_at dksX4_advance_7 22 rfl rfl)
theorem dX4_advance_182 : decode cX4_advance 182 = .ok (.iconst 4, 1) := dk_7 (dk_at dksX4_advance_7 23 rfl rfl)
theorem dX4_advance_183 : decode cX4_advance 183 = .ok (.if_icmp .ge 25, 3) := dk_162 0 25 (dk_at dksX4_advance_8 0 rfl rfl)
theorem dX4_advance_186 : decode cX4_advance 186 = .ok (.bipush 10, 2) := dk_16 10 (dk_at dksX4_advance_8 3 rfl rfl)
theorem dX4_advance_188 : decode cX4_advance 188 = .ok (.aload_n 0, 1) := dk_42 (dk_at dksX4_advance_8 5 rfl rfl)
theorem dX4_advance_189 : decode cX4_advance 189 = .ok (.getfield 133, 3) := dk_180 0 133 (dk_at dksX4_advance_8 6 rfl rfl)
theorem dX4_advance_192 : decode cX4_advance 192 = .ok (.imul, 1) := dk_104 (dk_at dksX4_advance_8 9 rfl rfl)
theorem dX4_advance_193 : decode cX4_advance 193 = .ok (.aload_n 0, 1) := dk_42 (dk_at dksX4_advance_8 10 rfl rfl)
theorem dX4_advance_194 : decode cX4_advance 194 = .ok (.aload_n 0, 1) := dk_42 (dk_at dksX4_advance_8 11 rfl rfl)
theorem dX4_advance_195 : decode cX4_advance 195 = .ok (.getfield 123, 3) := dk_180 0 123 (dk_at dksX4_advance_8 12 rfl rfl)
theorem dX4_advance_198 : decode cX4_advance 198 = .ok (.invokevirtual 126, 3) := dk_182 0 126 (dk_at dksX4_advance_8 15 rfl rfl)
theorem dX4_advance_201 : decode cX4_advance 201 = .ok (.iadd, 1) := dk_96 (dk_at dksX4_advance_8 18 rfl rfl)
theorem dX4_advance_202 : decode cX4_advance 202 = .ok (.bipush 48, 2) := dk_16 48 (dk_at dksX4_advance_8 19 rfl rfl)
theorem dX4_advance_204 : decode cX4_advance 204 = .ok (.isub, 1) := dk_100 (dk_at dksX4_advance_8 21 rfl rfl)
theorem dX4_advance_205 : decode cX4_advance 205 = .ok (.goto 7, 3) := dk_167 0 7 (dk_at dksX4_advance_9 0 rfl rfl)
theorem dX4_advance_208 : decode cX4_advance 208 = .ok (.aload_n 0, 1) := dk_42 (dk_at dksX4_advance_9 3 rfl rfl)
theorem dX4_advance_209 : decode cX4_advance 209 = .ok (.getfield 133, 3) := dk_180 0 133 (dk_at dksX4_advance_9 4 rfl rfl)
theorem dX4_advance_212 : decode cX4_advance 212 = .ok (.putfield 133, 3) := dk_181 0 133 (dk_at dksX4_advance_9 7 rfl rfl)
theorem dX4_advance_215 : decode cX4_advance 215 = .ok (.aload_n 0, 1) := dk_42 (dk_at dksX4_advance_9 10 rfl rfl)
theorem dX4_advance_216 : decode cX4_advance 216 = .ok (.dup, 1) := dk_89 (dk_at dksX4_advance_9 11 rfl rfl)
theorem dX4_advance_217 : decode cX4_advance 217 = .ok (.getfield 123, 3) := dk_180 0 123 (dk_at dksX4_advance_9 12 rfl rfl)
theorem dX4_advance_220 : decode cX4_advance 220 = .ok (.iconst 1, 1) := dk_4 (dk_at dksX4_advance_9 15 rfl rfl)
theorem dX4_advance_221 : decode cX4_advance 221 = .ok (.iadd, 1) := dk_96 (dk_at dksX4_advance_9 16 rfl rfl)
theorem dX4_advance_222 : decode cX4_advance 222 = .ok (.putfield 123, 3) := dk_181 0 123 (dk_at dksX4_advance_9 17 rfl rfl)
theorem dX4_advance_225 : decode cX4_advance 225 = .ok (.goto (-71), 3) := dk_167 255 185 (dk_at dksX4_advance_9 20 rfl rfl)
theorem dX4_advance_228 : decode cX4_advance 228 = .ok (.aload_n 0, 1) := dk_42 (dk_at dksX4_advance_9 23 rfl rfl)
theorem dX4_advance_229 : decode cX4_advance 229 = .ok (.aload_n 0, 1) := dk_42 (dk_at dksX4_advance_10 0 rfl rfl)
theorem dX4_advance_230 : decode cX4_advance 230 = .ok (.getfield 123, 3) := dk_180 0 123 (dk_at dksX4_advance_10 1 rfl rfl)
theorem dX4_advance_233 : decode cX4_advance 233 = .ok (.aload_n 0, 1) := dk_42 (dk_at dksX4_advance_10 4 rfl rfl)
theorem dX4_advance_234 : decode cX4_advance 234 = .ok (.getfield 130, 3) := dk_180 0 130 (dk_at dksX4_advance_10 5 rfl rfl)
theorem dX4_advance_237 : decode cX4_advance 237 = .ok (.isub, 1) := dk_100 (dk_at dksX4_advance_10 8 rfl rfl)
theorem dX4_advance_238 : decode cX4_advance 238 = .ok (.iconst 4, 1) := dk_7 (dk_at dksX4_advance_10 9 rfl rfl)
theorem dX4_advance_239 : decode cX4_advance 239 = .ok (.if_icmp .le 7, 3) := dk_164 0 7 (dk_at dksX4_advance_10 10 rfl rfl)
theorem dX4_advance_242 : decode cX4_advance 242 = .ok (.iconst 4, 1) := dk_7 (dk_at dksX4_advance_10 13 rfl rfl)
theorem dX4_advance_243 : decode cX4_advance 243 = .ok (.goto 4, 3) := dk_167 0 4 (dk_at dksX4_advance_10 14 rfl rfl)
theorem dX4_advance_246 : decode cX4_advance 246 = .ok (.iconst 2, 1) := dk_5 (dk_at dksX4_advance_10 17 rfl rfl)
theorem dX4_advance_247 : decode cX4_advance 247 = .ok (.putfield 136, 3) := dk_181 0 136 (dk_at dksX4_advance_10 18 rfl rfl)
theorem dX4_advance_250 : decode cX4_advance 250 = .ok (.goto 28, 3) := dk_167 0 28 (dk_at dksX4_advance_10 21 rfl rfl)
theorem dX4_advance_253 : decode cX4_advance 253 = .ok (.aload_n 0, 1) := dk_42 (dk_at dksX4_advance_11 0 rfl rfl)
theorem dX4_advance_254 : decode cX4_advance 254 = .ok (.dup, 1) := dk_89 (dk_at dksX4_advance_11 1 rfl rfl)
theorem dX4_advance_255 : decode cX4_advance 255 = .ok (.getfield 123, 3) := dk_180 0 123 (dk_at dksX4_advance_11 2 rfl rfl)
theorem dX4_advance_258 : decode cX4_advance 258 = .ok (.iconst 1, 1) := dk_4 (dk_at dksX4_advance_11 5 rfl rfl)
theorem dX4_advance_259 : decode cX4_advance 259 = .ok (.iadd, 1) := dk_96 (dk_at dksX4_advance_11 6 rfl rfl)
theorem dX4_advance_260 : decode cX4_advance 260 = .ok (.putfield 123, 3) := dk_181 0 123 (dk_at dksX4_advance_11 7 rfl rfl)
theorem dX4_advance_263 : decode cX4_advance 263 = .ok (.aload_n 0, 1) := dk_42 (dk_at dksX4_advance_11 10 rfl rfl)
theorem dX4_advance_264 : decode cX4_advance 264 = .ok (.iload_n 1, 1) := dk_27 (dk_at dksX4_advance_11 11 rfl rfl)
theorem dX4_advance_265 : decode cX4_advance 265 = .ok (.bipush 59, 2) := dk_16 59 (dk_at dksX4_advance_11 12 rfl rfl)
theorem dX4_advance_267 : decode cX4_advance 267 = .ok (.if_icmp .ne 7, 3) := dk_160 0 7 (dk_at dksX4_advance_11 14 rfl rfl)
theorem dX4_advance_270 : decode cX4_advance 270 = .ok (.iconst 3, 1) := dk_6 (dk_at dksX4_advance_11 17 rfl rfl)
theorem dX4_advance_271 : decode cX4_advance 271 = .ok (.goto 4, 3) := dk_167 0 4 (dk_at dksX4_advance_11 18 rfl rfl)
theorem dX4_advance_274 : decode cX4_advance 274 = .ok (.iconst 4, 1) := dk_7 (dk_at dksX4_advance_11 21 rfl rfl)
theorem dX4_advance_275 : decode cX4_advance 275 = .ok (.putfield 136, 3) := dk_181 0 136 (dk_at dksX4_advance_12 0 rfl rfl)
theorem dX4_advance_278 : decode cX4_advance 278 = .ok (.return_, 1) := dk_177 (dk_at dksX4_advance_12 3 rfl rfl)
abbrev cX4_byteAt : ByteArray := prog_16_method_7_code
def yX4_byteAt : MethodName := ⟨RX4, "byteAt", "(I)I"⟩
def dkwX4_byteAt_0 : List UInt8 := [27, 42, 180, 0, 120, 162, 0, 16, 42, 180, 0, 71, 27, 51, 17, 0, 255, 126, 167, 0, 5, 16, 254, 172]
abbrev dktX4_byteAt_0 : List UInt8 := dkwX4_byteAt_0 ++ []
theorem dksX4_byteAt_0 : cX4_byteAt.data.toList.drop 0 = dktX4_byteAt_0 := by decide +kernel
theorem dX4_byteAt_0 : decode cX4_byteAt 0 = .ok (.iload_n 1, 1) := dk_27 (dk_at dksX4_byteAt_0 0 rfl rfl)
theorem dX4_byteAt_1 : decode cX4_byteAt 1 = .ok (.aload_n 0, 1) := dk_42 (dk_at dksX4_byteAt_0 1 rfl rfl)
theorem dX4_byteAt_2 : decode cX4_byteAt 2 = .ok (.getfield 120, 3) := dk_180 0 120 (dk_at dksX4_byteAt_0 2 rfl rfl)
theorem dX4_byteAt_5 : decode cX4_byteAt 5 = .ok (.if_icmp .ge 16, 3) := dk_162 0 16 (dk_at dksX4_byteAt_0 5 rfl rfl)
theorem dX4_byteAt_8 : decode cX4_byteAt 8 = .ok (.aload_n 0, 1) := dk_42 (dk_at dksX4_byteAt_0 8 rfl rfl)
theorem dX4_byteAt_9 : decode cX4_byteAt 9 = .ok (.getfield 71, 3) := dk_180 0 71 (dk_at dksX4_byteAt_0 9 rfl rfl)
theorem dX4_byteAt_12 : decode cX4_byteAt 12 = .ok (.iload_n 1, 1) := dk_27 (dk_at dksX4_byteAt_0 12 rfl rfl)
theorem dX4_byteAt_13 : decode cX4_byteAt 13 = .ok (.baload, 1) := dk_51 (dk_at dksX4_byteAt_0 13 rfl rfl)
theorem dX4_byteAt_14 : decode cX4_byteAt 14 = .ok (.sipush 255, 3) := dk_17 0 255 (dk_at dksX4_byteAt_0 14 rfl rfl)
theorem dX4_byteAt_17 : decode cX4_byteAt 17 = .ok (.iand, 1) := dk_126 (dk_at dksX4_byteAt_0 17 rfl rfl)
theorem dX4_byteAt_18 : decode cX4_byteAt 18 = .ok (.goto 5, 3) := dk_167 0 5 (dk_at dksX4_byteAt_0 18 rfl rfl)
theorem dX4_byteAt_21 : decode cX4_byteAt 21 = .ok (.bipush (-2), 2) := dk_16 254 (dk_at dksX4_byteAt_0 21 rfl rfl)
theorem dX4_byteAt_23 : decode cX4_byteAt 23 = .ok (.ireturn, 1) := dk_172 (dk_at dksX4_byteAt_0 23 rfl rfl)
abbrev cX4_statement : ByteArray := prog_16_method_20_code
def yX4_statement : MethodName := ⟨RX4, "statement", "()Z"⟩
def dkwX4_statement_4 : List UInt8 := [42, 180, 0, 136, 6, 159, 0, 9, 42, 4, 182, 0, 155, 172, 42, 182, 0, 162, 4, 172]
abbrev dktX4_statement_4 : List UInt8 := dkwX4_statement_4 ++ []
def dkwX4_statement_3 : List UInt8 := [182, 0, 178, 153, 0, 10, 42, 182, 0, 220, 167, 0, 7, 42, 182, 0, 223, 60, 27, 154, 0, 5, 3, 172]
abbrev dktX4_statement_3 : List UInt8 := dkwX4_statement_3 ++ dktX4_statement_4
def dkwX4_statement_2 : List UInt8 := [167, 0, 39, 42, 18, 213, 182, 0, 178, 153, 0, 10, 42, 182, 0, 215, 167, 0, 23, 42, 18, 218]
abbrev dktX4_statement_2 : List UInt8 := dkwX4_statement_2 ++ dktX4_statement_3
def dkwX4_statement_1 : List UInt8 := [153, 0, 10, 42, 182, 0, 205, 167, 0, 55, 42, 18, 208, 182, 0, 178, 153, 0, 10, 42, 182, 0, 210]
abbrev dktX4_statement_1 : List UInt8 := dkwX4_statement_1 ++ dktX4_statement_2
def dkwX4_statement_0 : List UInt8 := [42, 18, 197, 182, 0, 178, 153, 0, 10, 42, 182, 0, 199, 167, 0, 71, 42, 18, 203, 182, 0, 178]
abbrev dktX4_statement_0 : List UInt8 := dkwX4_statement_0 ++ dktX4_statement_1
theorem dksX4_statement_0 : cX4_statement.data.toList.drop 0 = dktX4_statement_0 := by decide +kernel
theorem dksX4_statement_1 : cX4_statement.data.toList.drop 22 = dktX4_statement_1 := dk_seg dksX4_statement_0 22 rfl rfl
theorem dksX4_statement_2 : cX4_statement.data.toList.drop 45 = dktX4_statement_2 := dk_seg dksX4_statement_1 23 rfl rfl
theorem dksX4_statement_3 : cX4_statement.data.toList.drop 67 = dktX4_statement_3 := dk_seg dksX4_statement_2 22 rfl rfl
theorem dksX4_statement_4 : cX4_statement.data.toList.drop 91 = dktX4_statement_4 := dk_seg dksX4_statement_3 24 rfl rfl
theorem dX4_statement_0 : decode cX4_statement 0 = .ok (.aload_n 0, 1) := dk_42 (dk_at dksX4_statement_0 0 rfl rfl)
theorem dX4_statement_1 : decode cX4_statement 1 = .ok (.ldc 197, 2) := dk_18 197 (dk_at dksX4_statement_0 1 rfl rfl)
theorem dX4_statement_3 : decode cX4_statement 3 = .ok (.invokevirtual 178, 3) := dk_182 0 178 (dk_at dksX4_statement_0 3 rfl rfl)
theorem dX4_statement_6 : decode cX4_statement 6 = .ok (.ifCond .eq 10, 3) := dk_153 0 10 (dk_at dksX4_statement_0 6 rfl rfl)
theorem dX4_statement_9 : decode cX4_statement 9 = .ok (.aload_n 0, 1) := dk_42 (dk_at dksX4_statement_0 9 rfl rfl)
theorem dX4_statement_10 : decode cX4_statement 10 = .ok (.invokevirtual 199, 3) := dk_182 0 199 (dk_at dksX4_statement_0 10 rfl rfl)
theorem dX4_statement_13 : decode cX4_statement 13 = .ok (.goto 71, 3) := dk_167 0 71 (dk_at dksX4_statement_0 13 rfl rfl)
theorem dX4_statement_16 : decode cX4_statement 16 = .ok (.aload_n 0, 1) := dk_42 (dk_at dksX4_statement_0 16 rfl rfl)
theorem dX4_statement_17 : decode cX4_statement 17 = .ok (.ldc 203, 2) := dk_18 203 (dk_at dksX4_statement_0 17 rfl rfl)
theorem dX4_statement_19 : decode cX4_statement 19 = .ok (.invokevirtual 178, 3) := dk_182 0 178 (dk_at dksX4_statement_0 19 rfl rfl)
theorem dX4_statement_22 : decode cX4_statement 22 = .ok (.ifCond .eq 10, 3) := dk_153 0 10 (dk_at dksX4_statement_1 0 rfl rfl)
theorem dX4_statement_25 : decode cX4_statement 25 = .ok (.aload_n 0, 1) := dk_42 (dk_at dksX4_statement_1 3 rfl rfl)
theorem dX4_statement_26 : decode cX4_statement 26 = .ok (.invokevirtual 205, 3) := dk_182 0 205 (dk_at dksX4_statement_1 4 rfl rfl)
theorem dX4_statement_29 : decode cX4_statement 29 = .ok (.goto 55, 3) := dk_167 0 55 (dk_at dksX4_statement_1 7 rfl rfl)
theorem dX4_statement_32 : decode cX4_statement 32 = .ok (.aload_n 0, 1) := dk_42 (dk_at dksX4_statement_1 10 rfl rfl)
theorem dX4_statement_33 : decode cX4_statement 33 = .ok (.ldc 208, 2) := dk_18 208 (dk_at dksX4_statement_1 11 rfl rfl)
theorem dX4_statement_35 : decode cX4_statement 35 = .ok (.invokevirtual 178, 3) := dk_182 0 178 (dk_at dksX4_statement_1 13 rfl rfl)
theorem dX4_statement_38 : decode cX4_statement 38 = .ok (.ifCond .eq 10, 3) := dk_153 0 10 (dk_at dksX4_statement_1 16 rfl rfl)
theorem dX4_statement_41 : decode cX4_statement 41 = .ok (.aload_n 0, 1) := dk_42 (dk_at dksX4_statement_1 19 rfl rfl)
theorem dX4_statement_42 : decode cX4_statement 42 = .ok (.invokevirtual 210, 3) := dk_182 0 210 (dk_at dksX4_statement_1 20 rfl rfl)
theorem dX4_statement_45 : decode cX4_statement 45 = .ok (.goto 39, 3) := dk_167 0 39 (dk_at dksX4_statement_2 0 rfl rfl)
theorem dX4_statement_48 : decode cX4_statement 48 = .ok (.aload_n 0, 1) := dk_42 (dk_at dksX4_statement_2 3 rfl rfl)
theorem dX4_statement_49 : decode cX4_statement 49 = .ok (.ldc 213, 2) := dk_18 213 (dk_at dksX4_statement_2 4 rfl rfl)
theorem dX4_statement_51 : decode cX4_statement 51 = .ok (.invokevirtual 178, 3) := dk_182 0 178 (dk_at dksX4_statement_2 6 rfl rfl)
theorem dX4_statement_54 : decode cX4_statement 54 = .ok (.ifCond .eq 10, 3) := dk_153 0 10 (dk_at dksX4_statement_2 9 rfl rfl)
theorem dX4_statement_57 : decode cX4_statement 57 = .ok (.aload_n 0, 1) := dk_42 (dk_at dksX4_statement_2 12 rfl rfl)
theorem dX4_statement_58 : decode cX4_statement 58 = .ok (.invokevirtual 215, 3) := dk_182 0 215 (dk_at dksX4_statement_2 13 rfl rfl)
theorem dX4_statement_61 : decode cX4_statement 61 = .ok (.goto 23, 3) := dk_167 0 23 (dk_at dksX4_statement_2 16 rfl rfl)
theorem dX4_statement_64 : decode cX4_statement 64 = .ok (.aload_n 0, 1) := dk_42 (dk_at dksX4_statement_2 19 rfl rfl)
theorem dX4_statement_65 : decode cX4_statement 65 = .ok (.ldc 218, 2) := dk_18 218 (dk_at dksX4_statement_2 20 rfl rfl)
theorem dX4_statement_67 : decode cX4_statement 67 = .ok (.invokevirtual 178, 3) := dk_182 0 178 (dk_at dksX4_statement_3 0 rfl rfl)
theorem dX4_statement_70 : decode cX4_statement 70 = .ok (.ifCond .eq 10, 3) := dk_153 0 10 (dk_at dksX4_statement_3 3 rfl rfl)
theorem dX4_statement_73 : decode cX4_statement 73 = .ok (.aload_n 0, 1) := dk_42 (dk_at dksX4_statement_3 6 rfl rfl)
theorem dX4_statement_74 : decode cX4_statement 74 = .ok (.invokevirtual 220, 3) := dk_182 0 220 (dk_at dksX4_statement_3 7 rfl rfl)
theorem dX4_statement_77 : decode cX4_statement 77 = .ok (.goto 7, 3) := dk_167 0 7 (dk_at dksX4_statement_3 10 rfl rfl)
theorem dX4_statement_80 : decode cX4_statement 80 = .ok (.aload_n 0, 1) := dk_42 (dk_at dksX4_statement_3 13 rfl rfl)
theorem dX4_statement_81 : decode cX4_statement 81 = .ok (.invokevirtual 223, 3) := dk_182 0 223 (dk_at dksX4_statement_3 14 rfl rfl)
theorem dX4_statement_84 : decode cX4_statement 84 = .ok (.istore_n 1, 1) := dk_60 (dk_at dksX4_statement_3 17 rfl rfl)
theorem dX4_statement_85 : decode cX4_statement 85 = .ok (.iload_n 1, 1) := dk_27 (dk_at dksX4_statement_3 18 rfl rfl)
theorem dX4_statement_86 : decode cX4_statement 86 = .ok (.ifCond .ne 5, 3) := dk_154 0 5 (dk_at dksX4_statement_3 19 rfl rfl)
theorem dX4_statement_89 : decode cX4_statement 89 = .ok (.iconst 0, 1) := dk_3 (dk_at dksX4_statement_3 22 rfl rfl)
theorem dX4_statement_90 : decode cX4_statement 90 = .ok (.ireturn, 1) := dk_172 (dk_at dksX4_statement_3 23 rfl rfl)
theorem dX4_statement_91 : decode cX4_statement 91 = .ok (.aload_n 0, 1) := dk_42 (dk_at dksX4_statement_4 0 rfl rfl)
theorem dX4_statement_92 : decode cX4_statement 92 = .ok (.getfield 136, 3) := dk_180 0 136 (dk_at dksX4_statement_4 1 rfl rfl)
theorem dX4_statement_95 : decode cX4_statement 95 = .ok (.iconst 3, 1) := dk_6 (dk_at dksX4_statement_4 4 rfl rfl)
theorem dX4_statement_96 : decode cX4_statement 96 = .ok (.if_icmp .eq 9, 3) := dk_159 0 9 (dk_at dksX4_statement_4 5 rfl rfl)
theorem dX4_statement_99 : decode cX4_statement 99 = .ok (.aload_n 0, 1) := dk_42 (dk_at dksX4_statement_4 8 rfl rfl)
theorem dX4_statement_100 : decode cX4_statement 100 = .ok (.iconst 1, 1) := dk_4 (dk_at dksX4_statement_4 9 rfl rfl)
theorem dX4_statement_101 : decode cX4_statement 101 = .ok (.invokevirtual 155, 3) := dk_182 0 155 (dk_at dksX4_statement_4 10 rfl rfl)
theorem dX4_statement_104 : decode cX4_statement 104 = .ok (.ireturn, 1) := dk_172 (dk_at dksX4_statement_4 13 rfl rfl)
theorem dX4_statement_105 : decode cX4_statement 105 = .ok (.aload_n 0, 1) := dk_42 (dk_at dksX4_statement_4 14 rfl rfl)
theorem dX4_statement_106 : decode cX4_statement 106 = .ok (.invokevirtual 162, 3) := dk_182 0 162 (dk_at dksX4_statement_4 15 rfl rfl)
theorem dX4_statement_109 : decode cX4_statement 109 = .ok (.iconst 1, 1) := dk_4 (dk_at dksX4_statement_4 18 rfl rfl)
theorem dX4_statement_110 : decode cX4_statement 110 = .ok (.ireturn, 1) := dk_172 (dk_at dksX4_statement_4 19 rfl rfl)
abbrev cX4_isWord : ByteArray := prog_16_method_9_code
def yX4_isWord : MethodName := ⟨RX4, "isWord", "(Ljava/lang/String;)Z"⟩
def dkwX4_isWord_3 : List UInt8 := [167, 255, 216, 28, 172]
abbrev dktX4_isWord_3 : List UInt8 := dkwX4_isWord_3 ++ []
def dkwX4_isWord_2 : List UInt8 := [42, 180, 0, 130, 29, 96, 51, 43, 29, 182, 0, 148, 160, 0, 7, 4, 167, 0, 4, 3, 61, 132, 3, 1]
abbrev dktX4_isWord_2 : List UInt8 := dkwX4_isWord_2 ++ dktX4_isWord_3
def dkwX4_isWord_1 : List UInt8 := [4, 167, 0, 4, 3, 61, 3, 62, 29, 43, 182, 0, 143, 162, 0, 38, 28, 153, 0, 34, 42, 180, 0, 71]
abbrev dktX4_isWord_1 : List UInt8 := dkwX4_isWord_1 ++ dktX4_isWord_2
def dkwX4_isWord_0 : List UInt8 := [42, 180, 0, 136, 4, 160, 0, 23, 42, 180, 0, 123, 42, 180, 0, 130, 100, 43, 182, 0, 143, 160, 0, 7]
abbrev dktX4_isWord_0 : List UInt8 := dkwX4_isWord_0 ++ dktX4_isWord_1
theorem dksX4_isWord_0 : cX4_isWord.data.toList.drop 0 = dktX4_isWord_0 := by decide +kernel
theorem dksX4_isWord_1 : cX4_isWord.data.toList.drop 24 = dktX4_isWord_1 := dk_seg dksX4_isWord_0 24 rfl rfl
theorem dksX4_isWord_2 : cX4_isWord.data.toList.drop 48 = dktX4_isWord_2 := dk_seg dksX4_isWord_1 24 rfl rfl
theorem dksX4_isWord_3 : cX4_isWord.data.toList.drop 72 = dktX4_isWord_3 := dk_seg dksX4_isWord_2 24 rfl rfl
theorem dX4_isWord_0 : decode cX4_isWord 0 = .ok (.aload_n 0, 1) := dk_42 (dk_at dksX4_isWord_0 0 rfl rfl)
theorem dX4_isWord_1 : decode cX4_isWord 1 = .ok (.getfield 136, 3) := dk_180 0 136 (dk_at dksX4_isWord_0 1 rfl rfl)
theorem dX4_isWord_4 : decode cX4_isWord 4 = .ok (.iconst 1, 1) := dk_4 (dk_at dksX4_isWord_0 4 rfl rfl)
theorem dX4_isWord_5 : decode cX4_isWord 5 = .ok (.if_icmp .ne 23, 3) := dk_160 0 23 (dk_at dksX4_isWord_0 5 rfl rfl)
theorem dX4_isWord_8 : decode cX4_isWord 8 = .ok (.aload_n 0, 1) := dk_42 (dk_at dksX4_isWord_0 8 rfl rfl)
theorem dX4_isWord_9 : decode cX4_isWord 9 = .ok (.getfield 123, 3) := dk_180 0 123 (dk_at dksX4_isWord_0 9 rfl rfl)
theorem dX4_isWord_12 : decode cX4_isWord 12 = .ok (.aload_n 0, 1) := dk_42 (dk_at dksX4_isWord_0 12 rfl rfl)
theorem dX4_isWord_13 : decode cX4_isWord 13 = .ok (.getfield 130, 3) := dk_180 0 130 (dk_at dksX4_isWord_0 13 rfl rfl)
theorem dX4_isWord_16 : decode cX4_isWord 16 = .ok (.isub, 1) := dk_100 (dk_at dksX4_isWord_0 16 rfl rfl)
theorem dX4_isWord_17 : decode cX4_isWord 17 = .ok (.aload_n 1, 1) := dk_43 (dk_at dksX4_isWord_0 17 rfl rfl)
theorem dX4_isWord_18 : decode cX4_isWord 18 = .ok (.invokevirtual 143, 3) := dk_182 0 143 (dk_at dksX4_isWord_0 18 rfl rfl)
theorem dX4_isWord_21 : decode cX4_isWord 21 = .ok (.if_icmp .ne 7, 3) := dk_160 0 7 (dk_at dksX4_isWord_0 21 rfl rfl)
theorem dX4_isWord_24 : decode cX4_isWord 24 = .ok (.iconst 1, 1) := dk_4 (dk_at dksX4_isWord_1 0 rfl rfl)
theorem dX4_isWord_25 : decode cX4_isWord 25 = .ok (.goto 4, 3) := dk_167 0 4 (dk_at dksX4_isWord_1 1 rfl rfl)
theorem dX4_isWord_28 : decode cX4_isWord 28 = .ok (.iconst 0, 1) := dk_3 (dk_at dksX4_isWord_1 4 rfl rfl)
theorem dX4_isWord_29 : decode cX4_isWord 29 = .ok (.istore_n 2, 1) := dk_61 (dk_at dksX4_isWord_1 5 rfl rfl)
theorem dX4_isWord_30 : decode cX4_isWord 30 = .ok (.iconst 0, 1) := dk_3 (dk_at dksX4_isWord_1 6 rfl rfl)
theorem dX4_isWord_31 : decode cX4_isWord 31 = .ok (.istore_n 3, 1) := dk_62 (dk_at dksX4_isWord_1 7 rfl rfl)
theorem dX4_isWord_32 : decode cX4_isWord 32 = .ok (.iload_n 3, 1) := dk_29 (dk_at dksX4_isWord_1 8 rfl rfl)
theorem dX4_isWord_33 : decode cX4_isWord 33 = .ok (.aload_n 1, 1) := dk_43 (dk_at dksX4_isWord_1 9 rfl rfl)
theorem dX4_isWord_34 : decode cX4_isWord 34 = .ok (.invokevirtual 143, 3) := dk_182 0 143 (dk_at dksX4_isWord_1 10 rfl rfl)
theorem dX4_isWord_37 : decode cX4_isWord 37 = .ok (.if_icmp .ge 38, 3) := dk_162 0 38 (dk_at dksX4_isWord_1 13 rfl rfl)
theorem dX4_isWord_40 : decode cX4_isWord 40 = .ok (.iload_n 2, 1) := dk_28 (dk_at dksX4_isWord_1 16 rfl rfl)
theorem dX4_isWord_41 : decode cX4_isWord 41 = .ok (.ifCond .eq 34, 3) := dk_153 0 34 (dk_at dksX4_isWord_1 17 rfl rfl)
theorem dX4_isWord_44 : decode cX4_isWord 44 = .ok (.aload_n 0, 1) := dk_42 (dk_at dksX4_isWord_1 20 rfl rfl)
theorem dX4_isWord_45 : decode cX4_isWord 45 = .ok (.getfield 71, 3) := dk_180 0 71 (dk_at dksX4_isWord_1 21 rfl rfl)
theorem dX4_isWord_48 : decode cX4_isWord 48 = .ok (.aload_n 0, 1) := dk_42 (dk_at dksX4_isWord_2 0 rfl rfl)
theorem dX4_isWord_49 : decode cX4_isWord 49 = .ok (.getfield 130, 3) := dk_180 0 130 (dk_at dksX4_isWord_2 1 rfl rfl)
theorem dX4_isWord_52 : decode cX4_isWord 52 = .ok (.iload_n 3, 1) := dk_29 (dk_at dksX4_isWord_2 4 rfl rfl)
theorem dX4_isWord_53 : decode cX4_isWord 53 = .ok (.iadd, 1) := dk_96 (dk_at dksX4_isWord_2 5 rfl rfl)
theorem dX4_isWord_54 : decode cX4_isWord 54 = .ok (.baload, 1) := dk_51 (dk_at dksX4_isWord_2 6 rfl rfl)
theorem dX4_isWord_55 : decode cX4_isWord 55 = .ok (.aload_n 1, 1) := dk_43 (dk_at dksX4_isWord_2 7 rfl rfl)
theorem dX4_isWord_56 : decode cX4_isWord 56 = .ok (.iload_n 3, 1) := dk_29 (dk_at dksX4_isWord_2 8 rfl rfl)
theorem dX4_isWord_57 : decode cX4_isWord 57 = .ok (.invokevirtual 148, 3) := dk_182 0 148 (dk_at dksX4_isWord_2 9 rfl rfl)
theorem dX4_isWord_60 : decode cX4_isWord 60 = .ok (.if_icmp .ne 7, 3) := dk_160 0 7 (dk_at dksX4_isWord_2 12 rfl rfl)
theorem dX4_isWord_63 : decode cX4_isWord 63 = .ok (.iconst 1, 1) := dk_4 (dk_at dksX4_isWord_2 15 rfl rfl)
theorem dX4_isWord_64 : decode cX4_isWord 64 = .ok (.goto 4, 3) := dk_167 0 4 (dk_at dksX4_isWord_2 16 rfl rfl)
theorem dX4_isWord_67 : decode cX4_isWord 67 = .ok (.iconst 0, 1) := dk_3 (dk_at dksX4_isWord_2 19 rfl rfl)
theorem dX4_isWord_68 : decode cX4_isWord 68 = .ok (.istore_n 2, 1) := dk_61 (dk_at dksX4_isWord_2 20 rfl rfl)
theorem dX4_isWord_69 : decode cX4_isWord 69 = .ok (.iinc 3 1, 3) := dk_132 3 1 (dk_at dksX4_isWord_2 21 rfl rfl)
theorem dX4_isWord_72 : decode cX4_isWord 72 = .ok (.goto (-40), 3) := dk_167 255 216 (dk_at dksX4_isWord_3 0 rfl rfl)
theorem dX4_isWord_75 : decode cX4_isWord 75 = .ok (.iload_n 2, 1) := dk_28 (dk_at dksX4_isWord_3 3 rfl rfl)
theorem dX4_isWord_76 : decode cX4_isWord 76 = .ok (.ireturn, 1) := dk_172 (dk_at dksX4_isWord_3 4 rfl rfl)
abbrev cX4_regionLine : ByteArray := prog_16_method_13_code
def yX4_regionLine : MethodName := ⟨RX4, "regionLine", "()Z"⟩
def dkwX4_regionLine_4 : List UInt8 := [180, 0, 26, 27, 42, 180, 0, 159, 79, 42, 180, 0, 17, 4, 92, 46, 4, 96, 79, 4, 172]
abbrev dktX4_regionLine_4 : List UInt8 := dkwX4_regionLine_4 ++ []
def dkwX4_regionLine_3 : List UInt8 := [180, 0, 23, 27, 42, 180, 0, 159, 79, 42, 3, 16, 10, 182, 0, 169, 154, 0, 5, 3, 172, 42]
abbrev dktX4_regionLine_3 : List UInt8 := dkwX4_regionLine_3 ++ dktX4_regionLine_4
def dkwX4_regionLine_2 : List UInt8 := [180, 0, 20, 27, 42, 180, 0, 159, 79, 42, 4, 16, 9, 182, 0, 169, 154, 0, 5, 3, 172, 42]
abbrev dktX4_regionLine_2 : List UInt8 := dkwX4_regionLine_2 ++ dktX4_regionLine_3
def dkwX4_regionLine_1 : List UInt8 := [167, 0, 4, 3, 182, 0, 165, 153, 0, 13, 42, 3, 16, 10, 182, 0, 169, 154, 0, 5, 3, 172, 42]
abbrev dktX4_regionLine_1 : List UInt8 := dkwX4_regionLine_1 ++ dktX4_regionLine_2
def dkwX4_regionLine_0 : List UInt8 := [16, 8, 42, 180, 0, 17, 4, 46, 96, 60, 42, 42, 180, 0, 17, 4, 46, 16, 8, 162, 0, 7, 4]
abbrev dktX4_regionLine_0 : List UInt8 := dkwX4_regionLine_0 ++ dktX4_regionLine_1
theorem dksX4_regionLine_0 : cX4_regionLine.data.toList.drop 0 = dktX4_regionLine_0 := by decide +kernel
theorem dksX4_regionLine_1 : cX4_regionLine.data.toList.drop 23 = dktX4_regionLine_1 := dk_seg dksX4_regionLine_0 23 rfl rfl
theorem dksX4_regionLine_2 : cX4_regionLine.data.toList.drop 46 = dktX4_regionLine_2 := dk_seg dksX4_regionLine_1 23 rfl rfl
theorem dksX4_regionLine_3 : cX4_regionLine.data.toList.drop 68 = dktX4_regionLine_3 := dk_seg dksX4_regionLine_2 22 rfl rfl
theorem dksX4_regionLine_4 : cX4_regionLine.data.toList.drop 90 = dktX4_regionLine_4 := dk_seg dksX4_regionLine_3 22 rfl rfl
theorem dX4_regionLine_0 : decode cX4_regionLine 0 = .ok (.bipush 8, 2) := dk_16 8 (dk_at dksX4_regionLine_0 0 rfl rfl)
theorem dX4_regionLine_2 : decode cX4_regionLine 2 = .ok (.aload_n 0, 1) := dk_42 (dk_at dksX4_regionLine_0 2 rfl rfl)
theorem dX4_regionLine_3 : decode cX4_regionLine 3 = .ok (.getfield 17, 3) := dk_180 0 17 (dk_at dksX4_regionLine_0 3 rfl rfl)
theorem dX4_regionLine_6 : decode cX4_regionLine 6 = .ok (.iconst 1, 1) := dk_4 (dk_at dksX4_regionLine_0 6 rfl rfl)
theorem dX4_regionLine_7 : decode cX4_regionLine 7 = .ok (.iaload, 1) := dk_46 (dk_at dksX4_regionLine_0 7 rfl rfl)
theorem dX4_regionLine_8 : decode cX4_regionLine 8 = .ok (.iadd, 1) := dk_96 (dk_at dksX4_regionLine_0 8 rfl rfl)
theorem dX4_regionLine_9 : decode cX4_regionLine 9 = .ok (.istore_n 1, 1) := dk_60 (dk_at dksX4_regionLine_0 9 rfl rfl)
theorem dX4_regionLine_10 : decode cX4_regionLine 10 = .ok (.aload_n 0, 1) := dk_42 (dk_at dksX4_regionLine_0 10 rfl rfl)
theorem dX4_regionLine_11 : decode cX4_regionLine 11 = .ok (.aload_n 0, 1) := dk_42 (dk_at dksX4_regionLine_0 11 rfl rfl)
theorem dX4_regionLine_12 : decode cX4_regionLine 12 = .ok (.getfield 17, 3) := dk_180 0 17 (dk_at dksX4_regionLine_0 12 rfl rfl)
theorem dX4_regionLine_15 : decode cX4_regionLine 15 = .ok (.iconst 1, 1) := dk_4 (dk_at dksX4_regionLine_0 15 rfl rfl)
theorem dX4_regionLine_16 : decode cX4_regionLine 16 = .ok (.iaload, 1) := dk_46 (dk_at dksX4_regionLine_0 16 rfl rfl)
theorem dX4_regionLine_17 : decode cX4_regionLine 17 = .ok (.bipush 8, 2) := dk_16 8 (dk_at dksX4_regionLine_0 17 rfl rfl)
theorem dX4_regionLine_19 : decode cX4_regionLine 19 = .ok (.if_icmp .ge 7, 3) := dk_162 0 7 (dk_at dksX4_regionLine_0 19 rfl rfl)
theorem dX4_regionLine_22 : decode cX4_regionLine 22 = .ok (.iconst 1, 1) := dk_4 (dk_at dksX4_regionLine_0 22 rfl rfl)
theorem dX4_regionLine_23 : decode cX4_regionLine 23 = .ok (.goto 4, 3) := dk_167 0 4 (dk_at dksX4_regionLine_1 0 rfl rfl)
theorem dX4_regionLine_26 : decode cX4_regionLine 26 = .ok (.iconst 0, 1) := dk_3 (dk_at dksX4_regionLine_1 3 rfl rfl)
theorem dX4_regionLine_27 : decode cX4_regionLine 27 = .ok (.invokevirtual 165, 3) := dk_182 0 165 (dk_at dksX4_regionLine_1 4 rfl rfl)
theorem dX4_regionLine_30 : decode cX4_regionLine 30 = .ok (.ifCond .eq 13, 3) := dk_153 0 13 (dk_at dksX4_regionLine_1 7 rfl rfl)
theorem dX4_regionLine_33 : decode cX4_regionLine 33 = .ok (.aload_n 0, 1) := dk_42 (dk_at dksX4_regionLine_1 10 rfl rfl)
theorem dX4_regionLine_34 : decode cX4_regionLine 34 = .ok (.iconst 0, 1) := dk_3 (dk_at dksX4_regionLine_1 11 rfl rfl)
theorem dX4_regionLine_35 : decode cX4_regionLine 35 = .ok (.bipush 10, 2) := dk_16 10 (dk_at dksX4_regionLine_1 12 rfl rfl)
theorem dX4_regionLine_37 : decode cX4_regionLine 37 = .ok (.invokevirtual 169, 3) := dk_182 0 169 (dk_at dksX4_regionLine_1 14 rfl rfl)
theorem dX4_regionLine_40 : decode cX4_regionLine 40 = .ok (.ifCond .ne 5, 3) := dk_154 0 5 (dk_at dksX4_regionLine_1 17 rfl rfl)
theorem dX4_regionLine_43 : decode cX4_regionLine 43 = .ok (.iconst 0, 1) := dk_3 (dk_at dksX4_regionLine_1 20 rfl rfl)
theorem dX4_regionLine_44 : decode cX4_regionLine 44 = .ok (.ireturn, 1) := dk_172 (dk_at dksX4_regionLine_1 21 rfl rfl)
theorem dX4_regionLine_45 : decode cX4_regionLine 45 = .ok (.aload_n 0, 1) := dk_42 (dk_at dksX4_regionLine_1 22 rfl rfl)
theorem dX4_regionLine_46 : decode cX4_regionLine 46 = .ok (.getfield 20, 3) := dk_180 0 20 (dk_at dksX4_regionLine_2 0 rfl rfl)
theorem dX4_regionLine_49 : decode cX4_regionLine 49 = .ok (.iload_n 1, 1) := dk_27 (dk_at dksX4_regionLine_2 3 rfl rfl)
theorem dX4_regionLine_50 : decode cX4_regionLine 50 = .ok (.aload_n 0, 1) := dk_42 (dk_at dksX4_regionLine_2 4 rfl rfl)
theorem dX4_regionLine_51 : decode cX4_regionLine 51 = .ok (.getfield 159, 3) := dk_180 0 159 (dk_at dksX4_regionLine_2 5 rfl rfl)
theorem dX4_regionLine_54 : decode cX4_regionLine 54 = .ok (.iastore, 1) := dk_79 (dk_at dksX4_regionLine_2 8 rfl rfl)
theorem dX4_regionLine_55 : decode cX4_regionLine 55 = .ok (.aload_n 0, 1) := dk_42 (dk_at dksX4_regionLine_2 9 rfl rfl)
theorem dX4_regionLine_56 : decode cX4_regionLine 56 = .ok (.iconst 1, 1) := dk_4 (dk_at dksX4_regionLine_2 10 rfl rfl)
theorem dX4_regionLine_57 : decode cX4_regionLine 57 = .ok (.bipush 9, 2) := dk_16 9 (dk_at dksX4_regionLine_2 11 rfl rfl)
theorem dX4_regionLine_59 : decode cX4_regionLine 59 = .ok (.invokevirtual 169, 3) := dk_182 0 169 (dk_at dksX4_regionLine_2 13 rfl rfl)
theorem dX4_regionLine_62 : decode cX4_regionLine 62 = .ok (.ifCond .ne 5, 3) := dk_154 0 5 (dk_at dksX4_regionLine_2 16 rfl rfl)
theorem dX4_regionLine_65 : decode cX4_regionLine 65 = .ok (.iconst 0, 1) := dk_3 (dk_at dksX4_regionLine_2 19 rfl rfl)
theorem dX4_regionLine_66 : decode cX4_regionLine 66 = .ok (.ireturn, 1) := dk_172 (dk_at dksX4_regionLine_2 20 rfl rfl)
theorem dX4_regionLine_67 : decode cX4_regionLine 67 = .ok (.aload_n 0, 1) := dk_42 (dk_at dksX4_regionLine_2 21 rfl rfl)
theorem dX4_regionLine_68 : decode cX4_regionLine 68 = .ok (.getfield 23, 3) := dk_180 0 23 (dk_at dksX4_regionLine_3 0 rfl rfl)
theorem dX4_regionLine_71 : decode cX4_regionLine 71 = .ok (.iload_n 1, 1) := dk_27 (dk_at dksX4_regionLine_3 3 rfl rfl)
theorem dX4_regionLine_72 : decode cX4_regionLine 72 = .ok (.aload_n 0, 1) := dk_42 (dk_at dksX4_regionLine_3 4 rfl rfl)
theorem dX4_regionLine_73 : decode cX4_regionLine 73 = .ok (.getfield 159, 3) := dk_180 0 159 (dk_at dksX4_regionLine_3 5 rfl rfl)
theorem dX4_regionLine_76 : decode cX4_regionLine 76 = .ok (.iastore, 1) := dk_79 (dk_at dksX4_regionLine_3 8 rfl rfl)
theorem dX4_regionLine_77 : decode cX4_regionLine 77 = .ok (.aload_n 0, 1) := dk_42 (dk_at dksX4_regionLine_3 9 rfl rfl)
theorem dX4_regionLine_78 : decode cX4_regionLine 78 = .ok (.iconst 0, 1) := dk_3 (dk_at dksX4_regionLine_3 10 rfl rfl)
theorem dX4_regionLine_79 : decode cX4_regionLine 79 = .ok (.bipush 10, 2) := dk_16 10 (dk_at dksX4_regionLine_3 11 rfl rfl)
theorem dX4_regionLine_81 : decode cX4_regionLine 81 = .ok (.invokevirtual 169, 3) := dk_182 0 169 (dk_at dksX4_regionLine_3 13 rfl rfl)
theorem dX4_regionLine_84 : decode cX4_regionLine 84 = .ok (.ifCond .ne 5, 3) := dk_154 0 5 (dk_at dksX4_regionLine_3 16 rfl rfl)
theorem dX4_regionLine_87 : decode cX4_regionLine 87 = .ok (.iconst 0, 1) := dk_3 (dk_at dksX4_regionLine_3 19 rfl rfl)
theorem dX4_regionLine_88 : decode cX4_regionLine 88 = .ok (.ireturn, 1) := dk_172 (dk_at dksX4_regionLine_3 20 rfl rfl)
theorem dX4_regionLine_89 : decode cX4_regionLine 89 = .ok (.aload_n 0, 1) := dk_42 (dk_at dksX4_regionLine_3 21 rfl rfl)
theorem dX4_regionLine_90 : decode cX4_regionLine 90 = .ok (.getfield 26, 3) := dk_180 0 26 (dk_at dksX4_regionLine_4 0 rfl rfl)
theorem dX4_regionLine_93 : decode cX4_regionLine 93 = .ok (.iload_n 1, 1) := dk_27 (dk_at dksX4_regionLine_4 3 rfl rfl)
theorem dX4_regionLine_94 : decode cX4_regionLine 94 = .ok (.aload_n 0, 1) := dk_42 (dk_at dksX4_regionLine_4 4 rfl rfl)
theorem dX4_regionLine_95 : decode cX4_regionLine 95 = .ok (.getfield 159, 3) := dk_180 0 159 (dk_at dksX4_regionLine_4 5 rfl rfl)
theorem dX4_regionLine_98 : decode cX4_regionLine 98 = .ok (.iastore, 1) := dk_79 (dk_at dksX4_regionLine_4 8 rfl rfl)
theorem dX4_regionLine_99 : decode cX4_regionLine 99 = .ok (.aload_n 0, 1) := dk_42 (dk_at dksX4_regionLine_4 9 rfl rfl)
theorem dX4_regionLine_100 : decode cX4_regionLine 100 = .ok (.getfield 17, 3) := dk_180 0 17 (dk_at dksX4_regionLine_4 10 rfl rfl)
theorem dX4_regionLine_103 : decode cX4_regionLine 103 = .ok (.iconst 1, 1) := dk_4 (dk_at dksX4_regionLine_4 13 rfl rfl)
theorem dX4_regionLine_104 : decode cX4_regionLine 104 = .ok (.dup2, 1) := dk_92 (dk_at dksX4_regionLine_4 14 rfl rfl)
theorem dX4_regionLine_105 : decode cX4_regionLine 105 = .ok (.iaload, 1) := dk_46 (dk_at dksX4_regionLine_4 15 rfl rfl)
theorem dX4_regionLine_106 : decode cX4_regionLine 106 = .ok (.iconst 1, 1) := dk_4 (dk_at dksX4_regionLine_4 16 rfl rfl)
theorem dX4_regionLine_107 : decode cX4_regionLine 107 = .ok (.iadd, 1) := dk_96 (dk_at dksX4_regionLine_4 17 rfl rfl)
theorem dX4_regionLine_108 : decode cX4_regionLine 108 = .ok (.iastore, 1) := dk_79 (dk_at dksX4_regionLine_4 18 rfl rfl)
theorem dX4_regionLine_109 : decode cX4_regionLine 109 = .ok (.iconst 1, 1) := dk_4 (dk_at dksX4_regionLine_4 19 rfl rfl)
theorem dX4_regionLine_110 : decode cX4_regionLine 110 = .ok (.ireturn, 1) := dk_172 (dk_at dksX4_regionLine_4 20 rfl rfl)
abbrev cX4_opens : ByteArray := prog_16_method_12_code
def yX4_opens : MethodName := ⟨RX4, "opens", "(Z)Z"⟩
def dkwX4_opens_0 : List UInt8 := [27, 154, 0, 9, 42, 7, 182, 0, 155, 172, 42, 182, 0, 162, 4, 172]
abbrev dktX4_opens_0 : List UInt8 := dkwX4_opens_0 ++ []
theorem dksX4_opens_0 : cX4_opens.data.toList.drop 0 = dktX4_opens_0 := by decide +kernel
theorem dX4_opens_0 : decode cX4_opens 0 = .ok (.iload_n 1, 1) := dk_27 (dk_at dksX4_opens_0 0 rfl rfl)
theorem dX4_opens_1 : decode cX4_opens 1 = .ok (.ifCond .ne 9, 3) := dk_154 0 9 (dk_at dksX4_opens_0 1 rfl rfl)
theorem dX4_opens_4 : decode cX4_opens 4 = .ok (.aload_n 0, 1) := dk_42 (dk_at dksX4_opens_0 4 rfl rfl)
theorem dX4_opens_5 : decode cX4_opens 5 = .ok (.iconst 4, 1) := dk_7 (dk_at dksX4_opens_0 5 rfl rfl)
theorem dX4_opens_6 : decode cX4_opens 6 = .ok (.invokevirtual 155, 3) := dk_182 0 155 (dk_at dksX4_opens_0 6 rfl rfl)
theorem dX4_opens_9 : decode cX4_opens 9 = .ok (.ireturn, 1) := dk_172 (dk_at dksX4_opens_0 9 rfl rfl)
theorem dX4_opens_10 : decode cX4_opens 10 = .ok (.aload_n 0, 1) := dk_42 (dk_at dksX4_opens_0 10 rfl rfl)
theorem dX4_opens_11 : decode cX4_opens 11 = .ok (.invokevirtual 162, 3) := dk_182 0 162 (dk_at dksX4_opens_0 11 rfl rfl)
theorem dX4_opens_14 : decode cX4_opens 14 = .ok (.iconst 1, 1) := dk_4 (dk_at dksX4_opens_0 14 rfl rfl)
theorem dX4_opens_15 : decode cX4_opens 15 = .ok (.ireturn, 1) := dk_172 (dk_at dksX4_opens_0 15 rfl rfl)
abbrev cX4_fails : ByteArray := prog_16_method_10_code
def yX4_fails : MethodName := ⟨RX4, "fails", "(I)Z"⟩
def dkwX4_fails_0 : List UInt8 := [42, 180, 0, 152, 154, 0, 16, 42, 27, 181, 0, 152, 42, 42, 180, 0, 130, 181, 0, 75, 3, 172]
abbrev dktX4_fails_0 : List UInt8 := dkwX4_fails_0 ++ []
theorem dksX4_fails_0 : cX4_fails.data.toList.drop 0 = dktX4_fails_0 := by decide +kernel
theorem dX4_fails_0 : decode cX4_fails 0 = .ok (.aload_n 0, 1) := dk_42 (dk_at dksX4_fails_0 0 rfl rfl)
theorem dX4_fails_1 : decode cX4_fails 1 = .ok (.getfield 152, 3) := dk_180 0 152 (dk_at dksX4_fails_0 1 rfl rfl)
theorem dX4_fails_4 : decode cX4_fails 4 = .ok (.ifCond .ne 16, 3) := dk_154 0 16 (dk_at dksX4_fails_0 4 rfl rfl)
theorem dX4_fails_7 : decode cX4_fails 7 = .ok (.aload_n 0, 1) := dk_42 (dk_at dksX4_fails_0 7 rfl rfl)
theorem dX4_fails_8 : decode cX4_fails 8 = .ok (.iload_n 1, 1) := dk_27 (dk_at dksX4_fails_0 8 rfl rfl)
theorem dX4_fails_9 : decode cX4_fails 9 = .ok (.putfield 152, 3) := dk_181 0 152 (dk_at dksX4_fails_0 9 rfl rfl)
theorem dX4_fails_12 : decode cX4_fails 12 = .ok (.aload_n 0, 1) := dk_42 (dk_at dksX4_fails_0 12 rfl rfl)
theorem dX4_fails_13 : decode cX4_fails 13 = .ok (.aload_n 0, 1) := dk_42 (dk_at dksX4_fails_0 13 rfl rfl)
theorem dX4_fails_14 : decode cX4_fails 14 = .ok (.getfield 130, 3) := dk_180 0 130 (dk_at dksX4_fails_0 14 rfl rfl)
theorem dX4_fails_17 : decode cX4_fails 17 = .ok (.putfield 75, 3) := dk_181 0 75 (dk_at dksX4_fails_0 17 rfl rfl)
theorem dX4_fails_20 : decode cX4_fails 20 = .ok (.iconst 0, 1) := dk_3 (dk_at dksX4_fails_0 20 rfl rfl)
theorem dX4_fails_21 : decode cX4_fails 21 = .ok (.ireturn, 1) := dk_172 (dk_at dksX4_fails_0 21 rfl rfl)
abbrev cX4_takes : ByteArray := prog_16_method_11_code
def yX4_takes : MethodName := ⟨RX4, "takes", "(II)Z"⟩
def dkwX4_takes_1 : List UInt8 := [154, 0, 9, 42, 6, 182, 0, 155, 172, 42, 42, 180, 0, 133, 181, 0, 159, 42, 182, 0, 162, 4, 172]
abbrev dktX4_takes_1 : List UInt8 := dkwX4_takes_1 ++ []
def dkwX4_takes_0 : List UInt8 := [42, 180, 0, 136, 5, 159, 0, 9, 42, 4, 182, 0, 155, 172, 42, 180, 0, 133, 27, 28, 184, 0, 139]
abbrev dktX4_takes_0 : List UInt8 := dkwX4_takes_0 ++ dktX4_takes_1
theorem dksX4_takes_0 : cX4_takes.data.toList.drop 0 = dktX4_takes_0 := by decide +kernel
theorem dksX4_takes_1 : cX4_takes.data.toList.drop 23 = dktX4_takes_1 := dk_seg dksX4_takes_0 23 rfl rfl
theorem dX4_takes_0 : decode cX4_takes 0 = .ok (.aload_n 0, 1) := dk_42 (dk_at dksX4_takes_0 0 rfl rfl)
theorem dX4_takes_1 : decode cX4_takes 1 = .ok (.getfield 136, 3) := dk_180 0 136 (dk_at dksX4_takes_0 1 rfl rfl)
theorem dX4_takes_4 : decode cX4_takes 4 = .ok (.iconst 2, 1) := dk_5 (dk_at dksX4_takes_0 4 rfl rfl)
theorem dX4_takes_5 : decode cX4_takes 5 = .ok (.if_icmp .eq 9, 3) := dk_159 0 9 (dk_at dksX4_takes_0 5 rfl rfl)
theorem dX4_takes_8 : decode cX4_takes 8 = .ok (.aload_n 0, 1) := dk_42 (dk_at dksX4_takes_0 8 rfl rfl)
theorem dX4_takes_9 : decode cX4_takes 9 = .ok (.iconst 1, 1) := dk_4 (dk_at dksX4_takes_0 9 rfl rfl)
theorem dX4_takes_10 : decode cX4_takes 10 = .ok (.invokevirtual 155, 3) := dk_182 0 155 (dk_at dksX4_takes_0 10 rfl rfl)
theorem dX4_takes_13 : decode cX4_takes 13 = .ok (.ireturn, 1) := dk_172 (dk_at dksX4_takes_0 13 rfl rfl)
theorem dX4_takes_14 : decode cX4_takes 14 = .ok (.aload_n 0, 1) := dk_42 (dk_at dksX4_takes_0 14 rfl rfl)
theorem dX4_takes_15 : decode cX4_takes 15 = .ok (.getfield 133, 3) := dk_180 0 133 (dk_at dksX4_takes_0 15 rfl rfl)
theorem dX4_takes_18 : decode cX4_takes 18 = .ok (.iload_n 1, 1) := dk_27 (dk_at dksX4_takes_0 18 rfl rfl)
theorem dX4_takes_19 : decode cX4_takes 19 = .ok (.iload_n 2, 1) := dk_28 (dk_at dksX4_takes_0 19 rfl rfl)
theorem dX4_takes_20 : decode cX4_takes 20 = .ok (.invokestatic 139, 3) := dk_184 0 139 (dk_at dksX4_takes_0 20 rfl rfl)
theorem dX4_takes_23 : decode cX4_takes 23 = .ok (.ifCond .ne 9, 3) := dk_154 0 9 (dk_at dksX4_takes_1 0 rfl rfl)
theorem dX4_takes_26 : decode cX4_takes 26 = .ok (.aload_n 0, 1) := dk_42 (dk_at dksX4_takes_1 3 rfl rfl)
theorem dX4_takes_27 : decode cX4_takes 27 = .ok (.iconst 3, 1) := dk_6 (dk_at dksX4_takes_1 4 rfl rfl)
theorem dX4_takes_28 : decode cX4_takes 28 = .ok (.invokevirtual 155, 3) := dk_182 0 155 (dk_at dksX4_takes_1 5 rfl rfl)
theorem dX4_takes_31 : decode cX4_takes 31 = .ok (.ireturn, 1) := dk_172 (dk_at dksX4_takes_1 8 rfl rfl)
theorem dX4_takes_32 : decode cX4_takes 32 = .ok (.aload_n 0, 1) := dk_42 (dk_at dksX4_takes_1 9 rfl rfl)
theorem dX4_takes_33 : decode cX4_takes 33 = .ok (.aload_n 0, 1) := dk_42 (dk_at dksX4_takes_1 10 rfl rfl)
theorem dX4_takes_34 : decode cX4_takes 34 = .ok (.getfield 133, 3) := dk_180 0 133 (dk_at dksX4_takes_1 11 rfl rfl)
theorem dX4_takes_37 : decode cX4_takes 37 = .ok (.putfield 159, 3) := dk_181 0 159 (dk_at dksX4_takes_1 14 rfl rfl)
theorem dX4_takes_40 : decode cX4_takes 40 = .ok (.aload_n 0, 1) := dk_42 (dk_at dksX4_takes_1 17 rfl rfl)
theorem dX4_takes_41 : decode cX4_takes 41 = .ok (.invokevirtual 162, 3) := dk_182 0 162 (dk_at dksX4_takes_1 18 rfl rfl)
theorem dX4_takes_44 : decode cX4_takes 44 = .ok (.iconst 1, 1) := dk_4 (dk_at dksX4_takes_1 21 rfl rfl)
theorem dX4_takes_45 : decode cX4_takes 45 = .ok (.ireturn, 1) := dk_172 (dk_at dksX4_takes_1 22 rfl rfl)
abbrev cX4_windLine : ByteArray := prog_16_method_14_code
def yX4_windLine : MethodName := ⟨RX4, "windLine", "()Z"⟩
def dkwX4_windLine_8 : List UInt8 := [172]
abbrev dktX4_windLine_8 : List UInt8 := dkwX4_windLine_8 ++ []
def dkwX4_windLine_7 : List UInt8 := [132, 2, 1, 167, 255, 134, 42, 180, 0, 32, 27, 28, 79, 42, 180, 0, 29, 4, 92, 46, 4, 96, 79, 4]
abbrev dktX4_windLine_7 : List UInt8 := dkwX4_windLine_7 ++ dktX4_windLine_8
def dkwX4_windLine_6 : List UInt8 := [172, 42, 180, 0, 38, 16, 8, 27, 104, 28, 96, 42, 180, 0, 159, 79, 29, 42, 180, 0, 159, 96, 62]
abbrev dktX4_windLine_6 : List UInt8 := dkwX4_windLine_6 ++ dktX4_windLine_7
def dkwX4_windLine_5 : List UInt8 := [16, 8, 27, 104, 28, 96, 42, 180, 0, 159, 79, 42, 4, 16, 10, 29, 100, 182, 0, 169, 154, 0, 5, 3]
abbrev dktX4_windLine_5 : List UInt8 := dkwX4_windLine_5 ++ dktX4_windLine_6
def dkwX4_windLine_4 : List UInt8 := [182, 0, 169, 154, 0, 5, 3, 172, 21, 4, 4, 42, 180, 0, 159, 120, 128, 54, 4, 42, 180, 0, 35]
abbrev dktX4_windLine_4 : List UInt8 := dkwX4_windLine_4 ++ dktX4_windLine_5
def dkwX4_windLine_3 : List UInt8 := [184, 0, 173, 153, 0, 9, 42, 5, 182, 0, 155, 172, 42, 3, 42, 180, 0, 17, 4, 46, 4, 100]
abbrev dktX4_windLine_3 : List UInt8 := dkwX4_windLine_3 ++ dktX4_windLine_4
def dkwX4_windLine_2 : List UInt8 := [160, 0, 120, 42, 180, 0, 133, 42, 180, 0, 17, 4, 46, 162, 0, 21, 21, 4, 42, 180, 0, 133]
abbrev dktX4_windLine_2 : List UInt8 := dkwX4_windLine_2 ++ dktX4_windLine_3
def dkwX4_windLine_1 : List UInt8 := [167, 0, 4, 3, 182, 0, 165, 154, 0, 5, 3, 172, 3, 61, 3, 62, 3, 54, 4, 42, 180, 0, 136, 5]
abbrev dktX4_windLine_1 : List UInt8 := dkwX4_windLine_1 ++ dktX4_windLine_2
def dkwX4_windLine_0 : List UInt8 := [16, 6, 42, 180, 0, 29, 4, 46, 96, 60, 42, 42, 180, 0, 29, 4, 46, 16, 6, 162, 0, 7, 4]
abbrev dktX4_windLine_0 : List UInt8 := dkwX4_windLine_0 ++ dktX4_windLine_1
theorem dksX4_windLine_0 : cX4_windLine.data.toList.drop 0 = dktX4_windLine_0 := by decide +kernel
theorem dksX4_windLine_1 : cX4_windLine.data.toList.drop 23 = dktX4_windLine_1 := dk_seg dksX4_windLine_0 23 rfl rfl
theorem dksX4_windLine_2 : cX4_windLine.data.toList.drop 47 = dktX4_windLine_2 := dk_seg dksX4_windLine_1 24 rfl rfl
theorem dksX4_windLine_3 : cX4_windLine.data.toList.drop 69 = dktX4_windLine_3 := dk_seg dksX4_windLine_2 22 rfl rfl
theorem dksX4_windLine_4 : cX4_windLine.data.toList.drop 91 = dktX4_windLine_4 := dk_seg dksX4_windLine_3 22 rfl rfl
theorem dksX4_windLine_5 : cX4_windLine.data.toList.drop 114 = dktX4_windLine_5 := dk_seg dksX4_windLine_4 23 rfl rfl
theorem dksX4_windLine_6 : cX4_windLine.data.toList.drop 138 = dktX4_windLine_6 := dk_seg dksX4_windLine_5 24 rfl rfl
theorem dksX4_windLine_7 : cX4_windLine.data.toList.drop 161 = dktX4_windLine_7 := dk_seg dksX4_windLine_6 23 rfl rfl
theorem dksX4_windLine_8 : cX4_windLine.data.toList.drop 185 = dktX4_windLine_8 := dk_seg dksX4_windLine_7 24 rfl rfl
theorem dX4_windLine_0 : decode cX4_windLine 0 = .ok (.bipush 6, 2) := dk_16 6 (dk_at dksX4_windLine_0 0 rfl rfl)
theorem dX4_windLine_2 : decode cX4_windLine 2 = .ok (.aload_n 0, 1) := dk_42 (dk_at dksX4_windLine_0 2 rfl rfl)
theorem dX4_windLine_3 : decode cX4_windLine 3 = .ok (.getfield 29, 3) := dk_180 0 29 (dk_at dksX4_windLine_0 3 rfl rfl)
theorem dX4_windLine_6 : decode cX4_windLine 6 = .ok (.iconst 1, 1) := dk_4 (dk_at dksX4_windLine_0 6 rfl rfl)
theorem dX4_windLine_7 : decode cX4_windLine 7 = .ok (.iaload, 1) := dk_46 (dk_at dksX4_windLine_0 7 rfl rfl)
theorem dX4_windLine_8 : decode cX4_windLine 8 = .ok (.iadd, 1) := dk_96 (dk_at dksX4_windLine_0 8 rfl rfl)
theorem dX4_windLine_9 : decode cX4_windLine 9 = .ok (.istore_n 1, 1) := dk_60 (dk_at dksX4_windLine_0 9 rfl rfl)
theorem dX4_windLine_10 : decode cX4_windLine 10 = .ok (.aload_n 0, 1) := dk_42 (dk_at dksX4_windLine_0 10 rfl rfl)
theorem dX4_windLine_11 : decode cX4_windLine 11 = .ok (.aload_n 0, 1) := dk_42 (dk_at dksX4_windLine_0 11 rfl rfl)
theorem dX4_windLine_12 : decode cX4_windLine 12 = .ok (.getfield 29, 3) := dk_180 0 29 (dk_at dksX4_windLine_0 12 rfl rfl)
theorem dX4_windLine_15 : decode cX4_windLine 15 = .ok (.iconst 1, 1) := dk_4 (dk_at dksX4_windLine_0 15 rfl rfl)
theorem dX4_windLine_16 : decode cX4_windLine 16 = .ok (.iaload, 1) := dk_46 (dk_at dksX4_windLine_0 16 rfl rfl)
theorem dX4_windLine_17 : decode cX4_windLine 17 = .ok (.bipush 6, 2) := dk_16 6 (dk_at dksX4_windLine_0 17 rfl rfl)
theorem dX4_windLine_19 : decode cX4_windLine 19 = .ok (.if_icmp .ge 7, 3) := dk_162 0 7 (dk_at dksX4_windLine_0 19 rfl rfl)
theorem dX4_windLine_22 : decode cX4_windLine 22 = .ok (.iconst 1, 1) := dk_4 (dk_at dksX4_windLine_0 22 rfl rfl)
theorem dX4_windLine_23 : decode cX4_windLine 23 = .ok (.goto 4, 3) := dk_167 0 4 (dk_at dksX4_windLine_1 0 rfl rfl)
theorem dX4_windLine_26 : decode cX4_windLine 26 = .ok (.iconst 0, 1) := dk_3 (dk_at dksX4_windLine_1 3 rfl rfl)
theorem dX4_windLine_27 : decode cX4_windLine 27 = .ok (.invokevirtual 165, 3) := dk_182 0 165 (dk_at dksX4_windLine_1 4 rfl rfl)
theorem dX4_windLine_30 : decode cX4_windLine 30 = .ok (.ifCond .ne 5, 3) := dk_154 0 5 (dk_at dksX4_windLine_1 7 rfl rfl)
theorem dX4_windLine_33 : decode cX4_windLine 33 = .ok (.iconst 0, 1) := dk_3 (dk_at dksX4_windLine_1 10 rfl rfl)
theorem dX4_windLine_34 : decode cX4_windLine 34 = .ok (.ireturn, 1) := dk_172 (dk_at dksX4_windLine_1 11 rfl rfl)
theorem dX4_windLine_35 : decode cX4_windLine 35 = .ok (.iconst 0, 1) := dk_3 (dk_at dksX4_windLine_1 12 rfl rfl)
theorem dX4_windLine_36 : decode cX4_windLine 36 = .ok (.istore_n 2, 1) := dk_61 (dk_at dksX4_windLine_1 13 rfl rfl)
theorem dX4_windLine_37 : decode cX4_windLine 37 = .ok (.iconst 0, 1) := dk_3 (dk_at dksX4_windLine_1 14 rfl rfl)
theorem dX4_windLine_38 : decode cX4_windLine 38 = .ok (.istore_n 3, 1) := dk_62 (dk_at dksX4_windLine_1 15 rfl rfl)
theorem dX4_windLine_39 : decode cX4_windLine 39 = .ok (.iconst 0, 1) := dk_3 (dk_at dksX4_windLine_1 16 rfl rfl)
theorem dX4_windLine_40 : decode cX4_windLine 40 = .ok (.istore 4, 2) := dk_54 4 (dk_at dksX4_windLine_1 17 rfl rfl)
theorem dX4_windLine_42 : decode cX4_windLine 42 = .ok (.aload_n 0, 1) := dk_42 (dk_at dksX4_windLine_1 19 rfl rfl)
theorem dX4_windLine_43 : decode cX4_windLine 43 = .ok (.getfield 136, 3) := dk_180 0 136 (dk_at dksX4_windLine_1 20 rfl rfl)
theorem dX4_windLine_46 : decode cX4_windLine 46 = .ok (.iconst 2, 1) := dk_5 (dk_at dksX4_windLine_1 23 rfl rfl)
theorem dX4_windLine_47 : decode cX4_windLine 47 = .ok (.if_icmp .ne 120, 3) := dk_160 0 120 (dk_at dksX4_windLine_2 0 rfl rfl)
theorem dX4_windLine_50 : decode cX4_windLine 50 = .ok (.aload_n 0, 1) := dk_42 (dk_at dksX4_windLine_2 3 rfl rfl)
theorem dX4_windLine_51 : decode cX4_windLine 51 = .ok (.getfield 133, 3) := dk_180 0 133 (dk_at dksX4_windLine_2 4 rfl rfl)
theorem dX4_windLine_54 : decode cX4_windLine 54 = .ok (.aload_n 0, 1) := dk_42 (dk_at dksX4_windLine_2 7 rfl rfl)
theorem dX4_windLine_55 : decode cX4_windLine 55 = .ok (.getfield 17, 3) := dk_180 0 17 (dk_at dksX4_windLine_2 8 rfl rfl)
theorem dX4_windLine_58 : decode cX4_windLine 58 = .ok (.iconst 1, 1) := dk_4 (dk_at dksX4_windLine_2 11 rfl rfl)
theorem dX4_windLine_59 : decode cX4_windLine 59 = .ok (.iaload, 1) := dk_46 (dk_at dksX4_windLine_2 12 rfl rfl)
theorem dX4_windLine_60 : decode cX4_windLine 60 = .ok (.if_icmp .ge 21, 3) := dk_162 0 21 (dk_at dksX4_windLine_2 13 rfl rfl)
theorem dX4_windLine_63 : decode cX4_windLine 63 = .ok (.iload 4, 2) := dk_21 4 (dk_at dksX4_windLine_2 16 rfl rfl)
theorem dX4_windLine_65 : decode cX4_windLine 65 = .ok (.aload_n 0, 1) := dk_42 (dk_at dksX4_windLine_2 18 rfl rfl)
theorem dX4_windLine_66 : decode cX4_windLine 66 = .ok (.getfield 133, 3) := dk_180 0 133 (dk_at dksX4_windLine_2 19 rfl rfl)
theorem dX4_windLine_69 : decode cX4_windLine 69 = .ok (.invokestatic 173, 3) := dk_184 0 173 (dk_at dksX4_windLine_3 0 rfl rfl)
theorem dX4_windLine_72 : decode cX4_windLine 72 = .ok (.ifCond .eq 9, 3) := dk_153 0 9 (dk_at dksX4_windLine_3 3 rfl rfl)
theorem dX4_windLine_75 : decode cX4_windLine 75 = .ok (.aload_n 0, 1) := dk_42 (dk_at dksX4_windLine_3 6 rfl rfl)
theorem dX4_windLine_76 : decode cX4_windLine 76 = .ok (.iconst 2, 1) := dk_5 (dk_at dksX4_windLine_3 7 rfl rfl)
theorem dX4_windLine_77 : decode cX4_windLine 77 = .ok (.invokevirtual 155, 3) := dk_182 0 155 (dk_at dksX4_windLine_3 8 rfl rfl)
theorem dX4_windLine_80 : decode cX4_windLine 80 = .ok (.ireturn, 1) := dk_172 (dk_at dksX4_windLine_3 11 rfl rfl)
theorem dX4_windLine_81 : decode cX4_windLine 81 = .ok (.aload_n 0, 1) := dk_42 (dk_at dksX4_windLine_3 12 rfl rfl)
theorem dX4_windLine_82 : decode cX4_windLine 82 = .ok (.iconst 0, 1) := dk_3 (dk_at dksX4_windLine_3 13 rfl rfl)
theorem dX4_windLine_83 : decode cX4_windLine 83 = .ok (.aload_n 0, 1) := dk_42 (dk_at dksX4_windLine_3 14 rfl rfl)
theorem dX4_windLine_84 : decode cX4_windLine 84 = .ok (.getfield 17, 3) := dk_180 0 17 (dk_at dksX4_windLine_3 15 rfl rfl)
theorem dX4_windLine_87 : decode cX4_windLine 87 = .ok (.iconst 1, 1) := dk_4 (dk_at dksX4_windLine_3 18 rfl rfl)
theorem dX4_windLine_88 : decode cX4_windLine 88 = .ok (.iaload, 1) := dk_46 (dk_at dksX4_windLine_3 19 rfl rfl)
theorem dX4_windLine_89 : decode cX4_windLine 89 = .ok (.iconst 1, 1) := dk_4 (dk_at dksX4_windLine_3 20 rfl rfl)
theorem dX4_windLine_90 : decode cX4_windLine 90 = .ok (.isub, 1) := dk_100 (dk_at dksX4_windLine_3 21 rfl rfl)
theorem dX4_windLine_91 : decode cX4_windLine 91 = .ok (.invokevirtual 169, 3) := dk_182 0 169 (dk_at dksX4_windLine_4 0 rfl rfl)
theorem dX4_windLine_94 : decode cX4_windLine 94 = .ok (.ifCond .ne 5, 3) := dk_154 0 5 (dk_at dksX4_windLine_4 3 rfl rfl)
theorem dX4_windLine_97 : decode cX4_windLine 97 = .ok (.iconst 0, 1) := dk_3 (dk_at dksX4_windLine_4 6 rfl rfl)
theorem dX4_windLine_98 : decode cX4_windLine 98 = .ok (.ireturn, 1) := dk_172 (dk_at dksX4_windLine_4 7 rfl rfl)
theorem dX4_windLine_99 : decode cX4_windLine 99 = .ok (.iload 4, 2) := dk_21 4 (dk_at dksX4_windLine_4 8 rfl rfl)
theorem dX4_windLine_101 : decode cX4_windLine 101 = .ok (.iconst 1, 1) := dk_4 (dk_at dksX4_windLine_4 10 rfl rfl)
theorem dX4_windLine_102 : decode cX4_windLine 102 = .ok (.aload_n 0, 1) := dk_42 (dk_at dksX4_windLine_4 11 rfl rfl)
theorem dX4_windLine_103 : decode cX4_windLine 103 = .ok (.getfield 159, 3) := dk_180 0 159 (dk_at dksX4_windLine_4 12 rfl rfl)
theorem dX4_windLine_106 : decode cX4_windLine 106 = .ok (.ishl, 1) := dk_120 (dk_at dksX4_windLine_4 15 rfl rfl)
theorem dX4_windLine_107 : decode cX4_windLine 107 = .ok (.ior, 1) := dk_128 (dk_at dksX4_windLine_4 16 rfl rfl)
theorem dX4_windLine_108 : decode cX4_windLine 108 = .ok (.istore 4, 2) := dk_54 4 (dk_at dksX4_windLine_4 17 rfl rfl)
theorem dX4_windLine_110 : decode cX4_windLine 110 = .ok (.aload_n 0, 1) := dk_42 (dk_at dksX4_windLine_4 19 rfl rfl)
theorem dX4_windLine_111 : decode cX4_windLine 111 = .ok (.getfield 35, 3) := dk_180 0 35 (dk_at dksX4_windLine_4 20 rfl rfl)
theorem dX4_windLine_114 : decode cX4_windLine 114 = .ok (.bipush 8, 2) := dk_16 8 (dk_at dksX4_windLine_5 0 rfl rfl)
theorem dX4_windLine_116 : decode cX4_windLine 116 = .ok (.iload_n 1, 1) := dk_27 (dk_at dksX4_windLine_5 2 rfl rfl)
theorem dX4_windLine_117 : decode cX4_windLine 117 = .ok (.imul, 1) := dk_104 (dk_at dksX4_windLine_5 3 rfl rfl)
theorem dX4_windLine_118 : decode cX4_windLine 118 = .ok (.iload_n 2, 1) := dk_28 (dk_at dksX4_windLine_5 4 rfl rfl)
theorem dX4_windLine_119 : decode cX4_windLine 119 = .ok (.iadd, 1) := dk_96 (dk_at dksX4_windLine_5 5 rfl rfl)
theorem dX4_windLine_120 : decode cX4_windLine 120 = .ok (.aload_n 0, 1) := dk_42 (dk_at dksX4_windLine_5 6 rfl rfl)
theorem dX4_windLine_121 : decode cX4_windLine 121 = .ok (.getfield 159, 3) := dk_180 0 159 (dk_at dksX4_windLine_5 7 rfl rfl)
theorem dX4_windLine_124 : decode cX4_windLine 124 = .ok (.iastore, 1) := dk_79 (dk_at dksX4_windLine_5 10 rfl rfl)
theorem dX4_windLine_125 : decode cX4_windLine 125 = .ok (.aload_n 0, 1) := dk_42 (dk_at dksX4_windLine_5 11 rfl rfl)
theorem dX4_windLine_126 : decode cX4_windLine 126 = .ok (.iconst 1, 1) := dk_4 (dk_at dksX4_windLine_5 12 rfl rfl)
theorem dX4_windLine_127 : decode cX4_windLine 127 = .ok (.bipush 10, 2) := dk_16 10 (dk_at dksX4_windLine_5 13 rfl rfl)
theorem dX4_windLine_129 : decode cX4_windLine 129 = .ok (.iload_n 3, 1) := dk_29 (dk_at dksX4_windLine_5 15 rfl rfl)
theorem dX4_windLine_130 : decode cX4_windLine 130 = .ok (.isub, 1) := dk_100 (dk_at dksX4_windLine_5 16 rfl rfl)
theorem dX4_windLine_131 : decode cX4_windLine 131 = .ok (.invokevirtual 169, 3) := dk_182 0 169 (dk_at dksX4_windLine_5 17 rfl rfl)
theorem dX4_windLine_134 : decode cX4_windLine 134 = .ok (.ifCond .ne 5, 3) := dk_154 0 5 (dk_at dksX4_windLine_5 20 rfl rfl)
theorem dX4_windLine_137 : decode cX4_windLine 137 = .ok (.iconst 0, 1) := dk_3 (dk_at dksX4_windLine_5 23 rfl rfl)
theorem dX4_windLine_138 : decode cX4_windLine 138 = .ok (.ireturn, 1) := dk_172 (dk_at dksX4_windLine_6 0 rfl rfl)
theorem dX4_windLine_139 : decode cX4_windLine 139 = .ok (.aload_n 0, 1) := dk_42 (dk_at dksX4_windLine_6 1 rfl rfl)
theorem dX4_windLine_140 : decode cX4_windLine 140 = .ok (.getfield 38, 3) := dk_180 0 38 (dk_at dksX4_windLine_6 2 rfl rfl)
theorem dX4_windLine_143 : decode cX4_windLine 143 = .ok (.bipush 8, 2) := dk_16 8 (dk_at dksX4_windLine_6 5 rfl rfl)
theorem dX4_windLine_145 : decode cX4_windLine 145 = .ok (.iload_n 1, 1) := dk_27 (dk_at dksX4_windLine_6 7 rfl rfl)
theorem dX4_windLine_146 : decode cX4_windLine 146 = .ok (.imul, 1) := dk_104 (dk_at dksX4_windLine_6 8 rfl rfl)
theorem dX4_windLine_147 : decode cX4_windLine 147 = .ok (.iload_n 2, 1) := dk_28 (dk_at dksX4_windLine_6 9 rfl rfl)
theorem dX4_windLine_148 : decode cX4_windLine 148 = .ok (.iadd, 1) := dk_96 (dk_at dksX4_windLine_6 10 rfl rfl)
theorem dX4_windLine_149 : decode cX4_windLine 149 = .ok (.aload_n 0, 1) := dk_42 (dk_at dksX4_windLine_6 11 rfl rfl)
theorem dX4_windLine_150 : decode cX4_windLine 150 = .ok (.getfield 159, 3) := dk_180 0 159 (dk_at dksX4_windLine_6 12 rfl rfl)
theorem dX4_windLine_153 : decode cX4_windLine 153 = .ok (.iastore, 1) := dk_79 (dk_at dksX4_windLine_6 15 rfl rfl)
theorem dX4_windLine_154 : decode cX4_windLine 154 = .ok (.iload_n 3, 1) := dk_29 (dk_at dksX4_windLine_6 16 rfl rfl)
theorem dX4_windLine_155 : decode cX4_windLine 155 = .ok (.aload_n 0, 1) := dk_42 (dk_at dksX4_windLine_6 17 rfl rfl)
theorem dX4_windLine_156 : decode cX4_windLine 156 = .ok (.getfield 159, 3) := dk_180 0 159 (dk_at dksX4_windLine_6 18 rfl rfl)
theorem dX4_windLine_159 : decode cX4_windLine 159 = .ok (.iadd, 1) := dk_96 (dk_at dksX4_windLine_6 21 rfl rfl)
theorem dX4_windLine_160 : decode cX4_windLine 160 = .ok (.istore_n 3, 1) := dk_62 (dk_at dksX4_windLine_6 22 rfl rfl)
theorem dX4_windLine_161 : decode cX4_windLine 161 = .ok (.iinc 2 1, 3) := dk_132 2 1 (dk_at dksX4_windLine_7 0 rfl rfl)
theorem dX4_windLine_164 : decode cX4_windLine 164 = .ok (.goto (-122), 3) := dk_167 255 134 (dk_at dksX4_windLine_7 3 rfl rfl)
theorem dX4_windLine_167 : decode cX4_windLine 167 = .ok (.aload_n 0, 1) := dk_42 (dk_at dksX4_windLine_7 6 rfl rfl)
theorem dX4_windLine_168 : decode cX4_windLine 168 = .ok (.getfield 32, 3) := dk_180 0 32 (dk_at dksX4_windLine_7 7 rfl rfl)
theorem dX4_windLine_171 : decode cX4_windLine 171 = .ok (.iload_n 1, 1) := dk_27 (dk_at dksX4_windLine_7 10 rfl rfl)
theorem dX4_windLine_172 : decode cX4_windLine 172 = .ok (.iload_n 2, 1) := dk_28 (dk_at dksX4_windLine_7 11 rfl rfl)
theorem dX4_windLine_173 : decode cX4_windLine 173 = .ok (.iastore, 1) := dk_79 (dk_at dksX4_windLine_7 12 rfl rfl)
theorem dX4_windLine_174 : decode cX4_windLine 174 = .ok (.aload_n 0, 1) := dk_42 (dk_at dksX4_windLine_7 13 rfl rfl)
theorem dX4_windLine_175 : decode cX4_windLine 175 = .ok (.getfield 29, 3) := dk_180 0 29 (dk_at dksX4_windLine_7 14 rfl rfl)
theorem dX4_windLine_178 : decode cX4_windLine 178 = .ok (.iconst 1, 1) := dk_4 (dk_at dksX4_windLine_7 17 rfl rfl)
theorem dX4_windLine_179 : decode cX4_windLine 179 = .ok (.dup2, 1) := dk_92 (dk_at dksX4_windLine_7 18 rfl rfl)
theorem dX4_windLine_180 : decode cX4_windLine 180 = .ok (.iaload, 1) := dk_46 (dk_at dksX4_windLine_7 19 rfl rfl)
theorem dX4_windLine_181 : decode cX4_windLine 181 = .ok (.iconst 1, 1) := dk_4 (dk_at dksX4_windLine_7 20 rfl rfl)
theorem dX4_windLine_182 : decode cX4_windLine 182 = .ok (.iadd, 1) := dk_96 (dk_at dksX4_windLine_7 21 rfl rfl)
theorem dX4_windLine_183 : decode cX4_windLine 183 = .ok (.iastore, 1) := dk_79 (dk_at dksX4_windLine_7 22 rfl rfl)
theorem dX4_windLine_184 : decode cX4_windLine 184 = .ok (.iconst 1, 1) := dk_4 (dk_at dksX4_windLine_7 23 rfl rfl)
theorem dX4_windLine_185 : decode cX4_windLine 185 = .ok (.ireturn, 1) := dk_172 (dk_at dksX4_windLine_8 0 rfl rfl)
abbrev cX4_has : ByteArray := prog_16_method_3_code
def yX4_has : MethodName := ⟨RX4, "has", "(II)Z"⟩
def dkwX4_has_0 : List UInt8 := [26, 27, 122, 4, 126, 4, 160, 0, 7, 4, 167, 0, 4, 3, 172]
abbrev dktX4_has_0 : List UInt8 := dkwX4_has_0 ++ []
theorem dksX4_has_0 : cX4_has.data.toList.drop 0 = dktX4_has_0 := by decide +kernel
theorem dX4_has_0 : decode cX4_has 0 = .ok (.iload_n 0, 1) := dk_26 (dk_at dksX4_has_0 0 rfl rfl)
theorem dX4_has_1 : decode cX4_has 1 = .ok (.iload_n 1, 1) := dk_27 (dk_at dksX4_has_0 1 rfl rfl)
theorem dX4_has_2 : decode cX4_has 2 = .ok (.ishr, 1) := dk_122 (dk_at dksX4_has_0 2 rfl rfl)
theorem dX4_has_3 : decode cX4_has 3 = .ok (.iconst 1, 1) := dk_4 (dk_at dksX4_has_0 3 rfl rfl)
theorem dX4_has_4 : decode cX4_has 4 = .ok (.iand, 1) := dk_126 (dk_at dksX4_has_0 4 rfl rfl)
theorem dX4_has_5 : decode cX4_has 5 = .ok (.iconst 1, 1) := dk_4 (dk_at dksX4_has_0 5 rfl rfl)
theorem dX4_has_6 : decode cX4_has 6 = .ok (.if_icmp .ne 7, 3) := dk_160 0 7 (dk_at dksX4_has_0 6 rfl rfl)
theorem dX4_has_9 : decode cX4_has 9 = .ok (.iconst 1, 1) := dk_4 (dk_at dksX4_has_0 9 rfl rfl)
theorem dX4_has_10 : decode cX4_has 10 = .ok (.goto 4, 3) := dk_167 0 4 (dk_at dksX4_has_0 10 rfl rfl)
theorem dX4_has_13 : decode cX4_has 13 = .ok (.iconst 0, 1) := dk_3 (dk_at dksX4_has_0 13 rfl rfl)
theorem dX4_has_14 : decode cX4_has 14 = .ok (.ireturn, 1) := dk_172 (dk_at dksX4_has_0 14 rfl rfl)
abbrev cX4_turnLine : ByteArray := prog_16_method_15_code
def yX4_turnLine : MethodName := ⟨RX4, "turnLine", "()Z"⟩
def dkwX4_turnLine_10 : List UInt8 := [180, 0, 159, 79, 42, 180, 0, 41, 4, 92, 46, 4, 96, 79, 4, 172]
abbrev dktX4_turnLine_10 : List UInt8 := dkwX4_turnLine_10 ++ []
def dkwX4_turnLine_9 : List UInt8 := [180, 0, 159, 79, 42, 4, 16, 10, 29, 100, 182, 0, 169, 154, 0, 5, 3, 172, 42, 180, 0, 50, 27, 42]
abbrev dktX4_turnLine_9 : List UInt8 := dkwX4_turnLine_9 ++ dktX4_turnLine_10
def dkwX4_turnLine_8 : List UInt8 := [46, 4, 100, 182, 0, 169, 154, 0, 5, 3, 172, 42, 180, 0, 44, 27, 28, 79, 42, 180, 0, 47, 27, 42]
abbrev dktX4_turnLine_8 : List UInt8 := dkwX4_turnLine_8 ++ dktX4_turnLine_9
def dkwX4_turnLine_7 : List UInt8 := [132, 5, 1, 167, 255, 177, 21, 4, 153, 0, 9, 42, 5, 182, 0, 155, 172, 42, 3, 42, 180, 0, 29, 4]
abbrev dktX4_turnLine_7 : List UInt8 := dkwX4_turnLine_7 ++ dktX4_turnLine_8
def dkwX4_turnLine_6 : List UInt8 := [180, 0, 44, 21, 5, 46, 28, 160, 0, 13, 42, 180, 0, 50, 21, 5, 46, 167, 0, 4, 3, 96, 62]
abbrev dktX4_turnLine_6 : List UInt8 := dkwX4_turnLine_6 ++ dktX4_turnLine_7
def dkwX4_turnLine_5 : List UInt8 := [180, 0, 47, 21, 5, 46, 42, 180, 0, 133, 160, 0, 7, 4, 167, 0, 4, 3, 54, 4, 29, 42]
abbrev dktX4_turnLine_5 : List UInt8 := dkwX4_turnLine_5 ++ dktX4_turnLine_6
def dkwX4_turnLine_4 : List UInt8 := [154, 0, 36, 42, 180, 0, 136, 5, 160, 0, 32, 42, 180, 0, 44, 21, 5, 46, 28, 160, 0, 21, 42]
abbrev dktX4_turnLine_4 : List UInt8 := dkwX4_turnLine_4 ++ dktX4_turnLine_5
def dkwX4_turnLine_3 : List UInt8 := [28, 160, 0, 7, 4, 167, 0, 4, 3, 54, 4, 16, 30, 54, 5, 21, 5, 27, 162, 0, 79, 21, 4]
abbrev dktX4_turnLine_3 : List UInt8 := dkwX4_turnLine_3 ++ dktX4_turnLine_4
def dkwX4_turnLine_2 : List UInt8 := [154, 0, 5, 3, 172, 42, 180, 0, 159, 61, 3, 62, 42, 180, 0, 136, 5, 160, 0, 15, 42, 180, 0, 133]
abbrev dktX4_turnLine_2 : List UInt8 := dkwX4_turnLine_2 ++ dktX4_turnLine_3
def dkwX4_turnLine_1 : List UInt8 := [167, 0, 4, 3, 182, 0, 165, 153, 0, 19, 42, 3, 42, 180, 0, 29, 4, 46, 4, 100, 182, 0, 169]
abbrev dktX4_turnLine_1 : List UInt8 := dkwX4_turnLine_1 ++ dktX4_turnLine_2
def dkwX4_turnLine_0 : List UInt8 := [16, 30, 42, 180, 0, 41, 4, 46, 96, 60, 42, 42, 180, 0, 41, 4, 46, 16, 30, 162, 0, 7, 4]
abbrev dktX4_turnLine_0 : List UInt8 := dkwX4_turnLine_0 ++ dktX4_turnLine_1
theorem dksX4_turnLine_0 : cX4_turnLine.data.toList.drop 0 = dktX4_turnLine_0 := by decide +kernel
theorem dksX4_turnLine_1 : cX4_turnLine.data.toList.drop 23 = dktX4_turnLine_1 := dk_seg dksX4_turnLine_0 23 rfl rfl
theorem dksX4_turnLine_2 : cX4_turnLine.data.toList.drop 46 = dktX4_turnLine_2 := dk_seg dksX4_turnLine_1 23 rfl rfl
theorem dksX4_turnLine_3 : cX4_turnLine.data.toList.drop 70 = dktX4_turnLine_3 := dk_seg dksX4_turnLine_2 24 rfl rfl
theorem dksX4_turnLine_4 : cX4_turnLine.data.toList.drop 93 = dktX4_turnLine_4 := dk_seg dksX4_turnLine_3 23 rfl rfl
theorem dksX4_turnLine_5 : cX4_turnLine.data.toList.drop 116 = dktX4_turnLine_5 := dk_seg dksX4_turnLine_4 23 rfl rfl
theorem dksX4_turnLine_6 : cX4_turnLine.data.toList.drop 138 = dktX4_turnLine_6 := dk_seg dksX4_turnLine_5 22 rfl rfl
theorem dksX4_turnLine_7 : cX4_turnLine.data.toList.drop 161 = dktX4_turnLine_7 := dk_seg dksX4_turnLine_6 23 rfl rfl
theorem dksX4_turnLine_8 : cX4_turnLine.data.toList.drop 185 = dktX4_turnLine_8 := dk_seg dksX4_turnLine_7 24 rfl rfl
theorem dksX4_turnLine_9 : cX4_turnLine.data.toList.drop 209 = dktX4_turnLine_9 := dk_seg dksX4_turnLine_8 24 rfl rfl
theorem dksX4_turnLine_10 : cX4_turnLine.data.toList.drop 233 = dktX4_turnLine_10 := dk_seg dksX4_turnLine_9 24 rfl rfl
theorem dX4_turnLine_0 : decode cX4_turnLine 0 = .ok (.bipush 30, 2) := dk_16 30 (dk_at dksX4_turnLine_0 0 rfl rfl)
theorem dX4_turnLine_2 : decode cX4_turnLine 2 = .ok (.aload_n 0, 1) := dk_42 (dk_at dksX4_turnLine_0 2 rfl rfl)
theorem dX4_turnLine_3 : decode cX4_turnLine 3 = .ok (.getfield 41, 3) := dk_180 0 41 (dk_at dksX4_turnLine_0 3 rfl rfl)
theorem dX4_turnLine_6 : decode cX4_turnLine 6 = .ok (.iconst 1, 1) := dk_4 (dk_at dksX4_turnLine_0 6 rfl rfl)
theorem dX4_turnLine_7 : decode cX4_turnLine 7 = .ok (.iaload, 1) := dk_46 (dk_at dksX4_turnLine_0 7 rfl rfl)
theorem dX4_turnLine_8 : decode cX4_turnLine 8 = .ok (.iadd, 1) := dk_96 (dk_at dksX4_turnLine_0 8 rfl rfl)
theorem dX4_turnLine_9 : decode cX4_turnLine 9 = .ok (.istore_n 1, 1) := dk_60 (dk_at dksX4_turnLine_0 9 rfl rfl)
theorem dX4_turnLine_10 : decode cX4_turnLine 10 = .ok (.aload_n 0, 1) := dk_42 (dk_at dksX4_turnLine_0 10 rfl rfl)
theorem dX4_turnLine_11 : decode cX4_turnLine 11 = .ok (.aload_n 0, 1) := dk_42 (dk_at dksX4_turnLine_0 11 rfl rfl)
theorem dX4_turnLine_12 : decode cX4_turnLine 12 = .ok (.getfield 41, 3) := dk_180 0 41 (dk_at dksX4_turnLine_0 12 rfl rfl)
theorem dX4_turnLine_15 : decode cX4_turnLine 15 = .ok (.iconst 1, 1) := dk_4 (dk_at dksX4_turnLine_0 15 rfl rfl)
theorem dX4_turnLine_16 : decode cX4_turnLine 16 = .ok (.iaload, 1) := dk_46 (dk_at dksX4_turnLine_0 16 rfl rfl)
theorem dX4_turnLine_17 : decode cX4_turnLine 17 = .ok (.bipush 30, 2) := dk_16 30 (dk_at dksX4_turnLine_0 17 rfl rfl)
theorem dX4_turnLine_19 : decode cX4_turnLine 19 = .ok (.if_icmp .ge 7, 3) := dk_162 0 7 (dk_at dksX4_turnLine_0 19 rfl rfl)
theorem dX4_turnLine_22 : decode cX4_turnLine 22 = .ok (.iconst 1, 1) := dk_4 (dk_at dksX4_turnLine_0 22 rfl rfl)
theorem dX4_turnLine_23 : decode cX4_turnLine 23 = .ok (.goto 4, 3) := dk_167 0 4 (dk_at dksX4_turnLine_1 0 rfl rfl)
theorem dX4_turnLine_26 : decode cX4_turnLine 26 = .ok (.iconst 0, 1) := dk_3 (dk_at dksX4_turnLine_1 3 rfl rfl)
theorem dX4_turnLine_27 : decode cX4_turnLine 27 = .ok (.invokevirtual 165, 3) := dk_182 0 165 (dk_at dksX4_turnLine_1 4 rfl rfl)
theorem dX4_turnLine_30 : decode cX4_turnLine 30 = .ok (.ifCond .eq 19, 3) := dk_153 0 19 (dk_at dksX4_turnLine_1 7 rfl rfl)
theorem dX4_turnLine_33 : decode cX4_turnLine 33 = .ok (.aload_n 0, 1) := dk_42 (dk_at dksX4_turnLine_1 10 rfl rfl)
theorem dX4_turnLine_34 : decode cX4_turnLine 34 = .ok (.iconst 0, 1) := dk_3 (dk_at dksX4_turnLine_1 11 rfl rfl)
theorem dX4_turnLine_35 : decode cX4_turnLine 35 = .ok (.aload_n 0, 1) := dk_42 (dk_at dksX4_turnLine_1 12 rfl rfl)
theorem dX4_turnLine_36 : decode cX4_turnLine 36 = .ok (.getfield 29, 3) := dk_180 0 29 (dk_at dksX4_turnLine_1 13 rfl rfl)
theorem dX4_turnLine_39 : decode cX4_turnLine 39 = .ok (.iconst 1, 1) := dk_4 (dk_at dksX4_turnLine_1 16 rfl rfl)
theorem dX4_turnLine_40 : decode cX4_turnLine 40 = .ok (.iaload, 1) := dk_46 (dk_at dksX4_turnLine_1 17 rfl rfl)
theorem dX4_turnLine_41 : decode cX4_turnLine 41 = .ok (.iconst 1, 1) := dk_4 (dk_at dksX4_turnLine_1 18 rfl rfl)
theorem dX4_turnLine_42 : decode cX4_turnLine 42 = .ok (.isub, 1) := dk_100 (dk_at dksX4_turnLine_1 19 rfl rfl)
theorem dX4_turnLine_43 : decode cX4_turnLine 43 = .ok (.invokevirtual 169, 3) := dk_182 0 169 (dk_at dksX4_turnLine_1 20 rfl rfl)
theorem dX4_turnLine_46 : decode cX4_turnLine 46 = .ok (.ifCond .ne 5, 3) := dk_154 0 5 (dk_at dksX4_turnLine_2 0 rfl rfl)
theorem dX4_turnLine_49 : decode cX4_turnLine 49 = .ok (.iconst 0, 1) := dk_3 (dk_at dksX4_turnLine_2 3 rfl rfl)
theorem dX4_turnLine_50 : decode cX4_turnLine 50 = .ok (.ireturn, 1) := dk_172 (dk_at dksX4_turnLine_2 4 rfl rfl)
theorem dX4_turnLine_51 : decode cX4_turnLine 51 = .ok (.aload_n 0, 1) := dk_42 (dk_at dksX4_turnLine_2 5 rfl rfl)
theorem dX4_turnLine_52 : decode cX4_turnLine 52 = .ok (.getfield 159, 3) := dk_180 0 159 (dk_at dksX4_turnLine_2 6 rfl rfl)
theorem dX4_turnLine_55 : decode cX4_turnLine 55 = .ok (.istore_n 2, 1) := dk_61 (dk_at dksX4_turnLine_2 9 rfl rfl)
theorem dX4_turnLine_56 : decode cX4_turnLine 56 = .ok (.iconst 0, 1) := dk_3 (dk_at dksX4_turnLine_2 10 rfl rfl)
theorem dX4_turnLine_57 : decode cX4_turnLine 57 = .ok (.istore_n 3, 1) := dk_62 (dk_at dksX4_turnLine_2 11 rfl rfl)
theorem dX4_turnLine_58 : decode cX4_turnLine 58 = .ok (.aload_n 0, 1) := dk_42 (dk_at dksX4_turnLine_2 12 rfl rfl)
theorem dX4_turnLine_59 : decode cX4_turnLine 59 = .ok (.getfield 136, 3) := dk_180 0 136 (dk_at dksX4_turnLine_2 13 rfl rfl)
theorem dX4_turnLine_62 : decode cX4_turnLine 62 = .ok (.iconst 2, 1) := dk_5 (dk_at dksX4_turnLine_2 16 rfl rfl)
theorem dX4_turnLine_63 : decode cX4_turnLine 63 = .ok (.if_icmp .ne 15, 3) := dk_160 0 15 (dk_at dksX4_turnLine_2 17 rfl rfl)
theorem dX4_turnLine_66 : decode cX4_turnLine 66 = .ok (.aload_n 0, 1) := dk_42 (dk_at dksX4_turnLine_2 20 rfl rfl)
theorem dX4_turnLine_67 : decode cX4_turnLine 67 = .ok (.getfield 133, 3) := dk_180 0 133 (dk_at dksX4_turnLine_2 21 rfl rfl)
theorem dX4_turnLine_70 : decode cX4_turnLine 70 = .ok (.iload_n 2, 1) := dk_28 (dk_at dksX4_turnLine_3 0 rfl rfl)
theorem dX4_turnLine_71 : decode cX4_turnLine 71 = .ok (.if_icmp .ne 7, 3) := dk_160 0 7 (dk_at dksX4_turnLine_3 1 rfl rfl)
theorem dX4_turnLine_74 : decode cX4_turnLine 74 = .ok (.iconst 1, 1) := dk_4 (dk_at dksX4_turnLine_3 4 rfl rfl)
theorem dX4_turnLine_75 : decode cX4_turnLine 75 = .ok (.goto 4, 3) := dk_167 0 4 (dk_at dksX4_turnLine_3 5 rfl rfl)
theorem dX4_turnLine_78 : decode cX4_turnLine 78 = .ok (.iconst 0, 1) := dk_3 (dk_at dksX4_turnLine_3 8 rfl rfl)
theorem dX4_turnLine_79 : decode cX4_turnLine 79 = .ok (.istore 4, 2) := dk_54 4 (dk_at dksX4_turnLine_3 9 rfl rfl)
theorem dX4_turnLine_81 : decode cX4_turnLine 81 = .ok (.bipush 30, 2) := dk_16 30 (dk_at dksX4_turnLine_3 11 rfl rfl)
theorem dX4_turnLine_83 : decode cX4_turnLine 83 = .ok (.istore 5, 2) := dk_54 5 (dk_at dksX4_turnLine_3 13 rfl rfl)
theorem dX4_turnLine_85 : decode cX4_turnLine 85 = .ok (.iload 5, 2) := dk_21 5 (dk_at dksX4_turnLine_3 15 rfl rfl)
theorem dX4_turnLine_87 : decode cX4_turnLine 87 = .ok (.iload_n 1, 1) := dk_27 (dk_at dksX4_turnLine_3 17 rfl rfl)
theorem dX4_turnLine_88 : decode cX4_turnLine 88 = .ok (.if_icmp .ge 79, 3) := dk_162 0 79 (dk_at dksX4_turnLine_3 18 rfl rfl)
theorem dX4_turnLine_91 : decode cX4_turnLine 91 = .ok (.iload 4, 2) := dk_21 4 (dk_at dksX4_turnLine_3 21 rfl rfl)
theorem dX4_turnLine_93 : decode cX4_turnLine 93 = .ok (.ifCond .ne 36, 3) := dk_154 0 36 (dk_at dksX4_turnLine_4 0 rfl rfl)
theorem dX4_turnLine_96 : decode cX4_turnLine 96 = .ok (.aload_n 0, 1) := dk_42 (dk_at dksX4_turnLine_4 3 rfl rfl)
theorem dX4_turnLine_97 : decode cX4_turnLine 97 = .ok (.getfield 136, 3) := dk_180 0 136 (dk_at dksX4_turnLine_4 4 rfl rfl)
theorem dX4_turnLine_100 : decode cX4_turnLine 100 = .ok (.iconst 2, 1) := dk_5 (dk_at dksX4_turnLine_4 7 rfl rfl)
theorem dX4_turnLine_101 : decode cX4_turnLine 101 = .ok (.if_icmp .ne 32, 3) := dk_160 0 32 (dk_at dksX4_turnLine_4 8 rfl rfl)
theorem dX4_turnLine_104 : decode cX4_turnLine 104 = .ok (.aload_n 0, 1) := dk_42 (dk_at dksX4_turnLine_4 11 rfl rfl)
theorem dX4_turnLine_105 : decode cX4_turnLine 105 = .ok (.getfield 44, 3) := dk_180 0 44 (dk_at dksX4_turnLine_4 12 rfl rfl)
theorem dX4_turnLine_108 : decode cX4_turnLine 108 = .ok (.iload 5, 2) := dk_21 5 (dk_at dksX4_turnLine_4 15 rfl rfl)
theorem dX4_turnLine_110 : decode cX4_turnLine 110 = .ok (.iaload, 1) := dk_46 (dk_at dksX4_turnLine_4 17 rfl rfl)
theorem dX4_turnLine_111 : decode cX4_turnLine 111 = .ok (.iload_n 2, 1) := dk_28 (dk_at dksX4_turnLine_4 18 rfl rfl)
theorem dX4_turnLine_112 : decode cX4_turnLine 112 = .ok (.if_icmp .ne 21, 3) := dk_160 0 21 (dk_at dksX4_turnLine_4 19 rfl rfl)
theorem dX4_turnLine_115 : decode cX4_turnLine 115 = .ok (.aload_n 0, 1) := dk_42 (dk_at dksX4_turnLine_4 22 rfl rfl)
theorem dX4_turnLine_116 : decode cX4_turnLine 116 = .ok (.getfield 47, 3) := dk_180 0 47 (dk_at dksX4_turnLine_5 0 rfl rfl)
theorem dX4_turnLine_119 : decode cX4_turnLine 119 = .ok (.iload 5, 2) := dk_21 5 (dk_at dksX4_turnLine_5 3 rfl rfl)
theorem dX4_turnLine_121 : decode cX4_turnLine 121 = .ok (.iaload, 1) := dk_46 (dk_at dksX4_turnLine_5 5 rfl rfl)
theorem dX4_turnLine_122 : decode cX4_turnLine 122 = .ok (.aload_n 0, 1) := dk_42 (dk_at dksX4_turnLine_5 6 rfl rfl)
theorem dX4_turnLine_123 : decode cX4_turnLine 123 = .ok (.getfield 133, 3) := dk_180 0 133 (dk_at dksX4_turnLine_5 7 rfl rfl)
theorem dX4_turnLine_126 : decode cX4_turnLine 126 = .ok (.if_icmp .ne 7, 3) := dk_160 0 7 (dk_at dksX4_turnLine_5 10 rfl rfl)
theorem dX4_turnLine_129 : decode cX4_turnLine 129 = .ok (.iconst 1, 1) := dk_4 (dk_at dksX4_turnLine_5 13 rfl rfl)
theorem dX4_turnLine_130 : decode cX4_turnLine 130 = .ok (.goto 4, 3) := dk_167 0 4 (dk_at dksX4_turnLine_5 14 rfl rfl)
theorem dX4_turnLine_133 : decode cX4_turnLine 133 = .ok (.iconst 0, 1) := dk_3 (dk_at dksX4_turnLine_5 17 rfl rfl)
theorem dX4_turnLine_134 : decode cX4_turnLine 134 = .ok (.istore 4, 2) := dk_54 4 (dk_at dksX4_turnLine_5 18 rfl rfl)
theorem dX4_turnLine_136 : decode cX4_turnLine 136 = .ok (.iload_n 3, 1) := dk_29 (dk_at dksX4_turnLine_5 20 rfl rfl)
theorem dX4_turnLine_137 : decode cX4_turnLine 137 = .ok (.aload_n 0, 1) := dk_42 (dk_at dksX4_turnLine_5 21 rfl rfl)
theorem dX4_turnLine_138 : decode cX4_turnLine 138 = .ok (.getfield 44, 3) := dk_180 0 44 (dk_at dksX4_turnLine_6 0 rfl rfl)
theorem dX4_turnLine_141 : decode cX4_turnLine 141 = .ok (.iload 5, 2) := dk_21 5 (dk_at dksX4_turnLine_6 3 rfl rfl)
theorem dX4_turnLine_143 : decode cX4_turnLine 143 = .ok (.iaload, 1) := dk_46 (dk_at dksX4_turnLine_6 5 rfl rfl)
theorem dX4_turnLine_144 : decode cX4_turnLine 144 = .ok (.iload_n 2, 1) := dk_28 (dk_at dksX4_turnLine_6 6 rfl rfl)
theorem dX4_turnLine_145 : decode cX4_turnLine 145 = .ok (.if_icmp .ne 13, 3) := dk_160 0 13 (dk_at dksX4_turnLine_6 7 rfl rfl)
theorem dX4_turnLine_148 : decode cX4_turnLine 148 = .ok (.aload_n 0, 1) := dk_42 (dk_at dksX4_turnLine_6 10 rfl rfl)
theorem dX4_turnLine_149 : decode cX4_turnLine 149 = .ok (.getfield 50, 3) := dk_180 0 50 (dk_at dksX4_turnLine_6 11 rfl rfl)
theorem dX4_turnLine_152 : decode cX4_turnLine 152 = .ok (.iload 5, 2) := dk_21 5 (dk_at dksX4_turnLine_6 14 rfl rfl)
theorem dX4_turnLine_154 : decode cX4_turnLine 154 = .ok (.iaload, 1) := dk_46 (dk_at dksX4_turnLine_6 16 rfl rfl)
theorem dX4_turnLine_155 : decode cX4_turnLine 155 = .ok (.goto 4, 3) := dk_167 0 4 (dk_at dksX4_turnLine_6 17 rfl rfl)
theorem dX4_turnLine_158 : decode cX4_turnLine 158 = .ok (.iconst 0, 1) := dk_3 (dk_at dksX4_turnLine_6 20 rfl rfl)
theorem dX4_turnLine_159 : decode cX4_turnLine 159 = .ok (.iadd, 1) := dk_96 (dk_at dksX4_turnLine_6 21 rfl rfl)
theorem dX4_turnLine_160 : decode cX4_turnLine 160 = .ok (.istore_n 3, 1) := dk_62 (dk_at dksX4_turnLine_6 22 rfl rfl)
theorem dX4_turnLine_161 : decode cX4_turnLine 161 = .ok (.iinc 5 1, 3) := dk_132 5 1 (dk_at dksX4_turnLine_7 0 rfl rfl)
theorem dX4_turnLine_164 : decode cX4_turnLine 164 = .ok (.goto (-79), 3) := dk_167 255 177 (dk_at dksX4_turnLine_7 3 rfl rfl)
theorem dX4_turnLine_167 : decode cX4_turnLine 167 = .ok (.iload 4, 2) := dk_21 4 (dk_at dksX4_turnLine_7 6 rfl rfl)
theorem dX4_turnLine_169 : decode cX4_turnLine 169 = .ok (.ifCond .eq 9, 3) := dk_153 0 9 (dk_at dksX4_turnLine_7 8 rfl rfl)
theorem dX4_turnLine_172 : decode cX4_turnLine 172 = .ok (.aload_n 0, 1) := dk_42 (dk_at dksX4_turnLine_7 11 rfl rfl)
theorem dX4_turnLine_173 : decode cX4_turnLine 173 = .ok (.iconst 2, 1) := dk_5 (dk_at dksX4_turnLine_7 12 rfl rfl)
theorem dX4_turnLine_174 : decode cX4_turnLine 174 = .ok (.invokevirtual 155, 3) := dk_182 0 155 (dk_at dksX4_turnLine_7 13 rfl rfl)
theorem dX4_turnLine_177 : decode cX4_turnLine 177 = .ok (.ireturn, 1) := dk_172 (dk_at dksX4_turnLine_7 16 rfl rfl)
theorem dX4_turnLine_178 : decode cX4_turnLine 178 = .ok (.aload_n 0, 1) := dk_42 (dk_at dksX4_turnLine_7 17 rfl rfl)
theorem dX4_turnLine_179 : decode cX4_turnLine 179 = .ok (.iconst 0, 1) := dk_3 (dk_at dksX4_turnLine_7 18 rfl rfl)
theorem dX4_turnLine_180 : decode cX4_turnLine 180 = .ok (.aload_n 0, 1) := dk_42 (dk_at dksX4_turnLine_7 19 rfl rfl)
theorem dX4_turnLine_181 : decode cX4_turnLine 181 = .ok (.getfield 29, 3) := dk_180 0 29 (dk_at dksX4_turnLine_7 20 rfl rfl)
theorem dX4_turnLine_184 : decode cX4_turnLine 184 = .ok (.iconst 1, 1) := dk_4 (dk_at dksX4_turnLine_7 23 rfl rfl)
theorem dX4_turnLine_185 : decode cX4_turnLine 185 = .ok (.iaload, 1) := dk_46 (dk_at dksX4_turnLine_8 0 rfl rfl)
theorem dX4_turnLine_186 : decode cX4_turnLine 186 = .ok (.iconst 1, 1) := dk_4 (dk_at dksX4_turnLine_8 1 rfl rfl)
theorem dX4_turnLine_187 : decode cX4_turnLine 187 = .ok (.isub, 1) := dk_100 (dk_at dksX4_turnLine_8 2 rfl rfl)
theorem dX4_turnLine_188 : decode cX4_turnLine 188 = .ok (.invokevirtual 169, 3) := dk_182 0 169 (dk_at dksX4_turnLine_8 3 rfl rfl)
theorem dX4_turnLine_191 : decode cX4_turnLine 191 = .ok (.ifCond .ne 5, 3) := dk_154 0 5 (dk_at dksX4_turnLine_8 6 rfl rfl)
theorem dX4_turnLine_194 : decode cX4_turnLine 194 = .ok (.iconst 0, 1) := dk_3 (dk_at dksX4_turnLine_8 9 rfl rfl)
theorem dX4_turnLine_195 : decode cX4_turnLine 195 = .ok (.ireturn, 1) := dk_172 (dk_at dksX4_turnLine_8 10 rfl rfl)
theorem dX4_turnLine_196 : decode cX4_turnLine 196 = .ok (.aload_n 0, 1) := dk_42 (dk_at dksX4_turnLine_8 11 rfl rfl)
theorem dX4_turnLine_197 : decode cX4_turnLine 197 = .ok (.getfield 44, 3) := dk_180 0 44 (dk_at dksX4_turnLine_8 12 rfl rfl)
theorem dX4_turnLine_200 : decode cX4_turnLine 200 = .ok (.iload_n 1, 1) := dk_27 (dk_at dksX4_turnLine_8 15 rfl rfl)
theorem dX4_turnLine_201 : decode cX4_turnLine 201 = .ok (.iload_n 2, 1) := dk_28 (dk_at dksX4_turnLine_8 16 rfl rfl)
theorem dX4_turnLine_202 : decode cX4_turnLine 202 = .ok (.iastore, 1) := dk_79 (dk_at dksX4_turnLine_8 17 rfl rfl)
theorem dX4_turnLine_203 : decode cX4_turnLine 203 = .ok (.aload_n 0, 1) := dk_42 (dk_at dksX4_turnLine_8 18 rfl rfl)
theorem dX4_turnLine_204 : decode cX4_turnLine 204 = .ok (.getfield 47, 3) := dk_180 0 47 (dk_at dksX4_turnLine_8 19 rfl rfl)
theorem dX4_turnLine_207 : decode cX4_turnLine 207 = .ok (.iload_n 1, 1) := dk_27 (dk_at dksX4_turnLine_8 22 rfl rfl)
theorem dX4_turnLine_208 : decode cX4_turnLine 208 = .ok (.aload_n 0, 1) := dk_42 (dk_at dksX4_turnLine_8 23 rfl rfl)
theorem dX4_turnLine_209 : decode cX4_turnLine 209 = .ok (.getfield 159, 3) := dk_180 0 159 (dk_at dksX4_turnLine_9 0 rfl rfl)
theorem dX4_turnLine_212 : decode cX4_turnLine 212 = .ok (.iastore, 1) := dk_79 (dk_at dksX4_turnLine_9 3 rfl rfl)
theorem dX4_turnLine_213 : decode cX4_turnLine 213 = .ok (.aload_n 0, 1) := dk_42 (dk_at dksX4_turnLine_9 4 rfl rfl)
theorem dX4_turnLine_214 : decode cX4_turnLine 214 = .ok (.iconst 1, 1) := dk_4 (dk_at dksX4_turnLine_9 5 rfl rfl)
theorem dX4_turnLine_215 : decode cX4_turnLine 215 = .ok (.bipush 10, 2) := dk_16 10 (dk_at dksX4_turnLine_9 6 rfl rfl)
theorem dX4_turnLine_217 : decode cX4_turnLine 217 = .ok (.iload_n 3, 1) := dk_29 (dk_at dksX4_turnLine_9 8 rfl rfl)
theorem dX4_turnLine_218 : decode cX4_turnLine 218 = .ok (.isub, 1) := dk_100 (dk_at dksX4_turnLine_9 9 rfl rfl)
theorem dX4_turnLine_219 : decode cX4_turnLine 219 = .ok (.invokevirtual 169, 3) := dk_182 0 169 (dk_at dksX4_turnLine_9 10 rfl rfl)
theorem dX4_turnLine_222 : decode cX4_turnLine 222 = .ok (.ifCond .ne 5, 3) := dk_154 0 5 (dk_at dksX4_turnLine_9 13 rfl rfl)
theorem dX4_turnLine_225 : decode cX4_turnLine 225 = .ok (.iconst 0, 1) := dk_3 (dk_at dksX4_turnLine_9 16 rfl rfl)
theorem dX4_turnLine_226 : decode cX4_turnLine 226 = .ok (.ireturn, 1) := dk_172 (dk_at dksX4_turnLine_9 17 rfl rfl)
theorem dX4_turnLine_227 : decode cX4_turnLine 227 = .ok (.aload_n 0, 1) := dk_42 (dk_at dksX4_turnLine_9 18 rfl rfl)
theorem dX4_turnLine_228 : decode cX4_turnLine 228 = .ok (.getfield 50, 3) := dk_180 0 50 (dk_at dksX4_turnLine_9 19 rfl rfl)
theorem dX4_turnLine_231 : decode cX4_turnLine 231 = .ok (.iload_n 1, 1) := dk_27 (dk_at dksX4_turnLine_9 22 rfl rfl)
theorem dX4_turnLine_232 : decode cX4_turnLine 232 = .ok (.aload_n 0, 1) := dk_42 (dk_at dksX4_turnLine_9 23 rfl rfl)
theorem dX4_turnLine_233 : decode cX4_turnLine 233 = .ok (.getfield 159, 3) := dk_180 0 159 (dk_at dksX4_turnLine_10 0 rfl rfl)
theorem dX4_turnLine_236 : decode cX4_turnLine 236 = .ok (.iastore, 1) := dk_79 (dk_at dksX4_turnLine_10 3 rfl rfl)
theorem dX4_turnLine_237 : decode cX4_turnLine 237 = .ok (.aload_n 0, 1) := dk_42 (dk_at dksX4_turnLine_10 4 rfl rfl)
theorem dX4_turnLine_238 : decode cX4_turnLine 238 = .ok (.getfield 41, 3) := dk_180 0 41 (dk_at dksX4_turnLine_10 5 rfl rfl)
theorem dX4_turnLine_241 : decode cX4_turnLine 241 = .ok (.iconst 1, 1) := dk_4 (dk_at dksX4_turnLine_10 8 rfl rfl)
theorem dX4_turnLine_242 : decode cX4_turnLine 242 = .ok (.dup2, 1) := dk_92 (dk_at dksX4_turnLine_10 9 rfl rfl)
theorem dX4_turnLine_243 : decode cX4_turnLine 243 = .ok (.iaload, 1) := dk_46 (dk_at dksX4_turnLine_10 10 rfl rfl)
theorem dX4_turnLine_244 : decode cX4_turnLine 244 = .ok (.iconst 1, 1) := dk_4 (dk_at dksX4_turnLine_10 11 rfl rfl)
theorem dX4_turnLine_245 : decode cX4_turnLine 245 = .ok (.iadd, 1) := dk_96 (dk_at dksX4_turnLine_10 12 rfl rfl)
theorem dX4_turnLine_246 : decode cX4_turnLine 246 = .ok (.iastore, 1) := dk_79 (dk_at dksX4_turnLine_10 13 rfl rfl)
theorem dX4_turnLine_247 : decode cX4_turnLine 247 = .ok (.iconst 1, 1) := dk_4 (dk_at dksX4_turnLine_10 14 rfl rfl)
theorem dX4_turnLine_248 : decode cX4_turnLine 248 = .ok (.ireturn, 1) := dk_172 (dk_at dksX4_turnLine_10 15 rfl rfl)
abbrev cX4_balloonLine : ByteArray := prog_16_method_16_code
def yX4_balloonLine : MethodName := ⟨RX4, "balloonLine", "()Z"⟩
def dkwX4_balloonLine_3 : List UInt8 := [27, 42, 180, 0, 159, 79, 42, 180, 0, 53, 4, 92, 46, 4, 96, 79, 4, 172]
abbrev dktX4_balloonLine_3 : List UInt8 := dkwX4_balloonLine_3 ++ []
def dkwX4_balloonLine_2 : List UInt8 := [180, 0, 56, 27, 42, 180, 0, 159, 79, 42, 3, 7, 182, 0, 169, 154, 0, 5, 3, 172, 42, 180, 0, 59]
abbrev dktX4_balloonLine_2 : List UInt8 := dkwX4_balloonLine_2 ++ dktX4_balloonLine_3
def dkwX4_balloonLine_1 : List UInt8 := [167, 0, 4, 3, 182, 0, 165, 153, 0, 14, 42, 4, 17, 3, 231, 182, 0, 169, 154, 0, 5, 3, 172, 42]
abbrev dktX4_balloonLine_1 : List UInt8 := dkwX4_balloonLine_1 ++ dktX4_balloonLine_2
def dkwX4_balloonLine_0 : List UInt8 := [16, 10, 42, 180, 0, 53, 4, 46, 96, 60, 42, 42, 180, 0, 53, 4, 46, 16, 10, 162, 0, 7, 4]
abbrev dktX4_balloonLine_0 : List UInt8 := dkwX4_balloonLine_0 ++ dktX4_balloonLine_1
theorem dksX4_balloonLine_0 : cX4_balloonLine.data.toList.drop 0 = dktX4_balloonLine_0 := by decide +kernel
theorem dksX4_balloonLine_1 : cX4_balloonLine.data.toList.drop 23 = dktX4_balloonLine_1 := dk_seg dksX4_balloonLine_0 23 rfl rfl
theorem dksX4_balloonLine_2 : cX4_balloonLine.data.toList.drop 47 = dktX4_balloonLine_2 := dk_seg dksX4_balloonLine_1 24 rfl rfl
theorem dksX4_balloonLine_3 : cX4_balloonLine.data.toList.drop 71 = dktX4_balloonLine_3 := dk_seg dksX4_balloonLine_2 24 rfl rfl
theorem dX4_balloonLine_0 : decode cX4_balloonLine 0 = .ok (.bipush 10, 2) := dk_16 10 (dk_at dksX4_balloonLine_0 0 rfl rfl)
theorem dX4_balloonLine_2 : decode cX4_balloonLine 2 = .ok (.aload_n 0, 1) := dk_42 (dk_at dksX4_balloonLine_0 2 rfl rfl)
theorem dX4_balloonLine_3 : decode cX4_balloonLine 3 = .ok (.getfield 53, 3) := dk_180 0 53 (dk_at dksX4_balloonLine_0 3 rfl rfl)
theorem dX4_balloonLine_6 : decode cX4_balloonLine 6 = .ok (.iconst 1, 1) := dk_4 (dk_at dksX4_balloonLine_0 6 rfl rfl)
theorem dX4_balloonLine_7 : decode cX4_balloonLine 7 = .ok (.iaload, 1) := dk_46 (dk_at dksX4_balloonLine_0 7 rfl rfl)
theorem dX4_balloonLine_8 : decode cX4_balloonLine 8 = .ok (.iadd, 1) := dk_96 (dk_at dksX4_balloonLine_0 8 rfl rfl)
theorem dX4_balloonLine_9 : decode cX4_balloonLine 9 = .ok (.istore_n 1, 1) := dk_60 (dk_at dksX4_balloonLine_0 9 rfl rfl)
theorem dX4_balloonLine_10 : decode cX4_balloonLine 10 = .ok (.aload_n 0, 1) := dk_42 (dk_at dksX4_balloonLine_0 10 rfl rfl)
theorem dX4_balloonLine_11 : decode cX4_balloonLine 11 = .ok (.aload_n 0, 1) := dk_42 (dk_at dksX4_balloonLine_0 11 rfl rfl)
theorem dX4_balloonLine_12 : decode cX4_balloonLine 12 = .ok (.getfield 53, 3) := dk_180 0 53 (dk_at dksX4_balloonLine_0 12 rfl rfl)
theorem dX4_balloonLine_15 : decode cX4_balloonLine 15 = .ok (.iconst 1, 1) := dk_4 (dk_at dksX4_balloonLine_0 15 rfl rfl)
theorem dX4_balloonLine_16 : decode cX4_balloonLine 16 = .ok (.iaload, 1) := dk_46 (dk_at dksX4_balloonLine_0 16 rfl rfl)
theorem dX4_balloonLine_17 : decode cX4_balloonLine 17 = .ok (.bipush 10, 2) := dk_16 10 (dk_at dksX4_balloonLine_0 17 rfl rfl)
theorem dX4_balloonLine_19 : decode cX4_balloonLine 19 = .ok (.if_icmp .ge 7, 3) := dk_162 0 7 (dk_at dksX4_balloonLine_0 19 rfl rfl)
theorem dX4_balloonLine_22 : decode cX4_balloonLine 22 = .ok (.iconst 1, 1) := dk_4 (dk_at dksX4_balloonLine_0 22 rfl rfl)
theorem dX4_balloonLine_23 : decode cX4_balloonLine 23 = .ok (.goto 4, 3) := dk_167 0 4 (dk_at dksX4_balloonLine_1 0 rfl rfl)
theorem dX4_balloonLine_26 : decode cX4_balloonLine 26 = .ok (.iconst 0, 1) := dk_3 (dk_at dksX4_balloonLine_1 3 rfl rfl)
theorem dX4_balloonLine_27 : decode cX4_balloonLine 27 = .ok (.invokevirtual 165, 3) := dk_182 0 165 (dk_at dksX4_balloonLine_1 4 rfl rfl)
theorem dX4_balloonLine_30 : decode cX4_balloonLine 30 = .ok (.ifCond .eq 14, 3) := dk_153 0 14 (dk_at dksX4_balloonLine_1 7 rfl rfl)
theorem dX4_balloonLine_33 : decode cX4_balloonLine 33 = .ok (.aload_n 0, 1) := dk_42 (dk_at dksX4_balloonLine_1 10 rfl rfl)
theorem dX4_balloonLine_34 : decode cX4_balloonLine 34 = .ok (.iconst 1, 1) := dk_4 (dk_at dksX4_balloonLine_1 11 rfl rfl)
theorem dX4_balloonLine_35 : decode cX4_balloonLine 35 = .ok (.sipush 999, 3) := dk_17 3 231 (dk_at dksX4_balloonLine_1 12 rfl rfl)
theorem dX4_balloonLine_38 : decode cX4_balloonLine 38 = .ok (.invokevirtual 169, 3) := dk_182 0 169 (dk_at dksX4_balloonLine_1 15 rfl rfl)
theorem dX4_balloonLine_41 : decode cX4_balloonLine 41 = .ok (.ifCond .ne 5, 3) := dk_154 0 5 (dk_at dksX4_balloonLine_1 18 rfl rfl)
theorem dX4_balloonLine_44 : decode cX4_balloonLine 44 = .ok (.iconst 0, 1) := dk_3 (dk_at dksX4_balloonLine_1 21 rfl rfl)
theorem dX4_balloonLine_45 : decode cX4_balloonLine 45 = .ok (.ireturn, 1) := dk_172 (dk_at dksX4_balloonLine_1 22 rfl rfl)
theorem dX4_balloonLine_46 : decode cX4_balloonLine 46 = .ok (.aload_n 0, 1) := dk_42 (dk_at dksX4_balloonLine_1 23 rfl rfl)
theorem dX4_balloonLine_47 : decode cX4_balloonLine 47 = .ok (.getfield 56, 3) := dk_180 0 56 (dk_at dksX4_balloonLine_2 0 rfl rfl)
theorem dX4_balloonLine_50 : decode cX4_balloonLine 50 = .ok (.iload_n 1, 1) := dk_27 (dk_at dksX4_balloonLine_2 3 rfl rfl)
theorem dX4_balloonLine_51 : decode cX4_balloonLine 51 = .ok (.aload_n 0, 1) := dk_42 (dk_at dksX4_balloonLine_2 4 rfl rfl)
theorem dX4_balloonLine_52 : decode cX4_balloonLine 52 = .ok (.getfield 159, 3) := dk_180 0 159 (dk_at dksX4_balloonLine_2 5 rfl rfl)
theorem dX4_balloonLine_55 : decode cX4_balloonLine 55 = .ok (.iastore, 1) := dk_79 (dk_at dksX4_balloonLine_2 8 rfl rfl)
theorem dX4_balloonLine_56 : decode cX4_balloonLine 56 = .ok (.aload_n 0, 1) := dk_42 (dk_at dksX4_balloonLine_2 9 rfl rfl)
theorem dX4_balloonLine_57 : decode cX4_balloonLine 57 = .ok (.iconst 0, 1) := dk_3 (dk_at dksX4_balloonLine_2 10 rfl rfl)
theorem dX4_balloonLine_58 : decode cX4_balloonLine 58 = .ok (.iconst 4, 1) := dk_7 (dk_at dksX4_balloonLine_2 11 rfl rfl)
theorem dX4_balloonLine_59 : decode cX4_balloonLine 59 = .ok (.invokevirtual 169, 3) := dk_182 0 169 (dk_at dksX4_balloonLine_2 12 rfl rfl)
theorem dX4_balloonLine_62 : decode cX4_balloonLine 62 = .ok (.ifCond .ne 5, 3) := dk_154 0 5 (dk_at dksX4_balloonLine_2 15 rfl rfl)
theorem dX4_balloonLine_65 : decode cX4_balloonLine 65 = .ok (.iconst 0, 1) := dk_3 (dk_at dksX4_balloonLine_2 18 rfl rfl)
theorem dX4_balloonLine_66 : decode cX4_balloonLine 66 = .ok (.ireturn, 1) := dk_172 (dk_at dksX4_balloonLine_2 19 rfl rfl)
theorem dX4_balloonLine_67 : decode cX4_balloonLine 67 = .ok (.aload_n 0, 1) := dk_42 (dk_at dksX4_balloonLine_2 20 rfl rfl)
theorem dX4_balloonLine_68 : decode cX4_balloonLine 68 = .ok (.getfield 59, 3) := dk_180 0 59 (dk_at dksX4_balloonLine_2 21 rfl rfl)
theorem dX4_balloonLine_71 : decode cX4_balloonLine 71 = .ok (.iload_n 1, 1) := dk_27 (dk_at dksX4_balloonLine_3 0 rfl rfl)
theorem dX4_balloonLine_72 : decode cX4_balloonLine 72 = .ok (.aload_n 0, 1) := dk_42 (dk_at dksX4_balloonLine_3 1 rfl rfl)
theorem dX4_balloonLine_73 : decode cX4_balloonLine 73 = .ok (.getfield 159, 3) := dk_180 0 159 (dk_at dksX4_balloonLine_3 2 rfl rfl)
theorem dX4_balloonLine_76 : decode cX4_balloonLine 76 = .ok (.iastore, 1) := dk_79 (dk_at dksX4_balloonLine_3 5 rfl rfl)
theorem dX4_balloonLine_77 : decode cX4_balloonLine 77 = .ok (.aload_n 0, 1) := dk_42 (dk_at dksX4_balloonLine_3 6 rfl rfl)
theorem dX4_balloonLine_78 : decode cX4_balloonLine 78 = .ok (.getfield 53, 3) := dk_180 0 53 (dk_at dksX4_balloonLine_3 7 rfl rfl)
theorem dX4_balloonLine_81 : decode cX4_balloonLine 81 = .ok (.iconst 1, 1) := dk_4 (dk_at dksX4_balloonLine_3 10 rfl rfl)
theorem dX4_balloonLine_82 : decode cX4_balloonLine 82 = .ok (.dup2, 1) := dk_92 (dk_at dksX4_balloonLine_3 11 rfl rfl)
theorem dX4_balloonLine_83 : decode cX4_balloonLine 83 = .ok (.iaload, 1) := dk_46 (dk_at dksX4_balloonLine_3 12 rfl rfl)
theorem dX4_balloonLine_84 : decode cX4_balloonLine 84 = .ok (.iconst 1, 1) := dk_4 (dk_at dksX4_balloonLine_3 13 rfl rfl)
theorem dX4_balloonLine_85 : decode cX4_balloonLine 85 = .ok (.iadd, 1) := dk_96 (dk_at dksX4_balloonLine_3 14 rfl rfl)
theorem dX4_balloonLine_86 : decode cX4_balloonLine 86 = .ok (.iastore, 1) := dk_79 (dk_at dksX4_balloonLine_3 15 rfl rfl)
theorem dX4_balloonLine_87 : decode cX4_balloonLine 87 = .ok (.iconst 1, 1) := dk_4 (dk_at dksX4_balloonLine_3 16 rfl rfl)
theorem dX4_balloonLine_88 : decode cX4_balloonLine 88 = .ok (.ireturn, 1) := dk_172 (dk_at dksX4_balloonLine_3 17 rfl rfl)
abbrev cX4_letterLine : ByteArray := prog_16_method_17_code
def yX4_letterLine : MethodName := ⟨RX4, "letterLine", "()Z"⟩
def dkwX4_letterLine_3 : List UInt8 := [180, 0, 68, 27, 42, 180, 0, 159, 79, 42, 180, 0, 62, 4, 92, 46, 4, 96, 79, 4, 172]
abbrev dktX4_letterLine_3 : List UInt8 := dkwX4_letterLine_3 ++ []
def dkwX4_letterLine_2 : List UInt8 := [180, 0, 65, 27, 42, 180, 0, 159, 79, 42, 4, 16, 9, 182, 0, 169, 154, 0, 5, 3, 172, 42]
abbrev dktX4_letterLine_2 : List UInt8 := dkwX4_letterLine_2 ++ dktX4_letterLine_3
def dkwX4_letterLine_1 : List UInt8 := [167, 0, 4, 3, 182, 0, 165, 153, 0, 13, 42, 4, 16, 99, 182, 0, 169, 154, 0, 5, 3, 172, 42]
abbrev dktX4_letterLine_1 : List UInt8 := dkwX4_letterLine_1 ++ dktX4_letterLine_2
def dkwX4_letterLine_0 : List UInt8 := [16, 24, 42, 180, 0, 62, 4, 46, 96, 60, 42, 42, 180, 0, 62, 4, 46, 16, 24, 162, 0, 7, 4]
abbrev dktX4_letterLine_0 : List UInt8 := dkwX4_letterLine_0 ++ dktX4_letterLine_1
theorem dksX4_letterLine_0 : cX4_letterLine.data.toList.drop 0 = dktX4_letterLine_0 := by decide +kernel
theorem dksX4_letterLine_1 : cX4_letterLine.data.toList.drop 23 = dktX4_letterLine_1 := dk_seg dksX4_letterLine_0 23 rfl rfl
theorem dksX4_letterLine_2 : cX4_letterLine.data.toList.drop 46 = dktX4_letterLine_2 := dk_seg dksX4_letterLine_1 23 rfl rfl
theorem dksX4_letterLine_3 : cX4_letterLine.data.toList.drop 68 = dktX4_letterLine_3 := dk_seg dksX4_letterLine_2 22 rfl rfl
theorem dX4_letterLine_0 : decode cX4_letterLine 0 = .ok (.bipush 24, 2) := dk_16 24 (dk_at dksX4_letterLine_0 0 rfl rfl)
theorem dX4_letterLine_2 : decode cX4_letterLine 2 = .ok (.aload_n 0, 1) := dk_42 (dk_at dksX4_letterLine_0 2 rfl rfl)
theorem dX4_letterLine_3 : decode cX4_letterLine 3 = .ok (.getfield 62, 3) := dk_180 0 62 (dk_at dksX4_letterLine_0 3 rfl rfl)
theorem dX4_letterLine_6 : decode cX4_letterLine 6 = .ok (.iconst 1, 1) := dk_4 (dk_at dksX4_letterLine_0 6 rfl rfl)
theorem dX4_letterLine_7 : decode cX4_letterLine 7 = .ok (.iaload, 1) := dk_46 (dk_at dksX4_letterLine_0 7 rfl rfl)
theorem dX4_letterLine_8 : decode cX4_letterLine 8 = .ok (.iadd, 1) := dk_96 (dk_at dksX4_letterLine_0 8 rfl rfl)
theorem dX4_letterLine_9 : decode cX4_letterLine 9 = .ok (.istore_n 1, 1) := dk_60 (dk_at dksX4_letterLine_0 9 rfl rfl)
theorem dX4_letterLine_10 : decode cX4_letterLine 10 = .ok (.aload_n 0, 1) := dk_42 (dk_at dksX4_letterLine_0 10 rfl rfl)
theorem dX4_letterLine_11 : decode cX4_letterLine 11 = .ok (.aload_n 0, 1) := dk_42 (dk_at dksX4_letterLine_0 11 rfl rfl)
theorem dX4_letterLine_12 : decode cX4_letterLine 12 = .ok (.getfield 62, 3) := dk_180 0 62 (dk_at dksX4_letterLine_0 12 rfl rfl)
theorem dX4_letterLine_15 : decode cX4_letterLine 15 = .ok (.iconst 1, 1) := dk_4 (dk_at dksX4_letterLine_0 15 rfl rfl)
theorem dX4_letterLine_16 : decode cX4_letterLine 16 = .ok (.iaload, 1) := dk_46 (dk_at dksX4_letterLine_0 16 rfl rfl)
theorem dX4_letterLine_17 : decode cX4_letterLine 17 = .ok (.bipush 24, 2) := dk_16 24 (dk_at dksX4_letterLine_0 17 rfl rfl)
theorem dX4_letterLine_19 : decode cX4_letterLine 19 = .ok (.if_icmp .ge 7, 3) := dk_162 0 7 (dk_at dksX4_letterLine_0 19 rfl rfl)
theorem dX4_letterLine_22 : decode cX4_letterLine 22 = .ok (.iconst 1, 1) := dk_4 (dk_at dksX4_letterLine_0 22 rfl rfl)
theorem dX4_letterLine_23 : decode cX4_letterLine 23 = .ok (.goto 4, 3) := dk_167 0 4 (dk_at dksX4_letterLine_1 0 rfl rfl)
theorem dX4_letterLine_26 : decode cX4_letterLine 26 = .ok (.iconst 0, 1) := dk_3 (dk_at dksX4_letterLine_1 3 rfl rfl)
theorem dX4_letterLine_27 : decode cX4_letterLine 27 = .ok (.invokevirtual 165, 3) := dk_182 0 165 (dk_at dksX4_letterLine_1 4 rfl rfl)
theorem dX4_letterLine_30 : decode cX4_letterLine 30 = .ok (.ifCond .eq 13, 3) := dk_153 0 13 (dk_at dksX4_letterLine_1 7 rfl rfl)
theorem dX4_letterLine_33 : decode cX4_letterLine 33 = .ok (.aload_n 0, 1) := dk_42 (dk_at dksX4_letterLine_1 10 rfl rfl)
theorem dX4_letterLine_34 : decode cX4_letterLine 34 = .ok (.iconst 1, 1) := dk_4 (dk_at dksX4_letterLine_1 11 rfl rfl)
theorem dX4_letterLine_35 : decode cX4_letterLine 35 = .ok (.bipush 99, 2) := dk_16 99 (dk_at dksX4_letterLine_1 12 rfl rfl)
theorem dX4_letterLine_37 : decode cX4_letterLine 37 = .ok (.invokevirtual 169, 3) := dk_182 0 169 (dk_at dksX4_letterLine_1 14 rfl rfl)
theorem dX4_letterLine_40 : decode cX4_letterLine 40 = .ok (.ifCond .ne 5, 3) := dk_154 0 5 (dk_at dksX4_letterLine_1 17 rfl rfl)
theorem dX4_letterLine_43 : decode cX4_letterLine 43 = .ok (.iconst 0, 1) := dk_3 (dk_at dksX4_letterLine_1 20 rfl rfl)
theorem dX4_letterLine_44 : decode cX4_letterLine 44 = .ok (.ireturn, 1) := dk_172 (dk_at dksX4_letterLine_1 21 rfl rfl)
theorem dX4_letterLine_45 : decode cX4_letterLine 45 = .ok (.aload_n 0, 1) := dk_42 (dk_at dksX4_letterLine_1 22 rfl rfl)
theorem dX4_letterLine_46 : decode cX4_letterLine 46 = .ok (.getfield 65, 3) := dk_180 0 65 (dk_at dksX4_letterLine_2 0 rfl rfl)
theorem dX4_letterLine_49 : decode cX4_letterLine 49 = .ok (.iload_n 1, 1) := dk_27 (dk_at dksX4_letterLine_2 3 rfl rfl)
theorem dX4_letterLine_50 : decode cX4_letterLine 50 = .ok (.aload_n 0, 1) := dk_42 (dk_at dksX4_letterLine_2 4 rfl rfl)
theorem dX4_letterLine_51 : decode cX4_letterLine 51 = .ok (.getfield 159, 3) := dk_180 0 159 (dk_at dksX4_letterLine_2 5 rfl rfl)
theorem dX4_letterLine_54 : decode cX4_letterLine 54 = .ok (.iastore, 1) := dk_79 (dk_at dksX4_letterLine_2 8 rfl rfl)
theorem dX4_letterLine_55 : decode cX4_letterLine 55 = .ok (.aload_n 0, 1) := dk_42 (dk_at dksX4_letterLine_2 9 rfl rfl)
theorem dX4_letterLine_56 : decode cX4_letterLine 56 = .ok (.iconst 1, 1) := dk_4 (dk_at dksX4_letterLine_2 10 rfl rfl)
theorem dX4_letterLine_57 : decode cX4_letterLine 57 = .ok (.bipush 9, 2) := dk_16 9 (dk_at dksX4_letterLine_2 11 rfl rfl)
theorem dX4_letterLine_59 : decode cX4_letterLine 59 = .ok (.invokevirtual 169, 3) := dk_182 0 169 (dk_at dksX4_letterLine_2 13 rfl rfl)
theorem dX4_letterLine_62 : decode cX4_letterLine 62 = .ok (.ifCond .ne 5, 3) := dk_154 0 5 (dk_at dksX4_letterLine_2 16 rfl rfl)
theorem dX4_letterLine_65 : decode cX4_letterLine 65 = .ok (.iconst 0, 1) := dk_3 (dk_at dksX4_letterLine_2 19 rfl rfl)
theorem dX4_letterLine_66 : decode cX4_letterLine 66 = .ok (.ireturn, 1) := dk_172 (dk_at dksX4_letterLine_2 20 rfl rfl)
theorem dX4_letterLine_67 : decode cX4_letterLine 67 = .ok (.aload_n 0, 1) := dk_42 (dk_at dksX4_letterLine_2 21 rfl rfl)
theorem dX4_letterLine_68 : decode cX4_letterLine 68 = .ok (.getfield 68, 3) := dk_180 0 68 (dk_at dksX4_letterLine_3 0 rfl rfl)
theorem dX4_letterLine_71 : decode cX4_letterLine 71 = .ok (.iload_n 1, 1) := dk_27 (dk_at dksX4_letterLine_3 3 rfl rfl)
theorem dX4_letterLine_72 : decode cX4_letterLine 72 = .ok (.aload_n 0, 1) := dk_42 (dk_at dksX4_letterLine_3 4 rfl rfl)
theorem dX4_letterLine_73 : decode cX4_letterLine 73 = .ok (.getfield 159, 3) := dk_180 0 159 (dk_at dksX4_letterLine_3 5 rfl rfl)
theorem dX4_letterLine_76 : decode cX4_letterLine 76 = .ok (.iastore, 1) := dk_79 (dk_at dksX4_letterLine_3 8 rfl rfl)
theorem dX4_letterLine_77 : decode cX4_letterLine 77 = .ok (.aload_n 0, 1) := dk_42 (dk_at dksX4_letterLine_3 9 rfl rfl)
theorem dX4_letterLine_78 : decode cX4_letterLine 78 = .ok (.getfield 62, 3) := dk_180 0 62 (dk_at dksX4_letterLine_3 10 rfl rfl)
theorem dX4_letterLine_81 : decode cX4_letterLine 81 = .ok (.iconst 1, 1) := dk_4 (dk_at dksX4_letterLine_3 13 rfl rfl)
theorem dX4_letterLine_82 : decode cX4_letterLine 82 = .ok (.dup2, 1) := dk_92 (dk_at dksX4_letterLine_3 14 rfl rfl)
theorem dX4_letterLine_83 : decode cX4_letterLine 83 = .ok (.iaload, 1) := dk_46 (dk_at dksX4_letterLine_3 15 rfl rfl)
theorem dX4_letterLine_84 : decode cX4_letterLine 84 = .ok (.iconst 1, 1) := dk_4 (dk_at dksX4_letterLine_3 16 rfl rfl)
theorem dX4_letterLine_85 : decode cX4_letterLine 85 = .ok (.iadd, 1) := dk_96 (dk_at dksX4_letterLine_3 17 rfl rfl)
theorem dX4_letterLine_86 : decode cX4_letterLine 86 = .ok (.iastore, 1) := dk_79 (dk_at dksX4_letterLine_3 18 rfl rfl)
theorem dX4_letterLine_87 : decode cX4_letterLine 87 = .ok (.iconst 1, 1) := dk_4 (dk_at dksX4_letterLine_3 19 rfl rfl)
theorem dX4_letterLine_88 : decode cX4_letterLine 88 = .ok (.ireturn, 1) := dk_172 (dk_at dksX4_letterLine_3 20 rfl rfl)
abbrev cX4_otherLine : ByteArray := prog_16_method_19_code
def yX4_otherLine : MethodName := ⟨RX4, "otherLine", "()Z"⟩
def dkwX4_otherLine_5 : List UInt8 := [172]
abbrev dktX4_otherLine_5 : List UInt8 := dkwX4_otherLine_5 ++ []
def dkwX4_otherLine_4 : List UInt8 := [182, 0, 185, 181, 0, 194, 42, 180, 0, 194, 155, 0, 7, 4, 167, 0, 4, 3, 172, 42, 4, 182, 0, 155]
abbrev dktX4_otherLine_4 : List UInt8 := dkwX4_otherLine_4 ++ dktX4_otherLine_5
def dkwX4_otherLine_3 : List UInt8 := [4, 167, 0, 4, 3, 172, 42, 18, 193, 182, 0, 178, 153, 0, 31, 42, 42, 42, 180, 0, 194, 17, 39, 15]
abbrev dktX4_otherLine_3 : List UInt8 := dkwX4_otherLine_3 ++ dktX4_otherLine_4
def dkwX4_otherLine_2 : List UInt8 := [180, 0, 190, 42, 180, 0, 29, 4, 46, 4, 100, 182, 0, 185, 181, 0, 190, 42, 180, 0, 190, 155, 0, 7]
abbrev dktX4_otherLine_2 : List UInt8 := dkwX4_otherLine_2 ++ dktX4_otherLine_3
def dkwX4_otherLine_1 : List UInt8 := [180, 0, 182, 155, 0, 7, 4, 167, 0, 4, 3, 172, 42, 18, 189, 182, 0, 178, 153, 0, 36, 42, 42, 42]
abbrev dktX4_otherLine_1 : List UInt8 := dkwX4_otherLine_1 ++ dktX4_otherLine_2
def dkwX4_otherLine_0 : List UInt8 := [42, 18, 176, 182, 0, 178, 153, 0, 30, 42, 42, 42, 180, 0, 182, 16, 40, 182, 0, 185, 181, 0, 182, 42]
abbrev dktX4_otherLine_0 : List UInt8 := dkwX4_otherLine_0 ++ dktX4_otherLine_1
theorem dksX4_otherLine_0 : cX4_otherLine.data.toList.drop 0 = dktX4_otherLine_0 := by decide +kernel
theorem dksX4_otherLine_1 : cX4_otherLine.data.toList.drop 24 = dktX4_otherLine_1 := dk_seg dksX4_otherLine_0 24 rfl rfl
theorem dksX4_otherLine_2 : cX4_otherLine.data.toList.drop 48 = dktX4_otherLine_2 := dk_seg dksX4_otherLine_1 24 rfl rfl
theorem dksX4_otherLine_3 : cX4_otherLine.data.toList.drop 72 = dktX4_otherLine_3 := dk_seg dksX4_otherLine_2 24 rfl rfl
theorem dksX4_otherLine_4 : cX4_otherLine.data.toList.drop 96 = dktX4_otherLine_4 := dk_seg dksX4_otherLine_3 24 rfl rfl
theorem dksX4_otherLine_5 : cX4_otherLine.data.toList.drop 120 = dktX4_otherLine_5 := dk_seg dksX4_otherLine_4 24 rfl rfl
theorem dX4_otherLine_0 : decode cX4_otherLine 0 = .ok (.aload_n 0, 1) := dk_42 (dk_at dksX4_otherLine_0 0 rfl rfl)
theorem dX4_otherLine_1 : decode cX4_otherLine 1 = .ok (.ldc 176, 2) := dk_18 176 (dk_at dksX4_otherLine_0 1 rfl rfl)
theorem dX4_otherLine_3 : decode cX4_otherLine 3 = .ok (.invokevirtual 178, 3) := dk_182 0 178 (dk_at dksX4_otherLine_0 3 rfl rfl)
theorem dX4_otherLine_6 : decode cX4_otherLine 6 = .ok (.ifCond .eq 30, 3) := dk_153 0 30 (dk_at dksX4_otherLine_0 6 rfl rfl)
theorem dX4_otherLine_9 : decode cX4_otherLine 9 = .ok (.aload_n 0, 1) := dk_42 (dk_at dksX4_otherLine_0 9 rfl rfl)
theorem dX4_otherLine_10 : decode cX4_otherLine 10 = .ok (.aload_n 0, 1) := dk_42 (dk_at dksX4_otherLine_0 10 rfl rfl)
theorem dX4_otherLine_11 : decode cX4_otherLine 11 = .ok (.aload_n 0, 1) := dk_42 (dk_at dksX4_otherLine_0 11 rfl rfl)
theorem dX4_otherLine_12 : decode cX4_otherLine 12 = .ok (.getfield 182, 3) := dk_180 0 182 (dk_at dksX4_otherLine_0 12 rfl rfl)
theorem dX4_otherLine_15 : decode cX4_otherLine 15 = .ok (.bipush 40, 2) := dk_16 40 (dk_at dksX4_otherLine_0 15 rfl rfl)
theorem dX4_otherLine_17 : decode cX4_otherLine 17 = .ok (.invokevirtual 185, 3) := dk_182 0 185 (dk_at dksX4_otherLine_0 17 rfl rfl)
theorem dX4_otherLine_20 : decode cX4_otherLine 20 = .ok (.putfield 182, 3) := dk_181 0 182 (dk_at dksX4_otherLine_0 20 rfl rfl)
theorem dX4_otherLine_23 : decode cX4_otherLine 23 = .ok (.aload_n 0, 1) := dk_42 (dk_at dksX4_otherLine_0 23 rfl rfl)
theorem dX4_otherLine_24 : decode cX4_otherLine 24 = .ok (.getfield 182, 3) := dk_180 0 182 (dk_at dksX4_otherLine_1 0 rfl rfl)
theorem dX4_otherLine_27 : decode cX4_otherLine 27 = .ok (.ifCond .lt 7, 3) := dk_155 0 7 (dk_at dksX4_otherLine_1 3 rfl rfl)
theorem dX4_otherLine_30 : decode cX4_otherLine 30 = .ok (.iconst 1, 1) := dk_4 (dk_at dksX4_otherLine_1 6 rfl rfl)
theorem dX4_otherLine_31 : decode cX4_otherLine 31 = .ok (.goto 4, 3) := dk_167 0 4 (dk_at dksX4_otherLine_1 7 rfl rfl)
theorem dX4_otherLine_34 : decode cX4_otherLine 34 = .ok (.iconst 0, 1) := dk_3 (dk_at dksX4_otherLine_1 10 rfl rfl)
theorem dX4_otherLine_35 : decode cX4_otherLine 35 = .ok (.ireturn, 1) := dk_172 (dk_at dksX4_otherLine_1 11 rfl rfl)
theorem dX4_otherLine_36 : decode cX4_otherLine 36 = .ok (.aload_n 0, 1) := dk_42 (dk_at dksX4_otherLine_1 12 rfl rfl)
theorem dX4_otherLine_37 : decode cX4_otherLine 37 = .ok (.ldc 189, 2) := dk_18 189 (dk_at dksX4_otherLine_1 13 rfl rfl)
theorem dX4_otherLine_39 : decode cX4_otherLine 39 = .ok (.invokevirtual 178, 3) := dk_182 0 178 (dk_at dksX4_otherLine_1 15 rfl rfl)
theorem dX4_otherLine_42 : decode cX4_otherLine 42 = .ok (.ifCond .eq 36, 3) := dk_153 0 36 (dk_at dksX4_otherLine_1 18 rfl rfl)
theorem dX4_otherLine_45 : decode cX4_otherLine 45 = .ok (.aload_n 0, 1) := dk_42 (dk_at dksX4_otherLine_1 21 rfl rfl)
theorem dX4_otherLine_46 : decode cX4_otherLine 46 = .ok (.aload_n 0, 1) := dk_42 (dk_at dksX4_otherLine_1 22 rfl rfl)
theorem dX4_otherLine_47 : decode cX4_otherLine 47 = .ok (.aload_n 0, 1) := dk_42 (dk_at dksX4_otherLine_1 23 rfl rfl)
theorem dX4_otherLine_48 : decode cX4_otherLine 48 = .ok (.getfield 190, 3) := dk_180 0 190 (dk_at dksX4_otherLine_2 0 rfl rfl)
theorem dX4_otherLine_51 : decode cX4_otherLine 51 = .ok (.aload_n 0, 1) := dk_42 (dk_at dksX4_otherLine_2 3 rfl rfl)
theorem dX4_otherLine_52 : decode cX4_otherLine 52 = .ok (.getfield 29, 3) := dk_180 0 29 (dk_at dksX4_otherLine_2 4 rfl rfl)
theorem dX4_otherLine_55 : decode cX4_otherLine 55 = .ok (.iconst 1, 1) := dk_4 (dk_at dksX4_otherLine_2 7 rfl rfl)
theorem dX4_otherLine_56 : decode cX4_otherLine 56 = .ok (.iaload, 1) := dk_46 (dk_at dksX4_otherLine_2 8 rfl rfl)
theorem dX4_otherLine_57 : decode cX4_otherLine 57 = .ok (.iconst 1, 1) := dk_4 (dk_at dksX4_otherLine_2 9 rfl rfl)
theorem dX4_otherLine_58 : decode cX4_otherLine 58 = .ok (.isub, 1) := dk_100 (dk_at dksX4_otherLine_2 10 rfl rfl)
theorem dX4_otherLine_59 : decode cX4_otherLine 59 = .ok (.invokevirtual 185, 3) := dk_182 0 185 (dk_at dksX4_otherLine_2 11 rfl rfl)
theorem dX4_otherLine_62 : decode cX4_otherLine 62 = .ok (.putfield 190, 3) := dk_181 0 190 (dk_at dksX4_otherLine_2 14 rfl rfl)
theorem dX4_otherLine_65 : decode cX4_otherLine 65 = .ok (.aload_n 0, 1) := dk_42 (dk_at dksX4_otherLine_2 17 rfl rfl)
theorem dX4_otherLine_66 : decode cX4_otherLine 66 = .ok (.getfield 190, 3) := dk_180 0 190 (dk_at dksX4_otherLine_2 18 rfl rfl)
theorem dX4_otherLine_69 : decode cX4_otherLine 69 = .ok (.ifCond .lt 7, 3) := dk_155 0 7 (dk_at dksX4_otherLine_2 21 rfl rfl)
theorem dX4_otherLine_72 : decode cX4_otherLine 72 = .ok (.iconst 1, 1) := dk_4 (dk_at dksX4_otherLine_3 0 rfl rfl)
theorem dX4_otherLine_73 : decode cX4_otherLine 73 = .ok (.goto 4, 3) := dk_167 0 4 (dk_at dksX4_otherLine_3 1 rfl rfl)
theorem dX4_otherLine_76 : decode cX4_otherLine 76 = .ok (.iconst 0, 1) := dk_3 (dk_at dksX4_otherLine_3 4 rfl rfl)
theorem dX4_otherLine_77 : decode cX4_otherLine 77 = .ok (.ireturn, 1) := dk_172 (dk_at dksX4_otherLine_3 5 rfl rfl)
theorem dX4_otherLine_78 : decode cX4_otherLine 78 = .ok (.aload_n 0, 1) := dk_42 (dk_at dksX4_otherLine_3 6 rfl rfl)
theorem dX4_otherLine_79 : decode cX4_otherLine 79 = .ok (.ldc 193, 2) := dk_18 193 (dk_at dksX4_otherLine_3 7 rfl rfl)
theorem dX4_otherLine_81 : decode cX4_otherLine 81 = .ok (.invokevirtual 178, 3) := dk_182 0 178 (dk_at dksX4_otherLine_3 9 rfl rfl)
theorem dX4_otherLine_84 : decode cX4_otherLine 84 = .ok (.ifCond .eq 31, 3) := dk_153 0 31 (dk_at dksX4_otherLine_3 12 rfl rfl)
theorem dX4_otherLine_87 : decode cX4_otherLine 87 = .ok (.aload_n 0, 1) := dk_42 (dk_at dksX4_otherLine_3 15 rfl rfl)
theorem dX4_otherLine_88 : decode cX4_otherLine 88 = .ok (.aload_n 0, 1) := dk_42 (dk_at dksX4_otherLine_3 16 rfl rfl)
theorem dX4_otherLine_89 : decode cX4_otherLine 89 = .ok (.aload_n 0, 1) := dk_42 (dk_at dksX4_otherLine_3 17 rfl rfl)
theorem dX4_otherLine_90 : decode cX4_otherLine 90 = .ok (.getfield 194, 3) := dk_180 0 194 (dk_at dksX4_otherLine_3 18 rfl rfl)
theorem dX4_otherLine_93 : decode cX4_otherLine 93 = .ok (.sipush 9999, 3) := dk_17 39 15 (dk_at dksX4_otherLine_3 21 rfl rfl)
theorem dX4_otherLine_96 : decode cX4_otherLine 96 = .ok (.invokevirtual 185, 3) := dk_182 0 185 (dk_at dksX4_otherLine_4 0 rfl rfl)
theorem dX4_otherLine_99 : decode cX4_otherLine 99 = .ok (.putfield 194, 3) := dk_181 0 194 (dk_at dksX4_otherLine_4 3 rfl rfl)
theorem dX4_otherLine_102 : decode cX4_otherLine 102 = .ok (.aload_n 0, 1) := dk_42 (dk_at dksX4_otherLine_4 6 rfl rfl)
theorem dX4_otherLine_103 : decode cX4_otherLine 103 = .ok (.getfield 194, 3) := dk_180 0 194 (dk_at dksX4_otherLine_4 7 rfl rfl)
theorem dX4_otherLine_106 : decode cX4_otherLine 106 = .ok (.ifCond .lt 7, 3) := dk_155 0 7 (dk_at dksX4_otherLine_4 10 rfl rfl)
theorem dX4_otherLine_109 : decode cX4_otherLine 109 = .ok (.iconst 1, 1) := dk_4 (dk_at dksX4_otherLine_4 13 rfl rfl)
theorem dX4_otherLine_110 : decode cX4_otherLine 110 = .ok (.goto 4, 3) := dk_167 0 4 (dk_at dksX4_otherLine_4 14 rfl rfl)
theorem dX4_otherLine_113 : decode cX4_otherLine 113 = .ok (.iconst 0, 1) := dk_3 (dk_at dksX4_otherLine_4 17 rfl rfl)
theorem dX4_otherLine_114 : decode cX4_otherLine 114 = .ok (.ireturn, 1) := dk_172 (dk_at dksX4_otherLine_4 18 rfl rfl)
theorem dX4_otherLine_115 : decode cX4_otherLine 115 = .ok (.aload_n 0, 1) := dk_42 (dk_at dksX4_otherLine_4 19 rfl rfl)
theorem dX4_otherLine_116 : decode cX4_otherLine 116 = .ok (.iconst 1, 1) := dk_4 (dk_at dksX4_otherLine_4 20 rfl rfl)
theorem dX4_otherLine_117 : decode cX4_otherLine 117 = .ok (.invokevirtual 155, 3) := dk_182 0 155 (dk_at dksX4_otherLine_4 21 rfl rfl)
theorem dX4_otherLine_120 : decode cX4_otherLine 120 = .ok (.ireturn, 1) := dk_172 (dk_at dksX4_otherLine_5 0 rfl rfl)
abbrev cX4_single : ByteArray := prog_16_method_18_code
def yX4_single : MethodName := ⟨RX4, "single", "(II)I"⟩
def dkwX4_single_1 : List UInt8 := [153, 0, 10, 42, 180, 0, 159, 167, 0, 4, 2, 172]
abbrev dktX4_single_1 : List UInt8 := dkwX4_single_1 ++ []
def dkwX4_single_0 : List UInt8 := [27, 16, 254, 159, 0, 11, 42, 5, 182, 0, 155, 87, 2, 172, 42, 182, 0, 162, 42, 3, 28, 182, 0, 169]
abbrev dktX4_single_0 : List UInt8 := dkwX4_single_0 ++ dktX4_single_1
theorem dksX4_single_0 : cX4_single.data.toList.drop 0 = dktX4_single_0 := by decide +kernel
theorem dksX4_single_1 : cX4_single.data.toList.drop 24 = dktX4_single_1 := dk_seg dksX4_single_0 24 rfl rfl
theorem dX4_single_0 : decode cX4_single 0 = .ok (.iload_n 1, 1) := dk_27 (dk_at dksX4_single_0 0 rfl rfl)
theorem dX4_single_1 : decode cX4_single 1 = .ok (.bipush (-2), 2) := dk_16 254 (dk_at dksX4_single_0 1 rfl rfl)
theorem dX4_single_3 : decode cX4_single 3 = .ok (.if_icmp .eq 11, 3) := dk_159 0 11 (dk_at dksX4_single_0 3 rfl rfl)
theorem dX4_single_6 : decode cX4_single 6 = .ok (.aload_n 0, 1) := dk_42 (dk_at dksX4_single_0 6 rfl rfl)
theorem dX4_single_7 : decode cX4_single 7 = .ok (.iconst 2, 1) := dk_5 (dk_at dksX4_single_0 7 rfl rfl)
theorem dX4_single_8 : decode cX4_single 8 = .ok (.invokevirtual 155, 3) := dk_182 0 155 (dk_at dksX4_single_0 8 rfl rfl)
theorem dX4_single_11 : decode cX4_single 11 = .ok (.pop, 1) := dk_87 (dk_at dksX4_single_0 11 rfl rfl)
theorem dX4_single_12 : decode cX4_single 12 = .ok (.iconst (-1), 1) := dk_2 (dk_at dksX4_single_0 12 rfl rfl)
theorem dX4_single_13 : decode cX4_single 13 = .ok (.ireturn, 1) := dk_172 (dk_at dksX4_single_0 13 rfl rfl)
theorem dX4_single_14 : decode cX4_single 14 = .ok (.aload_n 0, 1) := dk_42 (dk_at dksX4_single_0 14 rfl rfl)
theorem dX4_single_15 : decode cX4_single 15 = .ok (.invokevirtual 162, 3) := dk_182 0 162 (dk_at dksX4_single_0 15 rfl rfl)
theorem dX4_single_18 : decode cX4_single 18 = .ok (.aload_n 0, 1) := dk_42 (dk_at dksX4_single_0 18 rfl rfl)
theorem dX4_single_19 : decode cX4_single 19 = .ok (.iconst 0, 1) := dk_3 (dk_at dksX4_single_0 19 rfl rfl)
theorem dX4_single_20 : decode cX4_single 20 = .ok (.iload_n 2, 1) := dk_28 (dk_at dksX4_single_0 20 rfl rfl)
theorem dX4_single_21 : decode cX4_single 21 = .ok (.invokevirtual 169, 3) := dk_182 0 169 (dk_at dksX4_single_0 21 rfl rfl)
theorem dX4_single_24 : decode cX4_single 24 = .ok (.ifCond .eq 10, 3) := dk_153 0 10 (dk_at dksX4_single_1 0 rfl rfl)
theorem dX4_single_27 : decode cX4_single 27 = .ok (.aload_n 0, 1) := dk_42 (dk_at dksX4_single_1 3 rfl rfl)
theorem dX4_single_28 : decode cX4_single 28 = .ok (.getfield 159, 3) := dk_180 0 159 (dk_at dksX4_single_1 4 rfl rfl)
theorem dX4_single_31 : decode cX4_single 31 = .ok (.goto 4, 3) := dk_167 0 4 (dk_at dksX4_single_1 7 rfl rfl)
theorem dX4_single_34 : decode cX4_single 34 = .ok (.iconst (-1), 1) := dk_2 (dk_at dksX4_single_1 10 rfl rfl)
theorem dX4_single_35 : decode cX4_single 35 = .ok (.ireturn, 1) := dk_172 (dk_at dksX4_single_1 11 rfl rfl)
abbrev cX4_becomes : ByteArray := prog_16_method_24_code
def yX4_becomes : MethodName := ⟨RX4, "becomes", "()V"⟩
def dkwX4_becomes_8 : List UInt8 := [180, 0, 194, 181, 0, 107, 42, 182, 0, 110, 177]
abbrev dktX4_becomes_8 : List UInt8 := dkwX4_becomes_8 ++ []
def dkwX4_becomes_7 : List UInt8 := [42, 180, 0, 190, 181, 0, 240, 42, 42, 180, 0, 194, 16, 254, 160, 0, 7, 4, 167, 0, 7, 42]
abbrev dktX4_becomes_7 : List UInt8 := dkwX4_becomes_7 ++ dktX4_becomes_8
def dkwX4_becomes_6 : List UInt8 := [167, 0, 7, 42, 180, 0, 182, 181, 0, 104, 42, 42, 180, 0, 190, 16, 254, 160, 0, 7, 3, 167, 0, 7]
abbrev dktX4_becomes_6 : List UInt8 := dkwX4_becomes_6 ++ dktX4_becomes_7
def dkwX4_becomes_5 : List UInt8 := [184, 0, 236, 42, 180, 0, 68, 184, 0, 236, 42, 42, 180, 0, 182, 16, 254, 160, 0, 8, 16, 8]
abbrev dktX4_becomes_5 : List UInt8 := dkwX4_becomes_5 ++ dktX4_becomes_6
def dkwX4_becomes_4 : List UInt8 := [180, 0, 56, 184, 0, 236, 42, 180, 0, 59, 184, 0, 236, 42, 180, 0, 62, 184, 0, 236, 42, 180, 0, 65]
abbrev dktX4_becomes_4 : List UInt8 := dkwX4_becomes_4 ++ dktX4_becomes_5
def dkwX4_becomes_3 : List UInt8 := [42, 180, 0, 47, 184, 0, 236, 42, 180, 0, 50, 184, 0, 236, 42, 180, 0, 53, 184, 0, 236, 42]
abbrev dktX4_becomes_3 : List UInt8 := dkwX4_becomes_3 ++ dktX4_becomes_4
def dkwX4_becomes_2 : List UInt8 := [184, 0, 236, 42, 180, 0, 38, 184, 0, 236, 42, 180, 0, 41, 184, 0, 236, 42, 180, 0, 44, 184, 0, 236]
abbrev dktX4_becomes_2 : List UInt8 := dkwX4_becomes_2 ++ dktX4_becomes_3
def dkwX4_becomes_1 : List UInt8 := [180, 0, 26, 184, 0, 236, 42, 180, 0, 29, 184, 0, 236, 42, 180, 0, 32, 184, 0, 236, 42, 180, 0, 35]
abbrev dktX4_becomes_1 : List UInt8 := dkwX4_becomes_1 ++ dktX4_becomes_2
def dkwX4_becomes_0 : List UInt8 := [42, 180, 0, 17, 184, 0, 236, 42, 180, 0, 20, 184, 0, 236, 42, 180, 0, 23, 184, 0, 236, 42]
abbrev dktX4_becomes_0 : List UInt8 := dkwX4_becomes_0 ++ dktX4_becomes_1
theorem dksX4_becomes_0 : cX4_becomes.data.toList.drop 0 = dktX4_becomes_0 := by decide +kernel
theorem dksX4_becomes_1 : cX4_becomes.data.toList.drop 22 = dktX4_becomes_1 := dk_seg dksX4_becomes_0 22 rfl rfl
theorem dksX4_becomes_2 : cX4_becomes.data.toList.drop 46 = dktX4_becomes_2 := dk_seg dksX4_becomes_1 24 rfl rfl
theorem dksX4_becomes_3 : cX4_becomes.data.toList.drop 70 = dktX4_becomes_3 := dk_seg dksX4_becomes_2 24 rfl rfl
theorem dksX4_becomes_4 : cX4_becomes.data.toList.drop 92 = dktX4_becomes_4 := dk_seg dksX4_becomes_3 22 rfl rfl
theorem dksX4_becomes_5 : cX4_becomes.data.toList.drop 116 = dktX4_becomes_5 := dk_seg dksX4_becomes_4 24 rfl rfl
theorem dksX4_becomes_6 : cX4_becomes.data.toList.drop 138 = dktX4_becomes_6 := dk_seg dksX4_becomes_5 22 rfl rfl
theorem dksX4_becomes_7 : cX4_becomes.data.toList.drop 162 = dktX4_becomes_7 := dk_seg dksX4_becomes_6 24 rfl rfl
theorem dksX4_becomes_8 : cX4_becomes.data.toList.drop 184 = dktX4_becomes_8 := dk_seg dksX4_becomes_7 22 rfl rfl
theorem dX4_becomes_0 : decode cX4_becomes 0 = .ok (.aload_n 0, 1) := dk_42 (dk_at dksX4_becomes_0 0 rfl rfl)
theorem dX4_becomes_1 : decode cX4_becomes 1 = .ok (.getfield 17, 3) := dk_180 0 17 (dk_at dksX4_becomes_0 1 rfl rfl)
theorem dX4_becomes_4 : decode cX4_becomes 4 = .ok (.invokestatic 236, 3) := dk_184 0 236 (dk_at dksX4_becomes_0 4 rfl rfl)
theorem dX4_becomes_7 : decode cX4_becomes 7 = .ok (.aload_n 0, 1) := dk_42 (dk_at dksX4_becomes_0 7 rfl rfl)
theorem dX4_becomes_8 : decode cX4_becomes 8 = .ok (.getfield 20, 3) := dk_180 0 20 (dk_at dksX4_becomes_0 8 rfl rfl)
theorem dX4_becomes_11 : decode cX4_becomes 11 = .ok (.invokestatic 236, 3) := dk_184 0 236 (dk_at dksX4_becomes_0 11 rfl rfl)
theorem dX4_becomes_14 : decode cX4_becomes 14 = .ok (.aload_n 0, 1) := dk_42 (dk_at dksX4_becomes_0 14 rfl rfl)
theorem dX4_becomes_15 : decode cX4_becomes 15 = .ok (.getfield 23, 3) := dk_180 0 23 (dk_at dksX4_becomes_0 15 rfl rfl)
theorem dX4_becomes_18 : decode cX4_becomes 18 = .ok (.invokestatic 236, 3) := dk_184 0 236 (dk_at dksX4_becomes_0 18 rfl rfl)
theorem dX4_becomes_21 : decode cX4_becomes 21 = .ok (.aload_n 0, 1) := dk_42 (dk_at dksX4_becomes_0 21 rfl rfl)
theorem dX4_becomes_22 : decode cX4_becomes 22 = .ok (.getfield 26, 3) := dk_180 0 26 (dk_at dksX4_becomes_1 0 rfl rfl)
theorem dX4_becomes_25 : decode cX4_becomes 25 = .ok (.invokestatic 236, 3) := dk_184 0 236 (dk_at dksX4_becomes_1 3 rfl rfl)
theorem dX4_becomes_28 : decode cX4_becomes 28 = .ok (.aload_n 0, 1) := dk_42 (dk_at dksX4_becomes_1 6 rfl rfl)
theorem dX4_becomes_29 : decode cX4_becomes 29 = .ok (.getfield 29, 3) := dk_180 0 29 (dk_at dksX4_becomes_1 7 rfl rfl)
theorem dX4_becomes_32 : decode cX4_becomes 32 = .ok (.invokestatic 236, 3) := dk_184 0 236 (dk_at dksX4_becomes_1 10 rfl rfl)
theorem dX4_becomes_35 : decode cX4_becomes 35 = .ok (.aload_n 0, 1) := dk_42 (dk_at dksX4_becomes_1 13 rfl rfl)
theorem dX4_becomes_36 : decode cX4_becomes 36 = .ok (.getfield 32, 3) := dk_180 0 32 (dk_at dksX4_becomes_1 14 rfl rfl)
theorem dX4_becomes_39 : decode cX4_becomes 39 = .ok (.invokestatic 236, 3) := dk_184 0 236 (dk_at dksX4_becomes_1 17 rfl rfl)
theorem dX4_becomes_42 : decode cX4_becomes 42 = .ok (.aload_n 0, 1) := dk_42 (dk_at dksX4_becomes_1 20 rfl rfl)
theorem dX4_becomes_43 : decode cX4_becomes 43 = .ok (.getfield 35, 3) := dk_180 0 35 (dk_at dksX4_becomes_1 21 rfl rfl)
theorem dX4_becomes_46 : decode cX4_becomes 46 = .ok (.invokestatic 236, 3) := dk_184 0 236 (dk_at dksX4_becomes_2 0 rfl rfl)
theorem dX4_becomes_49 : decode cX4_becomes 49 = .ok (.aload_n 0, 1) := dk_42 (dk_at dksX4_becomes_2 3 rfl rfl)
theorem dX4_becomes_50 : decode cX4_becomes 50 = .ok (.getfield 38, 3) := dk_180 0 38 (dk_at dksX4_becomes_2 4 rfl rfl)
theorem dX4_becomes_53 : decode cX4_becomes 53 = .ok (.invokestatic 236, 3) := dk_184 0 236 (dk_at dksX4_becomes_2 7 rfl rfl)
theorem dX4_becomes_56 : decode cX4_becomes 56 = .ok (.aload_n 0, 1) := dk_42 (dk_at dksX4_becomes_2 10 rfl rfl)
theorem dX4_becomes_57 : decode cX4_becomes 57 = .ok (.getfield 41, 3) := dk_180 0 41 (dk_at dksX4_becomes_2 11 rfl rfl)
theorem dX4_becomes_60 : decode cX4_becomes 60 = .ok (.invokestatic 236, 3) := dk_184 0 236 (dk_at dksX4_becomes_2 14 rfl rfl)
theorem dX4_becomes_63 : decode cX4_becomes 63 = .ok (.aload_n 0, 1) := dk_42 (dk_at dksX4_becomes_2 17 rfl rfl)
theorem dX4_becomes_64 : decode cX4_becomes 64 = .ok (.getfield 44, 3) := dk_180 0 44 (dk_at dksX4_becomes_2 18 rfl rfl)
theorem dX4_becomes_67 : decode cX4_becomes 67 = .ok (.invokestatic 236, 3) := dk_184 0 236 (dk_at dksX4_becomes_2 21 rfl rfl)
theorem dX4_becomes_70 : decode cX4_becomes 70 = .ok (.aload_n 0, 1) := dk_42 (dk_at dksX4_becomes_3 0 rfl rfl)
theorem dX4_becomes_71 : decode cX4_becomes 71 = .ok (.getfield 47, 3) := dk_180 0 47 (dk_at dksX4_becomes_3 1 rfl rfl)
theorem dX4_becomes_74 : decode cX4_becomes 74 = .ok (.invokestatic 236, 3) := dk_184 0 236 (dk_at dksX4_becomes_3 4 rfl rfl)
theorem dX4_becomes_77 : decode cX4_becomes 77 = .ok (.aload_n 0, 1) := dk_42 (dk_at dksX4_becomes_3 7 rfl rfl)
theorem dX4_becomes_78 : decode cX4_becomes 78 = .ok (.getfield 50, 3) := dk_180 0 50 (dk_at dksX4_becomes_3 8 rfl rfl)
theorem dX4_becomes_81 : decode cX4_becomes 81 = .ok (.invokestatic 236, 3) := dk_184 0 236 (dk_at dksX4_becomes_3 11 rfl rfl)
theorem dX4_becomes_84 : decode cX4_becomes 84 = .ok (.aload_n 0, 1) := dk_42 (dk_at dksX4_becomes_3 14 rfl rfl)
theorem dX4_becomes_85 : decode cX4_becomes 85 = .ok (.getfield 53, 3) := dk_180 0 53 (dk_at dksX4_becomes_3 15 rfl rfl)
theorem dX4_becomes_88 : decode cX4_becomes 88 = .ok (.invokestatic 236, 3) := dk_184 0 236 (dk_at dksX4_becomes_3 18 rfl rfl)
theorem dX4_becomes_91 : decode cX4_becomes 91 = .ok (.aload_n 0, 1) := dk_42 (dk_at dksX4_becomes_3 21 rfl rfl)
theorem dX4_becomes_92 : decode cX4_becomes 92 = .ok (.getfield 56, 3) := dk_180 0 56 (dk_at dksX4_becomes_4 0 rfl rfl)
theorem dX4_becomes_95 : decode cX4_becomes 95 = .ok (.invokestatic 236, 3) := dk_184 0 236 (dk_at dksX4_becomes_4 3 rfl rfl)
theorem dX4_becomes_98 : decode cX4_becomes 98 = .ok (.aload_n 0, 1) := dk_42 (dk_at dksX4_becomes_4 6 rfl rfl)
theorem dX4_becomes_99 : decode cX4_becomes 99 = .ok (.getfield 59, 3) := dk_180 0 59 (dk_at dksX4_becomes_4 7 rfl rfl)
theorem dX4_becomes_102 : decode cX4_becomes 102 = .ok (.invokestatic 236, 3) := dk_184 0 236 (dk_at dksX4_becomes_4 10 rfl rfl)
theorem dX4_becomes_105 : decode cX4_becomes 105 = .ok (.aload_n 0, 1) := dk_42 (dk_at dksX4_becomes_4 13 rfl rfl)
theorem dX4_becomes_106 : decode cX4_becomes 106 = .ok (.getfield 62, 3) := dk_180 0 62 (dk_at dksX4_becomes_4 14 rfl rfl)
theorem dX4_becomes_109 : decode cX4_becomes 109 = .ok (.invokestatic 236, 3) := dk_184 0 236 (dk_at dksX4_becomes_4 17 rfl rfl)
theorem dX4_becomes_112 : decode cX4_becomes 112 = .ok (.aload_n 0, 1) := dk_42 (dk_at dksX4_becomes_4 20 rfl rfl)
theorem dX4_becomes_113 : decode cX4_becomes 113 = .ok (.getfield 65, 3) := dk_180 0 65 (dk_at dksX4_becomes_4 21 rfl rfl)
theorem dX4_becomes_116 : decode cX4_becomes 116 = .ok (.invokestatic 236, 3) := dk_184 0 236 (dk_at dksX4_becomes_5 0 rfl rfl)
theorem dX4_becomes_119 : decode cX4_becomes 119 = .ok (.aload_n 0, 1) := dk_42 (dk_at dksX4_becomes_5 3 rfl rfl)
theorem dX4_becomes_120 : decode cX4_becomes 120 = .ok (.getfield 68, 3) := dk_180 0 68 (dk_at dksX4_becomes_5 4 rfl rfl)
theorem dX4_becomes_123 : decode cX4_becomes 123 = .ok (.invokestatic 236, 3) := dk_184 0 236 (dk_at dksX4_becomes_5 7 rfl rfl)
theorem dX4_becomes_126 : decode cX4_becomes 126 = .ok (.aload_n 0, 1) := dk_42 (dk_at dksX4_becomes_5 10 rfl rfl)
theorem dX4_becomes_127 : decode cX4_becomes 127 = .ok (.aload_n 0, 1) := dk_42 (dk_at dksX4_becomes_5 11 rfl rfl)
theorem dX4_becomes_128 : decode cX4_becomes 128 = .ok (.getfield 182, 3) := dk_180 0 182 (dk_at dksX4_becomes_5 12 rfl rfl)
theorem dX4_becomes_131 : decode cX4_becomes 131 = .ok (.bipush (-2), 2) := dk_16 254 (dk_at dksX4_becomes_5 15 rfl rfl)
theorem dX4_becomes_133 : decode cX4_becomes 133 = .ok (.if_icmp .ne 8, 3) := dk_160 0 8 (dk_at dksX4_becomes_5 17 rfl rfl)
theorem dX4_becomes_136 : decode cX4_becomes 136 = .ok (.bipush 8, 2) := dk_16 8 (dk_at dksX4_becomes_5 20 rfl rfl)
theorem dX4_becomes_138 : decode cX4_becomes 138 = .ok (.goto 7, 3) := dk_167 0 7 (dk_at dksX4_becomes_6 0 rfl rfl)
theorem dX4_becomes_141 : decode cX4_becomes 141 = .ok (.aload_n 0, 1) := dk_42 (dk_at dksX4_becomes_6 3 rfl rfl)
theorem dX4_becomes_142 : decode cX4_becomes 142 = .ok (.getfield 182, 3) := dk_180 0 182 (dk_at dksX4_becomes_6 4 rfl rfl)
theorem dX4_becomes_145 : decode cX4_becomes 145 = .ok (.putfield 104, 3) := dk_181 0 104 (dk_at dksX4_becomes_6 7 rfl rfl)
theorem dX4_becomes_148 : decode cX4_becomes 148 = .ok (.aload_n 0, 1) := dk_42 (dk_at dksX4_becomes_6 10 rfl rfl)
theorem dX4_becomes_149 : decode cX4_becomes 149 = .ok (.aload_n 0, 1) := dk_42 (dk_at dksX4_becomes_6 11 rfl rfl)
theorem dX4_becomes_150 : decode cX4_becomes 150 = .ok (.getfield 190, 3) := dk_180 0 190 (dk_at dksX4_becomes_6 12 rfl rfl)
theorem dX4_becomes_153 : decode cX4_becomes 153 = .ok (.bipush (-2), 2) := dk_16 254 (dk_at dksX4_becomes_6 15 rfl rfl)
theorem dX4_becomes_155 : decode cX4_becomes 155 = .ok (.if_icmp .ne 7, 3) := dk_160 0 7 (dk_at dksX4_becomes_6 17 rfl rfl)
theorem dX4_becomes_158 : decode cX4_becomes 158 = .ok (.iconst 0, 1) := dk_3 (dk_at dksX4_becomes_6 20 rfl rfl)
theorem dX4_becomes_159 : decode cX4_becomes 159 = .ok (.goto 7, 3) := dk_167 0 7 (dk_at dksX4_becomes_6 21 rfl rfl)
theorem dX4_becomes_162 : decode cX4_becomes 162 = .ok (.aload_n 0, 1) := dk_42 (dk_at dksX4_becomes_7 0 rfl rfl)
theorem dX4_becomes_163 : decode cX4_becomes 163 = .ok (.getfield 190, 3) := dk_180 0 190 (dk_at dksX4_becomes_7 1 rfl rfl)
theorem dX4_becomes_166 : decode cX4_becomes 166 = .ok (.putfield 240, 3) := dk_181 0 240 (dk_at dksX4_becomes_7 4 rfl rfl)
theorem dX4_becomes_169 : decode cX4_becomes 169 = .ok (.aload_n 0, 1) := dk_42 (dk_at dksX4_becomes_7 7 rfl rfl)
theorem dX4_becomes_170 : decode cX4_becomes 170 = .ok (.aload_n 0, 1) := dk_42 (dk_at dksX4_becomes_7 8 rfl rfl)
theorem dX4_becomes_171 : decode cX4_becomes 171 = .ok (.getfield 194, 3) := dk_180 0 194 (dk_at dksX4_becomes_7 9 rfl rfl)
theorem dX4_becomes_174 : decode cX4_becomes 174 = .ok (.bipush (-2), 2) := dk_16 254 (dk_at dksX4_becomes_7 12 rfl rfl)
theorem dX4_becomes_176 : decode cX4_becomes 176 = .ok (.if_icmp .ne 7, 3) := dk_160 0 7 (dk_at dksX4_becomes_7 14 rfl rfl)
theorem dX4_becomes_179 : decode cX4_becomes 179 = .ok (.iconst 1, 1) := dk_4 (dk_at dksX4_becomes_7 17 rfl rfl)
theorem dX4_becomes_180 : decode cX4_becomes 180 = .ok (.goto 7, 3) := dk_167 0 7 (dk_at dksX4_becomes_7 18 rfl rfl)
theorem dX4_becomes_183 : decode cX4_becomes 183 = .ok (.aload_n 0, 1) := dk_42 (dk_at dksX4_becomes_7 21 rfl rfl)
theorem dX4_becomes_184 : decode cX4_becomes 184 = .ok (.getfield 194, 3) := dk_180 0 194 (dk_at dksX4_becomes_8 0 rfl rfl)
theorem dX4_becomes_187 : decode cX4_becomes 187 = .ok (.putfield 107, 3) := dk_181 0 107 (dk_at dksX4_becomes_8 3 rfl rfl)
theorem dX4_becomes_190 : decode cX4_becomes 190 = .ok (.aload_n 0, 1) := dk_42 (dk_at dksX4_becomes_8 6 rfl rfl)
theorem dX4_becomes_191 : decode cX4_becomes 191 = .ok (.invokevirtual 110, 3) := dk_182 0 110 (dk_at dksX4_becomes_8 7 rfl rfl)
theorem dX4_becomes_194 : decode cX4_becomes 194 = .ok (.return_, 1) := dk_177 (dk_at dksX4_becomes_8 10 rfl rfl)
abbrev cX4_lifts : ByteArray := prog_16_method_23_code
def yX4_lifts : MethodName := ⟨RX4, "lifts", "([I)V"⟩
def dkwX4_lifts_0 : List UInt8 := [42, 190, 5, 108, 60, 42, 27, 42, 3, 27, 184, 0, 232, 177]
abbrev dktX4_lifts_0 : List UInt8 := dkwX4_lifts_0 ++ []
theorem dksX4_lifts_0 : cX4_lifts.data.toList.drop 0 = dktX4_lifts_0 := by decide +kernel
theorem dX4_lifts_0 : decode cX4_lifts 0 = .ok (.aload_n 0, 1) := dk_42 (dk_at dksX4_lifts_0 0 rfl rfl)
theorem dX4_lifts_1 : decode cX4_lifts 1 = .ok (.arraylength, 1) := dk_190 (dk_at dksX4_lifts_0 1 rfl rfl)
theorem dX4_lifts_2 : decode cX4_lifts 2 = .ok (.iconst 2, 1) := dk_5 (dk_at dksX4_lifts_0 2 rfl rfl)
theorem dX4_lifts_3 : decode cX4_lifts 3 = .ok (.idiv, 1) := dk_108 (dk_at dksX4_lifts_0 3 rfl rfl)
theorem dX4_lifts_4 : decode cX4_lifts 4 = .ok (.istore_n 1, 1) := dk_60 (dk_at dksX4_lifts_0 4 rfl rfl)
theorem dX4_lifts_5 : decode cX4_lifts 5 = .ok (.aload_n 0, 1) := dk_42 (dk_at dksX4_lifts_0 5 rfl rfl)
theorem dX4_lifts_6 : decode cX4_lifts 6 = .ok (.iload_n 1, 1) := dk_27 (dk_at dksX4_lifts_0 6 rfl rfl)
theorem dX4_lifts_7 : decode cX4_lifts 7 = .ok (.aload_n 0, 1) := dk_42 (dk_at dksX4_lifts_0 7 rfl rfl)
theorem dX4_lifts_8 : decode cX4_lifts 8 = .ok (.iconst 0, 1) := dk_3 (dk_at dksX4_lifts_0 8 rfl rfl)
theorem dX4_lifts_9 : decode cX4_lifts 9 = .ok (.iload_n 1, 1) := dk_27 (dk_at dksX4_lifts_0 9 rfl rfl)
theorem dX4_lifts_10 : decode cX4_lifts 10 = .ok (.invokestatic 232, 3) := dk_184 0 232 (dk_at dksX4_lifts_0 10 rfl rfl)
theorem dX4_lifts_13 : decode cX4_lifts 13 = .ok (.return_, 1) := dk_177 (dk_at dksX4_lifts_0 13 rfl rfl)
abbrev cX4_copies : ByteArray := prog_16_method_22_code
def yX4_copies : MethodName := ⟨RX4, "copies", "([II[III)V"⟩
def dkwX4_copies_1 : List UInt8 := [132, 5, 1, 167, 255, 234, 177]
abbrev dktX4_copies_1 : List UInt8 := dkwX4_copies_1 ++ []
def dkwX4_copies_0 : List UInt8 := [3, 54, 5, 21, 5, 21, 4, 162, 0, 21, 44, 29, 21, 5, 96, 42, 27, 21, 5, 96, 46, 79]
abbrev dktX4_copies_0 : List UInt8 := dkwX4_copies_0 ++ dktX4_copies_1
theorem dksX4_copies_0 : cX4_copies.data.toList.drop 0 = dktX4_copies_0 := by decide +kernel
theorem dksX4_copies_1 : cX4_copies.data.toList.drop 22 = dktX4_copies_1 := dk_seg dksX4_copies_0 22 rfl rfl
theorem dX4_copies_0 : decode cX4_copies 0 = .ok (.iconst 0, 1) := dk_3 (dk_at dksX4_copies_0 0 rfl rfl)
theorem dX4_copies_1 : decode cX4_copies 1 = .ok (.istore 5, 2) := dk_54 5 (dk_at dksX4_copies_0 1 rfl rfl)
theorem dX4_copies_3 : decode cX4_copies 3 = .ok (.iload 5, 2) := dk_21 5 (dk_at dksX4_copies_0 3 rfl rfl)
theorem dX4_copies_5 : decode cX4_copies 5 = .ok (.iload 4, 2) := dk_21 4 (dk_at dksX4_copies_0 5 rfl rfl)
theorem dX4_copies_7 : decode cX4_copies 7 = .ok (.if_icmp .ge 21, 3) := dk_162 0 21 (dk_at dksX4_copies_0 7 rfl rfl)
theorem dX4_copies_10 : decode cX4_copies 10 = .ok (.aload_n 2, 1) := dk_44 (dk_at dksX4_copies_0 10 rfl rfl)
theorem dX4_copies_11 : decode cX4_copies 11 = .ok (.iload_n 3, 1) := dk_29 (dk_at dksX4_copies_0 11 rfl rfl)
theorem dX4_copies_12 : decode cX4_copies 12 = .ok (.iload 5, 2) := dk_21 5 (dk_at dksX4_copies_0 12 rfl rfl)
theorem dX4_copies_14 : decode cX4_copies 14 = .ok (.iadd, 1) := dk_96 (dk_at dksX4_copies_0 14 rfl rfl)
theorem dX4_copies_15 : decode cX4_copies 15 = .ok (.aload_n 0, 1) := dk_42 (dk_at dksX4_copies_0 15 rfl rfl)
theorem dX4_copies_16 : decode cX4_copies 16 = .ok (.iload_n 1, 1) := dk_27 (dk_at dksX4_copies_0 16 rfl rfl)
theorem dX4_copies_17 : decode cX4_copies 17 = .ok (.iload 5, 2) := dk_21 5 (dk_at dksX4_copies_0 17 rfl rfl)
theorem dX4_copies_19 : decode cX4_copies 19 = .ok (.iadd, 1) := dk_96 (dk_at dksX4_copies_0 19 rfl rfl)
theorem dX4_copies_20 : decode cX4_copies 20 = .ok (.iaload, 1) := dk_46 (dk_at dksX4_copies_0 20 rfl rfl)
theorem dX4_copies_21 : decode cX4_copies 21 = .ok (.iastore, 1) := dk_79 (dk_at dksX4_copies_0 21 rfl rfl)
theorem dX4_copies_22 : decode cX4_copies 22 = .ok (.iinc 5 1, 3) := dk_132 5 1 (dk_at dksX4_copies_1 0 rfl rfl)
theorem dX4_copies_25 : decode cX4_copies 25 = .ok (.goto (-22), 3) := dk_167 255 234 (dk_at dksX4_copies_1 3 rfl rfl)
theorem dX4_copies_28 : decode cX4_copies 28 = .ok (.return_, 1) := dk_177 (dk_at dksX4_copies_1 6 rfl rfl)
abbrev cX4_errorPosition : ByteArray := prog_16_method_26_code
def yX4_errorPosition : MethodName := ⟨RX4, "errorPosition", "()I"⟩
def dkwX4_errorPosition_0 : List UInt8 := [42, 3, 181, 0, 1, 42, 180, 0, 75, 172]
abbrev dktX4_errorPosition_0 : List UInt8 := dkwX4_errorPosition_0 ++ []
theorem dksX4_errorPosition_0 : cX4_errorPosition.data.toList.drop 0 = dktX4_errorPosition_0 := by decide +kernel
theorem dX4_errorPosition_0 : decode cX4_errorPosition 0 = .ok (.aload_n 0, 1) := dk_42 (dk_at dksX4_errorPosition_0 0 rfl rfl)
theorem dX4_errorPosition_1 : decode cX4_errorPosition 1 = .ok (.iconst 0, 1) := dk_3 (dk_at dksX4_errorPosition_0 1 rfl rfl)
theorem dX4_errorPosition_2 : decode cX4_errorPosition 2 = .ok (.putfield 1, 3) := dk_181 0 1 (dk_at dksX4_errorPosition_0 2 rfl rfl)
theorem dX4_errorPosition_5 : decode cX4_errorPosition 5 = .ok (.aload_n 0, 1) := dk_42 (dk_at dksX4_errorPosition_0 5 rfl rfl)
theorem dX4_errorPosition_6 : decode cX4_errorPosition 6 = .ok (.getfield 75, 3) := dk_180 0 75 (dk_at dksX4_errorPosition_0 6 rfl rfl)
theorem dX4_errorPosition_9 : decode cX4_errorPosition 9 = .ok (.ireturn, 1) := dk_172 (dk_at dksX4_errorPosition_0 9 rfl rfl)
abbrev cX4_regionCount : ByteArray := prog_16_method_27_code
def yX4_regionCount : MethodName := ⟨RX4, "regionCount", "()I"⟩
def dkwX4_regionCount_0 : List UInt8 := [42, 3, 181, 0, 1, 42, 180, 0, 17, 3, 46, 172]
abbrev dktX4_regionCount_0 : List UInt8 := dkwX4_regionCount_0 ++ []
theorem dksX4_regionCount_0 : cX4_regionCount.data.toList.drop 0 = dktX4_regionCount_0 := by decide +kernel
theorem dX4_regionCount_0 : decode cX4_regionCount 0 = .ok (.aload_n 0, 1) := dk_42 (dk_at dksX4_regionCount_0 0 rfl rfl)
theorem dX4_regionCount_1 : decode cX4_regionCount 1 = .ok (.iconst 0, 1) := dk_3 (dk_at dksX4_regionCount_0 1 rfl rfl)
theorem dX4_regionCount_2 : decode cX4_regionCount 2 = .ok (.putfield 1, 3) := dk_181 0 1 (dk_at dksX4_regionCount_0 2 rfl rfl)
theorem dX4_regionCount_5 : decode cX4_regionCount 5 = .ok (.aload_n 0, 1) := dk_42 (dk_at dksX4_regionCount_0 5 rfl rfl)
theorem dX4_regionCount_6 : decode cX4_regionCount 6 = .ok (.getfield 17, 3) := dk_180 0 17 (dk_at dksX4_regionCount_0 6 rfl rfl)
theorem dX4_regionCount_9 : decode cX4_regionCount 9 = .ok (.iconst 0, 1) := dk_3 (dk_at dksX4_regionCount_0 9 rfl rfl)
theorem dX4_regionCount_10 : decode cX4_regionCount 10 = .ok (.iaload, 1) := dk_46 (dk_at dksX4_regionCount_0 10 rfl rfl)
theorem dX4_regionCount_11 : decode cX4_regionCount 11 = .ok (.ireturn, 1) := dk_172 (dk_at dksX4_regionCount_0 11 rfl rfl)
abbrev cX4_windCount : ByteArray := prog_16_method_28_code
def yX4_windCount : MethodName := ⟨RX4, "windCount", "()I"⟩
def dkwX4_windCount_0 : List UInt8 := [42, 3, 181, 0, 1, 42, 180, 0, 29, 3, 46, 172]
abbrev dktX4_windCount_0 : List UInt8 := dkwX4_windCount_0 ++ []
theorem dksX4_windCount_0 : cX4_windCount.data.toList.drop 0 = dktX4_windCount_0 := by decide +kernel
theorem dX4_windCount_0 : decode cX4_windCount 0 = .ok (.aload_n 0, 1) := dk_42 (dk_at dksX4_windCount_0 0 rfl rfl)
theorem dX4_windCount_1 : decode cX4_windCount 1 = .ok (.iconst 0, 1) := dk_3 (dk_at dksX4_windCount_0 1 rfl rfl)
theorem dX4_windCount_2 : decode cX4_windCount 2 = .ok (.putfield 1, 3) := dk_181 0 1 (dk_at dksX4_windCount_0 2 rfl rfl)
theorem dX4_windCount_5 : decode cX4_windCount 5 = .ok (.aload_n 0, 1) := dk_42 (dk_at dksX4_windCount_0 5 rfl rfl)
theorem dX4_windCount_6 : decode cX4_windCount 6 = .ok (.getfield 29, 3) := dk_180 0 29 (dk_at dksX4_windCount_0 6 rfl rfl)
theorem dX4_windCount_9 : decode cX4_windCount 9 = .ok (.iconst 0, 1) := dk_3 (dk_at dksX4_windCount_0 9 rfl rfl)
theorem dX4_windCount_10 : decode cX4_windCount 10 = .ok (.iaload, 1) := dk_46 (dk_at dksX4_windCount_0 10 rfl rfl)
theorem dX4_windCount_11 : decode cX4_windCount 11 = .ok (.ireturn, 1) := dk_172 (dk_at dksX4_windCount_0 11 rfl rfl)
abbrev cX4_balloonCount : ByteArray := prog_16_method_29_code
def yX4_balloonCount : MethodName := ⟨RX4, "balloonCount", "()I"⟩
def dkwX4_balloonCount_0 : List UInt8 := [42, 3, 181, 0, 1, 42, 180, 0, 53, 3, 46, 172]
abbrev dktX4_balloonCount_0 : List UInt8 := dkwX4_balloonCount_0 ++ []
theorem dksX4_balloonCount_0 : cX4_balloonCount.data.toList.drop 0 = dktX4_balloonCount_0 := by decide +kernel
theorem dX4_balloonCount_0 : decode cX4_balloonCount 0 = .ok (.aload_n 0, 1) := dk_42 (dk_at dksX4_balloonCount_0 0 rfl rfl)
theorem dX4_balloonCount_1 : decode cX4_balloonCount 1 = .ok (.iconst 0, 1) := dk_3 (dk_at dksX4_balloonCount_0 1 rfl rfl)
theorem dX4_balloonCount_2 : decode cX4_balloonCount 2 = .ok (.putfield 1, 3) := dk_181 0 1 (dk_at dksX4_balloonCount_0 2 rfl rfl)
theorem dX4_balloonCount_5 : decode cX4_balloonCount 5 = .ok (.aload_n 0, 1) := dk_42 (dk_at dksX4_balloonCount_0 5 rfl rfl)
theorem dX4_balloonCount_6 : decode cX4_balloonCount 6 = .ok (.getfield 53, 3) := dk_180 0 53 (dk_at dksX4_balloonCount_0 6 rfl rfl)
theorem dX4_balloonCount_9 : decode cX4_balloonCount 9 = .ok (.iconst 0, 1) := dk_3 (dk_at dksX4_balloonCount_0 9 rfl rfl)
theorem dX4_balloonCount_10 : decode cX4_balloonCount 10 = .ok (.iaload, 1) := dk_46 (dk_at dksX4_balloonCount_0 10 rfl rfl)
theorem dX4_balloonCount_11 : decode cX4_balloonCount 11 = .ok (.ireturn, 1) := dk_172 (dk_at dksX4_balloonCount_0 11 rfl rfl)
abbrev cX4_letterCount : ByteArray := prog_16_method_30_code
def yX4_letterCount : MethodName := ⟨RX4, "letterCount", "()I"⟩
def dkwX4_letterCount_0 : List UInt8 := [42, 3, 181, 0, 1, 42, 180, 0, 62, 3, 46, 172]
abbrev dktX4_letterCount_0 : List UInt8 := dkwX4_letterCount_0 ++ []
theorem dksX4_letterCount_0 : cX4_letterCount.data.toList.drop 0 = dktX4_letterCount_0 := by decide +kernel
theorem dX4_letterCount_0 : decode cX4_letterCount 0 = .ok (.aload_n 0, 1) := dk_42 (dk_at dksX4_letterCount_0 0 rfl rfl)
theorem dX4_letterCount_1 : decode cX4_letterCount 1 = .ok (.iconst 0, 1) := dk_3 (dk_at dksX4_letterCount_0 1 rfl rfl)
theorem dX4_letterCount_2 : decode cX4_letterCount 2 = .ok (.putfield 1, 3) := dk_181 0 1 (dk_at dksX4_letterCount_0 2 rfl rfl)
theorem dX4_letterCount_5 : decode cX4_letterCount 5 = .ok (.aload_n 0, 1) := dk_42 (dk_at dksX4_letterCount_0 5 rfl rfl)
theorem dX4_letterCount_6 : decode cX4_letterCount 6 = .ok (.getfield 62, 3) := dk_180 0 62 (dk_at dksX4_letterCount_0 6 rfl rfl)
theorem dX4_letterCount_9 : decode cX4_letterCount 9 = .ok (.iconst 0, 1) := dk_3 (dk_at dksX4_letterCount_0 9 rfl rfl)
theorem dX4_letterCount_10 : decode cX4_letterCount 10 = .ok (.iaload, 1) := dk_46 (dk_at dksX4_letterCount_0 10 rfl rfl)
theorem dX4_letterCount_11 : decode cX4_letterCount 11 = .ok (.ireturn, 1) := dk_172 (dk_at dksX4_letterCount_0 11 rfl rfl)
abbrev cX4_capacity : ByteArray := prog_16_method_34_code
def yX4_capacity : MethodName := ⟨RX4, "capacity", "(I)I"⟩
def dkwX4_capacity_0 : List UInt8 := [42, 3, 181, 0, 1, 42, 27, 182, 0, 246, 153, 0, 12, 42, 180, 0, 56, 27, 46, 167, 0, 4, 2, 172]
abbrev dktX4_capacity_0 : List UInt8 := dkwX4_capacity_0 ++ []
theorem dksX4_capacity_0 : cX4_capacity.data.toList.drop 0 = dktX4_capacity_0 := by decide +kernel
theorem dX4_capacity_0 : decode cX4_capacity 0 = .ok (.aload_n 0, 1) := dk_42 (dk_at dksX4_capacity_0 0 rfl rfl)
theorem dX4_capacity_1 : decode cX4_capacity 1 = .ok (.iconst 0, 1) := dk_3 (dk_at dksX4_capacity_0 1 rfl rfl)
theorem dX4_capacity_2 : decode cX4_capacity 2 = .ok (.putfield 1, 3) := dk_181 0 1 (dk_at dksX4_capacity_0 2 rfl rfl)
theorem dX4_capacity_5 : decode cX4_capacity 5 = .ok (.aload_n 0, 1) := dk_42 (dk_at dksX4_capacity_0 5 rfl rfl)
theorem dX4_capacity_6 : decode cX4_capacity 6 = .ok (.iload_n 1, 1) := dk_27 (dk_at dksX4_capacity_0 6 rfl rfl)
theorem dX4_capacity_7 : decode cX4_capacity 7 = .ok (.invokevirtual 246, 3) := dk_182 0 246 (dk_at dksX4_capacity_0 7 rfl rfl)
theorem dX4_capacity_10 : decode cX4_capacity 10 = .ok (.ifCond .eq 12, 3) := dk_153 0 12 (dk_at dksX4_capacity_0 10 rfl rfl)
theorem dX4_capacity_13 : decode cX4_capacity 13 = .ok (.aload_n 0, 1) := dk_42 (dk_at dksX4_capacity_0 13 rfl rfl)
theorem dX4_capacity_14 : decode cX4_capacity 14 = .ok (.getfield 56, 3) := dk_180 0 56 (dk_at dksX4_capacity_0 14 rfl rfl)
theorem dX4_capacity_17 : decode cX4_capacity 17 = .ok (.iload_n 1, 1) := dk_27 (dk_at dksX4_capacity_0 17 rfl rfl)
theorem dX4_capacity_18 : decode cX4_capacity 18 = .ok (.iaload, 1) := dk_46 (dk_at dksX4_capacity_0 18 rfl rfl)
theorem dX4_capacity_19 : decode cX4_capacity 19 = .ok (.goto 4, 3) := dk_167 0 4 (dk_at dksX4_capacity_0 19 rfl rfl)
theorem dX4_capacity_22 : decode cX4_capacity 22 = .ok (.iconst (-1), 1) := dk_2 (dk_at dksX4_capacity_0 22 rfl rfl)
theorem dX4_capacity_23 : decode cX4_capacity 23 = .ok (.ireturn, 1) := dk_172 (dk_at dksX4_capacity_0 23 rfl rfl)
abbrev cX4_isBalloon : ByteArray := prog_16_method_31_code
def yX4_isBalloon : MethodName := ⟨RX4, "isBalloon", "(I)Z"⟩
def dkwX4_isBalloon_0 : List UInt8 := [27, 3, 42, 180, 0, 53, 3, 46, 4, 100, 184, 0, 139, 172]
abbrev dktX4_isBalloon_0 : List UInt8 := dkwX4_isBalloon_0 ++ []
theorem dksX4_isBalloon_0 : cX4_isBalloon.data.toList.drop 0 = dktX4_isBalloon_0 := by decide +kernel
theorem dX4_isBalloon_0 : decode cX4_isBalloon 0 = .ok (.iload_n 1, 1) := dk_27 (dk_at dksX4_isBalloon_0 0 rfl rfl)
theorem dX4_isBalloon_1 : decode cX4_isBalloon 1 = .ok (.iconst 0, 1) := dk_3 (dk_at dksX4_isBalloon_0 1 rfl rfl)
theorem dX4_isBalloon_2 : decode cX4_isBalloon 2 = .ok (.aload_n 0, 1) := dk_42 (dk_at dksX4_isBalloon_0 2 rfl rfl)
theorem dX4_isBalloon_3 : decode cX4_isBalloon 3 = .ok (.getfield 53, 3) := dk_180 0 53 (dk_at dksX4_isBalloon_0 3 rfl rfl)
theorem dX4_isBalloon_6 : decode cX4_isBalloon 6 = .ok (.iconst 0, 1) := dk_3 (dk_at dksX4_isBalloon_0 6 rfl rfl)
theorem dX4_isBalloon_7 : decode cX4_isBalloon 7 = .ok (.iaload, 1) := dk_46 (dk_at dksX4_isBalloon_0 7 rfl rfl)
theorem dX4_isBalloon_8 : decode cX4_isBalloon 8 = .ok (.iconst 1, 1) := dk_4 (dk_at dksX4_isBalloon_0 8 rfl rfl)
theorem dX4_isBalloon_9 : decode cX4_isBalloon 9 = .ok (.isub, 1) := dk_100 (dk_at dksX4_isBalloon_0 9 rfl rfl)
theorem dX4_isBalloon_10 : decode cX4_isBalloon 10 = .ok (.invokestatic 139, 3) := dk_184 0 139 (dk_at dksX4_isBalloon_0 10 rfl rfl)
theorem dX4_isBalloon_13 : decode cX4_isBalloon 13 = .ok (.ireturn, 1) := dk_172 (dk_at dksX4_isBalloon_0 13 rfl rfl)
abbrev cX4_letterWeight : ByteArray := prog_16_method_35_code
def yX4_letterWeight : MethodName := ⟨RX4, "letterWeight", "(I)I"⟩
def dkwX4_letterWeight_0 : List UInt8 := [42, 3, 181, 0, 1, 42, 27, 182, 0, 249, 153, 0, 12, 42, 180, 0, 65, 27, 46, 167, 0, 4, 2, 172]
abbrev dktX4_letterWeight_0 : List UInt8 := dkwX4_letterWeight_0 ++ []
theorem dksX4_letterWeight_0 : cX4_letterWeight.data.toList.drop 0 = dktX4_letterWeight_0 := by decide +kernel
theorem dX4_letterWeight_0 : decode cX4_letterWeight 0 = .ok (.aload_n 0, 1) := dk_42 (dk_at dksX4_letterWeight_0 0 rfl rfl)
theorem dX4_letterWeight_1 : decode cX4_letterWeight 1 = .ok (.iconst 0, 1) := dk_3 (dk_at dksX4_letterWeight_0 1 rfl rfl)
theorem dX4_letterWeight_2 : decode cX4_letterWeight 2 = .ok (.putfield 1, 3) := dk_181 0 1 (dk_at dksX4_letterWeight_0 2 rfl rfl)
theorem dX4_letterWeight_5 : decode cX4_letterWeight 5 = .ok (.aload_n 0, 1) := dk_42 (dk_at dksX4_letterWeight_0 5 rfl rfl)
theorem dX4_letterWeight_6 : decode cX4_letterWeight 6 = .ok (.iload_n 1, 1) := dk_27 (dk_at dksX4_letterWeight_0 6 rfl rfl)
theorem dX4_letterWeight_7 : decode cX4_letterWeight 7 = .ok (.invokevirtual 249, 3) := dk_182 0 249 (dk_at dksX4_letterWeight_0 7 rfl rfl)
theorem dX4_letterWeight_10 : decode cX4_letterWeight 10 = .ok (.ifCond .eq 12, 3) := dk_153 0 12 (dk_at dksX4_letterWeight_0 10 rfl rfl)
theorem dX4_letterWeight_13 : decode cX4_letterWeight 13 = .ok (.aload_n 0, 1) := dk_42 (dk_at dksX4_letterWeight_0 13 rfl rfl)
theorem dX4_letterWeight_14 : decode cX4_letterWeight 14 = .ok (.getfield 65, 3) := dk_180 0 65 (dk_at dksX4_letterWeight_0 14 rfl rfl)
theorem dX4_letterWeight_17 : decode cX4_letterWeight 17 = .ok (.iload_n 1, 1) := dk_27 (dk_at dksX4_letterWeight_0 17 rfl rfl)
theorem dX4_letterWeight_18 : decode cX4_letterWeight 18 = .ok (.iaload, 1) := dk_46 (dk_at dksX4_letterWeight_0 18 rfl rfl)
theorem dX4_letterWeight_19 : decode cX4_letterWeight 19 = .ok (.goto 4, 3) := dk_167 0 4 (dk_at dksX4_letterWeight_0 19 rfl rfl)
theorem dX4_letterWeight_22 : decode cX4_letterWeight 22 = .ok (.iconst (-1), 1) := dk_2 (dk_at dksX4_letterWeight_0 22 rfl rfl)
theorem dX4_letterWeight_23 : decode cX4_letterWeight 23 = .ok (.ireturn, 1) := dk_172 (dk_at dksX4_letterWeight_0 23 rfl rfl)
abbrev cX4_isLetter : ByteArray := prog_16_method_32_code
def yX4_isLetter : MethodName := ⟨RX4, "isLetter", "(I)Z"⟩
def dkwX4_isLetter_0 : List UInt8 := [27, 3, 42, 180, 0, 62, 3, 46, 4, 100, 184, 0, 139, 172]
abbrev dktX4_isLetter_0 : List UInt8 := dkwX4_isLetter_0 ++ []
theorem dksX4_isLetter_0 : cX4_isLetter.data.toList.drop 0 = dktX4_isLetter_0 := by decide +kernel
theorem dX4_isLetter_0 : decode cX4_isLetter 0 = .ok (.iload_n 1, 1) := dk_27 (dk_at dksX4_isLetter_0 0 rfl rfl)
theorem dX4_isLetter_1 : decode cX4_isLetter 1 = .ok (.iconst 0, 1) := dk_3 (dk_at dksX4_isLetter_0 1 rfl rfl)
theorem dX4_isLetter_2 : decode cX4_isLetter 2 = .ok (.aload_n 0, 1) := dk_42 (dk_at dksX4_isLetter_0 2 rfl rfl)
theorem dX4_isLetter_3 : decode cX4_isLetter 3 = .ok (.getfield 62, 3) := dk_180 0 62 (dk_at dksX4_isLetter_0 3 rfl rfl)
theorem dX4_isLetter_6 : decode cX4_isLetter 6 = .ok (.iconst 0, 1) := dk_3 (dk_at dksX4_isLetter_0 6 rfl rfl)
theorem dX4_isLetter_7 : decode cX4_isLetter 7 = .ok (.iaload, 1) := dk_46 (dk_at dksX4_isLetter_0 7 rfl rfl)
theorem dX4_isLetter_8 : decode cX4_isLetter 8 = .ok (.iconst 1, 1) := dk_4 (dk_at dksX4_isLetter_0 8 rfl rfl)
theorem dX4_isLetter_9 : decode cX4_isLetter 9 = .ok (.isub, 1) := dk_100 (dk_at dksX4_isLetter_0 9 rfl rfl)
theorem dX4_isLetter_10 : decode cX4_isLetter 10 = .ok (.invokestatic 139, 3) := dk_184 0 139 (dk_at dksX4_isLetter_0 10 rfl rfl)
theorem dX4_isLetter_13 : decode cX4_isLetter 13 = .ok (.ireturn, 1) := dk_172 (dk_at dksX4_isLetter_0 13 rfl rfl)
abbrev cX4_windChance : ByteArray := prog_16_method_40_code
def yX4_windChance : MethodName := ⟨RX4, "windChance", "(II)J"⟩
def dkwX4_windChance_1 : List UInt8 := [42, 28, 16, 254, 182, 1, 7, 42, 180, 0, 78, 27, 47, 173]
abbrev dktX4_windChance_1 : List UInt8 := dkwX4_windChance_1 ++ []
def dkwX4_windChance_0 : List UInt8 := [42, 3, 181, 0, 1, 42, 27, 182, 0, 255, 153, 0, 10, 28, 184, 1, 2, 154, 0, 7, 20, 1, 5, 173]
abbrev dktX4_windChance_0 : List UInt8 := dkwX4_windChance_0 ++ dktX4_windChance_1
theorem dksX4_windChance_0 : cX4_windChance.data.toList.drop 0 = dktX4_windChance_0 := by decide +kernel
theorem dksX4_windChance_1 : cX4_windChance.data.toList.drop 24 = dktX4_windChance_1 := dk_seg dksX4_windChance_0 24 rfl rfl
theorem dX4_windChance_0 : decode cX4_windChance 0 = .ok (.aload_n 0, 1) := dk_42 (dk_at dksX4_windChance_0 0 rfl rfl)
theorem dX4_windChance_1 : decode cX4_windChance 1 = .ok (.iconst 0, 1) := dk_3 (dk_at dksX4_windChance_0 1 rfl rfl)
theorem dX4_windChance_2 : decode cX4_windChance 2 = .ok (.putfield 1, 3) := dk_181 0 1 (dk_at dksX4_windChance_0 2 rfl rfl)
theorem dX4_windChance_5 : decode cX4_windChance 5 = .ok (.aload_n 0, 1) := dk_42 (dk_at dksX4_windChance_0 5 rfl rfl)
theorem dX4_windChance_6 : decode cX4_windChance 6 = .ok (.iload_n 1, 1) := dk_27 (dk_at dksX4_windChance_0 6 rfl rfl)
theorem dX4_windChance_7 : decode cX4_windChance 7 = .ok (.invokevirtual 255, 3) := dk_182 0 255 (dk_at dksX4_windChance_0 7 rfl rfl)
theorem dX4_windChance_10 : decode cX4_windChance 10 = .ok (.ifCond .eq 10, 3) := dk_153 0 10 (dk_at dksX4_windChance_0 10 rfl rfl)
theorem dX4_windChance_13 : decode cX4_windChance 13 = .ok (.iload_n 2, 1) := dk_28 (dk_at dksX4_windChance_0 13 rfl rfl)
theorem dX4_windChance_14 : decode cX4_windChance 14 = .ok (.invokestatic 258, 3) := dk_184 1 2 (dk_at dksX4_windChance_0 14 rfl rfl)
theorem dX4_windChance_17 : decode cX4_windChance 17 = .ok (.ifCond .ne 7, 3) := dk_154 0 7 (dk_at dksX4_windChance_0 17 rfl rfl)
theorem dX4_windChance_20 : decode cX4_windChance 20 = .ok (.ldc2_w 261, 3) := dk_20 1 5 (dk_at dksX4_windChance_0 20 rfl rfl)
theorem dX4_windChance_23 : decode cX4_windChance 23 = .ok (.lreturn, 1) := dk_173 (dk_at dksX4_windChance_0 23 rfl rfl)
theorem dX4_windChance_24 : decode cX4_windChance 24 = .ok (.aload_n 0, 1) := dk_42 (dk_at dksX4_windChance_1 0 rfl rfl)
theorem dX4_windChance_25 : decode cX4_windChance 25 = .ok (.iload_n 2, 1) := dk_28 (dk_at dksX4_windChance_1 1 rfl rfl)
theorem dX4_windChance_26 : decode cX4_windChance 26 = .ok (.bipush (-2), 2) := dk_16 254 (dk_at dksX4_windChance_1 2 rfl rfl)
theorem dX4_windChance_28 : decode cX4_windChance 28 = .ok (.invokevirtual 263, 3) := dk_182 1 7 (dk_at dksX4_windChance_1 4 rfl rfl)
theorem dX4_windChance_31 : decode cX4_windChance 31 = .ok (.aload_n 0, 1) := dk_42 (dk_at dksX4_windChance_1 7 rfl rfl)
theorem dX4_windChance_32 : decode cX4_windChance 32 = .ok (.getfield 78, 3) := dk_180 0 78 (dk_at dksX4_windChance_1 8 rfl rfl)
theorem dX4_windChance_35 : decode cX4_windChance 35 = .ok (.iload_n 1, 1) := dk_27 (dk_at dksX4_windChance_1 11 rfl rfl)
theorem dX4_windChance_36 : decode cX4_windChance 36 = .ok (.laload, 1) := dk_47 (dk_at dksX4_windChance_1 12 rfl rfl)
theorem dX4_windChance_37 : decode cX4_windChance 37 = .ok (.lreturn, 1) := dk_173 (dk_at dksX4_windChance_1 13 rfl rfl)
abbrev cX4_isWind : ByteArray := prog_16_method_39_code
def yX4_isWind : MethodName := ⟨RX4, "isWind", "(I)Z"⟩
def dkwX4_isWind_0 : List UInt8 := [27, 3, 42, 180, 0, 29, 3, 46, 4, 100, 184, 0, 139, 172]
abbrev dktX4_isWind_0 : List UInt8 := dkwX4_isWind_0 ++ []
theorem dksX4_isWind_0 : cX4_isWind.data.toList.drop 0 = dktX4_isWind_0 := by decide +kernel
theorem dX4_isWind_0 : decode cX4_isWind 0 = .ok (.iload_n 1, 1) := dk_27 (dk_at dksX4_isWind_0 0 rfl rfl)
theorem dX4_isWind_1 : decode cX4_isWind 1 = .ok (.iconst 0, 1) := dk_3 (dk_at dksX4_isWind_0 1 rfl rfl)
theorem dX4_isWind_2 : decode cX4_isWind 2 = .ok (.aload_n 0, 1) := dk_42 (dk_at dksX4_isWind_0 2 rfl rfl)
theorem dX4_isWind_3 : decode cX4_isWind 3 = .ok (.getfield 29, 3) := dk_180 0 29 (dk_at dksX4_isWind_0 3 rfl rfl)
theorem dX4_isWind_6 : decode cX4_isWind 6 = .ok (.iconst 0, 1) := dk_3 (dk_at dksX4_isWind_0 6 rfl rfl)
theorem dX4_isWind_7 : decode cX4_isWind 7 = .ok (.iaload, 1) := dk_46 (dk_at dksX4_isWind_0 7 rfl rfl)
theorem dX4_isWind_8 : decode cX4_isWind 8 = .ok (.iconst 1, 1) := dk_4 (dk_at dksX4_isWind_0 8 rfl rfl)
theorem dX4_isWind_9 : decode cX4_isWind 9 = .ok (.isub, 1) := dk_100 (dk_at dksX4_isWind_0 9 rfl rfl)
theorem dX4_isWind_10 : decode cX4_isWind 10 = .ok (.invokestatic 139, 3) := dk_184 0 139 (dk_at dksX4_isWind_0 10 rfl rfl)
theorem dX4_isWind_13 : decode cX4_isWind 13 = .ok (.ireturn, 1) := dk_172 (dk_at dksX4_isWind_0 13 rfl rfl)
abbrev cX4_areDays : ByteArray := prog_16_method_38_code
def yX4_areDays : MethodName := ⟨RX4, "areDays", "(I)Z"⟩
def dkwX4_areDays_0 : List UInt8 := [26, 3, 16, 8, 184, 0, 139, 172]
abbrev dktX4_areDays_0 : List UInt8 := dkwX4_areDays_0 ++ []
theorem dksX4_areDays_0 : cX4_areDays.data.toList.drop 0 = dktX4_areDays_0 := by decide +kernel
theorem dX4_areDays_0 : decode cX4_areDays 0 = .ok (.iload_n 0, 1) := dk_26 (dk_at dksX4_areDays_0 0 rfl rfl)
theorem dX4_areDays_1 : decode cX4_areDays 1 = .ok (.iconst 0, 1) := dk_3 (dk_at dksX4_areDays_0 1 rfl rfl)
theorem dX4_areDays_2 : decode cX4_areDays 2 = .ok (.bipush 8, 2) := dk_16 8 (dk_at dksX4_areDays_0 2 rfl rfl)
theorem dX4_areDays_4 : decode cX4_areDays 4 = .ok (.invokestatic 139, 3) := dk_184 0 139 (dk_at dksX4_areDays_0 4 rfl rfl)
theorem dX4_areDays_7 : decode cX4_areDays 7 = .ok (.ireturn, 1) := dk_172 (dk_at dksX4_areDays_0 7 rfl rfl)
abbrev cX4_goesOn : ByteArray := prog_16_method_36_code
def yX4_goesOn : MethodName := ⟨RX4, "goesOn", "(II)V"⟩
def dkwX4_goesOn_8 : List UInt8 := [132, 3, 1, 167, 255, 111, 177]
abbrev dktX4_goesOn_8 : List UInt8 := dkwX4_goesOn_8 ++ []
def dkwX4_goesOn_7 : List UInt8 := [28, 160, 0, 7, 9, 167, 0, 10, 42, 180, 0, 82, 21, 4, 47, 80, 132, 4, 1, 167, 255, 222]
abbrev dktX4_goesOn_7 : List UInt8 := dkwX4_goesOn_7 ++ dktX4_goesOn_8
def dkwX4_goesOn_6 : List UInt8 := [132, 4, 1, 167, 255, 206, 3, 54, 4, 21, 4, 16, 6, 162, 0, 33, 42, 180, 0, 78, 21, 4, 21, 4]
abbrev dktX4_goesOn_6 : List UInt8 := dkwX4_goesOn_6 ++ dktX4_goesOn_7
def dkwX4_goesOn_5 : List UInt8 := [180, 0, 78, 42, 180, 0, 44, 21, 4, 46, 47, 42, 180, 0, 50, 21, 4, 46, 133, 105, 97, 80]
abbrev dktX4_goesOn_5 : List UInt8 := dkwX4_goesOn_5 ++ dktX4_goesOn_6
def dkwX4_goesOn_4 : List UInt8 := [180, 0, 41, 3, 46, 162, 0, 45, 42, 180, 0, 82, 42, 180, 0, 47, 21, 4, 46, 92, 47, 42]
abbrev dktX4_goesOn_4 : List UInt8 := dkwX4_goesOn_4 ++ dktX4_goesOn_5
def dkwX4_goesOn_3 : List UInt8 := [42, 21, 4, 182, 0, 252, 100, 133, 105, 80, 132, 4, 1, 167, 255, 221, 3, 54, 4, 21, 4, 42]
abbrev dktX4_goesOn_3 : List UInt8 := dkwX4_goesOn_3 ++ dktX4_goesOn_4
def dkwX4_goesOn_2 : List UInt8 := [54, 4, 21, 4, 16, 6, 162, 0, 34, 42, 180, 0, 82, 21, 4, 42, 180, 0, 78, 21, 4, 47, 16, 10]
abbrev dktX4_goesOn_2 : List UInt8 := dkwX4_goesOn_2 ++ dktX4_goesOn_3
def dkwX4_goesOn_1 : List UInt8 := [28, 159, 0, 7, 10, 167, 0, 4, 9, 80, 132, 3, 1, 167, 255, 221, 3, 62, 29, 27, 162, 0, 146, 3]
abbrev dktX4_goesOn_1 : List UInt8 := dkwX4_goesOn_1 ++ dktX4_goesOn_2
def dkwX4_goesOn_0 : List UInt8 := [3, 62, 29, 16, 6, 162, 0, 35, 42, 180, 0, 78, 29, 29, 42, 180, 0, 13, 4, 46, 160, 0, 12, 29]
abbrev dktX4_goesOn_0 : List UInt8 := dkwX4_goesOn_0 ++ dktX4_goesOn_1
theorem dksX4_goesOn_0 : cX4_goesOn.data.toList.drop 0 = dktX4_goesOn_0 := by decide +kernel
theorem dksX4_goesOn_1 : cX4_goesOn.data.toList.drop 24 = dktX4_goesOn_1 := dk_seg dksX4_goesOn_0 24 rfl rfl
theorem dksX4_goesOn_2 : cX4_goesOn.data.toList.drop 48 = dktX4_goesOn_2 := dk_seg dksX4_goesOn_1 24 rfl rfl
theorem dksX4_goesOn_3 : cX4_goesOn.data.toList.drop 72 = dktX4_goesOn_3 := dk_seg dksX4_goesOn_2 24 rfl rfl
theorem dksX4_goesOn_4 : cX4_goesOn.data.toList.drop 94 = dktX4_goesOn_4 := dk_seg dksX4_goesOn_3 22 rfl rfl
theorem dksX4_goesOn_5 : cX4_goesOn.data.toList.drop 116 = dktX4_goesOn_5 := dk_seg dksX4_goesOn_4 22 rfl rfl
theorem dksX4_goesOn_6 : cX4_goesOn.data.toList.drop 138 = dktX4_goesOn_6 := dk_seg dksX4_goesOn_5 22 rfl rfl
theorem dksX4_goesOn_7 : cX4_goesOn.data.toList.drop 162 = dktX4_goesOn_7 := dk_seg dksX4_goesOn_6 24 rfl rfl
theorem dksX4_goesOn_8 : cX4_goesOn.data.toList.drop 184 = dktX4_goesOn_8 := dk_seg dksX4_goesOn_7 22 rfl rfl
theorem dX4_goesOn_0 : decode cX4_goesOn 0 = .ok (.iconst 0, 1) := dk_3 (dk_at dksX4_goesOn_0 0 rfl rfl)
theorem dX4_goesOn_1 : decode cX4_goesOn 1 = .ok (.istore_n 3, 1) := dk_62 (dk_at dksX4_goesOn_0 1 rfl rfl)
theorem dX4_goesOn_2 : decode cX4_goesOn 2 = .ok (.iload_n 3, 1) := dk_29 (dk_at dksX4_goesOn_0 2 rfl rfl)
theorem dX4_goesOn_3 : decode cX4_goesOn 3 = .ok (.bipush 6, 2) := dk_16 6 (dk_at dksX4_goesOn_0 3 rfl rfl)
theorem dX4_goesOn_5 : decode cX4_goesOn 5 = .ok (.if_icmp .ge 35, 3) := dk_162 0 35 (dk_at dksX4_goesOn_0 5 rfl rfl)
theorem dX4_goesOn_8 : decode cX4_goesOn 8 = .ok (.aload_n 0, 1) := dk_42 (dk_at dksX4_goesOn_0 8 rfl rfl)
theorem dX4_goesOn_9 : decode cX4_goesOn 9 = .ok (.getfield 78, 3) := dk_180 0 78 (dk_at dksX4_goesOn_0 9 rfl rfl)
theorem dX4_goesOn_12 : decode cX4_goesOn 12 = .ok (.iload_n 3, 1) := dk_29 (dk_at dksX4_goesOn_0 12 rfl rfl)
theorem dX4_goesOn_13 : decode cX4_goesOn 13 = .ok (.iload_n 3, 1) := dk_29 (dk_at dksX4_goesOn_0 13 rfl rfl)
theorem dX4_goesOn_14 : decode cX4_goesOn 14 = .ok (.aload_n 0, 1) := dk_42 (dk_at dksX4_goesOn_0 14 rfl rfl)
theorem dX4_goesOn_15 : decode cX4_goesOn 15 = .ok (.getfield 13, 3) := dk_180 0 13 (dk_at dksX4_goesOn_0 15 rfl rfl)
theorem dX4_goesOn_18 : decode cX4_goesOn 18 = .ok (.iconst 1, 1) := dk_4 (dk_at dksX4_goesOn_0 18 rfl rfl)
theorem dX4_goesOn_19 : decode cX4_goesOn 19 = .ok (.iaload, 1) := dk_46 (dk_at dksX4_goesOn_0 19 rfl rfl)
theorem dX4_goesOn_20 : decode cX4_goesOn 20 = .ok (.if_icmp .ne 12, 3) := dk_160 0 12 (dk_at dksX4_goesOn_0 20 rfl rfl)
theorem dX4_goesOn_23 : decode cX4_goesOn 23 = .ok (.iload_n 3, 1) := dk_29 (dk_at dksX4_goesOn_0 23 rfl rfl)
theorem dX4_goesOn_24 : decode cX4_goesOn 24 = .ok (.iload_n 2, 1) := dk_28 (dk_at dksX4_goesOn_1 0 rfl rfl)
theorem dX4_goesOn_25 : decode cX4_goesOn 25 = .ok (.if_icmp .eq 7, 3) := dk_159 0 7 (dk_at dksX4_goesOn_1 1 rfl rfl)
theorem dX4_goesOn_28 : decode cX4_goesOn 28 = .ok (.lconst 1, 1) := dk_10 (dk_at dksX4_goesOn_1 4 rfl rfl)
theorem dX4_goesOn_29 : decode cX4_goesOn 29 = .ok (.goto 4, 3) := dk_167 0 4 (dk_at dksX4_goesOn_1 5 rfl rfl)
theorem dX4_goesOn_32 : decode cX4_goesOn 32 = .ok (.lconst 0, 1) := dk_9 (dk_at dksX4_goesOn_1 8 rfl rfl)
theorem dX4_goesOn_33 : decode cX4_goesOn 33 = .ok (.lastore, 1) := dk_80 (dk_at dksX4_goesOn_1 9 rfl rfl)
theorem dX4_goesOn_34 : decode cX4_goesOn 34 = .ok (.iinc 3 1, 3) := dk_132 3 1 (dk_at dksX4_goesOn_1 10 rfl rfl)
theorem dX4_goesOn_37 : decode cX4_goesOn 37 = .ok (.goto (-35), 3) := dk_167 255 221 (dk_at dksX4_goesOn_1 13 rfl rfl)
theorem dX4_goesOn_40 : decode cX4_goesOn 40 = .ok (.iconst 0, 1) := dk_3 (dk_at dksX4_goesOn_1 16 rfl rfl)
theorem dX4_goesOn_41 : decode cX4_goesOn 41 = .ok (.istore_n 3, 1) := dk_62 (dk_at dksX4_goesOn_1 17 rfl rfl)
theorem dX4_goesOn_42 : decode cX4_goesOn 42 = .ok (.iload_n 3, 1) := dk_29 (dk_at dksX4_goesOn_1 18 rfl rfl)
theorem dX4_goesOn_43 : decode cX4_goesOn 43 = .ok (.iload_n 1, 1) := dk_27 (dk_at dksX4_goesOn_1 19 rfl rfl)
theorem dX4_goesOn_44 : decode cX4_goesOn 44 = .ok (.if_icmp .ge 146, 3) := dk_162 0 146 (dk_at dksX4_goesOn_1 20 rfl rfl)
theorem dX4_goesOn_47 : decode cX4_goesOn 47 = .ok (.iconst 0, 1) := dk_3 (dk_at dksX4_goesOn_1 23 rfl rfl)
theorem dX4_goesOn_48 : decode cX4_goesOn 48 = .ok (.istore 4, 2) := dk_54 4 (dk_at dksX4_goesOn_2 0 rfl rfl)
theorem dX4_goesOn_50 : decode cX4_goesOn 50 = .ok (.iload 4, 2) := dk_21 4 (dk_at dksX4_goesOn_2 2 rfl rfl)
theorem dX4_goesOn_52 : decode cX4_goesOn 52 = .ok (.bipush 6, 2) := dk_16 6 (dk_at dksX4_goesOn_2 4 rfl rfl)
theorem dX4_goesOn_54 : decode cX4_goesOn 54 = .ok (.if_icmp .ge 34, 3) := dk_162 0 34 (dk_at dksX4_goesOn_2 6 rfl rfl)
theorem dX4_goesOn_57 : decode cX4_goesOn 57 = .ok (.aload_n 0, 1) := dk_42 (dk_at dksX4_goesOn_2 9 rfl rfl)
theorem dX4_goesOn_58 : decode cX4_goesOn 58 = .ok (.getfield 82, 3) := dk_180 0 82 (dk_at dksX4_goesOn_2 10 rfl rfl)
theorem dX4_goesOn_61 : decode cX4_goesOn 61 = .ok (.iload 4, 2) := dk_21 4 (dk_at dksX4_goesOn_2 13 rfl rfl)
theorem dX4_goesOn_63 : decode cX4_goesOn 63 = .ok (.aload_n 0, 1) := dk_42 (dk_at dksX4_goesOn_2 15 rfl rfl)
theorem dX4_goesOn_64 : decode cX4_goesOn 64 = .ok (.getfield 78, 3) := dk_180 0 78 (dk_at dksX4_goesOn_2 16 rfl rfl)
theorem dX4_goesOn_67 : decode cX4_goesOn 67 = .ok (.iload 4, 2) := dk_21 4 (dk_at dksX4_goesOn_2 19 rfl rfl)
theorem dX4_goesOn_69 : decode cX4_goesOn 69 = .ok (.laload, 1) := dk_47 (dk_at dksX4_goesOn_2 21 rfl rfl)
theorem dX4_goesOn_70 : decode cX4_goesOn 70 = .ok (.bipush 10, 2) := dk_16 10 (dk_at dksX4_goesOn_2 22 rfl rfl)
theorem dX4_goesOn_72 : decode cX4_goesOn 72 = .ok (.aload_n 0, 1) := dk_42 (dk_at dksX4_goesOn_3 0 rfl rfl)
theorem dX4_goesOn_73 : decode cX4_goesOn 73 = .ok (.iload 4, 2) := dk_21 4 (dk_at dksX4_goesOn_3 1 rfl rfl)
theorem dX4_goesOn_75 : decode cX4_goesOn 75 = .ok (.invokevirtual 252, 3) := dk_182 0 252 (dk_at dksX4_goesOn_3 3 rfl rfl)
theorem dX4_goesOn_78 : decode cX4_goesOn 78 = .ok (.isub, 1) := dk_100 (dk_at dksX4_goesOn_3 6 rfl rfl)
theorem dX4_goesOn_79 : decode cX4_goesOn 79 = .ok (.i2l, 1) := dk_133 (dk_at dksX4_goesOn_3 7 rfl rfl)
theorem dX4_goesOn_80 : decode cX4_goesOn 80 = .ok (.lmul, 1) := dk_105 (dk_at dksX4_goesOn_3 8 rfl rfl)
theorem dX4_goesOn_81 : decode cX4_goesOn 81 = .ok (.lastore, 1) := dk_80 (dk_at dksX4_goesOn_3 9 rfl rfl)
theorem dX4_goesOn_82 : decode cX4_goesOn 82 = .ok (.iinc 4 1, 3) := dk_132 4 1 (dk_at dksX4_goesOn_3 10 rfl rfl)
theorem dX4_goesOn_85 : decode cX4_goesOn 85 = .ok (.goto (-35), 3) := dk_167 255 221 (dk_at dksX4_goesOn_3 13 rfl rfl)
theorem dX4_goesOn_88 : decode cX4_goesOn 88 = .ok (.iconst 0, 1) := dk_3 (dk_at dksX4_goesOn_3 16 rfl rfl)
theorem dX4_goesOn_89 : decode cX4_goesOn 89 = .ok (.istore 4, 2) := dk_54 4 (dk_at dksX4_goesOn_3 17 rfl rfl)
theorem dX4_goesOn_91 : decode cX4_goesOn 91 = .ok (.iload 4, 2) := dk_21 4 (dk_at dksX4_goesOn_3 19 rfl rfl)
theorem dX4_goesOn_93 : decode cX4_goesOn 93 = .ok (.aload_n 0, 1) := dk_42 (dk_at dksX4_goesOn_3 21 rfl rfl)
theorem dX4_goesOn_94 : decode cX4_goesOn 94 = .ok (.getfield 41, 3) := dk_180 0 41 (dk_at dksX4_goesOn_4 0 rfl rfl)
theorem dX4_goesOn_97 : decode cX4_goesOn 97 = .ok (.iconst 0, 1) := dk_3 (dk_at dksX4_goesOn_4 3 rfl rfl)
theorem dX4_goesOn_98 : decode cX4_goesOn 98 = .ok (.iaload, 1) := dk_46 (dk_at dksX4_goesOn_4 4 rfl rfl)
theorem dX4_goesOn_99 : decode cX4_goesOn 99 = .ok (.if_icmp .ge 45, 3) := dk_162 0 45 (dk_at dksX4_goesOn_4 5 rfl rfl)
theorem dX4_goesOn_102 : decode cX4_goesOn 102 = .ok (.aload_n 0, 1) := dk_42 (dk_at dksX4_goesOn_4 8 rfl rfl)
theorem dX4_goesOn_103 : decode cX4_goesOn 103 = .ok (.getfield 82, 3) := dk_180 0 82 (dk_at dksX4_goesOn_4 9 rfl rfl)
theorem dX4_goesOn_106 : decode cX4_goesOn 106 = .ok (.aload_n 0, 1) := dk_42 (dk_at dksX4_goesOn_4 12 rfl rfl)
theorem dX4_goesOn_107 : decode cX4_goesOn 107 = .ok (.getfield 47, 3) := dk_180 0 47 (dk_at dksX4_goesOn_4 13 rfl rfl)
theorem dX4_goesOn_110 : decode cX4_goesOn 110 = .ok (.iload 4, 2) := dk_21 4 (dk_at dksX4_goesOn_4 16 rfl rfl)
theorem dX4_goesOn_112 : decode cX4_goesOn 112 = .ok (.iaload, 1) := dk_46 (dk_at dksX4_goesOn_4 18 rfl rfl)
theorem dX4_goesOn_113 : decode cX4_goesOn 113 = .ok (.dup2, 1) := dk_92 (dk_at dksX4_goesOn_4 19 rfl rfl)
theorem dX4_goesOn_114 : decode cX4_goesOn 114 = .ok (.laload, 1) := dk_47 (dk_at dksX4_goesOn_4 20 rfl rfl)
theorem dX4_goesOn_115 : decode cX4_goesOn 115 = .ok (.aload_n 0, 1) := dk_42 (dk_at dksX4_goesOn_4 21 rfl rfl)
theorem dX4_goesOn_116 : decode cX4_goesOn 116 = .ok (.getfield 78, 3) := dk_180 0 78 (dk_at dksX4_goesOn_5 0 rfl rfl)
theorem dX4_goesOn_119 : decode cX4_goesOn 119 = .ok (.aload_n 0, 1) := dk_42 (dk_at dksX4_goesOn_5 3 rfl rfl)
theorem dX4_goesOn_120 : decode cX4_goesOn 120 = .ok (.getfield 44, 3) := dk_180 0 44 (dk_at dksX4_goesOn_5 4 rfl rfl)
theorem dX4_goesOn_123 : decode cX4_goesOn 123 = .ok (.iload 4, 2) := dk_21 4 (dk_at dksX4_goesOn_5 7 rfl rfl)
theorem dX4_goesOn_125 : decode cX4_goesOn 125 = .ok (.iaload, 1) := dk_46 (dk_at dksX4_goesOn_5 9 rfl rfl)
theorem dX4_goesOn_126 : decode cX4_goesOn 126 = .ok (.laload, 1) := dk_47 (dk_at dksX4_goesOn_5 10 rfl rfl)
theorem dX4_goesOn_127 : decode cX4_goesOn 127 = .ok (.aload_n 0, 1) := dk_42 (dk_at dksX4_goesOn_5 11 rfl rfl)
theorem dX4_goesOn_128 : decode cX4_goesOn 128 = .ok (.getfield 50, 3) := dk_180 0 50 (dk_at dksX4_goesOn_5 12 rfl rfl)
theorem dX4_goesOn_131 : decode cX4_goesOn 131 = .ok (.iload 4, 2) := dk_21 4 (dk_at dksX4_goesOn_5 15 rfl rfl)
theorem dX4_goesOn_133 : decode cX4_goesOn 133 = .ok (.iaload, 1) := dk_46 (dk_at dksX4_goesOn_5 17 rfl rfl)
theorem dX4_goesOn_134 : decode cX4_goesOn 134 = .ok (.i2l, 1) := dk_133 (dk_at dksX4_goesOn_5 18 rfl rfl)
theorem dX4_goesOn_135 : decode cX4_goesOn 135 = .ok (.lmul, 1) := dk_105 (dk_at dksX4_goesOn_5 19 rfl rfl)
theorem dX4_goesOn_136 : decode cX4_goesOn 136 = .ok (.ladd, 1) := dk_97 (dk_at dksX4_goesOn_5 20 rfl rfl)
theorem dX4_goesOn_137 : decode cX4_goesOn 137 = .ok (.lastore, 1) := dk_80 (dk_at dksX4_goesOn_5 21 rfl rfl)
theorem dX4_goesOn_138 : decode cX4_goesOn 138 = .ok (.iinc 4 1, 3) := dk_132 4 1 (dk_at dksX4_goesOn_6 0 rfl rfl)
theorem dX4_goesOn_141 : decode cX4_goesOn 141 = .ok (.goto (-50), 3) := dk_167 255 206 (dk_at dksX4_goesOn_6 3 rfl rfl)
theorem dX4_goesOn_144 : decode cX4_goesOn 144 = .ok (.iconst 0, 1) := dk_3 (dk_at dksX4_goesOn_6 6 rfl rfl)
theorem dX4_goesOn_145 : decode cX4_goesOn 145 = .ok (.istore 4, 2) := dk_54 4 (dk_at dksX4_goesOn_6 7 rfl rfl)
theorem dX4_goesOn_147 : decode cX4_goesOn 147 = .ok (.iload 4, 2) := dk_21 4 (dk_at dksX4_goesOn_6 9 rfl rfl)
theorem dX4_goesOn_149 : decode cX4_goesOn 149 = .ok (.bipush 6, 2) := dk_16 6 (dk_at dksX4_goesOn_6 11 rfl rfl)
theorem dX4_goesOn_151 : decode cX4_goesOn 151 = .ok (.if_icmp .ge 33, 3) := dk_162 0 33 (dk_at dksX4_goesOn_6 13 rfl rfl)
theorem dX4_goesOn_154 : decode cX4_goesOn 154 = .ok (.aload_n 0, 1) := dk_42 (dk_at dksX4_goesOn_6 16 rfl rfl)
theorem dX4_goesOn_155 : decode cX4_goesOn 155 = .ok (.getfield 78, 3) := dk_180 0 78 (dk_at dksX4_goesOn_6 17 rfl rfl)
theorem dX4_goesOn_158 : decode cX4_goesOn 158 = .ok (.iload 4, 2) := dk_21 4 (dk_at dksX4_goesOn_6 20 rfl rfl)
theorem dX4_goesOn_160 : decode cX4_goesOn 160 = .ok (.iload 4, 2) := dk_21 4 (dk_at dksX4_goesOn_6 22 rfl rfl)
theorem dX4_goesOn_162 : decode cX4_goesOn 162 = .ok (.iload_n 2, 1) := dk_28 (dk_at dksX4_goesOn_7 0 rfl rfl)
theorem dX4_goesOn_163 : decode cX4_goesOn 163 = .ok (.if_icmp .ne 7, 3) := dk_160 0 7 (dk_at dksX4_goesOn_7 1 rfl rfl)
theorem dX4_goesOn_166 : decode cX4_goesOn 166 = .ok (.lconst 0, 1) := dk_9 (dk_at dksX4_goesOn_7 4 rfl rfl)
theorem dX4_goesOn_167 : decode cX4_goesOn 167 = .ok (.goto 10, 3) := dk_167 0 10 (dk_at dksX4_goesOn_7 5 rfl rfl)
theorem dX4_goesOn_170 : decode cX4_goesOn 170 = .ok (.aload_n 0, 1) := dk_42 (dk_at dksX4_goesOn_7 8 rfl rfl)
theorem dX4_goesOn_171 : decode cX4_goesOn 171 = .ok (.getfield 82, 3) := dk_180 0 82 (dk_at dksX4_goesOn_7 9 rfl rfl)
theorem dX4_goesOn_174 : decode cX4_goesOn 174 = .ok (.iload 4, 2) := dk_21 4 (dk_at dksX4_goesOn_7 12 rfl rfl)
theorem dX4_goesOn_176 : decode cX4_goesOn 176 = .ok (.laload, 1) := dk_47 (dk_at dksX4_goesOn_7 14 rfl rfl)
theorem dX4_goesOn_177 : decode cX4_goesOn 177 = .ok (.lastore, 1) := dk_80 (dk_at dksX4_goesOn_7 15 rfl rfl)
theorem dX4_goesOn_178 : decode cX4_goesOn 178 = .ok (.iinc 4 1, 3) := dk_132 4 1 (dk_at dksX4_goesOn_7 16 rfl rfl)
theorem dX4_goesOn_181 : decode cX4_goesOn 181 = .ok (.goto (-34), 3) := dk_167 255 222 (dk_at dksX4_goesOn_7 19 rfl rfl)
theorem dX4_goesOn_184 : decode cX4_goesOn 184 = .ok (.iinc 3 1, 3) := dk_132 3 1 (dk_at dksX4_goesOn_8 0 rfl rfl)
theorem dX4_goesOn_187 : decode cX4_goesOn 187 = .ok (.goto (-145), 3) := dk_167 255 111 (dk_at dksX4_goesOn_8 3 rfl rfl)
theorem dX4_goesOn_190 : decode cX4_goesOn 190 = .ok (.return_, 1) := dk_177 (dk_at dksX4_goesOn_8 6 rfl rfl)
abbrev cX4_turnsOf : ByteArray := prog_16_method_37_code
def yX4_turnsOf : MethodName := ⟨RX4, "turnsOf", "(I)I"⟩
def dkwX4_turnsOf_1 : List UInt8 := [160, 0, 12, 42, 180, 0, 50, 29, 46, 167, 0, 4, 3, 96, 61, 132, 3, 1, 167, 255, 220, 28, 172]
abbrev dktX4_turnsOf_1 : List UInt8 := dkwX4_turnsOf_1 ++ []
def dkwX4_turnsOf_0 : List UInt8 := [3, 61, 3, 62, 29, 42, 180, 0, 41, 3, 46, 162, 0, 32, 28, 42, 180, 0, 44, 29, 46, 27]
abbrev dktX4_turnsOf_0 : List UInt8 := dkwX4_turnsOf_0 ++ dktX4_turnsOf_1
theorem dksX4_turnsOf_0 : cX4_turnsOf.data.toList.drop 0 = dktX4_turnsOf_0 := by decide +kernel
theorem dksX4_turnsOf_1 : cX4_turnsOf.data.toList.drop 22 = dktX4_turnsOf_1 := dk_seg dksX4_turnsOf_0 22 rfl rfl
theorem dX4_turnsOf_0 : decode cX4_turnsOf 0 = .ok (.iconst 0, 1) := dk_3 (dk_at dksX4_turnsOf_0 0 rfl rfl)
theorem dX4_turnsOf_1 : decode cX4_turnsOf 1 = .ok (.istore_n 2, 1) := dk_61 (dk_at dksX4_turnsOf_0 1 rfl rfl)
theorem dX4_turnsOf_2 : decode cX4_turnsOf 2 = .ok (.iconst 0, 1) := dk_3 (dk_at dksX4_turnsOf_0 2 rfl rfl)
theorem dX4_turnsOf_3 : decode cX4_turnsOf 3 = .ok (.istore_n 3, 1) := dk_62 (dk_at dksX4_turnsOf_0 3 rfl rfl)
theorem dX4_turnsOf_4 : decode cX4_turnsOf 4 = .ok (.iload_n 3, 1) := dk_29 (dk_at dksX4_turnsOf_0 4 rfl rfl)
theorem dX4_turnsOf_5 : decode cX4_turnsOf 5 = .ok (.aload_n 0, 1) := dk_42 (dk_at dksX4_turnsOf_0 5 rfl rfl)
theorem dX4_turnsOf_6 : decode cX4_turnsOf 6 = .ok (.getfield 41, 3) := dk_180 0 41 (dk_at dksX4_turnsOf_0 6 rfl rfl)
theorem dX4_turnsOf_9 : decode cX4_turnsOf 9 = .ok (.iconst 0, 1) := dk_3 (dk_at dksX4_turnsOf_0 9 rfl rfl)
theorem dX4_turnsOf_10 : decode cX4_turnsOf 10 = .ok (.iaload, 1) := dk_46 (dk_at dksX4_turnsOf_0 10 rfl rfl)
theorem dX4_turnsOf_11 : decode cX4_turnsOf 11 = .ok (.if_icmp .ge 32, 3) := dk_162 0 32 (dk_at dksX4_turnsOf_0 11 rfl rfl)
theorem dX4_turnsOf_14 : decode cX4_turnsOf 14 = .ok (.iload_n 2, 1) := dk_28 (dk_at dksX4_turnsOf_0 14 rfl rfl)
theorem dX4_turnsOf_15 : decode cX4_turnsOf 15 = .ok (.aload_n 0, 1) := dk_42 (dk_at dksX4_turnsOf_0 15 rfl rfl)
theorem dX4_turnsOf_16 : decode cX4_turnsOf 16 = .ok (.getfield 44, 3) := dk_180 0 44 (dk_at dksX4_turnsOf_0 16 rfl rfl)
theorem dX4_turnsOf_19 : decode cX4_turnsOf 19 = .ok (.iload_n 3, 1) := dk_29 (dk_at dksX4_turnsOf_0 19 rfl rfl)
theorem dX4_turnsOf_20 : decode cX4_turnsOf 20 = .ok (.iaload, 1) := dk_46 (dk_at dksX4_turnsOf_0 20 rfl rfl)
theorem dX4_turnsOf_21 : decode cX4_turnsOf 21 = .ok (.iload_n 1, 1) := dk_27 (dk_at dksX4_turnsOf_0 21 rfl rfl)
theorem dX4_turnsOf_22 : decode cX4_turnsOf 22 = .ok (.if_icmp .ne 12, 3) := dk_160 0 12 (dk_at dksX4_turnsOf_1 0 rfl rfl)
theorem dX4_turnsOf_25 : decode cX4_turnsOf 25 = .ok (.aload_n 0, 1) := dk_42 (dk_at dksX4_turnsOf_1 3 rfl rfl)
theorem dX4_turnsOf_26 : decode cX4_turnsOf 26 = .ok (.getfield 50, 3) := dk_180 0 50 (dk_at dksX4_turnsOf_1 4 rfl rfl)
theorem dX4_turnsOf_29 : decode cX4_turnsOf 29 = .ok (.iload_n 3, 1) := dk_29 (dk_at dksX4_turnsOf_1 7 rfl rfl)
theorem dX4_turnsOf_30 : decode cX4_turnsOf 30 = .ok (.iaload, 1) := dk_46 (dk_at dksX4_turnsOf_1 8 rfl rfl)
theorem dX4_turnsOf_31 : decode cX4_turnsOf 31 = .ok (.goto 4, 3) := dk_167 0 4 (dk_at dksX4_turnsOf_1 9 rfl rfl)
theorem dX4_turnsOf_34 : decode cX4_turnsOf 34 = .ok (.iconst 0, 1) := dk_3 (dk_at dksX4_turnsOf_1 12 rfl rfl)
theorem dX4_turnsOf_35 : decode cX4_turnsOf 35 = .ok (.iadd, 1) := dk_96 (dk_at dksX4_turnsOf_1 13 rfl rfl)
theorem dX4_turnsOf_36 : decode cX4_turnsOf 36 = .ok (.istore_n 2, 1) := dk_61 (dk_at dksX4_turnsOf_1 14 rfl rfl)
theorem dX4_turnsOf_37 : decode cX4_turnsOf 37 = .ok (.iinc 3 1, 3) := dk_132 3 1 (dk_at dksX4_turnsOf_1 15 rfl rfl)
theorem dX4_turnsOf_40 : decode cX4_turnsOf 40 = .ok (.goto (-36), 3) := dk_167 255 220 (dk_at dksX4_turnsOf_1 18 rfl rfl)
theorem dX4_turnsOf_43 : decode cX4_turnsOf 43 = .ok (.iload_n 2, 1) := dk_28 (dk_at dksX4_turnsOf_1 21 rfl rfl)
theorem dX4_turnsOf_44 : decode cX4_turnsOf 44 = .ok (.ireturn, 1) := dk_172 (dk_at dksX4_turnsOf_1 22 rfl rfl)
abbrev cX4_avoidChance : ByteArray := prog_16_method_41_code
def yX4_avoidChance : MethodName := ⟨RX4, "avoidChance", "(II)J"⟩
def dkwX4_avoidChance_2 : List UInt8 := [21, 5, 47, 97, 66, 132, 5, 1, 167, 255, 236, 33, 173]
abbrev dktX4_avoidChance_2 : List UInt8 := dkwX4_avoidChance_2 ++ []
def dkwX4_avoidChance_1 : List UInt8 := [42, 28, 27, 182, 1, 7, 9, 66, 3, 54, 5, 21, 5, 16, 6, 162, 0, 19, 33, 42, 180, 0, 78]
abbrev dktX4_avoidChance_1 : List UInt8 := dkwX4_avoidChance_1 ++ dktX4_avoidChance_2
def dkwX4_avoidChance_0 : List UInt8 := [42, 3, 181, 0, 1, 42, 27, 182, 0, 255, 153, 0, 10, 28, 184, 1, 2, 154, 0, 7, 20, 1, 5, 173]
abbrev dktX4_avoidChance_0 : List UInt8 := dkwX4_avoidChance_0 ++ dktX4_avoidChance_1
theorem dksX4_avoidChance_0 : cX4_avoidChance.data.toList.drop 0 = dktX4_avoidChance_0 := by decide +kernel
theorem dksX4_avoidChance_1 : cX4_avoidChance.data.toList.drop 24 = dktX4_avoidChance_1 := dk_seg dksX4_avoidChance_0 24 rfl rfl
theorem dksX4_avoidChance_2 : cX4_avoidChance.data.toList.drop 47 = dktX4_avoidChance_2 := dk_seg dksX4_avoidChance_1 23 rfl rfl
theorem dX4_avoidChance_0 : decode cX4_avoidChance 0 = .ok (.aload_n 0, 1) := dk_42 (dk_at dksX4_avoidChance_0 0 rfl rfl)
theorem dX4_avoidChance_1 : decode cX4_avoidChance 1 = .ok (.iconst 0, 1) := dk_3 (dk_at dksX4_avoidChance_0 1 rfl rfl)
theorem dX4_avoidChance_2 : decode cX4_avoidChance 2 = .ok (.putfield 1, 3) := dk_181 0 1 (dk_at dksX4_avoidChance_0 2 rfl rfl)
theorem dX4_avoidChance_5 : decode cX4_avoidChance 5 = .ok (.aload_n 0, 1) := dk_42 (dk_at dksX4_avoidChance_0 5 rfl rfl)
theorem dX4_avoidChance_6 : decode cX4_avoidChance 6 = .ok (.iload_n 1, 1) := dk_27 (dk_at dksX4_avoidChance_0 6 rfl rfl)
theorem dX4_avoidChance_7 : decode cX4_avoidChance 7 = .ok (.invokevirtual 255, 3) := dk_182 0 255 (dk_at dksX4_avoidChance_0 7 rfl rfl)
theorem dX4_avoidChance_10 : decode cX4_avoidChance 10 = .ok (.ifCond .eq 10, 3) := dk_153 0 10 (dk_at dksX4_avoidChance_0 10 rfl rfl)
theorem dX4_avoidChance_13 : decode cX4_avoidChance 13 = .ok (.iload_n 2, 1) := dk_28 (dk_at dksX4_avoidChance_0 13 rfl rfl)
theorem dX4_avoidChance_14 : decode cX4_avoidChance 14 = .ok (.invokestatic 258, 3) := dk_184 1 2 (dk_at dksX4_avoidChance_0 14 rfl rfl)
theorem dX4_avoidChance_17 : decode cX4_avoidChance 17 = .ok (.ifCond .ne 7, 3) := dk_154 0 7 (dk_at dksX4_avoidChance_0 17 rfl rfl)
theorem dX4_avoidChance_20 : decode cX4_avoidChance 20 = .ok (.ldc2_w 261, 3) := dk_20 1 5 (dk_at dksX4_avoidChance_0 20 rfl rfl)
theorem dX4_avoidChance_23 : decode cX4_avoidChance 23 = .ok (.lreturn, 1) := dk_173 (dk_at dksX4_avoidChance_0 23 rfl rfl)
theorem dX4_avoidChance_24 : decode cX4_avoidChance 24 = .ok (.aload_n 0, 1) := dk_42 (dk_at dksX4_avoidChance_1 0 rfl rfl)
theorem dX4_avoidChance_25 : decode cX4_avoidChance 25 = .ok (.iload_n 2, 1) := dk_28 (dk_at dksX4_avoidChance_1 1 rfl rfl)
theorem dX4_avoidChance_26 : decode cX4_avoidChance 26 = .ok (.iload_n 1, 1) := dk_27 (dk_at dksX4_avoidChance_1 2 rfl rfl)
theorem dX4_avoidChance_27 : decode cX4_avoidChance 27 = .ok (.invokevirtual 263, 3) := dk_182 1 7 (dk_at dksX4_avoidChance_1 3 rfl rfl)
theorem dX4_avoidChance_30 : decode cX4_avoidChance 30 = .ok (.lconst 0, 1) := dk_9 (dk_at dksX4_avoidChance_1 6 rfl rfl)
theorem dX4_avoidChance_31 : decode cX4_avoidChance 31 = .ok (.lstore_n 3, 1) := dk_66 (dk_at dksX4_avoidChance_1 7 rfl rfl)
theorem dX4_avoidChance_32 : decode cX4_avoidChance 32 = .ok (.iconst 0, 1) := dk_3 (dk_at dksX4_avoidChance_1 8 rfl rfl)
theorem dX4_avoidChance_33 : decode cX4_avoidChance 33 = .ok (.istore 5, 2) := dk_54 5 (dk_at dksX4_avoidChance_1 9 rfl rfl)
theorem dX4_avoidChance_35 : decode cX4_avoidChance 35 = .ok (.iload 5, 2) := dk_21 5 (dk_at dksX4_avoidChance_1 11 rfl rfl)
theorem dX4_avoidChance_37 : decode cX4_avoidChance 37 = .ok (.bipush 6, 2) := dk_16 6 (dk_at dksX4_avoidChance_1 13 rfl rfl)
theorem dX4_avoidChance_39 : decode cX4_avoidChance 39 = .ok (.if_icmp .ge 19, 3) := dk_162 0 19 (dk_at dksX4_avoidChance_1 15 rfl rfl)
theorem dX4_avoidChance_42 : decode cX4_avoidChance 42 = .ok (.lload_n 3, 1) := dk_33 (dk_at dksX4_avoidChance_1 18 rfl rfl)
theorem dX4_avoidChance_43 : decode cX4_avoidChance 43 = .ok (.aload_n 0, 1) := dk_42 (dk_at dksX4_avoidChance_1 19 rfl rfl)
theorem dX4_avoidChance_44 : decode cX4_avoidChance 44 = .ok (.getfield 78, 3) := dk_180 0 78 (dk_at dksX4_avoidChance_1 20 rfl rfl)
theorem dX4_avoidChance_47 : decode cX4_avoidChance 47 = .ok (.iload 5, 2) := dk_21 5 (dk_at dksX4_avoidChance_2 0 rfl rfl)
theorem dX4_avoidChance_49 : decode cX4_avoidChance 49 = .ok (.laload, 1) := dk_47 (dk_at dksX4_avoidChance_2 2 rfl rfl)
theorem dX4_avoidChance_50 : decode cX4_avoidChance 50 = .ok (.ladd, 1) := dk_97 (dk_at dksX4_avoidChance_2 3 rfl rfl)
theorem dX4_avoidChance_51 : decode cX4_avoidChance 51 = .ok (.lstore_n 3, 1) := dk_66 (dk_at dksX4_avoidChance_2 4 rfl rfl)
theorem dX4_avoidChance_52 : decode cX4_avoidChance 52 = .ok (.iinc 5 1, 3) := dk_132 5 1 (dk_at dksX4_avoidChance_2 5 rfl rfl)
theorem dX4_avoidChance_55 : decode cX4_avoidChance 55 = .ok (.goto (-20), 3) := dk_167 255 236 (dk_at dksX4_avoidChance_2 8 rfl rfl)
theorem dX4_avoidChance_58 : decode cX4_avoidChance 58 = .ok (.lload_n 3, 1) := dk_33 (dk_at dksX4_avoidChance_2 11 rfl rfl)
theorem dX4_avoidChance_59 : decode cX4_avoidChance 59 = .ok (.lreturn, 1) := dk_173 (dk_at dksX4_avoidChance_2 12 rfl rfl)
abbrev cX4_landingChance : ByteArray := prog_16_method_43_code
def yX4_landingChance : MethodName := ⟨RX4, "landingChance", "(II)J"⟩
def dkwX4_landingChance_4 : List UInt8 := [173]
abbrev dktX4_landingChance_4 : List UInt8 := dkwX4_landingChance_4 ++ []
def dkwX4_landingChance_3 : List UInt8 := [180, 0, 78, 21, 5, 47, 42, 21, 5, 27, 182, 1, 11, 133, 105, 97, 66, 132, 5, 1, 167, 255, 223, 33]
abbrev dktX4_landingChance_3 : List UInt8 := dkwX4_landingChance_3 ++ dktX4_landingChance_4
def dkwX4_landingChance_2 : List UInt8 := [28, 16, 254, 182, 1, 7, 9, 66, 3, 54, 5, 21, 5, 42, 180, 0, 29, 3, 46, 162, 0, 28, 33, 42]
abbrev dktX4_landingChance_2 : List UInt8 := dkwX4_landingChance_2 ++ dktX4_landingChance_3
def dkwX4_landingChance_1 : List UInt8 := [153, 0, 19, 28, 184, 1, 2, 153, 0, 12, 42, 180, 0, 29, 3, 46, 154, 0, 7, 20, 1, 5, 173, 42]
abbrev dktX4_landingChance_1 : List UInt8 := dkwX4_landingChance_1 ++ dktX4_landingChance_2
def dkwX4_landingChance_0 : List UInt8 := [42, 3, 181, 0, 1, 27, 16, 254, 159, 0, 19, 27, 3, 42, 180, 0, 17, 3, 46, 4, 100, 184, 0, 139]
abbrev dktX4_landingChance_0 : List UInt8 := dkwX4_landingChance_0 ++ dktX4_landingChance_1
theorem dksX4_landingChance_0 : cX4_landingChance.data.toList.drop 0 = dktX4_landingChance_0 := by decide +kernel
theorem dksX4_landingChance_1 : cX4_landingChance.data.toList.drop 24 = dktX4_landingChance_1 := dk_seg dksX4_landingChance_0 24 rfl rfl
theorem dksX4_landingChance_2 : cX4_landingChance.data.toList.drop 48 = dktX4_landingChance_2 := dk_seg dksX4_landingChance_1 24 rfl rfl
theorem dksX4_landingChance_3 : cX4_landingChance.data.toList.drop 72 = dktX4_landingChance_3 := dk_seg dksX4_landingChance_2 24 rfl rfl
theorem dksX4_landingChance_4 : cX4_landingChance.data.toList.drop 96 = dktX4_landingChance_4 := dk_seg dksX4_landingChance_3 24 rfl rfl
theorem dX4_landingChance_0 : decode cX4_landingChance 0 = .ok (.aload_n 0, 1) := dk_42 (dk_at dksX4_landingChance_0 0 rfl rfl)
theorem dX4_landingChance_1 : decode cX4_landingChance 1 = .ok (.iconst 0, 1) := dk_3 (dk_at dksX4_landingChance_0 1 rfl rfl)
theorem dX4_landingChance_2 : decode cX4_landingChance 2 = .ok (.putfield 1, 3) := dk_181 0 1 (dk_at dksX4_landingChance_0 2 rfl rfl)
theorem dX4_landingChance_5 : decode cX4_landingChance 5 = .ok (.iload_n 1, 1) := dk_27 (dk_at dksX4_landingChance_0 5 rfl rfl)
theorem dX4_landingChance_6 : decode cX4_landingChance 6 = .ok (.bipush (-2), 2) := dk_16 254 (dk_at dksX4_landingChance_0 6 rfl rfl)
theorem dX4_landingChance_8 : decode cX4_landingChance 8 = .ok (.if_icmp .eq 19, 3) := dk_159 0 19 (dk_at dksX4_landingChance_0 8 rfl rfl)
theorem dX4_landingChance_11 : decode cX4_landingChance 11 = .ok (.iload_n 1, 1) := dk_27 (dk_at dksX4_landingChance_0 11 rfl rfl)
theorem dX4_landingChance_12 : decode cX4_landingChance 12 = .ok (.iconst 0, 1) := dk_3 (dk_at dksX4_landingChance_0 12 rfl rfl)
theorem dX4_landingChance_13 : decode cX4_landingChance 13 = .ok (.aload_n 0, 1) := dk_42 (dk_at dksX4_landingChance_0 13 rfl rfl)
theorem dX4_landingChance_14 : decode cX4_landingChance 14 = .ok (.getfield 17, 3) := dk_180 0 17 (dk_at dksX4_landingChance_0 14 rfl rfl)
theorem dX4_landingChance_17 : decode cX4_landingChance 17 = .ok (.iconst 0, 1) := dk_3 (dk_at dksX4_landingChance_0 17 rfl rfl)
theorem dX4_landingChance_18 : decode cX4_landingChance 18 = .ok (.iaload, 1) := dk_46 (dk_at dksX4_landingChance_0 18 rfl rfl)
theorem dX4_landingChance_19 : decode cX4_landingChance 19 = .ok (.iconst 1, 1) := dk_4 (dk_at dksX4_landingChance_0 19 rfl rfl)
theorem dX4_landingChance_20 : decode cX4_landingChance 20 = .ok (.isub, 1) := dk_100 (dk_at dksX4_landingChance_0 20 rfl rfl)
theorem dX4_landingChance_21 : decode cX4_landingChance 21 = .ok (.invokestatic 139, 3) := dk_184 0 139 (dk_at dksX4_landingChance_0 21 rfl rfl)
theorem dX4_landingChance_24 : decode cX4_landingChance 24 = .ok (.ifCond .eq 19, 3) := dk_153 0 19 (dk_at dksX4_landingChance_1 0 rfl rfl)
theorem dX4_landingChance_27 : decode cX4_landingChance 27 = .ok (.iload_n 2, 1) := dk_28 (dk_at dksX4_landingChance_1 3 rfl rfl)
theorem dX4_landingChance_28 : decode cX4_landingChance 28 = .ok (.invokestatic 258, 3) := dk_184 1 2 (dk_at dksX4_landingChance_1 4 rfl rfl)
theorem dX4_landingChance_31 : decode cX4_landingChance 31 = .ok (.ifCond .eq 12, 3) := dk_153 0 12 (dk_at dksX4_landingChance_1 7 rfl rfl)
theorem dX4_landingChance_34 : decode cX4_landingChance 34 = .ok (.aload_n 0, 1) := dk_42 (dk_at dksX4_landingChance_1 10 rfl rfl)
theorem dX4_landingChance_35 : decode cX4_landingChance 35 = .ok (.getfield 29, 3) := dk_180 0 29 (dk_at dksX4_landingChance_1 11 rfl rfl)
theorem dX4_landingChance_38 : decode cX4_landingChance 38 = .ok (.iconst 0, 1) := dk_3 (dk_at dksX4_landingChance_1 14 rfl rfl)
theorem dX4_landingChance_39 : decode cX4_landingChance 39 = .ok (.iaload, 1) := dk_46 (dk_at dksX4_landingChance_1 15 rfl rfl)
theorem dX4_landingChance_40 : decode cX4_landingChance 40 = .ok (.ifCond .ne 7, 3) := dk_154 0 7 (dk_at dksX4_landingChance_1 16 rfl rfl)
theorem dX4_landingChance_43 : decode cX4_landingChance 43 = .ok (.ldc2_w 261, 3) := dk_20 1 5 (dk_at dksX4_landingChance_1 19 rfl rfl)
theorem dX4_landingChance_46 : decode cX4_landingChance 46 = .ok (.lreturn, 1) := dk_173 (dk_at dksX4_landingChance_1 22 rfl rfl)
theorem dX4_landingChance_47 : decode cX4_landingChance 47 = .ok (.aload_n 0, 1) := dk_42 (dk_at dksX4_landingChance_1 23 rfl rfl)
theorem dX4_landingChance_48 : decode cX4_landingChance 48 = .ok (.iload_n 2, 1) := dk_28 (dk_at dksX4_landingChance_2 0 rfl rfl)
theorem dX4_landingChance_49 : decode cX4_landingChance 49 = .ok (.bipush (-2), 2) := dk_16 254 (dk_at dksX4_landingChance_2 1 rfl rfl)
theorem dX4_landingChance_51 : decode cX4_landingChance 51 = .ok (.invokevirtual 263, 3) := dk_182 1 7 (dk_at dksX4_landingChance_2 3 rfl rfl)
theorem dX4_landingChance_54 : decode cX4_landingChance 54 = .ok (.lconst 0, 1) := dk_9 (dk_at dksX4_landingChance_2 6 rfl rfl)
theorem dX4_landingChance_55 : decode cX4_landingChance 55 = .ok (.lstore_n 3, 1) := dk_66 (dk_at dksX4_landingChance_2 7 rfl rfl)
theorem dX4_landingChance_56 : decode cX4_landingChance 56 = .ok (.iconst 0, 1) := dk_3 (dk_at dksX4_landingChance_2 8 rfl rfl)
theorem dX4_landingChance_57 : decode cX4_landingChance 57 = .ok (.istore 5, 2) := dk_54 5 (dk_at dksX4_landingChance_2 9 rfl rfl)
theorem dX4_landingChance_59 : decode cX4_landingChance 59 = .ok (.iload 5, 2) := dk_21 5 (dk_at dksX4_landingChance_2 11 rfl rfl)
theorem dX4_landingChance_61 : decode cX4_landingChance 61 = .ok (.aload_n 0, 1) := dk_42 (dk_at dksX4_landingChance_2 13 rfl rfl)
theorem dX4_landingChance_62 : decode cX4_landingChance 62 = .ok (.getfield 29, 3) := dk_180 0 29 (dk_at dksX4_landingChance_2 14 rfl rfl)
theorem dX4_landingChance_65 : decode cX4_landingChance 65 = .ok (.iconst 0, 1) := dk_3 (dk_at dksX4_landingChance_2 17 rfl rfl)
theorem dX4_landingChance_66 : decode cX4_landingChance 66 = .ok (.iaload, 1) := dk_46 (dk_at dksX4_landingChance_2 18 rfl rfl)
theorem dX4_landingChance_67 : decode cX4_landingChance 67 = .ok (.if_icmp .ge 28, 3) := dk_162 0 28 (dk_at dksX4_landingChance_2 19 rfl rfl)
theorem dX4_landingChance_70 : decode cX4_landingChance 70 = .ok (.lload_n 3, 1) := dk_33 (dk_at dksX4_landingChance_2 22 rfl rfl)
theorem dX4_landingChance_71 : decode cX4_landingChance 71 = .ok (.aload_n 0, 1) := dk_42 (dk_at dksX4_landingChance_2 23 rfl rfl)
theorem dX4_landingChance_72 : decode cX4_landingChance 72 = .ok (.getfield 78, 3) := dk_180 0 78 (dk_at dksX4_landingChance_3 0 rfl rfl)
theorem dX4_landingChance_75 : decode cX4_landingChance 75 = .ok (.iload 5, 2) := dk_21 5 (dk_at dksX4_landingChance_3 3 rfl rfl)
theorem dX4_landingChance_77 : decode cX4_landingChance 77 = .ok (.laload, 1) := dk_47 (dk_at dksX4_landingChance_3 5 rfl rfl)
theorem dX4_landingChance_78 : decode cX4_landingChance 78 = .ok (.aload_n 0, 1) := dk_42 (dk_at dksX4_landingChance_3 6 rfl rfl)
theorem dX4_landingChance_79 : decode cX4_landingChance 79 = .ok (.iload 5, 2) := dk_21 5 (dk_at dksX4_landingChance_3 7 rfl rfl)
theorem dX4_landingChance_81 : decode cX4_landingChance 81 = .ok (.iload_n 1, 1) := dk_27 (dk_at dksX4_landingChance_3 9 rfl rfl)
theorem dX4_landingChance_82 : decode cX4_landingChance 82 = .ok (.invokevirtual 267, 3) := dk_182 1 11 (dk_at dksX4_landingChance_3 10 rfl rfl)
theorem dX4_landingChance_85 : decode cX4_landingChance 85 = .ok (.i2l, 1) := dk_133 (dk_at dksX4_landingChance_3 13 rfl rfl)
theorem dX4_landingChance_86 : decode cX4_landingChance 86 = .ok (.lmul, 1) := dk_105 (dk_at dksX4_landingChance_3 14 rfl rfl)
theorem dX4_landingChance_87 : decode cX4_landingChance 87 = .ok (.ladd, 1) := dk_97 (dk_at dksX4_landingChance_3 15 rfl rfl)
theorem dX4_landingChance_88 : decode cX4_landingChance 88 = .ok (.lstore_n 3, 1) := dk_66 (dk_at dksX4_landingChance_3 16 rfl rfl)
theorem dX4_landingChance_89 : decode cX4_landingChance 89 = .ok (.iinc 5 1, 3) := dk_132 5 1 (dk_at dksX4_landingChance_3 17 rfl rfl)
theorem dX4_landingChance_92 : decode cX4_landingChance 92 = .ok (.goto (-33), 3) := dk_167 255 223 (dk_at dksX4_landingChance_3 20 rfl rfl)
theorem dX4_landingChance_95 : decode cX4_landingChance 95 = .ok (.lload_n 3, 1) := dk_33 (dk_at dksX4_landingChance_3 23 rfl rfl)
theorem dX4_landingChance_96 : decode cX4_landingChance 96 = .ok (.lreturn, 1) := dk_173 (dk_at dksX4_landingChance_4 0 rfl rfl)
abbrev cX4_weightBy : ByteArray := prog_16_method_42_code
def yX4_weightBy : MethodName := ⟨RX4, "weightBy", "(II)I"⟩
def dkwX4_weightBy_3 : List UInt8 := [132, 5, 1, 167, 255, 192, 28, 16, 254, 160, 0, 10, 16, 10, 29, 100, 167, 0, 5, 21, 4, 172]
abbrev dktX4_weightBy_3 : List UInt8 := dkwX4_weightBy_3 ++ []
def dkwX4_weightBy_2 : List UInt8 := [160, 0, 18, 42, 180, 0, 38, 16, 8, 27, 104, 21, 5, 96, 46, 167, 0, 5, 21, 4, 54, 4]
abbrev dktX4_weightBy_2 : List UInt8 := dkwX4_weightBy_2 ++ dktX4_weightBy_3
def dkwX4_weightBy_1 : List UInt8 := [16, 8, 27, 104, 21, 5, 96, 46, 96, 62, 42, 180, 0, 35, 16, 8, 27, 104, 21, 5, 96, 46, 28]
abbrev dktX4_weightBy_1 : List UInt8 := dkwX4_weightBy_1 ++ dktX4_weightBy_2
def dkwX4_weightBy_0 : List UInt8 := [3, 62, 3, 54, 4, 3, 54, 5, 21, 5, 42, 180, 0, 32, 27, 46, 162, 0, 59, 29, 42, 180, 0, 38]
abbrev dktX4_weightBy_0 : List UInt8 := dkwX4_weightBy_0 ++ dktX4_weightBy_1
theorem dksX4_weightBy_0 : cX4_weightBy.data.toList.drop 0 = dktX4_weightBy_0 := by decide +kernel
theorem dksX4_weightBy_1 : cX4_weightBy.data.toList.drop 24 = dktX4_weightBy_1 := dk_seg dksX4_weightBy_0 24 rfl rfl
theorem dksX4_weightBy_2 : cX4_weightBy.data.toList.drop 47 = dktX4_weightBy_2 := dk_seg dksX4_weightBy_1 23 rfl rfl
theorem dksX4_weightBy_3 : cX4_weightBy.data.toList.drop 69 = dktX4_weightBy_3 := dk_seg dksX4_weightBy_2 22 rfl rfl
theorem dX4_weightBy_0 : decode cX4_weightBy 0 = .ok (.iconst 0, 1) := dk_3 (dk_at dksX4_weightBy_0 0 rfl rfl)
theorem dX4_weightBy_1 : decode cX4_weightBy 1 = .ok (.istore_n 3, 1) := dk_62 (dk_at dksX4_weightBy_0 1 rfl rfl)
theorem dX4_weightBy_2 : decode cX4_weightBy 2 = .ok (.iconst 0, 1) := dk_3 (dk_at dksX4_weightBy_0 2 rfl rfl)
theorem dX4_weightBy_3 : decode cX4_weightBy 3 = .ok (.istore 4, 2) := dk_54 4 (dk_at dksX4_weightBy_0 3 rfl rfl)
theorem dX4_weightBy_5 : decode cX4_weightBy 5 = .ok (.iconst 0, 1) := dk_3 (dk_at dksX4_weightBy_0 5 rfl rfl)
theorem dX4_weightBy_6 : decode cX4_weightBy 6 = .ok (.istore 5, 2) := dk_54 5 (dk_at dksX4_weightBy_0 6 rfl rfl)
theorem dX4_weightBy_8 : decode cX4_weightBy 8 = .ok (.iload 5, 2) := dk_21 5 (dk_at dksX4_weightBy_0 8 rfl rfl)
theorem dX4_weightBy_10 : decode cX4_weightBy 10 = .ok (.aload_n 0, 1) := dk_42 (dk_at dksX4_weightBy_0 10 rfl rfl)
theorem dX4_weightBy_11 : decode cX4_weightBy 11 = .ok (.getfield 32, 3) := dk_180 0 32 (dk_at dksX4_weightBy_0 11 rfl rfl)
theorem dX4_weightBy_14 : decode cX4_weightBy 14 = .ok (.iload_n 1, 1) := dk_27 (dk_at dksX4_weightBy_0 14 rfl rfl)
theorem dX4_weightBy_15 : decode cX4_weightBy 15 = .ok (.iaload, 1) := dk_46 (dk_at dksX4_weightBy_0 15 rfl rfl)
theorem dX4_weightBy_16 : decode cX4_weightBy 16 = .ok (.if_icmp .ge 59, 3) := dk_162 0 59 (dk_at dksX4_weightBy_0 16 rfl rfl)
theorem dX4_weightBy_19 : decode cX4_weightBy 19 = .ok (.iload_n 3, 1) := dk_29 (dk_at dksX4_weightBy_0 19 rfl rfl)
theorem dX4_weightBy_20 : decode cX4_weightBy 20 = .ok (.aload_n 0, 1) := dk_42 (dk_at dksX4_weightBy_0 20 rfl rfl)
theorem dX4_weightBy_21 : decode cX4_weightBy 21 = .ok (.getfield 38, 3) := dk_180 0 38 (dk_at dksX4_weightBy_0 21 rfl rfl)
theorem dX4_weightBy_24 : decode cX4_weightBy 24 = .ok (.bipush 8, 2) := dk_16 8 (dk_at dksX4_weightBy_1 0 rfl rfl)
theorem dX4_weightBy_26 : decode cX4_weightBy 26 = .ok (.iload_n 1, 1) := dk_27 (dk_at dksX4_weightBy_1 2 rfl rfl)
theorem dX4_weightBy_27 : decode cX4_weightBy 27 = .ok (.imul, 1) := dk_104 (dk_at dksX4_weightBy_1 3 rfl rfl)
theorem dX4_weightBy_28 : decode cX4_weightBy 28 = .ok (.iload 5, 2) := dk_21 5 (dk_at dksX4_weightBy_1 4 rfl rfl)
theorem dX4_weightBy_30 : decode cX4_weightBy 30 = .ok (.iadd, 1) := dk_96 (dk_at dksX4_weightBy_1 6 rfl rfl)
theorem dX4_weightBy_31 : decode cX4_weightBy 31 = .ok (.iaload, 1) := dk_46 (dk_at dksX4_weightBy_1 7 rfl rfl)
theorem dX4_weightBy_32 : decode cX4_weightBy 32 = .ok (.iadd, 1) := dk_96 (dk_at dksX4_weightBy_1 8 rfl rfl)
theorem dX4_weightBy_33 : decode cX4_weightBy 33 = .ok (.istore_n 3, 1) := dk_62 (dk_at dksX4_weightBy_1 9 rfl rfl)
theorem dX4_weightBy_34 : decode cX4_weightBy 34 = .ok (.aload_n 0, 1) := dk_42 (dk_at dksX4_weightBy_1 10 rfl rfl)
theorem dX4_weightBy_35 : decode cX4_weightBy 35 = .ok (.getfield 35, 3) := dk_180 0 35 (dk_at dksX4_weightBy_1 11 rfl rfl)
theorem dX4_weightBy_38 : decode cX4_weightBy 38 = .ok (.bipush 8, 2) := dk_16 8 (dk_at dksX4_weightBy_1 14 rfl rfl)
theorem dX4_weightBy_40 : decode cX4_weightBy 40 = .ok (.iload_n 1, 1) := dk_27 (dk_at dksX4_weightBy_1 16 rfl rfl)
theorem dX4_weightBy_41 : decode cX4_weightBy 41 = .ok (.imul, 1) := dk_104 (dk_at dksX4_weightBy_1 17 rfl rfl)
theorem dX4_weightBy_42 : decode cX4_weightBy 42 = .ok (.iload 5, 2) := dk_21 5 (dk_at dksX4_weightBy_1 18 rfl rfl)
theorem dX4_weightBy_44 : decode cX4_weightBy 44 = .ok (.iadd, 1) := dk_96 (dk_at dksX4_weightBy_1 20 rfl rfl)
theorem dX4_weightBy_45 : decode cX4_weightBy 45 = .ok (.iaload, 1) := dk_46 (dk_at dksX4_weightBy_1 21 rfl rfl)
theorem dX4_weightBy_46 : decode cX4_weightBy 46 = .ok (.iload_n 2, 1) := dk_28 (dk_at dksX4_weightBy_1 22 rfl rfl)
theorem dX4_weightBy_47 : decode cX4_weightBy 47 = .ok (.if_icmp .ne 18, 3) := dk_160 0 18 (dk_at dksX4_weightBy_2 0 rfl rfl)
theorem dX4_weightBy_50 : decode cX4_weightBy 50 = .ok (.aload_n 0, 1) := dk_42 (dk_at dksX4_weightBy_2 3 rfl rfl)
theorem dX4_weightBy_51 : decode cX4_weightBy 51 = .ok (.getfield 38, 3) := dk_180 0 38 (dk_at dksX4_weightBy_2 4 rfl rfl)
theorem dX4_weightBy_54 : decode cX4_weightBy 54 = .ok (.bipush 8, 2) := dk_16 8 (dk_at dksX4_weightBy_2 7 rfl rfl)
theorem dX4_weightBy_56 : decode cX4_weightBy 56 = .ok (.iload_n 1, 1) := dk_27 (dk_at dksX4_weightBy_2 9 rfl rfl)
theorem dX4_weightBy_57 : decode cX4_weightBy 57 = .ok (.imul, 1) := dk_104 (dk_at dksX4_weightBy_2 10 rfl rfl)
theorem dX4_weightBy_58 : decode cX4_weightBy 58 = .ok (.iload 5, 2) := dk_21 5 (dk_at dksX4_weightBy_2 11 rfl rfl)
theorem dX4_weightBy_60 : decode cX4_weightBy 60 = .ok (.iadd, 1) := dk_96 (dk_at dksX4_weightBy_2 13 rfl rfl)
theorem dX4_weightBy_61 : decode cX4_weightBy 61 = .ok (.iaload, 1) := dk_46 (dk_at dksX4_weightBy_2 14 rfl rfl)
theorem dX4_weightBy_62 : decode cX4_weightBy 62 = .ok (.goto 5, 3) := dk_167 0 5 (dk_at dksX4_weightBy_2 15 rfl rfl)
theorem dX4_weightBy_65 : decode cX4_weightBy 65 = .ok (.iload 4, 2) := dk_21 4 (dk_at dksX4_weightBy_2 18 rfl rfl)
theorem dX4_weightBy_67 : decode cX4_weightBy 67 = .ok (.istore 4, 2) := dk_54 4 (dk_at dksX4_weightBy_2 20 rfl rfl)
theorem dX4_weightBy_69 : decode cX4_weightBy 69 = .ok (.iinc 5 1, 3) := dk_132 5 1 (dk_at dksX4_weightBy_3 0 rfl rfl)
theorem dX4_weightBy_72 : decode cX4_weightBy 72 = .ok (.goto (-64), 3) := dk_167 255 192 (dk_at dksX4_weightBy_3 3 rfl rfl)
theorem dX4_weightBy_75 : decode cX4_weightBy 75 = .ok (.iload_n 2, 1) := dk_28 (dk_at dksX4_weightBy_3 6 rfl rfl)
theorem dX4_weightBy_76 : decode cX4_weightBy 76 = .ok (.bipush (-2), 2) := dk_16 254 (dk_at dksX4_weightBy_3 7 rfl rfl)
theorem dX4_weightBy_78 : decode cX4_weightBy 78 = .ok (.if_icmp .ne 10, 3) := dk_160 0 10 (dk_at dksX4_weightBy_3 9 rfl rfl)
theorem dX4_weightBy_81 : decode cX4_weightBy 81 = .ok (.bipush 10, 2) := dk_16 10 (dk_at dksX4_weightBy_3 12 rfl rfl)
theorem dX4_weightBy_83 : decode cX4_weightBy 83 = .ok (.iload_n 3, 1) := dk_29 (dk_at dksX4_weightBy_3 14 rfl rfl)
theorem dX4_weightBy_84 : decode cX4_weightBy 84 = .ok (.isub, 1) := dk_100 (dk_at dksX4_weightBy_3 15 rfl rfl)
theorem dX4_weightBy_85 : decode cX4_weightBy 85 = .ok (.goto 5, 3) := dk_167 0 5 (dk_at dksX4_weightBy_3 16 rfl rfl)
theorem dX4_weightBy_88 : decode cX4_weightBy 88 = .ok (.iload 4, 2) := dk_21 4 (dk_at dksX4_weightBy_3 19 rfl rfl)
theorem dX4_weightBy_90 : decode cX4_weightBy 90 = .ok (.ireturn, 1) := dk_172 (dk_at dksX4_weightBy_3 21 rfl rfl)
abbrev cX4_deliveryChance : ByteArray := prog_16_method_46_code
def yX4_deliveryChance : MethodName := ⟨RX4, "deliveryChance", "(I)J"⟩
def dkwX4_deliveryChance_1 : List UInt8 := [167, 0, 9, 42, 2, 27, 182, 1, 18, 173]
abbrev dktX4_deliveryChance_1 : List UInt8 := dkwX4_deliveryChance_1 ++ []
def dkwX4_deliveryChance_0 : List UInt8 := [42, 3, 181, 0, 1, 27, 184, 1, 2, 153, 0, 12, 42, 180, 0, 29, 3, 46, 154, 0, 9, 20, 1, 5]
abbrev dktX4_deliveryChance_0 : List UInt8 := dkwX4_deliveryChance_0 ++ dktX4_deliveryChance_1
theorem dksX4_deliveryChance_0 : cX4_deliveryChance.data.toList.drop 0 = dktX4_deliveryChance_0 := by decide +kernel
theorem dksX4_deliveryChance_1 : cX4_deliveryChance.data.toList.drop 24 = dktX4_deliveryChance_1 := dk_seg dksX4_deliveryChance_0 24 rfl rfl
theorem dX4_deliveryChance_0 : decode cX4_deliveryChance 0 = .ok (.aload_n 0, 1) := dk_42 (dk_at dksX4_deliveryChance_0 0 rfl rfl)
theorem dX4_deliveryChance_1 : decode cX4_deliveryChance 1 = .ok (.iconst 0, 1) := dk_3 (dk_at dksX4_deliveryChance_0 1 rfl rfl)
theorem dX4_deliveryChance_2 : decode cX4_deliveryChance 2 = .ok (.putfield 1, 3) := dk_181 0 1 (dk_at dksX4_deliveryChance_0 2 rfl rfl)
theorem dX4_deliveryChance_5 : decode cX4_deliveryChance 5 = .ok (.iload_n 1, 1) := dk_27 (dk_at dksX4_deliveryChance_0 5 rfl rfl)
theorem dX4_deliveryChance_6 : decode cX4_deliveryChance 6 = .ok (.invokestatic 258, 3) := dk_184 1 2 (dk_at dksX4_deliveryChance_0 6 rfl rfl)
theorem dX4_deliveryChance_9 : decode cX4_deliveryChance 9 = .ok (.ifCond .eq 12, 3) := dk_153 0 12 (dk_at dksX4_deliveryChance_0 9 rfl rfl)
theorem dX4_deliveryChance_12 : decode cX4_deliveryChance 12 = .ok (.aload_n 0, 1) := dk_42 (dk_at dksX4_deliveryChance_0 12 rfl rfl)
theorem dX4_deliveryChance_13 : decode cX4_deliveryChance 13 = .ok (.getfield 29, 3) := dk_180 0 29 (dk_at dksX4_deliveryChance_0 13 rfl rfl)
theorem dX4_deliveryChance_16 : decode cX4_deliveryChance 16 = .ok (.iconst 0, 1) := dk_3 (dk_at dksX4_deliveryChance_0 16 rfl rfl)
theorem dX4_deliveryChance_17 : decode cX4_deliveryChance 17 = .ok (.iaload, 1) := dk_46 (dk_at dksX4_deliveryChance_0 17 rfl rfl)
theorem dX4_deliveryChance_18 : decode cX4_deliveryChance 18 = .ok (.ifCond .ne 9, 3) := dk_154 0 9 (dk_at dksX4_deliveryChance_0 18 rfl rfl)
theorem dX4_deliveryChance_21 : decode cX4_deliveryChance 21 = .ok (.ldc2_w 261, 3) := dk_20 1 5 (dk_at dksX4_deliveryChance_0 21 rfl rfl)
theorem dX4_deliveryChance_24 : decode cX4_deliveryChance 24 = .ok (.goto 9, 3) := dk_167 0 9 (dk_at dksX4_deliveryChance_1 0 rfl rfl)
theorem dX4_deliveryChance_27 : decode cX4_deliveryChance 27 = .ok (.aload_n 0, 1) := dk_42 (dk_at dksX4_deliveryChance_1 3 rfl rfl)
theorem dX4_deliveryChance_28 : decode cX4_deliveryChance 28 = .ok (.iconst (-1), 1) := dk_2 (dk_at dksX4_deliveryChance_1 4 rfl rfl)
theorem dX4_deliveryChance_29 : decode cX4_deliveryChance 29 = .ok (.iload_n 1, 1) := dk_27 (dk_at dksX4_deliveryChance_1 5 rfl rfl)
theorem dX4_deliveryChance_30 : decode cX4_deliveryChance 30 = .ok (.invokevirtual 274, 3) := dk_182 1 18 (dk_at dksX4_deliveryChance_1 6 rfl rfl)
theorem dX4_deliveryChance_33 : decode cX4_deliveryChance 33 = .ok (.lreturn, 1) := dk_173 (dk_at dksX4_deliveryChance_1 9 rfl rfl)
abbrev cX4_chanceOf : ByteArray := prog_16_method_45_code
def yX4_chanceOf : MethodName := ⟨RX4, "chanceOf", "(II)J"⟩
def dkwX4_chanceOf_4 : List UInt8 := [46, 100, 133, 105, 22, 7, 105, 97, 66, 132, 6, 1, 167, 255, 176, 132, 5, 1, 167, 255, 156, 33, 173]
abbrev dktX4_chanceOf_4 : List UInt8 := dkwX4_chanceOf_4 ++ []
def dkwX4_chanceOf_3 : List UInt8 := [180, 0, 78, 21, 5, 47, 42, 21, 5, 21, 6, 182, 1, 11, 133, 105, 16, 10, 42, 180, 0, 20, 21, 6]
abbrev dktX4_chanceOf_3 : List UInt8 := dkwX4_chanceOf_3 ++ dktX4_chanceOf_4
def dkwX4_chanceOf_2 : List UInt8 := [184, 1, 14, 16, 10, 42, 180, 0, 26, 21, 6, 46, 100, 27, 184, 1, 14, 101, 55, 7, 33, 42]
abbrev dktX4_chanceOf_2 : List UInt8 := dkwX4_chanceOf_2 ++ dktX4_chanceOf_3
def dkwX4_chanceOf_1 : List UInt8 := [54, 6, 21, 6, 42, 180, 0, 17, 3, 46, 162, 0, 75, 27, 156, 0, 7, 10, 167, 0, 24, 16, 10, 27]
abbrev dktX4_chanceOf_1 : List UInt8 := dkwX4_chanceOf_1 ++ dktX4_chanceOf_2
def dkwX4_chanceOf_0 : List UInt8 := [42, 28, 16, 254, 182, 1, 7, 9, 66, 3, 54, 5, 21, 5, 42, 180, 0, 29, 3, 46, 162, 0, 95, 3]
abbrev dktX4_chanceOf_0 : List UInt8 := dkwX4_chanceOf_0 ++ dktX4_chanceOf_1
theorem dksX4_chanceOf_0 : cX4_chanceOf.data.toList.drop 0 = dktX4_chanceOf_0 := by decide +kernel
theorem dksX4_chanceOf_1 : cX4_chanceOf.data.toList.drop 24 = dktX4_chanceOf_1 := dk_seg dksX4_chanceOf_0 24 rfl rfl
theorem dksX4_chanceOf_2 : cX4_chanceOf.data.toList.drop 48 = dktX4_chanceOf_2 := dk_seg dksX4_chanceOf_1 24 rfl rfl
theorem dksX4_chanceOf_3 : cX4_chanceOf.data.toList.drop 70 = dktX4_chanceOf_3 := dk_seg dksX4_chanceOf_2 22 rfl rfl
theorem dksX4_chanceOf_4 : cX4_chanceOf.data.toList.drop 94 = dktX4_chanceOf_4 := dk_seg dksX4_chanceOf_3 24 rfl rfl
theorem dX4_chanceOf_0 : decode cX4_chanceOf 0 = .ok (.aload_n 0, 1) := dk_42 (dk_at dksX4_chanceOf_0 0 rfl rfl)
theorem dX4_chanceOf_1 : decode cX4_chanceOf 1 = .ok (.iload_n 2, 1) := dk_28 (dk_at dksX4_chanceOf_0 1 rfl rfl)
theorem dX4_chanceOf_2 : decode cX4_chanceOf 2 = .ok (.bipush (-2), 2) := dk_16 254 (dk_at dksX4_chanceOf_0 2 rfl rfl)
theorem dX4_chanceOf_4 : decode cX4_chanceOf 4 = .ok (.invokevirtual 263, 3) := dk_182 1 7 (dk_at dksX4_chanceOf_0 4 rfl rfl)
theorem dX4_chanceOf_7 : decode cX4_chanceOf 7 = .ok (.lconst 0, 1) := dk_9 (dk_at dksX4_chanceOf_0 7 rfl rfl)
theorem dX4_chanceOf_8 : decode cX4_chanceOf 8 = .ok (.lstore_n 3, 1) := dk_66 (dk_at dksX4_chanceOf_0 8 rfl rfl)
theorem dX4_chanceOf_9 : decode cX4_chanceOf 9 = .ok (.iconst 0, 1) := dk_3 (dk_at dksX4_chanceOf_0 9 rfl rfl)
theorem dX4_chanceOf_10 : decode cX4_chanceOf 10 = .ok (.istore 5, 2) := dk_54 5 (dk_at dksX4_chanceOf_0 10 rfl rfl)
theorem dX4_chanceOf_12 : decode cX4_chanceOf 12 = .ok (.iload 5, 2) := dk_21 5 (dk_at dksX4_chanceOf_0 12 rfl rfl)
theorem dX4_chanceOf_14 : decode cX4_chanceOf 14 = .ok (.aload_n 0, 1) := dk_42 (dk_at dksX4_chanceOf_0 14 rfl rfl)
theorem dX4_chanceOf_15 : decode cX4_chanceOf 15 = .ok (.getfield 29, 3) := dk_180 0 29 (dk_at dksX4_chanceOf_0 15 rfl rfl)
theorem dX4_chanceOf_18 : decode cX4_chanceOf 18 = .ok (.iconst 0, 1) := dk_3 (dk_at dksX4_chanceOf_0 18 rfl rfl)
theorem dX4_chanceOf_19 : decode cX4_chanceOf 19 = .ok (.iaload, 1) := dk_46 (dk_at dksX4_chanceOf_0 19 rfl rfl)
theorem dX4_chanceOf_20 : decode cX4_chanceOf 20 = .ok (.if_icmp .ge 95, 3) := dk_162 0 95 (dk_at dksX4_chanceOf_0 20 rfl rfl)
theorem dX4_chanceOf_23 : decode cX4_chanceOf 23 = .ok (.iconst 0, 1) := dk_3 (dk_at dksX4_chanceOf_0 23 rfl rfl)
theorem dX4_chanceOf_24 : decode cX4_chanceOf 24 = .ok (.istore 6, 2) := dk_54 6 (dk_at dksX4_chanceOf_1 0 rfl rfl)
theorem dX4_chanceOf_26 : decode cX4_chanceOf 26 = .ok (.iload 6, 2) := dk_21 6 (dk_at dksX4_chanceOf_1 2 rfl rfl)
theorem dX4_chanceOf_28 : decode cX4_chanceOf 28 = .ok (.aload_n 0, 1) := dk_42 (dk_at dksX4_chanceOf_1 4 rfl rfl)
theorem dX4_chanceOf_29 : decode cX4_chanceOf 29 = .ok (.getfield 17, 3) := dk_180 0 17 (dk_at dksX4_chanceOf_1 5 rfl rfl)
theorem dX4_chanceOf_32 : decode cX4_chanceOf 32 = .ok (.iconst 0, 1) := dk_3 (dk_at dksX4_chanceOf_1 8 rfl rfl)
theorem dX4_chanceOf_33 : decode cX4_chanceOf 33 = .ok (.iaload, 1) := dk_46 (dk_at dksX4_chanceOf_1 9 rfl rfl)
theorem dX4_chanceOf_34 : decode cX4_chanceOf 34 = .ok (.if_icmp .ge 75, 3) := dk_162 0 75 (dk_at dksX4_chanceOf_1 10 rfl rfl)
theorem dX4_chanceOf_37 : decode cX4_chanceOf 37 = .ok (.iload_n 1, 1) := dk_27 (dk_at dksX4_chanceOf_1 13 rfl rfl)
theorem dX4_chanceOf_38 : decode cX4_chanceOf 38 = .ok (.ifCond .ge 7, 3) := dk_156 0 7 (dk_at dksX4_chanceOf_1 14 rfl rfl)
theorem dX4_chanceOf_41 : decode cX4_chanceOf 41 = .ok (.lconst 1, 1) := dk_10 (dk_at dksX4_chanceOf_1 17 rfl rfl)
theorem dX4_chanceOf_42 : decode cX4_chanceOf 42 = .ok (.goto 24, 3) := dk_167 0 24 (dk_at dksX4_chanceOf_1 18 rfl rfl)
theorem dX4_chanceOf_45 : decode cX4_chanceOf 45 = .ok (.bipush 10, 2) := dk_16 10 (dk_at dksX4_chanceOf_1 21 rfl rfl)
theorem dX4_chanceOf_47 : decode cX4_chanceOf 47 = .ok (.iload_n 1, 1) := dk_27 (dk_at dksX4_chanceOf_1 23 rfl rfl)
theorem dX4_chanceOf_48 : decode cX4_chanceOf 48 = .ok (.invokestatic 270, 3) := dk_184 1 14 (dk_at dksX4_chanceOf_2 0 rfl rfl)
theorem dX4_chanceOf_51 : decode cX4_chanceOf 51 = .ok (.bipush 10, 2) := dk_16 10 (dk_at dksX4_chanceOf_2 3 rfl rfl)
theorem dX4_chanceOf_53 : decode cX4_chanceOf 53 = .ok (.aload_n 0, 1) := dk_42 (dk_at dksX4_chanceOf_2 5 rfl rfl)
theorem dX4_chanceOf_54 : decode cX4_chanceOf 54 = .ok (.getfield 26, 3) := dk_180 0 26 (dk_at dksX4_chanceOf_2 6 rfl rfl)
theorem dX4_chanceOf_57 : decode cX4_chanceOf 57 = .ok (.iload 6, 2) := dk_21 6 (dk_at dksX4_chanceOf_2 9 rfl rfl)
theorem dX4_chanceOf_59 : decode cX4_chanceOf 59 = .ok (.iaload, 1) := dk_46 (dk_at dksX4_chanceOf_2 11 rfl rfl)
theorem dX4_chanceOf_60 : decode cX4_chanceOf 60 = .ok (.isub, 1) := dk_100 (dk_at dksX4_chanceOf_2 12 rfl rfl)
theorem dX4_chanceOf_61 : decode cX4_chanceOf 61 = .ok (.iload_n 1, 1) := dk_27 (dk_at dksX4_chanceOf_2 13 rfl rfl)
theorem dX4_chanceOf_62 : decode cX4_chanceOf 62 = .ok (.invokestatic 270, 3) := dk_184 1 14 (dk_at dksX4_chanceOf_2 14 rfl rfl)
theorem dX4_chanceOf_65 : decode cX4_chanceOf 65 = .ok (.lsub, 1) := dk_101 (dk_at dksX4_chanceOf_2 17 rfl rfl)
theorem dX4_chanceOf_66 : decode cX4_chanceOf 66 = .ok (.lstore 7, 2) := dk_55 7 (dk_at dksX4_chanceOf_2 18 rfl rfl)
theorem dX4_chanceOf_68 : decode cX4_chanceOf 68 = .ok (.lload_n 3, 1) := dk_33 (dk_at dksX4_chanceOf_2 20 rfl rfl)
theorem dX4_chanceOf_69 : decode cX4_chanceOf 69 = .ok (.aload_n 0, 1) := dk_42 (dk_at dksX4_chanceOf_2 21 rfl rfl)
theorem dX4_chanceOf_70 : decode cX4_chanceOf 70 = .ok (.getfield 78, 3) := dk_180 0 78 (dk_at dksX4_chanceOf_3 0 rfl rfl)
theorem dX4_chanceOf_73 : decode cX4_chanceOf 73 = .ok (.iload 5, 2) := dk_21 5 (dk_at dksX4_chanceOf_3 3 rfl rfl)
theorem dX4_chanceOf_75 : decode cX4_chanceOf 75 = .ok (.laload, 1) := dk_47 (dk_at dksX4_chanceOf_3 5 rfl rfl)
theorem dX4_chanceOf_76 : decode cX4_chanceOf 76 = .ok (.aload_n 0, 1) := dk_42 (dk_at dksX4_chanceOf_3 6 rfl rfl)
theorem dX4_chanceOf_77 : decode cX4_chanceOf 77 = .ok (.iload 5, 2) := dk_21 5 (dk_at dksX4_chanceOf_3 7 rfl rfl)
theorem dX4_chanceOf_79 : decode cX4_chanceOf 79 = .ok (.iload 6, 2) := dk_21 6 (dk_at dksX4_chanceOf_3 9 rfl rfl)
theorem dX4_chanceOf_81 : decode cX4_chanceOf 81 = .ok (.invokevirtual 267, 3) := dk_182 1 11 (dk_at dksX4_chanceOf_3 11 rfl rfl)
theorem dX4_chanceOf_84 : decode cX4_chanceOf 84 = .ok (.i2l, 1) := dk_133 (dk_at dksX4_chanceOf_3 14 rfl rfl)
theorem dX4_chanceOf_85 : decode cX4_chanceOf 85 = .ok (.lmul, 1) := dk_105 (dk_at dksX4_chanceOf_3 15 rfl rfl)
theorem dX4_chanceOf_86 : decode cX4_chanceOf 86 = .ok (.bipush 10, 2) := dk_16 10 (dk_at dksX4_chanceOf_3 16 rfl rfl)
theorem dX4_chanceOf_88 : decode cX4_chanceOf 88 = .ok (.aload_n 0, 1) := dk_42 (dk_at dksX4_chanceOf_3 18 rfl rfl)
theorem dX4_chanceOf_89 : decode cX4_chanceOf 89 = .ok (.getfield 20, 3) := dk_180 0 20 (dk_at dksX4_chanceOf_3 19 rfl rfl)
theorem dX4_chanceOf_92 : decode cX4_chanceOf 92 = .ok (.iload 6, 2) := dk_21 6 (dk_at dksX4_chanceOf_3 22 rfl rfl)
theorem dX4_chanceOf_94 : decode cX4_chanceOf 94 = .ok (.iaload, 1) := dk_46 (dk_at dksX4_chanceOf_4 0 rfl rfl)
theorem dX4_chanceOf_95 : decode cX4_chanceOf 95 = .ok (.isub, 1) := dk_100 (dk_at dksX4_chanceOf_4 1 rfl rfl)
theorem dX4_chanceOf_96 : decode cX4_chanceOf 96 = .ok (.i2l, 1) := dk_133 (dk_at dksX4_chanceOf_4 2 rfl rfl)
theorem dX4_chanceOf_97 : decode cX4_chanceOf 97 = .ok (.lmul, 1) := dk_105 (dk_at dksX4_chanceOf_4 3 rfl rfl)
theorem dX4_chanceOf_98 : decode cX4_chanceOf 98 = .ok (.lload 7, 2) := dk_22 7 (dk_at dksX4_chanceOf_4 4 rfl rfl)
theorem dX4_chanceOf_100 : decode cX4_chanceOf 100 = .ok (.lmul, 1) := dk_105 (dk_at dksX4_chanceOf_4 6 rfl rfl)
theorem dX4_chanceOf_101 : decode cX4_chanceOf 101 = .ok (.ladd, 1) := dk_97 (dk_at dksX4_chanceOf_4 7 rfl rfl)
theorem dX4_chanceOf_102 : decode cX4_chanceOf 102 = .ok (.lstore_n 3, 1) := dk_66 (dk_at dksX4_chanceOf_4 8 rfl rfl)
theorem dX4_chanceOf_103 : decode cX4_chanceOf 103 = .ok (.iinc 6 1, 3) := dk_132 6 1 (dk_at dksX4_chanceOf_4 9 rfl rfl)
theorem dX4_chanceOf_106 : decode cX4_chanceOf 106 = .ok (.goto (-80), 3) := dk_167 255 176 (dk_at dksX4_chanceOf_4 12 rfl rfl)
theorem dX4_chanceOf_109 : decode cX4_chanceOf 109 = .ok (.iinc 5 1, 3) := dk_132 5 1 (dk_at dksX4_chanceOf_4 15 rfl rfl)
theorem dX4_chanceOf_112 : decode cX4_chanceOf 112 = .ok (.goto (-100), 3) := dk_167 255 156 (dk_at dksX4_chanceOf_4 18 rfl rfl)
theorem dX4_chanceOf_115 : decode cX4_chanceOf 115 = .ok (.lload_n 3, 1) := dk_33 (dk_at dksX4_chanceOf_4 21 rfl rfl)
theorem dX4_chanceOf_116 : decode cX4_chanceOf 116 = .ok (.lreturn, 1) := dk_173 (dk_at dksX4_chanceOf_4 22 rfl rfl)
abbrev cX4_power : ByteArray := prog_16_method_44_code
def yX4_power : MethodName := ⟨RX4, "power", "(II)J"⟩
def dkwX4_power_0 : List UInt8 := [10, 65, 3, 54, 4, 21, 4, 27, 162, 0, 14, 32, 26, 133, 105, 65, 132, 4, 1, 167, 255, 242, 32, 173]
abbrev dktX4_power_0 : List UInt8 := dkwX4_power_0 ++ []
theorem dksX4_power_0 : cX4_power.data.toList.drop 0 = dktX4_power_0 := by decide +kernel
theorem dX4_power_0 : decode cX4_power 0 = .ok (.lconst 1, 1) := dk_10 (dk_at dksX4_power_0 0 rfl rfl)
theorem dX4_power_1 : decode cX4_power 1 = .ok (.lstore_n 2, 1) := dk_65 (dk_at dksX4_power_0 1 rfl rfl)
theorem dX4_power_2 : decode cX4_power 2 = .ok (.iconst 0, 1) := dk_3 (dk_at dksX4_power_0 2 rfl rfl)
theorem dX4_power_3 : decode cX4_power 3 = .ok (.istore 4, 2) := dk_54 4 (dk_at dksX4_power_0 3 rfl rfl)
theorem dX4_power_5 : decode cX4_power 5 = .ok (.iload 4, 2) := dk_21 4 (dk_at dksX4_power_0 5 rfl rfl)
theorem dX4_power_7 : decode cX4_power 7 = .ok (.iload_n 1, 1) := dk_27 (dk_at dksX4_power_0 7 rfl rfl)
theorem dX4_power_8 : decode cX4_power 8 = .ok (.if_icmp .ge 14, 3) := dk_162 0 14 (dk_at dksX4_power_0 8 rfl rfl)
theorem dX4_power_11 : decode cX4_power 11 = .ok (.lload_n 2, 1) := dk_32 (dk_at dksX4_power_0 11 rfl rfl)
theorem dX4_power_12 : decode cX4_power 12 = .ok (.iload_n 0, 1) := dk_26 (dk_at dksX4_power_0 12 rfl rfl)
theorem dX4_power_13 : decode cX4_power 13 = .ok (.i2l, 1) := dk_133 (dk_at dksX4_power_0 13 rfl rfl)
theorem dX4_power_14 : decode cX4_power 14 = .ok (.lmul, 1) := dk_105 (dk_at dksX4_power_0 14 rfl rfl)
theorem dX4_power_15 : decode cX4_power 15 = .ok (.lstore_n 2, 1) := dk_65 (dk_at dksX4_power_0 15 rfl rfl)
theorem dX4_power_16 : decode cX4_power 16 = .ok (.iinc 4 1, 3) := dk_132 4 1 (dk_at dksX4_power_0 16 rfl rfl)
theorem dX4_power_19 : decode cX4_power 19 = .ok (.goto (-14), 3) := dk_167 255 242 (dk_at dksX4_power_0 19 rfl rfl)
theorem dX4_power_22 : decode cX4_power 22 = .ok (.lload_n 2, 1) := dk_32 (dk_at dksX4_power_0 22 rfl rfl)
theorem dX4_power_23 : decode cX4_power 23 = .ok (.lreturn, 1) := dk_173 (dk_at dksX4_power_0 23 rfl rfl)
abbrev cX4_answerChance : ByteArray := prog_16_method_48_code
def yX4_answerChance : MethodName := ⟨RX4, "answerChance", "(II)J"⟩
def dkwX4_answerChance_1 : List UInt8 := [20, 1, 5, 173]
abbrev dktX4_answerChance_1 : List UInt8 := dkwX4_answerChance_1 ++ []
def dkwX4_answerChance_0 : List UInt8 := [42, 3, 181, 0, 1, 42, 27, 28, 182, 1, 21, 153, 0, 12, 42, 27, 28, 182, 1, 18, 167, 0, 6]
abbrev dktX4_answerChance_0 : List UInt8 := dkwX4_answerChance_0 ++ dktX4_answerChance_1
theorem dksX4_answerChance_0 : cX4_answerChance.data.toList.drop 0 = dktX4_answerChance_0 := by decide +kernel
theorem dksX4_answerChance_1 : cX4_answerChance.data.toList.drop 23 = dktX4_answerChance_1 := dk_seg dksX4_answerChance_0 23 rfl rfl
theorem dX4_answerChance_0 : decode cX4_answerChance 0 = .ok (.aload_n 0, 1) := dk_42 (dk_at dksX4_answerChance_0 0 rfl rfl)
theorem dX4_answerChance_1 : decode cX4_answerChance 1 = .ok (.iconst 0, 1) := dk_3 (dk_at dksX4_answerChance_0 1 rfl rfl)
theorem dX4_answerChance_2 : decode cX4_answerChance 2 = .ok (.putfield 1, 3) := dk_181 0 1 (dk_at dksX4_answerChance_0 2 rfl rfl)
theorem dX4_answerChance_5 : decode cX4_answerChance 5 = .ok (.aload_n 0, 1) := dk_42 (dk_at dksX4_answerChance_0 5 rfl rfl)
theorem dX4_answerChance_6 : decode cX4_answerChance 6 = .ok (.iload_n 1, 1) := dk_27 (dk_at dksX4_answerChance_0 6 rfl rfl)
theorem dX4_answerChance_7 : decode cX4_answerChance 7 = .ok (.iload_n 2, 1) := dk_28 (dk_at dksX4_answerChance_0 7 rfl rfl)
theorem dX4_answerChance_8 : decode cX4_answerChance 8 = .ok (.invokevirtual 277, 3) := dk_182 1 21 (dk_at dksX4_answerChance_0 8 rfl rfl)
theorem dX4_answerChance_11 : decode cX4_answerChance 11 = .ok (.ifCond .eq 12, 3) := dk_153 0 12 (dk_at dksX4_answerChance_0 11 rfl rfl)
theorem dX4_answerChance_14 : decode cX4_answerChance 14 = .ok (.aload_n 0, 1) := dk_42 (dk_at dksX4_answerChance_0 14 rfl rfl)
theorem dX4_answerChance_15 : decode cX4_answerChance 15 = .ok (.iload_n 1, 1) := dk_27 (dk_at dksX4_answerChance_0 15 rfl rfl)
theorem dX4_answerChance_16 : decode cX4_answerChance 16 = .ok (.iload_n 2, 1) := dk_28 (dk_at dksX4_answerChance_0 16 rfl rfl)
theorem dX4_answerChance_17 : decode cX4_answerChance 17 = .ok (.invokevirtual 274, 3) := dk_182 1 18 (dk_at dksX4_answerChance_0 17 rfl rfl)
theorem dX4_answerChance_20 : decode cX4_answerChance 20 = .ok (.goto 6, 3) := dk_167 0 6 (dk_at dksX4_answerChance_0 20 rfl rfl)
theorem dX4_answerChance_23 : decode cX4_answerChance 23 = .ok (.ldc2_w 261, 3) := dk_20 1 5 (dk_at dksX4_answerChance_1 0 rfl rfl)
theorem dX4_answerChance_26 : decode cX4_answerChance 26 = .ok (.lreturn, 1) := dk_173 (dk_at dksX4_answerChance_1 3 rfl rfl)
abbrev cX4_mayAsk : ByteArray := prog_16_method_47_code
def yX4_mayAsk : MethodName := ⟨RX4, "mayAsk", "(II)Z"⟩
def dkwX4_mayAsk_1 : List UInt8 := [158, 0, 7, 4, 167, 0, 4, 3, 172]
abbrev dktX4_mayAsk_1 : List UInt8 := dkwX4_mayAsk_1 ++ []
def dkwX4_mayAsk_0 : List UInt8 := [27, 3, 7, 184, 0, 139, 153, 0, 23, 28, 184, 1, 2, 153, 0, 16, 42, 180, 0, 29, 3, 46]
abbrev dktX4_mayAsk_0 : List UInt8 := dkwX4_mayAsk_0 ++ dktX4_mayAsk_1
theorem dksX4_mayAsk_0 : cX4_mayAsk.data.toList.drop 0 = dktX4_mayAsk_0 := by decide +kernel
theorem dksX4_mayAsk_1 : cX4_mayAsk.data.toList.drop 22 = dktX4_mayAsk_1 := dk_seg dksX4_mayAsk_0 22 rfl rfl
theorem dX4_mayAsk_0 : decode cX4_mayAsk 0 = .ok (.iload_n 1, 1) := dk_27 (dk_at dksX4_mayAsk_0 0 rfl rfl)
theorem dX4_mayAsk_1 : decode cX4_mayAsk 1 = .ok (.iconst 0, 1) := dk_3 (dk_at dksX4_mayAsk_0 1 rfl rfl)
theorem dX4_mayAsk_2 : decode cX4_mayAsk 2 = .ok (.iconst 4, 1) := dk_7 (dk_at dksX4_mayAsk_0 2 rfl rfl)
theorem dX4_mayAsk_3 : decode cX4_mayAsk 3 = .ok (.invokestatic 139, 3) := dk_184 0 139 (dk_at dksX4_mayAsk_0 3 rfl rfl)
theorem dX4_mayAsk_6 : decode cX4_mayAsk 6 = .ok (.ifCond .eq 23, 3) := dk_153 0 23 (dk_at dksX4_mayAsk_0 6 rfl rfl)
theorem dX4_mayAsk_9 : decode cX4_mayAsk 9 = .ok (.iload_n 2, 1) := dk_28 (dk_at dksX4_mayAsk_0 9 rfl rfl)
theorem dX4_mayAsk_10 : decode cX4_mayAsk 10 = .ok (.invokestatic 258, 3) := dk_184 1 2 (dk_at dksX4_mayAsk_0 10 rfl rfl)
theorem dX4_mayAsk_13 : decode cX4_mayAsk 13 = .ok (.ifCond .eq 16, 3) := dk_153 0 16 (dk_at dksX4_mayAsk_0 13 rfl rfl)
theorem dX4_mayAsk_16 : decode cX4_mayAsk 16 = .ok (.aload_n 0, 1) := dk_42 (dk_at dksX4_mayAsk_0 16 rfl rfl)
theorem dX4_mayAsk_17 : decode cX4_mayAsk 17 = .ok (.getfield 29, 3) := dk_180 0 29 (dk_at dksX4_mayAsk_0 17 rfl rfl)
theorem dX4_mayAsk_20 : decode cX4_mayAsk 20 = .ok (.iconst 0, 1) := dk_3 (dk_at dksX4_mayAsk_0 20 rfl rfl)
theorem dX4_mayAsk_21 : decode cX4_mayAsk 21 = .ok (.iaload, 1) := dk_46 (dk_at dksX4_mayAsk_0 21 rfl rfl)
theorem dX4_mayAsk_22 : decode cX4_mayAsk 22 = .ok (.ifCond .le 7, 3) := dk_158 0 7 (dk_at dksX4_mayAsk_1 0 rfl rfl)
theorem dX4_mayAsk_25 : decode cX4_mayAsk 25 = .ok (.iconst 1, 1) := dk_4 (dk_at dksX4_mayAsk_1 3 rfl rfl)
theorem dX4_mayAsk_26 : decode cX4_mayAsk 26 = .ok (.goto 4, 3) := dk_167 0 4 (dk_at dksX4_mayAsk_1 4 rfl rfl)
theorem dX4_mayAsk_29 : decode cX4_mayAsk 29 = .ok (.iconst 0, 1) := dk_3 (dk_at dksX4_mayAsk_1 7 rfl rfl)
theorem dX4_mayAsk_30 : decode cX4_mayAsk 30 = .ok (.ireturn, 1) := dk_172 (dk_at dksX4_mayAsk_1 8 rfl rfl)
abbrev cX4_answerPermille : ByteArray := prog_16_method_49_code
def yX4_answerPermille : MethodName := ⟨RX4, "answerPermille", "(II)I"⟩
def dkwX4_answerPermille_1 : List UInt8 := [16, 10, 28, 5, 96, 27, 96, 184, 1, 14, 109, 136, 167, 0, 4, 2, 172]
abbrev dktX4_answerPermille_1 : List UInt8 := dkwX4_answerPermille_1 ++ []
def dkwX4_answerPermille_0 : List UInt8 := [42, 3, 181, 0, 1, 42, 27, 28, 182, 1, 21, 153, 0, 28, 42, 27, 28, 182, 1, 18, 20, 1, 24, 105]
abbrev dktX4_answerPermille_0 : List UInt8 := dkwX4_answerPermille_0 ++ dktX4_answerPermille_1
theorem dksX4_answerPermille_0 : cX4_answerPermille.data.toList.drop 0 = dktX4_answerPermille_0 := by decide +kernel
theorem dksX4_answerPermille_1 : cX4_answerPermille.data.toList.drop 24 = dktX4_answerPermille_1 := dk_seg dksX4_answerPermille_0 24 rfl rfl
theorem dX4_answerPermille_0 : decode cX4_answerPermille 0 = .ok (.aload_n 0, 1) := dk_42 (dk_at dksX4_answerPermille_0 0 rfl rfl)
theorem dX4_answerPermille_1 : decode cX4_answerPermille 1 = .ok (.iconst 0, 1) := dk_3 (dk_at dksX4_answerPermille_0 1 rfl rfl)
theorem dX4_answerPermille_2 : decode cX4_answerPermille 2 = .ok (.putfield 1, 3) := dk_181 0 1 (dk_at dksX4_answerPermille_0 2 rfl rfl)
theorem dX4_answerPermille_5 : decode cX4_answerPermille 5 = .ok (.aload_n 0, 1) := dk_42 (dk_at dksX4_answerPermille_0 5 rfl rfl)
theorem dX4_answerPermille_6 : decode cX4_answerPermille 6 = .ok (.iload_n 1, 1) := dk_27 (dk_at dksX4_answerPermille_0 6 rfl rfl)
theorem dX4_answerPermille_7 : decode cX4_answerPermille 7 = .ok (.iload_n 2, 1) := dk_28 (dk_at dksX4_answerPermille_0 7 rfl rfl)
theorem dX4_answerPermille_8 : decode cX4_answerPermille 8 = .ok (.invokevirtual 277, 3) := dk_182 1 21 (dk_at dksX4_answerPermille_0 8 rfl rfl)
theorem dX4_answerPermille_11 : decode cX4_answerPermille 11 = .ok (.ifCond .eq 28, 3) := dk_153 0 28 (dk_at dksX4_answerPermille_0 11 rfl rfl)
theorem dX4_answerPermille_14 : decode cX4_answerPermille 14 = .ok (.aload_n 0, 1) := dk_42 (dk_at dksX4_answerPermille_0 14 rfl rfl)
theorem dX4_answerPermille_15 : decode cX4_answerPermille 15 = .ok (.iload_n 1, 1) := dk_27 (dk_at dksX4_answerPermille_0 15 rfl rfl)
theorem dX4_answerPermille_16 : decode cX4_answerPermille 16 = .ok (.iload_n 2, 1) := dk_28 (dk_at dksX4_answerPermille_0 16 rfl rfl)
theorem dX4_answerPermille_17 : decode cX4_answerPermille 17 = .ok (.invokevirtual 274, 3) := dk_182 1 18 (dk_at dksX4_answerPermille_0 17 rfl rfl)
theorem dX4_answerPermille_20 : decode cX4_answerPermille 20 = .ok (.ldc2_w 280, 3) := dk_20 1 24 (dk_at dksX4_answerPermille_0 20 rfl rfl)
theorem dX4_answerPermille_23 : decode cX4_answerPermille 23 = .ok (.lmul, 1) := dk_105 (dk_at dksX4_answerPermille_0 23 rfl rfl)
theorem dX4_answerPermille_24 : decode cX4_answerPermille 24 = .ok (.bipush 10, 2) := dk_16 10 (dk_at dksX4_answerPermille_1 0 rfl rfl)
theorem dX4_answerPermille_26 : decode cX4_answerPermille 26 = .ok (.iload_n 2, 1) := dk_28 (dk_at dksX4_answerPermille_1 2 rfl rfl)
theorem dX4_answerPermille_27 : decode cX4_answerPermille 27 = .ok (.iconst 2, 1) := dk_5 (dk_at dksX4_answerPermille_1 3 rfl rfl)
theorem dX4_answerPermille_28 : decode cX4_answerPermille 28 = .ok (.iadd, 1) := dk_96 (dk_at dksX4_answerPermille_1 4 rfl rfl)
theorem dX4_answerPermille_29 : decode cX4_answerPermille 29 = .ok (.iload_n 1, 1) := dk_27 (dk_at dksX4_answerPermille_1 5 rfl rfl)
theorem dX4_answerPermille_30 : decode cX4_answerPermille 30 = .ok (.iadd, 1) := dk_96 (dk_at dksX4_answerPermille_1 6 rfl rfl)
theorem dX4_answerPermille_31 : decode cX4_answerPermille 31 = .ok (.invokestatic 270, 3) := dk_184 1 14 (dk_at dksX4_answerPermille_1 7 rfl rfl)
theorem dX4_answerPermille_34 : decode cX4_answerPermille 34 = .ok (.ldiv, 1) := dk_109 (dk_at dksX4_answerPermille_1 10 rfl rfl)
theorem dX4_answerPermille_35 : decode cX4_answerPermille 35 = .ok (.l2i, 1) := dk_136 (dk_at dksX4_answerPermille_1 11 rfl rfl)
theorem dX4_answerPermille_36 : decode cX4_answerPermille 36 = .ok (.goto 4, 3) := dk_167 0 4 (dk_at dksX4_answerPermille_1 12 rfl rfl)
theorem dX4_answerPermille_39 : decode cX4_answerPermille 39 = .ok (.iconst (-1), 1) := dk_2 (dk_at dksX4_answerPermille_1 15 rfl rfl)
theorem dX4_answerPermille_40 : decode cX4_answerPermille 40 = .ok (.ireturn, 1) := dk_172 (dk_at dksX4_answerPermille_1 16 rfl rfl)
abbrev cX4_bestDay : ByteArray := prog_16_method_51_code
def yX4_bestDay : MethodName := ⟨RX4, "bestDay", "(I)I"⟩
def dkwX4_bestDay_2 : List UInt8 := [158, 0, 9, 21, 5, 61, 22, 6, 66, 132, 5, 1, 167, 255, 224, 28, 172]
abbrev dktX4_bestDay_2 : List UInt8 := dkwX4_bestDay_2 ++ []
def dkwX4_bestDay_1 : List UInt8 := [54, 5, 21, 5, 16, 8, 163, 0, 31, 42, 27, 21, 5, 182, 1, 26, 55, 6, 22, 6, 33, 148]
abbrev dktX4_bestDay_1 : List UInt8 := dkwX4_bestDay_1 ++ dktX4_bestDay_2
def dkwX4_bestDay_0 : List UInt8 := [42, 3, 181, 0, 1, 42, 27, 3, 182, 1, 21, 154, 0, 5, 2, 172, 3, 61, 20, 1, 5, 66, 3]
abbrev dktX4_bestDay_0 : List UInt8 := dkwX4_bestDay_0 ++ dktX4_bestDay_1
theorem dksX4_bestDay_0 : cX4_bestDay.data.toList.drop 0 = dktX4_bestDay_0 := by decide +kernel
theorem dksX4_bestDay_1 : cX4_bestDay.data.toList.drop 23 = dktX4_bestDay_1 := dk_seg dksX4_bestDay_0 23 rfl rfl
theorem dksX4_bestDay_2 : cX4_bestDay.data.toList.drop 45 = dktX4_bestDay_2 := dk_seg dksX4_bestDay_1 22 rfl rfl
theorem dX4_bestDay_0 : decode cX4_bestDay 0 = .ok (.aload_n 0, 1) := dk_42 (dk_at dksX4_bestDay_0 0 rfl rfl)
theorem dX4_bestDay_1 : decode cX4_bestDay 1 = .ok (.iconst 0, 1) := dk_3 (dk_at dksX4_bestDay_0 1 rfl rfl)
theorem dX4_bestDay_2 : decode cX4_bestDay 2 = .ok (.putfield 1, 3) := dk_181 0 1 (dk_at dksX4_bestDay_0 2 rfl rfl)
theorem dX4_bestDay_5 : decode cX4_bestDay 5 = .ok (.aload_n 0, 1) := dk_42 (dk_at dksX4_bestDay_0 5 rfl rfl)
theorem dX4_bestDay_6 : decode cX4_bestDay 6 = .ok (.iload_n 1, 1) := dk_27 (dk_at dksX4_bestDay_0 6 rfl rfl)
theorem dX4_bestDay_7 : decode cX4_bestDay 7 = .ok (.iconst 0, 1) := dk_3 (dk_at dksX4_bestDay_0 7 rfl rfl)
theorem dX4_bestDay_8 : decode cX4_bestDay 8 = .ok (.invokevirtual 277, 3) := dk_182 1 21 (dk_at dksX4_bestDay_0 8 rfl rfl)
theorem dX4_bestDay_11 : decode cX4_bestDay 11 = .ok (.ifCond .ne 5, 3) := dk_154 0 5 (dk_at dksX4_bestDay_0 11 rfl rfl)
theorem dX4_bestDay_14 : decode cX4_bestDay 14 = .ok (.iconst (-1), 1) := dk_2 (dk_at dksX4_bestDay_0 14 rfl rfl)
theorem dX4_bestDay_15 : decode cX4_bestDay 15 = .ok (.ireturn, 1) := dk_172 (dk_at dksX4_bestDay_0 15 rfl rfl)
theorem dX4_bestDay_16 : decode cX4_bestDay 16 = .ok (.iconst 0, 1) := dk_3 (dk_at dksX4_bestDay_0 16 rfl rfl)
theorem dX4_bestDay_17 : decode cX4_bestDay 17 = .ok (.istore_n 2, 1) := dk_61 (dk_at dksX4_bestDay_0 17 rfl rfl)
theorem dX4_bestDay_18 : decode cX4_bestDay 18 = .ok (.ldc2_w 261, 3) := dk_20 1 5 (dk_at dksX4_bestDay_0 18 rfl rfl)
theorem dX4_bestDay_21 : decode cX4_bestDay 21 = .ok (.lstore_n 3, 1) := dk_66 (dk_at dksX4_bestDay_0 21 rfl rfl)
theorem dX4_bestDay_22 : decode cX4_bestDay 22 = .ok (.iconst 0, 1) := dk_3 (dk_at dksX4_bestDay_0 22 rfl rfl)
theorem dX4_bestDay_23 : decode cX4_bestDay 23 = .ok (.istore 5, 2) := dk_54 5 (dk_at dksX4_bestDay_1 0 rfl rfl)
theorem dX4_bestDay_25 : decode cX4_bestDay 25 = .ok (.iload 5, 2) := dk_21 5 (dk_at dksX4_bestDay_1 2 rfl rfl)
theorem dX4_bestDay_27 : decode cX4_bestDay 27 = .ok (.bipush 8, 2) := dk_16 8 (dk_at dksX4_bestDay_1 4 rfl rfl)
theorem dX4_bestDay_29 : decode cX4_bestDay 29 = .ok (.if_icmp .gt 31, 3) := dk_163 0 31 (dk_at dksX4_bestDay_1 6 rfl rfl)
theorem dX4_bestDay_32 : decode cX4_bestDay 32 = .ok (.aload_n 0, 1) := dk_42 (dk_at dksX4_bestDay_1 9 rfl rfl)
theorem dX4_bestDay_33 : decode cX4_bestDay 33 = .ok (.iload_n 1, 1) := dk_27 (dk_at dksX4_bestDay_1 10 rfl rfl)
theorem dX4_bestDay_34 : decode cX4_bestDay 34 = .ok (.iload 5, 2) := dk_21 5 (dk_at dksX4_bestDay_1 11 rfl rfl)
theorem dX4_bestDay_36 : decode cX4_bestDay 36 = .ok (.invokevirtual 282, 3) := dk_182 1 26 (dk_at dksX4_bestDay_1 13 rfl rfl)
theorem dX4_bestDay_39 : decode cX4_bestDay 39 = .ok (.lstore 6, 2) := dk_55 6 (dk_at dksX4_bestDay_1 16 rfl rfl)
theorem dX4_bestDay_41 : decode cX4_bestDay 41 = .ok (.lload 6, 2) := dk_22 6 (dk_at dksX4_bestDay_1 18 rfl rfl)
theorem dX4_bestDay_43 : decode cX4_bestDay 43 = .ok (.lload_n 3, 1) := dk_33 (dk_at dksX4_bestDay_1 20 rfl rfl)
theorem dX4_bestDay_44 : decode cX4_bestDay 44 = .ok (.lcmp, 1) := dk_148 (dk_at dksX4_bestDay_1 21 rfl rfl)
theorem dX4_bestDay_45 : decode cX4_bestDay 45 = .ok (.ifCond .le 9, 3) := dk_158 0 9 (dk_at dksX4_bestDay_2 0 rfl rfl)
theorem dX4_bestDay_48 : decode cX4_bestDay 48 = .ok (.iload 5, 2) := dk_21 5 (dk_at dksX4_bestDay_2 3 rfl rfl)
theorem dX4_bestDay_50 : decode cX4_bestDay 50 = .ok (.istore_n 2, 1) := dk_61 (dk_at dksX4_bestDay_2 5 rfl rfl)
theorem dX4_bestDay_51 : decode cX4_bestDay 51 = .ok (.lload 6, 2) := dk_22 6 (dk_at dksX4_bestDay_2 6 rfl rfl)
theorem dX4_bestDay_53 : decode cX4_bestDay 53 = .ok (.lstore_n 3, 1) := dk_66 (dk_at dksX4_bestDay_2 8 rfl rfl)
theorem dX4_bestDay_54 : decode cX4_bestDay 54 = .ok (.iinc 5 1, 3) := dk_132 5 1 (dk_at dksX4_bestDay_2 9 rfl rfl)
theorem dX4_bestDay_57 : decode cX4_bestDay 57 = .ok (.goto (-32), 3) := dk_167 255 224 (dk_at dksX4_bestDay_2 12 rfl rfl)
theorem dX4_bestDay_60 : decode cX4_bestDay 60 = .ok (.iload_n 2, 1) := dk_28 (dk_at dksX4_bestDay_2 15 rfl rfl)
theorem dX4_bestDay_61 : decode cX4_bestDay 61 = .ok (.ireturn, 1) := dk_172 (dk_at dksX4_bestDay_2 16 rfl rfl)
abbrev cX4_evenChance : ByteArray := prog_16_method_50_code
def yX4_evenChance : MethodName := ⟨RX4, "evenChance", "(II)J"⟩
def dkwX4_evenChance_0 : List UInt8 := [42, 27, 28, 182, 1, 18, 16, 10, 16, 12, 28, 100, 27, 100, 184, 1, 14, 105, 173]
abbrev dktX4_evenChance_0 : List UInt8 := dkwX4_evenChance_0 ++ []
theorem dksX4_evenChance_0 : cX4_evenChance.data.toList.drop 0 = dktX4_evenChance_0 := by decide +kernel
theorem dX4_evenChance_0 : decode cX4_evenChance 0 = .ok (.aload_n 0, 1) := dk_42 (dk_at dksX4_evenChance_0 0 rfl rfl)
theorem dX4_evenChance_1 : decode cX4_evenChance 1 = .ok (.iload_n 1, 1) := dk_27 (dk_at dksX4_evenChance_0 1 rfl rfl)
theorem dX4_evenChance_2 : decode cX4_evenChance 2 = .ok (.iload_n 2, 1) := dk_28 (dk_at dksX4_evenChance_0 2 rfl rfl)
theorem dX4_evenChance_3 : decode cX4_evenChance 3 = .ok (.invokevirtual 274, 3) := dk_182 1 18 (dk_at dksX4_evenChance_0 3 rfl rfl)
theorem dX4_evenChance_6 : decode cX4_evenChance 6 = .ok (.bipush 10, 2) := dk_16 10 (dk_at dksX4_evenChance_0 6 rfl rfl)
theorem dX4_evenChance_8 : decode cX4_evenChance 8 = .ok (.bipush 12, 2) := dk_16 12 (dk_at dksX4_evenChance_0 8 rfl rfl)
theorem dX4_evenChance_10 : decode cX4_evenChance 10 = .ok (.iload_n 2, 1) := dk_28 (dk_at dksX4_evenChance_0 10 rfl rfl)
theorem dX4_evenChance_11 : decode cX4_evenChance 11 = .ok (.isub, 1) := dk_100 (dk_at dksX4_evenChance_0 11 rfl rfl)
theorem dX4_evenChance_12 : decode cX4_evenChance 12 = .ok (.iload_n 1, 1) := dk_27 (dk_at dksX4_evenChance_0 12 rfl rfl)
theorem dX4_evenChance_13 : decode cX4_evenChance 13 = .ok (.isub, 1) := dk_100 (dk_at dksX4_evenChance_0 13 rfl rfl)
theorem dX4_evenChance_14 : decode cX4_evenChance 14 = .ok (.invokestatic 270, 3) := dk_184 1 14 (dk_at dksX4_evenChance_0 14 rfl rfl)
theorem dX4_evenChance_17 : decode cX4_evenChance 17 = .ok (.lmul, 1) := dk_105 (dk_at dksX4_evenChance_0 17 rfl rfl)
theorem dX4_evenChance_18 : decode cX4_evenChance 18 = .ok (.lreturn, 1) := dk_173 (dk_at dksX4_evenChance_0 18 rfl rfl)
abbrev cX4_assignmentTotal : ByteArray := prog_16_method_54_code
def yX4_assignmentTotal : MethodName := ⟨RX4, "assignmentTotal", "()J"⟩
def dkwX4_assignmentTotal_1 : List UInt8 := [180, 0, 85, 17, 1, 255, 47, 173]
abbrev dktX4_assignmentTotal_1 : List UInt8 := dkwX4_assignmentTotal_1 ++ []
def dkwX4_assignmentTotal_0 : List UInt8 := [42, 3, 181, 0, 1, 42, 180, 0, 29, 3, 46, 154, 0, 7, 20, 1, 5, 173, 42, 182, 1, 32, 42]
abbrev dktX4_assignmentTotal_0 : List UInt8 := dkwX4_assignmentTotal_0 ++ dktX4_assignmentTotal_1
theorem dksX4_assignmentTotal_0 : cX4_assignmentTotal.data.toList.drop 0 = dktX4_assignmentTotal_0 := by decide +kernel
theorem dksX4_assignmentTotal_1 : cX4_assignmentTotal.data.toList.drop 23 = dktX4_assignmentTotal_1 := dk_seg dksX4_assignmentTotal_0 23 rfl rfl
theorem dX4_assignmentTotal_0 : decode cX4_assignmentTotal 0 = .ok (.aload_n 0, 1) := dk_42 (dk_at dksX4_assignmentTotal_0 0 rfl rfl)
theorem dX4_assignmentTotal_1 : decode cX4_assignmentTotal 1 = .ok (.iconst 0, 1) := dk_3 (dk_at dksX4_assignmentTotal_0 1 rfl rfl)
theorem dX4_assignmentTotal_2 : decode cX4_assignmentTotal 2 = .ok (.putfield 1, 3) := dk_181 0 1 (dk_at dksX4_assignmentTotal_0 2 rfl rfl)
theorem dX4_assignmentTotal_5 : decode cX4_assignmentTotal 5 = .ok (.aload_n 0, 1) := dk_42 (dk_at dksX4_assignmentTotal_0 5 rfl rfl)
theorem dX4_assignmentTotal_6 : decode cX4_assignmentTotal 6 = .ok (.getfield 29, 3) := dk_180 0 29 (dk_at dksX4_assignmentTotal_0 6 rfl rfl)
theorem dX4_assignmentTotal_9 : decode cX4_assignmentTotal 9 = .ok (.iconst 0, 1) := dk_3 (dk_at dksX4_assignmentTotal_0 9 rfl rfl)
theorem dX4_assignmentTotal_10 : decode cX4_assignmentTotal 10 = .ok (.iaload, 1) := dk_46 (dk_at dksX4_assignmentTotal_0 10 rfl rfl)
theorem dX4_assignmentTotal_11 : decode cX4_assignmentTotal 11 = .ok (.ifCond .ne 7, 3) := dk_154 0 7 (dk_at dksX4_assignmentTotal_0 11 rfl rfl)
theorem dX4_assignmentTotal_14 : decode cX4_assignmentTotal 14 = .ok (.ldc2_w 261, 3) := dk_20 1 5 (dk_at dksX4_assignmentTotal_0 14 rfl rfl)
theorem dX4_assignmentTotal_17 : decode cX4_assignmentTotal 17 = .ok (.lreturn, 1) := dk_173 (dk_at dksX4_assignmentTotal_0 17 rfl rfl)
theorem dX4_assignmentTotal_18 : decode cX4_assignmentTotal 18 = .ok (.aload_n 0, 1) := dk_42 (dk_at dksX4_assignmentTotal_0 18 rfl rfl)
theorem dX4_assignmentTotal_19 : decode cX4_assignmentTotal 19 = .ok (.invokevirtual 288, 3) := dk_182 1 32 (dk_at dksX4_assignmentTotal_0 19 rfl rfl)
theorem dX4_assignmentTotal_22 : decode cX4_assignmentTotal 22 = .ok (.aload_n 0, 1) := dk_42 (dk_at dksX4_assignmentTotal_0 22 rfl rfl)
theorem dX4_assignmentTotal_23 : decode cX4_assignmentTotal 23 = .ok (.getfield 85, 3) := dk_180 0 85 (dk_at dksX4_assignmentTotal_1 0 rfl rfl)
theorem dX4_assignmentTotal_26 : decode cX4_assignmentTotal 26 = .ok (.sipush 511, 3) := dk_17 1 255 (dk_at dksX4_assignmentTotal_1 3 rfl rfl)
theorem dX4_assignmentTotal_29 : decode cX4_assignmentTotal 29 = .ok (.laload, 1) := dk_47 (dk_at dksX4_assignmentTotal_1 6 rfl rfl)
theorem dX4_assignmentTotal_30 : decode cX4_assignmentTotal 30 = .ok (.lreturn, 1) := dk_173 (dk_at dksX4_assignmentTotal_1 7 rfl rfl)
abbrev cX4_laysTotals : ByteArray := prog_16_method_52_code
def yX4_laysTotals : MethodName := ⟨RX4, "laysTotals", "()V"⟩
def dkwX4_laysTotals_6 : List UInt8 := [132, 1, 255, 167, 255, 216, 177]
abbrev dktX4_laysTotals_6 : List UInt8 := dkwX4_laysTotals_6 ++ []
def dkwX4_laysTotals_5 : List UInt8 := [180, 0, 85, 17, 2, 0, 27, 104, 28, 96, 42, 27, 28, 182, 1, 29, 80, 132, 2, 1, 167, 255, 228]
abbrev dktX4_laysTotals_5 : List UInt8 := dkwX4_laysTotals_5 ++ dktX4_laysTotals_6
def dkwX4_laysTotals_4 : List UInt8 := [180, 0, 53, 3, 46, 4, 100, 60, 27, 155, 0, 42, 3, 61, 28, 17, 2, 0, 162, 0, 27, 42]
abbrev dktX4_laysTotals_4 : List UInt8 := dkwX4_laysTotals_4 ++ dktX4_laysTotals_5
def dkwX4_laysTotals_3 : List UInt8 := [180, 0, 85, 17, 2, 0, 42, 180, 0, 53, 3, 46, 104, 27, 96, 9, 80, 132, 1, 1, 167, 255, 228, 42]
abbrev dktX4_laysTotals_3 : List UInt8 := dkwX4_laysTotals_3 ++ dktX4_laysTotals_4
def dkwX4_laysTotals_2 : List UInt8 := [105, 80, 132, 2, 1, 167, 255, 217, 132, 1, 1, 167, 255, 199, 3, 60, 27, 17, 2, 0, 162, 0, 27, 42]
abbrev dktX4_laysTotals_2 : List UInt8 := dkwX4_laysTotals_2 ++ dktX4_laysTotals_3
def dkwX4_laysTotals_1 : List UInt8 := [16, 9, 27, 104, 28, 96, 42, 180, 0, 56, 27, 46, 133, 42, 42, 180, 0, 59, 27, 46, 28, 182, 1, 26]
abbrev dktX4_laysTotals_1 : List UInt8 := dkwX4_laysTotals_1 ++ dktX4_laysTotals_2
def dkwX4_laysTotals_0 : List UInt8 := [3, 60, 27, 42, 180, 0, 53, 3, 46, 162, 0, 53, 3, 61, 28, 16, 9, 162, 0, 39, 42, 180, 0, 88]
abbrev dktX4_laysTotals_0 : List UInt8 := dkwX4_laysTotals_0 ++ dktX4_laysTotals_1
theorem dksX4_laysTotals_0 : cX4_laysTotals.data.toList.drop 0 = dktX4_laysTotals_0 := by decide +kernel
theorem dksX4_laysTotals_1 : cX4_laysTotals.data.toList.drop 24 = dktX4_laysTotals_1 := dk_seg dksX4_laysTotals_0 24 rfl rfl
theorem dksX4_laysTotals_2 : cX4_laysTotals.data.toList.drop 48 = dktX4_laysTotals_2 := dk_seg dksX4_laysTotals_1 24 rfl rfl
theorem dksX4_laysTotals_3 : cX4_laysTotals.data.toList.drop 72 = dktX4_laysTotals_3 := dk_seg dksX4_laysTotals_2 24 rfl rfl
theorem dksX4_laysTotals_4 : cX4_laysTotals.data.toList.drop 96 = dktX4_laysTotals_4 := dk_seg dksX4_laysTotals_3 24 rfl rfl
theorem dksX4_laysTotals_5 : cX4_laysTotals.data.toList.drop 118 = dktX4_laysTotals_5 := dk_seg dksX4_laysTotals_4 22 rfl rfl
theorem dksX4_laysTotals_6 : cX4_laysTotals.data.toList.drop 141 = dktX4_laysTotals_6 := dk_seg dksX4_laysTotals_5 23 rfl rfl
theorem dX4_laysTotals_0 : decode cX4_laysTotals 0 = .ok (.iconst 0, 1) := dk_3 (dk_at dksX4_laysTotals_0 0 rfl rfl)
theorem dX4_laysTotals_1 : decode cX4_laysTotals 1 = .ok (.istore_n 1, 1) := dk_60 (dk_at dksX4_laysTotals_0 1 rfl rfl)
theorem dX4_laysTotals_2 : decode cX4_laysTotals 2 = .ok (.iload_n 1, 1) := dk_27 (dk_at dksX4_laysTotals_0 2 rfl rfl)
theorem dX4_laysTotals_3 : decode cX4_laysTotals 3 = .ok (.aload_n 0, 1) := dk_42 (dk_at dksX4_laysTotals_0 3 rfl rfl)
theorem dX4_laysTotals_4 : decode cX4_laysTotals 4 = .ok (.getfield 53, 3) := dk_180 0 53 (dk_at dksX4_laysTotals_0 4 rfl rfl)
theorem dX4_laysTotals_7 : decode cX4_laysTotals 7 = .ok (.iconst 0, 1) := dk_3 (dk_at dksX4_laysTotals_0 7 rfl rfl)
theorem dX4_laysTotals_8 : decode cX4_laysTotals 8 = .ok (.iaload, 1) := dk_46 (dk_at dksX4_laysTotals_0 8 rfl rfl)
theorem dX4_laysTotals_9 : decode cX4_laysTotals 9 = .ok (.if_icmp .ge 53, 3) := dk_162 0 53 (dk_at dksX4_laysTotals_0 9 rfl rfl)
theorem dX4_laysTotals_12 : decode cX4_laysTotals 12 = .ok (.iconst 0, 1) := dk_3 (dk_at dksX4_laysTotals_0 12 rfl rfl)
theorem dX4_laysTotals_13 : decode cX4_laysTotals 13 = .ok (.istore_n 2, 1) := dk_61 (dk_at dksX4_laysTotals_0 13 rfl rfl)
theorem dX4_laysTotals_14 : decode cX4_laysTotals 14 = .ok (.iload_n 2, 1) := dk_28 (dk_at dksX4_laysTotals_0 14 rfl rfl)
theorem dX4_laysTotals_15 : decode cX4_laysTotals 15 = .ok (.bipush 9, 2) := dk_16 9 (dk_at dksX4_laysTotals_0 15 rfl rfl)
theorem dX4_laysTotals_17 : decode cX4_laysTotals 17 = .ok (.if_icmp .ge 39, 3) := dk_162 0 39 (dk_at dksX4_laysTotals_0 17 rfl rfl)
theorem dX4_laysTotals_20 : decode cX4_laysTotals 20 = .ok (.aload_n 0, 1) := dk_42 (dk_at dksX4_laysTotals_0 20 rfl rfl)
theorem dX4_laysTotals_21 : decode cX4_laysTotals 21 = .ok (.getfield 88, 3) := dk_180 0 88 (dk_at dksX4_laysTotals_0 21 rfl rfl)
theorem dX4_laysTotals_24 : decode cX4_laysTotals 24 = .ok (.bipush 9, 2) := dk_16 9 (dk_at dksX4_laysTotals_1 0 rfl rfl)
theorem dX4_laysTotals_26 : decode cX4_laysTotals 26 = .ok (.iload_n 1, 1) := dk_27 (dk_at dksX4_laysTotals_1 2 rfl rfl)
theorem dX4_laysTotals_27 : decode cX4_laysTotals 27 = .ok (.imul, 1) := dk_104 (dk_at dksX4_laysTotals_1 3 rfl rfl)
theorem dX4_laysTotals_28 : decode cX4_laysTotals 28 = .ok (.iload_n 2, 1) := dk_28 (dk_at dksX4_laysTotals_1 4 rfl rfl)
theorem dX4_laysTotals_29 : decode cX4_laysTotals 29 = .ok (.iadd, 1) := dk_96 (dk_at dksX4_laysTotals_1 5 rfl rfl)
theorem dX4_laysTotals_30 : decode cX4_laysTotals 30 = .ok (.aload_n 0, 1) := dk_42 (dk_at dksX4_laysTotals_1 6 rfl rfl)
theorem dX4_laysTotals_31 : decode cX4_laysTotals 31 = .ok (.getfield 56, 3) := dk_180 0 56 (dk_at dksX4_laysTotals_1 7 rfl rfl)
theorem dX4_laysTotals_34 : decode cX4_laysTotals 34 = .ok (.iload_n 1, 1) := dk_27 (dk_at dksX4_laysTotals_1 10 rfl rfl)
theorem dX4_laysTotals_35 : decode cX4_laysTotals 35 = .ok (.iaload, 1) := dk_46 (dk_at dksX4_laysTotals_1 11 rfl rfl)
theorem dX4_laysTotals_36 : decode cX4_laysTotals 36 = .ok (.i2l, 1) := dk_133 (dk_at dksX4_laysTotals_1 12 rfl rfl)
theorem dX4_laysTotals_37 : decode cX4_laysTotals 37 = .ok (.aload_n 0, 1) := dk_42 (dk_at dksX4_laysTotals_1 13 rfl rfl)
theorem dX4_laysTotals_38 : decode cX4_laysTotals 38 = .ok (.aload_n 0, 1) := dk_42 (dk_at dksX4_laysTotals_1 14 rfl rfl)
theorem dX4_laysTotals_39 : decode cX4_laysTotals 39 = .ok (.getfield 59, 3) := dk_180 0 59 (dk_at dksX4_laysTotals_1 15 rfl rfl)
theorem dX4_laysTotals_42 : decode cX4_laysTotals 42 = .ok (.iload_n 1, 1) := dk_27 (dk_at dksX4_laysTotals_1 18 rfl rfl)
theorem dX4_laysTotals_43 : decode cX4_laysTotals 43 = .ok (.iaload, 1) := dk_46 (dk_at dksX4_laysTotals_1 19 rfl rfl)
theorem dX4_laysTotals_44 : decode cX4_laysTotals 44 = .ok (.iload_n 2, 1) := dk_28 (dk_at dksX4_laysTotals_1 20 rfl rfl)
theorem dX4_laysTotals_45 : decode cX4_laysTotals 45 = .ok (.invokevirtual 282, 3) := dk_182 1 26 (dk_at dksX4_laysTotals_1 21 rfl rfl)
theorem dX4_laysTotals_48 : decode cX4_laysTotals 48 = .ok (.lmul, 1) := dk_105 (dk_at dksX4_laysTotals_2 0 rfl rfl)
theorem dX4_laysTotals_49 : decode cX4_laysTotals 49 = .ok (.lastore, 1) := dk_80 (dk_at dksX4_laysTotals_2 1 rfl rfl)
theorem dX4_laysTotals_50 : decode cX4_laysTotals 50 = .ok (.iinc 2 1, 3) := dk_132 2 1 (dk_at dksX4_laysTotals_2 2 rfl rfl)
theorem dX4_laysTotals_53 : decode cX4_laysTotals 53 = .ok (.goto (-39), 3) := dk_167 255 217 (dk_at dksX4_laysTotals_2 5 rfl rfl)
theorem dX4_laysTotals_56 : decode cX4_laysTotals 56 = .ok (.iinc 1 1, 3) := dk_132 1 1 (dk_at dksX4_laysTotals_2 8 rfl rfl)
theorem dX4_laysTotals_59 : decode cX4_laysTotals 59 = .ok (.goto (-57), 3) := dk_167 255 199 (dk_at dksX4_laysTotals_2 11 rfl rfl)
theorem dX4_laysTotals_62 : decode cX4_laysTotals 62 = .ok (.iconst 0, 1) := dk_3 (dk_at dksX4_laysTotals_2 14 rfl rfl)
theorem dX4_laysTotals_63 : decode cX4_laysTotals 63 = .ok (.istore_n 1, 1) := dk_60 (dk_at dksX4_laysTotals_2 15 rfl rfl)
theorem dX4_laysTotals_64 : decode cX4_laysTotals 64 = .ok (.iload_n 1, 1) := dk_27 (dk_at dksX4_laysTotals_2 16 rfl rfl)
theorem dX4_laysTotals_65 : decode cX4_laysTotals 65 = .ok (.sipush 512, 3) := dk_17 2 0 (dk_at dksX4_laysTotals_2 17 rfl rfl)
theorem dX4_laysTotals_68 : decode cX4_laysTotals 68 = .ok (.if_icmp .ge 27, 3) := dk_162 0 27 (dk_at dksX4_laysTotals_2 20 rfl rfl)
theorem dX4_laysTotals_71 : decode cX4_laysTotals 71 = .ok (.aload_n 0, 1) := dk_42 (dk_at dksX4_laysTotals_2 23 rfl rfl)
theorem dX4_laysTotals_72 : decode cX4_laysTotals 72 = .ok (.getfield 85, 3) := dk_180 0 85 (dk_at dksX4_laysTotals_3 0 rfl rfl)
theorem dX4_laysTotals_75 : decode cX4_laysTotals 75 = .ok (.sipush 512, 3) := dk_17 2 0 (dk_at dksX4_laysTotals_3 3 rfl rfl)
theorem dX4_laysTotals_78 : decode cX4_laysTotals 78 = .ok (.aload_n 0, 1) := dk_42 (dk_at dksX4_laysTotals_3 6 rfl rfl)
theorem dX4_laysTotals_79 : decode cX4_laysTotals 79 = .ok (.getfield 53, 3) := dk_180 0 53 (dk_at dksX4_laysTotals_3 7 rfl rfl)
theorem dX4_laysTotals_82 : decode cX4_laysTotals 82 = .ok (.iconst 0, 1) := dk_3 (dk_at dksX4_laysTotals_3 10 rfl rfl)
theorem dX4_laysTotals_83 : decode cX4_laysTotals 83 = .ok (.iaload, 1) := dk_46 (dk_at dksX4_laysTotals_3 11 rfl rfl)
theorem dX4_laysTotals_84 : decode cX4_laysTotals 84 = .ok (.imul, 1) := dk_104 (dk_at dksX4_laysTotals_3 12 rfl rfl)
theorem dX4_laysTotals_85 : decode cX4_laysTotals 85 = .ok (.iload_n 1, 1) := dk_27 (dk_at dksX4_laysTotals_3 13 rfl rfl)
theorem dX4_laysTotals_86 : decode cX4_laysTotals 86 = .ok (.iadd, 1) := dk_96 (dk_at dksX4_laysTotals_3 14 rfl rfl)
theorem dX4_laysTotals_87 : decode cX4_laysTotals 87 = .ok (.lconst 0, 1) := dk_9 (dk_at dksX4_laysTotals_3 15 rfl rfl)
theorem dX4_laysTotals_88 : decode cX4_laysTotals 88 = .ok (.lastore, 1) := dk_80 (dk_at dksX4_laysTotals_3 16 rfl rfl)
theorem dX4_laysTotals_89 : decode cX4_laysTotals 89 = .ok (.iinc 1 1, 3) := dk_132 1 1 (dk_at dksX4_laysTotals_3 17 rfl rfl)
theorem dX4_laysTotals_92 : decode cX4_laysTotals 92 = .ok (.goto (-28), 3) := dk_167 255 228 (dk_at dksX4_laysTotals_3 20 rfl rfl)
theorem dX4_laysTotals_95 : decode cX4_laysTotals 95 = .ok (.aload_n 0, 1) := dk_42 (dk_at dksX4_laysTotals_3 23 rfl rfl)
theorem dX4_laysTotals_96 : decode cX4_laysTotals 96 = .ok (.getfield 53, 3) := dk_180 0 53 (dk_at dksX4_laysTotals_4 0 rfl rfl)
theorem dX4_laysTotals_99 : decode cX4_laysTotals 99 = .ok (.iconst 0, 1) := dk_3 (dk_at dksX4_laysTotals_4 3 rfl rfl)
theorem dX4_laysTotals_100 : decode cX4_laysTotals 100 = .ok (.iaload, 1) := dk_46 (dk_at dksX4_laysTotals_4 4 rfl rfl)
theorem dX4_laysTotals_101 : decode cX4_laysTotals 101 = .ok (.iconst 1, 1) := dk_4 (dk_at dksX4_laysTotals_4 5 rfl rfl)
theorem dX4_laysTotals_102 : decode cX4_laysTotals 102 = .ok (.isub, 1) := dk_100 (dk_at dksX4_laysTotals_4 6 rfl rfl)
theorem dX4_laysTotals_103 : decode cX4_laysTotals 103 = .ok (.istore_n 1, 1) := dk_60 (dk_at dksX4_laysTotals_4 7 rfl rfl)
theorem dX4_laysTotals_104 : decode cX4_laysTotals 104 = .ok (.iload_n 1, 1) := dk_27 (dk_at dksX4_laysTotals_4 8 rfl rfl)
theorem dX4_laysTotals_105 : decode cX4_laysTotals 105 = .ok (.ifCond .lt 42, 3) := dk_155 0 42 (dk_at dksX4_laysTotals_4 9 rfl rfl)
theorem dX4_laysTotals_108 : decode cX4_laysTotals 108 = .ok (.iconst 0, 1) := dk_3 (dk_at dksX4_laysTotals_4 12 rfl rfl)
theorem dX4_laysTotals_109 : decode cX4_laysTotals 109 = .ok (.istore_n 2, 1) := dk_61 (dk_at dksX4_laysTotals_4 13 rfl rfl)
theorem dX4_laysTotals_110 : decode cX4_laysTotals 110 = .ok (.iload_n 2, 1) := dk_28 (dk_at dksX4_laysTotals_4 14 rfl rfl)
theorem dX4_laysTotals_111 : decode cX4_laysTotals 111 = .ok (.sipush 512, 3) := dk_17 2 0 (dk_at dksX4_laysTotals_4 15 rfl rfl)
theorem dX4_laysTotals_114 : decode cX4_laysTotals 114 = .ok (.if_icmp .ge 27, 3) := dk_162 0 27 (dk_at dksX4_laysTotals_4 18 rfl rfl)
theorem dX4_laysTotals_117 : decode cX4_laysTotals 117 = .ok (.aload_n 0, 1) := dk_42 (dk_at dksX4_laysTotals_4 21 rfl rfl)
theorem dX4_laysTotals_118 : decode cX4_laysTotals 118 = .ok (.getfield 85, 3) := dk_180 0 85 (dk_at dksX4_laysTotals_5 0 rfl rfl)
theorem dX4_laysTotals_121 : decode cX4_laysTotals 121 = .ok (.sipush 512, 3) := dk_17 2 0 (dk_at dksX4_laysTotals_5 3 rfl rfl)
theorem dX4_laysTotals_124 : decode cX4_laysTotals 124 = .ok (.iload_n 1, 1) := dk_27 (dk_at dksX4_laysTotals_5 6 rfl rfl)
theorem dX4_laysTotals_125 : decode cX4_laysTotals 125 = .ok (.imul, 1) := dk_104 (dk_at dksX4_laysTotals_5 7 rfl rfl)
theorem dX4_laysTotals_126 : decode cX4_laysTotals 126 = .ok (.iload_n 2, 1) := dk_28 (dk_at dksX4_laysTotals_5 8 rfl rfl)
theorem dX4_laysTotals_127 : decode cX4_laysTotals 127 = .ok (.iadd, 1) := dk_96 (dk_at dksX4_laysTotals_5 9 rfl rfl)
theorem dX4_laysTotals_128 : decode cX4_laysTotals 128 = .ok (.aload_n 0, 1) := dk_42 (dk_at dksX4_laysTotals_5 10 rfl rfl)
theorem dX4_laysTotals_129 : decode cX4_laysTotals 129 = .ok (.iload_n 1, 1) := dk_27 (dk_at dksX4_laysTotals_5 11 rfl rfl)
theorem dX4_laysTotals_130 : decode cX4_laysTotals 130 = .ok (.iload_n 2, 1) := dk_28 (dk_at dksX4_laysTotals_5 12 rfl rfl)
theorem dX4_laysTotals_131 : decode cX4_laysTotals 131 = .ok (.invokevirtual 285, 3) := dk_182 1 29 (dk_at dksX4_laysTotals_5 13 rfl rfl)
theorem dX4_laysTotals_134 : decode cX4_laysTotals 134 = .ok (.lastore, 1) := dk_80 (dk_at dksX4_laysTotals_5 16 rfl rfl)
theorem dX4_laysTotals_135 : decode cX4_laysTotals 135 = .ok (.iinc 2 1, 3) := dk_132 2 1 (dk_at dksX4_laysTotals_5 17 rfl rfl)
theorem dX4_laysTotals_138 : decode cX4_laysTotals 138 = .ok (.goto (-28), 3) := dk_167 255 228 (dk_at dksX4_laysTotals_5 20 rfl rfl)
theorem dX4_laysTotals_141 : decode cX4_laysTotals 141 = .ok (.iinc 1 (-1), 3) := dk_132 1 255 (dk_at dksX4_laysTotals_6 0 rfl rfl)
theorem dX4_laysTotals_144 : decode cX4_laysTotals 144 = .ok (.goto (-40), 3) := dk_167 255 216 (dk_at dksX4_laysTotals_6 3 rfl rfl)
theorem dX4_laysTotals_147 : decode cX4_laysTotals 147 = .ok (.return_, 1) := dk_177 (dk_at dksX4_laysTotals_6 6 rfl rfl)
abbrev cX4_greatest : ByteArray := prog_16_method_53_code
def yX4_greatest : MethodName := ⟨RX4, "greatest", "(II)J"⟩
def dkwX4_greatest_4 : List UInt8 := [66, 132, 5, 1, 167, 255, 176, 33, 173]
abbrev dktX4_greatest_4 : List UInt8 := dkwX4_greatest_4 ++ []
def dkwX4_greatest_3 : List UInt8 := [21, 5, 120, 2, 130, 126, 96, 47, 97, 55, 6, 22, 6, 33, 148, 158, 0, 8, 22, 6, 167, 0, 4, 33]
abbrev dktX4_greatest_3 : List UInt8 := dkwX4_greatest_3 ++ dktX4_greatest_4
def dkwX4_greatest_2 : List UInt8 := [180, 0, 88, 16, 9, 27, 104, 21, 5, 96, 47, 42, 180, 0, 85, 17, 2, 0, 27, 4, 96, 104, 28, 4]
abbrev dktX4_greatest_2 : List UInt8 := dkwX4_greatest_2 ++ dktX4_greatest_3
def dkwX4_greatest_1 : List UInt8 := [162, 0, 79, 42, 180, 0, 13, 8, 27, 96, 46, 154, 0, 68, 28, 21, 5, 184, 0, 173, 153, 0, 53, 42]
abbrev dktX4_greatest_1 : List UInt8 := dkwX4_greatest_1 ++ dktX4_greatest_2
def dkwX4_greatest_0 : List UInt8 := [42, 180, 0, 85, 17, 2, 0, 27, 4, 96, 104, 28, 96, 47, 66, 3, 54, 5, 21, 5, 16, 9]
abbrev dktX4_greatest_0 : List UInt8 := dkwX4_greatest_0 ++ dktX4_greatest_1
theorem dksX4_greatest_0 : cX4_greatest.data.toList.drop 0 = dktX4_greatest_0 := by decide +kernel
theorem dksX4_greatest_1 : cX4_greatest.data.toList.drop 22 = dktX4_greatest_1 := dk_seg dksX4_greatest_0 22 rfl rfl
theorem dksX4_greatest_2 : cX4_greatest.data.toList.drop 46 = dktX4_greatest_2 := dk_seg dksX4_greatest_1 24 rfl rfl
theorem dksX4_greatest_3 : cX4_greatest.data.toList.drop 70 = dktX4_greatest_3 := dk_seg dksX4_greatest_2 24 rfl rfl
theorem dksX4_greatest_4 : cX4_greatest.data.toList.drop 94 = dktX4_greatest_4 := dk_seg dksX4_greatest_3 24 rfl rfl
theorem dX4_greatest_0 : decode cX4_greatest 0 = .ok (.aload_n 0, 1) := dk_42 (dk_at dksX4_greatest_0 0 rfl rfl)
theorem dX4_greatest_1 : decode cX4_greatest 1 = .ok (.getfield 85, 3) := dk_180 0 85 (dk_at dksX4_greatest_0 1 rfl rfl)
theorem dX4_greatest_4 : decode cX4_greatest 4 = .ok (.sipush 512, 3) := dk_17 2 0 (dk_at dksX4_greatest_0 4 rfl rfl)
theorem dX4_greatest_7 : decode cX4_greatest 7 = .ok (.iload_n 1, 1) := dk_27 (dk_at dksX4_greatest_0 7 rfl rfl)
theorem dX4_greatest_8 : decode cX4_greatest 8 = .ok (.iconst 1, 1) := dk_4 (dk_at dksX4_greatest_0 8 rfl rfl)
theorem dX4_greatest_9 : decode cX4_greatest 9 = .ok (.iadd, 1) := dk_96 (dk_at dksX4_greatest_0 9 rfl rfl)
theorem dX4_greatest_10 : decode cX4_greatest 10 = .ok (.imul, 1) := dk_104 (dk_at dksX4_greatest_0 10 rfl rfl)
theorem dX4_greatest_11 : decode cX4_greatest 11 = .ok (.iload_n 2, 1) := dk_28 (dk_at dksX4_greatest_0 11 rfl rfl)
theorem dX4_greatest_12 : decode cX4_greatest 12 = .ok (.iadd, 1) := dk_96 (dk_at dksX4_greatest_0 12 rfl rfl)
theorem dX4_greatest_13 : decode cX4_greatest 13 = .ok (.laload, 1) := dk_47 (dk_at dksX4_greatest_0 13 rfl rfl)
theorem dX4_greatest_14 : decode cX4_greatest 14 = .ok (.lstore_n 3, 1) := dk_66 (dk_at dksX4_greatest_0 14 rfl rfl)
theorem dX4_greatest_15 : decode cX4_greatest 15 = .ok (.iconst 0, 1) := dk_3 (dk_at dksX4_greatest_0 15 rfl rfl)
theorem dX4_greatest_16 : decode cX4_greatest 16 = .ok (.istore 5, 2) := dk_54 5 (dk_at dksX4_greatest_0 16 rfl rfl)
theorem dX4_greatest_18 : decode cX4_greatest 18 = .ok (.iload 5, 2) := dk_21 5 (dk_at dksX4_greatest_0 18 rfl rfl)
theorem dX4_greatest_20 : decode cX4_greatest 20 = .ok (.bipush 9, 2) := dk_16 9 (dk_at dksX4_greatest_0 20 rfl rfl)
theorem dX4_greatest_22 : decode cX4_greatest 22 = .ok (.if_icmp .ge 79, 3) := dk_162 0 79 (dk_at dksX4_greatest_1 0 rfl rfl)
theorem dX4_greatest_25 : decode cX4_greatest 25 = .ok (.aload_n 0, 1) := dk_42 (dk_at dksX4_greatest_1 3 rfl rfl)
theorem dX4_greatest_26 : decode cX4_greatest 26 = .ok (.getfield 13, 3) := dk_180 0 13 (dk_at dksX4_greatest_1 4 rfl rfl)
theorem dX4_greatest_29 : decode cX4_greatest 29 = .ok (.iconst 5, 1) := dk_8 (dk_at dksX4_greatest_1 7 rfl rfl)
theorem dX4_greatest_30 : decode cX4_greatest 30 = .ok (.iload_n 1, 1) := dk_27 (dk_at dksX4_greatest_1 8 rfl rfl)
theorem dX4_greatest_31 : decode cX4_greatest 31 = .ok (.iadd, 1) := dk_96 (dk_at dksX4_greatest_1 9 rfl rfl)
theorem dX4_greatest_32 : decode cX4_greatest 32 = .ok (.iaload, 1) := dk_46 (dk_at dksX4_greatest_1 10 rfl rfl)
theorem dX4_greatest_33 : decode cX4_greatest 33 = .ok (.ifCond .ne 68, 3) := dk_154 0 68 (dk_at dksX4_greatest_1 11 rfl rfl)
theorem dX4_greatest_36 : decode cX4_greatest 36 = .ok (.iload_n 2, 1) := dk_28 (dk_at dksX4_greatest_1 14 rfl rfl)
theorem dX4_greatest_37 : decode cX4_greatest 37 = .ok (.iload 5, 2) := dk_21 5 (dk_at dksX4_greatest_1 15 rfl rfl)
theorem dX4_greatest_39 : decode cX4_greatest 39 = .ok (.invokestatic 173, 3) := dk_184 0 173 (dk_at dksX4_greatest_1 17 rfl rfl)
theorem dX4_greatest_42 : decode cX4_greatest 42 = .ok (.ifCond .eq 53, 3) := dk_153 0 53 (dk_at dksX4_greatest_1 20 rfl rfl)
theorem dX4_greatest_45 : decode cX4_greatest 45 = .ok (.aload_n 0, 1) := dk_42 (dk_at dksX4_greatest_1 23 rfl rfl)
theorem dX4_greatest_46 : decode cX4_greatest 46 = .ok (.getfield 88, 3) := dk_180 0 88 (dk_at dksX4_greatest_2 0 rfl rfl)
theorem dX4_greatest_49 : decode cX4_greatest 49 = .ok (.bipush 9, 2) := dk_16 9 (dk_at dksX4_greatest_2 3 rfl rfl)
theorem dX4_greatest_51 : decode cX4_greatest 51 = .ok (.iload_n 1, 1) := dk_27 (dk_at dksX4_greatest_2 5 rfl rfl)
theorem dX4_greatest_52 : decode cX4_greatest 52 = .ok (.imul, 1) := dk_104 (dk_at dksX4_greatest_2 6 rfl rfl)
theorem dX4_greatest_53 : decode cX4_greatest 53 = .ok (.iload 5, 2) := dk_21 5 (dk_at dksX4_greatest_2 7 rfl rfl)
theorem dX4_greatest_55 : decode cX4_greatest 55 = .ok (.iadd, 1) := dk_96 (dk_at dksX4_greatest_2 9 rfl rfl)
theorem dX4_greatest_56 : decode cX4_greatest 56 = .ok (.laload, 1) := dk_47 (dk_at dksX4_greatest_2 10 rfl rfl)
theorem dX4_greatest_57 : decode cX4_greatest 57 = .ok (.aload_n 0, 1) := dk_42 (dk_at dksX4_greatest_2 11 rfl rfl)
theorem dX4_greatest_58 : decode cX4_greatest 58 = .ok (.getfield 85, 3) := dk_180 0 85 (dk_at dksX4_greatest_2 12 rfl rfl)
theorem dX4_greatest_61 : decode cX4_greatest 61 = .ok (.sipush 512, 3) := dk_17 2 0 (dk_at dksX4_greatest_2 15 rfl rfl)
theorem dX4_greatest_64 : decode cX4_greatest 64 = .ok (.iload_n 1, 1) := dk_27 (dk_at dksX4_greatest_2 18 rfl rfl)
theorem dX4_greatest_65 : decode cX4_greatest 65 = .ok (.iconst 1, 1) := dk_4 (dk_at dksX4_greatest_2 19 rfl rfl)
theorem dX4_greatest_66 : decode cX4_greatest 66 = .ok (.iadd, 1) := dk_96 (dk_at dksX4_greatest_2 20 rfl rfl)
theorem dX4_greatest_67 : decode cX4_greatest 67 = .ok (.imul, 1) := dk_104 (dk_at dksX4_greatest_2 21 rfl rfl)
theorem dX4_greatest_68 : decode cX4_greatest 68 = .ok (.iload_n 2, 1) := dk_28 (dk_at dksX4_greatest_2 22 rfl rfl)
theorem dX4_greatest_69 : decode cX4_greatest 69 = .ok (.iconst 1, 1) := dk_4 (dk_at dksX4_greatest_2 23 rfl rfl)
theorem dX4_greatest_70 : decode cX4_greatest 70 = .ok (.iload 5, 2) := dk_21 5 (dk_at dksX4_greatest_3 0 rfl rfl)
theorem dX4_greatest_72 : decode cX4_greatest 72 = .ok (.ishl, 1) := dk_120 (dk_at dksX4_greatest_3 2 rfl rfl)
theorem dX4_greatest_73 : decode cX4_greatest 73 = .ok (.iconst (-1), 1) := dk_2 (dk_at dksX4_greatest_3 3 rfl rfl)
theorem dX4_greatest_74 : decode cX4_greatest 74 = .ok (.ixor, 1) := dk_130 (dk_at dksX4_greatest_3 4 rfl rfl)
theorem dX4_greatest_75 : decode cX4_greatest 75 = .ok (.iand, 1) := dk_126 (dk_at dksX4_greatest_3 5 rfl rfl)
theorem dX4_greatest_76 : decode cX4_greatest 76 = .ok (.iadd, 1) := dk_96 (dk_at dksX4_greatest_3 6 rfl rfl)
theorem dX4_greatest_77 : decode cX4_greatest 77 = .ok (.laload, 1) := dk_47 (dk_at dksX4_greatest_3 7 rfl rfl)
theorem dX4_greatest_78 : decode cX4_greatest 78 = .ok (.ladd, 1) := dk_97 (dk_at dksX4_greatest_3 8 rfl rfl)
theorem dX4_greatest_79 : decode cX4_greatest 79 = .ok (.lstore 6, 2) := dk_55 6 (dk_at dksX4_greatest_3 9 rfl rfl)
theorem dX4_greatest_81 : decode cX4_greatest 81 = .ok (.lload 6, 2) := dk_22 6 (dk_at dksX4_greatest_3 11 rfl rfl)
theorem dX4_greatest_83 : decode cX4_greatest 83 = .ok (.lload_n 3, 1) := dk_33 (dk_at dksX4_greatest_3 13 rfl rfl)
theorem dX4_greatest_84 : decode cX4_greatest 84 = .ok (.lcmp, 1) := dk_148 (dk_at dksX4_greatest_3 14 rfl rfl)
theorem dX4_greatest_85 : decode cX4_greatest 85 = .ok (.ifCond .le 8, 3) := dk_158 0 8 (dk_at dksX4_greatest_3 15 rfl rfl)
theorem dX4_greatest_88 : decode cX4_greatest 88 = .ok (.lload 6, 2) := dk_22 6 (dk_at dksX4_greatest_3 18 rfl rfl)
theorem dX4_greatest_90 : decode cX4_greatest 90 = .ok (.goto 4, 3) := dk_167 0 4 (dk_at dksX4_greatest_3 20 rfl rfl)
theorem dX4_greatest_93 : decode cX4_greatest 93 = .ok (.lload_n 3, 1) := dk_33 (dk_at dksX4_greatest_3 23 rfl rfl)
theorem dX4_greatest_94 : decode cX4_greatest 94 = .ok (.lstore_n 3, 1) := dk_66 (dk_at dksX4_greatest_4 0 rfl rfl)
theorem dX4_greatest_95 : decode cX4_greatest 95 = .ok (.iinc 5 1, 3) := dk_132 5 1 (dk_at dksX4_greatest_4 1 rfl rfl)
theorem dX4_greatest_98 : decode cX4_greatest 98 = .ok (.goto (-80), 3) := dk_167 255 176 (dk_at dksX4_greatest_4 4 rfl rfl)
theorem dX4_greatest_101 : decode cX4_greatest 101 = .ok (.lload_n 3, 1) := dk_33 (dk_at dksX4_greatest_4 7 rfl rfl)
theorem dX4_greatest_102 : decode cX4_greatest 102 = .ok (.lreturn, 1) := dk_173 (dk_at dksX4_greatest_4 8 rfl rfl)
abbrev cX4_assignedDay : ByteArray := prog_16_method_55_code
def yX4_assignedDay : MethodName := ⟨RX4, "assignedDay", "(I)I"⟩
def dkwX4_assignedDay_3 : List UInt8 := [132, 4, 1, 167, 255, 221, 29, 172]
abbrev dktX4_assignedDay_3 : List UInt8 := dkwX4_assignedDay_3 ++ []
def dkwX4_assignedDay_2 : List UInt8 := [182, 1, 35, 62, 28, 29, 16, 254, 160, 0, 7, 28, 167, 0, 8, 4, 29, 120, 2, 130, 126, 61]
abbrev dktX4_assignedDay_2 : List UInt8 := dkwX4_assignedDay_2 ++ dktX4_assignedDay_3
def dkwX4_assignedDay_1 : List UInt8 := [42, 182, 1, 32, 17, 1, 255, 61, 16, 254, 62, 3, 54, 4, 21, 4, 27, 163, 0, 35, 42, 21, 4, 28]
abbrev dktX4_assignedDay_1 : List UInt8 := dkwX4_assignedDay_1 ++ dktX4_assignedDay_2
def dkwX4_assignedDay_0 : List UInt8 := [42, 3, 181, 0, 1, 42, 27, 182, 0, 246, 153, 0, 12, 42, 180, 0, 29, 3, 46, 154, 0, 5, 2, 172]
abbrev dktX4_assignedDay_0 : List UInt8 := dkwX4_assignedDay_0 ++ dktX4_assignedDay_1
theorem dksX4_assignedDay_0 : cX4_assignedDay.data.toList.drop 0 = dktX4_assignedDay_0 := by decide +kernel
theorem dksX4_assignedDay_1 : cX4_assignedDay.data.toList.drop 24 = dktX4_assignedDay_1 := dk_seg dksX4_assignedDay_0 24 rfl rfl
theorem dksX4_assignedDay_2 : cX4_assignedDay.data.toList.drop 48 = dktX4_assignedDay_2 := dk_seg dksX4_assignedDay_1 24 rfl rfl
theorem dksX4_assignedDay_3 : cX4_assignedDay.data.toList.drop 70 = dktX4_assignedDay_3 := dk_seg dksX4_assignedDay_2 22 rfl rfl
theorem dX4_assignedDay_0 : decode cX4_assignedDay 0 = .ok (.aload_n 0, 1) := dk_42 (dk_at dksX4_assignedDay_0 0 rfl rfl)
theorem dX4_assignedDay_1 : decode cX4_assignedDay 1 = .ok (.iconst 0, 1) := dk_3 (dk_at dksX4_assignedDay_0 1 rfl rfl)
theorem dX4_assignedDay_2 : decode cX4_assignedDay 2 = .ok (.putfield 1, 3) := dk_181 0 1 (dk_at dksX4_assignedDay_0 2 rfl rfl)
theorem dX4_assignedDay_5 : decode cX4_assignedDay 5 = .ok (.aload_n 0, 1) := dk_42 (dk_at dksX4_assignedDay_0 5 rfl rfl)
theorem dX4_assignedDay_6 : decode cX4_assignedDay 6 = .ok (.iload_n 1, 1) := dk_27 (dk_at dksX4_assignedDay_0 6 rfl rfl)
theorem dX4_assignedDay_7 : decode cX4_assignedDay 7 = .ok (.invokevirtual 246, 3) := dk_182 0 246 (dk_at dksX4_assignedDay_0 7 rfl rfl)
theorem dX4_assignedDay_10 : decode cX4_assignedDay 10 = .ok (.ifCond .eq 12, 3) := dk_153 0 12 (dk_at dksX4_assignedDay_0 10 rfl rfl)
theorem dX4_assignedDay_13 : decode cX4_assignedDay 13 = .ok (.aload_n 0, 1) := dk_42 (dk_at dksX4_assignedDay_0 13 rfl rfl)
theorem dX4_assignedDay_14 : decode cX4_assignedDay 14 = .ok (.getfield 29, 3) := dk_180 0 29 (dk_at dksX4_assignedDay_0 14 rfl rfl)
theorem dX4_assignedDay_17 : decode cX4_assignedDay 17 = .ok (.iconst 0, 1) := dk_3 (dk_at dksX4_assignedDay_0 17 rfl rfl)
theorem dX4_assignedDay_18 : decode cX4_assignedDay 18 = .ok (.iaload, 1) := dk_46 (dk_at dksX4_assignedDay_0 18 rfl rfl)
theorem dX4_assignedDay_19 : decode cX4_assignedDay 19 = .ok (.ifCond .ne 5, 3) := dk_154 0 5 (dk_at dksX4_assignedDay_0 19 rfl rfl)
theorem dX4_assignedDay_22 : decode cX4_assignedDay 22 = .ok (.iconst (-1), 1) := dk_2 (dk_at dksX4_assignedDay_0 22 rfl rfl)
theorem dX4_assignedDay_23 : decode cX4_assignedDay 23 = .ok (.ireturn, 1) := dk_172 (dk_at dksX4_assignedDay_0 23 rfl rfl)
theorem dX4_assignedDay_24 : decode cX4_assignedDay 24 = .ok (.aload_n 0, 1) := dk_42 (dk_at dksX4_assignedDay_1 0 rfl rfl)
theorem dX4_assignedDay_25 : decode cX4_assignedDay 25 = .ok (.invokevirtual 288, 3) := dk_182 1 32 (dk_at dksX4_assignedDay_1 1 rfl rfl)
theorem dX4_assignedDay_28 : decode cX4_assignedDay 28 = .ok (.sipush 511, 3) := dk_17 1 255 (dk_at dksX4_assignedDay_1 4 rfl rfl)
theorem dX4_assignedDay_31 : decode cX4_assignedDay 31 = .ok (.istore_n 2, 1) := dk_61 (dk_at dksX4_assignedDay_1 7 rfl rfl)
theorem dX4_assignedDay_32 : decode cX4_assignedDay 32 = .ok (.bipush (-2), 2) := dk_16 254 (dk_at dksX4_assignedDay_1 8 rfl rfl)
theorem dX4_assignedDay_34 : decode cX4_assignedDay 34 = .ok (.istore_n 3, 1) := dk_62 (dk_at dksX4_assignedDay_1 10 rfl rfl)
theorem dX4_assignedDay_35 : decode cX4_assignedDay 35 = .ok (.iconst 0, 1) := dk_3 (dk_at dksX4_assignedDay_1 11 rfl rfl)
theorem dX4_assignedDay_36 : decode cX4_assignedDay 36 = .ok (.istore 4, 2) := dk_54 4 (dk_at dksX4_assignedDay_1 12 rfl rfl)
theorem dX4_assignedDay_38 : decode cX4_assignedDay 38 = .ok (.iload 4, 2) := dk_21 4 (dk_at dksX4_assignedDay_1 14 rfl rfl)
theorem dX4_assignedDay_40 : decode cX4_assignedDay 40 = .ok (.iload_n 1, 1) := dk_27 (dk_at dksX4_assignedDay_1 16 rfl rfl)
theorem dX4_assignedDay_41 : decode cX4_assignedDay 41 = .ok (.if_icmp .gt 35, 3) := dk_163 0 35 (dk_at dksX4_assignedDay_1 17 rfl rfl)
theorem dX4_assignedDay_44 : decode cX4_assignedDay 44 = .ok (.aload_n 0, 1) := dk_42 (dk_at dksX4_assignedDay_1 20 rfl rfl)
theorem dX4_assignedDay_45 : decode cX4_assignedDay 45 = .ok (.iload 4, 2) := dk_21 4 (dk_at dksX4_assignedDay_1 21 rfl rfl)
theorem dX4_assignedDay_47 : decode cX4_assignedDay 47 = .ok (.iload_n 2, 1) := dk_28 (dk_at dksX4_assignedDay_1 23 rfl rfl)
theorem dX4_assignedDay_48 : decode cX4_assignedDay 48 = .ok (.invokevirtual 291, 3) := dk_182 1 35 (dk_at dksX4_assignedDay_2 0 rfl rfl)
theorem dX4_assignedDay_51 : decode cX4_assignedDay 51 = .ok (.istore_n 3, 1) := dk_62 (dk_at dksX4_assignedDay_2 3 rfl rfl)
theorem dX4_assignedDay_52 : decode cX4_assignedDay 52 = .ok (.iload_n 2, 1) := dk_28 (dk_at dksX4_assignedDay_2 4 rfl rfl)
theorem dX4_assignedDay_53 : decode cX4_assignedDay 53 = .ok (.iload_n 3, 1) := dk_29 (dk_at dksX4_assignedDay_2 5 rfl rfl)
theorem dX4_assignedDay_54 : decode cX4_assignedDay 54 = .ok (.bipush (-2), 2) := dk_16 254 (dk_at dksX4_assignedDay_2 6 rfl rfl)
theorem dX4_assignedDay_56 : decode cX4_assignedDay 56 = .ok (.if_icmp .ne 7, 3) := dk_160 0 7 (dk_at dksX4_assignedDay_2 8 rfl rfl)
theorem dX4_assignedDay_59 : decode cX4_assignedDay 59 = .ok (.iload_n 2, 1) := dk_28 (dk_at dksX4_assignedDay_2 11 rfl rfl)
theorem dX4_assignedDay_60 : decode cX4_assignedDay 60 = .ok (.goto 8, 3) := dk_167 0 8 (dk_at dksX4_assignedDay_2 12 rfl rfl)
theorem dX4_assignedDay_63 : decode cX4_assignedDay 63 = .ok (.iconst 1, 1) := dk_4 (dk_at dksX4_assignedDay_2 15 rfl rfl)
theorem dX4_assignedDay_64 : decode cX4_assignedDay 64 = .ok (.iload_n 3, 1) := dk_29 (dk_at dksX4_assignedDay_2 16 rfl rfl)
theorem dX4_assignedDay_65 : decode cX4_assignedDay 65 = .ok (.ishl, 1) := dk_120 (dk_at dksX4_assignedDay_2 17 rfl rfl)
theorem dX4_assignedDay_66 : decode cX4_assignedDay 66 = .ok (.iconst (-1), 1) := dk_2 (dk_at dksX4_assignedDay_2 18 rfl rfl)
theorem dX4_assignedDay_67 : decode cX4_assignedDay 67 = .ok (.ixor, 1) := dk_130 (dk_at dksX4_assignedDay_2 19 rfl rfl)
theorem dX4_assignedDay_68 : decode cX4_assignedDay 68 = .ok (.iand, 1) := dk_126 (dk_at dksX4_assignedDay_2 20 rfl rfl)
theorem dX4_assignedDay_69 : decode cX4_assignedDay 69 = .ok (.istore_n 2, 1) := dk_61 (dk_at dksX4_assignedDay_2 21 rfl rfl)
theorem dX4_assignedDay_70 : decode cX4_assignedDay 70 = .ok (.iinc 4 1, 3) := dk_132 4 1 (dk_at dksX4_assignedDay_3 0 rfl rfl)
theorem dX4_assignedDay_73 : decode cX4_assignedDay 73 = .ok (.goto (-35), 3) := dk_167 255 221 (dk_at dksX4_assignedDay_3 3 rfl rfl)
theorem dX4_assignedDay_76 : decode cX4_assignedDay 76 = .ok (.iload_n 3, 1) := dk_29 (dk_at dksX4_assignedDay_3 6 rfl rfl)
theorem dX4_assignedDay_77 : decode cX4_assignedDay 77 = .ok (.ireturn, 1) := dk_172 (dk_at dksX4_assignedDay_3 7 rfl rfl)
abbrev cX4_firstDay : ByteArray := prog_16_method_56_code
def yX4_firstDay : MethodName := ⟨RX4, "firstDay", "(II)I"⟩
def dkwX4_firstDay_3 : List UInt8 := [96, 47, 148, 154, 0, 5, 29, 172, 132, 3, 1, 167, 255, 189, 16, 254, 172]
abbrev dktX4_firstDay_3 : List UInt8 := dkwX4_firstDay_3 ++ []
def dkwX4_firstDay_2 : List UInt8 := [27, 4, 96, 104, 28, 4, 29, 120, 2, 130, 126, 96, 47, 97, 42, 180, 0, 85, 17, 2, 0, 27, 104, 28]
abbrev dktX4_firstDay_2 : List UInt8 := dkwX4_firstDay_2 ++ dktX4_firstDay_3
def dkwX4_firstDay_1 : List UInt8 := [184, 0, 173, 153, 0, 53, 42, 180, 0, 88, 16, 9, 27, 104, 29, 96, 47, 42, 180, 0, 85, 17, 2, 0]
abbrev dktX4_firstDay_1 : List UInt8 := dkwX4_firstDay_1 ++ dktX4_firstDay_2
def dkwX4_firstDay_0 : List UInt8 := [42, 180, 0, 13, 8, 27, 96, 46, 153, 0, 6, 16, 254, 172, 3, 62, 29, 16, 9, 162, 0, 67, 28, 29]
abbrev dktX4_firstDay_0 : List UInt8 := dkwX4_firstDay_0 ++ dktX4_firstDay_1
theorem dksX4_firstDay_0 : cX4_firstDay.data.toList.drop 0 = dktX4_firstDay_0 := by decide +kernel
theorem dksX4_firstDay_1 : cX4_firstDay.data.toList.drop 24 = dktX4_firstDay_1 := dk_seg dksX4_firstDay_0 24 rfl rfl
theorem dksX4_firstDay_2 : cX4_firstDay.data.toList.drop 48 = dktX4_firstDay_2 := dk_seg dksX4_firstDay_1 24 rfl rfl
theorem dksX4_firstDay_3 : cX4_firstDay.data.toList.drop 72 = dktX4_firstDay_3 := dk_seg dksX4_firstDay_2 24 rfl rfl
theorem dX4_firstDay_0 : decode cX4_firstDay 0 = .ok (.aload_n 0, 1) := dk_42 (dk_at dksX4_firstDay_0 0 rfl rfl)
theorem dX4_firstDay_1 : decode cX4_firstDay 1 = .ok (.getfield 13, 3) := dk_180 0 13 (dk_at dksX4_firstDay_0 1 rfl rfl)
theorem dX4_firstDay_4 : decode cX4_firstDay 4 = .ok (.iconst 5, 1) := dk_8 (dk_at dksX4_firstDay_0 4 rfl rfl)
theorem dX4_firstDay_5 : decode cX4_firstDay 5 = .ok (.iload_n 1, 1) := dk_27 (dk_at dksX4_firstDay_0 5 rfl rfl)
theorem dX4_firstDay_6 : decode cX4_firstDay 6 = .ok (.iadd, 1) := dk_96 (dk_at dksX4_firstDay_0 6 rfl rfl)
theorem dX4_firstDay_7 : decode cX4_firstDay 7 = .ok (.iaload, 1) := dk_46 (dk_at dksX4_firstDay_0 7 rfl rfl)
theorem dX4_firstDay_8 : decode cX4_firstDay 8 = .ok (.ifCond .eq 6, 3) := dk_153 0 6 (dk_at dksX4_firstDay_0 8 rfl rfl)
theorem dX4_firstDay_11 : decode cX4_firstDay 11 = .ok (.bipush (-2), 2) := dk_16 254 (dk_at dksX4_firstDay_0 11 rfl rfl)
theorem dX4_firstDay_13 : decode cX4_firstDay 13 = .ok (.ireturn, 1) := dk_172 (dk_at dksX4_firstDay_0 13 rfl rfl)
theorem dX4_firstDay_14 : decode cX4_firstDay 14 = .ok (.iconst 0, 1) := dk_3 (dk_at dksX4_firstDay_0 14 rfl rfl)
theorem dX4_firstDay_15 : decode cX4_firstDay 15 = .ok (.istore_n 3, 1) := dk_62 (dk_at dksX4_firstDay_0 15 rfl rfl)
theorem dX4_firstDay_16 : decode cX4_firstDay 16 = .ok (.iload_n 3, 1) := dk_29 (dk_at dksX4_firstDay_0 16 rfl rfl)
theorem dX4_firstDay_17 : decode cX4_firstDay 17 = .ok (.bipush 9, 2) := dk_16 9 (dk_at dksX4_firstDay_0 17 rfl rfl)
theorem dX4_firstDay_19 : decode cX4_firstDay 19 = .ok (.if_icmp .ge 67, 3) := dk_162 0 67 (dk_at dksX4_firstDay_0 19 rfl rfl)
theorem dX4_firstDay_22 : decode cX4_firstDay 22 = .ok (.iload_n 2, 1) := dk_28 (dk_at dksX4_firstDay_0 22 rfl rfl)
theorem dX4_firstDay_23 : decode cX4_firstDay 23 = .ok (.iload_n 3, 1) := dk_29 (dk_at dksX4_firstDay_0 23 rfl rfl)
theorem dX4_firstDay_24 : decode cX4_firstDay 24 = .ok (.invokestatic 173, 3) := dk_184 0 173 (dk_at dksX4_firstDay_1 0 rfl rfl)
theorem dX4_firstDay_27 : decode cX4_firstDay 27 = .ok (.ifCond .eq 53, 3) := dk_153 0 53 (dk_at dksX4_firstDay_1 3 rfl rfl)
theorem dX4_firstDay_30 : decode cX4_firstDay 30 = .ok (.aload_n 0, 1) := dk_42 (dk_at dksX4_firstDay_1 6 rfl rfl)
theorem dX4_firstDay_31 : decode cX4_firstDay 31 = .ok (.getfield 88, 3) := dk_180 0 88 (dk_at dksX4_firstDay_1 7 rfl rfl)
theorem dX4_firstDay_34 : decode cX4_firstDay 34 = .ok (.bipush 9, 2) := dk_16 9 (dk_at dksX4_firstDay_1 10 rfl rfl)
theorem dX4_firstDay_36 : decode cX4_firstDay 36 = .ok (.iload_n 1, 1) := dk_27 (dk_at dksX4_firstDay_1 12 rfl rfl)
theorem dX4_firstDay_37 : decode cX4_firstDay 37 = .ok (.imul, 1) := dk_104 (dk_at dksX4_firstDay_1 13 rfl rfl)
theorem dX4_firstDay_38 : decode cX4_firstDay 38 = .ok (.iload_n 3, 1) := dk_29 (dk_at dksX4_firstDay_1 14 rfl rfl)
theorem dX4_firstDay_39 : decode cX4_firstDay 39 = .ok (.iadd, 1) := dk_96 (dk_at dksX4_firstDay_1 15 rfl rfl)
theorem dX4_firstDay_40 : decode cX4_firstDay 40 = .ok (.laload, 1) := dk_47 (dk_at dksX4_firstDay_1 16 rfl rfl)
theorem dX4_firstDay_41 : decode cX4_firstDay 41 = .ok (.aload_n 0, 1) := dk_42 (dk_at dksX4_firstDay_1 17 rfl rfl)
theorem dX4_firstDay_42 : decode cX4_firstDay 42 = .ok (.getfield 85, 3) := dk_180 0 85 (dk_at dksX4_firstDay_1 18 rfl rfl)
theorem dX4_firstDay_45 : decode cX4_firstDay 45 = .ok (.sipush 512, 3) := dk_17 2 0 (dk_at dksX4_firstDay_1 21 rfl rfl)
theorem dX4_firstDay_48 : decode cX4_firstDay 48 = .ok (.iload_n 1, 1) := dk_27 (dk_at dksX4_firstDay_2 0 rfl rfl)
theorem dX4_firstDay_49 : decode cX4_firstDay 49 = .ok (.iconst 1, 1) := dk_4 (dk_at dksX4_firstDay_2 1 rfl rfl)
theorem dX4_firstDay_50 : decode cX4_firstDay 50 = .ok (.iadd, 1) := dk_96 (dk_at dksX4_firstDay_2 2 rfl rfl)
theorem dX4_firstDay_51 : decode cX4_firstDay 51 = .ok (.imul, 1) := dk_104 (dk_at dksX4_firstDay_2 3 rfl rfl)
theorem dX4_firstDay_52 : decode cX4_firstDay 52 = .ok (.iload_n 2, 1) := dk_28 (dk_at dksX4_firstDay_2 4 rfl rfl)
theorem dX4_firstDay_53 : decode cX4_firstDay 53 = .ok (.iconst 1, 1) := dk_4 (dk_at dksX4_firstDay_2 5 rfl rfl)
theorem dX4_firstDay_54 : decode cX4_firstDay 54 = .ok (.iload_n 3, 1) := dk_29 (dk_at dksX4_firstDay_2 6 rfl rfl)
theorem dX4_firstDay_55 : decode cX4_firstDay 55 = .ok (.ishl, 1) := dk_120 (dk_at dksX4_firstDay_2 7 rfl rfl)
theorem dX4_firstDay_56 : decode cX4_firstDay 56 = .ok (.iconst (-1), 1) := dk_2 (dk_at dksX4_firstDay_2 8 rfl rfl)
theorem dX4_firstDay_57 : decode cX4_firstDay 57 = .ok (.ixor, 1) := dk_130 (dk_at dksX4_firstDay_2 9 rfl rfl)
theorem dX4_firstDay_58 : decode cX4_firstDay 58 = .ok (.iand, 1) := dk_126 (dk_at dksX4_firstDay_2 10 rfl rfl)
theorem dX4_firstDay_59 : decode cX4_firstDay 59 = .ok (.iadd, 1) := dk_96 (dk_at dksX4_firstDay_2 11 rfl rfl)
theorem dX4_firstDay_60 : decode cX4_firstDay 60 = .ok (.laload, 1) := dk_47 (dk_at dksX4_firstDay_2 12 rfl rfl)
theorem dX4_firstDay_61 : decode cX4_firstDay 61 = .ok (.ladd, 1) := dk_97 (dk_at dksX4_firstDay_2 13 rfl rfl)
theorem dX4_firstDay_62 : decode cX4_firstDay 62 = .ok (.aload_n 0, 1) := dk_42 (dk_at dksX4_firstDay_2 14 rfl rfl)
theorem dX4_firstDay_63 : decode cX4_firstDay 63 = .ok (.getfield 85, 3) := dk_180 0 85 (dk_at dksX4_firstDay_2 15 rfl rfl)
theorem dX4_firstDay_66 : decode cX4_firstDay 66 = .ok (.sipush 512, 3) := dk_17 2 0 (dk_at dksX4_firstDay_2 18 rfl rfl)
theorem dX4_firstDay_69 : decode cX4_firstDay 69 = .ok (.iload_n 1, 1) := dk_27 (dk_at dksX4_firstDay_2 21 rfl rfl)
theorem dX4_firstDay_70 : decode cX4_firstDay 70 = .ok (.imul, 1) := dk_104 (dk_at dksX4_firstDay_2 22 rfl rfl)
theorem dX4_firstDay_71 : decode cX4_firstDay 71 = .ok (.iload_n 2, 1) := dk_28 (dk_at dksX4_firstDay_2 23 rfl rfl)
theorem dX4_firstDay_72 : decode cX4_firstDay 72 = .ok (.iadd, 1) := dk_96 (dk_at dksX4_firstDay_3 0 rfl rfl)
theorem dX4_firstDay_73 : decode cX4_firstDay 73 = .ok (.laload, 1) := dk_47 (dk_at dksX4_firstDay_3 1 rfl rfl)
theorem dX4_firstDay_74 : decode cX4_firstDay 74 = .ok (.lcmp, 1) := dk_148 (dk_at dksX4_firstDay_3 2 rfl rfl)
theorem dX4_firstDay_75 : decode cX4_firstDay 75 = .ok (.ifCond .ne 5, 3) := dk_154 0 5 (dk_at dksX4_firstDay_3 3 rfl rfl)
theorem dX4_firstDay_78 : decode cX4_firstDay 78 = .ok (.iload_n 3, 1) := dk_29 (dk_at dksX4_firstDay_3 6 rfl rfl)
theorem dX4_firstDay_79 : decode cX4_firstDay 79 = .ok (.ireturn, 1) := dk_172 (dk_at dksX4_firstDay_3 7 rfl rfl)
theorem dX4_firstDay_80 : decode cX4_firstDay 80 = .ok (.iinc 3 1, 3) := dk_132 3 1 (dk_at dksX4_firstDay_3 8 rfl rfl)
theorem dX4_firstDay_83 : decode cX4_firstDay 83 = .ok (.goto (-67), 3) := dk_167 255 189 (dk_at dksX4_firstDay_3 11 rfl rfl)
theorem dX4_firstDay_86 : decode cX4_firstDay 86 = .ok (.bipush (-2), 2) := dk_16 254 (dk_at dksX4_firstDay_3 14 rfl rfl)
theorem dX4_firstDay_88 : decode cX4_firstDay 88 = .ok (.ireturn, 1) := dk_172 (dk_at dksX4_firstDay_3 16 rfl rfl)
abbrev cX4_bestLoad : ByteArray := prog_16_method_57_code
def yX4_bestLoad : MethodName := ⟨RX4, "bestLoad", "(I)I"⟩
def dkwX4_bestLoad_11 : List UInt8 := [132, 4, 1, 167, 255, 207, 42, 28, 29, 182, 1, 38, 172]
abbrev dktX4_bestLoad_11 : List UInt8 := dkwX4_bestLoad_11 ++ []
def dkwX4_bestLoad_10 : List UInt8 := [96, 46, 42, 180, 0, 91, 17, 3, 232, 28, 104, 29, 96, 46, 164, 0, 8, 21, 4, 167, 0, 4, 29, 62]
abbrev dktX4_bestLoad_10 : List UInt8 := dkwX4_bestLoad_10 ++ dktX4_bestLoad_11
def dkwX4_bestLoad_9 : List UInt8 := [54, 4, 21, 4, 42, 180, 0, 56, 27, 46, 163, 0, 44, 42, 180, 0, 91, 17, 3, 232, 28, 104, 21, 4]
abbrev dktX4_bestLoad_9 : List UInt8 := dkwX4_bestLoad_9 ++ dktX4_bestLoad_10
def dkwX4_bestLoad_8 : List UInt8 := [46, 96, 167, 0, 5, 21, 5, 79, 132, 4, 1, 167, 255, 133, 132, 3, 1, 167, 255, 119, 3, 62, 3]
abbrev dktX4_bestLoad_8 : List UInt8 := dkwX4_bestLoad_8 ++ dktX4_bestLoad_9
def dkwX4_bestLoad_7 : List UInt8 := [155, 0, 29, 21, 6, 42, 180, 0, 68, 29, 46, 96, 21, 5, 164, 0, 15, 21, 6, 42, 180, 0, 68, 29]
abbrev dktX4_bestLoad_7 : List UInt8 := dkwX4_bestLoad_7 ++ dktX4_bestLoad_8
def dkwX4_bestLoad_6 : List UInt8 := [46, 167, 0, 4, 2, 54, 6, 42, 180, 0, 91, 17, 3, 232, 29, 4, 96, 104, 21, 4, 96, 21, 6]
abbrev dktX4_bestLoad_6 : List UInt8 := dkwX4_bestLoad_6 ++ dktX4_bestLoad_7
def dkwX4_bestLoad_5 : List UInt8 := [29, 46, 161, 0, 26, 42, 180, 0, 91, 17, 3, 232, 29, 104, 21, 4, 96, 42, 180, 0, 65, 29, 46, 100]
abbrev dktX4_bestLoad_5 : List UInt8 := dkwX4_bestLoad_5 ++ dktX4_bestLoad_6
def dkwX4_bestLoad_4 : List UInt8 := [21, 4, 96, 46, 54, 5, 42, 180, 0, 13, 16, 35, 29, 96, 46, 154, 0, 37, 21, 4, 42, 180, 0, 65]
abbrev dktX4_bestLoad_4 : List UInt8 := dkwX4_bestLoad_4 ++ dktX4_bestLoad_5
def dkwX4_bestLoad_3 : List UInt8 := [162, 0, 138, 3, 54, 4, 21, 4, 17, 3, 231, 163, 0, 121, 42, 180, 0, 91, 17, 3, 232, 29, 104]
abbrev dktX4_bestLoad_3 : List UInt8 := dkwX4_bestLoad_3 ++ dktX4_bestLoad_4
def dkwX4_bestLoad_2 : List UInt8 := [180, 0, 91, 29, 29, 154, 0, 7, 3, 167, 0, 4, 2, 79, 132, 3, 1, 167, 255, 231, 3, 62, 29, 28]
abbrev dktX4_bestLoad_2 : List UInt8 := dkwX4_bestLoad_2 ++ dktX4_bestLoad_3
def dkwX4_bestLoad_1 : List UInt8 := [153, 0, 6, 16, 254, 172, 42, 180, 0, 62, 3, 46, 61, 3, 62, 29, 17, 3, 231, 163, 0, 24, 42]
abbrev dktX4_bestLoad_1 : List UInt8 := dkwX4_bestLoad_1 ++ dktX4_bestLoad_2
def dkwX4_bestLoad_0 : List UInt8 := [42, 3, 181, 0, 1, 42, 27, 182, 0, 246, 154, 0, 5, 2, 172, 42, 180, 0, 13, 8, 27, 96, 46]
abbrev dktX4_bestLoad_0 : List UInt8 := dkwX4_bestLoad_0 ++ dktX4_bestLoad_1
theorem dksX4_bestLoad_0 : cX4_bestLoad.data.toList.drop 0 = dktX4_bestLoad_0 := by decide +kernel
theorem dksX4_bestLoad_1 : cX4_bestLoad.data.toList.drop 23 = dktX4_bestLoad_1 := dk_seg dksX4_bestLoad_0 23 rfl rfl
theorem dksX4_bestLoad_2 : cX4_bestLoad.data.toList.drop 46 = dktX4_bestLoad_2 := dk_seg dksX4_bestLoad_1 23 rfl rfl
theorem dksX4_bestLoad_3 : cX4_bestLoad.data.toList.drop 70 = dktX4_bestLoad_3 := dk_seg dksX4_bestLoad_2 24 rfl rfl
theorem dksX4_bestLoad_4 : cX4_bestLoad.data.toList.drop 93 = dktX4_bestLoad_4 := dk_seg dksX4_bestLoad_3 23 rfl rfl
theorem dksX4_bestLoad_5 : cX4_bestLoad.data.toList.drop 117 = dktX4_bestLoad_5 := dk_seg dksX4_bestLoad_4 24 rfl rfl
theorem dksX4_bestLoad_6 : cX4_bestLoad.data.toList.drop 141 = dktX4_bestLoad_6 := dk_seg dksX4_bestLoad_5 24 rfl rfl
theorem dksX4_bestLoad_7 : cX4_bestLoad.data.toList.drop 164 = dktX4_bestLoad_7 := dk_seg dksX4_bestLoad_6 23 rfl rfl
theorem dksX4_bestLoad_8 : cX4_bestLoad.data.toList.drop 188 = dktX4_bestLoad_8 := dk_seg dksX4_bestLoad_7 24 rfl rfl
theorem dksX4_bestLoad_9 : cX4_bestLoad.data.toList.drop 211 = dktX4_bestLoad_9 := dk_seg dksX4_bestLoad_8 23 rfl rfl
theorem dksX4_bestLoad_10 : cX4_bestLoad.data.toList.drop 235 = dktX4_bestLoad_10 := dk_seg dksX4_bestLoad_9 24 rfl rfl
theorem dksX4_bestLoad_11 : cX4_bestLoad.data.toList.drop 259 = dktX4_bestLoad_11 := dk_seg dksX4_bestLoad_10 24 rfl rfl
theorem dX4_bestLoad_0 : decode cX4_bestLoad 0 = .ok (.aload_n 0, 1) := dk_42 (dk_at dksX4_bestLoad_0 0 rfl rfl)
theorem dX4_bestLoad_1 : decode cX4_bestLoad 1 = .ok (.iconst 0, 1) := dk_3 (dk_at dksX4_bestLoad_0 1 rfl rfl)
theorem dX4_bestLoad_2 : decode cX4_bestLoad 2 = .ok (.putfield 1, 3) := dk_181 0 1 (dk_at dksX4_bestLoad_0 2 rfl rfl)
theorem dX4_bestLoad_5 : decode cX4_bestLoad 5 = .ok (.aload_n 0, 1) := dk_42 (dk_at dksX4_bestLoad_0 5 rfl rfl)
theorem dX4_bestLoad_6 : decode cX4_bestLoad 6 = .ok (.iload_n 1, 1) := dk_27 (dk_at dksX4_bestLoad_0 6 rfl rfl)
theorem dX4_bestLoad_7 : decode cX4_bestLoad 7 = .ok (.invokevirtual 246, 3) := dk_182 0 246 (dk_at dksX4_bestLoad_0 7 rfl rfl)
theorem dX4_bestLoad_10 : decode cX4_bestLoad 10 = .ok (.ifCond .ne 5, 3) := dk_154 0 5 (dk_at dksX4_bestLoad_0 10 rfl rfl)
theorem dX4_bestLoad_13 : decode cX4_bestLoad 13 = .ok (.iconst (-1), 1) := dk_2 (dk_at dksX4_bestLoad_0 13 rfl rfl)
theorem dX4_bestLoad_14 : decode cX4_bestLoad 14 = .ok (.ireturn, 1) := dk_172 (dk_at dksX4_bestLoad_0 14 rfl rfl)
theorem dX4_bestLoad_15 : decode cX4_bestLoad 15 = .ok (.aload_n 0, 1) := dk_42 (dk_at dksX4_bestLoad_0 15 rfl rfl)
theorem dX4_bestLoad_16 : decode cX4_bestLoad 16 = .ok (.getfield 13, 3) := dk_180 0 13 (dk_at dksX4_bestLoad_0 16 rfl rfl)
theorem dX4_bestLoad_19 : decode cX4_bestLoad 19 = .ok (.iconst 5, 1) := dk_8 (dk_at dksX4_bestLoad_0 19 rfl rfl)
theorem dX4_bestLoad_20 : decode cX4_bestLoad 20 = .ok (.iload_n 1, 1) := dk_27 (dk_at dksX4_bestLoad_0 20 rfl rfl)
theorem dX4_bestLoad_21 : decode cX4_bestLoad 21 = .ok (.iadd, 1) := dk_96 (dk_at dksX4_bestLoad_0 21 rfl rfl)
theorem dX4_bestLoad_22 : decode cX4_bestLoad 22 = .ok (.iaload, 1) := dk_46 (dk_at dksX4_bestLoad_0 22 rfl rfl)
theorem dX4_bestLoad_23 : decode cX4_bestLoad 23 = .ok (.ifCond .eq 6, 3) := dk_153 0 6 (dk_at dksX4_bestLoad_1 0 rfl rfl)
theorem dX4_bestLoad_26 : decode cX4_bestLoad 26 = .ok (.bipush (-2), 2) := dk_16 254 (dk_at dksX4_bestLoad_1 3 rfl rfl)
theorem dX4_bestLoad_28 : decode cX4_bestLoad 28 = .ok (.ireturn, 1) := dk_172 (dk_at dksX4_bestLoad_1 5 rfl rfl)
theorem dX4_bestLoad_29 : decode cX4_bestLoad 29 = .ok (.aload_n 0, 1) := dk_42 (dk_at dksX4_bestLoad_1 6 rfl rfl)
theorem dX4_bestLoad_30 : decode cX4_bestLoad 30 = .ok (.getfield 62, 3) := dk_180 0 62 (dk_at dksX4_bestLoad_1 7 rfl rfl)
theorem dX4_bestLoad_33 : decode cX4_bestLoad 33 = .ok (.iconst 0, 1) := dk_3 (dk_at dksX4_bestLoad_1 10 rfl rfl)
theorem dX4_bestLoad_34 : decode cX4_bestLoad 34 = .ok (.iaload, 1) := dk_46 (dk_at dksX4_bestLoad_1 11 rfl rfl)
theorem dX4_bestLoad_35 : decode cX4_bestLoad 35 = .ok (.istore_n 2, 1) := dk_61 (dk_at dksX4_bestLoad_1 12 rfl rfl)
theorem dX4_bestLoad_36 : decode cX4_bestLoad 36 = .ok (.iconst 0, 1) := dk_3 (dk_at dksX4_bestLoad_1 13 rfl rfl)
theorem dX4_bestLoad_37 : decode cX4_bestLoad 37 = .ok (.istore_n 3, 1) := dk_62 (dk_at dksX4_bestLoad_1 14 rfl rfl)
theorem dX4_bestLoad_38 : decode cX4_bestLoad 38 = .ok (.iload_n 3, 1) := dk_29 (dk_at dksX4_bestLoad_1 15 rfl rfl)
theorem dX4_bestLoad_39 : decode cX4_bestLoad 39 = .ok (.sipush 999, 3) := dk_17 3 231 (dk_at dksX4_bestLoad_1 16 rfl rfl)
theorem dX4_bestLoad_42 : decode cX4_bestLoad 42 = .ok (.if_icmp .gt 24, 3) := dk_163 0 24 (dk_at dksX4_bestLoad_1 19 rfl rfl)
theorem dX4_bestLoad_45 : decode cX4_bestLoad 45 = .ok (.aload_n 0, 1) := dk_42 (dk_at dksX4_bestLoad_1 22 rfl rfl)
theorem dX4_bestLoad_46 : decode cX4_bestLoad 46 = .ok (.getfield 91, 3) := dk_180 0 91 (dk_at dksX4_bestLoad_2 0 rfl rfl)
theorem dX4_bestLoad_49 : decode cX4_bestLoad 49 = .ok (.iload_n 3, 1) := dk_29 (dk_at dksX4_bestLoad_2 3 rfl rfl)
theorem dX4_bestLoad_50 : decode cX4_bestLoad 50 = .ok (.iload_n 3, 1) := dk_29 (dk_at dksX4_bestLoad_2 4 rfl rfl)
theorem dX4_bestLoad_51 : decode cX4_bestLoad 51 = .ok (.ifCond .ne 7, 3) := dk_154 0 7 (dk_at dksX4_bestLoad_2 5 rfl rfl)
theorem dX4_bestLoad_54 : decode cX4_bestLoad 54 = .ok (.iconst 0, 1) := dk_3 (dk_at dksX4_bestLoad_2 8 rfl rfl)
theorem dX4_bestLoad_55 : decode cX4_bestLoad 55 = .ok (.goto 4, 3) := dk_167 0 4 (dk_at dksX4_bestLoad_2 9 rfl rfl)
theorem dX4_bestLoad_58 : decode cX4_bestLoad 58 = .ok (.iconst (-1), 1) := dk_2 (dk_at dksX4_bestLoad_2 12 rfl rfl)
theorem dX4_bestLoad_59 : decode cX4_bestLoad 59 = .ok (.iastore, 1) := dk_79 (dk_at dksX4_bestLoad_2 13 rfl rfl)
theorem dX4_bestLoad_60 : decode cX4_bestLoad 60 = .ok (.iinc 3 1, 3) := dk_132 3 1 (dk_at dksX4_bestLoad_2 14 rfl rfl)
theorem dX4_bestLoad_63 : decode cX4_bestLoad 63 = .ok (.goto (-25), 3) := dk_167 255 231 (dk_at dksX4_bestLoad_2 17 rfl rfl)
theorem dX4_bestLoad_66 : decode cX4_bestLoad 66 = .ok (.iconst 0, 1) := dk_3 (dk_at dksX4_bestLoad_2 20 rfl rfl)
theorem dX4_bestLoad_67 : decode cX4_bestLoad 67 = .ok (.istore_n 3, 1) := dk_62 (dk_at dksX4_bestLoad_2 21 rfl rfl)
theorem dX4_bestLoad_68 : decode cX4_bestLoad 68 = .ok (.iload_n 3, 1) := dk_29 (dk_at dksX4_bestLoad_2 22 rfl rfl)
theorem dX4_bestLoad_69 : decode cX4_bestLoad 69 = .ok (.iload_n 2, 1) := dk_28 (dk_at dksX4_bestLoad_2 23 rfl rfl)
theorem dX4_bestLoad_70 : decode cX4_bestLoad 70 = .ok (.if_icmp .ge 138, 3) := dk_162 0 138 (dk_at dksX4_bestLoad_3 0 rfl rfl)
theorem dX4_bestLoad_73 : decode cX4_bestLoad 73 = .ok (.iconst 0, 1) := dk_3 (dk_at dksX4_bestLoad_3 3 rfl rfl)
theorem dX4_bestLoad_74 : decode cX4_bestLoad 74 = .ok (.istore 4, 2) := dk_54 4 (dk_at dksX4_bestLoad_3 4 rfl rfl)
theorem dX4_bestLoad_76 : decode cX4_bestLoad 76 = .ok (.iload 4, 2) := dk_21 4 (dk_at dksX4_bestLoad_3 6 rfl rfl)
theorem dX4_bestLoad_78 : decode cX4_bestLoad 78 = .ok (.sipush 999, 3) := dk_17 3 231 (dk_at dksX4_bestLoad_3 8 rfl rfl)
theorem dX4_bestLoad_81 : decode cX4_bestLoad 81 = .ok (.if_icmp .gt 121, 3) := dk_163 0 121 (dk_at dksX4_bestLoad_3 11 rfl rfl)
theorem dX4_bestLoad_84 : decode cX4_bestLoad 84 = .ok (.aload_n 0, 1) := dk_42 (dk_at dksX4_bestLoad_3 14 rfl rfl)
theorem dX4_bestLoad_85 : decode cX4_bestLoad 85 = .ok (.getfield 91, 3) := dk_180 0 91 (dk_at dksX4_bestLoad_3 15 rfl rfl)
theorem dX4_bestLoad_88 : decode cX4_bestLoad 88 = .ok (.sipush 1000, 3) := dk_17 3 232 (dk_at dksX4_bestLoad_3 18 rfl rfl)
theorem dX4_bestLoad_91 : decode cX4_bestLoad 91 = .ok (.iload_n 3, 1) := dk_29 (dk_at dksX4_bestLoad_3 21 rfl rfl)
theorem dX4_bestLoad_92 : decode cX4_bestLoad 92 = .ok (.imul, 1) := dk_104 (dk_at dksX4_bestLoad_3 22 rfl rfl)
theorem dX4_bestLoad_93 : decode cX4_bestLoad 93 = .ok (.iload 4, 2) := dk_21 4 (dk_at dksX4_bestLoad_4 0 rfl rfl)
theorem dX4_bestLoad_95 : decode cX4_bestLoad 95 = .ok (.iadd, 1) := dk_96 (dk_at dksX4_bestLoad_4 2 rfl rfl)
theorem dX4_bestLoad_96 : decode cX4_bestLoad 96 = .ok (.iaload, 1) := dk_46 (dk_at dksX4_bestLoad_4 3 rfl rfl)
theorem dX4_bestLoad_97 : decode cX4_bestLoad 97 = .ok (.istore 5, 2) := dk_54 5 (dk_at dksX4_bestLoad_4 4 rfl rfl)
theorem dX4_bestLoad_99 : decode cX4_bestLoad 99 = .ok (.aload_n 0, 1) := dk_42 (dk_at dksX4_bestLoad_4 6 rfl rfl)
theorem dX4_bestLoad_100 : decode cX4_bestLoad 100 = .ok (.getfield 13, 3) := dk_180 0 13 (dk_at dksX4_bestLoad_4 7 rfl rfl)
theorem dX4_bestLoad_103 : decode cX4_bestLoad 103 = .ok (.bipush 35, 2) := dk_16 35 (dk_at dksX4_bestLoad_4 10 rfl rfl)
theorem dX4_bestLoad_105 : decode cX4_bestLoad 105 = .ok (.iload_n 3, 1) := dk_29 (dk_at dksX4_bestLoad_4 12 rfl rfl)
theorem dX4_bestLoad_106 : decode cX4_bestLoad 106 = .ok (.iadd, 1) := dk_96 (dk_at dksX4_bestLoad_4 13 rfl rfl)
theorem dX4_bestLoad_107 : decode cX4_bestLoad 107 = .ok (.iaload, 1) := dk_46 (dk_at dksX4_bestLoad_4 14 rfl rfl)
theorem dX4_bestLoad_108 : decode cX4_bestLoad 108 = .ok (.ifCond .ne 37, 3) := dk_154 0 37 (dk_at dksX4_bestLoad_4 15 rfl rfl)
theorem dX4_bestLoad_111 : decode cX4_bestLoad 111 = .ok (.iload 4, 2) := dk_21 4 (dk_at dksX4_bestLoad_4 18 rfl rfl)
theorem dX4_bestLoad_113 : decode cX4_bestLoad 113 = .ok (.aload_n 0, 1) := dk_42 (dk_at dksX4_bestLoad_4 20 rfl rfl)
theorem dX4_bestLoad_114 : decode cX4_bestLoad 114 = .ok (.getfield 65, 3) := dk_180 0 65 (dk_at dksX4_bestLoad_4 21 rfl rfl)
theorem dX4_bestLoad_117 : decode cX4_bestLoad 117 = .ok (.iload_n 3, 1) := dk_29 (dk_at dksX4_bestLoad_5 0 rfl rfl)
theorem dX4_bestLoad_118 : decode cX4_bestLoad 118 = .ok (.iaload, 1) := dk_46 (dk_at dksX4_bestLoad_5 1 rfl rfl)
theorem dX4_bestLoad_119 : decode cX4_bestLoad 119 = .ok (.if_icmp .lt 26, 3) := dk_161 0 26 (dk_at dksX4_bestLoad_5 2 rfl rfl)
theorem dX4_bestLoad_122 : decode cX4_bestLoad 122 = .ok (.aload_n 0, 1) := dk_42 (dk_at dksX4_bestLoad_5 5 rfl rfl)
theorem dX4_bestLoad_123 : decode cX4_bestLoad 123 = .ok (.getfield 91, 3) := dk_180 0 91 (dk_at dksX4_bestLoad_5 6 rfl rfl)
theorem dX4_bestLoad_126 : decode cX4_bestLoad 126 = .ok (.sipush 1000, 3) := dk_17 3 232 (dk_at dksX4_bestLoad_5 9 rfl rfl)
theorem dX4_bestLoad_129 : decode cX4_bestLoad 129 = .ok (.iload_n 3, 1) := dk_29 (dk_at dksX4_bestLoad_5 12 rfl rfl)
theorem dX4_bestLoad_130 : decode cX4_bestLoad 130 = .ok (.imul, 1) := dk_104 (dk_at dksX4_bestLoad_5 13 rfl rfl)
theorem dX4_bestLoad_131 : decode cX4_bestLoad 131 = .ok (.iload 4, 2) := dk_21 4 (dk_at dksX4_bestLoad_5 14 rfl rfl)
theorem dX4_bestLoad_133 : decode cX4_bestLoad 133 = .ok (.iadd, 1) := dk_96 (dk_at dksX4_bestLoad_5 16 rfl rfl)
theorem dX4_bestLoad_134 : decode cX4_bestLoad 134 = .ok (.aload_n 0, 1) := dk_42 (dk_at dksX4_bestLoad_5 17 rfl rfl)
theorem dX4_bestLoad_135 : decode cX4_bestLoad 135 = .ok (.getfield 65, 3) := dk_180 0 65 (dk_at dksX4_bestLoad_5 18 rfl rfl)
theorem dX4_bestLoad_138 : decode cX4_bestLoad 138 = .ok (.iload_n 3, 1) := dk_29 (dk_at dksX4_bestLoad_5 21 rfl rfl)
theorem dX4_bestLoad_139 : decode cX4_bestLoad 139 = .ok (.iaload, 1) := dk_46 (dk_at dksX4_bestLoad_5 22 rfl rfl)
theorem dX4_bestLoad_140 : decode cX4_bestLoad 140 = .ok (.isub, 1) := dk_100 (dk_at dksX4_bestLoad_5 23 rfl rfl)
theorem dX4_bestLoad_141 : decode cX4_bestLoad 141 = .ok (.iaload, 1) := dk_46 (dk_at dksX4_bestLoad_6 0 rfl rfl)
theorem dX4_bestLoad_142 : decode cX4_bestLoad 142 = .ok (.goto 4, 3) := dk_167 0 4 (dk_at dksX4_bestLoad_6 1 rfl rfl)
theorem dX4_bestLoad_145 : decode cX4_bestLoad 145 = .ok (.iconst (-1), 1) := dk_2 (dk_at dksX4_bestLoad_6 4 rfl rfl)
theorem dX4_bestLoad_146 : decode cX4_bestLoad 146 = .ok (.istore 6, 2) := dk_54 6 (dk_at dksX4_bestLoad_6 5 rfl rfl)
theorem dX4_bestLoad_148 : decode cX4_bestLoad 148 = .ok (.aload_n 0, 1) := dk_42 (dk_at dksX4_bestLoad_6 7 rfl rfl)
theorem dX4_bestLoad_149 : decode cX4_bestLoad 149 = .ok (.getfield 91, 3) := dk_180 0 91 (dk_at dksX4_bestLoad_6 8 rfl rfl)
theorem dX4_bestLoad_152 : decode cX4_bestLoad 152 = .ok (.sipush 1000, 3) := dk_17 3 232 (dk_at dksX4_bestLoad_6 11 rfl rfl)
theorem dX4_bestLoad_155 : decode cX4_bestLoad 155 = .ok (.iload_n 3, 1) := dk_29 (dk_at dksX4_bestLoad_6 14 rfl rfl)
theorem dX4_bestLoad_156 : decode cX4_bestLoad 156 = .ok (.iconst 1, 1) := dk_4 (dk_at dksX4_bestLoad_6 15 rfl rfl)
theorem dX4_bestLoad_157 : decode cX4_bestLoad 157 = .ok (.iadd, 1) := dk_96 (dk_at dksX4_bestLoad_6 16 rfl rfl)
theorem dX4_bestLoad_158 : decode cX4_bestLoad 158 = .ok (.imul, 1) := dk_104 (dk_at dksX4_bestLoad_6 17 rfl rfl)
theorem dX4_bestLoad_159 : decode cX4_bestLoad 159 = .ok (.iload 4, 2) := dk_21 4 (dk_at dksX4_bestLoad_6 18 rfl rfl)
theorem dX4_bestLoad_161 : decode cX4_bestLoad 161 = .ok (.iadd, 1) := dk_96 (dk_at dksX4_bestLoad_6 20 rfl rfl)
theorem dX4_bestLoad_162 : decode cX4_bestLoad 162 = .ok (.iload 6, 2) := dk_21 6 (dk_at dksX4_bestLoad_6 21 rfl rfl)
theorem dX4_bestLoad_164 : decode cX4_bestLoad 164 = .ok (.ifCond .lt 29, 3) := dk_155 0 29 (dk_at dksX4_bestLoad_7 0 rfl rfl)
theorem dX4_bestLoad_167 : decode cX4_bestLoad 167 = .ok (.iload 6, 2) := dk_21 6 (dk_at dksX4_bestLoad_7 3 rfl rfl)
theorem dX4_bestLoad_169 : decode cX4_bestLoad 169 = .ok (.aload_n 0, 1) := dk_42 (dk_at dksX4_bestLoad_7 5 rfl rfl)
theorem dX4_bestLoad_170 : decode cX4_bestLoad 170 = .ok (.getfield 68, 3) := dk_180 0 68 (dk_at dksX4_bestLoad_7 6 rfl rfl)
theorem dX4_bestLoad_173 : decode cX4_bestLoad 173 = .ok (.iload_n 3, 1) := dk_29 (dk_at dksX4_bestLoad_7 9 rfl rfl)
theorem dX4_bestLoad_174 : decode cX4_bestLoad 174 = .ok (.iaload, 1) := dk_46 (dk_at dksX4_bestLoad_7 10 rfl rfl)
theorem dX4_bestLoad_175 : decode cX4_bestLoad 175 = .ok (.iadd, 1) := dk_96 (dk_at dksX4_bestLoad_7 11 rfl rfl)
theorem dX4_bestLoad_176 : decode cX4_bestLoad 176 = .ok (.iload 5, 2) := dk_21 5 (dk_at dksX4_bestLoad_7 12 rfl rfl)
theorem dX4_bestLoad_178 : decode cX4_bestLoad 178 = .ok (.if_icmp .le 15, 3) := dk_164 0 15 (dk_at dksX4_bestLoad_7 14 rfl rfl)
theorem dX4_bestLoad_181 : decode cX4_bestLoad 181 = .ok (.iload 6, 2) := dk_21 6 (dk_at dksX4_bestLoad_7 17 rfl rfl)
theorem dX4_bestLoad_183 : decode cX4_bestLoad 183 = .ok (.aload_n 0, 1) := dk_42 (dk_at dksX4_bestLoad_7 19 rfl rfl)
theorem dX4_bestLoad_184 : decode cX4_bestLoad 184 = .ok (.getfield 68, 3) := dk_180 0 68 (dk_at dksX4_bestLoad_7 20 rfl rfl)
theorem dX4_bestLoad_187 : decode cX4_bestLoad 187 = .ok (.iload_n 3, 1) := dk_29 (dk_at dksX4_bestLoad_7 23 rfl rfl)
theorem dX4_bestLoad_188 : decode cX4_bestLoad 188 = .ok (.iaload, 1) := dk_46 (dk_at dksX4_bestLoad_8 0 rfl rfl)
theorem dX4_bestLoad_189 : decode cX4_bestLoad 189 = .ok (.iadd, 1) := dk_96 (dk_at dksX4_bestLoad_8 1 rfl rfl)
theorem dX4_bestLoad_190 : decode cX4_bestLoad 190 = .ok (.goto 5, 3) := dk_167 0 5 (dk_at dksX4_bestLoad_8 2 rfl rfl)
theorem dX4_bestLoad_193 : decode cX4_bestLoad 193 = .ok (.iload 5, 2) := dk_21 5 (dk_at dksX4_bestLoad_8 5 rfl rfl)
theorem dX4_bestLoad_195 : decode cX4_bestLoad 195 = .ok (.iastore, 1) := dk_79 (dk_at dksX4_bestLoad_8 7 rfl rfl)
theorem dX4_bestLoad_196 : decode cX4_bestLoad 196 = .ok (.iinc 4 1, 3) := dk_132 4 1 (dk_at dksX4_bestLoad_8 8 rfl rfl)
theorem dX4_bestLoad_199 : decode cX4_bestLoad 199 = .ok (.goto (-123), 3) := dk_167 255 133 (dk_at dksX4_bestLoad_8 11 rfl rfl)
theorem dX4_bestLoad_202 : decode cX4_bestLoad 202 = .ok (.iinc 3 1, 3) := dk_132 3 1 (dk_at dksX4_bestLoad_8 14 rfl rfl)
theorem dX4_bestLoad_205 : decode cX4_bestLoad 205 = .ok (.goto (-137), 3) := dk_167 255 119 (dk_at dksX4_bestLoad_8 17 rfl rfl)
theorem dX4_bestLoad_208 : decode cX4_bestLoad 208 = .ok (.iconst 0, 1) := dk_3 (dk_at dksX4_bestLoad_8 20 rfl rfl)
theorem dX4_bestLoad_209 : decode cX4_bestLoad 209 = .ok (.istore_n 3, 1) := dk_62 (dk_at dksX4_bestLoad_8 21 rfl rfl)
theorem dX4_bestLoad_210 : decode cX4_bestLoad 210 = .ok (.iconst 0, 1) := dk_3 (dk_at dksX4_bestLoad_8 22 rfl rfl)
theorem dX4_bestLoad_211 : decode cX4_bestLoad 211 = .ok (.istore 4, 2) := dk_54 4 (dk_at dksX4_bestLoad_9 0 rfl rfl)
theorem dX4_bestLoad_213 : decode cX4_bestLoad 213 = .ok (.iload 4, 2) := dk_21 4 (dk_at dksX4_bestLoad_9 2 rfl rfl)
theorem dX4_bestLoad_215 : decode cX4_bestLoad 215 = .ok (.aload_n 0, 1) := dk_42 (dk_at dksX4_bestLoad_9 4 rfl rfl)
theorem dX4_bestLoad_216 : decode cX4_bestLoad 216 = .ok (.getfield 56, 3) := dk_180 0 56 (dk_at dksX4_bestLoad_9 5 rfl rfl)
theorem dX4_bestLoad_219 : decode cX4_bestLoad 219 = .ok (.iload_n 1, 1) := dk_27 (dk_at dksX4_bestLoad_9 8 rfl rfl)
theorem dX4_bestLoad_220 : decode cX4_bestLoad 220 = .ok (.iaload, 1) := dk_46 (dk_at dksX4_bestLoad_9 9 rfl rfl)
theorem dX4_bestLoad_221 : decode cX4_bestLoad 221 = .ok (.if_icmp .gt 44, 3) := dk_163 0 44 (dk_at dksX4_bestLoad_9 10 rfl rfl)
theorem dX4_bestLoad_224 : decode cX4_bestLoad 224 = .ok (.aload_n 0, 1) := dk_42 (dk_at dksX4_bestLoad_9 13 rfl rfl)
theorem dX4_bestLoad_225 : decode cX4_bestLoad 225 = .ok (.getfield 91, 3) := dk_180 0 91 (dk_at dksX4_bestLoad_9 14 rfl rfl)
theorem dX4_bestLoad_228 : decode cX4_bestLoad 228 = .ok (.sipush 1000, 3) := dk_17 3 232 (dk_at dksX4_bestLoad_9 17 rfl rfl)
theorem dX4_bestLoad_231 : decode cX4_bestLoad 231 = .ok (.iload_n 2, 1) := dk_28 (dk_at dksX4_bestLoad_9 20 rfl rfl)
theorem dX4_bestLoad_232 : decode cX4_bestLoad 232 = .ok (.imul, 1) := dk_104 (dk_at dksX4_bestLoad_9 21 rfl rfl)
theorem dX4_bestLoad_233 : decode cX4_bestLoad 233 = .ok (.iload 4, 2) := dk_21 4 (dk_at dksX4_bestLoad_9 22 rfl rfl)
theorem dX4_bestLoad_235 : decode cX4_bestLoad 235 = .ok (.iadd, 1) := dk_96 (dk_at dksX4_bestLoad_10 0 rfl rfl)
theorem dX4_bestLoad_236 : decode cX4_bestLoad 236 = .ok (.iaload, 1) := dk_46 (dk_at dksX4_bestLoad_10 1 rfl rfl)
theorem dX4_bestLoad_237 : decode cX4_bestLoad 237 = .ok (.aload_n 0, 1) := dk_42 (dk_at dksX4_bestLoad_10 2 rfl rfl)
theorem dX4_bestLoad_238 : decode cX4_bestLoad 238 = .ok (.getfield 91, 3) := dk_180 0 91 (dk_at dksX4_bestLoad_10 3 rfl rfl)
theorem dX4_bestLoad_241 : decode cX4_bestLoad 241 = .ok (.sipush 1000, 3) := dk_17 3 232 (dk_at dksX4_bestLoad_10 6 rfl rfl)
theorem dX4_bestLoad_244 : decode cX4_bestLoad 244 = .ok (.iload_n 2, 1) := dk_28 (dk_at dksX4_bestLoad_10 9 rfl rfl)
theorem dX4_bestLoad_245 : decode cX4_bestLoad 245 = .ok (.imul, 1) := dk_104 (dk_at dksX4_bestLoad_10 10 rfl rfl)
theorem dX4_bestLoad_246 : decode cX4_bestLoad 246 = .ok (.iload_n 3, 1) := dk_29 (dk_at dksX4_bestLoad_10 11 rfl rfl)
theorem dX4_bestLoad_247 : decode cX4_bestLoad 247 = .ok (.iadd, 1) := dk_96 (dk_at dksX4_bestLoad_10 12 rfl rfl)
theorem dX4_bestLoad_248 : decode cX4_bestLoad 248 = .ok (.iaload, 1) := dk_46 (dk_at dksX4_bestLoad_10 13 rfl rfl)
theorem dX4_bestLoad_249 : decode cX4_bestLoad 249 = .ok (.if_icmp .le 8, 3) := dk_164 0 8 (dk_at dksX4_bestLoad_10 14 rfl rfl)
theorem dX4_bestLoad_252 : decode cX4_bestLoad 252 = .ok (.iload 4, 2) := dk_21 4 (dk_at dksX4_bestLoad_10 17 rfl rfl)
theorem dX4_bestLoad_254 : decode cX4_bestLoad 254 = .ok (.goto 4, 3) := dk_167 0 4 (dk_at dksX4_bestLoad_10 19 rfl rfl)
theorem dX4_bestLoad_257 : decode cX4_bestLoad 257 = .ok (.iload_n 3, 1) := dk_29 (dk_at dksX4_bestLoad_10 22 rfl rfl)
theorem dX4_bestLoad_258 : decode cX4_bestLoad 258 = .ok (.istore_n 3, 1) := dk_62 (dk_at dksX4_bestLoad_10 23 rfl rfl)
theorem dX4_bestLoad_259 : decode cX4_bestLoad 259 = .ok (.iinc 4 1, 3) := dk_132 4 1 (dk_at dksX4_bestLoad_11 0 rfl rfl)
theorem dX4_bestLoad_262 : decode cX4_bestLoad 262 = .ok (.goto (-49), 3) := dk_167 255 207 (dk_at dksX4_bestLoad_11 3 rfl rfl)
theorem dX4_bestLoad_265 : decode cX4_bestLoad 265 = .ok (.aload_n 0, 1) := dk_42 (dk_at dksX4_bestLoad_11 6 rfl rfl)
theorem dX4_bestLoad_266 : decode cX4_bestLoad 266 = .ok (.iload_n 2, 1) := dk_28 (dk_at dksX4_bestLoad_11 7 rfl rfl)
theorem dX4_bestLoad_267 : decode cX4_bestLoad 267 = .ok (.iload_n 3, 1) := dk_29 (dk_at dksX4_bestLoad_11 8 rfl rfl)
theorem dX4_bestLoad_268 : decode cX4_bestLoad 268 = .ok (.invokevirtual 294, 3) := dk_182 1 38 (dk_at dksX4_bestLoad_11 9 rfl rfl)
theorem dX4_bestLoad_271 : decode cX4_bestLoad 271 = .ok (.ireturn, 1) := dk_172 (dk_at dksX4_bestLoad_11 12 rfl rfl)
abbrev cX4_lowest : ByteArray := prog_16_method_58_code
def yX4_lowest : MethodName := ⟨RX4, "lowest", "(II)I"⟩
def dkwX4_lowest_3 : List UInt8 := [180, 0, 68, 21, 6, 46, 100, 54, 5, 132, 6, 255, 167, 255, 198, 29, 172]
abbrev dktX4_lowest_3 : List UInt8 := dkwX4_lowest_3 ++ []
def dkwX4_lowest_2 : List UInt8 := [29, 4, 21, 6, 120, 128, 62, 21, 4, 42, 180, 0, 65, 21, 6, 46, 100, 54, 4, 21, 5, 42]
abbrev dktX4_lowest_2 : List UInt8 := dkwX4_lowest_2 ++ dktX4_lowest_3
def dkwX4_lowest_1 : List UInt8 := [21, 6, 155, 0, 59, 42, 180, 0, 91, 17, 3, 232, 21, 6, 104, 21, 4, 96, 46, 21, 5, 159, 0, 34]
abbrev dktX4_lowest_1 : List UInt8 := dkwX4_lowest_1 ++ dktX4_lowest_2
def dkwX4_lowest_0 : List UInt8 := [3, 62, 28, 54, 4, 42, 180, 0, 91, 17, 3, 232, 27, 104, 28, 96, 46, 54, 5, 27, 4, 100, 54, 6]
abbrev dktX4_lowest_0 : List UInt8 := dkwX4_lowest_0 ++ dktX4_lowest_1
theorem dksX4_lowest_0 : cX4_lowest.data.toList.drop 0 = dktX4_lowest_0 := by decide +kernel
theorem dksX4_lowest_1 : cX4_lowest.data.toList.drop 24 = dktX4_lowest_1 := dk_seg dksX4_lowest_0 24 rfl rfl
theorem dksX4_lowest_2 : cX4_lowest.data.toList.drop 48 = dktX4_lowest_2 := dk_seg dksX4_lowest_1 24 rfl rfl
theorem dksX4_lowest_3 : cX4_lowest.data.toList.drop 70 = dktX4_lowest_3 := dk_seg dksX4_lowest_2 22 rfl rfl
theorem dX4_lowest_0 : decode cX4_lowest 0 = .ok (.iconst 0, 1) := dk_3 (dk_at dksX4_lowest_0 0 rfl rfl)
theorem dX4_lowest_1 : decode cX4_lowest 1 = .ok (.istore_n 3, 1) := dk_62 (dk_at dksX4_lowest_0 1 rfl rfl)
theorem dX4_lowest_2 : decode cX4_lowest 2 = .ok (.iload_n 2, 1) := dk_28 (dk_at dksX4_lowest_0 2 rfl rfl)
theorem dX4_lowest_3 : decode cX4_lowest 3 = .ok (.istore 4, 2) := dk_54 4 (dk_at dksX4_lowest_0 3 rfl rfl)
theorem dX4_lowest_5 : decode cX4_lowest 5 = .ok (.aload_n 0, 1) := dk_42 (dk_at dksX4_lowest_0 5 rfl rfl)
theorem dX4_lowest_6 : decode cX4_lowest 6 = .ok (.getfield 91, 3) := dk_180 0 91 (dk_at dksX4_lowest_0 6 rfl rfl)
theorem dX4_lowest_9 : decode cX4_lowest 9 = .ok (.sipush 1000, 3) := dk_17 3 232 (dk_at dksX4_lowest_0 9 rfl rfl)
theorem dX4_lowest_12 : decode cX4_lowest 12 = .ok (.iload_n 1, 1) := dk_27 (dk_at dksX4_lowest_0 12 rfl rfl)
theorem dX4_lowest_13 : decode cX4_lowest 13 = .ok (.imul, 1) := dk_104 (dk_at dksX4_lowest_0 13 rfl rfl)
theorem dX4_lowest_14 : decode cX4_lowest 14 = .ok (.iload_n 2, 1) := dk_28 (dk_at dksX4_lowest_0 14 rfl rfl)
theorem dX4_lowest_15 : decode cX4_lowest 15 = .ok (.iadd, 1) := dk_96 (dk_at dksX4_lowest_0 15 rfl rfl)
theorem dX4_lowest_16 : decode cX4_lowest 16 = .ok (.iaload, 1) := dk_46 (dk_at dksX4_lowest_0 16 rfl rfl)
theorem dX4_lowest_17 : decode cX4_lowest 17 = .ok (.istore 5, 2) := dk_54 5 (dk_at dksX4_lowest_0 17 rfl rfl)
theorem dX4_lowest_19 : decode cX4_lowest 19 = .ok (.iload_n 1, 1) := dk_27 (dk_at dksX4_lowest_0 19 rfl rfl)
theorem dX4_lowest_20 : decode cX4_lowest 20 = .ok (.iconst 1, 1) := dk_4 (dk_at dksX4_lowest_0 20 rfl rfl)
theorem dX4_lowest_21 : decode cX4_lowest 21 = .ok (.isub, 1) := dk_100 (dk_at dksX4_lowest_0 21 rfl rfl)
theorem dX4_lowest_22 : decode cX4_lowest 22 = .ok (.istore 6, 2) := dk_54 6 (dk_at dksX4_lowest_0 22 rfl rfl)
theorem dX4_lowest_24 : decode cX4_lowest 24 = .ok (.iload 6, 2) := dk_21 6 (dk_at dksX4_lowest_1 0 rfl rfl)
theorem dX4_lowest_26 : decode cX4_lowest 26 = .ok (.ifCond .lt 59, 3) := dk_155 0 59 (dk_at dksX4_lowest_1 2 rfl rfl)
theorem dX4_lowest_29 : decode cX4_lowest 29 = .ok (.aload_n 0, 1) := dk_42 (dk_at dksX4_lowest_1 5 rfl rfl)
theorem dX4_lowest_30 : decode cX4_lowest 30 = .ok (.getfield 91, 3) := dk_180 0 91 (dk_at dksX4_lowest_1 6 rfl rfl)
theorem dX4_lowest_33 : decode cX4_lowest 33 = .ok (.sipush 1000, 3) := dk_17 3 232 (dk_at dksX4_lowest_1 9 rfl rfl)
theorem dX4_lowest_36 : decode cX4_lowest 36 = .ok (.iload 6, 2) := dk_21 6 (dk_at dksX4_lowest_1 12 rfl rfl)
theorem dX4_lowest_38 : decode cX4_lowest 38 = .ok (.imul, 1) := dk_104 (dk_at dksX4_lowest_1 14 rfl rfl)
theorem dX4_lowest_39 : decode cX4_lowest 39 = .ok (.iload 4, 2) := dk_21 4 (dk_at dksX4_lowest_1 15 rfl rfl)
theorem dX4_lowest_41 : decode cX4_lowest 41 = .ok (.iadd, 1) := dk_96 (dk_at dksX4_lowest_1 17 rfl rfl)
theorem dX4_lowest_42 : decode cX4_lowest 42 = .ok (.iaload, 1) := dk_46 (dk_at dksX4_lowest_1 18 rfl rfl)
theorem dX4_lowest_43 : decode cX4_lowest 43 = .ok (.iload 5, 2) := dk_21 5 (dk_at dksX4_lowest_1 19 rfl rfl)
theorem dX4_lowest_45 : decode cX4_lowest 45 = .ok (.if_icmp .eq 34, 3) := dk_159 0 34 (dk_at dksX4_lowest_1 21 rfl rfl)
theorem dX4_lowest_48 : decode cX4_lowest 48 = .ok (.iload_n 3, 1) := dk_29 (dk_at dksX4_lowest_2 0 rfl rfl)
theorem dX4_lowest_49 : decode cX4_lowest 49 = .ok (.iconst 1, 1) := dk_4 (dk_at dksX4_lowest_2 1 rfl rfl)
theorem dX4_lowest_50 : decode cX4_lowest 50 = .ok (.iload 6, 2) := dk_21 6 (dk_at dksX4_lowest_2 2 rfl rfl)
theorem dX4_lowest_52 : decode cX4_lowest 52 = .ok (.ishl, 1) := dk_120 (dk_at dksX4_lowest_2 4 rfl rfl)
theorem dX4_lowest_53 : decode cX4_lowest 53 = .ok (.ior, 1) := dk_128 (dk_at dksX4_lowest_2 5 rfl rfl)
theorem dX4_lowest_54 : decode cX4_lowest 54 = .ok (.istore_n 3, 1) := dk_62 (dk_at dksX4_lowest_2 6 rfl rfl)
theorem dX4_lowest_55 : decode cX4_lowest 55 = .ok (.iload 4, 2) := dk_21 4 (dk_at dksX4_lowest_2 7 rfl rfl)
theorem dX4_lowest_57 : decode cX4_lowest 57 = .ok (.aload_n 0, 1) := dk_42 (dk_at dksX4_lowest_2 9 rfl rfl)
theorem dX4_lowest_58 : decode cX4_lowest 58 = .ok (.getfield 65, 3) := dk_180 0 65 (dk_at dksX4_lowest_2 10 rfl rfl)
theorem dX4_lowest_61 : decode cX4_lowest 61 = .ok (.iload 6, 2) := dk_21 6 (dk_at dksX4_lowest_2 13 rfl rfl)
theorem dX4_lowest_63 : decode cX4_lowest 63 = .ok (.iaload, 1) := dk_46 (dk_at dksX4_lowest_2 15 rfl rfl)
theorem dX4_lowest_64 : decode cX4_lowest 64 = .ok (.isub, 1) := dk_100 (dk_at dksX4_lowest_2 16 rfl rfl)
theorem dX4_lowest_65 : decode cX4_lowest 65 = .ok (.istore 4, 2) := dk_54 4 (dk_at dksX4_lowest_2 17 rfl rfl)
theorem dX4_lowest_67 : decode cX4_lowest 67 = .ok (.iload 5, 2) := dk_21 5 (dk_at dksX4_lowest_2 19 rfl rfl)
theorem dX4_lowest_69 : decode cX4_lowest 69 = .ok (.aload_n 0, 1) := dk_42 (dk_at dksX4_lowest_2 21 rfl rfl)
theorem dX4_lowest_70 : decode cX4_lowest 70 = .ok (.getfield 68, 3) := dk_180 0 68 (dk_at dksX4_lowest_3 0 rfl rfl)
theorem dX4_lowest_73 : decode cX4_lowest 73 = .ok (.iload 6, 2) := dk_21 6 (dk_at dksX4_lowest_3 3 rfl rfl)
theorem dX4_lowest_75 : decode cX4_lowest 75 = .ok (.iaload, 1) := dk_46 (dk_at dksX4_lowest_3 5 rfl rfl)
theorem dX4_lowest_76 : decode cX4_lowest 76 = .ok (.isub, 1) := dk_100 (dk_at dksX4_lowest_3 6 rfl rfl)
theorem dX4_lowest_77 : decode cX4_lowest 77 = .ok (.istore 5, 2) := dk_54 5 (dk_at dksX4_lowest_3 7 rfl rfl)
theorem dX4_lowest_79 : decode cX4_lowest 79 = .ok (.iinc 6 (-1), 3) := dk_132 6 255 (dk_at dksX4_lowest_3 9 rfl rfl)
theorem dX4_lowest_82 : decode cX4_lowest 82 = .ok (.goto (-58), 3) := dk_167 255 198 (dk_at dksX4_lowest_3 12 rfl rfl)
theorem dX4_lowest_85 : decode cX4_lowest 85 = .ok (.iload_n 3, 1) := dk_29 (dk_at dksX4_lowest_3 15 rfl rfl)
theorem dX4_lowest_86 : decode cX4_lowest 86 = .ok (.ireturn, 1) := dk_172 (dk_at dksX4_lowest_3 16 rfl rfl)
abbrev cX4_weightOf : ByteArray := prog_16_method_60_code
def yX4_weightOf : MethodName := ⟨RX4, "weightOf", "(I)I"⟩
def dkwX4_weightOf_1 : List UInt8 := [167, 0, 4, 2, 172]
abbrev dktX4_weightOf_1 : List UInt8 := dkwX4_weightOf_1 ++ []
def dkwX4_weightOf_0 : List UInt8 := [42, 3, 181, 0, 1, 42, 27, 182, 1, 41, 153, 0, 15, 42, 27, 42, 180, 0, 65, 182, 1, 44]
abbrev dktX4_weightOf_0 : List UInt8 := dkwX4_weightOf_0 ++ dktX4_weightOf_1
theorem dksX4_weightOf_0 : cX4_weightOf.data.toList.drop 0 = dktX4_weightOf_0 := by decide +kernel
theorem dksX4_weightOf_1 : cX4_weightOf.data.toList.drop 22 = dktX4_weightOf_1 := dk_seg dksX4_weightOf_0 22 rfl rfl
theorem dX4_weightOf_0 : decode cX4_weightOf 0 = .ok (.aload_n 0, 1) := dk_42 (dk_at dksX4_weightOf_0 0 rfl rfl)
theorem dX4_weightOf_1 : decode cX4_weightOf 1 = .ok (.iconst 0, 1) := dk_3 (dk_at dksX4_weightOf_0 1 rfl rfl)
theorem dX4_weightOf_2 : decode cX4_weightOf 2 = .ok (.putfield 1, 3) := dk_181 0 1 (dk_at dksX4_weightOf_0 2 rfl rfl)
theorem dX4_weightOf_5 : decode cX4_weightOf 5 = .ok (.aload_n 0, 1) := dk_42 (dk_at dksX4_weightOf_0 5 rfl rfl)
theorem dX4_weightOf_6 : decode cX4_weightOf 6 = .ok (.iload_n 1, 1) := dk_27 (dk_at dksX4_weightOf_0 6 rfl rfl)
theorem dX4_weightOf_7 : decode cX4_weightOf 7 = .ok (.invokevirtual 297, 3) := dk_182 1 41 (dk_at dksX4_weightOf_0 7 rfl rfl)
theorem dX4_weightOf_10 : decode cX4_weightOf 10 = .ok (.ifCond .eq 15, 3) := dk_153 0 15 (dk_at dksX4_weightOf_0 10 rfl rfl)
theorem dX4_weightOf_13 : decode cX4_weightOf 13 = .ok (.aload_n 0, 1) := dk_42 (dk_at dksX4_weightOf_0 13 rfl rfl)
theorem dX4_weightOf_14 : decode cX4_weightOf 14 = .ok (.iload_n 1, 1) := dk_27 (dk_at dksX4_weightOf_0 14 rfl rfl)
theorem dX4_weightOf_15 : decode cX4_weightOf 15 = .ok (.aload_n 0, 1) := dk_42 (dk_at dksX4_weightOf_0 15 rfl rfl)
theorem dX4_weightOf_16 : decode cX4_weightOf 16 = .ok (.getfield 65, 3) := dk_180 0 65 (dk_at dksX4_weightOf_0 16 rfl rfl)
theorem dX4_weightOf_19 : decode cX4_weightOf 19 = .ok (.invokevirtual 300, 3) := dk_182 1 44 (dk_at dksX4_weightOf_0 19 rfl rfl)
theorem dX4_weightOf_22 : decode cX4_weightOf 22 = .ok (.goto 4, 3) := dk_167 0 4 (dk_at dksX4_weightOf_1 0 rfl rfl)
theorem dX4_weightOf_25 : decode cX4_weightOf 25 = .ok (.iconst (-1), 1) := dk_2 (dk_at dksX4_weightOf_1 3 rfl rfl)
theorem dX4_weightOf_26 : decode cX4_weightOf 26 = .ok (.ireturn, 1) := dk_172 (dk_at dksX4_weightOf_1 4 rfl rfl)
abbrev cX4_areLetters : ByteArray := prog_16_method_33_code
def yX4_areLetters : MethodName := ⟨RX4, "areLetters", "(I)Z"⟩
def dkwX4_areLetters_0 : List UInt8 := [27, 3, 4, 42, 180, 0, 62, 3, 46, 120, 4, 100, 184, 0, 139, 172]
abbrev dktX4_areLetters_0 : List UInt8 := dkwX4_areLetters_0 ++ []
theorem dksX4_areLetters_0 : cX4_areLetters.data.toList.drop 0 = dktX4_areLetters_0 := by decide +kernel
theorem dX4_areLetters_0 : decode cX4_areLetters 0 = .ok (.iload_n 1, 1) := dk_27 (dk_at dksX4_areLetters_0 0 rfl rfl)
theorem dX4_areLetters_1 : decode cX4_areLetters 1 = .ok (.iconst 0, 1) := dk_3 (dk_at dksX4_areLetters_0 1 rfl rfl)
theorem dX4_areLetters_2 : decode cX4_areLetters 2 = .ok (.iconst 1, 1) := dk_4 (dk_at dksX4_areLetters_0 2 rfl rfl)
theorem dX4_areLetters_3 : decode cX4_areLetters 3 = .ok (.aload_n 0, 1) := dk_42 (dk_at dksX4_areLetters_0 3 rfl rfl)
theorem dX4_areLetters_4 : decode cX4_areLetters 4 = .ok (.getfield 62, 3) := dk_180 0 62 (dk_at dksX4_areLetters_0 4 rfl rfl)
theorem dX4_areLetters_7 : decode cX4_areLetters 7 = .ok (.iconst 0, 1) := dk_3 (dk_at dksX4_areLetters_0 7 rfl rfl)
theorem dX4_areLetters_8 : decode cX4_areLetters 8 = .ok (.iaload, 1) := dk_46 (dk_at dksX4_areLetters_0 8 rfl rfl)
theorem dX4_areLetters_9 : decode cX4_areLetters 9 = .ok (.ishl, 1) := dk_120 (dk_at dksX4_areLetters_0 9 rfl rfl)
theorem dX4_areLetters_10 : decode cX4_areLetters 10 = .ok (.iconst 1, 1) := dk_4 (dk_at dksX4_areLetters_0 10 rfl rfl)
theorem dX4_areLetters_11 : decode cX4_areLetters 11 = .ok (.isub, 1) := dk_100 (dk_at dksX4_areLetters_0 11 rfl rfl)
theorem dX4_areLetters_12 : decode cX4_areLetters 12 = .ok (.invokestatic 139, 3) := dk_184 0 139 (dk_at dksX4_areLetters_0 12 rfl rfl)
theorem dX4_areLetters_15 : decode cX4_areLetters 15 = .ok (.ireturn, 1) := dk_172 (dk_at dksX4_areLetters_0 15 rfl rfl)
abbrev cX4_sumOf : ByteArray := prog_16_method_59_code
def yX4_sumOf : MethodName := ⟨RX4, "sumOf", "(I[I)I"⟩
def dkwX4_sumOf_1 : List UInt8 := [153, 0, 10, 44, 21, 4, 46, 167, 0, 4, 3, 96, 62, 132, 4, 1, 167, 255, 222, 29, 172]
abbrev dktX4_sumOf_1 : List UInt8 := dkwX4_sumOf_1 ++ []
def dkwX4_sumOf_0 : List UInt8 := [3, 62, 3, 54, 4, 21, 4, 42, 180, 0, 62, 3, 46, 162, 0, 29, 29, 27, 21, 4, 184, 0, 173]
abbrev dktX4_sumOf_0 : List UInt8 := dkwX4_sumOf_0 ++ dktX4_sumOf_1
theorem dksX4_sumOf_0 : cX4_sumOf.data.toList.drop 0 = dktX4_sumOf_0 := by decide +kernel
theorem dksX4_sumOf_1 : cX4_sumOf.data.toList.drop 23 = dktX4_sumOf_1 := dk_seg dksX4_sumOf_0 23 rfl rfl
theorem dX4_sumOf_0 : decode cX4_sumOf 0 = .ok (.iconst 0, 1) := dk_3 (dk_at dksX4_sumOf_0 0 rfl rfl)
theorem dX4_sumOf_1 : decode cX4_sumOf 1 = .ok (.istore_n 3, 1) := dk_62 (dk_at dksX4_sumOf_0 1 rfl rfl)
theorem dX4_sumOf_2 : decode cX4_sumOf 2 = .ok (.iconst 0, 1) := dk_3 (dk_at dksX4_sumOf_0 2 rfl rfl)
theorem dX4_sumOf_3 : decode cX4_sumOf 3 = .ok (.istore 4, 2) := dk_54 4 (dk_at dksX4_sumOf_0 3 rfl rfl)
theorem dX4_sumOf_5 : decode cX4_sumOf 5 = .ok (.iload 4, 2) := dk_21 4 (dk_at dksX4_sumOf_0 5 rfl rfl)
theorem dX4_sumOf_7 : decode cX4_sumOf 7 = .ok (.aload_n 0, 1) := dk_42 (dk_at dksX4_sumOf_0 7 rfl rfl)
theorem dX4_sumOf_8 : decode cX4_sumOf 8 = .ok (.getfield 62, 3) := dk_180 0 62 (dk_at dksX4_sumOf_0 8 rfl rfl)
theorem dX4_sumOf_11 : decode cX4_sumOf 11 = .ok (.iconst 0, 1) := dk_3 (dk_at dksX4_sumOf_0 11 rfl rfl)
theorem dX4_sumOf_12 : decode cX4_sumOf 12 = .ok (.iaload, 1) := dk_46 (dk_at dksX4_sumOf_0 12 rfl rfl)
theorem dX4_sumOf_13 : decode cX4_sumOf 13 = .ok (.if_icmp .ge 29, 3) := dk_162 0 29 (dk_at dksX4_sumOf_0 13 rfl rfl)
theorem dX4_sumOf_16 : decode cX4_sumOf 16 = .ok (.iload_n 3, 1) := dk_29 (dk_at dksX4_sumOf_0 16 rfl rfl)
theorem dX4_sumOf_17 : decode cX4_sumOf 17 = .ok (.iload_n 1, 1) := dk_27 (dk_at dksX4_sumOf_0 17 rfl rfl)
theorem dX4_sumOf_18 : decode cX4_sumOf 18 = .ok (.iload 4, 2) := dk_21 4 (dk_at dksX4_sumOf_0 18 rfl rfl)
theorem dX4_sumOf_20 : decode cX4_sumOf 20 = .ok (.invokestatic 173, 3) := dk_184 0 173 (dk_at dksX4_sumOf_0 20 rfl rfl)
theorem dX4_sumOf_23 : decode cX4_sumOf 23 = .ok (.ifCond .eq 10, 3) := dk_153 0 10 (dk_at dksX4_sumOf_1 0 rfl rfl)
theorem dX4_sumOf_26 : decode cX4_sumOf 26 = .ok (.aload_n 2, 1) := dk_44 (dk_at dksX4_sumOf_1 3 rfl rfl)
theorem dX4_sumOf_27 : decode cX4_sumOf 27 = .ok (.iload 4, 2) := dk_21 4 (dk_at dksX4_sumOf_1 4 rfl rfl)
theorem dX4_sumOf_29 : decode cX4_sumOf 29 = .ok (.iaload, 1) := dk_46 (dk_at dksX4_sumOf_1 6 rfl rfl)
theorem dX4_sumOf_30 : decode cX4_sumOf 30 = .ok (.goto 4, 3) := dk_167 0 4 (dk_at dksX4_sumOf_1 7 rfl rfl)
theorem dX4_sumOf_33 : decode cX4_sumOf 33 = .ok (.iconst 0, 1) := dk_3 (dk_at dksX4_sumOf_1 10 rfl rfl)
theorem dX4_sumOf_34 : decode cX4_sumOf 34 = .ok (.iadd, 1) := dk_96 (dk_at dksX4_sumOf_1 11 rfl rfl)
theorem dX4_sumOf_35 : decode cX4_sumOf 35 = .ok (.istore_n 3, 1) := dk_62 (dk_at dksX4_sumOf_1 12 rfl rfl)
theorem dX4_sumOf_36 : decode cX4_sumOf 36 = .ok (.iinc 4 1, 3) := dk_132 4 1 (dk_at dksX4_sumOf_1 13 rfl rfl)
theorem dX4_sumOf_39 : decode cX4_sumOf 39 = .ok (.goto (-34), 3) := dk_167 255 222 (dk_at dksX4_sumOf_1 16 rfl rfl)
theorem dX4_sumOf_42 : decode cX4_sumOf 42 = .ok (.iload_n 3, 1) := dk_29 (dk_at dksX4_sumOf_1 19 rfl rfl)
theorem dX4_sumOf_43 : decode cX4_sumOf 43 = .ok (.ireturn, 1) := dk_172 (dk_at dksX4_sumOf_1 20 rfl rfl)
abbrev cX4_priorityOf : ByteArray := prog_16_method_61_code
def yX4_priorityOf : MethodName := ⟨RX4, "priorityOf", "(I)I"⟩
def dkwX4_priorityOf_1 : List UInt8 := [167, 0, 4, 2, 172]
abbrev dktX4_priorityOf_1 : List UInt8 := dkwX4_priorityOf_1 ++ []
def dkwX4_priorityOf_0 : List UInt8 := [42, 3, 181, 0, 1, 42, 27, 182, 1, 41, 153, 0, 15, 42, 27, 42, 180, 0, 68, 182, 1, 44]
abbrev dktX4_priorityOf_0 : List UInt8 := dkwX4_priorityOf_0 ++ dktX4_priorityOf_1
theorem dksX4_priorityOf_0 : cX4_priorityOf.data.toList.drop 0 = dktX4_priorityOf_0 := by decide +kernel
theorem dksX4_priorityOf_1 : cX4_priorityOf.data.toList.drop 22 = dktX4_priorityOf_1 := dk_seg dksX4_priorityOf_0 22 rfl rfl
theorem dX4_priorityOf_0 : decode cX4_priorityOf 0 = .ok (.aload_n 0, 1) := dk_42 (dk_at dksX4_priorityOf_0 0 rfl rfl)
theorem dX4_priorityOf_1 : decode cX4_priorityOf 1 = .ok (.iconst 0, 1) := dk_3 (dk_at dksX4_priorityOf_0 1 rfl rfl)
theorem dX4_priorityOf_2 : decode cX4_priorityOf 2 = .ok (.putfield 1, 3) := dk_181 0 1 (dk_at dksX4_priorityOf_0 2 rfl rfl)
theorem dX4_priorityOf_5 : decode cX4_priorityOf 5 = .ok (.aload_n 0, 1) := dk_42 (dk_at dksX4_priorityOf_0 5 rfl rfl)
theorem dX4_priorityOf_6 : decode cX4_priorityOf 6 = .ok (.iload_n 1, 1) := dk_27 (dk_at dksX4_priorityOf_0 6 rfl rfl)
theorem dX4_priorityOf_7 : decode cX4_priorityOf 7 = .ok (.invokevirtual 297, 3) := dk_182 1 41 (dk_at dksX4_priorityOf_0 7 rfl rfl)
theorem dX4_priorityOf_10 : decode cX4_priorityOf 10 = .ok (.ifCond .eq 15, 3) := dk_153 0 15 (dk_at dksX4_priorityOf_0 10 rfl rfl)
theorem dX4_priorityOf_13 : decode cX4_priorityOf 13 = .ok (.aload_n 0, 1) := dk_42 (dk_at dksX4_priorityOf_0 13 rfl rfl)
theorem dX4_priorityOf_14 : decode cX4_priorityOf 14 = .ok (.iload_n 1, 1) := dk_27 (dk_at dksX4_priorityOf_0 14 rfl rfl)
theorem dX4_priorityOf_15 : decode cX4_priorityOf 15 = .ok (.aload_n 0, 1) := dk_42 (dk_at dksX4_priorityOf_0 15 rfl rfl)
theorem dX4_priorityOf_16 : decode cX4_priorityOf 16 = .ok (.getfield 68, 3) := dk_180 0 68 (dk_at dksX4_priorityOf_0 16 rfl rfl)
theorem dX4_priorityOf_19 : decode cX4_priorityOf 19 = .ok (.invokevirtual 300, 3) := dk_182 1 44 (dk_at dksX4_priorityOf_0 19 rfl rfl)
theorem dX4_priorityOf_22 : decode cX4_priorityOf 22 = .ok (.goto 4, 3) := dk_167 0 4 (dk_at dksX4_priorityOf_1 0 rfl rfl)
theorem dX4_priorityOf_25 : decode cX4_priorityOf 25 = .ok (.iconst (-1), 1) := dk_2 (dk_at dksX4_priorityOf_1 3 rfl rfl)
theorem dX4_priorityOf_26 : decode cX4_priorityOf 26 = .ok (.ireturn, 1) := dk_172 (dk_at dksX4_priorityOf_1 4 rfl rfl)
abbrev cX4_lettersIn : ByteArray := prog_16_method_63_code
def yX4_lettersIn : MethodName := ⟨RX4, "lettersIn", "(I)I"⟩
def dkwX4_lettersIn_0 : List UInt8 := [42, 3, 181, 0, 1, 27, 3, 6, 184, 0, 139, 153, 0, 11, 42, 27, 182, 1, 48, 167, 0, 4, 2, 172]
abbrev dktX4_lettersIn_0 : List UInt8 := dkwX4_lettersIn_0 ++ []
theorem dksX4_lettersIn_0 : cX4_lettersIn.data.toList.drop 0 = dktX4_lettersIn_0 := by decide +kernel
theorem dX4_lettersIn_0 : decode cX4_lettersIn 0 = .ok (.aload_n 0, 1) := dk_42 (dk_at dksX4_lettersIn_0 0 rfl rfl)
theorem dX4_lettersIn_1 : decode cX4_lettersIn 1 = .ok (.iconst 0, 1) := dk_3 (dk_at dksX4_lettersIn_0 1 rfl rfl)
theorem dX4_lettersIn_2 : decode cX4_lettersIn 2 = .ok (.putfield 1, 3) := dk_181 0 1 (dk_at dksX4_lettersIn_0 2 rfl rfl)
theorem dX4_lettersIn_5 : decode cX4_lettersIn 5 = .ok (.iload_n 1, 1) := dk_27 (dk_at dksX4_lettersIn_0 5 rfl rfl)
theorem dX4_lettersIn_6 : decode cX4_lettersIn 6 = .ok (.iconst 0, 1) := dk_3 (dk_at dksX4_lettersIn_0 6 rfl rfl)
theorem dX4_lettersIn_7 : decode cX4_lettersIn 7 = .ok (.iconst 3, 1) := dk_6 (dk_at dksX4_lettersIn_0 7 rfl rfl)
theorem dX4_lettersIn_8 : decode cX4_lettersIn 8 = .ok (.invokestatic 139, 3) := dk_184 0 139 (dk_at dksX4_lettersIn_0 8 rfl rfl)
theorem dX4_lettersIn_11 : decode cX4_lettersIn 11 = .ok (.ifCond .eq 11, 3) := dk_153 0 11 (dk_at dksX4_lettersIn_0 11 rfl rfl)
theorem dX4_lettersIn_14 : decode cX4_lettersIn 14 = .ok (.aload_n 0, 1) := dk_42 (dk_at dksX4_lettersIn_0 14 rfl rfl)
theorem dX4_lettersIn_15 : decode cX4_lettersIn 15 = .ok (.iload_n 1, 1) := dk_27 (dk_at dksX4_lettersIn_0 15 rfl rfl)
theorem dX4_lettersIn_16 : decode cX4_lettersIn 16 = .ok (.invokevirtual 304, 3) := dk_182 1 48 (dk_at dksX4_lettersIn_0 16 rfl rfl)
theorem dX4_lettersIn_19 : decode cX4_lettersIn 19 = .ok (.goto 4, 3) := dk_167 0 4 (dk_at dksX4_lettersIn_0 19 rfl rfl)
theorem dX4_lettersIn_22 : decode cX4_lettersIn 22 = .ok (.iconst (-1), 1) := dk_2 (dk_at dksX4_lettersIn_0 22 rfl rfl)
theorem dX4_lettersIn_23 : decode cX4_lettersIn 23 = .ok (.ireturn, 1) := dk_172 (dk_at dksX4_lettersIn_0 23 rfl rfl)
abbrev cX4_inState : ByteArray := prog_16_method_62_code
def yX4_inState : MethodName := ⟨RX4, "inState", "(I)I"⟩
def dkwX4_inState_1 : List UInt8 := [27, 160, 0, 9, 4, 29, 120, 167, 0, 4, 3, 128, 61, 132, 3, 1, 167, 255, 220, 28, 172]
abbrev dktX4_inState_1 : List UInt8 := dkwX4_inState_1 ++ []
def dkwX4_inState_0 : List UInt8 := [3, 61, 3, 62, 29, 42, 180, 0, 62, 3, 46, 162, 0, 32, 28, 42, 180, 0, 13, 16, 35, 29, 96, 46]
abbrev dktX4_inState_0 : List UInt8 := dkwX4_inState_0 ++ dktX4_inState_1
theorem dksX4_inState_0 : cX4_inState.data.toList.drop 0 = dktX4_inState_0 := by decide +kernel
theorem dksX4_inState_1 : cX4_inState.data.toList.drop 24 = dktX4_inState_1 := dk_seg dksX4_inState_0 24 rfl rfl
theorem dX4_inState_0 : decode cX4_inState 0 = .ok (.iconst 0, 1) := dk_3 (dk_at dksX4_inState_0 0 rfl rfl)
theorem dX4_inState_1 : decode cX4_inState 1 = .ok (.istore_n 2, 1) := dk_61 (dk_at dksX4_inState_0 1 rfl rfl)
theorem dX4_inState_2 : decode cX4_inState 2 = .ok (.iconst 0, 1) := dk_3 (dk_at dksX4_inState_0 2 rfl rfl)
theorem dX4_inState_3 : decode cX4_inState 3 = .ok (.istore_n 3, 1) := dk_62 (dk_at dksX4_inState_0 3 rfl rfl)
theorem dX4_inState_4 : decode cX4_inState 4 = .ok (.iload_n 3, 1) := dk_29 (dk_at dksX4_inState_0 4 rfl rfl)
theorem dX4_inState_5 : decode cX4_inState 5 = .ok (.aload_n 0, 1) := dk_42 (dk_at dksX4_inState_0 5 rfl rfl)
theorem dX4_inState_6 : decode cX4_inState 6 = .ok (.getfield 62, 3) := dk_180 0 62 (dk_at dksX4_inState_0 6 rfl rfl)
theorem dX4_inState_9 : decode cX4_inState 9 = .ok (.iconst 0, 1) := dk_3 (dk_at dksX4_inState_0 9 rfl rfl)
theorem dX4_inState_10 : decode cX4_inState 10 = .ok (.iaload, 1) := dk_46 (dk_at dksX4_inState_0 10 rfl rfl)
theorem dX4_inState_11 : decode cX4_inState 11 = .ok (.if_icmp .ge 32, 3) := dk_162 0 32 (dk_at dksX4_inState_0 11 rfl rfl)
theorem dX4_inState_14 : decode cX4_inState 14 = .ok (.iload_n 2, 1) := dk_28 (dk_at dksX4_inState_0 14 rfl rfl)
theorem dX4_inState_15 : decode cX4_inState 15 = .ok (.aload_n 0, 1) := dk_42 (dk_at dksX4_inState_0 15 rfl rfl)
theorem dX4_inState_16 : decode cX4_inState 16 = .ok (.getfield 13, 3) := dk_180 0 13 (dk_at dksX4_inState_0 16 rfl rfl)
theorem dX4_inState_19 : decode cX4_inState 19 = .ok (.bipush 35, 2) := dk_16 35 (dk_at dksX4_inState_0 19 rfl rfl)
theorem dX4_inState_21 : decode cX4_inState 21 = .ok (.iload_n 3, 1) := dk_29 (dk_at dksX4_inState_0 21 rfl rfl)
theorem dX4_inState_22 : decode cX4_inState 22 = .ok (.iadd, 1) := dk_96 (dk_at dksX4_inState_0 22 rfl rfl)
theorem dX4_inState_23 : decode cX4_inState 23 = .ok (.iaload, 1) := dk_46 (dk_at dksX4_inState_0 23 rfl rfl)
theorem dX4_inState_24 : decode cX4_inState 24 = .ok (.iload_n 1, 1) := dk_27 (dk_at dksX4_inState_1 0 rfl rfl)
theorem dX4_inState_25 : decode cX4_inState 25 = .ok (.if_icmp .ne 9, 3) := dk_160 0 9 (dk_at dksX4_inState_1 1 rfl rfl)
theorem dX4_inState_28 : decode cX4_inState 28 = .ok (.iconst 1, 1) := dk_4 (dk_at dksX4_inState_1 4 rfl rfl)
theorem dX4_inState_29 : decode cX4_inState 29 = .ok (.iload_n 3, 1) := dk_29 (dk_at dksX4_inState_1 5 rfl rfl)
theorem dX4_inState_30 : decode cX4_inState 30 = .ok (.ishl, 1) := dk_120 (dk_at dksX4_inState_1 6 rfl rfl)
theorem dX4_inState_31 : decode cX4_inState 31 = .ok (.goto 4, 3) := dk_167 0 4 (dk_at dksX4_inState_1 7 rfl rfl)
theorem dX4_inState_34 : decode cX4_inState 34 = .ok (.iconst 0, 1) := dk_3 (dk_at dksX4_inState_1 10 rfl rfl)
theorem dX4_inState_35 : decode cX4_inState 35 = .ok (.ior, 1) := dk_128 (dk_at dksX4_inState_1 11 rfl rfl)
theorem dX4_inState_36 : decode cX4_inState 36 = .ok (.istore_n 2, 1) := dk_61 (dk_at dksX4_inState_1 12 rfl rfl)
theorem dX4_inState_37 : decode cX4_inState 37 = .ok (.iinc 3 1, 3) := dk_132 3 1 (dk_at dksX4_inState_1 13 rfl rfl)
theorem dX4_inState_40 : decode cX4_inState 40 = .ok (.goto (-36), 3) := dk_167 255 220 (dk_at dksX4_inState_1 16 rfl rfl)
theorem dX4_inState_43 : decode cX4_inState 43 = .ok (.iload_n 2, 1) := dk_28 (dk_at dksX4_inState_1 19 rfl rfl)
theorem dX4_inState_44 : decode cX4_inState 44 = .ok (.ireturn, 1) := dk_172 (dk_at dksX4_inState_1 20 rfl rfl)
abbrev cX4_day : ByteArray := prog_16_method_64_code
def yX4_day : MethodName := ⟨RX4, "day", "()I"⟩
def dkwX4_day_0 : List UInt8 := [42, 3, 181, 0, 1, 42, 180, 0, 13, 3, 46, 172]
abbrev dktX4_day_0 : List UInt8 := dkwX4_day_0 ++ []
theorem dksX4_day_0 : cX4_day.data.toList.drop 0 = dktX4_day_0 := by decide +kernel
theorem dX4_day_0 : decode cX4_day 0 = .ok (.aload_n 0, 1) := dk_42 (dk_at dksX4_day_0 0 rfl rfl)
theorem dX4_day_1 : decode cX4_day 1 = .ok (.iconst 0, 1) := dk_3 (dk_at dksX4_day_0 1 rfl rfl)
theorem dX4_day_2 : decode cX4_day 2 = .ok (.putfield 1, 3) := dk_181 0 1 (dk_at dksX4_day_0 2 rfl rfl)
theorem dX4_day_5 : decode cX4_day 5 = .ok (.aload_n 0, 1) := dk_42 (dk_at dksX4_day_0 5 rfl rfl)
theorem dX4_day_6 : decode cX4_day 6 = .ok (.getfield 13, 3) := dk_180 0 13 (dk_at dksX4_day_0 6 rfl rfl)
theorem dX4_day_9 : decode cX4_day 9 = .ok (.iconst 0, 1) := dk_3 (dk_at dksX4_day_0 9 rfl rfl)
theorem dX4_day_10 : decode cX4_day 10 = .ok (.iaload, 1) := dk_46 (dk_at dksX4_day_0 10 rfl rfl)
theorem dX4_day_11 : decode cX4_day 11 = .ok (.ireturn, 1) := dk_172 (dk_at dksX4_day_0 11 rfl rfl)
abbrev cX4_wind : ByteArray := prog_16_method_65_code
def yX4_wind : MethodName := ⟨RX4, "wind", "()I"⟩
def dkwX4_wind_0 : List UInt8 := [42, 3, 181, 0, 1, 42, 180, 0, 13, 4, 46, 172]
abbrev dktX4_wind_0 : List UInt8 := dkwX4_wind_0 ++ []
theorem dksX4_wind_0 : cX4_wind.data.toList.drop 0 = dktX4_wind_0 := by decide +kernel
theorem dX4_wind_0 : decode cX4_wind 0 = .ok (.aload_n 0, 1) := dk_42 (dk_at dksX4_wind_0 0 rfl rfl)
theorem dX4_wind_1 : decode cX4_wind 1 = .ok (.iconst 0, 1) := dk_3 (dk_at dksX4_wind_0 1 rfl rfl)
theorem dX4_wind_2 : decode cX4_wind 2 = .ok (.putfield 1, 3) := dk_181 0 1 (dk_at dksX4_wind_0 2 rfl rfl)
theorem dX4_wind_5 : decode cX4_wind 5 = .ok (.aload_n 0, 1) := dk_42 (dk_at dksX4_wind_0 5 rfl rfl)
theorem dX4_wind_6 : decode cX4_wind 6 = .ok (.getfield 13, 3) := dk_180 0 13 (dk_at dksX4_wind_0 6 rfl rfl)
theorem dX4_wind_9 : decode cX4_wind 9 = .ok (.iconst 1, 1) := dk_4 (dk_at dksX4_wind_0 9 rfl rfl)
theorem dX4_wind_10 : decode cX4_wind 10 = .ok (.iaload, 1) := dk_46 (dk_at dksX4_wind_0 10 rfl rfl)
theorem dX4_wind_11 : decode cX4_wind 11 = .ok (.ireturn, 1) := dk_172 (dk_at dksX4_wind_0 11 rfl rfl)
abbrev cX4_launch : ByteArray := prog_16_method_70_code
def yX4_launch : MethodName := ⟨RX4, "launch", "(II)I"⟩
def dkwX4_launch_14 : List UInt8 := [182, 1, 73, 21, 4, 172]
abbrev dktX4_launch_14 : List UInt8 := dkwX4_launch_14 ++ []
def dkwX4_launch_13 : List UInt8 := [167, 0, 13, 42, 180, 0, 13, 7, 92, 46, 4, 96, 79, 132, 5, 1, 167, 255, 155, 42, 21, 4, 27]
abbrev dktX4_launch_13 : List UInt8 := dkwX4_launch_13 ++ dktX4_launch_14
def dkwX4_launch_12 : List UInt8 := [180, 0, 13, 3, 46, 42, 180, 0, 23, 29, 46, 96, 79, 42, 180, 0, 13, 16, 83, 92, 46, 4, 96, 79]
abbrev dktX4_launch_12 : List UInt8 := dkwX4_launch_12 ++ dktX4_launch_13
def dkwX4_launch_11 : List UInt8 := [180, 0, 13, 16, 83, 46, 96, 27, 79, 42, 180, 0, 13, 16, 124, 42, 180, 0, 13, 16, 83, 46, 96, 42]
abbrev dktX4_launch_11 : List UInt8 := dkwX4_launch_11 ++ dktX4_launch_12
def dkwX4_launch_10 : List UInt8 := [160, 0, 90, 42, 182, 1, 61, 42, 180, 0, 26, 29, 46, 162, 0, 61, 42, 180, 0, 13, 16, 84, 42]
abbrev dktX4_launch_10 : List UInt8 := dkwX4_launch_10 ++ dktX4_launch_11
def dkwX4_launch_9 : List UInt8 := [180, 0, 59, 27, 46, 96, 79, 3, 54, 5, 21, 5, 42, 180, 0, 59, 27, 46, 162, 0, 96, 21, 4, 6]
abbrev dktX4_launch_9 : List UInt8 := dkwX4_launch_9 ++ dktX4_launch_10
def dkwX4_launch_8 : List UInt8 := [5, 167, 0, 4, 4, 182, 1, 70, 21, 4, 6, 159, 0, 18, 42, 180, 0, 13, 7, 92, 46, 42]
abbrev dktX4_launch_8 : List UInt8 := dkwX4_launch_8 ++ dktX4_launch_9
def dkwX4_launch_7 : List UInt8 := [167, 0, 4, 6, 54, 4, 42, 180, 0, 13, 8, 27, 96, 21, 4, 79, 42, 28, 21, 4, 6, 160, 0, 7]
abbrev dktX4_launch_7 : List UInt8 := dkwX4_launch_7 ++ dktX4_launch_8
def dkwX4_launch_6 : List UInt8 := [29, 16, 254, 160, 0, 7, 4, 167, 0, 21, 42, 182, 1, 61, 42, 180, 0, 20, 29, 46, 162, 0, 7, 5]
abbrev dktX4_launch_6 : List UInt8 := dkwX4_launch_6 ++ dktX4_launch_7
def dkwX4_launch_5 : List UInt8 := [180, 0, 13, 16, 25, 27, 96, 28, 79, 42, 182, 1, 67, 62, 42, 180, 0, 13, 16, 15, 27, 96, 29, 79]
abbrev dktX4_launch_5 : List UInt8 := dkwX4_launch_5 ++ dktX4_launch_6
def dkwX4_launch_4 : List UInt8 := [16, 252, 172, 42, 182, 1, 64, 42, 180, 0, 13, 6, 92, 46, 42, 180, 0, 59, 27, 46, 100, 79, 42]
abbrev dktX4_launch_4 : List UInt8 := dkwX4_launch_4 ++ dktX4_launch_5
def dkwX4_launch_3 : List UInt8 := [27, 46, 164, 0, 6, 16, 253, 172, 42, 180, 0, 13, 6, 46, 42, 180, 0, 59, 27, 46, 162, 0, 6]
abbrev dktX4_launch_3 : List UInt8 := dkwX4_launch_3 ++ dktX4_launch_4
def dkwX4_launch_2 : List UInt8 := [180, 0, 29, 3, 46, 154, 0, 6, 16, 254, 172, 42, 28, 42, 180, 0, 65, 182, 1, 44, 42, 180, 0, 56]
abbrev dktX4_launch_2 : List UInt8 := dkwX4_launch_2 ++ dktX4_launch_3
def dkwX4_launch_1 : List UInt8 := [180, 0, 13, 8, 27, 96, 46, 154, 0, 24, 28, 42, 3, 182, 1, 48, 2, 130, 126, 154, 0, 12, 42]
abbrev dktX4_launch_1 : List UInt8 := dkwX4_launch_1 ++ dktX4_launch_2
def dkwX4_launch_0 : List UInt8 := [42, 3, 181, 0, 1, 42, 27, 182, 0, 246, 153, 0, 11, 42, 28, 182, 1, 41, 154, 0, 5, 2, 172, 42]
abbrev dktX4_launch_0 : List UInt8 := dkwX4_launch_0 ++ dktX4_launch_1
theorem dksX4_launch_0 : cX4_launch.data.toList.drop 0 = dktX4_launch_0 := by decide +kernel
theorem dksX4_launch_1 : cX4_launch.data.toList.drop 24 = dktX4_launch_1 := dk_seg dksX4_launch_0 24 rfl rfl
theorem dksX4_launch_2 : cX4_launch.data.toList.drop 47 = dktX4_launch_2 := dk_seg dksX4_launch_1 23 rfl rfl
theorem dksX4_launch_3 : cX4_launch.data.toList.drop 71 = dktX4_launch_3 := dk_seg dksX4_launch_2 24 rfl rfl
theorem dksX4_launch_4 : cX4_launch.data.toList.drop 94 = dktX4_launch_4 := dk_seg dksX4_launch_3 23 rfl rfl
theorem dksX4_launch_5 : cX4_launch.data.toList.drop 117 = dktX4_launch_5 := dk_seg dksX4_launch_4 23 rfl rfl
theorem dksX4_launch_6 : cX4_launch.data.toList.drop 141 = dktX4_launch_6 := dk_seg dksX4_launch_5 24 rfl rfl
theorem dksX4_launch_7 : cX4_launch.data.toList.drop 165 = dktX4_launch_7 := dk_seg dksX4_launch_6 24 rfl rfl
theorem dksX4_launch_8 : cX4_launch.data.toList.drop 189 = dktX4_launch_8 := dk_seg dksX4_launch_7 24 rfl rfl
theorem dksX4_launch_9 : cX4_launch.data.toList.drop 211 = dktX4_launch_9 := dk_seg dksX4_launch_8 22 rfl rfl
theorem dksX4_launch_10 : cX4_launch.data.toList.drop 235 = dktX4_launch_10 := dk_seg dksX4_launch_9 24 rfl rfl
theorem dksX4_launch_11 : cX4_launch.data.toList.drop 258 = dktX4_launch_11 := dk_seg dksX4_launch_10 23 rfl rfl
theorem dksX4_launch_12 : cX4_launch.data.toList.drop 282 = dktX4_launch_12 := dk_seg dksX4_launch_11 24 rfl rfl
theorem dksX4_launch_13 : cX4_launch.data.toList.drop 306 = dktX4_launch_13 := dk_seg dksX4_launch_12 24 rfl rfl
theorem dksX4_launch_14 : cX4_launch.data.toList.drop 329 = dktX4_launch_14 := dk_seg dksX4_launch_13 23 rfl rfl
theorem dX4_launch_0 : decode cX4_launch 0 = .ok (.aload_n 0, 1) := dk_42 (dk_at dksX4_launch_0 0 rfl rfl)
theorem dX4_launch_1 : decode cX4_launch 1 = .ok (.iconst 0, 1) := dk_3 (dk_at dksX4_launch_0 1 rfl rfl)
theorem dX4_launch_2 : decode cX4_launch 2 = .ok (.putfield 1, 3) := dk_181 0 1 (dk_at dksX4_launch_0 2 rfl rfl)
theorem dX4_launch_5 : decode cX4_launch 5 = .ok (.aload_n 0, 1) := dk_42 (dk_at dksX4_launch_0 5 rfl rfl)
theorem dX4_launch_6 : decode cX4_launch 6 = .ok (.iload_n 1, 1) := dk_27 (dk_at dksX4_launch_0 6 rfl rfl)
theorem dX4_launch_7 : decode cX4_launch 7 = .ok (.invokevirtual 246, 3) := dk_182 0 246 (dk_at dksX4_launch_0 7 rfl rfl)
theorem dX4_launch_10 : decode cX4_launch 10 = .ok (.ifCond .eq 11, 3) := dk_153 0 11 (dk_at dksX4_launch_0 10 rfl rfl)
theorem dX4_launch_13 : decode cX4_launch 13 = .ok (.aload_n 0, 1) := dk_42 (dk_at dksX4_launch_0 13 rfl rfl)
theorem dX4_launch_14 : decode cX4_launch 14 = .ok (.iload_n 2, 1) := dk_28 (dk_at dksX4_launch_0 14 rfl rfl)
theorem dX4_launch_15 : decode cX4_launch 15 = .ok (.invokevirtual 297, 3) := dk_182 1 41 (dk_at dksX4_launch_0 15 rfl rfl)
theorem dX4_launch_18 : decode cX4_launch 18 = .ok (.ifCond .ne 5, 3) := dk_154 0 5 (dk_at dksX4_launch_0 18 rfl rfl)
theorem dX4_launch_21 : decode cX4_launch 21 = .ok (.iconst (-1), 1) := dk_2 (dk_at dksX4_launch_0 21 rfl rfl)
theorem dX4_launch_22 : decode cX4_launch 22 = .ok (.ireturn, 1) := dk_172 (dk_at dksX4_launch_0 22 rfl rfl)
theorem dX4_launch_23 : decode cX4_launch 23 = .ok (.aload_n 0, 1) := dk_42 (dk_at dksX4_launch_0 23 rfl rfl)
theorem dX4_launch_24 : decode cX4_launch 24 = .ok (.getfield 13, 3) := dk_180 0 13 (dk_at dksX4_launch_1 0 rfl rfl)
theorem dX4_launch_27 : decode cX4_launch 27 = .ok (.iconst 5, 1) := dk_8 (dk_at dksX4_launch_1 3 rfl rfl)
theorem dX4_launch_28 : decode cX4_launch 28 = .ok (.iload_n 1, 1) := dk_27 (dk_at dksX4_launch_1 4 rfl rfl)
theorem dX4_launch_29 : decode cX4_launch 29 = .ok (.iadd, 1) := dk_96 (dk_at dksX4_launch_1 5 rfl rfl)
theorem dX4_launch_30 : decode cX4_launch 30 = .ok (.iaload, 1) := dk_46 (dk_at dksX4_launch_1 6 rfl rfl)
theorem dX4_launch_31 : decode cX4_launch 31 = .ok (.ifCond .ne 24, 3) := dk_154 0 24 (dk_at dksX4_launch_1 7 rfl rfl)
theorem dX4_launch_34 : decode cX4_launch 34 = .ok (.iload_n 2, 1) := dk_28 (dk_at dksX4_launch_1 10 rfl rfl)
theorem dX4_launch_35 : decode cX4_launch 35 = .ok (.aload_n 0, 1) := dk_42 (dk_at dksX4_launch_1 11 rfl rfl)
theorem dX4_launch_36 : decode cX4_launch 36 = .ok (.iconst 0, 1) := dk_3 (dk_at dksX4_launch_1 12 rfl rfl)
theorem dX4_launch_37 : decode cX4_launch 37 = .ok (.invokevirtual 304, 3) := dk_182 1 48 (dk_at dksX4_launch_1 13 rfl rfl)
theorem dX4_launch_40 : decode cX4_launch 40 = .ok (.iconst (-1), 1) := dk_2 (dk_at dksX4_launch_1 16 rfl rfl)
theorem dX4_launch_41 : decode cX4_launch 41 = .ok (.ixor, 1) := dk_130 (dk_at dksX4_launch_1 17 rfl rfl)
theorem dX4_launch_42 : decode cX4_launch 42 = .ok (.iand, 1) := dk_126 (dk_at dksX4_launch_1 18 rfl rfl)
theorem dX4_launch_43 : decode cX4_launch 43 = .ok (.ifCond .ne 12, 3) := dk_154 0 12 (dk_at dksX4_launch_1 19 rfl rfl)
theorem dX4_launch_46 : decode cX4_launch 46 = .ok (.aload_n 0, 1) := dk_42 (dk_at dksX4_launch_1 22 rfl rfl)
theorem dX4_launch_47 : decode cX4_launch 47 = .ok (.getfield 29, 3) := dk_180 0 29 (dk_at dksX4_launch_2 0 rfl rfl)
theorem dX4_launch_50 : decode cX4_launch 50 = .ok (.iconst 0, 1) := dk_3 (dk_at dksX4_launch_2 3 rfl rfl)
theorem dX4_launch_51 : decode cX4_launch 51 = .ok (.iaload, 1) := dk_46 (dk_at dksX4_launch_2 4 rfl rfl)
theorem dX4_launch_52 : decode cX4_launch 52 = .ok (.ifCond .ne 6, 3) := dk_154 0 6 (dk_at dksX4_launch_2 5 rfl rfl)
theorem dX4_launch_55 : decode cX4_launch 55 = .ok (.bipush (-2), 2) := dk_16 254 (dk_at dksX4_launch_2 8 rfl rfl)
theorem dX4_launch_57 : decode cX4_launch 57 = .ok (.ireturn, 1) := dk_172 (dk_at dksX4_launch_2 10 rfl rfl)
theorem dX4_launch_58 : decode cX4_launch 58 = .ok (.aload_n 0, 1) := dk_42 (dk_at dksX4_launch_2 11 rfl rfl)
theorem dX4_launch_59 : decode cX4_launch 59 = .ok (.iload_n 2, 1) := dk_28 (dk_at dksX4_launch_2 12 rfl rfl)
theorem dX4_launch_60 : decode cX4_launch 60 = .ok (.aload_n 0, 1) := dk_42 (dk_at dksX4_launch_2 13 rfl rfl)
theorem dX4_launch_61 : decode cX4_launch 61 = .ok (.getfield 65, 3) := dk_180 0 65 (dk_at dksX4_launch_2 14 rfl rfl)
theorem dX4_launch_64 : decode cX4_launch 64 = .ok (.invokevirtual 300, 3) := dk_182 1 44 (dk_at dksX4_launch_2 17 rfl rfl)
theorem dX4_launch_67 : decode cX4_launch 67 = .ok (.aload_n 0, 1) := dk_42 (dk_at dksX4_launch_2 20 rfl rfl)
theorem dX4_launch_68 : decode cX4_launch 68 = .ok (.getfield 56, 3) := dk_180 0 56 (dk_at dksX4_launch_2 21 rfl rfl)
theorem dX4_launch_71 : decode cX4_launch 71 = .ok (.iload_n 1, 1) := dk_27 (dk_at dksX4_launch_3 0 rfl rfl)
theorem dX4_launch_72 : decode cX4_launch 72 = .ok (.iaload, 1) := dk_46 (dk_at dksX4_launch_3 1 rfl rfl)
theorem dX4_launch_73 : decode cX4_launch 73 = .ok (.if_icmp .le 6, 3) := dk_164 0 6 (dk_at dksX4_launch_3 2 rfl rfl)
theorem dX4_launch_76 : decode cX4_launch 76 = .ok (.bipush (-3), 2) := dk_16 253 (dk_at dksX4_launch_3 5 rfl rfl)
theorem dX4_launch_78 : decode cX4_launch 78 = .ok (.ireturn, 1) := dk_172 (dk_at dksX4_launch_3 7 rfl rfl)
theorem dX4_launch_79 : decode cX4_launch 79 = .ok (.aload_n 0, 1) := dk_42 (dk_at dksX4_launch_3 8 rfl rfl)
theorem dX4_launch_80 : decode cX4_launch 80 = .ok (.getfield 13, 3) := dk_180 0 13 (dk_at dksX4_launch_3 9 rfl rfl)
theorem dX4_launch_83 : decode cX4_launch 83 = .ok (.iconst 3, 1) := dk_6 (dk_at dksX4_launch_3 12 rfl rfl)
theorem dX4_launch_84 : decode cX4_launch 84 = .ok (.iaload, 1) := dk_46 (dk_at dksX4_launch_3 13 rfl rfl)
theorem dX4_launch_85 : decode cX4_launch 85 = .ok (.aload_n 0, 1) := dk_42 (dk_at dksX4_launch_3 14 rfl rfl)
theorem dX4_launch_86 : decode cX4_launch 86 = .ok (.getfield 59, 3) := dk_180 0 59 (dk_at dksX4_launch_3 15 rfl rfl)
theorem dX4_launch_89 : decode cX4_launch 89 = .ok (.iload_n 1, 1) := dk_27 (dk_at dksX4_launch_3 18 rfl rfl)
theorem dX4_launch_90 : decode cX4_launch 90 = .ok (.iaload, 1) := dk_46 (dk_at dksX4_launch_3 19 rfl rfl)
theorem dX4_launch_91 : decode cX4_launch 91 = .ok (.if_icmp .ge 6, 3) := dk_162 0 6 (dk_at dksX4_launch_3 20 rfl rfl)
theorem dX4_launch_94 : decode cX4_launch 94 = .ok (.bipush (-4), 2) := dk_16 252 (dk_at dksX4_launch_4 0 rfl rfl)
theorem dX4_launch_96 : decode cX4_launch 96 = .ok (.ireturn, 1) := dk_172 (dk_at dksX4_launch_4 2 rfl rfl)
theorem dX4_launch_97 : decode cX4_launch 97 = .ok (.aload_n 0, 1) := dk_42 (dk_at dksX4_launch_4 3 rfl rfl)
theorem dX4_launch_98 : decode cX4_launch 98 = .ok (.invokevirtual 320, 3) := dk_182 1 64 (dk_at dksX4_launch_4 4 rfl rfl)
theorem dX4_launch_101 : decode cX4_launch 101 = .ok (.aload_n 0, 1) := dk_42 (dk_at dksX4_launch_4 7 rfl rfl)
theorem dX4_launch_102 : decode cX4_launch 102 = .ok (.getfield 13, 3) := dk_180 0 13 (dk_at dksX4_launch_4 8 rfl rfl)
theorem dX4_launch_105 : decode cX4_launch 105 = .ok (.iconst 3, 1) := dk_6 (dk_at dksX4_launch_4 11 rfl rfl)
theorem dX4_launch_106 : decode cX4_launch 106 = .ok (.dup2, 1) := dk_92 (dk_at dksX4_launch_4 12 rfl rfl)
theorem dX4_launch_107 : decode cX4_launch 107 = .ok (.iaload, 1) := dk_46 (dk_at dksX4_launch_4 13 rfl rfl)
theorem dX4_launch_108 : decode cX4_launch 108 = .ok (.aload_n 0, 1) := dk_42 (dk_at dksX4_launch_4 14 rfl rfl)
theorem dX4_launch_109 : decode cX4_launch 109 = .ok (.getfield 59, 3) := dk_180 0 59 (dk_at dksX4_launch_4 15 rfl rfl)
theorem dX4_launch_112 : decode cX4_launch 112 = .ok (.iload_n 1, 1) := dk_27 (dk_at dksX4_launch_4 18 rfl rfl)
theorem dX4_launch_113 : decode cX4_launch 113 = .ok (.iaload, 1) := dk_46 (dk_at dksX4_launch_4 19 rfl rfl)
theorem dX4_launch_114 : decode cX4_launch 114 = .ok (.isub, 1) := dk_100 (dk_at dksX4_launch_4 20 rfl rfl)
theorem dX4_launch_115 : decode cX4_launch 115 = .ok (.iastore, 1) := dk_79 (dk_at dksX4_launch_4 21 rfl rfl)
theorem dX4_launch_116 : decode cX4_launch 116 = .ok (.aload_n 0, 1) := dk_42 (dk_at dksX4_launch_4 22 rfl rfl)
theorem dX4_launch_117 : decode cX4_launch 117 = .ok (.getfield 13, 3) := dk_180 0 13 (dk_at dksX4_launch_5 0 rfl rfl)
theorem dX4_launch_120 : decode cX4_launch 120 = .ok (.bipush 25, 2) := dk_16 25 (dk_at dksX4_launch_5 3 rfl rfl)
theorem dX4_launch_122 : decode cX4_launch 122 = .ok (.iload_n 1, 1) := dk_27 (dk_at dksX4_launch_5 5 rfl rfl)
theorem dX4_launch_123 : decode cX4_launch 123 = .ok (.iadd, 1) := dk_96 (dk_at dksX4_launch_5 6 rfl rfl)
theorem dX4_launch_124 : decode cX4_launch 124 = .ok (.iload_n 2, 1) := dk_28 (dk_at dksX4_launch_5 7 rfl rfl)
theorem dX4_launch_125 : decode cX4_launch 125 = .ok (.iastore, 1) := dk_79 (dk_at dksX4_launch_5 8 rfl rfl)
theorem dX4_launch_126 : decode cX4_launch 126 = .ok (.aload_n 0, 1) := dk_42 (dk_at dksX4_launch_5 9 rfl rfl)
theorem dX4_launch_127 : decode cX4_launch 127 = .ok (.invokevirtual 323, 3) := dk_182 1 67 (dk_at dksX4_launch_5 10 rfl rfl)
theorem dX4_launch_130 : decode cX4_launch 130 = .ok (.istore_n 3, 1) := dk_62 (dk_at dksX4_launch_5 13 rfl rfl)
theorem dX4_launch_131 : decode cX4_launch 131 = .ok (.aload_n 0, 1) := dk_42 (dk_at dksX4_launch_5 14 rfl rfl)
theorem dX4_launch_132 : decode cX4_launch 132 = .ok (.getfield 13, 3) := dk_180 0 13 (dk_at dksX4_launch_5 15 rfl rfl)
theorem dX4_launch_135 : decode cX4_launch 135 = .ok (.bipush 15, 2) := dk_16 15 (dk_at dksX4_launch_5 18 rfl rfl)
theorem dX4_launch_137 : decode cX4_launch 137 = .ok (.iload_n 1, 1) := dk_27 (dk_at dksX4_launch_5 20 rfl rfl)
theorem dX4_launch_138 : decode cX4_launch 138 = .ok (.iadd, 1) := dk_96 (dk_at dksX4_launch_5 21 rfl rfl)
theorem dX4_launch_139 : decode cX4_launch 139 = .ok (.iload_n 3, 1) := dk_29 (dk_at dksX4_launch_5 22 rfl rfl)
theorem dX4_launch_140 : decode cX4_launch 140 = .ok (.iastore, 1) := dk_79 (dk_at dksX4_launch_5 23 rfl rfl)
theorem dX4_launch_141 : decode cX4_launch 141 = .ok (.iload_n 3, 1) := dk_29 (dk_at dksX4_launch_6 0 rfl rfl)
theorem dX4_launch_142 : decode cX4_launch 142 = .ok (.bipush (-2), 2) := dk_16 254 (dk_at dksX4_launch_6 1 rfl rfl)
theorem dX4_launch_144 : decode cX4_launch 144 = .ok (.if_icmp .ne 7, 3) := dk_160 0 7 (dk_at dksX4_launch_6 3 rfl rfl)
theorem dX4_launch_147 : decode cX4_launch 147 = .ok (.iconst 1, 1) := dk_4 (dk_at dksX4_launch_6 6 rfl rfl)
theorem dX4_launch_148 : decode cX4_launch 148 = .ok (.goto 21, 3) := dk_167 0 21 (dk_at dksX4_launch_6 7 rfl rfl)
theorem dX4_launch_151 : decode cX4_launch 151 = .ok (.aload_n 0, 1) := dk_42 (dk_at dksX4_launch_6 10 rfl rfl)
theorem dX4_launch_152 : decode cX4_launch 152 = .ok (.invokevirtual 317, 3) := dk_182 1 61 (dk_at dksX4_launch_6 11 rfl rfl)
theorem dX4_launch_155 : decode cX4_launch 155 = .ok (.aload_n 0, 1) := dk_42 (dk_at dksX4_launch_6 14 rfl rfl)
theorem dX4_launch_156 : decode cX4_launch 156 = .ok (.getfield 20, 3) := dk_180 0 20 (dk_at dksX4_launch_6 15 rfl rfl)
theorem dX4_launch_159 : decode cX4_launch 159 = .ok (.iload_n 3, 1) := dk_29 (dk_at dksX4_launch_6 18 rfl rfl)
theorem dX4_launch_160 : decode cX4_launch 160 = .ok (.iaload, 1) := dk_46 (dk_at dksX4_launch_6 19 rfl rfl)
theorem dX4_launch_161 : decode cX4_launch 161 = .ok (.if_icmp .ge 7, 3) := dk_162 0 7 (dk_at dksX4_launch_6 20 rfl rfl)
theorem dX4_launch_164 : decode cX4_launch 164 = .ok (.iconst 2, 1) := dk_5 (dk_at dksX4_launch_6 23 rfl rfl)
theorem dX4_launch_165 : decode cX4_launch 165 = .ok (.goto 4, 3) := dk_167 0 4 (dk_at dksX4_launch_7 0 rfl rfl)
theorem dX4_launch_168 : decode cX4_launch 168 = .ok (.iconst 3, 1) := dk_6 (dk_at dksX4_launch_7 3 rfl rfl)
theorem dX4_launch_169 : decode cX4_launch 169 = .ok (.istore 4, 2) := dk_54 4 (dk_at dksX4_launch_7 4 rfl rfl)
theorem dX4_launch_171 : decode cX4_launch 171 = .ok (.aload_n 0, 1) := dk_42 (dk_at dksX4_launch_7 6 rfl rfl)
theorem dX4_launch_172 : decode cX4_launch 172 = .ok (.getfield 13, 3) := dk_180 0 13 (dk_at dksX4_launch_7 7 rfl rfl)
theorem dX4_launch_175 : decode cX4_launch 175 = .ok (.iconst 5, 1) := dk_8 (dk_at dksX4_launch_7 10 rfl rfl)
theorem dX4_launch_176 : decode cX4_launch 176 = .ok (.iload_n 1, 1) := dk_27 (dk_at dksX4_launch_7 11 rfl rfl)
theorem dX4_launch_177 : decode cX4_launch 177 = .ok (.iadd, 1) := dk_96 (dk_at dksX4_launch_7 12 rfl rfl)
theorem dX4_launch_178 : decode cX4_launch 178 = .ok (.iload 4, 2) := dk_21 4 (dk_at dksX4_launch_7 13 rfl rfl)
theorem dX4_launch_180 : decode cX4_launch 180 = .ok (.iastore, 1) := dk_79 (dk_at dksX4_launch_7 15 rfl rfl)
theorem dX4_launch_181 : decode cX4_launch 181 = .ok (.aload_n 0, 1) := dk_42 (dk_at dksX4_launch_7 16 rfl rfl)
theorem dX4_launch_182 : decode cX4_launch 182 = .ok (.iload_n 2, 1) := dk_28 (dk_at dksX4_launch_7 17 rfl rfl)
theorem dX4_launch_183 : decode cX4_launch 183 = .ok (.iload 4, 2) := dk_21 4 (dk_at dksX4_launch_7 18 rfl rfl)
theorem dX4_launch_185 : decode cX4_launch 185 = .ok (.iconst 3, 1) := dk_6 (dk_at dksX4_launch_7 20 rfl rfl)
theorem dX4_launch_186 : decode cX4_launch 186 = .ok (.if_icmp .ne 7, 3) := dk_160 0 7 (dk_at dksX4_launch_7 21 rfl rfl)
theorem dX4_launch_189 : decode cX4_launch 189 = .ok (.iconst 2, 1) := dk_5 (dk_at dksX4_launch_8 0 rfl rfl)
theorem dX4_launch_190 : decode cX4_launch 190 = .ok (.goto 4, 3) := dk_167 0 4 (dk_at dksX4_launch_8 1 rfl rfl)
theorem dX4_launch_193 : decode cX4_launch 193 = .ok (.iconst 1, 1) := dk_4 (dk_at dksX4_launch_8 4 rfl rfl)
theorem dX4_launch_194 : decode cX4_launch 194 = .ok (.invokevirtual 326, 3) := dk_182 1 70 (dk_at dksX4_launch_8 5 rfl rfl)
theorem dX4_launch_197 : decode cX4_launch 197 = .ok (.iload 4, 2) := dk_21 4 (dk_at dksX4_launch_8 8 rfl rfl)
theorem dX4_launch_199 : decode cX4_launch 199 = .ok (.iconst 3, 1) := dk_6 (dk_at dksX4_launch_8 10 rfl rfl)
theorem dX4_launch_200 : decode cX4_launch 200 = .ok (.if_icmp .eq 18, 3) := dk_159 0 18 (dk_at dksX4_launch_8 11 rfl rfl)
theorem dX4_launch_203 : decode cX4_launch 203 = .ok (.aload_n 0, 1) := dk_42 (dk_at dksX4_launch_8 14 rfl rfl)
theorem dX4_launch_204 : decode cX4_launch 204 = .ok (.getfield 13, 3) := dk_180 0 13 (dk_at dksX4_launch_8 15 rfl rfl)
theorem dX4_launch_207 : decode cX4_launch 207 = .ok (.iconst 4, 1) := dk_7 (dk_at dksX4_launch_8 18 rfl rfl)
theorem dX4_launch_208 : decode cX4_launch 208 = .ok (.dup2, 1) := dk_92 (dk_at dksX4_launch_8 19 rfl rfl)
theorem dX4_launch_209 : decode cX4_launch 209 = .ok (.iaload, 1) := dk_46 (dk_at dksX4_launch_8 20 rfl rfl)
theorem dX4_launch_210 : decode cX4_launch 210 = .ok (.aload_n 0, 1) := dk_42 (dk_at dksX4_launch_8 21 rfl rfl)
theorem dX4_launch_211 : decode cX4_launch 211 = .ok (.getfield 59, 3) := dk_180 0 59 (dk_at dksX4_launch_9 0 rfl rfl)
theorem dX4_launch_214 : decode cX4_launch 214 = .ok (.iload_n 1, 1) := dk_27 (dk_at dksX4_launch_9 3 rfl rfl)
theorem dX4_launch_215 : decode cX4_launch 215 = .ok (.iaload, 1) := dk_46 (dk_at dksX4_launch_9 4 rfl rfl)
theorem dX4_launch_216 : decode cX4_launch 216 = .ok (.iadd, 1) := dk_96 (dk_at dksX4_launch_9 5 rfl rfl)
theorem dX4_launch_217 : decode cX4_launch 217 = .ok (.iastore, 1) := dk_79 (dk_at dksX4_launch_9 6 rfl rfl)
theorem dX4_launch_218 : decode cX4_launch 218 = .ok (.iconst 0, 1) := dk_3 (dk_at dksX4_launch_9 7 rfl rfl)
theorem dX4_launch_219 : decode cX4_launch 219 = .ok (.istore 5, 2) := dk_54 5 (dk_at dksX4_launch_9 8 rfl rfl)
theorem dX4_launch_221 : decode cX4_launch 221 = .ok (.iload 5, 2) := dk_21 5 (dk_at dksX4_launch_9 10 rfl rfl)
theorem dX4_launch_223 : decode cX4_launch 223 = .ok (.aload_n 0, 1) := dk_42 (dk_at dksX4_launch_9 12 rfl rfl)
theorem dX4_launch_224 : decode cX4_launch 224 = .ok (.getfield 59, 3) := dk_180 0 59 (dk_at dksX4_launch_9 13 rfl rfl)
theorem dX4_launch_227 : decode cX4_launch 227 = .ok (.iload_n 1, 1) := dk_27 (dk_at dksX4_launch_9 16 rfl rfl)
theorem dX4_launch_228 : decode cX4_launch 228 = .ok (.iaload, 1) := dk_46 (dk_at dksX4_launch_9 17 rfl rfl)
theorem dX4_launch_229 : decode cX4_launch 229 = .ok (.if_icmp .ge 96, 3) := dk_162 0 96 (dk_at dksX4_launch_9 18 rfl rfl)
theorem dX4_launch_232 : decode cX4_launch 232 = .ok (.iload 4, 2) := dk_21 4 (dk_at dksX4_launch_9 21 rfl rfl)
theorem dX4_launch_234 : decode cX4_launch 234 = .ok (.iconst 3, 1) := dk_6 (dk_at dksX4_launch_9 23 rfl rfl)
theorem dX4_launch_235 : decode cX4_launch 235 = .ok (.if_icmp .ne 90, 3) := dk_160 0 90 (dk_at dksX4_launch_10 0 rfl rfl)
theorem dX4_launch_238 : decode cX4_launch 238 = .ok (.aload_n 0, 1) := dk_42 (dk_at dksX4_launch_10 3 rfl rfl)
theorem dX4_launch_239 : decode cX4_launch 239 = .ok (.invokevirtual 317, 3) := dk_182 1 61 (dk_at dksX4_launch_10 4 rfl rfl)
theorem dX4_launch_242 : decode cX4_launch 242 = .ok (.aload_n 0, 1) := dk_42 (dk_at dksX4_launch_10 7 rfl rfl)
theorem dX4_launch_243 : decode cX4_launch 243 = .ok (.getfield 26, 3) := dk_180 0 26 (dk_at dksX4_launch_10 8 rfl rfl)
theorem dX4_launch_246 : decode cX4_launch 246 = .ok (.iload_n 3, 1) := dk_29 (dk_at dksX4_launch_10 11 rfl rfl)
theorem dX4_launch_247 : decode cX4_launch 247 = .ok (.iaload, 1) := dk_46 (dk_at dksX4_launch_10 12 rfl rfl)
theorem dX4_launch_248 : decode cX4_launch 248 = .ok (.if_icmp .ge 61, 3) := dk_162 0 61 (dk_at dksX4_launch_10 13 rfl rfl)
theorem dX4_launch_251 : decode cX4_launch 251 = .ok (.aload_n 0, 1) := dk_42 (dk_at dksX4_launch_10 16 rfl rfl)
theorem dX4_launch_252 : decode cX4_launch 252 = .ok (.getfield 13, 3) := dk_180 0 13 (dk_at dksX4_launch_10 17 rfl rfl)
theorem dX4_launch_255 : decode cX4_launch 255 = .ok (.bipush 84, 2) := dk_16 84 (dk_at dksX4_launch_10 20 rfl rfl)
theorem dX4_launch_257 : decode cX4_launch 257 = .ok (.aload_n 0, 1) := dk_42 (dk_at dksX4_launch_10 22 rfl rfl)
theorem dX4_launch_258 : decode cX4_launch 258 = .ok (.getfield 13, 3) := dk_180 0 13 (dk_at dksX4_launch_11 0 rfl rfl)
theorem dX4_launch_261 : decode cX4_launch 261 = .ok (.bipush 83, 2) := dk_16 83 (dk_at dksX4_launch_11 3 rfl rfl)
theorem dX4_launch_263 : decode cX4_launch 263 = .ok (.iaload, 1) := dk_46 (dk_at dksX4_launch_11 5 rfl rfl)
theorem dX4_launch_264 : decode cX4_launch 264 = .ok (.iadd, 1) := dk_96 (dk_at dksX4_launch_11 6 rfl rfl)
theorem dX4_launch_265 : decode cX4_launch 265 = .ok (.iload_n 1, 1) := dk_27 (dk_at dksX4_launch_11 7 rfl rfl)
theorem dX4_launch_266 : decode cX4_launch 266 = .ok (.iastore, 1) := dk_79 (dk_at dksX4_launch_11 8 rfl rfl)
theorem dX4_launch_267 : decode cX4_launch 267 = .ok (.aload_n 0, 1) := dk_42 (dk_at dksX4_launch_11 9 rfl rfl)
theorem dX4_launch_268 : decode cX4_launch 268 = .ok (.getfield 13, 3) := dk_180 0 13 (dk_at dksX4_launch_11 10 rfl rfl)
theorem dX4_launch_271 : decode cX4_launch 271 = .ok (.bipush 124, 2) := dk_16 124 (dk_at dksX4_launch_11 13 rfl rfl)
theorem dX4_launch_273 : decode cX4_launch 273 = .ok (.aload_n 0, 1) := dk_42 (dk_at dksX4_launch_11 15 rfl rfl)
theorem dX4_launch_274 : decode cX4_launch 274 = .ok (.getfield 13, 3) := dk_180 0 13 (dk_at dksX4_launch_11 16 rfl rfl)
theorem dX4_launch_277 : decode cX4_launch 277 = .ok (.bipush 83, 2) := dk_16 83 (dk_at dksX4_launch_11 19 rfl rfl)
theorem dX4_launch_279 : decode cX4_launch 279 = .ok (.iaload, 1) := dk_46 (dk_at dksX4_launch_11 21 rfl rfl)
theorem dX4_launch_280 : decode cX4_launch 280 = .ok (.iadd, 1) := dk_96 (dk_at dksX4_launch_11 22 rfl rfl)
theorem dX4_launch_281 : decode cX4_launch 281 = .ok (.aload_n 0, 1) := dk_42 (dk_at dksX4_launch_11 23 rfl rfl)
theorem dX4_launch_282 : decode cX4_launch 282 = .ok (.getfield 13, 3) := dk_180 0 13 (dk_at dksX4_launch_12 0 rfl rfl)
theorem dX4_launch_285 : decode cX4_launch 285 = .ok (.iconst 0, 1) := dk_3 (dk_at dksX4_launch_12 3 rfl rfl)
theorem dX4_launch_286 : decode cX4_launch 286 = .ok (.iaload, 1) := dk_46 (dk_at dksX4_launch_12 4 rfl rfl)
theorem dX4_launch_287 : decode cX4_launch 287 = .ok (.aload_n 0, 1) := dk_42 (dk_at dksX4_launch_12 5 rfl rfl)
theorem dX4_launch_288 : decode cX4_launch 288 = .ok (.getfield 23, 3) := dk_180 0 23 (dk_at dksX4_launch_12 6 rfl rfl)
theorem dX4_launch_291 : decode cX4_launch 291 = .ok (.iload_n 3, 1) := dk_29 (dk_at dksX4_launch_12 9 rfl rfl)
theorem dX4_launch_292 : decode cX4_launch 292 = .ok (.iaload, 1) := dk_46 (dk_at dksX4_launch_12 10 rfl rfl)
theorem dX4_launch_293 : decode cX4_launch 293 = .ok (.iadd, 1) := dk_96 (dk_at dksX4_launch_12 11 rfl rfl)
theorem dX4_launch_294 : decode cX4_launch 294 = .ok (.iastore, 1) := dk_79 (dk_at dksX4_launch_12 12 rfl rfl)
theorem dX4_launch_295 : decode cX4_launch 295 = .ok (.aload_n 0, 1) := dk_42 (dk_at dksX4_launch_12 13 rfl rfl)
theorem dX4_launch_296 : decode cX4_launch 296 = .ok (.getfield 13, 3) := dk_180 0 13 (dk_at dksX4_launch_12 14 rfl rfl)
theorem dX4_launch_299 : decode cX4_launch 299 = .ok (.bipush 83, 2) := dk_16 83 (dk_at dksX4_launch_12 17 rfl rfl)
theorem dX4_launch_301 : decode cX4_launch 301 = .ok (.dup2, 1) := dk_92 (dk_at dksX4_launch_12 19 rfl rfl)
theorem dX4_launch_302 : decode cX4_launch 302 = .ok (.iaload, 1) := dk_46 (dk_at dksX4_launch_12 20 rfl rfl)
theorem dX4_launch_303 : decode cX4_launch 303 = .ok (.iconst 1, 1) := dk_4 (dk_at dksX4_launch_12 21 rfl rfl)
theorem dX4_launch_304 : decode cX4_launch 304 = .ok (.iadd, 1) := dk_96 (dk_at dksX4_launch_12 22 rfl rfl)
theorem dX4_launch_305 : decode cX4_launch 305 = .ok (.iastore, 1) := dk_79 (dk_at dksX4_launch_12 23 rfl rfl)
theorem dX4_launch_306 : decode cX4_launch 306 = .ok (.goto 13, 3) := dk_167 0 13 (dk_at dksX4_launch_13 0 rfl rfl)
theorem dX4_launch_309 : decode cX4_launch 309 = .ok (.aload_n 0, 1) := dk_42 (dk_at dksX4_launch_13 3 rfl rfl)
theorem dX4_launch_310 : decode cX4_launch 310 = .ok (.getfield 13, 3) := dk_180 0 13 (dk_at dksX4_launch_13 4 rfl rfl)
theorem dX4_launch_313 : decode cX4_launch 313 = .ok (.iconst 4, 1) := dk_7 (dk_at dksX4_launch_13 7 rfl rfl)
theorem dX4_launch_314 : decode cX4_launch 314 = .ok (.dup2, 1) := dk_92 (dk_at dksX4_launch_13 8 rfl rfl)
theorem dX4_launch_315 : decode cX4_launch 315 = .ok (.iaload, 1) := dk_46 (dk_at dksX4_launch_13 9 rfl rfl)
theorem dX4_launch_316 : decode cX4_launch 316 = .ok (.iconst 1, 1) := dk_4 (dk_at dksX4_launch_13 10 rfl rfl)
theorem dX4_launch_317 : decode cX4_launch 317 = .ok (.iadd, 1) := dk_96 (dk_at dksX4_launch_13 11 rfl rfl)
theorem dX4_launch_318 : decode cX4_launch 318 = .ok (.iastore, 1) := dk_79 (dk_at dksX4_launch_13 12 rfl rfl)
theorem dX4_launch_319 : decode cX4_launch 319 = .ok (.iinc 5 1, 3) := dk_132 5 1 (dk_at dksX4_launch_13 13 rfl rfl)
theorem dX4_launch_322 : decode cX4_launch 322 = .ok (.goto (-101), 3) := dk_167 255 155 (dk_at dksX4_launch_13 16 rfl rfl)
theorem dX4_launch_325 : decode cX4_launch 325 = .ok (.aload_n 0, 1) := dk_42 (dk_at dksX4_launch_13 19 rfl rfl)
theorem dX4_launch_326 : decode cX4_launch 326 = .ok (.iload 4, 2) := dk_21 4 (dk_at dksX4_launch_13 20 rfl rfl)
theorem dX4_launch_328 : decode cX4_launch 328 = .ok (.iload_n 1, 1) := dk_27 (dk_at dksX4_launch_13 22 rfl rfl)
theorem dX4_launch_329 : decode cX4_launch 329 = .ok (.invokevirtual 329, 3) := dk_182 1 73 (dk_at dksX4_launch_14 0 rfl rfl)
theorem dX4_launch_332 : decode cX4_launch 332 = .ok (.iload 4, 2) := dk_21 4 (dk_at dksX4_launch_14 3 rfl rfl)
theorem dX4_launch_334 : decode cX4_launch 334 = .ok (.ireturn, 1) := dk_172 (dk_at dksX4_launch_14 5 rfl rfl)
abbrev cX4_keeps : ByteArray := prog_16_method_91_code
def yX4_keeps : MethodName := ⟨RX4, "keeps", "()V"⟩
def dkwX4_keeps_3 : List UInt8 := [96, 181, 0, 243, 177]
abbrev dktX4_keeps_3 : List UInt8 := dkwX4_keeps_3 ++ []
def dkwX4_keeps_2 : List UInt8 := [42, 180, 0, 94, 17, 0, 213, 42, 180, 0, 243, 104, 17, 0, 213, 184, 0, 232, 42, 89, 180, 0, 243, 4]
abbrev dktX4_keeps_2 : List UInt8 := dkwX4_keeps_2 ++ dktX4_keeps_3
def dkwX4_keeps_1 : List UInt8 := [17, 0, 213, 42, 180, 0, 94, 3, 17, 0, 213, 42, 180, 0, 243, 104, 184, 0, 232, 42, 180, 0, 13, 3]
abbrev dktX4_keeps_1 : List UInt8 := dkwX4_keeps_1 ++ dktX4_keeps_2
def dkwX4_keeps_0 : List UInt8 := [42, 180, 0, 243, 16, 12, 160, 0, 36, 42, 89, 180, 0, 243, 4, 100, 181, 0, 243, 42, 180, 0, 94]
abbrev dktX4_keeps_0 : List UInt8 := dkwX4_keeps_0 ++ dktX4_keeps_1
theorem dksX4_keeps_0 : cX4_keeps.data.toList.drop 0 = dktX4_keeps_0 := by decide +kernel
theorem dksX4_keeps_1 : cX4_keeps.data.toList.drop 23 = dktX4_keeps_1 := dk_seg dksX4_keeps_0 23 rfl rfl
theorem dksX4_keeps_2 : cX4_keeps.data.toList.drop 47 = dktX4_keeps_2 := dk_seg dksX4_keeps_1 24 rfl rfl
theorem dksX4_keeps_3 : cX4_keeps.data.toList.drop 71 = dktX4_keeps_3 := dk_seg dksX4_keeps_2 24 rfl rfl
theorem dX4_keeps_0 : decode cX4_keeps 0 = .ok (.aload_n 0, 1) := dk_42 (dk_at dksX4_keeps_0 0 rfl rfl)
theorem dX4_keeps_1 : decode cX4_keeps 1 = .ok (.getfield 243, 3) := dk_180 0 243 (dk_at dksX4_keeps_0 1 rfl rfl)
theorem dX4_keeps_4 : decode cX4_keeps 4 = .ok (.bipush 12, 2) := dk_16 12 (dk_at dksX4_keeps_0 4 rfl rfl)
theorem dX4_keeps_6 : decode cX4_keeps 6 = .ok (.if_icmp .ne 36, 3) := dk_160 0 36 (dk_at dksX4_keeps_0 6 rfl rfl)
theorem dX4_keeps_9 : decode cX4_keeps 9 = .ok (.aload_n 0, 1) := dk_42 (dk_at dksX4_keeps_0 9 rfl rfl)
theorem dX4_keeps_10 : decode cX4_keeps 10 = .ok (.dup, 1) := dk_89 (dk_at dksX4_keeps_0 10 rfl rfl)
theorem dX4_keeps_11 : decode cX4_keeps 11 = .ok (.getfield 243, 3) := dk_180 0 243 (dk_at dksX4_keeps_0 11 rfl rfl)
theorem dX4_keeps_14 : decode cX4_keeps 14 = .ok (.iconst 1, 1) := dk_4 (dk_at dksX4_keeps_0 14 rfl rfl)
theorem dX4_keeps_15 : decode cX4_keeps 15 = .ok (.isub, 1) := dk_100 (dk_at dksX4_keeps_0 15 rfl rfl)
theorem dX4_keeps_16 : decode cX4_keeps 16 = .ok (.putfield 243, 3) := dk_181 0 243 (dk_at dksX4_keeps_0 16 rfl rfl)
theorem dX4_keeps_19 : decode cX4_keeps 19 = .ok (.aload_n 0, 1) := dk_42 (dk_at dksX4_keeps_0 19 rfl rfl)
theorem dX4_keeps_20 : decode cX4_keeps 20 = .ok (.getfield 94, 3) := dk_180 0 94 (dk_at dksX4_keeps_0 20 rfl rfl)
theorem dX4_keeps_23 : decode cX4_keeps 23 = .ok (.sipush 213, 3) := dk_17 0 213 (dk_at dksX4_keeps_1 0 rfl rfl)
theorem dX4_keeps_26 : decode cX4_keeps 26 = .ok (.aload_n 0, 1) := dk_42 (dk_at dksX4_keeps_1 3 rfl rfl)
theorem dX4_keeps_27 : decode cX4_keeps 27 = .ok (.getfield 94, 3) := dk_180 0 94 (dk_at dksX4_keeps_1 4 rfl rfl)
theorem dX4_keeps_30 : decode cX4_keeps 30 = .ok (.iconst 0, 1) := dk_3 (dk_at dksX4_keeps_1 7 rfl rfl)
theorem dX4_keeps_31 : decode cX4_keeps 31 = .ok (.sipush 213, 3) := dk_17 0 213 (dk_at dksX4_keeps_1 8 rfl rfl)
theorem dX4_keeps_34 : decode cX4_keeps 34 = .ok (.aload_n 0, 1) := dk_42 (dk_at dksX4_keeps_1 11 rfl rfl)
theorem dX4_keeps_35 : decode cX4_keeps 35 = .ok (.getfield 243, 3) := dk_180 0 243 (dk_at dksX4_keeps_1 12 rfl rfl)
theorem dX4_keeps_38 : decode cX4_keeps 38 = .ok (.imul, 1) := dk_104 (dk_at dksX4_keeps_1 15 rfl rfl)
theorem dX4_keeps_39 : decode cX4_keeps 39 = .ok (.invokestatic 232, 3) := dk_184 0 232 (dk_at dksX4_keeps_1 16 rfl rfl)
theorem dX4_keeps_42 : decode cX4_keeps 42 = .ok (.aload_n 0, 1) := dk_42 (dk_at dksX4_keeps_1 19 rfl rfl)
theorem dX4_keeps_43 : decode cX4_keeps 43 = .ok (.getfield 13, 3) := dk_180 0 13 (dk_at dksX4_keeps_1 20 rfl rfl)
theorem dX4_keeps_46 : decode cX4_keeps 46 = .ok (.iconst 0, 1) := dk_3 (dk_at dksX4_keeps_1 23 rfl rfl)
theorem dX4_keeps_47 : decode cX4_keeps 47 = .ok (.aload_n 0, 1) := dk_42 (dk_at dksX4_keeps_2 0 rfl rfl)
theorem dX4_keeps_48 : decode cX4_keeps 48 = .ok (.getfield 94, 3) := dk_180 0 94 (dk_at dksX4_keeps_2 1 rfl rfl)
theorem dX4_keeps_51 : decode cX4_keeps 51 = .ok (.sipush 213, 3) := dk_17 0 213 (dk_at dksX4_keeps_2 4 rfl rfl)
theorem dX4_keeps_54 : decode cX4_keeps 54 = .ok (.aload_n 0, 1) := dk_42 (dk_at dksX4_keeps_2 7 rfl rfl)
theorem dX4_keeps_55 : decode cX4_keeps 55 = .ok (.getfield 243, 3) := dk_180 0 243 (dk_at dksX4_keeps_2 8 rfl rfl)
theorem dX4_keeps_58 : decode cX4_keeps 58 = .ok (.imul, 1) := dk_104 (dk_at dksX4_keeps_2 11 rfl rfl)
theorem dX4_keeps_59 : decode cX4_keeps 59 = .ok (.sipush 213, 3) := dk_17 0 213 (dk_at dksX4_keeps_2 12 rfl rfl)
theorem dX4_keeps_62 : decode cX4_keeps 62 = .ok (.invokestatic 232, 3) := dk_184 0 232 (dk_at dksX4_keeps_2 15 rfl rfl)
theorem dX4_keeps_65 : decode cX4_keeps 65 = .ok (.aload_n 0, 1) := dk_42 (dk_at dksX4_keeps_2 18 rfl rfl)
theorem dX4_keeps_66 : decode cX4_keeps 66 = .ok (.dup, 1) := dk_89 (dk_at dksX4_keeps_2 19 rfl rfl)
theorem dX4_keeps_67 : decode cX4_keeps 67 = .ok (.getfield 243, 3) := dk_180 0 243 (dk_at dksX4_keeps_2 20 rfl rfl)
theorem dX4_keeps_70 : decode cX4_keeps 70 = .ok (.iconst 1, 1) := dk_4 (dk_at dksX4_keeps_2 23 rfl rfl)
theorem dX4_keeps_71 : decode cX4_keeps 71 = .ok (.iadd, 1) := dk_96 (dk_at dksX4_keeps_3 0 rfl rfl)
theorem dX4_keeps_72 : decode cX4_keeps 72 = .ok (.putfield 243, 3) := dk_181 0 243 (dk_at dksX4_keeps_3 1 rfl rfl)
theorem dX4_keeps_75 : decode cX4_keeps 75 = .ok (.return_, 1) := dk_177 (dk_at dksX4_keeps_3 4 rfl rfl)
abbrev cX4_regionDrawn : ByteArray := prog_16_method_69_code
def yX4_regionDrawn : MethodName := ⟨RX4, "regionDrawn", "()I"⟩
def dkwX4_regionDrawn_3 : List UInt8 := [16, 254, 172]
abbrev dktX4_regionDrawn_3 : List UInt8 := dkwX4_regionDrawn_3 ++ []
def dkwX4_regionDrawn_2 : List UInt8 := [96, 46, 172, 28, 42, 180, 0, 38, 16, 8, 27, 104, 29, 96, 46, 100, 61, 132, 3, 1, 167, 255, 202]
abbrev dktX4_regionDrawn_2 : List UInt8 := dkwX4_regionDrawn_2 ++ dktX4_regionDrawn_3
def dkwX4_regionDrawn_1 : List UInt8 := [28, 42, 180, 0, 38, 16, 8, 27, 104, 29, 96, 46, 162, 0, 15, 42, 180, 0, 35, 16, 8, 27, 104, 29]
abbrev dktX4_regionDrawn_1 : List UInt8 := dkwX4_regionDrawn_1 ++ dktX4_regionDrawn_2
def dkwX4_regionDrawn_0 : List UInt8 := [42, 180, 0, 13, 4, 46, 60, 42, 182, 1, 61, 61, 3, 62, 29, 42, 180, 0, 32, 27, 46, 162, 0, 50]
abbrev dktX4_regionDrawn_0 : List UInt8 := dkwX4_regionDrawn_0 ++ dktX4_regionDrawn_1
theorem dksX4_regionDrawn_0 : cX4_regionDrawn.data.toList.drop 0 = dktX4_regionDrawn_0 := by decide +kernel
theorem dksX4_regionDrawn_1 : cX4_regionDrawn.data.toList.drop 24 = dktX4_regionDrawn_1 := dk_seg dksX4_regionDrawn_0 24 rfl rfl
theorem dksX4_regionDrawn_2 : cX4_regionDrawn.data.toList.drop 48 = dktX4_regionDrawn_2 := dk_seg dksX4_regionDrawn_1 24 rfl rfl
theorem dksX4_regionDrawn_3 : cX4_regionDrawn.data.toList.drop 71 = dktX4_regionDrawn_3 := dk_seg dksX4_regionDrawn_2 23 rfl rfl
theorem dX4_regionDrawn_0 : decode cX4_regionDrawn 0 = .ok (.aload_n 0, 1) := dk_42 (dk_at dksX4_regionDrawn_0 0 rfl rfl)
theorem dX4_regionDrawn_1 : decode cX4_regionDrawn 1 = .ok (.getfield 13, 3) := dk_180 0 13 (dk_at dksX4_regionDrawn_0 1 rfl rfl)
theorem dX4_regionDrawn_4 : decode cX4_regionDrawn 4 = .ok (.iconst 1, 1) := dk_4 (dk_at dksX4_regionDrawn_0 4 rfl rfl)
theorem dX4_regionDrawn_5 : decode cX4_regionDrawn 5 = .ok (.iaload, 1) := dk_46 (dk_at dksX4_regionDrawn_0 5 rfl rfl)
theorem dX4_regionDrawn_6 : decode cX4_regionDrawn 6 = .ok (.istore_n 1, 1) := dk_60 (dk_at dksX4_regionDrawn_0 6 rfl rfl)
theorem dX4_regionDrawn_7 : decode cX4_regionDrawn 7 = .ok (.aload_n 0, 1) := dk_42 (dk_at dksX4_regionDrawn_0 7 rfl rfl)
theorem dX4_regionDrawn_8 : decode cX4_regionDrawn 8 = .ok (.invokevirtual 317, 3) := dk_182 1 61 (dk_at dksX4_regionDrawn_0 8 rfl rfl)
theorem dX4_regionDrawn_11 : decode cX4_regionDrawn 11 = .ok (.istore_n 2, 1) := dk_61 (dk_at dksX4_regionDrawn_0 11 rfl rfl)
theorem dX4_regionDrawn_12 : decode cX4_regionDrawn 12 = .ok (.iconst 0, 1) := dk_3 (dk_at dksX4_regionDrawn_0 12 rfl rfl)
theorem dX4_regionDrawn_13 : decode cX4_regionDrawn 13 = .ok (.istore_n 3, 1) := dk_62 (dk_at dksX4_regionDrawn_0 13 rfl rfl)
theorem dX4_regionDrawn_14 : decode cX4_regionDrawn 14 = .ok (.iload_n 3, 1) := dk_29 (dk_at dksX4_regionDrawn_0 14 rfl rfl)
theorem dX4_regionDrawn_15 : decode cX4_regionDrawn 15 = .ok (.aload_n 0, 1) := dk_42 (dk_at dksX4_regionDrawn_0 15 rfl rfl)
theorem dX4_regionDrawn_16 : decode cX4_regionDrawn 16 = .ok (.getfield 32, 3) := dk_180 0 32 (dk_at dksX4_regionDrawn_0 16 rfl rfl)
theorem dX4_regionDrawn_19 : decode cX4_regionDrawn 19 = .ok (.iload_n 1, 1) := dk_27 (dk_at dksX4_regionDrawn_0 19 rfl rfl)
theorem dX4_regionDrawn_20 : decode cX4_regionDrawn 20 = .ok (.iaload, 1) := dk_46 (dk_at dksX4_regionDrawn_0 20 rfl rfl)
theorem dX4_regionDrawn_21 : decode cX4_regionDrawn 21 = .ok (.if_icmp .ge 50, 3) := dk_162 0 50 (dk_at dksX4_regionDrawn_0 21 rfl rfl)
theorem dX4_regionDrawn_24 : decode cX4_regionDrawn 24 = .ok (.iload_n 2, 1) := dk_28 (dk_at dksX4_regionDrawn_1 0 rfl rfl)
theorem dX4_regionDrawn_25 : decode cX4_regionDrawn 25 = .ok (.aload_n 0, 1) := dk_42 (dk_at dksX4_regionDrawn_1 1 rfl rfl)
theorem dX4_regionDrawn_26 : decode cX4_regionDrawn 26 = .ok (.getfield 38, 3) := dk_180 0 38 (dk_at dksX4_regionDrawn_1 2 rfl rfl)
theorem dX4_regionDrawn_29 : decode cX4_regionDrawn 29 = .ok (.bipush 8, 2) := dk_16 8 (dk_at dksX4_regionDrawn_1 5 rfl rfl)
theorem dX4_regionDrawn_31 : decode cX4_regionDrawn 31 = .ok (.iload_n 1, 1) := dk_27 (dk_at dksX4_regionDrawn_1 7 rfl rfl)
theorem dX4_regionDrawn_32 : decode cX4_regionDrawn 32 = .ok (.imul, 1) := dk_104 (dk_at dksX4_regionDrawn_1 8 rfl rfl)
theorem dX4_regionDrawn_33 : decode cX4_regionDrawn 33 = .ok (.iload_n 3, 1) := dk_29 (dk_at dksX4_regionDrawn_1 9 rfl rfl)
theorem dX4_regionDrawn_34 : decode cX4_regionDrawn 34 = .ok (.iadd, 1) := dk_96 (dk_at dksX4_regionDrawn_1 10 rfl rfl)
theorem dX4_regionDrawn_35 : decode cX4_regionDrawn 35 = .ok (.iaload, 1) := dk_46 (dk_at dksX4_regionDrawn_1 11 rfl rfl)
theorem dX4_regionDrawn_36 : decode cX4_regionDrawn 36 = .ok (.if_icmp .ge 15, 3) := dk_162 0 15 (dk_at dksX4_regionDrawn_1 12 rfl rfl)
theorem dX4_regionDrawn_39 : decode cX4_regionDrawn 39 = .ok (.aload_n 0, 1) := dk_42 (dk_at dksX4_regionDrawn_1 15 rfl rfl)
theorem dX4_regionDrawn_40 : decode cX4_regionDrawn 40 = .ok (.getfield 35, 3) := dk_180 0 35 (dk_at dksX4_regionDrawn_1 16 rfl rfl)
theorem dX4_regionDrawn_43 : decode cX4_regionDrawn 43 = .ok (.bipush 8, 2) := dk_16 8 (dk_at dksX4_regionDrawn_1 19 rfl rfl)
theorem dX4_regionDrawn_45 : decode cX4_regionDrawn 45 = .ok (.iload_n 1, 1) := dk_27 (dk_at dksX4_regionDrawn_1 21 rfl rfl)
theorem dX4_regionDrawn_46 : decode cX4_regionDrawn 46 = .ok (.imul, 1) := dk_104 (dk_at dksX4_regionDrawn_1 22 rfl rfl)
theorem dX4_regionDrawn_47 : decode cX4_regionDrawn 47 = .ok (.iload_n 3, 1) := dk_29 (dk_at dksX4_regionDrawn_1 23 rfl rfl)
theorem dX4_regionDrawn_48 : decode cX4_regionDrawn 48 = .ok (.iadd, 1) := dk_96 (dk_at dksX4_regionDrawn_2 0 rfl rfl)
theorem dX4_regionDrawn_49 : decode cX4_regionDrawn 49 = .ok (.iaload, 1) := dk_46 (dk_at dksX4_regionDrawn_2 1 rfl rfl)
theorem dX4_regionDrawn_50 : decode cX4_regionDrawn 50 = .ok (.ireturn, 1) := dk_172 (dk_at dksX4_regionDrawn_2 2 rfl rfl)
theorem dX4_regionDrawn_51 : decode cX4_regionDrawn 51 = .ok (.iload_n 2, 1) := dk_28 (dk_at dksX4_regionDrawn_2 3 rfl rfl)
theorem dX4_regionDrawn_52 : decode cX4_regionDrawn 52 = .ok (.aload_n 0, 1) := dk_42 (dk_at dksX4_regionDrawn_2 4 rfl rfl)
theorem dX4_regionDrawn_53 : decode cX4_regionDrawn 53 = .ok (.getfield 38, 3) := dk_180 0 38 (dk_at dksX4_regionDrawn_2 5 rfl rfl)
theorem dX4_regionDrawn_56 : decode cX4_regionDrawn 56 = .ok (.bipush 8, 2) := dk_16 8 (dk_at dksX4_regionDrawn_2 8 rfl rfl)
theorem dX4_regionDrawn_58 : decode cX4_regionDrawn 58 = .ok (.iload_n 1, 1) := dk_27 (dk_at dksX4_regionDrawn_2 10 rfl rfl)
theorem dX4_regionDrawn_59 : decode cX4_regionDrawn 59 = .ok (.imul, 1) := dk_104 (dk_at dksX4_regionDrawn_2 11 rfl rfl)
theorem dX4_regionDrawn_60 : decode cX4_regionDrawn 60 = .ok (.iload_n 3, 1) := dk_29 (dk_at dksX4_regionDrawn_2 12 rfl rfl)
theorem dX4_regionDrawn_61 : decode cX4_regionDrawn 61 = .ok (.iadd, 1) := dk_96 (dk_at dksX4_regionDrawn_2 13 rfl rfl)
theorem dX4_regionDrawn_62 : decode cX4_regionDrawn 62 = .ok (.iaload, 1) := dk_46 (dk_at dksX4_regionDrawn_2 14 rfl rfl)
theorem dX4_regionDrawn_63 : decode cX4_regionDrawn 63 = .ok (.isub, 1) := dk_100 (dk_at dksX4_regionDrawn_2 15 rfl rfl)
theorem dX4_regionDrawn_64 : decode cX4_regionDrawn 64 = .ok (.istore_n 2, 1) := dk_61 (dk_at dksX4_regionDrawn_2 16 rfl rfl)
theorem dX4_regionDrawn_65 : decode cX4_regionDrawn 65 = .ok (.iinc 3 1, 3) := dk_132 3 1 (dk_at dksX4_regionDrawn_2 17 rfl rfl)
theorem dX4_regionDrawn_68 : decode cX4_regionDrawn 68 = .ok (.goto (-54), 3) := dk_167 255 202 (dk_at dksX4_regionDrawn_2 20 rfl rfl)
theorem dX4_regionDrawn_71 : decode cX4_regionDrawn 71 = .ok (.bipush (-2), 2) := dk_16 254 (dk_at dksX4_regionDrawn_3 0 rfl rfl)
theorem dX4_regionDrawn_73 : decode cX4_regionDrawn 73 = .ok (.ireturn, 1) := dk_172 (dk_at dksX4_regionDrawn_3 2 rfl rfl)
abbrev cX4_draw : ByteArray := prog_16_method_66_code
def yX4_draw : MethodName := ⟨RX4, "draw", "()I"⟩
def dkwX4_draw_1 : List UInt8 := [5, 31, 136, 79, 31, 20, 1, 57, 109, 20, 1, 59, 113, 136, 172]
abbrev dktX4_draw_1 : List UInt8 := dkwX4_draw_1 ++ []
def dkwX4_draw_0 : List UInt8 := [42, 180, 0, 13, 5, 46, 133, 20, 1, 51, 105, 20, 1, 53, 97, 20, 1, 55, 113, 64, 42, 180, 0, 13]
abbrev dktX4_draw_0 : List UInt8 := dkwX4_draw_0 ++ dktX4_draw_1
theorem dksX4_draw_0 : cX4_draw.data.toList.drop 0 = dktX4_draw_0 := by decide +kernel
theorem dksX4_draw_1 : cX4_draw.data.toList.drop 24 = dktX4_draw_1 := dk_seg dksX4_draw_0 24 rfl rfl
theorem dX4_draw_0 : decode cX4_draw 0 = .ok (.aload_n 0, 1) := dk_42 (dk_at dksX4_draw_0 0 rfl rfl)
theorem dX4_draw_1 : decode cX4_draw 1 = .ok (.getfield 13, 3) := dk_180 0 13 (dk_at dksX4_draw_0 1 rfl rfl)
theorem dX4_draw_4 : decode cX4_draw 4 = .ok (.iconst 2, 1) := dk_5 (dk_at dksX4_draw_0 4 rfl rfl)
theorem dX4_draw_5 : decode cX4_draw 5 = .ok (.iaload, 1) := dk_46 (dk_at dksX4_draw_0 5 rfl rfl)
theorem dX4_draw_6 : decode cX4_draw 6 = .ok (.i2l, 1) := dk_133 (dk_at dksX4_draw_0 6 rfl rfl)
theorem dX4_draw_7 : decode cX4_draw 7 = .ok (.ldc2_w 307, 3) := dk_20 1 51 (dk_at dksX4_draw_0 7 rfl rfl)
theorem dX4_draw_10 : decode cX4_draw 10 = .ok (.lmul, 1) := dk_105 (dk_at dksX4_draw_0 10 rfl rfl)
theorem dX4_draw_11 : decode cX4_draw 11 = .ok (.ldc2_w 309, 3) := dk_20 1 53 (dk_at dksX4_draw_0 11 rfl rfl)
theorem dX4_draw_14 : decode cX4_draw 14 = .ok (.ladd, 1) := dk_97 (dk_at dksX4_draw_0 14 rfl rfl)
theorem dX4_draw_15 : decode cX4_draw 15 = .ok (.ldc2_w 311, 3) := dk_20 1 55 (dk_at dksX4_draw_0 15 rfl rfl)
theorem dX4_draw_18 : decode cX4_draw 18 = .ok (.lrem, 1) := dk_113 (dk_at dksX4_draw_0 18 rfl rfl)
theorem dX4_draw_19 : decode cX4_draw 19 = .ok (.lstore_n 1, 1) := dk_64 (dk_at dksX4_draw_0 19 rfl rfl)
theorem dX4_draw_20 : decode cX4_draw 20 = .ok (.aload_n 0, 1) := dk_42 (dk_at dksX4_draw_0 20 rfl rfl)
theorem dX4_draw_21 : decode cX4_draw 21 = .ok (.getfield 13, 3) := dk_180 0 13 (dk_at dksX4_draw_0 21 rfl rfl)
theorem dX4_draw_24 : decode cX4_draw 24 = .ok (.iconst 2, 1) := dk_5 (dk_at dksX4_draw_1 0 rfl rfl)
theorem dX4_draw_25 : decode cX4_draw 25 = .ok (.lload_n 1, 1) := dk_31 (dk_at dksX4_draw_1 1 rfl rfl)
theorem dX4_draw_26 : decode cX4_draw 26 = .ok (.l2i, 1) := dk_136 (dk_at dksX4_draw_1 2 rfl rfl)
theorem dX4_draw_27 : decode cX4_draw 27 = .ok (.iastore, 1) := dk_79 (dk_at dksX4_draw_1 3 rfl rfl)
theorem dX4_draw_28 : decode cX4_draw 28 = .ok (.lload_n 1, 1) := dk_31 (dk_at dksX4_draw_1 4 rfl rfl)
theorem dX4_draw_29 : decode cX4_draw 29 = .ok (.ldc2_w 313, 3) := dk_20 1 57 (dk_at dksX4_draw_1 5 rfl rfl)
theorem dX4_draw_32 : decode cX4_draw 32 = .ok (.ldiv, 1) := dk_109 (dk_at dksX4_draw_1 8 rfl rfl)
theorem dX4_draw_33 : decode cX4_draw 33 = .ok (.ldc2_w 315, 3) := dk_20 1 59 (dk_at dksX4_draw_1 9 rfl rfl)
theorem dX4_draw_36 : decode cX4_draw 36 = .ok (.lrem, 1) := dk_113 (dk_at dksX4_draw_1 12 rfl rfl)
theorem dX4_draw_37 : decode cX4_draw 37 = .ok (.l2i, 1) := dk_136 (dk_at dksX4_draw_1 13 rfl rfl)
theorem dX4_draw_38 : decode cX4_draw 38 = .ok (.ireturn, 1) := dk_172 (dk_at dksX4_draw_1 14 rfl rfl)
abbrev cX4_become : ByteArray := prog_16_method_68_code
def yX4_become : MethodName := ⟨RX4, "become", "(II)V"⟩
def dkwX4_become_2 : List UInt8 := [167, 255, 213, 177]
abbrev dktX4_become_2 : List UInt8 := dkwX4_become_2 ++ []
def dkwX4_become_1 : List UInt8 := [184, 0, 173, 153, 0, 7, 28, 167, 0, 12, 42, 180, 0, 13, 16, 35, 29, 96, 46, 79, 132, 3, 1]
abbrev dktX4_become_1 : List UInt8 := dkwX4_become_1 ++ dktX4_become_2
def dkwX4_become_0 : List UInt8 := [3, 62, 29, 42, 180, 0, 62, 3, 46, 162, 0, 39, 42, 180, 0, 13, 16, 35, 29, 96, 27, 29]
abbrev dktX4_become_0 : List UInt8 := dkwX4_become_0 ++ dktX4_become_1
theorem dksX4_become_0 : cX4_become.data.toList.drop 0 = dktX4_become_0 := by decide +kernel
theorem dksX4_become_1 : cX4_become.data.toList.drop 22 = dktX4_become_1 := dk_seg dksX4_become_0 22 rfl rfl
theorem dksX4_become_2 : cX4_become.data.toList.drop 45 = dktX4_become_2 := dk_seg dksX4_become_1 23 rfl rfl
theorem dX4_become_0 : decode cX4_become 0 = .ok (.iconst 0, 1) := dk_3 (dk_at dksX4_become_0 0 rfl rfl)
theorem dX4_become_1 : decode cX4_become 1 = .ok (.istore_n 3, 1) := dk_62 (dk_at dksX4_become_0 1 rfl rfl)
theorem dX4_become_2 : decode cX4_become 2 = .ok (.iload_n 3, 1) := dk_29 (dk_at dksX4_become_0 2 rfl rfl)
theorem dX4_become_3 : decode cX4_become 3 = .ok (.aload_n 0, 1) := dk_42 (dk_at dksX4_become_0 3 rfl rfl)
theorem dX4_become_4 : decode cX4_become 4 = .ok (.getfield 62, 3) := dk_180 0 62 (dk_at dksX4_become_0 4 rfl rfl)
theorem dX4_become_7 : decode cX4_become 7 = .ok (.iconst 0, 1) := dk_3 (dk_at dksX4_become_0 7 rfl rfl)
theorem dX4_become_8 : decode cX4_become 8 = .ok (.iaload, 1) := dk_46 (dk_at dksX4_become_0 8 rfl rfl)
theorem dX4_become_9 : decode cX4_become 9 = .ok (.if_icmp .ge 39, 3) := dk_162 0 39 (dk_at dksX4_become_0 9 rfl rfl)
theorem dX4_become_12 : decode cX4_become 12 = .ok (.aload_n 0, 1) := dk_42 (dk_at dksX4_become_0 12 rfl rfl)
theorem dX4_become_13 : decode cX4_become 13 = .ok (.getfield 13, 3) := dk_180 0 13 (dk_at dksX4_become_0 13 rfl rfl)
theorem dX4_become_16 : decode cX4_become 16 = .ok (.bipush 35, 2) := dk_16 35 (dk_at dksX4_become_0 16 rfl rfl)
theorem dX4_become_18 : decode cX4_become 18 = .ok (.iload_n 3, 1) := dk_29 (dk_at dksX4_become_0 18 rfl rfl)
theorem dX4_become_19 : decode cX4_become 19 = .ok (.iadd, 1) := dk_96 (dk_at dksX4_become_0 19 rfl rfl)
theorem dX4_become_20 : decode cX4_become 20 = .ok (.iload_n 1, 1) := dk_27 (dk_at dksX4_become_0 20 rfl rfl)
theorem dX4_become_21 : decode cX4_become 21 = .ok (.iload_n 3, 1) := dk_29 (dk_at dksX4_become_0 21 rfl rfl)
theorem dX4_become_22 : decode cX4_become 22 = .ok (.invokestatic 173, 3) := dk_184 0 173 (dk_at dksX4_become_1 0 rfl rfl)
theorem dX4_become_25 : decode cX4_become 25 = .ok (.ifCond .eq 7, 3) := dk_153 0 7 (dk_at dksX4_become_1 3 rfl rfl)
theorem dX4_become_28 : decode cX4_become 28 = .ok (.iload_n 2, 1) := dk_28 (dk_at dksX4_become_1 6 rfl rfl)
theorem dX4_become_29 : decode cX4_become 29 = .ok (.goto 12, 3) := dk_167 0 12 (dk_at dksX4_become_1 7 rfl rfl)
theorem dX4_become_32 : decode cX4_become 32 = .ok (.aload_n 0, 1) := dk_42 (dk_at dksX4_become_1 10 rfl rfl)
theorem dX4_become_33 : decode cX4_become 33 = .ok (.getfield 13, 3) := dk_180 0 13 (dk_at dksX4_become_1 11 rfl rfl)
theorem dX4_become_36 : decode cX4_become 36 = .ok (.bipush 35, 2) := dk_16 35 (dk_at dksX4_become_1 14 rfl rfl)
theorem dX4_become_38 : decode cX4_become 38 = .ok (.iload_n 3, 1) := dk_29 (dk_at dksX4_become_1 16 rfl rfl)
theorem dX4_become_39 : decode cX4_become 39 = .ok (.iadd, 1) := dk_96 (dk_at dksX4_become_1 17 rfl rfl)
theorem dX4_become_40 : decode cX4_become 40 = .ok (.iaload, 1) := dk_46 (dk_at dksX4_become_1 18 rfl rfl)
theorem dX4_become_41 : decode cX4_become 41 = .ok (.iastore, 1) := dk_79 (dk_at dksX4_become_1 19 rfl rfl)
theorem dX4_become_42 : decode cX4_become 42 = .ok (.iinc 3 1, 3) := dk_132 3 1 (dk_at dksX4_become_1 20 rfl rfl)
theorem dX4_become_45 : decode cX4_become 45 = .ok (.goto (-43), 3) := dk_167 255 213 (dk_at dksX4_become_2 0 rfl rfl)
theorem dX4_become_48 : decode cX4_become 48 = .ok (.return_, 1) := dk_177 (dk_at dksX4_become_2 3 rfl rfl)
abbrev cX4_notes : ByteArray := prog_16_method_67_code
def yX4_notes : MethodName := ⟨RX4, "notes", "(II)V"⟩
def dkwX4_notes_6 : List UInt8 := [42, 180, 0, 13, 17, 0, 164, 92, 46, 4, 96, 79, 177]
abbrev dktX4_notes_6 : List UInt8 := dkwX4_notes_6 ++ []
def dkwX4_notes_5 : List UInt8 := [79, 42, 180, 0, 13, 17, 0, 197, 42, 180, 0, 13, 17, 0, 164, 46, 96, 42, 180, 0, 13, 3, 46, 79]
abbrev dktX4_notes_5 : List UInt8 := dkwX4_notes_5 ++ dktX4_notes_6
def dkwX4_notes_4 : List UInt8 := [17, 0, 164, 46, 96, 27, 79, 42, 180, 0, 13, 17, 0, 181, 42, 180, 0, 13, 17, 0, 164, 46, 96, 28]
abbrev dktX4_notes_4 : List UInt8 := dkwX4_notes_4 ++ dktX4_notes_5
def dkwX4_notes_3 : List UInt8 := [180, 0, 13, 17, 0, 197, 16, 15, 184, 0, 232, 42, 180, 0, 13, 17, 0, 165, 42, 180, 0, 13]
abbrev dktX4_notes_3 : List UInt8 := dkwX4_notes_3 ++ dktX4_notes_4
def dkwX4_notes_2 : List UInt8 := [17, 0, 182, 42, 180, 0, 13, 17, 0, 181, 16, 15, 184, 0, 232, 42, 180, 0, 13, 17, 0, 198, 42]
abbrev dktX4_notes_2 : List UInt8 := dkwX4_notes_2 ++ dktX4_notes_3
def dkwX4_notes_1 : List UInt8 := [79, 42, 180, 0, 13, 17, 0, 166, 42, 180, 0, 13, 17, 0, 165, 16, 15, 184, 0, 232, 42, 180, 0, 13]
abbrev dktX4_notes_1 : List UInt8 := dkwX4_notes_1 ++ dktX4_notes_2
def dkwX4_notes_0 : List UInt8 := [42, 180, 0, 13, 17, 0, 164, 46, 16, 16, 160, 0, 72, 42, 180, 0, 13, 17, 0, 164, 92, 46, 4, 100]
abbrev dktX4_notes_0 : List UInt8 := dkwX4_notes_0 ++ dktX4_notes_1
theorem dksX4_notes_0 : cX4_notes.data.toList.drop 0 = dktX4_notes_0 := by decide +kernel
theorem dksX4_notes_1 : cX4_notes.data.toList.drop 24 = dktX4_notes_1 := dk_seg dksX4_notes_0 24 rfl rfl
theorem dksX4_notes_2 : cX4_notes.data.toList.drop 48 = dktX4_notes_2 := dk_seg dksX4_notes_1 24 rfl rfl
theorem dksX4_notes_3 : cX4_notes.data.toList.drop 71 = dktX4_notes_3 := dk_seg dksX4_notes_2 23 rfl rfl
theorem dksX4_notes_4 : cX4_notes.data.toList.drop 93 = dktX4_notes_4 := dk_seg dksX4_notes_3 22 rfl rfl
theorem dksX4_notes_5 : cX4_notes.data.toList.drop 117 = dktX4_notes_5 := dk_seg dksX4_notes_4 24 rfl rfl
theorem dksX4_notes_6 : cX4_notes.data.toList.drop 141 = dktX4_notes_6 := dk_seg dksX4_notes_5 24 rfl rfl
theorem dX4_notes_0 : decode cX4_notes 0 = .ok (.aload_n 0, 1) := dk_42 (dk_at dksX4_notes_0 0 rfl rfl)
theorem dX4_notes_1 : decode cX4_notes 1 = .ok (.getfield 13, 3) := dk_180 0 13 (dk_at dksX4_notes_0 1 rfl rfl)
theorem dX4_notes_4 : decode cX4_notes 4 = .ok (.sipush 164, 3) := dk_17 0 164 (dk_at dksX4_notes_0 4 rfl rfl)
theorem dX4_notes_7 : decode cX4_notes 7 = .ok (.iaload, 1) := dk_46 (dk_at dksX4_notes_0 7 rfl rfl)
theorem dX4_notes_8 : decode cX4_notes 8 = .ok (.bipush 16, 2) := dk_16 16 (dk_at dksX4_notes_0 8 rfl rfl)
theorem dX4_notes_10 : decode cX4_notes 10 = .ok (.if_icmp .ne 72, 3) := dk_160 0 72 (dk_at dksX4_notes_0 10 rfl rfl)
theorem dX4_notes_13 : decode cX4_notes 13 = .ok (.aload_n 0, 1) := dk_42 (dk_at dksX4_notes_0 13 rfl rfl)
theorem dX4_notes_14 : decode cX4_notes 14 = .ok (.getfield 13, 3) := dk_180 0 13 (dk_at dksX4_notes_0 14 rfl rfl)
theorem dX4_notes_17 : decode cX4_notes 17 = .ok (.sipush 164, 3) := dk_17 0 164 (dk_at dksX4_notes_0 17 rfl rfl)
theorem dX4_notes_20 : decode cX4_notes 20 = .ok (.dup2, 1) := dk_92 (dk_at dksX4_notes_0 20 rfl rfl)
theorem dX4_notes_21 : decode cX4_notes 21 = .ok (.iaload, 1) := dk_46 (dk_at dksX4_notes_0 21 rfl rfl)
theorem dX4_notes_22 : decode cX4_notes 22 = .ok (.iconst 1, 1) := dk_4 (dk_at dksX4_notes_0 22 rfl rfl)
theorem dX4_notes_23 : decode cX4_notes 23 = .ok (.isub, 1) := dk_100 (dk_at dksX4_notes_0 23 rfl rfl)
theorem dX4_notes_24 : decode cX4_notes 24 = .ok (.iastore, 1) := dk_79 (dk_at dksX4_notes_1 0 rfl rfl)
theorem dX4_notes_25 : decode cX4_notes 25 = .ok (.aload_n 0, 1) := dk_42 (dk_at dksX4_notes_1 1 rfl rfl)
theorem dX4_notes_26 : decode cX4_notes 26 = .ok (.getfield 13, 3) := dk_180 0 13 (dk_at dksX4_notes_1 2 rfl rfl)
theorem dX4_notes_29 : decode cX4_notes 29 = .ok (.sipush 166, 3) := dk_17 0 166 (dk_at dksX4_notes_1 5 rfl rfl)
theorem dX4_notes_32 : decode cX4_notes 32 = .ok (.aload_n 0, 1) := dk_42 (dk_at dksX4_notes_1 8 rfl rfl)
theorem dX4_notes_33 : decode cX4_notes 33 = .ok (.getfield 13, 3) := dk_180 0 13 (dk_at dksX4_notes_1 9 rfl rfl)
theorem dX4_notes_36 : decode cX4_notes 36 = .ok (.sipush 165, 3) := dk_17 0 165 (dk_at dksX4_notes_1 12 rfl rfl)
theorem dX4_notes_39 : decode cX4_notes 39 = .ok (.bipush 15, 2) := dk_16 15 (dk_at dksX4_notes_1 15 rfl rfl)
theorem dX4_notes_41 : decode cX4_notes 41 = .ok (.invokestatic 232, 3) := dk_184 0 232 (dk_at dksX4_notes_1 17 rfl rfl)
theorem dX4_notes_44 : decode cX4_notes 44 = .ok (.aload_n 0, 1) := dk_42 (dk_at dksX4_notes_1 20 rfl rfl)
theorem dX4_notes_45 : decode cX4_notes 45 = .ok (.getfield 13, 3) := dk_180 0 13 (dk_at dksX4_notes_1 21 rfl rfl)
theorem dX4_notes_48 : decode cX4_notes 48 = .ok (.sipush 182, 3) := dk_17 0 182 (dk_at dksX4_notes_2 0 rfl rfl)
theorem dX4_notes_51 : decode cX4_notes 51 = .ok (.aload_n 0, 1) := dk_42 (dk_at dksX4_notes_2 3 rfl rfl)
theorem dX4_notes_52 : decode cX4_notes 52 = .ok (.getfield 13, 3) := dk_180 0 13 (dk_at dksX4_notes_2 4 rfl rfl)
theorem dX4_notes_55 : decode cX4_notes 55 = .ok (.sipush 181, 3) := dk_17 0 181 (dk_at dksX4_notes_2 7 rfl rfl)
theorem dX4_notes_58 : decode cX4_notes 58 = .ok (.bipush 15, 2) := dk_16 15 (dk_at dksX4_notes_2 10 rfl rfl)
theorem dX4_notes_60 : decode cX4_notes 60 = .ok (.invokestatic 232, 3) := dk_184 0 232 (dk_at dksX4_notes_2 12 rfl rfl)
theorem dX4_notes_63 : decode cX4_notes 63 = .ok (.aload_n 0, 1) := dk_42 (dk_at dksX4_notes_2 15 rfl rfl)
theorem dX4_notes_64 : decode cX4_notes 64 = .ok (.getfield 13, 3) := dk_180 0 13 (dk_at dksX4_notes_2 16 rfl rfl)
theorem dX4_notes_67 : decode cX4_notes 67 = .ok (.sipush 198, 3) := dk_17 0 198 (dk_at dksX4_notes_2 19 rfl rfl)
theorem dX4_notes_70 : decode cX4_notes 70 = .ok (.aload_n 0, 1) := dk_42 (dk_at dksX4_notes_2 22 rfl rfl)
theorem dX4_notes_71 : decode cX4_notes 71 = .ok (.getfield 13, 3) := dk_180 0 13 (dk_at dksX4_notes_3 0 rfl rfl)
theorem dX4_notes_74 : decode cX4_notes 74 = .ok (.sipush 197, 3) := dk_17 0 197 (dk_at dksX4_notes_3 3 rfl rfl)
theorem dX4_notes_77 : decode cX4_notes 77 = .ok (.bipush 15, 2) := dk_16 15 (dk_at dksX4_notes_3 6 rfl rfl)
theorem dX4_notes_79 : decode cX4_notes 79 = .ok (.invokestatic 232, 3) := dk_184 0 232 (dk_at dksX4_notes_3 8 rfl rfl)
theorem dX4_notes_82 : decode cX4_notes 82 = .ok (.aload_n 0, 1) := dk_42 (dk_at dksX4_notes_3 11 rfl rfl)
theorem dX4_notes_83 : decode cX4_notes 83 = .ok (.getfield 13, 3) := dk_180 0 13 (dk_at dksX4_notes_3 12 rfl rfl)
theorem dX4_notes_86 : decode cX4_notes 86 = .ok (.sipush 165, 3) := dk_17 0 165 (dk_at dksX4_notes_3 15 rfl rfl)
theorem dX4_notes_89 : decode cX4_notes 89 = .ok (.aload_n 0, 1) := dk_42 (dk_at dksX4_notes_3 18 rfl rfl)
theorem dX4_notes_90 : decode cX4_notes 90 = .ok (.getfield 13, 3) := dk_180 0 13 (dk_at dksX4_notes_3 19 rfl rfl)
theorem dX4_notes_93 : decode cX4_notes 93 = .ok (.sipush 164, 3) := dk_17 0 164 (dk_at dksX4_notes_4 0 rfl rfl)
theorem dX4_notes_96 : decode cX4_notes 96 = .ok (.iaload, 1) := dk_46 (dk_at dksX4_notes_4 3 rfl rfl)
theorem dX4_notes_97 : decode cX4_notes 97 = .ok (.iadd, 1) := dk_96 (dk_at dksX4_notes_4 4 rfl rfl)
theorem dX4_notes_98 : decode cX4_notes 98 = .ok (.iload_n 1, 1) := dk_27 (dk_at dksX4_notes_4 5 rfl rfl)
theorem dX4_notes_99 : decode cX4_notes 99 = .ok (.iastore, 1) := dk_79 (dk_at dksX4_notes_4 6 rfl rfl)
theorem dX4_notes_100 : decode cX4_notes 100 = .ok (.aload_n 0, 1) := dk_42 (dk_at dksX4_notes_4 7 rfl rfl)
theorem dX4_notes_101 : decode cX4_notes 101 = .ok (.getfield 13, 3) := dk_180 0 13 (dk_at dksX4_notes_4 8 rfl rfl)
theorem dX4_notes_104 : decode cX4_notes 104 = .ok (.sipush 181, 3) := dk_17 0 181 (dk_at dksX4_notes_4 11 rfl rfl)
theorem dX4_notes_107 : decode cX4_notes 107 = .ok (.aload_n 0, 1) := dk_42 (dk_at dksX4_notes_4 14 rfl rfl)
theorem dX4_notes_108 : decode cX4_notes 108 = .ok (.getfield 13, 3) := dk_180 0 13 (dk_at dksX4_notes_4 15 rfl rfl)
theorem dX4_notes_111 : decode cX4_notes 111 = .ok (.sipush 164, 3) := dk_17 0 164 (dk_at dksX4_notes_4 18 rfl rfl)
theorem dX4_notes_114 : decode cX4_notes 114 = .ok (.iaload, 1) := dk_46 (dk_at dksX4_notes_4 21 rfl rfl)
theorem dX4_notes_115 : decode cX4_notes 115 = .ok (.iadd, 1) := dk_96 (dk_at dksX4_notes_4 22 rfl rfl)
theorem dX4_notes_116 : decode cX4_notes 116 = .ok (.iload_n 2, 1) := dk_28 (dk_at dksX4_notes_4 23 rfl rfl)
theorem dX4_notes_117 : decode cX4_notes 117 = .ok (.iastore, 1) := dk_79 (dk_at dksX4_notes_5 0 rfl rfl)
theorem dX4_notes_118 : decode cX4_notes 118 = .ok (.aload_n 0, 1) := dk_42 (dk_at dksX4_notes_5 1 rfl rfl)
theorem dX4_notes_119 : decode cX4_notes 119 = .ok (.getfield 13, 3) := dk_180 0 13 (dk_at dksX4_notes_5 2 rfl rfl)
theorem dX4_notes_122 : decode cX4_notes 122 = .ok (.sipush 197, 3) := dk_17 0 197 (dk_at dksX4_notes_5 5 rfl rfl)
theorem dX4_notes_125 : decode cX4_notes 125 = .ok (.aload_n 0, 1) := dk_42 (dk_at dksX4_notes_5 8 rfl rfl)
theorem dX4_notes_126 : decode cX4_notes 126 = .ok (.getfield 13, 3) := dk_180 0 13 (dk_at dksX4_notes_5 9 rfl rfl)
theorem dX4_notes_129 : decode cX4_notes 129 = .ok (.sipush 164, 3) := dk_17 0 164 (dk_at dksX4_notes_5 12 rfl rfl)
theorem dX4_notes_132 : decode cX4_notes 132 = .ok (.iaload, 1) := dk_46 (dk_at dksX4_notes_5 15 rfl rfl)
theorem dX4_notes_133 : decode cX4_notes 133 = .ok (.iadd, 1) := dk_96 (dk_at dksX4_notes_5 16 rfl rfl)
theorem dX4_notes_134 : decode cX4_notes 134 = .ok (.aload_n 0, 1) := dk_42 (dk_at dksX4_notes_5 17 rfl rfl)
theorem dX4_notes_135 : decode cX4_notes 135 = .ok (.getfield 13, 3) := dk_180 0 13 (dk_at dksX4_notes_5 18 rfl rfl)
theorem dX4_notes_138 : decode cX4_notes 138 = .ok (.iconst 0, 1) := dk_3 (dk_at dksX4_notes_5 21 rfl rfl)
theorem dX4_notes_139 : decode cX4_notes 139 = .ok (.iaload, 1) := dk_46 (dk_at dksX4_notes_5 22 rfl rfl)
theorem dX4_notes_140 : decode cX4_notes 140 = .ok (.iastore, 1) := dk_79 (dk_at dksX4_notes_5 23 rfl rfl)
theorem dX4_notes_141 : decode cX4_notes 141 = .ok (.aload_n 0, 1) := dk_42 (dk_at dksX4_notes_6 0 rfl rfl)
theorem dX4_notes_142 : decode cX4_notes 142 = .ok (.getfield 13, 3) := dk_180 0 13 (dk_at dksX4_notes_6 1 rfl rfl)
theorem dX4_notes_145 : decode cX4_notes 145 = .ok (.sipush 164, 3) := dk_17 0 164 (dk_at dksX4_notes_6 4 rfl rfl)
theorem dX4_notes_148 : decode cX4_notes 148 = .ok (.dup2, 1) := dk_92 (dk_at dksX4_notes_6 7 rfl rfl)
theorem dX4_notes_149 : decode cX4_notes 149 = .ok (.iaload, 1) := dk_46 (dk_at dksX4_notes_6 8 rfl rfl)
theorem dX4_notes_150 : decode cX4_notes 150 = .ok (.iconst 1, 1) := dk_4 (dk_at dksX4_notes_6 9 rfl rfl)
theorem dX4_notes_151 : decode cX4_notes 151 = .ok (.iadd, 1) := dk_96 (dk_at dksX4_notes_6 10 rfl rfl)
theorem dX4_notes_152 : decode cX4_notes 152 = .ok (.iastore, 1) := dk_79 (dk_at dksX4_notes_6 11 rfl rfl)
theorem dX4_notes_153 : decode cX4_notes 153 = .ok (.return_, 1) := dk_177 (dk_at dksX4_notes_6 12 rfl rfl)
abbrev cX4_nextDay : ByteArray := prog_16_method_73_code
def yX4_nextDay : MethodName := ⟨RX4, "nextDay", "()I"⟩
def dkwX4_nextDay_5 : List UInt8 := [159, 0, 9, 42, 8, 29, 182, 1, 73, 42, 182, 1, 79, 42, 180, 0, 13, 4, 46, 172]
abbrev dktX4_nextDay_5 : List UInt8 := dkwX4_nextDay_5 ++ []
def dkwX4_nextDay_4 : List UInt8 := [180, 0, 50, 21, 4, 46, 100, 61, 132, 4, 1, 167, 255, 194, 42, 180, 0, 13, 4, 29, 79, 29, 27]
abbrev dktX4_nextDay_4 : List UInt8 := dkwX4_nextDay_4 ++ dktX4_nextDay_5
def dkwX4_nextDay_3 : List UInt8 := [42, 180, 0, 50, 21, 4, 46, 162, 0, 13, 42, 180, 0, 47, 21, 4, 46, 167, 0, 4, 29, 62, 28, 42]
abbrev dktX4_nextDay_3 : List UInt8 := dkwX4_nextDay_3 ++ dktX4_nextDay_4
def dkwX4_nextDay_2 : List UInt8 := [180, 0, 41, 3, 46, 162, 0, 57, 28, 155, 0, 53, 42, 180, 0, 44, 21, 4, 46, 27, 160, 0, 36, 28]
abbrev dktX4_nextDay_2 : List UInt8 := dkwX4_nextDay_2 ++ dktX4_nextDay_3
def dkwX4_nextDay_1 : List UInt8 := [96, 79, 42, 180, 0, 29, 3, 46, 158, 0, 96, 42, 182, 1, 61, 61, 27, 62, 3, 54, 4, 21, 4, 42]
abbrev dktX4_nextDay_1 : List UInt8 := dkwX4_nextDay_1 ++ dktX4_nextDay_2
def dkwX4_nextDay_0 : List UInt8 := [42, 3, 181, 0, 1, 42, 182, 1, 64, 42, 180, 0, 13, 4, 46, 60, 42, 180, 0, 13, 3, 92, 46, 4]
abbrev dktX4_nextDay_0 : List UInt8 := dkwX4_nextDay_0 ++ dktX4_nextDay_1
theorem dksX4_nextDay_0 : cX4_nextDay.data.toList.drop 0 = dktX4_nextDay_0 := by decide +kernel
theorem dksX4_nextDay_1 : cX4_nextDay.data.toList.drop 24 = dktX4_nextDay_1 := dk_seg dksX4_nextDay_0 24 rfl rfl
theorem dksX4_nextDay_2 : cX4_nextDay.data.toList.drop 48 = dktX4_nextDay_2 := dk_seg dksX4_nextDay_1 24 rfl rfl
theorem dksX4_nextDay_3 : cX4_nextDay.data.toList.drop 72 = dktX4_nextDay_3 := dk_seg dksX4_nextDay_2 24 rfl rfl
theorem dksX4_nextDay_4 : cX4_nextDay.data.toList.drop 96 = dktX4_nextDay_4 := dk_seg dksX4_nextDay_3 24 rfl rfl
theorem dksX4_nextDay_5 : cX4_nextDay.data.toList.drop 119 = dktX4_nextDay_5 := dk_seg dksX4_nextDay_4 23 rfl rfl
theorem dX4_nextDay_0 : decode cX4_nextDay 0 = .ok (.aload_n 0, 1) := dk_42 (dk_at dksX4_nextDay_0 0 rfl rfl)
theorem dX4_nextDay_1 : decode cX4_nextDay 1 = .ok (.iconst 0, 1) := dk_3 (dk_at dksX4_nextDay_0 1 rfl rfl)
theorem dX4_nextDay_2 : decode cX4_nextDay 2 = .ok (.putfield 1, 3) := dk_181 0 1 (dk_at dksX4_nextDay_0 2 rfl rfl)
theorem dX4_nextDay_5 : decode cX4_nextDay 5 = .ok (.aload_n 0, 1) := dk_42 (dk_at dksX4_nextDay_0 5 rfl rfl)
theorem dX4_nextDay_6 : decode cX4_nextDay 6 = .ok (.invokevirtual 320, 3) := dk_182 1 64 (dk_at dksX4_nextDay_0 6 rfl rfl)
theorem dX4_nextDay_9 : decode cX4_nextDay 9 = .ok (.aload_n 0, 1) := dk_42 (dk_at dksX4_nextDay_0 9 rfl rfl)
theorem dX4_nextDay_10 : decode cX4_nextDay 10 = .ok (.getfield 13, 3) := dk_180 0 13 (dk_at dksX4_nextDay_0 10 rfl rfl)
theorem dX4_nextDay_13 : decode cX4_nextDay 13 = .ok (.iconst 1, 1) := dk_4 (dk_at dksX4_nextDay_0 13 rfl rfl)
theorem dX4_nextDay_14 : decode cX4_nextDay 14 = .ok (.iaload, 1) := dk_46 (dk_at dksX4_nextDay_0 14 rfl rfl)
theorem dX4_nextDay_15 : decode cX4_nextDay 15 = .ok (.istore_n 1, 1) := dk_60 (dk_at dksX4_nextDay_0 15 rfl rfl)
theorem dX4_nextDay_16 : decode cX4_nextDay 16 = .ok (.aload_n 0, 1) := dk_42 (dk_at dksX4_nextDay_0 16 rfl rfl)
theorem dX4_nextDay_17 : decode cX4_nextDay 17 = .ok (.getfield 13, 3) := dk_180 0 13 (dk_at dksX4_nextDay_0 17 rfl rfl)
theorem dX4_nextDay_20 : decode cX4_nextDay 20 = .ok (.iconst 0, 1) := dk_3 (dk_at dksX4_nextDay_0 20 rfl rfl)
theorem dX4_nextDay_21 : decode cX4_nextDay 21 = .ok (.dup2, 1) := dk_92 (dk_at dksX4_nextDay_0 21 rfl rfl)
theorem dX4_nextDay_22 : decode cX4_nextDay 22 = .ok (.iaload, 1) := dk_46 (dk_at dksX4_nextDay_0 22 rfl rfl)
theorem dX4_nextDay_23 : decode cX4_nextDay 23 = .ok (.iconst 1, 1) := dk_4 (dk_at dksX4_nextDay_0 23 rfl rfl)
theorem dX4_nextDay_24 : decode cX4_nextDay 24 = .ok (.iadd, 1) := dk_96 (dk_at dksX4_nextDay_1 0 rfl rfl)
theorem dX4_nextDay_25 : decode cX4_nextDay 25 = .ok (.iastore, 1) := dk_79 (dk_at dksX4_nextDay_1 1 rfl rfl)
theorem dX4_nextDay_26 : decode cX4_nextDay 26 = .ok (.aload_n 0, 1) := dk_42 (dk_at dksX4_nextDay_1 2 rfl rfl)
theorem dX4_nextDay_27 : decode cX4_nextDay 27 = .ok (.getfield 29, 3) := dk_180 0 29 (dk_at dksX4_nextDay_1 3 rfl rfl)
theorem dX4_nextDay_30 : decode cX4_nextDay 30 = .ok (.iconst 0, 1) := dk_3 (dk_at dksX4_nextDay_1 6 rfl rfl)
theorem dX4_nextDay_31 : decode cX4_nextDay 31 = .ok (.iaload, 1) := dk_46 (dk_at dksX4_nextDay_1 7 rfl rfl)
theorem dX4_nextDay_32 : decode cX4_nextDay 32 = .ok (.ifCond .le 96, 3) := dk_158 0 96 (dk_at dksX4_nextDay_1 8 rfl rfl)
theorem dX4_nextDay_35 : decode cX4_nextDay 35 = .ok (.aload_n 0, 1) := dk_42 (dk_at dksX4_nextDay_1 11 rfl rfl)
theorem dX4_nextDay_36 : decode cX4_nextDay 36 = .ok (.invokevirtual 317, 3) := dk_182 1 61 (dk_at dksX4_nextDay_1 12 rfl rfl)
theorem dX4_nextDay_39 : decode cX4_nextDay 39 = .ok (.istore_n 2, 1) := dk_61 (dk_at dksX4_nextDay_1 15 rfl rfl)
theorem dX4_nextDay_40 : decode cX4_nextDay 40 = .ok (.iload_n 1, 1) := dk_27 (dk_at dksX4_nextDay_1 16 rfl rfl)
theorem dX4_nextDay_41 : decode cX4_nextDay 41 = .ok (.istore_n 3, 1) := dk_62 (dk_at dksX4_nextDay_1 17 rfl rfl)
theorem dX4_nextDay_42 : decode cX4_nextDay 42 = .ok (.iconst 0, 1) := dk_3 (dk_at dksX4_nextDay_1 18 rfl rfl)
theorem dX4_nextDay_43 : decode cX4_nextDay 43 = .ok (.istore 4, 2) := dk_54 4 (dk_at dksX4_nextDay_1 19 rfl rfl)
theorem dX4_nextDay_45 : decode cX4_nextDay 45 = .ok (.iload 4, 2) := dk_21 4 (dk_at dksX4_nextDay_1 21 rfl rfl)
theorem dX4_nextDay_47 : decode cX4_nextDay 47 = .ok (.aload_n 0, 1) := dk_42 (dk_at dksX4_nextDay_1 23 rfl rfl)
theorem dX4_nextDay_48 : decode cX4_nextDay 48 = .ok (.getfield 41, 3) := dk_180 0 41 (dk_at dksX4_nextDay_2 0 rfl rfl)
theorem dX4_nextDay_51 : decode cX4_nextDay 51 = .ok (.iconst 0, 1) := dk_3 (dk_at dksX4_nextDay_2 3 rfl rfl)
theorem dX4_nextDay_52 : decode cX4_nextDay 52 = .ok (.iaload, 1) := dk_46 (dk_at dksX4_nextDay_2 4 rfl rfl)
theorem dX4_nextDay_53 : decode cX4_nextDay 53 = .ok (.if_icmp .ge 57, 3) := dk_162 0 57 (dk_at dksX4_nextDay_2 5 rfl rfl)
theorem dX4_nextDay_56 : decode cX4_nextDay 56 = .ok (.iload_n 2, 1) := dk_28 (dk_at dksX4_nextDay_2 8 rfl rfl)
theorem dX4_nextDay_57 : decode cX4_nextDay 57 = .ok (.ifCond .lt 53, 3) := dk_155 0 53 (dk_at dksX4_nextDay_2 9 rfl rfl)
theorem dX4_nextDay_60 : decode cX4_nextDay 60 = .ok (.aload_n 0, 1) := dk_42 (dk_at dksX4_nextDay_2 12 rfl rfl)
theorem dX4_nextDay_61 : decode cX4_nextDay 61 = .ok (.getfield 44, 3) := dk_180 0 44 (dk_at dksX4_nextDay_2 13 rfl rfl)
theorem dX4_nextDay_64 : decode cX4_nextDay 64 = .ok (.iload 4, 2) := dk_21 4 (dk_at dksX4_nextDay_2 16 rfl rfl)
theorem dX4_nextDay_66 : decode cX4_nextDay 66 = .ok (.iaload, 1) := dk_46 (dk_at dksX4_nextDay_2 18 rfl rfl)
theorem dX4_nextDay_67 : decode cX4_nextDay 67 = .ok (.iload_n 1, 1) := dk_27 (dk_at dksX4_nextDay_2 19 rfl rfl)
theorem dX4_nextDay_68 : decode cX4_nextDay 68 = .ok (.if_icmp .ne 36, 3) := dk_160 0 36 (dk_at dksX4_nextDay_2 20 rfl rfl)
theorem dX4_nextDay_71 : decode cX4_nextDay 71 = .ok (.iload_n 2, 1) := dk_28 (dk_at dksX4_nextDay_2 23 rfl rfl)
theorem dX4_nextDay_72 : decode cX4_nextDay 72 = .ok (.aload_n 0, 1) := dk_42 (dk_at dksX4_nextDay_3 0 rfl rfl)
theorem dX4_nextDay_73 : decode cX4_nextDay 73 = .ok (.getfield 50, 3) := dk_180 0 50 (dk_at dksX4_nextDay_3 1 rfl rfl)
theorem dX4_nextDay_76 : decode cX4_nextDay 76 = .ok (.iload 4, 2) := dk_21 4 (dk_at dksX4_nextDay_3 4 rfl rfl)
theorem dX4_nextDay_78 : decode cX4_nextDay 78 = .ok (.iaload, 1) := dk_46 (dk_at dksX4_nextDay_3 6 rfl rfl)
theorem dX4_nextDay_79 : decode cX4_nextDay 79 = .ok (.if_icmp .ge 13, 3) := dk_162 0 13 (dk_at dksX4_nextDay_3 7 rfl rfl)
theorem dX4_nextDay_82 : decode cX4_nextDay 82 = .ok (.aload_n 0, 1) := dk_42 (dk_at dksX4_nextDay_3 10 rfl rfl)
theorem dX4_nextDay_83 : decode cX4_nextDay 83 = .ok (.getfield 47, 3) := dk_180 0 47 (dk_at dksX4_nextDay_3 11 rfl rfl)
theorem dX4_nextDay_86 : decode cX4_nextDay 86 = .ok (.iload 4, 2) := dk_21 4 (dk_at dksX4_nextDay_3 14 rfl rfl)
theorem dX4_nextDay_88 : decode cX4_nextDay 88 = .ok (.iaload, 1) := dk_46 (dk_at dksX4_nextDay_3 16 rfl rfl)
theorem dX4_nextDay_89 : decode cX4_nextDay 89 = .ok (.goto 4, 3) := dk_167 0 4 (dk_at dksX4_nextDay_3 17 rfl rfl)
theorem dX4_nextDay_92 : decode cX4_nextDay 92 = .ok (.iload_n 3, 1) := dk_29 (dk_at dksX4_nextDay_3 20 rfl rfl)
theorem dX4_nextDay_93 : decode cX4_nextDay 93 = .ok (.istore_n 3, 1) := dk_62 (dk_at dksX4_nextDay_3 21 rfl rfl)
theorem dX4_nextDay_94 : decode cX4_nextDay 94 = .ok (.iload_n 2, 1) := dk_28 (dk_at dksX4_nextDay_3 22 rfl rfl)
theorem dX4_nextDay_95 : decode cX4_nextDay 95 = .ok (.aload_n 0, 1) := dk_42 (dk_at dksX4_nextDay_3 23 rfl rfl)
theorem dX4_nextDay_96 : decode cX4_nextDay 96 = .ok (.getfield 50, 3) := dk_180 0 50 (dk_at dksX4_nextDay_4 0 rfl rfl)
theorem dX4_nextDay_99 : decode cX4_nextDay 99 = .ok (.iload 4, 2) := dk_21 4 (dk_at dksX4_nextDay_4 3 rfl rfl)
theorem dX4_nextDay_101 : decode cX4_nextDay 101 = .ok (.iaload, 1) := dk_46 (dk_at dksX4_nextDay_4 5 rfl rfl)
theorem dX4_nextDay_102 : decode cX4_nextDay 102 = .ok (.isub, 1) := dk_100 (dk_at dksX4_nextDay_4 6 rfl rfl)
theorem dX4_nextDay_103 : decode cX4_nextDay 103 = .ok (.istore_n 2, 1) := dk_61 (dk_at dksX4_nextDay_4 7 rfl rfl)
theorem dX4_nextDay_104 : decode cX4_nextDay 104 = .ok (.iinc 4 1, 3) := dk_132 4 1 (dk_at dksX4_nextDay_4 8 rfl rfl)
theorem dX4_nextDay_107 : decode cX4_nextDay 107 = .ok (.goto (-62), 3) := dk_167 255 194 (dk_at dksX4_nextDay_4 11 rfl rfl)
theorem dX4_nextDay_110 : decode cX4_nextDay 110 = .ok (.aload_n 0, 1) := dk_42 (dk_at dksX4_nextDay_4 14 rfl rfl)
theorem dX4_nextDay_111 : decode cX4_nextDay 111 = .ok (.getfield 13, 3) := dk_180 0 13 (dk_at dksX4_nextDay_4 15 rfl rfl)
theorem dX4_nextDay_114 : decode cX4_nextDay 114 = .ok (.iconst 1, 1) := dk_4 (dk_at dksX4_nextDay_4 18 rfl rfl)
theorem dX4_nextDay_115 : decode cX4_nextDay 115 = .ok (.iload_n 3, 1) := dk_29 (dk_at dksX4_nextDay_4 19 rfl rfl)
theorem dX4_nextDay_116 : decode cX4_nextDay 116 = .ok (.iastore, 1) := dk_79 (dk_at dksX4_nextDay_4 20 rfl rfl)
theorem dX4_nextDay_117 : decode cX4_nextDay 117 = .ok (.iload_n 3, 1) := dk_29 (dk_at dksX4_nextDay_4 21 rfl rfl)
theorem dX4_nextDay_118 : decode cX4_nextDay 118 = .ok (.iload_n 1, 1) := dk_27 (dk_at dksX4_nextDay_4 22 rfl rfl)
theorem dX4_nextDay_119 : decode cX4_nextDay 119 = .ok (.if_icmp .eq 9, 3) := dk_159 0 9 (dk_at dksX4_nextDay_5 0 rfl rfl)
theorem dX4_nextDay_122 : decode cX4_nextDay 122 = .ok (.aload_n 0, 1) := dk_42 (dk_at dksX4_nextDay_5 3 rfl rfl)
theorem dX4_nextDay_123 : decode cX4_nextDay 123 = .ok (.iconst 5, 1) := dk_8 (dk_at dksX4_nextDay_5 4 rfl rfl)
theorem dX4_nextDay_124 : decode cX4_nextDay 124 = .ok (.iload_n 3, 1) := dk_29 (dk_at dksX4_nextDay_5 5 rfl rfl)
theorem dX4_nextDay_125 : decode cX4_nextDay 125 = .ok (.invokevirtual 329, 3) := dk_182 1 73 (dk_at dksX4_nextDay_5 6 rfl rfl)
theorem dX4_nextDay_128 : decode cX4_nextDay 128 = .ok (.aload_n 0, 1) := dk_42 (dk_at dksX4_nextDay_5 9 rfl rfl)
theorem dX4_nextDay_129 : decode cX4_nextDay 129 = .ok (.invokevirtual 335, 3) := dk_182 1 79 (dk_at dksX4_nextDay_5 10 rfl rfl)
theorem dX4_nextDay_132 : decode cX4_nextDay 132 = .ok (.aload_n 0, 1) := dk_42 (dk_at dksX4_nextDay_5 13 rfl rfl)
theorem dX4_nextDay_133 : decode cX4_nextDay 133 = .ok (.getfield 13, 3) := dk_180 0 13 (dk_at dksX4_nextDay_5 14 rfl rfl)
theorem dX4_nextDay_136 : decode cX4_nextDay 136 = .ok (.iconst 1, 1) := dk_4 (dk_at dksX4_nextDay_5 17 rfl rfl)
theorem dX4_nextDay_137 : decode cX4_nextDay 137 = .ok (.iaload, 1) := dk_46 (dk_at dksX4_nextDay_5 18 rfl rfl)
theorem dX4_nextDay_138 : decode cX4_nextDay 138 = .ok (.ireturn, 1) := dk_172 (dk_at dksX4_nextDay_5 19 rfl rfl)
abbrev cX4_comeBack : ByteArray := prog_16_method_71_code
def yX4_comeBack : MethodName := ⟨RX4, "comeBack", "()V"⟩
def dkwX4_comeBack_6 : List UInt8 := [167, 255, 228, 42, 180, 0, 13, 16, 83, 28, 79, 177]
abbrev dktX4_comeBack_6 : List UInt8 := dkwX4_comeBack_6 ++ []
def dkwX4_comeBack_5 : List UInt8 := [180, 0, 13, 16, 84, 29, 96, 3, 79, 42, 180, 0, 13, 16, 124, 29, 96, 3, 79, 132, 3, 1]
abbrev dktX4_comeBack_5 : List UInt8 := dkwX4_comeBack_5 ++ dktX4_comeBack_6
def dkwX4_comeBack_4 : List UInt8 := [182, 1, 73, 42, 21, 4, 182, 1, 76, 132, 3, 1, 167, 255, 161, 28, 62, 29, 27, 162, 0, 29, 42]
abbrev dktX4_comeBack_4 : List UInt8 := dkwX4_comeBack_4 ++ dktX4_comeBack_5
def dkwX4_comeBack_3 : List UInt8 := [29, 96, 46, 79, 132, 2, 1, 167, 0, 26, 42, 180, 0, 13, 6, 92, 46, 4, 96, 79, 42, 7, 21, 4]
abbrev dktX4_comeBack_3 : List UInt8 := dkwX4_comeBack_3 ++ dktX4_comeBack_4
def dkwX4_comeBack_2 : List UInt8 := [180, 0, 13, 16, 84, 28, 96, 21, 4, 79, 42, 180, 0, 13, 16, 124, 28, 96, 42, 180, 0, 13, 16, 124]
abbrev dktX4_comeBack_2 : List UInt8 := dkwX4_comeBack_2 ++ dktX4_comeBack_3
def dkwX4_comeBack_1 : List UInt8 := [96, 46, 54, 4, 42, 180, 0, 13, 16, 124, 29, 96, 46, 42, 180, 0, 13, 3, 46, 164, 0, 38, 42]
abbrev dktX4_comeBack_1 : List UInt8 := dkwX4_comeBack_1 ++ dktX4_comeBack_2
def dkwX4_comeBack_0 : List UInt8 := [42, 180, 0, 13, 16, 83, 46, 60, 3, 61, 3, 62, 29, 27, 162, 0, 96, 42, 180, 0, 13, 16, 84, 29]
abbrev dktX4_comeBack_0 : List UInt8 := dkwX4_comeBack_0 ++ dktX4_comeBack_1
theorem dksX4_comeBack_0 : cX4_comeBack.data.toList.drop 0 = dktX4_comeBack_0 := by decide +kernel
theorem dksX4_comeBack_1 : cX4_comeBack.data.toList.drop 24 = dktX4_comeBack_1 := dk_seg dksX4_comeBack_0 24 rfl rfl
theorem dksX4_comeBack_2 : cX4_comeBack.data.toList.drop 47 = dktX4_comeBack_2 := dk_seg dksX4_comeBack_1 23 rfl rfl
theorem dksX4_comeBack_3 : cX4_comeBack.data.toList.drop 71 = dktX4_comeBack_3 := dk_seg dksX4_comeBack_2 24 rfl rfl
theorem dksX4_comeBack_4 : cX4_comeBack.data.toList.drop 95 = dktX4_comeBack_4 := dk_seg dksX4_comeBack_3 24 rfl rfl
theorem dksX4_comeBack_5 : cX4_comeBack.data.toList.drop 118 = dktX4_comeBack_5 := dk_seg dksX4_comeBack_4 23 rfl rfl
theorem dksX4_comeBack_6 : cX4_comeBack.data.toList.drop 140 = dktX4_comeBack_6 := dk_seg dksX4_comeBack_5 22 rfl rfl
theorem dX4_comeBack_0 : decode cX4_comeBack 0 = .ok (.aload_n 0, 1) := dk_42 (dk_at dksX4_comeBack_0 0 rfl rfl)
theorem dX4_comeBack_1 : decode cX4_comeBack 1 = .ok (.getfield 13, 3) := dk_180 0 13 (dk_at dksX4_comeBack_0 1 rfl rfl)
theorem dX4_comeBack_4 : decode cX4_comeBack 4 = .ok (.bipush 83, 2) := dk_16 83 (dk_at dksX4_comeBack_0 4 rfl rfl)
theorem dX4_comeBack_6 : decode cX4_comeBack 6 = .ok (.iaload, 1) := dk_46 (dk_at dksX4_comeBack_0 6 rfl rfl)
theorem dX4_comeBack_7 : decode cX4_comeBack 7 = .ok (.istore_n 1, 1) := dk_60 (dk_at dksX4_comeBack_0 7 rfl rfl)
theorem dX4_comeBack_8 : decode cX4_comeBack 8 = .ok (.iconst 0, 1) := dk_3 (dk_at dksX4_comeBack_0 8 rfl rfl)
theorem dX4_comeBack_9 : decode cX4_comeBack 9 = .ok (.istore_n 2, 1) := dk_61 (dk_at dksX4_comeBack_0 9 rfl rfl)
theorem dX4_comeBack_10 : decode cX4_comeBack 10 = .ok (.iconst 0, 1) := dk_3 (dk_at dksX4_comeBack_0 10 rfl rfl)
theorem dX4_comeBack_11 : decode cX4_comeBack 11 = .ok (.istore_n 3, 1) := dk_62 (dk_at dksX4_comeBack_0 11 rfl rfl)
theorem dX4_comeBack_12 : decode cX4_comeBack 12 = .ok (.iload_n 3, 1) := dk_29 (dk_at dksX4_comeBack_0 12 rfl rfl)
theorem dX4_comeBack_13 : decode cX4_comeBack 13 = .ok (.iload_n 1, 1) := dk_27 (dk_at dksX4_comeBack_0 13 rfl rfl)
theorem dX4_comeBack_14 : decode cX4_comeBack 14 = .ok (.if_icmp .ge 96, 3) := dk_162 0 96 (dk_at dksX4_comeBack_0 14 rfl rfl)
theorem dX4_comeBack_17 : decode cX4_comeBack 17 = .ok (.aload_n 0, 1) := dk_42 (dk_at dksX4_comeBack_0 17 rfl rfl)
theorem dX4_comeBack_18 : decode cX4_comeBack 18 = .ok (.getfield 13, 3) := dk_180 0 13 (dk_at dksX4_comeBack_0 18 rfl rfl)
theorem dX4_comeBack_21 : decode cX4_comeBack 21 = .ok (.bipush 84, 2) := dk_16 84 (dk_at dksX4_comeBack_0 21 rfl rfl)
theorem dX4_comeBack_23 : decode cX4_comeBack 23 = .ok (.iload_n 3, 1) := dk_29 (dk_at dksX4_comeBack_0 23 rfl rfl)
theorem dX4_comeBack_24 : decode cX4_comeBack 24 = .ok (.iadd, 1) := dk_96 (dk_at dksX4_comeBack_1 0 rfl rfl)
theorem dX4_comeBack_25 : decode cX4_comeBack 25 = .ok (.iaload, 1) := dk_46 (dk_at dksX4_comeBack_1 1 rfl rfl)
theorem dX4_comeBack_26 : decode cX4_comeBack 26 = .ok (.istore 4, 2) := dk_54 4 (dk_at dksX4_comeBack_1 2 rfl rfl)
theorem dX4_comeBack_28 : decode cX4_comeBack 28 = .ok (.aload_n 0, 1) := dk_42 (dk_at dksX4_comeBack_1 4 rfl rfl)
theorem dX4_comeBack_29 : decode cX4_comeBack 29 = .ok (.getfield 13, 3) := dk_180 0 13 (dk_at dksX4_comeBack_1 5 rfl rfl)
theorem dX4_comeBack_32 : decode cX4_comeBack 32 = .ok (.bipush 124, 2) := dk_16 124 (dk_at dksX4_comeBack_1 8 rfl rfl)
theorem dX4_comeBack_34 : decode cX4_comeBack 34 = .ok (.iload_n 3, 1) := dk_29 (dk_at dksX4_comeBack_1 10 rfl rfl)
theorem dX4_comeBack_35 : decode cX4_comeBack 35 = .ok (.iadd, 1) := dk_96 (dk_at dksX4_comeBack_1 11 rfl rfl)
theorem dX4_comeBack_36 : decode cX4_comeBack 36 = .ok (.iaload, 1) := dk_46 (dk_at dksX4_comeBack_1 12 rfl rfl)
theorem dX4_comeBack_37 : decode cX4_comeBack 37 = .ok (.aload_n 0, 1) := dk_42 (dk_at dksX4_comeBack_1 13 rfl rfl)
theorem dX4_comeBack_38 : decode cX4_comeBack 38 = .ok (.getfield 13, 3) := dk_180 0 13 (dk_at dksX4_comeBack_1 14 rfl rfl)
theorem dX4_comeBack_41 : decode cX4_comeBack 41 = .ok (.iconst 0, 1) := dk_3 (dk_at dksX4_comeBack_1 17 rfl rfl)
theorem dX4_comeBack_42 : decode cX4_comeBack 42 = .ok (.iaload, 1) := dk_46 (dk_at dksX4_comeBack_1 18 rfl rfl)
theorem dX4_comeBack_43 : decode cX4_comeBack 43 = .ok (.if_icmp .le 38, 3) := dk_164 0 38 (dk_at dksX4_comeBack_1 19 rfl rfl)
theorem dX4_comeBack_46 : decode cX4_comeBack 46 = .ok (.aload_n 0, 1) := dk_42 (dk_at dksX4_comeBack_1 22 rfl rfl)
theorem dX4_comeBack_47 : decode cX4_comeBack 47 = .ok (.getfield 13, 3) := dk_180 0 13 (dk_at dksX4_comeBack_2 0 rfl rfl)
theorem dX4_comeBack_50 : decode cX4_comeBack 50 = .ok (.bipush 84, 2) := dk_16 84 (dk_at dksX4_comeBack_2 3 rfl rfl)
theorem dX4_comeBack_52 : decode cX4_comeBack 52 = .ok (.iload_n 2, 1) := dk_28 (dk_at dksX4_comeBack_2 5 rfl rfl)
theorem dX4_comeBack_53 : decode cX4_comeBack 53 = .ok (.iadd, 1) := dk_96 (dk_at dksX4_comeBack_2 6 rfl rfl)
theorem dX4_comeBack_54 : decode cX4_comeBack 54 = .ok (.iload 4, 2) := dk_21 4 (dk_at dksX4_comeBack_2 7 rfl rfl)
theorem dX4_comeBack_56 : decode cX4_comeBack 56 = .ok (.iastore, 1) := dk_79 (dk_at dksX4_comeBack_2 9 rfl rfl)
theorem dX4_comeBack_57 : decode cX4_comeBack 57 = .ok (.aload_n 0, 1) := dk_42 (dk_at dksX4_comeBack_2 10 rfl rfl)
theorem dX4_comeBack_58 : decode cX4_comeBack 58 = .ok (.getfield 13, 3) := dk_180 0 13 (dk_at dksX4_comeBack_2 11 rfl rfl)
theorem dX4_comeBack_61 : decode cX4_comeBack 61 = .ok (.bipush 124, 2) := dk_16 124 (dk_at dksX4_comeBack_2 14 rfl rfl)
theorem dX4_comeBack_63 : decode cX4_comeBack 63 = .ok (.iload_n 2, 1) := dk_28 (dk_at dksX4_comeBack_2 16 rfl rfl)
theorem dX4_comeBack_64 : decode cX4_comeBack 64 = .ok (.iadd, 1) := dk_96 (dk_at dksX4_comeBack_2 17 rfl rfl)
theorem dX4_comeBack_65 : decode cX4_comeBack 65 = .ok (.aload_n 0, 1) := dk_42 (dk_at dksX4_comeBack_2 18 rfl rfl)
theorem dX4_comeBack_66 : decode cX4_comeBack 66 = .ok (.getfield 13, 3) := dk_180 0 13 (dk_at dksX4_comeBack_2 19 rfl rfl)
theorem dX4_comeBack_69 : decode cX4_comeBack 69 = .ok (.bipush 124, 2) := dk_16 124 (dk_at dksX4_comeBack_2 22 rfl rfl)
theorem dX4_comeBack_71 : decode cX4_comeBack 71 = .ok (.iload_n 3, 1) := dk_29 (dk_at dksX4_comeBack_3 0 rfl rfl)
theorem dX4_comeBack_72 : decode cX4_comeBack 72 = .ok (.iadd, 1) := dk_96 (dk_at dksX4_comeBack_3 1 rfl rfl)
theorem dX4_comeBack_73 : decode cX4_comeBack 73 = .ok (.iaload, 1) := dk_46 (dk_at dksX4_comeBack_3 2 rfl rfl)
theorem dX4_comeBack_74 : decode cX4_comeBack 74 = .ok (.iastore, 1) := dk_79 (dk_at dksX4_comeBack_3 3 rfl rfl)
theorem dX4_comeBack_75 : decode cX4_comeBack 75 = .ok (.iinc 2 1, 3) := dk_132 2 1 (dk_at dksX4_comeBack_3 4 rfl rfl)
theorem dX4_comeBack_78 : decode cX4_comeBack 78 = .ok (.goto 26, 3) := dk_167 0 26 (dk_at dksX4_comeBack_3 7 rfl rfl)
theorem dX4_comeBack_81 : decode cX4_comeBack 81 = .ok (.aload_n 0, 1) := dk_42 (dk_at dksX4_comeBack_3 10 rfl rfl)
theorem dX4_comeBack_82 : decode cX4_comeBack 82 = .ok (.getfield 13, 3) := dk_180 0 13 (dk_at dksX4_comeBack_3 11 rfl rfl)
theorem dX4_comeBack_85 : decode cX4_comeBack 85 = .ok (.iconst 3, 1) := dk_6 (dk_at dksX4_comeBack_3 14 rfl rfl)
theorem dX4_comeBack_86 : decode cX4_comeBack 86 = .ok (.dup2, 1) := dk_92 (dk_at dksX4_comeBack_3 15 rfl rfl)
theorem dX4_comeBack_87 : decode cX4_comeBack 87 = .ok (.iaload, 1) := dk_46 (dk_at dksX4_comeBack_3 16 rfl rfl)
theorem dX4_comeBack_88 : decode cX4_comeBack 88 = .ok (.iconst 1, 1) := dk_4 (dk_at dksX4_comeBack_3 17 rfl rfl)
theorem dX4_comeBack_89 : decode cX4_comeBack 89 = .ok (.iadd, 1) := dk_96 (dk_at dksX4_comeBack_3 18 rfl rfl)
theorem dX4_comeBack_90 : decode cX4_comeBack 90 = .ok (.iastore, 1) := dk_79 (dk_at dksX4_comeBack_3 19 rfl rfl)
theorem dX4_comeBack_91 : decode cX4_comeBack 91 = .ok (.aload_n 0, 1) := dk_42 (dk_at dksX4_comeBack_3 20 rfl rfl)
theorem dX4_comeBack_92 : decode cX4_comeBack 92 = .ok (.iconst 4, 1) := dk_7 (dk_at dksX4_comeBack_3 21 rfl rfl)
theorem dX4_comeBack_93 : decode cX4_comeBack 93 = .ok (.iload 4, 2) := dk_21 4 (dk_at dksX4_comeBack_3 22 rfl rfl)
theorem dX4_comeBack_95 : decode cX4_comeBack 95 = .ok (.invokevirtual 329, 3) := dk_182 1 73 (dk_at dksX4_comeBack_4 0 rfl rfl)
theorem dX4_comeBack_98 : decode cX4_comeBack 98 = .ok (.aload_n 0, 1) := dk_42 (dk_at dksX4_comeBack_4 3 rfl rfl)
theorem dX4_comeBack_99 : decode cX4_comeBack 99 = .ok (.iload 4, 2) := dk_21 4 (dk_at dksX4_comeBack_4 4 rfl rfl)
theorem dX4_comeBack_101 : decode cX4_comeBack 101 = .ok (.invokevirtual 332, 3) := dk_182 1 76 (dk_at dksX4_comeBack_4 6 rfl rfl)
theorem dX4_comeBack_104 : decode cX4_comeBack 104 = .ok (.iinc 3 1, 3) := dk_132 3 1 (dk_at dksX4_comeBack_4 9 rfl rfl)
theorem dX4_comeBack_107 : decode cX4_comeBack 107 = .ok (.goto (-95), 3) := dk_167 255 161 (dk_at dksX4_comeBack_4 12 rfl rfl)
theorem dX4_comeBack_110 : decode cX4_comeBack 110 = .ok (.iload_n 2, 1) := dk_28 (dk_at dksX4_comeBack_4 15 rfl rfl)
theorem dX4_comeBack_111 : decode cX4_comeBack 111 = .ok (.istore_n 3, 1) := dk_62 (dk_at dksX4_comeBack_4 16 rfl rfl)
theorem dX4_comeBack_112 : decode cX4_comeBack 112 = .ok (.iload_n 3, 1) := dk_29 (dk_at dksX4_comeBack_4 17 rfl rfl)
theorem dX4_comeBack_113 : decode cX4_comeBack 113 = .ok (.iload_n 1, 1) := dk_27 (dk_at dksX4_comeBack_4 18 rfl rfl)
theorem dX4_comeBack_114 : decode cX4_comeBack 114 = .ok (.if_icmp .ge 29, 3) := dk_162 0 29 (dk_at dksX4_comeBack_4 19 rfl rfl)
theorem dX4_comeBack_117 : decode cX4_comeBack 117 = .ok (.aload_n 0, 1) := dk_42 (dk_at dksX4_comeBack_4 22 rfl rfl)
theorem dX4_comeBack_118 : decode cX4_comeBack 118 = .ok (.getfield 13, 3) := dk_180 0 13 (dk_at dksX4_comeBack_5 0 rfl rfl)
theorem dX4_comeBack_121 : decode cX4_comeBack 121 = .ok (.bipush 84, 2) := dk_16 84 (dk_at dksX4_comeBack_5 3 rfl rfl)
theorem dX4_comeBack_123 : decode cX4_comeBack 123 = .ok (.iload_n 3, 1) := dk_29 (dk_at dksX4_comeBack_5 5 rfl rfl)
theorem dX4_comeBack_124 : decode cX4_comeBack 124 = .ok (.iadd, 1) := dk_96 (dk_at dksX4_comeBack_5 6 rfl rfl)
theorem dX4_comeBack_125 : decode cX4_comeBack 125 = .ok (.iconst 0, 1) := dk_3 (dk_at dksX4_comeBack_5 7 rfl rfl)
theorem dX4_comeBack_126 : decode cX4_comeBack 126 = .ok (.iastore, 1) := dk_79 (dk_at dksX4_comeBack_5 8 rfl rfl)
theorem dX4_comeBack_127 : decode cX4_comeBack 127 = .ok (.aload_n 0, 1) := dk_42 (dk_at dksX4_comeBack_5 9 rfl rfl)
theorem dX4_comeBack_128 : decode cX4_comeBack 128 = .ok (.getfield 13, 3) := dk_180 0 13 (dk_at dksX4_comeBack_5 10 rfl rfl)
theorem dX4_comeBack_131 : decode cX4_comeBack 131 = .ok (.bipush 124, 2) := dk_16 124 (dk_at dksX4_comeBack_5 13 rfl rfl)
theorem dX4_comeBack_133 : decode cX4_comeBack 133 = .ok (.iload_n 3, 1) := dk_29 (dk_at dksX4_comeBack_5 15 rfl rfl)
theorem dX4_comeBack_134 : decode cX4_comeBack 134 = .ok (.iadd, 1) := dk_96 (dk_at dksX4_comeBack_5 16 rfl rfl)
theorem dX4_comeBack_135 : decode cX4_comeBack 135 = .ok (.iconst 0, 1) := dk_3 (dk_at dksX4_comeBack_5 17 rfl rfl)
theorem dX4_comeBack_136 : decode cX4_comeBack 136 = .ok (.iastore, 1) := dk_79 (dk_at dksX4_comeBack_5 18 rfl rfl)
theorem dX4_comeBack_137 : decode cX4_comeBack 137 = .ok (.iinc 3 1, 3) := dk_132 3 1 (dk_at dksX4_comeBack_5 19 rfl rfl)
theorem dX4_comeBack_140 : decode cX4_comeBack 140 = .ok (.goto (-28), 3) := dk_167 255 228 (dk_at dksX4_comeBack_6 0 rfl rfl)
theorem dX4_comeBack_143 : decode cX4_comeBack 143 = .ok (.aload_n 0, 1) := dk_42 (dk_at dksX4_comeBack_6 3 rfl rfl)
theorem dX4_comeBack_144 : decode cX4_comeBack 144 = .ok (.getfield 13, 3) := dk_180 0 13 (dk_at dksX4_comeBack_6 4 rfl rfl)
theorem dX4_comeBack_147 : decode cX4_comeBack 147 = .ok (.bipush 83, 2) := dk_16 83 (dk_at dksX4_comeBack_6 7 rfl rfl)
theorem dX4_comeBack_149 : decode cX4_comeBack 149 = .ok (.iload_n 2, 1) := dk_28 (dk_at dksX4_comeBack_6 9 rfl rfl)
theorem dX4_comeBack_150 : decode cX4_comeBack 150 = .ok (.iastore, 1) := dk_79 (dk_at dksX4_comeBack_6 10 rfl rfl)
theorem dX4_comeBack_151 : decode cX4_comeBack 151 = .ok (.return_, 1) := dk_177 (dk_at dksX4_comeBack_6 11 rfl rfl)
abbrev cX4_answers : ByteArray := prog_16_method_72_code
def yX4_answers : MethodName := ⟨RX4, "answers", "(I)V"⟩
def dkwX4_answers_3 : List UInt8 := [167, 255, 189, 177]
abbrev dktX4_answers_3 : List UInt8 := dkwX4_answers_3 ++ []
def dkwX4_answers_2 : List UInt8 := [16, 35, 28, 96, 6, 79, 42, 180, 0, 13, 16, 59, 28, 96, 42, 180, 0, 13, 3, 46, 79, 132, 2, 1]
abbrev dktX4_answers_2 : List UInt8 := dkwX4_answers_2 ++ dktX4_answers_3
def dkwX4_answers_1 : List UInt8 := [184, 0, 173, 153, 0, 41, 42, 180, 0, 13, 16, 35, 28, 96, 46, 5, 160, 0, 28, 42, 180, 0, 13]
abbrev dktX4_answers_1 : List UInt8 := dkwX4_answers_1 ++ dktX4_answers_2
def dkwX4_answers_0 : List UInt8 := [3, 61, 28, 42, 180, 0, 62, 3, 46, 162, 0, 63, 42, 180, 0, 13, 16, 25, 27, 96, 46, 28]
abbrev dktX4_answers_0 : List UInt8 := dkwX4_answers_0 ++ dktX4_answers_1
theorem dksX4_answers_0 : cX4_answers.data.toList.drop 0 = dktX4_answers_0 := by decide +kernel
theorem dksX4_answers_1 : cX4_answers.data.toList.drop 22 = dktX4_answers_1 := dk_seg dksX4_answers_0 22 rfl rfl
theorem dksX4_answers_2 : cX4_answers.data.toList.drop 45 = dktX4_answers_2 := dk_seg dksX4_answers_1 23 rfl rfl
theorem dksX4_answers_3 : cX4_answers.data.toList.drop 69 = dktX4_answers_3 := dk_seg dksX4_answers_2 24 rfl rfl
theorem dX4_answers_0 : decode cX4_answers 0 = .ok (.iconst 0, 1) := dk_3 (dk_at dksX4_answers_0 0 rfl rfl)
theorem dX4_answers_1 : decode cX4_answers 1 = .ok (.istore_n 2, 1) := dk_61 (dk_at dksX4_answers_0 1 rfl rfl)
theorem dX4_answers_2 : decode cX4_answers 2 = .ok (.iload_n 2, 1) := dk_28 (dk_at dksX4_answers_0 2 rfl rfl)
theorem dX4_answers_3 : decode cX4_answers 3 = .ok (.aload_n 0, 1) := dk_42 (dk_at dksX4_answers_0 3 rfl rfl)
theorem dX4_answers_4 : decode cX4_answers 4 = .ok (.getfield 62, 3) := dk_180 0 62 (dk_at dksX4_answers_0 4 rfl rfl)
theorem dX4_answers_7 : decode cX4_answers 7 = .ok (.iconst 0, 1) := dk_3 (dk_at dksX4_answers_0 7 rfl rfl)
theorem dX4_answers_8 : decode cX4_answers 8 = .ok (.iaload, 1) := dk_46 (dk_at dksX4_answers_0 8 rfl rfl)
theorem dX4_answers_9 : decode cX4_answers 9 = .ok (.if_icmp .ge 63, 3) := dk_162 0 63 (dk_at dksX4_answers_0 9 rfl rfl)
theorem dX4_answers_12 : decode cX4_answers 12 = .ok (.aload_n 0, 1) := dk_42 (dk_at dksX4_answers_0 12 rfl rfl)
theorem dX4_answers_13 : decode cX4_answers 13 = .ok (.getfield 13, 3) := dk_180 0 13 (dk_at dksX4_answers_0 13 rfl rfl)
theorem dX4_answers_16 : decode cX4_answers 16 = .ok (.bipush 25, 2) := dk_16 25 (dk_at dksX4_answers_0 16 rfl rfl)
theorem dX4_answers_18 : decode cX4_answers 18 = .ok (.iload_n 1, 1) := dk_27 (dk_at dksX4_answers_0 18 rfl rfl)
theorem dX4_answers_19 : decode cX4_answers 19 = .ok (.iadd, 1) := dk_96 (dk_at dksX4_answers_0 19 rfl rfl)
theorem dX4_answers_20 : decode cX4_answers 20 = .ok (.iaload, 1) := dk_46 (dk_at dksX4_answers_0 20 rfl rfl)
theorem dX4_answers_21 : decode cX4_answers 21 = .ok (.iload_n 2, 1) := dk_28 (dk_at dksX4_answers_0 21 rfl rfl)
theorem dX4_answers_22 : decode cX4_answers 22 = .ok (.invokestatic 173, 3) := dk_184 0 173 (dk_at dksX4_answers_1 0 rfl rfl)
theorem dX4_answers_25 : decode cX4_answers 25 = .ok (.ifCond .eq 41, 3) := dk_153 0 41 (dk_at dksX4_answers_1 3 rfl rfl)
theorem dX4_answers_28 : decode cX4_answers 28 = .ok (.aload_n 0, 1) := dk_42 (dk_at dksX4_answers_1 6 rfl rfl)
theorem dX4_answers_29 : decode cX4_answers 29 = .ok (.getfield 13, 3) := dk_180 0 13 (dk_at dksX4_answers_1 7 rfl rfl)
theorem dX4_answers_32 : decode cX4_answers 32 = .ok (.bipush 35, 2) := dk_16 35 (dk_at dksX4_answers_1 10 rfl rfl)
theorem dX4_answers_34 : decode cX4_answers 34 = .ok (.iload_n 2, 1) := dk_28 (dk_at dksX4_answers_1 12 rfl rfl)
theorem dX4_answers_35 : decode cX4_answers 35 = .ok (.iadd, 1) := dk_96 (dk_at dksX4_answers_1 13 rfl rfl)
theorem dX4_answers_36 : decode cX4_answers 36 = .ok (.iaload, 1) := dk_46 (dk_at dksX4_answers_1 14 rfl rfl)
theorem dX4_answers_37 : decode cX4_answers 37 = .ok (.iconst 2, 1) := dk_5 (dk_at dksX4_answers_1 15 rfl rfl)
theorem dX4_answers_38 : decode cX4_answers 38 = .ok (.if_icmp .ne 28, 3) := dk_160 0 28 (dk_at dksX4_answers_1 16 rfl rfl)
theorem dX4_answers_41 : decode cX4_answers 41 = .ok (.aload_n 0, 1) := dk_42 (dk_at dksX4_answers_1 19 rfl rfl)
theorem dX4_answers_42 : decode cX4_answers 42 = .ok (.getfield 13, 3) := dk_180 0 13 (dk_at dksX4_answers_1 20 rfl rfl)
theorem dX4_answers_45 : decode cX4_answers 45 = .ok (.bipush 35, 2) := dk_16 35 (dk_at dksX4_answers_2 0 rfl rfl)
theorem dX4_answers_47 : decode cX4_answers 47 = .ok (.iload_n 2, 1) := dk_28 (dk_at dksX4_answers_2 2 rfl rfl)
theorem dX4_answers_48 : decode cX4_answers 48 = .ok (.iadd, 1) := dk_96 (dk_at dksX4_answers_2 3 rfl rfl)
theorem dX4_answers_49 : decode cX4_answers 49 = .ok (.iconst 3, 1) := dk_6 (dk_at dksX4_answers_2 4 rfl rfl)
theorem dX4_answers_50 : decode cX4_answers 50 = .ok (.iastore, 1) := dk_79 (dk_at dksX4_answers_2 5 rfl rfl)
theorem dX4_answers_51 : decode cX4_answers 51 = .ok (.aload_n 0, 1) := dk_42 (dk_at dksX4_answers_2 6 rfl rfl)
theorem dX4_answers_52 : decode cX4_answers 52 = .ok (.getfield 13, 3) := dk_180 0 13 (dk_at dksX4_answers_2 7 rfl rfl)
theorem dX4_answers_55 : decode cX4_answers 55 = .ok (.bipush 59, 2) := dk_16 59 (dk_at dksX4_answers_2 10 rfl rfl)
theorem dX4_answers_57 : decode cX4_answers 57 = .ok (.iload_n 2, 1) := dk_28 (dk_at dksX4_answers_2 12 rfl rfl)
theorem dX4_answers_58 : decode cX4_answers 58 = .ok (.iadd, 1) := dk_96 (dk_at dksX4_answers_2 13 rfl rfl)
theorem dX4_answers_59 : decode cX4_answers 59 = .ok (.aload_n 0, 1) := dk_42 (dk_at dksX4_answers_2 14 rfl rfl)
theorem dX4_answers_60 : decode cX4_answers 60 = .ok (.getfield 13, 3) := dk_180 0 13 (dk_at dksX4_answers_2 15 rfl rfl)
theorem dX4_answers_63 : decode cX4_answers 63 = .ok (.iconst 0, 1) := dk_3 (dk_at dksX4_answers_2 18 rfl rfl)
theorem dX4_answers_64 : decode cX4_answers 64 = .ok (.iaload, 1) := dk_46 (dk_at dksX4_answers_2 19 rfl rfl)
theorem dX4_answers_65 : decode cX4_answers 65 = .ok (.iastore, 1) := dk_79 (dk_at dksX4_answers_2 20 rfl rfl)
theorem dX4_answers_66 : decode cX4_answers 66 = .ok (.iinc 2 1, 3) := dk_132 2 1 (dk_at dksX4_answers_2 21 rfl rfl)
theorem dX4_answers_69 : decode cX4_answers 69 = .ok (.goto (-67), 3) := dk_167 255 189 (dk_at dksX4_answers_3 0 rfl rfl)
theorem dX4_answers_72 : decode cX4_answers 72 = .ok (.return_, 1) := dk_177 (dk_at dksX4_answers_3 3 rfl rfl)
abbrev cX4_balloonState : ByteArray := prog_16_method_74_code
def yX4_balloonState : MethodName := ⟨RX4, "balloonState", "(I)I"⟩
def dkwX4_balloonState_1 : List UInt8 := [2, 172]
abbrev dktX4_balloonState_1 : List UInt8 := dkwX4_balloonState_1 ++ []
def dkwX4_balloonState_0 : List UInt8 := [42, 3, 181, 0, 1, 42, 27, 182, 0, 246, 153, 0, 14, 42, 180, 0, 13, 8, 27, 96, 46, 167, 0, 4]
abbrev dktX4_balloonState_0 : List UInt8 := dkwX4_balloonState_0 ++ dktX4_balloonState_1
theorem dksX4_balloonState_0 : cX4_balloonState.data.toList.drop 0 = dktX4_balloonState_0 := by decide +kernel
theorem dksX4_balloonState_1 : cX4_balloonState.data.toList.drop 24 = dktX4_balloonState_1 := dk_seg dksX4_balloonState_0 24 rfl rfl
theorem dX4_balloonState_0 : decode cX4_balloonState 0 = .ok (.aload_n 0, 1) := dk_42 (dk_at dksX4_balloonState_0 0 rfl rfl)
theorem dX4_balloonState_1 : decode cX4_balloonState 1 = .ok (.iconst 0, 1) := dk_3 (dk_at dksX4_balloonState_0 1 rfl rfl)
theorem dX4_balloonState_2 : decode cX4_balloonState 2 = .ok (.putfield 1, 3) := dk_181 0 1 (dk_at dksX4_balloonState_0 2 rfl rfl)
theorem dX4_balloonState_5 : decode cX4_balloonState 5 = .ok (.aload_n 0, 1) := dk_42 (dk_at dksX4_balloonState_0 5 rfl rfl)
theorem dX4_balloonState_6 : decode cX4_balloonState 6 = .ok (.iload_n 1, 1) := dk_27 (dk_at dksX4_balloonState_0 6 rfl rfl)
theorem dX4_balloonState_7 : decode cX4_balloonState 7 = .ok (.invokevirtual 246, 3) := dk_182 0 246 (dk_at dksX4_balloonState_0 7 rfl rfl)
theorem dX4_balloonState_10 : decode cX4_balloonState 10 = .ok (.ifCond .eq 14, 3) := dk_153 0 14 (dk_at dksX4_balloonState_0 10 rfl rfl)
theorem dX4_balloonState_13 : decode cX4_balloonState 13 = .ok (.aload_n 0, 1) := dk_42 (dk_at dksX4_balloonState_0 13 rfl rfl)
theorem dX4_balloonState_14 : decode cX4_balloonState 14 = .ok (.getfield 13, 3) := dk_180 0 13 (dk_at dksX4_balloonState_0 14 rfl rfl)
theorem dX4_balloonState_17 : decode cX4_balloonState 17 = .ok (.iconst 5, 1) := dk_8 (dk_at dksX4_balloonState_0 17 rfl rfl)
theorem dX4_balloonState_18 : decode cX4_balloonState 18 = .ok (.iload_n 1, 1) := dk_27 (dk_at dksX4_balloonState_0 18 rfl rfl)
theorem dX4_balloonState_19 : decode cX4_balloonState 19 = .ok (.iadd, 1) := dk_96 (dk_at dksX4_balloonState_0 19 rfl rfl)
theorem dX4_balloonState_20 : decode cX4_balloonState 20 = .ok (.iaload, 1) := dk_46 (dk_at dksX4_balloonState_0 20 rfl rfl)
theorem dX4_balloonState_21 : decode cX4_balloonState 21 = .ok (.goto 4, 3) := dk_167 0 4 (dk_at dksX4_balloonState_0 21 rfl rfl)
theorem dX4_balloonState_24 : decode cX4_balloonState 24 = .ok (.iconst (-1), 1) := dk_2 (dk_at dksX4_balloonState_1 0 rfl rfl)
theorem dX4_balloonState_25 : decode cX4_balloonState 25 = .ok (.ireturn, 1) := dk_172 (dk_at dksX4_balloonState_1 1 rfl rfl)
abbrev cX4_balloonRegion : ByteArray := prog_16_method_75_code
def yX4_balloonRegion : MethodName := ⟨RX4, "balloonRegion", "(I)I"⟩
def dkwX4_balloonRegion_1 : List UInt8 := [167, 0, 4, 2, 172]
abbrev dktX4_balloonRegion_1 : List UInt8 := dkwX4_balloonRegion_1 ++ []
def dkwX4_balloonRegion_0 : List UInt8 := [42, 3, 181, 0, 1, 42, 27, 182, 0, 246, 153, 0, 15, 42, 180, 0, 13, 16, 15, 27, 96, 46]
abbrev dktX4_balloonRegion_0 : List UInt8 := dkwX4_balloonRegion_0 ++ dktX4_balloonRegion_1
theorem dksX4_balloonRegion_0 : cX4_balloonRegion.data.toList.drop 0 = dktX4_balloonRegion_0 := by decide +kernel
theorem dksX4_balloonRegion_1 : cX4_balloonRegion.data.toList.drop 22 = dktX4_balloonRegion_1 := dk_seg dksX4_balloonRegion_0 22 rfl rfl
theorem dX4_balloonRegion_0 : decode cX4_balloonRegion 0 = .ok (.aload_n 0, 1) := dk_42 (dk_at dksX4_balloonRegion_0 0 rfl rfl)
theorem dX4_balloonRegion_1 : decode cX4_balloonRegion 1 = .ok (.iconst 0, 1) := dk_3 (dk_at dksX4_balloonRegion_0 1 rfl rfl)
theorem dX4_balloonRegion_2 : decode cX4_balloonRegion 2 = .ok (.putfield 1, 3) := dk_181 0 1 (dk_at dksX4_balloonRegion_0 2 rfl rfl)
theorem dX4_balloonRegion_5 : decode cX4_balloonRegion 5 = .ok (.aload_n 0, 1) := dk_42 (dk_at dksX4_balloonRegion_0 5 rfl rfl)
theorem dX4_balloonRegion_6 : decode cX4_balloonRegion 6 = .ok (.iload_n 1, 1) := dk_27 (dk_at dksX4_balloonRegion_0 6 rfl rfl)
theorem dX4_balloonRegion_7 : decode cX4_balloonRegion 7 = .ok (.invokevirtual 246, 3) := dk_182 0 246 (dk_at dksX4_balloonRegion_0 7 rfl rfl)
theorem dX4_balloonRegion_10 : decode cX4_balloonRegion 10 = .ok (.ifCond .eq 15, 3) := dk_153 0 15 (dk_at dksX4_balloonRegion_0 10 rfl rfl)
theorem dX4_balloonRegion_13 : decode cX4_balloonRegion 13 = .ok (.aload_n 0, 1) := dk_42 (dk_at dksX4_balloonRegion_0 13 rfl rfl)
theorem dX4_balloonRegion_14 : decode cX4_balloonRegion 14 = .ok (.getfield 13, 3) := dk_180 0 13 (dk_at dksX4_balloonRegion_0 14 rfl rfl)
theorem dX4_balloonRegion_17 : decode cX4_balloonRegion 17 = .ok (.bipush 15, 2) := dk_16 15 (dk_at dksX4_balloonRegion_0 17 rfl rfl)
theorem dX4_balloonRegion_19 : decode cX4_balloonRegion 19 = .ok (.iload_n 1, 1) := dk_27 (dk_at dksX4_balloonRegion_0 19 rfl rfl)
theorem dX4_balloonRegion_20 : decode cX4_balloonRegion 20 = .ok (.iadd, 1) := dk_96 (dk_at dksX4_balloonRegion_0 20 rfl rfl)
theorem dX4_balloonRegion_21 : decode cX4_balloonRegion 21 = .ok (.iaload, 1) := dk_46 (dk_at dksX4_balloonRegion_0 21 rfl rfl)
theorem dX4_balloonRegion_22 : decode cX4_balloonRegion 22 = .ok (.goto 4, 3) := dk_167 0 4 (dk_at dksX4_balloonRegion_1 0 rfl rfl)
theorem dX4_balloonRegion_25 : decode cX4_balloonRegion 25 = .ok (.iconst (-1), 1) := dk_2 (dk_at dksX4_balloonRegion_1 3 rfl rfl)
theorem dX4_balloonRegion_26 : decode cX4_balloonRegion 26 = .ok (.ireturn, 1) := dk_172 (dk_at dksX4_balloonRegion_1 4 rfl rfl)
abbrev cX4_cargo : ByteArray := prog_16_method_76_code
def yX4_cargo : MethodName := ⟨RX4, "cargo", "(I)I"⟩
def dkwX4_cargo_1 : List UInt8 := [167, 0, 4, 2, 172]
abbrev dktX4_cargo_1 : List UInt8 := dkwX4_cargo_1 ++ []
def dkwX4_cargo_0 : List UInt8 := [42, 3, 181, 0, 1, 42, 27, 182, 0, 246, 153, 0, 15, 42, 180, 0, 13, 16, 25, 27, 96, 46]
abbrev dktX4_cargo_0 : List UInt8 := dkwX4_cargo_0 ++ dktX4_cargo_1
theorem dksX4_cargo_0 : cX4_cargo.data.toList.drop 0 = dktX4_cargo_0 := by decide +kernel
theorem dksX4_cargo_1 : cX4_cargo.data.toList.drop 22 = dktX4_cargo_1 := dk_seg dksX4_cargo_0 22 rfl rfl
theorem dX4_cargo_0 : decode cX4_cargo 0 = .ok (.aload_n 0, 1) := dk_42 (dk_at dksX4_cargo_0 0 rfl rfl)
theorem dX4_cargo_1 : decode cX4_cargo 1 = .ok (.iconst 0, 1) := dk_3 (dk_at dksX4_cargo_0 1 rfl rfl)
theorem dX4_cargo_2 : decode cX4_cargo 2 = .ok (.putfield 1, 3) := dk_181 0 1 (dk_at dksX4_cargo_0 2 rfl rfl)
theorem dX4_cargo_5 : decode cX4_cargo 5 = .ok (.aload_n 0, 1) := dk_42 (dk_at dksX4_cargo_0 5 rfl rfl)
theorem dX4_cargo_6 : decode cX4_cargo 6 = .ok (.iload_n 1, 1) := dk_27 (dk_at dksX4_cargo_0 6 rfl rfl)
theorem dX4_cargo_7 : decode cX4_cargo 7 = .ok (.invokevirtual 246, 3) := dk_182 0 246 (dk_at dksX4_cargo_0 7 rfl rfl)
theorem dX4_cargo_10 : decode cX4_cargo 10 = .ok (.ifCond .eq 15, 3) := dk_153 0 15 (dk_at dksX4_cargo_0 10 rfl rfl)
theorem dX4_cargo_13 : decode cX4_cargo 13 = .ok (.aload_n 0, 1) := dk_42 (dk_at dksX4_cargo_0 13 rfl rfl)
theorem dX4_cargo_14 : decode cX4_cargo 14 = .ok (.getfield 13, 3) := dk_180 0 13 (dk_at dksX4_cargo_0 14 rfl rfl)
theorem dX4_cargo_17 : decode cX4_cargo 17 = .ok (.bipush 25, 2) := dk_16 25 (dk_at dksX4_cargo_0 17 rfl rfl)
theorem dX4_cargo_19 : decode cX4_cargo 19 = .ok (.iload_n 1, 1) := dk_27 (dk_at dksX4_cargo_0 19 rfl rfl)
theorem dX4_cargo_20 : decode cX4_cargo 20 = .ok (.iadd, 1) := dk_96 (dk_at dksX4_cargo_0 20 rfl rfl)
theorem dX4_cargo_21 : decode cX4_cargo 21 = .ok (.iaload, 1) := dk_46 (dk_at dksX4_cargo_0 21 rfl rfl)
theorem dX4_cargo_22 : decode cX4_cargo 22 = .ok (.goto 4, 3) := dk_167 0 4 (dk_at dksX4_cargo_1 0 rfl rfl)
theorem dX4_cargo_25 : decode cX4_cargo 25 = .ok (.iconst (-1), 1) := dk_2 (dk_at dksX4_cargo_1 3 rfl rfl)
theorem dX4_cargo_26 : decode cX4_cargo 26 = .ok (.ireturn, 1) := dk_172 (dk_at dksX4_cargo_1 4 rfl rfl)
abbrev cX4_letterState : ByteArray := prog_16_method_77_code
def yX4_letterState : MethodName := ⟨RX4, "letterState", "(I)I"⟩
def dkwX4_letterState_1 : List UInt8 := [167, 0, 4, 2, 172]
abbrev dktX4_letterState_1 : List UInt8 := dkwX4_letterState_1 ++ []
def dkwX4_letterState_0 : List UInt8 := [42, 3, 181, 0, 1, 42, 27, 182, 0, 249, 153, 0, 15, 42, 180, 0, 13, 16, 35, 27, 96, 46]
abbrev dktX4_letterState_0 : List UInt8 := dkwX4_letterState_0 ++ dktX4_letterState_1
theorem dksX4_letterState_0 : cX4_letterState.data.toList.drop 0 = dktX4_letterState_0 := by decide +kernel
theorem dksX4_letterState_1 : cX4_letterState.data.toList.drop 22 = dktX4_letterState_1 := dk_seg dksX4_letterState_0 22 rfl rfl
theorem dX4_letterState_0 : decode cX4_letterState 0 = .ok (.aload_n 0, 1) := dk_42 (dk_at dksX4_letterState_0 0 rfl rfl)
theorem dX4_letterState_1 : decode cX4_letterState 1 = .ok (.iconst 0, 1) := dk_3 (dk_at dksX4_letterState_0 1 rfl rfl)
theorem dX4_letterState_2 : decode cX4_letterState 2 = .ok (.putfield 1, 3) := dk_181 0 1 (dk_at dksX4_letterState_0 2 rfl rfl)
theorem dX4_letterState_5 : decode cX4_letterState 5 = .ok (.aload_n 0, 1) := dk_42 (dk_at dksX4_letterState_0 5 rfl rfl)
theorem dX4_letterState_6 : decode cX4_letterState 6 = .ok (.iload_n 1, 1) := dk_27 (dk_at dksX4_letterState_0 6 rfl rfl)
theorem dX4_letterState_7 : decode cX4_letterState 7 = .ok (.invokevirtual 249, 3) := dk_182 0 249 (dk_at dksX4_letterState_0 7 rfl rfl)
theorem dX4_letterState_10 : decode cX4_letterState 10 = .ok (.ifCond .eq 15, 3) := dk_153 0 15 (dk_at dksX4_letterState_0 10 rfl rfl)
theorem dX4_letterState_13 : decode cX4_letterState 13 = .ok (.aload_n 0, 1) := dk_42 (dk_at dksX4_letterState_0 13 rfl rfl)
theorem dX4_letterState_14 : decode cX4_letterState 14 = .ok (.getfield 13, 3) := dk_180 0 13 (dk_at dksX4_letterState_0 14 rfl rfl)
theorem dX4_letterState_17 : decode cX4_letterState 17 = .ok (.bipush 35, 2) := dk_16 35 (dk_at dksX4_letterState_0 17 rfl rfl)
theorem dX4_letterState_19 : decode cX4_letterState 19 = .ok (.iload_n 1, 1) := dk_27 (dk_at dksX4_letterState_0 19 rfl rfl)
theorem dX4_letterState_20 : decode cX4_letterState 20 = .ok (.iadd, 1) := dk_96 (dk_at dksX4_letterState_0 20 rfl rfl)
theorem dX4_letterState_21 : decode cX4_letterState 21 = .ok (.iaload, 1) := dk_46 (dk_at dksX4_letterState_0 21 rfl rfl)
theorem dX4_letterState_22 : decode cX4_letterState 22 = .ok (.goto 4, 3) := dk_167 0 4 (dk_at dksX4_letterState_1 0 rfl rfl)
theorem dX4_letterState_25 : decode cX4_letterState 25 = .ok (.iconst (-1), 1) := dk_2 (dk_at dksX4_letterState_1 3 rfl rfl)
theorem dX4_letterState_26 : decode cX4_letterState 26 = .ok (.ireturn, 1) := dk_172 (dk_at dksX4_letterState_1 4 rfl rfl)
abbrev cX4_answerDay : ByteArray := prog_16_method_78_code
def yX4_answerDay : MethodName := ⟨RX4, "answerDay", "(I)I"⟩
def dkwX4_answerDay_1 : List UInt8 := [167, 0, 4, 2, 172]
abbrev dktX4_answerDay_1 : List UInt8 := dkwX4_answerDay_1 ++ []
def dkwX4_answerDay_0 : List UInt8 := [42, 3, 181, 0, 1, 42, 27, 182, 0, 249, 153, 0, 15, 42, 180, 0, 13, 16, 59, 27, 96, 46]
abbrev dktX4_answerDay_0 : List UInt8 := dkwX4_answerDay_0 ++ dktX4_answerDay_1
theorem dksX4_answerDay_0 : cX4_answerDay.data.toList.drop 0 = dktX4_answerDay_0 := by decide +kernel
theorem dksX4_answerDay_1 : cX4_answerDay.data.toList.drop 22 = dktX4_answerDay_1 := dk_seg dksX4_answerDay_0 22 rfl rfl
theorem dX4_answerDay_0 : decode cX4_answerDay 0 = .ok (.aload_n 0, 1) := dk_42 (dk_at dksX4_answerDay_0 0 rfl rfl)
theorem dX4_answerDay_1 : decode cX4_answerDay 1 = .ok (.iconst 0, 1) := dk_3 (dk_at dksX4_answerDay_0 1 rfl rfl)
theorem dX4_answerDay_2 : decode cX4_answerDay 2 = .ok (.putfield 1, 3) := dk_181 0 1 (dk_at dksX4_answerDay_0 2 rfl rfl)
theorem dX4_answerDay_5 : decode cX4_answerDay 5 = .ok (.aload_n 0, 1) := dk_42 (dk_at dksX4_answerDay_0 5 rfl rfl)
theorem dX4_answerDay_6 : decode cX4_answerDay 6 = .ok (.iload_n 1, 1) := dk_27 (dk_at dksX4_answerDay_0 6 rfl rfl)
theorem dX4_answerDay_7 : decode cX4_answerDay 7 = .ok (.invokevirtual 249, 3) := dk_182 0 249 (dk_at dksX4_answerDay_0 7 rfl rfl)
theorem dX4_answerDay_10 : decode cX4_answerDay 10 = .ok (.ifCond .eq 15, 3) := dk_153 0 15 (dk_at dksX4_answerDay_0 10 rfl rfl)
theorem dX4_answerDay_13 : decode cX4_answerDay 13 = .ok (.aload_n 0, 1) := dk_42 (dk_at dksX4_answerDay_0 13 rfl rfl)
theorem dX4_answerDay_14 : decode cX4_answerDay 14 = .ok (.getfield 13, 3) := dk_180 0 13 (dk_at dksX4_answerDay_0 14 rfl rfl)
theorem dX4_answerDay_17 : decode cX4_answerDay 17 = .ok (.bipush 59, 2) := dk_16 59 (dk_at dksX4_answerDay_0 17 rfl rfl)
theorem dX4_answerDay_19 : decode cX4_answerDay 19 = .ok (.iload_n 1, 1) := dk_27 (dk_at dksX4_answerDay_0 19 rfl rfl)
theorem dX4_answerDay_20 : decode cX4_answerDay 20 = .ok (.iadd, 1) := dk_96 (dk_at dksX4_answerDay_0 20 rfl rfl)
theorem dX4_answerDay_21 : decode cX4_answerDay 21 = .ok (.iaload, 1) := dk_46 (dk_at dksX4_answerDay_0 21 rfl rfl)
theorem dX4_answerDay_22 : decode cX4_answerDay 22 = .ok (.goto 4, 3) := dk_167 0 4 (dk_at dksX4_answerDay_1 0 rfl rfl)
theorem dX4_answerDay_25 : decode cX4_answerDay 25 = .ok (.iconst (-1), 1) := dk_2 (dk_at dksX4_answerDay_1 3 rfl rfl)
theorem dX4_answerDay_26 : decode cX4_answerDay 26 = .ok (.ireturn, 1) := dk_172 (dk_at dksX4_answerDay_1 4 rfl rfl)
abbrev cX4_pigeonsInLoft : ByteArray := prog_16_method_79_code
def yX4_pigeonsInLoft : MethodName := ⟨RX4, "pigeonsInLoft", "()I"⟩
def dkwX4_pigeonsInLoft_0 : List UInt8 := [42, 3, 181, 0, 1, 42, 180, 0, 13, 6, 46, 172]
abbrev dktX4_pigeonsInLoft_0 : List UInt8 := dkwX4_pigeonsInLoft_0 ++ []
theorem dksX4_pigeonsInLoft_0 : cX4_pigeonsInLoft.data.toList.drop 0 = dktX4_pigeonsInLoft_0 := by decide +kernel
theorem dX4_pigeonsInLoft_0 : decode cX4_pigeonsInLoft 0 = .ok (.aload_n 0, 1) := dk_42 (dk_at dksX4_pigeonsInLoft_0 0 rfl rfl)
theorem dX4_pigeonsInLoft_1 : decode cX4_pigeonsInLoft 1 = .ok (.iconst 0, 1) := dk_3 (dk_at dksX4_pigeonsInLoft_0 1 rfl rfl)
theorem dX4_pigeonsInLoft_2 : decode cX4_pigeonsInLoft 2 = .ok (.putfield 1, 3) := dk_181 0 1 (dk_at dksX4_pigeonsInLoft_0 2 rfl rfl)
theorem dX4_pigeonsInLoft_5 : decode cX4_pigeonsInLoft 5 = .ok (.aload_n 0, 1) := dk_42 (dk_at dksX4_pigeonsInLoft_0 5 rfl rfl)
theorem dX4_pigeonsInLoft_6 : decode cX4_pigeonsInLoft 6 = .ok (.getfield 13, 3) := dk_180 0 13 (dk_at dksX4_pigeonsInLoft_0 6 rfl rfl)
theorem dX4_pigeonsInLoft_9 : decode cX4_pigeonsInLoft 9 = .ok (.iconst 3, 1) := dk_6 (dk_at dksX4_pigeonsInLoft_0 9 rfl rfl)
theorem dX4_pigeonsInLoft_10 : decode cX4_pigeonsInLoft 10 = .ok (.iaload, 1) := dk_46 (dk_at dksX4_pigeonsInLoft_0 10 rfl rfl)
theorem dX4_pigeonsInLoft_11 : decode cX4_pigeonsInLoft 11 = .ok (.ireturn, 1) := dk_172 (dk_at dksX4_pigeonsInLoft_0 11 rfl rfl)
abbrev cX4_pigeonsOnTheWay : ByteArray := prog_16_method_80_code
def yX4_pigeonsOnTheWay : MethodName := ⟨RX4, "pigeonsOnTheWay", "()I"⟩
def dkwX4_pigeonsOnTheWay_0 : List UInt8 := [42, 3, 181, 0, 1, 42, 180, 0, 13, 16, 83, 46, 172]
abbrev dktX4_pigeonsOnTheWay_0 : List UInt8 := dkwX4_pigeonsOnTheWay_0 ++ []
theorem dksX4_pigeonsOnTheWay_0 : cX4_pigeonsOnTheWay.data.toList.drop 0 = dktX4_pigeonsOnTheWay_0 := by decide +kernel
theorem dX4_pigeonsOnTheWay_0 : decode cX4_pigeonsOnTheWay 0 = .ok (.aload_n 0, 1) := dk_42 (dk_at dksX4_pigeonsOnTheWay_0 0 rfl rfl)
theorem dX4_pigeonsOnTheWay_1 : decode cX4_pigeonsOnTheWay 1 = .ok (.iconst 0, 1) := dk_3 (dk_at dksX4_pigeonsOnTheWay_0 1 rfl rfl)
theorem dX4_pigeonsOnTheWay_2 : decode cX4_pigeonsOnTheWay 2 = .ok (.putfield 1, 3) := dk_181 0 1 (dk_at dksX4_pigeonsOnTheWay_0 2 rfl rfl)
theorem dX4_pigeonsOnTheWay_5 : decode cX4_pigeonsOnTheWay 5 = .ok (.aload_n 0, 1) := dk_42 (dk_at dksX4_pigeonsOnTheWay_0 5 rfl rfl)
theorem dX4_pigeonsOnTheWay_6 : decode cX4_pigeonsOnTheWay 6 = .ok (.getfield 13, 3) := dk_180 0 13 (dk_at dksX4_pigeonsOnTheWay_0 6 rfl rfl)
theorem dX4_pigeonsOnTheWay_9 : decode cX4_pigeonsOnTheWay 9 = .ok (.bipush 83, 2) := dk_16 83 (dk_at dksX4_pigeonsOnTheWay_0 9 rfl rfl)
theorem dX4_pigeonsOnTheWay_11 : decode cX4_pigeonsOnTheWay 11 = .ok (.iaload, 1) := dk_46 (dk_at dksX4_pigeonsOnTheWay_0 11 rfl rfl)
theorem dX4_pigeonsOnTheWay_12 : decode cX4_pigeonsOnTheWay 12 = .ok (.ireturn, 1) := dk_172 (dk_at dksX4_pigeonsOnTheWay_0 12 rfl rfl)
abbrev cX4_pigeonsLost : ByteArray := prog_16_method_81_code
def yX4_pigeonsLost : MethodName := ⟨RX4, "pigeonsLost", "()I"⟩
def dkwX4_pigeonsLost_0 : List UInt8 := [42, 3, 181, 0, 1, 42, 180, 0, 13, 7, 46, 172]
abbrev dktX4_pigeonsLost_0 : List UInt8 := dkwX4_pigeonsLost_0 ++ []
theorem dksX4_pigeonsLost_0 : cX4_pigeonsLost.data.toList.drop 0 = dktX4_pigeonsLost_0 := by decide +kernel
theorem dX4_pigeonsLost_0 : decode cX4_pigeonsLost 0 = .ok (.aload_n 0, 1) := dk_42 (dk_at dksX4_pigeonsLost_0 0 rfl rfl)
theorem dX4_pigeonsLost_1 : decode cX4_pigeonsLost 1 = .ok (.iconst 0, 1) := dk_3 (dk_at dksX4_pigeonsLost_0 1 rfl rfl)
theorem dX4_pigeonsLost_2 : decode cX4_pigeonsLost 2 = .ok (.putfield 1, 3) := dk_181 0 1 (dk_at dksX4_pigeonsLost_0 2 rfl rfl)
theorem dX4_pigeonsLost_5 : decode cX4_pigeonsLost 5 = .ok (.aload_n 0, 1) := dk_42 (dk_at dksX4_pigeonsLost_0 5 rfl rfl)
theorem dX4_pigeonsLost_6 : decode cX4_pigeonsLost 6 = .ok (.getfield 13, 3) := dk_180 0 13 (dk_at dksX4_pigeonsLost_0 6 rfl rfl)
theorem dX4_pigeonsLost_9 : decode cX4_pigeonsLost 9 = .ok (.iconst 4, 1) := dk_7 (dk_at dksX4_pigeonsLost_0 9 rfl rfl)
theorem dX4_pigeonsLost_10 : decode cX4_pigeonsLost 10 = .ok (.iaload, 1) := dk_46 (dk_at dksX4_pigeonsLost_0 10 rfl rfl)
theorem dX4_pigeonsLost_11 : decode cX4_pigeonsLost 11 = .ok (.ireturn, 1) := dk_172 (dk_at dksX4_pigeonsLost_0 11 rfl rfl)
abbrev cX4_nextReturn : ByteArray := prog_16_method_82_code
def yX4_nextReturn : MethodName := ⟨RX4, "nextReturn", "()I"⟩
def dkwX4_nextReturn_2 : List UInt8 := [46, 167, 0, 4, 27, 60, 132, 2, 1, 167, 255, 209, 27, 172]
abbrev dktX4_nextReturn_2 : List UInt8 := dkwX4_nextReturn_2 ++ []
def dkwX4_nextReturn_1 : List UInt8 := [159, 0, 16, 42, 180, 0, 13, 16, 124, 28, 96, 46, 27, 162, 0, 15, 42, 180, 0, 13, 16, 124, 28, 96]
abbrev dktX4_nextReturn_1 : List UInt8 := dkwX4_nextReturn_1 ++ dktX4_nextReturn_2
def dkwX4_nextReturn_0 : List UInt8 := [42, 3, 181, 0, 1, 16, 254, 60, 3, 61, 28, 42, 180, 0, 13, 16, 83, 46, 162, 0, 42, 27, 16, 254]
abbrev dktX4_nextReturn_0 : List UInt8 := dkwX4_nextReturn_0 ++ dktX4_nextReturn_1
theorem dksX4_nextReturn_0 : cX4_nextReturn.data.toList.drop 0 = dktX4_nextReturn_0 := by decide +kernel
theorem dksX4_nextReturn_1 : cX4_nextReturn.data.toList.drop 24 = dktX4_nextReturn_1 := dk_seg dksX4_nextReturn_0 24 rfl rfl
theorem dksX4_nextReturn_2 : cX4_nextReturn.data.toList.drop 48 = dktX4_nextReturn_2 := dk_seg dksX4_nextReturn_1 24 rfl rfl
theorem dX4_nextReturn_0 : decode cX4_nextReturn 0 = .ok (.aload_n 0, 1) := dk_42 (dk_at dksX4_nextReturn_0 0 rfl rfl)
theorem dX4_nextReturn_1 : decode cX4_nextReturn 1 = .ok (.iconst 0, 1) := dk_3 (dk_at dksX4_nextReturn_0 1 rfl rfl)
theorem dX4_nextReturn_2 : decode cX4_nextReturn 2 = .ok (.putfield 1, 3) := dk_181 0 1 (dk_at dksX4_nextReturn_0 2 rfl rfl)
theorem dX4_nextReturn_5 : decode cX4_nextReturn 5 = .ok (.bipush (-2), 2) := dk_16 254 (dk_at dksX4_nextReturn_0 5 rfl rfl)
theorem dX4_nextReturn_7 : decode cX4_nextReturn 7 = .ok (.istore_n 1, 1) := dk_60 (dk_at dksX4_nextReturn_0 7 rfl rfl)
theorem dX4_nextReturn_8 : decode cX4_nextReturn 8 = .ok (.iconst 0, 1) := dk_3 (dk_at dksX4_nextReturn_0 8 rfl rfl)
theorem dX4_nextReturn_9 : decode cX4_nextReturn 9 = .ok (.istore_n 2, 1) := dk_61 (dk_at dksX4_nextReturn_0 9 rfl rfl)
theorem dX4_nextReturn_10 : decode cX4_nextReturn 10 = .ok (.iload_n 2, 1) := dk_28 (dk_at dksX4_nextReturn_0 10 rfl rfl)
theorem dX4_nextReturn_11 : decode cX4_nextReturn 11 = .ok (.aload_n 0, 1) := dk_42 (dk_at dksX4_nextReturn_0 11 rfl rfl)
theorem dX4_nextReturn_12 : decode cX4_nextReturn 12 = .ok (.getfield 13, 3) := dk_180 0 13 (dk_at dksX4_nextReturn_0 12 rfl rfl)
theorem dX4_nextReturn_15 : decode cX4_nextReturn 15 = .ok (.bipush 83, 2) := dk_16 83 (dk_at dksX4_nextReturn_0 15 rfl rfl)
theorem dX4_nextReturn_17 : decode cX4_nextReturn 17 = .ok (.iaload, 1) := dk_46 (dk_at dksX4_nextReturn_0 17 rfl rfl)
theorem dX4_nextReturn_18 : decode cX4_nextReturn 18 = .ok (.if_icmp .ge 42, 3) := dk_162 0 42 (dk_at dksX4_nextReturn_0 18 rfl rfl)
theorem dX4_nextReturn_21 : decode cX4_nextReturn 21 = .ok (.iload_n 1, 1) := dk_27 (dk_at dksX4_nextReturn_0 21 rfl rfl)
theorem dX4_nextReturn_22 : decode cX4_nextReturn 22 = .ok (.bipush (-2), 2) := dk_16 254 (dk_at dksX4_nextReturn_0 22 rfl rfl)
theorem dX4_nextReturn_24 : decode cX4_nextReturn 24 = .ok (.if_icmp .eq 16, 3) := dk_159 0 16 (dk_at dksX4_nextReturn_1 0 rfl rfl)
theorem dX4_nextReturn_27 : decode cX4_nextReturn 27 = .ok (.aload_n 0, 1) := dk_42 (dk_at dksX4_nextReturn_1 3 rfl rfl)
theorem dX4_nextReturn_28 : decode cX4_nextReturn 28 = .ok (.getfield 13, 3) := dk_180 0 13 (dk_at dksX4_nextReturn_1 4 rfl rfl)
theorem dX4_nextReturn_31 : decode cX4_nextReturn 31 = .ok (.bipush 124, 2) := dk_16 124 (dk_at dksX4_nextReturn_1 7 rfl rfl)
theorem dX4_nextReturn_33 : decode cX4_nextReturn 33 = .ok (.iload_n 2, 1) := dk_28 (dk_at dksX4_nextReturn_1 9 rfl rfl)
theorem dX4_nextReturn_34 : decode cX4_nextReturn 34 = .ok (.iadd, 1) := dk_96 (dk_at dksX4_nextReturn_1 10 rfl rfl)
theorem dX4_nextReturn_35 : decode cX4_nextReturn 35 = .ok (.iaload, 1) := dk_46 (dk_at dksX4_nextReturn_1 11 rfl rfl)
theorem dX4_nextReturn_36 : decode cX4_nextReturn 36 = .ok (.iload_n 1, 1) := dk_27 (dk_at dksX4_nextReturn_1 12 rfl rfl)
theorem dX4_nextReturn_37 : decode cX4_nextReturn 37 = .ok (.if_icmp .ge 15, 3) := dk_162 0 15 (dk_at dksX4_nextReturn_1 13 rfl rfl)
theorem dX4_nextReturn_40 : decode cX4_nextReturn 40 = .ok (.aload_n 0, 1) := dk_42 (dk_at dksX4_nextReturn_1 16 rfl rfl)
theorem dX4_nextReturn_41 : decode cX4_nextReturn 41 = .ok (.getfield 13, 3) := dk_180 0 13 (dk_at dksX4_nextReturn_1 17 rfl rfl)
theorem dX4_nextReturn_44 : decode cX4_nextReturn 44 = .ok (.bipush 124, 2) := dk_16 124 (dk_at dksX4_nextReturn_1 20 rfl rfl)
theorem dX4_nextReturn_46 : decode cX4_nextReturn 46 = .ok (.iload_n 2, 1) := dk_28 (dk_at dksX4_nextReturn_1 22 rfl rfl)
theorem dX4_nextReturn_47 : decode cX4_nextReturn 47 = .ok (.iadd, 1) := dk_96 (dk_at dksX4_nextReturn_1 23 rfl rfl)
theorem dX4_nextReturn_48 : decode cX4_nextReturn 48 = .ok (.iaload, 1) := dk_46 (dk_at dksX4_nextReturn_2 0 rfl rfl)
theorem dX4_nextReturn_49 : decode cX4_nextReturn 49 = .ok (.goto 4, 3) := dk_167 0 4 (dk_at dksX4_nextReturn_2 1 rfl rfl)
theorem dX4_nextReturn_52 : decode cX4_nextReturn 52 = .ok (.iload_n 1, 1) := dk_27 (dk_at dksX4_nextReturn_2 4 rfl rfl)
theorem dX4_nextReturn_53 : decode cX4_nextReturn 53 = .ok (.istore_n 1, 1) := dk_60 (dk_at dksX4_nextReturn_2 5 rfl rfl)
theorem dX4_nextReturn_54 : decode cX4_nextReturn 54 = .ok (.iinc 2 1, 3) := dk_132 2 1 (dk_at dksX4_nextReturn_2 6 rfl rfl)
theorem dX4_nextReturn_57 : decode cX4_nextReturn 57 = .ok (.goto (-47), 3) := dk_167 255 209 (dk_at dksX4_nextReturn_2 9 rfl rfl)
theorem dX4_nextReturn_60 : decode cX4_nextReturn 60 = .ok (.iload_n 1, 1) := dk_27 (dk_at dksX4_nextReturn_2 12 rfl rfl)
theorem dX4_nextReturn_61 : decode cX4_nextReturn 61 = .ok (.ireturn, 1) := dk_172 (dk_at dksX4_nextReturn_2 13 rfl rfl)
abbrev cX4_weightIn : ByteArray := prog_16_method_83_code
def yX4_weightIn : MethodName := ⟨RX4, "weightIn", "(I)I"⟩
def dkwX4_weightIn_1 : List UInt8 := [182, 1, 44, 167, 0, 4, 2, 172]
abbrev dktX4_weightIn_1 : List UInt8 := dkwX4_weightIn_1 ++ []
def dkwX4_weightIn_0 : List UInt8 := [42, 3, 181, 0, 1, 27, 3, 6, 184, 0, 139, 153, 0, 19, 42, 42, 27, 182, 1, 48, 42, 180, 0, 65]
abbrev dktX4_weightIn_0 : List UInt8 := dkwX4_weightIn_0 ++ dktX4_weightIn_1
theorem dksX4_weightIn_0 : cX4_weightIn.data.toList.drop 0 = dktX4_weightIn_0 := by decide +kernel
theorem dksX4_weightIn_1 : cX4_weightIn.data.toList.drop 24 = dktX4_weightIn_1 := dk_seg dksX4_weightIn_0 24 rfl rfl
theorem dX4_weightIn_0 : decode cX4_weightIn 0 = .ok (.aload_n 0, 1) := dk_42 (dk_at dksX4_weightIn_0 0 rfl rfl)
theorem dX4_weightIn_1 : decode cX4_weightIn 1 = .ok (.iconst 0, 1) := dk_3 (dk_at dksX4_weightIn_0 1 rfl rfl)
theorem dX4_weightIn_2 : decode cX4_weightIn 2 = .ok (.putfield 1, 3) := dk_181 0 1 (dk_at dksX4_weightIn_0 2 rfl rfl)
theorem dX4_weightIn_5 : decode cX4_weightIn 5 = .ok (.iload_n 1, 1) := dk_27 (dk_at dksX4_weightIn_0 5 rfl rfl)
theorem dX4_weightIn_6 : decode cX4_weightIn 6 = .ok (.iconst 0, 1) := dk_3 (dk_at dksX4_weightIn_0 6 rfl rfl)
theorem dX4_weightIn_7 : decode cX4_weightIn 7 = .ok (.iconst 3, 1) := dk_6 (dk_at dksX4_weightIn_0 7 rfl rfl)
theorem dX4_weightIn_8 : decode cX4_weightIn 8 = .ok (.invokestatic 139, 3) := dk_184 0 139 (dk_at dksX4_weightIn_0 8 rfl rfl)
theorem dX4_weightIn_11 : decode cX4_weightIn 11 = .ok (.ifCond .eq 19, 3) := dk_153 0 19 (dk_at dksX4_weightIn_0 11 rfl rfl)
theorem dX4_weightIn_14 : decode cX4_weightIn 14 = .ok (.aload_n 0, 1) := dk_42 (dk_at dksX4_weightIn_0 14 rfl rfl)
theorem dX4_weightIn_15 : decode cX4_weightIn 15 = .ok (.aload_n 0, 1) := dk_42 (dk_at dksX4_weightIn_0 15 rfl rfl)
theorem dX4_weightIn_16 : decode cX4_weightIn 16 = .ok (.iload_n 1, 1) := dk_27 (dk_at dksX4_weightIn_0 16 rfl rfl)
theorem dX4_weightIn_17 : decode cX4_weightIn 17 = .ok (.invokevirtual 304, 3) := dk_182 1 48 (dk_at dksX4_weightIn_0 17 rfl rfl)
theorem dX4_weightIn_20 : decode cX4_weightIn 20 = .ok (.aload_n 0, 1) := dk_42 (dk_at dksX4_weightIn_0 20 rfl rfl)
theorem dX4_weightIn_21 : decode cX4_weightIn 21 = .ok (.getfield 65, 3) := dk_180 0 65 (dk_at dksX4_weightIn_0 21 rfl rfl)
theorem dX4_weightIn_24 : decode cX4_weightIn 24 = .ok (.invokevirtual 300, 3) := dk_182 1 44 (dk_at dksX4_weightIn_1 0 rfl rfl)
theorem dX4_weightIn_27 : decode cX4_weightIn 27 = .ok (.goto 4, 3) := dk_167 0 4 (dk_at dksX4_weightIn_1 3 rfl rfl)
theorem dX4_weightIn_30 : decode cX4_weightIn 30 = .ok (.iconst (-1), 1) := dk_2 (dk_at dksX4_weightIn_1 6 rfl rfl)
theorem dX4_weightIn_31 : decode cX4_weightIn 31 = .ok (.ireturn, 1) := dk_172 (dk_at dksX4_weightIn_1 7 rfl rfl)
abbrev cX4_answeredPriority : ByteArray := prog_16_method_84_code
def yX4_answeredPriority : MethodName := ⟨RX4, "answeredPriority", "()I"⟩
def dkwX4_answeredPriority_0 : List UInt8 := [42, 3, 181, 0, 1, 42, 42, 6, 182, 1, 48, 42, 180, 0, 68, 182, 1, 44, 172]
abbrev dktX4_answeredPriority_0 : List UInt8 := dkwX4_answeredPriority_0 ++ []
theorem dksX4_answeredPriority_0 : cX4_answeredPriority.data.toList.drop 0 = dktX4_answeredPriority_0 := by decide +kernel
theorem dX4_answeredPriority_0 : decode cX4_answeredPriority 0 = .ok (.aload_n 0, 1) := dk_42 (dk_at dksX4_answeredPriority_0 0 rfl rfl)
theorem dX4_answeredPriority_1 : decode cX4_answeredPriority 1 = .ok (.iconst 0, 1) := dk_3 (dk_at dksX4_answeredPriority_0 1 rfl rfl)
theorem dX4_answeredPriority_2 : decode cX4_answeredPriority 2 = .ok (.putfield 1, 3) := dk_181 0 1 (dk_at dksX4_answeredPriority_0 2 rfl rfl)
theorem dX4_answeredPriority_5 : decode cX4_answeredPriority 5 = .ok (.aload_n 0, 1) := dk_42 (dk_at dksX4_answeredPriority_0 5 rfl rfl)
theorem dX4_answeredPriority_6 : decode cX4_answeredPriority 6 = .ok (.aload_n 0, 1) := dk_42 (dk_at dksX4_answeredPriority_0 6 rfl rfl)
theorem dX4_answeredPriority_7 : decode cX4_answeredPriority 7 = .ok (.iconst 3, 1) := dk_6 (dk_at dksX4_answeredPriority_0 7 rfl rfl)
theorem dX4_answeredPriority_8 : decode cX4_answeredPriority 8 = .ok (.invokevirtual 304, 3) := dk_182 1 48 (dk_at dksX4_answeredPriority_0 8 rfl rfl)
theorem dX4_answeredPriority_11 : decode cX4_answeredPriority 11 = .ok (.aload_n 0, 1) := dk_42 (dk_at dksX4_answeredPriority_0 11 rfl rfl)
theorem dX4_answeredPriority_12 : decode cX4_answeredPriority 12 = .ok (.getfield 68, 3) := dk_180 0 68 (dk_at dksX4_answeredPriority_0 12 rfl rfl)
theorem dX4_answeredPriority_15 : decode cX4_answeredPriority 15 = .ok (.invokevirtual 300, 3) := dk_182 1 44 (dk_at dksX4_answeredPriority_0 15 rfl rfl)
theorem dX4_answeredPriority_18 : decode cX4_answeredPriority 18 = .ok (.ireturn, 1) := dk_172 (dk_at dksX4_answeredPriority_0 18 rfl rfl)
abbrev cX4_balloonsIn : ByteArray := prog_16_method_85_code
def yX4_balloonsIn : MethodName := ⟨RX4, "balloonsIn", "(I)I"⟩
def dkwX4_balloonsIn_2 : List UInt8 := [160, 0, 7, 4, 167, 0, 4, 3, 96, 61, 132, 3, 1, 167, 255, 222, 28, 172]
abbrev dktX4_balloonsIn_2 : List UInt8 := dkwX4_balloonsIn_2 ++ []
def dkwX4_balloonsIn_1 : List UInt8 := [61, 3, 62, 29, 42, 180, 0, 53, 3, 46, 162, 0, 30, 28, 42, 180, 0, 13, 16, 15, 29, 96, 46, 27]
abbrev dktX4_balloonsIn_1 : List UInt8 := dkwX4_balloonsIn_1 ++ dktX4_balloonsIn_2
def dkwX4_balloonsIn_0 : List UInt8 := [42, 3, 181, 0, 1, 27, 3, 42, 180, 0, 17, 3, 46, 4, 100, 184, 0, 139, 154, 0, 5, 2, 172, 3]
abbrev dktX4_balloonsIn_0 : List UInt8 := dkwX4_balloonsIn_0 ++ dktX4_balloonsIn_1
theorem dksX4_balloonsIn_0 : cX4_balloonsIn.data.toList.drop 0 = dktX4_balloonsIn_0 := by decide +kernel
theorem dksX4_balloonsIn_1 : cX4_balloonsIn.data.toList.drop 24 = dktX4_balloonsIn_1 := dk_seg dksX4_balloonsIn_0 24 rfl rfl
theorem dksX4_balloonsIn_2 : cX4_balloonsIn.data.toList.drop 48 = dktX4_balloonsIn_2 := dk_seg dksX4_balloonsIn_1 24 rfl rfl
theorem dX4_balloonsIn_0 : decode cX4_balloonsIn 0 = .ok (.aload_n 0, 1) := dk_42 (dk_at dksX4_balloonsIn_0 0 rfl rfl)
theorem dX4_balloonsIn_1 : decode cX4_balloonsIn 1 = .ok (.iconst 0, 1) := dk_3 (dk_at dksX4_balloonsIn_0 1 rfl rfl)
theorem dX4_balloonsIn_2 : decode cX4_balloonsIn 2 = .ok (.putfield 1, 3) := dk_181 0 1 (dk_at dksX4_balloonsIn_0 2 rfl rfl)
theorem dX4_balloonsIn_5 : decode cX4_balloonsIn 5 = .ok (.iload_n 1, 1) := dk_27 (dk_at dksX4_balloonsIn_0 5 rfl rfl)
theorem dX4_balloonsIn_6 : decode cX4_balloonsIn 6 = .ok (.iconst 0, 1) := dk_3 (dk_at dksX4_balloonsIn_0 6 rfl rfl)
theorem dX4_balloonsIn_7 : decode cX4_balloonsIn 7 = .ok (.aload_n 0, 1) := dk_42 (dk_at dksX4_balloonsIn_0 7 rfl rfl)
theorem dX4_balloonsIn_8 : decode cX4_balloonsIn 8 = .ok (.getfield 17, 3) := dk_180 0 17 (dk_at dksX4_balloonsIn_0 8 rfl rfl)
theorem dX4_balloonsIn_11 : decode cX4_balloonsIn 11 = .ok (.iconst 0, 1) := dk_3 (dk_at dksX4_balloonsIn_0 11 rfl rfl)
theorem dX4_balloonsIn_12 : decode cX4_balloonsIn 12 = .ok (.iaload, 1) := dk_46 (dk_at dksX4_balloonsIn_0 12 rfl rfl)
theorem dX4_balloonsIn_13 : decode cX4_balloonsIn 13 = .ok (.iconst 1, 1) := dk_4 (dk_at dksX4_balloonsIn_0 13 rfl rfl)
theorem dX4_balloonsIn_14 : decode cX4_balloonsIn 14 = .ok (.isub, 1) := dk_100 (dk_at dksX4_balloonsIn_0 14 rfl rfl)
theorem dX4_balloonsIn_15 : decode cX4_balloonsIn 15 = .ok (.invokestatic 139, 3) := dk_184 0 139 (dk_at dksX4_balloonsIn_0 15 rfl rfl)
theorem dX4_balloonsIn_18 : decode cX4_balloonsIn 18 = .ok (.ifCond .ne 5, 3) := dk_154 0 5 (dk_at dksX4_balloonsIn_0 18 rfl rfl)
theorem dX4_balloonsIn_21 : decode cX4_balloonsIn 21 = .ok (.iconst (-1), 1) := dk_2 (dk_at dksX4_balloonsIn_0 21 rfl rfl)
theorem dX4_balloonsIn_22 : decode cX4_balloonsIn 22 = .ok (.ireturn, 1) := dk_172 (dk_at dksX4_balloonsIn_0 22 rfl rfl)
theorem dX4_balloonsIn_23 : decode cX4_balloonsIn 23 = .ok (.iconst 0, 1) := dk_3 (dk_at dksX4_balloonsIn_0 23 rfl rfl)
theorem dX4_balloonsIn_24 : decode cX4_balloonsIn 24 = .ok (.istore_n 2, 1) := dk_61 (dk_at dksX4_balloonsIn_1 0 rfl rfl)
theorem dX4_balloonsIn_25 : decode cX4_balloonsIn 25 = .ok (.iconst 0, 1) := dk_3 (dk_at dksX4_balloonsIn_1 1 rfl rfl)
theorem dX4_balloonsIn_26 : decode cX4_balloonsIn 26 = .ok (.istore_n 3, 1) := dk_62 (dk_at dksX4_balloonsIn_1 2 rfl rfl)
theorem dX4_balloonsIn_27 : decode cX4_balloonsIn 27 = .ok (.iload_n 3, 1) := dk_29 (dk_at dksX4_balloonsIn_1 3 rfl rfl)
theorem dX4_balloonsIn_28 : decode cX4_balloonsIn 28 = .ok (.aload_n 0, 1) := dk_42 (dk_at dksX4_balloonsIn_1 4 rfl rfl)
theorem dX4_balloonsIn_29 : decode cX4_balloonsIn 29 = .ok (.getfield 53, 3) := dk_180 0 53 (dk_at dksX4_balloonsIn_1 5 rfl rfl)
theorem dX4_balloonsIn_32 : decode cX4_balloonsIn 32 = .ok (.iconst 0, 1) := dk_3 (dk_at dksX4_balloonsIn_1 8 rfl rfl)
theorem dX4_balloonsIn_33 : decode cX4_balloonsIn 33 = .ok (.iaload, 1) := dk_46 (dk_at dksX4_balloonsIn_1 9 rfl rfl)
theorem dX4_balloonsIn_34 : decode cX4_balloonsIn 34 = .ok (.if_icmp .ge 30, 3) := dk_162 0 30 (dk_at dksX4_balloonsIn_1 10 rfl rfl)
theorem dX4_balloonsIn_37 : decode cX4_balloonsIn 37 = .ok (.iload_n 2, 1) := dk_28 (dk_at dksX4_balloonsIn_1 13 rfl rfl)
theorem dX4_balloonsIn_38 : decode cX4_balloonsIn 38 = .ok (.aload_n 0, 1) := dk_42 (dk_at dksX4_balloonsIn_1 14 rfl rfl)
theorem dX4_balloonsIn_39 : decode cX4_balloonsIn 39 = .ok (.getfield 13, 3) := dk_180 0 13 (dk_at dksX4_balloonsIn_1 15 rfl rfl)
theorem dX4_balloonsIn_42 : decode cX4_balloonsIn 42 = .ok (.bipush 15, 2) := dk_16 15 (dk_at dksX4_balloonsIn_1 18 rfl rfl)
theorem dX4_balloonsIn_44 : decode cX4_balloonsIn 44 = .ok (.iload_n 3, 1) := dk_29 (dk_at dksX4_balloonsIn_1 20 rfl rfl)
theorem dX4_balloonsIn_45 : decode cX4_balloonsIn 45 = .ok (.iadd, 1) := dk_96 (dk_at dksX4_balloonsIn_1 21 rfl rfl)
theorem dX4_balloonsIn_46 : decode cX4_balloonsIn 46 = .ok (.iaload, 1) := dk_46 (dk_at dksX4_balloonsIn_1 22 rfl rfl)
theorem dX4_balloonsIn_47 : decode cX4_balloonsIn 47 = .ok (.iload_n 1, 1) := dk_27 (dk_at dksX4_balloonsIn_1 23 rfl rfl)
theorem dX4_balloonsIn_48 : decode cX4_balloonsIn 48 = .ok (.if_icmp .ne 7, 3) := dk_160 0 7 (dk_at dksX4_balloonsIn_2 0 rfl rfl)
theorem dX4_balloonsIn_51 : decode cX4_balloonsIn 51 = .ok (.iconst 1, 1) := dk_4 (dk_at dksX4_balloonsIn_2 3 rfl rfl)
theorem dX4_balloonsIn_52 : decode cX4_balloonsIn 52 = .ok (.goto 4, 3) := dk_167 0 4 (dk_at dksX4_balloonsIn_2 4 rfl rfl)
theorem dX4_balloonsIn_55 : decode cX4_balloonsIn 55 = .ok (.iconst 0, 1) := dk_3 (dk_at dksX4_balloonsIn_2 7 rfl rfl)
theorem dX4_balloonsIn_56 : decode cX4_balloonsIn 56 = .ok (.iadd, 1) := dk_96 (dk_at dksX4_balloonsIn_2 8 rfl rfl)
theorem dX4_balloonsIn_57 : decode cX4_balloonsIn 57 = .ok (.istore_n 2, 1) := dk_61 (dk_at dksX4_balloonsIn_2 9 rfl rfl)
theorem dX4_balloonsIn_58 : decode cX4_balloonsIn 58 = .ok (.iinc 3 1, 3) := dk_132 3 1 (dk_at dksX4_balloonsIn_2 10 rfl rfl)
theorem dX4_balloonsIn_61 : decode cX4_balloonsIn 61 = .ok (.goto (-34), 3) := dk_167 255 222 (dk_at dksX4_balloonsIn_2 13 rfl rfl)
theorem dX4_balloonsIn_64 : decode cX4_balloonsIn 64 = .ok (.iload_n 2, 1) := dk_28 (dk_at dksX4_balloonsIn_2 16 rfl rfl)
theorem dX4_balloonsIn_65 : decode cX4_balloonsIn 65 = .ok (.ireturn, 1) := dk_172 (dk_at dksX4_balloonsIn_2 17 rfl rfl)
abbrev cX4_eventCount : ByteArray := prog_16_method_86_code
def yX4_eventCount : MethodName := ⟨RX4, "eventCount", "()I"⟩
def dkwX4_eventCount_0 : List UInt8 := [42, 3, 181, 0, 1, 42, 180, 0, 13, 17, 0, 164, 46, 172]
abbrev dktX4_eventCount_0 : List UInt8 := dkwX4_eventCount_0 ++ []
theorem dksX4_eventCount_0 : cX4_eventCount.data.toList.drop 0 = dktX4_eventCount_0 := by decide +kernel
theorem dX4_eventCount_0 : decode cX4_eventCount 0 = .ok (.aload_n 0, 1) := dk_42 (dk_at dksX4_eventCount_0 0 rfl rfl)
theorem dX4_eventCount_1 : decode cX4_eventCount 1 = .ok (.iconst 0, 1) := dk_3 (dk_at dksX4_eventCount_0 1 rfl rfl)
theorem dX4_eventCount_2 : decode cX4_eventCount 2 = .ok (.putfield 1, 3) := dk_181 0 1 (dk_at dksX4_eventCount_0 2 rfl rfl)
theorem dX4_eventCount_5 : decode cX4_eventCount 5 = .ok (.aload_n 0, 1) := dk_42 (dk_at dksX4_eventCount_0 5 rfl rfl)
theorem dX4_eventCount_6 : decode cX4_eventCount 6 = .ok (.getfield 13, 3) := dk_180 0 13 (dk_at dksX4_eventCount_0 6 rfl rfl)
theorem dX4_eventCount_9 : decode cX4_eventCount 9 = .ok (.sipush 164, 3) := dk_17 0 164 (dk_at dksX4_eventCount_0 9 rfl rfl)
theorem dX4_eventCount_12 : decode cX4_eventCount 12 = .ok (.iaload, 1) := dk_46 (dk_at dksX4_eventCount_0 12 rfl rfl)
theorem dX4_eventCount_13 : decode cX4_eventCount 13 = .ok (.ireturn, 1) := dk_172 (dk_at dksX4_eventCount_0 13 rfl rfl)
abbrev cX4_eventKind : ByteArray := prog_16_method_88_code
def yX4_eventKind : MethodName := ⟨RX4, "eventKind", "(I)I"⟩
def dkwX4_eventKind_0 : List UInt8 := [42, 17, 0, 165, 27, 182, 1, 82, 172]
abbrev dktX4_eventKind_0 : List UInt8 := dkwX4_eventKind_0 ++ []
theorem dksX4_eventKind_0 : cX4_eventKind.data.toList.drop 0 = dktX4_eventKind_0 := by decide +kernel
theorem dX4_eventKind_0 : decode cX4_eventKind 0 = .ok (.aload_n 0, 1) := dk_42 (dk_at dksX4_eventKind_0 0 rfl rfl)
theorem dX4_eventKind_1 : decode cX4_eventKind 1 = .ok (.sipush 165, 3) := dk_17 0 165 (dk_at dksX4_eventKind_0 1 rfl rfl)
theorem dX4_eventKind_4 : decode cX4_eventKind 4 = .ok (.iload_n 1, 1) := dk_27 (dk_at dksX4_eventKind_0 4 rfl rfl)
theorem dX4_eventKind_5 : decode cX4_eventKind 5 = .ok (.invokevirtual 338, 3) := dk_182 1 82 (dk_at dksX4_eventKind_0 5 rfl rfl)
theorem dX4_eventKind_8 : decode cX4_eventKind 8 = .ok (.ireturn, 1) := dk_172 (dk_at dksX4_eventKind_0 8 rfl rfl)
abbrev cX4_event : ByteArray := prog_16_method_87_code
def yX4_event : MethodName := ⟨RX4, "event", "(II)I"⟩
def dkwX4_event_1 : List UInt8 := [181, 0, 1, 42, 180, 0, 1, 158, 0, 7, 3, 167, 0, 11, 42, 180, 0, 13, 27, 28, 96, 46, 172]
abbrev dktX4_event_1 : List UInt8 := dkwX4_event_1 ++ []
def dkwX4_event_0 : List UInt8 := [42, 28, 3, 42, 180, 0, 13, 17, 0, 164, 46, 4, 100, 184, 0, 139, 153, 0, 7, 3, 167, 0, 4, 4]
abbrev dktX4_event_0 : List UInt8 := dkwX4_event_0 ++ dktX4_event_1
theorem dksX4_event_0 : cX4_event.data.toList.drop 0 = dktX4_event_0 := by decide +kernel
theorem dksX4_event_1 : cX4_event.data.toList.drop 24 = dktX4_event_1 := dk_seg dksX4_event_0 24 rfl rfl
theorem dX4_event_0 : decode cX4_event 0 = .ok (.aload_n 0, 1) := dk_42 (dk_at dksX4_event_0 0 rfl rfl)
theorem dX4_event_1 : decode cX4_event 1 = .ok (.iload_n 2, 1) := dk_28 (dk_at dksX4_event_0 1 rfl rfl)
theorem dX4_event_2 : decode cX4_event 2 = .ok (.iconst 0, 1) := dk_3 (dk_at dksX4_event_0 2 rfl rfl)
theorem dX4_event_3 : decode cX4_event 3 = .ok (.aload_n 0, 1) := dk_42 (dk_at dksX4_event_0 3 rfl rfl)
theorem dX4_event_4 : decode cX4_event 4 = .ok (.getfield 13, 3) := dk_180 0 13 (dk_at dksX4_event_0 4 rfl rfl)
theorem dX4_event_7 : decode cX4_event 7 = .ok (.sipush 164, 3) := dk_17 0 164 (dk_at dksX4_event_0 7 rfl rfl)
theorem dX4_event_10 : decode cX4_event 10 = .ok (.iaload, 1) := dk_46 (dk_at dksX4_event_0 10 rfl rfl)
theorem dX4_event_11 : decode cX4_event 11 = .ok (.iconst 1, 1) := dk_4 (dk_at dksX4_event_0 11 rfl rfl)
theorem dX4_event_12 : decode cX4_event 12 = .ok (.isub, 1) := dk_100 (dk_at dksX4_event_0 12 rfl rfl)
theorem dX4_event_13 : decode cX4_event 13 = .ok (.invokestatic 139, 3) := dk_184 0 139 (dk_at dksX4_event_0 13 rfl rfl)
theorem dX4_event_16 : decode cX4_event 16 = .ok (.ifCond .eq 7, 3) := dk_153 0 7 (dk_at dksX4_event_0 16 rfl rfl)
theorem dX4_event_19 : decode cX4_event 19 = .ok (.iconst 0, 1) := dk_3 (dk_at dksX4_event_0 19 rfl rfl)
theorem dX4_event_20 : decode cX4_event 20 = .ok (.goto 4, 3) := dk_167 0 4 (dk_at dksX4_event_0 20 rfl rfl)
theorem dX4_event_23 : decode cX4_event 23 = .ok (.iconst 1, 1) := dk_4 (dk_at dksX4_event_0 23 rfl rfl)
theorem dX4_event_24 : decode cX4_event 24 = .ok (.putfield 1, 3) := dk_181 0 1 (dk_at dksX4_event_1 0 rfl rfl)
theorem dX4_event_27 : decode cX4_event 27 = .ok (.aload_n 0, 1) := dk_42 (dk_at dksX4_event_1 3 rfl rfl)
theorem dX4_event_28 : decode cX4_event 28 = .ok (.getfield 1, 3) := dk_180 0 1 (dk_at dksX4_event_1 4 rfl rfl)
theorem dX4_event_31 : decode cX4_event 31 = .ok (.ifCond .le 7, 3) := dk_158 0 7 (dk_at dksX4_event_1 7 rfl rfl)
theorem dX4_event_34 : decode cX4_event 34 = .ok (.iconst 0, 1) := dk_3 (dk_at dksX4_event_1 10 rfl rfl)
theorem dX4_event_35 : decode cX4_event 35 = .ok (.goto 11, 3) := dk_167 0 11 (dk_at dksX4_event_1 11 rfl rfl)
theorem dX4_event_38 : decode cX4_event 38 = .ok (.aload_n 0, 1) := dk_42 (dk_at dksX4_event_1 14 rfl rfl)
theorem dX4_event_39 : decode cX4_event 39 = .ok (.getfield 13, 3) := dk_180 0 13 (dk_at dksX4_event_1 15 rfl rfl)
theorem dX4_event_42 : decode cX4_event 42 = .ok (.iload_n 1, 1) := dk_27 (dk_at dksX4_event_1 18 rfl rfl)
theorem dX4_event_43 : decode cX4_event 43 = .ok (.iload_n 2, 1) := dk_28 (dk_at dksX4_event_1 19 rfl rfl)
theorem dX4_event_44 : decode cX4_event 44 = .ok (.iadd, 1) := dk_96 (dk_at dksX4_event_1 20 rfl rfl)
theorem dX4_event_45 : decode cX4_event 45 = .ok (.iaload, 1) := dk_46 (dk_at dksX4_event_1 21 rfl rfl)
theorem dX4_event_46 : decode cX4_event 46 = .ok (.ireturn, 1) := dk_172 (dk_at dksX4_event_1 22 rfl rfl)
abbrev cX4_eventNumber : ByteArray := prog_16_method_89_code
def yX4_eventNumber : MethodName := ⟨RX4, "eventNumber", "(I)I"⟩
def dkwX4_eventNumber_0 : List UInt8 := [42, 17, 0, 181, 27, 182, 1, 82, 172]
abbrev dktX4_eventNumber_0 : List UInt8 := dkwX4_eventNumber_0 ++ []
theorem dksX4_eventNumber_0 : cX4_eventNumber.data.toList.drop 0 = dktX4_eventNumber_0 := by decide +kernel
theorem dX4_eventNumber_0 : decode cX4_eventNumber 0 = .ok (.aload_n 0, 1) := dk_42 (dk_at dksX4_eventNumber_0 0 rfl rfl)
theorem dX4_eventNumber_1 : decode cX4_eventNumber 1 = .ok (.sipush 181, 3) := dk_17 0 181 (dk_at dksX4_eventNumber_0 1 rfl rfl)
theorem dX4_eventNumber_4 : decode cX4_eventNumber 4 = .ok (.iload_n 1, 1) := dk_27 (dk_at dksX4_eventNumber_0 4 rfl rfl)
theorem dX4_eventNumber_5 : decode cX4_eventNumber 5 = .ok (.invokevirtual 338, 3) := dk_182 1 82 (dk_at dksX4_eventNumber_0 5 rfl rfl)
theorem dX4_eventNumber_8 : decode cX4_eventNumber 8 = .ok (.ireturn, 1) := dk_172 (dk_at dksX4_eventNumber_0 8 rfl rfl)
abbrev cX4_eventDay : ByteArray := prog_16_method_90_code
def yX4_eventDay : MethodName := ⟨RX4, "eventDay", "(I)I"⟩
def dkwX4_eventDay_0 : List UInt8 := [42, 17, 0, 197, 27, 182, 1, 82, 172]
abbrev dktX4_eventDay_0 : List UInt8 := dkwX4_eventDay_0 ++ []
theorem dksX4_eventDay_0 : cX4_eventDay.data.toList.drop 0 = dktX4_eventDay_0 := by decide +kernel
theorem dX4_eventDay_0 : decode cX4_eventDay 0 = .ok (.aload_n 0, 1) := dk_42 (dk_at dksX4_eventDay_0 0 rfl rfl)
theorem dX4_eventDay_1 : decode cX4_eventDay 1 = .ok (.sipush 197, 3) := dk_17 0 197 (dk_at dksX4_eventDay_0 1 rfl rfl)
theorem dX4_eventDay_4 : decode cX4_eventDay 4 = .ok (.iload_n 1, 1) := dk_27 (dk_at dksX4_eventDay_0 4 rfl rfl)
theorem dX4_eventDay_5 : decode cX4_eventDay 5 = .ok (.invokevirtual 338, 3) := dk_182 1 82 (dk_at dksX4_eventDay_0 5 rfl rfl)
theorem dX4_eventDay_8 : decode cX4_eventDay 8 = .ok (.ireturn, 1) := dk_172 (dk_at dksX4_eventDay_0 8 rfl rfl)
abbrev cX4_undo : ByteArray := prog_16_method_92_code
def yX4_undo : MethodName := ⟨RX4, "undo", "()Z"⟩
def dkwX4_undo_2 : List UInt8 := [172]
abbrev dktX4_undo_2 : List UInt8 := dkwX4_undo_2 ++ []
def dkwX4_undo_1 : List UInt8 := [42, 180, 0, 94, 17, 0, 213, 42, 180, 0, 243, 104, 42, 180, 0, 13, 3, 17, 0, 213, 184, 0, 232, 4]
abbrev dktX4_undo_1 : List UInt8 := dkwX4_undo_1 ++ dktX4_undo_2
def dkwX4_undo_0 : List UInt8 := [42, 3, 181, 0, 1, 42, 180, 0, 243, 154, 0, 5, 3, 172, 42, 89, 180, 0, 243, 4, 100, 181, 0, 243]
abbrev dktX4_undo_0 : List UInt8 := dkwX4_undo_0 ++ dktX4_undo_1
theorem dksX4_undo_0 : cX4_undo.data.toList.drop 0 = dktX4_undo_0 := by decide +kernel
theorem dksX4_undo_1 : cX4_undo.data.toList.drop 24 = dktX4_undo_1 := dk_seg dksX4_undo_0 24 rfl rfl
theorem dksX4_undo_2 : cX4_undo.data.toList.drop 48 = dktX4_undo_2 := dk_seg dksX4_undo_1 24 rfl rfl
theorem dX4_undo_0 : decode cX4_undo 0 = .ok (.aload_n 0, 1) := dk_42 (dk_at dksX4_undo_0 0 rfl rfl)
theorem dX4_undo_1 : decode cX4_undo 1 = .ok (.iconst 0, 1) := dk_3 (dk_at dksX4_undo_0 1 rfl rfl)
theorem dX4_undo_2 : decode cX4_undo 2 = .ok (.putfield 1, 3) := dk_181 0 1 (dk_at dksX4_undo_0 2 rfl rfl)
theorem dX4_undo_5 : decode cX4_undo 5 = .ok (.aload_n 0, 1) := dk_42 (dk_at dksX4_undo_0 5 rfl rfl)
theorem dX4_undo_6 : decode cX4_undo 6 = .ok (.getfield 243, 3) := dk_180 0 243 (dk_at dksX4_undo_0 6 rfl rfl)
theorem dX4_undo_9 : decode cX4_undo 9 = .ok (.ifCond .ne 5, 3) := dk_154 0 5 (dk_at dksX4_undo_0 9 rfl rfl)
theorem dX4_undo_12 : decode cX4_undo 12 = .ok (.iconst 0, 1) := dk_3 (dk_at dksX4_undo_0 12 rfl rfl)
theorem dX4_undo_13 : decode cX4_undo 13 = .ok (.ireturn, 1) := dk_172 (dk_at dksX4_undo_0 13 rfl rfl)
theorem dX4_undo_14 : decode cX4_undo 14 = .ok (.aload_n 0, 1) := dk_42 (dk_at dksX4_undo_0 14 rfl rfl)
theorem dX4_undo_15 : decode cX4_undo 15 = .ok (.dup, 1) := dk_89 (dk_at dksX4_undo_0 15 rfl rfl)
theorem dX4_undo_16 : decode cX4_undo 16 = .ok (.getfield 243, 3) := dk_180 0 243 (dk_at dksX4_undo_0 16 rfl rfl)
theorem dX4_undo_19 : decode cX4_undo 19 = .ok (.iconst 1, 1) := dk_4 (dk_at dksX4_undo_0 19 rfl rfl)
theorem dX4_undo_20 : decode cX4_undo 20 = .ok (.isub, 1) := dk_100 (dk_at dksX4_undo_0 20 rfl rfl)
theorem dX4_undo_21 : decode cX4_undo 21 = .ok (.putfield 243, 3) := dk_181 0 243 (dk_at dksX4_undo_0 21 rfl rfl)
theorem dX4_undo_24 : decode cX4_undo 24 = .ok (.aload_n 0, 1) := dk_42 (dk_at dksX4_undo_1 0 rfl rfl)
theorem dX4_undo_25 : decode cX4_undo 25 = .ok (.getfield 94, 3) := dk_180 0 94 (dk_at dksX4_undo_1 1 rfl rfl)
theorem dX4_undo_28 : decode cX4_undo 28 = .ok (.sipush 213, 3) := dk_17 0 213 (dk_at dksX4_undo_1 4 rfl rfl)
theorem dX4_undo_31 : decode cX4_undo 31 = .ok (.aload_n 0, 1) := dk_42 (dk_at dksX4_undo_1 7 rfl rfl)
theorem dX4_undo_32 : decode cX4_undo 32 = .ok (.getfield 243, 3) := dk_180 0 243 (dk_at dksX4_undo_1 8 rfl rfl)
theorem dX4_undo_35 : decode cX4_undo 35 = .ok (.imul, 1) := dk_104 (dk_at dksX4_undo_1 11 rfl rfl)
theorem dX4_undo_36 : decode cX4_undo 36 = .ok (.aload_n 0, 1) := dk_42 (dk_at dksX4_undo_1 12 rfl rfl)
theorem dX4_undo_37 : decode cX4_undo 37 = .ok (.getfield 13, 3) := dk_180 0 13 (dk_at dksX4_undo_1 13 rfl rfl)
theorem dX4_undo_40 : decode cX4_undo 40 = .ok (.iconst 0, 1) := dk_3 (dk_at dksX4_undo_1 16 rfl rfl)
theorem dX4_undo_41 : decode cX4_undo 41 = .ok (.sipush 213, 3) := dk_17 0 213 (dk_at dksX4_undo_1 17 rfl rfl)
theorem dX4_undo_44 : decode cX4_undo 44 = .ok (.invokestatic 232, 3) := dk_184 0 232 (dk_at dksX4_undo_1 20 rfl rfl)
theorem dX4_undo_47 : decode cX4_undo 47 = .ok (.iconst 1, 1) := dk_4 (dk_at dksX4_undo_1 23 rfl rfl)
theorem dX4_undo_48 : decode cX4_undo 48 = .ok (.ireturn, 1) := dk_172 (dk_at dksX4_undo_2 0 rfl rfl)
abbrev cX4_undoDepth : ByteArray := prog_16_method_93_code
def yX4_undoDepth : MethodName := ⟨RX4, "undoDepth", "()I"⟩
def dkwX4_undoDepth_0 : List UInt8 := [42, 3, 181, 0, 1, 42, 180, 0, 243, 172]
abbrev dktX4_undoDepth_0 : List UInt8 := dkwX4_undoDepth_0 ++ []
theorem dksX4_undoDepth_0 : cX4_undoDepth.data.toList.drop 0 = dktX4_undoDepth_0 := by decide +kernel
theorem dX4_undoDepth_0 : decode cX4_undoDepth 0 = .ok (.aload_n 0, 1) := dk_42 (dk_at dksX4_undoDepth_0 0 rfl rfl)
theorem dX4_undoDepth_1 : decode cX4_undoDepth 1 = .ok (.iconst 0, 1) := dk_3 (dk_at dksX4_undoDepth_0 1 rfl rfl)
theorem dX4_undoDepth_2 : decode cX4_undoDepth 2 = .ok (.putfield 1, 3) := dk_181 0 1 (dk_at dksX4_undoDepth_0 2 rfl rfl)
theorem dX4_undoDepth_5 : decode cX4_undoDepth 5 = .ok (.aload_n 0, 1) := dk_42 (dk_at dksX4_undoDepth_0 5 rfl rfl)
theorem dX4_undoDepth_6 : decode cX4_undoDepth 6 = .ok (.getfield 243, 3) := dk_180 0 243 (dk_at dksX4_undoDepth_0 6 rfl rfl)
theorem dX4_undoDepth_9 : decode cX4_undoDepth 9 = .ok (.ireturn, 1) := dk_172 (dk_at dksX4_undoDepth_0 9 rfl rfl)
abbrev cX4_saveSnapshot : ByteArray := prog_16_method_94_code
def yX4_saveSnapshot : MethodName := ⟨RX4, "saveSnapshot", "(I)Z"⟩
def dkwX4_saveSnapshot_1 : List UInt8 := [180, 0, 97, 17, 0, 213, 27, 104, 17, 0, 213, 184, 0, 232, 42, 180, 0, 100, 27, 4, 84, 4, 172]
abbrev dktX4_saveSnapshot_1 : List UInt8 := dkwX4_saveSnapshot_1 ++ []
def dkwX4_saveSnapshot_0 : List UInt8 := [42, 3, 181, 0, 1, 27, 3, 4, 184, 0, 139, 154, 0, 5, 3, 172, 42, 180, 0, 13, 3, 42]
abbrev dktX4_saveSnapshot_0 : List UInt8 := dkwX4_saveSnapshot_0 ++ dktX4_saveSnapshot_1
theorem dksX4_saveSnapshot_0 : cX4_saveSnapshot.data.toList.drop 0 = dktX4_saveSnapshot_0 := by decide +kernel
theorem dksX4_saveSnapshot_1 : cX4_saveSnapshot.data.toList.drop 22 = dktX4_saveSnapshot_1 := dk_seg dksX4_saveSnapshot_0 22 rfl rfl
theorem dX4_saveSnapshot_0 : decode cX4_saveSnapshot 0 = .ok (.aload_n 0, 1) := dk_42 (dk_at dksX4_saveSnapshot_0 0 rfl rfl)
theorem dX4_saveSnapshot_1 : decode cX4_saveSnapshot 1 = .ok (.iconst 0, 1) := dk_3 (dk_at dksX4_saveSnapshot_0 1 rfl rfl)
theorem dX4_saveSnapshot_2 : decode cX4_saveSnapshot 2 = .ok (.putfield 1, 3) := dk_181 0 1 (dk_at dksX4_saveSnapshot_0 2 rfl rfl)
theorem dX4_saveSnapshot_5 : decode cX4_saveSnapshot 5 = .ok (.iload_n 1, 1) := dk_27 (dk_at dksX4_saveSnapshot_0 5 rfl rfl)
theorem dX4_saveSnapshot_6 : decode cX4_saveSnapshot 6 = .ok (.iconst 0, 1) := dk_3 (dk_at dksX4_saveSnapshot_0 6 rfl rfl)
theorem dX4_saveSnapshot_7 : decode cX4_saveSnapshot 7 = .ok (.iconst 1, 1) := dk_4 (dk_at dksX4_saveSnapshot_0 7 rfl rfl)
theorem dX4_saveSnapshot_8 : decode cX4_saveSnapshot 8 = .ok (.invokestatic 139, 3) := dk_184 0 139 (dk_at dksX4_saveSnapshot_0 8 rfl rfl)
theorem dX4_saveSnapshot_11 : decode cX4_saveSnapshot 11 = .ok (.ifCond .ne 5, 3) := dk_154 0 5 (dk_at dksX4_saveSnapshot_0 11 rfl rfl)
theorem dX4_saveSnapshot_14 : decode cX4_saveSnapshot 14 = .ok (.iconst 0, 1) := dk_3 (dk_at dksX4_saveSnapshot_0 14 rfl rfl)
theorem dX4_saveSnapshot_15 : decode cX4_saveSnapshot 15 = .ok (.ireturn, 1) := dk_172 (dk_at dksX4_saveSnapshot_0 15 rfl rfl)
theorem dX4_saveSnapshot_16 : decode cX4_saveSnapshot 16 = .ok (.aload_n 0, 1) := dk_42 (dk_at dksX4_saveSnapshot_0 16 rfl rfl)
theorem dX4_saveSnapshot_17 : decode cX4_saveSnapshot 17 = .ok (.getfield 13, 3) := dk_180 0 13 (dk_at dksX4_saveSnapshot_0 17 rfl rfl)
theorem dX4_saveSnapshot_20 : decode cX4_saveSnapshot 20 = .ok (.iconst 0, 1) := dk_3 (dk_at dksX4_saveSnapshot_0 20 rfl rfl)
theorem dX4_saveSnapshot_21 : decode cX4_saveSnapshot 21 = .ok (.aload_n 0, 1) := dk_42 (dk_at dksX4_saveSnapshot_0 21 rfl rfl)
theorem dX4_saveSnapshot_22 : decode cX4_saveSnapshot 22 = .ok (.getfield 97, 3) := dk_180 0 97 (dk_at dksX4_saveSnapshot_1 0 rfl rfl)
theorem dX4_saveSnapshot_25 : decode cX4_saveSnapshot 25 = .ok (.sipush 213, 3) := dk_17 0 213 (dk_at dksX4_saveSnapshot_1 3 rfl rfl)
theorem dX4_saveSnapshot_28 : decode cX4_saveSnapshot 28 = .ok (.iload_n 1, 1) := dk_27 (dk_at dksX4_saveSnapshot_1 6 rfl rfl)
theorem dX4_saveSnapshot_29 : decode cX4_saveSnapshot 29 = .ok (.imul, 1) := dk_104 (dk_at dksX4_saveSnapshot_1 7 rfl rfl)
theorem dX4_saveSnapshot_30 : decode cX4_saveSnapshot 30 = .ok (.sipush 213, 3) := dk_17 0 213 (dk_at dksX4_saveSnapshot_1 8 rfl rfl)
theorem dX4_saveSnapshot_33 : decode cX4_saveSnapshot 33 = .ok (.invokestatic 232, 3) := dk_184 0 232 (dk_at dksX4_saveSnapshot_1 11 rfl rfl)
theorem dX4_saveSnapshot_36 : decode cX4_saveSnapshot 36 = .ok (.aload_n 0, 1) := dk_42 (dk_at dksX4_saveSnapshot_1 14 rfl rfl)
theorem dX4_saveSnapshot_37 : decode cX4_saveSnapshot 37 = .ok (.getfield 100, 3) := dk_180 0 100 (dk_at dksX4_saveSnapshot_1 15 rfl rfl)
theorem dX4_saveSnapshot_40 : decode cX4_saveSnapshot 40 = .ok (.iload_n 1, 1) := dk_27 (dk_at dksX4_saveSnapshot_1 18 rfl rfl)
theorem dX4_saveSnapshot_41 : decode cX4_saveSnapshot 41 = .ok (.iconst 1, 1) := dk_4 (dk_at dksX4_saveSnapshot_1 19 rfl rfl)
theorem dX4_saveSnapshot_42 : decode cX4_saveSnapshot 42 = .ok (.bastore, 1) := dk_84 (dk_at dksX4_saveSnapshot_1 20 rfl rfl)
theorem dX4_saveSnapshot_43 : decode cX4_saveSnapshot 43 = .ok (.iconst 1, 1) := dk_4 (dk_at dksX4_saveSnapshot_1 21 rfl rfl)
theorem dX4_saveSnapshot_44 : decode cX4_saveSnapshot 44 = .ok (.ireturn, 1) := dk_172 (dk_at dksX4_saveSnapshot_1 22 rfl rfl)
abbrev cX4_restoreSnapshot : ByteArray := prog_16_method_95_code
def yX4_restoreSnapshot : MethodName := ⟨RX4, "restoreSnapshot", "(I)Z"⟩
def dkwX4_restoreSnapshot_2 : List UInt8 := [181, 0, 243, 4, 172]
abbrev dktX4_restoreSnapshot_2 : List UInt8 := dkwX4_restoreSnapshot_2 ++ []
def dkwX4_restoreSnapshot_1 : List UInt8 := [172, 42, 180, 0, 97, 17, 0, 213, 27, 104, 42, 180, 0, 13, 3, 17, 0, 213, 184, 0, 232, 42, 3]
abbrev dktX4_restoreSnapshot_1 : List UInt8 := dkwX4_restoreSnapshot_1 ++ dktX4_restoreSnapshot_2
def dkwX4_restoreSnapshot_0 : List UInt8 := [42, 3, 181, 0, 1, 27, 3, 4, 184, 0, 139, 153, 0, 12, 42, 180, 0, 100, 27, 51, 154, 0, 5, 3]
abbrev dktX4_restoreSnapshot_0 : List UInt8 := dkwX4_restoreSnapshot_0 ++ dktX4_restoreSnapshot_1
theorem dksX4_restoreSnapshot_0 : cX4_restoreSnapshot.data.toList.drop 0 = dktX4_restoreSnapshot_0 := by decide +kernel
theorem dksX4_restoreSnapshot_1 : cX4_restoreSnapshot.data.toList.drop 24 = dktX4_restoreSnapshot_1 := dk_seg dksX4_restoreSnapshot_0 24 rfl rfl
theorem dksX4_restoreSnapshot_2 : cX4_restoreSnapshot.data.toList.drop 47 = dktX4_restoreSnapshot_2 := dk_seg dksX4_restoreSnapshot_1 23 rfl rfl
theorem dX4_restoreSnapshot_0 : decode cX4_restoreSnapshot 0 = .ok (.aload_n 0, 1) := dk_42 (dk_at dksX4_restoreSnapshot_0 0 rfl rfl)
theorem dX4_restoreSnapshot_1 : decode cX4_restoreSnapshot 1 = .ok (.iconst 0, 1) := dk_3 (dk_at dksX4_restoreSnapshot_0 1 rfl rfl)
theorem dX4_restoreSnapshot_2 : decode cX4_restoreSnapshot 2 = .ok (.putfield 1, 3) := dk_181 0 1 (dk_at dksX4_restoreSnapshot_0 2 rfl rfl)
theorem dX4_restoreSnapshot_5 : decode cX4_restoreSnapshot 5 = .ok (.iload_n 1, 1) := dk_27 (dk_at dksX4_restoreSnapshot_0 5 rfl rfl)
theorem dX4_restoreSnapshot_6 : decode cX4_restoreSnapshot 6 = .ok (.iconst 0, 1) := dk_3 (dk_at dksX4_restoreSnapshot_0 6 rfl rfl)
theorem dX4_restoreSnapshot_7 : decode cX4_restoreSnapshot 7 = .ok (.iconst 1, 1) := dk_4 (dk_at dksX4_restoreSnapshot_0 7 rfl rfl)
theorem dX4_restoreSnapshot_8 : decode cX4_restoreSnapshot 8 = .ok (.invokestatic 139, 3) := dk_184 0 139 (dk_at dksX4_restoreSnapshot_0 8 rfl rfl)
theorem dX4_restoreSnapshot_11 : decode cX4_restoreSnapshot 11 = .ok (.ifCond .eq 12, 3) := dk_153 0 12 (dk_at dksX4_restoreSnapshot_0 11 rfl rfl)
theorem dX4_restoreSnapshot_14 : decode cX4_restoreSnapshot 14 = .ok (.aload_n 0, 1) := dk_42 (dk_at dksX4_restoreSnapshot_0 14 rfl rfl)
theorem dX4_restoreSnapshot_15 : decode cX4_restoreSnapshot 15 = .ok (.getfield 100, 3) := dk_180 0 100 (dk_at dksX4_restoreSnapshot_0 15 rfl rfl)
theorem dX4_restoreSnapshot_18 : decode cX4_restoreSnapshot 18 = .ok (.iload_n 1, 1) := dk_27 (dk_at dksX4_restoreSnapshot_0 18 rfl rfl)
theorem dX4_restoreSnapshot_19 : decode cX4_restoreSnapshot 19 = .ok (.baload, 1) := dk_51 (dk_at dksX4_restoreSnapshot_0 19 rfl rfl)
theorem dX4_restoreSnapshot_20 : decode cX4_restoreSnapshot 20 = .ok (.ifCond .ne 5, 3) := dk_154 0 5 (dk_at dksX4_restoreSnapshot_0 20 rfl rfl)
theorem dX4_restoreSnapshot_23 : decode cX4_restoreSnapshot 23 = .ok (.iconst 0, 1) := dk_3 (dk_at dksX4_restoreSnapshot_0 23 rfl rfl)
theorem dX4_restoreSnapshot_24 : decode cX4_restoreSnapshot 24 = .ok (.ireturn, 1) := dk_172 (dk_at dksX4_restoreSnapshot_1 0 rfl rfl)
theorem dX4_restoreSnapshot_25 : decode cX4_restoreSnapshot 25 = .ok (.aload_n 0, 1) := dk_42 (dk_at dksX4_restoreSnapshot_1 1 rfl rfl)
theorem dX4_restoreSnapshot_26 : decode cX4_restoreSnapshot 26 = .ok (.getfield 97, 3) := dk_180 0 97 (dk_at dksX4_restoreSnapshot_1 2 rfl rfl)
theorem dX4_restoreSnapshot_29 : decode cX4_restoreSnapshot 29 = .ok (.sipush 213, 3) := dk_17 0 213 (dk_at dksX4_restoreSnapshot_1 5 rfl rfl)
theorem dX4_restoreSnapshot_32 : decode cX4_restoreSnapshot 32 = .ok (.iload_n 1, 1) := dk_27 (dk_at dksX4_restoreSnapshot_1 8 rfl rfl)
theorem dX4_restoreSnapshot_33 : decode cX4_restoreSnapshot 33 = .ok (.imul, 1) := dk_104 (dk_at dksX4_restoreSnapshot_1 9 rfl rfl)
theorem dX4_restoreSnapshot_34 : decode cX4_restoreSnapshot 34 = .ok (.aload_n 0, 1) := dk_42 (dk_at dksX4_restoreSnapshot_1 10 rfl rfl)
theorem dX4_restoreSnapshot_35 : decode cX4_restoreSnapshot 35 = .ok (.getfield 13, 3) := dk_180 0 13 (dk_at dksX4_restoreSnapshot_1 11 rfl rfl)
theorem dX4_restoreSnapshot_38 : decode cX4_restoreSnapshot 38 = .ok (.iconst 0, 1) := dk_3 (dk_at dksX4_restoreSnapshot_1 14 rfl rfl)
theorem dX4_restoreSnapshot_39 : decode cX4_restoreSnapshot 39 = .ok (.sipush 213, 3) := dk_17 0 213 (dk_at dksX4_restoreSnapshot_1 15 rfl rfl)
theorem dX4_restoreSnapshot_42 : decode cX4_restoreSnapshot 42 = .ok (.invokestatic 232, 3) := dk_184 0 232 (dk_at dksX4_restoreSnapshot_1 18 rfl rfl)
theorem dX4_restoreSnapshot_45 : decode cX4_restoreSnapshot 45 = .ok (.aload_n 0, 1) := dk_42 (dk_at dksX4_restoreSnapshot_1 21 rfl rfl)
theorem dX4_restoreSnapshot_46 : decode cX4_restoreSnapshot 46 = .ok (.iconst 0, 1) := dk_3 (dk_at dksX4_restoreSnapshot_1 22 rfl rfl)
theorem dX4_restoreSnapshot_47 : decode cX4_restoreSnapshot 47 = .ok (.putfield 243, 3) := dk_181 0 243 (dk_at dksX4_restoreSnapshot_2 0 rfl rfl)
theorem dX4_restoreSnapshot_50 : decode cX4_restoreSnapshot 50 = .ok (.iconst 1, 1) := dk_4 (dk_at dksX4_restoreSnapshot_2 3 rfl rfl)
theorem dX4_restoreSnapshot_51 : decode cX4_restoreSnapshot 51 = .ok (.ireturn, 1) := dk_172 (dk_at dksX4_restoreSnapshot_2 4 rfl rfl)
theorem q106 : (Jvm.Cond.initialized "BalloonMailModel") ∈ lw_all := lw_g (lw_at lw_m1 11 rfl) rfl
theorem q461 : (Jvm.Cond.selects "BalloonMailModel" ({ cls := "java/lang/Object", name := "getClass", desc := "()Ljava/lang/Class;" } : Jvm.MethodName) ({ cls := "java/lang/Object", name := "getClass", desc := "()Ljava/lang/Class;" } : Jvm.MethodName)) ∈ lw_all := lw_g (lw_at lw_m2 126 rfl) rfl
theorem q2139 : (Jvm.Cond.instanceMethod ({ cls := "BalloonMailModel", name := "thrown", desc := "()I" } : Jvm.MethodName)) ∈ lw_all := lw_g (lw_at lw_m9 124 rfl) rfl
theorem q2140 : (Jvm.Cond.selects "BalloonMailModel" ({ cls := "BalloonMailModel", name := "thrown", desc := "()I" } : Jvm.MethodName) ({ cls := "BalloonMailModel", name := "thrown", desc := "()I" } : Jvm.MethodName)) ∈ lw_all := lw_g (lw_at lw_m9 125 rfl) rfl
theorem q2141 : (Jvm.Cond.code ({ cls := "BalloonMailModel", name := "thrown", desc := "()I" } : Jvm.MethodName) prog_16_method_1_code (1 : Nat) (Option.some Jvm.ClassFile.FieldType.int)) ∈ lw_all := lw_g (lw_at lw_m9 126 rfl) rfl
theorem q2143 : (Jvm.Cond.instantiable "BalloonMailModel" (45 : Nat)) ∈ lw_all := lw_g (lw_at lw_m9 128 rfl) rfl
theorem q2145 : (Jvm.Cond.instanceMethod ({ cls := "BalloonMailModel", name := "<init>", desc := "()V" } : Jvm.MethodName)) ∈ lw_all := lw_g (lw_at lw_m9 130 rfl) rfl
theorem q2146 : (Jvm.Cond.code ({ cls := "BalloonMailModel", name := "<init>", desc := "()V" } : Jvm.MethodName) prog_16_method_4_code (1 : Nat) (Option.none : Option Jvm.ClassFile.FieldType)) ∈ lw_all := lw_g (lw_at lw_m9 131 rfl) rfl
theorem q2147 : (Jvm.Cond.methodLink "BalloonMailModel" (7 : Nat) ({ cls := "java/lang/Object", name := "<init>", desc := "()V" } : Jvm.MethodName)) ∈ lw_all := lw_g (lw_at lw_m9 132 rfl) rfl
theorem q2148 : (Jvm.Cond.methodLink "BalloonMailModel" (110 : Nat) ({ cls := "BalloonMailModel", name := "begins", desc := "()V" } : Jvm.MethodName)) ∈ lw_all := lw_g (lw_at lw_m9 133 rfl) rfl
theorem q2149 : (Jvm.Cond.privateMethod ({ cls := "BalloonMailModel", name := "begins", desc := "()V" } : Jvm.MethodName)) ∈ lw_tbl := lw_at lw_m9 134 rfl
theorem q2150 : (Jvm.Cond.instanceMethod ({ cls := "BalloonMailModel", name := "begins", desc := "()V" } : Jvm.MethodName)) ∈ lw_all := lw_g (lw_at lw_m9 135 rfl) rfl
theorem q2151 : (Jvm.Cond.code ({ cls := "BalloonMailModel", name := "begins", desc := "()V" } : Jvm.MethodName) prog_16_method_25_code (2 : Nat) (Option.none : Option Jvm.ClassFile.FieldType)) ∈ lw_all := lw_g (lw_at lw_m9 136 rfl) rfl
theorem q2152 : (Jvm.Cond.fieldLink "BalloonMailModel" (1 : Nat) "BalloonMailModel" "thrown" "I") ∈ lw_all := lw_g (lw_at lw_m9 137 rfl) rfl
theorem q2153 : (Jvm.Cond.fieldLink "BalloonMailModel" (13 : Nat) "BalloonMailModel" "now" "[I") ∈ lw_all := lw_g (lw_at lw_m9 138 rfl) rfl
theorem q2154 : (Jvm.Cond.fieldLink "BalloonMailModel" (17 : Nat) "BalloonMailModel" "regions" "[I") ∈ lw_all := lw_g (lw_at lw_m9 139 rfl) rfl
theorem q2155 : (Jvm.Cond.fieldLink "BalloonMailModel" (20 : Nat) "BalloonMailModel" "risk" "[I") ∈ lw_all := lw_g (lw_at lw_m9 140 rfl) rfl
theorem q2156 : (Jvm.Cond.fieldLink "BalloonMailModel" (23 : Nat) "BalloonMailModel" "distance" "[I") ∈ lw_all := lw_g (lw_at lw_m9 141 rfl) rfl
theorem q2157 : (Jvm.Cond.fieldLink "BalloonMailModel" (26 : Nat) "BalloonMailModel" "comesBack" "[I") ∈ lw_all := lw_g (lw_at lw_m9 142 rfl) rfl
theorem q2158 : (Jvm.Cond.fieldLink "BalloonMailModel" (29 : Nat) "BalloonMailModel" "winds" "[I") ∈ lw_all := lw_g (lw_at lw_m9 143 rfl) rfl
theorem q2159 : (Jvm.Cond.fieldLink "BalloonMailModel" (32 : Nat) "BalloonMailModel" "named" "[I") ∈ lw_all := lw_g (lw_at lw_m9 144 rfl) rfl
theorem q2160 : (Jvm.Cond.fieldLink "BalloonMailModel" (35 : Nat) "BalloonMailModel" "namedRegion" "[I") ∈ lw_all := lw_g (lw_at lw_m9 145 rfl) rfl
theorem q2161 : (Jvm.Cond.fieldLink "BalloonMailModel" (38 : Nat) "BalloonMailModel" "namedWeight" "[I") ∈ lw_all := lw_g (lw_at lw_m9 146 rfl) rfl
theorem q2162 : (Jvm.Cond.fieldLink "BalloonMailModel" (41 : Nat) "BalloonMailModel" "turns" "[I") ∈ lw_all := lw_g (lw_at lw_m9 147 rfl) rfl
theorem q2163 : (Jvm.Cond.fieldLink "BalloonMailModel" (44 : Nat) "BalloonMailModel" "turnFrom" "[I") ∈ lw_all := lw_g (lw_at lw_m9 148 rfl) rfl
theorem q2164 : (Jvm.Cond.fieldLink "BalloonMailModel" (47 : Nat) "BalloonMailModel" "turnTo" "[I") ∈ lw_all := lw_g (lw_at lw_m9 149 rfl) rfl
theorem q2165 : (Jvm.Cond.fieldLink "BalloonMailModel" (50 : Nat) "BalloonMailModel" "turnWeight" "[I") ∈ lw_all := lw_g (lw_at lw_m9 150 rfl) rfl
theorem q2166 : (Jvm.Cond.fieldLink "BalloonMailModel" (53 : Nat) "BalloonMailModel" "balloons" "[I") ∈ lw_all := lw_g (lw_at lw_m9 151 rfl) rfl
theorem q2167 : (Jvm.Cond.fieldLink "BalloonMailModel" (56 : Nat) "BalloonMailModel" "room" "[I") ∈ lw_all := lw_g (lw_at lw_m9 152 rfl) rfl
theorem q2168 : (Jvm.Cond.fieldLink "BalloonMailModel" (59 : Nat) "BalloonMailModel" "pigeons" "[I") ∈ lw_all := lw_g (lw_at lw_m9 153 rfl) rfl
theorem q2169 : (Jvm.Cond.fieldLink "BalloonMailModel" (62 : Nat) "BalloonMailModel" "letters" "[I") ∈ lw_all := lw_g (lw_at lw_m9 154 rfl) rfl
theorem q2170 : (Jvm.Cond.fieldLink "BalloonMailModel" (65 : Nat) "BalloonMailModel" "weight" "[I") ∈ lw_all := lw_g (lw_at lw_m9 155 rfl) rfl
theorem q2171 : (Jvm.Cond.fieldLink "BalloonMailModel" (68 : Nat) "BalloonMailModel" "priority" "[I") ∈ lw_all := lw_g (lw_at lw_m9 156 rfl) rfl
theorem q2172 : (Jvm.Cond.fieldLink "BalloonMailModel" (104 : Nat) "BalloonMailModel" "loftSize" "I") ∈ lw_all := lw_g (lw_at lw_m9 157 rfl) rfl
theorem q2173 : (Jvm.Cond.fieldLink "BalloonMailModel" (240 : Nat) "BalloonMailModel" "startWind" "I") ∈ lw_all := lw_g (lw_at lw_m9 158 rfl) rfl
theorem q2174 : (Jvm.Cond.fieldLink "BalloonMailModel" (107 : Nat) "BalloonMailModel" "seed" "I") ∈ lw_all := lw_g (lw_at lw_m9 159 rfl) rfl
theorem q2175 : (Jvm.Cond.fieldLink "BalloonMailModel" (182 : Nat) "BalloonMailModel" "draftLoft" "I") ∈ lw_all := lw_g (lw_at lw_m9 160 rfl) rfl
theorem q2176 : (Jvm.Cond.fieldLink "BalloonMailModel" (190 : Nat) "BalloonMailModel" "draftStart" "I") ∈ lw_all := lw_g (lw_at lw_m9 161 rfl) rfl
theorem q2177 : (Jvm.Cond.fieldLink "BalloonMailModel" (194 : Nat) "BalloonMailModel" "draftSeed" "I") ∈ lw_all := lw_g (lw_at lw_m9 162 rfl) rfl
theorem q2178 : (Jvm.Cond.fieldLink "BalloonMailModel" (71 : Nat) "BalloonMailModel" "text" "[B") ∈ lw_all := lw_g (lw_at lw_m9 163 rfl) rfl
theorem q2179 : (Jvm.Cond.fieldLink "BalloonMailModel" (113 : Nat) "BalloonMailModel" "length" "I") ∈ lw_all := lw_g (lw_at lw_m9 164 rfl) rfl
theorem q2180 : (Jvm.Cond.fieldLink "BalloonMailModel" (120 : Nat) "BalloonMailModel" "textSize" "I") ∈ lw_all := lw_g (lw_at lw_m9 165 rfl) rfl
theorem q2181 : (Jvm.Cond.fieldLink "BalloonMailModel" (130 : Nat) "BalloonMailModel" "start" "I") ∈ lw_all := lw_g (lw_at lw_m9 166 rfl) rfl
theorem q2182 : (Jvm.Cond.fieldLink "BalloonMailModel" (123 : Nat) "BalloonMailModel" "next" "I") ∈ lw_all := lw_g (lw_at lw_m9 167 rfl) rfl
theorem q2183 : (Jvm.Cond.fieldLink "BalloonMailModel" (136 : Nat) "BalloonMailModel" "token" "I") ∈ lw_all := lw_g (lw_at lw_m9 168 rfl) rfl
theorem q2184 : (Jvm.Cond.fieldLink "BalloonMailModel" (133 : Nat) "BalloonMailModel" "value" "I") ∈ lw_all := lw_g (lw_at lw_m9 169 rfl) rfl
theorem q2185 : (Jvm.Cond.fieldLink "BalloonMailModel" (152 : Nat) "BalloonMailModel" "error" "I") ∈ lw_all := lw_g (lw_at lw_m9 170 rfl) rfl
theorem q2186 : (Jvm.Cond.fieldLink "BalloonMailModel" (75 : Nat) "BalloonMailModel" "errorAt" "I") ∈ lw_all := lw_g (lw_at lw_m9 171 rfl) rfl
theorem q2187 : (Jvm.Cond.fieldLink "BalloonMailModel" (159 : Nat) "BalloonMailModel" "number" "I") ∈ lw_all := lw_g (lw_at lw_m9 172 rfl) rfl
theorem q2188 : (Jvm.Cond.fieldLink "BalloonMailModel" (78 : Nat) "BalloonMailModel" "chance" "[J") ∈ lw_all := lw_g (lw_at lw_m9 173 rfl) rfl
theorem q2189 : (Jvm.Cond.fieldLink "BalloonMailModel" (82 : Nat) "BalloonMailModel" "chanceNext" "[J") ∈ lw_all := lw_g (lw_at lw_m9 174 rfl) rfl
theorem q2190 : (Jvm.Cond.fieldLink "BalloonMailModel" (85 : Nat) "BalloonMailModel" "total" "[J") ∈ lw_all := lw_g (lw_at lw_m9 175 rfl) rfl
theorem q2191 : (Jvm.Cond.fieldLink "BalloonMailModel" (88 : Nat) "BalloonMailModel" "worth" "[J") ∈ lw_all := lw_g (lw_at lw_m9 176 rfl) rfl
theorem q2192 : (Jvm.Cond.fieldLink "BalloonMailModel" (91 : Nat) "BalloonMailModel" "best" "[I") ∈ lw_all := lw_g (lw_at lw_m9 177 rfl) rfl
theorem q2193 : (Jvm.Cond.fieldLink "BalloonMailModel" (243 : Nat) "BalloonMailModel" "undos" "I") ∈ lw_all := lw_g (lw_at lw_m9 178 rfl) rfl
theorem q2194 : (Jvm.Cond.fieldLink "BalloonMailModel" (94 : Nat) "BalloonMailModel" "undo" "[I") ∈ lw_all := lw_g (lw_at lw_m9 179 rfl) rfl
theorem q2195 : (Jvm.Cond.fieldLink "BalloonMailModel" (97 : Nat) "BalloonMailModel" "slots" "[I") ∈ lw_all := lw_g (lw_at lw_m9 180 rfl) rfl
theorem q2196 : (Jvm.Cond.fieldLink "BalloonMailModel" (100 : Nat) "BalloonMailModel" "isSaved" "[Z") ∈ lw_all := lw_g (lw_at lw_m9 181 rfl) rfl
theorem q2197 : (Jvm.Cond.lays "BalloonMailModel" "BalloonMailModel" "thrown" "I") ∈ lw_all := lw_g (lw_at lw_m9 182 rfl) rfl
theorem q2198 : (Jvm.Cond.soleField "BalloonMailModel" "thrown") ∈ lw_all := lw_g (lw_at lw_m9 183 rfl) rfl
theorem q2199 : (Jvm.Cond.laysFinal "BalloonMailModel" "BalloonMailModel" "now" "[I") ∈ lw_all := lw_g (lw_at lw_m9 184 rfl) rfl
theorem q2200 : (Jvm.Cond.soleField "BalloonMailModel" "now") ∈ lw_all := lw_g (lw_at lw_m9 185 rfl) rfl
theorem q2201 : (Jvm.Cond.laysFinal "BalloonMailModel" "BalloonMailModel" "regions" "[I") ∈ lw_all := lw_g (lw_at lw_m9 186 rfl) rfl
theorem q2202 : (Jvm.Cond.soleField "BalloonMailModel" "regions") ∈ lw_all := lw_g (lw_at lw_m9 187 rfl) rfl
theorem q2203 : (Jvm.Cond.laysFinal "BalloonMailModel" "BalloonMailModel" "risk" "[I") ∈ lw_all := lw_g (lw_at lw_m9 188 rfl) rfl
theorem q2204 : (Jvm.Cond.soleField "BalloonMailModel" "risk") ∈ lw_all := lw_g (lw_at lw_m9 189 rfl) rfl
theorem q2205 : (Jvm.Cond.laysFinal "BalloonMailModel" "BalloonMailModel" "distance" "[I") ∈ lw_all := lw_g (lw_at lw_m9 190 rfl) rfl
theorem q2206 : (Jvm.Cond.soleField "BalloonMailModel" "distance") ∈ lw_all := lw_g (lw_at lw_m9 191 rfl) rfl
theorem q2207 : (Jvm.Cond.laysFinal "BalloonMailModel" "BalloonMailModel" "comesBack" "[I") ∈ lw_all := lw_g (lw_at lw_m9 192 rfl) rfl
theorem q2208 : (Jvm.Cond.soleField "BalloonMailModel" "comesBack") ∈ lw_all := lw_g (lw_at lw_m9 193 rfl) rfl
theorem q2209 : (Jvm.Cond.laysFinal "BalloonMailModel" "BalloonMailModel" "winds" "[I") ∈ lw_all := lw_g (lw_at lw_m9 194 rfl) rfl
theorem q2210 : (Jvm.Cond.soleField "BalloonMailModel" "winds") ∈ lw_all := lw_g (lw_at lw_m9 195 rfl) rfl
theorem q2211 : (Jvm.Cond.laysFinal "BalloonMailModel" "BalloonMailModel" "named" "[I") ∈ lw_all := lw_g (lw_at lw_m9 196 rfl) rfl
theorem q2212 : (Jvm.Cond.soleField "BalloonMailModel" "named") ∈ lw_all := lw_g (lw_at lw_m9 197 rfl) rfl
theorem q2213 : (Jvm.Cond.laysFinal "BalloonMailModel" "BalloonMailModel" "namedRegion" "[I") ∈ lw_all := lw_g (lw_at lw_m9 198 rfl) rfl
theorem q2214 : (Jvm.Cond.soleField "BalloonMailModel" "namedRegion") ∈ lw_all := lw_g (lw_at lw_m9 199 rfl) rfl
theorem q2215 : (Jvm.Cond.laysFinal "BalloonMailModel" "BalloonMailModel" "namedWeight" "[I") ∈ lw_all := lw_g (lw_at lw_m9 200 rfl) rfl
theorem q2216 : (Jvm.Cond.soleField "BalloonMailModel" "namedWeight") ∈ lw_all := lw_g (lw_at lw_m9 201 rfl) rfl
theorem q2217 : (Jvm.Cond.laysFinal "BalloonMailModel" "BalloonMailModel" "turns" "[I") ∈ lw_all := lw_g (lw_at lw_m9 202 rfl) rfl
theorem q2218 : (Jvm.Cond.soleField "BalloonMailModel" "turns") ∈ lw_all := lw_g (lw_at lw_m9 203 rfl) rfl
theorem q2219 : (Jvm.Cond.laysFinal "BalloonMailModel" "BalloonMailModel" "turnFrom" "[I") ∈ lw_all := lw_g (lw_at lw_m9 204 rfl) rfl
theorem q2220 : (Jvm.Cond.soleField "BalloonMailModel" "turnFrom") ∈ lw_all := lw_g (lw_at lw_m9 205 rfl) rfl
theorem q2221 : (Jvm.Cond.laysFinal "BalloonMailModel" "BalloonMailModel" "turnTo" "[I") ∈ lw_all := lw_g (lw_at lw_m9 206 rfl) rfl
theorem q2222 : (Jvm.Cond.soleField "BalloonMailModel" "turnTo") ∈ lw_all := lw_g (lw_at lw_m9 207 rfl) rfl
theorem q2223 : (Jvm.Cond.laysFinal "BalloonMailModel" "BalloonMailModel" "turnWeight" "[I") ∈ lw_all := lw_g (lw_at lw_m9 208 rfl) rfl
theorem q2224 : (Jvm.Cond.soleField "BalloonMailModel" "turnWeight") ∈ lw_all := lw_g (lw_at lw_m9 209 rfl) rfl
theorem q2225 : (Jvm.Cond.laysFinal "BalloonMailModel" "BalloonMailModel" "balloons" "[I") ∈ lw_all := lw_g (lw_at lw_m9 210 rfl) rfl
theorem q2226 : (Jvm.Cond.soleField "BalloonMailModel" "balloons") ∈ lw_all := lw_g (lw_at lw_m9 211 rfl) rfl
theorem q2227 : (Jvm.Cond.laysFinal "BalloonMailModel" "BalloonMailModel" "room" "[I") ∈ lw_all := lw_g (lw_at lw_m9 212 rfl) rfl
theorem q2228 : (Jvm.Cond.soleField "BalloonMailModel" "room") ∈ lw_all := lw_g (lw_at lw_m9 213 rfl) rfl
theorem q2229 : (Jvm.Cond.laysFinal "BalloonMailModel" "BalloonMailModel" "pigeons" "[I") ∈ lw_all := lw_g (lw_at lw_m9 214 rfl) rfl
theorem q2230 : (Jvm.Cond.soleField "BalloonMailModel" "pigeons") ∈ lw_all := lw_g (lw_at lw_m9 215 rfl) rfl
theorem q2231 : (Jvm.Cond.laysFinal "BalloonMailModel" "BalloonMailModel" "letters" "[I") ∈ lw_all := lw_g (lw_at lw_m9 216 rfl) rfl
theorem q2232 : (Jvm.Cond.soleField "BalloonMailModel" "letters") ∈ lw_all := lw_g (lw_at lw_m9 217 rfl) rfl
theorem q2233 : (Jvm.Cond.laysFinal "BalloonMailModel" "BalloonMailModel" "weight" "[I") ∈ lw_all := lw_g (lw_at lw_m9 218 rfl) rfl
theorem q2234 : (Jvm.Cond.soleField "BalloonMailModel" "weight") ∈ lw_all := lw_g (lw_at lw_m9 219 rfl) rfl
theorem q2235 : (Jvm.Cond.laysFinal "BalloonMailModel" "BalloonMailModel" "priority" "[I") ∈ lw_all := lw_g (lw_at lw_m9 220 rfl) rfl
theorem q2236 : (Jvm.Cond.soleField "BalloonMailModel" "priority") ∈ lw_all := lw_g (lw_at lw_m9 221 rfl) rfl
theorem q2237 : (Jvm.Cond.lays "BalloonMailModel" "BalloonMailModel" "loftSize" "I") ∈ lw_all := lw_g (lw_at lw_m9 222 rfl) rfl
theorem q2238 : (Jvm.Cond.soleField "BalloonMailModel" "loftSize") ∈ lw_all := lw_g (lw_at lw_m9 223 rfl) rfl
theorem q2239 : (Jvm.Cond.lays "BalloonMailModel" "BalloonMailModel" "startWind" "I") ∈ lw_all := lw_g (lw_at lw_m9 224 rfl) rfl
theorem q2240 : (Jvm.Cond.soleField "BalloonMailModel" "startWind") ∈ lw_all := lw_g (lw_at lw_m9 225 rfl) rfl
theorem q2241 : (Jvm.Cond.lays "BalloonMailModel" "BalloonMailModel" "seed" "I") ∈ lw_all := lw_g (lw_at lw_m9 226 rfl) rfl
theorem q2242 : (Jvm.Cond.soleField "BalloonMailModel" "seed") ∈ lw_all := lw_g (lw_at lw_m9 227 rfl) rfl
theorem q2243 : (Jvm.Cond.lays "BalloonMailModel" "BalloonMailModel" "draftLoft" "I") ∈ lw_all := lw_g (lw_at lw_m9 228 rfl) rfl
theorem q2244 : (Jvm.Cond.soleField "BalloonMailModel" "draftLoft") ∈ lw_all := lw_g (lw_at lw_m9 229 rfl) rfl
theorem q2245 : (Jvm.Cond.lays "BalloonMailModel" "BalloonMailModel" "draftStart" "I") ∈ lw_all := lw_g (lw_at lw_m9 230 rfl) rfl
theorem q2246 : (Jvm.Cond.soleField "BalloonMailModel" "draftStart") ∈ lw_all := lw_g (lw_at lw_m9 231 rfl) rfl
theorem q2247 : (Jvm.Cond.lays "BalloonMailModel" "BalloonMailModel" "draftSeed" "I") ∈ lw_all := lw_g (lw_at lw_m9 232 rfl) rfl
theorem q2248 : (Jvm.Cond.soleField "BalloonMailModel" "draftSeed") ∈ lw_all := lw_g (lw_at lw_m9 233 rfl) rfl
theorem q2249 : (Jvm.Cond.laysFinal "BalloonMailModel" "BalloonMailModel" "text" "[B") ∈ lw_all := lw_g (lw_at lw_m9 234 rfl) rfl
theorem q2250 : (Jvm.Cond.soleField "BalloonMailModel" "text") ∈ lw_all := lw_g (lw_at lw_m9 235 rfl) rfl
theorem q2251 : (Jvm.Cond.lays "BalloonMailModel" "BalloonMailModel" "length" "I") ∈ lw_all := lw_g (lw_at lw_m9 236 rfl) rfl
theorem q2252 : (Jvm.Cond.soleField "BalloonMailModel" "length") ∈ lw_all := lw_g (lw_at lw_m9 237 rfl) rfl
theorem q2253 : (Jvm.Cond.lays "BalloonMailModel" "BalloonMailModel" "textSize" "I") ∈ lw_all := lw_g (lw_at lw_m9 238 rfl) rfl
theorem q2254 : (Jvm.Cond.soleField "BalloonMailModel" "textSize") ∈ lw_all := lw_g (lw_at lw_m9 239 rfl) rfl
theorem q2255 : (Jvm.Cond.lays "BalloonMailModel" "BalloonMailModel" "start" "I") ∈ lw_all := lw_g (lw_at lw_m10 0 rfl) rfl
theorem q2256 : (Jvm.Cond.soleField "BalloonMailModel" "start") ∈ lw_all := lw_g (lw_at lw_m10 1 rfl) rfl
theorem q2257 : (Jvm.Cond.lays "BalloonMailModel" "BalloonMailModel" "next" "I") ∈ lw_all := lw_g (lw_at lw_m10 2 rfl) rfl
theorem q2258 : (Jvm.Cond.soleField "BalloonMailModel" "next") ∈ lw_all := lw_g (lw_at lw_m10 3 rfl) rfl
theorem q2259 : (Jvm.Cond.lays "BalloonMailModel" "BalloonMailModel" "token" "I") ∈ lw_all := lw_g (lw_at lw_m10 4 rfl) rfl
theorem q2260 : (Jvm.Cond.soleField "BalloonMailModel" "token") ∈ lw_all := lw_g (lw_at lw_m10 5 rfl) rfl
theorem q2261 : (Jvm.Cond.lays "BalloonMailModel" "BalloonMailModel" "value" "I") ∈ lw_all := lw_g (lw_at lw_m10 6 rfl) rfl
theorem q2262 : (Jvm.Cond.soleField "BalloonMailModel" "value") ∈ lw_all := lw_g (lw_at lw_m10 7 rfl) rfl
theorem q2263 : (Jvm.Cond.lays "BalloonMailModel" "BalloonMailModel" "error" "I") ∈ lw_all := lw_g (lw_at lw_m10 8 rfl) rfl
theorem q2264 : (Jvm.Cond.soleField "BalloonMailModel" "error") ∈ lw_all := lw_g (lw_at lw_m10 9 rfl) rfl
theorem q2265 : (Jvm.Cond.lays "BalloonMailModel" "BalloonMailModel" "errorAt" "I") ∈ lw_all := lw_g (lw_at lw_m10 10 rfl) rfl
theorem q2266 : (Jvm.Cond.soleField "BalloonMailModel" "errorAt") ∈ lw_all := lw_g (lw_at lw_m10 11 rfl) rfl
theorem q2267 : (Jvm.Cond.lays "BalloonMailModel" "BalloonMailModel" "number" "I") ∈ lw_all := lw_g (lw_at lw_m10 12 rfl) rfl
theorem q2268 : (Jvm.Cond.soleField "BalloonMailModel" "number") ∈ lw_all := lw_g (lw_at lw_m10 13 rfl) rfl
theorem q2269 : (Jvm.Cond.laysFinal "BalloonMailModel" "BalloonMailModel" "chance" "[J") ∈ lw_all := lw_g (lw_at lw_m10 14 rfl) rfl
theorem q2270 : (Jvm.Cond.soleField "BalloonMailModel" "chance") ∈ lw_all := lw_g (lw_at lw_m10 15 rfl) rfl
theorem q2271 : (Jvm.Cond.laysFinal "BalloonMailModel" "BalloonMailModel" "chanceNext" "[J") ∈ lw_all := lw_g (lw_at lw_m10 16 rfl) rfl
theorem q2272 : (Jvm.Cond.soleField "BalloonMailModel" "chanceNext") ∈ lw_all := lw_g (lw_at lw_m10 17 rfl) rfl
theorem q2273 : (Jvm.Cond.laysFinal "BalloonMailModel" "BalloonMailModel" "total" "[J") ∈ lw_all := lw_g (lw_at lw_m10 18 rfl) rfl
theorem q2274 : (Jvm.Cond.soleField "BalloonMailModel" "total") ∈ lw_all := lw_g (lw_at lw_m10 19 rfl) rfl
theorem q2275 : (Jvm.Cond.laysFinal "BalloonMailModel" "BalloonMailModel" "worth" "[J") ∈ lw_all := lw_g (lw_at lw_m10 20 rfl) rfl
theorem q2276 : (Jvm.Cond.soleField "BalloonMailModel" "worth") ∈ lw_all := lw_g (lw_at lw_m10 21 rfl) rfl
theorem q2277 : (Jvm.Cond.laysFinal "BalloonMailModel" "BalloonMailModel" "best" "[I") ∈ lw_all := lw_g (lw_at lw_m10 22 rfl) rfl
theorem q2278 : (Jvm.Cond.soleField "BalloonMailModel" "best") ∈ lw_all := lw_g (lw_at lw_m10 23 rfl) rfl
theorem q2279 : (Jvm.Cond.lays "BalloonMailModel" "BalloonMailModel" "undos" "I") ∈ lw_all := lw_g (lw_at lw_m10 24 rfl) rfl
theorem q2280 : (Jvm.Cond.soleField "BalloonMailModel" "undos") ∈ lw_all := lw_g (lw_at lw_m10 25 rfl) rfl
theorem q2281 : (Jvm.Cond.laysFinal "BalloonMailModel" "BalloonMailModel" "undo" "[I") ∈ lw_all := lw_g (lw_at lw_m10 26 rfl) rfl
theorem q2282 : (Jvm.Cond.soleField "BalloonMailModel" "undo") ∈ lw_all := lw_g (lw_at lw_m10 27 rfl) rfl
theorem q2283 : (Jvm.Cond.laysFinal "BalloonMailModel" "BalloonMailModel" "slots" "[I") ∈ lw_all := lw_g (lw_at lw_m10 28 rfl) rfl
theorem q2284 : (Jvm.Cond.soleField "BalloonMailModel" "slots") ∈ lw_all := lw_g (lw_at lw_m10 29 rfl) rfl
theorem q2285 : (Jvm.Cond.laysFinal "BalloonMailModel" "BalloonMailModel" "isSaved" "[Z") ∈ lw_all := lw_g (lw_at lw_m10 30 rfl) rfl
theorem q2286 : (Jvm.Cond.soleField "BalloonMailModel" "isSaved") ∈ lw_all := lw_g (lw_at lw_m10 31 rfl) rfl
theorem q2287 : (Jvm.Cond.superclass "BalloonMailModel" "java/lang/Object") ∈ lw_all := lw_g (lw_at lw_m10 32 rfl) rfl
theorem q2290 : (Jvm.Cond.instanceMethod ({ cls := "BalloonMailModel", name := "append", desc := "(IIIII)I" } : Jvm.MethodName)) ∈ lw_all := lw_g (lw_at lw_m10 35 rfl) rfl
theorem q2291 : (Jvm.Cond.selects "BalloonMailModel" ({ cls := "BalloonMailModel", name := "append", desc := "(IIIII)I" } : Jvm.MethodName) ({ cls := "BalloonMailModel", name := "append", desc := "(IIIII)I" } : Jvm.MethodName)) ∈ lw_all := lw_g (lw_at lw_m10 36 rfl) rfl
theorem q2292 : (Jvm.Cond.code ({ cls := "BalloonMailModel", name := "append", desc := "(IIIII)I" } : Jvm.MethodName) prog_16_method_5_code (6 : Nat) (Option.some Jvm.ClassFile.FieldType.int)) ∈ lw_all := lw_g (lw_at lw_m10 37 rfl) rfl
theorem q2293 : (Jvm.Cond.methodLink "BalloonMailModel" (116 : Nat) ({ cls := "BalloonMailModel", name := "bytesOf", desc := "(I)V" } : Jvm.MethodName)) ∈ lw_all := lw_g (lw_at lw_m10 38 rfl) rfl
theorem q2294 : (Jvm.Cond.privateMethod ({ cls := "BalloonMailModel", name := "bytesOf", desc := "(I)V" } : Jvm.MethodName)) ∈ lw_tbl := lw_at lw_m10 39 rfl
theorem q2295 : (Jvm.Cond.instanceMethod ({ cls := "BalloonMailModel", name := "bytesOf", desc := "(I)V" } : Jvm.MethodName)) ∈ lw_all := lw_g (lw_at lw_m10 40 rfl) rfl
theorem q2296 : (Jvm.Cond.code ({ cls := "BalloonMailModel", name := "bytesOf", desc := "(I)V" } : Jvm.MethodName) prog_16_method_6_code (3 : Nat) (Option.none : Option Jvm.ClassFile.FieldType)) ∈ lw_all := lw_g (lw_at lw_m10 41 rfl) rfl
theorem q2298 : (Jvm.Cond.instanceMethod ({ cls := "BalloonMailModel", name := "parse", desc := "(I)I" } : Jvm.MethodName)) ∈ lw_all := lw_g (lw_at lw_m10 43 rfl) rfl
theorem q2299 : (Jvm.Cond.selects "BalloonMailModel" ({ cls := "BalloonMailModel", name := "parse", desc := "(I)I" } : Jvm.MethodName) ({ cls := "BalloonMailModel", name := "parse", desc := "(I)I" } : Jvm.MethodName)) ∈ lw_all := lw_g (lw_at lw_m10 44 rfl) rfl
theorem q2300 : (Jvm.Cond.code ({ cls := "BalloonMailModel", name := "parse", desc := "(I)I" } : Jvm.MethodName) prog_16_method_21_code (3 : Nat) (Option.some Jvm.ClassFile.FieldType.int)) ∈ lw_all := lw_g (lw_at lw_m10 45 rfl) rfl
theorem q2301 : (Jvm.Cond.methodLink "BalloonMailModel" (139 : Nat) ({ cls := "BalloonMailModel", name := "within", desc := "(III)Z" } : Jvm.MethodName)) ∈ lw_all := lw_g (lw_at lw_m10 46 rfl) rfl
theorem q2302 : (Jvm.Cond.static ({ cls := "BalloonMailModel", name := "within", desc := "(III)Z" } : Jvm.MethodName)) ∈ lw_all := lw_g (lw_at lw_m10 47 rfl) rfl
theorem q2303 : (Jvm.Cond.code ({ cls := "BalloonMailModel", name := "within", desc := "(III)Z" } : Jvm.MethodName) prog_16_method_2_code (3 : Nat) (Option.some Jvm.ClassFile.FieldType.boolean)) ∈ lw_all := lw_g (lw_at lw_m10 48 rfl) rfl
theorem q2304 : (Jvm.Cond.methodLink "BalloonMailModel" (162 : Nat) ({ cls := "BalloonMailModel", name := "advance", desc := "()V" } : Jvm.MethodName)) ∈ lw_all := lw_g (lw_at lw_m10 49 rfl) rfl
theorem q2305 : (Jvm.Cond.privateMethod ({ cls := "BalloonMailModel", name := "advance", desc := "()V" } : Jvm.MethodName)) ∈ lw_tbl := lw_at lw_m10 50 rfl
theorem q2306 : (Jvm.Cond.instanceMethod ({ cls := "BalloonMailModel", name := "advance", desc := "()V" } : Jvm.MethodName)) ∈ lw_all := lw_g (lw_at lw_m10 51 rfl) rfl
theorem q2307 : (Jvm.Cond.code ({ cls := "BalloonMailModel", name := "advance", desc := "()V" } : Jvm.MethodName) prog_16_method_8_code (2 : Nat) (Option.none : Option Jvm.ClassFile.FieldType)) ∈ lw_all := lw_g (lw_at lw_m10 52 rfl) rfl
theorem q2308 : (Jvm.Cond.methodLink "BalloonMailModel" (126 : Nat) ({ cls := "BalloonMailModel", name := "byteAt", desc := "(I)I" } : Jvm.MethodName)) ∈ lw_all := lw_g (lw_at lw_m10 53 rfl) rfl
theorem q2309 : (Jvm.Cond.privateMethod ({ cls := "BalloonMailModel", name := "byteAt", desc := "(I)I" } : Jvm.MethodName)) ∈ lw_tbl := lw_at lw_m10 54 rfl
theorem q2310 : (Jvm.Cond.instanceMethod ({ cls := "BalloonMailModel", name := "byteAt", desc := "(I)I" } : Jvm.MethodName)) ∈ lw_all := lw_g (lw_at lw_m10 55 rfl) rfl
theorem q2311 : (Jvm.Cond.code ({ cls := "BalloonMailModel", name := "byteAt", desc := "(I)I" } : Jvm.MethodName) prog_16_method_7_code (2 : Nat) (Option.some Jvm.ClassFile.FieldType.int)) ∈ lw_all := lw_g (lw_at lw_m10 56 rfl) rfl
theorem q2312 : (Jvm.Cond.methodLink "BalloonMailModel" (226 : Nat) ({ cls := "BalloonMailModel", name := "statement", desc := "()Z" } : Jvm.MethodName)) ∈ lw_all := lw_g (lw_at lw_m10 57 rfl) rfl
theorem q2313 : (Jvm.Cond.privateMethod ({ cls := "BalloonMailModel", name := "statement", desc := "()Z" } : Jvm.MethodName)) ∈ lw_tbl := lw_at lw_m10 58 rfl
theorem q2314 : (Jvm.Cond.instanceMethod ({ cls := "BalloonMailModel", name := "statement", desc := "()Z" } : Jvm.MethodName)) ∈ lw_all := lw_g (lw_at lw_m10 59 rfl) rfl
theorem q2315 : (Jvm.Cond.code ({ cls := "BalloonMailModel", name := "statement", desc := "()Z" } : Jvm.MethodName) prog_16_method_20_code (2 : Nat) (Option.some Jvm.ClassFile.FieldType.boolean)) ∈ lw_all := lw_g (lw_at lw_m10 60 rfl) rfl
theorem q2316 : (Jvm.Cond.stringRef "BalloonMailModel" (197 : Nat) "region") ∈ lw_tbl := lw_at lw_m10 61 rfl
theorem q2317 : (Jvm.Cond.methodLink "BalloonMailModel" (178 : Nat) ({ cls := "BalloonMailModel", name := "isWord", desc := "(Ljava/lang/String;)Z" } : Jvm.MethodName)) ∈ lw_all := lw_g (lw_at lw_m10 62 rfl) rfl
theorem q2318 : (Jvm.Cond.privateMethod ({ cls := "BalloonMailModel", name := "isWord", desc := "(Ljava/lang/String;)Z" } : Jvm.MethodName)) ∈ lw_tbl := lw_at lw_m10 63 rfl
theorem q2319 : (Jvm.Cond.instanceMethod ({ cls := "BalloonMailModel", name := "isWord", desc := "(Ljava/lang/String;)Z" } : Jvm.MethodName)) ∈ lw_all := lw_g (lw_at lw_m10 64 rfl) rfl
theorem q2320 : (Jvm.Cond.code ({ cls := "BalloonMailModel", name := "isWord", desc := "(Ljava/lang/String;)Z" } : Jvm.MethodName) prog_16_method_9_code (4 : Nat) (Option.some Jvm.ClassFile.FieldType.boolean)) ∈ lw_all := lw_g (lw_at lw_m10 65 rfl) rfl
theorem q2321 : (Jvm.Cond.methodLink "BalloonMailModel" (143 : Nat) ({ cls := "java/lang/String", name := "length", desc := "()I" } : Jvm.MethodName)) ∈ lw_all := lw_g (lw_at lw_m10 66 rfl) rfl
theorem q2322 : (Jvm.Cond.methodLink "BalloonMailModel" (148 : Nat) ({ cls := "java/lang/String", name := "charAt", desc := "(I)C" } : Jvm.MethodName)) ∈ lw_all := lw_g (lw_at lw_m10 67 rfl) rfl
theorem q2337 : (Jvm.Cond.methodLink "BalloonMailModel" (199 : Nat) ({ cls := "BalloonMailModel", name := "regionLine", desc := "()Z" } : Jvm.MethodName)) ∈ lw_all := lw_g (lw_at lw_m10 82 rfl) rfl
theorem q2338 : (Jvm.Cond.privateMethod ({ cls := "BalloonMailModel", name := "regionLine", desc := "()Z" } : Jvm.MethodName)) ∈ lw_tbl := lw_at lw_m10 83 rfl
theorem q2339 : (Jvm.Cond.instanceMethod ({ cls := "BalloonMailModel", name := "regionLine", desc := "()Z" } : Jvm.MethodName)) ∈ lw_all := lw_g (lw_at lw_m10 84 rfl) rfl
theorem q2340 : (Jvm.Cond.code ({ cls := "BalloonMailModel", name := "regionLine", desc := "()Z" } : Jvm.MethodName) prog_16_method_13_code (2 : Nat) (Option.some Jvm.ClassFile.FieldType.boolean)) ∈ lw_all := lw_g (lw_at lw_m10 85 rfl) rfl
theorem q2341 : (Jvm.Cond.methodLink "BalloonMailModel" (165 : Nat) ({ cls := "BalloonMailModel", name := "opens", desc := "(Z)Z" } : Jvm.MethodName)) ∈ lw_all := lw_g (lw_at lw_m10 86 rfl) rfl
theorem q2342 : (Jvm.Cond.privateMethod ({ cls := "BalloonMailModel", name := "opens", desc := "(Z)Z" } : Jvm.MethodName)) ∈ lw_tbl := lw_at lw_m10 87 rfl
theorem q2343 : (Jvm.Cond.instanceMethod ({ cls := "BalloonMailModel", name := "opens", desc := "(Z)Z" } : Jvm.MethodName)) ∈ lw_all := lw_g (lw_at lw_m10 88 rfl) rfl
theorem q2344 : (Jvm.Cond.code ({ cls := "BalloonMailModel", name := "opens", desc := "(Z)Z" } : Jvm.MethodName) prog_16_method_12_code (2 : Nat) (Option.some Jvm.ClassFile.FieldType.boolean)) ∈ lw_all := lw_g (lw_at lw_m10 89 rfl) rfl
theorem q2345 : (Jvm.Cond.methodLink "BalloonMailModel" (155 : Nat) ({ cls := "BalloonMailModel", name := "fails", desc := "(I)Z" } : Jvm.MethodName)) ∈ lw_all := lw_g (lw_at lw_m10 90 rfl) rfl
theorem q2346 : (Jvm.Cond.privateMethod ({ cls := "BalloonMailModel", name := "fails", desc := "(I)Z" } : Jvm.MethodName)) ∈ lw_tbl := lw_at lw_m10 91 rfl
theorem q2347 : (Jvm.Cond.instanceMethod ({ cls := "BalloonMailModel", name := "fails", desc := "(I)Z" } : Jvm.MethodName)) ∈ lw_all := lw_g (lw_at lw_m10 92 rfl) rfl
theorem q2348 : (Jvm.Cond.code ({ cls := "BalloonMailModel", name := "fails", desc := "(I)Z" } : Jvm.MethodName) prog_16_method_10_code (2 : Nat) (Option.some Jvm.ClassFile.FieldType.boolean)) ∈ lw_all := lw_g (lw_at lw_m10 93 rfl) rfl
theorem q2349 : (Jvm.Cond.methodLink "BalloonMailModel" (169 : Nat) ({ cls := "BalloonMailModel", name := "takes", desc := "(II)Z" } : Jvm.MethodName)) ∈ lw_all := lw_g (lw_at lw_m10 94 rfl) rfl
theorem q2350 : (Jvm.Cond.privateMethod ({ cls := "BalloonMailModel", name := "takes", desc := "(II)Z" } : Jvm.MethodName)) ∈ lw_tbl := lw_at lw_m10 95 rfl
theorem q2351 : (Jvm.Cond.instanceMethod ({ cls := "BalloonMailModel", name := "takes", desc := "(II)Z" } : Jvm.MethodName)) ∈ lw_all := lw_g (lw_at lw_m10 96 rfl) rfl
theorem q2352 : (Jvm.Cond.code ({ cls := "BalloonMailModel", name := "takes", desc := "(II)Z" } : Jvm.MethodName) prog_16_method_11_code (3 : Nat) (Option.some Jvm.ClassFile.FieldType.boolean)) ∈ lw_all := lw_g (lw_at lw_m10 97 rfl) rfl
theorem q2353 : (Jvm.Cond.stringRef "BalloonMailModel" (203 : Nat) "wind") ∈ lw_tbl := lw_at lw_m10 98 rfl
theorem q2354 : (Jvm.Cond.methodLink "BalloonMailModel" (205 : Nat) ({ cls := "BalloonMailModel", name := "windLine", desc := "()Z" } : Jvm.MethodName)) ∈ lw_all := lw_g (lw_at lw_m10 99 rfl) rfl
theorem q2355 : (Jvm.Cond.privateMethod ({ cls := "BalloonMailModel", name := "windLine", desc := "()Z" } : Jvm.MethodName)) ∈ lw_tbl := lw_at lw_m10 100 rfl
theorem q2356 : (Jvm.Cond.instanceMethod ({ cls := "BalloonMailModel", name := "windLine", desc := "()Z" } : Jvm.MethodName)) ∈ lw_all := lw_g (lw_at lw_m10 101 rfl) rfl
theorem q2357 : (Jvm.Cond.code ({ cls := "BalloonMailModel", name := "windLine", desc := "()Z" } : Jvm.MethodName) prog_16_method_14_code (5 : Nat) (Option.some Jvm.ClassFile.FieldType.boolean)) ∈ lw_all := lw_g (lw_at lw_m10 102 rfl) rfl
theorem q2358 : (Jvm.Cond.methodLink "BalloonMailModel" (173 : Nat) ({ cls := "BalloonMailModel", name := "has", desc := "(II)Z" } : Jvm.MethodName)) ∈ lw_all := lw_g (lw_at lw_m10 103 rfl) rfl
theorem q2359 : (Jvm.Cond.static ({ cls := "BalloonMailModel", name := "has", desc := "(II)Z" } : Jvm.MethodName)) ∈ lw_all := lw_g (lw_at lw_m10 104 rfl) rfl
theorem q2360 : (Jvm.Cond.code ({ cls := "BalloonMailModel", name := "has", desc := "(II)Z" } : Jvm.MethodName) prog_16_method_3_code (2 : Nat) (Option.some Jvm.ClassFile.FieldType.boolean)) ∈ lw_all := lw_g (lw_at lw_m10 105 rfl) rfl
theorem q2361 : (Jvm.Cond.stringRef "BalloonMailModel" (208 : Nat) "turn") ∈ lw_tbl := lw_at lw_m10 106 rfl
theorem q2362 : (Jvm.Cond.methodLink "BalloonMailModel" (210 : Nat) ({ cls := "BalloonMailModel", name := "turnLine", desc := "()Z" } : Jvm.MethodName)) ∈ lw_all := lw_g (lw_at lw_m10 107 rfl) rfl
theorem q2363 : (Jvm.Cond.privateMethod ({ cls := "BalloonMailModel", name := "turnLine", desc := "()Z" } : Jvm.MethodName)) ∈ lw_tbl := lw_at lw_m10 108 rfl
theorem q2364 : (Jvm.Cond.instanceMethod ({ cls := "BalloonMailModel", name := "turnLine", desc := "()Z" } : Jvm.MethodName)) ∈ lw_all := lw_g (lw_at lw_m10 109 rfl) rfl
theorem q2365 : (Jvm.Cond.code ({ cls := "BalloonMailModel", name := "turnLine", desc := "()Z" } : Jvm.MethodName) prog_16_method_15_code (6 : Nat) (Option.some Jvm.ClassFile.FieldType.boolean)) ∈ lw_all := lw_g (lw_at lw_m10 110 rfl) rfl
theorem q2366 : (Jvm.Cond.stringRef "BalloonMailModel" (213 : Nat) "balloon") ∈ lw_tbl := lw_at lw_m10 111 rfl
theorem q2367 : (Jvm.Cond.methodLink "BalloonMailModel" (215 : Nat) ({ cls := "BalloonMailModel", name := "balloonLine", desc := "()Z" } : Jvm.MethodName)) ∈ lw_all := lw_g (lw_at lw_m10 112 rfl) rfl
theorem q2368 : (Jvm.Cond.privateMethod ({ cls := "BalloonMailModel", name := "balloonLine", desc := "()Z" } : Jvm.MethodName)) ∈ lw_tbl := lw_at lw_m10 113 rfl
theorem q2369 : (Jvm.Cond.instanceMethod ({ cls := "BalloonMailModel", name := "balloonLine", desc := "()Z" } : Jvm.MethodName)) ∈ lw_all := lw_g (lw_at lw_m10 114 rfl) rfl
theorem q2370 : (Jvm.Cond.code ({ cls := "BalloonMailModel", name := "balloonLine", desc := "()Z" } : Jvm.MethodName) prog_16_method_16_code (2 : Nat) (Option.some Jvm.ClassFile.FieldType.boolean)) ∈ lw_all := lw_g (lw_at lw_m10 115 rfl) rfl
theorem q2371 : (Jvm.Cond.stringRef "BalloonMailModel" (218 : Nat) "letter") ∈ lw_tbl := lw_at lw_m10 116 rfl
theorem q2372 : (Jvm.Cond.methodLink "BalloonMailModel" (220 : Nat) ({ cls := "BalloonMailModel", name := "letterLine", desc := "()Z" } : Jvm.MethodName)) ∈ lw_all := lw_g (lw_at lw_m10 117 rfl) rfl
theorem q2373 : (Jvm.Cond.privateMethod ({ cls := "BalloonMailModel", name := "letterLine", desc := "()Z" } : Jvm.MethodName)) ∈ lw_tbl := lw_at lw_m10 118 rfl
theorem q2374 : (Jvm.Cond.instanceMethod ({ cls := "BalloonMailModel", name := "letterLine", desc := "()Z" } : Jvm.MethodName)) ∈ lw_all := lw_g (lw_at lw_m10 119 rfl) rfl
theorem q2375 : (Jvm.Cond.code ({ cls := "BalloonMailModel", name := "letterLine", desc := "()Z" } : Jvm.MethodName) prog_16_method_17_code (2 : Nat) (Option.some Jvm.ClassFile.FieldType.boolean)) ∈ lw_all := lw_g (lw_at lw_m10 120 rfl) rfl
theorem q2376 : (Jvm.Cond.methodLink "BalloonMailModel" (223 : Nat) ({ cls := "BalloonMailModel", name := "otherLine", desc := "()Z" } : Jvm.MethodName)) ∈ lw_all := lw_g (lw_at lw_m10 121 rfl) rfl
theorem q2377 : (Jvm.Cond.privateMethod ({ cls := "BalloonMailModel", name := "otherLine", desc := "()Z" } : Jvm.MethodName)) ∈ lw_tbl := lw_at lw_m10 122 rfl
theorem q2378 : (Jvm.Cond.instanceMethod ({ cls := "BalloonMailModel", name := "otherLine", desc := "()Z" } : Jvm.MethodName)) ∈ lw_all := lw_g (lw_at lw_m10 123 rfl) rfl
theorem q2379 : (Jvm.Cond.code ({ cls := "BalloonMailModel", name := "otherLine", desc := "()Z" } : Jvm.MethodName) prog_16_method_19_code (1 : Nat) (Option.some Jvm.ClassFile.FieldType.boolean)) ∈ lw_all := lw_g (lw_at lw_m10 124 rfl) rfl
theorem q2380 : (Jvm.Cond.stringRef "BalloonMailModel" (176 : Nat) "loft") ∈ lw_tbl := lw_at lw_m10 125 rfl
theorem q2381 : (Jvm.Cond.methodLink "BalloonMailModel" (185 : Nat) ({ cls := "BalloonMailModel", name := "single", desc := "(II)I" } : Jvm.MethodName)) ∈ lw_all := lw_g (lw_at lw_m10 126 rfl) rfl
theorem q2382 : (Jvm.Cond.privateMethod ({ cls := "BalloonMailModel", name := "single", desc := "(II)I" } : Jvm.MethodName)) ∈ lw_tbl := lw_at lw_m10 127 rfl
theorem q2383 : (Jvm.Cond.instanceMethod ({ cls := "BalloonMailModel", name := "single", desc := "(II)I" } : Jvm.MethodName)) ∈ lw_all := lw_g (lw_at lw_m10 128 rfl) rfl
theorem q2384 : (Jvm.Cond.code ({ cls := "BalloonMailModel", name := "single", desc := "(II)I" } : Jvm.MethodName) prog_16_method_18_code (3 : Nat) (Option.some Jvm.ClassFile.FieldType.int)) ∈ lw_all := lw_g (lw_at lw_m10 129 rfl) rfl
theorem q2385 : (Jvm.Cond.stringRef "BalloonMailModel" (189 : Nat) "start") ∈ lw_tbl := lw_at lw_m10 130 rfl
theorem q2386 : (Jvm.Cond.stringRef "BalloonMailModel" (193 : Nat) "seed") ∈ lw_tbl := lw_at lw_m10 131 rfl
theorem q2387 : (Jvm.Cond.methodLink "BalloonMailModel" (229 : Nat) ({ cls := "BalloonMailModel", name := "becomes", desc := "()V" } : Jvm.MethodName)) ∈ lw_all := lw_g (lw_at lw_m10 132 rfl) rfl
theorem q2388 : (Jvm.Cond.privateMethod ({ cls := "BalloonMailModel", name := "becomes", desc := "()V" } : Jvm.MethodName)) ∈ lw_tbl := lw_at lw_m10 133 rfl
theorem q2389 : (Jvm.Cond.instanceMethod ({ cls := "BalloonMailModel", name := "becomes", desc := "()V" } : Jvm.MethodName)) ∈ lw_all := lw_g (lw_at lw_m10 134 rfl) rfl
theorem q2390 : (Jvm.Cond.code ({ cls := "BalloonMailModel", name := "becomes", desc := "()V" } : Jvm.MethodName) prog_16_method_24_code (1 : Nat) (Option.none : Option Jvm.ClassFile.FieldType)) ∈ lw_all := lw_g (lw_at lw_m10 135 rfl) rfl
theorem q2391 : (Jvm.Cond.methodLink "BalloonMailModel" (236 : Nat) ({ cls := "BalloonMailModel", name := "lifts", desc := "([I)V" } : Jvm.MethodName)) ∈ lw_all := lw_g (lw_at lw_m10 136 rfl) rfl
theorem q2392 : (Jvm.Cond.static ({ cls := "BalloonMailModel", name := "lifts", desc := "([I)V" } : Jvm.MethodName)) ∈ lw_all := lw_g (lw_at lw_m10 137 rfl) rfl
theorem q2393 : (Jvm.Cond.code ({ cls := "BalloonMailModel", name := "lifts", desc := "([I)V" } : Jvm.MethodName) prog_16_method_23_code (2 : Nat) (Option.none : Option Jvm.ClassFile.FieldType)) ∈ lw_all := lw_g (lw_at lw_m10 138 rfl) rfl
theorem q2394 : (Jvm.Cond.methodLink "BalloonMailModel" (232 : Nat) ({ cls := "BalloonMailModel", name := "copies", desc := "([II[III)V" } : Jvm.MethodName)) ∈ lw_all := lw_g (lw_at lw_m10 139 rfl) rfl
theorem q2395 : (Jvm.Cond.static ({ cls := "BalloonMailModel", name := "copies", desc := "([II[III)V" } : Jvm.MethodName)) ∈ lw_all := lw_g (lw_at lw_m10 140 rfl) rfl
theorem q2396 : (Jvm.Cond.code ({ cls := "BalloonMailModel", name := "copies", desc := "([II[III)V" } : Jvm.MethodName) prog_16_method_22_code (6 : Nat) (Option.none : Option Jvm.ClassFile.FieldType)) ∈ lw_all := lw_g (lw_at lw_m10 141 rfl) rfl
theorem q2398 : (Jvm.Cond.instanceMethod ({ cls := "BalloonMailModel", name := "errorPosition", desc := "()I" } : Jvm.MethodName)) ∈ lw_all := lw_g (lw_at lw_m10 143 rfl) rfl
theorem q2399 : (Jvm.Cond.selects "BalloonMailModel" ({ cls := "BalloonMailModel", name := "errorPosition", desc := "()I" } : Jvm.MethodName) ({ cls := "BalloonMailModel", name := "errorPosition", desc := "()I" } : Jvm.MethodName)) ∈ lw_all := lw_g (lw_at lw_m10 144 rfl) rfl
theorem q2400 : (Jvm.Cond.code ({ cls := "BalloonMailModel", name := "errorPosition", desc := "()I" } : Jvm.MethodName) prog_16_method_26_code (1 : Nat) (Option.some Jvm.ClassFile.FieldType.int)) ∈ lw_all := lw_g (lw_at lw_m10 145 rfl) rfl
theorem q2402 : (Jvm.Cond.instanceMethod ({ cls := "BalloonMailModel", name := "regionCount", desc := "()I" } : Jvm.MethodName)) ∈ lw_all := lw_g (lw_at lw_m10 147 rfl) rfl
theorem q2403 : (Jvm.Cond.selects "BalloonMailModel" ({ cls := "BalloonMailModel", name := "regionCount", desc := "()I" } : Jvm.MethodName) ({ cls := "BalloonMailModel", name := "regionCount", desc := "()I" } : Jvm.MethodName)) ∈ lw_all := lw_g (lw_at lw_m10 148 rfl) rfl
theorem q2404 : (Jvm.Cond.code ({ cls := "BalloonMailModel", name := "regionCount", desc := "()I" } : Jvm.MethodName) prog_16_method_27_code (1 : Nat) (Option.some Jvm.ClassFile.FieldType.int)) ∈ lw_all := lw_g (lw_at lw_m10 149 rfl) rfl
theorem q2406 : (Jvm.Cond.instanceMethod ({ cls := "BalloonMailModel", name := "windCount", desc := "()I" } : Jvm.MethodName)) ∈ lw_all := lw_g (lw_at lw_m10 151 rfl) rfl
theorem q2407 : (Jvm.Cond.selects "BalloonMailModel" ({ cls := "BalloonMailModel", name := "windCount", desc := "()I" } : Jvm.MethodName) ({ cls := "BalloonMailModel", name := "windCount", desc := "()I" } : Jvm.MethodName)) ∈ lw_all := lw_g (lw_at lw_m10 152 rfl) rfl
theorem q2408 : (Jvm.Cond.code ({ cls := "BalloonMailModel", name := "windCount", desc := "()I" } : Jvm.MethodName) prog_16_method_28_code (1 : Nat) (Option.some Jvm.ClassFile.FieldType.int)) ∈ lw_all := lw_g (lw_at lw_m10 153 rfl) rfl
theorem q2410 : (Jvm.Cond.instanceMethod ({ cls := "BalloonMailModel", name := "balloonCount", desc := "()I" } : Jvm.MethodName)) ∈ lw_all := lw_g (lw_at lw_m10 155 rfl) rfl
theorem q2411 : (Jvm.Cond.selects "BalloonMailModel" ({ cls := "BalloonMailModel", name := "balloonCount", desc := "()I" } : Jvm.MethodName) ({ cls := "BalloonMailModel", name := "balloonCount", desc := "()I" } : Jvm.MethodName)) ∈ lw_all := lw_g (lw_at lw_m10 156 rfl) rfl
theorem q2412 : (Jvm.Cond.code ({ cls := "BalloonMailModel", name := "balloonCount", desc := "()I" } : Jvm.MethodName) prog_16_method_29_code (1 : Nat) (Option.some Jvm.ClassFile.FieldType.int)) ∈ lw_all := lw_g (lw_at lw_m10 157 rfl) rfl
theorem q2414 : (Jvm.Cond.instanceMethod ({ cls := "BalloonMailModel", name := "letterCount", desc := "()I" } : Jvm.MethodName)) ∈ lw_all := lw_g (lw_at lw_m10 159 rfl) rfl
theorem q2415 : (Jvm.Cond.selects "BalloonMailModel" ({ cls := "BalloonMailModel", name := "letterCount", desc := "()I" } : Jvm.MethodName) ({ cls := "BalloonMailModel", name := "letterCount", desc := "()I" } : Jvm.MethodName)) ∈ lw_all := lw_g (lw_at lw_m10 160 rfl) rfl
theorem q2416 : (Jvm.Cond.code ({ cls := "BalloonMailModel", name := "letterCount", desc := "()I" } : Jvm.MethodName) prog_16_method_30_code (1 : Nat) (Option.some Jvm.ClassFile.FieldType.int)) ∈ lw_all := lw_g (lw_at lw_m10 161 rfl) rfl
theorem q2418 : (Jvm.Cond.instanceMethod ({ cls := "BalloonMailModel", name := "capacity", desc := "(I)I" } : Jvm.MethodName)) ∈ lw_all := lw_g (lw_at lw_m10 163 rfl) rfl
theorem q2419 : (Jvm.Cond.selects "BalloonMailModel" ({ cls := "BalloonMailModel", name := "capacity", desc := "(I)I" } : Jvm.MethodName) ({ cls := "BalloonMailModel", name := "capacity", desc := "(I)I" } : Jvm.MethodName)) ∈ lw_all := lw_g (lw_at lw_m10 164 rfl) rfl
theorem q2420 : (Jvm.Cond.code ({ cls := "BalloonMailModel", name := "capacity", desc := "(I)I" } : Jvm.MethodName) prog_16_method_34_code (2 : Nat) (Option.some Jvm.ClassFile.FieldType.int)) ∈ lw_all := lw_g (lw_at lw_m10 165 rfl) rfl
theorem q2421 : (Jvm.Cond.methodLink "BalloonMailModel" (246 : Nat) ({ cls := "BalloonMailModel", name := "isBalloon", desc := "(I)Z" } : Jvm.MethodName)) ∈ lw_all := lw_g (lw_at lw_m10 166 rfl) rfl
theorem q2422 : (Jvm.Cond.privateMethod ({ cls := "BalloonMailModel", name := "isBalloon", desc := "(I)Z" } : Jvm.MethodName)) ∈ lw_tbl := lw_at lw_m10 167 rfl
theorem q2423 : (Jvm.Cond.instanceMethod ({ cls := "BalloonMailModel", name := "isBalloon", desc := "(I)Z" } : Jvm.MethodName)) ∈ lw_all := lw_g (lw_at lw_m10 168 rfl) rfl
theorem q2424 : (Jvm.Cond.code ({ cls := "BalloonMailModel", name := "isBalloon", desc := "(I)Z" } : Jvm.MethodName) prog_16_method_31_code (2 : Nat) (Option.some Jvm.ClassFile.FieldType.boolean)) ∈ lw_all := lw_g (lw_at lw_m10 169 rfl) rfl
theorem q2426 : (Jvm.Cond.instanceMethod ({ cls := "BalloonMailModel", name := "letterWeight", desc := "(I)I" } : Jvm.MethodName)) ∈ lw_all := lw_g (lw_at lw_m10 171 rfl) rfl
theorem q2427 : (Jvm.Cond.selects "BalloonMailModel" ({ cls := "BalloonMailModel", name := "letterWeight", desc := "(I)I" } : Jvm.MethodName) ({ cls := "BalloonMailModel", name := "letterWeight", desc := "(I)I" } : Jvm.MethodName)) ∈ lw_all := lw_g (lw_at lw_m10 172 rfl) rfl
theorem q2428 : (Jvm.Cond.code ({ cls := "BalloonMailModel", name := "letterWeight", desc := "(I)I" } : Jvm.MethodName) prog_16_method_35_code (2 : Nat) (Option.some Jvm.ClassFile.FieldType.int)) ∈ lw_all := lw_g (lw_at lw_m10 173 rfl) rfl
theorem q2429 : (Jvm.Cond.methodLink "BalloonMailModel" (249 : Nat) ({ cls := "BalloonMailModel", name := "isLetter", desc := "(I)Z" } : Jvm.MethodName)) ∈ lw_all := lw_g (lw_at lw_m10 174 rfl) rfl
theorem q2430 : (Jvm.Cond.privateMethod ({ cls := "BalloonMailModel", name := "isLetter", desc := "(I)Z" } : Jvm.MethodName)) ∈ lw_tbl := lw_at lw_m10 175 rfl
theorem q2431 : (Jvm.Cond.instanceMethod ({ cls := "BalloonMailModel", name := "isLetter", desc := "(I)Z" } : Jvm.MethodName)) ∈ lw_all := lw_g (lw_at lw_m10 176 rfl) rfl
theorem q2432 : (Jvm.Cond.code ({ cls := "BalloonMailModel", name := "isLetter", desc := "(I)Z" } : Jvm.MethodName) prog_16_method_32_code (2 : Nat) (Option.some Jvm.ClassFile.FieldType.boolean)) ∈ lw_all := lw_g (lw_at lw_m10 177 rfl) rfl
theorem q2434 : (Jvm.Cond.instanceMethod ({ cls := "BalloonMailModel", name := "windChance", desc := "(II)J" } : Jvm.MethodName)) ∈ lw_all := lw_g (lw_at lw_m10 179 rfl) rfl
theorem q2435 : (Jvm.Cond.selects "BalloonMailModel" ({ cls := "BalloonMailModel", name := "windChance", desc := "(II)J" } : Jvm.MethodName) ({ cls := "BalloonMailModel", name := "windChance", desc := "(II)J" } : Jvm.MethodName)) ∈ lw_all := lw_g (lw_at lw_m10 180 rfl) rfl
theorem q2436 : (Jvm.Cond.code ({ cls := "BalloonMailModel", name := "windChance", desc := "(II)J" } : Jvm.MethodName) prog_16_method_40_code (3 : Nat) (Option.some Jvm.ClassFile.FieldType.long)) ∈ lw_all := lw_g (lw_at lw_m10 181 rfl) rfl
theorem q2437 : (Jvm.Cond.methodLink "BalloonMailModel" (255 : Nat) ({ cls := "BalloonMailModel", name := "isWind", desc := "(I)Z" } : Jvm.MethodName)) ∈ lw_all := lw_g (lw_at lw_m10 182 rfl) rfl
theorem q2438 : (Jvm.Cond.privateMethod ({ cls := "BalloonMailModel", name := "isWind", desc := "(I)Z" } : Jvm.MethodName)) ∈ lw_tbl := lw_at lw_m10 183 rfl
theorem q2439 : (Jvm.Cond.instanceMethod ({ cls := "BalloonMailModel", name := "isWind", desc := "(I)Z" } : Jvm.MethodName)) ∈ lw_all := lw_g (lw_at lw_m10 184 rfl) rfl
theorem q2440 : (Jvm.Cond.code ({ cls := "BalloonMailModel", name := "isWind", desc := "(I)Z" } : Jvm.MethodName) prog_16_method_39_code (2 : Nat) (Option.some Jvm.ClassFile.FieldType.boolean)) ∈ lw_all := lw_g (lw_at lw_m10 185 rfl) rfl
theorem q2441 : (Jvm.Cond.methodLink "BalloonMailModel" (258 : Nat) ({ cls := "BalloonMailModel", name := "areDays", desc := "(I)Z" } : Jvm.MethodName)) ∈ lw_all := lw_g (lw_at lw_m10 186 rfl) rfl
theorem q2442 : (Jvm.Cond.static ({ cls := "BalloonMailModel", name := "areDays", desc := "(I)Z" } : Jvm.MethodName)) ∈ lw_all := lw_g (lw_at lw_m10 187 rfl) rfl
theorem q2443 : (Jvm.Cond.code ({ cls := "BalloonMailModel", name := "areDays", desc := "(I)Z" } : Jvm.MethodName) prog_16_method_38_code (1 : Nat) (Option.some Jvm.ClassFile.FieldType.boolean)) ∈ lw_all := lw_g (lw_at lw_m10 188 rfl) rfl
theorem q2444 : (Jvm.Cond.constantLong "BalloonMailModel" (261 : Nat) (-1 : Int64)) ∈ lw_all := lw_g (lw_at lw_m10 189 rfl) rfl
theorem q2445 : (Jvm.Cond.methodLink "BalloonMailModel" (263 : Nat) ({ cls := "BalloonMailModel", name := "goesOn", desc := "(II)V" } : Jvm.MethodName)) ∈ lw_all := lw_g (lw_at lw_m10 190 rfl) rfl
theorem q2446 : (Jvm.Cond.privateMethod ({ cls := "BalloonMailModel", name := "goesOn", desc := "(II)V" } : Jvm.MethodName)) ∈ lw_tbl := lw_at lw_m10 191 rfl
theorem q2447 : (Jvm.Cond.instanceMethod ({ cls := "BalloonMailModel", name := "goesOn", desc := "(II)V" } : Jvm.MethodName)) ∈ lw_all := lw_g (lw_at lw_m10 192 rfl) rfl
theorem q2448 : (Jvm.Cond.code ({ cls := "BalloonMailModel", name := "goesOn", desc := "(II)V" } : Jvm.MethodName) prog_16_method_36_code (5 : Nat) (Option.none : Option Jvm.ClassFile.FieldType)) ∈ lw_all := lw_g (lw_at lw_m10 193 rfl) rfl
theorem q2449 : (Jvm.Cond.methodLink "BalloonMailModel" (252 : Nat) ({ cls := "BalloonMailModel", name := "turnsOf", desc := "(I)I" } : Jvm.MethodName)) ∈ lw_all := lw_g (lw_at lw_m10 194 rfl) rfl
theorem q2450 : (Jvm.Cond.privateMethod ({ cls := "BalloonMailModel", name := "turnsOf", desc := "(I)I" } : Jvm.MethodName)) ∈ lw_tbl := lw_at lw_m10 195 rfl
theorem q2451 : (Jvm.Cond.instanceMethod ({ cls := "BalloonMailModel", name := "turnsOf", desc := "(I)I" } : Jvm.MethodName)) ∈ lw_all := lw_g (lw_at lw_m10 196 rfl) rfl
theorem q2452 : (Jvm.Cond.code ({ cls := "BalloonMailModel", name := "turnsOf", desc := "(I)I" } : Jvm.MethodName) prog_16_method_37_code (4 : Nat) (Option.some Jvm.ClassFile.FieldType.int)) ∈ lw_all := lw_g (lw_at lw_m10 197 rfl) rfl
theorem q2454 : (Jvm.Cond.instanceMethod ({ cls := "BalloonMailModel", name := "avoidChance", desc := "(II)J" } : Jvm.MethodName)) ∈ lw_all := lw_g (lw_at lw_m10 199 rfl) rfl
theorem q2455 : (Jvm.Cond.selects "BalloonMailModel" ({ cls := "BalloonMailModel", name := "avoidChance", desc := "(II)J" } : Jvm.MethodName) ({ cls := "BalloonMailModel", name := "avoidChance", desc := "(II)J" } : Jvm.MethodName)) ∈ lw_all := lw_g (lw_at lw_m10 200 rfl) rfl
theorem q2456 : (Jvm.Cond.code ({ cls := "BalloonMailModel", name := "avoidChance", desc := "(II)J" } : Jvm.MethodName) prog_16_method_41_code (6 : Nat) (Option.some Jvm.ClassFile.FieldType.long)) ∈ lw_all := lw_g (lw_at lw_m10 201 rfl) rfl
theorem q2458 : (Jvm.Cond.instanceMethod ({ cls := "BalloonMailModel", name := "landingChance", desc := "(II)J" } : Jvm.MethodName)) ∈ lw_all := lw_g (lw_at lw_m10 203 rfl) rfl
theorem q2459 : (Jvm.Cond.selects "BalloonMailModel" ({ cls := "BalloonMailModel", name := "landingChance", desc := "(II)J" } : Jvm.MethodName) ({ cls := "BalloonMailModel", name := "landingChance", desc := "(II)J" } : Jvm.MethodName)) ∈ lw_all := lw_g (lw_at lw_m10 204 rfl) rfl
theorem q2460 : (Jvm.Cond.code ({ cls := "BalloonMailModel", name := "landingChance", desc := "(II)J" } : Jvm.MethodName) prog_16_method_43_code (6 : Nat) (Option.some Jvm.ClassFile.FieldType.long)) ∈ lw_all := lw_g (lw_at lw_m10 205 rfl) rfl
theorem q2461 : (Jvm.Cond.methodLink "BalloonMailModel" (267 : Nat) ({ cls := "BalloonMailModel", name := "weightBy", desc := "(II)I" } : Jvm.MethodName)) ∈ lw_all := lw_g (lw_at lw_m10 206 rfl) rfl
theorem q2462 : (Jvm.Cond.privateMethod ({ cls := "BalloonMailModel", name := "weightBy", desc := "(II)I" } : Jvm.MethodName)) ∈ lw_tbl := lw_at lw_m10 207 rfl
theorem q2463 : (Jvm.Cond.instanceMethod ({ cls := "BalloonMailModel", name := "weightBy", desc := "(II)I" } : Jvm.MethodName)) ∈ lw_all := lw_g (lw_at lw_m10 208 rfl) rfl
theorem q2464 : (Jvm.Cond.code ({ cls := "BalloonMailModel", name := "weightBy", desc := "(II)I" } : Jvm.MethodName) prog_16_method_42_code (6 : Nat) (Option.some Jvm.ClassFile.FieldType.int)) ∈ lw_all := lw_g (lw_at lw_m10 209 rfl) rfl
theorem q2466 : (Jvm.Cond.instanceMethod ({ cls := "BalloonMailModel", name := "deliveryChance", desc := "(I)J" } : Jvm.MethodName)) ∈ lw_all := lw_g (lw_at lw_m10 211 rfl) rfl
theorem q2467 : (Jvm.Cond.selects "BalloonMailModel" ({ cls := "BalloonMailModel", name := "deliveryChance", desc := "(I)J" } : Jvm.MethodName) ({ cls := "BalloonMailModel", name := "deliveryChance", desc := "(I)J" } : Jvm.MethodName)) ∈ lw_all := lw_g (lw_at lw_m10 212 rfl) rfl
theorem q2468 : (Jvm.Cond.code ({ cls := "BalloonMailModel", name := "deliveryChance", desc := "(I)J" } : Jvm.MethodName) prog_16_method_46_code (2 : Nat) (Option.some Jvm.ClassFile.FieldType.long)) ∈ lw_all := lw_g (lw_at lw_m10 213 rfl) rfl
theorem q2469 : (Jvm.Cond.methodLink "BalloonMailModel" (274 : Nat) ({ cls := "BalloonMailModel", name := "chanceOf", desc := "(II)J" } : Jvm.MethodName)) ∈ lw_all := lw_g (lw_at lw_m10 214 rfl) rfl
theorem q2470 : (Jvm.Cond.privateMethod ({ cls := "BalloonMailModel", name := "chanceOf", desc := "(II)J" } : Jvm.MethodName)) ∈ lw_tbl := lw_at lw_m10 215 rfl
theorem q2471 : (Jvm.Cond.instanceMethod ({ cls := "BalloonMailModel", name := "chanceOf", desc := "(II)J" } : Jvm.MethodName)) ∈ lw_all := lw_g (lw_at lw_m10 216 rfl) rfl
theorem q2472 : (Jvm.Cond.code ({ cls := "BalloonMailModel", name := "chanceOf", desc := "(II)J" } : Jvm.MethodName) prog_16_method_45_code (9 : Nat) (Option.some Jvm.ClassFile.FieldType.long)) ∈ lw_all := lw_g (lw_at lw_m10 217 rfl) rfl
theorem q2473 : (Jvm.Cond.methodLink "BalloonMailModel" (270 : Nat) ({ cls := "BalloonMailModel", name := "power", desc := "(II)J" } : Jvm.MethodName)) ∈ lw_all := lw_g (lw_at lw_m10 218 rfl) rfl
theorem q2474 : (Jvm.Cond.static ({ cls := "BalloonMailModel", name := "power", desc := "(II)J" } : Jvm.MethodName)) ∈ lw_all := lw_g (lw_at lw_m10 219 rfl) rfl
theorem q2475 : (Jvm.Cond.code ({ cls := "BalloonMailModel", name := "power", desc := "(II)J" } : Jvm.MethodName) prog_16_method_44_code (5 : Nat) (Option.some Jvm.ClassFile.FieldType.long)) ∈ lw_all := lw_g (lw_at lw_m10 220 rfl) rfl
theorem q2477 : (Jvm.Cond.instanceMethod ({ cls := "BalloonMailModel", name := "answerChance", desc := "(II)J" } : Jvm.MethodName)) ∈ lw_all := lw_g (lw_at lw_m10 222 rfl) rfl
theorem q2478 : (Jvm.Cond.selects "BalloonMailModel" ({ cls := "BalloonMailModel", name := "answerChance", desc := "(II)J" } : Jvm.MethodName) ({ cls := "BalloonMailModel", name := "answerChance", desc := "(II)J" } : Jvm.MethodName)) ∈ lw_all := lw_g (lw_at lw_m10 223 rfl) rfl
theorem q2479 : (Jvm.Cond.code ({ cls := "BalloonMailModel", name := "answerChance", desc := "(II)J" } : Jvm.MethodName) prog_16_method_48_code (3 : Nat) (Option.some Jvm.ClassFile.FieldType.long)) ∈ lw_all := lw_g (lw_at lw_m10 224 rfl) rfl
theorem q2480 : (Jvm.Cond.methodLink "BalloonMailModel" (277 : Nat) ({ cls := "BalloonMailModel", name := "mayAsk", desc := "(II)Z" } : Jvm.MethodName)) ∈ lw_all := lw_g (lw_at lw_m10 225 rfl) rfl
theorem q2481 : (Jvm.Cond.privateMethod ({ cls := "BalloonMailModel", name := "mayAsk", desc := "(II)Z" } : Jvm.MethodName)) ∈ lw_tbl := lw_at lw_m10 226 rfl
theorem q2482 : (Jvm.Cond.instanceMethod ({ cls := "BalloonMailModel", name := "mayAsk", desc := "(II)Z" } : Jvm.MethodName)) ∈ lw_all := lw_g (lw_at lw_m10 227 rfl) rfl
theorem q2483 : (Jvm.Cond.code ({ cls := "BalloonMailModel", name := "mayAsk", desc := "(II)Z" } : Jvm.MethodName) prog_16_method_47_code (3 : Nat) (Option.some Jvm.ClassFile.FieldType.boolean)) ∈ lw_all := lw_g (lw_at lw_m10 228 rfl) rfl
theorem q2485 : (Jvm.Cond.instanceMethod ({ cls := "BalloonMailModel", name := "answerPermille", desc := "(II)I" } : Jvm.MethodName)) ∈ lw_all := lw_g (lw_at lw_m10 230 rfl) rfl
theorem q2486 : (Jvm.Cond.selects "BalloonMailModel" ({ cls := "BalloonMailModel", name := "answerPermille", desc := "(II)I" } : Jvm.MethodName) ({ cls := "BalloonMailModel", name := "answerPermille", desc := "(II)I" } : Jvm.MethodName)) ∈ lw_all := lw_g (lw_at lw_m10 231 rfl) rfl
theorem q2487 : (Jvm.Cond.code ({ cls := "BalloonMailModel", name := "answerPermille", desc := "(II)I" } : Jvm.MethodName) prog_16_method_49_code (3 : Nat) (Option.some Jvm.ClassFile.FieldType.int)) ∈ lw_all := lw_g (lw_at lw_m10 232 rfl) rfl
theorem q2488 : (Jvm.Cond.constantLong "BalloonMailModel" (280 : Nat) (1000 : Int64)) ∈ lw_all := lw_g (lw_at lw_m10 233 rfl) rfl
theorem q2490 : (Jvm.Cond.instanceMethod ({ cls := "BalloonMailModel", name := "bestDay", desc := "(I)I" } : Jvm.MethodName)) ∈ lw_all := lw_g (lw_at lw_m10 235 rfl) rfl
theorem q2491 : (Jvm.Cond.selects "BalloonMailModel" ({ cls := "BalloonMailModel", name := "bestDay", desc := "(I)I" } : Jvm.MethodName) ({ cls := "BalloonMailModel", name := "bestDay", desc := "(I)I" } : Jvm.MethodName)) ∈ lw_all := lw_g (lw_at lw_m10 236 rfl) rfl
theorem q2492 : (Jvm.Cond.code ({ cls := "BalloonMailModel", name := "bestDay", desc := "(I)I" } : Jvm.MethodName) prog_16_method_51_code (8 : Nat) (Option.some Jvm.ClassFile.FieldType.int)) ∈ lw_all := lw_g (lw_at lw_m10 237 rfl) rfl
theorem q2493 : (Jvm.Cond.methodLink "BalloonMailModel" (282 : Nat) ({ cls := "BalloonMailModel", name := "evenChance", desc := "(II)J" } : Jvm.MethodName)) ∈ lw_all := lw_g (lw_at lw_m10 238 rfl) rfl
theorem q2494 : (Jvm.Cond.privateMethod ({ cls := "BalloonMailModel", name := "evenChance", desc := "(II)J" } : Jvm.MethodName)) ∈ lw_tbl := lw_at lw_m10 239 rfl
theorem q2495 : (Jvm.Cond.instanceMethod ({ cls := "BalloonMailModel", name := "evenChance", desc := "(II)J" } : Jvm.MethodName)) ∈ lw_all := lw_g (lw_at lw_m11 0 rfl) rfl
theorem q2496 : (Jvm.Cond.code ({ cls := "BalloonMailModel", name := "evenChance", desc := "(II)J" } : Jvm.MethodName) prog_16_method_50_code (3 : Nat) (Option.some Jvm.ClassFile.FieldType.long)) ∈ lw_all := lw_g (lw_at lw_m11 1 rfl) rfl
theorem q2498 : (Jvm.Cond.instanceMethod ({ cls := "BalloonMailModel", name := "assignmentTotal", desc := "()J" } : Jvm.MethodName)) ∈ lw_all := lw_g (lw_at lw_m11 3 rfl) rfl
theorem q2499 : (Jvm.Cond.selects "BalloonMailModel" ({ cls := "BalloonMailModel", name := "assignmentTotal", desc := "()J" } : Jvm.MethodName) ({ cls := "BalloonMailModel", name := "assignmentTotal", desc := "()J" } : Jvm.MethodName)) ∈ lw_all := lw_g (lw_at lw_m11 4 rfl) rfl
theorem q2500 : (Jvm.Cond.code ({ cls := "BalloonMailModel", name := "assignmentTotal", desc := "()J" } : Jvm.MethodName) prog_16_method_54_code (1 : Nat) (Option.some Jvm.ClassFile.FieldType.long)) ∈ lw_all := lw_g (lw_at lw_m11 5 rfl) rfl
theorem q2501 : (Jvm.Cond.methodLink "BalloonMailModel" (288 : Nat) ({ cls := "BalloonMailModel", name := "laysTotals", desc := "()V" } : Jvm.MethodName)) ∈ lw_all := lw_g (lw_at lw_m11 6 rfl) rfl
theorem q2502 : (Jvm.Cond.privateMethod ({ cls := "BalloonMailModel", name := "laysTotals", desc := "()V" } : Jvm.MethodName)) ∈ lw_tbl := lw_at lw_m11 7 rfl
theorem q2503 : (Jvm.Cond.instanceMethod ({ cls := "BalloonMailModel", name := "laysTotals", desc := "()V" } : Jvm.MethodName)) ∈ lw_all := lw_g (lw_at lw_m11 8 rfl) rfl
theorem q2504 : (Jvm.Cond.code ({ cls := "BalloonMailModel", name := "laysTotals", desc := "()V" } : Jvm.MethodName) prog_16_method_52_code (3 : Nat) (Option.none : Option Jvm.ClassFile.FieldType)) ∈ lw_all := lw_g (lw_at lw_m11 9 rfl) rfl
theorem q2505 : (Jvm.Cond.methodLink "BalloonMailModel" (285 : Nat) ({ cls := "BalloonMailModel", name := "greatest", desc := "(II)J" } : Jvm.MethodName)) ∈ lw_all := lw_g (lw_at lw_m11 10 rfl) rfl
theorem q2506 : (Jvm.Cond.privateMethod ({ cls := "BalloonMailModel", name := "greatest", desc := "(II)J" } : Jvm.MethodName)) ∈ lw_tbl := lw_at lw_m11 11 rfl
theorem q2507 : (Jvm.Cond.instanceMethod ({ cls := "BalloonMailModel", name := "greatest", desc := "(II)J" } : Jvm.MethodName)) ∈ lw_all := lw_g (lw_at lw_m11 12 rfl) rfl
theorem q2508 : (Jvm.Cond.code ({ cls := "BalloonMailModel", name := "greatest", desc := "(II)J" } : Jvm.MethodName) prog_16_method_53_code (8 : Nat) (Option.some Jvm.ClassFile.FieldType.long)) ∈ lw_all := lw_g (lw_at lw_m11 13 rfl) rfl
theorem q2510 : (Jvm.Cond.instanceMethod ({ cls := "BalloonMailModel", name := "assignedDay", desc := "(I)I" } : Jvm.MethodName)) ∈ lw_all := lw_g (lw_at lw_m11 15 rfl) rfl
theorem q2511 : (Jvm.Cond.selects "BalloonMailModel" ({ cls := "BalloonMailModel", name := "assignedDay", desc := "(I)I" } : Jvm.MethodName) ({ cls := "BalloonMailModel", name := "assignedDay", desc := "(I)I" } : Jvm.MethodName)) ∈ lw_all := lw_g (lw_at lw_m11 16 rfl) rfl
theorem q2512 : (Jvm.Cond.code ({ cls := "BalloonMailModel", name := "assignedDay", desc := "(I)I" } : Jvm.MethodName) prog_16_method_55_code (5 : Nat) (Option.some Jvm.ClassFile.FieldType.int)) ∈ lw_all := lw_g (lw_at lw_m11 17 rfl) rfl
theorem q2513 : (Jvm.Cond.methodLink "BalloonMailModel" (291 : Nat) ({ cls := "BalloonMailModel", name := "firstDay", desc := "(II)I" } : Jvm.MethodName)) ∈ lw_all := lw_g (lw_at lw_m11 18 rfl) rfl
theorem q2514 : (Jvm.Cond.privateMethod ({ cls := "BalloonMailModel", name := "firstDay", desc := "(II)I" } : Jvm.MethodName)) ∈ lw_tbl := lw_at lw_m11 19 rfl
theorem q2515 : (Jvm.Cond.instanceMethod ({ cls := "BalloonMailModel", name := "firstDay", desc := "(II)I" } : Jvm.MethodName)) ∈ lw_all := lw_g (lw_at lw_m11 20 rfl) rfl
theorem q2516 : (Jvm.Cond.code ({ cls := "BalloonMailModel", name := "firstDay", desc := "(II)I" } : Jvm.MethodName) prog_16_method_56_code (4 : Nat) (Option.some Jvm.ClassFile.FieldType.int)) ∈ lw_all := lw_g (lw_at lw_m11 21 rfl) rfl
theorem q2518 : (Jvm.Cond.instanceMethod ({ cls := "BalloonMailModel", name := "bestLoad", desc := "(I)I" } : Jvm.MethodName)) ∈ lw_all := lw_g (lw_at lw_m11 23 rfl) rfl
theorem q2519 : (Jvm.Cond.selects "BalloonMailModel" ({ cls := "BalloonMailModel", name := "bestLoad", desc := "(I)I" } : Jvm.MethodName) ({ cls := "BalloonMailModel", name := "bestLoad", desc := "(I)I" } : Jvm.MethodName)) ∈ lw_all := lw_g (lw_at lw_m11 24 rfl) rfl
theorem q2520 : (Jvm.Cond.code ({ cls := "BalloonMailModel", name := "bestLoad", desc := "(I)I" } : Jvm.MethodName) prog_16_method_57_code (7 : Nat) (Option.some Jvm.ClassFile.FieldType.int)) ∈ lw_all := lw_g (lw_at lw_m11 25 rfl) rfl
theorem q2521 : (Jvm.Cond.methodLink "BalloonMailModel" (294 : Nat) ({ cls := "BalloonMailModel", name := "lowest", desc := "(II)I" } : Jvm.MethodName)) ∈ lw_all := lw_g (lw_at lw_m11 26 rfl) rfl
theorem q2522 : (Jvm.Cond.privateMethod ({ cls := "BalloonMailModel", name := "lowest", desc := "(II)I" } : Jvm.MethodName)) ∈ lw_tbl := lw_at lw_m11 27 rfl
theorem q2523 : (Jvm.Cond.instanceMethod ({ cls := "BalloonMailModel", name := "lowest", desc := "(II)I" } : Jvm.MethodName)) ∈ lw_all := lw_g (lw_at lw_m11 28 rfl) rfl
theorem q2524 : (Jvm.Cond.code ({ cls := "BalloonMailModel", name := "lowest", desc := "(II)I" } : Jvm.MethodName) prog_16_method_58_code (7 : Nat) (Option.some Jvm.ClassFile.FieldType.int)) ∈ lw_all := lw_g (lw_at lw_m11 29 rfl) rfl
theorem q2526 : (Jvm.Cond.instanceMethod ({ cls := "BalloonMailModel", name := "weightOf", desc := "(I)I" } : Jvm.MethodName)) ∈ lw_all := lw_g (lw_at lw_m11 31 rfl) rfl
theorem q2527 : (Jvm.Cond.selects "BalloonMailModel" ({ cls := "BalloonMailModel", name := "weightOf", desc := "(I)I" } : Jvm.MethodName) ({ cls := "BalloonMailModel", name := "weightOf", desc := "(I)I" } : Jvm.MethodName)) ∈ lw_all := lw_g (lw_at lw_m11 32 rfl) rfl
theorem q2528 : (Jvm.Cond.code ({ cls := "BalloonMailModel", name := "weightOf", desc := "(I)I" } : Jvm.MethodName) prog_16_method_60_code (2 : Nat) (Option.some Jvm.ClassFile.FieldType.int)) ∈ lw_all := lw_g (lw_at lw_m11 33 rfl) rfl
theorem q2529 : (Jvm.Cond.methodLink "BalloonMailModel" (297 : Nat) ({ cls := "BalloonMailModel", name := "areLetters", desc := "(I)Z" } : Jvm.MethodName)) ∈ lw_all := lw_g (lw_at lw_m11 34 rfl) rfl
theorem q2530 : (Jvm.Cond.privateMethod ({ cls := "BalloonMailModel", name := "areLetters", desc := "(I)Z" } : Jvm.MethodName)) ∈ lw_tbl := lw_at lw_m11 35 rfl
theorem q2531 : (Jvm.Cond.instanceMethod ({ cls := "BalloonMailModel", name := "areLetters", desc := "(I)Z" } : Jvm.MethodName)) ∈ lw_all := lw_g (lw_at lw_m11 36 rfl) rfl
theorem q2532 : (Jvm.Cond.code ({ cls := "BalloonMailModel", name := "areLetters", desc := "(I)Z" } : Jvm.MethodName) prog_16_method_33_code (2 : Nat) (Option.some Jvm.ClassFile.FieldType.boolean)) ∈ lw_all := lw_g (lw_at lw_m11 37 rfl) rfl
theorem q2533 : (Jvm.Cond.methodLink "BalloonMailModel" (300 : Nat) ({ cls := "BalloonMailModel", name := "sumOf", desc := "(I[I)I" } : Jvm.MethodName)) ∈ lw_all := lw_g (lw_at lw_m11 38 rfl) rfl
theorem q2534 : (Jvm.Cond.privateMethod ({ cls := "BalloonMailModel", name := "sumOf", desc := "(I[I)I" } : Jvm.MethodName)) ∈ lw_tbl := lw_at lw_m11 39 rfl
theorem q2535 : (Jvm.Cond.instanceMethod ({ cls := "BalloonMailModel", name := "sumOf", desc := "(I[I)I" } : Jvm.MethodName)) ∈ lw_all := lw_g (lw_at lw_m11 40 rfl) rfl
theorem q2536 : (Jvm.Cond.code ({ cls := "BalloonMailModel", name := "sumOf", desc := "(I[I)I" } : Jvm.MethodName) prog_16_method_59_code (5 : Nat) (Option.some Jvm.ClassFile.FieldType.int)) ∈ lw_all := lw_g (lw_at lw_m11 41 rfl) rfl
theorem q2538 : (Jvm.Cond.instanceMethod ({ cls := "BalloonMailModel", name := "priorityOf", desc := "(I)I" } : Jvm.MethodName)) ∈ lw_all := lw_g (lw_at lw_m11 43 rfl) rfl
theorem q2539 : (Jvm.Cond.selects "BalloonMailModel" ({ cls := "BalloonMailModel", name := "priorityOf", desc := "(I)I" } : Jvm.MethodName) ({ cls := "BalloonMailModel", name := "priorityOf", desc := "(I)I" } : Jvm.MethodName)) ∈ lw_all := lw_g (lw_at lw_m11 44 rfl) rfl
theorem q2540 : (Jvm.Cond.code ({ cls := "BalloonMailModel", name := "priorityOf", desc := "(I)I" } : Jvm.MethodName) prog_16_method_61_code (2 : Nat) (Option.some Jvm.ClassFile.FieldType.int)) ∈ lw_all := lw_g (lw_at lw_m11 45 rfl) rfl
theorem q2542 : (Jvm.Cond.instanceMethod ({ cls := "BalloonMailModel", name := "lettersIn", desc := "(I)I" } : Jvm.MethodName)) ∈ lw_all := lw_g (lw_at lw_m11 47 rfl) rfl
theorem q2543 : (Jvm.Cond.selects "BalloonMailModel" ({ cls := "BalloonMailModel", name := "lettersIn", desc := "(I)I" } : Jvm.MethodName) ({ cls := "BalloonMailModel", name := "lettersIn", desc := "(I)I" } : Jvm.MethodName)) ∈ lw_all := lw_g (lw_at lw_m11 48 rfl) rfl
theorem q2544 : (Jvm.Cond.code ({ cls := "BalloonMailModel", name := "lettersIn", desc := "(I)I" } : Jvm.MethodName) prog_16_method_63_code (2 : Nat) (Option.some Jvm.ClassFile.FieldType.int)) ∈ lw_all := lw_g (lw_at lw_m11 49 rfl) rfl
theorem q2545 : (Jvm.Cond.methodLink "BalloonMailModel" (304 : Nat) ({ cls := "BalloonMailModel", name := "inState", desc := "(I)I" } : Jvm.MethodName)) ∈ lw_all := lw_g (lw_at lw_m11 50 rfl) rfl
theorem q2546 : (Jvm.Cond.privateMethod ({ cls := "BalloonMailModel", name := "inState", desc := "(I)I" } : Jvm.MethodName)) ∈ lw_tbl := lw_at lw_m11 51 rfl
theorem q2547 : (Jvm.Cond.instanceMethod ({ cls := "BalloonMailModel", name := "inState", desc := "(I)I" } : Jvm.MethodName)) ∈ lw_all := lw_g (lw_at lw_m11 52 rfl) rfl
theorem q2548 : (Jvm.Cond.code ({ cls := "BalloonMailModel", name := "inState", desc := "(I)I" } : Jvm.MethodName) prog_16_method_62_code (4 : Nat) (Option.some Jvm.ClassFile.FieldType.int)) ∈ lw_all := lw_g (lw_at lw_m11 53 rfl) rfl
theorem q2550 : (Jvm.Cond.instanceMethod ({ cls := "BalloonMailModel", name := "day", desc := "()I" } : Jvm.MethodName)) ∈ lw_all := lw_g (lw_at lw_m11 55 rfl) rfl
theorem q2551 : (Jvm.Cond.selects "BalloonMailModel" ({ cls := "BalloonMailModel", name := "day", desc := "()I" } : Jvm.MethodName) ({ cls := "BalloonMailModel", name := "day", desc := "()I" } : Jvm.MethodName)) ∈ lw_all := lw_g (lw_at lw_m11 56 rfl) rfl
theorem q2552 : (Jvm.Cond.code ({ cls := "BalloonMailModel", name := "day", desc := "()I" } : Jvm.MethodName) prog_16_method_64_code (1 : Nat) (Option.some Jvm.ClassFile.FieldType.int)) ∈ lw_all := lw_g (lw_at lw_m11 57 rfl) rfl
theorem q2554 : (Jvm.Cond.instanceMethod ({ cls := "BalloonMailModel", name := "wind", desc := "()I" } : Jvm.MethodName)) ∈ lw_all := lw_g (lw_at lw_m11 59 rfl) rfl
theorem q2555 : (Jvm.Cond.selects "BalloonMailModel" ({ cls := "BalloonMailModel", name := "wind", desc := "()I" } : Jvm.MethodName) ({ cls := "BalloonMailModel", name := "wind", desc := "()I" } : Jvm.MethodName)) ∈ lw_all := lw_g (lw_at lw_m11 60 rfl) rfl
theorem q2556 : (Jvm.Cond.code ({ cls := "BalloonMailModel", name := "wind", desc := "()I" } : Jvm.MethodName) prog_16_method_65_code (1 : Nat) (Option.some Jvm.ClassFile.FieldType.int)) ∈ lw_all := lw_g (lw_at lw_m11 61 rfl) rfl
theorem q2558 : (Jvm.Cond.instanceMethod ({ cls := "BalloonMailModel", name := "launch", desc := "(II)I" } : Jvm.MethodName)) ∈ lw_all := lw_g (lw_at lw_m11 63 rfl) rfl
theorem q2559 : (Jvm.Cond.selects "BalloonMailModel" ({ cls := "BalloonMailModel", name := "launch", desc := "(II)I" } : Jvm.MethodName) ({ cls := "BalloonMailModel", name := "launch", desc := "(II)I" } : Jvm.MethodName)) ∈ lw_all := lw_g (lw_at lw_m11 64 rfl) rfl
theorem q2560 : (Jvm.Cond.code ({ cls := "BalloonMailModel", name := "launch", desc := "(II)I" } : Jvm.MethodName) prog_16_method_70_code (6 : Nat) (Option.some Jvm.ClassFile.FieldType.int)) ∈ lw_all := lw_g (lw_at lw_m11 65 rfl) rfl
theorem q2561 : (Jvm.Cond.methodLink "BalloonMailModel" (320 : Nat) ({ cls := "BalloonMailModel", name := "keeps", desc := "()V" } : Jvm.MethodName)) ∈ lw_all := lw_g (lw_at lw_m11 66 rfl) rfl
theorem q2562 : (Jvm.Cond.privateMethod ({ cls := "BalloonMailModel", name := "keeps", desc := "()V" } : Jvm.MethodName)) ∈ lw_tbl := lw_at lw_m11 67 rfl
theorem q2563 : (Jvm.Cond.instanceMethod ({ cls := "BalloonMailModel", name := "keeps", desc := "()V" } : Jvm.MethodName)) ∈ lw_all := lw_g (lw_at lw_m11 68 rfl) rfl
theorem q2564 : (Jvm.Cond.code ({ cls := "BalloonMailModel", name := "keeps", desc := "()V" } : Jvm.MethodName) prog_16_method_91_code (1 : Nat) (Option.none : Option Jvm.ClassFile.FieldType)) ∈ lw_all := lw_g (lw_at lw_m11 69 rfl) rfl
theorem q2565 : (Jvm.Cond.methodLink "BalloonMailModel" (323 : Nat) ({ cls := "BalloonMailModel", name := "regionDrawn", desc := "()I" } : Jvm.MethodName)) ∈ lw_all := lw_g (lw_at lw_m11 70 rfl) rfl
theorem q2566 : (Jvm.Cond.privateMethod ({ cls := "BalloonMailModel", name := "regionDrawn", desc := "()I" } : Jvm.MethodName)) ∈ lw_tbl := lw_at lw_m11 71 rfl
theorem q2567 : (Jvm.Cond.instanceMethod ({ cls := "BalloonMailModel", name := "regionDrawn", desc := "()I" } : Jvm.MethodName)) ∈ lw_all := lw_g (lw_at lw_m11 72 rfl) rfl
theorem q2568 : (Jvm.Cond.code ({ cls := "BalloonMailModel", name := "regionDrawn", desc := "()I" } : Jvm.MethodName) prog_16_method_69_code (4 : Nat) (Option.some Jvm.ClassFile.FieldType.int)) ∈ lw_all := lw_g (lw_at lw_m11 73 rfl) rfl
theorem q2569 : (Jvm.Cond.methodLink "BalloonMailModel" (317 : Nat) ({ cls := "BalloonMailModel", name := "draw", desc := "()I" } : Jvm.MethodName)) ∈ lw_all := lw_g (lw_at lw_m11 74 rfl) rfl
theorem q2570 : (Jvm.Cond.privateMethod ({ cls := "BalloonMailModel", name := "draw", desc := "()I" } : Jvm.MethodName)) ∈ lw_tbl := lw_at lw_m11 75 rfl
theorem q2571 : (Jvm.Cond.instanceMethod ({ cls := "BalloonMailModel", name := "draw", desc := "()I" } : Jvm.MethodName)) ∈ lw_all := lw_g (lw_at lw_m11 76 rfl) rfl
theorem q2572 : (Jvm.Cond.code ({ cls := "BalloonMailModel", name := "draw", desc := "()I" } : Jvm.MethodName) prog_16_method_66_code (3 : Nat) (Option.some Jvm.ClassFile.FieldType.int)) ∈ lw_all := lw_g (lw_at lw_m11 77 rfl) rfl
theorem q2573 : (Jvm.Cond.constantLong "BalloonMailModel" (307 : Nat) (1103515245 : Int64)) ∈ lw_all := lw_g (lw_at lw_m11 78 rfl) rfl
theorem q2574 : (Jvm.Cond.constantLong "BalloonMailModel" (309 : Nat) (12345 : Int64)) ∈ lw_all := lw_g (lw_at lw_m11 79 rfl) rfl
theorem q2575 : (Jvm.Cond.constantLong "BalloonMailModel" (311 : Nat) (2147483648 : Int64)) ∈ lw_all := lw_g (lw_at lw_m11 80 rfl) rfl
theorem q2576 : (Jvm.Cond.constantLong "BalloonMailModel" (313 : Nat) (65536 : Int64)) ∈ lw_all := lw_g (lw_at lw_m11 81 rfl) rfl
theorem q2577 : (Jvm.Cond.constantLong "BalloonMailModel" (315 : Nat) (10 : Int64)) ∈ lw_all := lw_g (lw_at lw_m11 82 rfl) rfl
theorem q2578 : (Jvm.Cond.methodLink "BalloonMailModel" (326 : Nat) ({ cls := "BalloonMailModel", name := "become", desc := "(II)V" } : Jvm.MethodName)) ∈ lw_all := lw_g (lw_at lw_m11 83 rfl) rfl
theorem q2579 : (Jvm.Cond.privateMethod ({ cls := "BalloonMailModel", name := "become", desc := "(II)V" } : Jvm.MethodName)) ∈ lw_tbl := lw_at lw_m11 84 rfl
theorem q2580 : (Jvm.Cond.instanceMethod ({ cls := "BalloonMailModel", name := "become", desc := "(II)V" } : Jvm.MethodName)) ∈ lw_all := lw_g (lw_at lw_m11 85 rfl) rfl
theorem q2581 : (Jvm.Cond.code ({ cls := "BalloonMailModel", name := "become", desc := "(II)V" } : Jvm.MethodName) prog_16_method_68_code (4 : Nat) (Option.none : Option Jvm.ClassFile.FieldType)) ∈ lw_all := lw_g (lw_at lw_m11 86 rfl) rfl
theorem q2582 : (Jvm.Cond.methodLink "BalloonMailModel" (329 : Nat) ({ cls := "BalloonMailModel", name := "notes", desc := "(II)V" } : Jvm.MethodName)) ∈ lw_all := lw_g (lw_at lw_m11 87 rfl) rfl
theorem q2583 : (Jvm.Cond.privateMethod ({ cls := "BalloonMailModel", name := "notes", desc := "(II)V" } : Jvm.MethodName)) ∈ lw_tbl := lw_at lw_m11 88 rfl
theorem q2584 : (Jvm.Cond.instanceMethod ({ cls := "BalloonMailModel", name := "notes", desc := "(II)V" } : Jvm.MethodName)) ∈ lw_all := lw_g (lw_at lw_m11 89 rfl) rfl
theorem q2585 : (Jvm.Cond.code ({ cls := "BalloonMailModel", name := "notes", desc := "(II)V" } : Jvm.MethodName) prog_16_method_67_code (3 : Nat) (Option.none : Option Jvm.ClassFile.FieldType)) ∈ lw_all := lw_g (lw_at lw_m11 90 rfl) rfl
theorem q2587 : (Jvm.Cond.instanceMethod ({ cls := "BalloonMailModel", name := "nextDay", desc := "()I" } : Jvm.MethodName)) ∈ lw_all := lw_g (lw_at lw_m11 92 rfl) rfl
theorem q2588 : (Jvm.Cond.selects "BalloonMailModel" ({ cls := "BalloonMailModel", name := "nextDay", desc := "()I" } : Jvm.MethodName) ({ cls := "BalloonMailModel", name := "nextDay", desc := "()I" } : Jvm.MethodName)) ∈ lw_all := lw_g (lw_at lw_m11 93 rfl) rfl
theorem q2589 : (Jvm.Cond.code ({ cls := "BalloonMailModel", name := "nextDay", desc := "()I" } : Jvm.MethodName) prog_16_method_73_code (5 : Nat) (Option.some Jvm.ClassFile.FieldType.int)) ∈ lw_all := lw_g (lw_at lw_m11 94 rfl) rfl
theorem q2590 : (Jvm.Cond.methodLink "BalloonMailModel" (335 : Nat) ({ cls := "BalloonMailModel", name := "comeBack", desc := "()V" } : Jvm.MethodName)) ∈ lw_all := lw_g (lw_at lw_m11 95 rfl) rfl
theorem q2591 : (Jvm.Cond.privateMethod ({ cls := "BalloonMailModel", name := "comeBack", desc := "()V" } : Jvm.MethodName)) ∈ lw_tbl := lw_at lw_m11 96 rfl
theorem q2592 : (Jvm.Cond.instanceMethod ({ cls := "BalloonMailModel", name := "comeBack", desc := "()V" } : Jvm.MethodName)) ∈ lw_all := lw_g (lw_at lw_m11 97 rfl) rfl
theorem q2593 : (Jvm.Cond.code ({ cls := "BalloonMailModel", name := "comeBack", desc := "()V" } : Jvm.MethodName) prog_16_method_71_code (5 : Nat) (Option.none : Option Jvm.ClassFile.FieldType)) ∈ lw_all := lw_g (lw_at lw_m11 98 rfl) rfl
theorem q2594 : (Jvm.Cond.methodLink "BalloonMailModel" (332 : Nat) ({ cls := "BalloonMailModel", name := "answers", desc := "(I)V" } : Jvm.MethodName)) ∈ lw_all := lw_g (lw_at lw_m11 99 rfl) rfl
theorem q2595 : (Jvm.Cond.privateMethod ({ cls := "BalloonMailModel", name := "answers", desc := "(I)V" } : Jvm.MethodName)) ∈ lw_tbl := lw_at lw_m11 100 rfl
theorem q2596 : (Jvm.Cond.instanceMethod ({ cls := "BalloonMailModel", name := "answers", desc := "(I)V" } : Jvm.MethodName)) ∈ lw_all := lw_g (lw_at lw_m11 101 rfl) rfl
theorem q2597 : (Jvm.Cond.code ({ cls := "BalloonMailModel", name := "answers", desc := "(I)V" } : Jvm.MethodName) prog_16_method_72_code (3 : Nat) (Option.none : Option Jvm.ClassFile.FieldType)) ∈ lw_all := lw_g (lw_at lw_m11 102 rfl) rfl
theorem q2599 : (Jvm.Cond.instanceMethod ({ cls := "BalloonMailModel", name := "balloonState", desc := "(I)I" } : Jvm.MethodName)) ∈ lw_all := lw_g (lw_at lw_m11 104 rfl) rfl
theorem q2600 : (Jvm.Cond.selects "BalloonMailModel" ({ cls := "BalloonMailModel", name := "balloonState", desc := "(I)I" } : Jvm.MethodName) ({ cls := "BalloonMailModel", name := "balloonState", desc := "(I)I" } : Jvm.MethodName)) ∈ lw_all := lw_g (lw_at lw_m11 105 rfl) rfl
theorem q2601 : (Jvm.Cond.code ({ cls := "BalloonMailModel", name := "balloonState", desc := "(I)I" } : Jvm.MethodName) prog_16_method_74_code (2 : Nat) (Option.some Jvm.ClassFile.FieldType.int)) ∈ lw_all := lw_g (lw_at lw_m11 106 rfl) rfl
theorem q2603 : (Jvm.Cond.instanceMethod ({ cls := "BalloonMailModel", name := "balloonRegion", desc := "(I)I" } : Jvm.MethodName)) ∈ lw_all := lw_g (lw_at lw_m11 108 rfl) rfl
theorem q2604 : (Jvm.Cond.selects "BalloonMailModel" ({ cls := "BalloonMailModel", name := "balloonRegion", desc := "(I)I" } : Jvm.MethodName) ({ cls := "BalloonMailModel", name := "balloonRegion", desc := "(I)I" } : Jvm.MethodName)) ∈ lw_all := lw_g (lw_at lw_m11 109 rfl) rfl
theorem q2605 : (Jvm.Cond.code ({ cls := "BalloonMailModel", name := "balloonRegion", desc := "(I)I" } : Jvm.MethodName) prog_16_method_75_code (2 : Nat) (Option.some Jvm.ClassFile.FieldType.int)) ∈ lw_all := lw_g (lw_at lw_m11 110 rfl) rfl
theorem q2607 : (Jvm.Cond.instanceMethod ({ cls := "BalloonMailModel", name := "cargo", desc := "(I)I" } : Jvm.MethodName)) ∈ lw_all := lw_g (lw_at lw_m11 112 rfl) rfl
theorem q2608 : (Jvm.Cond.selects "BalloonMailModel" ({ cls := "BalloonMailModel", name := "cargo", desc := "(I)I" } : Jvm.MethodName) ({ cls := "BalloonMailModel", name := "cargo", desc := "(I)I" } : Jvm.MethodName)) ∈ lw_all := lw_g (lw_at lw_m11 113 rfl) rfl
theorem q2609 : (Jvm.Cond.code ({ cls := "BalloonMailModel", name := "cargo", desc := "(I)I" } : Jvm.MethodName) prog_16_method_76_code (2 : Nat) (Option.some Jvm.ClassFile.FieldType.int)) ∈ lw_all := lw_g (lw_at lw_m11 114 rfl) rfl
theorem q2611 : (Jvm.Cond.instanceMethod ({ cls := "BalloonMailModel", name := "letterState", desc := "(I)I" } : Jvm.MethodName)) ∈ lw_all := lw_g (lw_at lw_m11 116 rfl) rfl
theorem q2612 : (Jvm.Cond.selects "BalloonMailModel" ({ cls := "BalloonMailModel", name := "letterState", desc := "(I)I" } : Jvm.MethodName) ({ cls := "BalloonMailModel", name := "letterState", desc := "(I)I" } : Jvm.MethodName)) ∈ lw_all := lw_g (lw_at lw_m11 117 rfl) rfl
theorem q2613 : (Jvm.Cond.code ({ cls := "BalloonMailModel", name := "letterState", desc := "(I)I" } : Jvm.MethodName) prog_16_method_77_code (2 : Nat) (Option.some Jvm.ClassFile.FieldType.int)) ∈ lw_all := lw_g (lw_at lw_m11 118 rfl) rfl
theorem q2615 : (Jvm.Cond.instanceMethod ({ cls := "BalloonMailModel", name := "answerDay", desc := "(I)I" } : Jvm.MethodName)) ∈ lw_all := lw_g (lw_at lw_m11 120 rfl) rfl
theorem q2616 : (Jvm.Cond.selects "BalloonMailModel" ({ cls := "BalloonMailModel", name := "answerDay", desc := "(I)I" } : Jvm.MethodName) ({ cls := "BalloonMailModel", name := "answerDay", desc := "(I)I" } : Jvm.MethodName)) ∈ lw_all := lw_g (lw_at lw_m11 121 rfl) rfl
theorem q2617 : (Jvm.Cond.code ({ cls := "BalloonMailModel", name := "answerDay", desc := "(I)I" } : Jvm.MethodName) prog_16_method_78_code (2 : Nat) (Option.some Jvm.ClassFile.FieldType.int)) ∈ lw_all := lw_g (lw_at lw_m11 122 rfl) rfl
theorem q2619 : (Jvm.Cond.instanceMethod ({ cls := "BalloonMailModel", name := "pigeonsInLoft", desc := "()I" } : Jvm.MethodName)) ∈ lw_all := lw_g (lw_at lw_m11 124 rfl) rfl
theorem q2620 : (Jvm.Cond.selects "BalloonMailModel" ({ cls := "BalloonMailModel", name := "pigeonsInLoft", desc := "()I" } : Jvm.MethodName) ({ cls := "BalloonMailModel", name := "pigeonsInLoft", desc := "()I" } : Jvm.MethodName)) ∈ lw_all := lw_g (lw_at lw_m11 125 rfl) rfl
theorem q2621 : (Jvm.Cond.code ({ cls := "BalloonMailModel", name := "pigeonsInLoft", desc := "()I" } : Jvm.MethodName) prog_16_method_79_code (1 : Nat) (Option.some Jvm.ClassFile.FieldType.int)) ∈ lw_all := lw_g (lw_at lw_m11 126 rfl) rfl
theorem q2623 : (Jvm.Cond.instanceMethod ({ cls := "BalloonMailModel", name := "pigeonsOnTheWay", desc := "()I" } : Jvm.MethodName)) ∈ lw_all := lw_g (lw_at lw_m11 128 rfl) rfl
theorem q2624 : (Jvm.Cond.selects "BalloonMailModel" ({ cls := "BalloonMailModel", name := "pigeonsOnTheWay", desc := "()I" } : Jvm.MethodName) ({ cls := "BalloonMailModel", name := "pigeonsOnTheWay", desc := "()I" } : Jvm.MethodName)) ∈ lw_all := lw_g (lw_at lw_m11 129 rfl) rfl
theorem q2625 : (Jvm.Cond.code ({ cls := "BalloonMailModel", name := "pigeonsOnTheWay", desc := "()I" } : Jvm.MethodName) prog_16_method_80_code (1 : Nat) (Option.some Jvm.ClassFile.FieldType.int)) ∈ lw_all := lw_g (lw_at lw_m11 130 rfl) rfl
theorem q2627 : (Jvm.Cond.instanceMethod ({ cls := "BalloonMailModel", name := "pigeonsLost", desc := "()I" } : Jvm.MethodName)) ∈ lw_all := lw_g (lw_at lw_m11 132 rfl) rfl
theorem q2628 : (Jvm.Cond.selects "BalloonMailModel" ({ cls := "BalloonMailModel", name := "pigeonsLost", desc := "()I" } : Jvm.MethodName) ({ cls := "BalloonMailModel", name := "pigeonsLost", desc := "()I" } : Jvm.MethodName)) ∈ lw_all := lw_g (lw_at lw_m11 133 rfl) rfl
theorem q2629 : (Jvm.Cond.code ({ cls := "BalloonMailModel", name := "pigeonsLost", desc := "()I" } : Jvm.MethodName) prog_16_method_81_code (1 : Nat) (Option.some Jvm.ClassFile.FieldType.int)) ∈ lw_all := lw_g (lw_at lw_m11 134 rfl) rfl
theorem q2631 : (Jvm.Cond.instanceMethod ({ cls := "BalloonMailModel", name := "nextReturn", desc := "()I" } : Jvm.MethodName)) ∈ lw_all := lw_g (lw_at lw_m11 136 rfl) rfl
theorem q2632 : (Jvm.Cond.selects "BalloonMailModel" ({ cls := "BalloonMailModel", name := "nextReturn", desc := "()I" } : Jvm.MethodName) ({ cls := "BalloonMailModel", name := "nextReturn", desc := "()I" } : Jvm.MethodName)) ∈ lw_all := lw_g (lw_at lw_m11 137 rfl) rfl
theorem q2633 : (Jvm.Cond.code ({ cls := "BalloonMailModel", name := "nextReturn", desc := "()I" } : Jvm.MethodName) prog_16_method_82_code (3 : Nat) (Option.some Jvm.ClassFile.FieldType.int)) ∈ lw_all := lw_g (lw_at lw_m11 138 rfl) rfl
theorem q2635 : (Jvm.Cond.instanceMethod ({ cls := "BalloonMailModel", name := "weightIn", desc := "(I)I" } : Jvm.MethodName)) ∈ lw_all := lw_g (lw_at lw_m11 140 rfl) rfl
theorem q2636 : (Jvm.Cond.selects "BalloonMailModel" ({ cls := "BalloonMailModel", name := "weightIn", desc := "(I)I" } : Jvm.MethodName) ({ cls := "BalloonMailModel", name := "weightIn", desc := "(I)I" } : Jvm.MethodName)) ∈ lw_all := lw_g (lw_at lw_m11 141 rfl) rfl
theorem q2637 : (Jvm.Cond.code ({ cls := "BalloonMailModel", name := "weightIn", desc := "(I)I" } : Jvm.MethodName) prog_16_method_83_code (2 : Nat) (Option.some Jvm.ClassFile.FieldType.int)) ∈ lw_all := lw_g (lw_at lw_m11 142 rfl) rfl
theorem q2639 : (Jvm.Cond.instanceMethod ({ cls := "BalloonMailModel", name := "answeredPriority", desc := "()I" } : Jvm.MethodName)) ∈ lw_all := lw_g (lw_at lw_m11 144 rfl) rfl
theorem q2640 : (Jvm.Cond.selects "BalloonMailModel" ({ cls := "BalloonMailModel", name := "answeredPriority", desc := "()I" } : Jvm.MethodName) ({ cls := "BalloonMailModel", name := "answeredPriority", desc := "()I" } : Jvm.MethodName)) ∈ lw_all := lw_g (lw_at lw_m11 145 rfl) rfl
theorem q2641 : (Jvm.Cond.code ({ cls := "BalloonMailModel", name := "answeredPriority", desc := "()I" } : Jvm.MethodName) prog_16_method_84_code (1 : Nat) (Option.some Jvm.ClassFile.FieldType.int)) ∈ lw_all := lw_g (lw_at lw_m11 146 rfl) rfl
theorem q2643 : (Jvm.Cond.instanceMethod ({ cls := "BalloonMailModel", name := "balloonsIn", desc := "(I)I" } : Jvm.MethodName)) ∈ lw_all := lw_g (lw_at lw_m11 148 rfl) rfl
theorem q2644 : (Jvm.Cond.selects "BalloonMailModel" ({ cls := "BalloonMailModel", name := "balloonsIn", desc := "(I)I" } : Jvm.MethodName) ({ cls := "BalloonMailModel", name := "balloonsIn", desc := "(I)I" } : Jvm.MethodName)) ∈ lw_all := lw_g (lw_at lw_m11 149 rfl) rfl
theorem q2645 : (Jvm.Cond.code ({ cls := "BalloonMailModel", name := "balloonsIn", desc := "(I)I" } : Jvm.MethodName) prog_16_method_85_code (4 : Nat) (Option.some Jvm.ClassFile.FieldType.int)) ∈ lw_all := lw_g (lw_at lw_m11 150 rfl) rfl
theorem q2647 : (Jvm.Cond.instanceMethod ({ cls := "BalloonMailModel", name := "eventCount", desc := "()I" } : Jvm.MethodName)) ∈ lw_all := lw_g (lw_at lw_m11 152 rfl) rfl
theorem q2648 : (Jvm.Cond.selects "BalloonMailModel" ({ cls := "BalloonMailModel", name := "eventCount", desc := "()I" } : Jvm.MethodName) ({ cls := "BalloonMailModel", name := "eventCount", desc := "()I" } : Jvm.MethodName)) ∈ lw_all := lw_g (lw_at lw_m11 153 rfl) rfl
theorem q2649 : (Jvm.Cond.code ({ cls := "BalloonMailModel", name := "eventCount", desc := "()I" } : Jvm.MethodName) prog_16_method_86_code (1 : Nat) (Option.some Jvm.ClassFile.FieldType.int)) ∈ lw_all := lw_g (lw_at lw_m11 154 rfl) rfl
theorem q2651 : (Jvm.Cond.instanceMethod ({ cls := "BalloonMailModel", name := "eventKind", desc := "(I)I" } : Jvm.MethodName)) ∈ lw_all := lw_g (lw_at lw_m11 156 rfl) rfl
theorem q2652 : (Jvm.Cond.selects "BalloonMailModel" ({ cls := "BalloonMailModel", name := "eventKind", desc := "(I)I" } : Jvm.MethodName) ({ cls := "BalloonMailModel", name := "eventKind", desc := "(I)I" } : Jvm.MethodName)) ∈ lw_all := lw_g (lw_at lw_m11 157 rfl) rfl
theorem q2653 : (Jvm.Cond.code ({ cls := "BalloonMailModel", name := "eventKind", desc := "(I)I" } : Jvm.MethodName) prog_16_method_88_code (2 : Nat) (Option.some Jvm.ClassFile.FieldType.int)) ∈ lw_all := lw_g (lw_at lw_m11 158 rfl) rfl
theorem q2654 : (Jvm.Cond.methodLink "BalloonMailModel" (338 : Nat) ({ cls := "BalloonMailModel", name := "event", desc := "(II)I" } : Jvm.MethodName)) ∈ lw_all := lw_g (lw_at lw_m11 159 rfl) rfl
theorem q2655 : (Jvm.Cond.privateMethod ({ cls := "BalloonMailModel", name := "event", desc := "(II)I" } : Jvm.MethodName)) ∈ lw_tbl := lw_at lw_m11 160 rfl
theorem q2656 : (Jvm.Cond.instanceMethod ({ cls := "BalloonMailModel", name := "event", desc := "(II)I" } : Jvm.MethodName)) ∈ lw_all := lw_g (lw_at lw_m11 161 rfl) rfl
theorem q2657 : (Jvm.Cond.code ({ cls := "BalloonMailModel", name := "event", desc := "(II)I" } : Jvm.MethodName) prog_16_method_87_code (3 : Nat) (Option.some Jvm.ClassFile.FieldType.int)) ∈ lw_all := lw_g (lw_at lw_m11 162 rfl) rfl
theorem q2659 : (Jvm.Cond.instanceMethod ({ cls := "BalloonMailModel", name := "eventNumber", desc := "(I)I" } : Jvm.MethodName)) ∈ lw_all := lw_g (lw_at lw_m11 164 rfl) rfl
theorem q2660 : (Jvm.Cond.selects "BalloonMailModel" ({ cls := "BalloonMailModel", name := "eventNumber", desc := "(I)I" } : Jvm.MethodName) ({ cls := "BalloonMailModel", name := "eventNumber", desc := "(I)I" } : Jvm.MethodName)) ∈ lw_all := lw_g (lw_at lw_m11 165 rfl) rfl
theorem q2661 : (Jvm.Cond.code ({ cls := "BalloonMailModel", name := "eventNumber", desc := "(I)I" } : Jvm.MethodName) prog_16_method_89_code (2 : Nat) (Option.some Jvm.ClassFile.FieldType.int)) ∈ lw_all := lw_g (lw_at lw_m11 166 rfl) rfl
theorem q2663 : (Jvm.Cond.instanceMethod ({ cls := "BalloonMailModel", name := "eventDay", desc := "(I)I" } : Jvm.MethodName)) ∈ lw_all := lw_g (lw_at lw_m11 168 rfl) rfl
theorem q2664 : (Jvm.Cond.selects "BalloonMailModel" ({ cls := "BalloonMailModel", name := "eventDay", desc := "(I)I" } : Jvm.MethodName) ({ cls := "BalloonMailModel", name := "eventDay", desc := "(I)I" } : Jvm.MethodName)) ∈ lw_all := lw_g (lw_at lw_m11 169 rfl) rfl
theorem q2665 : (Jvm.Cond.code ({ cls := "BalloonMailModel", name := "eventDay", desc := "(I)I" } : Jvm.MethodName) prog_16_method_90_code (2 : Nat) (Option.some Jvm.ClassFile.FieldType.int)) ∈ lw_all := lw_g (lw_at lw_m11 170 rfl) rfl
theorem q2667 : (Jvm.Cond.instanceMethod ({ cls := "BalloonMailModel", name := "undo", desc := "()Z" } : Jvm.MethodName)) ∈ lw_all := lw_g (lw_at lw_m11 172 rfl) rfl
theorem q2668 : (Jvm.Cond.selects "BalloonMailModel" ({ cls := "BalloonMailModel", name := "undo", desc := "()Z" } : Jvm.MethodName) ({ cls := "BalloonMailModel", name := "undo", desc := "()Z" } : Jvm.MethodName)) ∈ lw_all := lw_g (lw_at lw_m11 173 rfl) rfl
theorem q2669 : (Jvm.Cond.code ({ cls := "BalloonMailModel", name := "undo", desc := "()Z" } : Jvm.MethodName) prog_16_method_92_code (1 : Nat) (Option.some Jvm.ClassFile.FieldType.boolean)) ∈ lw_all := lw_g (lw_at lw_m11 174 rfl) rfl
theorem q2671 : (Jvm.Cond.instanceMethod ({ cls := "BalloonMailModel", name := "undoDepth", desc := "()I" } : Jvm.MethodName)) ∈ lw_all := lw_g (lw_at lw_m11 176 rfl) rfl
theorem q2672 : (Jvm.Cond.selects "BalloonMailModel" ({ cls := "BalloonMailModel", name := "undoDepth", desc := "()I" } : Jvm.MethodName) ({ cls := "BalloonMailModel", name := "undoDepth", desc := "()I" } : Jvm.MethodName)) ∈ lw_all := lw_g (lw_at lw_m11 177 rfl) rfl
theorem q2673 : (Jvm.Cond.code ({ cls := "BalloonMailModel", name := "undoDepth", desc := "()I" } : Jvm.MethodName) prog_16_method_93_code (1 : Nat) (Option.some Jvm.ClassFile.FieldType.int)) ∈ lw_all := lw_g (lw_at lw_m11 178 rfl) rfl
theorem q2675 : (Jvm.Cond.instanceMethod ({ cls := "BalloonMailModel", name := "saveSnapshot", desc := "(I)Z" } : Jvm.MethodName)) ∈ lw_all := lw_g (lw_at lw_m11 180 rfl) rfl
theorem q2676 : (Jvm.Cond.selects "BalloonMailModel" ({ cls := "BalloonMailModel", name := "saveSnapshot", desc := "(I)Z" } : Jvm.MethodName) ({ cls := "BalloonMailModel", name := "saveSnapshot", desc := "(I)Z" } : Jvm.MethodName)) ∈ lw_all := lw_g (lw_at lw_m11 181 rfl) rfl
theorem q2677 : (Jvm.Cond.code ({ cls := "BalloonMailModel", name := "saveSnapshot", desc := "(I)Z" } : Jvm.MethodName) prog_16_method_94_code (2 : Nat) (Option.some Jvm.ClassFile.FieldType.boolean)) ∈ lw_all := lw_g (lw_at lw_m11 182 rfl) rfl
theorem q2679 : (Jvm.Cond.instanceMethod ({ cls := "BalloonMailModel", name := "restoreSnapshot", desc := "(I)Z" } : Jvm.MethodName)) ∈ lw_all := lw_g (lw_at lw_m11 184 rfl) rfl
theorem q2680 : (Jvm.Cond.selects "BalloonMailModel" ({ cls := "BalloonMailModel", name := "restoreSnapshot", desc := "(I)Z" } : Jvm.MethodName) ({ cls := "BalloonMailModel", name := "restoreSnapshot", desc := "(I)Z" } : Jvm.MethodName)) ∈ lw_all := lw_g (lw_at lw_m11 185 rfl) rfl
theorem q2681 : (Jvm.Cond.code ({ cls := "BalloonMailModel", name := "restoreSnapshot", desc := "(I)Z" } : Jvm.MethodName) prog_16_method_95_code (2 : Nat) (Option.some Jvm.ClassFile.FieldType.boolean)) ∈ lw_all := lw_g (lw_at lw_m11 186 rfl) rfl
theorem q2705 : (Jvm.Cond.castable "BalloonMailModel" "java/lang/Object") ∈ lw_tbl := lw_at lw_m11 210 rfl
theorem in_X4 : ∀ w ∈ wsX40, w ∈ lw_all := lw_in wsX40 [2197, 2199, 2201, 2203, 2205, 2207, 2209, 2211, 2213, 2215, 2217, 2219, 2221, 2223, 2225, 2227, 2229, 2231, 2233, 2235, 2237, 2239, 2241, 2243, 2245, 2247, 2249, 2251, 2253, 2255, 2257, 2259, 2261, 2263, 2265, 2267, 2269, 2271, 2273, 2275, 2277, 2279, 2281, 2283, 2285] (by decide +kernel) (by decide +kernel)
