/-! BalloonMailLaw -/
set_option maxRecDepth 100000
def RX0 : String := "BalloonMailLaw"
abbrev cX0_eventKind : ByteArray := method_3_code
def yX0_eventKind : MethodName := ⟨RX0, "eventKind", "(LBalloonMail;I[J)I"⟩
def dkwX0_eventKind_0 : List UInt8 := [44, 3, 42, 27, 182, 0, 7, 133, 80, 167, 0, 6, 78, 4, 172, 3, 172]
abbrev dktX0_eventKind_0 : List UInt8 := dkwX0_eventKind_0 ++ []
theorem dksX0_eventKind_0 : cX0_eventKind.data.toList.drop 0 = dktX0_eventKind_0 := by decide +kernel
theorem dX0_eventKind_0 : decode cX0_eventKind 0 = .ok (.aload_n 2, 1) := dk_44 (dk_at dksX0_eventKind_0 0 rfl rfl)
theorem dX0_eventKind_1 : decode cX0_eventKind 1 = .ok (.iconst 0, 1) := dk_3 (dk_at dksX0_eventKind_0 1 rfl rfl)
theorem dX0_eventKind_2 : decode cX0_eventKind 2 = .ok (.aload_n 0, 1) := dk_42 (dk_at dksX0_eventKind_0 2 rfl rfl)
theorem dX0_eventKind_3 : decode cX0_eventKind 3 = .ok (.iload_n 1, 1) := dk_27 (dk_at dksX0_eventKind_0 3 rfl rfl)
theorem dX0_eventKind_4 : decode cX0_eventKind 4 = .ok (.invokevirtual 7, 3) := dk_182 0 7 (dk_at dksX0_eventKind_0 4 rfl rfl)
theorem dX0_eventKind_7 : decode cX0_eventKind 7 = .ok (.i2l, 1) := dk_133 (dk_at dksX0_eventKind_0 7 rfl rfl)
theorem dX0_eventKind_8 : decode cX0_eventKind 8 = .ok (.lastore, 1) := dk_80 (dk_at dksX0_eventKind_0 8 rfl rfl)
theorem dX0_eventKind_9 : decode cX0_eventKind 9 = .ok (.goto 6, 3) := dk_167 0 6 (dk_at dksX0_eventKind_0 9 rfl rfl)
theorem dX0_eventKind_12 : decode cX0_eventKind 12 = .ok (.astore_n 3, 1) := dk_78 (dk_at dksX0_eventKind_0 12 rfl rfl)
theorem dX0_eventKind_13 : decode cX0_eventKind 13 = .ok (.iconst 1, 1) := dk_4 (dk_at dksX0_eventKind_0 13 rfl rfl)
theorem dX0_eventKind_14 : decode cX0_eventKind 14 = .ok (.ireturn, 1) := dk_172 (dk_at dksX0_eventKind_0 14 rfl rfl)
theorem dX0_eventKind_15 : decode cX0_eventKind 15 = .ok (.iconst 0, 1) := dk_3 (dk_at dksX0_eventKind_0 15 rfl rfl)
theorem dX0_eventKind_16 : decode cX0_eventKind 16 = .ok (.ireturn, 1) := dk_172 (dk_at dksX0_eventKind_0 16 rfl rfl)
abbrev cX0_eventNumber : ByteArray := method_4_code
def yX0_eventNumber : MethodName := ⟨RX0, "eventNumber", "(LBalloonMail;I[J)I"⟩
def dkwX0_eventNumber_0 : List UInt8 := [44, 3, 42, 27, 182, 0, 15, 133, 80, 167, 0, 6, 78, 4, 172, 3, 172]
abbrev dktX0_eventNumber_0 : List UInt8 := dkwX0_eventNumber_0 ++ []
theorem dksX0_eventNumber_0 : cX0_eventNumber.data.toList.drop 0 = dktX0_eventNumber_0 := by decide +kernel
theorem dX0_eventNumber_0 : decode cX0_eventNumber 0 = .ok (.aload_n 2, 1) := dk_44 (dk_at dksX0_eventNumber_0 0 rfl rfl)
theorem dX0_eventNumber_1 : decode cX0_eventNumber 1 = .ok (.iconst 0, 1) := dk_3 (dk_at dksX0_eventNumber_0 1 rfl rfl)
theorem dX0_eventNumber_2 : decode cX0_eventNumber 2 = .ok (.aload_n 0, 1) := dk_42 (dk_at dksX0_eventNumber_0 2 rfl rfl)
theorem dX0_eventNumber_3 : decode cX0_eventNumber 3 = .ok (.iload_n 1, 1) := dk_27 (dk_at dksX0_eventNumber_0 3 rfl rfl)
theorem dX0_eventNumber_4 : decode cX0_eventNumber 4 = .ok (.invokevirtual 15, 3) := dk_182 0 15 (dk_at dksX0_eventNumber_0 4 rfl rfl)
theorem dX0_eventNumber_7 : decode cX0_eventNumber 7 = .ok (.i2l, 1) := dk_133 (dk_at dksX0_eventNumber_0 7 rfl rfl)
theorem dX0_eventNumber_8 : decode cX0_eventNumber 8 = .ok (.lastore, 1) := dk_80 (dk_at dksX0_eventNumber_0 8 rfl rfl)
theorem dX0_eventNumber_9 : decode cX0_eventNumber 9 = .ok (.goto 6, 3) := dk_167 0 6 (dk_at dksX0_eventNumber_0 9 rfl rfl)
theorem dX0_eventNumber_12 : decode cX0_eventNumber 12 = .ok (.astore_n 3, 1) := dk_78 (dk_at dksX0_eventNumber_0 12 rfl rfl)
theorem dX0_eventNumber_13 : decode cX0_eventNumber 13 = .ok (.iconst 1, 1) := dk_4 (dk_at dksX0_eventNumber_0 13 rfl rfl)
theorem dX0_eventNumber_14 : decode cX0_eventNumber 14 = .ok (.ireturn, 1) := dk_172 (dk_at dksX0_eventNumber_0 14 rfl rfl)
theorem dX0_eventNumber_15 : decode cX0_eventNumber 15 = .ok (.iconst 0, 1) := dk_3 (dk_at dksX0_eventNumber_0 15 rfl rfl)
theorem dX0_eventNumber_16 : decode cX0_eventNumber 16 = .ok (.ireturn, 1) := dk_172 (dk_at dksX0_eventNumber_0 16 rfl rfl)
abbrev cX0_eventDay : ByteArray := method_5_code
def yX0_eventDay : MethodName := ⟨RX0, "eventDay", "(LBalloonMail;I[J)I"⟩
def dkwX0_eventDay_0 : List UInt8 := [44, 3, 42, 27, 182, 0, 18, 133, 80, 167, 0, 6, 78, 4, 172, 3, 172]
abbrev dktX0_eventDay_0 : List UInt8 := dkwX0_eventDay_0 ++ []
theorem dksX0_eventDay_0 : cX0_eventDay.data.toList.drop 0 = dktX0_eventDay_0 := by decide +kernel
theorem dX0_eventDay_0 : decode cX0_eventDay 0 = .ok (.aload_n 2, 1) := dk_44 (dk_at dksX0_eventDay_0 0 rfl rfl)
theorem dX0_eventDay_1 : decode cX0_eventDay 1 = .ok (.iconst 0, 1) := dk_3 (dk_at dksX0_eventDay_0 1 rfl rfl)
theorem dX0_eventDay_2 : decode cX0_eventDay 2 = .ok (.aload_n 0, 1) := dk_42 (dk_at dksX0_eventDay_0 2 rfl rfl)
theorem dX0_eventDay_3 : decode cX0_eventDay 3 = .ok (.iload_n 1, 1) := dk_27 (dk_at dksX0_eventDay_0 3 rfl rfl)
theorem dX0_eventDay_4 : decode cX0_eventDay 4 = .ok (.invokevirtual 18, 3) := dk_182 0 18 (dk_at dksX0_eventDay_0 4 rfl rfl)
theorem dX0_eventDay_7 : decode cX0_eventDay 7 = .ok (.i2l, 1) := dk_133 (dk_at dksX0_eventDay_0 7 rfl rfl)
theorem dX0_eventDay_8 : decode cX0_eventDay 8 = .ok (.lastore, 1) := dk_80 (dk_at dksX0_eventDay_0 8 rfl rfl)
theorem dX0_eventDay_9 : decode cX0_eventDay 9 = .ok (.goto 6, 3) := dk_167 0 6 (dk_at dksX0_eventDay_0 9 rfl rfl)
theorem dX0_eventDay_12 : decode cX0_eventDay 12 = .ok (.astore_n 3, 1) := dk_78 (dk_at dksX0_eventDay_0 12 rfl rfl)
theorem dX0_eventDay_13 : decode cX0_eventDay 13 = .ok (.iconst 1, 1) := dk_4 (dk_at dksX0_eventDay_0 13 rfl rfl)
theorem dX0_eventDay_14 : decode cX0_eventDay 14 = .ok (.ireturn, 1) := dk_172 (dk_at dksX0_eventDay_0 14 rfl rfl)
theorem dX0_eventDay_15 : decode cX0_eventDay 15 = .ok (.iconst 0, 1) := dk_3 (dk_at dksX0_eventDay_0 15 rfl rfl)
theorem dX0_eventDay_16 : decode cX0_eventDay 16 = .ok (.ireturn, 1) := dk_172 (dk_at dksX0_eventDay_0 16 rfl rfl)
theorem q95 : (Jvm.Cond.initialized "BalloonMailLaw") ∈ lw_all := lw_g (lw_at lw_m1 0 rfl) rfl
theorem q152 : (Jvm.Cond.classLink "BalloonMailLaw" (8 : Nat) "BalloonMail") ∈ lw_all := lw_g (lw_at lw_m1 57 rfl) rfl
theorem q154 : (Jvm.Cond.methodLink "BalloonMailLaw" (21 : Nat) ({ cls := "BalloonMail", name := "<init>", desc := "()V" } : Jvm.MethodName)) ∈ lw_all := lw_g (lw_at lw_m1 59 rfl) rfl
theorem q402 : (Jvm.Cond.methodLink "BalloonMailLaw" (25 : Nat) ({ cls := "BalloonMail", name := "append", desc := "(IIIII)I" } : Jvm.MethodName)) ∈ lw_all := lw_g (lw_at lw_m2 67 rfl) rfl
theorem q410 : (Jvm.Cond.methodLink "BalloonMailLaw" (30 : Nat) ({ cls := "BalloonMail", name := "parse", desc := "(I)I" } : Jvm.MethodName)) ∈ lw_all := lw_g (lw_at lw_m2 75 rfl) rfl
theorem q1280 : (Jvm.Cond.methodLink "BalloonMailLaw" (34 : Nat) ({ cls := "BalloonMail", name := "errorPosition", desc := "()I" } : Jvm.MethodName)) ∈ lw_all := lw_g (lw_at lw_m5 225 rfl) rfl
theorem q1284 : (Jvm.Cond.methodLink "BalloonMailLaw" (39 : Nat) ({ cls := "BalloonMail", name := "regionCount", desc := "()I" } : Jvm.MethodName)) ∈ lw_all := lw_g (lw_at lw_m5 229 rfl) rfl
theorem q1289 : (Jvm.Cond.methodLink "BalloonMailLaw" (43 : Nat) ({ cls := "BalloonMail", name := "windCount", desc := "()I" } : Jvm.MethodName)) ∈ lw_all := lw_g (lw_at lw_m5 234 rfl) rfl
theorem q1293 : (Jvm.Cond.methodLink "BalloonMailLaw" (47 : Nat) ({ cls := "BalloonMail", name := "balloonCount", desc := "()I" } : Jvm.MethodName)) ∈ lw_all := lw_g (lw_at lw_m5 238 rfl) rfl
theorem q1297 : (Jvm.Cond.methodLink "BalloonMailLaw" (51 : Nat) ({ cls := "BalloonMail", name := "letterCount", desc := "()I" } : Jvm.MethodName)) ∈ lw_all := lw_g (lw_at lw_m6 2 rfl) rfl
theorem q1301 : (Jvm.Cond.methodLink "BalloonMailLaw" (55 : Nat) ({ cls := "BalloonMail", name := "capacity", desc := "(I)I" } : Jvm.MethodName)) ∈ lw_all := lw_g (lw_at lw_m6 6 rfl) rfl
theorem q1312 : (Jvm.Cond.methodLink "BalloonMailLaw" (59 : Nat) ({ cls := "BalloonMail", name := "letterWeight", desc := "(I)I" } : Jvm.MethodName)) ∈ lw_all := lw_g (lw_at lw_m6 17 rfl) rfl
theorem q1322 : (Jvm.Cond.methodLink "BalloonMailLaw" (63 : Nat) ({ cls := "BalloonMail", name := "windChance", desc := "(II)J" } : Jvm.MethodName)) ∈ lw_all := lw_g (lw_at lw_m6 27 rfl) rfl
theorem q1347 : (Jvm.Cond.methodLink "BalloonMailLaw" (68 : Nat) ({ cls := "BalloonMail", name := "avoidChance", desc := "(II)J" } : Jvm.MethodName)) ∈ lw_all := lw_g (lw_at lw_m6 52 rfl) rfl
theorem q1351 : (Jvm.Cond.methodLink "BalloonMailLaw" (72 : Nat) ({ cls := "BalloonMail", name := "landingChance", desc := "(II)J" } : Jvm.MethodName)) ∈ lw_all := lw_g (lw_at lw_m6 56 rfl) rfl
theorem q1361 : (Jvm.Cond.methodLink "BalloonMailLaw" (76 : Nat) ({ cls := "BalloonMail", name := "deliveryChance", desc := "(I)J" } : Jvm.MethodName)) ∈ lw_all := lw_g (lw_at lw_m6 66 rfl) rfl
theorem q1376 : (Jvm.Cond.methodLink "BalloonMailLaw" (81 : Nat) ({ cls := "BalloonMail", name := "answerChance", desc := "(II)J" } : Jvm.MethodName)) ∈ lw_all := lw_g (lw_at lw_m6 81 rfl) rfl
theorem q1395 : (Jvm.Cond.methodLink "BalloonMailLaw" (85 : Nat) ({ cls := "BalloonMail", name := "answerPermille", desc := "(II)I" } : Jvm.MethodName)) ∈ lw_all := lw_g (lw_at lw_m6 100 rfl) rfl
theorem q1400 : (Jvm.Cond.methodLink "BalloonMailLaw" (90 : Nat) ({ cls := "BalloonMail", name := "bestDay", desc := "(I)I" } : Jvm.MethodName)) ∈ lw_all := lw_g (lw_at lw_m6 105 rfl) rfl
theorem q1408 : (Jvm.Cond.methodLink "BalloonMailLaw" (94 : Nat) ({ cls := "BalloonMail", name := "assignmentTotal", desc := "()J" } : Jvm.MethodName)) ∈ lw_all := lw_g (lw_at lw_m6 113 rfl) rfl
theorem q1423 : (Jvm.Cond.methodLink "BalloonMailLaw" (99 : Nat) ({ cls := "BalloonMail", name := "assignedDay", desc := "(I)I" } : Jvm.MethodName)) ∈ lw_all := lw_g (lw_at lw_m6 128 rfl) rfl
theorem q1427 : (Jvm.Cond.methodLink "BalloonMailLaw" (103 : Nat) ({ cls := "BalloonMail", name := "bestLoad", desc := "(I)I" } : Jvm.MethodName)) ∈ lw_all := lw_g (lw_at lw_m6 132 rfl) rfl
theorem q1440 : (Jvm.Cond.methodLink "BalloonMailLaw" (107 : Nat) ({ cls := "BalloonMail", name := "weightOf", desc := "(I)I" } : Jvm.MethodName)) ∈ lw_all := lw_g (lw_at lw_m6 145 rfl) rfl
theorem q1455 : (Jvm.Cond.methodLink "BalloonMailLaw" (111 : Nat) ({ cls := "BalloonMail", name := "priorityOf", desc := "(I)I" } : Jvm.MethodName)) ∈ lw_all := lw_g (lw_at lw_m6 160 rfl) rfl
theorem q1463 : (Jvm.Cond.methodLink "BalloonMailLaw" (115 : Nat) ({ cls := "BalloonMail", name := "lettersIn", desc := "(I)I" } : Jvm.MethodName)) ∈ lw_all := lw_g (lw_at lw_m6 168 rfl) rfl
theorem q1475 : (Jvm.Cond.methodLink "BalloonMailLaw" (119 : Nat) ({ cls := "BalloonMail", name := "day", desc := "()I" } : Jvm.MethodName)) ∈ lw_all := lw_g (lw_at lw_m6 180 rfl) rfl
theorem q1479 : (Jvm.Cond.methodLink "BalloonMailLaw" (123 : Nat) ({ cls := "BalloonMail", name := "wind", desc := "()I" } : Jvm.MethodName)) ∈ lw_all := lw_g (lw_at lw_m6 184 rfl) rfl
theorem q1483 : (Jvm.Cond.methodLink "BalloonMailLaw" (127 : Nat) ({ cls := "BalloonMail", name := "launch", desc := "(II)I" } : Jvm.MethodName)) ∈ lw_all := lw_g (lw_at lw_m6 188 rfl) rfl
theorem q1915 : (Jvm.Cond.methodLink "BalloonMailLaw" (131 : Nat) ({ cls := "BalloonMail", name := "nextDay", desc := "()I" } : Jvm.MethodName)) ∈ lw_all := lw_g (lw_at lw_m8 140 rfl) rfl
theorem q2015 : (Jvm.Cond.methodLink "BalloonMailLaw" (135 : Nat) ({ cls := "BalloonMail", name := "balloonState", desc := "(I)I" } : Jvm.MethodName)) ∈ lw_all := lw_g (lw_at lw_m9 0 rfl) rfl
theorem q2019 : (Jvm.Cond.methodLink "BalloonMailLaw" (139 : Nat) ({ cls := "BalloonMail", name := "balloonRegion", desc := "(I)I" } : Jvm.MethodName)) ∈ lw_all := lw_g (lw_at lw_m9 4 rfl) rfl
theorem q2023 : (Jvm.Cond.methodLink "BalloonMailLaw" (143 : Nat) ({ cls := "BalloonMail", name := "cargo", desc := "(I)I" } : Jvm.MethodName)) ∈ lw_all := lw_g (lw_at lw_m9 8 rfl) rfl
theorem q2028 : (Jvm.Cond.methodLink "BalloonMailLaw" (147 : Nat) ({ cls := "BalloonMail", name := "letterState", desc := "(I)I" } : Jvm.MethodName)) ∈ lw_all := lw_g (lw_at lw_m9 13 rfl) rfl
theorem q2032 : (Jvm.Cond.methodLink "BalloonMailLaw" (151 : Nat) ({ cls := "BalloonMail", name := "answerDay", desc := "(I)I" } : Jvm.MethodName)) ∈ lw_all := lw_g (lw_at lw_m9 17 rfl) rfl
theorem q2036 : (Jvm.Cond.methodLink "BalloonMailLaw" (155 : Nat) ({ cls := "BalloonMail", name := "pigeonsInLoft", desc := "()I" } : Jvm.MethodName)) ∈ lw_all := lw_g (lw_at lw_m9 21 rfl) rfl
theorem q2040 : (Jvm.Cond.methodLink "BalloonMailLaw" (159 : Nat) ({ cls := "BalloonMail", name := "pigeonsOnTheWay", desc := "()I" } : Jvm.MethodName)) ∈ lw_all := lw_g (lw_at lw_m9 25 rfl) rfl
theorem q2045 : (Jvm.Cond.methodLink "BalloonMailLaw" (163 : Nat) ({ cls := "BalloonMail", name := "pigeonsLost", desc := "()I" } : Jvm.MethodName)) ∈ lw_all := lw_g (lw_at lw_m9 30 rfl) rfl
theorem q2049 : (Jvm.Cond.methodLink "BalloonMailLaw" (167 : Nat) ({ cls := "BalloonMail", name := "nextReturn", desc := "()I" } : Jvm.MethodName)) ∈ lw_all := lw_g (lw_at lw_m9 34 rfl) rfl
theorem q2053 : (Jvm.Cond.methodLink "BalloonMailLaw" (171 : Nat) ({ cls := "BalloonMail", name := "weightIn", desc := "(I)I" } : Jvm.MethodName)) ∈ lw_all := lw_g (lw_at lw_m9 38 rfl) rfl
theorem q2057 : (Jvm.Cond.methodLink "BalloonMailLaw" (175 : Nat) ({ cls := "BalloonMail", name := "answeredPriority", desc := "()I" } : Jvm.MethodName)) ∈ lw_all := lw_g (lw_at lw_m9 42 rfl) rfl
theorem q2061 : (Jvm.Cond.methodLink "BalloonMailLaw" (179 : Nat) ({ cls := "BalloonMail", name := "balloonsIn", desc := "(I)I" } : Jvm.MethodName)) ∈ lw_all := lw_g (lw_at lw_m9 46 rfl) rfl
theorem q2065 : (Jvm.Cond.methodLink "BalloonMailLaw" (183 : Nat) ({ cls := "BalloonMail", name := "eventCount", desc := "()I" } : Jvm.MethodName)) ∈ lw_all := lw_g (lw_at lw_m9 50 rfl) rfl
theorem q2070 : (Jvm.Cond.methodLink "BalloonMailLaw" (202 : Nat) ({ cls := "BalloonMail", name := "undo", desc := "()Z" } : Jvm.MethodName)) ∈ lw_all := lw_g (lw_at lw_m9 55 rfl) rfl
theorem q2078 : (Jvm.Cond.methodLink "BalloonMailLaw" (207 : Nat) ({ cls := "BalloonMail", name := "undoDepth", desc := "()I" } : Jvm.MethodName)) ∈ lw_all := lw_g (lw_at lw_m9 63 rfl) rfl
theorem q2082 : (Jvm.Cond.methodLink "BalloonMailLaw" (211 : Nat) ({ cls := "BalloonMail", name := "saveSnapshot", desc := "(I)Z" } : Jvm.MethodName)) ∈ lw_all := lw_g (lw_at lw_m9 67 rfl) rfl
theorem q2086 : (Jvm.Cond.methodLink "BalloonMailLaw" (216 : Nat) ({ cls := "BalloonMail", name := "restoreSnapshot", desc := "(I)Z" } : Jvm.MethodName)) ∈ lw_all := lw_g (lw_at lw_m9 71 rfl) rfl
theorem q2090 : (Jvm.Cond.methodLink "BalloonMailLaw" (187 : Nat) ({ cls := "BalloonMailLaw", name := "eventKind", desc := "(LBalloonMail;I[J)I" } : Jvm.MethodName)) ∈ lw_all := lw_g (lw_at lw_m9 75 rfl) rfl
theorem q2091 : (Jvm.Cond.static ({ cls := "BalloonMailLaw", name := "eventKind", desc := "(LBalloonMail;I[J)I" } : Jvm.MethodName)) ∈ lw_all := lw_g (lw_at lw_m9 76 rfl) rfl
theorem q2092 : (Jvm.Cond.codeWith ({ cls := "BalloonMailLaw", name := "eventKind", desc := "(LBalloonMail;I[J)I" } : Jvm.MethodName) method_3_code (4 : Nat) (Option.some Jvm.ClassFile.FieldType.int) [((0 : Nat), (9 : Nat), (12 : Nat), (13 : Nat))]) ∈ lw_all := lw_g (lw_at lw_m9 77 rfl) rfl
theorem q2093 : (Jvm.Cond.classLink "BalloonMailLaw" (13 : Nat) "java/lang/IndexOutOfBoundsException") ∈ lw_all := lw_g (lw_at lw_m9 78 rfl) rfl
theorem q2109 : (Jvm.Cond.methodLink "BalloonMailLaw" (7 : Nat) ({ cls := "BalloonMail", name := "eventKind", desc := "(I)I" } : Jvm.MethodName)) ∈ lw_all := lw_g (lw_at lw_m9 94 rfl) rfl
theorem q2124 : (Jvm.Cond.methodLink "BalloonMailLaw" (196 : Nat) ({ cls := "BalloonMailLaw", name := "eventNumber", desc := "(LBalloonMail;I[J)I" } : Jvm.MethodName)) ∈ lw_all := lw_g (lw_at lw_m9 109 rfl) rfl
theorem q2125 : (Jvm.Cond.static ({ cls := "BalloonMailLaw", name := "eventNumber", desc := "(LBalloonMail;I[J)I" } : Jvm.MethodName)) ∈ lw_all := lw_g (lw_at lw_m9 110 rfl) rfl
theorem q2126 : (Jvm.Cond.codeWith ({ cls := "BalloonMailLaw", name := "eventNumber", desc := "(LBalloonMail;I[J)I" } : Jvm.MethodName) method_4_code (4 : Nat) (Option.some Jvm.ClassFile.FieldType.int) [((0 : Nat), (9 : Nat), (12 : Nat), (13 : Nat))]) ∈ lw_all := lw_g (lw_at lw_m9 111 rfl) rfl
theorem q2127 : (Jvm.Cond.methodLink "BalloonMailLaw" (15 : Nat) ({ cls := "BalloonMail", name := "eventNumber", desc := "(I)I" } : Jvm.MethodName)) ∈ lw_all := lw_g (lw_at lw_m9 112 rfl) rfl
theorem q2131 : (Jvm.Cond.methodLink "BalloonMailLaw" (199 : Nat) ({ cls := "BalloonMailLaw", name := "eventDay", desc := "(LBalloonMail;I[J)I" } : Jvm.MethodName)) ∈ lw_all := lw_g (lw_at lw_m9 116 rfl) rfl
theorem q2132 : (Jvm.Cond.static ({ cls := "BalloonMailLaw", name := "eventDay", desc := "(LBalloonMail;I[J)I" } : Jvm.MethodName)) ∈ lw_all := lw_g (lw_at lw_m9 117 rfl) rfl
theorem q2133 : (Jvm.Cond.codeWith ({ cls := "BalloonMailLaw", name := "eventDay", desc := "(LBalloonMail;I[J)I" } : Jvm.MethodName) method_5_code (4 : Nat) (Option.some Jvm.ClassFile.FieldType.int) [((0 : Nat), (9 : Nat), (12 : Nat), (13 : Nat))]) ∈ lw_all := lw_g (lw_at lw_m9 118 rfl) rfl
theorem q2134 : (Jvm.Cond.methodLink "BalloonMailLaw" (18 : Nat) ({ cls := "BalloonMail", name := "eventDay", desc := "(I)I" } : Jvm.MethodName)) ∈ lw_all := lw_g (lw_at lw_m9 119 rfl) rfl
theorem q2138 : (Jvm.Cond.methodLink "BalloonMailLaw" (193 : Nat) ({ cls := "BalloonMailModel", name := "thrown", desc := "()I" } : Jvm.MethodName)) ∈ lw_all := lw_g (lw_at lw_m9 123 rfl) rfl
theorem q2142 : (Jvm.Cond.classLink "BalloonMailLaw" (22 : Nat) "BalloonMailModel") ∈ lw_all := lw_g (lw_at lw_m9 127 rfl) rfl
theorem q2144 : (Jvm.Cond.methodLink "BalloonMailLaw" (24 : Nat) ({ cls := "BalloonMailModel", name := "<init>", desc := "()V" } : Jvm.MethodName)) ∈ lw_all := lw_g (lw_at lw_m9 129 rfl) rfl
theorem q2289 : (Jvm.Cond.methodLink "BalloonMailLaw" (29 : Nat) ({ cls := "BalloonMailModel", name := "append", desc := "(IIIII)I" } : Jvm.MethodName)) ∈ lw_all := lw_g (lw_at lw_m10 34 rfl) rfl
theorem q2297 : (Jvm.Cond.methodLink "BalloonMailLaw" (33 : Nat) ({ cls := "BalloonMailModel", name := "parse", desc := "(I)I" } : Jvm.MethodName)) ∈ lw_all := lw_g (lw_at lw_m10 42 rfl) rfl
theorem q2397 : (Jvm.Cond.methodLink "BalloonMailLaw" (38 : Nat) ({ cls := "BalloonMailModel", name := "errorPosition", desc := "()I" } : Jvm.MethodName)) ∈ lw_all := lw_g (lw_at lw_m10 142 rfl) rfl
theorem q2401 : (Jvm.Cond.methodLink "BalloonMailLaw" (42 : Nat) ({ cls := "BalloonMailModel", name := "regionCount", desc := "()I" } : Jvm.MethodName)) ∈ lw_all := lw_g (lw_at lw_m10 146 rfl) rfl
theorem q2405 : (Jvm.Cond.methodLink "BalloonMailLaw" (46 : Nat) ({ cls := "BalloonMailModel", name := "windCount", desc := "()I" } : Jvm.MethodName)) ∈ lw_all := lw_g (lw_at lw_m10 150 rfl) rfl
theorem q2409 : (Jvm.Cond.methodLink "BalloonMailLaw" (50 : Nat) ({ cls := "BalloonMailModel", name := "balloonCount", desc := "()I" } : Jvm.MethodName)) ∈ lw_all := lw_g (lw_at lw_m10 154 rfl) rfl
theorem q2413 : (Jvm.Cond.methodLink "BalloonMailLaw" (54 : Nat) ({ cls := "BalloonMailModel", name := "letterCount", desc := "()I" } : Jvm.MethodName)) ∈ lw_all := lw_g (lw_at lw_m10 158 rfl) rfl
theorem q2417 : (Jvm.Cond.methodLink "BalloonMailLaw" (58 : Nat) ({ cls := "BalloonMailModel", name := "capacity", desc := "(I)I" } : Jvm.MethodName)) ∈ lw_all := lw_g (lw_at lw_m10 162 rfl) rfl
theorem q2425 : (Jvm.Cond.methodLink "BalloonMailLaw" (62 : Nat) ({ cls := "BalloonMailModel", name := "letterWeight", desc := "(I)I" } : Jvm.MethodName)) ∈ lw_all := lw_g (lw_at lw_m10 170 rfl) rfl
theorem q2433 : (Jvm.Cond.methodLink "BalloonMailLaw" (67 : Nat) ({ cls := "BalloonMailModel", name := "windChance", desc := "(II)J" } : Jvm.MethodName)) ∈ lw_all := lw_g (lw_at lw_m10 178 rfl) rfl
theorem q2453 : (Jvm.Cond.methodLink "BalloonMailLaw" (71 : Nat) ({ cls := "BalloonMailModel", name := "avoidChance", desc := "(II)J" } : Jvm.MethodName)) ∈ lw_all := lw_g (lw_at lw_m10 198 rfl) rfl
theorem q2457 : (Jvm.Cond.methodLink "BalloonMailLaw" (75 : Nat) ({ cls := "BalloonMailModel", name := "landingChance", desc := "(II)J" } : Jvm.MethodName)) ∈ lw_all := lw_g (lw_at lw_m10 202 rfl) rfl
theorem q2465 : (Jvm.Cond.methodLink "BalloonMailLaw" (80 : Nat) ({ cls := "BalloonMailModel", name := "deliveryChance", desc := "(I)J" } : Jvm.MethodName)) ∈ lw_all := lw_g (lw_at lw_m10 210 rfl) rfl
theorem q2476 : (Jvm.Cond.methodLink "BalloonMailLaw" (84 : Nat) ({ cls := "BalloonMailModel", name := "answerChance", desc := "(II)J" } : Jvm.MethodName)) ∈ lw_all := lw_g (lw_at lw_m10 221 rfl) rfl
theorem q2484 : (Jvm.Cond.methodLink "BalloonMailLaw" (89 : Nat) ({ cls := "BalloonMailModel", name := "answerPermille", desc := "(II)I" } : Jvm.MethodName)) ∈ lw_all := lw_g (lw_at lw_m10 229 rfl) rfl
theorem q2489 : (Jvm.Cond.methodLink "BalloonMailLaw" (93 : Nat) ({ cls := "BalloonMailModel", name := "bestDay", desc := "(I)I" } : Jvm.MethodName)) ∈ lw_all := lw_g (lw_at lw_m10 234 rfl) rfl
theorem q2497 : (Jvm.Cond.methodLink "BalloonMailLaw" (98 : Nat) ({ cls := "BalloonMailModel", name := "assignmentTotal", desc := "()J" } : Jvm.MethodName)) ∈ lw_all := lw_g (lw_at lw_m11 2 rfl) rfl
theorem q2509 : (Jvm.Cond.methodLink "BalloonMailLaw" (102 : Nat) ({ cls := "BalloonMailModel", name := "assignedDay", desc := "(I)I" } : Jvm.MethodName)) ∈ lw_all := lw_g (lw_at lw_m11 14 rfl) rfl
theorem q2517 : (Jvm.Cond.methodLink "BalloonMailLaw" (106 : Nat) ({ cls := "BalloonMailModel", name := "bestLoad", desc := "(I)I" } : Jvm.MethodName)) ∈ lw_all := lw_g (lw_at lw_m11 22 rfl) rfl
theorem q2525 : (Jvm.Cond.methodLink "BalloonMailLaw" (110 : Nat) ({ cls := "BalloonMailModel", name := "weightOf", desc := "(I)I" } : Jvm.MethodName)) ∈ lw_all := lw_g (lw_at lw_m11 30 rfl) rfl
theorem q2537 : (Jvm.Cond.methodLink "BalloonMailLaw" (114 : Nat) ({ cls := "BalloonMailModel", name := "priorityOf", desc := "(I)I" } : Jvm.MethodName)) ∈ lw_all := lw_g (lw_at lw_m11 42 rfl) rfl
theorem q2541 : (Jvm.Cond.methodLink "BalloonMailLaw" (118 : Nat) ({ cls := "BalloonMailModel", name := "lettersIn", desc := "(I)I" } : Jvm.MethodName)) ∈ lw_all := lw_g (lw_at lw_m11 46 rfl) rfl
theorem q2549 : (Jvm.Cond.methodLink "BalloonMailLaw" (122 : Nat) ({ cls := "BalloonMailModel", name := "day", desc := "()I" } : Jvm.MethodName)) ∈ lw_all := lw_g (lw_at lw_m11 54 rfl) rfl
theorem q2553 : (Jvm.Cond.methodLink "BalloonMailLaw" (126 : Nat) ({ cls := "BalloonMailModel", name := "wind", desc := "()I" } : Jvm.MethodName)) ∈ lw_all := lw_g (lw_at lw_m11 58 rfl) rfl
theorem q2557 : (Jvm.Cond.methodLink "BalloonMailLaw" (130 : Nat) ({ cls := "BalloonMailModel", name := "launch", desc := "(II)I" } : Jvm.MethodName)) ∈ lw_all := lw_g (lw_at lw_m11 62 rfl) rfl
theorem q2586 : (Jvm.Cond.methodLink "BalloonMailLaw" (134 : Nat) ({ cls := "BalloonMailModel", name := "nextDay", desc := "()I" } : Jvm.MethodName)) ∈ lw_all := lw_g (lw_at lw_m11 91 rfl) rfl
theorem q2598 : (Jvm.Cond.methodLink "BalloonMailLaw" (138 : Nat) ({ cls := "BalloonMailModel", name := "balloonState", desc := "(I)I" } : Jvm.MethodName)) ∈ lw_all := lw_g (lw_at lw_m11 103 rfl) rfl
theorem q2602 : (Jvm.Cond.methodLink "BalloonMailLaw" (142 : Nat) ({ cls := "BalloonMailModel", name := "balloonRegion", desc := "(I)I" } : Jvm.MethodName)) ∈ lw_all := lw_g (lw_at lw_m11 107 rfl) rfl
theorem q2606 : (Jvm.Cond.methodLink "BalloonMailLaw" (146 : Nat) ({ cls := "BalloonMailModel", name := "cargo", desc := "(I)I" } : Jvm.MethodName)) ∈ lw_all := lw_g (lw_at lw_m11 111 rfl) rfl
theorem q2610 : (Jvm.Cond.methodLink "BalloonMailLaw" (150 : Nat) ({ cls := "BalloonMailModel", name := "letterState", desc := "(I)I" } : Jvm.MethodName)) ∈ lw_all := lw_g (lw_at lw_m11 115 rfl) rfl
theorem q2614 : (Jvm.Cond.methodLink "BalloonMailLaw" (154 : Nat) ({ cls := "BalloonMailModel", name := "answerDay", desc := "(I)I" } : Jvm.MethodName)) ∈ lw_all := lw_g (lw_at lw_m11 119 rfl) rfl
theorem q2618 : (Jvm.Cond.methodLink "BalloonMailLaw" (158 : Nat) ({ cls := "BalloonMailModel", name := "pigeonsInLoft", desc := "()I" } : Jvm.MethodName)) ∈ lw_all := lw_g (lw_at lw_m11 123 rfl) rfl
theorem q2622 : (Jvm.Cond.methodLink "BalloonMailLaw" (162 : Nat) ({ cls := "BalloonMailModel", name := "pigeonsOnTheWay", desc := "()I" } : Jvm.MethodName)) ∈ lw_all := lw_g (lw_at lw_m11 127 rfl) rfl
theorem q2626 : (Jvm.Cond.methodLink "BalloonMailLaw" (166 : Nat) ({ cls := "BalloonMailModel", name := "pigeonsLost", desc := "()I" } : Jvm.MethodName)) ∈ lw_all := lw_g (lw_at lw_m11 131 rfl) rfl
theorem q2630 : (Jvm.Cond.methodLink "BalloonMailLaw" (170 : Nat) ({ cls := "BalloonMailModel", name := "nextReturn", desc := "()I" } : Jvm.MethodName)) ∈ lw_all := lw_g (lw_at lw_m11 135 rfl) rfl
theorem q2634 : (Jvm.Cond.methodLink "BalloonMailLaw" (174 : Nat) ({ cls := "BalloonMailModel", name := "weightIn", desc := "(I)I" } : Jvm.MethodName)) ∈ lw_all := lw_g (lw_at lw_m11 139 rfl) rfl
theorem q2638 : (Jvm.Cond.methodLink "BalloonMailLaw" (178 : Nat) ({ cls := "BalloonMailModel", name := "answeredPriority", desc := "()I" } : Jvm.MethodName)) ∈ lw_all := lw_g (lw_at lw_m11 143 rfl) rfl
theorem q2642 : (Jvm.Cond.methodLink "BalloonMailLaw" (182 : Nat) ({ cls := "BalloonMailModel", name := "balloonsIn", desc := "(I)I" } : Jvm.MethodName)) ∈ lw_all := lw_g (lw_at lw_m11 147 rfl) rfl
theorem q2646 : (Jvm.Cond.methodLink "BalloonMailLaw" (186 : Nat) ({ cls := "BalloonMailModel", name := "eventCount", desc := "()I" } : Jvm.MethodName)) ∈ lw_all := lw_g (lw_at lw_m11 151 rfl) rfl
theorem q2650 : (Jvm.Cond.methodLink "BalloonMailLaw" (192 : Nat) ({ cls := "BalloonMailModel", name := "eventKind", desc := "(I)I" } : Jvm.MethodName)) ∈ lw_all := lw_g (lw_at lw_m11 155 rfl) rfl
theorem q2658 : (Jvm.Cond.methodLink "BalloonMailLaw" (198 : Nat) ({ cls := "BalloonMailModel", name := "eventNumber", desc := "(I)I" } : Jvm.MethodName)) ∈ lw_all := lw_g (lw_at lw_m11 163 rfl) rfl
theorem q2662 : (Jvm.Cond.methodLink "BalloonMailLaw" (201 : Nat) ({ cls := "BalloonMailModel", name := "eventDay", desc := "(I)I" } : Jvm.MethodName)) ∈ lw_all := lw_g (lw_at lw_m11 167 rfl) rfl
theorem q2666 : (Jvm.Cond.methodLink "BalloonMailLaw" (206 : Nat) ({ cls := "BalloonMailModel", name := "undo", desc := "()Z" } : Jvm.MethodName)) ∈ lw_all := lw_g (lw_at lw_m11 171 rfl) rfl
theorem q2670 : (Jvm.Cond.methodLink "BalloonMailLaw" (210 : Nat) ({ cls := "BalloonMailModel", name := "undoDepth", desc := "()I" } : Jvm.MethodName)) ∈ lw_all := lw_g (lw_at lw_m11 175 rfl) rfl
theorem q2674 : (Jvm.Cond.methodLink "BalloonMailLaw" (215 : Nat) ({ cls := "BalloonMailModel", name := "saveSnapshot", desc := "(I)Z" } : Jvm.MethodName)) ∈ lw_all := lw_g (lw_at lw_m11 179 rfl) rfl
theorem q2678 : (Jvm.Cond.methodLink "BalloonMailLaw" (219 : Nat) ({ cls := "BalloonMailModel", name := "restoreSnapshot", desc := "(I)Z" } : Jvm.MethodName)) ∈ lw_all := lw_g (lw_at lw_m11 183 rfl) rfl

/-! BalloonMail$Siege -/
set_option maxRecDepth 100000
def RX2 : String := "BalloonMail$Siege"
def TX2 : u_T := fun k => match k with
  | 0 => ("BalloonMail$Siege", "regions", "Ljava/util/ArrayList;", true)
  | 1 => ("BalloonMail$Siege", "winds", "Ljava/util/ArrayList;", true)
  | 2 => ("BalloonMail$Siege", "balloons", "Ljava/util/ArrayList;", true)
  | 3 => ("BalloonMail$Siege", "letters", "Ljava/util/ArrayList;", true)
  | 4 => ("BalloonMail$Siege", "turns", "I", false)
  | 5 => ("BalloonMail$Siege", "loft", "I", false)
  | 6 => ("BalloonMail$Siege", "start", "I", false)
  | _ => ("BalloonMail$Siege", "seed", "I", false)
def tyX2 : Nat → FieldType := fun k => match k with
  | 0 => .object "java/util/ArrayList"
  | 1 => .object "java/util/ArrayList"
  | 2 => .object "java/util/ArrayList"
  | 3 => .object "java/util/ArrayList"
  | 4 => .int
  | 5 => .int
  | 6 => .int
  | _ => .int
abbrev wsX20 : List Cond := u_ws RX2 TX2 8
theorem nmX2 : ∀ a, a < 8 → ∀ b, b < 8 → a ≠ b → (TX2 a).2.1 ≠ (TX2 b).2.1 := by decide +kernel
theorem tyX2_ok : ∀ k, k < 8 → parseFieldDescriptor (TX2 k).2.2.1 = some (tyX2 k) := by decide +kernel
abbrev cX2_init : ByteArray := prog_12_method_1_code
def yX2_init : MethodName := ⟨RX2, "<init>", "()V"⟩
def dkwX2_init_2 : List UInt8 := [183, 0, 9, 181, 0, 24, 42, 16, 8, 181, 0, 27, 42, 4, 181, 0, 31, 177]
abbrev dktX2_init_2 : List UInt8 := dkwX2_init_2 ++ []
def dkwX2_init_1 : List UInt8 := [183, 0, 9, 181, 0, 18, 42, 187, 0, 7, 89, 5, 183, 0, 9, 181, 0, 21, 42, 187, 0, 7, 89, 7]
abbrev dktX2_init_1 : List UInt8 := dkwX2_init_1 ++ dktX2_init_2
def dkwX2_init_0 : List UInt8 := [42, 183, 0, 1, 42, 187, 0, 7, 89, 5, 183, 0, 9, 181, 0, 12, 42, 187, 0, 7, 89, 5]
abbrev dktX2_init_0 : List UInt8 := dkwX2_init_0 ++ dktX2_init_1
theorem dksX2_init_0 : cX2_init.data.toList.drop 0 = dktX2_init_0 := by decide +kernel
theorem dksX2_init_1 : cX2_init.data.toList.drop 22 = dktX2_init_1 := dk_seg dksX2_init_0 22 rfl rfl
theorem dksX2_init_2 : cX2_init.data.toList.drop 46 = dktX2_init_2 := dk_seg dksX2_init_1 24 rfl rfl
theorem dX2_init_0 : decode cX2_init 0 = .ok (.aload_n 0, 1) := dk_42 (dk_at dksX2_init_0 0 rfl rfl)
theorem dX2_init_1 : decode cX2_init 1 = .ok (.invokespecial 1, 3) := dk_183 0 1 (dk_at dksX2_init_0 1 rfl rfl)
theorem dX2_init_4 : decode cX2_init 4 = .ok (.aload_n 0, 1) := dk_42 (dk_at dksX2_init_0 4 rfl rfl)
theorem dX2_init_5 : decode cX2_init 5 = .ok (.new 7, 3) := dk_187 0 7 (dk_at dksX2_init_0 5 rfl rfl)
theorem dX2_init_8 : decode cX2_init 8 = .ok (.dup, 1) := dk_89 (dk_at dksX2_init_0 8 rfl rfl)
theorem dX2_init_9 : decode cX2_init 9 = .ok (.iconst 2, 1) := dk_5 (dk_at dksX2_init_0 9 rfl rfl)
theorem dX2_init_10 : decode cX2_init 10 = .ok (.invokespecial 9, 3) := dk_183 0 9 (dk_at dksX2_init_0 10 rfl rfl)
theorem dX2_init_13 : decode cX2_init 13 = .ok (.putfield 12, 3) := dk_181 0 12 (dk_at dksX2_init_0 13 rfl rfl)
theorem dX2_init_16 : decode cX2_init 16 = .ok (.aload_n 0, 1) := dk_42 (dk_at dksX2_init_0 16 rfl rfl)
theorem dX2_init_17 : decode cX2_init 17 = .ok (.new 7, 3) := dk_187 0 7 (dk_at dksX2_init_0 17 rfl rfl)
theorem dX2_init_20 : decode cX2_init 20 = .ok (.dup, 1) := dk_89 (dk_at dksX2_init_0 20 rfl rfl)
theorem dX2_init_21 : decode cX2_init 21 = .ok (.iconst 2, 1) := dk_5 (dk_at dksX2_init_0 21 rfl rfl)
theorem dX2_init_22 : decode cX2_init 22 = .ok (.invokespecial 9, 3) := dk_183 0 9 (dk_at dksX2_init_1 0 rfl rfl)
theorem dX2_init_25 : decode cX2_init 25 = .ok (.putfield 18, 3) := dk_181 0 18 (dk_at dksX2_init_1 3 rfl rfl)
theorem dX2_init_28 : decode cX2_init 28 = .ok (.aload_n 0, 1) := dk_42 (dk_at dksX2_init_1 6 rfl rfl)
theorem dX2_init_29 : decode cX2_init 29 = .ok (.new 7, 3) := dk_187 0 7 (dk_at dksX2_init_1 7 rfl rfl)
theorem dX2_init_32 : decode cX2_init 32 = .ok (.dup, 1) := dk_89 (dk_at dksX2_init_1 10 rfl rfl)
theorem dX2_init_33 : decode cX2_init 33 = .ok (.iconst 2, 1) := dk_5 (dk_at dksX2_init_1 11 rfl rfl)
theorem dX2_init_34 : decode cX2_init 34 = .ok (.invokespecial 9, 3) := dk_183 0 9 (dk_at dksX2_init_1 12 rfl rfl)
theorem dX2_init_37 : decode cX2_init 37 = .ok (.putfield 21, 3) := dk_181 0 21 (dk_at dksX2_init_1 15 rfl rfl)
theorem dX2_init_40 : decode cX2_init 40 = .ok (.aload_n 0, 1) := dk_42 (dk_at dksX2_init_1 18 rfl rfl)
theorem dX2_init_41 : decode cX2_init 41 = .ok (.new 7, 3) := dk_187 0 7 (dk_at dksX2_init_1 19 rfl rfl)
theorem dX2_init_44 : decode cX2_init 44 = .ok (.dup, 1) := dk_89 (dk_at dksX2_init_1 22 rfl rfl)
theorem dX2_init_45 : decode cX2_init 45 = .ok (.iconst 4, 1) := dk_7 (dk_at dksX2_init_1 23 rfl rfl)
theorem dX2_init_46 : decode cX2_init 46 = .ok (.invokespecial 9, 3) := dk_183 0 9 (dk_at dksX2_init_2 0 rfl rfl)
theorem dX2_init_49 : decode cX2_init 49 = .ok (.putfield 24, 3) := dk_181 0 24 (dk_at dksX2_init_2 3 rfl rfl)
theorem dX2_init_52 : decode cX2_init 52 = .ok (.aload_n 0, 1) := dk_42 (dk_at dksX2_init_2 6 rfl rfl)
theorem dX2_init_53 : decode cX2_init 53 = .ok (.bipush 8, 2) := dk_16 8 (dk_at dksX2_init_2 7 rfl rfl)
theorem dX2_init_55 : decode cX2_init 55 = .ok (.putfield 27, 3) := dk_181 0 27 (dk_at dksX2_init_2 9 rfl rfl)
theorem dX2_init_58 : decode cX2_init 58 = .ok (.aload_n 0, 1) := dk_42 (dk_at dksX2_init_2 12 rfl rfl)
theorem dX2_init_59 : decode cX2_init 59 = .ok (.iconst 1, 1) := dk_4 (dk_at dksX2_init_2 13 rfl rfl)
theorem dX2_init_60 : decode cX2_init 60 = .ok (.putfield 31, 3) := dk_181 0 31 (dk_at dksX2_init_2 14 rfl rfl)
theorem dX2_init_63 : decode cX2_init 63 = .ok (.return_, 1) := dk_177 (dk_at dksX2_init_2 17 rfl rfl)
abbrev cX2_weight : ByteArray := prog_12_method_2_code
def yX2_weight : MethodName := ⟨RX2, "weight", "(I)I"⟩
def dkwX2_weight_2 : List UInt8 := [172]
abbrev dktX2_weight_2 : List UInt8 := dkwX2_weight_2 ++ []
def dkwX2_weight_1 : List UInt8 := [28, 42, 180, 0, 24, 29, 182, 0, 38, 192, 0, 42, 180, 0, 44, 96, 61, 132, 3, 1, 167, 255, 216, 28]
abbrev dktX2_weight_1 : List UInt8 := dkwX2_weight_1 ++ dktX2_weight_2
def dkwX2_weight_0 : List UInt8 := [3, 61, 3, 62, 29, 42, 180, 0, 24, 182, 0, 34, 162, 0, 35, 27, 29, 122, 4, 126, 4, 160, 0, 20]
abbrev dktX2_weight_0 : List UInt8 := dkwX2_weight_0 ++ dktX2_weight_1
theorem dksX2_weight_0 : cX2_weight.data.toList.drop 0 = dktX2_weight_0 := by decide +kernel
theorem dksX2_weight_1 : cX2_weight.data.toList.drop 24 = dktX2_weight_1 := dk_seg dksX2_weight_0 24 rfl rfl
theorem dksX2_weight_2 : cX2_weight.data.toList.drop 48 = dktX2_weight_2 := dk_seg dksX2_weight_1 24 rfl rfl
theorem dX2_weight_0 : decode cX2_weight 0 = .ok (.iconst 0, 1) := dk_3 (dk_at dksX2_weight_0 0 rfl rfl)
theorem dX2_weight_1 : decode cX2_weight 1 = .ok (.istore_n 2, 1) := dk_61 (dk_at dksX2_weight_0 1 rfl rfl)
theorem dX2_weight_2 : decode cX2_weight 2 = .ok (.iconst 0, 1) := dk_3 (dk_at dksX2_weight_0 2 rfl rfl)
theorem dX2_weight_3 : decode cX2_weight 3 = .ok (.istore_n 3, 1) := dk_62 (dk_at dksX2_weight_0 3 rfl rfl)
theorem dX2_weight_4 : decode cX2_weight 4 = .ok (.iload_n 3, 1) := dk_29 (dk_at dksX2_weight_0 4 rfl rfl)
theorem dX2_weight_5 : decode cX2_weight 5 = .ok (.aload_n 0, 1) := dk_42 (dk_at dksX2_weight_0 5 rfl rfl)
theorem dX2_weight_6 : decode cX2_weight 6 = .ok (.getfield 24, 3) := dk_180 0 24 (dk_at dksX2_weight_0 6 rfl rfl)
theorem dX2_weight_9 : decode cX2_weight 9 = .ok (.invokevirtual 34, 3) := dk_182 0 34 (dk_at dksX2_weight_0 9 rfl rfl)
theorem dX2_weight_12 : decode cX2_weight 12 = .ok (.if_icmp .ge 35, 3) := dk_162 0 35 (dk_at dksX2_weight_0 12 rfl rfl)
theorem dX2_weight_15 : decode cX2_weight 15 = .ok (.iload_n 1, 1) := dk_27 (dk_at dksX2_weight_0 15 rfl rfl)
theorem dX2_weight_16 : decode cX2_weight 16 = .ok (.iload_n 3, 1) := dk_29 (dk_at dksX2_weight_0 16 rfl rfl)
theorem dX2_weight_17 : decode cX2_weight 17 = .ok (.ishr, 1) := dk_122 (dk_at dksX2_weight_0 17 rfl rfl)
theorem dX2_weight_18 : decode cX2_weight 18 = .ok (.iconst 1, 1) := dk_4 (dk_at dksX2_weight_0 18 rfl rfl)
theorem dX2_weight_19 : decode cX2_weight 19 = .ok (.iand, 1) := dk_126 (dk_at dksX2_weight_0 19 rfl rfl)
theorem dX2_weight_20 : decode cX2_weight 20 = .ok (.iconst 1, 1) := dk_4 (dk_at dksX2_weight_0 20 rfl rfl)
theorem dX2_weight_21 : decode cX2_weight 21 = .ok (.if_icmp .ne 20, 3) := dk_160 0 20 (dk_at dksX2_weight_0 21 rfl rfl)
theorem dX2_weight_24 : decode cX2_weight 24 = .ok (.iload_n 2, 1) := dk_28 (dk_at dksX2_weight_1 0 rfl rfl)
theorem dX2_weight_25 : decode cX2_weight 25 = .ok (.aload_n 0, 1) := dk_42 (dk_at dksX2_weight_1 1 rfl rfl)
theorem dX2_weight_26 : decode cX2_weight 26 = .ok (.getfield 24, 3) := dk_180 0 24 (dk_at dksX2_weight_1 2 rfl rfl)
theorem dX2_weight_29 : decode cX2_weight 29 = .ok (.iload_n 3, 1) := dk_29 (dk_at dksX2_weight_1 5 rfl rfl)
theorem dX2_weight_30 : decode cX2_weight 30 = .ok (.invokevirtual 38, 3) := dk_182 0 38 (dk_at dksX2_weight_1 6 rfl rfl)
theorem dX2_weight_33 : decode cX2_weight 33 = .ok (.checkcast 42, 3) := dk_192 0 42 (dk_at dksX2_weight_1 9 rfl rfl)
theorem dX2_weight_36 : decode cX2_weight 36 = .ok (.getfield 44, 3) := dk_180 0 44 (dk_at dksX2_weight_1 12 rfl rfl)
theorem dX2_weight_39 : decode cX2_weight 39 = .ok (.iadd, 1) := dk_96 (dk_at dksX2_weight_1 15 rfl rfl)
theorem dX2_weight_40 : decode cX2_weight 40 = .ok (.istore_n 2, 1) := dk_61 (dk_at dksX2_weight_1 16 rfl rfl)
theorem dX2_weight_41 : decode cX2_weight 41 = .ok (.iinc 3 1, 3) := dk_132 3 1 (dk_at dksX2_weight_1 17 rfl rfl)
theorem dX2_weight_44 : decode cX2_weight 44 = .ok (.goto (-40), 3) := dk_167 255 216 (dk_at dksX2_weight_1 20 rfl rfl)
theorem dX2_weight_47 : decode cX2_weight 47 = .ok (.iload_n 2, 1) := dk_28 (dk_at dksX2_weight_1 23 rfl rfl)
theorem dX2_weight_48 : decode cX2_weight 48 = .ok (.ireturn, 1) := dk_172 (dk_at dksX2_weight_2 0 rfl rfl)
abbrev cX2_priority : ByteArray := prog_12_method_3_code
def yX2_priority : MethodName := ⟨RX2, "priority", "(I)I"⟩
def dkwX2_priority_2 : List UInt8 := [172]
abbrev dktX2_priority_2 : List UInt8 := dkwX2_priority_2 ++ []
def dkwX2_priority_1 : List UInt8 := [28, 42, 180, 0, 24, 29, 182, 0, 38, 192, 0, 42, 180, 0, 47, 96, 61, 132, 3, 1, 167, 255, 216, 28]
abbrev dktX2_priority_1 : List UInt8 := dkwX2_priority_1 ++ dktX2_priority_2
def dkwX2_priority_0 : List UInt8 := [3, 61, 3, 62, 29, 42, 180, 0, 24, 182, 0, 34, 162, 0, 35, 27, 29, 122, 4, 126, 4, 160, 0, 20]
abbrev dktX2_priority_0 : List UInt8 := dkwX2_priority_0 ++ dktX2_priority_1
theorem dksX2_priority_0 : cX2_priority.data.toList.drop 0 = dktX2_priority_0 := by decide +kernel
theorem dksX2_priority_1 : cX2_priority.data.toList.drop 24 = dktX2_priority_1 := dk_seg dksX2_priority_0 24 rfl rfl
theorem dksX2_priority_2 : cX2_priority.data.toList.drop 48 = dktX2_priority_2 := dk_seg dksX2_priority_1 24 rfl rfl
theorem dX2_priority_0 : decode cX2_priority 0 = .ok (.iconst 0, 1) := dk_3 (dk_at dksX2_priority_0 0 rfl rfl)
theorem dX2_priority_1 : decode cX2_priority 1 = .ok (.istore_n 2, 1) := dk_61 (dk_at dksX2_priority_0 1 rfl rfl)
theorem dX2_priority_2 : decode cX2_priority 2 = .ok (.iconst 0, 1) := dk_3 (dk_at dksX2_priority_0 2 rfl rfl)
theorem dX2_priority_3 : decode cX2_priority 3 = .ok (.istore_n 3, 1) := dk_62 (dk_at dksX2_priority_0 3 rfl rfl)
theorem dX2_priority_4 : decode cX2_priority 4 = .ok (.iload_n 3, 1) := dk_29 (dk_at dksX2_priority_0 4 rfl rfl)
theorem dX2_priority_5 : decode cX2_priority 5 = .ok (.aload_n 0, 1) := dk_42 (dk_at dksX2_priority_0 5 rfl rfl)
theorem dX2_priority_6 : decode cX2_priority 6 = .ok (.getfield 24, 3) := dk_180 0 24 (dk_at dksX2_priority_0 6 rfl rfl)
theorem dX2_priority_9 : decode cX2_priority 9 = .ok (.invokevirtual 34, 3) := dk_182 0 34 (dk_at dksX2_priority_0 9 rfl rfl)
theorem dX2_priority_12 : decode cX2_priority 12 = .ok (.if_icmp .ge 35, 3) := dk_162 0 35 (dk_at dksX2_priority_0 12 rfl rfl)
theorem dX2_priority_15 : decode cX2_priority 15 = .ok (.iload_n 1, 1) := dk_27 (dk_at dksX2_priority_0 15 rfl rfl)
theorem dX2_priority_16 : decode cX2_priority 16 = .ok (.iload_n 3, 1) := dk_29 (dk_at dksX2_priority_0 16 rfl rfl)
theorem dX2_priority_17 : decode cX2_priority 17 = .ok (.ishr, 1) := dk_122 (dk_at dksX2_priority_0 17 rfl rfl)
theorem dX2_priority_18 : decode cX2_priority 18 = .ok (.iconst 1, 1) := dk_4 (dk_at dksX2_priority_0 18 rfl rfl)
theorem dX2_priority_19 : decode cX2_priority 19 = .ok (.iand, 1) := dk_126 (dk_at dksX2_priority_0 19 rfl rfl)
theorem dX2_priority_20 : decode cX2_priority 20 = .ok (.iconst 1, 1) := dk_4 (dk_at dksX2_priority_0 20 rfl rfl)
theorem dX2_priority_21 : decode cX2_priority 21 = .ok (.if_icmp .ne 20, 3) := dk_160 0 20 (dk_at dksX2_priority_0 21 rfl rfl)
theorem dX2_priority_24 : decode cX2_priority 24 = .ok (.iload_n 2, 1) := dk_28 (dk_at dksX2_priority_1 0 rfl rfl)
theorem dX2_priority_25 : decode cX2_priority 25 = .ok (.aload_n 0, 1) := dk_42 (dk_at dksX2_priority_1 1 rfl rfl)
theorem dX2_priority_26 : decode cX2_priority 26 = .ok (.getfield 24, 3) := dk_180 0 24 (dk_at dksX2_priority_1 2 rfl rfl)
theorem dX2_priority_29 : decode cX2_priority 29 = .ok (.iload_n 3, 1) := dk_29 (dk_at dksX2_priority_1 5 rfl rfl)
theorem dX2_priority_30 : decode cX2_priority 30 = .ok (.invokevirtual 38, 3) := dk_182 0 38 (dk_at dksX2_priority_1 6 rfl rfl)
theorem dX2_priority_33 : decode cX2_priority 33 = .ok (.checkcast 42, 3) := dk_192 0 42 (dk_at dksX2_priority_1 9 rfl rfl)
theorem dX2_priority_36 : decode cX2_priority 36 = .ok (.getfield 47, 3) := dk_180 0 47 (dk_at dksX2_priority_1 12 rfl rfl)
theorem dX2_priority_39 : decode cX2_priority 39 = .ok (.iadd, 1) := dk_96 (dk_at dksX2_priority_1 15 rfl rfl)
theorem dX2_priority_40 : decode cX2_priority 40 = .ok (.istore_n 2, 1) := dk_61 (dk_at dksX2_priority_1 16 rfl rfl)
theorem dX2_priority_41 : decode cX2_priority 41 = .ok (.iinc 3 1, 3) := dk_132 3 1 (dk_at dksX2_priority_1 17 rfl rfl)
theorem dX2_priority_44 : decode cX2_priority 44 = .ok (.goto (-40), 3) := dk_167 255 216 (dk_at dksX2_priority_1 20 rfl rfl)
theorem dX2_priority_47 : decode cX2_priority 47 = .ok (.iload_n 2, 1) := dk_28 (dk_at dksX2_priority_1 23 rfl rfl)
theorem dX2_priority_48 : decode cX2_priority 48 = .ok (.ireturn, 1) := dk_172 (dk_at dksX2_priority_2 0 rfl rfl)
theorem q97 : (Jvm.Cond.initialized "BalloonMail$Siege") ∈ lw_all := lw_g (lw_at lw_m1 2 rfl) rfl
theorem q161 : (Jvm.Cond.instantiable "BalloonMail$Siege" (8 : Nat)) ∈ lw_all := lw_g (lw_at lw_m1 66 rfl) rfl
theorem q163 : (Jvm.Cond.instanceMethod ({ cls := "BalloonMail$Siege", name := "<init>", desc := "()V" } : Jvm.MethodName)) ∈ lw_all := lw_g (lw_at lw_m1 68 rfl) rfl
theorem q164 : (Jvm.Cond.code ({ cls := "BalloonMail$Siege", name := "<init>", desc := "()V" } : Jvm.MethodName) prog_12_method_1_code (1 : Nat) (Option.none : Option Jvm.ClassFile.FieldType)) ∈ lw_all := lw_g (lw_at lw_m1 69 rfl) rfl
theorem q165 : (Jvm.Cond.methodLink "BalloonMail$Siege" (1 : Nat) ({ cls := "java/lang/Object", name := "<init>", desc := "()V" } : Jvm.MethodName)) ∈ lw_all := lw_g (lw_at lw_m1 70 rfl) rfl
theorem q166 : (Jvm.Cond.classLink "BalloonMail$Siege" (7 : Nat) "java/util/ArrayList") ∈ lw_all := lw_g (lw_at lw_m1 71 rfl) rfl
theorem q168 : (Jvm.Cond.methodLink "BalloonMail$Siege" (9 : Nat) ({ cls := "java/util/ArrayList", name := "<init>", desc := "(I)V" } : Jvm.MethodName)) ∈ lw_all := lw_g (lw_at lw_m1 73 rfl) rfl
theorem q202 : (Jvm.Cond.fieldLink "BalloonMail$Siege" (12 : Nat) "BalloonMail$Siege" "regions" "Ljava/util/ArrayList;") ∈ lw_all := lw_g (lw_at lw_m1 107 rfl) rfl
theorem q205 : (Jvm.Cond.fieldLink "BalloonMail$Siege" (18 : Nat) "BalloonMail$Siege" "winds" "Ljava/util/ArrayList;") ∈ lw_all := lw_g (lw_at lw_m1 110 rfl) rfl
theorem q208 : (Jvm.Cond.fieldLink "BalloonMail$Siege" (21 : Nat) "BalloonMail$Siege" "balloons" "Ljava/util/ArrayList;") ∈ lw_all := lw_g (lw_at lw_m1 113 rfl) rfl
theorem q211 : (Jvm.Cond.fieldLink "BalloonMail$Siege" (24 : Nat) "BalloonMail$Siege" "letters" "Ljava/util/ArrayList;") ∈ lw_all := lw_g (lw_at lw_m1 116 rfl) rfl
theorem q215 : (Jvm.Cond.fieldLink "BalloonMail$Siege" (27 : Nat) "BalloonMail$Siege" "loft" "I") ∈ lw_all := lw_g (lw_at lw_m1 120 rfl) rfl
theorem q220 : (Jvm.Cond.fieldLink "BalloonMail$Siege" (31 : Nat) "BalloonMail$Siege" "seed" "I") ∈ lw_all := lw_g (lw_at lw_m1 125 rfl) rfl
theorem q223 : (Jvm.Cond.laysFinal "BalloonMail$Siege" "BalloonMail$Siege" "regions" "Ljava/util/ArrayList;") ∈ lw_all := lw_g (lw_at lw_m1 128 rfl) rfl
theorem q224 : (Jvm.Cond.soleField "BalloonMail$Siege" "regions") ∈ lw_all := lw_g (lw_at lw_m1 129 rfl) rfl
theorem q225 : (Jvm.Cond.laysFinal "BalloonMail$Siege" "BalloonMail$Siege" "winds" "Ljava/util/ArrayList;") ∈ lw_all := lw_g (lw_at lw_m1 130 rfl) rfl
theorem q226 : (Jvm.Cond.soleField "BalloonMail$Siege" "winds") ∈ lw_all := lw_g (lw_at lw_m1 131 rfl) rfl
theorem q227 : (Jvm.Cond.laysFinal "BalloonMail$Siege" "BalloonMail$Siege" "balloons" "Ljava/util/ArrayList;") ∈ lw_all := lw_g (lw_at lw_m1 132 rfl) rfl
theorem q228 : (Jvm.Cond.soleField "BalloonMail$Siege" "balloons") ∈ lw_all := lw_g (lw_at lw_m1 133 rfl) rfl
theorem q229 : (Jvm.Cond.laysFinal "BalloonMail$Siege" "BalloonMail$Siege" "letters" "Ljava/util/ArrayList;") ∈ lw_all := lw_g (lw_at lw_m1 134 rfl) rfl
theorem q230 : (Jvm.Cond.soleField "BalloonMail$Siege" "letters") ∈ lw_all := lw_g (lw_at lw_m1 135 rfl) rfl
theorem q231 : (Jvm.Cond.lays "BalloonMail$Siege" "BalloonMail$Siege" "turns" "I") ∈ lw_all := lw_g (lw_at lw_m1 136 rfl) rfl
theorem q232 : (Jvm.Cond.soleField "BalloonMail$Siege" "turns") ∈ lw_all := lw_g (lw_at lw_m1 137 rfl) rfl
theorem q233 : (Jvm.Cond.lays "BalloonMail$Siege" "BalloonMail$Siege" "loft" "I") ∈ lw_all := lw_g (lw_at lw_m1 138 rfl) rfl
theorem q234 : (Jvm.Cond.soleField "BalloonMail$Siege" "loft") ∈ lw_all := lw_g (lw_at lw_m1 139 rfl) rfl
theorem q235 : (Jvm.Cond.lays "BalloonMail$Siege" "BalloonMail$Siege" "start" "I") ∈ lw_all := lw_g (lw_at lw_m1 140 rfl) rfl
theorem q236 : (Jvm.Cond.soleField "BalloonMail$Siege" "start") ∈ lw_all := lw_g (lw_at lw_m1 141 rfl) rfl
theorem q237 : (Jvm.Cond.lays "BalloonMail$Siege" "BalloonMail$Siege" "seed" "I") ∈ lw_all := lw_g (lw_at lw_m1 142 rfl) rfl
theorem q238 : (Jvm.Cond.soleField "BalloonMail$Siege" "seed") ∈ lw_all := lw_g (lw_at lw_m1 143 rfl) rfl
theorem q239 : (Jvm.Cond.superclass "BalloonMail$Siege" "java/lang/Object") ∈ lw_all := lw_g (lw_at lw_m1 144 rfl) rfl
theorem q458 : (Jvm.Cond.selects "BalloonMail$Siege" ({ cls := "java/lang/Object", name := "getClass", desc := "()Ljava/lang/Class;" } : Jvm.MethodName) ({ cls := "java/lang/Object", name := "getClass", desc := "()Ljava/lang/Class;" } : Jvm.MethodName)) ∈ lw_all := lw_g (lw_at lw_m2 123 rfl) rfl
theorem q1223 : (Jvm.Cond.fieldLinkNest "BalloonMail$Siege" (44 : Nat) "BalloonMail$Letter" "weight" "I" "BalloonMail") ∈ lw_tbl := lw_at lw_m5 168 rfl
theorem q1226 : (Jvm.Cond.fieldLinkNest "BalloonMail$Siege" (47 : Nat) "BalloonMail$Letter" "priority" "I" "BalloonMail") ∈ lw_tbl := lw_at lw_m5 171 rfl
theorem q1449 : (Jvm.Cond.instanceMethod ({ cls := "BalloonMail$Siege", name := "weight", desc := "(I)I" } : Jvm.MethodName)) ∈ lw_all := lw_g (lw_at lw_m6 154 rfl) rfl
theorem q1450 : (Jvm.Cond.selects "BalloonMail$Siege" ({ cls := "BalloonMail$Siege", name := "weight", desc := "(I)I" } : Jvm.MethodName) ({ cls := "BalloonMail$Siege", name := "weight", desc := "(I)I" } : Jvm.MethodName)) ∈ lw_all := lw_g (lw_at lw_m6 155 rfl) rfl
theorem q1451 : (Jvm.Cond.code ({ cls := "BalloonMail$Siege", name := "weight", desc := "(I)I" } : Jvm.MethodName) prog_12_method_2_code (4 : Nat) (Option.some Jvm.ClassFile.FieldType.int)) ∈ lw_all := lw_g (lw_at lw_m6 156 rfl) rfl
theorem q1452 : (Jvm.Cond.methodLink "BalloonMail$Siege" (34 : Nat) ({ cls := "java/util/ArrayList", name := "size", desc := "()I" } : Jvm.MethodName)) ∈ lw_all := lw_g (lw_at lw_m6 157 rfl) rfl
theorem q1453 : (Jvm.Cond.methodLink "BalloonMail$Siege" (38 : Nat) ({ cls := "java/util/ArrayList", name := "get", desc := "(I)Ljava/lang/Object;" } : Jvm.MethodName)) ∈ lw_all := lw_g (lw_at lw_m6 158 rfl) rfl
theorem q1454 : (Jvm.Cond.classLink "BalloonMail$Siege" (42 : Nat) "BalloonMail$Letter") ∈ lw_all := lw_g (lw_at lw_m6 159 rfl) rfl
theorem q1460 : (Jvm.Cond.instanceMethod ({ cls := "BalloonMail$Siege", name := "priority", desc := "(I)I" } : Jvm.MethodName)) ∈ lw_all := lw_g (lw_at lw_m6 165 rfl) rfl
theorem q1461 : (Jvm.Cond.selects "BalloonMail$Siege" ({ cls := "BalloonMail$Siege", name := "priority", desc := "(I)I" } : Jvm.MethodName) ({ cls := "BalloonMail$Siege", name := "priority", desc := "(I)I" } : Jvm.MethodName)) ∈ lw_all := lw_g (lw_at lw_m6 166 rfl) rfl
theorem q1462 : (Jvm.Cond.code ({ cls := "BalloonMail$Siege", name := "priority", desc := "(I)I" } : Jvm.MethodName) prog_12_method_3_code (4 : Nat) (Option.some Jvm.ClassFile.FieldType.int)) ∈ lw_all := lw_g (lw_at lw_m6 167 rfl) rfl
theorem q2701 : (Jvm.Cond.castable "BalloonMail$Siege" "java/lang/Object") ∈ lw_tbl := lw_at lw_m11 206 rfl
theorem in_X2 : ∀ w ∈ wsX20, w ∈ lw_all := lw_in wsX20 [223, 225, 227, 229, 231, 233, 235, 237] (by decide +kernel) (by decide +kernel)

/-! BalloonMail$State -/
set_option maxRecDepth 100000
def RX3 : String := "BalloonMail$State"
def TX3 : u_T := fun k => match k with
  | 0 => ("BalloonMail$State", "balloonState", "[I", true)
  | 1 => ("BalloonMail$State", "balloonRegion", "[I", true)
  | 2 => ("BalloonMail$State", "letterState", "[I", true)
  | 3 => ("BalloonMail$State", "answerDay", "[I", true)
  | 4 => ("BalloonMail$State", "cargo", "[Ljava/util/BitSet;", true)
  | 5 => ("BalloonMail$State", "flying", "Ljava/util/LinkedList;", true)
  | 6 => ("BalloonMail$State", "journal", "Ljava/util/ArrayDeque;", true)
  | 7 => ("BalloonMail$State", "day", "I", false)
  | 8 => ("BalloonMail$State", "wind", "I", false)
  | 9 => ("BalloonMail$State", "loft", "I", false)
  | 10 => ("BalloonMail$State", "lost", "I", false)
  | _ => ("BalloonMail$State", "x", "J", false)
def tyX3 : Nat → FieldType := fun k => match k with
  | 0 => .array .int
  | 1 => .array .int
  | 2 => .array .int
  | 3 => .array .int
  | 4 => .array (.object "java/util/BitSet")
  | 5 => .object "java/util/LinkedList"
  | 6 => .object "java/util/ArrayDeque"
  | 7 => .int
  | 8 => .int
  | 9 => .int
  | 10 => .int
  | _ => .long
abbrev wsX30 : List Cond := u_ws RX3 TX3 12
theorem nmX3 : ∀ a, a < 12 → ∀ b, b < 12 → a ≠ b → (TX3 a).2.1 ≠ (TX3 b).2.1 := by decide +kernel
theorem tyX3_ok : ∀ k, k < 12 → parseFieldDescriptor (TX3 k).2.2.1 = some (tyX3 k) := by decide +kernel
abbrev cX3_init : ByteArray := prog_13_method_1_code
def yX3_init : MethodName := ⟨RX3, "<init>", "(LBalloonMail$Siege;)V"⟩
def dkwX3_init_6 : List UInt8 := [16, 254, 79, 132, 2, 1, 167, 255, 239, 177]
abbrev dktX3_init_6 : List UInt8 := dkwX3_init_6 ++ []
def dkwX3_init_5 : List UInt8 := [89, 183, 0, 66, 83, 132, 2, 1, 167, 255, 226, 3, 61, 28, 16, 24, 162, 0, 17, 42, 180, 0, 21, 28]
abbrev dktX3_init_5 : List UInt8 := dkwX3_init_5 ++ dktX3_init_6
def dkwX3_init_4 : List UInt8 := [3, 61, 28, 16, 10, 162, 0, 30, 42, 180, 0, 15, 28, 16, 254, 79, 42, 180, 0, 26, 28, 187, 0, 24]
abbrev dktX3_init_4 : List UInt8 := dkwX3_init_4 ++ dktX3_init_5
def dkwX3_init_3 : List UInt8 := [43, 180, 0, 46, 181, 0, 52, 42, 43, 180, 0, 55, 181, 0, 58, 42, 43, 180, 0, 59, 133, 181, 0, 62]
abbrev dktX3_init_3 : List UInt8 := dkwX3_init_3 ++ dktX3_init_4
def dkwX3_init_2 : List UInt8 := [187, 0, 30, 89, 183, 0, 32, 181, 0, 33, 42, 187, 0, 37, 89, 16, 17, 183, 0, 39, 181, 0, 42, 42]
abbrev dktX3_init_2 : List UInt8 := dkwX3_init_2 ++ dktX3_init_3
def dkwX3_init_1 : List UInt8 := [188, 10, 181, 0, 18, 42, 16, 24, 188, 10, 181, 0, 21, 42, 16, 10, 189, 0, 24, 181, 0, 26, 42]
abbrev dktX3_init_1 : List UInt8 := dkwX3_init_1 ++ dktX3_init_2
def dkwX3_init_0 : List UInt8 := [42, 183, 0, 3, 42, 16, 10, 188, 10, 181, 0, 9, 42, 16, 10, 188, 10, 181, 0, 15, 42, 16, 24]
abbrev dktX3_init_0 : List UInt8 := dkwX3_init_0 ++ dktX3_init_1
theorem dksX3_init_0 : cX3_init.data.toList.drop 0 = dktX3_init_0 := by decide +kernel
theorem dksX3_init_1 : cX3_init.data.toList.drop 23 = dktX3_init_1 := dk_seg dksX3_init_0 23 rfl rfl
theorem dksX3_init_2 : cX3_init.data.toList.drop 46 = dktX3_init_2 := dk_seg dksX3_init_1 23 rfl rfl
theorem dksX3_init_3 : cX3_init.data.toList.drop 70 = dktX3_init_3 := dk_seg dksX3_init_2 24 rfl rfl
theorem dksX3_init_4 : cX3_init.data.toList.drop 94 = dktX3_init_4 := dk_seg dksX3_init_3 24 rfl rfl
theorem dksX3_init_5 : cX3_init.data.toList.drop 118 = dktX3_init_5 := dk_seg dksX3_init_4 24 rfl rfl
theorem dksX3_init_6 : cX3_init.data.toList.drop 142 = dktX3_init_6 := dk_seg dksX3_init_5 24 rfl rfl
theorem dX3_init_0 : decode cX3_init 0 = .ok (.aload_n 0, 1) := dk_42 (dk_at dksX3_init_0 0 rfl rfl)
theorem dX3_init_1 : decode cX3_init 1 = .ok (.invokespecial 3, 3) := dk_183 0 3 (dk_at dksX3_init_0 1 rfl rfl)
theorem dX3_init_4 : decode cX3_init 4 = .ok (.aload_n 0, 1) := dk_42 (dk_at dksX3_init_0 4 rfl rfl)
theorem dX3_init_5 : decode cX3_init 5 = .ok (.bipush 10, 2) := dk_16 10 (dk_at dksX3_init_0 5 rfl rfl)
theorem dX3_init_7 : decode cX3_init 7 = .ok (.newarray .int, 2) := dk_188_10 (dk_at dksX3_init_0 7 rfl rfl)
theorem dX3_init_9 : decode cX3_init 9 = .ok (.putfield 9, 3) := dk_181 0 9 (dk_at dksX3_init_0 9 rfl rfl)
theorem dX3_init_12 : decode cX3_init 12 = .ok (.aload_n 0, 1) := dk_42 (dk_at dksX3_init_0 12 rfl rfl)
theorem dX3_init_13 : decode cX3_init 13 = .ok (.bipush 10, 2) := dk_16 10 (dk_at dksX3_init_0 13 rfl rfl)
theorem dX3_init_15 : decode cX3_init 15 = .ok (.newarray .int, 2) := dk_188_10 (dk_at dksX3_init_0 15 rfl rfl)
theorem dX3_init_17 : decode cX3_init 17 = .ok (.putfield 15, 3) := dk_181 0 15 (dk_at dksX3_init_0 17 rfl rfl)
theorem dX3_init_20 : decode cX3_init 20 = .ok (.aload_n 0, 1) := dk_42 (dk_at dksX3_init_0 20 rfl rfl)
theorem dX3_init_21 : decode cX3_init 21 = .ok (.bipush 24, 2) := dk_16 24 (dk_at dksX3_init_0 21 rfl rfl)
theorem dX3_init_23 : decode cX3_init 23 = .ok (.newarray .int, 2) := dk_188_10 (dk_at dksX3_init_1 0 rfl rfl)
theorem dX3_init_25 : decode cX3_init 25 = .ok (.putfield 18, 3) := dk_181 0 18 (dk_at dksX3_init_1 2 rfl rfl)
theorem dX3_init_28 : decode cX3_init 28 = .ok (.aload_n 0, 1) := dk_42 (dk_at dksX3_init_1 5 rfl rfl)
theorem dX3_init_29 : decode cX3_init 29 = .ok (.bipush 24, 2) := dk_16 24 (dk_at dksX3_init_1 6 rfl rfl)
theorem dX3_init_31 : decode cX3_init 31 = .ok (.newarray .int, 2) := dk_188_10 (dk_at dksX3_init_1 8 rfl rfl)
theorem dX3_init_33 : decode cX3_init 33 = .ok (.putfield 21, 3) := dk_181 0 21 (dk_at dksX3_init_1 10 rfl rfl)
theorem dX3_init_36 : decode cX3_init 36 = .ok (.aload_n 0, 1) := dk_42 (dk_at dksX3_init_1 13 rfl rfl)
theorem dX3_init_37 : decode cX3_init 37 = .ok (.bipush 10, 2) := dk_16 10 (dk_at dksX3_init_1 14 rfl rfl)
theorem dX3_init_39 : decode cX3_init 39 = .ok (.anewarray 24, 3) := dk_189 0 24 (dk_at dksX3_init_1 16 rfl rfl)
theorem dX3_init_42 : decode cX3_init 42 = .ok (.putfield 26, 3) := dk_181 0 26 (dk_at dksX3_init_1 19 rfl rfl)
theorem dX3_init_45 : decode cX3_init 45 = .ok (.aload_n 0, 1) := dk_42 (dk_at dksX3_init_1 22 rfl rfl)
theorem dX3_init_46 : decode cX3_init 46 = .ok (.new 30, 3) := dk_187 0 30 (dk_at dksX3_init_2 0 rfl rfl)
theorem dX3_init_49 : decode cX3_init 49 = .ok (.dup, 1) := dk_89 (dk_at dksX3_init_2 3 rfl rfl)
theorem dX3_init_50 : decode cX3_init 50 = .ok (.invokespecial 32, 3) := dk_183 0 32 (dk_at dksX3_init_2 4 rfl rfl)
theorem dX3_init_53 : decode cX3_init 53 = .ok (.putfield 33, 3) := dk_181 0 33 (dk_at dksX3_init_2 7 rfl rfl)
theorem dX3_init_56 : decode cX3_init 56 = .ok (.aload_n 0, 1) := dk_42 (dk_at dksX3_init_2 10 rfl rfl)
theorem dX3_init_57 : decode cX3_init 57 = .ok (.new 37, 3) := dk_187 0 37 (dk_at dksX3_init_2 11 rfl rfl)
theorem dX3_init_60 : decode cX3_init 60 = .ok (.dup, 1) := dk_89 (dk_at dksX3_init_2 14 rfl rfl)
theorem dX3_init_61 : decode cX3_init 61 = .ok (.bipush 17, 2) := dk_16 17 (dk_at dksX3_init_2 15 rfl rfl)
theorem dX3_init_63 : decode cX3_init 63 = .ok (.invokespecial 39, 3) := dk_183 0 39 (dk_at dksX3_init_2 17 rfl rfl)
theorem dX3_init_66 : decode cX3_init 66 = .ok (.putfield 42, 3) := dk_181 0 42 (dk_at dksX3_init_2 20 rfl rfl)
theorem dX3_init_69 : decode cX3_init 69 = .ok (.aload_n 0, 1) := dk_42 (dk_at dksX3_init_2 23 rfl rfl)
theorem dX3_init_70 : decode cX3_init 70 = .ok (.aload_n 1, 1) := dk_43 (dk_at dksX3_init_3 0 rfl rfl)
theorem dX3_init_71 : decode cX3_init 71 = .ok (.getfield 46, 3) := dk_180 0 46 (dk_at dksX3_init_3 1 rfl rfl)
theorem dX3_init_74 : decode cX3_init 74 = .ok (.putfield 52, 3) := dk_181 0 52 (dk_at dksX3_init_3 4 rfl rfl)
theorem dX3_init_77 : decode cX3_init 77 = .ok (.aload_n 0, 1) := dk_42 (dk_at dksX3_init_3 7 rfl rfl)
theorem dX3_init_78 : decode cX3_init 78 = .ok (.aload_n 1, 1) := dk_43 (dk_at dksX3_init_3 8 rfl rfl)
theorem dX3_init_79 : decode cX3_init 79 = .ok (.getfield 55, 3) := dk_180 0 55 (dk_at dksX3_init_3 9 rfl rfl)
theorem dX3_init_82 : decode cX3_init 82 = .ok (.putfield 58, 3) := dk_181 0 58 (dk_at dksX3_init_3 12 rfl rfl)
theorem dX3_init_85 : decode cX3_init 85 = .ok (.aload_n 0, 1) := dk_42 (dk_at dksX3_init_3 15 rfl rfl)
theorem dX3_init_86 : decode cX3_init 86 = .ok (.aload_n 1, 1) := dk_43 (dk_at dksX3_init_3 16 rfl rfl)
theorem dX3_init_87 : decode cX3_init 87 = .ok (.getfield 59, 3) := dk_180 0 59 (dk_at dksX3_init_3 17 rfl rfl)
theorem dX3_init_90 : decode cX3_init 90 = .ok (.i2l, 1) := dk_133 (dk_at dksX3_init_3 20 rfl rfl)
theorem dX3_init_91 : decode cX3_init 91 = .ok (.putfield 62, 3) := dk_181 0 62 (dk_at dksX3_init_3 21 rfl rfl)
theorem dX3_init_94 : decode cX3_init 94 = .ok (.iconst 0, 1) := dk_3 (dk_at dksX3_init_4 0 rfl rfl)
theorem dX3_init_95 : decode cX3_init 95 = .ok (.istore_n 2, 1) := dk_61 (dk_at dksX3_init_4 1 rfl rfl)
theorem dX3_init_96 : decode cX3_init 96 = .ok (.iload_n 2, 1) := dk_28 (dk_at dksX3_init_4 2 rfl rfl)
theorem dX3_init_97 : decode cX3_init 97 = .ok (.bipush 10, 2) := dk_16 10 (dk_at dksX3_init_4 3 rfl rfl)
theorem dX3_init_99 : decode cX3_init 99 = .ok (.if_icmp .ge 30, 3) := dk_162 0 30 (dk_at dksX3_init_4 5 rfl rfl)
theorem dX3_init_102 : decode cX3_init 102 = .ok (.aload_n 0, 1) := dk_42 (dk_at dksX3_init_4 8 rfl rfl)
theorem dX3_init_103 : decode cX3_init 103 = .ok (.getfield 15, 3) := dk_180 0 15 (dk_at dksX3_init_4 9 rfl rfl)
theorem dX3_init_106 : decode cX3_init 106 = .ok (.iload_n 2, 1) := dk_28 (dk_at dksX3_init_4 12 rfl rfl)
theorem dX3_init_107 : decode cX3_init 107 = .ok (.bipush (-2), 2) := dk_16 254 (dk_at dksX3_init_4 13 rfl rfl)
theorem dX3_init_109 : decode cX3_init 109 = .ok (.iastore, 1) := dk_79 (dk_at dksX3_init_4 15 rfl rfl)
theorem dX3_init_110 : decode cX3_init 110 = .ok (.aload_n 0, 1) := dk_42 (dk_at dksX3_init_4 16 rfl rfl)
theorem dX3_init_111 : decode cX3_init 111 = .ok (.getfield 26, 3) := dk_180 0 26 (dk_at dksX3_init_4 17 rfl rfl)
theorem dX3_init_114 : decode cX3_init 114 = .ok (.iload_n 2, 1) := dk_28 (dk_at dksX3_init_4 20 rfl rfl)
theorem dX3_init_115 : decode cX3_init 115 = .ok (.new 24, 3) := dk_187 0 24 (dk_at dksX3_init_4 21 rfl rfl)
theorem dX3_init_118 : decode cX3_init 118 = .ok (.dup, 1) := dk_89 (dk_at dksX3_init_5 0 rfl rfl)
theorem dX3_init_119 : decode cX3_init 119 = .ok (.invokespecial 66, 3) := dk_183 0 66 (dk_at dksX3_init_5 1 rfl rfl)
theorem dX3_init_122 : decode cX3_init 122 = .ok (.aastore, 1) := dk_83 (dk_at dksX3_init_5 4 rfl rfl)
theorem dX3_init_123 : decode cX3_init 123 = .ok (.iinc 2 1, 3) := dk_132 2 1 (dk_at dksX3_init_5 5 rfl rfl)
theorem dX3_init_126 : decode cX3_init 126 = .ok (.goto (-30), 3) := dk_167 255 226 (dk_at dksX3_init_5 8 rfl rfl)
theorem dX3_init_129 : decode cX3_init 129 = .ok (.iconst 0, 1) := dk_3 (dk_at dksX3_init_5 11 rfl rfl)
theorem dX3_init_130 : decode cX3_init 130 = .ok (.istore_n 2, 1) := dk_61 (dk_at dksX3_init_5 12 rfl rfl)
theorem dX3_init_131 : decode cX3_init 131 = .ok (.iload_n 2, 1) := dk_28 (dk_at dksX3_init_5 13 rfl rfl)
theorem dX3_init_132 : decode cX3_init 132 = .ok (.bipush 24, 2) := dk_16 24 (dk_at dksX3_init_5 14 rfl rfl)
theorem dX3_init_134 : decode cX3_init 134 = .ok (.if_icmp .ge 17, 3) := dk_162 0 17 (dk_at dksX3_init_5 16 rfl rfl)
theorem dX3_init_137 : decode cX3_init 137 = .ok (.aload_n 0, 1) := dk_42 (dk_at dksX3_init_5 19 rfl rfl)
theorem dX3_init_138 : decode cX3_init 138 = .ok (.getfield 21, 3) := dk_180 0 21 (dk_at dksX3_init_5 20 rfl rfl)
theorem dX3_init_141 : decode cX3_init 141 = .ok (.iload_n 2, 1) := dk_28 (dk_at dksX3_init_5 23 rfl rfl)
theorem dX3_init_142 : decode cX3_init 142 = .ok (.bipush (-2), 2) := dk_16 254 (dk_at dksX3_init_6 0 rfl rfl)
theorem dX3_init_144 : decode cX3_init 144 = .ok (.iastore, 1) := dk_79 (dk_at dksX3_init_6 2 rfl rfl)
theorem dX3_init_145 : decode cX3_init 145 = .ok (.iinc 2 1, 3) := dk_132 2 1 (dk_at dksX3_init_6 3 rfl rfl)
theorem dX3_init_148 : decode cX3_init 148 = .ok (.goto (-17), 3) := dk_167 255 239 (dk_at dksX3_init_6 6 rfl rfl)
theorem dX3_init_151 : decode cX3_init 151 = .ok (.return_, 1) := dk_177 (dk_at dksX3_init_6 9 rfl rfl)
abbrev cX3_copy : ByteArray := prog_13_method_2_code
def yX3_copy : MethodName := ⟨RX3, "copy", "(LBalloonMail$Siege;)LBalloonMail$State;"⟩
def dkwX3_copy_8 : List UInt8 := [181, 0, 58, 44, 42, 180, 0, 106, 181, 0, 106, 44, 42, 180, 0, 62, 181, 0, 62, 44, 176]
abbrev dktX3_copy_8 : List UInt8 := dkwX3_copy_8 ++ []
def dkwX3_copy_7 : List UInt8 := [167, 255, 227, 44, 42, 180, 0, 103, 181, 0, 103, 44, 42, 180, 0, 52, 181, 0, 52, 44, 42, 180, 0, 58]
abbrev dktX3_copy_7 : List UInt8 := dkwX3_copy_7 ++ dktX3_copy_8
def dkwX3_copy_6 : List UInt8 := [153, 0, 26, 45, 185, 0, 86, 1, 0, 192, 0, 97, 58, 4, 44, 180, 0, 42, 25, 4, 182, 0, 99]
abbrev dktX3_copy_6 : List UInt8 := dkwX3_copy_6 ++ dktX3_copy_7
def dkwX3_copy_5 : List UInt8 := [25, 4, 182, 0, 92, 87, 167, 255, 226, 42, 180, 0, 42, 182, 0, 96, 78, 45, 185, 0, 80, 1, 0]
abbrev dktX3_copy_5 : List UInt8 := dkwX3_copy_5 ++ dktX3_copy_6
def dkwX3_copy_4 : List UInt8 := [185, 0, 80, 1, 0, 153, 0, 27, 45, 185, 0, 86, 1, 0, 192, 0, 90, 58, 4, 44, 180, 0, 33]
abbrev dktX3_copy_4 : List UInt8 := dkwX3_copy_4 ++ dktX3_copy_5
def dkwX3_copy_3 : List UInt8 := [180, 0, 26, 3, 44, 180, 0, 26, 3, 16, 10, 184, 0, 70, 42, 180, 0, 33, 182, 0, 76, 78, 45]
abbrev dktX3_copy_3 : List UInt8 := dkwX3_copy_3 ++ dktX3_copy_4
def dkwX3_copy_2 : List UInt8 := [3, 16, 24, 184, 0, 70, 42, 180, 0, 21, 3, 44, 180, 0, 21, 3, 16, 24, 184, 0, 70, 42]
abbrev dktX3_copy_2 : List UInt8 := dkwX3_copy_2 ++ dktX3_copy_3
def dkwX3_copy_1 : List UInt8 := [42, 180, 0, 15, 3, 44, 180, 0, 15, 3, 16, 10, 184, 0, 70, 42, 180, 0, 18, 3, 44, 180, 0, 18]
abbrev dktX3_copy_1 : List UInt8 := dkwX3_copy_1 ++ dktX3_copy_2
def dkwX3_copy_0 : List UInt8 := [187, 0, 10, 89, 43, 183, 0, 67, 77, 42, 180, 0, 9, 3, 44, 180, 0, 9, 3, 16, 10, 184, 0, 70]
abbrev dktX3_copy_0 : List UInt8 := dkwX3_copy_0 ++ dktX3_copy_1
theorem dksX3_copy_0 : cX3_copy.data.toList.drop 0 = dktX3_copy_0 := by decide +kernel
theorem dksX3_copy_1 : cX3_copy.data.toList.drop 24 = dktX3_copy_1 := dk_seg dksX3_copy_0 24 rfl rfl
theorem dksX3_copy_2 : cX3_copy.data.toList.drop 48 = dktX3_copy_2 := dk_seg dksX3_copy_1 24 rfl rfl
theorem dksX3_copy_3 : cX3_copy.data.toList.drop 70 = dktX3_copy_3 := dk_seg dksX3_copy_2 22 rfl rfl
theorem dksX3_copy_4 : cX3_copy.data.toList.drop 93 = dktX3_copy_4 := dk_seg dksX3_copy_3 23 rfl rfl
theorem dksX3_copy_5 : cX3_copy.data.toList.drop 116 = dktX3_copy_5 := dk_seg dksX3_copy_4 23 rfl rfl
theorem dksX3_copy_6 : cX3_copy.data.toList.drop 139 = dktX3_copy_6 := dk_seg dksX3_copy_5 23 rfl rfl
theorem dksX3_copy_7 : cX3_copy.data.toList.drop 162 = dktX3_copy_7 := dk_seg dksX3_copy_6 23 rfl rfl
theorem dksX3_copy_8 : cX3_copy.data.toList.drop 186 = dktX3_copy_8 := dk_seg dksX3_copy_7 24 rfl rfl
theorem dX3_copy_0 : decode cX3_copy 0 = .ok (.new 10, 3) := dk_187 0 10 (dk_at dksX3_copy_0 0 rfl rfl)
theorem dX3_copy_3 : decode cX3_copy 3 = .ok (.dup, 1) := dk_89 (dk_at dksX3_copy_0 3 rfl rfl)
theorem dX3_copy_4 : decode cX3_copy 4 = .ok (.aload_n 1, 1) := dk_43 (dk_at dksX3_copy_0 4 rfl rfl)
theorem dX3_copy_5 : decode cX3_copy 5 = .ok (.invokespecial 67, 3) := dk_183 0 67 (dk_at dksX3_copy_0 5 rfl rfl)
theorem dX3_copy_8 : decode cX3_copy 8 = .ok (.astore_n 2, 1) := dk_77 (dk_at dksX3_copy_0 8 rfl rfl)
theorem dX3_copy_9 : decode cX3_copy 9 = .ok (.aload_n 0, 1) := dk_42 (dk_at dksX3_copy_0 9 rfl rfl)
theorem dX3_copy_10 : decode cX3_copy 10 = .ok (.getfield 9, 3) := dk_180 0 9 (dk_at dksX3_copy_0 10 rfl rfl)
theorem dX3_copy_13 : decode cX3_copy 13 = .ok (.iconst 0, 1) := dk_3 (dk_at dksX3_copy_0 13 rfl rfl)
theorem dX3_copy_14 : decode cX3_copy 14 = .ok (.aload_n 2, 1) := dk_44 (dk_at dksX3_copy_0 14 rfl rfl)
theorem dX3_copy_15 : decode cX3_copy 15 = .ok (.getfield 9, 3) := dk_180 0 9 (dk_at dksX3_copy_0 15 rfl rfl)
theorem dX3_copy_18 : decode cX3_copy 18 = .ok (.iconst 0, 1) := dk_3 (dk_at dksX3_copy_0 18 rfl rfl)
theorem dX3_copy_19 : decode cX3_copy 19 = .ok (.bipush 10, 2) := dk_16 10 (dk_at dksX3_copy_0 19 rfl rfl)
theorem dX3_copy_21 : decode cX3_copy 21 = .ok (.invokestatic 70, 3) := dk_184 0 70 (dk_at dksX3_copy_0 21 rfl rfl)
theorem dX3_copy_24 : decode cX3_copy 24 = .ok (.aload_n 0, 1) := dk_42 (dk_at dksX3_copy_1 0 rfl rfl)
theorem dX3_copy_25 : decode cX3_copy 25 = .ok (.getfield 15, 3) := dk_180 0 15 (dk_at dksX3_copy_1 1 rfl rfl)
theorem dX3_copy_28 : decode cX3_copy 28 = .ok (.iconst 0, 1) := dk_3 (dk_at dksX3_copy_1 4 rfl rfl)
theorem dX3_copy_29 : decode cX3_copy 29 = .ok (.aload_n 2, 1) := dk_44 (dk_at dksX3_copy_1 5 rfl rfl)
theorem dX3_copy_30 : decode cX3_copy 30 = .ok (.getfield 15, 3) := dk_180 0 15 (dk_at dksX3_copy_1 6 rfl rfl)
theorem dX3_copy_33 : decode cX3_copy 33 = .ok (.iconst 0, 1) := dk_3 (dk_at dksX3_copy_1 9 rfl rfl)
theorem dX3_copy_34 : decode cX3_copy 34 = .ok (.bipush 10, 2) := dk_16 10 (dk_at dksX3_copy_1 10 rfl rfl)
theorem dX3_copy_36 : decode cX3_copy 36 = .ok (.invokestatic 70, 3) := dk_184 0 70 (dk_at dksX3_copy_1 12 rfl rfl)
theorem dX3_copy_39 : decode cX3_copy 39 = .ok (.aload_n 0, 1) := dk_42 (dk_at dksX3_copy_1 15 rfl rfl)
theorem dX3_copy_40 : decode cX3_copy 40 = .ok (.getfield 18, 3) := dk_180 0 18 (dk_at dksX3_copy_1 16 rfl rfl)
theorem dX3_copy_43 : decode cX3_copy 43 = .ok (.iconst 0, 1) := dk_3 (dk_at dksX3_copy_1 19 rfl rfl)
theorem dX3_copy_44 : decode cX3_copy 44 = .ok (.aload_n 2, 1) := dk_44 (dk_at dksX3_copy_1 20 rfl rfl)
theorem dX3_copy_45 : decode cX3_copy 45 = .ok (.getfield 18, 3) := dk_180 0 18 (dk_at dksX3_copy_1 21 rfl rfl)
theorem dX3_copy_48 : decode cX3_copy 48 = .ok (.iconst 0, 1) := dk_3 (dk_at dksX3_copy_2 0 rfl rfl)
theorem dX3_copy_49 : decode cX3_copy 49 = .ok (.bipush 24, 2) := dk_16 24 (dk_at dksX3_copy_2 1 rfl rfl)
theorem dX3_copy_51 : decode cX3_copy 51 = .ok (.invokestatic 70, 3) := dk_184 0 70 (dk_at dksX3_copy_2 3 rfl rfl)
theorem dX3_copy_54 : decode cX3_copy 54 = .ok (.aload_n 0, 1) := dk_42 (dk_at dksX3_copy_2 6 rfl rfl)
theorem dX3_copy_55 : decode cX3_copy 55 = .ok (.getfield 21, 3) := dk_180 0 21 (dk_at dksX3_copy_2 7 rfl rfl)
theorem dX3_copy_58 : decode cX3_copy 58 = .ok (.iconst 0, 1) := dk_3 (dk_at dksX3_copy_2 10 rfl rfl)
theorem dX3_copy_59 : decode cX3_copy 59 = .ok (.aload_n 2, 1) := dk_44 (dk_at dksX3_copy_2 11 rfl rfl)
theorem dX3_copy_60 : decode cX3_copy 60 = .ok (.getfield 21, 3) := dk_180 0 21 (dk_at dksX3_copy_2 12 rfl rfl)
theorem dX3_copy_63 : decode cX3_copy 63 = .ok (.iconst 0, 1) := dk_3 (dk_at dksX3_copy_2 15 rfl rfl)
theorem dX3_copy_64 : decode cX3_copy 64 = .ok (.bipush 24, 2) := dk_16 24 (dk_at dksX3_copy_2 16 rfl rfl)
theorem dX3_copy_66 : decode cX3_copy 66 = .ok (.invokestatic 70, 3) := dk_184 0 70 (dk_at dksX3_copy_2 18 rfl rfl)
theorem dX3_copy_69 : decode cX3_copy 69 = .ok (.aload_n 0, 1) := dk_42 (dk_at dksX3_copy_2 21 rfl rfl)
theorem dX3_copy_70 : decode cX3_copy 70 = .ok (.getfield 26, 3) := dk_180 0 26 (dk_at dksX3_copy_3 0 rfl rfl)
theorem dX3_copy_73 : decode cX3_copy 73 = .ok (.iconst 0, 1) := dk_3 (dk_at dksX3_copy_3 3 rfl rfl)
theorem dX3_copy_74 : decode cX3_copy 74 = .ok (.aload_n 2, 1) := dk_44 (dk_at dksX3_copy_3 4 rfl rfl)
theorem dX3_copy_75 : decode cX3_copy 75 = .ok (.getfield 26, 3) := dk_180 0 26 (dk_at dksX3_copy_3 5 rfl rfl)
theorem dX3_copy_78 : decode cX3_copy 78 = .ok (.iconst 0, 1) := dk_3 (dk_at dksX3_copy_3 8 rfl rfl)
theorem dX3_copy_79 : decode cX3_copy 79 = .ok (.bipush 10, 2) := dk_16 10 (dk_at dksX3_copy_3 9 rfl rfl)
theorem dX3_copy_81 : decode cX3_copy 81 = .ok (.invokestatic 70, 3) := dk_184 0 70 (dk_at dksX3_copy_3 11 rfl rfl)
theorem dX3_copy_84 : decode cX3_copy 84 = .ok (.aload_n 0, 1) := dk_42 (dk_at dksX3_copy_3 14 rfl rfl)
theorem dX3_copy_85 : decode cX3_copy 85 = .ok (.getfield 33, 3) := dk_180 0 33 (dk_at dksX3_copy_3 15 rfl rfl)
theorem dX3_copy_88 : decode cX3_copy 88 = .ok (.invokevirtual 76, 3) := dk_182 0 76 (dk_at dksX3_copy_3 18 rfl rfl)
theorem dX3_copy_91 : decode cX3_copy 91 = .ok (.astore_n 3, 1) := dk_78 (dk_at dksX3_copy_3 21 rfl rfl)
theorem dX3_copy_92 : decode cX3_copy 92 = .ok (.aload_n 3, 1) := dk_45 (dk_at dksX3_copy_3 22 rfl rfl)
theorem dX3_copy_93 : decode cX3_copy 93 = .ok (.invokeinterface 80 1, 5) := by decide +kernel
theorem dX3_copy_98 : decode cX3_copy 98 = .ok (.ifCond .eq 27, 3) := dk_153 0 27 (dk_at dksX3_copy_4 5 rfl rfl)
theorem dX3_copy_101 : decode cX3_copy 101 = .ok (.aload_n 3, 1) := dk_45 (dk_at dksX3_copy_4 8 rfl rfl)
theorem dX3_copy_102 : decode cX3_copy 102 = .ok (.invokeinterface 86 1, 5) := by decide +kernel
theorem dX3_copy_107 : decode cX3_copy 107 = .ok (.checkcast 90, 3) := dk_192 0 90 (dk_at dksX3_copy_4 14 rfl rfl)
theorem dX3_copy_110 : decode cX3_copy 110 = .ok (.astore 4, 2) := dk_58 4 (dk_at dksX3_copy_4 17 rfl rfl)
theorem dX3_copy_112 : decode cX3_copy 112 = .ok (.aload_n 2, 1) := dk_44 (dk_at dksX3_copy_4 19 rfl rfl)
theorem dX3_copy_113 : decode cX3_copy 113 = .ok (.getfield 33, 3) := dk_180 0 33 (dk_at dksX3_copy_4 20 rfl rfl)
theorem dX3_copy_116 : decode cX3_copy 116 = .ok (.aload 4, 2) := dk_25 4 (dk_at dksX3_copy_5 0 rfl rfl)
theorem dX3_copy_118 : decode cX3_copy 118 = .ok (.invokevirtual 92, 3) := dk_182 0 92 (dk_at dksX3_copy_5 2 rfl rfl)
theorem dX3_copy_121 : decode cX3_copy 121 = .ok (.pop, 1) := dk_87 (dk_at dksX3_copy_5 5 rfl rfl)
theorem dX3_copy_122 : decode cX3_copy 122 = .ok (.goto (-30), 3) := dk_167 255 226 (dk_at dksX3_copy_5 6 rfl rfl)
theorem dX3_copy_125 : decode cX3_copy 125 = .ok (.aload_n 0, 1) := dk_42 (dk_at dksX3_copy_5 9 rfl rfl)
theorem dX3_copy_126 : decode cX3_copy 126 = .ok (.getfield 42, 3) := dk_180 0 42 (dk_at dksX3_copy_5 10 rfl rfl)
theorem dX3_copy_129 : decode cX3_copy 129 = .ok (.invokevirtual 96, 3) := dk_182 0 96 (dk_at dksX3_copy_5 13 rfl rfl)
theorem dX3_copy_132 : decode cX3_copy 132 = .ok (.astore_n 3, 1) := dk_78 (dk_at dksX3_copy_5 16 rfl rfl)
theorem dX3_copy_133 : decode cX3_copy 133 = .ok (.aload_n 3, 1) := dk_45 (dk_at dksX3_copy_5 17 rfl rfl)
theorem dX3_copy_134 : decode cX3_copy 134 = .ok (.invokeinterface 80 1, 5) := by decide +kernel
theorem dX3_copy_139 : decode cX3_copy 139 = .ok (.ifCond .eq 26, 3) := dk_153 0 26 (dk_at dksX3_copy_6 0 rfl rfl)
theorem dX3_copy_142 : decode cX3_copy 142 = .ok (.aload_n 3, 1) := dk_45 (dk_at dksX3_copy_6 3 rfl rfl)
theorem dX3_copy_143 : decode cX3_copy 143 = .ok (.invokeinterface 86 1, 5) := by decide +kernel
theorem dX3_copy_148 : decode cX3_copy 148 = .ok (.checkcast 97, 3) := dk_192 0 97 (dk_at dksX3_copy_6 9 rfl rfl)
theorem dX3_copy_151 : decode cX3_copy 151 = .ok (.astore 4, 2) := dk_58 4 (dk_at dksX3_copy_6 12 rfl rfl)
theorem dX3_copy_153 : decode cX3_copy 153 = .ok (.aload_n 2, 1) := dk_44 (dk_at dksX3_copy_6 14 rfl rfl)
theorem dX3_copy_154 : decode cX3_copy 154 = .ok (.getfield 42, 3) := dk_180 0 42 (dk_at dksX3_copy_6 15 rfl rfl)
theorem dX3_copy_157 : decode cX3_copy 157 = .ok (.aload 4, 2) := dk_25 4 (dk_at dksX3_copy_6 18 rfl rfl)
theorem dX3_copy_159 : decode cX3_copy 159 = .ok (.invokevirtual 99, 3) := dk_182 0 99 (dk_at dksX3_copy_6 20 rfl rfl)
theorem dX3_copy_162 : decode cX3_copy 162 = .ok (.goto (-29), 3) := dk_167 255 227 (dk_at dksX3_copy_7 0 rfl rfl)
theorem dX3_copy_165 : decode cX3_copy 165 = .ok (.aload_n 2, 1) := dk_44 (dk_at dksX3_copy_7 3 rfl rfl)
theorem dX3_copy_166 : decode cX3_copy 166 = .ok (.aload_n 0, 1) := dk_42 (dk_at dksX3_copy_7 4 rfl rfl)
theorem dX3_copy_167 : decode cX3_copy 167 = .ok (.getfield 103, 3) := dk_180 0 103 (dk_at dksX3_copy_7 5 rfl rfl)
theorem dX3_copy_170 : decode cX3_copy 170 = .ok (.putfield 103, 3) := dk_181 0 103 (dk_at dksX3_copy_7 8 rfl rfl)
theorem dX3_copy_173 : decode cX3_copy 173 = .ok (.aload_n 2, 1) := dk_44 (dk_at dksX3_copy_7 11 rfl rfl)
theorem dX3_copy_174 : decode cX3_copy 174 = .ok (.aload_n 0, 1) := dk_42 (dk_at dksX3_copy_7 12 rfl rfl)
theorem dX3_copy_175 : decode cX3_copy 175 = .ok (.getfield 52, 3) := dk_180 0 52 (dk_at dksX3_copy_7 13 rfl rfl)
theorem dX3_copy_178 : decode cX3_copy 178 = .ok (.putfield 52, 3) := dk_181 0 52 (dk_at dksX3_copy_7 16 rfl rfl)
theorem dX3_copy_181 : decode cX3_copy 181 = .ok (.aload_n 2, 1) := dk_44 (dk_at dksX3_copy_7 19 rfl rfl)
theorem dX3_copy_182 : decode cX3_copy 182 = .ok (.aload_n 0, 1) := dk_42 (dk_at dksX3_copy_7 20 rfl rfl)
theorem dX3_copy_183 : decode cX3_copy 183 = .ok (.getfield 58, 3) := dk_180 0 58 (dk_at dksX3_copy_7 21 rfl rfl)
theorem dX3_copy_186 : decode cX3_copy 186 = .ok (.putfield 58, 3) := dk_181 0 58 (dk_at dksX3_copy_8 0 rfl rfl)
theorem dX3_copy_189 : decode cX3_copy 189 = .ok (.aload_n 2, 1) := dk_44 (dk_at dksX3_copy_8 3 rfl rfl)
theorem dX3_copy_190 : decode cX3_copy 190 = .ok (.aload_n 0, 1) := dk_42 (dk_at dksX3_copy_8 4 rfl rfl)
theorem dX3_copy_191 : decode cX3_copy 191 = .ok (.getfield 106, 3) := dk_180 0 106 (dk_at dksX3_copy_8 5 rfl rfl)
theorem dX3_copy_194 : decode cX3_copy 194 = .ok (.putfield 106, 3) := dk_181 0 106 (dk_at dksX3_copy_8 8 rfl rfl)
theorem dX3_copy_197 : decode cX3_copy 197 = .ok (.aload_n 2, 1) := dk_44 (dk_at dksX3_copy_8 11 rfl rfl)
theorem dX3_copy_198 : decode cX3_copy 198 = .ok (.aload_n 0, 1) := dk_42 (dk_at dksX3_copy_8 12 rfl rfl)
theorem dX3_copy_199 : decode cX3_copy 199 = .ok (.getfield 62, 3) := dk_180 0 62 (dk_at dksX3_copy_8 13 rfl rfl)
theorem dX3_copy_202 : decode cX3_copy 202 = .ok (.putfield 62, 3) := dk_181 0 62 (dk_at dksX3_copy_8 16 rfl rfl)
theorem dX3_copy_205 : decode cX3_copy 205 = .ok (.aload_n 2, 1) := dk_44 (dk_at dksX3_copy_8 19 rfl rfl)
theorem dX3_copy_206 : decode cX3_copy 206 = .ok (.areturn, 1) := dk_176 (dk_at dksX3_copy_8 20 rfl rfl)
abbrev cX3_draw : ByteArray := prog_13_method_3_code
def yX3_draw : MethodName := ⟨RX3, "draw", "()I"⟩
def dkwX3_draw_1 : List UInt8 := [20, 0, 115, 109, 20, 0, 117, 113, 136, 172]
abbrev dktX3_draw_1 : List UInt8 := dkwX3_draw_1 ++ []
def dkwX3_draw_0 : List UInt8 := [42, 42, 180, 0, 62, 20, 0, 109, 105, 20, 0, 111, 97, 20, 0, 113, 113, 181, 0, 62, 42, 180, 0, 62]
abbrev dktX3_draw_0 : List UInt8 := dkwX3_draw_0 ++ dktX3_draw_1
theorem dksX3_draw_0 : cX3_draw.data.toList.drop 0 = dktX3_draw_0 := by decide +kernel
theorem dksX3_draw_1 : cX3_draw.data.toList.drop 24 = dktX3_draw_1 := dk_seg dksX3_draw_0 24 rfl rfl
theorem dX3_draw_0 : decode cX3_draw 0 = .ok (.aload_n 0, 1) := dk_42 (dk_at dksX3_draw_0 0 rfl rfl)
theorem dX3_draw_1 : decode cX3_draw 1 = .ok (.aload_n 0, 1) := dk_42 (dk_at dksX3_draw_0 1 rfl rfl)
theorem dX3_draw_2 : decode cX3_draw 2 = .ok (.getfield 62, 3) := dk_180 0 62 (dk_at dksX3_draw_0 2 rfl rfl)
theorem dX3_draw_5 : decode cX3_draw 5 = .ok (.ldc2_w 109, 3) := dk_20 0 109 (dk_at dksX3_draw_0 5 rfl rfl)
theorem dX3_draw_8 : decode cX3_draw 8 = .ok (.lmul, 1) := dk_105 (dk_at dksX3_draw_0 8 rfl rfl)
theorem dX3_draw_9 : decode cX3_draw 9 = .ok (.ldc2_w 111, 3) := dk_20 0 111 (dk_at dksX3_draw_0 9 rfl rfl)
theorem dX3_draw_12 : decode cX3_draw 12 = .ok (.ladd, 1) := dk_97 (dk_at dksX3_draw_0 12 rfl rfl)
theorem dX3_draw_13 : decode cX3_draw 13 = .ok (.ldc2_w 113, 3) := dk_20 0 113 (dk_at dksX3_draw_0 13 rfl rfl)
theorem dX3_draw_16 : decode cX3_draw 16 = .ok (.lrem, 1) := dk_113 (dk_at dksX3_draw_0 16 rfl rfl)
theorem dX3_draw_17 : decode cX3_draw 17 = .ok (.putfield 62, 3) := dk_181 0 62 (dk_at dksX3_draw_0 17 rfl rfl)
theorem dX3_draw_20 : decode cX3_draw 20 = .ok (.aload_n 0, 1) := dk_42 (dk_at dksX3_draw_0 20 rfl rfl)
theorem dX3_draw_21 : decode cX3_draw 21 = .ok (.getfield 62, 3) := dk_180 0 62 (dk_at dksX3_draw_0 21 rfl rfl)
theorem dX3_draw_24 : decode cX3_draw 24 = .ok (.ldc2_w 115, 3) := dk_20 0 115 (dk_at dksX3_draw_1 0 rfl rfl)
theorem dX3_draw_27 : decode cX3_draw 27 = .ok (.ldiv, 1) := dk_109 (dk_at dksX3_draw_1 3 rfl rfl)
theorem dX3_draw_28 : decode cX3_draw 28 = .ok (.ldc2_w 117, 3) := dk_20 0 117 (dk_at dksX3_draw_1 4 rfl rfl)
theorem dX3_draw_31 : decode cX3_draw 31 = .ok (.lrem, 1) := dk_113 (dk_at dksX3_draw_1 7 rfl rfl)
theorem dX3_draw_32 : decode cX3_draw 32 = .ok (.l2i, 1) := dk_136 (dk_at dksX3_draw_1 8 rfl rfl)
theorem dX3_draw_33 : decode cX3_draw 33 = .ok (.ireturn, 1) := dk_172 (dk_at dksX3_draw_1 9 rfl rfl)
abbrev cX3_note : ByteArray := prog_13_method_4_code
def yX3_note : MethodName := ⟨RX3, "note", "(II)V"⟩
def dkwX3_note_1 : List UInt8 := [187, 0, 97, 89, 27, 28, 42, 180, 0, 103, 183, 0, 126, 182, 0, 99, 177]
abbrev dktX3_note_1 : List UInt8 := dkwX3_note_1 ++ []
def dkwX3_note_0 : List UInt8 := [42, 180, 0, 42, 182, 0, 119, 16, 16, 160, 0, 11, 42, 180, 0, 42, 182, 0, 123, 87, 42, 180, 0, 42]
abbrev dktX3_note_0 : List UInt8 := dkwX3_note_0 ++ dktX3_note_1
theorem dksX3_note_0 : cX3_note.data.toList.drop 0 = dktX3_note_0 := by decide +kernel
theorem dksX3_note_1 : cX3_note.data.toList.drop 24 = dktX3_note_1 := dk_seg dksX3_note_0 24 rfl rfl
theorem dX3_note_0 : decode cX3_note 0 = .ok (.aload_n 0, 1) := dk_42 (dk_at dksX3_note_0 0 rfl rfl)
theorem dX3_note_1 : decode cX3_note 1 = .ok (.getfield 42, 3) := dk_180 0 42 (dk_at dksX3_note_0 1 rfl rfl)
theorem dX3_note_4 : decode cX3_note 4 = .ok (.invokevirtual 119, 3) := dk_182 0 119 (dk_at dksX3_note_0 4 rfl rfl)
theorem dX3_note_7 : decode cX3_note 7 = .ok (.bipush 16, 2) := dk_16 16 (dk_at dksX3_note_0 7 rfl rfl)
theorem dX3_note_9 : decode cX3_note 9 = .ok (.if_icmp .ne 11, 3) := dk_160 0 11 (dk_at dksX3_note_0 9 rfl rfl)
theorem dX3_note_12 : decode cX3_note 12 = .ok (.aload_n 0, 1) := dk_42 (dk_at dksX3_note_0 12 rfl rfl)
theorem dX3_note_13 : decode cX3_note 13 = .ok (.getfield 42, 3) := dk_180 0 42 (dk_at dksX3_note_0 13 rfl rfl)
theorem dX3_note_16 : decode cX3_note 16 = .ok (.invokevirtual 123, 3) := dk_182 0 123 (dk_at dksX3_note_0 16 rfl rfl)
theorem dX3_note_19 : decode cX3_note 19 = .ok (.pop, 1) := dk_87 (dk_at dksX3_note_0 19 rfl rfl)
theorem dX3_note_20 : decode cX3_note 20 = .ok (.aload_n 0, 1) := dk_42 (dk_at dksX3_note_0 20 rfl rfl)
theorem dX3_note_21 : decode cX3_note 21 = .ok (.getfield 42, 3) := dk_180 0 42 (dk_at dksX3_note_0 21 rfl rfl)
theorem dX3_note_24 : decode cX3_note 24 = .ok (.new 97, 3) := dk_187 0 97 (dk_at dksX3_note_1 0 rfl rfl)
theorem dX3_note_27 : decode cX3_note 27 = .ok (.dup, 1) := dk_89 (dk_at dksX3_note_1 3 rfl rfl)
theorem dX3_note_28 : decode cX3_note 28 = .ok (.iload_n 1, 1) := dk_27 (dk_at dksX3_note_1 4 rfl rfl)
theorem dX3_note_29 : decode cX3_note 29 = .ok (.iload_n 2, 1) := dk_28 (dk_at dksX3_note_1 5 rfl rfl)
theorem dX3_note_30 : decode cX3_note 30 = .ok (.aload_n 0, 1) := dk_42 (dk_at dksX3_note_1 6 rfl rfl)
theorem dX3_note_31 : decode cX3_note 31 = .ok (.getfield 103, 3) := dk_180 0 103 (dk_at dksX3_note_1 7 rfl rfl)
theorem dX3_note_34 : decode cX3_note 34 = .ok (.invokespecial 126, 3) := dk_183 0 126 (dk_at dksX3_note_1 10 rfl rfl)
theorem dX3_note_37 : decode cX3_note 37 = .ok (.invokevirtual 99, 3) := dk_182 0 99 (dk_at dksX3_note_1 13 rfl rfl)
theorem dX3_note_40 : decode cX3_note 40 = .ok (.return_, 1) := dk_177 (dk_at dksX3_note_1 16 rfl rfl)
abbrev cX3_setLetters : ByteArray := prog_13_method_5_code
def yX3_setLetters : MethodName := ⟨RX3, "setLetters", "(Ljava/util/BitSet;II)V"⟩
def dkwX3_setLetters_2 : List UInt8 := [180, 0, 103, 79, 43, 21, 4, 4, 96, 182, 0, 129, 54, 4, 167, 255, 203, 177]
abbrev dktX3_setLetters_2 : List UInt8 := dkwX3_setLetters_2 ++ []
def dkwX3_setLetters_1 : List UInt8 := [167, 0, 27, 42, 180, 0, 18, 21, 4, 29, 79, 29, 6, 160, 0, 14, 42, 180, 0, 21, 21, 4, 42]
abbrev dktX3_setLetters_1 : List UInt8 := dkwX3_setLetters_1 ++ dktX3_setLetters_2
def dkwX3_setLetters_0 : List UInt8 := [43, 3, 182, 0, 129, 54, 4, 21, 4, 155, 0, 54, 42, 180, 0, 18, 21, 4, 46, 28, 159, 0, 6]
abbrev dktX3_setLetters_0 : List UInt8 := dkwX3_setLetters_0 ++ dktX3_setLetters_1
theorem dksX3_setLetters_0 : cX3_setLetters.data.toList.drop 0 = dktX3_setLetters_0 := by decide +kernel
theorem dksX3_setLetters_1 : cX3_setLetters.data.toList.drop 23 = dktX3_setLetters_1 := dk_seg dksX3_setLetters_0 23 rfl rfl
theorem dksX3_setLetters_2 : cX3_setLetters.data.toList.drop 46 = dktX3_setLetters_2 := dk_seg dksX3_setLetters_1 23 rfl rfl
theorem dX3_setLetters_0 : decode cX3_setLetters 0 = .ok (.aload_n 1, 1) := dk_43 (dk_at dksX3_setLetters_0 0 rfl rfl)
theorem dX3_setLetters_1 : decode cX3_setLetters 1 = .ok (.iconst 0, 1) := dk_3 (dk_at dksX3_setLetters_0 1 rfl rfl)
theorem dX3_setLetters_2 : decode cX3_setLetters 2 = .ok (.invokevirtual 129, 3) := dk_182 0 129 (dk_at dksX3_setLetters_0 2 rfl rfl)
theorem dX3_setLetters_5 : decode cX3_setLetters 5 = .ok (.istore 4, 2) := dk_54 4 (dk_at dksX3_setLetters_0 5 rfl rfl)
theorem dX3_setLetters_7 : decode cX3_setLetters 7 = .ok (.iload 4, 2) := dk_21 4 (dk_at dksX3_setLetters_0 7 rfl rfl)
theorem dX3_setLetters_9 : decode cX3_setLetters 9 = .ok (.ifCond .lt 54, 3) := dk_155 0 54 (dk_at dksX3_setLetters_0 9 rfl rfl)
theorem dX3_setLetters_12 : decode cX3_setLetters 12 = .ok (.aload_n 0, 1) := dk_42 (dk_at dksX3_setLetters_0 12 rfl rfl)
theorem dX3_setLetters_13 : decode cX3_setLetters 13 = .ok (.getfield 18, 3) := dk_180 0 18 (dk_at dksX3_setLetters_0 13 rfl rfl)
theorem dX3_setLetters_16 : decode cX3_setLetters 16 = .ok (.iload 4, 2) := dk_21 4 (dk_at dksX3_setLetters_0 16 rfl rfl)
theorem dX3_setLetters_18 : decode cX3_setLetters 18 = .ok (.iaload, 1) := dk_46 (dk_at dksX3_setLetters_0 18 rfl rfl)
theorem dX3_setLetters_19 : decode cX3_setLetters 19 = .ok (.iload_n 2, 1) := dk_28 (dk_at dksX3_setLetters_0 19 rfl rfl)
theorem dX3_setLetters_20 : decode cX3_setLetters 20 = .ok (.if_icmp .eq 6, 3) := dk_159 0 6 (dk_at dksX3_setLetters_0 20 rfl rfl)
theorem dX3_setLetters_23 : decode cX3_setLetters 23 = .ok (.goto 27, 3) := dk_167 0 27 (dk_at dksX3_setLetters_1 0 rfl rfl)
theorem dX3_setLetters_26 : decode cX3_setLetters 26 = .ok (.aload_n 0, 1) := dk_42 (dk_at dksX3_setLetters_1 3 rfl rfl)
theorem dX3_setLetters_27 : decode cX3_setLetters 27 = .ok (.getfield 18, 3) := dk_180 0 18 (dk_at dksX3_setLetters_1 4 rfl rfl)
theorem dX3_setLetters_30 : decode cX3_setLetters 30 = .ok (.iload 4, 2) := dk_21 4 (dk_at dksX3_setLetters_1 7 rfl rfl)
theorem dX3_setLetters_32 : decode cX3_setLetters 32 = .ok (.iload_n 3, 1) := dk_29 (dk_at dksX3_setLetters_1 9 rfl rfl)
theorem dX3_setLetters_33 : decode cX3_setLetters 33 = .ok (.iastore, 1) := dk_79 (dk_at dksX3_setLetters_1 10 rfl rfl)
theorem dX3_setLetters_34 : decode cX3_setLetters 34 = .ok (.iload_n 3, 1) := dk_29 (dk_at dksX3_setLetters_1 11 rfl rfl)
theorem dX3_setLetters_35 : decode cX3_setLetters 35 = .ok (.iconst 3, 1) := dk_6 (dk_at dksX3_setLetters_1 12 rfl rfl)
theorem dX3_setLetters_36 : decode cX3_setLetters 36 = .ok (.if_icmp .ne 14, 3) := dk_160 0 14 (dk_at dksX3_setLetters_1 13 rfl rfl)
theorem dX3_setLetters_39 : decode cX3_setLetters 39 = .ok (.aload_n 0, 1) := dk_42 (dk_at dksX3_setLetters_1 16 rfl rfl)
theorem dX3_setLetters_40 : decode cX3_setLetters 40 = .ok (.getfield 21, 3) := dk_180 0 21 (dk_at dksX3_setLetters_1 17 rfl rfl)
theorem dX3_setLetters_43 : decode cX3_setLetters 43 = .ok (.iload 4, 2) := dk_21 4 (dk_at dksX3_setLetters_1 20 rfl rfl)
theorem dX3_setLetters_45 : decode cX3_setLetters 45 = .ok (.aload_n 0, 1) := dk_42 (dk_at dksX3_setLetters_1 22 rfl rfl)
theorem dX3_setLetters_46 : decode cX3_setLetters 46 = .ok (.getfield 103, 3) := dk_180 0 103 (dk_at dksX3_setLetters_2 0 rfl rfl)
theorem dX3_setLetters_49 : decode cX3_setLetters 49 = .ok (.iastore, 1) := dk_79 (dk_at dksX3_setLetters_2 3 rfl rfl)
theorem dX3_setLetters_50 : decode cX3_setLetters 50 = .ok (.aload_n 1, 1) := dk_43 (dk_at dksX3_setLetters_2 4 rfl rfl)
theorem dX3_setLetters_51 : decode cX3_setLetters 51 = .ok (.iload 4, 2) := dk_21 4 (dk_at dksX3_setLetters_2 5 rfl rfl)
theorem dX3_setLetters_53 : decode cX3_setLetters 53 = .ok (.iconst 1, 1) := dk_4 (dk_at dksX3_setLetters_2 7 rfl rfl)
theorem dX3_setLetters_54 : decode cX3_setLetters 54 = .ok (.iadd, 1) := dk_96 (dk_at dksX3_setLetters_2 8 rfl rfl)
theorem dX3_setLetters_55 : decode cX3_setLetters 55 = .ok (.invokevirtual 129, 3) := dk_182 0 129 (dk_at dksX3_setLetters_2 9 rfl rfl)
theorem dX3_setLetters_58 : decode cX3_setLetters 58 = .ok (.istore 4, 2) := dk_54 4 (dk_at dksX3_setLetters_2 12 rfl rfl)
theorem dX3_setLetters_60 : decode cX3_setLetters 60 = .ok (.goto (-53), 3) := dk_167 255 203 (dk_at dksX3_setLetters_2 14 rfl rfl)
theorem dX3_setLetters_63 : decode cX3_setLetters 63 = .ok (.return_, 1) := dk_177 (dk_at dksX3_setLetters_2 17 rfl rfl)
theorem q101 : (Jvm.Cond.initialized "BalloonMail$State") ∈ lw_all := lw_g (lw_at lw_m1 6 rfl) rfl
theorem q216 : (Jvm.Cond.fieldLinkNest "BalloonMail$State" (55 : Nat) "BalloonMail$Siege" "loft" "I" "BalloonMail") ∈ lw_tbl := lw_at lw_m1 121 rfl
theorem q218 : (Jvm.Cond.fieldLinkNest "BalloonMail$State" (46 : Nat) "BalloonMail$Siege" "start" "I" "BalloonMail") ∈ lw_tbl := lw_at lw_m1 123 rfl
theorem q221 : (Jvm.Cond.fieldLinkNest "BalloonMail$State" (59 : Nat) "BalloonMail$Siege" "seed" "I" "BalloonMail") ∈ lw_tbl := lw_at lw_m1 126 rfl
theorem q241 : (Jvm.Cond.instantiable "BalloonMail$State" (12 : Nat)) ∈ lw_all := lw_g (lw_at lw_m1 146 rfl) rfl
theorem q243 : (Jvm.Cond.instanceMethod ({ cls := "BalloonMail$State", name := "<init>", desc := "(LBalloonMail$Siege;)V" } : Jvm.MethodName)) ∈ lw_all := lw_g (lw_at lw_m1 148 rfl) rfl
theorem q244 : (Jvm.Cond.code ({ cls := "BalloonMail$State", name := "<init>", desc := "(LBalloonMail$Siege;)V" } : Jvm.MethodName) prog_13_method_1_code (3 : Nat) (Option.none : Option Jvm.ClassFile.FieldType)) ∈ lw_all := lw_g (lw_at lw_m1 149 rfl) rfl
theorem q245 : (Jvm.Cond.methodLink "BalloonMail$State" (3 : Nat) ({ cls := "java/lang/Object", name := "<init>", desc := "()V" } : Jvm.MethodName)) ∈ lw_all := lw_g (lw_at lw_m1 150 rfl) rfl
theorem q246 : (Jvm.Cond.classLink "BalloonMail$State" (24 : Nat) "java/util/BitSet") ∈ lw_all := lw_g (lw_at lw_m1 151 rfl) rfl
theorem q248 : (Jvm.Cond.classLink "BalloonMail$State" (30 : Nat) "java/util/LinkedList") ∈ lw_all := lw_g (lw_at lw_m1 153 rfl) rfl
theorem q250 : (Jvm.Cond.methodLink "BalloonMail$State" (32 : Nat) ({ cls := "java/util/LinkedList", name := "<init>", desc := "()V" } : Jvm.MethodName)) ∈ lw_all := lw_g (lw_at lw_m1 155 rfl) rfl
theorem q270 : (Jvm.Cond.classLink "BalloonMail$State" (37 : Nat) "java/util/ArrayDeque") ∈ lw_all := lw_g (lw_at lw_m1 175 rfl) rfl
theorem q272 : (Jvm.Cond.methodLink "BalloonMail$State" (39 : Nat) ({ cls := "java/util/ArrayDeque", name := "<init>", desc := "(I)V" } : Jvm.MethodName)) ∈ lw_all := lw_g (lw_at lw_m1 177 rfl) rfl
theorem q291 : (Jvm.Cond.methodLink "BalloonMail$State" (66 : Nat) ({ cls := "java/util/BitSet", name := "<init>", desc := "()V" } : Jvm.MethodName)) ∈ lw_all := lw_g (lw_at lw_m1 196 rfl) rfl
theorem q313 : (Jvm.Cond.fieldLink "BalloonMail$State" (9 : Nat) "BalloonMail$State" "balloonState" "[I") ∈ lw_all := lw_g (lw_at lw_m1 218 rfl) rfl
theorem q315 : (Jvm.Cond.fieldLink "BalloonMail$State" (15 : Nat) "BalloonMail$State" "balloonRegion" "[I") ∈ lw_all := lw_g (lw_at lw_m1 220 rfl) rfl
theorem q317 : (Jvm.Cond.fieldLink "BalloonMail$State" (18 : Nat) "BalloonMail$State" "letterState" "[I") ∈ lw_all := lw_g (lw_at lw_m1 222 rfl) rfl
theorem q319 : (Jvm.Cond.fieldLink "BalloonMail$State" (21 : Nat) "BalloonMail$State" "answerDay" "[I") ∈ lw_all := lw_g (lw_at lw_m1 224 rfl) rfl
theorem q321 : (Jvm.Cond.fieldLink "BalloonMail$State" (26 : Nat) "BalloonMail$State" "cargo" "[Ljava/util/BitSet;") ∈ lw_all := lw_g (lw_at lw_m1 226 rfl) rfl
theorem q323 : (Jvm.Cond.fieldLink "BalloonMail$State" (33 : Nat) "BalloonMail$State" "flying" "Ljava/util/LinkedList;") ∈ lw_all := lw_g (lw_at lw_m1 228 rfl) rfl
theorem q325 : (Jvm.Cond.fieldLink "BalloonMail$State" (42 : Nat) "BalloonMail$State" "journal" "Ljava/util/ArrayDeque;") ∈ lw_all := lw_g (lw_at lw_m1 230 rfl) rfl
theorem q327 : (Jvm.Cond.fieldLink "BalloonMail$State" (103 : Nat) "BalloonMail$State" "day" "I") ∈ lw_all := lw_g (lw_at lw_m1 232 rfl) rfl
theorem q329 : (Jvm.Cond.fieldLink "BalloonMail$State" (52 : Nat) "BalloonMail$State" "wind" "I") ∈ lw_all := lw_g (lw_at lw_m1 234 rfl) rfl
theorem q331 : (Jvm.Cond.fieldLink "BalloonMail$State" (58 : Nat) "BalloonMail$State" "loft" "I") ∈ lw_all := lw_g (lw_at lw_m1 236 rfl) rfl
theorem q333 : (Jvm.Cond.fieldLink "BalloonMail$State" (106 : Nat) "BalloonMail$State" "lost" "I") ∈ lw_all := lw_g (lw_at lw_m1 238 rfl) rfl
theorem q335 : (Jvm.Cond.fieldLink "BalloonMail$State" (62 : Nat) "BalloonMail$State" "x" "J") ∈ lw_all := lw_g (lw_at lw_m2 0 rfl) rfl
theorem q336 : (Jvm.Cond.laysFinal "BalloonMail$State" "BalloonMail$State" "balloonState" "[I") ∈ lw_all := lw_g (lw_at lw_m2 1 rfl) rfl
theorem q337 : (Jvm.Cond.soleField "BalloonMail$State" "balloonState") ∈ lw_all := lw_g (lw_at lw_m2 2 rfl) rfl
theorem q338 : (Jvm.Cond.laysFinal "BalloonMail$State" "BalloonMail$State" "balloonRegion" "[I") ∈ lw_all := lw_g (lw_at lw_m2 3 rfl) rfl
theorem q339 : (Jvm.Cond.soleField "BalloonMail$State" "balloonRegion") ∈ lw_all := lw_g (lw_at lw_m2 4 rfl) rfl
theorem q340 : (Jvm.Cond.laysFinal "BalloonMail$State" "BalloonMail$State" "letterState" "[I") ∈ lw_all := lw_g (lw_at lw_m2 5 rfl) rfl
theorem q341 : (Jvm.Cond.soleField "BalloonMail$State" "letterState") ∈ lw_all := lw_g (lw_at lw_m2 6 rfl) rfl
theorem q342 : (Jvm.Cond.laysFinal "BalloonMail$State" "BalloonMail$State" "answerDay" "[I") ∈ lw_all := lw_g (lw_at lw_m2 7 rfl) rfl
theorem q343 : (Jvm.Cond.soleField "BalloonMail$State" "answerDay") ∈ lw_all := lw_g (lw_at lw_m2 8 rfl) rfl
theorem q344 : (Jvm.Cond.laysFinal "BalloonMail$State" "BalloonMail$State" "cargo" "[Ljava/util/BitSet;") ∈ lw_all := lw_g (lw_at lw_m2 9 rfl) rfl
theorem q345 : (Jvm.Cond.soleField "BalloonMail$State" "cargo") ∈ lw_all := lw_g (lw_at lw_m2 10 rfl) rfl
theorem q346 : (Jvm.Cond.laysFinal "BalloonMail$State" "BalloonMail$State" "flying" "Ljava/util/LinkedList;") ∈ lw_all := lw_g (lw_at lw_m2 11 rfl) rfl
theorem q347 : (Jvm.Cond.soleField "BalloonMail$State" "flying") ∈ lw_all := lw_g (lw_at lw_m2 12 rfl) rfl
theorem q348 : (Jvm.Cond.laysFinal "BalloonMail$State" "BalloonMail$State" "journal" "Ljava/util/ArrayDeque;") ∈ lw_all := lw_g (lw_at lw_m2 13 rfl) rfl
theorem q349 : (Jvm.Cond.soleField "BalloonMail$State" "journal") ∈ lw_all := lw_g (lw_at lw_m2 14 rfl) rfl
theorem q350 : (Jvm.Cond.lays "BalloonMail$State" "BalloonMail$State" "day" "I") ∈ lw_all := lw_g (lw_at lw_m2 15 rfl) rfl
theorem q351 : (Jvm.Cond.soleField "BalloonMail$State" "day") ∈ lw_all := lw_g (lw_at lw_m2 16 rfl) rfl
theorem q352 : (Jvm.Cond.lays "BalloonMail$State" "BalloonMail$State" "wind" "I") ∈ lw_all := lw_g (lw_at lw_m2 17 rfl) rfl
theorem q353 : (Jvm.Cond.soleField "BalloonMail$State" "wind") ∈ lw_all := lw_g (lw_at lw_m2 18 rfl) rfl
theorem q354 : (Jvm.Cond.lays "BalloonMail$State" "BalloonMail$State" "loft" "I") ∈ lw_all := lw_g (lw_at lw_m2 19 rfl) rfl
theorem q355 : (Jvm.Cond.soleField "BalloonMail$State" "loft") ∈ lw_all := lw_g (lw_at lw_m2 20 rfl) rfl
theorem q356 : (Jvm.Cond.lays "BalloonMail$State" "BalloonMail$State" "lost" "I") ∈ lw_all := lw_g (lw_at lw_m2 21 rfl) rfl
theorem q357 : (Jvm.Cond.soleField "BalloonMail$State" "lost") ∈ lw_all := lw_g (lw_at lw_m2 22 rfl) rfl
theorem q358 : (Jvm.Cond.lays "BalloonMail$State" "BalloonMail$State" "x" "J") ∈ lw_all := lw_g (lw_at lw_m2 23 rfl) rfl
theorem q359 : (Jvm.Cond.soleField "BalloonMail$State" "x") ∈ lw_all := lw_g (lw_at lw_m2 24 rfl) rfl
theorem q360 : (Jvm.Cond.superclass "BalloonMail$State" "java/lang/Object") ∈ lw_all := lw_g (lw_at lw_m2 25 rfl) rfl
theorem q459 : (Jvm.Cond.selects "BalloonMail$State" ({ cls := "java/lang/Object", name := "getClass", desc := "()Ljava/lang/Class;" } : Jvm.MethodName) ({ cls := "java/lang/Object", name := "getClass", desc := "()Ljava/lang/Class;" } : Jvm.MethodName)) ∈ lw_all := lw_g (lw_at lw_m2 124 rfl) rfl
theorem q1501 : (Jvm.Cond.instanceMethod ({ cls := "BalloonMail$State", name := "copy", desc := "(LBalloonMail$Siege;)LBalloonMail$State;" } : Jvm.MethodName)) ∈ lw_all := lw_g (lw_at lw_m6 206 rfl) rfl
theorem q1502 : (Jvm.Cond.selects "BalloonMail$State" ({ cls := "BalloonMail$State", name := "copy", desc := "(LBalloonMail$Siege;)LBalloonMail$State;" } : Jvm.MethodName) ({ cls := "BalloonMail$State", name := "copy", desc := "(LBalloonMail$Siege;)LBalloonMail$State;" } : Jvm.MethodName)) ∈ lw_all := lw_g (lw_at lw_m6 207 rfl) rfl
theorem q1503 : (Jvm.Cond.code ({ cls := "BalloonMail$State", name := "copy", desc := "(LBalloonMail$Siege;)LBalloonMail$State;" } : Jvm.MethodName) prog_13_method_2_code (5 : Nat) (Option.some (Jvm.ClassFile.FieldType.object "BalloonMail$State"))) ∈ lw_all := lw_g (lw_at lw_m6 208 rfl) rfl
theorem q1504 : (Jvm.Cond.classLink "BalloonMail$State" (10 : Nat) "BalloonMail$State") ∈ lw_all := lw_g (lw_at lw_m6 209 rfl) rfl
theorem q1505 : (Jvm.Cond.methodLink "BalloonMail$State" (67 : Nat) ({ cls := "BalloonMail$State", name := "<init>", desc := "(LBalloonMail$Siege;)V" } : Jvm.MethodName)) ∈ lw_all := lw_g (lw_at lw_m6 210 rfl) rfl
theorem q1506 : (Jvm.Cond.methodLink "BalloonMail$State" (70 : Nat) ({ cls := "java/lang/System", name := "arraycopy", desc := "(Ljava/lang/Object;ILjava/lang/Object;II)V" } : Jvm.MethodName)) ∈ lw_all := lw_g (lw_at lw_m6 211 rfl) rfl
theorem q1507 : (Jvm.Cond.methodLink "BalloonMail$State" (76 : Nat) ({ cls := "java/util/LinkedList", name := "iterator", desc := "()Ljava/util/Iterator;" } : Jvm.MethodName)) ∈ lw_all := lw_g (lw_at lw_m6 212 rfl) rfl
theorem q1604 : (Jvm.Cond.interfaceEntry "BalloonMail$State" (80 : Nat)) ∈ lw_tbl := lw_at lw_m7 69 rfl
theorem q1605 : (Jvm.Cond.methodLink "BalloonMail$State" (80 : Nat) ({ cls := "java/util/Iterator", name := "hasNext", desc := "()Z" } : Jvm.MethodName)) ∈ lw_all := lw_g (lw_at lw_m7 70 rfl) rfl
theorem q1636 : (Jvm.Cond.interfaceEntry "BalloonMail$State" (86 : Nat)) ∈ lw_tbl := lw_at lw_m7 101 rfl
theorem q1637 : (Jvm.Cond.methodLink "BalloonMail$State" (86 : Nat) ({ cls := "java/util/Iterator", name := "next", desc := "()Ljava/lang/Object;" } : Jvm.MethodName)) ∈ lw_all := lw_g (lw_at lw_m7 102 rfl) rfl
theorem q1745 : (Jvm.Cond.classLink "BalloonMail$State" (90 : Nat) "BalloonMail$Pigeon") ∈ lw_all := lw_g (lw_at lw_m7 210 rfl) rfl
theorem q1746 : (Jvm.Cond.methodLink "BalloonMail$State" (92 : Nat) ({ cls := "java/util/LinkedList", name := "add", desc := "(Ljava/lang/Object;)Z" } : Jvm.MethodName)) ∈ lw_all := lw_g (lw_at lw_m7 211 rfl) rfl
theorem q1775 : (Jvm.Cond.methodLink "BalloonMail$State" (96 : Nat) ({ cls := "java/util/ArrayDeque", name := "iterator", desc := "()Ljava/util/Iterator;" } : Jvm.MethodName)) ∈ lw_all := lw_g (lw_at lw_m8 0 rfl) rfl
theorem q1805 : (Jvm.Cond.classLink "BalloonMail$State" (97 : Nat) "BalloonMail$Event") ∈ lw_all := lw_g (lw_at lw_m8 30 rfl) rfl
theorem q1806 : (Jvm.Cond.methodLink "BalloonMail$State" (99 : Nat) ({ cls := "java/util/ArrayDeque", name := "addLast", desc := "(Ljava/lang/Object;)V" } : Jvm.MethodName)) ∈ lw_all := lw_g (lw_at lw_m8 31 rfl) rfl
theorem q1832 : (Jvm.Cond.instanceMethod ({ cls := "BalloonMail$State", name := "draw", desc := "()I" } : Jvm.MethodName)) ∈ lw_all := lw_g (lw_at lw_m8 57 rfl) rfl
theorem q1833 : (Jvm.Cond.selects "BalloonMail$State" ({ cls := "BalloonMail$State", name := "draw", desc := "()I" } : Jvm.MethodName) ({ cls := "BalloonMail$State", name := "draw", desc := "()I" } : Jvm.MethodName)) ∈ lw_all := lw_g (lw_at lw_m8 58 rfl) rfl
theorem q1834 : (Jvm.Cond.code ({ cls := "BalloonMail$State", name := "draw", desc := "()I" } : Jvm.MethodName) prog_13_method_3_code (1 : Nat) (Option.some Jvm.ClassFile.FieldType.int)) ∈ lw_all := lw_g (lw_at lw_m8 59 rfl) rfl
theorem q1835 : (Jvm.Cond.constantLong "BalloonMail$State" (109 : Nat) (1103515245 : Int64)) ∈ lw_all := lw_g (lw_at lw_m8 60 rfl) rfl
theorem q1836 : (Jvm.Cond.constantLong "BalloonMail$State" (111 : Nat) (12345 : Int64)) ∈ lw_all := lw_g (lw_at lw_m8 61 rfl) rfl
theorem q1837 : (Jvm.Cond.constantLong "BalloonMail$State" (113 : Nat) (2147483648 : Int64)) ∈ lw_all := lw_g (lw_at lw_m8 62 rfl) rfl
theorem q1838 : (Jvm.Cond.constantLong "BalloonMail$State" (115 : Nat) (65536 : Int64)) ∈ lw_all := lw_g (lw_at lw_m8 63 rfl) rfl
theorem q1839 : (Jvm.Cond.constantLong "BalloonMail$State" (117 : Nat) (10 : Int64)) ∈ lw_all := lw_g (lw_at lw_m8 64 rfl) rfl
theorem q1845 : (Jvm.Cond.instanceMethod ({ cls := "BalloonMail$State", name := "note", desc := "(II)V" } : Jvm.MethodName)) ∈ lw_all := lw_g (lw_at lw_m8 70 rfl) rfl
theorem q1846 : (Jvm.Cond.selects "BalloonMail$State" ({ cls := "BalloonMail$State", name := "note", desc := "(II)V" } : Jvm.MethodName) ({ cls := "BalloonMail$State", name := "note", desc := "(II)V" } : Jvm.MethodName)) ∈ lw_all := lw_g (lw_at lw_m8 71 rfl) rfl
theorem q1847 : (Jvm.Cond.code ({ cls := "BalloonMail$State", name := "note", desc := "(II)V" } : Jvm.MethodName) prog_13_method_4_code (3 : Nat) (Option.none : Option Jvm.ClassFile.FieldType)) ∈ lw_all := lw_g (lw_at lw_m8 72 rfl) rfl
theorem q1848 : (Jvm.Cond.methodLink "BalloonMail$State" (119 : Nat) ({ cls := "java/util/ArrayDeque", name := "size", desc := "()I" } : Jvm.MethodName)) ∈ lw_all := lw_g (lw_at lw_m8 73 rfl) rfl
theorem q1849 : (Jvm.Cond.methodLink "BalloonMail$State" (123 : Nat) ({ cls := "java/util/ArrayDeque", name := "removeFirst", desc := "()Ljava/lang/Object;" } : Jvm.MethodName)) ∈ lw_all := lw_g (lw_at lw_m8 74 rfl) rfl
theorem q1861 : (Jvm.Cond.methodLink "BalloonMail$State" (126 : Nat) ({ cls := "BalloonMail$Event", name := "<init>", desc := "(III)V" } : Jvm.MethodName)) ∈ lw_all := lw_g (lw_at lw_m8 86 rfl) rfl
theorem q1879 : (Jvm.Cond.instanceMethod ({ cls := "BalloonMail$State", name := "setLetters", desc := "(Ljava/util/BitSet;II)V" } : Jvm.MethodName)) ∈ lw_all := lw_g (lw_at lw_m8 104 rfl) rfl
theorem q1880 : (Jvm.Cond.selects "BalloonMail$State" ({ cls := "BalloonMail$State", name := "setLetters", desc := "(Ljava/util/BitSet;II)V" } : Jvm.MethodName) ({ cls := "BalloonMail$State", name := "setLetters", desc := "(Ljava/util/BitSet;II)V" } : Jvm.MethodName)) ∈ lw_all := lw_g (lw_at lw_m8 105 rfl) rfl
theorem q1881 : (Jvm.Cond.code ({ cls := "BalloonMail$State", name := "setLetters", desc := "(Ljava/util/BitSet;II)V" } : Jvm.MethodName) prog_13_method_5_code (5 : Nat) (Option.none : Option Jvm.ClassFile.FieldType)) ∈ lw_all := lw_g (lw_at lw_m8 106 rfl) rfl
theorem q1882 : (Jvm.Cond.methodLink "BalloonMail$State" (129 : Nat) ({ cls := "java/util/BitSet", name := "nextSetBit", desc := "(I)I" } : Jvm.MethodName)) ∈ lw_all := lw_g (lw_at lw_m8 107 rfl) rfl
theorem q2699 : (Jvm.Cond.castable "BalloonMail$State" "java/lang/Object") ∈ lw_tbl := lw_at lw_m11 204 rfl
theorem in_X3 : ∀ w ∈ wsX30, w ∈ lw_all := lw_in wsX30 [336, 338, 340, 342, 344, 346, 348, 350, 352, 354, 356, 358] (by decide +kernel) (by decide +kernel)

/-! BalloonMail$Parser -/
set_option maxRecDepth 100000
def RX5 : String := "BalloonMail$Parser"
def TX5 : u_T := fun k => match k with
  | 0 => ("BalloonMail$Parser", "length", "I", true)
  | 1 => ("BalloonMail$Parser", "s", "LBalloonMail$Siege;", true)
  | 2 => ("BalloonMail$Parser", "known", "Ljava/util/BitSet;", true)
  | 3 => ("BalloonMail$Parser", "kind", "I", false)
  | 4 => ("BalloonMail$Parser", "position", "I", false)
  | 5 => ("BalloonMail$Parser", "next", "I", false)
  | 6 => ("BalloonMail$Parser", "value", "I", false)
  | 7 => ("BalloonMail$Parser", "word", "Ljava/lang/String;", false)
  | 8 => ("BalloonMail$Parser", "keywords", "Ljava/util/List;", true)
  | _ => ("BalloonMail$Parser", "this$0", "LBalloonMail;", true)
def tyX5 : Nat → FieldType := fun k => match k with
  | 0 => .int
  | 1 => .object "BalloonMail$Siege"
  | 2 => .object "java/util/BitSet"
  | 3 => .int
  | 4 => .int
  | 5 => .int
  | 6 => .int
  | 7 => .object "java/lang/String"
  | 8 => .object "java/util/List"
  | _ => .object "BalloonMail"
abbrev wsX50 : List Cond := u_ws RX5 TX5 10
theorem nmX5 : ∀ a, a < 10 → ∀ b, b < 10 → a ≠ b → (TX5 a).2.1 ≠ (TX5 b).2.1 := by decide +kernel
theorem tyX5_ok : ∀ k, k < 10 → parseFieldDescriptor (TX5 k).2.2.1 = some (tyX5 k) := by decide +kernel
abbrev cX5_init : ByteArray := prog_9_method_1_code
def yX5_init : MethodName := ⟨RX5, "<init>", "(LBalloonMail;I)V"⟩
def dkwX5_init_2 : List UInt8 := [184, 0, 45, 181, 0, 51, 42, 28, 181, 0, 55, 42, 182, 0, 59, 177]
abbrev dktX5_init_2 : List UInt8 := dkwX5_init_2 ++ []
def dkwX5_init_1 : List UInt8 := [89, 183, 0, 24, 181, 0, 25, 42, 18, 29, 18, 31, 18, 33, 18, 35, 18, 37, 18, 39, 18, 41, 18, 43]
abbrev dktX5_init_1 : List UInt8 := dkwX5_init_1 ++ dktX5_init_2
def dkwX5_init_0 : List UInt8 := [42, 43, 181, 0, 3, 42, 183, 0, 9, 42, 187, 0, 15, 89, 183, 0, 17, 181, 0, 18, 42, 187, 0, 22]
abbrev dktX5_init_0 : List UInt8 := dkwX5_init_0 ++ dktX5_init_1
theorem dksX5_init_0 : cX5_init.data.toList.drop 0 = dktX5_init_0 := by decide +kernel
theorem dksX5_init_1 : cX5_init.data.toList.drop 24 = dktX5_init_1 := dk_seg dksX5_init_0 24 rfl rfl
theorem dksX5_init_2 : cX5_init.data.toList.drop 48 = dktX5_init_2 := dk_seg dksX5_init_1 24 rfl rfl
theorem dX5_init_0 : decode cX5_init 0 = .ok (.aload_n 0, 1) := dk_42 (dk_at dksX5_init_0 0 rfl rfl)
theorem dX5_init_1 : decode cX5_init 1 = .ok (.aload_n 1, 1) := dk_43 (dk_at dksX5_init_0 1 rfl rfl)
theorem dX5_init_2 : decode cX5_init 2 = .ok (.putfield 3, 3) := dk_181 0 3 (dk_at dksX5_init_0 2 rfl rfl)
theorem dX5_init_5 : decode cX5_init 5 = .ok (.aload_n 0, 1) := dk_42 (dk_at dksX5_init_0 5 rfl rfl)
theorem dX5_init_6 : decode cX5_init 6 = .ok (.invokespecial 9, 3) := dk_183 0 9 (dk_at dksX5_init_0 6 rfl rfl)
theorem dX5_init_9 : decode cX5_init 9 = .ok (.aload_n 0, 1) := dk_42 (dk_at dksX5_init_0 9 rfl rfl)
theorem dX5_init_10 : decode cX5_init 10 = .ok (.new 15, 3) := dk_187 0 15 (dk_at dksX5_init_0 10 rfl rfl)
theorem dX5_init_13 : decode cX5_init 13 = .ok (.dup, 1) := dk_89 (dk_at dksX5_init_0 13 rfl rfl)
theorem dX5_init_14 : decode cX5_init 14 = .ok (.invokespecial 17, 3) := dk_183 0 17 (dk_at dksX5_init_0 14 rfl rfl)
theorem dX5_init_17 : decode cX5_init 17 = .ok (.putfield 18, 3) := dk_181 0 18 (dk_at dksX5_init_0 17 rfl rfl)
theorem dX5_init_20 : decode cX5_init 20 = .ok (.aload_n 0, 1) := dk_42 (dk_at dksX5_init_0 20 rfl rfl)
theorem dX5_init_21 : decode cX5_init 21 = .ok (.new 22, 3) := dk_187 0 22 (dk_at dksX5_init_0 21 rfl rfl)
theorem dX5_init_24 : decode cX5_init 24 = .ok (.dup, 1) := dk_89 (dk_at dksX5_init_1 0 rfl rfl)
theorem dX5_init_25 : decode cX5_init 25 = .ok (.invokespecial 24, 3) := dk_183 0 24 (dk_at dksX5_init_1 1 rfl rfl)
theorem dX5_init_28 : decode cX5_init 28 = .ok (.putfield 25, 3) := dk_181 0 25 (dk_at dksX5_init_1 4 rfl rfl)
theorem dX5_init_31 : decode cX5_init 31 = .ok (.aload_n 0, 1) := dk_42 (dk_at dksX5_init_1 7 rfl rfl)
theorem dX5_init_32 : decode cX5_init 32 = .ok (.ldc 29, 2) := dk_18 29 (dk_at dksX5_init_1 8 rfl rfl)
theorem dX5_init_34 : decode cX5_init 34 = .ok (.ldc 31, 2) := dk_18 31 (dk_at dksX5_init_1 10 rfl rfl)
theorem dX5_init_36 : decode cX5_init 36 = .ok (.ldc 33, 2) := dk_18 33 (dk_at dksX5_init_1 12 rfl rfl)
theorem dX5_init_38 : decode cX5_init 38 = .ok (.ldc 35, 2) := dk_18 35 (dk_at dksX5_init_1 14 rfl rfl)
theorem dX5_init_40 : decode cX5_init 40 = .ok (.ldc 37, 2) := dk_18 37 (dk_at dksX5_init_1 16 rfl rfl)
theorem dX5_init_42 : decode cX5_init 42 = .ok (.ldc 39, 2) := dk_18 39 (dk_at dksX5_init_1 18 rfl rfl)
theorem dX5_init_44 : decode cX5_init 44 = .ok (.ldc 41, 2) := dk_18 41 (dk_at dksX5_init_1 20 rfl rfl)
theorem dX5_init_46 : decode cX5_init 46 = .ok (.ldc 43, 2) := dk_18 43 (dk_at dksX5_init_1 22 rfl rfl)
theorem dX5_init_48 : decode cX5_init 48 = .ok (.invokestatic 45, 3) := dk_184 0 45 (dk_at dksX5_init_2 0 rfl rfl)
theorem dX5_init_51 : decode cX5_init 51 = .ok (.putfield 51, 3) := dk_181 0 51 (dk_at dksX5_init_2 3 rfl rfl)
theorem dX5_init_54 : decode cX5_init 54 = .ok (.aload_n 0, 1) := dk_42 (dk_at dksX5_init_2 6 rfl rfl)
theorem dX5_init_55 : decode cX5_init 55 = .ok (.iload_n 2, 1) := dk_28 (dk_at dksX5_init_2 7 rfl rfl)
theorem dX5_init_56 : decode cX5_init 56 = .ok (.putfield 55, 3) := dk_181 0 55 (dk_at dksX5_init_2 8 rfl rfl)
theorem dX5_init_59 : decode cX5_init 59 = .ok (.aload_n 0, 1) := dk_42 (dk_at dksX5_init_2 11 rfl rfl)
theorem dX5_init_60 : decode cX5_init 60 = .ok (.invokevirtual 59, 3) := dk_182 0 59 (dk_at dksX5_init_2 12 rfl rfl)
theorem dX5_init_63 : decode cX5_init 63 = .ok (.return_, 1) := dk_177 (dk_at dksX5_init_2 15 rfl rfl)
abbrev cX5_advance : ByteArray := prog_9_method_3_code
def yX5_advance : MethodName := ⟨RX5, "advance", "()V"⟩
def dkwX5_advance_6 : List UInt8 := [181, 0, 76, 177]
abbrev dktX5_advance_6 : List UInt8 := dkwX5_advance_6 ++ []
def dkwX5_advance_5 : List UInt8 := [42, 89, 180, 0, 66, 4, 96, 181, 0, 66, 42, 27, 16, 59, 160, 0, 7, 6, 167, 0, 4, 7]
abbrev dktX5_advance_5 : List UInt8 := dkwX5_advance_5 ++ dktX5_advance_6
def dkwX5_advance_4 : List UInt8 := [167, 0, 49, 27, 133, 20, 0, 90, 20, 0, 92, 184, 0, 83, 153, 0, 10, 42, 182, 0, 94, 167, 0, 28]
abbrev dktX5_advance_4 : List UInt8 := dkwX5_advance_4 ++ dktX5_advance_5
def dkwX5_advance_3 : List UInt8 := [181, 0, 76, 167, 0, 70, 27, 133, 20, 0, 79, 20, 0, 81, 184, 0, 83, 153, 0, 10, 42, 182, 0, 87]
abbrev dktX5_advance_3 : List UInt8 := dkwX5_advance_3 ++ dktX5_advance_4
def dkwX5_advance_2 : List UInt8 := [42, 42, 180, 0, 69, 182, 0, 72, 60, 42, 42, 180, 0, 69, 181, 0, 66, 27, 2, 160, 0, 11, 42, 3]
abbrev dktX5_advance_2 : List UInt8 := dkwX5_advance_2 ++ dktX5_advance_3
def dkwX5_advance_1 : List UInt8 := [180, 0, 69, 182, 0, 72, 16, 10, 160, 0, 16, 42, 89, 180, 0, 69, 4, 96, 181, 0, 69, 167, 255, 220]
abbrev dktX5_advance_1 : List UInt8 := dkwX5_advance_1 ++ dktX5_advance_2
def dkwX5_advance_0 : List UInt8 := [42, 42, 180, 0, 66, 181, 0, 69, 42, 42, 180, 0, 69, 182, 0, 72, 16, 32, 159, 0, 16, 42, 42]
abbrev dktX5_advance_0 : List UInt8 := dkwX5_advance_0 ++ dktX5_advance_1
theorem dksX5_advance_0 : cX5_advance.data.toList.drop 0 = dktX5_advance_0 := by decide +kernel
theorem dksX5_advance_1 : cX5_advance.data.toList.drop 23 = dktX5_advance_1 := dk_seg dksX5_advance_0 23 rfl rfl
theorem dksX5_advance_2 : cX5_advance.data.toList.drop 47 = dktX5_advance_2 := dk_seg dksX5_advance_1 24 rfl rfl
theorem dksX5_advance_3 : cX5_advance.data.toList.drop 71 = dktX5_advance_3 := dk_seg dksX5_advance_2 24 rfl rfl
theorem dksX5_advance_4 : cX5_advance.data.toList.drop 95 = dktX5_advance_4 := dk_seg dksX5_advance_3 24 rfl rfl
theorem dksX5_advance_5 : cX5_advance.data.toList.drop 119 = dktX5_advance_5 := dk_seg dksX5_advance_4 24 rfl rfl
theorem dksX5_advance_6 : cX5_advance.data.toList.drop 141 = dktX5_advance_6 := dk_seg dksX5_advance_5 22 rfl rfl
theorem dX5_advance_0 : decode cX5_advance 0 = .ok (.aload_n 0, 1) := dk_42 (dk_at dksX5_advance_0 0 rfl rfl)
theorem dX5_advance_1 : decode cX5_advance 1 = .ok (.aload_n 0, 1) := dk_42 (dk_at dksX5_advance_0 1 rfl rfl)
theorem dX5_advance_2 : decode cX5_advance 2 = .ok (.getfield 66, 3) := dk_180 0 66 (dk_at dksX5_advance_0 2 rfl rfl)
theorem dX5_advance_5 : decode cX5_advance 5 = .ok (.putfield 69, 3) := dk_181 0 69 (dk_at dksX5_advance_0 5 rfl rfl)
theorem dX5_advance_8 : decode cX5_advance 8 = .ok (.aload_n 0, 1) := dk_42 (dk_at dksX5_advance_0 8 rfl rfl)
theorem dX5_advance_9 : decode cX5_advance 9 = .ok (.aload_n 0, 1) := dk_42 (dk_at dksX5_advance_0 9 rfl rfl)
theorem dX5_advance_10 : decode cX5_advance 10 = .ok (.getfield 69, 3) := dk_180 0 69 (dk_at dksX5_advance_0 10 rfl rfl)
theorem dX5_advance_13 : decode cX5_advance 13 = .ok (.invokevirtual 72, 3) := dk_182 0 72 (dk_at dksX5_advance_0 13 rfl rfl)
theorem dX5_advance_16 : decode cX5_advance 16 = .ok (.bipush 32, 2) := dk_16 32 (dk_at dksX5_advance_0 16 rfl rfl)
theorem dX5_advance_18 : decode cX5_advance 18 = .ok (.if_icmp .eq 16, 3) := dk_159 0 16 (dk_at dksX5_advance_0 18 rfl rfl)
theorem dX5_advance_21 : decode cX5_advance 21 = .ok (.aload_n 0, 1) := dk_42 (dk_at dksX5_advance_0 21 rfl rfl)
theorem dX5_advance_22 : decode cX5_advance 22 = .ok (.aload_n 0, 1) := dk_42 (dk_at dksX5_advance_0 22 rfl rfl)
theorem dX5_advance_23 : decode cX5_advance 23 = .ok (.getfield 69, 3) := dk_180 0 69 (dk_at dksX5_advance_1 0 rfl rfl)
theorem dX5_advance_26 : decode cX5_advance 26 = .ok (.invokevirtual 72, 3) := dk_182 0 72 (dk_at dksX5_advance_1 3 rfl rfl)
theorem dX5_advance_29 : decode cX5_advance 29 = .ok (.bipush 10, 2) := dk_16 10 (dk_at dksX5_advance_1 6 rfl rfl)
theorem dX5_advance_31 : decode cX5_advance 31 = .ok (.if_icmp .ne 16, 3) := dk_160 0 16 (dk_at dksX5_advance_1 8 rfl rfl)
theorem dX5_advance_34 : decode cX5_advance 34 = .ok (.aload_n 0, 1) := dk_42 (dk_at dksX5_advance_1 11 rfl rfl)
theorem dX5_advance_35 : decode cX5_advance 35 = .ok (.dup, 1) := dk_89 (dk_at dksX5_advance_1 12 rfl rfl)
theorem dX5_advance_36 : decode cX5_advance 36 = .ok (.getfield 69, 3) := dk_180 0 69 (dk_at dksX5_advance_1 13 rfl rfl)
theorem dX5_advance_39 : decode cX5_advance 39 = .ok (.iconst 1, 1) := dk_4 (dk_at dksX5_advance_1 16 rfl rfl)
theorem dX5_advance_40 : decode cX5_advance 40 = .ok (.iadd, 1) := dk_96 (dk_at dksX5_advance_1 17 rfl rfl)
theorem dX5_advance_41 : decode cX5_advance 41 = .ok (.putfield 69, 3) := dk_181 0 69 (dk_at dksX5_advance_1 18 rfl rfl)
theorem dX5_advance_44 : decode cX5_advance 44 = .ok (.goto (-36), 3) := dk_167 255 220 (dk_at dksX5_advance_1 21 rfl rfl)
theorem dX5_advance_47 : decode cX5_advance 47 = .ok (.aload_n 0, 1) := dk_42 (dk_at dksX5_advance_2 0 rfl rfl)
theorem dX5_advance_48 : decode cX5_advance 48 = .ok (.aload_n 0, 1) := dk_42 (dk_at dksX5_advance_2 1 rfl rfl)
theorem dX5_advance_49 : decode cX5_advance 49 = .ok (.getfield 69, 3) := dk_180 0 69 (dk_at dksX5_advance_2 2 rfl rfl)
theorem dX5_advance_52 : decode cX5_advance 52 = .ok (.invokevirtual 72, 3) := dk_182 0 72 (dk_at dksX5_advance_2 5 rfl rfl)
theorem dX5_advance_55 : decode cX5_advance 55 = .ok (.istore_n 1, 1) := dk_60 (dk_at dksX5_advance_2 8 rfl rfl)
theorem dX5_advance_56 : decode cX5_advance 56 = .ok (.aload_n 0, 1) := dk_42 (dk_at dksX5_advance_2 9 rfl rfl)
theorem dX5_advance_57 : decode cX5_advance 57 = .ok (.aload_n 0, 1) := dk_42 (dk_at dksX5_advance_2 10 rfl rfl)
theorem dX5_advance_58 : decode cX5_advance 58 = .ok (.getfield 69, 3) := dk_180 0 69 (dk_at dksX5_advance_2 11 rfl rfl)
theorem dX5_advance_61 : decode cX5_advance 61 = .ok (.putfield 66, 3) := dk_181 0 66 (dk_at dksX5_advance_2 14 rfl rfl)
theorem dX5_advance_64 : decode cX5_advance 64 = .ok (.iload_n 1, 1) := dk_27 (dk_at dksX5_advance_2 17 rfl rfl)
theorem dX5_advance_65 : decode cX5_advance 65 = .ok (.iconst (-1), 1) := dk_2 (dk_at dksX5_advance_2 18 rfl rfl)
theorem dX5_advance_66 : decode cX5_advance 66 = .ok (.if_icmp .ne 11, 3) := dk_160 0 11 (dk_at dksX5_advance_2 19 rfl rfl)
theorem dX5_advance_69 : decode cX5_advance 69 = .ok (.aload_n 0, 1) := dk_42 (dk_at dksX5_advance_2 22 rfl rfl)
theorem dX5_advance_70 : decode cX5_advance 70 = .ok (.iconst 0, 1) := dk_3 (dk_at dksX5_advance_2 23 rfl rfl)
theorem dX5_advance_71 : decode cX5_advance 71 = .ok (.putfield 76, 3) := dk_181 0 76 (dk_at dksX5_advance_3 0 rfl rfl)
theorem dX5_advance_74 : decode cX5_advance 74 = .ok (.goto 70, 3) := dk_167 0 70 (dk_at dksX5_advance_3 3 rfl rfl)
theorem dX5_advance_77 : decode cX5_advance 77 = .ok (.iload_n 1, 1) := dk_27 (dk_at dksX5_advance_3 6 rfl rfl)
theorem dX5_advance_78 : decode cX5_advance 78 = .ok (.i2l, 1) := dk_133 (dk_at dksX5_advance_3 7 rfl rfl)
theorem dX5_advance_79 : decode cX5_advance 79 = .ok (.ldc2_w 79, 3) := dk_20 0 79 (dk_at dksX5_advance_3 8 rfl rfl)
theorem dX5_advance_82 : decode cX5_advance 82 = .ok (.ldc2_w 81, 3) := dk_20 0 81 (dk_at dksX5_advance_3 11 rfl rfl)
theorem dX5_advance_85 : decode cX5_advance 85 = .ok (.invokestatic 83, 3) := dk_184 0 83 (dk_at dksX5_advance_3 14 rfl rfl)
theorem dX5_advance_88 : decode cX5_advance 88 = .ok (.ifCond .eq 10, 3) := dk_153 0 10 (dk_at dksX5_advance_3 17 rfl rfl)
theorem dX5_advance_91 : decode cX5_advance 91 = .ok (.aload_n 0, 1) := dk_42 (dk_at dksX5_advance_3 20 rfl rfl)
theorem dX5_advance_92 : decode cX5_advance 92 = .ok (.invokevirtual 87, 3) := dk_182 0 87 (dk_at dksX5_advance_3 21 rfl rfl)
theorem dX5_advance_95 : decode cX5_advance 95 = .ok (.goto 49, 3) := dk_167 0 49 (dk_at dksX5_advance_4 0 rfl rfl)
theorem dX5_advance_98 : decode cX5_advance 98 = .ok (.iload_n 1, 1) := dk_27 (dk_at dksX5_advance_4 3 rfl rfl)
theorem dX5_advance_99 : decode cX5_advance 99 = .ok (.i2l, 1) := dk_133 (dk_at dksX5_advance_4 4 rfl rfl)
theorem dX5_advance_100 : decode cX5_advance 100 = .ok (.ldc2_w 90, 3) := dk_20 0 90 (dk_at dksX5_advance_4 5 rfl rfl)
theorem dX5_advance_103 : decode cX5_advance 103 = .ok (.ldc2_w 92, 3) := dk_20 0 92 (dk_at dksX5_advance_4 8 rfl rfl)
theorem dX5_advance_106 : decode cX5_advance 106 = .ok (.invokestatic 83, 3) := dk_184 0 83 (dk_at dksX5_advance_4 11 rfl rfl)
theorem dX5_advance_109 : decode cX5_advance 109 = .ok (.ifCond .eq 10, 3) := dk_153 0 10 (dk_at dksX5_advance_4 14 rfl rfl)
theorem dX5_advance_112 : decode cX5_advance 112 = .ok (.aload_n 0, 1) := dk_42 (dk_at dksX5_advance_4 17 rfl rfl)
theorem dX5_advance_113 : decode cX5_advance 113 = .ok (.invokevirtual 94, 3) := dk_182 0 94 (dk_at dksX5_advance_4 18 rfl rfl)
theorem dX5_advance_116 : decode cX5_advance 116 = .ok (.goto 28, 3) := dk_167 0 28 (dk_at dksX5_advance_4 21 rfl rfl)
theorem dX5_advance_119 : decode cX5_advance 119 = .ok (.aload_n 0, 1) := dk_42 (dk_at dksX5_advance_5 0 rfl rfl)
theorem dX5_advance_120 : decode cX5_advance 120 = .ok (.dup, 1) := dk_89 (dk_at dksX5_advance_5 1 rfl rfl)
theorem dX5_advance_121 : decode cX5_advance 121 = .ok (.getfield 66, 3) := dk_180 0 66 (dk_at dksX5_advance_5 2 rfl rfl)
theorem dX5_advance_124 : decode cX5_advance 124 = .ok (.iconst 1, 1) := dk_4 (dk_at dksX5_advance_5 5 rfl rfl)
theorem dX5_advance_125 : decode cX5_advance 125 = .ok (.iadd, 1) := dk_96 (dk_at dksX5_advance_5 6 rfl rfl)
theorem dX5_advance_126 : decode cX5_advance 126 = .ok (.putfield 66, 3) := dk_181 0 66 (dk_at dksX5_advance_5 7 rfl rfl)
theorem dX5_advance_129 : decode cX5_advance 129 = .ok (.aload_n 0, 1) := dk_42 (dk_at dksX5_advance_5 10 rfl rfl)
theorem dX5_advance_130 : decode cX5_advance 130 = .ok (.iload_n 1, 1) := dk_27 (dk_at dksX5_advance_5 11 rfl rfl)
theorem dX5_advance_131 : decode cX5_advance 131 = .ok (.bipush 59, 2) := dk_16 59 (dk_at dksX5_advance_5 12 rfl rfl)
theorem dX5_advance_133 : decode cX5_advance 133 = .ok (.if_icmp .ne 7, 3) := dk_160 0 7 (dk_at dksX5_advance_5 14 rfl rfl)
theorem dX5_advance_136 : decode cX5_advance 136 = .ok (.iconst 3, 1) := dk_6 (dk_at dksX5_advance_5 17 rfl rfl)
theorem dX5_advance_137 : decode cX5_advance 137 = .ok (.goto 4, 3) := dk_167 0 4 (dk_at dksX5_advance_5 18 rfl rfl)
theorem dX5_advance_140 : decode cX5_advance 140 = .ok (.iconst 4, 1) := dk_7 (dk_at dksX5_advance_5 21 rfl rfl)
theorem dX5_advance_141 : decode cX5_advance 141 = .ok (.putfield 76, 3) := dk_181 0 76 (dk_at dksX5_advance_6 0 rfl rfl)
theorem dX5_advance_144 : decode cX5_advance 144 = .ok (.return_, 1) := dk_177 (dk_at dksX5_advance_6 3 rfl rfl)
abbrev cX5_byteAt : ByteArray := prog_9_method_2_code
def yX5_byteAt : MethodName := ⟨RX5, "byteAt", "(I)I"⟩
def dkwX5_byteAt_1 : List UInt8 := [2, 172]
abbrev dktX5_byteAt_1 : List UInt8 := dkwX5_byteAt_1 ++ []
def dkwX5_byteAt_0 : List UInt8 := [27, 42, 180, 0, 55, 162, 0, 19, 42, 180, 0, 3, 180, 0, 62, 27, 51, 17, 0, 255, 126, 167, 0, 4]
abbrev dktX5_byteAt_0 : List UInt8 := dkwX5_byteAt_0 ++ dktX5_byteAt_1
theorem dksX5_byteAt_0 : cX5_byteAt.data.toList.drop 0 = dktX5_byteAt_0 := by decide +kernel
theorem dksX5_byteAt_1 : cX5_byteAt.data.toList.drop 24 = dktX5_byteAt_1 := dk_seg dksX5_byteAt_0 24 rfl rfl
theorem dX5_byteAt_0 : decode cX5_byteAt 0 = .ok (.iload_n 1, 1) := dk_27 (dk_at dksX5_byteAt_0 0 rfl rfl)
theorem dX5_byteAt_1 : decode cX5_byteAt 1 = .ok (.aload_n 0, 1) := dk_42 (dk_at dksX5_byteAt_0 1 rfl rfl)
theorem dX5_byteAt_2 : decode cX5_byteAt 2 = .ok (.getfield 55, 3) := dk_180 0 55 (dk_at dksX5_byteAt_0 2 rfl rfl)
theorem dX5_byteAt_5 : decode cX5_byteAt 5 = .ok (.if_icmp .ge 19, 3) := dk_162 0 19 (dk_at dksX5_byteAt_0 5 rfl rfl)
theorem dX5_byteAt_8 : decode cX5_byteAt 8 = .ok (.aload_n 0, 1) := dk_42 (dk_at dksX5_byteAt_0 8 rfl rfl)
theorem dX5_byteAt_9 : decode cX5_byteAt 9 = .ok (.getfield 3, 3) := dk_180 0 3 (dk_at dksX5_byteAt_0 9 rfl rfl)
theorem dX5_byteAt_12 : decode cX5_byteAt 12 = .ok (.getfield 62, 3) := dk_180 0 62 (dk_at dksX5_byteAt_0 12 rfl rfl)
theorem dX5_byteAt_15 : decode cX5_byteAt 15 = .ok (.iload_n 1, 1) := dk_27 (dk_at dksX5_byteAt_0 15 rfl rfl)
theorem dX5_byteAt_16 : decode cX5_byteAt 16 = .ok (.baload, 1) := dk_51 (dk_at dksX5_byteAt_0 16 rfl rfl)
theorem dX5_byteAt_17 : decode cX5_byteAt 17 = .ok (.sipush 255, 3) := dk_17 0 255 (dk_at dksX5_byteAt_0 17 rfl rfl)
theorem dX5_byteAt_20 : decode cX5_byteAt 20 = .ok (.iand, 1) := dk_126 (dk_at dksX5_byteAt_0 20 rfl rfl)
theorem dX5_byteAt_21 : decode cX5_byteAt 21 = .ok (.goto 4, 3) := dk_167 0 4 (dk_at dksX5_byteAt_0 21 rfl rfl)
theorem dX5_byteAt_24 : decode cX5_byteAt 24 = .ok (.iconst (-1), 1) := dk_2 (dk_at dksX5_byteAt_1 0 rfl rfl)
theorem dX5_byteAt_25 : decode cX5_byteAt 25 = .ok (.ireturn, 1) := dk_172 (dk_at dksX5_byteAt_1 1 rfl rfl)
abbrev cX5_readWord : ByteArray := prog_9_method_4_code
def yX5_readWord : MethodName := ⟨RX5, "readWord", "()V"⟩
def dkwX5_readWord_4 : List UInt8 := [164, 0, 7, 7, 167, 0, 4, 4, 181, 0, 76, 177]
abbrev dktX5_readWord_4 : List UInt8 := dkwX5_readWord_4 ++ []
def dkwX5_readWord_3 : List UInt8 := [167, 255, 197, 42, 43, 182, 0, 106, 181, 0, 110, 42, 42, 180, 0, 66, 42, 180, 0, 69, 100, 16, 8]
abbrev dktX5_readWord_3 : List UInt8 := dkwX5_readWord_3 ++ dktX5_readWord_4
def dkwX5_readWord_2 : List UInt8 := [42, 42, 180, 0, 66, 182, 0, 72, 146, 182, 0, 102, 87, 42, 89, 180, 0, 66, 4, 96, 181, 0, 66]
abbrev dktX5_readWord_2 : List UInt8 := dkwX5_readWord_2 ++ dktX5_readWord_3
def dkwX5_readWord_1 : List UInt8 := [20, 0, 81, 184, 0, 83, 153, 0, 44, 42, 180, 0, 66, 42, 180, 0, 69, 100, 16, 8, 162, 0, 17, 43]
abbrev dktX5_readWord_1 : List UInt8 := dkwX5_readWord_1 ++ dktX5_readWord_2
def dkwX5_readWord_0 : List UInt8 := [187, 0, 97, 89, 16, 8, 183, 0, 99, 76, 42, 42, 180, 0, 66, 182, 0, 72, 133, 20, 0, 79]
abbrev dktX5_readWord_0 : List UInt8 := dkwX5_readWord_0 ++ dktX5_readWord_1
theorem dksX5_readWord_0 : cX5_readWord.data.toList.drop 0 = dktX5_readWord_0 := by decide +kernel
theorem dksX5_readWord_1 : cX5_readWord.data.toList.drop 22 = dktX5_readWord_1 := dk_seg dksX5_readWord_0 22 rfl rfl
theorem dksX5_readWord_2 : cX5_readWord.data.toList.drop 46 = dktX5_readWord_2 := dk_seg dksX5_readWord_1 24 rfl rfl
theorem dksX5_readWord_3 : cX5_readWord.data.toList.drop 69 = dktX5_readWord_3 := dk_seg dksX5_readWord_2 23 rfl rfl
theorem dksX5_readWord_4 : cX5_readWord.data.toList.drop 92 = dktX5_readWord_4 := dk_seg dksX5_readWord_3 23 rfl rfl
theorem dX5_readWord_0 : decode cX5_readWord 0 = .ok (.new 97, 3) := dk_187 0 97 (dk_at dksX5_readWord_0 0 rfl rfl)
theorem dX5_readWord_3 : decode cX5_readWord 3 = .ok (.dup, 1) := dk_89 (dk_at dksX5_readWord_0 3 rfl rfl)
theorem dX5_readWord_4 : decode cX5_readWord 4 = .ok (.bipush 8, 2) := dk_16 8 (dk_at dksX5_readWord_0 4 rfl rfl)
theorem dX5_readWord_6 : decode cX5_readWord 6 = .ok (.invokespecial 99, 3) := dk_183 0 99 (dk_at dksX5_readWord_0 6 rfl rfl)
theorem dX5_readWord_9 : decode cX5_readWord 9 = .ok (.astore_n 1, 1) := dk_76 (dk_at dksX5_readWord_0 9 rfl rfl)
theorem dX5_readWord_10 : decode cX5_readWord 10 = .ok (.aload_n 0, 1) := dk_42 (dk_at dksX5_readWord_0 10 rfl rfl)
theorem dX5_readWord_11 : decode cX5_readWord 11 = .ok (.aload_n 0, 1) := dk_42 (dk_at dksX5_readWord_0 11 rfl rfl)
theorem dX5_readWord_12 : decode cX5_readWord 12 = .ok (.getfield 66, 3) := dk_180 0 66 (dk_at dksX5_readWord_0 12 rfl rfl)
theorem dX5_readWord_15 : decode cX5_readWord 15 = .ok (.invokevirtual 72, 3) := dk_182 0 72 (dk_at dksX5_readWord_0 15 rfl rfl)
theorem dX5_readWord_18 : decode cX5_readWord 18 = .ok (.i2l, 1) := dk_133 (dk_at dksX5_readWord_0 18 rfl rfl)
theorem dX5_readWord_19 : decode cX5_readWord 19 = .ok (.ldc2_w 79, 3) := dk_20 0 79 (dk_at dksX5_readWord_0 19 rfl rfl)
theorem dX5_readWord_22 : decode cX5_readWord 22 = .ok (.ldc2_w 81, 3) := dk_20 0 81 (dk_at dksX5_readWord_1 0 rfl rfl)
theorem dX5_readWord_25 : decode cX5_readWord 25 = .ok (.invokestatic 83, 3) := dk_184 0 83 (dk_at dksX5_readWord_1 3 rfl rfl)
theorem dX5_readWord_28 : decode cX5_readWord 28 = .ok (.ifCond .eq 44, 3) := dk_153 0 44 (dk_at dksX5_readWord_1 6 rfl rfl)
theorem dX5_readWord_31 : decode cX5_readWord 31 = .ok (.aload_n 0, 1) := dk_42 (dk_at dksX5_readWord_1 9 rfl rfl)
theorem dX5_readWord_32 : decode cX5_readWord 32 = .ok (.getfield 66, 3) := dk_180 0 66 (dk_at dksX5_readWord_1 10 rfl rfl)
theorem dX5_readWord_35 : decode cX5_readWord 35 = .ok (.aload_n 0, 1) := dk_42 (dk_at dksX5_readWord_1 13 rfl rfl)
theorem dX5_readWord_36 : decode cX5_readWord 36 = .ok (.getfield 69, 3) := dk_180 0 69 (dk_at dksX5_readWord_1 14 rfl rfl)
theorem dX5_readWord_39 : decode cX5_readWord 39 = .ok (.isub, 1) := dk_100 (dk_at dksX5_readWord_1 17 rfl rfl)
theorem dX5_readWord_40 : decode cX5_readWord 40 = .ok (.bipush 8, 2) := dk_16 8 (dk_at dksX5_readWord_1 18 rfl rfl)
theorem dX5_readWord_42 : decode cX5_readWord 42 = .ok (.if_icmp .ge 17, 3) := dk_162 0 17 (dk_at dksX5_readWord_1 20 rfl rfl)
theorem dX5_readWord_45 : decode cX5_readWord 45 = .ok (.aload_n 1, 1) := dk_43 (dk_at dksX5_readWord_1 23 rfl rfl)
theorem dX5_readWord_46 : decode cX5_readWord 46 = .ok (.aload_n 0, 1) := dk_42 (dk_at dksX5_readWord_2 0 rfl rfl)
theorem dX5_readWord_47 : decode cX5_readWord 47 = .ok (.aload_n 0, 1) := dk_42 (dk_at dksX5_readWord_2 1 rfl rfl)
theorem dX5_readWord_48 : decode cX5_readWord 48 = .ok (.getfield 66, 3) := dk_180 0 66 (dk_at dksX5_readWord_2 2 rfl rfl)
theorem dX5_readWord_51 : decode cX5_readWord 51 = .ok (.invokevirtual 72, 3) := dk_182 0 72 (dk_at dksX5_readWord_2 5 rfl rfl)
theorem dX5_readWord_54 : decode cX5_readWord 54 = .ok (.i2c, 1) := dk_146 (dk_at dksX5_readWord_2 8 rfl rfl)
theorem dX5_readWord_55 : decode cX5_readWord 55 = .ok (.invokevirtual 102, 3) := dk_182 0 102 (dk_at dksX5_readWord_2 9 rfl rfl)
theorem dX5_readWord_58 : decode cX5_readWord 58 = .ok (.pop, 1) := dk_87 (dk_at dksX5_readWord_2 12 rfl rfl)
theorem dX5_readWord_59 : decode cX5_readWord 59 = .ok (.aload_n 0, 1) := dk_42 (dk_at dksX5_readWord_2 13 rfl rfl)
theorem dX5_readWord_60 : decode cX5_readWord 60 = .ok (.dup, 1) := dk_89 (dk_at dksX5_readWord_2 14 rfl rfl)
theorem dX5_readWord_61 : decode cX5_readWord 61 = .ok (.getfield 66, 3) := dk_180 0 66 (dk_at dksX5_readWord_2 15 rfl rfl)
theorem dX5_readWord_64 : decode cX5_readWord 64 = .ok (.iconst 1, 1) := dk_4 (dk_at dksX5_readWord_2 18 rfl rfl)
theorem dX5_readWord_65 : decode cX5_readWord 65 = .ok (.iadd, 1) := dk_96 (dk_at dksX5_readWord_2 19 rfl rfl)
theorem dX5_readWord_66 : decode cX5_readWord 66 = .ok (.putfield 66, 3) := dk_181 0 66 (dk_at dksX5_readWord_2 20 rfl rfl)
theorem dX5_readWord_69 : decode cX5_readWord 69 = .ok (.goto (-59), 3) := dk_167 255 197 (dk_at dksX5_readWord_3 0 rfl rfl)
theorem dX5_readWord_72 : decode cX5_readWord 72 = .ok (.aload_n 0, 1) := dk_42 (dk_at dksX5_readWord_3 3 rfl rfl)
theorem dX5_readWord_73 : decode cX5_readWord 73 = .ok (.aload_n 1, 1) := dk_43 (dk_at dksX5_readWord_3 4 rfl rfl)
theorem dX5_readWord_74 : decode cX5_readWord 74 = .ok (.invokevirtual 106, 3) := dk_182 0 106 (dk_at dksX5_readWord_3 5 rfl rfl)
theorem dX5_readWord_77 : decode cX5_readWord 77 = .ok (.putfield 110, 3) := dk_181 0 110 (dk_at dksX5_readWord_3 8 rfl rfl)
theorem dX5_readWord_80 : decode cX5_readWord 80 = .ok (.aload_n 0, 1) := dk_42 (dk_at dksX5_readWord_3 11 rfl rfl)
theorem dX5_readWord_81 : decode cX5_readWord 81 = .ok (.aload_n 0, 1) := dk_42 (dk_at dksX5_readWord_3 12 rfl rfl)
theorem dX5_readWord_82 : decode cX5_readWord 82 = .ok (.getfield 66, 3) := dk_180 0 66 (dk_at dksX5_readWord_3 13 rfl rfl)
theorem dX5_readWord_85 : decode cX5_readWord 85 = .ok (.aload_n 0, 1) := dk_42 (dk_at dksX5_readWord_3 16 rfl rfl)
theorem dX5_readWord_86 : decode cX5_readWord 86 = .ok (.getfield 69, 3) := dk_180 0 69 (dk_at dksX5_readWord_3 17 rfl rfl)
theorem dX5_readWord_89 : decode cX5_readWord 89 = .ok (.isub, 1) := dk_100 (dk_at dksX5_readWord_3 20 rfl rfl)
theorem dX5_readWord_90 : decode cX5_readWord 90 = .ok (.bipush 8, 2) := dk_16 8 (dk_at dksX5_readWord_3 21 rfl rfl)
theorem dX5_readWord_92 : decode cX5_readWord 92 = .ok (.if_icmp .le 7, 3) := dk_164 0 7 (dk_at dksX5_readWord_4 0 rfl rfl)
theorem dX5_readWord_95 : decode cX5_readWord 95 = .ok (.iconst 4, 1) := dk_7 (dk_at dksX5_readWord_4 3 rfl rfl)
theorem dX5_readWord_96 : decode cX5_readWord 96 = .ok (.goto 4, 3) := dk_167 0 4 (dk_at dksX5_readWord_4 4 rfl rfl)
theorem dX5_readWord_99 : decode cX5_readWord 99 = .ok (.iconst 1, 1) := dk_4 (dk_at dksX5_readWord_4 7 rfl rfl)
theorem dX5_readWord_100 : decode cX5_readWord 100 = .ok (.putfield 76, 3) := dk_181 0 76 (dk_at dksX5_readWord_4 8 rfl rfl)
theorem dX5_readWord_103 : decode cX5_readWord 103 = .ok (.return_, 1) := dk_177 (dk_at dksX5_readWord_4 11 rfl rfl)
abbrev cX5_readNumber : ByteArray := prog_9_method_5_code
def yX5_readNumber : MethodName := ⟨RX5, "readNumber", "()V"⟩
def dkwX5_readNumber_4 : List UInt8 := [5, 181, 0, 76, 177]
abbrev dktX5_readNumber_4 : List UInt8 := dkwX5_readNumber_4 ++ []
def dkwX5_readNumber_3 : List UInt8 := [181, 0, 66, 167, 255, 189, 42, 42, 180, 0, 66, 42, 180, 0, 69, 100, 7, 164, 0, 7, 7, 167, 0, 4]
abbrev dktX5_readNumber_3 : List UInt8 := dkwX5_readNumber_3 ++ dktX5_readNumber_4
def dkwX5_readNumber_2 : List UInt8 := [42, 42, 180, 0, 66, 182, 0, 72, 96, 16, 48, 100, 181, 0, 114, 42, 89, 180, 0, 66, 4, 96]
abbrev dktX5_readNumber_2 : List UInt8 := dkwX5_readNumber_2 ++ dktX5_readNumber_3
def dkwX5_readNumber_1 : List UInt8 := [153, 0, 52, 42, 180, 0, 66, 42, 180, 0, 69, 100, 7, 162, 0, 26, 42, 16, 10, 42, 180, 0, 114, 104]
abbrev dktX5_readNumber_1 : List UInt8 := dkwX5_readNumber_1 ++ dktX5_readNumber_2
def dkwX5_readNumber_0 : List UInt8 := [42, 3, 181, 0, 114, 42, 42, 180, 0, 66, 182, 0, 72, 133, 20, 0, 90, 20, 0, 92, 184, 0, 83]
abbrev dktX5_readNumber_0 : List UInt8 := dkwX5_readNumber_0 ++ dktX5_readNumber_1
theorem dksX5_readNumber_0 : cX5_readNumber.data.toList.drop 0 = dktX5_readNumber_0 := by decide +kernel
theorem dksX5_readNumber_1 : cX5_readNumber.data.toList.drop 23 = dktX5_readNumber_1 := dk_seg dksX5_readNumber_0 23 rfl rfl
theorem dksX5_readNumber_2 : cX5_readNumber.data.toList.drop 47 = dktX5_readNumber_2 := dk_seg dksX5_readNumber_1 24 rfl rfl
theorem dksX5_readNumber_3 : cX5_readNumber.data.toList.drop 69 = dktX5_readNumber_3 := dk_seg dksX5_readNumber_2 22 rfl rfl
theorem dksX5_readNumber_4 : cX5_readNumber.data.toList.drop 93 = dktX5_readNumber_4 := dk_seg dksX5_readNumber_3 24 rfl rfl
theorem dX5_readNumber_0 : decode cX5_readNumber 0 = .ok (.aload_n 0, 1) := dk_42 (dk_at dksX5_readNumber_0 0 rfl rfl)
theorem dX5_readNumber_1 : decode cX5_readNumber 1 = .ok (.iconst 0, 1) := dk_3 (dk_at dksX5_readNumber_0 1 rfl rfl)
theorem dX5_readNumber_2 : decode cX5_readNumber 2 = .ok (.putfield 114, 3) := dk_181 0 114 (dk_at dksX5_readNumber_0 2 rfl rfl)
theorem dX5_readNumber_5 : decode cX5_readNumber 5 = .ok (.aload_n 0, 1) := dk_42 (dk_at dksX5_readNumber_0 5 rfl rfl)
theorem dX5_readNumber_6 : decode cX5_readNumber 6 = .ok (.aload_n 0, 1) := dk_42 (dk_at dksX5_readNumber_0 6 rfl rfl)
theorem dX5_readNumber_7 : decode cX5_readNumber 7 = .ok (.getfield 66, 3) := dk_180 0 66 (dk_at dksX5_readNumber_0 7 rfl rfl)
theorem dX5_readNumber_10 : decode cX5_readNumber 10 = .ok (.invokevirtual 72, 3) := dk_182 0 72 (dk_at dksX5_readNumber_0 10 rfl rfl)
theorem dX5_readNumber_13 : decode cX5_readNumber 13 = .ok (.i2l, 1) := dk_133 (dk_at dksX5_readNumber_0 13 rfl rfl)
theorem dX5_readNumber_14 : decode cX5_readNumber 14 = .ok (.ldc2_w 90, 3) := dk_20 0 90 (dk_at dksX5_readNumber_0 14 rfl rfl)
theorem dX5_readNumber_17 : decode cX5_readNumber 17 = .ok (.ldc2_w 92, 3) := dk_20 0 92 (dk_at dksX5_readNumber_0 17 rfl rfl)
theorem dX5_readNumber_20 : decode cX5_readNumber 20 = .ok (.invokestatic 83, 3) := dk_184 0 83 (dk_at dksX5_readNumber_0 20 rfl rfl)
theorem dX5_readNumber_23 : decode cX5_readNumber 23 = .ok (.ifCond .eq 52, 3) := dk_153 0 52 (dk_at dksX5_readNumber_1 0 rfl rfl)
theorem dX5_readNumber_26 : decode cX5_readNumber 26 = .ok (.aload_n 0, 1) := dk_42 (dk_at dksX5_readNumber_1 3 rfl rfl)
theorem dX5_readNumber_27 : decode cX5_readNumber 27 = .ok (.getfield 66, 3) := dk_180 0 66 (dk_at dksX5_readNumber_1 4 rfl rfl)
theorem dX5_readNumber_30 : decode cX5_readNumber 30 = .ok (.aload_n 0, 1) := dk_42 (dk_at dksX5_readNumber_1 7 rfl rfl)
theorem dX5_readNumber_31 : decode cX5_readNumber 31 = .ok (.getfield 69, 3) := dk_180 0 69 (dk_at dksX5_readNumber_1 8 rfl rfl)
theorem dX5_readNumber_34 : decode cX5_readNumber 34 = .ok (.isub, 1) := dk_100 (dk_at dksX5_readNumber_1 11 rfl rfl)
theorem dX5_readNumber_35 : decode cX5_readNumber 35 = .ok (.iconst 4, 1) := dk_7 (dk_at dksX5_readNumber_1 12 rfl rfl)
theorem dX5_readNumber_36 : decode cX5_readNumber 36 = .ok (.if_icmp .ge 26, 3) := dk_162 0 26 (dk_at dksX5_readNumber_1 13 rfl rfl)
theorem dX5_readNumber_39 : decode cX5_readNumber 39 = .ok (.aload_n 0, 1) := dk_42 (dk_at dksX5_readNumber_1 16 rfl rfl)
theorem dX5_readNumber_40 : decode cX5_readNumber 40 = .ok (.bipush 10, 2) := dk_16 10 (dk_at dksX5_readNumber_1 17 rfl rfl)
theorem dX5_readNumber_42 : decode cX5_readNumber 42 = .ok (.aload_n 0, 1) := dk_42 (dk_at dksX5_readNumber_1 19 rfl rfl)
theorem dX5_readNumber_43 : decode cX5_readNumber 43 = .ok (.getfield 114, 3) := dk_180 0 114 (dk_at dksX5_readNumber_1 20 rfl rfl)
theorem dX5_readNumber_46 : decode cX5_readNumber 46 = .ok (.imul, 1) := dk_104 (dk_at dksX5_readNumber_1 23 rfl rfl)
theorem dX5_readNumber_47 : decode cX5_readNumber 47 = .ok (.aload_n 0, 1) := dk_42 (dk_at dksX5_readNumber_2 0 rfl rfl)
theorem dX5_readNumber_48 : decode cX5_readNumber 48 = .ok (.aload_n 0, 1) := dk_42 (dk_at dksX5_readNumber_2 1 rfl rfl)
theorem dX5_readNumber_49 : decode cX5_readNumber 49 = .ok (.getfield 66, 3) := dk_180 0 66 (dk_at dksX5_readNumber_2 2 rfl rfl)
theorem dX5_readNumber_52 : decode cX5_readNumber 52 = .ok (.invokevirtual 72, 3) := dk_182 0 72 (dk_at dksX5_readNumber_2 5 rfl rfl)
theorem dX5_readNumber_55 : decode cX5_readNumber 55 = .ok (.iadd, 1) := dk_96 (dk_at dksX5_readNumber_2 8 rfl rfl)
theorem dX5_readNumber_56 : decode cX5_readNumber 56 = .ok (.bipush 48, 2) := dk_16 48 (dk_at dksX5_readNumber_2 9 rfl rfl)
theorem dX5_readNumber_58 : decode cX5_readNumber 58 = .ok (.isub, 1) := dk_100 (dk_at dksX5_readNumber_2 11 rfl rfl)
theorem dX5_readNumber_59 : decode cX5_readNumber 59 = .ok (.putfield 114, 3) := dk_181 0 114 (dk_at dksX5_readNumber_2 12 rfl rfl)
theorem dX5_readNumber_62 : decode cX5_readNumber 62 = .ok (.aload_n 0, 1) := dk_42 (dk_at dksX5_readNumber_2 15 rfl rfl)
theorem dX5_readNumber_63 : decode cX5_readNumber 63 = .ok (.dup, 1) := dk_89 (dk_at dksX5_readNumber_2 16 rfl rfl)
theorem dX5_readNumber_64 : decode cX5_readNumber 64 = .ok (.getfield 66, 3) := dk_180 0 66 (dk_at dksX5_readNumber_2 17 rfl rfl)
theorem dX5_readNumber_67 : decode cX5_readNumber 67 = .ok (.iconst 1, 1) := dk_4 (dk_at dksX5_readNumber_2 20 rfl rfl)
theorem dX5_readNumber_68 : decode cX5_readNumber 68 = .ok (.iadd, 1) := dk_96 (dk_at dksX5_readNumber_2 21 rfl rfl)
theorem dX5_readNumber_69 : decode cX5_readNumber 69 = .ok (.putfield 66, 3) := dk_181 0 66 (dk_at dksX5_readNumber_3 0 rfl rfl)
theorem dX5_readNumber_72 : decode cX5_readNumber 72 = .ok (.goto (-67), 3) := dk_167 255 189 (dk_at dksX5_readNumber_3 3 rfl rfl)
theorem dX5_readNumber_75 : decode cX5_readNumber 75 = .ok (.aload_n 0, 1) := dk_42 (dk_at dksX5_readNumber_3 6 rfl rfl)
theorem dX5_readNumber_76 : decode cX5_readNumber 76 = .ok (.aload_n 0, 1) := dk_42 (dk_at dksX5_readNumber_3 7 rfl rfl)
theorem dX5_readNumber_77 : decode cX5_readNumber 77 = .ok (.getfield 66, 3) := dk_180 0 66 (dk_at dksX5_readNumber_3 8 rfl rfl)
theorem dX5_readNumber_80 : decode cX5_readNumber 80 = .ok (.aload_n 0, 1) := dk_42 (dk_at dksX5_readNumber_3 11 rfl rfl)
theorem dX5_readNumber_81 : decode cX5_readNumber 81 = .ok (.getfield 69, 3) := dk_180 0 69 (dk_at dksX5_readNumber_3 12 rfl rfl)
theorem dX5_readNumber_84 : decode cX5_readNumber 84 = .ok (.isub, 1) := dk_100 (dk_at dksX5_readNumber_3 15 rfl rfl)
theorem dX5_readNumber_85 : decode cX5_readNumber 85 = .ok (.iconst 4, 1) := dk_7 (dk_at dksX5_readNumber_3 16 rfl rfl)
theorem dX5_readNumber_86 : decode cX5_readNumber 86 = .ok (.if_icmp .le 7, 3) := dk_164 0 7 (dk_at dksX5_readNumber_3 17 rfl rfl)
theorem dX5_readNumber_89 : decode cX5_readNumber 89 = .ok (.iconst 4, 1) := dk_7 (dk_at dksX5_readNumber_3 20 rfl rfl)
theorem dX5_readNumber_90 : decode cX5_readNumber 90 = .ok (.goto 4, 3) := dk_167 0 4 (dk_at dksX5_readNumber_3 21 rfl rfl)
theorem dX5_readNumber_93 : decode cX5_readNumber 93 = .ok (.iconst 2, 1) := dk_5 (dk_at dksX5_readNumber_4 0 rfl rfl)
theorem dX5_readNumber_94 : decode cX5_readNumber 94 = .ok (.putfield 76, 3) := dk_181 0 76 (dk_at dksX5_readNumber_4 1 rfl rfl)
theorem dX5_readNumber_97 : decode cX5_readNumber 97 = .ok (.return_, 1) := dk_177 (dk_at dksX5_readNumber_4 4 rfl rfl)
abbrev cX5_parse : ByteArray := prog_9_method_9_code
def yX5_parse : MethodName := ⟨RX5, "parse", "()LBalloonMail$Siege;"⟩
def dkwX5_parse_2 : List UInt8 := [182, 0, 122, 42, 182, 0, 59, 167, 255, 205, 42, 180, 0, 18, 176]
abbrev dktX5_parse_2 : List UInt8 := dkwX5_parse_2 ++ []
def dkwX5_parse_1 : List UInt8 := [182, 0, 122, 42, 182, 0, 136, 42, 42, 180, 0, 76, 6, 160, 0, 7, 4, 167, 0, 4, 3, 4]
abbrev dktX5_parse_1 : List UInt8 := dkwX5_parse_1 ++ dktX5_parse_2
def dkwX5_parse_0 : List UInt8 := [42, 180, 0, 76, 153, 0, 50, 42, 42, 180, 0, 76, 4, 160, 0, 7, 4, 167, 0, 4, 3, 4]
abbrev dktX5_parse_0 : List UInt8 := dkwX5_parse_0 ++ dktX5_parse_1
theorem dksX5_parse_0 : cX5_parse.data.toList.drop 0 = dktX5_parse_0 := by decide +kernel
theorem dksX5_parse_1 : cX5_parse.data.toList.drop 22 = dktX5_parse_1 := dk_seg dksX5_parse_0 22 rfl rfl
theorem dksX5_parse_2 : cX5_parse.data.toList.drop 44 = dktX5_parse_2 := dk_seg dksX5_parse_1 22 rfl rfl
theorem dX5_parse_0 : decode cX5_parse 0 = .ok (.aload_n 0, 1) := dk_42 (dk_at dksX5_parse_0 0 rfl rfl)
theorem dX5_parse_1 : decode cX5_parse 1 = .ok (.getfield 76, 3) := dk_180 0 76 (dk_at dksX5_parse_0 1 rfl rfl)
theorem dX5_parse_4 : decode cX5_parse 4 = .ok (.ifCond .eq 50, 3) := dk_153 0 50 (dk_at dksX5_parse_0 4 rfl rfl)
theorem dX5_parse_7 : decode cX5_parse 7 = .ok (.aload_n 0, 1) := dk_42 (dk_at dksX5_parse_0 7 rfl rfl)
theorem dX5_parse_8 : decode cX5_parse 8 = .ok (.aload_n 0, 1) := dk_42 (dk_at dksX5_parse_0 8 rfl rfl)
theorem dX5_parse_9 : decode cX5_parse 9 = .ok (.getfield 76, 3) := dk_180 0 76 (dk_at dksX5_parse_0 9 rfl rfl)
theorem dX5_parse_12 : decode cX5_parse 12 = .ok (.iconst 1, 1) := dk_4 (dk_at dksX5_parse_0 12 rfl rfl)
theorem dX5_parse_13 : decode cX5_parse 13 = .ok (.if_icmp .ne 7, 3) := dk_160 0 7 (dk_at dksX5_parse_0 13 rfl rfl)
theorem dX5_parse_16 : decode cX5_parse 16 = .ok (.iconst 1, 1) := dk_4 (dk_at dksX5_parse_0 16 rfl rfl)
theorem dX5_parse_17 : decode cX5_parse 17 = .ok (.goto 4, 3) := dk_167 0 4 (dk_at dksX5_parse_0 17 rfl rfl)
theorem dX5_parse_20 : decode cX5_parse 20 = .ok (.iconst 0, 1) := dk_3 (dk_at dksX5_parse_0 20 rfl rfl)
theorem dX5_parse_21 : decode cX5_parse 21 = .ok (.iconst 1, 1) := dk_4 (dk_at dksX5_parse_0 21 rfl rfl)
theorem dX5_parse_22 : decode cX5_parse 22 = .ok (.invokevirtual 122, 3) := dk_182 0 122 (dk_at dksX5_parse_1 0 rfl rfl)
theorem dX5_parse_25 : decode cX5_parse 25 = .ok (.aload_n 0, 1) := dk_42 (dk_at dksX5_parse_1 3 rfl rfl)
theorem dX5_parse_26 : decode cX5_parse 26 = .ok (.invokevirtual 136, 3) := dk_182 0 136 (dk_at dksX5_parse_1 4 rfl rfl)
theorem dX5_parse_29 : decode cX5_parse 29 = .ok (.aload_n 0, 1) := dk_42 (dk_at dksX5_parse_1 7 rfl rfl)
theorem dX5_parse_30 : decode cX5_parse 30 = .ok (.aload_n 0, 1) := dk_42 (dk_at dksX5_parse_1 8 rfl rfl)
theorem dX5_parse_31 : decode cX5_parse 31 = .ok (.getfield 76, 3) := dk_180 0 76 (dk_at dksX5_parse_1 9 rfl rfl)
theorem dX5_parse_34 : decode cX5_parse 34 = .ok (.iconst 3, 1) := dk_6 (dk_at dksX5_parse_1 12 rfl rfl)
theorem dX5_parse_35 : decode cX5_parse 35 = .ok (.if_icmp .ne 7, 3) := dk_160 0 7 (dk_at dksX5_parse_1 13 rfl rfl)
theorem dX5_parse_38 : decode cX5_parse 38 = .ok (.iconst 1, 1) := dk_4 (dk_at dksX5_parse_1 16 rfl rfl)
theorem dX5_parse_39 : decode cX5_parse 39 = .ok (.goto 4, 3) := dk_167 0 4 (dk_at dksX5_parse_1 17 rfl rfl)
theorem dX5_parse_42 : decode cX5_parse 42 = .ok (.iconst 0, 1) := dk_3 (dk_at dksX5_parse_1 20 rfl rfl)
theorem dX5_parse_43 : decode cX5_parse 43 = .ok (.iconst 1, 1) := dk_4 (dk_at dksX5_parse_1 21 rfl rfl)
theorem dX5_parse_44 : decode cX5_parse 44 = .ok (.invokevirtual 122, 3) := dk_182 0 122 (dk_at dksX5_parse_2 0 rfl rfl)
theorem dX5_parse_47 : decode cX5_parse 47 = .ok (.aload_n 0, 1) := dk_42 (dk_at dksX5_parse_2 3 rfl rfl)
theorem dX5_parse_48 : decode cX5_parse 48 = .ok (.invokevirtual 59, 3) := dk_182 0 59 (dk_at dksX5_parse_2 4 rfl rfl)
theorem dX5_parse_51 : decode cX5_parse 51 = .ok (.goto (-51), 3) := dk_167 255 205 (dk_at dksX5_parse_2 7 rfl rfl)
theorem dX5_parse_54 : decode cX5_parse 54 = .ok (.aload_n 0, 1) := dk_42 (dk_at dksX5_parse_2 10 rfl rfl)
theorem dX5_parse_55 : decode cX5_parse 55 = .ok (.getfield 18, 3) := dk_180 0 18 (dk_at dksX5_parse_2 11 rfl rfl)
theorem dX5_parse_58 : decode cX5_parse 58 = .ok (.areturn, 1) := dk_176 (dk_at dksX5_parse_2 14 rfl rfl)
abbrev cX5_require : ByteArray := prog_9_method_6_code
def yX5_require : MethodName := ⟨RX5, "require", "(ZI)V"⟩
def dkwX5_require_0 : List UInt8 := [27, 154, 0, 16, 187, 0, 117, 89, 28, 42, 180, 0, 69, 183, 0, 119, 191, 177]
abbrev dktX5_require_0 : List UInt8 := dkwX5_require_0 ++ []
theorem dksX5_require_0 : cX5_require.data.toList.drop 0 = dktX5_require_0 := by decide +kernel
theorem dX5_require_0 : decode cX5_require 0 = .ok (.iload_n 1, 1) := dk_27 (dk_at dksX5_require_0 0 rfl rfl)
theorem dX5_require_1 : decode cX5_require 1 = .ok (.ifCond .ne 16, 3) := dk_154 0 16 (dk_at dksX5_require_0 1 rfl rfl)
theorem dX5_require_4 : decode cX5_require 4 = .ok (.new 117, 3) := dk_187 0 117 (dk_at dksX5_require_0 4 rfl rfl)
theorem dX5_require_7 : decode cX5_require 7 = .ok (.dup, 1) := dk_89 (dk_at dksX5_require_0 7 rfl rfl)
theorem dX5_require_8 : decode cX5_require 8 = .ok (.iload_n 2, 1) := dk_28 (dk_at dksX5_require_0 8 rfl rfl)
theorem dX5_require_9 : decode cX5_require 9 = .ok (.aload_n 0, 1) := dk_42 (dk_at dksX5_require_0 9 rfl rfl)
theorem dX5_require_10 : decode cX5_require 10 = .ok (.getfield 69, 3) := dk_180 0 69 (dk_at dksX5_require_0 10 rfl rfl)
theorem dX5_require_13 : decode cX5_require 13 = .ok (.invokespecial 119, 3) := dk_183 0 119 (dk_at dksX5_require_0 13 rfl rfl)
theorem dX5_require_16 : decode cX5_require 16 = .ok (.athrow, 1) := dk_191 (dk_at dksX5_require_0 16 rfl rfl)
theorem dX5_require_17 : decode cX5_require 17 = .ok (.return_, 1) := dk_177 (dk_at dksX5_require_0 17 rfl rfl)
abbrev cX5_statement : ByteArray := prog_9_method_13_code
def yX5_statement : MethodName := ⟨RX5, "statement", "()V"⟩
def dkwX5_statement_7 : List UInt8 := [89, 4, 42, 180, 0, 69, 183, 0, 119, 191, 177]
abbrev dktX5_statement_7 : List UInt8 := dkwX5_statement_7 ++ []
def dkwX5_statement_6 : List UInt8 := [182, 0, 171, 42, 180, 0, 18, 42, 3, 17, 39, 15, 182, 0, 132, 181, 0, 185, 167, 0, 16, 187, 0, 117]
abbrev dktX5_statement_6 : List UInt8 := dkwX5_statement_6 ++ dktX5_statement_7
def dkwX5_statement_5 : List UInt8 := [180, 0, 18, 180, 0, 176, 182, 0, 180, 4, 100, 182, 0, 132, 181, 0, 183, 167, 0, 40, 42, 16, 7]
abbrev dktX5_statement_5 : List UInt8 := dkwX5_statement_5 ++ dktX5_statement_6
def dkwX5_statement_4 : List UInt8 := [16, 40, 182, 0, 132, 181, 0, 174, 167, 0, 73, 42, 16, 6, 182, 0, 171, 42, 180, 0, 18, 42, 3, 42]
abbrev dktX5_statement_4 : List UInt8 := dkwX5_statement_4 ++ dktX5_statement_5
def dkwX5_statement_3 : List UInt8 := [182, 0, 167, 167, 0, 102, 42, 182, 0, 169, 167, 0, 95, 42, 8, 182, 0, 171, 42, 180, 0, 18, 42, 3]
abbrev dktX5_statement_3 : List UInt8 := dkwX5_statement_3 ++ dktX5_statement_4
def dkwX5_statement_2 : List UInt8 := [42, 182, 0, 161, 167, 0, 123, 42, 182, 0, 163, 167, 0, 116, 42, 182, 0, 165, 167, 0, 109, 42]
abbrev dktX5_statement_2 : List UInt8 := dkwX5_statement_2 ++ dktX5_statement_3
def dkwX5_statement_1 : List UInt8 := [170, 0, 0, 0, 0, 0, 0, 162, 0, 0, 0, 0, 0, 0, 0, 7, 0, 0, 0, 48, 0, 0, 0, 55, 0, 0, 0, 62, 0, 0, 0, 69, 0, 0, 0, 76, 0, 0, 0, 83, 0, 0, 0, 105, 0, 0, 0, 138]
abbrev dktX5_statement_1 : List UInt8 := dkwX5_statement_1 ++ dktX5_statement_2
def dkwX5_statement_0 : List UInt8 := [42, 182, 0, 158]
abbrev dktX5_statement_0 : List UInt8 := dkwX5_statement_0 ++ dktX5_statement_1
theorem dksX5_statement_0 : cX5_statement.data.toList.drop 0 = dktX5_statement_0 := by decide +kernel
theorem dksX5_statement_1 : cX5_statement.data.toList.drop 4 = dktX5_statement_1 := dk_seg dksX5_statement_0 4 rfl rfl
theorem dksX5_statement_2 : cX5_statement.data.toList.drop 52 = dktX5_statement_2 := dk_seg dksX5_statement_1 48 rfl rfl
theorem dksX5_statement_3 : cX5_statement.data.toList.drop 74 = dktX5_statement_3 := dk_seg dksX5_statement_2 22 rfl rfl
theorem dksX5_statement_4 : cX5_statement.data.toList.drop 98 = dktX5_statement_4 := dk_seg dksX5_statement_3 24 rfl rfl
theorem dksX5_statement_5 : cX5_statement.data.toList.drop 122 = dktX5_statement_5 := dk_seg dksX5_statement_4 24 rfl rfl
theorem dksX5_statement_6 : cX5_statement.data.toList.drop 145 = dktX5_statement_6 := dk_seg dksX5_statement_5 23 rfl rfl
theorem dksX5_statement_7 : cX5_statement.data.toList.drop 169 = dktX5_statement_7 := dk_seg dksX5_statement_6 24 rfl rfl
theorem dX5_statement_0 : decode cX5_statement 0 = .ok (.aload_n 0, 1) := dk_42 (dk_at dksX5_statement_0 0 rfl rfl)
theorem dX5_statement_1 : decode cX5_statement 1 = .ok (.invokevirtual 158, 3) := dk_182 0 158 (dk_at dksX5_statement_0 1 rfl rfl)
theorem dX5_statement_4 : decode cX5_statement 4 = .ok (.tableswitch 162 0 7 #[48, 55, 62, 69, 76, 83, 105, 138], 48) := by decide +kernel
theorem dX5_statement_52 : decode cX5_statement 52 = .ok (.aload_n 0, 1) := dk_42 (dk_at dksX5_statement_2 0 rfl rfl)
theorem dX5_statement_53 : decode cX5_statement 53 = .ok (.invokevirtual 161, 3) := dk_182 0 161 (dk_at dksX5_statement_2 1 rfl rfl)
theorem dX5_statement_56 : decode cX5_statement 56 = .ok (.goto 123, 3) := dk_167 0 123 (dk_at dksX5_statement_2 4 rfl rfl)
theorem dX5_statement_59 : decode cX5_statement 59 = .ok (.aload_n 0, 1) := dk_42 (dk_at dksX5_statement_2 7 rfl rfl)
theorem dX5_statement_60 : decode cX5_statement 60 = .ok (.invokevirtual 163, 3) := dk_182 0 163 (dk_at dksX5_statement_2 8 rfl rfl)
theorem dX5_statement_63 : decode cX5_statement 63 = .ok (.goto 116, 3) := dk_167 0 116 (dk_at dksX5_statement_2 11 rfl rfl)
theorem dX5_statement_66 : decode cX5_statement 66 = .ok (.aload_n 0, 1) := dk_42 (dk_at dksX5_statement_2 14 rfl rfl)
theorem dX5_statement_67 : decode cX5_statement 67 = .ok (.invokevirtual 165, 3) := dk_182 0 165 (dk_at dksX5_statement_2 15 rfl rfl)
theorem dX5_statement_70 : decode cX5_statement 70 = .ok (.goto 109, 3) := dk_167 0 109 (dk_at dksX5_statement_2 18 rfl rfl)
theorem dX5_statement_73 : decode cX5_statement 73 = .ok (.aload_n 0, 1) := dk_42 (dk_at dksX5_statement_2 21 rfl rfl)
theorem dX5_statement_74 : decode cX5_statement 74 = .ok (.invokevirtual 167, 3) := dk_182 0 167 (dk_at dksX5_statement_3 0 rfl rfl)
theorem dX5_statement_77 : decode cX5_statement 77 = .ok (.goto 102, 3) := dk_167 0 102 (dk_at dksX5_statement_3 3 rfl rfl)
theorem dX5_statement_80 : decode cX5_statement 80 = .ok (.aload_n 0, 1) := dk_42 (dk_at dksX5_statement_3 6 rfl rfl)
theorem dX5_statement_81 : decode cX5_statement 81 = .ok (.invokevirtual 169, 3) := dk_182 0 169 (dk_at dksX5_statement_3 7 rfl rfl)
theorem dX5_statement_84 : decode cX5_statement 84 = .ok (.goto 95, 3) := dk_167 0 95 (dk_at dksX5_statement_3 10 rfl rfl)
theorem dX5_statement_87 : decode cX5_statement 87 = .ok (.aload_n 0, 1) := dk_42 (dk_at dksX5_statement_3 13 rfl rfl)
theorem dX5_statement_88 : decode cX5_statement 88 = .ok (.iconst 5, 1) := dk_8 (dk_at dksX5_statement_3 14 rfl rfl)
theorem dX5_statement_89 : decode cX5_statement 89 = .ok (.invokevirtual 171, 3) := dk_182 0 171 (dk_at dksX5_statement_3 15 rfl rfl)
theorem dX5_statement_92 : decode cX5_statement 92 = .ok (.aload_n 0, 1) := dk_42 (dk_at dksX5_statement_3 18 rfl rfl)
theorem dX5_statement_93 : decode cX5_statement 93 = .ok (.getfield 18, 3) := dk_180 0 18 (dk_at dksX5_statement_3 19 rfl rfl)
theorem dX5_statement_96 : decode cX5_statement 96 = .ok (.aload_n 0, 1) := dk_42 (dk_at dksX5_statement_3 22 rfl rfl)
theorem dX5_statement_97 : decode cX5_statement 97 = .ok (.iconst 0, 1) := dk_3 (dk_at dksX5_statement_3 23 rfl rfl)
theorem dX5_statement_98 : decode cX5_statement 98 = .ok (.bipush 40, 2) := dk_16 40 (dk_at dksX5_statement_4 0 rfl rfl)
theorem dX5_statement_100 : decode cX5_statement 100 = .ok (.invokevirtual 132, 3) := dk_182 0 132 (dk_at dksX5_statement_4 2 rfl rfl)
theorem dX5_statement_103 : decode cX5_statement 103 = .ok (.putfield 174, 3) := dk_181 0 174 (dk_at dksX5_statement_4 5 rfl rfl)
theorem dX5_statement_106 : decode cX5_statement 106 = .ok (.goto 73, 3) := dk_167 0 73 (dk_at dksX5_statement_4 8 rfl rfl)
theorem dX5_statement_109 : decode cX5_statement 109 = .ok (.aload_n 0, 1) := dk_42 (dk_at dksX5_statement_4 11 rfl rfl)
theorem dX5_statement_110 : decode cX5_statement 110 = .ok (.bipush 6, 2) := dk_16 6 (dk_at dksX5_statement_4 12 rfl rfl)
theorem dX5_statement_112 : decode cX5_statement 112 = .ok (.invokevirtual 171, 3) := dk_182 0 171 (dk_at dksX5_statement_4 14 rfl rfl)
theorem dX5_statement_115 : decode cX5_statement 115 = .ok (.aload_n 0, 1) := dk_42 (dk_at dksX5_statement_4 17 rfl rfl)
theorem dX5_statement_116 : decode cX5_statement 116 = .ok (.getfield 18, 3) := dk_180 0 18 (dk_at dksX5_statement_4 18 rfl rfl)
theorem dX5_statement_119 : decode cX5_statement 119 = .ok (.aload_n 0, 1) := dk_42 (dk_at dksX5_statement_4 21 rfl rfl)
theorem dX5_statement_120 : decode cX5_statement 120 = .ok (.iconst 0, 1) := dk_3 (dk_at dksX5_statement_4 22 rfl rfl)
theorem dX5_statement_121 : decode cX5_statement 121 = .ok (.aload_n 0, 1) := dk_42 (dk_at dksX5_statement_4 23 rfl rfl)
theorem dX5_statement_122 : decode cX5_statement 122 = .ok (.getfield 18, 3) := dk_180 0 18 (dk_at dksX5_statement_5 0 rfl rfl)
theorem dX5_statement_125 : decode cX5_statement 125 = .ok (.getfield 176, 3) := dk_180 0 176 (dk_at dksX5_statement_5 3 rfl rfl)
theorem dX5_statement_128 : decode cX5_statement 128 = .ok (.invokevirtual 180, 3) := dk_182 0 180 (dk_at dksX5_statement_5 6 rfl rfl)
theorem dX5_statement_131 : decode cX5_statement 131 = .ok (.iconst 1, 1) := dk_4 (dk_at dksX5_statement_5 9 rfl rfl)
theorem dX5_statement_132 : decode cX5_statement 132 = .ok (.isub, 1) := dk_100 (dk_at dksX5_statement_5 10 rfl rfl)
theorem dX5_statement_133 : decode cX5_statement 133 = .ok (.invokevirtual 132, 3) := dk_182 0 132 (dk_at dksX5_statement_5 11 rfl rfl)
theorem dX5_statement_136 : decode cX5_statement 136 = .ok (.putfield 183, 3) := dk_181 0 183 (dk_at dksX5_statement_5 14 rfl rfl)
theorem dX5_statement_139 : decode cX5_statement 139 = .ok (.goto 40, 3) := dk_167 0 40 (dk_at dksX5_statement_5 17 rfl rfl)
theorem dX5_statement_142 : decode cX5_statement 142 = .ok (.aload_n 0, 1) := dk_42 (dk_at dksX5_statement_5 20 rfl rfl)
theorem dX5_statement_143 : decode cX5_statement 143 = .ok (.bipush 7, 2) := dk_16 7 (dk_at dksX5_statement_5 21 rfl rfl)
theorem dX5_statement_145 : decode cX5_statement 145 = .ok (.invokevirtual 171, 3) := dk_182 0 171 (dk_at dksX5_statement_6 0 rfl rfl)
theorem dX5_statement_148 : decode cX5_statement 148 = .ok (.aload_n 0, 1) := dk_42 (dk_at dksX5_statement_6 3 rfl rfl)
theorem dX5_statement_149 : decode cX5_statement 149 = .ok (.getfield 18, 3) := dk_180 0 18 (dk_at dksX5_statement_6 4 rfl rfl)
theorem dX5_statement_152 : decode cX5_statement 152 = .ok (.aload_n 0, 1) := dk_42 (dk_at dksX5_statement_6 7 rfl rfl)
theorem dX5_statement_153 : decode cX5_statement 153 = .ok (.iconst 0, 1) := dk_3 (dk_at dksX5_statement_6 8 rfl rfl)
theorem dX5_statement_154 : decode cX5_statement 154 = .ok (.sipush 9999, 3) := dk_17 39 15 (dk_at dksX5_statement_6 9 rfl rfl)
theorem dX5_statement_157 : decode cX5_statement 157 = .ok (.invokevirtual 132, 3) := dk_182 0 132 (dk_at dksX5_statement_6 12 rfl rfl)
theorem dX5_statement_160 : decode cX5_statement 160 = .ok (.putfield 185, 3) := dk_181 0 185 (dk_at dksX5_statement_6 15 rfl rfl)
theorem dX5_statement_163 : decode cX5_statement 163 = .ok (.goto 16, 3) := dk_167 0 16 (dk_at dksX5_statement_6 18 rfl rfl)
theorem dX5_statement_166 : decode cX5_statement 166 = .ok (.new 117, 3) := dk_187 0 117 (dk_at dksX5_statement_6 21 rfl rfl)
theorem dX5_statement_169 : decode cX5_statement 169 = .ok (.dup, 1) := dk_89 (dk_at dksX5_statement_7 0 rfl rfl)
theorem dX5_statement_170 : decode cX5_statement 170 = .ok (.iconst 1, 1) := dk_4 (dk_at dksX5_statement_7 1 rfl rfl)
theorem dX5_statement_171 : decode cX5_statement 171 = .ok (.aload_n 0, 1) := dk_42 (dk_at dksX5_statement_7 2 rfl rfl)
theorem dX5_statement_172 : decode cX5_statement 172 = .ok (.getfield 69, 3) := dk_180 0 69 (dk_at dksX5_statement_7 3 rfl rfl)
theorem dX5_statement_175 : decode cX5_statement 175 = .ok (.invokespecial 119, 3) := dk_183 0 119 (dk_at dksX5_statement_7 6 rfl rfl)
theorem dX5_statement_178 : decode cX5_statement 178 = .ok (.athrow, 1) := dk_191 (dk_at dksX5_statement_7 9 rfl rfl)
theorem dX5_statement_179 : decode cX5_statement 179 = .ok (.return_, 1) := dk_177 (dk_at dksX5_statement_7 10 rfl rfl)
abbrev cX5_keyword : ByteArray := prog_9_method_12_code
def yX5_keyword : MethodName := ⟨RX5, "keyword", "()I"⟩
def dkwX5_keyword_2 : List UInt8 := [167, 255, 215, 16, 254, 172]
abbrev dktX5_keyword_2 : List UInt8 := dkwX5_keyword_2 ++ []
def dkwX5_keyword_1 : List UInt8 := [185, 0, 149, 2, 0, 192, 0, 152, 42, 180, 0, 110, 182, 0, 154, 153, 0, 5, 27, 172, 132, 1, 1]
abbrev dktX5_keyword_1 : List UInt8 := dkwX5_keyword_1 ++ dktX5_keyword_2
def dkwX5_keyword_0 : List UInt8 := [3, 60, 27, 42, 180, 0, 51, 185, 0, 146, 1, 0, 162, 0, 34, 42, 180, 0, 51, 27]
abbrev dktX5_keyword_0 : List UInt8 := dkwX5_keyword_0 ++ dktX5_keyword_1
theorem dksX5_keyword_0 : cX5_keyword.data.toList.drop 0 = dktX5_keyword_0 := by decide +kernel
theorem dksX5_keyword_1 : cX5_keyword.data.toList.drop 20 = dktX5_keyword_1 := dk_seg dksX5_keyword_0 20 rfl rfl
theorem dksX5_keyword_2 : cX5_keyword.data.toList.drop 43 = dktX5_keyword_2 := dk_seg dksX5_keyword_1 23 rfl rfl
theorem dX5_keyword_0 : decode cX5_keyword 0 = .ok (.iconst 0, 1) := dk_3 (dk_at dksX5_keyword_0 0 rfl rfl)
theorem dX5_keyword_1 : decode cX5_keyword 1 = .ok (.istore_n 1, 1) := dk_60 (dk_at dksX5_keyword_0 1 rfl rfl)
theorem dX5_keyword_2 : decode cX5_keyword 2 = .ok (.iload_n 1, 1) := dk_27 (dk_at dksX5_keyword_0 2 rfl rfl)
theorem dX5_keyword_3 : decode cX5_keyword 3 = .ok (.aload_n 0, 1) := dk_42 (dk_at dksX5_keyword_0 3 rfl rfl)
theorem dX5_keyword_4 : decode cX5_keyword 4 = .ok (.getfield 51, 3) := dk_180 0 51 (dk_at dksX5_keyword_0 4 rfl rfl)
theorem dX5_keyword_7 : decode cX5_keyword 7 = .ok (.invokeinterface 146 1, 5) := by decide +kernel
theorem dX5_keyword_12 : decode cX5_keyword 12 = .ok (.if_icmp .ge 34, 3) := dk_162 0 34 (dk_at dksX5_keyword_0 12 rfl rfl)
theorem dX5_keyword_15 : decode cX5_keyword 15 = .ok (.aload_n 0, 1) := dk_42 (dk_at dksX5_keyword_0 15 rfl rfl)
theorem dX5_keyword_16 : decode cX5_keyword 16 = .ok (.getfield 51, 3) := dk_180 0 51 (dk_at dksX5_keyword_0 16 rfl rfl)
theorem dX5_keyword_19 : decode cX5_keyword 19 = .ok (.iload_n 1, 1) := dk_27 (dk_at dksX5_keyword_0 19 rfl rfl)
theorem dX5_keyword_20 : decode cX5_keyword 20 = .ok (.invokeinterface 149 2, 5) := by decide +kernel
theorem dX5_keyword_25 : decode cX5_keyword 25 = .ok (.checkcast 152, 3) := dk_192 0 152 (dk_at dksX5_keyword_1 5 rfl rfl)
theorem dX5_keyword_28 : decode cX5_keyword 28 = .ok (.aload_n 0, 1) := dk_42 (dk_at dksX5_keyword_1 8 rfl rfl)
theorem dX5_keyword_29 : decode cX5_keyword 29 = .ok (.getfield 110, 3) := dk_180 0 110 (dk_at dksX5_keyword_1 9 rfl rfl)
theorem dX5_keyword_32 : decode cX5_keyword 32 = .ok (.invokevirtual 154, 3) := dk_182 0 154 (dk_at dksX5_keyword_1 12 rfl rfl)
theorem dX5_keyword_35 : decode cX5_keyword 35 = .ok (.ifCond .eq 5, 3) := dk_153 0 5 (dk_at dksX5_keyword_1 15 rfl rfl)
theorem dX5_keyword_38 : decode cX5_keyword 38 = .ok (.iload_n 1, 1) := dk_27 (dk_at dksX5_keyword_1 18 rfl rfl)
theorem dX5_keyword_39 : decode cX5_keyword 39 = .ok (.ireturn, 1) := dk_172 (dk_at dksX5_keyword_1 19 rfl rfl)
theorem dX5_keyword_40 : decode cX5_keyword 40 = .ok (.iinc 1 1, 3) := dk_132 1 1 (dk_at dksX5_keyword_1 20 rfl rfl)
theorem dX5_keyword_43 : decode cX5_keyword 43 = .ok (.goto (-41), 3) := dk_167 255 215 (dk_at dksX5_keyword_2 0 rfl rfl)
theorem dX5_keyword_46 : decode cX5_keyword 46 = .ok (.bipush (-2), 2) := dk_16 254 (dk_at dksX5_keyword_2 3 rfl rfl)
theorem dX5_keyword_48 : decode cX5_keyword 48 = .ok (.ireturn, 1) := dk_172 (dk_at dksX5_keyword_2 5 rfl rfl)
abbrev cX5_region : ByteArray := prog_9_method_14_code
def yX5_region : MethodName := ⟨RX5, "region", "()V"⟩
def dkwX5_region_2 : List UInt8 := [16, 10, 182, 0, 132, 183, 0, 195, 182, 0, 198, 87, 177]
abbrev dktX5_region_2 : List UInt8 := dkwX5_region_2 ++ []
def dkwX5_region_1 : List UInt8 := [42, 4, 16, 9, 182, 0, 132, 61, 42, 180, 0, 18, 180, 0, 187, 187, 0, 193, 89, 27, 28, 42, 3]
abbrev dktX5_region_1 : List UInt8 := dkwX5_region_1 ++ dktX5_region_2
def dkwX5_region_0 : List UInt8 := [42, 42, 180, 0, 18, 180, 0, 187, 182, 0, 180, 16, 8, 182, 0, 190, 42, 3, 16, 10, 182, 0, 132, 60]
abbrev dktX5_region_0 : List UInt8 := dkwX5_region_0 ++ dktX5_region_1
theorem dksX5_region_0 : cX5_region.data.toList.drop 0 = dktX5_region_0 := by decide +kernel
theorem dksX5_region_1 : cX5_region.data.toList.drop 24 = dktX5_region_1 := dk_seg dksX5_region_0 24 rfl rfl
theorem dksX5_region_2 : cX5_region.data.toList.drop 47 = dktX5_region_2 := dk_seg dksX5_region_1 23 rfl rfl
theorem dX5_region_0 : decode cX5_region 0 = .ok (.aload_n 0, 1) := dk_42 (dk_at dksX5_region_0 0 rfl rfl)
theorem dX5_region_1 : decode cX5_region 1 = .ok (.aload_n 0, 1) := dk_42 (dk_at dksX5_region_0 1 rfl rfl)
theorem dX5_region_2 : decode cX5_region 2 = .ok (.getfield 18, 3) := dk_180 0 18 (dk_at dksX5_region_0 2 rfl rfl)
theorem dX5_region_5 : decode cX5_region 5 = .ok (.getfield 187, 3) := dk_180 0 187 (dk_at dksX5_region_0 5 rfl rfl)
theorem dX5_region_8 : decode cX5_region 8 = .ok (.invokevirtual 180, 3) := dk_182 0 180 (dk_at dksX5_region_0 8 rfl rfl)
theorem dX5_region_11 : decode cX5_region 11 = .ok (.bipush 8, 2) := dk_16 8 (dk_at dksX5_region_0 11 rfl rfl)
theorem dX5_region_13 : decode cX5_region 13 = .ok (.invokevirtual 190, 3) := dk_182 0 190 (dk_at dksX5_region_0 13 rfl rfl)
theorem dX5_region_16 : decode cX5_region 16 = .ok (.aload_n 0, 1) := dk_42 (dk_at dksX5_region_0 16 rfl rfl)
theorem dX5_region_17 : decode cX5_region 17 = .ok (.iconst 0, 1) := dk_3 (dk_at dksX5_region_0 17 rfl rfl)
theorem dX5_region_18 : decode cX5_region 18 = .ok (.bipush 10, 2) := dk_16 10 (dk_at dksX5_region_0 18 rfl rfl)
theorem dX5_region_20 : decode cX5_region 20 = .ok (.invokevirtual 132, 3) := dk_182 0 132 (dk_at dksX5_region_0 20 rfl rfl)
theorem dX5_region_23 : decode cX5_region 23 = .ok (.istore_n 1, 1) := dk_60 (dk_at dksX5_region_0 23 rfl rfl)
theorem dX5_region_24 : decode cX5_region 24 = .ok (.aload_n 0, 1) := dk_42 (dk_at dksX5_region_1 0 rfl rfl)
theorem dX5_region_25 : decode cX5_region 25 = .ok (.iconst 1, 1) := dk_4 (dk_at dksX5_region_1 1 rfl rfl)
theorem dX5_region_26 : decode cX5_region 26 = .ok (.bipush 9, 2) := dk_16 9 (dk_at dksX5_region_1 2 rfl rfl)
theorem dX5_region_28 : decode cX5_region 28 = .ok (.invokevirtual 132, 3) := dk_182 0 132 (dk_at dksX5_region_1 4 rfl rfl)
theorem dX5_region_31 : decode cX5_region 31 = .ok (.istore_n 2, 1) := dk_61 (dk_at dksX5_region_1 7 rfl rfl)
theorem dX5_region_32 : decode cX5_region 32 = .ok (.aload_n 0, 1) := dk_42 (dk_at dksX5_region_1 8 rfl rfl)
theorem dX5_region_33 : decode cX5_region 33 = .ok (.getfield 18, 3) := dk_180 0 18 (dk_at dksX5_region_1 9 rfl rfl)
theorem dX5_region_36 : decode cX5_region 36 = .ok (.getfield 187, 3) := dk_180 0 187 (dk_at dksX5_region_1 12 rfl rfl)
theorem dX5_region_39 : decode cX5_region 39 = .ok (.new 193, 3) := dk_187 0 193 (dk_at dksX5_region_1 15 rfl rfl)
theorem dX5_region_42 : decode cX5_region 42 = .ok (.dup, 1) := dk_89 (dk_at dksX5_region_1 18 rfl rfl)
theorem dX5_region_43 : decode cX5_region 43 = .ok (.iload_n 1, 1) := dk_27 (dk_at dksX5_region_1 19 rfl rfl)
theorem dX5_region_44 : decode cX5_region 44 = .ok (.iload_n 2, 1) := dk_28 (dk_at dksX5_region_1 20 rfl rfl)
theorem dX5_region_45 : decode cX5_region 45 = .ok (.aload_n 0, 1) := dk_42 (dk_at dksX5_region_1 21 rfl rfl)
theorem dX5_region_46 : decode cX5_region 46 = .ok (.iconst 0, 1) := dk_3 (dk_at dksX5_region_1 22 rfl rfl)
theorem dX5_region_47 : decode cX5_region 47 = .ok (.bipush 10, 2) := dk_16 10 (dk_at dksX5_region_2 0 rfl rfl)
theorem dX5_region_49 : decode cX5_region 49 = .ok (.invokevirtual 132, 3) := dk_182 0 132 (dk_at dksX5_region_2 2 rfl rfl)
theorem dX5_region_52 : decode cX5_region 52 = .ok (.invokespecial 195, 3) := dk_183 0 195 (dk_at dksX5_region_2 5 rfl rfl)
theorem dX5_region_55 : decode cX5_region 55 = .ok (.invokevirtual 198, 3) := dk_182 0 198 (dk_at dksX5_region_2 8 rfl rfl)
theorem dX5_region_58 : decode cX5_region 58 = .ok (.pop, 1) := dk_87 (dk_at dksX5_region_2 11 rfl rfl)
theorem dX5_region_59 : decode cX5_region 59 = .ok (.return_, 1) := dk_177 (dk_at dksX5_region_2 12 rfl rfl)
abbrev cX5_begin : ByteArray := prog_9_method_10_code
def yX5_begin : MethodName := ⟨RX5, "begin", "(II)V"⟩
def dkwX5_begin_0 : List UInt8 := [42, 27, 28, 162, 0, 7, 4, 167, 0, 4, 3, 7, 182, 0, 122, 42, 182, 0, 59, 177]
abbrev dktX5_begin_0 : List UInt8 := dkwX5_begin_0 ++ []
theorem dksX5_begin_0 : cX5_begin.data.toList.drop 0 = dktX5_begin_0 := by decide +kernel
theorem dX5_begin_0 : decode cX5_begin 0 = .ok (.aload_n 0, 1) := dk_42 (dk_at dksX5_begin_0 0 rfl rfl)
theorem dX5_begin_1 : decode cX5_begin 1 = .ok (.iload_n 1, 1) := dk_27 (dk_at dksX5_begin_0 1 rfl rfl)
theorem dX5_begin_2 : decode cX5_begin 2 = .ok (.iload_n 2, 1) := dk_28 (dk_at dksX5_begin_0 2 rfl rfl)
theorem dX5_begin_3 : decode cX5_begin 3 = .ok (.if_icmp .ge 7, 3) := dk_162 0 7 (dk_at dksX5_begin_0 3 rfl rfl)
theorem dX5_begin_6 : decode cX5_begin 6 = .ok (.iconst 1, 1) := dk_4 (dk_at dksX5_begin_0 6 rfl rfl)
theorem dX5_begin_7 : decode cX5_begin 7 = .ok (.goto 4, 3) := dk_167 0 4 (dk_at dksX5_begin_0 7 rfl rfl)
theorem dX5_begin_10 : decode cX5_begin 10 = .ok (.iconst 0, 1) := dk_3 (dk_at dksX5_begin_0 10 rfl rfl)
theorem dX5_begin_11 : decode cX5_begin 11 = .ok (.iconst 4, 1) := dk_7 (dk_at dksX5_begin_0 11 rfl rfl)
theorem dX5_begin_12 : decode cX5_begin 12 = .ok (.invokevirtual 122, 3) := dk_182 0 122 (dk_at dksX5_begin_0 12 rfl rfl)
theorem dX5_begin_15 : decode cX5_begin 15 = .ok (.aload_n 0, 1) := dk_42 (dk_at dksX5_begin_0 15 rfl rfl)
theorem dX5_begin_16 : decode cX5_begin 16 = .ok (.invokevirtual 59, 3) := dk_182 0 59 (dk_at dksX5_begin_0 16 rfl rfl)
theorem dX5_begin_19 : decode cX5_begin 19 = .ok (.return_, 1) := dk_177 (dk_at dksX5_begin_0 19 rfl rfl)
abbrev cX5_number : ByteArray := prog_9_method_7_code
def yX5_number : MethodName := ⟨RX5, "number", "(II)I"⟩
def dkwX5_number_1 : List UInt8 := [27, 133, 28, 133, 184, 0, 83, 6, 182, 0, 122, 42, 180, 0, 114, 62, 42, 182, 0, 59, 29, 172]
abbrev dktX5_number_1 : List UInt8 := dkwX5_number_1 ++ []
def dkwX5_number_0 : List UInt8 := [42, 42, 180, 0, 76, 5, 160, 0, 7, 4, 167, 0, 4, 3, 4, 182, 0, 122, 42, 42, 180, 0, 114, 133]
abbrev dktX5_number_0 : List UInt8 := dkwX5_number_0 ++ dktX5_number_1
theorem dksX5_number_0 : cX5_number.data.toList.drop 0 = dktX5_number_0 := by decide +kernel
theorem dksX5_number_1 : cX5_number.data.toList.drop 24 = dktX5_number_1 := dk_seg dksX5_number_0 24 rfl rfl
theorem dX5_number_0 : decode cX5_number 0 = .ok (.aload_n 0, 1) := dk_42 (dk_at dksX5_number_0 0 rfl rfl)
theorem dX5_number_1 : decode cX5_number 1 = .ok (.aload_n 0, 1) := dk_42 (dk_at dksX5_number_0 1 rfl rfl)
theorem dX5_number_2 : decode cX5_number 2 = .ok (.getfield 76, 3) := dk_180 0 76 (dk_at dksX5_number_0 2 rfl rfl)
theorem dX5_number_5 : decode cX5_number 5 = .ok (.iconst 2, 1) := dk_5 (dk_at dksX5_number_0 5 rfl rfl)
theorem dX5_number_6 : decode cX5_number 6 = .ok (.if_icmp .ne 7, 3) := dk_160 0 7 (dk_at dksX5_number_0 6 rfl rfl)
theorem dX5_number_9 : decode cX5_number 9 = .ok (.iconst 1, 1) := dk_4 (dk_at dksX5_number_0 9 rfl rfl)
theorem dX5_number_10 : decode cX5_number 10 = .ok (.goto 4, 3) := dk_167 0 4 (dk_at dksX5_number_0 10 rfl rfl)
theorem dX5_number_13 : decode cX5_number 13 = .ok (.iconst 0, 1) := dk_3 (dk_at dksX5_number_0 13 rfl rfl)
theorem dX5_number_14 : decode cX5_number 14 = .ok (.iconst 1, 1) := dk_4 (dk_at dksX5_number_0 14 rfl rfl)
theorem dX5_number_15 : decode cX5_number 15 = .ok (.invokevirtual 122, 3) := dk_182 0 122 (dk_at dksX5_number_0 15 rfl rfl)
theorem dX5_number_18 : decode cX5_number 18 = .ok (.aload_n 0, 1) := dk_42 (dk_at dksX5_number_0 18 rfl rfl)
theorem dX5_number_19 : decode cX5_number 19 = .ok (.aload_n 0, 1) := dk_42 (dk_at dksX5_number_0 19 rfl rfl)
theorem dX5_number_20 : decode cX5_number 20 = .ok (.getfield 114, 3) := dk_180 0 114 (dk_at dksX5_number_0 20 rfl rfl)
theorem dX5_number_23 : decode cX5_number 23 = .ok (.i2l, 1) := dk_133 (dk_at dksX5_number_0 23 rfl rfl)
theorem dX5_number_24 : decode cX5_number 24 = .ok (.iload_n 1, 1) := dk_27 (dk_at dksX5_number_1 0 rfl rfl)
theorem dX5_number_25 : decode cX5_number 25 = .ok (.i2l, 1) := dk_133 (dk_at dksX5_number_1 1 rfl rfl)
theorem dX5_number_26 : decode cX5_number 26 = .ok (.iload_n 2, 1) := dk_28 (dk_at dksX5_number_1 2 rfl rfl)
theorem dX5_number_27 : decode cX5_number 27 = .ok (.i2l, 1) := dk_133 (dk_at dksX5_number_1 3 rfl rfl)
theorem dX5_number_28 : decode cX5_number 28 = .ok (.invokestatic 83, 3) := dk_184 0 83 (dk_at dksX5_number_1 4 rfl rfl)
theorem dX5_number_31 : decode cX5_number 31 = .ok (.iconst 3, 1) := dk_6 (dk_at dksX5_number_1 7 rfl rfl)
theorem dX5_number_32 : decode cX5_number 32 = .ok (.invokevirtual 122, 3) := dk_182 0 122 (dk_at dksX5_number_1 8 rfl rfl)
theorem dX5_number_35 : decode cX5_number 35 = .ok (.aload_n 0, 1) := dk_42 (dk_at dksX5_number_1 11 rfl rfl)
theorem dX5_number_36 : decode cX5_number 36 = .ok (.getfield 114, 3) := dk_180 0 114 (dk_at dksX5_number_1 12 rfl rfl)
theorem dX5_number_39 : decode cX5_number 39 = .ok (.istore_n 3, 1) := dk_62 (dk_at dksX5_number_1 15 rfl rfl)
theorem dX5_number_40 : decode cX5_number 40 = .ok (.aload_n 0, 1) := dk_42 (dk_at dksX5_number_1 16 rfl rfl)
theorem dX5_number_41 : decode cX5_number 41 = .ok (.invokevirtual 59, 3) := dk_182 0 59 (dk_at dksX5_number_1 17 rfl rfl)
theorem dX5_number_44 : decode cX5_number 44 = .ok (.iload_n 3, 1) := dk_29 (dk_at dksX5_number_1 20 rfl rfl)
theorem dX5_number_45 : decode cX5_number 45 = .ok (.ireturn, 1) := dk_172 (dk_at dksX5_number_1 21 rfl rfl)
abbrev cX5_wind : ByteArray := prog_9_method_15_code
def yX5_wind : MethodName := ⟨RX5, "wind", "()V"⟩
def dkwX5_wind_4 : List UInt8 := [183, 0, 218, 182, 0, 198, 87, 167, 255, 179, 42, 180, 0, 18, 180, 0, 176, 43, 182, 0, 198, 87, 177]
abbrev dktX5_wind_4 : List UInt8 := dkwX5_wind_4 ++ []
def dkwX5_wind_3 : List UInt8 := [182, 0, 132, 61, 43, 180, 0, 204, 180, 0, 210, 187, 0, 213, 89, 28, 42, 43, 180, 0, 204, 182, 0, 215]
abbrev dktX5_wind_3 : List UInt8 := dkwX5_wind_3 ++ dktX5_wind_4
def dkwX5_wind_2 : List UInt8 := [167, 0, 4, 3, 5, 182, 0, 122, 42, 3, 42, 180, 0, 18, 180, 0, 187, 182, 0, 180, 4, 100]
abbrev dktX5_wind_2 : List UInt8 := dkwX5_wind_2 ++ dktX5_wind_3
def dkwX5_wind_1 : List UInt8 := [42, 180, 0, 76, 5, 160, 0, 75, 42, 43, 180, 0, 204, 42, 180, 0, 114, 182, 0, 207, 154, 0, 7, 4]
abbrev dktX5_wind_1 : List UInt8 := dkwX5_wind_1 ++ dktX5_wind_2
def dkwX5_wind_0 : List UInt8 := [42, 42, 180, 0, 18, 180, 0, 176, 182, 0, 180, 16, 6, 182, 0, 190, 187, 0, 201, 89, 183, 0, 203, 76]
abbrev dktX5_wind_0 : List UInt8 := dkwX5_wind_0 ++ dktX5_wind_1
theorem dksX5_wind_0 : cX5_wind.data.toList.drop 0 = dktX5_wind_0 := by decide +kernel
theorem dksX5_wind_1 : cX5_wind.data.toList.drop 24 = dktX5_wind_1 := dk_seg dksX5_wind_0 24 rfl rfl
theorem dksX5_wind_2 : cX5_wind.data.toList.drop 48 = dktX5_wind_2 := dk_seg dksX5_wind_1 24 rfl rfl
theorem dksX5_wind_3 : cX5_wind.data.toList.drop 70 = dktX5_wind_3 := dk_seg dksX5_wind_2 22 rfl rfl
theorem dksX5_wind_4 : cX5_wind.data.toList.drop 94 = dktX5_wind_4 := dk_seg dksX5_wind_3 24 rfl rfl
theorem dX5_wind_0 : decode cX5_wind 0 = .ok (.aload_n 0, 1) := dk_42 (dk_at dksX5_wind_0 0 rfl rfl)
theorem dX5_wind_1 : decode cX5_wind 1 = .ok (.aload_n 0, 1) := dk_42 (dk_at dksX5_wind_0 1 rfl rfl)
theorem dX5_wind_2 : decode cX5_wind 2 = .ok (.getfield 18, 3) := dk_180 0 18 (dk_at dksX5_wind_0 2 rfl rfl)
theorem dX5_wind_5 : decode cX5_wind 5 = .ok (.getfield 176, 3) := dk_180 0 176 (dk_at dksX5_wind_0 5 rfl rfl)
theorem dX5_wind_8 : decode cX5_wind 8 = .ok (.invokevirtual 180, 3) := dk_182 0 180 (dk_at dksX5_wind_0 8 rfl rfl)
theorem dX5_wind_11 : decode cX5_wind 11 = .ok (.bipush 6, 2) := dk_16 6 (dk_at dksX5_wind_0 11 rfl rfl)
theorem dX5_wind_13 : decode cX5_wind 13 = .ok (.invokevirtual 190, 3) := dk_182 0 190 (dk_at dksX5_wind_0 13 rfl rfl)
theorem dX5_wind_16 : decode cX5_wind 16 = .ok (.new 201, 3) := dk_187 0 201 (dk_at dksX5_wind_0 16 rfl rfl)
theorem dX5_wind_19 : decode cX5_wind 19 = .ok (.dup, 1) := dk_89 (dk_at dksX5_wind_0 19 rfl rfl)
theorem dX5_wind_20 : decode cX5_wind 20 = .ok (.invokespecial 203, 3) := dk_183 0 203 (dk_at dksX5_wind_0 20 rfl rfl)
theorem dX5_wind_23 : decode cX5_wind 23 = .ok (.astore_n 1, 1) := dk_76 (dk_at dksX5_wind_0 23 rfl rfl)
theorem dX5_wind_24 : decode cX5_wind 24 = .ok (.aload_n 0, 1) := dk_42 (dk_at dksX5_wind_1 0 rfl rfl)
theorem dX5_wind_25 : decode cX5_wind 25 = .ok (.getfield 76, 3) := dk_180 0 76 (dk_at dksX5_wind_1 1 rfl rfl)
theorem dX5_wind_28 : decode cX5_wind 28 = .ok (.iconst 2, 1) := dk_5 (dk_at dksX5_wind_1 4 rfl rfl)
theorem dX5_wind_29 : decode cX5_wind 29 = .ok (.if_icmp .ne 75, 3) := dk_160 0 75 (dk_at dksX5_wind_1 5 rfl rfl)
theorem dX5_wind_32 : decode cX5_wind 32 = .ok (.aload_n 0, 1) := dk_42 (dk_at dksX5_wind_1 8 rfl rfl)
theorem dX5_wind_33 : decode cX5_wind 33 = .ok (.aload_n 1, 1) := dk_43 (dk_at dksX5_wind_1 9 rfl rfl)
theorem dX5_wind_34 : decode cX5_wind 34 = .ok (.getfield 204, 3) := dk_180 0 204 (dk_at dksX5_wind_1 10 rfl rfl)
theorem dX5_wind_37 : decode cX5_wind 37 = .ok (.aload_n 0, 1) := dk_42 (dk_at dksX5_wind_1 13 rfl rfl)
theorem dX5_wind_38 : decode cX5_wind 38 = .ok (.getfield 114, 3) := dk_180 0 114 (dk_at dksX5_wind_1 14 rfl rfl)
theorem dX5_wind_41 : decode cX5_wind 41 = .ok (.invokevirtual 207, 3) := dk_182 0 207 (dk_at dksX5_wind_1 17 rfl rfl)
theorem dX5_wind_44 : decode cX5_wind 44 = .ok (.ifCond .ne 7, 3) := dk_154 0 7 (dk_at dksX5_wind_1 20 rfl rfl)
theorem dX5_wind_47 : decode cX5_wind 47 = .ok (.iconst 1, 1) := dk_4 (dk_at dksX5_wind_1 23 rfl rfl)
theorem dX5_wind_48 : decode cX5_wind 48 = .ok (.goto 4, 3) := dk_167 0 4 (dk_at dksX5_wind_2 0 rfl rfl)
theorem dX5_wind_51 : decode cX5_wind 51 = .ok (.iconst 0, 1) := dk_3 (dk_at dksX5_wind_2 3 rfl rfl)
theorem dX5_wind_52 : decode cX5_wind 52 = .ok (.iconst 2, 1) := dk_5 (dk_at dksX5_wind_2 4 rfl rfl)
theorem dX5_wind_53 : decode cX5_wind 53 = .ok (.invokevirtual 122, 3) := dk_182 0 122 (dk_at dksX5_wind_2 5 rfl rfl)
theorem dX5_wind_56 : decode cX5_wind 56 = .ok (.aload_n 0, 1) := dk_42 (dk_at dksX5_wind_2 8 rfl rfl)
theorem dX5_wind_57 : decode cX5_wind 57 = .ok (.iconst 0, 1) := dk_3 (dk_at dksX5_wind_2 9 rfl rfl)
theorem dX5_wind_58 : decode cX5_wind 58 = .ok (.aload_n 0, 1) := dk_42 (dk_at dksX5_wind_2 10 rfl rfl)
theorem dX5_wind_59 : decode cX5_wind 59 = .ok (.getfield 18, 3) := dk_180 0 18 (dk_at dksX5_wind_2 11 rfl rfl)
theorem dX5_wind_62 : decode cX5_wind 62 = .ok (.getfield 187, 3) := dk_180 0 187 (dk_at dksX5_wind_2 14 rfl rfl)
theorem dX5_wind_65 : decode cX5_wind 65 = .ok (.invokevirtual 180, 3) := dk_182 0 180 (dk_at dksX5_wind_2 17 rfl rfl)
theorem dX5_wind_68 : decode cX5_wind 68 = .ok (.iconst 1, 1) := dk_4 (dk_at dksX5_wind_2 20 rfl rfl)
theorem dX5_wind_69 : decode cX5_wind 69 = .ok (.isub, 1) := dk_100 (dk_at dksX5_wind_2 21 rfl rfl)
theorem dX5_wind_70 : decode cX5_wind 70 = .ok (.invokevirtual 132, 3) := dk_182 0 132 (dk_at dksX5_wind_3 0 rfl rfl)
theorem dX5_wind_73 : decode cX5_wind 73 = .ok (.istore_n 2, 1) := dk_61 (dk_at dksX5_wind_3 3 rfl rfl)
theorem dX5_wind_74 : decode cX5_wind 74 = .ok (.aload_n 1, 1) := dk_43 (dk_at dksX5_wind_3 4 rfl rfl)
theorem dX5_wind_75 : decode cX5_wind 75 = .ok (.getfield 204, 3) := dk_180 0 204 (dk_at dksX5_wind_3 5 rfl rfl)
theorem dX5_wind_78 : decode cX5_wind 78 = .ok (.getfield 210, 3) := dk_180 0 210 (dk_at dksX5_wind_3 8 rfl rfl)
theorem dX5_wind_81 : decode cX5_wind 81 = .ok (.new 213, 3) := dk_187 0 213 (dk_at dksX5_wind_3 11 rfl rfl)
theorem dX5_wind_84 : decode cX5_wind 84 = .ok (.dup, 1) := dk_89 (dk_at dksX5_wind_3 14 rfl rfl)
theorem dX5_wind_85 : decode cX5_wind 85 = .ok (.iload_n 2, 1) := dk_28 (dk_at dksX5_wind_3 15 rfl rfl)
theorem dX5_wind_86 : decode cX5_wind 86 = .ok (.aload_n 0, 1) := dk_42 (dk_at dksX5_wind_3 16 rfl rfl)
theorem dX5_wind_87 : decode cX5_wind 87 = .ok (.aload_n 1, 1) := dk_43 (dk_at dksX5_wind_3 17 rfl rfl)
theorem dX5_wind_88 : decode cX5_wind 88 = .ok (.getfield 204, 3) := dk_180 0 204 (dk_at dksX5_wind_3 18 rfl rfl)
theorem dX5_wind_91 : decode cX5_wind 91 = .ok (.invokevirtual 215, 3) := dk_182 0 215 (dk_at dksX5_wind_3 21 rfl rfl)
theorem dX5_wind_94 : decode cX5_wind 94 = .ok (.invokespecial 218, 3) := dk_183 0 218 (dk_at dksX5_wind_4 0 rfl rfl)
theorem dX5_wind_97 : decode cX5_wind 97 = .ok (.invokevirtual 198, 3) := dk_182 0 198 (dk_at dksX5_wind_4 3 rfl rfl)
theorem dX5_wind_100 : decode cX5_wind 100 = .ok (.pop, 1) := dk_87 (dk_at dksX5_wind_4 6 rfl rfl)
theorem dX5_wind_101 : decode cX5_wind 101 = .ok (.goto (-77), 3) := dk_167 255 179 (dk_at dksX5_wind_4 7 rfl rfl)
theorem dX5_wind_104 : decode cX5_wind 104 = .ok (.aload_n 0, 1) := dk_42 (dk_at dksX5_wind_4 10 rfl rfl)
theorem dX5_wind_105 : decode cX5_wind 105 = .ok (.getfield 18, 3) := dk_180 0 18 (dk_at dksX5_wind_4 11 rfl rfl)
theorem dX5_wind_108 : decode cX5_wind 108 = .ok (.getfield 176, 3) := dk_180 0 176 (dk_at dksX5_wind_4 14 rfl rfl)
theorem dX5_wind_111 : decode cX5_wind 111 = .ok (.aload_n 1, 1) := dk_43 (dk_at dksX5_wind_4 17 rfl rfl)
theorem dX5_wind_112 : decode cX5_wind 112 = .ok (.invokevirtual 198, 3) := dk_182 0 198 (dk_at dksX5_wind_4 18 rfl rfl)
theorem dX5_wind_115 : decode cX5_wind 115 = .ok (.pop, 1) := dk_87 (dk_at dksX5_wind_4 21 rfl rfl)
theorem dX5_wind_116 : decode cX5_wind 116 = .ok (.return_, 1) := dk_177 (dk_at dksX5_wind_4 22 rfl rfl)
abbrev cX5_weight : ByteArray := prog_9_method_8_code
def yX5_weight : MethodName := ⟨RX5, "weight", "(LBalloonMail$Choices;)I"⟩
def dkwX5_weight_0 : List UInt8 := [42, 4, 16, 10, 43, 182, 0, 126, 100, 182, 0, 132, 172]
abbrev dktX5_weight_0 : List UInt8 := dkwX5_weight_0 ++ []
theorem dksX5_weight_0 : cX5_weight.data.toList.drop 0 = dktX5_weight_0 := by decide +kernel
theorem dX5_weight_0 : decode cX5_weight 0 = .ok (.aload_n 0, 1) := dk_42 (dk_at dksX5_weight_0 0 rfl rfl)
theorem dX5_weight_1 : decode cX5_weight 1 = .ok (.iconst 1, 1) := dk_4 (dk_at dksX5_weight_0 1 rfl rfl)
theorem dX5_weight_2 : decode cX5_weight 2 = .ok (.bipush 10, 2) := dk_16 10 (dk_at dksX5_weight_0 2 rfl rfl)
theorem dX5_weight_4 : decode cX5_weight 4 = .ok (.aload_n 1, 1) := dk_43 (dk_at dksX5_weight_0 4 rfl rfl)
theorem dX5_weight_5 : decode cX5_weight 5 = .ok (.invokevirtual 126, 3) := dk_182 0 126 (dk_at dksX5_weight_0 5 rfl rfl)
theorem dX5_weight_8 : decode cX5_weight 8 = .ok (.isub, 1) := dk_100 (dk_at dksX5_weight_0 8 rfl rfl)
theorem dX5_weight_9 : decode cX5_weight 9 = .ok (.invokevirtual 132, 3) := dk_182 0 132 (dk_at dksX5_weight_0 9 rfl rfl)
theorem dX5_weight_12 : decode cX5_weight 12 = .ok (.ireturn, 1) := dk_172 (dk_at dksX5_weight_0 12 rfl rfl)
abbrev cX5_turn : ByteArray := prog_9_method_16_code
def yX5_turn : MethodName := ⟨RX5, "turn", "()V"⟩
def dkwX5_turn_5 : List UInt8 := [182, 0, 215, 183, 0, 218, 182, 0, 198, 87, 42, 180, 0, 18, 89, 180, 0, 219, 4, 96, 181, 0, 219, 177]
abbrev dktX5_turn_5 : List UInt8 := dkwX5_turn_5 ++ []
def dkwX5_turn_4 : List UInt8 := [180, 0, 176, 182, 0, 180, 4, 100, 182, 0, 132, 62, 44, 180, 0, 210, 187, 0, 213, 89, 29, 42, 44]
abbrev dktX5_turn_4 : List UInt8 := dkwX5_turn_4 ++ dktX5_turn_5
def dkwX5_turn_3 : List UInt8 := [180, 0, 114, 182, 0, 207, 154, 0, 7, 4, 167, 0, 4, 3, 5, 182, 0, 122, 42, 3, 42, 180, 0, 18]
abbrev dktX5_turn_3 : List UInt8 := dkwX5_turn_3 ++ dktX5_turn_4
def dkwX5_turn_2 : List UInt8 := [180, 0, 223, 77, 42, 42, 180, 0, 76, 5, 160, 0, 22, 42, 180, 0, 114, 27, 159, 0, 18, 44, 42]
abbrev dktX5_turn_2 : List UInt8 := dkwX5_turn_2 ++ dktX5_turn_3
def dkwX5_turn_1 : List UInt8 := [182, 0, 180, 4, 100, 182, 0, 132, 60, 42, 180, 0, 18, 180, 0, 176, 27, 182, 0, 222, 192, 0, 201]
abbrev dktX5_turn_1 : List UInt8 := dkwX5_turn_1 ++ dktX5_turn_2
def dkwX5_turn_0 : List UInt8 := [42, 42, 180, 0, 18, 180, 0, 219, 16, 30, 182, 0, 190, 42, 3, 42, 180, 0, 18, 180, 0, 176]
abbrev dktX5_turn_0 : List UInt8 := dkwX5_turn_0 ++ dktX5_turn_1
theorem dksX5_turn_0 : cX5_turn.data.toList.drop 0 = dktX5_turn_0 := by decide +kernel
theorem dksX5_turn_1 : cX5_turn.data.toList.drop 22 = dktX5_turn_1 := dk_seg dksX5_turn_0 22 rfl rfl
theorem dksX5_turn_2 : cX5_turn.data.toList.drop 45 = dktX5_turn_2 := dk_seg dksX5_turn_1 23 rfl rfl
theorem dksX5_turn_3 : cX5_turn.data.toList.drop 68 = dktX5_turn_3 := dk_seg dksX5_turn_2 23 rfl rfl
theorem dksX5_turn_4 : cX5_turn.data.toList.drop 92 = dktX5_turn_4 := dk_seg dksX5_turn_3 24 rfl rfl
theorem dksX5_turn_5 : cX5_turn.data.toList.drop 115 = dktX5_turn_5 := dk_seg dksX5_turn_4 23 rfl rfl
theorem dX5_turn_0 : decode cX5_turn 0 = .ok (.aload_n 0, 1) := dk_42 (dk_at dksX5_turn_0 0 rfl rfl)
theorem dX5_turn_1 : decode cX5_turn 1 = .ok (.aload_n 0, 1) := dk_42 (dk_at dksX5_turn_0 1 rfl rfl)
theorem dX5_turn_2 : decode cX5_turn 2 = .ok (.getfield 18, 3) := dk_180 0 18 (dk_at dksX5_turn_0 2 rfl rfl)
theorem dX5_turn_5 : decode cX5_turn 5 = .ok (.getfield 219, 3) := dk_180 0 219 (dk_at dksX5_turn_0 5 rfl rfl)
theorem dX5_turn_8 : decode cX5_turn 8 = .ok (.bipush 30, 2) := dk_16 30 (dk_at dksX5_turn_0 8 rfl rfl)
theorem dX5_turn_10 : decode cX5_turn 10 = .ok (.invokevirtual 190, 3) := dk_182 0 190 (dk_at dksX5_turn_0 10 rfl rfl)
theorem dX5_turn_13 : decode cX5_turn 13 = .ok (.aload_n 0, 1) := dk_42 (dk_at dksX5_turn_0 13 rfl rfl)
theorem dX5_turn_14 : decode cX5_turn 14 = .ok (.iconst 0, 1) := dk_3 (dk_at dksX5_turn_0 14 rfl rfl)
theorem dX5_turn_15 : decode cX5_turn 15 = .ok (.aload_n 0, 1) := dk_42 (dk_at dksX5_turn_0 15 rfl rfl)
theorem dX5_turn_16 : decode cX5_turn 16 = .ok (.getfield 18, 3) := dk_180 0 18 (dk_at dksX5_turn_0 16 rfl rfl)
theorem dX5_turn_19 : decode cX5_turn 19 = .ok (.getfield 176, 3) := dk_180 0 176 (dk_at dksX5_turn_0 19 rfl rfl)
theorem dX5_turn_22 : decode cX5_turn 22 = .ok (.invokevirtual 180, 3) := dk_182 0 180 (dk_at dksX5_turn_1 0 rfl rfl)
theorem dX5_turn_25 : decode cX5_turn 25 = .ok (.iconst 1, 1) := dk_4 (dk_at dksX5_turn_1 3 rfl rfl)
theorem dX5_turn_26 : decode cX5_turn 26 = .ok (.isub, 1) := dk_100 (dk_at dksX5_turn_1 4 rfl rfl)
theorem dX5_turn_27 : decode cX5_turn 27 = .ok (.invokevirtual 132, 3) := dk_182 0 132 (dk_at dksX5_turn_1 5 rfl rfl)
theorem dX5_turn_30 : decode cX5_turn 30 = .ok (.istore_n 1, 1) := dk_60 (dk_at dksX5_turn_1 8 rfl rfl)
theorem dX5_turn_31 : decode cX5_turn 31 = .ok (.aload_n 0, 1) := dk_42 (dk_at dksX5_turn_1 9 rfl rfl)
theorem dX5_turn_32 : decode cX5_turn 32 = .ok (.getfield 18, 3) := dk_180 0 18 (dk_at dksX5_turn_1 10 rfl rfl)
theorem dX5_turn_35 : decode cX5_turn 35 = .ok (.getfield 176, 3) := dk_180 0 176 (dk_at dksX5_turn_1 13 rfl rfl)
theorem dX5_turn_38 : decode cX5_turn 38 = .ok (.iload_n 1, 1) := dk_27 (dk_at dksX5_turn_1 16 rfl rfl)
theorem dX5_turn_39 : decode cX5_turn 39 = .ok (.invokevirtual 222, 3) := dk_182 0 222 (dk_at dksX5_turn_1 17 rfl rfl)
theorem dX5_turn_42 : decode cX5_turn 42 = .ok (.checkcast 201, 3) := dk_192 0 201 (dk_at dksX5_turn_1 20 rfl rfl)
theorem dX5_turn_45 : decode cX5_turn 45 = .ok (.getfield 223, 3) := dk_180 0 223 (dk_at dksX5_turn_2 0 rfl rfl)
theorem dX5_turn_48 : decode cX5_turn 48 = .ok (.astore_n 2, 1) := dk_77 (dk_at dksX5_turn_2 3 rfl rfl)
theorem dX5_turn_49 : decode cX5_turn 49 = .ok (.aload_n 0, 1) := dk_42 (dk_at dksX5_turn_2 4 rfl rfl)
theorem dX5_turn_50 : decode cX5_turn 50 = .ok (.aload_n 0, 1) := dk_42 (dk_at dksX5_turn_2 5 rfl rfl)
theorem dX5_turn_51 : decode cX5_turn 51 = .ok (.getfield 76, 3) := dk_180 0 76 (dk_at dksX5_turn_2 6 rfl rfl)
theorem dX5_turn_54 : decode cX5_turn 54 = .ok (.iconst 2, 1) := dk_5 (dk_at dksX5_turn_2 9 rfl rfl)
theorem dX5_turn_55 : decode cX5_turn 55 = .ok (.if_icmp .ne 22, 3) := dk_160 0 22 (dk_at dksX5_turn_2 10 rfl rfl)
theorem dX5_turn_58 : decode cX5_turn 58 = .ok (.aload_n 0, 1) := dk_42 (dk_at dksX5_turn_2 13 rfl rfl)
theorem dX5_turn_59 : decode cX5_turn 59 = .ok (.getfield 114, 3) := dk_180 0 114 (dk_at dksX5_turn_2 14 rfl rfl)
theorem dX5_turn_62 : decode cX5_turn 62 = .ok (.iload_n 1, 1) := dk_27 (dk_at dksX5_turn_2 17 rfl rfl)
theorem dX5_turn_63 : decode cX5_turn 63 = .ok (.if_icmp .eq 18, 3) := dk_159 0 18 (dk_at dksX5_turn_2 18 rfl rfl)
theorem dX5_turn_66 : decode cX5_turn 66 = .ok (.aload_n 2, 1) := dk_44 (dk_at dksX5_turn_2 21 rfl rfl)
theorem dX5_turn_67 : decode cX5_turn 67 = .ok (.aload_n 0, 1) := dk_42 (dk_at dksX5_turn_2 22 rfl rfl)
theorem dX5_turn_68 : decode cX5_turn 68 = .ok (.getfield 114, 3) := dk_180 0 114 (dk_at dksX5_turn_3 0 rfl rfl)
theorem dX5_turn_71 : decode cX5_turn 71 = .ok (.invokevirtual 207, 3) := dk_182 0 207 (dk_at dksX5_turn_3 3 rfl rfl)
theorem dX5_turn_74 : decode cX5_turn 74 = .ok (.ifCond .ne 7, 3) := dk_154 0 7 (dk_at dksX5_turn_3 6 rfl rfl)
theorem dX5_turn_77 : decode cX5_turn 77 = .ok (.iconst 1, 1) := dk_4 (dk_at dksX5_turn_3 9 rfl rfl)
theorem dX5_turn_78 : decode cX5_turn 78 = .ok (.goto 4, 3) := dk_167 0 4 (dk_at dksX5_turn_3 10 rfl rfl)
theorem dX5_turn_81 : decode cX5_turn 81 = .ok (.iconst 0, 1) := dk_3 (dk_at dksX5_turn_3 13 rfl rfl)
theorem dX5_turn_82 : decode cX5_turn 82 = .ok (.iconst 2, 1) := dk_5 (dk_at dksX5_turn_3 14 rfl rfl)
theorem dX5_turn_83 : decode cX5_turn 83 = .ok (.invokevirtual 122, 3) := dk_182 0 122 (dk_at dksX5_turn_3 15 rfl rfl)
theorem dX5_turn_86 : decode cX5_turn 86 = .ok (.aload_n 0, 1) := dk_42 (dk_at dksX5_turn_3 18 rfl rfl)
theorem dX5_turn_87 : decode cX5_turn 87 = .ok (.iconst 0, 1) := dk_3 (dk_at dksX5_turn_3 19 rfl rfl)
theorem dX5_turn_88 : decode cX5_turn 88 = .ok (.aload_n 0, 1) := dk_42 (dk_at dksX5_turn_3 20 rfl rfl)
theorem dX5_turn_89 : decode cX5_turn 89 = .ok (.getfield 18, 3) := dk_180 0 18 (dk_at dksX5_turn_3 21 rfl rfl)
theorem dX5_turn_92 : decode cX5_turn 92 = .ok (.getfield 176, 3) := dk_180 0 176 (dk_at dksX5_turn_4 0 rfl rfl)
theorem dX5_turn_95 : decode cX5_turn 95 = .ok (.invokevirtual 180, 3) := dk_182 0 180 (dk_at dksX5_turn_4 3 rfl rfl)
theorem dX5_turn_98 : decode cX5_turn 98 = .ok (.iconst 1, 1) := dk_4 (dk_at dksX5_turn_4 6 rfl rfl)
theorem dX5_turn_99 : decode cX5_turn 99 = .ok (.isub, 1) := dk_100 (dk_at dksX5_turn_4 7 rfl rfl)
theorem dX5_turn_100 : decode cX5_turn 100 = .ok (.invokevirtual 132, 3) := dk_182 0 132 (dk_at dksX5_turn_4 8 rfl rfl)
theorem dX5_turn_103 : decode cX5_turn 103 = .ok (.istore_n 3, 1) := dk_62 (dk_at dksX5_turn_4 11 rfl rfl)
theorem dX5_turn_104 : decode cX5_turn 104 = .ok (.aload_n 2, 1) := dk_44 (dk_at dksX5_turn_4 12 rfl rfl)
theorem dX5_turn_105 : decode cX5_turn 105 = .ok (.getfield 210, 3) := dk_180 0 210 (dk_at dksX5_turn_4 13 rfl rfl)
theorem dX5_turn_108 : decode cX5_turn 108 = .ok (.new 213, 3) := dk_187 0 213 (dk_at dksX5_turn_4 16 rfl rfl)
theorem dX5_turn_111 : decode cX5_turn 111 = .ok (.dup, 1) := dk_89 (dk_at dksX5_turn_4 19 rfl rfl)
theorem dX5_turn_112 : decode cX5_turn 112 = .ok (.iload_n 3, 1) := dk_29 (dk_at dksX5_turn_4 20 rfl rfl)
theorem dX5_turn_113 : decode cX5_turn 113 = .ok (.aload_n 0, 1) := dk_42 (dk_at dksX5_turn_4 21 rfl rfl)
theorem dX5_turn_114 : decode cX5_turn 114 = .ok (.aload_n 2, 1) := dk_44 (dk_at dksX5_turn_4 22 rfl rfl)
theorem dX5_turn_115 : decode cX5_turn 115 = .ok (.invokevirtual 215, 3) := dk_182 0 215 (dk_at dksX5_turn_5 0 rfl rfl)
theorem dX5_turn_118 : decode cX5_turn 118 = .ok (.invokespecial 218, 3) := dk_183 0 218 (dk_at dksX5_turn_5 3 rfl rfl)
theorem dX5_turn_121 : decode cX5_turn 121 = .ok (.invokevirtual 198, 3) := dk_182 0 198 (dk_at dksX5_turn_5 6 rfl rfl)
theorem dX5_turn_124 : decode cX5_turn 124 = .ok (.pop, 1) := dk_87 (dk_at dksX5_turn_5 9 rfl rfl)
theorem dX5_turn_125 : decode cX5_turn 125 = .ok (.aload_n 0, 1) := dk_42 (dk_at dksX5_turn_5 10 rfl rfl)
theorem dX5_turn_126 : decode cX5_turn 126 = .ok (.getfield 18, 3) := dk_180 0 18 (dk_at dksX5_turn_5 11 rfl rfl)
theorem dX5_turn_129 : decode cX5_turn 129 = .ok (.dup, 1) := dk_89 (dk_at dksX5_turn_5 14 rfl rfl)
theorem dX5_turn_130 : decode cX5_turn 130 = .ok (.getfield 219, 3) := dk_180 0 219 (dk_at dksX5_turn_5 15 rfl rfl)
theorem dX5_turn_133 : decode cX5_turn 133 = .ok (.iconst 1, 1) := dk_4 (dk_at dksX5_turn_5 18 rfl rfl)
theorem dX5_turn_134 : decode cX5_turn 134 = .ok (.iadd, 1) := dk_96 (dk_at dksX5_turn_5 19 rfl rfl)
theorem dX5_turn_135 : decode cX5_turn 135 = .ok (.putfield 219, 3) := dk_181 0 219 (dk_at dksX5_turn_5 20 rfl rfl)
theorem dX5_turn_138 : decode cX5_turn 138 = .ok (.return_, 1) := dk_177 (dk_at dksX5_turn_5 23 rfl rfl)
abbrev cX5_balloon : ByteArray := prog_9_method_17_code
def yX5_balloon : MethodName := ⟨RX5, "balloon", "()V"⟩
def dkwX5_balloon_2 : List UInt8 := [182, 0, 198, 87, 177]
abbrev dktX5_balloon_2 : List UInt8 := dkwX5_balloon_2 ++ []
def dkwX5_balloon_1 : List UInt8 := [60, 42, 180, 0, 18, 180, 0, 225, 187, 0, 228, 89, 27, 42, 3, 7, 182, 0, 132, 183, 0, 230]
abbrev dktX5_balloon_1 : List UInt8 := dkwX5_balloon_1 ++ dktX5_balloon_2
def dkwX5_balloon_0 : List UInt8 := [42, 42, 180, 0, 18, 180, 0, 225, 182, 0, 180, 16, 10, 182, 0, 190, 42, 4, 17, 3, 231, 182, 0, 132]
abbrev dktX5_balloon_0 : List UInt8 := dkwX5_balloon_0 ++ dktX5_balloon_1
theorem dksX5_balloon_0 : cX5_balloon.data.toList.drop 0 = dktX5_balloon_0 := by decide +kernel
theorem dksX5_balloon_1 : cX5_balloon.data.toList.drop 24 = dktX5_balloon_1 := dk_seg dksX5_balloon_0 24 rfl rfl
theorem dksX5_balloon_2 : cX5_balloon.data.toList.drop 46 = dktX5_balloon_2 := dk_seg dksX5_balloon_1 22 rfl rfl
theorem dX5_balloon_0 : decode cX5_balloon 0 = .ok (.aload_n 0, 1) := dk_42 (dk_at dksX5_balloon_0 0 rfl rfl)
theorem dX5_balloon_1 : decode cX5_balloon 1 = .ok (.aload_n 0, 1) := dk_42 (dk_at dksX5_balloon_0 1 rfl rfl)
theorem dX5_balloon_2 : decode cX5_balloon 2 = .ok (.getfield 18, 3) := dk_180 0 18 (dk_at dksX5_balloon_0 2 rfl rfl)
theorem dX5_balloon_5 : decode cX5_balloon 5 = .ok (.getfield 225, 3) := dk_180 0 225 (dk_at dksX5_balloon_0 5 rfl rfl)
theorem dX5_balloon_8 : decode cX5_balloon 8 = .ok (.invokevirtual 180, 3) := dk_182 0 180 (dk_at dksX5_balloon_0 8 rfl rfl)
theorem dX5_balloon_11 : decode cX5_balloon 11 = .ok (.bipush 10, 2) := dk_16 10 (dk_at dksX5_balloon_0 11 rfl rfl)
theorem dX5_balloon_13 : decode cX5_balloon 13 = .ok (.invokevirtual 190, 3) := dk_182 0 190 (dk_at dksX5_balloon_0 13 rfl rfl)
theorem dX5_balloon_16 : decode cX5_balloon 16 = .ok (.aload_n 0, 1) := dk_42 (dk_at dksX5_balloon_0 16 rfl rfl)
theorem dX5_balloon_17 : decode cX5_balloon 17 = .ok (.iconst 1, 1) := dk_4 (dk_at dksX5_balloon_0 17 rfl rfl)
theorem dX5_balloon_18 : decode cX5_balloon 18 = .ok (.sipush 999, 3) := dk_17 3 231 (dk_at dksX5_balloon_0 18 rfl rfl)
theorem dX5_balloon_21 : decode cX5_balloon 21 = .ok (.invokevirtual 132, 3) := dk_182 0 132 (dk_at dksX5_balloon_0 21 rfl rfl)
theorem dX5_balloon_24 : decode cX5_balloon 24 = .ok (.istore_n 1, 1) := dk_60 (dk_at dksX5_balloon_1 0 rfl rfl)
theorem dX5_balloon_25 : decode cX5_balloon 25 = .ok (.aload_n 0, 1) := dk_42 (dk_at dksX5_balloon_1 1 rfl rfl)
theorem dX5_balloon_26 : decode cX5_balloon 26 = .ok (.getfield 18, 3) := dk_180 0 18 (dk_at dksX5_balloon_1 2 rfl rfl)
theorem dX5_balloon_29 : decode cX5_balloon 29 = .ok (.getfield 225, 3) := dk_180 0 225 (dk_at dksX5_balloon_1 5 rfl rfl)
theorem dX5_balloon_32 : decode cX5_balloon 32 = .ok (.new 228, 3) := dk_187 0 228 (dk_at dksX5_balloon_1 8 rfl rfl)
theorem dX5_balloon_35 : decode cX5_balloon 35 = .ok (.dup, 1) := dk_89 (dk_at dksX5_balloon_1 11 rfl rfl)
theorem dX5_balloon_36 : decode cX5_balloon 36 = .ok (.iload_n 1, 1) := dk_27 (dk_at dksX5_balloon_1 12 rfl rfl)
theorem dX5_balloon_37 : decode cX5_balloon 37 = .ok (.aload_n 0, 1) := dk_42 (dk_at dksX5_balloon_1 13 rfl rfl)
theorem dX5_balloon_38 : decode cX5_balloon 38 = .ok (.iconst 0, 1) := dk_3 (dk_at dksX5_balloon_1 14 rfl rfl)
theorem dX5_balloon_39 : decode cX5_balloon 39 = .ok (.iconst 4, 1) := dk_7 (dk_at dksX5_balloon_1 15 rfl rfl)
theorem dX5_balloon_40 : decode cX5_balloon 40 = .ok (.invokevirtual 132, 3) := dk_182 0 132 (dk_at dksX5_balloon_1 16 rfl rfl)
theorem dX5_balloon_43 : decode cX5_balloon 43 = .ok (.invokespecial 230, 3) := dk_183 0 230 (dk_at dksX5_balloon_1 19 rfl rfl)
theorem dX5_balloon_46 : decode cX5_balloon 46 = .ok (.invokevirtual 198, 3) := dk_182 0 198 (dk_at dksX5_balloon_2 0 rfl rfl)
theorem dX5_balloon_49 : decode cX5_balloon 49 = .ok (.pop, 1) := dk_87 (dk_at dksX5_balloon_2 3 rfl rfl)
theorem dX5_balloon_50 : decode cX5_balloon 50 = .ok (.return_, 1) := dk_177 (dk_at dksX5_balloon_2 4 rfl rfl)
abbrev cX5_letter : ByteArray := prog_9_method_18_code
def yX5_letter : MethodName := ⟨RX5, "letter", "()V"⟩
def dkwX5_letter_2 : List UInt8 := [182, 0, 198, 87, 177]
abbrev dktX5_letter_2 : List UInt8 := dkwX5_letter_2 ++ []
def dkwX5_letter_1 : List UInt8 := [42, 180, 0, 18, 180, 0, 231, 187, 0, 234, 89, 27, 42, 4, 16, 9, 182, 0, 132, 183, 0, 236]
abbrev dktX5_letter_1 : List UInt8 := dkwX5_letter_1 ++ dktX5_letter_2
def dkwX5_letter_0 : List UInt8 := [42, 42, 180, 0, 18, 180, 0, 231, 182, 0, 180, 16, 24, 182, 0, 190, 42, 4, 16, 99, 182, 0, 132, 60]
abbrev dktX5_letter_0 : List UInt8 := dkwX5_letter_0 ++ dktX5_letter_1
theorem dksX5_letter_0 : cX5_letter.data.toList.drop 0 = dktX5_letter_0 := by decide +kernel
theorem dksX5_letter_1 : cX5_letter.data.toList.drop 24 = dktX5_letter_1 := dk_seg dksX5_letter_0 24 rfl rfl
theorem dksX5_letter_2 : cX5_letter.data.toList.drop 46 = dktX5_letter_2 := dk_seg dksX5_letter_1 22 rfl rfl
theorem dX5_letter_0 : decode cX5_letter 0 = .ok (.aload_n 0, 1) := dk_42 (dk_at dksX5_letter_0 0 rfl rfl)
theorem dX5_letter_1 : decode cX5_letter 1 = .ok (.aload_n 0, 1) := dk_42 (dk_at dksX5_letter_0 1 rfl rfl)
theorem dX5_letter_2 : decode cX5_letter 2 = .ok (.getfield 18, 3) := dk_180 0 18 (dk_at dksX5_letter_0 2 rfl rfl)
theorem dX5_letter_5 : decode cX5_letter 5 = .ok (.getfield 231, 3) := dk_180 0 231 (dk_at dksX5_letter_0 5 rfl rfl)
theorem dX5_letter_8 : decode cX5_letter 8 = .ok (.invokevirtual 180, 3) := dk_182 0 180 (dk_at dksX5_letter_0 8 rfl rfl)
theorem dX5_letter_11 : decode cX5_letter 11 = .ok (.bipush 24, 2) := dk_16 24 (dk_at dksX5_letter_0 11 rfl rfl)
theorem dX5_letter_13 : decode cX5_letter 13 = .ok (.invokevirtual 190, 3) := dk_182 0 190 (dk_at dksX5_letter_0 13 rfl rfl)
theorem dX5_letter_16 : decode cX5_letter 16 = .ok (.aload_n 0, 1) := dk_42 (dk_at dksX5_letter_0 16 rfl rfl)
theorem dX5_letter_17 : decode cX5_letter 17 = .ok (.iconst 1, 1) := dk_4 (dk_at dksX5_letter_0 17 rfl rfl)
theorem dX5_letter_18 : decode cX5_letter 18 = .ok (.bipush 99, 2) := dk_16 99 (dk_at dksX5_letter_0 18 rfl rfl)
theorem dX5_letter_20 : decode cX5_letter 20 = .ok (.invokevirtual 132, 3) := dk_182 0 132 (dk_at dksX5_letter_0 20 rfl rfl)
theorem dX5_letter_23 : decode cX5_letter 23 = .ok (.istore_n 1, 1) := dk_60 (dk_at dksX5_letter_0 23 rfl rfl)
theorem dX5_letter_24 : decode cX5_letter 24 = .ok (.aload_n 0, 1) := dk_42 (dk_at dksX5_letter_1 0 rfl rfl)
theorem dX5_letter_25 : decode cX5_letter 25 = .ok (.getfield 18, 3) := dk_180 0 18 (dk_at dksX5_letter_1 1 rfl rfl)
theorem dX5_letter_28 : decode cX5_letter 28 = .ok (.getfield 231, 3) := dk_180 0 231 (dk_at dksX5_letter_1 4 rfl rfl)
theorem dX5_letter_31 : decode cX5_letter 31 = .ok (.new 234, 3) := dk_187 0 234 (dk_at dksX5_letter_1 7 rfl rfl)
theorem dX5_letter_34 : decode cX5_letter 34 = .ok (.dup, 1) := dk_89 (dk_at dksX5_letter_1 10 rfl rfl)
theorem dX5_letter_35 : decode cX5_letter 35 = .ok (.iload_n 1, 1) := dk_27 (dk_at dksX5_letter_1 11 rfl rfl)
theorem dX5_letter_36 : decode cX5_letter 36 = .ok (.aload_n 0, 1) := dk_42 (dk_at dksX5_letter_1 12 rfl rfl)
theorem dX5_letter_37 : decode cX5_letter 37 = .ok (.iconst 1, 1) := dk_4 (dk_at dksX5_letter_1 13 rfl rfl)
theorem dX5_letter_38 : decode cX5_letter 38 = .ok (.bipush 9, 2) := dk_16 9 (dk_at dksX5_letter_1 14 rfl rfl)
theorem dX5_letter_40 : decode cX5_letter 40 = .ok (.invokevirtual 132, 3) := dk_182 0 132 (dk_at dksX5_letter_1 16 rfl rfl)
theorem dX5_letter_43 : decode cX5_letter 43 = .ok (.invokespecial 236, 3) := dk_183 0 236 (dk_at dksX5_letter_1 19 rfl rfl)
theorem dX5_letter_46 : decode cX5_letter 46 = .ok (.invokevirtual 198, 3) := dk_182 0 198 (dk_at dksX5_letter_2 0 rfl rfl)
theorem dX5_letter_49 : decode cX5_letter 49 = .ok (.pop, 1) := dk_87 (dk_at dksX5_letter_2 3 rfl rfl)
theorem dX5_letter_50 : decode cX5_letter 50 = .ok (.return_, 1) := dk_177 (dk_at dksX5_letter_2 4 rfl rfl)
abbrev cX5_once : ByteArray := prog_9_method_11_code
def yX5_once : MethodName := ⟨RX5, "once", "(I)V"⟩
def dkwX5_once_1 : List UInt8 := [180, 0, 25, 27, 182, 0, 143, 42, 182, 0, 59, 177]
abbrev dktX5_once_1 : List UInt8 := dkwX5_once_1 ++ []
def dkwX5_once_0 : List UInt8 := [42, 42, 180, 0, 25, 27, 182, 0, 139, 154, 0, 7, 4, 167, 0, 4, 3, 5, 182, 0, 122, 42]
abbrev dktX5_once_0 : List UInt8 := dkwX5_once_0 ++ dktX5_once_1
theorem dksX5_once_0 : cX5_once.data.toList.drop 0 = dktX5_once_0 := by decide +kernel
theorem dksX5_once_1 : cX5_once.data.toList.drop 22 = dktX5_once_1 := dk_seg dksX5_once_0 22 rfl rfl
theorem dX5_once_0 : decode cX5_once 0 = .ok (.aload_n 0, 1) := dk_42 (dk_at dksX5_once_0 0 rfl rfl)
theorem dX5_once_1 : decode cX5_once 1 = .ok (.aload_n 0, 1) := dk_42 (dk_at dksX5_once_0 1 rfl rfl)
theorem dX5_once_2 : decode cX5_once 2 = .ok (.getfield 25, 3) := dk_180 0 25 (dk_at dksX5_once_0 2 rfl rfl)
theorem dX5_once_5 : decode cX5_once 5 = .ok (.iload_n 1, 1) := dk_27 (dk_at dksX5_once_0 5 rfl rfl)
theorem dX5_once_6 : decode cX5_once 6 = .ok (.invokevirtual 139, 3) := dk_182 0 139 (dk_at dksX5_once_0 6 rfl rfl)
theorem dX5_once_9 : decode cX5_once 9 = .ok (.ifCond .ne 7, 3) := dk_154 0 7 (dk_at dksX5_once_0 9 rfl rfl)
theorem dX5_once_12 : decode cX5_once 12 = .ok (.iconst 1, 1) := dk_4 (dk_at dksX5_once_0 12 rfl rfl)
theorem dX5_once_13 : decode cX5_once 13 = .ok (.goto 4, 3) := dk_167 0 4 (dk_at dksX5_once_0 13 rfl rfl)
theorem dX5_once_16 : decode cX5_once 16 = .ok (.iconst 0, 1) := dk_3 (dk_at dksX5_once_0 16 rfl rfl)
theorem dX5_once_17 : decode cX5_once 17 = .ok (.iconst 2, 1) := dk_5 (dk_at dksX5_once_0 17 rfl rfl)
theorem dX5_once_18 : decode cX5_once 18 = .ok (.invokevirtual 122, 3) := dk_182 0 122 (dk_at dksX5_once_0 18 rfl rfl)
theorem dX5_once_21 : decode cX5_once 21 = .ok (.aload_n 0, 1) := dk_42 (dk_at dksX5_once_0 21 rfl rfl)
theorem dX5_once_22 : decode cX5_once 22 = .ok (.getfield 25, 3) := dk_180 0 25 (dk_at dksX5_once_1 0 rfl rfl)
theorem dX5_once_25 : decode cX5_once 25 = .ok (.iload_n 1, 1) := dk_27 (dk_at dksX5_once_1 3 rfl rfl)
theorem dX5_once_26 : decode cX5_once 26 = .ok (.invokevirtual 143, 3) := dk_182 0 143 (dk_at dksX5_once_1 4 rfl rfl)
theorem dX5_once_29 : decode cX5_once 29 = .ok (.aload_n 0, 1) := dk_42 (dk_at dksX5_once_1 7 rfl rfl)
theorem dX5_once_30 : decode cX5_once 30 = .ok (.invokevirtual 59, 3) := dk_182 0 59 (dk_at dksX5_once_1 8 rfl rfl)
theorem dX5_once_33 : decode cX5_once 33 = .ok (.return_, 1) := dk_177 (dk_at dksX5_once_1 11 rfl rfl)
theorem q107 : (Jvm.Cond.initialized "BalloonMail$Parser") ∈ lw_all := lw_g (lw_at lw_m1 12 rfl) rfl
theorem q204 : (Jvm.Cond.fieldLinkNest "BalloonMail$Parser" (187 : Nat) "BalloonMail$Siege" "regions" "Ljava/util/ArrayList;" "BalloonMail") ∈ lw_tbl := lw_at lw_m1 109 rfl
theorem q207 : (Jvm.Cond.fieldLinkNest "BalloonMail$Parser" (176 : Nat) "BalloonMail$Siege" "winds" "Ljava/util/ArrayList;" "BalloonMail") ∈ lw_tbl := lw_at lw_m1 112 rfl
theorem q210 : (Jvm.Cond.fieldLinkNest "BalloonMail$Parser" (225 : Nat) "BalloonMail$Siege" "balloons" "Ljava/util/ArrayList;" "BalloonMail") ∈ lw_tbl := lw_at lw_m1 115 rfl
theorem q213 : (Jvm.Cond.fieldLinkNest "BalloonMail$Parser" (231 : Nat) "BalloonMail$Siege" "letters" "Ljava/util/ArrayList;" "BalloonMail") ∈ lw_tbl := lw_at lw_m1 118 rfl
theorem q214 : (Jvm.Cond.fieldLinkNest "BalloonMail$Parser" (219 : Nat) "BalloonMail$Siege" "turns" "I" "BalloonMail") ∈ lw_tbl := lw_at lw_m1 119 rfl
theorem q217 : (Jvm.Cond.fieldLinkNest "BalloonMail$Parser" (174 : Nat) "BalloonMail$Siege" "loft" "I" "BalloonMail") ∈ lw_tbl := lw_at lw_m1 122 rfl
theorem q219 : (Jvm.Cond.fieldLinkNest "BalloonMail$Parser" (183 : Nat) "BalloonMail$Siege" "start" "I" "BalloonMail") ∈ lw_tbl := lw_at lw_m1 124 rfl
theorem q222 : (Jvm.Cond.fieldLinkNest "BalloonMail$Parser" (185 : Nat) "BalloonMail$Siege" "seed" "I" "BalloonMail") ∈ lw_tbl := lw_at lw_m1 127 rfl
theorem q364 : (Jvm.Cond.fieldLinkNest "BalloonMail$Parser" (62 : Nat) "BalloonMail" "buffer" "[B" "BalloonMail") ∈ lw_tbl := lw_at lw_m2 29 rfl
theorem q419 : (Jvm.Cond.instantiable "BalloonMail$Parser" (10 : Nat)) ∈ lw_all := lw_g (lw_at lw_m2 84 rfl) rfl
theorem q421 : (Jvm.Cond.instanceMethod ({ cls := "BalloonMail$Parser", name := "<init>", desc := "(LBalloonMail;I)V" } : Jvm.MethodName)) ∈ lw_all := lw_g (lw_at lw_m2 86 rfl) rfl
theorem q422 : (Jvm.Cond.code ({ cls := "BalloonMail$Parser", name := "<init>", desc := "(LBalloonMail;I)V" } : Jvm.MethodName) prog_9_method_1_code (3 : Nat) (Option.none : Option Jvm.ClassFile.FieldType)) ∈ lw_all := lw_g (lw_at lw_m2 87 rfl) rfl
theorem q423 : (Jvm.Cond.methodLink "BalloonMail$Parser" (9 : Nat) ({ cls := "java/lang/Object", name := "<init>", desc := "()V" } : Jvm.MethodName)) ∈ lw_all := lw_g (lw_at lw_m2 88 rfl) rfl
theorem q424 : (Jvm.Cond.classLink "BalloonMail$Parser" (15 : Nat) "BalloonMail$Siege") ∈ lw_all := lw_g (lw_at lw_m2 89 rfl) rfl
theorem q425 : (Jvm.Cond.methodLinkNest "BalloonMail$Parser" (17 : Nat) ({ cls := "BalloonMail$Siege", name := "<init>", desc := "()V" } : Jvm.MethodName) "BalloonMail") ∈ lw_tbl := lw_at lw_m2 90 rfl
theorem q426 : (Jvm.Cond.classLink "BalloonMail$Parser" (22 : Nat) "java/util/BitSet") ∈ lw_all := lw_g (lw_at lw_m2 91 rfl) rfl
theorem q427 : (Jvm.Cond.methodLink "BalloonMail$Parser" (24 : Nat) ({ cls := "java/util/BitSet", name := "<init>", desc := "()V" } : Jvm.MethodName)) ∈ lw_all := lw_g (lw_at lw_m2 92 rfl) rfl
theorem q428 : (Jvm.Cond.stringRef "BalloonMail$Parser" (29 : Nat) "region") ∈ lw_tbl := lw_at lw_m2 93 rfl
theorem q429 : (Jvm.Cond.stringRef "BalloonMail$Parser" (31 : Nat) "wind") ∈ lw_tbl := lw_at lw_m2 94 rfl
theorem q430 : (Jvm.Cond.stringRef "BalloonMail$Parser" (33 : Nat) "turn") ∈ lw_tbl := lw_at lw_m2 95 rfl
theorem q431 : (Jvm.Cond.stringRef "BalloonMail$Parser" (35 : Nat) "balloon") ∈ lw_tbl := lw_at lw_m2 96 rfl
theorem q432 : (Jvm.Cond.stringRef "BalloonMail$Parser" (37 : Nat) "letter") ∈ lw_tbl := lw_at lw_m2 97 rfl
theorem q433 : (Jvm.Cond.stringRef "BalloonMail$Parser" (39 : Nat) "loft") ∈ lw_tbl := lw_at lw_m2 98 rfl
theorem q434 : (Jvm.Cond.stringRef "BalloonMail$Parser" (41 : Nat) "start") ∈ lw_tbl := lw_at lw_m2 99 rfl
theorem q435 : (Jvm.Cond.stringRef "BalloonMail$Parser" (43 : Nat) "seed") ∈ lw_tbl := lw_at lw_m2 100 rfl
theorem q436 : (Jvm.Cond.methodLink "BalloonMail$Parser" (45 : Nat) ({ cls := "java/util/List", name := "of", desc := "(Ljava/lang/Object;Ljava/lang/Object;Ljava/lang/Object;Ljava/lang/Object;Ljava/lang/Object;Ljava/lang/Object;Ljava/lang/Object;Ljava/lang/Object;)Ljava/util/List;" } : Jvm.MethodName)) ∈ lw_all := lw_g (lw_at lw_m2 101 rfl) rfl
theorem q455 : (Jvm.Cond.selects "BalloonMail$Parser" ({ cls := "java/lang/Object", name := "getClass", desc := "()Ljava/lang/Class;" } : Jvm.MethodName) ({ cls := "java/lang/Object", name := "getClass", desc := "()Ljava/lang/Class;" } : Jvm.MethodName)) ∈ lw_all := lw_g (lw_at lw_m2 120 rfl) rfl
theorem q525 : (Jvm.Cond.methodLink "BalloonMail$Parser" (59 : Nat) ({ cls := "BalloonMail$Parser", name := "advance", desc := "()V" } : Jvm.MethodName)) ∈ lw_all := lw_g (lw_at lw_m2 190 rfl) rfl
theorem q526 : (Jvm.Cond.privateMethod ({ cls := "BalloonMail$Parser", name := "advance", desc := "()V" } : Jvm.MethodName)) ∈ lw_tbl := lw_at lw_m2 191 rfl
theorem q527 : (Jvm.Cond.instanceMethod ({ cls := "BalloonMail$Parser", name := "advance", desc := "()V" } : Jvm.MethodName)) ∈ lw_all := lw_g (lw_at lw_m2 192 rfl) rfl
theorem q528 : (Jvm.Cond.code ({ cls := "BalloonMail$Parser", name := "advance", desc := "()V" } : Jvm.MethodName) prog_9_method_3_code (2 : Nat) (Option.none : Option Jvm.ClassFile.FieldType)) ∈ lw_all := lw_g (lw_at lw_m2 193 rfl) rfl
theorem q529 : (Jvm.Cond.methodLink "BalloonMail$Parser" (72 : Nat) ({ cls := "BalloonMail$Parser", name := "byteAt", desc := "(I)I" } : Jvm.MethodName)) ∈ lw_all := lw_g (lw_at lw_m2 194 rfl) rfl
theorem q530 : (Jvm.Cond.privateMethod ({ cls := "BalloonMail$Parser", name := "byteAt", desc := "(I)I" } : Jvm.MethodName)) ∈ lw_tbl := lw_at lw_m2 195 rfl
theorem q531 : (Jvm.Cond.instanceMethod ({ cls := "BalloonMail$Parser", name := "byteAt", desc := "(I)I" } : Jvm.MethodName)) ∈ lw_all := lw_g (lw_at lw_m2 196 rfl) rfl
theorem q532 : (Jvm.Cond.code ({ cls := "BalloonMail$Parser", name := "byteAt", desc := "(I)I" } : Jvm.MethodName) prog_9_method_2_code (2 : Nat) (Option.some Jvm.ClassFile.FieldType.int)) ∈ lw_all := lw_g (lw_at lw_m2 197 rfl) rfl
theorem q533 : (Jvm.Cond.constantLong "BalloonMail$Parser" (79 : Nat) (97 : Int64)) ∈ lw_all := lw_g (lw_at lw_m2 198 rfl) rfl
theorem q534 : (Jvm.Cond.constantLong "BalloonMail$Parser" (81 : Nat) (122 : Int64)) ∈ lw_all := lw_g (lw_at lw_m2 199 rfl) rfl
theorem q535 : (Jvm.Cond.methodLinkNest "BalloonMail$Parser" (83 : Nat) ({ cls := "BalloonMail", name := "inRange", desc := "(JJJ)Z" } : Jvm.MethodName) "BalloonMail") ∈ lw_tbl := lw_at lw_m2 200 rfl
theorem q536 : (Jvm.Cond.methodLink "BalloonMail$Parser" (87 : Nat) ({ cls := "BalloonMail$Parser", name := "readWord", desc := "()V" } : Jvm.MethodName)) ∈ lw_all := lw_g (lw_at lw_m2 201 rfl) rfl
theorem q537 : (Jvm.Cond.privateMethod ({ cls := "BalloonMail$Parser", name := "readWord", desc := "()V" } : Jvm.MethodName)) ∈ lw_tbl := lw_at lw_m2 202 rfl
theorem q538 : (Jvm.Cond.instanceMethod ({ cls := "BalloonMail$Parser", name := "readWord", desc := "()V" } : Jvm.MethodName)) ∈ lw_all := lw_g (lw_at lw_m2 203 rfl) rfl
theorem q539 : (Jvm.Cond.code ({ cls := "BalloonMail$Parser", name := "readWord", desc := "()V" } : Jvm.MethodName) prog_9_method_4_code (2 : Nat) (Option.none : Option Jvm.ClassFile.FieldType)) ∈ lw_all := lw_g (lw_at lw_m2 204 rfl) rfl
theorem q540 : (Jvm.Cond.classLink "BalloonMail$Parser" (97 : Nat) "java/lang/StringBuilder") ∈ lw_all := lw_g (lw_at lw_m2 205 rfl) rfl
theorem q542 : (Jvm.Cond.methodLink "BalloonMail$Parser" (99 : Nat) ({ cls := "java/lang/StringBuilder", name := "<init>", desc := "(I)V" } : Jvm.MethodName)) ∈ lw_all := lw_g (lw_at lw_m2 207 rfl) rfl
theorem q571 : (Jvm.Cond.methodLink "BalloonMail$Parser" (102 : Nat) ({ cls := "java/lang/StringBuilder", name := "append", desc := "(C)Ljava/lang/StringBuilder;" } : Jvm.MethodName)) ∈ lw_all := lw_g (lw_at lw_m2 236 rfl) rfl
theorem q666 : (Jvm.Cond.methodLink "BalloonMail$Parser" (106 : Nat) ({ cls := "java/lang/StringBuilder", name := "toString", desc := "()Ljava/lang/String;" } : Jvm.MethodName)) ∈ lw_all := lw_g (lw_at lw_m3 91 rfl) rfl
theorem q727 : (Jvm.Cond.constantLong "BalloonMail$Parser" (90 : Nat) (48 : Int64)) ∈ lw_all := lw_g (lw_at lw_m3 152 rfl) rfl
theorem q728 : (Jvm.Cond.constantLong "BalloonMail$Parser" (92 : Nat) (57 : Int64)) ∈ lw_all := lw_g (lw_at lw_m3 153 rfl) rfl
theorem q729 : (Jvm.Cond.methodLink "BalloonMail$Parser" (94 : Nat) ({ cls := "BalloonMail$Parser", name := "readNumber", desc := "()V" } : Jvm.MethodName)) ∈ lw_all := lw_g (lw_at lw_m3 154 rfl) rfl
theorem q730 : (Jvm.Cond.privateMethod ({ cls := "BalloonMail$Parser", name := "readNumber", desc := "()V" } : Jvm.MethodName)) ∈ lw_tbl := lw_at lw_m3 155 rfl
theorem q731 : (Jvm.Cond.instanceMethod ({ cls := "BalloonMail$Parser", name := "readNumber", desc := "()V" } : Jvm.MethodName)) ∈ lw_all := lw_g (lw_at lw_m3 156 rfl) rfl
theorem q732 : (Jvm.Cond.code ({ cls := "BalloonMail$Parser", name := "readNumber", desc := "()V" } : Jvm.MethodName) prog_9_method_5_code (1 : Nat) (Option.none : Option Jvm.ClassFile.FieldType)) ∈ lw_all := lw_g (lw_at lw_m3 157 rfl) rfl
theorem q733 : (Jvm.Cond.fieldLink "BalloonMail$Parser" (55 : Nat) "BalloonMail$Parser" "length" "I") ∈ lw_all := lw_g (lw_at lw_m3 158 rfl) rfl
theorem q734 : (Jvm.Cond.fieldLink "BalloonMail$Parser" (18 : Nat) "BalloonMail$Parser" "s" "LBalloonMail$Siege;") ∈ lw_all := lw_g (lw_at lw_m3 159 rfl) rfl
theorem q735 : (Jvm.Cond.fieldLink "BalloonMail$Parser" (25 : Nat) "BalloonMail$Parser" "known" "Ljava/util/BitSet;") ∈ lw_all := lw_g (lw_at lw_m3 160 rfl) rfl
theorem q736 : (Jvm.Cond.fieldLink "BalloonMail$Parser" (76 : Nat) "BalloonMail$Parser" "kind" "I") ∈ lw_all := lw_g (lw_at lw_m3 161 rfl) rfl
theorem q737 : (Jvm.Cond.fieldLink "BalloonMail$Parser" (69 : Nat) "BalloonMail$Parser" "position" "I") ∈ lw_all := lw_g (lw_at lw_m3 162 rfl) rfl
theorem q738 : (Jvm.Cond.fieldLink "BalloonMail$Parser" (66 : Nat) "BalloonMail$Parser" "next" "I") ∈ lw_all := lw_g (lw_at lw_m3 163 rfl) rfl
theorem q739 : (Jvm.Cond.fieldLink "BalloonMail$Parser" (114 : Nat) "BalloonMail$Parser" "value" "I") ∈ lw_all := lw_g (lw_at lw_m3 164 rfl) rfl
theorem q740 : (Jvm.Cond.fieldLink "BalloonMail$Parser" (110 : Nat) "BalloonMail$Parser" "word" "Ljava/lang/String;") ∈ lw_all := lw_g (lw_at lw_m3 165 rfl) rfl
theorem q741 : (Jvm.Cond.fieldLink "BalloonMail$Parser" (51 : Nat) "BalloonMail$Parser" "keywords" "Ljava/util/List;") ∈ lw_all := lw_g (lw_at lw_m3 166 rfl) rfl
theorem q742 : (Jvm.Cond.fieldLink "BalloonMail$Parser" (3 : Nat) "BalloonMail$Parser" "this$0" "LBalloonMail;") ∈ lw_all := lw_g (lw_at lw_m3 167 rfl) rfl
theorem q743 : (Jvm.Cond.laysFinal "BalloonMail$Parser" "BalloonMail$Parser" "length" "I") ∈ lw_all := lw_g (lw_at lw_m3 168 rfl) rfl
theorem q744 : (Jvm.Cond.soleField "BalloonMail$Parser" "length") ∈ lw_all := lw_g (lw_at lw_m3 169 rfl) rfl
theorem q745 : (Jvm.Cond.laysFinal "BalloonMail$Parser" "BalloonMail$Parser" "s" "LBalloonMail$Siege;") ∈ lw_all := lw_g (lw_at lw_m3 170 rfl) rfl
theorem q746 : (Jvm.Cond.soleField "BalloonMail$Parser" "s") ∈ lw_all := lw_g (lw_at lw_m3 171 rfl) rfl
theorem q747 : (Jvm.Cond.laysFinal "BalloonMail$Parser" "BalloonMail$Parser" "known" "Ljava/util/BitSet;") ∈ lw_all := lw_g (lw_at lw_m3 172 rfl) rfl
theorem q748 : (Jvm.Cond.soleField "BalloonMail$Parser" "known") ∈ lw_all := lw_g (lw_at lw_m3 173 rfl) rfl
theorem q749 : (Jvm.Cond.lays "BalloonMail$Parser" "BalloonMail$Parser" "kind" "I") ∈ lw_all := lw_g (lw_at lw_m3 174 rfl) rfl
theorem q750 : (Jvm.Cond.soleField "BalloonMail$Parser" "kind") ∈ lw_all := lw_g (lw_at lw_m3 175 rfl) rfl
theorem q751 : (Jvm.Cond.lays "BalloonMail$Parser" "BalloonMail$Parser" "position" "I") ∈ lw_all := lw_g (lw_at lw_m3 176 rfl) rfl
theorem q752 : (Jvm.Cond.soleField "BalloonMail$Parser" "position") ∈ lw_all := lw_g (lw_at lw_m3 177 rfl) rfl
theorem q753 : (Jvm.Cond.lays "BalloonMail$Parser" "BalloonMail$Parser" "next" "I") ∈ lw_all := lw_g (lw_at lw_m3 178 rfl) rfl
theorem q754 : (Jvm.Cond.soleField "BalloonMail$Parser" "next") ∈ lw_all := lw_g (lw_at lw_m3 179 rfl) rfl
theorem q755 : (Jvm.Cond.lays "BalloonMail$Parser" "BalloonMail$Parser" "value" "I") ∈ lw_all := lw_g (lw_at lw_m3 180 rfl) rfl
theorem q756 : (Jvm.Cond.soleField "BalloonMail$Parser" "value") ∈ lw_all := lw_g (lw_at lw_m3 181 rfl) rfl
theorem q757 : (Jvm.Cond.lays "BalloonMail$Parser" "BalloonMail$Parser" "word" "Ljava/lang/String;") ∈ lw_all := lw_g (lw_at lw_m3 182 rfl) rfl
theorem q758 : (Jvm.Cond.soleField "BalloonMail$Parser" "word") ∈ lw_all := lw_g (lw_at lw_m3 183 rfl) rfl
theorem q759 : (Jvm.Cond.laysFinal "BalloonMail$Parser" "BalloonMail$Parser" "keywords" "Ljava/util/List;") ∈ lw_all := lw_g (lw_at lw_m3 184 rfl) rfl
theorem q760 : (Jvm.Cond.soleField "BalloonMail$Parser" "keywords") ∈ lw_all := lw_g (lw_at lw_m3 185 rfl) rfl
theorem q761 : (Jvm.Cond.laysFinal "BalloonMail$Parser" "BalloonMail$Parser" "this$0" "LBalloonMail;") ∈ lw_all := lw_g (lw_at lw_m3 186 rfl) rfl
theorem q762 : (Jvm.Cond.soleField "BalloonMail$Parser" "this$0") ∈ lw_all := lw_g (lw_at lw_m3 187 rfl) rfl
theorem q763 : (Jvm.Cond.superclass "BalloonMail$Parser" "java/lang/Object") ∈ lw_all := lw_g (lw_at lw_m3 188 rfl) rfl
theorem q765 : (Jvm.Cond.instanceMethod ({ cls := "BalloonMail$Parser", name := "parse", desc := "()LBalloonMail$Siege;" } : Jvm.MethodName)) ∈ lw_all := lw_g (lw_at lw_m3 190 rfl) rfl
theorem q766 : (Jvm.Cond.selects "BalloonMail$Parser" ({ cls := "BalloonMail$Parser", name := "parse", desc := "()LBalloonMail$Siege;" } : Jvm.MethodName) ({ cls := "BalloonMail$Parser", name := "parse", desc := "()LBalloonMail$Siege;" } : Jvm.MethodName)) ∈ lw_all := lw_g (lw_at lw_m3 191 rfl) rfl
theorem q767 : (Jvm.Cond.code ({ cls := "BalloonMail$Parser", name := "parse", desc := "()LBalloonMail$Siege;" } : Jvm.MethodName) prog_9_method_9_code (1 : Nat) (Option.some (Jvm.ClassFile.FieldType.object "BalloonMail$Siege"))) ∈ lw_all := lw_g (lw_at lw_m3 192 rfl) rfl
theorem q768 : (Jvm.Cond.methodLink "BalloonMail$Parser" (122 : Nat) ({ cls := "BalloonMail$Parser", name := "require", desc := "(ZI)V" } : Jvm.MethodName)) ∈ lw_all := lw_g (lw_at lw_m3 193 rfl) rfl
theorem q769 : (Jvm.Cond.privateMethod ({ cls := "BalloonMail$Parser", name := "require", desc := "(ZI)V" } : Jvm.MethodName)) ∈ lw_tbl := lw_at lw_m3 194 rfl
theorem q770 : (Jvm.Cond.instanceMethod ({ cls := "BalloonMail$Parser", name := "require", desc := "(ZI)V" } : Jvm.MethodName)) ∈ lw_all := lw_g (lw_at lw_m3 195 rfl) rfl
theorem q771 : (Jvm.Cond.code ({ cls := "BalloonMail$Parser", name := "require", desc := "(ZI)V" } : Jvm.MethodName) prog_9_method_6_code (3 : Nat) (Option.none : Option Jvm.ClassFile.FieldType)) ∈ lw_all := lw_g (lw_at lw_m3 196 rfl) rfl
theorem q772 : (Jvm.Cond.classLink "BalloonMail$Parser" (117 : Nat) "BalloonMail$ParseException") ∈ lw_all := lw_g (lw_at lw_m3 197 rfl) rfl
theorem q814 : (Jvm.Cond.methodLink "BalloonMail$Parser" (119 : Nat) ({ cls := "BalloonMail$ParseException", name := "<init>", desc := "(II)V" } : Jvm.MethodName)) ∈ lw_all := lw_g (lw_at lw_m3 239 rfl) rfl
theorem q844 : (Jvm.Cond.methodLink "BalloonMail$Parser" (136 : Nat) ({ cls := "BalloonMail$Parser", name := "statement", desc := "()V" } : Jvm.MethodName)) ∈ lw_all := lw_g (lw_at lw_m4 29 rfl) rfl
theorem q845 : (Jvm.Cond.privateMethod ({ cls := "BalloonMail$Parser", name := "statement", desc := "()V" } : Jvm.MethodName)) ∈ lw_tbl := lw_at lw_m4 30 rfl
theorem q846 : (Jvm.Cond.instanceMethod ({ cls := "BalloonMail$Parser", name := "statement", desc := "()V" } : Jvm.MethodName)) ∈ lw_all := lw_g (lw_at lw_m4 31 rfl) rfl
theorem q847 : (Jvm.Cond.code ({ cls := "BalloonMail$Parser", name := "statement", desc := "()V" } : Jvm.MethodName) prog_9_method_13_code (1 : Nat) (Option.none : Option Jvm.ClassFile.FieldType)) ∈ lw_all := lw_g (lw_at lw_m4 32 rfl) rfl
theorem q848 : (Jvm.Cond.methodLink "BalloonMail$Parser" (158 : Nat) ({ cls := "BalloonMail$Parser", name := "keyword", desc := "()I" } : Jvm.MethodName)) ∈ lw_all := lw_g (lw_at lw_m4 33 rfl) rfl
theorem q849 : (Jvm.Cond.privateMethod ({ cls := "BalloonMail$Parser", name := "keyword", desc := "()I" } : Jvm.MethodName)) ∈ lw_tbl := lw_at lw_m4 34 rfl
theorem q850 : (Jvm.Cond.instanceMethod ({ cls := "BalloonMail$Parser", name := "keyword", desc := "()I" } : Jvm.MethodName)) ∈ lw_all := lw_g (lw_at lw_m4 35 rfl) rfl
theorem q851 : (Jvm.Cond.code ({ cls := "BalloonMail$Parser", name := "keyword", desc := "()I" } : Jvm.MethodName) prog_9_method_12_code (2 : Nat) (Option.some Jvm.ClassFile.FieldType.int)) ∈ lw_all := lw_g (lw_at lw_m4 36 rfl) rfl
theorem q852 : (Jvm.Cond.interfaceEntry "BalloonMail$Parser" (146 : Nat)) ∈ lw_tbl := lw_at lw_m4 37 rfl
theorem q853 : (Jvm.Cond.methodLink "BalloonMail$Parser" (146 : Nat) ({ cls := "java/util/List", name := "size", desc := "()I" } : Jvm.MethodName)) ∈ lw_all := lw_g (lw_at lw_m4 38 rfl) rfl
theorem q880 : (Jvm.Cond.interfaceEntry "BalloonMail$Parser" (149 : Nat)) ∈ lw_tbl := lw_at lw_m4 65 rfl
theorem q881 : (Jvm.Cond.methodLink "BalloonMail$Parser" (149 : Nat) ({ cls := "java/util/List", name := "get", desc := "(I)Ljava/lang/Object;" } : Jvm.MethodName)) ∈ lw_all := lw_g (lw_at lw_m4 66 rfl) rfl
theorem q1051 : (Jvm.Cond.classLink "BalloonMail$Parser" (152 : Nat) "java/lang/String") ∈ lw_all := lw_g (lw_at lw_m4 236 rfl) rfl
theorem q1052 : (Jvm.Cond.methodLink "BalloonMail$Parser" (154 : Nat) ({ cls := "java/lang/String", name := "equals", desc := "(Ljava/lang/Object;)Z" } : Jvm.MethodName)) ∈ lw_all := lw_g (lw_at lw_m4 237 rfl) rfl
theorem q1060 : (Jvm.Cond.methodLink "BalloonMail$Parser" (161 : Nat) ({ cls := "BalloonMail$Parser", name := "region", desc := "()V" } : Jvm.MethodName)) ∈ lw_all := lw_g (lw_at lw_m5 5 rfl) rfl
theorem q1061 : (Jvm.Cond.privateMethod ({ cls := "BalloonMail$Parser", name := "region", desc := "()V" } : Jvm.MethodName)) ∈ lw_tbl := lw_at lw_m5 6 rfl
theorem q1062 : (Jvm.Cond.instanceMethod ({ cls := "BalloonMail$Parser", name := "region", desc := "()V" } : Jvm.MethodName)) ∈ lw_all := lw_g (lw_at lw_m5 7 rfl) rfl
theorem q1063 : (Jvm.Cond.code ({ cls := "BalloonMail$Parser", name := "region", desc := "()V" } : Jvm.MethodName) prog_9_method_14_code (3 : Nat) (Option.none : Option Jvm.ClassFile.FieldType)) ∈ lw_all := lw_g (lw_at lw_m5 8 rfl) rfl
theorem q1064 : (Jvm.Cond.methodLink "BalloonMail$Parser" (180 : Nat) ({ cls := "java/util/ArrayList", name := "size", desc := "()I" } : Jvm.MethodName)) ∈ lw_all := lw_g (lw_at lw_m5 9 rfl) rfl
theorem q1065 : (Jvm.Cond.methodLink "BalloonMail$Parser" (190 : Nat) ({ cls := "BalloonMail$Parser", name := "begin", desc := "(II)V" } : Jvm.MethodName)) ∈ lw_all := lw_g (lw_at lw_m5 10 rfl) rfl
theorem q1066 : (Jvm.Cond.privateMethod ({ cls := "BalloonMail$Parser", name := "begin", desc := "(II)V" } : Jvm.MethodName)) ∈ lw_tbl := lw_at lw_m5 11 rfl
theorem q1067 : (Jvm.Cond.instanceMethod ({ cls := "BalloonMail$Parser", name := "begin", desc := "(II)V" } : Jvm.MethodName)) ∈ lw_all := lw_g (lw_at lw_m5 12 rfl) rfl
theorem q1068 : (Jvm.Cond.code ({ cls := "BalloonMail$Parser", name := "begin", desc := "(II)V" } : Jvm.MethodName) prog_9_method_10_code (3 : Nat) (Option.none : Option Jvm.ClassFile.FieldType)) ∈ lw_all := lw_g (lw_at lw_m5 13 rfl) rfl
theorem q1069 : (Jvm.Cond.methodLink "BalloonMail$Parser" (132 : Nat) ({ cls := "BalloonMail$Parser", name := "number", desc := "(II)I" } : Jvm.MethodName)) ∈ lw_all := lw_g (lw_at lw_m5 14 rfl) rfl
theorem q1070 : (Jvm.Cond.privateMethod ({ cls := "BalloonMail$Parser", name := "number", desc := "(II)I" } : Jvm.MethodName)) ∈ lw_tbl := lw_at lw_m5 15 rfl
theorem q1071 : (Jvm.Cond.instanceMethod ({ cls := "BalloonMail$Parser", name := "number", desc := "(II)I" } : Jvm.MethodName)) ∈ lw_all := lw_g (lw_at lw_m5 16 rfl) rfl
theorem q1072 : (Jvm.Cond.code ({ cls := "BalloonMail$Parser", name := "number", desc := "(II)I" } : Jvm.MethodName) prog_9_method_7_code (4 : Nat) (Option.some Jvm.ClassFile.FieldType.int)) ∈ lw_all := lw_g (lw_at lw_m5 17 rfl) rfl
theorem q1073 : (Jvm.Cond.classLink "BalloonMail$Parser" (193 : Nat) "BalloonMail$Region") ∈ lw_all := lw_g (lw_at lw_m5 18 rfl) rfl
theorem q1075 : (Jvm.Cond.methodLink "BalloonMail$Parser" (195 : Nat) ({ cls := "BalloonMail$Region", name := "<init>", desc := "(III)V" } : Jvm.MethodName)) ∈ lw_all := lw_g (lw_at lw_m5 20 rfl) rfl
theorem q1092 : (Jvm.Cond.methodLink "BalloonMail$Parser" (198 : Nat) ({ cls := "java/util/ArrayList", name := "add", desc := "(Ljava/lang/Object;)Z" } : Jvm.MethodName)) ∈ lw_all := lw_g (lw_at lw_m5 37 rfl) rfl
theorem q1121 : (Jvm.Cond.methodLink "BalloonMail$Parser" (163 : Nat) ({ cls := "BalloonMail$Parser", name := "wind", desc := "()V" } : Jvm.MethodName)) ∈ lw_all := lw_g (lw_at lw_m5 66 rfl) rfl
theorem q1122 : (Jvm.Cond.privateMethod ({ cls := "BalloonMail$Parser", name := "wind", desc := "()V" } : Jvm.MethodName)) ∈ lw_tbl := lw_at lw_m5 67 rfl
theorem q1123 : (Jvm.Cond.instanceMethod ({ cls := "BalloonMail$Parser", name := "wind", desc := "()V" } : Jvm.MethodName)) ∈ lw_all := lw_g (lw_at lw_m5 68 rfl) rfl
theorem q1124 : (Jvm.Cond.code ({ cls := "BalloonMail$Parser", name := "wind", desc := "()V" } : Jvm.MethodName) prog_9_method_15_code (3 : Nat) (Option.none : Option Jvm.ClassFile.FieldType)) ∈ lw_all := lw_g (lw_at lw_m5 69 rfl) rfl
theorem q1125 : (Jvm.Cond.classLink "BalloonMail$Parser" (201 : Nat) "BalloonMail$Wind") ∈ lw_all := lw_g (lw_at lw_m5 70 rfl) rfl
theorem q1127 : (Jvm.Cond.methodLinkNest "BalloonMail$Parser" (203 : Nat) ({ cls := "BalloonMail$Wind", name := "<init>", desc := "()V" } : Jvm.MethodName) "BalloonMail") ∈ lw_tbl := lw_at lw_m5 72 rfl
theorem q1140 : (Jvm.Cond.fieldLinkNest "BalloonMail$Parser" (210 : Nat) "BalloonMail$Choices" "all" "Ljava/util/ArrayList;" "BalloonMail") ∈ lw_tbl := lw_at lw_m5 85 rfl
theorem q1146 : (Jvm.Cond.fieldLinkNest "BalloonMail$Parser" (204 : Nat) "BalloonMail$Wind" "regions" "LBalloonMail$Choices;" "BalloonMail") ∈ lw_tbl := lw_at lw_m5 91 rfl
theorem q1149 : (Jvm.Cond.fieldLinkNest "BalloonMail$Parser" (223 : Nat) "BalloonMail$Wind" "turns" "LBalloonMail$Choices;" "BalloonMail") ∈ lw_tbl := lw_at lw_m5 94 rfl
theorem q1156 : (Jvm.Cond.methodLink "BalloonMail$Parser" (207 : Nat) ({ cls := "BalloonMail$Choices", name := "weight", desc := "(I)I" } : Jvm.MethodName)) ∈ lw_all := lw_g (lw_at lw_m5 101 rfl) rfl
theorem q1163 : (Jvm.Cond.classLink "BalloonMail$Parser" (213 : Nat) "BalloonMail$Choice") ∈ lw_all := lw_g (lw_at lw_m5 108 rfl) rfl
theorem q1165 : (Jvm.Cond.methodLink "BalloonMail$Parser" (215 : Nat) ({ cls := "BalloonMail$Parser", name := "weight", desc := "(LBalloonMail$Choices;)I" } : Jvm.MethodName)) ∈ lw_all := lw_g (lw_at lw_m5 110 rfl) rfl
theorem q1166 : (Jvm.Cond.privateMethod ({ cls := "BalloonMail$Parser", name := "weight", desc := "(LBalloonMail$Choices;)I" } : Jvm.MethodName)) ∈ lw_tbl := lw_at lw_m5 111 rfl
theorem q1167 : (Jvm.Cond.instanceMethod ({ cls := "BalloonMail$Parser", name := "weight", desc := "(LBalloonMail$Choices;)I" } : Jvm.MethodName)) ∈ lw_all := lw_g (lw_at lw_m5 112 rfl) rfl
theorem q1168 : (Jvm.Cond.code ({ cls := "BalloonMail$Parser", name := "weight", desc := "(LBalloonMail$Choices;)I" } : Jvm.MethodName) prog_9_method_8_code (2 : Nat) (Option.some Jvm.ClassFile.FieldType.int)) ∈ lw_all := lw_g (lw_at lw_m5 113 rfl) rfl
theorem q1169 : (Jvm.Cond.methodLink "BalloonMail$Parser" (126 : Nat) ({ cls := "BalloonMail$Choices", name := "sum", desc := "()I" } : Jvm.MethodName)) ∈ lw_all := lw_g (lw_at lw_m5 114 rfl) rfl
theorem q1173 : (Jvm.Cond.methodLink "BalloonMail$Parser" (218 : Nat) ({ cls := "BalloonMail$Choice", name := "<init>", desc := "(II)V" } : Jvm.MethodName)) ∈ lw_all := lw_g (lw_at lw_m5 118 rfl) rfl
theorem q1188 : (Jvm.Cond.methodLink "BalloonMail$Parser" (165 : Nat) ({ cls := "BalloonMail$Parser", name := "turn", desc := "()V" } : Jvm.MethodName)) ∈ lw_all := lw_g (lw_at lw_m5 133 rfl) rfl
theorem q1189 : (Jvm.Cond.privateMethod ({ cls := "BalloonMail$Parser", name := "turn", desc := "()V" } : Jvm.MethodName)) ∈ lw_tbl := lw_at lw_m5 134 rfl
theorem q1190 : (Jvm.Cond.instanceMethod ({ cls := "BalloonMail$Parser", name := "turn", desc := "()V" } : Jvm.MethodName)) ∈ lw_all := lw_g (lw_at lw_m5 135 rfl) rfl
theorem q1191 : (Jvm.Cond.code ({ cls := "BalloonMail$Parser", name := "turn", desc := "()V" } : Jvm.MethodName) prog_9_method_16_code (4 : Nat) (Option.none : Option Jvm.ClassFile.FieldType)) ∈ lw_all := lw_g (lw_at lw_m5 136 rfl) rfl
theorem q1192 : (Jvm.Cond.methodLink "BalloonMail$Parser" (222 : Nat) ({ cls := "java/util/ArrayList", name := "get", desc := "(I)Ljava/lang/Object;" } : Jvm.MethodName)) ∈ lw_all := lw_g (lw_at lw_m5 137 rfl) rfl
theorem q1193 : (Jvm.Cond.methodLink "BalloonMail$Parser" (167 : Nat) ({ cls := "BalloonMail$Parser", name := "balloon", desc := "()V" } : Jvm.MethodName)) ∈ lw_all := lw_g (lw_at lw_m5 138 rfl) rfl
theorem q1194 : (Jvm.Cond.privateMethod ({ cls := "BalloonMail$Parser", name := "balloon", desc := "()V" } : Jvm.MethodName)) ∈ lw_tbl := lw_at lw_m5 139 rfl
theorem q1195 : (Jvm.Cond.instanceMethod ({ cls := "BalloonMail$Parser", name := "balloon", desc := "()V" } : Jvm.MethodName)) ∈ lw_all := lw_g (lw_at lw_m5 140 rfl) rfl
theorem q1196 : (Jvm.Cond.code ({ cls := "BalloonMail$Parser", name := "balloon", desc := "()V" } : Jvm.MethodName) prog_9_method_17_code (2 : Nat) (Option.none : Option Jvm.ClassFile.FieldType)) ∈ lw_all := lw_g (lw_at lw_m5 141 rfl) rfl
theorem q1197 : (Jvm.Cond.classLink "BalloonMail$Parser" (228 : Nat) "BalloonMail$Balloon") ∈ lw_all := lw_g (lw_at lw_m5 142 rfl) rfl
theorem q1199 : (Jvm.Cond.methodLink "BalloonMail$Parser" (230 : Nat) ({ cls := "BalloonMail$Balloon", name := "<init>", desc := "(II)V" } : Jvm.MethodName)) ∈ lw_all := lw_g (lw_at lw_m5 144 rfl) rfl
theorem q1212 : (Jvm.Cond.methodLink "BalloonMail$Parser" (169 : Nat) ({ cls := "BalloonMail$Parser", name := "letter", desc := "()V" } : Jvm.MethodName)) ∈ lw_all := lw_g (lw_at lw_m5 157 rfl) rfl
theorem q1213 : (Jvm.Cond.privateMethod ({ cls := "BalloonMail$Parser", name := "letter", desc := "()V" } : Jvm.MethodName)) ∈ lw_tbl := lw_at lw_m5 158 rfl
theorem q1214 : (Jvm.Cond.instanceMethod ({ cls := "BalloonMail$Parser", name := "letter", desc := "()V" } : Jvm.MethodName)) ∈ lw_all := lw_g (lw_at lw_m5 159 rfl) rfl
theorem q1215 : (Jvm.Cond.code ({ cls := "BalloonMail$Parser", name := "letter", desc := "()V" } : Jvm.MethodName) prog_9_method_18_code (2 : Nat) (Option.none : Option Jvm.ClassFile.FieldType)) ∈ lw_all := lw_g (lw_at lw_m5 160 rfl) rfl
theorem q1216 : (Jvm.Cond.classLink "BalloonMail$Parser" (234 : Nat) "BalloonMail$Letter") ∈ lw_all := lw_g (lw_at lw_m5 161 rfl) rfl
theorem q1218 : (Jvm.Cond.methodLink "BalloonMail$Parser" (236 : Nat) ({ cls := "BalloonMail$Letter", name := "<init>", desc := "(II)V" } : Jvm.MethodName)) ∈ lw_all := lw_g (lw_at lw_m5 163 rfl) rfl
theorem q1233 : (Jvm.Cond.methodLink "BalloonMail$Parser" (171 : Nat) ({ cls := "BalloonMail$Parser", name := "once", desc := "(I)V" } : Jvm.MethodName)) ∈ lw_all := lw_g (lw_at lw_m5 178 rfl) rfl
theorem q1234 : (Jvm.Cond.privateMethod ({ cls := "BalloonMail$Parser", name := "once", desc := "(I)V" } : Jvm.MethodName)) ∈ lw_tbl := lw_at lw_m5 179 rfl
theorem q1235 : (Jvm.Cond.instanceMethod ({ cls := "BalloonMail$Parser", name := "once", desc := "(I)V" } : Jvm.MethodName)) ∈ lw_all := lw_g (lw_at lw_m5 180 rfl) rfl
theorem q1236 : (Jvm.Cond.code ({ cls := "BalloonMail$Parser", name := "once", desc := "(I)V" } : Jvm.MethodName) prog_9_method_11_code (2 : Nat) (Option.none : Option Jvm.ClassFile.FieldType)) ∈ lw_all := lw_g (lw_at lw_m5 181 rfl) rfl
theorem q1237 : (Jvm.Cond.methodLink "BalloonMail$Parser" (139 : Nat) ({ cls := "java/util/BitSet", name := "get", desc := "(I)Z" } : Jvm.MethodName)) ∈ lw_all := lw_g (lw_at lw_m5 182 rfl) rfl
theorem q1255 : (Jvm.Cond.methodLink "BalloonMail$Parser" (143 : Nat) ({ cls := "java/util/BitSet", name := "set", desc := "(I)V" } : Jvm.MethodName)) ∈ lw_all := lw_g (lw_at lw_m5 200 rfl) rfl
theorem q2706 : (Jvm.Cond.castable "BalloonMail$Parser" "java/lang/Object") ∈ lw_tbl := lw_at lw_m11 211 rfl
theorem in_X5 : ∀ w ∈ wsX50, w ∈ lw_all := lw_in wsX50 [743, 745, 747, 749, 751, 753, 755, 757, 759, 761] (by decide +kernel) (by decide +kernel)

/-! BalloonMail$ParseException -/
set_option maxRecDepth 100000
def RX6 : String := "BalloonMail$ParseException"
def TX6 : u_T := fun k => match k with
  | 0 => ("java/lang/Throwable", "cause", "Ljava/lang/Throwable;", false)
  | 1 => ("java/lang/Throwable", "stackTrace", "[Ljava/lang/StackTraceElement;", false)
  | 2 => ("java/lang/Throwable", "suppressedExceptions", "Ljava/util/List;", false)
  | 3 => ("java/lang/Throwable", "detailMessage", "Ljava/lang/String;", false)
  | 4 => ("java/lang/Throwable", "backtrace", "Ljava/lang/Object;", false)
  | 5 => ("java/lang/Throwable", "depth", "I", false)
  | 6 => ("BalloonMail$ParseException", "code", "I", true)
  | _ => ("BalloonMail$ParseException", "position", "I", true)
def tyX6 : Nat → FieldType := fun k => match k with
  | 0 => .object "java/lang/Throwable"
  | 1 => .array (.object "java/lang/StackTraceElement")
  | 2 => .object "java/util/List"
  | 3 => .object "java/lang/String"
  | 4 => .object "java/lang/Object"
  | 5 => .int
  | 6 => .int
  | _ => .int
abbrev wsX60 : List Cond := u_ws RX6 TX6 8
theorem nmX6 : ∀ a, a < 8 → ∀ b, b < 8 → a ≠ b → (TX6 a).2.1 ≠ (TX6 b).2.1 := by decide +kernel
theorem tyX6_ok : ∀ k, k < 8 → parseFieldDescriptor (TX6 k).2.2.1 = some (tyX6 k) := by decide +kernel
abbrev cX6_init : ByteArray := prog_8_method_1_code
def yX6_init : MethodName := ⟨RX6, "<init>", "(II)V"⟩
def dkwX6_init_0 : List UInt8 := [42, 1, 1, 3, 3, 183, 0, 1, 42, 27, 181, 0, 7, 42, 28, 181, 0, 13, 177]
abbrev dktX6_init_0 : List UInt8 := dkwX6_init_0 ++ []
theorem dksX6_init_0 : cX6_init.data.toList.drop 0 = dktX6_init_0 := by decide +kernel
theorem dX6_init_0 : decode cX6_init 0 = .ok (.aload_n 0, 1) := dk_42 (dk_at dksX6_init_0 0 rfl rfl)
theorem dX6_init_1 : decode cX6_init 1 = .ok (.aconst_null, 1) := dk_1 (dk_at dksX6_init_0 1 rfl rfl)
theorem dX6_init_2 : decode cX6_init 2 = .ok (.aconst_null, 1) := dk_1 (dk_at dksX6_init_0 2 rfl rfl)
theorem dX6_init_3 : decode cX6_init 3 = .ok (.iconst 0, 1) := dk_3 (dk_at dksX6_init_0 3 rfl rfl)
theorem dX6_init_4 : decode cX6_init 4 = .ok (.iconst 0, 1) := dk_3 (dk_at dksX6_init_0 4 rfl rfl)
theorem dX6_init_5 : decode cX6_init 5 = .ok (.invokespecial 1, 3) := dk_183 0 1 (dk_at dksX6_init_0 5 rfl rfl)
theorem dX6_init_8 : decode cX6_init 8 = .ok (.aload_n 0, 1) := dk_42 (dk_at dksX6_init_0 8 rfl rfl)
theorem dX6_init_9 : decode cX6_init 9 = .ok (.iload_n 1, 1) := dk_27 (dk_at dksX6_init_0 9 rfl rfl)
theorem dX6_init_10 : decode cX6_init 10 = .ok (.putfield 7, 3) := dk_181 0 7 (dk_at dksX6_init_0 10 rfl rfl)
theorem dX6_init_13 : decode cX6_init 13 = .ok (.aload_n 0, 1) := dk_42 (dk_at dksX6_init_0 13 rfl rfl)
theorem dX6_init_14 : decode cX6_init 14 = .ok (.iload_n 2, 1) := dk_28 (dk_at dksX6_init_0 14 rfl rfl)
theorem dX6_init_15 : decode cX6_init 15 = .ok (.putfield 13, 3) := dk_181 0 13 (dk_at dksX6_init_0 15 rfl rfl)
theorem dX6_init_18 : decode cX6_init 18 = .ok (.return_, 1) := dk_177 (dk_at dksX6_init_0 18 rfl rfl)
theorem q127 : (Jvm.Cond.initialized "BalloonMail$ParseException") ∈ lw_all := lw_g (lw_at lw_m1 32 rfl) rfl
theorem q454 : (Jvm.Cond.selects "BalloonMail$ParseException" ({ cls := "java/lang/Object", name := "getClass", desc := "()Ljava/lang/Class;" } : Jvm.MethodName) ({ cls := "java/lang/Object", name := "getClass", desc := "()Ljava/lang/Class;" } : Jvm.MethodName)) ∈ lw_all := lw_g (lw_at lw_m2 119 rfl) rfl
theorem q773 : (Jvm.Cond.instantiable "BalloonMail$ParseException" (8 : Nat)) ∈ lw_all := lw_g (lw_at lw_m3 198 rfl) rfl
theorem q774 : (Jvm.Cond.castable "BalloonMail$ParseException" "BalloonMail$ParseException") ∈ lw_tbl := lw_at lw_m3 199 rfl
theorem q779 : (Jvm.Cond.selects "BalloonMail$ParseException" ({ cls := "java/lang/Throwable", name := "fillInStackTrace", desc := "(I)Ljava/lang/Throwable;" } : Jvm.MethodName) ({ cls := "java/lang/Throwable", name := "fillInStackTrace", desc := "(I)Ljava/lang/Throwable;" } : Jvm.MethodName)) ∈ lw_all := lw_g (lw_at lw_m3 204 rfl) rfl
theorem q780 : (Jvm.Cond.selects "BalloonMail$ParseException" ({ cls := "java/lang/Throwable", name := "fillInStackTrace", desc := "()Ljava/lang/Throwable;" } : Jvm.MethodName) ({ cls := "java/lang/Throwable", name := "fillInStackTrace", desc := "()Ljava/lang/Throwable;" } : Jvm.MethodName)) ∈ lw_all := lw_g (lw_at lw_m3 205 rfl) rfl
theorem q781 : (Jvm.Cond.lays "BalloonMail$ParseException" "java/lang/Throwable" "cause" "Ljava/lang/Throwable;") ∈ lw_all := lw_g (lw_at lw_m3 206 rfl) rfl
theorem q783 : (Jvm.Cond.lays "BalloonMail$ParseException" "java/lang/Throwable" "stackTrace" "[Ljava/lang/StackTraceElement;") ∈ lw_all := lw_g (lw_at lw_m3 208 rfl) rfl
theorem q785 : (Jvm.Cond.lays "BalloonMail$ParseException" "java/lang/Throwable" "suppressedExceptions" "Ljava/util/List;") ∈ lw_all := lw_g (lw_at lw_m3 210 rfl) rfl
theorem q787 : (Jvm.Cond.lays "BalloonMail$ParseException" "java/lang/Throwable" "detailMessage" "Ljava/lang/String;") ∈ lw_all := lw_g (lw_at lw_m3 212 rfl) rfl
theorem q789 : (Jvm.Cond.lays "BalloonMail$ParseException" "java/lang/Throwable" "backtrace" "Ljava/lang/Object;") ∈ lw_all := lw_g (lw_at lw_m3 214 rfl) rfl
theorem q815 : (Jvm.Cond.instanceMethod ({ cls := "BalloonMail$ParseException", name := "<init>", desc := "(II)V" } : Jvm.MethodName)) ∈ lw_all := lw_g (lw_at lw_m4 0 rfl) rfl
theorem q816 : (Jvm.Cond.code ({ cls := "BalloonMail$ParseException", name := "<init>", desc := "(II)V" } : Jvm.MethodName) prog_8_method_1_code (3 : Nat) (Option.none : Option Jvm.ClassFile.FieldType)) ∈ lw_all := lw_g (lw_at lw_m4 1 rfl) rfl
theorem q817 : (Jvm.Cond.methodLink "BalloonMail$ParseException" (1 : Nat) ({ cls := "java/lang/Exception", name := "<init>", desc := "(Ljava/lang/String;Ljava/lang/Throwable;ZZ)V" } : Jvm.MethodName)) ∈ lw_all := lw_g (lw_at lw_m4 2 rfl) rfl
theorem q823 : (Jvm.Cond.fieldLink "BalloonMail$ParseException" (7 : Nat) "BalloonMail$ParseException" "code" "I") ∈ lw_all := lw_g (lw_at lw_m4 8 rfl) rfl
theorem q825 : (Jvm.Cond.fieldLink "BalloonMail$ParseException" (13 : Nat) "BalloonMail$ParseException" "position" "I") ∈ lw_all := lw_g (lw_at lw_m4 10 rfl) rfl
theorem q832 : (Jvm.Cond.laysFinal "BalloonMail$ParseException" "BalloonMail$ParseException" "code" "I") ∈ lw_all := lw_g (lw_at lw_m4 17 rfl) rfl
theorem q833 : (Jvm.Cond.soleField "BalloonMail$ParseException" "code") ∈ lw_all := lw_g (lw_at lw_m4 18 rfl) rfl
theorem q834 : (Jvm.Cond.laysFinal "BalloonMail$ParseException" "BalloonMail$ParseException" "position" "I") ∈ lw_all := lw_g (lw_at lw_m4 19 rfl) rfl
theorem q835 : (Jvm.Cond.soleField "BalloonMail$ParseException" "position") ∈ lw_all := lw_g (lw_at lw_m4 20 rfl) rfl
theorem q840 : (Jvm.Cond.lays "BalloonMail$ParseException" "java/lang/Throwable" "depth" "I") ∈ lw_all := lw_g (lw_at lw_m4 25 rfl) rfl
theorem q843 : (Jvm.Cond.superclass "BalloonMail$ParseException" "java/lang/Exception") ∈ lw_all := lw_g (lw_at lw_m4 28 rfl) rfl
theorem q1679 : (Jvm.Cond.selects "BalloonMail$ParseException" ({ cls := "java/lang/Throwable", name := "toString", desc := "()Ljava/lang/String;" } : Jvm.MethodName) ({ cls := "java/lang/Throwable", name := "toString", desc := "()Ljava/lang/String;" } : Jvm.MethodName)) ∈ lw_all := lw_g (lw_at lw_m7 144 rfl) rfl
theorem q1690 : (Jvm.Cond.selects "BalloonMail$ParseException" ({ cls := "java/lang/Throwable", name := "getLocalizedMessage", desc := "()Ljava/lang/String;" } : Jvm.MethodName) ({ cls := "java/lang/Throwable", name := "getLocalizedMessage", desc := "()Ljava/lang/String;" } : Jvm.MethodName)) ∈ lw_all := lw_g (lw_at lw_m7 155 rfl) rfl
theorem q1700 : (Jvm.Cond.selects "BalloonMail$ParseException" ({ cls := "java/lang/Throwable", name := "getMessage", desc := "()Ljava/lang/String;" } : Jvm.MethodName) ({ cls := "java/lang/Throwable", name := "getMessage", desc := "()Ljava/lang/String;" } : Jvm.MethodName)) ∈ lw_all := lw_g (lw_at lw_m7 165 rfl) rfl
theorem q2711 : (Jvm.Cond.castable "BalloonMail$ParseException" "java/lang/Object") ∈ lw_tbl := lw_at lw_m11 216 rfl
theorem in_X6 : ∀ w ∈ wsX60, w ∈ lw_all := lw_in wsX60 [781, 783, 785, 787, 789, 840, 832, 834] (by decide +kernel) (by decide +kernel)

/-! BalloonMail$Region -/
set_option maxRecDepth 100000
def RX7 : String := "BalloonMail$Region"
def TX7 : u_T := fun k => match k with
  | 0 => ("BalloonMail$Region", "risk", "I", true)
  | 1 => ("BalloonMail$Region", "distance", "I", true)
  | _ => ("BalloonMail$Region", "comesBack", "I", true)
def tyX7 : Nat → FieldType := fun k => match k with
  | 0 => .int
  | 1 => .int
  | _ => .int
abbrev wsX70 : List Cond := u_ws RX7 TX7 3
theorem nmX7 : ∀ a, a < 3 → ∀ b, b < 3 → a ≠ b → (TX7 a).2.1 ≠ (TX7 b).2.1 := by decide +kernel
theorem tyX7_ok : ∀ k, k < 3 → parseFieldDescriptor (TX7 k).2.2.1 = some (tyX7 k) := by decide +kernel
abbrev cX7_init : ByteArray := prog_11_method_1_code
def yX7_init : MethodName := ⟨RX7, "<init>", "(III)V"⟩
def dkwX7_init_0 : List UInt8 := [42, 183, 0, 1, 42, 27, 181, 0, 7, 42, 28, 181, 0, 13, 42, 29, 181, 0, 16, 177]
abbrev dktX7_init_0 : List UInt8 := dkwX7_init_0 ++ []
theorem dksX7_init_0 : cX7_init.data.toList.drop 0 = dktX7_init_0 := by decide +kernel
theorem dX7_init_0 : decode cX7_init 0 = .ok (.aload_n 0, 1) := dk_42 (dk_at dksX7_init_0 0 rfl rfl)
theorem dX7_init_1 : decode cX7_init 1 = .ok (.invokespecial 1, 3) := dk_183 0 1 (dk_at dksX7_init_0 1 rfl rfl)
theorem dX7_init_4 : decode cX7_init 4 = .ok (.aload_n 0, 1) := dk_42 (dk_at dksX7_init_0 4 rfl rfl)
theorem dX7_init_5 : decode cX7_init 5 = .ok (.iload_n 1, 1) := dk_27 (dk_at dksX7_init_0 5 rfl rfl)
theorem dX7_init_6 : decode cX7_init 6 = .ok (.putfield 7, 3) := dk_181 0 7 (dk_at dksX7_init_0 6 rfl rfl)
theorem dX7_init_9 : decode cX7_init 9 = .ok (.aload_n 0, 1) := dk_42 (dk_at dksX7_init_0 9 rfl rfl)
theorem dX7_init_10 : decode cX7_init 10 = .ok (.iload_n 2, 1) := dk_28 (dk_at dksX7_init_0 10 rfl rfl)
theorem dX7_init_11 : decode cX7_init 11 = .ok (.putfield 13, 3) := dk_181 0 13 (dk_at dksX7_init_0 11 rfl rfl)
theorem dX7_init_14 : decode cX7_init 14 = .ok (.aload_n 0, 1) := dk_42 (dk_at dksX7_init_0 14 rfl rfl)
theorem dX7_init_15 : decode cX7_init 15 = .ok (.iload_n 3, 1) := dk_29 (dk_at dksX7_init_0 15 rfl rfl)
theorem dX7_init_16 : decode cX7_init 16 = .ok (.putfield 16, 3) := dk_181 0 16 (dk_at dksX7_init_0 16 rfl rfl)
theorem dX7_init_19 : decode cX7_init 19 = .ok (.return_, 1) := dk_177 (dk_at dksX7_init_0 19 rfl rfl)
theorem q132 : (Jvm.Cond.initialized "BalloonMail$Region") ∈ lw_all := lw_g (lw_at lw_m1 37 rfl) rfl
theorem q457 : (Jvm.Cond.selects "BalloonMail$Region" ({ cls := "java/lang/Object", name := "getClass", desc := "()Ljava/lang/Class;" } : Jvm.MethodName) ({ cls := "java/lang/Object", name := "getClass", desc := "()Ljava/lang/Class;" } : Jvm.MethodName)) ∈ lw_all := lw_g (lw_at lw_m2 122 rfl) rfl
theorem q1074 : (Jvm.Cond.instantiable "BalloonMail$Region" (3 : Nat)) ∈ lw_all := lw_g (lw_at lw_m5 19 rfl) rfl
theorem q1076 : (Jvm.Cond.instanceMethod ({ cls := "BalloonMail$Region", name := "<init>", desc := "(III)V" } : Jvm.MethodName)) ∈ lw_all := lw_g (lw_at lw_m5 21 rfl) rfl
theorem q1077 : (Jvm.Cond.code ({ cls := "BalloonMail$Region", name := "<init>", desc := "(III)V" } : Jvm.MethodName) prog_11_method_1_code (4 : Nat) (Option.none : Option Jvm.ClassFile.FieldType)) ∈ lw_all := lw_g (lw_at lw_m5 22 rfl) rfl
theorem q1078 : (Jvm.Cond.methodLink "BalloonMail$Region" (1 : Nat) ({ cls := "java/lang/Object", name := "<init>", desc := "()V" } : Jvm.MethodName)) ∈ lw_all := lw_g (lw_at lw_m5 23 rfl) rfl
theorem q1079 : (Jvm.Cond.fieldLink "BalloonMail$Region" (7 : Nat) "BalloonMail$Region" "risk" "I") ∈ lw_all := lw_g (lw_at lw_m5 24 rfl) rfl
theorem q1081 : (Jvm.Cond.fieldLink "BalloonMail$Region" (13 : Nat) "BalloonMail$Region" "distance" "I") ∈ lw_all := lw_g (lw_at lw_m5 26 rfl) rfl
theorem q1083 : (Jvm.Cond.fieldLink "BalloonMail$Region" (16 : Nat) "BalloonMail$Region" "comesBack" "I") ∈ lw_all := lw_g (lw_at lw_m5 28 rfl) rfl
theorem q1085 : (Jvm.Cond.laysFinal "BalloonMail$Region" "BalloonMail$Region" "risk" "I") ∈ lw_all := lw_g (lw_at lw_m5 30 rfl) rfl
theorem q1086 : (Jvm.Cond.soleField "BalloonMail$Region" "risk") ∈ lw_all := lw_g (lw_at lw_m5 31 rfl) rfl
theorem q1087 : (Jvm.Cond.laysFinal "BalloonMail$Region" "BalloonMail$Region" "distance" "I") ∈ lw_all := lw_g (lw_at lw_m5 32 rfl) rfl
theorem q1088 : (Jvm.Cond.soleField "BalloonMail$Region" "distance") ∈ lw_all := lw_g (lw_at lw_m5 33 rfl) rfl
theorem q1089 : (Jvm.Cond.laysFinal "BalloonMail$Region" "BalloonMail$Region" "comesBack" "I") ∈ lw_all := lw_g (lw_at lw_m5 34 rfl) rfl
theorem q1090 : (Jvm.Cond.soleField "BalloonMail$Region" "comesBack") ∈ lw_all := lw_g (lw_at lw_m5 35 rfl) rfl
theorem q1091 : (Jvm.Cond.superclass "BalloonMail$Region" "java/lang/Object") ∈ lw_all := lw_g (lw_at lw_m5 36 rfl) rfl
theorem q2713 : (Jvm.Cond.castable "BalloonMail$Region" "java/lang/Object") ∈ lw_tbl := lw_at lw_m11 218 rfl
theorem in_X7 : ∀ w ∈ wsX70, w ∈ lw_all := lw_in wsX70 [1085, 1087, 1089] (by decide +kernel) (by decide +kernel)

/-! BalloonMail$Wind -/
set_option maxRecDepth 100000
def RX8 : String := "BalloonMail$Wind"
def TX8 : u_T := fun k => match k with
  | 0 => ("BalloonMail$Wind", "regions", "LBalloonMail$Choices;", true)
  | _ => ("BalloonMail$Wind", "turns", "LBalloonMail$Choices;", true)
def tyX8 : Nat → FieldType := fun k => match k with
  | 0 => .object "BalloonMail$Choices"
  | _ => .object "BalloonMail$Choices"
abbrev wsX80 : List Cond := u_ws RX8 TX8 2
theorem nmX8 : ∀ a, a < 2 → ∀ b, b < 2 → a ≠ b → (TX8 a).2.1 ≠ (TX8 b).2.1 := by decide +kernel
theorem tyX8_ok : ∀ k, k < 2 → parseFieldDescriptor (TX8 k).2.2.1 = some (tyX8 k) := by decide +kernel
abbrev cX8_init : ByteArray := prog_14_method_1_code
def yX8_init : MethodName := ⟨RX8, "<init>", "()V"⟩
def dkwX8_init_1 : List UInt8 := [181, 0, 16, 177]
abbrev dktX8_init_1 : List UInt8 := dkwX8_init_1 ++ []
def dkwX8_init_0 : List UInt8 := [42, 183, 0, 1, 42, 187, 0, 7, 89, 183, 0, 9, 181, 0, 10, 42, 187, 0, 7, 89, 183, 0, 9]
abbrev dktX8_init_0 : List UInt8 := dkwX8_init_0 ++ dktX8_init_1
theorem dksX8_init_0 : cX8_init.data.toList.drop 0 = dktX8_init_0 := by decide +kernel
theorem dksX8_init_1 : cX8_init.data.toList.drop 23 = dktX8_init_1 := dk_seg dksX8_init_0 23 rfl rfl
theorem dX8_init_0 : decode cX8_init 0 = .ok (.aload_n 0, 1) := dk_42 (dk_at dksX8_init_0 0 rfl rfl)
theorem dX8_init_1 : decode cX8_init 1 = .ok (.invokespecial 1, 3) := dk_183 0 1 (dk_at dksX8_init_0 1 rfl rfl)
theorem dX8_init_4 : decode cX8_init 4 = .ok (.aload_n 0, 1) := dk_42 (dk_at dksX8_init_0 4 rfl rfl)
theorem dX8_init_5 : decode cX8_init 5 = .ok (.new 7, 3) := dk_187 0 7 (dk_at dksX8_init_0 5 rfl rfl)
theorem dX8_init_8 : decode cX8_init 8 = .ok (.dup, 1) := dk_89 (dk_at dksX8_init_0 8 rfl rfl)
theorem dX8_init_9 : decode cX8_init 9 = .ok (.invokespecial 9, 3) := dk_183 0 9 (dk_at dksX8_init_0 9 rfl rfl)
theorem dX8_init_12 : decode cX8_init 12 = .ok (.putfield 10, 3) := dk_181 0 10 (dk_at dksX8_init_0 12 rfl rfl)
theorem dX8_init_15 : decode cX8_init 15 = .ok (.aload_n 0, 1) := dk_42 (dk_at dksX8_init_0 15 rfl rfl)
theorem dX8_init_16 : decode cX8_init 16 = .ok (.new 7, 3) := dk_187 0 7 (dk_at dksX8_init_0 16 rfl rfl)
theorem dX8_init_19 : decode cX8_init 19 = .ok (.dup, 1) := dk_89 (dk_at dksX8_init_0 19 rfl rfl)
theorem dX8_init_20 : decode cX8_init 20 = .ok (.invokespecial 9, 3) := dk_183 0 9 (dk_at dksX8_init_0 20 rfl rfl)
theorem dX8_init_23 : decode cX8_init 23 = .ok (.putfield 16, 3) := dk_181 0 16 (dk_at dksX8_init_1 0 rfl rfl)
theorem dX8_init_26 : decode cX8_init 26 = .ok (.return_, 1) := dk_177 (dk_at dksX8_init_1 3 rfl rfl)
theorem q133 : (Jvm.Cond.initialized "BalloonMail$Wind") ∈ lw_all := lw_g (lw_at lw_m1 38 rfl) rfl
theorem q460 : (Jvm.Cond.selects "BalloonMail$Wind" ({ cls := "java/lang/Object", name := "getClass", desc := "()Ljava/lang/Class;" } : Jvm.MethodName) ({ cls := "java/lang/Object", name := "getClass", desc := "()Ljava/lang/Class;" } : Jvm.MethodName)) ∈ lw_all := lw_g (lw_at lw_m2 125 rfl) rfl
theorem q1126 : (Jvm.Cond.instantiable "BalloonMail$Wind" (2 : Nat)) ∈ lw_all := lw_g (lw_at lw_m5 71 rfl) rfl
theorem q1128 : (Jvm.Cond.instanceMethod ({ cls := "BalloonMail$Wind", name := "<init>", desc := "()V" } : Jvm.MethodName)) ∈ lw_all := lw_g (lw_at lw_m5 73 rfl) rfl
theorem q1129 : (Jvm.Cond.code ({ cls := "BalloonMail$Wind", name := "<init>", desc := "()V" } : Jvm.MethodName) prog_14_method_1_code (1 : Nat) (Option.none : Option Jvm.ClassFile.FieldType)) ∈ lw_all := lw_g (lw_at lw_m5 74 rfl) rfl
theorem q1130 : (Jvm.Cond.methodLink "BalloonMail$Wind" (1 : Nat) ({ cls := "java/lang/Object", name := "<init>", desc := "()V" } : Jvm.MethodName)) ∈ lw_all := lw_g (lw_at lw_m5 75 rfl) rfl
theorem q1131 : (Jvm.Cond.classLink "BalloonMail$Wind" (7 : Nat) "BalloonMail$Choices") ∈ lw_all := lw_g (lw_at lw_m5 76 rfl) rfl
theorem q1133 : (Jvm.Cond.methodLinkNest "BalloonMail$Wind" (9 : Nat) ({ cls := "BalloonMail$Choices", name := "<init>", desc := "()V" } : Jvm.MethodName) "BalloonMail") ∈ lw_tbl := lw_at lw_m5 78 rfl
theorem q1145 : (Jvm.Cond.fieldLink "BalloonMail$Wind" (10 : Nat) "BalloonMail$Wind" "regions" "LBalloonMail$Choices;") ∈ lw_all := lw_g (lw_at lw_m5 90 rfl) rfl
theorem q1148 : (Jvm.Cond.fieldLink "BalloonMail$Wind" (16 : Nat) "BalloonMail$Wind" "turns" "LBalloonMail$Choices;") ∈ lw_all := lw_g (lw_at lw_m5 93 rfl) rfl
theorem q1151 : (Jvm.Cond.laysFinal "BalloonMail$Wind" "BalloonMail$Wind" "regions" "LBalloonMail$Choices;") ∈ lw_all := lw_g (lw_at lw_m5 96 rfl) rfl
theorem q1152 : (Jvm.Cond.soleField "BalloonMail$Wind" "regions") ∈ lw_all := lw_g (lw_at lw_m5 97 rfl) rfl
theorem q1153 : (Jvm.Cond.laysFinal "BalloonMail$Wind" "BalloonMail$Wind" "turns" "LBalloonMail$Choices;") ∈ lw_all := lw_g (lw_at lw_m5 98 rfl) rfl
theorem q1154 : (Jvm.Cond.soleField "BalloonMail$Wind" "turns") ∈ lw_all := lw_g (lw_at lw_m5 99 rfl) rfl
theorem q1155 : (Jvm.Cond.superclass "BalloonMail$Wind" "java/lang/Object") ∈ lw_all := lw_g (lw_at lw_m5 100 rfl) rfl
theorem q2714 : (Jvm.Cond.castable "BalloonMail$Wind" "java/lang/Object") ∈ lw_tbl := lw_at lw_m11 219 rfl
theorem in_X8 : ∀ w ∈ wsX80, w ∈ lw_all := lw_in wsX80 [1151, 1153] (by decide +kernel) (by decide +kernel)

/-! BalloonMail$Choices -/
set_option maxRecDepth 100000
def RX9 : String := "BalloonMail$Choices"
def TX9 : u_T := fun k => match k with
  | _ => ("BalloonMail$Choices", "all", "Ljava/util/ArrayList;", true)
def tyX9 : Nat → FieldType := fun k => match k with
  | _ => .object "java/util/ArrayList"
abbrev wsX90 : List Cond := u_ws RX9 TX9 1
theorem nmX9 : ∀ a, a < 1 → ∀ b, b < 1 → a ≠ b → (TX9 a).2.1 ≠ (TX9 b).2.1 := by decide +kernel
theorem tyX9_ok : ∀ k, k < 1 → parseFieldDescriptor (TX9 k).2.2.1 = some (tyX9 k) := by decide +kernel
abbrev cX9_init : ByteArray := prog_4_method_1_code
def yX9_init : MethodName := ⟨RX9, "<init>", "()V"⟩
def dkwX9_init_0 : List UInt8 := [42, 183, 0, 1, 42, 187, 0, 7, 89, 5, 183, 0, 9, 181, 0, 12, 177]
abbrev dktX9_init_0 : List UInt8 := dkwX9_init_0 ++ []
theorem dksX9_init_0 : cX9_init.data.toList.drop 0 = dktX9_init_0 := by decide +kernel
theorem dX9_init_0 : decode cX9_init 0 = .ok (.aload_n 0, 1) := dk_42 (dk_at dksX9_init_0 0 rfl rfl)
theorem dX9_init_1 : decode cX9_init 1 = .ok (.invokespecial 1, 3) := dk_183 0 1 (dk_at dksX9_init_0 1 rfl rfl)
theorem dX9_init_4 : decode cX9_init 4 = .ok (.aload_n 0, 1) := dk_42 (dk_at dksX9_init_0 4 rfl rfl)
theorem dX9_init_5 : decode cX9_init 5 = .ok (.new 7, 3) := dk_187 0 7 (dk_at dksX9_init_0 5 rfl rfl)
theorem dX9_init_8 : decode cX9_init 8 = .ok (.dup, 1) := dk_89 (dk_at dksX9_init_0 8 rfl rfl)
theorem dX9_init_9 : decode cX9_init 9 = .ok (.iconst 2, 1) := dk_5 (dk_at dksX9_init_0 9 rfl rfl)
theorem dX9_init_10 : decode cX9_init 10 = .ok (.invokespecial 9, 3) := dk_183 0 9 (dk_at dksX9_init_0 10 rfl rfl)
theorem dX9_init_13 : decode cX9_init 13 = .ok (.putfield 12, 3) := dk_181 0 12 (dk_at dksX9_init_0 13 rfl rfl)
theorem dX9_init_16 : decode cX9_init 16 = .ok (.return_, 1) := dk_177 (dk_at dksX9_init_0 16 rfl rfl)
abbrev cX9_weight : ByteArray := prog_4_method_3_code
def yX9_weight : MethodName := ⟨RX9, "weight", "(I)I"⟩
def dkwX9_weight_2 : List UInt8 := [132, 2, 1, 167, 255, 209, 3, 172]
abbrev dktX9_weight_2 : List UInt8 := dkwX9_weight_2 ++ []
def dkwX9_weight_1 : List UInt8 := [180, 0, 32, 27, 160, 0, 18, 42, 180, 0, 12, 28, 182, 0, 22, 192, 0, 26, 180, 0, 28, 172]
abbrev dktX9_weight_1 : List UInt8 := dkwX9_weight_1 ++ dktX9_weight_2
def dkwX9_weight_0 : List UInt8 := [3, 61, 28, 42, 180, 0, 12, 182, 0, 18, 162, 0, 42, 42, 180, 0, 12, 28, 182, 0, 22, 192, 0, 26]
abbrev dktX9_weight_0 : List UInt8 := dkwX9_weight_0 ++ dktX9_weight_1
theorem dksX9_weight_0 : cX9_weight.data.toList.drop 0 = dktX9_weight_0 := by decide +kernel
theorem dksX9_weight_1 : cX9_weight.data.toList.drop 24 = dktX9_weight_1 := dk_seg dksX9_weight_0 24 rfl rfl
theorem dksX9_weight_2 : cX9_weight.data.toList.drop 46 = dktX9_weight_2 := dk_seg dksX9_weight_1 22 rfl rfl
theorem dX9_weight_0 : decode cX9_weight 0 = .ok (.iconst 0, 1) := dk_3 (dk_at dksX9_weight_0 0 rfl rfl)
theorem dX9_weight_1 : decode cX9_weight 1 = .ok (.istore_n 2, 1) := dk_61 (dk_at dksX9_weight_0 1 rfl rfl)
theorem dX9_weight_2 : decode cX9_weight 2 = .ok (.iload_n 2, 1) := dk_28 (dk_at dksX9_weight_0 2 rfl rfl)
theorem dX9_weight_3 : decode cX9_weight 3 = .ok (.aload_n 0, 1) := dk_42 (dk_at dksX9_weight_0 3 rfl rfl)
theorem dX9_weight_4 : decode cX9_weight 4 = .ok (.getfield 12, 3) := dk_180 0 12 (dk_at dksX9_weight_0 4 rfl rfl)
theorem dX9_weight_7 : decode cX9_weight 7 = .ok (.invokevirtual 18, 3) := dk_182 0 18 (dk_at dksX9_weight_0 7 rfl rfl)
theorem dX9_weight_10 : decode cX9_weight 10 = .ok (.if_icmp .ge 42, 3) := dk_162 0 42 (dk_at dksX9_weight_0 10 rfl rfl)
theorem dX9_weight_13 : decode cX9_weight 13 = .ok (.aload_n 0, 1) := dk_42 (dk_at dksX9_weight_0 13 rfl rfl)
theorem dX9_weight_14 : decode cX9_weight 14 = .ok (.getfield 12, 3) := dk_180 0 12 (dk_at dksX9_weight_0 14 rfl rfl)
theorem dX9_weight_17 : decode cX9_weight 17 = .ok (.iload_n 2, 1) := dk_28 (dk_at dksX9_weight_0 17 rfl rfl)
theorem dX9_weight_18 : decode cX9_weight 18 = .ok (.invokevirtual 22, 3) := dk_182 0 22 (dk_at dksX9_weight_0 18 rfl rfl)
theorem dX9_weight_21 : decode cX9_weight 21 = .ok (.checkcast 26, 3) := dk_192 0 26 (dk_at dksX9_weight_0 21 rfl rfl)
theorem dX9_weight_24 : decode cX9_weight 24 = .ok (.getfield 32, 3) := dk_180 0 32 (dk_at dksX9_weight_1 0 rfl rfl)
theorem dX9_weight_27 : decode cX9_weight 27 = .ok (.iload_n 1, 1) := dk_27 (dk_at dksX9_weight_1 3 rfl rfl)
theorem dX9_weight_28 : decode cX9_weight 28 = .ok (.if_icmp .ne 18, 3) := dk_160 0 18 (dk_at dksX9_weight_1 4 rfl rfl)
theorem dX9_weight_31 : decode cX9_weight 31 = .ok (.aload_n 0, 1) := dk_42 (dk_at dksX9_weight_1 7 rfl rfl)
theorem dX9_weight_32 : decode cX9_weight 32 = .ok (.getfield 12, 3) := dk_180 0 12 (dk_at dksX9_weight_1 8 rfl rfl)
theorem dX9_weight_35 : decode cX9_weight 35 = .ok (.iload_n 2, 1) := dk_28 (dk_at dksX9_weight_1 11 rfl rfl)
theorem dX9_weight_36 : decode cX9_weight 36 = .ok (.invokevirtual 22, 3) := dk_182 0 22 (dk_at dksX9_weight_1 12 rfl rfl)
theorem dX9_weight_39 : decode cX9_weight 39 = .ok (.checkcast 26, 3) := dk_192 0 26 (dk_at dksX9_weight_1 15 rfl rfl)
theorem dX9_weight_42 : decode cX9_weight 42 = .ok (.getfield 28, 3) := dk_180 0 28 (dk_at dksX9_weight_1 18 rfl rfl)
theorem dX9_weight_45 : decode cX9_weight 45 = .ok (.ireturn, 1) := dk_172 (dk_at dksX9_weight_1 21 rfl rfl)
theorem dX9_weight_46 : decode cX9_weight 46 = .ok (.iinc 2 1, 3) := dk_132 2 1 (dk_at dksX9_weight_2 0 rfl rfl)
theorem dX9_weight_49 : decode cX9_weight 49 = .ok (.goto (-47), 3) := dk_167 255 209 (dk_at dksX9_weight_2 3 rfl rfl)
theorem dX9_weight_52 : decode cX9_weight 52 = .ok (.iconst 0, 1) := dk_3 (dk_at dksX9_weight_2 6 rfl rfl)
theorem dX9_weight_53 : decode cX9_weight 53 = .ok (.ireturn, 1) := dk_172 (dk_at dksX9_weight_2 7 rfl rfl)
abbrev cX9_sum : ByteArray := prog_4_method_2_code
def yX9_sum : MethodName := ⟨RX9, "sum", "()I"⟩
def dkwX9_sum_1 : List UInt8 := [192, 0, 26, 180, 0, 28, 96, 60, 132, 2, 1, 167, 255, 225, 27, 172]
abbrev dktX9_sum_1 : List UInt8 := dkwX9_sum_1 ++ []
def dkwX9_sum_0 : List UInt8 := [3, 60, 3, 61, 28, 42, 180, 0, 12, 182, 0, 18, 162, 0, 26, 27, 42, 180, 0, 12, 28, 182, 0, 22]
abbrev dktX9_sum_0 : List UInt8 := dkwX9_sum_0 ++ dktX9_sum_1
theorem dksX9_sum_0 : cX9_sum.data.toList.drop 0 = dktX9_sum_0 := by decide +kernel
theorem dksX9_sum_1 : cX9_sum.data.toList.drop 24 = dktX9_sum_1 := dk_seg dksX9_sum_0 24 rfl rfl
theorem dX9_sum_0 : decode cX9_sum 0 = .ok (.iconst 0, 1) := dk_3 (dk_at dksX9_sum_0 0 rfl rfl)
theorem dX9_sum_1 : decode cX9_sum 1 = .ok (.istore_n 1, 1) := dk_60 (dk_at dksX9_sum_0 1 rfl rfl)
theorem dX9_sum_2 : decode cX9_sum 2 = .ok (.iconst 0, 1) := dk_3 (dk_at dksX9_sum_0 2 rfl rfl)
theorem dX9_sum_3 : decode cX9_sum 3 = .ok (.istore_n 2, 1) := dk_61 (dk_at dksX9_sum_0 3 rfl rfl)
theorem dX9_sum_4 : decode cX9_sum 4 = .ok (.iload_n 2, 1) := dk_28 (dk_at dksX9_sum_0 4 rfl rfl)
theorem dX9_sum_5 : decode cX9_sum 5 = .ok (.aload_n 0, 1) := dk_42 (dk_at dksX9_sum_0 5 rfl rfl)
theorem dX9_sum_6 : decode cX9_sum 6 = .ok (.getfield 12, 3) := dk_180 0 12 (dk_at dksX9_sum_0 6 rfl rfl)
theorem dX9_sum_9 : decode cX9_sum 9 = .ok (.invokevirtual 18, 3) := dk_182 0 18 (dk_at dksX9_sum_0 9 rfl rfl)
theorem dX9_sum_12 : decode cX9_sum 12 = .ok (.if_icmp .ge 26, 3) := dk_162 0 26 (dk_at dksX9_sum_0 12 rfl rfl)
theorem dX9_sum_15 : decode cX9_sum 15 = .ok (.iload_n 1, 1) := dk_27 (dk_at dksX9_sum_0 15 rfl rfl)
theorem dX9_sum_16 : decode cX9_sum 16 = .ok (.aload_n 0, 1) := dk_42 (dk_at dksX9_sum_0 16 rfl rfl)
theorem dX9_sum_17 : decode cX9_sum 17 = .ok (.getfield 12, 3) := dk_180 0 12 (dk_at dksX9_sum_0 17 rfl rfl)
theorem dX9_sum_20 : decode cX9_sum 20 = .ok (.iload_n 2, 1) := dk_28 (dk_at dksX9_sum_0 20 rfl rfl)
theorem dX9_sum_21 : decode cX9_sum 21 = .ok (.invokevirtual 22, 3) := dk_182 0 22 (dk_at dksX9_sum_0 21 rfl rfl)
theorem dX9_sum_24 : decode cX9_sum 24 = .ok (.checkcast 26, 3) := dk_192 0 26 (dk_at dksX9_sum_1 0 rfl rfl)
theorem dX9_sum_27 : decode cX9_sum 27 = .ok (.getfield 28, 3) := dk_180 0 28 (dk_at dksX9_sum_1 3 rfl rfl)
theorem dX9_sum_30 : decode cX9_sum 30 = .ok (.iadd, 1) := dk_96 (dk_at dksX9_sum_1 6 rfl rfl)
theorem dX9_sum_31 : decode cX9_sum 31 = .ok (.istore_n 1, 1) := dk_60 (dk_at dksX9_sum_1 7 rfl rfl)
theorem dX9_sum_32 : decode cX9_sum 32 = .ok (.iinc 2 1, 3) := dk_132 2 1 (dk_at dksX9_sum_1 8 rfl rfl)
theorem dX9_sum_35 : decode cX9_sum 35 = .ok (.goto (-31), 3) := dk_167 255 225 (dk_at dksX9_sum_1 11 rfl rfl)
theorem dX9_sum_38 : decode cX9_sum 38 = .ok (.iload_n 1, 1) := dk_27 (dk_at dksX9_sum_1 14 rfl rfl)
theorem dX9_sum_39 : decode cX9_sum 39 = .ok (.ireturn, 1) := dk_172 (dk_at dksX9_sum_1 15 rfl rfl)
abbrev cX9_chosen : ByteArray := prog_4_method_4_code
def yX9_chosen : MethodName := ⟨RX9, "chosen", "(II)I"⟩
def dkwX9_chosen_3 : List UInt8 := [132, 4, 1, 167, 255, 188, 28, 172]
abbrev dktX9_chosen_3 : List UInt8 := dkwX9_chosen_3 ++ []
def dkwX9_chosen_2 : List UInt8 := [180, 0, 32, 172, 29, 42, 180, 0, 12, 21, 4, 182, 0, 22, 192, 0, 26, 180, 0, 28, 100, 62]
abbrev dktX9_chosen_2 : List UInt8 := dkwX9_chosen_2 ++ dktX9_chosen_3
def dkwX9_chosen_1 : List UInt8 := [182, 0, 22, 192, 0, 26, 180, 0, 28, 162, 0, 19, 42, 180, 0, 12, 21, 4, 182, 0, 22, 192, 0, 26]
abbrev dktX9_chosen_1 : List UInt8 := dkwX9_chosen_1 ++ dktX9_chosen_2
def dkwX9_chosen_0 : List UInt8 := [27, 62, 3, 54, 4, 21, 4, 42, 180, 0, 12, 182, 0, 18, 162, 0, 62, 29, 42, 180, 0, 12, 21, 4]
abbrev dktX9_chosen_0 : List UInt8 := dkwX9_chosen_0 ++ dktX9_chosen_1
theorem dksX9_chosen_0 : cX9_chosen.data.toList.drop 0 = dktX9_chosen_0 := by decide +kernel
theorem dksX9_chosen_1 : cX9_chosen.data.toList.drop 24 = dktX9_chosen_1 := dk_seg dksX9_chosen_0 24 rfl rfl
theorem dksX9_chosen_2 : cX9_chosen.data.toList.drop 48 = dktX9_chosen_2 := dk_seg dksX9_chosen_1 24 rfl rfl
theorem dksX9_chosen_3 : cX9_chosen.data.toList.drop 70 = dktX9_chosen_3 := dk_seg dksX9_chosen_2 22 rfl rfl
theorem dX9_chosen_0 : decode cX9_chosen 0 = .ok (.iload_n 1, 1) := dk_27 (dk_at dksX9_chosen_0 0 rfl rfl)
theorem dX9_chosen_1 : decode cX9_chosen 1 = .ok (.istore_n 3, 1) := dk_62 (dk_at dksX9_chosen_0 1 rfl rfl)
theorem dX9_chosen_2 : decode cX9_chosen 2 = .ok (.iconst 0, 1) := dk_3 (dk_at dksX9_chosen_0 2 rfl rfl)
theorem dX9_chosen_3 : decode cX9_chosen 3 = .ok (.istore 4, 2) := dk_54 4 (dk_at dksX9_chosen_0 3 rfl rfl)
theorem dX9_chosen_5 : decode cX9_chosen 5 = .ok (.iload 4, 2) := dk_21 4 (dk_at dksX9_chosen_0 5 rfl rfl)
theorem dX9_chosen_7 : decode cX9_chosen 7 = .ok (.aload_n 0, 1) := dk_42 (dk_at dksX9_chosen_0 7 rfl rfl)
theorem dX9_chosen_8 : decode cX9_chosen 8 = .ok (.getfield 12, 3) := dk_180 0 12 (dk_at dksX9_chosen_0 8 rfl rfl)
theorem dX9_chosen_11 : decode cX9_chosen 11 = .ok (.invokevirtual 18, 3) := dk_182 0 18 (dk_at dksX9_chosen_0 11 rfl rfl)
theorem dX9_chosen_14 : decode cX9_chosen 14 = .ok (.if_icmp .ge 62, 3) := dk_162 0 62 (dk_at dksX9_chosen_0 14 rfl rfl)
theorem dX9_chosen_17 : decode cX9_chosen 17 = .ok (.iload_n 3, 1) := dk_29 (dk_at dksX9_chosen_0 17 rfl rfl)
theorem dX9_chosen_18 : decode cX9_chosen 18 = .ok (.aload_n 0, 1) := dk_42 (dk_at dksX9_chosen_0 18 rfl rfl)
theorem dX9_chosen_19 : decode cX9_chosen 19 = .ok (.getfield 12, 3) := dk_180 0 12 (dk_at dksX9_chosen_0 19 rfl rfl)
theorem dX9_chosen_22 : decode cX9_chosen 22 = .ok (.iload 4, 2) := dk_21 4 (dk_at dksX9_chosen_0 22 rfl rfl)
theorem dX9_chosen_24 : decode cX9_chosen 24 = .ok (.invokevirtual 22, 3) := dk_182 0 22 (dk_at dksX9_chosen_1 0 rfl rfl)
theorem dX9_chosen_27 : decode cX9_chosen 27 = .ok (.checkcast 26, 3) := dk_192 0 26 (dk_at dksX9_chosen_1 3 rfl rfl)
theorem dX9_chosen_30 : decode cX9_chosen 30 = .ok (.getfield 28, 3) := dk_180 0 28 (dk_at dksX9_chosen_1 6 rfl rfl)
theorem dX9_chosen_33 : decode cX9_chosen 33 = .ok (.if_icmp .ge 19, 3) := dk_162 0 19 (dk_at dksX9_chosen_1 9 rfl rfl)
theorem dX9_chosen_36 : decode cX9_chosen 36 = .ok (.aload_n 0, 1) := dk_42 (dk_at dksX9_chosen_1 12 rfl rfl)
theorem dX9_chosen_37 : decode cX9_chosen 37 = .ok (.getfield 12, 3) := dk_180 0 12 (dk_at dksX9_chosen_1 13 rfl rfl)
theorem dX9_chosen_40 : decode cX9_chosen 40 = .ok (.iload 4, 2) := dk_21 4 (dk_at dksX9_chosen_1 16 rfl rfl)
theorem dX9_chosen_42 : decode cX9_chosen 42 = .ok (.invokevirtual 22, 3) := dk_182 0 22 (dk_at dksX9_chosen_1 18 rfl rfl)
theorem dX9_chosen_45 : decode cX9_chosen 45 = .ok (.checkcast 26, 3) := dk_192 0 26 (dk_at dksX9_chosen_1 21 rfl rfl)
theorem dX9_chosen_48 : decode cX9_chosen 48 = .ok (.getfield 32, 3) := dk_180 0 32 (dk_at dksX9_chosen_2 0 rfl rfl)
theorem dX9_chosen_51 : decode cX9_chosen 51 = .ok (.ireturn, 1) := dk_172 (dk_at dksX9_chosen_2 3 rfl rfl)
theorem dX9_chosen_52 : decode cX9_chosen 52 = .ok (.iload_n 3, 1) := dk_29 (dk_at dksX9_chosen_2 4 rfl rfl)
theorem dX9_chosen_53 : decode cX9_chosen 53 = .ok (.aload_n 0, 1) := dk_42 (dk_at dksX9_chosen_2 5 rfl rfl)
theorem dX9_chosen_54 : decode cX9_chosen 54 = .ok (.getfield 12, 3) := dk_180 0 12 (dk_at dksX9_chosen_2 6 rfl rfl)
theorem dX9_chosen_57 : decode cX9_chosen 57 = .ok (.iload 4, 2) := dk_21 4 (dk_at dksX9_chosen_2 9 rfl rfl)
theorem dX9_chosen_59 : decode cX9_chosen 59 = .ok (.invokevirtual 22, 3) := dk_182 0 22 (dk_at dksX9_chosen_2 11 rfl rfl)
theorem dX9_chosen_62 : decode cX9_chosen 62 = .ok (.checkcast 26, 3) := dk_192 0 26 (dk_at dksX9_chosen_2 14 rfl rfl)
theorem dX9_chosen_65 : decode cX9_chosen 65 = .ok (.getfield 28, 3) := dk_180 0 28 (dk_at dksX9_chosen_2 17 rfl rfl)
theorem dX9_chosen_68 : decode cX9_chosen 68 = .ok (.isub, 1) := dk_100 (dk_at dksX9_chosen_2 20 rfl rfl)
theorem dX9_chosen_69 : decode cX9_chosen 69 = .ok (.istore_n 3, 1) := dk_62 (dk_at dksX9_chosen_2 21 rfl rfl)
theorem dX9_chosen_70 : decode cX9_chosen 70 = .ok (.iinc 4 1, 3) := dk_132 4 1 (dk_at dksX9_chosen_3 0 rfl rfl)
theorem dX9_chosen_73 : decode cX9_chosen 73 = .ok (.goto (-68), 3) := dk_167 255 188 (dk_at dksX9_chosen_3 3 rfl rfl)
theorem dX9_chosen_76 : decode cX9_chosen 76 = .ok (.iload_n 2, 1) := dk_28 (dk_at dksX9_chosen_3 6 rfl rfl)
theorem dX9_chosen_77 : decode cX9_chosen 77 = .ok (.ireturn, 1) := dk_172 (dk_at dksX9_chosen_3 7 rfl rfl)
theorem q134 : (Jvm.Cond.initialized "BalloonMail$Choices") ∈ lw_all := lw_g (lw_at lw_m1 39 rfl) rfl
theorem q451 : (Jvm.Cond.selects "BalloonMail$Choices" ({ cls := "java/lang/Object", name := "getClass", desc := "()Ljava/lang/Class;" } : Jvm.MethodName) ({ cls := "java/lang/Object", name := "getClass", desc := "()Ljava/lang/Class;" } : Jvm.MethodName)) ∈ lw_all := lw_g (lw_at lw_m2 116 rfl) rfl
theorem q1132 : (Jvm.Cond.instantiable "BalloonMail$Choices" (1 : Nat)) ∈ lw_all := lw_g (lw_at lw_m5 77 rfl) rfl
theorem q1134 : (Jvm.Cond.instanceMethod ({ cls := "BalloonMail$Choices", name := "<init>", desc := "()V" } : Jvm.MethodName)) ∈ lw_all := lw_g (lw_at lw_m5 79 rfl) rfl
theorem q1135 : (Jvm.Cond.code ({ cls := "BalloonMail$Choices", name := "<init>", desc := "()V" } : Jvm.MethodName) prog_4_method_1_code (1 : Nat) (Option.none : Option Jvm.ClassFile.FieldType)) ∈ lw_all := lw_g (lw_at lw_m5 80 rfl) rfl
theorem q1136 : (Jvm.Cond.methodLink "BalloonMail$Choices" (1 : Nat) ({ cls := "java/lang/Object", name := "<init>", desc := "()V" } : Jvm.MethodName)) ∈ lw_all := lw_g (lw_at lw_m5 81 rfl) rfl
theorem q1137 : (Jvm.Cond.classLink "BalloonMail$Choices" (7 : Nat) "java/util/ArrayList") ∈ lw_all := lw_g (lw_at lw_m5 82 rfl) rfl
theorem q1138 : (Jvm.Cond.methodLink "BalloonMail$Choices" (9 : Nat) ({ cls := "java/util/ArrayList", name := "<init>", desc := "(I)V" } : Jvm.MethodName)) ∈ lw_all := lw_g (lw_at lw_m5 83 rfl) rfl
theorem q1139 : (Jvm.Cond.fieldLink "BalloonMail$Choices" (12 : Nat) "BalloonMail$Choices" "all" "Ljava/util/ArrayList;") ∈ lw_all := lw_g (lw_at lw_m5 84 rfl) rfl
theorem q1142 : (Jvm.Cond.laysFinal "BalloonMail$Choices" "BalloonMail$Choices" "all" "Ljava/util/ArrayList;") ∈ lw_all := lw_g (lw_at lw_m5 87 rfl) rfl
theorem q1143 : (Jvm.Cond.soleField "BalloonMail$Choices" "all") ∈ lw_all := lw_g (lw_at lw_m5 88 rfl) rfl
theorem q1144 : (Jvm.Cond.superclass "BalloonMail$Choices" "java/lang/Object") ∈ lw_all := lw_g (lw_at lw_m5 89 rfl) rfl
theorem q1157 : (Jvm.Cond.instanceMethod ({ cls := "BalloonMail$Choices", name := "weight", desc := "(I)I" } : Jvm.MethodName)) ∈ lw_all := lw_g (lw_at lw_m5 102 rfl) rfl
theorem q1158 : (Jvm.Cond.selects "BalloonMail$Choices" ({ cls := "BalloonMail$Choices", name := "weight", desc := "(I)I" } : Jvm.MethodName) ({ cls := "BalloonMail$Choices", name := "weight", desc := "(I)I" } : Jvm.MethodName)) ∈ lw_all := lw_g (lw_at lw_m5 103 rfl) rfl
theorem q1159 : (Jvm.Cond.code ({ cls := "BalloonMail$Choices", name := "weight", desc := "(I)I" } : Jvm.MethodName) prog_4_method_3_code (3 : Nat) (Option.some Jvm.ClassFile.FieldType.int)) ∈ lw_all := lw_g (lw_at lw_m5 104 rfl) rfl
theorem q1160 : (Jvm.Cond.methodLink "BalloonMail$Choices" (18 : Nat) ({ cls := "java/util/ArrayList", name := "size", desc := "()I" } : Jvm.MethodName)) ∈ lw_all := lw_g (lw_at lw_m5 105 rfl) rfl
theorem q1161 : (Jvm.Cond.methodLink "BalloonMail$Choices" (22 : Nat) ({ cls := "java/util/ArrayList", name := "get", desc := "(I)Ljava/lang/Object;" } : Jvm.MethodName)) ∈ lw_all := lw_g (lw_at lw_m5 106 rfl) rfl
theorem q1162 : (Jvm.Cond.classLink "BalloonMail$Choices" (26 : Nat) "BalloonMail$Choice") ∈ lw_all := lw_g (lw_at lw_m5 107 rfl) rfl
theorem q1170 : (Jvm.Cond.instanceMethod ({ cls := "BalloonMail$Choices", name := "sum", desc := "()I" } : Jvm.MethodName)) ∈ lw_all := lw_g (lw_at lw_m5 115 rfl) rfl
theorem q1171 : (Jvm.Cond.selects "BalloonMail$Choices" ({ cls := "BalloonMail$Choices", name := "sum", desc := "()I" } : Jvm.MethodName) ({ cls := "BalloonMail$Choices", name := "sum", desc := "()I" } : Jvm.MethodName)) ∈ lw_all := lw_g (lw_at lw_m5 116 rfl) rfl
theorem q1172 : (Jvm.Cond.code ({ cls := "BalloonMail$Choices", name := "sum", desc := "()I" } : Jvm.MethodName) prog_4_method_2_code (3 : Nat) (Option.some Jvm.ClassFile.FieldType.int)) ∈ lw_all := lw_g (lw_at lw_m5 117 rfl) rfl
theorem q1178 : (Jvm.Cond.fieldLinkNest "BalloonMail$Choices" (32 : Nat) "BalloonMail$Choice" "number" "I" "BalloonMail") ∈ lw_tbl := lw_at lw_m5 123 rfl
theorem q1181 : (Jvm.Cond.fieldLinkNest "BalloonMail$Choices" (28 : Nat) "BalloonMail$Choice" "weight" "I" "BalloonMail") ∈ lw_tbl := lw_at lw_m5 126 rfl
theorem q1841 : (Jvm.Cond.instanceMethod ({ cls := "BalloonMail$Choices", name := "chosen", desc := "(II)I" } : Jvm.MethodName)) ∈ lw_all := lw_g (lw_at lw_m8 66 rfl) rfl
theorem q1842 : (Jvm.Cond.selects "BalloonMail$Choices" ({ cls := "BalloonMail$Choices", name := "chosen", desc := "(II)I" } : Jvm.MethodName) ({ cls := "BalloonMail$Choices", name := "chosen", desc := "(II)I" } : Jvm.MethodName)) ∈ lw_all := lw_g (lw_at lw_m8 67 rfl) rfl
theorem q1843 : (Jvm.Cond.code ({ cls := "BalloonMail$Choices", name := "chosen", desc := "(II)I" } : Jvm.MethodName) prog_4_method_4_code (5 : Nat) (Option.some Jvm.ClassFile.FieldType.int)) ∈ lw_all := lw_g (lw_at lw_m8 68 rfl) rfl
theorem q2715 : (Jvm.Cond.castable "BalloonMail$Choices" "java/lang/Object") ∈ lw_tbl := lw_at lw_m11 220 rfl
theorem in_X9 : ∀ w ∈ wsX90, w ∈ lw_all := lw_in wsX90 [1142] (by decide +kernel) (by decide +kernel)

/-! BalloonMail$Choice -/
set_option maxRecDepth 100000
def RX10 : String := "BalloonMail$Choice"
def TX10 : u_T := fun k => match k with
  | 0 => ("BalloonMail$Choice", "number", "I", true)
  | _ => ("BalloonMail$Choice", "weight", "I", true)
def tyX10 : Nat → FieldType := fun k => match k with
  | 0 => .int
  | _ => .int
abbrev wsX100 : List Cond := u_ws RX10 TX10 2
theorem nmX10 : ∀ a, a < 2 → ∀ b, b < 2 → a ≠ b → (TX10 a).2.1 ≠ (TX10 b).2.1 := by decide +kernel
theorem tyX10_ok : ∀ k, k < 2 → parseFieldDescriptor (TX10 k).2.2.1 = some (tyX10 k) := by decide +kernel
abbrev cX10_init : ByteArray := prog_3_method_1_code
def yX10_init : MethodName := ⟨RX10, "<init>", "(II)V"⟩
def dkwX10_init_0 : List UInt8 := [42, 183, 0, 1, 42, 27, 181, 0, 7, 42, 28, 181, 0, 13, 177]
abbrev dktX10_init_0 : List UInt8 := dkwX10_init_0 ++ []
theorem dksX10_init_0 : cX10_init.data.toList.drop 0 = dktX10_init_0 := by decide +kernel
theorem dX10_init_0 : decode cX10_init 0 = .ok (.aload_n 0, 1) := dk_42 (dk_at dksX10_init_0 0 rfl rfl)
theorem dX10_init_1 : decode cX10_init 1 = .ok (.invokespecial 1, 3) := dk_183 0 1 (dk_at dksX10_init_0 1 rfl rfl)
theorem dX10_init_4 : decode cX10_init 4 = .ok (.aload_n 0, 1) := dk_42 (dk_at dksX10_init_0 4 rfl rfl)
theorem dX10_init_5 : decode cX10_init 5 = .ok (.iload_n 1, 1) := dk_27 (dk_at dksX10_init_0 5 rfl rfl)
theorem dX10_init_6 : decode cX10_init 6 = .ok (.putfield 7, 3) := dk_181 0 7 (dk_at dksX10_init_0 6 rfl rfl)
theorem dX10_init_9 : decode cX10_init 9 = .ok (.aload_n 0, 1) := dk_42 (dk_at dksX10_init_0 9 rfl rfl)
theorem dX10_init_10 : decode cX10_init 10 = .ok (.iload_n 2, 1) := dk_28 (dk_at dksX10_init_0 10 rfl rfl)
theorem dX10_init_11 : decode cX10_init 11 = .ok (.putfield 13, 3) := dk_181 0 13 (dk_at dksX10_init_0 11 rfl rfl)
theorem dX10_init_14 : decode cX10_init 14 = .ok (.return_, 1) := dk_177 (dk_at dksX10_init_0 14 rfl rfl)
theorem q135 : (Jvm.Cond.initialized "BalloonMail$Choice") ∈ lw_all := lw_g (lw_at lw_m1 40 rfl) rfl
theorem q450 : (Jvm.Cond.selects "BalloonMail$Choice" ({ cls := "java/lang/Object", name := "getClass", desc := "()Ljava/lang/Class;" } : Jvm.MethodName) ({ cls := "java/lang/Object", name := "getClass", desc := "()Ljava/lang/Class;" } : Jvm.MethodName)) ∈ lw_all := lw_g (lw_at lw_m2 115 rfl) rfl
theorem q1164 : (Jvm.Cond.instantiable "BalloonMail$Choice" (2 : Nat)) ∈ lw_all := lw_g (lw_at lw_m5 109 rfl) rfl
theorem q1174 : (Jvm.Cond.instanceMethod ({ cls := "BalloonMail$Choice", name := "<init>", desc := "(II)V" } : Jvm.MethodName)) ∈ lw_all := lw_g (lw_at lw_m5 119 rfl) rfl
theorem q1175 : (Jvm.Cond.code ({ cls := "BalloonMail$Choice", name := "<init>", desc := "(II)V" } : Jvm.MethodName) prog_3_method_1_code (3 : Nat) (Option.none : Option Jvm.ClassFile.FieldType)) ∈ lw_all := lw_g (lw_at lw_m5 120 rfl) rfl
theorem q1176 : (Jvm.Cond.methodLink "BalloonMail$Choice" (1 : Nat) ({ cls := "java/lang/Object", name := "<init>", desc := "()V" } : Jvm.MethodName)) ∈ lw_all := lw_g (lw_at lw_m5 121 rfl) rfl
theorem q1177 : (Jvm.Cond.fieldLink "BalloonMail$Choice" (7 : Nat) "BalloonMail$Choice" "number" "I") ∈ lw_all := lw_g (lw_at lw_m5 122 rfl) rfl
theorem q1180 : (Jvm.Cond.fieldLink "BalloonMail$Choice" (13 : Nat) "BalloonMail$Choice" "weight" "I") ∈ lw_all := lw_g (lw_at lw_m5 125 rfl) rfl
theorem q1183 : (Jvm.Cond.laysFinal "BalloonMail$Choice" "BalloonMail$Choice" "number" "I") ∈ lw_all := lw_g (lw_at lw_m5 128 rfl) rfl
theorem q1184 : (Jvm.Cond.soleField "BalloonMail$Choice" "number") ∈ lw_all := lw_g (lw_at lw_m5 129 rfl) rfl
theorem q1185 : (Jvm.Cond.laysFinal "BalloonMail$Choice" "BalloonMail$Choice" "weight" "I") ∈ lw_all := lw_g (lw_at lw_m5 130 rfl) rfl
theorem q1186 : (Jvm.Cond.soleField "BalloonMail$Choice" "weight") ∈ lw_all := lw_g (lw_at lw_m5 131 rfl) rfl
theorem q1187 : (Jvm.Cond.superclass "BalloonMail$Choice" "java/lang/Object") ∈ lw_all := lw_g (lw_at lw_m5 132 rfl) rfl
theorem q2716 : (Jvm.Cond.castable "BalloonMail$Choice" "java/lang/Object") ∈ lw_tbl := lw_at lw_m11 221 rfl
theorem in_X10 : ∀ w ∈ wsX100, w ∈ lw_all := lw_in wsX100 [1183, 1185] (by decide +kernel) (by decide +kernel)

/-! BalloonMail$Balloon -/
set_option maxRecDepth 100000
def RX11 : String := "BalloonMail$Balloon"
def TX11 : u_T := fun k => match k with
  | 0 => ("BalloonMail$Balloon", "capacity", "I", true)
  | _ => ("BalloonMail$Balloon", "pigeons", "I", true)
def tyX11 : Nat → FieldType := fun k => match k with
  | 0 => .int
  | _ => .int
abbrev wsX110 : List Cond := u_ws RX11 TX11 2
theorem nmX11 : ∀ a, a < 2 → ∀ b, b < 2 → a ≠ b → (TX11 a).2.1 ≠ (TX11 b).2.1 := by decide +kernel
theorem tyX11_ok : ∀ k, k < 2 → parseFieldDescriptor (TX11 k).2.2.1 = some (tyX11 k) := by decide +kernel
abbrev cX11_init : ByteArray := prog_2_method_1_code
def yX11_init : MethodName := ⟨RX11, "<init>", "(II)V"⟩
def dkwX11_init_0 : List UInt8 := [42, 183, 0, 1, 42, 27, 181, 0, 7, 42, 28, 181, 0, 13, 177]
abbrev dktX11_init_0 : List UInt8 := dkwX11_init_0 ++ []
theorem dksX11_init_0 : cX11_init.data.toList.drop 0 = dktX11_init_0 := by decide +kernel
theorem dX11_init_0 : decode cX11_init 0 = .ok (.aload_n 0, 1) := dk_42 (dk_at dksX11_init_0 0 rfl rfl)
theorem dX11_init_1 : decode cX11_init 1 = .ok (.invokespecial 1, 3) := dk_183 0 1 (dk_at dksX11_init_0 1 rfl rfl)
theorem dX11_init_4 : decode cX11_init 4 = .ok (.aload_n 0, 1) := dk_42 (dk_at dksX11_init_0 4 rfl rfl)
theorem dX11_init_5 : decode cX11_init 5 = .ok (.iload_n 1, 1) := dk_27 (dk_at dksX11_init_0 5 rfl rfl)
theorem dX11_init_6 : decode cX11_init 6 = .ok (.putfield 7, 3) := dk_181 0 7 (dk_at dksX11_init_0 6 rfl rfl)
theorem dX11_init_9 : decode cX11_init 9 = .ok (.aload_n 0, 1) := dk_42 (dk_at dksX11_init_0 9 rfl rfl)
theorem dX11_init_10 : decode cX11_init 10 = .ok (.iload_n 2, 1) := dk_28 (dk_at dksX11_init_0 10 rfl rfl)
theorem dX11_init_11 : decode cX11_init 11 = .ok (.putfield 13, 3) := dk_181 0 13 (dk_at dksX11_init_0 11 rfl rfl)
theorem dX11_init_14 : decode cX11_init 14 = .ok (.return_, 1) := dk_177 (dk_at dksX11_init_0 14 rfl rfl)
theorem q136 : (Jvm.Cond.initialized "BalloonMail$Balloon") ∈ lw_all := lw_g (lw_at lw_m1 41 rfl) rfl
theorem q449 : (Jvm.Cond.selects "BalloonMail$Balloon" ({ cls := "java/lang/Object", name := "getClass", desc := "()Ljava/lang/Class;" } : Jvm.MethodName) ({ cls := "java/lang/Object", name := "getClass", desc := "()Ljava/lang/Class;" } : Jvm.MethodName)) ∈ lw_all := lw_g (lw_at lw_m2 114 rfl) rfl
theorem q1198 : (Jvm.Cond.instantiable "BalloonMail$Balloon" (2 : Nat)) ∈ lw_all := lw_g (lw_at lw_m5 143 rfl) rfl
theorem q1200 : (Jvm.Cond.instanceMethod ({ cls := "BalloonMail$Balloon", name := "<init>", desc := "(II)V" } : Jvm.MethodName)) ∈ lw_all := lw_g (lw_at lw_m5 145 rfl) rfl
theorem q1201 : (Jvm.Cond.code ({ cls := "BalloonMail$Balloon", name := "<init>", desc := "(II)V" } : Jvm.MethodName) prog_2_method_1_code (3 : Nat) (Option.none : Option Jvm.ClassFile.FieldType)) ∈ lw_all := lw_g (lw_at lw_m5 146 rfl) rfl
theorem q1202 : (Jvm.Cond.methodLink "BalloonMail$Balloon" (1 : Nat) ({ cls := "java/lang/Object", name := "<init>", desc := "()V" } : Jvm.MethodName)) ∈ lw_all := lw_g (lw_at lw_m5 147 rfl) rfl
theorem q1203 : (Jvm.Cond.fieldLink "BalloonMail$Balloon" (7 : Nat) "BalloonMail$Balloon" "capacity" "I") ∈ lw_all := lw_g (lw_at lw_m5 148 rfl) rfl
theorem q1205 : (Jvm.Cond.fieldLink "BalloonMail$Balloon" (13 : Nat) "BalloonMail$Balloon" "pigeons" "I") ∈ lw_all := lw_g (lw_at lw_m5 150 rfl) rfl
theorem q1207 : (Jvm.Cond.laysFinal "BalloonMail$Balloon" "BalloonMail$Balloon" "capacity" "I") ∈ lw_all := lw_g (lw_at lw_m5 152 rfl) rfl
theorem q1208 : (Jvm.Cond.soleField "BalloonMail$Balloon" "capacity") ∈ lw_all := lw_g (lw_at lw_m5 153 rfl) rfl
theorem q1209 : (Jvm.Cond.laysFinal "BalloonMail$Balloon" "BalloonMail$Balloon" "pigeons" "I") ∈ lw_all := lw_g (lw_at lw_m5 154 rfl) rfl
theorem q1210 : (Jvm.Cond.soleField "BalloonMail$Balloon" "pigeons") ∈ lw_all := lw_g (lw_at lw_m5 155 rfl) rfl
theorem q1211 : (Jvm.Cond.superclass "BalloonMail$Balloon" "java/lang/Object") ∈ lw_all := lw_g (lw_at lw_m5 156 rfl) rfl
theorem q2717 : (Jvm.Cond.castable "BalloonMail$Balloon" "java/lang/Object") ∈ lw_tbl := lw_at lw_m11 222 rfl
theorem in_X11 : ∀ w ∈ wsX110, w ∈ lw_all := lw_in wsX110 [1207, 1209] (by decide +kernel) (by decide +kernel)

/-! BalloonMail$Letter -/
set_option maxRecDepth 100000
def RX12 : String := "BalloonMail$Letter"
def TX12 : u_T := fun k => match k with
  | 0 => ("BalloonMail$Letter", "weight", "I", true)
  | _ => ("BalloonMail$Letter", "priority", "I", true)
def tyX12 : Nat → FieldType := fun k => match k with
  | 0 => .int
  | _ => .int
abbrev wsX120 : List Cond := u_ws RX12 TX12 2
theorem nmX12 : ∀ a, a < 2 → ∀ b, b < 2 → a ≠ b → (TX12 a).2.1 ≠ (TX12 b).2.1 := by decide +kernel
theorem tyX12_ok : ∀ k, k < 2 → parseFieldDescriptor (TX12 k).2.2.1 = some (tyX12 k) := by decide +kernel
abbrev cX12_init : ByteArray := prog_7_method_1_code
def yX12_init : MethodName := ⟨RX12, "<init>", "(II)V"⟩
def dkwX12_init_0 : List UInt8 := [42, 183, 0, 1, 42, 27, 181, 0, 7, 42, 28, 181, 0, 13, 177]
abbrev dktX12_init_0 : List UInt8 := dkwX12_init_0 ++ []
theorem dksX12_init_0 : cX12_init.data.toList.drop 0 = dktX12_init_0 := by decide +kernel
theorem dX12_init_0 : decode cX12_init 0 = .ok (.aload_n 0, 1) := dk_42 (dk_at dksX12_init_0 0 rfl rfl)
theorem dX12_init_1 : decode cX12_init 1 = .ok (.invokespecial 1, 3) := dk_183 0 1 (dk_at dksX12_init_0 1 rfl rfl)
theorem dX12_init_4 : decode cX12_init 4 = .ok (.aload_n 0, 1) := dk_42 (dk_at dksX12_init_0 4 rfl rfl)
theorem dX12_init_5 : decode cX12_init 5 = .ok (.iload_n 1, 1) := dk_27 (dk_at dksX12_init_0 5 rfl rfl)
theorem dX12_init_6 : decode cX12_init 6 = .ok (.putfield 7, 3) := dk_181 0 7 (dk_at dksX12_init_0 6 rfl rfl)
theorem dX12_init_9 : decode cX12_init 9 = .ok (.aload_n 0, 1) := dk_42 (dk_at dksX12_init_0 9 rfl rfl)
theorem dX12_init_10 : decode cX12_init 10 = .ok (.iload_n 2, 1) := dk_28 (dk_at dksX12_init_0 10 rfl rfl)
theorem dX12_init_11 : decode cX12_init 11 = .ok (.putfield 13, 3) := dk_181 0 13 (dk_at dksX12_init_0 11 rfl rfl)
theorem dX12_init_14 : decode cX12_init 14 = .ok (.return_, 1) := dk_177 (dk_at dksX12_init_0 14 rfl rfl)
theorem q137 : (Jvm.Cond.initialized "BalloonMail$Letter") ∈ lw_all := lw_g (lw_at lw_m1 42 rfl) rfl
theorem q453 : (Jvm.Cond.selects "BalloonMail$Letter" ({ cls := "java/lang/Object", name := "getClass", desc := "()Ljava/lang/Class;" } : Jvm.MethodName) ({ cls := "java/lang/Object", name := "getClass", desc := "()Ljava/lang/Class;" } : Jvm.MethodName)) ∈ lw_all := lw_g (lw_at lw_m2 118 rfl) rfl
theorem q1217 : (Jvm.Cond.instantiable "BalloonMail$Letter" (2 : Nat)) ∈ lw_all := lw_g (lw_at lw_m5 162 rfl) rfl
theorem q1219 : (Jvm.Cond.instanceMethod ({ cls := "BalloonMail$Letter", name := "<init>", desc := "(II)V" } : Jvm.MethodName)) ∈ lw_all := lw_g (lw_at lw_m5 164 rfl) rfl
theorem q1220 : (Jvm.Cond.code ({ cls := "BalloonMail$Letter", name := "<init>", desc := "(II)V" } : Jvm.MethodName) prog_7_method_1_code (3 : Nat) (Option.none : Option Jvm.ClassFile.FieldType)) ∈ lw_all := lw_g (lw_at lw_m5 165 rfl) rfl
theorem q1221 : (Jvm.Cond.methodLink "BalloonMail$Letter" (1 : Nat) ({ cls := "java/lang/Object", name := "<init>", desc := "()V" } : Jvm.MethodName)) ∈ lw_all := lw_g (lw_at lw_m5 166 rfl) rfl
theorem q1222 : (Jvm.Cond.fieldLink "BalloonMail$Letter" (7 : Nat) "BalloonMail$Letter" "weight" "I") ∈ lw_all := lw_g (lw_at lw_m5 167 rfl) rfl
theorem q1225 : (Jvm.Cond.fieldLink "BalloonMail$Letter" (13 : Nat) "BalloonMail$Letter" "priority" "I") ∈ lw_all := lw_g (lw_at lw_m5 170 rfl) rfl
theorem q1228 : (Jvm.Cond.laysFinal "BalloonMail$Letter" "BalloonMail$Letter" "weight" "I") ∈ lw_all := lw_g (lw_at lw_m5 173 rfl) rfl
theorem q1229 : (Jvm.Cond.soleField "BalloonMail$Letter" "weight") ∈ lw_all := lw_g (lw_at lw_m5 174 rfl) rfl
theorem q1230 : (Jvm.Cond.laysFinal "BalloonMail$Letter" "BalloonMail$Letter" "priority" "I") ∈ lw_all := lw_g (lw_at lw_m5 175 rfl) rfl
theorem q1231 : (Jvm.Cond.soleField "BalloonMail$Letter" "priority") ∈ lw_all := lw_g (lw_at lw_m5 176 rfl) rfl
theorem q1232 : (Jvm.Cond.superclass "BalloonMail$Letter" "java/lang/Object") ∈ lw_all := lw_g (lw_at lw_m5 177 rfl) rfl
theorem q2718 : (Jvm.Cond.castable "BalloonMail$Letter" "java/lang/Object") ∈ lw_tbl := lw_at lw_m11 223 rfl
theorem in_X12 : ∀ w ∈ wsX120, w ∈ lw_all := lw_in wsX120 [1228, 1230] (by decide +kernel) (by decide +kernel)

/-! BalloonMail$Event -/
set_option maxRecDepth 100000
def RX13 : String := "BalloonMail$Event"
def TX13 : u_T := fun k => match k with
  | 0 => ("BalloonMail$Event", "kind", "I", true)
  | 1 => ("BalloonMail$Event", "number", "I", true)
  | _ => ("BalloonMail$Event", "day", "I", true)
def tyX13 : Nat → FieldType := fun k => match k with
  | 0 => .int
  | 1 => .int
  | _ => .int
abbrev wsX130 : List Cond := u_ws RX13 TX13 3
theorem nmX13 : ∀ a, a < 3 → ∀ b, b < 3 → a ≠ b → (TX13 a).2.1 ≠ (TX13 b).2.1 := by decide +kernel
theorem tyX13_ok : ∀ k, k < 3 → parseFieldDescriptor (TX13 k).2.2.1 = some (tyX13 k) := by decide +kernel
abbrev cX13_init : ByteArray := prog_5_method_1_code
def yX13_init : MethodName := ⟨RX13, "<init>", "(III)V"⟩
def dkwX13_init_0 : List UInt8 := [42, 183, 0, 1, 42, 27, 181, 0, 7, 42, 28, 181, 0, 13, 42, 29, 181, 0, 16, 177]
abbrev dktX13_init_0 : List UInt8 := dkwX13_init_0 ++ []
theorem dksX13_init_0 : cX13_init.data.toList.drop 0 = dktX13_init_0 := by decide +kernel
theorem dX13_init_0 : decode cX13_init 0 = .ok (.aload_n 0, 1) := dk_42 (dk_at dksX13_init_0 0 rfl rfl)
theorem dX13_init_1 : decode cX13_init 1 = .ok (.invokespecial 1, 3) := dk_183 0 1 (dk_at dksX13_init_0 1 rfl rfl)
theorem dX13_init_4 : decode cX13_init 4 = .ok (.aload_n 0, 1) := dk_42 (dk_at dksX13_init_0 4 rfl rfl)
theorem dX13_init_5 : decode cX13_init 5 = .ok (.iload_n 1, 1) := dk_27 (dk_at dksX13_init_0 5 rfl rfl)
theorem dX13_init_6 : decode cX13_init 6 = .ok (.putfield 7, 3) := dk_181 0 7 (dk_at dksX13_init_0 6 rfl rfl)
theorem dX13_init_9 : decode cX13_init 9 = .ok (.aload_n 0, 1) := dk_42 (dk_at dksX13_init_0 9 rfl rfl)
theorem dX13_init_10 : decode cX13_init 10 = .ok (.iload_n 2, 1) := dk_28 (dk_at dksX13_init_0 10 rfl rfl)
theorem dX13_init_11 : decode cX13_init 11 = .ok (.putfield 13, 3) := dk_181 0 13 (dk_at dksX13_init_0 11 rfl rfl)
theorem dX13_init_14 : decode cX13_init 14 = .ok (.aload_n 0, 1) := dk_42 (dk_at dksX13_init_0 14 rfl rfl)
theorem dX13_init_15 : decode cX13_init 15 = .ok (.iload_n 3, 1) := dk_29 (dk_at dksX13_init_0 15 rfl rfl)
theorem dX13_init_16 : decode cX13_init 16 = .ok (.putfield 16, 3) := dk_181 0 16 (dk_at dksX13_init_0 16 rfl rfl)
theorem dX13_init_19 : decode cX13_init 19 = .ok (.return_, 1) := dk_177 (dk_at dksX13_init_0 19 rfl rfl)
theorem q146 : (Jvm.Cond.initialized "BalloonMail$Event") ∈ lw_all := lw_g (lw_at lw_m1 51 rfl) rfl
theorem q452 : (Jvm.Cond.selects "BalloonMail$Event" ({ cls := "java/lang/Object", name := "getClass", desc := "()Ljava/lang/Class;" } : Jvm.MethodName) ({ cls := "java/lang/Object", name := "getClass", desc := "()Ljava/lang/Class;" } : Jvm.MethodName)) ∈ lw_all := lw_g (lw_at lw_m2 117 rfl) rfl
theorem q1860 : (Jvm.Cond.instantiable "BalloonMail$Event" (3 : Nat)) ∈ lw_all := lw_g (lw_at lw_m8 85 rfl) rfl
theorem q1862 : (Jvm.Cond.instanceMethod ({ cls := "BalloonMail$Event", name := "<init>", desc := "(III)V" } : Jvm.MethodName)) ∈ lw_all := lw_g (lw_at lw_m8 87 rfl) rfl
theorem q1863 : (Jvm.Cond.code ({ cls := "BalloonMail$Event", name := "<init>", desc := "(III)V" } : Jvm.MethodName) prog_5_method_1_code (4 : Nat) (Option.none : Option Jvm.ClassFile.FieldType)) ∈ lw_all := lw_g (lw_at lw_m8 88 rfl) rfl
theorem q1864 : (Jvm.Cond.methodLink "BalloonMail$Event" (1 : Nat) ({ cls := "java/lang/Object", name := "<init>", desc := "()V" } : Jvm.MethodName)) ∈ lw_all := lw_g (lw_at lw_m8 89 rfl) rfl
theorem q1865 : (Jvm.Cond.fieldLink "BalloonMail$Event" (7 : Nat) "BalloonMail$Event" "kind" "I") ∈ lw_all := lw_g (lw_at lw_m8 90 rfl) rfl
theorem q1867 : (Jvm.Cond.fieldLink "BalloonMail$Event" (13 : Nat) "BalloonMail$Event" "number" "I") ∈ lw_all := lw_g (lw_at lw_m8 92 rfl) rfl
theorem q1869 : (Jvm.Cond.fieldLink "BalloonMail$Event" (16 : Nat) "BalloonMail$Event" "day" "I") ∈ lw_all := lw_g (lw_at lw_m8 94 rfl) rfl
theorem q1871 : (Jvm.Cond.laysFinal "BalloonMail$Event" "BalloonMail$Event" "kind" "I") ∈ lw_all := lw_g (lw_at lw_m8 96 rfl) rfl
theorem q1872 : (Jvm.Cond.soleField "BalloonMail$Event" "kind") ∈ lw_all := lw_g (lw_at lw_m8 97 rfl) rfl
theorem q1873 : (Jvm.Cond.laysFinal "BalloonMail$Event" "BalloonMail$Event" "number" "I") ∈ lw_all := lw_g (lw_at lw_m8 98 rfl) rfl
theorem q1874 : (Jvm.Cond.soleField "BalloonMail$Event" "number") ∈ lw_all := lw_g (lw_at lw_m8 99 rfl) rfl
theorem q1875 : (Jvm.Cond.laysFinal "BalloonMail$Event" "BalloonMail$Event" "day" "I") ∈ lw_all := lw_g (lw_at lw_m8 100 rfl) rfl
theorem q1876 : (Jvm.Cond.soleField "BalloonMail$Event" "day") ∈ lw_all := lw_g (lw_at lw_m8 101 rfl) rfl
theorem q1877 : (Jvm.Cond.superclass "BalloonMail$Event" "java/lang/Object") ∈ lw_all := lw_g (lw_at lw_m8 102 rfl) rfl
theorem q2725 : (Jvm.Cond.castable "BalloonMail$Event" "java/lang/Object") ∈ lw_tbl := lw_at lw_m11 230 rfl
theorem in_X13 : ∀ w ∈ wsX130, w ∈ lw_all := lw_in wsX130 [1871, 1873, 1875] (by decide +kernel) (by decide +kernel)

/-! BalloonMail$Pigeon -/
set_option maxRecDepth 100000
def RX14 : String := "BalloonMail$Pigeon"
def TX14 : u_T := fun k => match k with
  | 0 => ("BalloonMail$Pigeon", "balloon", "I", true)
  | _ => ("BalloonMail$Pigeon", "due", "I", true)
def tyX14 : Nat → FieldType := fun k => match k with
  | 0 => .int
  | _ => .int
abbrev wsX140 : List Cond := u_ws RX14 TX14 2
theorem nmX14 : ∀ a, a < 2 → ∀ b, b < 2 → a ≠ b → (TX14 a).2.1 ≠ (TX14 b).2.1 := by decide +kernel
theorem tyX14_ok : ∀ k, k < 2 → parseFieldDescriptor (TX14 k).2.2.1 = some (tyX14 k) := by decide +kernel
abbrev cX14_init : ByteArray := prog_10_method_1_code
def yX14_init : MethodName := ⟨RX14, "<init>", "(II)V"⟩
def dkwX14_init_0 : List UInt8 := [42, 183, 0, 1, 42, 27, 181, 0, 7, 42, 28, 181, 0, 13, 177]
abbrev dktX14_init_0 : List UInt8 := dkwX14_init_0 ++ []
theorem dksX14_init_0 : cX14_init.data.toList.drop 0 = dktX14_init_0 := by decide +kernel
theorem dX14_init_0 : decode cX14_init 0 = .ok (.aload_n 0, 1) := dk_42 (dk_at dksX14_init_0 0 rfl rfl)
theorem dX14_init_1 : decode cX14_init 1 = .ok (.invokespecial 1, 3) := dk_183 0 1 (dk_at dksX14_init_0 1 rfl rfl)
theorem dX14_init_4 : decode cX14_init 4 = .ok (.aload_n 0, 1) := dk_42 (dk_at dksX14_init_0 4 rfl rfl)
theorem dX14_init_5 : decode cX14_init 5 = .ok (.iload_n 1, 1) := dk_27 (dk_at dksX14_init_0 5 rfl rfl)
theorem dX14_init_6 : decode cX14_init 6 = .ok (.putfield 7, 3) := dk_181 0 7 (dk_at dksX14_init_0 6 rfl rfl)
theorem dX14_init_9 : decode cX14_init 9 = .ok (.aload_n 0, 1) := dk_42 (dk_at dksX14_init_0 9 rfl rfl)
theorem dX14_init_10 : decode cX14_init 10 = .ok (.iload_n 2, 1) := dk_28 (dk_at dksX14_init_0 10 rfl rfl)
theorem dX14_init_11 : decode cX14_init 11 = .ok (.putfield 13, 3) := dk_181 0 13 (dk_at dksX14_init_0 11 rfl rfl)
theorem dX14_init_14 : decode cX14_init 14 = .ok (.return_, 1) := dk_177 (dk_at dksX14_init_0 14 rfl rfl)
theorem q148 : (Jvm.Cond.initialized "BalloonMail$Pigeon") ∈ lw_all := lw_g (lw_at lw_m1 53 rfl) rfl
theorem q456 : (Jvm.Cond.selects "BalloonMail$Pigeon" ({ cls := "java/lang/Object", name := "getClass", desc := "()Ljava/lang/Class;" } : Jvm.MethodName) ({ cls := "java/lang/Object", name := "getClass", desc := "()Ljava/lang/Class;" } : Jvm.MethodName)) ∈ lw_all := lw_g (lw_at lw_m2 121 rfl) rfl
theorem q1900 : (Jvm.Cond.instantiable "BalloonMail$Pigeon" (2 : Nat)) ∈ lw_all := lw_g (lw_at lw_m8 125 rfl) rfl
theorem q1902 : (Jvm.Cond.instanceMethod ({ cls := "BalloonMail$Pigeon", name := "<init>", desc := "(II)V" } : Jvm.MethodName)) ∈ lw_all := lw_g (lw_at lw_m8 127 rfl) rfl
theorem q1903 : (Jvm.Cond.code ({ cls := "BalloonMail$Pigeon", name := "<init>", desc := "(II)V" } : Jvm.MethodName) prog_10_method_1_code (3 : Nat) (Option.none : Option Jvm.ClassFile.FieldType)) ∈ lw_all := lw_g (lw_at lw_m8 128 rfl) rfl
theorem q1904 : (Jvm.Cond.methodLink "BalloonMail$Pigeon" (1 : Nat) ({ cls := "java/lang/Object", name := "<init>", desc := "()V" } : Jvm.MethodName)) ∈ lw_all := lw_g (lw_at lw_m8 129 rfl) rfl
theorem q1905 : (Jvm.Cond.fieldLink "BalloonMail$Pigeon" (7 : Nat) "BalloonMail$Pigeon" "balloon" "I") ∈ lw_all := lw_g (lw_at lw_m8 130 rfl) rfl
theorem q1907 : (Jvm.Cond.fieldLink "BalloonMail$Pigeon" (13 : Nat) "BalloonMail$Pigeon" "due" "I") ∈ lw_all := lw_g (lw_at lw_m8 132 rfl) rfl
theorem q1909 : (Jvm.Cond.laysFinal "BalloonMail$Pigeon" "BalloonMail$Pigeon" "balloon" "I") ∈ lw_all := lw_g (lw_at lw_m8 134 rfl) rfl
theorem q1910 : (Jvm.Cond.soleField "BalloonMail$Pigeon" "balloon") ∈ lw_all := lw_g (lw_at lw_m8 135 rfl) rfl
theorem q1911 : (Jvm.Cond.laysFinal "BalloonMail$Pigeon" "BalloonMail$Pigeon" "due" "I") ∈ lw_all := lw_g (lw_at lw_m8 136 rfl) rfl
theorem q1912 : (Jvm.Cond.soleField "BalloonMail$Pigeon" "due") ∈ lw_all := lw_g (lw_at lw_m8 137 rfl) rfl
theorem q1913 : (Jvm.Cond.superclass "BalloonMail$Pigeon" "java/lang/Object") ∈ lw_all := lw_g (lw_at lw_m8 138 rfl) rfl
theorem q2726 : (Jvm.Cond.castable "BalloonMail$Pigeon" "java/lang/Object") ∈ lw_tbl := lw_at lw_m11 231 rfl
theorem in_X14 : ∀ w ∈ wsX140, w ∈ lw_all := lw_in wsX140 [1909, 1911] (by decide +kernel) (by decide +kernel)

theorem q1374 : (Jvm.Cond.interfaceMethod "BalloonMail$Gain" "BalloonMail$Gain" "in" "(LBalloonMail$Region;)J") ∈ lw_tbl := lw_at lw_m6 79 rfl
set_option maxRecDepth 100000
theorem q1375 : (Jvm.Cond.declares ({ cls := "BalloonMail$Gain", name := "in", desc := "(LBalloonMail$Region;)J" } : Jvm.MethodName)) ∈ lw_tbl := lw_at lw_m6 80 rfl

theorem q601 : (Jvm.Cond.sameMethod "[B" "java/lang/Object" "clone" "()Ljava/lang/Object;") ∈ lw_all := lw_g (lw_at lw_m3 26 rfl) rfl
set_option maxRecDepth 100000
theorem q604 : (Jvm.Cond.selects "[B" ({ cls := "[B", name := "clone", desc := "()Ljava/lang/Object;" } : Jvm.MethodName) ({ cls := "java/lang/Object", name := "clone", desc := "()Ljava/lang/Object;" } : Jvm.MethodName)) ∈ lw_all := lw_g (lw_at lw_m3 29 rfl) rfl
theorem q605 : (Jvm.Cond.castable "[B" "java/lang/Cloneable") ∈ lw_tbl := lw_at lw_m3 30 rfl
theorem q2735 : (Jvm.Cond.castable "[B" "java/lang/Object") ∈ lw_tbl := lw_at lw_m12 0 rfl

theorem q2737 : (Jvm.Cond.castable "[I" "java/lang/Object") ∈ lw_tbl := lw_at lw_m12 2 rfl
set_option maxRecDepth 100000

theorem q1272 : (Jvm.Cond.sameMethod "[J" "java/lang/Object" "clone" "()Ljava/lang/Object;") ∈ lw_all := lw_g (lw_at lw_m5 217 rfl) rfl
set_option maxRecDepth 100000
theorem q1273 : (Jvm.Cond.selects "[J" ({ cls := "[J", name := "clone", desc := "()Ljava/lang/Object;" } : Jvm.MethodName) ({ cls := "java/lang/Object", name := "clone", desc := "()Ljava/lang/Object;" } : Jvm.MethodName)) ∈ lw_all := lw_g (lw_at lw_m5 218 rfl) rfl
theorem q1274 : (Jvm.Cond.castable "[J" "java/lang/Cloneable") ∈ lw_tbl := lw_at lw_m5 219 rfl
theorem q2738 : (Jvm.Cond.castable "[J" "java/lang/Object") ∈ lw_tbl := lw_at lw_m12 3 rfl

theorem q2739 : (Jvm.Cond.castable "[LBalloonMail$State;" "java/lang/Object") ∈ lw_tbl := lw_at lw_m12 4 rfl
set_option maxRecDepth 100000

theorem q2731 : (Jvm.Cond.sameMethod "[Ljava/lang/Object;" "java/lang/Object" "getClass" "()Ljava/lang/Class;") ∈ lw_all := lw_g (lw_at lw_m11 236 rfl) rfl
set_option maxRecDepth 100000
theorem q2732 : (Jvm.Cond.selects "[Ljava/lang/Object;" ({ cls := "java/lang/Object", name := "getClass", desc := "()Ljava/lang/Class;" } : Jvm.MethodName) ({ cls := "java/lang/Object", name := "getClass", desc := "()Ljava/lang/Class;" } : Jvm.MethodName)) ∈ lw_all := lw_g (lw_at lw_m11 237 rfl) rfl
theorem q2734 : (Jvm.Cond.castable "[Ljava/lang/Object;" "java/lang/Object") ∈ lw_tbl := lw_at lw_m11 239 rfl

theorem q2736 : (Jvm.Cond.castable "[Ljava/util/BitSet;" "java/lang/Object") ∈ lw_tbl := lw_at lw_m12 1 rfl
set_option maxRecDepth 100000

theorem q2740 : (Jvm.Cond.castable "[Z" "java/lang/Object") ∈ lw_tbl := lw_at lw_m12 5 rfl
set_option maxRecDepth 100000

theorem q130 : (Jvm.Cond.initialized "java/lang/Number") ∈ lw_all := lw_g (lw_at lw_m1 35 rfl) rfl
set_option maxRecDepth 100000

theorem q122 : (Jvm.Cond.initialized "java/lang/System") ∈ lw_all := lw_g (lw_at lw_m1 27 rfl) rfl
set_option maxRecDepth 100000
theorem q611 : (Jvm.Cond.static ({ cls := "java/lang/System", name := "arraycopy", desc := "(Ljava/lang/Object;ILjava/lang/Object;II)V" } : Jvm.MethodName)) ∈ lw_all := lw_g (lw_at lw_m3 36 rfl) rfl
theorem q612 : (Jvm.Cond.native ({ cls := "java/lang/System", name := "arraycopy", desc := "(Ljava/lang/Object;ILjava/lang/Object;II)V" } : Jvm.MethodName)) ∈ lw_all := lw_g (lw_at lw_m3 37 rfl) rfl

theorem q139 : (Jvm.Cond.initialized "java/util/AbstractList$ListItr") ∈ lw_all := lw_g (lw_at lw_m1 44 rfl) rfl
set_option maxRecDepth 100000
theorem q467 : (Jvm.Cond.selects "java/util/AbstractList$ListItr" ({ cls := "java/lang/Object", name := "getClass", desc := "()Ljava/lang/Class;" } : Jvm.MethodName) ({ cls := "java/lang/Object", name := "getClass", desc := "()Ljava/lang/Class;" } : Jvm.MethodName)) ∈ lw_all := lw_g (lw_at lw_m2 132 rfl) rfl
theorem q1608 : (Jvm.Cond.castable "java/util/AbstractList$ListItr" "java/util/Iterator") ∈ lw_tbl := lw_at lw_m7 73 rfl
theorem q1609 : (Jvm.Cond.selects "java/util/AbstractList$ListItr" ({ cls := "java/util/Iterator", name := "hasNext", desc := "()Z" } : Jvm.MethodName) ({ cls := "java/util/AbstractList$Itr", name := "hasNext", desc := "()Z" } : Jvm.MethodName)) ∈ lw_all := lw_g (lw_at lw_m7 74 rfl) rfl
theorem q1610 : (Jvm.Cond.unhidden "java/util/AbstractList$ListItr" "hasNext" "()Z") ∈ lw_tbl := lw_at lw_m7 75 rfl
theorem q1640 : (Jvm.Cond.selects "java/util/AbstractList$ListItr" ({ cls := "java/util/Iterator", name := "next", desc := "()Ljava/lang/Object;" } : Jvm.MethodName) ({ cls := "java/util/AbstractList$Itr", name := "next", desc := "()Ljava/lang/Object;" } : Jvm.MethodName)) ∈ lw_all := lw_g (lw_at lw_m7 105 rfl) rfl
theorem q1641 : (Jvm.Cond.unhidden "java/util/AbstractList$ListItr" "next" "()Ljava/lang/Object;") ∈ lw_tbl := lw_at lw_m7 106 rfl
theorem q1648 : (Jvm.Cond.selects "java/util/AbstractList$ListItr" ({ cls := "java/util/AbstractList$Itr", name := "checkForComodification", desc := "()V" } : Jvm.MethodName) ({ cls := "java/util/AbstractList$Itr", name := "checkForComodification", desc := "()V" } : Jvm.MethodName)) ∈ lw_all := lw_g (lw_at lw_m7 113 rfl) rfl
theorem q1928 : (Jvm.Cond.selects "java/util/AbstractList$ListItr" ({ cls := "java/util/Iterator", name := "remove", desc := "()V" } : Jvm.MethodName) ({ cls := "java/util/AbstractList$Itr", name := "remove", desc := "()V" } : Jvm.MethodName)) ∈ lw_all := lw_g (lw_at lw_m8 153 rfl) rfl
theorem q1929 : (Jvm.Cond.unhidden "java/util/AbstractList$ListItr" "remove" "()V") ∈ lw_tbl := lw_at lw_m8 154 rfl
theorem q2719 : (Jvm.Cond.castable "java/util/AbstractList$ListItr" "java/lang/Object") ∈ lw_tbl := lw_at lw_m11 224 rfl
theorem q2741 : (Jvm.Cond.fieldLink "java/util/AbstractList$ListItr" (1 : Nat) "java/util/AbstractList$ListItr" "this$0" "Ljava/util/AbstractList;") ∈ lw_all := lw_g (lw_at lw_m12 6 rfl) rfl
theorem q2746 : (Jvm.Cond.fieldLink "java/util/AbstractList$ListItr" (13 : Nat) "java/util/AbstractList$ListItr" "cursor" "I") ∈ lw_all := lw_g (lw_at lw_m12 11 rfl) rfl
theorem q2747 : (Jvm.Cond.sameField "java/util/AbstractList$ListItr" "java/util/AbstractList$Itr" "cursor" "I") ∈ lw_all := lw_g (lw_at lw_m12 12 rfl) rfl

theorem q1606 : (Jvm.Cond.interfaceMethod "java/util/Iterator" "java/util/Iterator" "hasNext" "()Z") ∈ lw_tbl := lw_at lw_m7 71 rfl
set_option maxRecDepth 100000
theorem q1607 : (Jvm.Cond.declares ({ cls := "java/util/Iterator", name := "hasNext", desc := "()Z" } : Jvm.MethodName)) ∈ lw_tbl := lw_at lw_m7 72 rfl
theorem q1638 : (Jvm.Cond.interfaceMethod "java/util/Iterator" "java/util/Iterator" "next" "()Ljava/lang/Object;") ∈ lw_tbl := lw_at lw_m7 103 rfl
theorem q1639 : (Jvm.Cond.declares ({ cls := "java/util/Iterator", name := "next", desc := "()Ljava/lang/Object;" } : Jvm.MethodName)) ∈ lw_tbl := lw_at lw_m7 104 rfl
theorem q1926 : (Jvm.Cond.interfaceMethod "java/util/Iterator" "java/util/Iterator" "remove" "()V") ∈ lw_tbl := lw_at lw_m8 151 rfl
theorem q1927 : (Jvm.Cond.declares ({ cls := "java/util/Iterator", name := "remove", desc := "()V" } : Jvm.MethodName)) ∈ lw_tbl := lw_at lw_m8 152 rfl

theorem q179 : (Jvm.Cond.arrayOver (Jvm.ClassFile.FieldType.object "java/lang/Object")) ∈ lw_tbl := lw_at lw_m1 84 rfl
set_option maxRecDepth 100000
theorem q201 : (Jvm.Cond.arrayClass Jvm.ClassFile.FieldType.byte) ∈ lw_all := lw_g (lw_at lw_m1 106 rfl) rfl
theorem q247 : (Jvm.Cond.arrayOver (Jvm.ClassFile.FieldType.object "java/util/BitSet")) ∈ lw_tbl := lw_at lw_m1 152 rfl
theorem q269 : (Jvm.Cond.arrayClass Jvm.ClassFile.FieldType.int) ∈ lw_all := lw_g (lw_at lw_m1 174 rfl) rfl
theorem q312 : (Jvm.Cond.arrayClass Jvm.ClassFile.FieldType.long) ∈ lw_all := lw_g (lw_at lw_m1 217 rfl) rfl
theorem q363 : (Jvm.Cond.arrayOver (Jvm.ClassFile.FieldType.object "BalloonMail$State")) ∈ lw_tbl := lw_at lw_m2 28 rfl
theorem q2288 : (Jvm.Cond.arrayClass Jvm.ClassFile.FieldType.boolean) ∈ lw_all := lw_g (lw_at lw_m10 33 rfl) rfl

