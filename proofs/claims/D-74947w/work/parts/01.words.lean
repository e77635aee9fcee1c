-- ===== PART A: goes FIRST, ahead of the names: the tables' words, and 'selects' of the private methods out of them =====
/-- a private method of a class that the tables say can be made, by its rows of tables_1 -/
def lw_okq (q : MethodName × Nat) : Prop := (q.1.cls ≠ "java/lang/invoke/MethodHandle" ∧ q.1.cls ≠ "java/lang/invoke/VarHandle") ∧ Cond.instantiable q.1.cls q.2 ∈ tables_1 ∧ Cond.privateMethod q.1 ∈ tables_1 ∧ Cond.instanceMethod q.1 ∈ tables_1
set_option maxRecDepth 100000
theorem lw_t1 {w : Cond} (h : w ∈ tables_1_1) : w ∈ tables_1 := List.mem_append_left _ h
theorem lw_t2 {w : Cond} (h : w ∈ tables_1_2) : w ∈ tables_1 := List.mem_append_right _ (List.mem_append_left _ h)
theorem lw_t3 {w : Cond} (h : w ∈ tables_1_3) : w ∈ tables_1 := List.mem_append_right _ (List.mem_append_right _ (List.mem_append_left _ h))
theorem lw_t4 {w : Cond} (h : w ∈ tables_1_4) : w ∈ tables_1 := List.mem_append_right _ (List.mem_append_right _ (List.mem_append_right _ (List.mem_append_left _ h)))
theorem lw_t5 {w : Cond} (h : w ∈ tables_1_5) : w ∈ tables_1 := List.mem_append_right _ (List.mem_append_right _ (List.mem_append_right _ (List.mem_append_right _ (List.mem_append_left _ h))))
theorem lw_t6 {w : Cond} (h : w ∈ tables_1_6) : w ∈ tables_1 := List.mem_append_right _ (List.mem_append_right _ (List.mem_append_right _ (List.mem_append_right _ (List.mem_append_right _ (List.mem_append_left _ h)))))
theorem lw_t7 {w : Cond} (h : w ∈ tables_1_7) : w ∈ tables_1 := List.mem_append_right _ (List.mem_append_right _ (List.mem_append_right _ (List.mem_append_right _ (List.mem_append_right _ (List.mem_append_right _ (List.mem_append_left _ h))))))
theorem lw_t8 {w : Cond} (h : w ∈ tables_1_8) : w ∈ tables_1 := List.mem_append_right _ (List.mem_append_right _ (List.mem_append_right _ (List.mem_append_right _ (List.mem_append_right _ (List.mem_append_right _ (List.mem_append_right _ (List.mem_append_left _ h)))))))
theorem lw_t9 {w : Cond} (h : w ∈ tables_1_9) : w ∈ tables_1 := List.mem_append_right _ (List.mem_append_right _ (List.mem_append_right _ (List.mem_append_right _ (List.mem_append_right _ (List.mem_append_right _ (List.mem_append_right _ (List.mem_append_right _ (List.mem_append_left _ h))))))))
theorem lw_t10 {w : Cond} (h : w ∈ tables_1_10) : w ∈ tables_1 := List.mem_append_right _ (List.mem_append_right _ (List.mem_append_right _ (List.mem_append_right _ (List.mem_append_right _ (List.mem_append_right _ (List.mem_append_right _ (List.mem_append_right _ (List.mem_append_right _ (List.mem_append_left _ h)))))))))
theorem lw_t11 {w : Cond} (h : w ∈ tables_1_11) : w ∈ tables_1 := List.mem_append_right _ (List.mem_append_right _ (List.mem_append_right _ (List.mem_append_right _ (List.mem_append_right _ (List.mem_append_right _ (List.mem_append_right _ (List.mem_append_right _ (List.mem_append_right _ (List.mem_append_right _ (List.mem_append_left _ h))))))))))
theorem lw_t12 {w : Cond} (h : w ∈ tables_1_12) : w ∈ tables_1 := List.mem_append_right _ (List.mem_append_right _ (List.mem_append_right _ (List.mem_append_right _ (List.mem_append_right _ (List.mem_append_right _ (List.mem_append_right _ (List.mem_append_right _ (List.mem_append_right _ (List.mem_append_right _ (List.mem_append_right _ h))))))))))
theorem lw_p0 : lw_okq (⟨"java/util/BitSet", "initWords", "(I)V"⟩, 3) := ⟨⟨by decide +kernel, by decide +kernel⟩, lw_t1 (List.mem_of_getElem? (i := 195) rfl), lw_t1 (List.mem_of_getElem? (i := 201) rfl), lw_t1 (List.mem_of_getElem? (i := 202) rfl)⟩
theorem lw_p1 : lw_okq (⟨"BalloonMail", "appendWord", "(I)V"⟩, 12) := ⟨⟨by decide +kernel, by decide +kernel⟩, lw_t1 (List.mem_of_getElem? (i := 58) rfl), lw_t2 (List.mem_of_getElem? (i := 72) rfl), lw_t2 (List.mem_of_getElem? (i := 73) rfl)⟩
theorem lw_p2 : lw_okq (⟨"BalloonMail$Parser", "advance", "()V"⟩, 10) := ⟨⟨by decide +kernel, by decide +kernel⟩, lw_t2 (List.mem_of_getElem? (i := 84) rfl), lw_t2 (List.mem_of_getElem? (i := 191) rfl), lw_t2 (List.mem_of_getElem? (i := 192) rfl)⟩
theorem lw_p3 : lw_okq (⟨"BalloonMail$Parser", "byteAt", "(I)I"⟩, 10) := ⟨⟨by decide +kernel, by decide +kernel⟩, lw_t2 (List.mem_of_getElem? (i := 84) rfl), lw_t2 (List.mem_of_getElem? (i := 195) rfl), lw_t2 (List.mem_of_getElem? (i := 196) rfl)⟩
theorem lw_p4 : lw_okq (⟨"BalloonMail$Parser", "readWord", "()V"⟩, 10) := ⟨⟨by decide +kernel, by decide +kernel⟩, lw_t2 (List.mem_of_getElem? (i := 84) rfl), lw_t2 (List.mem_of_getElem? (i := 202) rfl), lw_t2 (List.mem_of_getElem? (i := 203) rfl)⟩
theorem lw_p5 : lw_okq (⟨"BalloonMail$Parser", "readNumber", "()V"⟩, 10) := ⟨⟨by decide +kernel, by decide +kernel⟩, lw_t2 (List.mem_of_getElem? (i := 84) rfl), lw_t3 (List.mem_of_getElem? (i := 155) rfl), lw_t3 (List.mem_of_getElem? (i := 156) rfl)⟩
theorem lw_p6 : lw_okq (⟨"BalloonMail$Parser", "require", "(ZI)V"⟩, 10) := ⟨⟨by decide +kernel, by decide +kernel⟩, lw_t2 (List.mem_of_getElem? (i := 84) rfl), lw_t3 (List.mem_of_getElem? (i := 194) rfl), lw_t3 (List.mem_of_getElem? (i := 195) rfl)⟩
theorem lw_p7 : lw_okq (⟨"java/lang/Throwable", "fillInStackTrace", "(I)Ljava/lang/Throwable;"⟩, 6) := ⟨⟨by decide +kernel, by decide +kernel⟩, lw_t3 (List.mem_of_getElem? (i := 237) rfl), lw_t3 (List.mem_of_getElem? (i := 235) rfl), lw_t3 (List.mem_of_getElem? (i := 236) rfl)⟩
theorem lw_p8 : lw_okq (⟨"BalloonMail$Parser", "statement", "()V"⟩, 10) := ⟨⟨by decide +kernel, by decide +kernel⟩, lw_t2 (List.mem_of_getElem? (i := 84) rfl), lw_t4 (List.mem_of_getElem? (i := 30) rfl), lw_t4 (List.mem_of_getElem? (i := 31) rfl)⟩
theorem lw_p9 : lw_okq (⟨"BalloonMail$Parser", "keyword", "()I"⟩, 10) := ⟨⟨by decide +kernel, by decide +kernel⟩, lw_t2 (List.mem_of_getElem? (i := 84) rfl), lw_t4 (List.mem_of_getElem? (i := 34) rfl), lw_t4 (List.mem_of_getElem? (i := 35) rfl)⟩
theorem lw_p10 : lw_okq (⟨"java/util/LinkedList", "checkElementIndex", "(I)V"⟩, 4) := ⟨⟨by decide +kernel, by decide +kernel⟩, lw_t1 (List.mem_of_getElem? (i := 154) rfl), lw_t4 (List.mem_of_getElem? (i := 212) rfl), lw_t4 (List.mem_of_getElem? (i := 213) rfl)⟩
theorem lw_p11 : lw_okq (⟨"java/util/LinkedList", "isElementIndex", "(I)Z"⟩, 4) := ⟨⟨by decide +kernel, by decide +kernel⟩, lw_t1 (List.mem_of_getElem? (i := 154) rfl), lw_t4 (List.mem_of_getElem? (i := 216) rfl), lw_t4 (List.mem_of_getElem? (i := 217) rfl)⟩
theorem lw_p12 : lw_okq (⟨"java/util/LinkedList", "outOfBoundsMsg", "(I)Ljava/lang/String;"⟩, 4) := ⟨⟨by decide +kernel, by decide +kernel⟩, lw_t1 (List.mem_of_getElem? (i := 154) rfl), lw_t4 (List.mem_of_getElem? (i := 221) rfl), lw_t4 (List.mem_of_getElem? (i := 222) rfl)⟩
theorem lw_p13 : lw_okq (⟨"BalloonMail$Parser", "region", "()V"⟩, 10) := ⟨⟨by decide +kernel, by decide +kernel⟩, lw_t2 (List.mem_of_getElem? (i := 84) rfl), lw_t5 (List.mem_of_getElem? (i := 6) rfl), lw_t5 (List.mem_of_getElem? (i := 7) rfl)⟩
theorem lw_p14 : lw_okq (⟨"BalloonMail$Parser", "begin", "(II)V"⟩, 10) := ⟨⟨by decide +kernel, by decide +kernel⟩, lw_t2 (List.mem_of_getElem? (i := 84) rfl), lw_t5 (List.mem_of_getElem? (i := 11) rfl), lw_t5 (List.mem_of_getElem? (i := 12) rfl)⟩
theorem lw_p15 : lw_okq (⟨"BalloonMail$Parser", "number", "(II)I"⟩, 10) := ⟨⟨by decide +kernel, by decide +kernel⟩, lw_t2 (List.mem_of_getElem? (i := 84) rfl), lw_t5 (List.mem_of_getElem? (i := 15) rfl), lw_t5 (List.mem_of_getElem? (i := 16) rfl)⟩
def lw_privs_1 : List (MethodName × Nat) := [(⟨"java/util/BitSet", "initWords", "(I)V"⟩, 3), (⟨"BalloonMail", "appendWord", "(I)V"⟩, 12), (⟨"BalloonMail$Parser", "advance", "()V"⟩, 10), (⟨"BalloonMail$Parser", "byteAt", "(I)I"⟩, 10), (⟨"BalloonMail$Parser", "readWord", "()V"⟩, 10), (⟨"BalloonMail$Parser", "readNumber", "()V"⟩, 10), (⟨"BalloonMail$Parser", "require", "(ZI)V"⟩, 10), (⟨"java/lang/Throwable", "fillInStackTrace", "(I)Ljava/lang/Throwable;"⟩, 6), (⟨"BalloonMail$Parser", "statement", "()V"⟩, 10), (⟨"BalloonMail$Parser", "keyword", "()I"⟩, 10), (⟨"java/util/LinkedList", "checkElementIndex", "(I)V"⟩, 4), (⟨"java/util/LinkedList", "isElementIndex", "(I)Z"⟩, 4), (⟨"java/util/LinkedList", "outOfBoundsMsg", "(I)Ljava/lang/String;"⟩, 4), (⟨"BalloonMail$Parser", "region", "()V"⟩, 10), (⟨"BalloonMail$Parser", "begin", "(II)V"⟩, 10), (⟨"BalloonMail$Parser", "number", "(II)I"⟩, 10)]
theorem lw_r1 : ∀ q ∈ lw_privs_1, lw_okq q := List.forall_mem_cons.mpr ⟨lw_p0, List.forall_mem_cons.mpr ⟨lw_p1, List.forall_mem_cons.mpr ⟨lw_p2, List.forall_mem_cons.mpr ⟨lw_p3, List.forall_mem_cons.mpr ⟨lw_p4, List.forall_mem_cons.mpr ⟨lw_p5, List.forall_mem_cons.mpr ⟨lw_p6, List.forall_mem_cons.mpr ⟨lw_p7, List.forall_mem_cons.mpr ⟨lw_p8, List.forall_mem_cons.mpr ⟨lw_p9, List.forall_mem_cons.mpr ⟨lw_p10, List.forall_mem_cons.mpr ⟨lw_p11, List.forall_mem_cons.mpr ⟨lw_p12, List.forall_mem_cons.mpr ⟨lw_p13, List.forall_mem_cons.mpr ⟨lw_p14, List.forall_mem_cons.mpr ⟨lw_p15, fun _ h => absurd h List.not_mem_nil⟩⟩⟩⟩⟩⟩⟩⟩⟩⟩⟩⟩⟩⟩⟩⟩
theorem lw_p16 : lw_okq (⟨"java/util/ArrayList", "add", "(Ljava/lang/Object;[Ljava/lang/Object;I)V"⟩, 3) := ⟨⟨by decide +kernel, by decide +kernel⟩, lw_t1 (List.mem_of_getElem? (i := 72) rfl), lw_t5 (List.mem_of_getElem? (i := 42) rfl), lw_t5 (List.mem_of_getElem? (i := 43) rfl)⟩
theorem lw_p17 : lw_okq (⟨"java/util/ArrayList", "grow", "()[Ljava/lang/Object;"⟩, 3) := ⟨⟨by decide +kernel, by decide +kernel⟩, lw_t1 (List.mem_of_getElem? (i := 72) rfl), lw_t5 (List.mem_of_getElem? (i := 46) rfl), lw_t5 (List.mem_of_getElem? (i := 47) rfl)⟩
theorem lw_p18 : lw_okq (⟨"java/util/ArrayList", "grow", "(I)[Ljava/lang/Object;"⟩, 3) := ⟨⟨by decide +kernel, by decide +kernel⟩, lw_t1 (List.mem_of_getElem? (i := 72) rfl), lw_t5 (List.mem_of_getElem? (i := 50) rfl), lw_t5 (List.mem_of_getElem? (i := 51) rfl)⟩
theorem lw_p19 : lw_okq (⟨"BalloonMail$Parser", "wind", "()V"⟩, 10) := ⟨⟨by decide +kernel, by decide +kernel⟩, lw_t2 (List.mem_of_getElem? (i := 84) rfl), lw_t5 (List.mem_of_getElem? (i := 67) rfl), lw_t5 (List.mem_of_getElem? (i := 68) rfl)⟩
theorem lw_p20 : lw_okq (⟨"BalloonMail$Parser", "weight", "(LBalloonMail$Choices;)I"⟩, 10) := ⟨⟨by decide +kernel, by decide +kernel⟩, lw_t2 (List.mem_of_getElem? (i := 84) rfl), lw_t5 (List.mem_of_getElem? (i := 111) rfl), lw_t5 (List.mem_of_getElem? (i := 112) rfl)⟩
theorem lw_p21 : lw_okq (⟨"BalloonMail$Parser", "turn", "()V"⟩, 10) := ⟨⟨by decide +kernel, by decide +kernel⟩, lw_t2 (List.mem_of_getElem? (i := 84) rfl), lw_t5 (List.mem_of_getElem? (i := 134) rfl), lw_t5 (List.mem_of_getElem? (i := 135) rfl)⟩
theorem lw_p22 : lw_okq (⟨"BalloonMail$Parser", "balloon", "()V"⟩, 10) := ⟨⟨by decide +kernel, by decide +kernel⟩, lw_t2 (List.mem_of_getElem? (i := 84) rfl), lw_t5 (List.mem_of_getElem? (i := 139) rfl), lw_t5 (List.mem_of_getElem? (i := 140) rfl)⟩
theorem lw_p23 : lw_okq (⟨"BalloonMail$Parser", "letter", "()V"⟩, 10) := ⟨⟨by decide +kernel, by decide +kernel⟩, lw_t2 (List.mem_of_getElem? (i := 84) rfl), lw_t5 (List.mem_of_getElem? (i := 158) rfl), lw_t5 (List.mem_of_getElem? (i := 159) rfl)⟩
theorem lw_p24 : lw_okq (⟨"BalloonMail$Parser", "once", "(I)V"⟩, 10) := ⟨⟨by decide +kernel, by decide +kernel⟩, lw_t2 (List.mem_of_getElem? (i := 84) rfl), lw_t5 (List.mem_of_getElem? (i := 179) rfl), lw_t5 (List.mem_of_getElem? (i := 180) rfl)⟩
theorem lw_p25 : lw_okq (⟨"java/util/BitSet", "checkInvariants", "()V"⟩, 3) := ⟨⟨by decide +kernel, by decide +kernel⟩, lw_t1 (List.mem_of_getElem? (i := 195) rfl), lw_t5 (List.mem_of_getElem? (i := 195) rfl), lw_t5 (List.mem_of_getElem? (i := 196) rfl)⟩
theorem lw_p26 : lw_okq (⟨"java/util/BitSet", "expandTo", "(I)V"⟩, 3) := ⟨⟨by decide +kernel, by decide +kernel⟩, lw_t1 (List.mem_of_getElem? (i := 195) rfl), lw_t5 (List.mem_of_getElem? (i := 205) rfl), lw_t5 (List.mem_of_getElem? (i := 206) rfl)⟩
theorem lw_p27 : lw_okq (⟨"java/util/BitSet", "ensureCapacity", "(I)V"⟩, 3) := ⟨⟨by decide +kernel, by decide +kernel⟩, lw_t1 (List.mem_of_getElem? (i := 195) rfl), lw_t5 (List.mem_of_getElem? (i := 209) rfl), lw_t5 (List.mem_of_getElem? (i := 210) rfl)⟩
theorem lw_p28 : lw_okq (⟨"BalloonMail", "isBalloon", "(I)Z"⟩, 12) := ⟨⟨by decide +kernel, by decide +kernel⟩, lw_t1 (List.mem_of_getElem? (i := 58) rfl), lw_t6 (List.mem_of_getElem? (i := 11) rfl), lw_t6 (List.mem_of_getElem? (i := 12) rfl)⟩
theorem lw_p29 : lw_okq (⟨"BalloonMail", "isLetter", "(I)Z"⟩, 12) := ⟨⟨by decide +kernel, by decide +kernel⟩, lw_t1 (List.mem_of_getElem? (i := 58) rfl), lw_t6 (List.mem_of_getElem? (i := 22) rfl), lw_t6 (List.mem_of_getElem? (i := 23) rfl)⟩
theorem lw_p30 : lw_okq (⟨"BalloonMail", "isWind", "(I)Z"⟩, 12) := ⟨⟨by decide +kernel, by decide +kernel⟩, lw_t1 (List.mem_of_getElem? (i := 58) rfl), lw_t6 (List.mem_of_getElem? (i := 32) rfl), lw_t6 (List.mem_of_getElem? (i := 33) rfl)⟩
theorem lw_p31 : lw_okq (⟨"BalloonMail", "layWinds", "(II)V"⟩, 12) := ⟨⟨by decide +kernel, by decide +kernel⟩, lw_t1 (List.mem_of_getElem? (i := 58) rfl), lw_t6 (List.mem_of_getElem? (i := 42) rfl), lw_t6 (List.mem_of_getElem? (i := 43) rfl)⟩
def lw_privs_2 : List (MethodName × Nat) := [(⟨"java/util/ArrayList", "add", "(Ljava/lang/Object;[Ljava/lang/Object;I)V"⟩, 3), (⟨"java/util/ArrayList", "grow", "()[Ljava/lang/Object;"⟩, 3), (⟨"java/util/ArrayList", "grow", "(I)[Ljava/lang/Object;"⟩, 3), (⟨"BalloonMail$Parser", "wind", "()V"⟩, 10), (⟨"BalloonMail$Parser", "weight", "(LBalloonMail$Choices;)I"⟩, 10), (⟨"BalloonMail$Parser", "turn", "()V"⟩, 10), (⟨"BalloonMail$Parser", "balloon", "()V"⟩, 10), (⟨"BalloonMail$Parser", "letter", "()V"⟩, 10), (⟨"BalloonMail$Parser", "once", "(I)V"⟩, 10), (⟨"java/util/BitSet", "checkInvariants", "()V"⟩, 3), (⟨"java/util/BitSet", "expandTo", "(I)V"⟩, 3), (⟨"java/util/BitSet", "ensureCapacity", "(I)V"⟩, 3), (⟨"BalloonMail", "isBalloon", "(I)Z"⟩, 12), (⟨"BalloonMail", "isLetter", "(I)Z"⟩, 12), (⟨"BalloonMail", "isWind", "(I)Z"⟩, 12), (⟨"BalloonMail", "layWinds", "(II)V"⟩, 12)]
theorem lw_r2 : ∀ q ∈ lw_privs_2, lw_okq q := List.forall_mem_cons.mpr ⟨lw_p16, List.forall_mem_cons.mpr ⟨lw_p17, List.forall_mem_cons.mpr ⟨lw_p18, List.forall_mem_cons.mpr ⟨lw_p19, List.forall_mem_cons.mpr ⟨lw_p20, List.forall_mem_cons.mpr ⟨lw_p21, List.forall_mem_cons.mpr ⟨lw_p22, List.forall_mem_cons.mpr ⟨lw_p23, List.forall_mem_cons.mpr ⟨lw_p24, List.forall_mem_cons.mpr ⟨lw_p25, List.forall_mem_cons.mpr ⟨lw_p26, List.forall_mem_cons.mpr ⟨lw_p27, List.forall_mem_cons.mpr ⟨lw_p28, List.forall_mem_cons.mpr ⟨lw_p29, List.forall_mem_cons.mpr ⟨lw_p30, List.forall_mem_cons.mpr ⟨lw_p31, fun _ h => absurd h List.not_mem_nil⟩⟩⟩⟩⟩⟩⟩⟩⟩⟩⟩⟩⟩⟩⟩⟩
theorem lw_p32 : lw_okq (⟨"BalloonMail", "spread", "(I)V"⟩, 12) := ⟨⟨by decide +kernel, by decide +kernel⟩, lw_t1 (List.mem_of_getElem? (i := 58) rfl), lw_t6 (List.mem_of_getElem? (i := 46) rfl), lw_t6 (List.mem_of_getElem? (i := 47) rfl)⟩
theorem lw_p33 : lw_okq (⟨"BalloonMail", "isRegion", "(I)Z"⟩, 12) := ⟨⟨by decide +kernel, by decide +kernel⟩, lw_t1 (List.mem_of_getElem? (i := 58) rfl), lw_t6 (List.mem_of_getElem? (i := 61) rfl), lw_t6 (List.mem_of_getElem? (i := 62) rfl)⟩
theorem lw_p34 : lw_okq (⟨"BalloonMail", "landed", "(ILBalloonMail$Gain;)J"⟩, 12) := ⟨⟨by decide +kernel, by decide +kernel⟩, lw_t1 (List.mem_of_getElem? (i := 58) rfl), lw_t6 (List.mem_of_getElem? (i := 73) rfl), lw_t6 (List.mem_of_getElem? (i := 74) rfl)⟩
theorem lw_p35 : lw_okq (⟨"BalloonMail", "canAnswer", "(II)Z"⟩, 12) := ⟨⟨by decide +kernel, by decide +kernel⟩, lw_t1 (List.mem_of_getElem? (i := 58) rfl), lw_t6 (List.mem_of_getElem? (i := 86) rfl), lw_t6 (List.mem_of_getElem? (i := 87) rfl)⟩
theorem lw_p36 : lw_okq (⟨"BalloonMail", "answered", "(II)J"⟩, 12) := ⟨⟨by decide +kernel, by decide +kernel⟩, lw_t1 (List.mem_of_getElem? (i := 58) rfl), lw_t6 (List.mem_of_getElem? (i := 91) rfl), lw_t6 (List.mem_of_getElem? (i := 92) rfl)⟩
theorem lw_p37 : lw_okq (⟨"BalloonMail", "scaled", "(II)J"⟩, 12) := ⟨⟨by decide +kernel, by decide +kernel⟩, lw_t1 (List.mem_of_getElem? (i := 58) rfl), lw_t6 (List.mem_of_getElem? (i := 110) rfl), lw_t6 (List.mem_of_getElem? (i := 111) rfl)⟩
theorem lw_p38 : lw_okq (⟨"BalloonMail", "layTotals", "()V"⟩, 12) := ⟨⟨by decide +kernel, by decide +kernel⟩, lw_t1 (List.mem_of_getElem? (i := 58) rfl), lw_t6 (List.mem_of_getElem? (i := 118) rfl), lw_t6 (List.mem_of_getElem? (i := 119) rfl)⟩
theorem lw_p39 : lw_okq (⟨"BalloonMail", "with", "(III)J"⟩, 12) := ⟨⟨by decide +kernel, by decide +kernel⟩, lw_t1 (List.mem_of_getElem? (i := 58) rfl), lw_t6 (List.mem_of_getElem? (i := 122) rfl), lw_t6 (List.mem_of_getElem? (i := 123) rfl)⟩
theorem lw_p40 : lw_okq (⟨"BalloonMail", "valueAt", "(II)I"⟩, 12) := ⟨⟨by decide +kernel, by decide +kernel⟩, lw_t1 (List.mem_of_getElem? (i := 58) rfl), lw_t6 (List.mem_of_getElem? (i := 137) rfl), lw_t6 (List.mem_of_getElem? (i := 138) rfl)⟩
theorem lw_p41 : lw_okq (⟨"BalloonMail", "withLetter", "(II)I"⟩, 12) := ⟨⟨by decide +kernel, by decide +kernel⟩, lw_t1 (List.mem_of_getElem? (i := 58) rfl), lw_t6 (List.mem_of_getElem? (i := 141) rfl), lw_t6 (List.mem_of_getElem? (i := 142) rfl)⟩
theorem lw_p42 : lw_okq (⟨"BalloonMail", "areLetters", "(I)Z"⟩, 12) := ⟨⟨by decide +kernel, by decide +kernel⟩, lw_t1 (List.mem_of_getElem? (i := 58) rfl), lw_t6 (List.mem_of_getElem? (i := 150) rfl), lw_t6 (List.mem_of_getElem? (i := 151) rfl)⟩
theorem lw_p43 : lw_okq (⟨"BalloonMail", "setIn", "(I)I"⟩, 12) := ⟨⟨by decide +kernel, by decide +kernel⟩, lw_t1 (List.mem_of_getElem? (i := 58) rfl), lw_t6 (List.mem_of_getElem? (i := 177) rfl), lw_t6 (List.mem_of_getElem? (i := 178) rfl)⟩
theorem lw_p44 : lw_okq (⟨"BalloonMail", "keep", "()V"⟩, 12) := ⟨⟨by decide +kernel, by decide +kernel⟩, lw_t1 (List.mem_of_getElem? (i := 58) rfl), lw_t6 (List.mem_of_getElem? (i := 193) rfl), lw_t6 (List.mem_of_getElem? (i := 194) rfl)⟩
theorem lw_p45 : lw_okq (⟨"java/util/ArrayList", "fastRemove", "([Ljava/lang/Object;I)V"⟩, 3) := ⟨⟨by decide +kernel, by decide +kernel⟩, lw_t1 (List.mem_of_getElem? (i := 72) rfl), lw_t6 (List.mem_of_getElem? (i := 201) rfl), lw_t6 (List.mem_of_getElem? (i := 202) rfl)⟩
theorem lw_p46 : lw_okq (⟨"java/util/ArrayList", "rangeCheckForAdd", "(I)V"⟩, 3) := ⟨⟨by decide +kernel, by decide +kernel⟩, lw_t1 (List.mem_of_getElem? (i := 72) rfl), lw_t6 (List.mem_of_getElem? (i := 231) rfl), lw_t6 (List.mem_of_getElem? (i := 232) rfl)⟩
theorem lw_p47 : lw_okq (⟨"java/util/ArrayList", "outOfBoundsMsg", "(I)Ljava/lang/String;"⟩, 3) := ⟨⟨by decide +kernel, by decide +kernel⟩, lw_t1 (List.mem_of_getElem? (i := 72) rfl), lw_t6 (List.mem_of_getElem? (i := 236) rfl), lw_t6 (List.mem_of_getElem? (i := 237) rfl)⟩
def lw_privs_3 : List (MethodName × Nat) := [(⟨"BalloonMail", "spread", "(I)V"⟩, 12), (⟨"BalloonMail", "isRegion", "(I)Z"⟩, 12), (⟨"BalloonMail", "landed", "(ILBalloonMail$Gain;)J"⟩, 12), (⟨"BalloonMail", "canAnswer", "(II)Z"⟩, 12), (⟨"BalloonMail", "answered", "(II)J"⟩, 12), (⟨"BalloonMail", "scaled", "(II)J"⟩, 12), (⟨"BalloonMail", "layTotals", "()V"⟩, 12), (⟨"BalloonMail", "with", "(III)J"⟩, 12), (⟨"BalloonMail", "valueAt", "(II)I"⟩, 12), (⟨"BalloonMail", "withLetter", "(II)I"⟩, 12), (⟨"BalloonMail", "areLetters", "(I)Z"⟩, 12), (⟨"BalloonMail", "setIn", "(I)I"⟩, 12), (⟨"BalloonMail", "keep", "()V"⟩, 12), (⟨"java/util/ArrayList", "fastRemove", "([Ljava/lang/Object;I)V"⟩, 3), (⟨"java/util/ArrayList", "rangeCheckForAdd", "(I)V"⟩, 3), (⟨"java/util/ArrayList", "outOfBoundsMsg", "(I)Ljava/lang/String;"⟩, 3)]
theorem lw_r3 : ∀ q ∈ lw_privs_3, lw_okq q := List.forall_mem_cons.mpr ⟨lw_p32, List.forall_mem_cons.mpr ⟨lw_p33, List.forall_mem_cons.mpr ⟨lw_p34, List.forall_mem_cons.mpr ⟨lw_p35, List.forall_mem_cons.mpr ⟨lw_p36, List.forall_mem_cons.mpr ⟨lw_p37, List.forall_mem_cons.mpr ⟨lw_p38, List.forall_mem_cons.mpr ⟨lw_p39, List.forall_mem_cons.mpr ⟨lw_p40, List.forall_mem_cons.mpr ⟨lw_p41, List.forall_mem_cons.mpr ⟨lw_p42, List.forall_mem_cons.mpr ⟨lw_p43, List.forall_mem_cons.mpr ⟨lw_p44, List.forall_mem_cons.mpr ⟨lw_p45, List.forall_mem_cons.mpr ⟨lw_p46, List.forall_mem_cons.mpr ⟨lw_p47, fun _ h => absurd h List.not_mem_nil⟩⟩⟩⟩⟩⟩⟩⟩⟩⟩⟩⟩⟩⟩⟩⟩
theorem lw_p48 : lw_okq (⟨"java/util/LinkedList", "checkPositionIndex", "(I)V"⟩, 4) := ⟨⟨by decide +kernel, by decide +kernel⟩, lw_t1 (List.mem_of_getElem? (i := 154) rfl), lw_t7 (List.mem_of_getElem? (i := 38) rfl), lw_t7 (List.mem_of_getElem? (i := 39) rfl)⟩
theorem lw_p49 : lw_okq (⟨"java/util/LinkedList", "isPositionIndex", "(I)Z"⟩, 4) := ⟨⟨by decide +kernel, by decide +kernel⟩, lw_t1 (List.mem_of_getElem? (i := 154) rfl), lw_t7 (List.mem_of_getElem? (i := 42) rfl), lw_t7 (List.mem_of_getElem? (i := 43) rfl)⟩
theorem lw_p50 : lw_okq (⟨"java/util/ArrayDeque", "grow", "(I)V"⟩, 3) := ⟨⟨by decide +kernel, by decide +kernel⟩, lw_t1 (List.mem_of_getElem? (i := 176) rfl), lw_t8 (List.mem_of_getElem? (i := 37) rfl), lw_t8 (List.mem_of_getElem? (i := 38) rfl)⟩
theorem lw_p51 : lw_okq (⟨"java/util/ArrayDeque", "newCapacity", "(II)I"⟩, 3) := ⟨⟨by decide +kernel, by decide +kernel⟩, lw_t1 (List.mem_of_getElem? (i := 176) rfl), lw_t8 (List.mem_of_getElem? (i := 42) rfl), lw_t8 (List.mem_of_getElem? (i := 43) rfl)⟩
theorem lw_p52 : lw_okq (⟨"BalloonMail", "release", "(IILBalloonMail$Region;)V"⟩, 12) := ⟨⟨by decide +kernel, by decide +kernel⟩, lw_t1 (List.mem_of_getElem? (i := 58) rfl), lw_t8 (List.mem_of_getElem? (i := 121) rfl), lw_t8 (List.mem_of_getElem? (i := 122) rfl)⟩
theorem lw_p53 : lw_okq (⟨"BalloonMail", "event", "(I)LBalloonMail$Event;"⟩, 12) := ⟨⟨by decide +kernel, by decide +kernel⟩, lw_t1 (List.mem_of_getElem? (i := 58) rfl), lw_t9 (List.mem_of_getElem? (i := 99) rfl), lw_t9 (List.mem_of_getElem? (i := 100) rfl)⟩
theorem lw_p54 : lw_okq (⟨"BalloonMailModel", "begins", "()V"⟩, 45) := ⟨⟨by decide +kernel, by decide +kernel⟩, lw_t9 (List.mem_of_getElem? (i := 128) rfl), lw_t9 (List.mem_of_getElem? (i := 134) rfl), lw_t9 (List.mem_of_getElem? (i := 135) rfl)⟩
theorem lw_p55 : lw_okq (⟨"BalloonMailModel", "bytesOf", "(I)V"⟩, 45) := ⟨⟨by decide +kernel, by decide +kernel⟩, lw_t9 (List.mem_of_getElem? (i := 128) rfl), lw_t10 (List.mem_of_getElem? (i := 39) rfl), lw_t10 (List.mem_of_getElem? (i := 40) rfl)⟩
theorem lw_p56 : lw_okq (⟨"BalloonMailModel", "advance", "()V"⟩, 45) := ⟨⟨by decide +kernel, by decide +kernel⟩, lw_t9 (List.mem_of_getElem? (i := 128) rfl), lw_t10 (List.mem_of_getElem? (i := 50) rfl), lw_t10 (List.mem_of_getElem? (i := 51) rfl)⟩
theorem lw_p57 : lw_okq (⟨"BalloonMailModel", "byteAt", "(I)I"⟩, 45) := ⟨⟨by decide +kernel, by decide +kernel⟩, lw_t9 (List.mem_of_getElem? (i := 128) rfl), lw_t10 (List.mem_of_getElem? (i := 54) rfl), lw_t10 (List.mem_of_getElem? (i := 55) rfl)⟩
theorem lw_p58 : lw_okq (⟨"BalloonMailModel", "statement", "()Z"⟩, 45) := ⟨⟨by decide +kernel, by decide +kernel⟩, lw_t9 (List.mem_of_getElem? (i := 128) rfl), lw_t10 (List.mem_of_getElem? (i := 58) rfl), lw_t10 (List.mem_of_getElem? (i := 59) rfl)⟩
theorem lw_p59 : lw_okq (⟨"BalloonMailModel", "isWord", "(Ljava/lang/String;)Z"⟩, 45) := ⟨⟨by decide +kernel, by decide +kernel⟩, lw_t9 (List.mem_of_getElem? (i := 128) rfl), lw_t10 (List.mem_of_getElem? (i := 63) rfl), lw_t10 (List.mem_of_getElem? (i := 64) rfl)⟩
theorem lw_p60 : lw_okq (⟨"BalloonMailModel", "regionLine", "()Z"⟩, 45) := ⟨⟨by decide +kernel, by decide +kernel⟩, lw_t9 (List.mem_of_getElem? (i := 128) rfl), lw_t10 (List.mem_of_getElem? (i := 83) rfl), lw_t10 (List.mem_of_getElem? (i := 84) rfl)⟩
theorem lw_p61 : lw_okq (⟨"BalloonMailModel", "opens", "(Z)Z"⟩, 45) := ⟨⟨by decide +kernel, by decide +kernel⟩, lw_t9 (List.mem_of_getElem? (i := 128) rfl), lw_t10 (List.mem_of_getElem? (i := 87) rfl), lw_t10 (List.mem_of_getElem? (i := 88) rfl)⟩
theorem lw_p62 : lw_okq (⟨"BalloonMailModel", "fails", "(I)Z"⟩, 45) := ⟨⟨by decide +kernel, by decide +kernel⟩, lw_t9 (List.mem_of_getElem? (i := 128) rfl), lw_t10 (List.mem_of_getElem? (i := 91) rfl), lw_t10 (List.mem_of_getElem? (i := 92) rfl)⟩
theorem lw_p63 : lw_okq (⟨"BalloonMailModel", "takes", "(II)Z"⟩, 45) := ⟨⟨by decide +kernel, by decide +kernel⟩, lw_t9 (List.mem_of_getElem? (i := 128) rfl), lw_t10 (List.mem_of_getElem? (i := 95) rfl), lw_t10 (List.mem_of_getElem? (i := 96) rfl)⟩
def lw_privs_4 : List (MethodName × Nat) := [(⟨"java/util/LinkedList", "checkPositionIndex", "(I)V"⟩, 4), (⟨"java/util/LinkedList", "isPositionIndex", "(I)Z"⟩, 4), (⟨"java/util/ArrayDeque", "grow", "(I)V"⟩, 3), (⟨"java/util/ArrayDeque", "newCapacity", "(II)I"⟩, 3), (⟨"BalloonMail", "release", "(IILBalloonMail$Region;)V"⟩, 12), (⟨"BalloonMail", "event", "(I)LBalloonMail$Event;"⟩, 12), (⟨"BalloonMailModel", "begins", "()V"⟩, 45), (⟨"BalloonMailModel", "bytesOf", "(I)V"⟩, 45), (⟨"BalloonMailModel", "advance", "()V"⟩, 45), (⟨"BalloonMailModel", "byteAt", "(I)I"⟩, 45), (⟨"BalloonMailModel", "statement", "()Z"⟩, 45), (⟨"BalloonMailModel", "isWord", "(Ljava/lang/String;)Z"⟩, 45), (⟨"BalloonMailModel", "regionLine", "()Z"⟩, 45), (⟨"BalloonMailModel", "opens", "(Z)Z"⟩, 45), (⟨"BalloonMailModel", "fails", "(I)Z"⟩, 45), (⟨"BalloonMailModel", "takes", "(II)Z"⟩, 45)]
theorem lw_r4 : ∀ q ∈ lw_privs_4, lw_okq q := List.forall_mem_cons.mpr ⟨lw_p48, List.forall_mem_cons.mpr ⟨lw_p49, List.forall_mem_cons.mpr ⟨lw_p50, List.forall_mem_cons.mpr ⟨lw_p51, List.forall_mem_cons.mpr ⟨lw_p52, List.forall_mem_cons.mpr ⟨lw_p53, List.forall_mem_cons.mpr ⟨lw_p54, List.forall_mem_cons.mpr ⟨lw_p55, List.forall_mem_cons.mpr ⟨lw_p56, List.forall_mem_cons.mpr ⟨lw_p57, List.forall_mem_cons.mpr ⟨lw_p58, List.forall_mem_cons.mpr ⟨lw_p59, List.forall_mem_cons.mpr ⟨lw_p60, List.forall_mem_cons.mpr ⟨lw_p61, List.forall_mem_cons.mpr ⟨lw_p62, List.forall_mem_cons.mpr ⟨lw_p63, fun _ h => absurd h List.not_mem_nil⟩⟩⟩⟩⟩⟩⟩⟩⟩⟩⟩⟩⟩⟩⟩⟩
theorem lw_p64 : lw_okq (⟨"BalloonMailModel", "windLine", "()Z"⟩, 45) := ⟨⟨by decide +kernel, by decide +kernel⟩, lw_t9 (List.mem_of_getElem? (i := 128) rfl), lw_t10 (List.mem_of_getElem? (i := 100) rfl), lw_t10 (List.mem_of_getElem? (i := 101) rfl)⟩
theorem lw_p65 : lw_okq (⟨"BalloonMailModel", "turnLine", "()Z"⟩, 45) := ⟨⟨by decide +kernel, by decide +kernel⟩, lw_t9 (List.mem_of_getElem? (i := 128) rfl), lw_t10 (List.mem_of_getElem? (i := 108) rfl), lw_t10 (List.mem_of_getElem? (i := 109) rfl)⟩
theorem lw_p66 : lw_okq (⟨"BalloonMailModel", "balloonLine", "()Z"⟩, 45) := ⟨⟨by decide +kernel, by decide +kernel⟩, lw_t9 (List.mem_of_getElem? (i := 128) rfl), lw_t10 (List.mem_of_getElem? (i := 113) rfl), lw_t10 (List.mem_of_getElem? (i := 114) rfl)⟩
theorem lw_p67 : lw_okq (⟨"BalloonMailModel", "letterLine", "()Z"⟩, 45) := ⟨⟨by decide +kernel, by decide +kernel⟩, lw_t9 (List.mem_of_getElem? (i := 128) rfl), lw_t10 (List.mem_of_getElem? (i := 118) rfl), lw_t10 (List.mem_of_getElem? (i := 119) rfl)⟩
theorem lw_p68 : lw_okq (⟨"BalloonMailModel", "otherLine", "()Z"⟩, 45) := ⟨⟨by decide +kernel, by decide +kernel⟩, lw_t9 (List.mem_of_getElem? (i := 128) rfl), lw_t10 (List.mem_of_getElem? (i := 122) rfl), lw_t10 (List.mem_of_getElem? (i := 123) rfl)⟩
theorem lw_p69 : lw_okq (⟨"BalloonMailModel", "single", "(II)I"⟩, 45) := ⟨⟨by decide +kernel, by decide +kernel⟩, lw_t9 (List.mem_of_getElem? (i := 128) rfl), lw_t10 (List.mem_of_getElem? (i := 127) rfl), lw_t10 (List.mem_of_getElem? (i := 128) rfl)⟩
theorem lw_p70 : lw_okq (⟨"BalloonMailModel", "becomes", "()V"⟩, 45) := ⟨⟨by decide +kernel, by decide +kernel⟩, lw_t9 (List.mem_of_getElem? (i := 128) rfl), lw_t10 (List.mem_of_getElem? (i := 133) rfl), lw_t10 (List.mem_of_getElem? (i := 134) rfl)⟩
theorem lw_p71 : lw_okq (⟨"BalloonMailModel", "isBalloon", "(I)Z"⟩, 45) := ⟨⟨by decide +kernel, by decide +kernel⟩, lw_t9 (List.mem_of_getElem? (i := 128) rfl), lw_t10 (List.mem_of_getElem? (i := 167) rfl), lw_t10 (List.mem_of_getElem? (i := 168) rfl)⟩
theorem lw_p72 : lw_okq (⟨"BalloonMailModel", "isLetter", "(I)Z"⟩, 45) := ⟨⟨by decide +kernel, by decide +kernel⟩, lw_t9 (List.mem_of_getElem? (i := 128) rfl), lw_t10 (List.mem_of_getElem? (i := 175) rfl), lw_t10 (List.mem_of_getElem? (i := 176) rfl)⟩
theorem lw_p73 : lw_okq (⟨"BalloonMailModel", "isWind", "(I)Z"⟩, 45) := ⟨⟨by decide +kernel, by decide +kernel⟩, lw_t9 (List.mem_of_getElem? (i := 128) rfl), lw_t10 (List.mem_of_getElem? (i := 183) rfl), lw_t10 (List.mem_of_getElem? (i := 184) rfl)⟩
theorem lw_p74 : lw_okq (⟨"BalloonMailModel", "goesOn", "(II)V"⟩, 45) := ⟨⟨by decide +kernel, by decide +kernel⟩, lw_t9 (List.mem_of_getElem? (i := 128) rfl), lw_t10 (List.mem_of_getElem? (i := 191) rfl), lw_t10 (List.mem_of_getElem? (i := 192) rfl)⟩
theorem lw_p75 : lw_okq (⟨"BalloonMailModel", "turnsOf", "(I)I"⟩, 45) := ⟨⟨by decide +kernel, by decide +kernel⟩, lw_t9 (List.mem_of_getElem? (i := 128) rfl), lw_t10 (List.mem_of_getElem? (i := 195) rfl), lw_t10 (List.mem_of_getElem? (i := 196) rfl)⟩
theorem lw_p76 : lw_okq (⟨"BalloonMailModel", "weightBy", "(II)I"⟩, 45) := ⟨⟨by decide +kernel, by decide +kernel⟩, lw_t9 (List.mem_of_getElem? (i := 128) rfl), lw_t10 (List.mem_of_getElem? (i := 207) rfl), lw_t10 (List.mem_of_getElem? (i := 208) rfl)⟩
theorem lw_p77 : lw_okq (⟨"BalloonMailModel", "chanceOf", "(II)J"⟩, 45) := ⟨⟨by decide +kernel, by decide +kernel⟩, lw_t9 (List.mem_of_getElem? (i := 128) rfl), lw_t10 (List.mem_of_getElem? (i := 215) rfl), lw_t10 (List.mem_of_getElem? (i := 216) rfl)⟩
theorem lw_p78 : lw_okq (⟨"BalloonMailModel", "mayAsk", "(II)Z"⟩, 45) := ⟨⟨by decide +kernel, by decide +kernel⟩, lw_t9 (List.mem_of_getElem? (i := 128) rfl), lw_t10 (List.mem_of_getElem? (i := 226) rfl), lw_t10 (List.mem_of_getElem? (i := 227) rfl)⟩
theorem lw_p79 : lw_okq (⟨"BalloonMailModel", "evenChance", "(II)J"⟩, 45) := ⟨⟨by decide +kernel, by decide +kernel⟩, lw_t9 (List.mem_of_getElem? (i := 128) rfl), lw_t10 (List.mem_of_getElem? (i := 239) rfl), lw_t11 (List.mem_of_getElem? (i := 0) rfl)⟩
def lw_privs_5 : List (MethodName × Nat) := [(⟨"BalloonMailModel", "windLine", "()Z"⟩, 45), (⟨"BalloonMailModel", "turnLine", "()Z"⟩, 45), (⟨"BalloonMailModel", "balloonLine", "()Z"⟩, 45), (⟨"BalloonMailModel", "letterLine", "()Z"⟩, 45), (⟨"BalloonMailModel", "otherLine", "()Z"⟩, 45), (⟨"BalloonMailModel", "single", "(II)I"⟩, 45), (⟨"BalloonMailModel", "becomes", "()V"⟩, 45), (⟨"BalloonMailModel", "isBalloon", "(I)Z"⟩, 45), (⟨"BalloonMailModel", "isLetter", "(I)Z"⟩, 45), (⟨"BalloonMailModel", "isWind", "(I)Z"⟩, 45), (⟨"BalloonMailModel", "goesOn", "(II)V"⟩, 45), (⟨"BalloonMailModel", "turnsOf", "(I)I"⟩, 45), (⟨"BalloonMailModel", "weightBy", "(II)I"⟩, 45), (⟨"BalloonMailModel", "chanceOf", "(II)J"⟩, 45), (⟨"BalloonMailModel", "mayAsk", "(II)Z"⟩, 45), (⟨"BalloonMailModel", "evenChance", "(II)J"⟩, 45)]
theorem lw_r5 : ∀ q ∈ lw_privs_5, lw_okq q := List.forall_mem_cons.mpr ⟨lw_p64, List.forall_mem_cons.mpr ⟨lw_p65, List.forall_mem_cons.mpr ⟨lw_p66, List.forall_mem_cons.mpr ⟨lw_p67, List.forall_mem_cons.mpr ⟨lw_p68, List.forall_mem_cons.mpr ⟨lw_p69, List.forall_mem_cons.mpr ⟨lw_p70, List.forall_mem_cons.mpr ⟨lw_p71, List.forall_mem_cons.mpr ⟨lw_p72, List.forall_mem_cons.mpr ⟨lw_p73, List.forall_mem_cons.mpr ⟨lw_p74, List.forall_mem_cons.mpr ⟨lw_p75, List.forall_mem_cons.mpr ⟨lw_p76, List.forall_mem_cons.mpr ⟨lw_p77, List.forall_mem_cons.mpr ⟨lw_p78, List.forall_mem_cons.mpr ⟨lw_p79, fun _ h => absurd h List.not_mem_nil⟩⟩⟩⟩⟩⟩⟩⟩⟩⟩⟩⟩⟩⟩⟩⟩
theorem lw_p80 : lw_okq (⟨"BalloonMailModel", "laysTotals", "()V"⟩, 45) := ⟨⟨by decide +kernel, by decide +kernel⟩, lw_t9 (List.mem_of_getElem? (i := 128) rfl), lw_t11 (List.mem_of_getElem? (i := 7) rfl), lw_t11 (List.mem_of_getElem? (i := 8) rfl)⟩
theorem lw_p81 : lw_okq (⟨"BalloonMailModel", "greatest", "(II)J"⟩, 45) := ⟨⟨by decide +kernel, by decide +kernel⟩, lw_t9 (List.mem_of_getElem? (i := 128) rfl), lw_t11 (List.mem_of_getElem? (i := 11) rfl), lw_t11 (List.mem_of_getElem? (i := 12) rfl)⟩
theorem lw_p82 : lw_okq (⟨"BalloonMailModel", "firstDay", "(II)I"⟩, 45) := ⟨⟨by decide +kernel, by decide +kernel⟩, lw_t9 (List.mem_of_getElem? (i := 128) rfl), lw_t11 (List.mem_of_getElem? (i := 19) rfl), lw_t11 (List.mem_of_getElem? (i := 20) rfl)⟩
theorem lw_p83 : lw_okq (⟨"BalloonMailModel", "lowest", "(II)I"⟩, 45) := ⟨⟨by decide +kernel, by decide +kernel⟩, lw_t9 (List.mem_of_getElem? (i := 128) rfl), lw_t11 (List.mem_of_getElem? (i := 27) rfl), lw_t11 (List.mem_of_getElem? (i := 28) rfl)⟩
theorem lw_p84 : lw_okq (⟨"BalloonMailModel", "areLetters", "(I)Z"⟩, 45) := ⟨⟨by decide +kernel, by decide +kernel⟩, lw_t9 (List.mem_of_getElem? (i := 128) rfl), lw_t11 (List.mem_of_getElem? (i := 35) rfl), lw_t11 (List.mem_of_getElem? (i := 36) rfl)⟩
theorem lw_p85 : lw_okq (⟨"BalloonMailModel", "sumOf", "(I[I)I"⟩, 45) := ⟨⟨by decide +kernel, by decide +kernel⟩, lw_t9 (List.mem_of_getElem? (i := 128) rfl), lw_t11 (List.mem_of_getElem? (i := 39) rfl), lw_t11 (List.mem_of_getElem? (i := 40) rfl)⟩
theorem lw_p86 : lw_okq (⟨"BalloonMailModel", "inState", "(I)I"⟩, 45) := ⟨⟨by decide +kernel, by decide +kernel⟩, lw_t9 (List.mem_of_getElem? (i := 128) rfl), lw_t11 (List.mem_of_getElem? (i := 51) rfl), lw_t11 (List.mem_of_getElem? (i := 52) rfl)⟩
theorem lw_p87 : lw_okq (⟨"BalloonMailModel", "keeps", "()V"⟩, 45) := ⟨⟨by decide +kernel, by decide +kernel⟩, lw_t9 (List.mem_of_getElem? (i := 128) rfl), lw_t11 (List.mem_of_getElem? (i := 67) rfl), lw_t11 (List.mem_of_getElem? (i := 68) rfl)⟩
theorem lw_p88 : lw_okq (⟨"BalloonMailModel", "regionDrawn", "()I"⟩, 45) := ⟨⟨by decide +kernel, by decide +kernel⟩, lw_t9 (List.mem_of_getElem? (i := 128) rfl), lw_t11 (List.mem_of_getElem? (i := 71) rfl), lw_t11 (List.mem_of_getElem? (i := 72) rfl)⟩
theorem lw_p89 : lw_okq (⟨"BalloonMailModel", "draw", "()I"⟩, 45) := ⟨⟨by decide +kernel, by decide +kernel⟩, lw_t9 (List.mem_of_getElem? (i := 128) rfl), lw_t11 (List.mem_of_getElem? (i := 75) rfl), lw_t11 (List.mem_of_getElem? (i := 76) rfl)⟩
theorem lw_p90 : lw_okq (⟨"BalloonMailModel", "become", "(II)V"⟩, 45) := ⟨⟨by decide +kernel, by decide +kernel⟩, lw_t9 (List.mem_of_getElem? (i := 128) rfl), lw_t11 (List.mem_of_getElem? (i := 84) rfl), lw_t11 (List.mem_of_getElem? (i := 85) rfl)⟩
theorem lw_p91 : lw_okq (⟨"BalloonMailModel", "notes", "(II)V"⟩, 45) := ⟨⟨by decide +kernel, by decide +kernel⟩, lw_t9 (List.mem_of_getElem? (i := 128) rfl), lw_t11 (List.mem_of_getElem? (i := 88) rfl), lw_t11 (List.mem_of_getElem? (i := 89) rfl)⟩
theorem lw_p92 : lw_okq (⟨"BalloonMailModel", "comeBack", "()V"⟩, 45) := ⟨⟨by decide +kernel, by decide +kernel⟩, lw_t9 (List.mem_of_getElem? (i := 128) rfl), lw_t11 (List.mem_of_getElem? (i := 96) rfl), lw_t11 (List.mem_of_getElem? (i := 97) rfl)⟩
theorem lw_p93 : lw_okq (⟨"BalloonMailModel", "answers", "(I)V"⟩, 45) := ⟨⟨by decide +kernel, by decide +kernel⟩, lw_t9 (List.mem_of_getElem? (i := 128) rfl), lw_t11 (List.mem_of_getElem? (i := 100) rfl), lw_t11 (List.mem_of_getElem? (i := 101) rfl)⟩
theorem lw_p94 : lw_okq (⟨"BalloonMailModel", "event", "(II)I"⟩, 45) := ⟨⟨by decide +kernel, by decide +kernel⟩, lw_t9 (List.mem_of_getElem? (i := 128) rfl), lw_t11 (List.mem_of_getElem? (i := 160) rfl), lw_t11 (List.mem_of_getElem? (i := 161) rfl)⟩
def lw_privs_6 : List (MethodName × Nat) := [(⟨"BalloonMailModel", "laysTotals", "()V"⟩, 45), (⟨"BalloonMailModel", "greatest", "(II)J"⟩, 45), (⟨"BalloonMailModel", "firstDay", "(II)I"⟩, 45), (⟨"BalloonMailModel", "lowest", "(II)I"⟩, 45), (⟨"BalloonMailModel", "areLetters", "(I)Z"⟩, 45), (⟨"BalloonMailModel", "sumOf", "(I[I)I"⟩, 45), (⟨"BalloonMailModel", "inState", "(I)I"⟩, 45), (⟨"BalloonMailModel", "keeps", "()V"⟩, 45), (⟨"BalloonMailModel", "regionDrawn", "()I"⟩, 45), (⟨"BalloonMailModel", "draw", "()I"⟩, 45), (⟨"BalloonMailModel", "become", "(II)V"⟩, 45), (⟨"BalloonMailModel", "notes", "(II)V"⟩, 45), (⟨"BalloonMailModel", "comeBack", "()V"⟩, 45), (⟨"BalloonMailModel", "answers", "(I)V"⟩, 45), (⟨"BalloonMailModel", "event", "(II)I"⟩, 45)]
theorem lw_r6 : ∀ q ∈ lw_privs_6, lw_okq q := List.forall_mem_cons.mpr ⟨lw_p80, List.forall_mem_cons.mpr ⟨lw_p81, List.forall_mem_cons.mpr ⟨lw_p82, List.forall_mem_cons.mpr ⟨lw_p83, List.forall_mem_cons.mpr ⟨lw_p84, List.forall_mem_cons.mpr ⟨lw_p85, List.forall_mem_cons.mpr ⟨lw_p86, List.forall_mem_cons.mpr ⟨lw_p87, List.forall_mem_cons.mpr ⟨lw_p88, List.forall_mem_cons.mpr ⟨lw_p89, List.forall_mem_cons.mpr ⟨lw_p90, List.forall_mem_cons.mpr ⟨lw_p91, List.forall_mem_cons.mpr ⟨lw_p92, List.forall_mem_cons.mpr ⟨lw_p93, List.forall_mem_cons.mpr ⟨lw_p94, fun _ h => absurd h List.not_mem_nil⟩⟩⟩⟩⟩⟩⟩⟩⟩⟩⟩⟩⟩⟩⟩
def lw_privs : List (MethodName × Nat) := lw_privs_1 ++ (lw_privs_2 ++ (lw_privs_3 ++ (lw_privs_4 ++ (lw_privs_5 ++ (lw_privs_6)))))
def lw_tbl : List Cond := k2_sels lw_privs ++ tables_1
theorem lw_privs_ok : ∀ q ∈ lw_privs, lw_okq q := by
  show ∀ q ∈ lw_privs_1 ++ (lw_privs_2 ++ (lw_privs_3 ++ (lw_privs_4 ++ (lw_privs_5 ++ (lw_privs_6))))), lw_okq q
  exact List.forall_mem_append.mpr ⟨lw_r1, List.forall_mem_append.mpr ⟨lw_r2, List.forall_mem_append.mpr ⟨lw_r3, List.forall_mem_append.mpr ⟨lw_r4, List.forall_mem_append.mpr ⟨lw_r5, lw_r6⟩⟩⟩⟩⟩
-- ===== ONE list of words for every method: the tables' words that hold all through a run =====
def lw_all : List Cond := lw_tbl.filter goodWord
/-- a word of the tables by its place: claim/WORDS.tsv -/
theorem lw_w {w : Cond} (i : Nat) (h : lw_tbl[i]? = some w) (g : goodWord w = true) : w ∈ lw_all := List.mem_filter.mpr ⟨List.mem_of_getElem? h, g⟩
theorem lw_all_tbl {w : Cond} (h : w ∈ lw_all) : w ∈ lw_tbl := (List.mem_filter.mp h).1
theorem lw_self : GoodIn lw_all lw_all := fun w h => ⟨h, good_of_word (List.mem_filter.mp h).2⟩
/-- a class's field words, by their places -/
theorem lw_in (ws : List Cond) (ps : List Nat) (hp : ws = ps.filterMap (fun i => lw_tbl[i]?)) (hg : ws.all goodWord = true) : ∀ w ∈ ws, w ∈ lw_all := by
  intro w h
  have h1 := List.all_eq_true.mp hg w h
  rw [hp] at h
  obtain ⟨i, -, hi⟩ := List.mem_filterMap.mp h
  exact lw_w i hi h1
/-- the words of a contract for the method y with code b, L locals, answer r -/
abbrev ws_ (y : MethodName) (b : ByteArray) (L : Nat) (r : Option FieldType) : List Cond := Cond.code y b L r :: lw_all
theorem lw_meth {y : MethodName} {b : ByteArray} {L : Nat} {r : Option FieldType} (h : Cond.code y b L r ∈ lw_all) : GoodIn lw_all (ws_ y b L r) := by
  intro w hw
  rcases List.mem_cons.mp hw with e | e
  · rw [e]
    exact lw_self _ h
  · exact lw_self _ e
theorem lw_app {a c : List Cond} (ha : ∀ w ∈ a, w ∈ lw_all) (hc : GoodIn lw_all c) : GoodIn lw_all (a ++ c) := by
  intro w hw
  rcases List.mem_append.mp hw with e | e
  · exact lw_self w (ha w e)
  · exact hc w e
/-- what a call through an object asks: cwV n hts (lw_V ..) -/
theorem lw_V {own : String} {idx : Nat} {C : String} {y : MethodName} {b : ByteArray} {L : Nat} {r : Option FieldType} (h1 : Cond.methodLink own idx y ∈ lw_all) (h2 : Cond.instanceMethod y ∈ lw_all) (h3 : Cond.selects C y y ∈ lw_all) (h4 : Cond.initialized C ∈ lw_all) (h5 : Cond.code y b L r ∈ lw_all) : GoodIn lw_all (wsV own idx C y (ws_ y b L r)) := by
  refine lw_app ?_ (lw_meth h5)
  intro w hw
  simp only [List.mem_cons, List.not_mem_nil, or_false] at hw
  rcases hw with e | e | e | e
  · rw [e]; exact h1
  · rw [e]; exact h2
  · rw [e]; exact h3
  · rw [e]; exact h4
/-- what a static call asks: va_cwS n hts (lw_S ..) -/
theorem lw_S {own : String} {idx : Nat} {y : MethodName} {b : ByteArray} {L : Nat} {r : Option FieldType} (h1 : Cond.methodLink own idx y ∈ lw_all) (h2 : Cond.static y ∈ lw_all) (h3 : Cond.initialized y.cls ∈ lw_all) (h4 : Cond.code y b L r ∈ lw_all) : GoodIn lw_all (va_wsS own idx y (ws_ y b L r)) := by
  refine lw_app ?_ (lw_meth h4)
  intro w hw
  simp only [List.mem_cons, List.not_mem_nil, or_false] at hw
  rcases hw with e | e | e
  · rw [e]; exact h1
  · rw [e]; exact h2
  · rw [e]; exact h3
/-- the words of a contract for a method WITH HANDLERS (hh: its table) -/
abbrev wsW_ (y : MethodName) (b : ByteArray) (L : Nat) (r : Option FieldType) (hh : List (Nat × Nat × Nat × Nat)) : List Cond := Cond.codeWith y b L r hh :: lw_all
theorem lw_methW {y : MethodName} {b : ByteArray} {L : Nat} {r : Option FieldType} {hh : List (Nat × Nat × Nat × Nat)} (h : Cond.codeWith y b L r hh ∈ lw_all) : GoodIn lw_all (wsW_ y b L r hh) := by
  intro w hw
  rcases List.mem_cons.mp hw with e | e
  · rw [e]
    exact lw_self _ h
  · exact lw_self _ e
/-- any list of words by their places (lw_in), good -/
theorem lw_good {ws : List Cond} (h : ∀ w ∈ ws, w ∈ lw_all) : GoodIn lw_all ws := fun w hw => lw_self w (h w hw)
/-- what a call of a method with handlers asks: vx_cwVW n hts (lw_VW ..), vx_cwSW n hts (lw_SW ..) -/
theorem lw_VW {own : String} {idx : Nat} {C : String} {y : MethodName} {b : ByteArray} {L : Nat} {r : Option FieldType} {hh : List (Nat × Nat × Nat × Nat)} (h1 : Cond.methodLink own idx y ∈ lw_all) (h2 : Cond.instanceMethod y ∈ lw_all) (h3 : Cond.selects C y y ∈ lw_all) (h4 : Cond.initialized C ∈ lw_all) (h5 : Cond.codeWith y b L r hh ∈ lw_all) : GoodIn lw_all (wsV own idx C y (wsW_ y b L r hh)) := by
  refine lw_app ?_ (lw_methW h5)
  intro w hw
  simp only [List.mem_cons, List.not_mem_nil, or_false] at hw
  rcases hw with e | e | e | e
  · rw [e]; exact h1
  · rw [e]; exact h2
  · rw [e]; exact h3
  · rw [e]; exact h4
theorem lw_SW {own : String} {idx : Nat} {y : MethodName} {b : ByteArray} {L : Nat} {r : Option FieldType} {hh : List (Nat × Nat × Nat × Nat)} (h1 : Cond.methodLink own idx y ∈ lw_all) (h2 : Cond.static y ∈ lw_all) (h3 : Cond.initialized y.cls ∈ lw_all) (h4 : Cond.codeWith y b L r hh ∈ lw_all) : GoodIn lw_all (va_wsS own idx y (wsW_ y b L r hh)) := by
  refine lw_app ?_ (lw_methW h4)
  intro w hw
  simp only [List.mem_cons, List.not_mem_nil, or_false] at hw
  rcases hw with e | e | e
  · rw [e]; exact h1
  · rw [e]; exact h2
  · rw [e]; exact h3
/-- a word by its place in its run of the tables -/
theorem lw_at {r : List Cond} (hr : ∀ w ∈ r, w ∈ lw_tbl) {w : Cond} (i : Nat) (h : r[i]? = some w) : w ∈ lw_tbl := hr w (List.mem_of_getElem? h)
theorem lw_g {w : Cond} (h : w ∈ lw_tbl) (g : goodWord w = true) : w ∈ lw_all := List.mem_filter.mpr ⟨h, g⟩
theorem lw_ms : ∀ w ∈ k2_sels lw_privs, w ∈ lw_tbl := fun w h => show w ∈ k2_sels lw_privs ++ tables_1 from List.mem_append_left _ h
theorem lw_m1 : ∀ w ∈ tables_1_1, w ∈ lw_tbl := fun w h => show w ∈ k2_sels lw_privs ++ tables_1 from List.mem_append_right (k2_sels lw_privs) (show w ∈ tables_1 from List.mem_append_left _ h)
theorem lw_m2 : ∀ w ∈ tables_1_2, w ∈ lw_tbl := fun w h => show w ∈ k2_sels lw_privs ++ tables_1 from List.mem_append_right (k2_sels lw_privs) (show w ∈ tables_1 from List.mem_append_right _ (List.mem_append_left _ h))
theorem lw_m3 : ∀ w ∈ tables_1_3, w ∈ lw_tbl := fun w h => show w ∈ k2_sels lw_privs ++ tables_1 from List.mem_append_right (k2_sels lw_privs) (show w ∈ tables_1 from List.mem_append_right _ (List.mem_append_right _ (List.mem_append_left _ h)))
theorem lw_m4 : ∀ w ∈ tables_1_4, w ∈ lw_tbl := fun w h => show w ∈ k2_sels lw_privs ++ tables_1 from List.mem_append_right (k2_sels lw_privs) (show w ∈ tables_1 from List.mem_append_right _ (List.mem_append_right _ (List.mem_append_right _ (List.mem_append_left _ h))))
theorem lw_m5 : ∀ w ∈ tables_1_5, w ∈ lw_tbl := fun w h => show w ∈ k2_sels lw_privs ++ tables_1 from List.mem_append_right (k2_sels lw_privs) (show w ∈ tables_1 from List.mem_append_right _ (List.mem_append_right _ (List.mem_append_right _ (List.mem_append_right _ (List.mem_append_left _ h)))))
theorem lw_m6 : ∀ w ∈ tables_1_6, w ∈ lw_tbl := fun w h => show w ∈ k2_sels lw_privs ++ tables_1 from List.mem_append_right (k2_sels lw_privs) (show w ∈ tables_1 from List.mem_append_right _ (List.mem_append_right _ (List.mem_append_right _ (List.mem_append_right _ (List.mem_append_right _ (List.mem_append_left _ h))))))
theorem lw_m7 : ∀ w ∈ tables_1_7, w ∈ lw_tbl := fun w h => show w ∈ k2_sels lw_privs ++ tables_1 from List.mem_append_right (k2_sels lw_privs) (show w ∈ tables_1 from List.mem_append_right _ (List.mem_append_right _ (List.mem_append_right _ (List.mem_append_right _ (List.mem_append_right _ (List.mem_append_right _ (List.mem_append_left _ h)))))))
theorem lw_m8 : ∀ w ∈ tables_1_8, w ∈ lw_tbl := fun w h => show w ∈ k2_sels lw_privs ++ tables_1 from List.mem_append_right (k2_sels lw_privs) (show w ∈ tables_1 from List.mem_append_right _ (List.mem_append_right _ (List.mem_append_right _ (List.mem_append_right _ (List.mem_append_right _ (List.mem_append_right _ (List.mem_append_right _ (List.mem_append_left _ h))))))))
theorem lw_m9 : ∀ w ∈ tables_1_9, w ∈ lw_tbl := fun w h => show w ∈ k2_sels lw_privs ++ tables_1 from List.mem_append_right (k2_sels lw_privs) (show w ∈ tables_1 from List.mem_append_right _ (List.mem_append_right _ (List.mem_append_right _ (List.mem_append_right _ (List.mem_append_right _ (List.mem_append_right _ (List.mem_append_right _ (List.mem_append_right _ (List.mem_append_left _ h)))))))))
theorem lw_m10 : ∀ w ∈ tables_1_10, w ∈ lw_tbl := fun w h => show w ∈ k2_sels lw_privs ++ tables_1 from List.mem_append_right (k2_sels lw_privs) (show w ∈ tables_1 from List.mem_append_right _ (List.mem_append_right _ (List.mem_append_right _ (List.mem_append_right _ (List.mem_append_right _ (List.mem_append_right _ (List.mem_append_right _ (List.mem_append_right _ (List.mem_append_right _ (List.mem_append_left _ h))))))))))
theorem lw_m11 : ∀ w ∈ tables_1_11, w ∈ lw_tbl := fun w h => show w ∈ k2_sels lw_privs ++ tables_1 from List.mem_append_right (k2_sels lw_privs) (show w ∈ tables_1 from List.mem_append_right _ (List.mem_append_right _ (List.mem_append_right _ (List.mem_append_right _ (List.mem_append_right _ (List.mem_append_right _ (List.mem_append_right _ (List.mem_append_right _ (List.mem_append_right _ (List.mem_append_right _ (List.mem_append_left _ h)))))))))))
theorem lw_m12 : ∀ w ∈ tables_1_12, w ∈ lw_tbl := fun w h => show w ∈ k2_sels lw_privs ++ tables_1 from List.mem_append_right (k2_sels lw_privs) (show w ∈ tables_1 from List.mem_append_right _ (List.mem_append_right _ (List.mem_append_right _ (List.mem_append_right _ (List.mem_append_right _ (List.mem_append_right _ (List.mem_append_right _ (List.mem_append_right _ (List.mem_append_right _ (List.mem_append_right _ (List.mem_append_right _ h)))))))))))
theorem qs0 : (Cond.selects "java/util/BitSet" ⟨"java/util/BitSet", "initWords", "(I)V"⟩ ⟨"java/util/BitSet", "initWords", "(I)V"⟩) ∈ lw_all := lw_g (lw_at lw_ms 0 rfl) rfl
theorem qs1 : (Cond.selects "BalloonMail" ⟨"BalloonMail", "appendWord", "(I)V"⟩ ⟨"BalloonMail", "appendWord", "(I)V"⟩) ∈ lw_all := lw_g (lw_at lw_ms 1 rfl) rfl
theorem qs2 : (Cond.selects "BalloonMail$Parser" ⟨"BalloonMail$Parser", "advance", "()V"⟩ ⟨"BalloonMail$Parser", "advance", "()V"⟩) ∈ lw_all := lw_g (lw_at lw_ms 2 rfl) rfl
theorem qs3 : (Cond.selects "BalloonMail$Parser" ⟨"BalloonMail$Parser", "byteAt", "(I)I"⟩ ⟨"BalloonMail$Parser", "byteAt", "(I)I"⟩) ∈ lw_all := lw_g (lw_at lw_ms 3 rfl) rfl
theorem qs4 : (Cond.selects "BalloonMail$Parser" ⟨"BalloonMail$Parser", "readWord", "()V"⟩ ⟨"BalloonMail$Parser", "readWord", "()V"⟩) ∈ lw_all := lw_g (lw_at lw_ms 4 rfl) rfl
theorem qs5 : (Cond.selects "BalloonMail$Parser" ⟨"BalloonMail$Parser", "readNumber", "()V"⟩ ⟨"BalloonMail$Parser", "readNumber", "()V"⟩) ∈ lw_all := lw_g (lw_at lw_ms 5 rfl) rfl
theorem qs6 : (Cond.selects "BalloonMail$Parser" ⟨"BalloonMail$Parser", "require", "(ZI)V"⟩ ⟨"BalloonMail$Parser", "require", "(ZI)V"⟩) ∈ lw_all := lw_g (lw_at lw_ms 6 rfl) rfl
theorem qs7 : (Cond.selects "java/lang/Throwable" ⟨"java/lang/Throwable", "fillInStackTrace", "(I)Ljava/lang/Throwable;"⟩ ⟨"java/lang/Throwable", "fillInStackTrace", "(I)Ljava/lang/Throwable;"⟩) ∈ lw_all := lw_g (lw_at lw_ms 7 rfl) rfl
theorem qs8 : (Cond.selects "BalloonMail$Parser" ⟨"BalloonMail$Parser", "statement", "()V"⟩ ⟨"BalloonMail$Parser", "statement", "()V"⟩) ∈ lw_all := lw_g (lw_at lw_ms 8 rfl) rfl
theorem qs9 : (Cond.selects "BalloonMail$Parser" ⟨"BalloonMail$Parser", "keyword", "()I"⟩ ⟨"BalloonMail$Parser", "keyword", "()I"⟩) ∈ lw_all := lw_g (lw_at lw_ms 9 rfl) rfl
theorem qs10 : (Cond.selects "java/util/LinkedList" ⟨"java/util/LinkedList", "checkElementIndex", "(I)V"⟩ ⟨"java/util/LinkedList", "checkElementIndex", "(I)V"⟩) ∈ lw_all := lw_g (lw_at lw_ms 10 rfl) rfl
theorem qs11 : (Cond.selects "java/util/LinkedList" ⟨"java/util/LinkedList", "isElementIndex", "(I)Z"⟩ ⟨"java/util/LinkedList", "isElementIndex", "(I)Z"⟩) ∈ lw_all := lw_g (lw_at lw_ms 11 rfl) rfl
theorem qs12 : (Cond.selects "java/util/LinkedList" ⟨"java/util/LinkedList", "outOfBoundsMsg", "(I)Ljava/lang/String;"⟩ ⟨"java/util/LinkedList", "outOfBoundsMsg", "(I)Ljava/lang/String;"⟩) ∈ lw_all := lw_g (lw_at lw_ms 12 rfl) rfl
theorem qs13 : (Cond.selects "BalloonMail$Parser" ⟨"BalloonMail$Parser", "region", "()V"⟩ ⟨"BalloonMail$Parser", "region", "()V"⟩) ∈ lw_all := lw_g (lw_at lw_ms 13 rfl) rfl
theorem qs14 : (Cond.selects "BalloonMail$Parser" ⟨"BalloonMail$Parser", "begin", "(II)V"⟩ ⟨"BalloonMail$Parser", "begin", "(II)V"⟩) ∈ lw_all := lw_g (lw_at lw_ms 14 rfl) rfl
theorem qs15 : (Cond.selects "BalloonMail$Parser" ⟨"BalloonMail$Parser", "number", "(II)I"⟩ ⟨"BalloonMail$Parser", "number", "(II)I"⟩) ∈ lw_all := lw_g (lw_at lw_ms 15 rfl) rfl
theorem qs16 : (Cond.selects "java/util/ArrayList" ⟨"java/util/ArrayList", "add", "(Ljava/lang/Object;[Ljava/lang/Object;I)V"⟩ ⟨"java/util/ArrayList", "add", "(Ljava/lang/Object;[Ljava/lang/Object;I)V"⟩) ∈ lw_all := lw_g (lw_at lw_ms 16 rfl) rfl
theorem qs17 : (Cond.selects "java/util/ArrayList" ⟨"java/util/ArrayList", "grow", "()[Ljava/lang/Object;"⟩ ⟨"java/util/ArrayList", "grow", "()[Ljava/lang/Object;"⟩) ∈ lw_all := lw_g (lw_at lw_ms 17 rfl) rfl
theorem qs18 : (Cond.selects "java/util/ArrayList" ⟨"java/util/ArrayList", "grow", "(I)[Ljava/lang/Object;"⟩ ⟨"java/util/ArrayList", "grow", "(I)[Ljava/lang/Object;"⟩) ∈ lw_all := lw_g (lw_at lw_ms 18 rfl) rfl
theorem qs19 : (Cond.selects "BalloonMail$Parser" ⟨"BalloonMail$Parser", "wind", "()V"⟩ ⟨"BalloonMail$Parser", "wind", "()V"⟩) ∈ lw_all := lw_g (lw_at lw_ms 19 rfl) rfl
theorem qs20 : (Cond.selects "BalloonMail$Parser" ⟨"BalloonMail$Parser", "weight", "(LBalloonMail$Choices;)I"⟩ ⟨"BalloonMail$Parser", "weight", "(LBalloonMail$Choices;)I"⟩) ∈ lw_all := lw_g (lw_at lw_ms 20 rfl) rfl
theorem qs21 : (Cond.selects "BalloonMail$Parser" ⟨"BalloonMail$Parser", "turn", "()V"⟩ ⟨"BalloonMail$Parser", "turn", "()V"⟩) ∈ lw_all := lw_g (lw_at lw_ms 21 rfl) rfl
theorem qs22 : (Cond.selects "BalloonMail$Parser" ⟨"BalloonMail$Parser", "balloon", "()V"⟩ ⟨"BalloonMail$Parser", "balloon", "()V"⟩) ∈ lw_all := lw_g (lw_at lw_ms 22 rfl) rfl
theorem qs23 : (Cond.selects "BalloonMail$Parser" ⟨"BalloonMail$Parser", "letter", "()V"⟩ ⟨"BalloonMail$Parser", "letter", "()V"⟩) ∈ lw_all := lw_g (lw_at lw_ms 23 rfl) rfl
theorem qs24 : (Cond.selects "BalloonMail$Parser" ⟨"BalloonMail$Parser", "once", "(I)V"⟩ ⟨"BalloonMail$Parser", "once", "(I)V"⟩) ∈ lw_all := lw_g (lw_at lw_ms 24 rfl) rfl
theorem qs25 : (Cond.selects "java/util/BitSet" ⟨"java/util/BitSet", "checkInvariants", "()V"⟩ ⟨"java/util/BitSet", "checkInvariants", "()V"⟩) ∈ lw_all := lw_g (lw_at lw_ms 25 rfl) rfl
theorem qs26 : (Cond.selects "java/util/BitSet" ⟨"java/util/BitSet", "expandTo", "(I)V"⟩ ⟨"java/util/BitSet", "expandTo", "(I)V"⟩) ∈ lw_all := lw_g (lw_at lw_ms 26 rfl) rfl
theorem qs27 : (Cond.selects "java/util/BitSet" ⟨"java/util/BitSet", "ensureCapacity", "(I)V"⟩ ⟨"java/util/BitSet", "ensureCapacity", "(I)V"⟩) ∈ lw_all := lw_g (lw_at lw_ms 27 rfl) rfl
theorem qs28 : (Cond.selects "BalloonMail" ⟨"BalloonMail", "isBalloon", "(I)Z"⟩ ⟨"BalloonMail", "isBalloon", "(I)Z"⟩) ∈ lw_all := lw_g (lw_at lw_ms 28 rfl) rfl
theorem qs29 : (Cond.selects "BalloonMail" ⟨"BalloonMail", "isLetter", "(I)Z"⟩ ⟨"BalloonMail", "isLetter", "(I)Z"⟩) ∈ lw_all := lw_g (lw_at lw_ms 29 rfl) rfl
theorem qs30 : (Cond.selects "BalloonMail" ⟨"BalloonMail", "isWind", "(I)Z"⟩ ⟨"BalloonMail", "isWind", "(I)Z"⟩) ∈ lw_all := lw_g (lw_at lw_ms 30 rfl) rfl
theorem qs31 : (Cond.selects "BalloonMail" ⟨"BalloonMail", "layWinds", "(II)V"⟩ ⟨"BalloonMail", "layWinds", "(II)V"⟩) ∈ lw_all := lw_g (lw_at lw_ms 31 rfl) rfl
theorem qs32 : (Cond.selects "BalloonMail" ⟨"BalloonMail", "spread", "(I)V"⟩ ⟨"BalloonMail", "spread", "(I)V"⟩) ∈ lw_all := lw_g (lw_at lw_ms 32 rfl) rfl
theorem qs33 : (Cond.selects "BalloonMail" ⟨"BalloonMail", "isRegion", "(I)Z"⟩ ⟨"BalloonMail", "isRegion", "(I)Z"⟩) ∈ lw_all := lw_g (lw_at lw_ms 33 rfl) rfl
theorem qs34 : (Cond.selects "BalloonMail" ⟨"BalloonMail", "landed", "(ILBalloonMail$Gain;)J"⟩ ⟨"BalloonMail", "landed", "(ILBalloonMail$Gain;)J"⟩) ∈ lw_all := lw_g (lw_at lw_ms 34 rfl) rfl
theorem qs35 : (Cond.selects "BalloonMail" ⟨"BalloonMail", "canAnswer", "(II)Z"⟩ ⟨"BalloonMail", "canAnswer", "(II)Z"⟩) ∈ lw_all := lw_g (lw_at lw_ms 35 rfl) rfl
theorem qs36 : (Cond.selects "BalloonMail" ⟨"BalloonMail", "answered", "(II)J"⟩ ⟨"BalloonMail", "answered", "(II)J"⟩) ∈ lw_all := lw_g (lw_at lw_ms 36 rfl) rfl
theorem qs37 : (Cond.selects "BalloonMail" ⟨"BalloonMail", "scaled", "(II)J"⟩ ⟨"BalloonMail", "scaled", "(II)J"⟩) ∈ lw_all := lw_g (lw_at lw_ms 37 rfl) rfl
theorem qs38 : (Cond.selects "BalloonMail" ⟨"BalloonMail", "layTotals", "()V"⟩ ⟨"BalloonMail", "layTotals", "()V"⟩) ∈ lw_all := lw_g (lw_at lw_ms 38 rfl) rfl
theorem qs39 : (Cond.selects "BalloonMail" ⟨"BalloonMail", "with", "(III)J"⟩ ⟨"BalloonMail", "with", "(III)J"⟩) ∈ lw_all := lw_g (lw_at lw_ms 39 rfl) rfl
theorem qs40 : (Cond.selects "BalloonMail" ⟨"BalloonMail", "valueAt", "(II)I"⟩ ⟨"BalloonMail", "valueAt", "(II)I"⟩) ∈ lw_all := lw_g (lw_at lw_ms 40 rfl) rfl
theorem qs41 : (Cond.selects "BalloonMail" ⟨"BalloonMail", "withLetter", "(II)I"⟩ ⟨"BalloonMail", "withLetter", "(II)I"⟩) ∈ lw_all := lw_g (lw_at lw_ms 41 rfl) rfl
theorem qs42 : (Cond.selects "BalloonMail" ⟨"BalloonMail", "areLetters", "(I)Z"⟩ ⟨"BalloonMail", "areLetters", "(I)Z"⟩) ∈ lw_all := lw_g (lw_at lw_ms 42 rfl) rfl
theorem qs43 : (Cond.selects "BalloonMail" ⟨"BalloonMail", "setIn", "(I)I"⟩ ⟨"BalloonMail", "setIn", "(I)I"⟩) ∈ lw_all := lw_g (lw_at lw_ms 43 rfl) rfl
theorem qs44 : (Cond.selects "BalloonMail" ⟨"BalloonMail", "keep", "()V"⟩ ⟨"BalloonMail", "keep", "()V"⟩) ∈ lw_all := lw_g (lw_at lw_ms 44 rfl) rfl
theorem qs45 : (Cond.selects "java/util/ArrayList" ⟨"java/util/ArrayList", "fastRemove", "([Ljava/lang/Object;I)V"⟩ ⟨"java/util/ArrayList", "fastRemove", "([Ljava/lang/Object;I)V"⟩) ∈ lw_all := lw_g (lw_at lw_ms 45 rfl) rfl
theorem qs46 : (Cond.selects "java/util/ArrayList" ⟨"java/util/ArrayList", "rangeCheckForAdd", "(I)V"⟩ ⟨"java/util/ArrayList", "rangeCheckForAdd", "(I)V"⟩) ∈ lw_all := lw_g (lw_at lw_ms 46 rfl) rfl
theorem qs47 : (Cond.selects "java/util/ArrayList" ⟨"java/util/ArrayList", "outOfBoundsMsg", "(I)Ljava/lang/String;"⟩ ⟨"java/util/ArrayList", "outOfBoundsMsg", "(I)Ljava/lang/String;"⟩) ∈ lw_all := lw_g (lw_at lw_ms 47 rfl) rfl
theorem qs48 : (Cond.selects "java/util/LinkedList" ⟨"java/util/LinkedList", "checkPositionIndex", "(I)V"⟩ ⟨"java/util/LinkedList", "checkPositionIndex", "(I)V"⟩) ∈ lw_all := lw_g (lw_at lw_ms 48 rfl) rfl
theorem qs49 : (Cond.selects "java/util/LinkedList" ⟨"java/util/LinkedList", "isPositionIndex", "(I)Z"⟩ ⟨"java/util/LinkedList", "isPositionIndex", "(I)Z"⟩) ∈ lw_all := lw_g (lw_at lw_ms 49 rfl) rfl
theorem qs50 : (Cond.selects "java/util/ArrayDeque" ⟨"java/util/ArrayDeque", "grow", "(I)V"⟩ ⟨"java/util/ArrayDeque", "grow", "(I)V"⟩) ∈ lw_all := lw_g (lw_at lw_ms 50 rfl) rfl
theorem qs51 : (Cond.selects "java/util/ArrayDeque" ⟨"java/util/ArrayDeque", "newCapacity", "(II)I"⟩ ⟨"java/util/ArrayDeque", "newCapacity", "(II)I"⟩) ∈ lw_all := lw_g (lw_at lw_ms 51 rfl) rfl
theorem qs52 : (Cond.selects "BalloonMail" ⟨"BalloonMail", "release", "(IILBalloonMail$Region;)V"⟩ ⟨"BalloonMail", "release", "(IILBalloonMail$Region;)V"⟩) ∈ lw_all := lw_g (lw_at lw_ms 52 rfl) rfl
theorem qs53 : (Cond.selects "BalloonMail" ⟨"BalloonMail", "event", "(I)LBalloonMail$Event;"⟩ ⟨"BalloonMail", "event", "(I)LBalloonMail$Event;"⟩) ∈ lw_all := lw_g (lw_at lw_ms 53 rfl) rfl
theorem qs54 : (Cond.selects "BalloonMailModel" ⟨"BalloonMailModel", "begins", "()V"⟩ ⟨"BalloonMailModel", "begins", "()V"⟩) ∈ lw_all := lw_g (lw_at lw_ms 54 rfl) rfl
theorem qs55 : (Cond.selects "BalloonMailModel" ⟨"BalloonMailModel", "bytesOf", "(I)V"⟩ ⟨"BalloonMailModel", "bytesOf", "(I)V"⟩) ∈ lw_all := lw_g (lw_at lw_ms 55 rfl) rfl
theorem qs56 : (Cond.selects "BalloonMailModel" ⟨"BalloonMailModel", "advance", "()V"⟩ ⟨"BalloonMailModel", "advance", "()V"⟩) ∈ lw_all := lw_g (lw_at lw_ms 56 rfl) rfl
theorem qs57 : (Cond.selects "BalloonMailModel" ⟨"BalloonMailModel", "byteAt", "(I)I"⟩ ⟨"BalloonMailModel", "byteAt", "(I)I"⟩) ∈ lw_all := lw_g (lw_at lw_ms 57 rfl) rfl
theorem qs58 : (Cond.selects "BalloonMailModel" ⟨"BalloonMailModel", "statement", "()Z"⟩ ⟨"BalloonMailModel", "statement", "()Z"⟩) ∈ lw_all := lw_g (lw_at lw_ms 58 rfl) rfl
theorem qs59 : (Cond.selects "BalloonMailModel" ⟨"BalloonMailModel", "isWord", "(Ljava/lang/String;)Z"⟩ ⟨"BalloonMailModel", "isWord", "(Ljava/lang/String;)Z"⟩) ∈ lw_all := lw_g (lw_at lw_ms 59 rfl) rfl
theorem qs60 : (Cond.selects "BalloonMailModel" ⟨"BalloonMailModel", "regionLine", "()Z"⟩ ⟨"BalloonMailModel", "regionLine", "()Z"⟩) ∈ lw_all := lw_g (lw_at lw_ms 60 rfl) rfl
theorem qs61 : (Cond.selects "BalloonMailModel" ⟨"BalloonMailModel", "opens", "(Z)Z"⟩ ⟨"BalloonMailModel", "opens", "(Z)Z"⟩) ∈ lw_all := lw_g (lw_at lw_ms 61 rfl) rfl
theorem qs62 : (Cond.selects "BalloonMailModel" ⟨"BalloonMailModel", "fails", "(I)Z"⟩ ⟨"BalloonMailModel", "fails", "(I)Z"⟩) ∈ lw_all := lw_g (lw_at lw_ms 62 rfl) rfl
theorem qs63 : (Cond.selects "BalloonMailModel" ⟨"BalloonMailModel", "takes", "(II)Z"⟩ ⟨"BalloonMailModel", "takes", "(II)Z"⟩) ∈ lw_all := lw_g (lw_at lw_ms 63 rfl) rfl
theorem qs64 : (Cond.selects "BalloonMailModel" ⟨"BalloonMailModel", "windLine", "()Z"⟩ ⟨"BalloonMailModel", "windLine", "()Z"⟩) ∈ lw_all := lw_g (lw_at lw_ms 64 rfl) rfl
theorem qs65 : (Cond.selects "BalloonMailModel" ⟨"BalloonMailModel", "turnLine", "()Z"⟩ ⟨"BalloonMailModel", "turnLine", "()Z"⟩) ∈ lw_all := lw_g (lw_at lw_ms 65 rfl) rfl
theorem qs66 : (Cond.selects "BalloonMailModel" ⟨"BalloonMailModel", "balloonLine", "()Z"⟩ ⟨"BalloonMailModel", "balloonLine", "()Z"⟩) ∈ lw_all := lw_g (lw_at lw_ms 66 rfl) rfl
theorem qs67 : (Cond.selects "BalloonMailModel" ⟨"BalloonMailModel", "letterLine", "()Z"⟩ ⟨"BalloonMailModel", "letterLine", "()Z"⟩) ∈ lw_all := lw_g (lw_at lw_ms 67 rfl) rfl
theorem qs68 : (Cond.selects "BalloonMailModel" ⟨"BalloonMailModel", "otherLine", "()Z"⟩ ⟨"BalloonMailModel", "otherLine", "()Z"⟩) ∈ lw_all := lw_g (lw_at lw_ms 68 rfl) rfl
theorem qs69 : (Cond.selects "BalloonMailModel" ⟨"BalloonMailModel", "single", "(II)I"⟩ ⟨"BalloonMailModel", "single", "(II)I"⟩) ∈ lw_all := lw_g (lw_at lw_ms 69 rfl) rfl
theorem qs70 : (Cond.selects "BalloonMailModel" ⟨"BalloonMailModel", "becomes", "()V"⟩ ⟨"BalloonMailModel", "becomes", "()V"⟩) ∈ lw_all := lw_g (lw_at lw_ms 70 rfl) rfl
theorem qs71 : (Cond.selects "BalloonMailModel" ⟨"BalloonMailModel", "isBalloon", "(I)Z"⟩ ⟨"BalloonMailModel", "isBalloon", "(I)Z"⟩) ∈ lw_all := lw_g (lw_at lw_ms 71 rfl) rfl
theorem qs72 : (Cond.selects "BalloonMailModel" ⟨"BalloonMailModel", "isLetter", "(I)Z"⟩ ⟨"BalloonMailModel", "isLetter", "(I)Z"⟩) ∈ lw_all := lw_g (lw_at lw_ms 72 rfl) rfl
theorem qs73 : (Cond.selects "BalloonMailModel" ⟨"BalloonMailModel", "isWind", "(I)Z"⟩ ⟨"BalloonMailModel", "isWind", "(I)Z"⟩) ∈ lw_all := lw_g (lw_at lw_ms 73 rfl) rfl
theorem qs74 : (Cond.selects "BalloonMailModel" ⟨"BalloonMailModel", "goesOn", "(II)V"⟩ ⟨"BalloonMailModel", "goesOn", "(II)V"⟩) ∈ lw_all := lw_g (lw_at lw_ms 74 rfl) rfl
theorem qs75 : (Cond.selects "BalloonMailModel" ⟨"BalloonMailModel", "turnsOf", "(I)I"⟩ ⟨"BalloonMailModel", "turnsOf", "(I)I"⟩) ∈ lw_all := lw_g (lw_at lw_ms 75 rfl) rfl
theorem qs76 : (Cond.selects "BalloonMailModel" ⟨"BalloonMailModel", "weightBy", "(II)I"⟩ ⟨"BalloonMailModel", "weightBy", "(II)I"⟩) ∈ lw_all := lw_g (lw_at lw_ms 76 rfl) rfl
theorem qs77 : (Cond.selects "BalloonMailModel" ⟨"BalloonMailModel", "chanceOf", "(II)J"⟩ ⟨"BalloonMailModel", "chanceOf", "(II)J"⟩) ∈ lw_all := lw_g (lw_at lw_ms 77 rfl) rfl
theorem qs78 : (Cond.selects "BalloonMailModel" ⟨"BalloonMailModel", "mayAsk", "(II)Z"⟩ ⟨"BalloonMailModel", "mayAsk", "(II)Z"⟩) ∈ lw_all := lw_g (lw_at lw_ms 78 rfl) rfl
theorem qs79 : (Cond.selects "BalloonMailModel" ⟨"BalloonMailModel", "evenChance", "(II)J"⟩ ⟨"BalloonMailModel", "evenChance", "(II)J"⟩) ∈ lw_all := lw_g (lw_at lw_ms 79 rfl) rfl
theorem qs80 : (Cond.selects "BalloonMailModel" ⟨"BalloonMailModel", "laysTotals", "()V"⟩ ⟨"BalloonMailModel", "laysTotals", "()V"⟩) ∈ lw_all := lw_g (lw_at lw_ms 80 rfl) rfl
theorem qs81 : (Cond.selects "BalloonMailModel" ⟨"BalloonMailModel", "greatest", "(II)J"⟩ ⟨"BalloonMailModel", "greatest", "(II)J"⟩) ∈ lw_all := lw_g (lw_at lw_ms 81 rfl) rfl
theorem qs82 : (Cond.selects "BalloonMailModel" ⟨"BalloonMailModel", "firstDay", "(II)I"⟩ ⟨"BalloonMailModel", "firstDay", "(II)I"⟩) ∈ lw_all := lw_g (lw_at lw_ms 82 rfl) rfl
theorem qs83 : (Cond.selects "BalloonMailModel" ⟨"BalloonMailModel", "lowest", "(II)I"⟩ ⟨"BalloonMailModel", "lowest", "(II)I"⟩) ∈ lw_all := lw_g (lw_at lw_ms 83 rfl) rfl
theorem qs84 : (Cond.selects "BalloonMailModel" ⟨"BalloonMailModel", "areLetters", "(I)Z"⟩ ⟨"BalloonMailModel", "areLetters", "(I)Z"⟩) ∈ lw_all := lw_g (lw_at lw_ms 84 rfl) rfl
theorem qs85 : (Cond.selects "BalloonMailModel" ⟨"BalloonMailModel", "sumOf", "(I[I)I"⟩ ⟨"BalloonMailModel", "sumOf", "(I[I)I"⟩) ∈ lw_all := lw_g (lw_at lw_ms 85 rfl) rfl
theorem qs86 : (Cond.selects "BalloonMailModel" ⟨"BalloonMailModel", "inState", "(I)I"⟩ ⟨"BalloonMailModel", "inState", "(I)I"⟩) ∈ lw_all := lw_g (lw_at lw_ms 86 rfl) rfl
theorem qs87 : (Cond.selects "BalloonMailModel" ⟨"BalloonMailModel", "keeps", "()V"⟩ ⟨"BalloonMailModel", "keeps", "()V"⟩) ∈ lw_all := lw_g (lw_at lw_ms 87 rfl) rfl
theorem qs88 : (Cond.selects "BalloonMailModel" ⟨"BalloonMailModel", "regionDrawn", "()I"⟩ ⟨"BalloonMailModel", "regionDrawn", "()I"⟩) ∈ lw_all := lw_g (lw_at lw_ms 88 rfl) rfl
theorem qs89 : (Cond.selects "BalloonMailModel" ⟨"BalloonMailModel", "draw", "()I"⟩ ⟨"BalloonMailModel", "draw", "()I"⟩) ∈ lw_all := lw_g (lw_at lw_ms 89 rfl) rfl
theorem qs90 : (Cond.selects "BalloonMailModel" ⟨"BalloonMailModel", "become", "(II)V"⟩ ⟨"BalloonMailModel", "become", "(II)V"⟩) ∈ lw_all := lw_g (lw_at lw_ms 90 rfl) rfl
theorem qs91 : (Cond.selects "BalloonMailModel" ⟨"BalloonMailModel", "notes", "(II)V"⟩ ⟨"BalloonMailModel", "notes", "(II)V"⟩) ∈ lw_all := lw_g (lw_at lw_ms 91 rfl) rfl
theorem qs92 : (Cond.selects "BalloonMailModel" ⟨"BalloonMailModel", "comeBack", "()V"⟩ ⟨"BalloonMailModel", "comeBack", "()V"⟩) ∈ lw_all := lw_g (lw_at lw_ms 92 rfl) rfl
theorem qs93 : (Cond.selects "BalloonMailModel" ⟨"BalloonMailModel", "answers", "(I)V"⟩ ⟨"BalloonMailModel", "answers", "(I)V"⟩) ∈ lw_all := lw_g (lw_at lw_ms 93 rfl) rfl
theorem qs94 : (Cond.selects "BalloonMailModel" ⟨"BalloonMailModel", "event", "(II)I"⟩ ⟨"BalloonMailModel", "event", "(II)I"⟩) ∈ lw_all := lw_g (lw_at lw_ms 94 rfl) rfl
-- ===== end of PART A; then your names; then what follows =====
