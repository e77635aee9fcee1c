/-! TABLES: tags of objects and arrays, the global numbers of fields -/
set_option maxRecDepth 100000
def xFTl : List (String × String × String × Bool) := [("BalloonMail", "buffer", "[B", true), ("BalloonMail", "bufferLength", "I", false), ("BalloonMail", "errorPosition", "I", false), ("BalloonMail", "siege", "LBalloonMail$Siege;", false), ("BalloonMail", "state", "LBalloonMail$State;", false), ("BalloonMail", "history", "Ljava/util/ArrayList;", true), ("BalloonMail", "snapshots", "[LBalloonMail$State;", true), ("BalloonMail", "winds", "[J", true), ("BalloonMail", "next", "[J", true), ("BalloonMail", "gain", "[J", true), ("BalloonMail", "total", "[J", true), ("BalloonMail", "value", "[I", true), ("BalloonMail$Siege", "regions", "Ljava/util/ArrayList;", true), ("BalloonMail$Siege", "winds", "Ljava/util/ArrayList;", true), ("BalloonMail$Siege", "balloons", "Ljava/util/ArrayList;", true), ("BalloonMail$Siege", "letters", "Ljava/util/ArrayList;", true), ("BalloonMail$Siege", "turns", "I", false), ("BalloonMail$Siege", "loft", "I", false), ("BalloonMail$Siege", "start", "I", false), ("BalloonMail$Siege", "seed", "I", false), ("BalloonMail$State", "balloonState", "[I", true), ("BalloonMail$State", "balloonRegion", "[I", true), ("BalloonMail$State", "letterState", "[I", true), ("BalloonMail$State", "answerDay", "[I", true), ("BalloonMail$State", "cargo", "[Ljava/util/BitSet;", true), ("BalloonMail$State", "flying", "Ljava/util/LinkedList;", true), ("BalloonMail$State", "journal", "Ljava/util/ArrayDeque;", true), ("BalloonMail$State", "day", "I", false), ("BalloonMail$State", "wind", "I", false), ("BalloonMail$State", "loft", "I", false), ("BalloonMail$State", "lost", "I", false), ("BalloonMail$State", "x", "J", false), ("BalloonMailModel", "thrown", "I", false), ("BalloonMailModel", "now", "[I", true), ("BalloonMailModel", "regions", "[I", true), ("BalloonMailModel", "risk", "[I", true), ("BalloonMailModel", "distance", "[I", true), ("BalloonMailModel", "comesBack", "[I", true), ("BalloonMailModel", "winds", "[I", true), ("BalloonMailModel", "named", "[I", true), ("BalloonMailModel", "namedRegion", "[I", true), ("BalloonMailModel", "namedWeight", "[I", true), ("BalloonMailModel", "turns", "[I", true), ("BalloonMailModel", "turnFrom", "[I", true), ("BalloonMailModel", "turnTo", "[I", true), ("BalloonMailModel", "turnWeight", "[I", true), ("BalloonMailModel", "balloons", "[I", true), ("BalloonMailModel", "room", "[I", true), ("BalloonMailModel", "pigeons", "[I", true), ("BalloonMailModel", "letters", "[I", true), ("BalloonMailModel", "weight", "[I", true), ("BalloonMailModel", "priority", "[I", true), ("BalloonMailModel", "loftSize", "I", false), ("BalloonMailModel", "startWind", "I", false), ("BalloonMailModel", "seed", "I", false), ("BalloonMailModel", "draftLoft", "I", false), ("BalloonMailModel", "draftStart", "I", false), ("BalloonMailModel", "draftSeed", "I", false), ("BalloonMailModel", "text", "[B", true), ("BalloonMailModel", "length", "I", false), ("BalloonMailModel", "textSize", "I", false), ("BalloonMailModel", "start", "I", false), ("BalloonMailModel", "next", "I", false), ("BalloonMailModel", "token", "I", false), ("BalloonMailModel", "value", "I", false), ("BalloonMailModel", "error", "I", false), ("BalloonMailModel", "errorAt", "I", false), ("BalloonMailModel", "number", "I", false), ("BalloonMailModel", "chance", "[J", true), ("BalloonMailModel", "chanceNext", "[J", true), ("BalloonMailModel", "total", "[J", true), ("BalloonMailModel", "worth", "[J", true), ("BalloonMailModel", "best", "[I", true), ("BalloonMailModel", "undos", "I", false), ("BalloonMailModel", "undo", "[I", true), ("BalloonMailModel", "slots", "[I", true), ("BalloonMailModel", "isSaved", "[Z", true), ("BalloonMail$Parser", "length", "I", true), ("BalloonMail$Parser", "s", "LBalloonMail$Siege;", true), ("BalloonMail$Parser", "known", "Ljava/util/BitSet;", true), ("BalloonMail$Parser", "kind", "I", false), ("BalloonMail$Parser", "position", "I", false), ("BalloonMail$Parser", "next", "I", false), ("BalloonMail$Parser", "value", "I", false), ("BalloonMail$Parser", "word", "Ljava/lang/String;", false), ("BalloonMail$Parser", "keywords", "Ljava/util/List;", true), ("BalloonMail$Parser", "this$0", "LBalloonMail;", true), ("java/lang/Throwable", "cause", "Ljava/lang/Throwable;", false), ("java/lang/Throwable", "stackTrace", "[Ljava/lang/StackTraceElement;", false), ("java/lang/Throwable", "suppressedExceptions", "Ljava/util/List;", false), ("java/lang/Throwable", "detailMessage", "Ljava/lang/String;", false), ("java/lang/Throwable", "backtrace", "Ljava/lang/Object;", false), ("java/lang/Throwable", "depth", "I", false), ("BalloonMail$ParseException", "code", "I", true), ("BalloonMail$ParseException", "position", "I", true), ("BalloonMail$Region", "risk", "I", true), ("BalloonMail$Region", "distance", "I", true), ("BalloonMail$Region", "comesBack", "I", true), ("BalloonMail$Wind", "regions", "LBalloonMail$Choices;", true), ("BalloonMail$Wind", "turns", "LBalloonMail$Choices;", true), ("BalloonMail$Choices", "all", "Ljava/util/ArrayList;", true), ("BalloonMail$Choice", "number", "I", true), ("BalloonMail$Choice", "weight", "I", true), ("BalloonMail$Balloon", "capacity", "I", true), ("BalloonMail$Balloon", "pigeons", "I", true), ("BalloonMail$Letter", "weight", "I", true), ("BalloonMail$Letter", "priority", "I", true), ("BalloonMail$Event", "kind", "I", true), ("BalloonMail$Event", "number", "I", true), ("BalloonMail$Event", "day", "I", true), ("BalloonMail$Pigeon", "balloon", "I", true), ("BalloonMail$Pigeon", "due", "I", true), ("java/util/AbstractList", "modCount", "I", false), ("java/util/ArrayList", "elementData", "[Ljava/lang/Object;", false), ("java/util/ArrayList", "size", "I", false), ("java/util/LinkedList", "size", "I", false), ("java/util/LinkedList", "first", "Ljava/util/LinkedList$Node;", false), ("java/util/LinkedList", "last", "Ljava/util/LinkedList$Node;", false), ("java/util/ArrayDeque", "elements", "[Ljava/lang/Object;", false), ("java/util/ArrayDeque", "head", "I", false), ("java/util/ArrayDeque", "tail", "I", false), ("java/util/BitSet", "words", "[J", false), ("java/util/BitSet", "wordsInUse", "I", false), ("java/util/BitSet", "sizeIsSticky", "Z", false), ("java/util/ImmutableCollections$ListN", "elements", "[Ljava/lang/Object;", true), ("java/util/ImmutableCollections$ListN", "allowNulls", "Z", true), ("java/lang/AbstractStringBuilder", "value", "[B", false), ("java/lang/AbstractStringBuilder", "coder", "B", false), ("java/lang/AbstractStringBuilder", "maybeLatin1", "Z", false), ("java/lang/AbstractStringBuilder", "count", "I", false), ("java/lang/String", "value", "[B", true), ("java/lang/String", "coder", "B", true), ("java/lang/String", "hash", "I", false), ("java/lang/String", "hashIsZero", "Z", false), ("java/util/LinkedList$ListItr", "lastReturned", "Ljava/util/LinkedList$Node;", false), ("java/util/LinkedList$ListItr", "next", "Ljava/util/LinkedList$Node;", false), ("java/util/LinkedList$ListItr", "nextIndex", "I", false), ("java/util/LinkedList$ListItr", "expectedModCount", "I", false), ("java/util/LinkedList$ListItr", "this$0", "Ljava/util/LinkedList;", true), ("java/util/LinkedList$Node", "item", "Ljava/lang/Object;", false), ("java/util/LinkedList$Node", "next", "Ljava/util/LinkedList$Node;", false), ("java/util/LinkedList$Node", "prev", "Ljava/util/LinkedList$Node;", false), ("java/util/ArrayDeque$DeqIterator", "cursor", "I", false), ("java/util/ArrayDeque$DeqIterator", "remaining", "I", false), ("java/util/ArrayDeque$DeqIterator", "lastRet", "I", false), ("java/util/ArrayDeque$DeqIterator", "this$0", "Ljava/util/ArrayDeque;", true)]
def xFT (f : Nat) : String × String × String × Bool := xFTl.getD f ("", "", "", false)
def xTYl : List FieldType := [.array (.byte), .int, .int, .object "BalloonMail$Siege", .object "BalloonMail$State", .object "java/util/ArrayList", .array (.object "BalloonMail$State"), .array (.long), .array (.long), .array (.long), .array (.long), .array (.int), .object "java/util/ArrayList", .object "java/util/ArrayList", .object "java/util/ArrayList", .object "java/util/ArrayList", .int, .int, .int, .int, .array (.int), .array (.int), .array (.int), .array (.int), .array (.object "java/util/BitSet"), .object "java/util/LinkedList", .object "java/util/ArrayDeque", .int, .int, .int, .int, .long, .int, .array (.int), .array (.int), .array (.int), .array (.int), .array (.int), .array (.int), .array (.int), .array (.int), .array (.int), .array (.int), .array (.int), .array (.int), .array (.int), .array (.int), .array (.int), .array (.int), .array (.int), .array (.int), .array (.int), .int, .int, .int, .int, .int, .int, .array (.byte), .int, .int, .int, .int, .int, .int, .int, .int, .int, .array (.long), .array (.long), .array (.long), .array (.long), .array (.int), .int, .array (.int), .array (.int), .array (.boolean), .int, .object "BalloonMail$Siege", .object "java/util/BitSet", .int, .int, .int, .int, .object "java/lang/String", .object "java/util/List", .object "BalloonMail", .object "java/lang/Throwable", .array (.object "java/lang/StackTraceElement"), .object "java/util/List", .object "java/lang/String", .object "java/lang/Object", .int, .int, .int, .int, .int, .int, .object "BalloonMail$Choices", .object "BalloonMail$Choices", .object "java/util/ArrayList", .int, .int, .int, .int, .int, .int, .int, .int, .int, .int, .int, .int, .array (.object "java/lang/Object"), .int, .int, .object "java/util/LinkedList$Node", .object "java/util/LinkedList$Node", .array (.object "java/lang/Object"), .int, .int, .array (.long), .int, .boolean, .array (.object "java/lang/Object"), .boolean, .array (.byte), .byte, .boolean, .int, .array (.byte), .byte, .int, .boolean, .object "java/util/LinkedList$Node", .object "java/util/LinkedList$Node", .int, .int, .object "java/util/LinkedList", .object "java/lang/Object", .object "java/util/LinkedList$Node", .object "java/util/LinkedList$Node", .int, .int, .int, .object "java/util/ArrayDeque"]
def xTY (f : Nat) : FieldType := xTYl.getD f .int
def xFKl : List Nat := [2, 0, 0, 2, 2, 2, 2, 2, 2, 2, 2, 2, 2, 2, 2, 2, 0, 0, 0, 0, 2, 2, 2, 2, 2, 2, 2, 0, 0, 0, 0, 1, 0, 2, 2, 2, 2, 2, 2, 2, 2, 2, 2, 2, 2, 2, 2, 2, 2, 2, 2, 2, 0, 0, 0, 0, 0, 0, 2, 0, 0, 0, 0, 0, 0, 0, 0, 0, 2, 2, 2, 2, 2, 0, 2, 2, 2, 0, 2, 2, 0, 0, 0, 0, 2, 2, 2, 2, 2, 2, 2, 2, 0, 0, 0, 0, 0, 0, 2, 2, 2, 0, 0, 0, 0, 0, 0, 0, 0, 0, 0, 0, 0, 2, 0, 0, 2, 2, 2, 0, 0, 2, 0, 0, 2, 0, 2, 0, 0, 0, 2, 0, 0, 0, 2, 2, 0, 0, 2, 2, 2, 2, 0, 0, 0, 2]
def xFK (f : Nat) : Nat := xFKl.getD f 0
abbrev xNF : Nat := 146
def xCNl : List String := ["", "BalloonMail", "BalloonMail$Siege", "BalloonMail$State", "BalloonMailModel", "BalloonMail$Parser", "BalloonMail$ParseException", "BalloonMail$Region", "BalloonMail$Wind", "BalloonMail$Choices", "BalloonMail$Choice", "BalloonMail$Balloon", "BalloonMail$Letter", "BalloonMail$Event", "BalloonMail$Pigeon", "java/util/ArrayList", "java/util/LinkedList", "java/util/ArrayDeque", "java/util/BitSet", "java/util/ImmutableCollections$ListN", "java/lang/StringBuilder", "java/lang/String", "java/lang/IndexOutOfBoundsException", "java/util/LinkedList$ListItr", "java/util/LinkedList$Node", "java/util/ArrayDeque$DeqIterator"]
def xCN (t : Nat) : String := xCNl.getD t ""
def xCFl : List (List Nat) := [[], [0, 1, 2, 3, 4, 5, 6, 7, 8, 9, 10, 11], [12, 13, 14, 15, 16, 17, 18, 19], [20, 21, 22, 23, 24, 25, 26, 27, 28, 29, 30, 31], [32, 33, 34, 35, 36, 37, 38, 39, 40, 41, 42, 43, 44, 45, 46, 47, 48, 49, 50, 51, 52, 53, 54, 55, 56, 57, 58, 59, 60, 61, 62, 63, 64, 65, 66, 67, 68, 69, 70, 71, 72, 73, 74, 75, 76], [77, 78, 79, 80, 81, 82, 83, 84, 85, 86], [87, 88, 89, 90, 91, 92, 93, 94], [95, 96, 97], [98, 99], [100], [101, 102], [103, 104], [105, 106], [107, 108, 109], [110, 111], [112, 113, 114], [112, 115, 116, 117], [118, 119, 120], [121, 122, 123], [124, 125], [126, 127, 128, 129], [130, 131, 132, 133], [87, 88, 89, 90, 91, 92], [134, 135, 136, 137, 138], [139, 140, 141], [142, 143, 144, 145]]
def xCF (t : Nat) : List Nat := xCFl.getD t []
abbrev xNT : Nat := 26
/-- array tags: 60 int, 61 long, 62 byte, 63 boolean, 64 Object, 65 BitSet, 66 State -/
def xAT (t : Nat) : FieldType := match t with | 60 => .int | 61 => .long | 62 => .byte | 63 => .boolean | 64 => .object "java/lang/Object" | 65 => .object "java/util/BitSet" | _ => .object "BalloonMail$State"
theorem xTY_ok : ∀ f, f < xNF → parseFieldDescriptor (xFT f).2.2.1 = some (xTY f) := by decide +kernel
theorem xFK_ok : ∀ f, f < xNF → xFK f < 3 := by decide +kernel
theorem xCF_lt : ∀ t, t < xNT → ∀ f ∈ xCF t, f < xNF := by decide +kernel
def x_lay (t f : Nat) : Cond := if (xFT f).2.2.2 = true then .laysFinal (xCN t) (xFT f).1 (xFT f).2.1 (xFT f).2.2.1 else .lays (xCN t) (xFT f).1 (xFT f).2.1 (xFT f).2.2.1
theorem x_lay_1 : ∀ f ∈ xCF 1, x_lay 1 f ∈ lw_all := by
  intro f hf
  have hf : f ∈ [0, 1, 2, 3, 4, 5, 6, 7, 8, 9, 10, 11] := hf
  simp only [List.mem_cons, List.not_mem_nil, or_false] at hf
  rcases hf with rfl | rfl | rfl | rfl | rfl | rfl | rfl | rfl | rfl | rfl | rfl | rfl
  · exact q377
  · exact q379
  · exact q381
  · exact q383
  · exact q385
  · exact q387
  · exact q389
  · exact q391
  · exact q393
  · exact q395
  · exact q397
  · exact q399
theorem x_lay_2 : ∀ f ∈ xCF 2, x_lay 2 f ∈ lw_all := by
  intro f hf
  have hf : f ∈ [12, 13, 14, 15, 16, 17, 18, 19] := hf
  simp only [List.mem_cons, List.not_mem_nil, or_false] at hf
  rcases hf with rfl | rfl | rfl | rfl | rfl | rfl | rfl | rfl
  · exact q223
  · exact q225
  · exact q227
  · exact q229
  · exact q231
  · exact q233
  · exact q235
  · exact q237
theorem x_lay_3 : ∀ f ∈ xCF 3, x_lay 3 f ∈ lw_all := by
  intro f hf
  have hf : f ∈ [20, 21, 22, 23, 24, 25, 26, 27, 28, 29, 30, 31] := hf
  simp only [List.mem_cons, List.not_mem_nil, or_false] at hf
  rcases hf with rfl | rfl | rfl | rfl | rfl | rfl | rfl | rfl | rfl | rfl | rfl | rfl
  · exact q336
  · exact q338
  · exact q340
  · exact q342
  · exact q344
  · exact q346
  · exact q348
  · exact q350
  · exact q352
  · exact q354
  · exact q356
  · exact q358
theorem x_lay_4 : ∀ f ∈ xCF 4, x_lay 4 f ∈ lw_all := by
  intro f hf
  have hf : f ∈ [32, 33, 34, 35, 36, 37, 38, 39, 40, 41, 42, 43, 44, 45, 46, 47, 48, 49, 50, 51, 52, 53, 54, 55, 56, 57, 58, 59, 60, 61, 62, 63, 64, 65, 66, 67, 68, 69, 70, 71, 72, 73, 74, 75, 76] := hf
  simp only [List.mem_cons, List.not_mem_nil, or_false] at hf
  rcases hf with rfl | rfl | rfl | rfl | rfl | rfl | rfl | rfl | rfl | rfl | rfl | rfl | rfl | rfl | rfl | rfl | rfl | rfl | rfl | rfl | rfl | rfl | rfl | rfl | rfl | rfl | rfl | rfl | rfl | rfl | rfl | rfl | rfl | rfl | rfl | rfl | rfl | rfl | rfl | rfl | rfl | rfl | rfl | rfl | rfl
  · exact q2197
  · exact q2199
  · exact q2201
  · exact q2203
  · exact q2205
  · exact q2207
  · exact q2209
  · exact q2211
  · exact q2213
  · exact q2215
  · exact q2217
  · exact q2219
  · exact q2221
  · exact q2223
  · exact q2225
  · exact q2227
  · exact q2229
  · exact q2231
  · exact q2233
  · exact q2235
  · exact q2237
  · exact q2239
  · exact q2241
  · exact q2243
  · exact q2245
  · exact q2247
  · exact q2249
  · exact q2251
  · exact q2253
  · exact q2255
  · exact q2257
  · exact q2259
  · exact q2261
  · exact q2263
  · exact q2265
  · exact q2267
  · exact q2269
  · exact q2271
  · exact q2273
  · exact q2275
  · exact q2277
  · exact q2279
  · exact q2281
  · exact q2283
  · exact q2285
theorem x_lay_5 : ∀ f ∈ xCF 5, x_lay 5 f ∈ lw_all := by
  intro f hf
  have hf : f ∈ [77, 78, 79, 80, 81, 82, 83, 84, 85, 86] := hf
  simp only [List.mem_cons, List.not_mem_nil, or_false] at hf
  rcases hf with rfl | rfl | rfl | rfl | rfl | rfl | rfl | rfl | rfl | rfl
  · exact q743
  · exact q745
  · exact q747
  · exact q749
  · exact q751
  · exact q753
  · exact q755
  · exact q757
  · exact q759
  · exact q761
theorem x_lay_6 : ∀ f ∈ xCF 6, x_lay 6 f ∈ lw_all := by
  intro f hf
  have hf : f ∈ [87, 88, 89, 90, 91, 92, 93, 94] := hf
  simp only [List.mem_cons, List.not_mem_nil, or_false] at hf
  rcases hf with rfl | rfl | rfl | rfl | rfl | rfl | rfl | rfl
  · exact q781
  · exact q783
  · exact q785
  · exact q787
  · exact q789
  · exact q840
  · exact q832
  · exact q834
theorem x_lay_7 : ∀ f ∈ xCF 7, x_lay 7 f ∈ lw_all := by
  intro f hf
  have hf : f ∈ [95, 96, 97] := hf
  simp only [List.mem_cons, List.not_mem_nil, or_false] at hf
  rcases hf with rfl | rfl | rfl
  · exact q1085
  · exact q1087
  · exact q1089
theorem x_lay_8 : ∀ f ∈ xCF 8, x_lay 8 f ∈ lw_all := by
  intro f hf
  have hf : f ∈ [98, 99] := hf
  simp only [List.mem_cons, List.not_mem_nil, or_false] at hf
  rcases hf with rfl | rfl
  · exact q1151
  · exact q1153
theorem x_lay_9 : ∀ f ∈ xCF 9, x_lay 9 f ∈ lw_all := by
  intro f hf
  have hf : f ∈ [100] := hf
  simp only [List.mem_cons, List.not_mem_nil, or_false] at hf
  subst hf
  exact q1142
theorem x_lay_10 : ∀ f ∈ xCF 10, x_lay 10 f ∈ lw_all := by
  intro f hf
  have hf : f ∈ [101, 102] := hf
  simp only [List.mem_cons, List.not_mem_nil, or_false] at hf
  rcases hf with rfl | rfl
  · exact q1183
  · exact q1185
theorem x_lay_11 : ∀ f ∈ xCF 11, x_lay 11 f ∈ lw_all := by
  intro f hf
  have hf : f ∈ [103, 104] := hf
  simp only [List.mem_cons, List.not_mem_nil, or_false] at hf
  rcases hf with rfl | rfl
  · exact q1207
  · exact q1209
theorem x_lay_12 : ∀ f ∈ xCF 12, x_lay 12 f ∈ lw_all := by
  intro f hf
  have hf : f ∈ [105, 106] := hf
  simp only [List.mem_cons, List.not_mem_nil, or_false] at hf
  rcases hf with rfl | rfl
  · exact q1228
  · exact q1230
theorem x_lay_13 : ∀ f ∈ xCF 13, x_lay 13 f ∈ lw_all := by
  intro f hf
  have hf : f ∈ [107, 108, 109] := hf
  simp only [List.mem_cons, List.not_mem_nil, or_false] at hf
  rcases hf with rfl | rfl | rfl
  · exact q1871
  · exact q1873
  · exact q1875
theorem x_lay_14 : ∀ f ∈ xCF 14, x_lay 14 f ∈ lw_all := by
  intro f hf
  have hf : f ∈ [110, 111] := hf
  simp only [List.mem_cons, List.not_mem_nil, or_false] at hf
  rcases hf with rfl | rfl
  · exact q1909
  · exact q1911
theorem x_lay_15 : ∀ f ∈ xCF 15, x_lay 15 f ∈ lw_all := by
  intro f hf
  have hf : f ∈ [112, 113, 114] := hf
  simp only [List.mem_cons, List.not_mem_nil, or_false] at hf
  rcases hf with rfl | rfl | rfl
  · exact q198
  · exact q194
  · exact q196
theorem x_lay_16 : ∀ f ∈ xCF 16, x_lay 16 f ∈ lw_all := by
  intro f hf
  have hf : f ∈ [112, 115, 116, 117] := hf
  simp only [List.mem_cons, List.not_mem_nil, or_false] at hf
  rcases hf with rfl | rfl | rfl | rfl
  · exact q267
  · exact q261
  · exact q263
  · exact q265
theorem x_lay_17 : ∀ f ∈ xCF 17, x_lay 17 f ∈ lw_all := by
  intro f hf
  have hf : f ∈ [118, 119, 120] := hf
  simp only [List.mem_cons, List.not_mem_nil, or_false] at hf
  rcases hf with rfl | rfl | rfl
  · exact q283
  · exact q285
  · exact q287
theorem x_lay_18 : ∀ f ∈ xCF 18, x_lay 18 f ∈ lw_all := by
  intro f hf
  have hf : f ∈ [121, 122, 123] := hf
  simp only [List.mem_cons, List.not_mem_nil, or_false] at hf
  rcases hf with rfl | rfl | rfl
  · exact q305
  · exact q307
  · exact q309
theorem x_lay_19 : ∀ f ∈ xCF 19, x_lay 19 f ∈ lw_all := by
  intro f hf
  have hf : f ∈ [124, 125] := hf
  simp only [List.mem_cons, List.not_mem_nil, or_false] at hf
  rcases hf with rfl | rfl
  · exact q520
  · exact q522
theorem x_lay_20 : ∀ f ∈ xCF 20, x_lay 20 f ∈ lw_all := by
  intro f hf
  have hf : f ∈ [126, 127, 128, 129] := hf
  simp only [List.mem_cons, List.not_mem_nil, or_false] at hf
  rcases hf with rfl | rfl | rfl | rfl
  · exact q562
  · exact q564
  · exact q566
  · exact q568
theorem x_lay_21 : ∀ f ∈ xCF 21, x_lay 21 f ∈ lw_all := by
  intro f hf
  have hf : f ∈ [130, 131, 132, 133] := hf
  simp only [List.mem_cons, List.not_mem_nil, or_false] at hf
  rcases hf with rfl | rfl | rfl | rfl
  · exact q718
  · exact q720
  · exact q722
  · exact q724
theorem x_lay_22 : ∀ f ∈ xCF 22, x_lay 22 f ∈ lw_all := by
  intro f hf
  have hf : f ∈ [87, 88, 89, 90, 91, 92] := hf
  simp only [List.mem_cons, List.not_mem_nil, or_false] at hf
  rcases hf with rfl | rfl | rfl | rfl | rfl | rfl
  · exact q914
  · exact q915
  · exact q916
  · exact q917
  · exact q918
  · exact q1014
theorem x_lay_23 : ∀ f ∈ xCF 23, x_lay 23 f ∈ lw_all := by
  intro f hf
  have hf : f ∈ [134, 135, 136, 137, 138] := hf
  simp only [List.mem_cons, List.not_mem_nil, or_false] at hf
  rcases hf with rfl | rfl | rfl | rfl | rfl
  · exact q1592
  · exact q1594
  · exact q1596
  · exact q1598
  · exact q1600
theorem x_lay_24 : ∀ f ∈ xCF 24, x_lay 24 f ∈ lw_all := by
  intro f hf
  have hf : f ∈ [139, 140, 141] := hf
  simp only [List.mem_cons, List.not_mem_nil, or_false] at hf
  rcases hf with rfl | rfl | rfl
  · exact q1768
  · exact q1770
  · exact q1772
theorem x_lay_25 : ∀ f ∈ xCF 25, x_lay 25 f ∈ lw_all := by
  intro f hf
  have hf : f ∈ [142, 143, 144, 145] := hf
  simp only [List.mem_cons, List.not_mem_nil, or_false] at hf
  rcases hf with rfl | rfl | rfl | rfl
  · exact q1796
  · exact q1798
  · exact q1800
  · exact q1802
theorem x_lay_ok : ∀ t, t < xNT → ∀ f ∈ xCF t, x_lay t f ∈ lw_all := by
  intro t ht
  match t, ht with
  | 0, _ => exact fun f hf => absurd hf List.not_mem_nil
  | 1, _ => exact x_lay_1
  | 2, _ => exact x_lay_2
  | 3, _ => exact x_lay_3
  | 4, _ => exact x_lay_4
  | 5, _ => exact x_lay_5
  | 6, _ => exact x_lay_6
  | 7, _ => exact x_lay_7
  | 8, _ => exact x_lay_8
  | 9, _ => exact x_lay_9
  | 10, _ => exact x_lay_10
  | 11, _ => exact x_lay_11
  | 12, _ => exact x_lay_12
  | 13, _ => exact x_lay_13
  | 14, _ => exact x_lay_14
  | 15, _ => exact x_lay_15
  | 16, _ => exact x_lay_16
  | 17, _ => exact x_lay_17
  | 18, _ => exact x_lay_18
  | 19, _ => exact x_lay_19
  | 20, _ => exact x_lay_20
  | 21, _ => exact x_lay_21
  | 22, _ => exact x_lay_22
  | 23, _ => exact x_lay_23
  | 24, _ => exact x_lay_24
  | 25, _ => exact x_lay_25
  | t + 26, ht => exact absurd ht (by unfold xNT; omega)
/-- names of fields of one class differ -/
theorem x_nm : ∀ t, t < xNT → ∀ f ∈ xCF t, ∀ g ∈ xCF t, f ≠ g → (xFT f).2.1 ≠ (xFT g).2.1 := by decide +kernel
