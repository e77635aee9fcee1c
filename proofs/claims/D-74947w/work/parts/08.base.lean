/-! ABSTRACT HEAP: addresses are shifted by one (0 is null); fields by their global numbers; arrays by address and place -/
set_option maxRecDepth 100000
abbrev xH : Type := (Nat × (Nat → Nat) × (Nat → Nat)) × ((Nat → Nat → Int32) × (Nat → Nat → Int64) × (Nat → Nat → Nat)) × ((Nat → Nat → Int32) × (Nat → Nat → Int64) × (Nat → Nat → Nat))
/-- heap size, tags, array lengths -/
def xz (h : xH) : Nat := h.1.1
def xt (h : xH) : Nat → Nat := h.1.2.1
def xn (h : xH) : Nat → Nat := h.1.2.2
/-- fields: ints, longs, references: field number, then address -/
def xI (h : xH) : Nat → Nat → Int32 := h.2.1.1
def xL (h : xH) : Nat → Nat → Int64 := h.2.1.2.1
def xR (h : xH) : Nat → Nat → Nat := h.2.1.2.2
/-- arrays: address, then place -/
def yI (h : xH) : Nat → Nat → Int32 := h.2.2.1
def yL (h : xH) : Nat → Nat → Int64 := h.2.2.2.1
def yR (h : xH) : Nat → Nat → Nat := h.2.2.2.2
def u1 {α : Type} (f : Nat → α) (a : Nat) (v : α) : Nat → α := fun y => if y = a then v else f y
def u2 {α : Type} (f : Nat → Nat → α) (k a : Nat) (v : α) : Nat → Nat → α := fun x y => if x = k ∧ y = a then v else f x y
def pI (h : xH) (k a : Nat) (v : Int32) : xH := (h.1, (u2 (xI h) k a v, h.2.1.2), h.2.2)
def pL (h : xH) (k a : Nat) (v : Int64) : xH := (h.1, (xI h, u2 (xL h) k a v, xR h), h.2.2)
def pR (h : xH) (k a : Nat) (v : Nat) : xH := (h.1, (xI h, xL h, u2 (xR h) k a v), h.2.2)
def sI (h : xH) (a j : Nat) (v : Int32) : xH := (h.1, h.2.1, (u2 (yI h) a j v, h.2.2.2))
def sL (h : xH) (a j : Nat) (v : Int64) : xH := (h.1, h.2.1, (yI h, u2 (yL h) a j v, yR h))
def sR (h : xH) (a j : Nat) (v : Nat) : xH := (h.1, h.2.1, (yI h, yL h, u2 (yR h) a j v))
def z2 {α : Type} (f : Nat → Nat → α) (a : Nat) (v : α) : Nat → Nat → α := fun x y => if y = a then v else f x y
def w2 {α : Type} (f : Nat → Nat → α) (a : Nat) (g : Nat → α) : Nat → Nat → α := fun x y => if x = a then g y else f x y
/-- a fresh object, a fresh array: all zero -/
def nO (h : xH) (t : Nat) : xH := ((xz h + 1, u1 (xt h) (xz h + 1) t, xn h), (z2 (xI h) (xz h + 1) 0, z2 (xL h) (xz h + 1) 0, z2 (xR h) (xz h + 1) 0), h.2.2)
def nA (h : xH) (t n : Nat) : xH := ((xz h + 1, u1 (xt h) (xz h + 1) t, u1 (xn h) (xz h + 1) n), h.2.1, (w2 (yI h) (xz h + 1) (fun _ => 0), w2 (yL h) (xz h + 1) (fun _ => 0), w2 (yR h) (xz h + 1) (fun _ => 0)))
/-- all places of one array at once -/
def wI (h : xH) (a : Nat) (g : Nat → Int32) : xH := (h.1, h.2.1, (w2 (yI h) a g, h.2.2.2))
def wL (h : xH) (a : Nat) (g : Nat → Int64) : xH := (h.1, h.2.1, (yI h, w2 (yL h) a g, yR h))
def wR (h : xH) (a : Nat) (g : Nat → Nat) : xH := (h.1, h.2.1, (yI h, yL h, w2 (yR h) a g))
def rv : Nat → Value | 0 => .null | n + 1 => .ref n
theorem rv_cat (a : Nat) : (rv a).category = 1 := by cases a <;> rfl
theorem xz_pI (h : xH) (k a : Nat) (v : Int32) : xz (pI h k a v) = xz h := rfl
theorem xt_pI (h : xH) (k a : Nat) (v : Int32) : xt (pI h k a v) = xt h := rfl
theorem xn_pI (h : xH) (k a : Nat) (v : Int32) : xn (pI h k a v) = xn h := rfl
theorem xI_pI (h : xH) (k a : Nat) (v : Int32) (x y : Nat) : xI (pI h k a v) x y = if x = k ∧ y = a then v else xI h x y := rfl
theorem xL_pI (h : xH) (k a : Nat) (v : Int32) : xL (pI h k a v) = xL h := rfl
theorem xR_pI (h : xH) (k a : Nat) (v : Int32) : xR (pI h k a v) = xR h := rfl
theorem yI_pI (h : xH) (k a : Nat) (v : Int32) : yI (pI h k a v) = yI h := rfl
theorem yL_pI (h : xH) (k a : Nat) (v : Int32) : yL (pI h k a v) = yL h := rfl
theorem yR_pI (h : xH) (k a : Nat) (v : Int32) : yR (pI h k a v) = yR h := rfl
theorem xz_pL (h : xH) (k a : Nat) (v : Int64) : xz (pL h k a v) = xz h := rfl
theorem xt_pL (h : xH) (k a : Nat) (v : Int64) : xt (pL h k a v) = xt h := rfl
theorem xn_pL (h : xH) (k a : Nat) (v : Int64) : xn (pL h k a v) = xn h := rfl
theorem xI_pL (h : xH) (k a : Nat) (v : Int64) : xI (pL h k a v) = xI h := rfl
theorem xL_pL (h : xH) (k a : Nat) (v : Int64) (x y : Nat) : xL (pL h k a v) x y = if x = k ∧ y = a then v else xL h x y := rfl
theorem xR_pL (h : xH) (k a : Nat) (v : Int64) : xR (pL h k a v) = xR h := rfl
theorem yI_pL (h : xH) (k a : Nat) (v : Int64) : yI (pL h k a v) = yI h := rfl
theorem yL_pL (h : xH) (k a : Nat) (v : Int64) : yL (pL h k a v) = yL h := rfl
theorem yR_pL (h : xH) (k a : Nat) (v : Int64) : yR (pL h k a v) = yR h := rfl
theorem xz_pR (h : xH) (k a : Nat) (v : Nat) : xz (pR h k a v) = xz h := rfl
theorem xt_pR (h : xH) (k a : Nat) (v : Nat) : xt (pR h k a v) = xt h := rfl
theorem xn_pR (h : xH) (k a : Nat) (v : Nat) : xn (pR h k a v) = xn h := rfl
theorem xI_pR (h : xH) (k a : Nat) (v : Nat) : xI (pR h k a v) = xI h := rfl
theorem xL_pR (h : xH) (k a : Nat) (v : Nat) : xL (pR h k a v) = xL h := rfl
theorem xR_pR (h : xH) (k a : Nat) (v : Nat) (x y : Nat) : xR (pR h k a v) x y = if x = k ∧ y = a then v else xR h x y := rfl
theorem yI_pR (h : xH) (k a : Nat) (v : Nat) : yI (pR h k a v) = yI h := rfl
theorem yL_pR (h : xH) (k a : Nat) (v : Nat) : yL (pR h k a v) = yL h := rfl
theorem yR_pR (h : xH) (k a : Nat) (v : Nat) : yR (pR h k a v) = yR h := rfl
theorem xz_sI (h : xH) (k a : Nat) (v : Int32) : xz (sI h k a v) = xz h := rfl
theorem xt_sI (h : xH) (k a : Nat) (v : Int32) : xt (sI h k a v) = xt h := rfl
theorem xn_sI (h : xH) (k a : Nat) (v : Int32) : xn (sI h k a v) = xn h := rfl
theorem xI_sI (h : xH) (k a : Nat) (v : Int32) : xI (sI h k a v) = xI h := rfl
theorem xL_sI (h : xH) (k a : Nat) (v : Int32) : xL (sI h k a v) = xL h := rfl
theorem xR_sI (h : xH) (k a : Nat) (v : Int32) : xR (sI h k a v) = xR h := rfl
theorem yI_sI (h : xH) (k a : Nat) (v : Int32) (x y : Nat) : yI (sI h k a v) x y = if x = k ∧ y = a then v else yI h x y := rfl
theorem yL_sI (h : xH) (k a : Nat) (v : Int32) : yL (sI h k a v) = yL h := rfl
theorem yR_sI (h : xH) (k a : Nat) (v : Int32) : yR (sI h k a v) = yR h := rfl
theorem xz_sL (h : xH) (k a : Nat) (v : Int64) : xz (sL h k a v) = xz h := rfl
theorem xt_sL (h : xH) (k a : Nat) (v : Int64) : xt (sL h k a v) = xt h := rfl
theorem xn_sL (h : xH) (k a : Nat) (v : Int64) : xn (sL h k a v) = xn h := rfl
theorem xI_sL (h : xH) (k a : Nat) (v : Int64) : xI (sL h k a v) = xI h := rfl
theorem xL_sL (h : xH) (k a : Nat) (v : Int64) : xL (sL h k a v) = xL h := rfl
theorem xR_sL (h : xH) (k a : Nat) (v : Int64) : xR (sL h k a v) = xR h := rfl
theorem yI_sL (h : xH) (k a : Nat) (v : Int64) : yI (sL h k a v) = yI h := rfl
theorem yL_sL (h : xH) (k a : Nat) (v : Int64) (x y : Nat) : yL (sL h k a v) x y = if x = k ∧ y = a then v else yL h x y := rfl
theorem yR_sL (h : xH) (k a : Nat) (v : Int64) : yR (sL h k a v) = yR h := rfl
theorem xz_sR (h : xH) (k a : Nat) (v : Nat) : xz (sR h k a v) = xz h := rfl
theorem xt_sR (h : xH) (k a : Nat) (v : Nat) : xt (sR h k a v) = xt h := rfl
theorem xn_sR (h : xH) (k a : Nat) (v : Nat) : xn (sR h k a v) = xn h := rfl
theorem xI_sR (h : xH) (k a : Nat) (v : Nat) : xI (sR h k a v) = xI h := rfl
theorem xL_sR (h : xH) (k a : Nat) (v : Nat) : xL (sR h k a v) = xL h := rfl
theorem xR_sR (h : xH) (k a : Nat) (v : Nat) : xR (sR h k a v) = xR h := rfl
theorem yI_sR (h : xH) (k a : Nat) (v : Nat) : yI (sR h k a v) = yI h := rfl
theorem yL_sR (h : xH) (k a : Nat) (v : Nat) : yL (sR h k a v) = yL h := rfl
theorem yR_sR (h : xH) (k a : Nat) (v : Nat) (x y : Nat) : yR (sR h k a v) x y = if x = k ∧ y = a then v else yR h x y := rfl
theorem xz_wI (h : xH) (a : Nat) (g : Nat → Int32) : xz (wI h a g) = xz h := rfl
theorem xt_wI (h : xH) (a : Nat) (g : Nat → Int32) : xt (wI h a g) = xt h := rfl
theorem xn_wI (h : xH) (a : Nat) (g : Nat → Int32) : xn (wI h a g) = xn h := rfl
theorem xI_wI (h : xH) (a : Nat) (g : Nat → Int32) : xI (wI h a g) = xI h := rfl
theorem xL_wI (h : xH) (a : Nat) (g : Nat → Int32) : xL (wI h a g) = xL h := rfl
theorem xR_wI (h : xH) (a : Nat) (g : Nat → Int32) : xR (wI h a g) = xR h := rfl
theorem yI_wI (h : xH) (a : Nat) (g : Nat → Int32) (x y : Nat) : yI (wI h a g) x y = if x = a then g y else yI h x y := rfl
theorem yL_wI (h : xH) (a : Nat) (g : Nat → Int32) : yL (wI h a g) = yL h := rfl
theorem yR_wI (h : xH) (a : Nat) (g : Nat → Int32) : yR (wI h a g) = yR h := rfl
theorem xz_wL (h : xH) (a : Nat) (g : Nat → Int64) : xz (wL h a g) = xz h := rfl
theorem xt_wL (h : xH) (a : Nat) (g : Nat → Int64) : xt (wL h a g) = xt h := rfl
theorem xn_wL (h : xH) (a : Nat) (g : Nat → Int64) : xn (wL h a g) = xn h := rfl
theorem xI_wL (h : xH) (a : Nat) (g : Nat → Int64) : xI (wL h a g) = xI h := rfl
theorem xL_wL (h : xH) (a : Nat) (g : Nat → Int64) : xL (wL h a g) = xL h := rfl
theorem xR_wL (h : xH) (a : Nat) (g : Nat → Int64) : xR (wL h a g) = xR h := rfl
theorem yI_wL (h : xH) (a : Nat) (g : Nat → Int64) : yI (wL h a g) = yI h := rfl
theorem yL_wL (h : xH) (a : Nat) (g : Nat → Int64) (x y : Nat) : yL (wL h a g) x y = if x = a then g y else yL h x y := rfl
theorem yR_wL (h : xH) (a : Nat) (g : Nat → Int64) : yR (wL h a g) = yR h := rfl
theorem xz_wR (h : xH) (a : Nat) (g : Nat → Nat) : xz (wR h a g) = xz h := rfl
theorem xt_wR (h : xH) (a : Nat) (g : Nat → Nat) : xt (wR h a g) = xt h := rfl
theorem xn_wR (h : xH) (a : Nat) (g : Nat → Nat) : xn (wR h a g) = xn h := rfl
theorem xI_wR (h : xH) (a : Nat) (g : Nat → Nat) : xI (wR h a g) = xI h := rfl
theorem xL_wR (h : xH) (a : Nat) (g : Nat → Nat) : xL (wR h a g) = xL h := rfl
theorem xR_wR (h : xH) (a : Nat) (g : Nat → Nat) : xR (wR h a g) = xR h := rfl
theorem yI_wR (h : xH) (a : Nat) (g : Nat → Nat) : yI (wR h a g) = yI h := rfl
theorem yL_wR (h : xH) (a : Nat) (g : Nat → Nat) : yL (wR h a g) = yL h := rfl
theorem yR_wR (h : xH) (a : Nat) (g : Nat → Nat) (x y : Nat) : yR (wR h a g) x y = if x = a then g y else yR h x y := rfl
theorem xz_nO (h : xH) (t : Nat) : xz (nO h t) = xz h + 1 := rfl
theorem xz_nA (h : xH) (t n : Nat) : xz (nA h t n) = xz h + 1 := rfl
theorem xt_nO (h : xH) (t y : Nat) : xt (nO h t) y = if y = xz h + 1 then t else xt h y := rfl
theorem xt_nA (h : xH) (t n y : Nat) : xt (nA h t n) y = if y = xz h + 1 then t else xt h y := rfl
theorem xn_nO (h : xH) (t : Nat) : xn (nO h t) = xn h := rfl
theorem xn_nA (h : xH) (t n y : Nat) : xn (nA h t n) y = if y = xz h + 1 then n else xn h y := rfl
theorem xI_nO (h : xH) (t x y : Nat) : xI (nO h t) x y = if y = xz h + 1 then 0 else xI h x y := rfl
theorem xI_nA (h : xH) (t n : Nat) : xI (nA h t n) = xI h := rfl
theorem xL_nO (h : xH) (t x y : Nat) : xL (nO h t) x y = if y = xz h + 1 then 0 else xL h x y := rfl
theorem xL_nA (h : xH) (t n : Nat) : xL (nA h t n) = xL h := rfl
theorem xR_nO (h : xH) (t x y : Nat) : xR (nO h t) x y = if y = xz h + 1 then 0 else xR h x y := rfl
theorem xR_nA (h : xH) (t n : Nat) : xR (nA h t n) = xR h := rfl
theorem yI_nO (h : xH) (t : Nat) : yI (nO h t) = yI h := rfl
theorem yI_nA (h : xH) (t n x y : Nat) : yI (nA h t n) x y = if x = xz h + 1 then 0 else yI h x y := rfl
theorem yL_nO (h : xH) (t : Nat) : yL (nO h t) = yL h := rfl
theorem yL_nA (h : xH) (t n x y : Nat) : yL (nA h t n) x y = if x = xz h + 1 then 0 else yL h x y := rfl
theorem yR_nO (h : xH) (t : Nat) : yR (nO h t) = yR h := rfl
theorem yR_nA (h : xH) (t n x y : Nat) : yR (nA h t n) x y = if x = xz h + 1 then 0 else yR h x y := rfl
/-! FRAMES OVER THE ABSTRACT HEAP -/
set_option maxRecDepth 100000
abbrev AV : Type := Int32 ⊕ Int64 ⊕ Nat
abbrev vi (x : Int32) : AV := .inl x
abbrev vl (x : Int64) : AV := .inr (.inl x)
abbrev vr (a : Nat) : AV := .inr (.inr a)
def tv : AV → Value | .inl x => .int x | .inr (.inl x) => .long x | .inr (.inr a) => rv a
def cv : AV → Nat | .inl _ => 1 | .inr (.inl _) => 2 | .inr (.inr _) => 1
theorem tv_cat : ∀ v : AV, (tv v).category = cv v
  | .inl _ => rfl
  | .inr (.inl _) => rfl
  | .inr (.inr a) => rv_cat a
/-- class numbers by tag, slots by field, the first free address, the launch -/
abbrev xZ : Type := (Nat → ClassId) × (Nat → Nat) × Nat × Launch
def zC (Z : xZ) : Nat → ClassId := Z.1
def zS (Z : xZ) : Nat → Nat := Z.2.1
def zB (Z : xZ) : Nat := Z.2.2.1
def zL (Z : xZ) : Launch := Z.2.2.2
def zA (Z : xZ) : Nat → Prop := fun q => zB Z ≤ q
def fV (h : xH) (f a : Nat) : AV := if xFK f = 0 then vi (xI h f a) else if xFK f = 1 then vl (xL h f a) else vr (xR h f a)
def aK (t : Nat) : Nat := if t = 61 then 1 else if t < 64 then 0 else 2
def aV (h : xH) (t a j : Nat) : AV := if aK t = 0 then vi (yI h a j) else if aK t = 1 then vl (yL h a j) else vr (yR h a j)
def okC (Z : xZ) (h : xH) (H : Heap) (t a n : Nat) : Prop :=
  if t < 60 then ∃ cell : Cell, H[n]? = some cell ∧ cell.cls = zC Z t ∧ cell.vm = .none ∧ ∀ f ∈ xCF t, cell.slots[zS Z f]? = some (tv (fV h f a))
  else H[n]? = some (arrV (zC Z t) (xn h a) (fun j => tv (aV h t a j)))
def Rep (Z : xZ) (h : xH) (H : Heap) : Prop := H.size = xz h ∧ zB Z ≤ xz h ∧ ∀ a, xt h a ≠ 0 → ∃ n, a = n + 1 ∧ (xt h a < 100 → zB Z ≤ n) ∧ okC Z h H (xt h a % 100) a n
/-- words that ride by themselves -/
def xwOk : Cond → Bool
  | .fieldLinkNest _ _ _ _ _ _ => true
  | .methodLinkNest _ _ _ _ => true
  | .castable _ _ => true
  | .arrayOver (.object _) => true
  | _ => false
def xw : List Cond := lw_tbl.filter xwOk
theorem xw_in {w : Cond} (h : w ∈ lw_tbl) (g : xwOk w = true) : w ∈ xw := List.mem_filter.mpr ⟨h, g⟩
theorem xw_moved {w : Cond} (hw : xwOk w = true) {s U : State} (hW : s.WarmedH U.vm) (h : w.before #[] s = true) : w.before #[] U = true := by
  cases w with
  | fieldLinkNest a i b n d h9 => exact va_Nw.warmF hW h
  | methodLinkNest a i x h9 => exact va_Nw.warmM hW h
  | castable a b => exact va_Nw.warmC hW h
  | arrayOver ty =>
    cases ty with
    | object C => exact va_AO.moved hW.alike h
    | _ => cases hw
  | _ => cases hw
theorem xw_blind {w : Cond} (hw : xwOk w = true) {u U : State} (hvm : u.vm = U.vm) (h : w.before #[] u = true) : w.before #[] U = true := by
  cases w with
  | fieldLinkNest a i b n d h9 => exact va_tabs rfl hvm h
  | methodLinkNest a i x h9 => exact va_tabs rfl hvm h
  | castable a b => exact va_tabs rfl hvm h
  | arrayOver ty =>
    cases ty with
    | object C => exact va_AO.moved (by rw [hvm]; exact Vm.Alike.refl _) h
    | _ => cases hw
  | _ => cases hw
/-- statics that are ints, known at the start -/
def xSt : List (String × String × String × Int32) := [("java/lang/String", "COMPACT_STRINGS", "Z", 1), ("java/util/BitSet", "$assertionsDisabled", "Z", 1), ("java/util/ImmutableCollections", "$assertionsDisabled", "Z", 1), ("java/lang/StringUTF16", "$assertionsDisabled", "Z", 1), ("java/lang/StringUTF16", "HI_BYTE_SHIFT", "I", 0), ("java/lang/StringUTF16", "LO_BYTE_SHIFT", "I", 8)]
/-- calls through an interface: the receiver's class, the method named, the method run -/
def xFwl : List (String × MethodName × MethodName) := [
  ("java/util/ImmutableCollections$ListN", ⟨"java/util/List", "size", "()I"⟩, ⟨"java/util/ImmutableCollections$ListN", "size", "()I"⟩),
  ("java/util/ImmutableCollections$ListN", ⟨"java/util/List", "get", "(I)Ljava/lang/Object;"⟩, ⟨"java/util/ImmutableCollections$ListN", "get", "(I)Ljava/lang/Object;"⟩),
  ("java/util/LinkedList$ListItr", ⟨"java/util/Iterator", "hasNext", "()Z"⟩, ⟨"java/util/LinkedList$ListItr", "hasNext", "()Z"⟩),
  ("java/util/LinkedList$ListItr", ⟨"java/util/Iterator", "next", "()Ljava/lang/Object;"⟩, ⟨"java/util/LinkedList$ListItr", "next", "()Ljava/lang/Object;"⟩),
  ("java/util/LinkedList$ListItr", ⟨"java/util/Iterator", "remove", "()V"⟩, ⟨"java/util/LinkedList$ListItr", "remove", "()V"⟩),
  ("java/util/ArrayDeque$DeqIterator", ⟨"java/util/Iterator", "hasNext", "()Z"⟩, ⟨"java/util/ArrayDeque$DeqIterator", "hasNext", "()Z"⟩),
  ("java/util/ArrayDeque$DeqIterator", ⟨"java/util/Iterator", "next", "()Ljava/lang/Object;"⟩, ⟨"java/util/ArrayDeque$DeqIterator", "next", "()Ljava/lang/Object;"⟩)]
/-- what the tables say, at any time of the run -/
def KN (Z : xZ) (U : State) : Prop :=
  (∀ t, 0 < t → t < xNT → ClassAt U (xCN t) (zC Z t)) ∧
  (∀ f, f < xNF → SlotIs U (xFT f).1 (xFT f).2.1 (xFT f).2.2.1 (zS Z f)) ∧
  (∀ t, 60 ≤ t → t < 67 → ArrOfT U (zC Z t) (xAT t) ∧ va_RA U (zC Z t) (xAT t)) ∧
  (∀ w ∈ xw, w.before #[] U = true) ∧
  (∀ q ∈ xSt, va_Z q.1 q.2.1 q.2.2.1 (.int q.2.2.2) (zA Z) U U.heap) ∧
  (∀ q ∈ xFwl, va_Fw q.1 q.2.1 q.2.2 U)
theorem KN.moved {Z : xZ} {s U : State} {H : Heap} {locs : List Loc} (h : KN Z s) (hW : s.WarmedH U.vm) (hS : va_S (zA Z) s.heap H locs) (hH : U.heap = H) : KN Z U := by
  obtain ⟨h1, h2, h3, h4, h5, h6⟩ := h
  have ha := hW.alike
  refine ⟨fun t a b => classAt_moved ha (h1 t a b), fun f hf => slotIs_moved ha (h2 f hf), fun t a b => ⟨arrOfT_moved ha (h3 t a b).1, (h3 t a b).2.moved ha⟩, fun w hw => xw_moved (List.mem_filter.mp hw).2 hW (h4 w hw), fun q hq => ?_, fun q hq => ?_⟩
  · refine va_Z.kept (H := s.heap) ((h5 q hq).moved ha) (fun a h7 h8 => ?_)
    rw [hH]
    exact hS.2.1 a h7 h8
  · refine va_Fw.moved ?_ ha (h6 q hq)
    revert q
    decide
theorem KN.blind {Z : xZ} {u U : State} (h : KN Z u) (hvm : u.vm = U.vm) (hH : u.heap = U.heap) : KN Z U := by
  obtain ⟨h1, h2, h3, h4, h5, h6⟩ := h
  have ha : u.vm.Alike U.vm := by rw [hvm]; exact Vm.Alike.refl _
  refine ⟨fun t a b => classAt_moved ha (h1 t a b), fun f hf => slotIs_moved ha (h2 f hf), fun t a b => ⟨arrOfT_moved ha (h3 t a b).1, (h3 t a b).2.moved ha⟩, fun w hw => xw_blind (List.mem_filter.mp hw).2 hvm (h4 w hw), fun q hq => ?_, fun q hq => ?_⟩
  · have := (h5 q hq).moved (U := U) ha
    rw [hH] at this
    exact this
  · refine va_Fw.moved ?_ ha (h6 q hq)
    revert q
    decide
/-- the locals: of each place what is known -/
def lE (ls : Array Slot) (E : List (Option AV)) : Prop := ls.size = E.length ∧ lv_wf ls ∧ ∀ (i : Nat) (v : AV), E[i]? = some (some v) → ls[i]? = some (.val (tv v))
/-- from h to h': nothing is lost, tags and lengths stay -/
def mono (h h' : xH) : Prop := xz h ≤ xz h' ∧ ∀ a, xt h a ≠ 0 → xt h' a = xt h a ∧ xn h' a = xn h a
theorem mono.rf {h : xH} : mono h h := ⟨Nat.le_refl _, fun _ _ => ⟨rfl, rfl⟩⟩
theorem mono.tr {h h1 h2 : xH} (a : mono h h1) (b : mono h1 h2) : mono h h2 := ⟨Nat.le_trans a.1 b.1, fun x hx => by
  obtain ⟨a1, a2⟩ := a.2 x hx
  obtain ⟨b1, b2⟩ := b.2 x (by rw [a1]; exact hx)
  exact ⟨b1.trans a1, b2.trans a2⟩⟩
theorem mono.same {h h1 h2 : xH} (a : mono h h1) (e1 : xz h2 = xz h1) (e2 : xt h2 = xt h1) (e3 : xn h2 = xn h1) : mono h h2 := ⟨by rw [e1]; exact a.1, by rw [e2, e3]; exact a.2⟩
/-- a tag that is known stays -/
theorem mono.t {h h' : xH} (m : mono h h') {a t : Nat} (ht : xt h a = t) (h0 : t ≠ 0) : xt h' a = t := (m.2 a (by rw [ht]; exact h0)).1.trans ht
theorem mono.n {h h' : xH} (m : mono h h') {a t n : Nat} (ht : xt h a = t) (h0 : t ≠ 0) (hn : xn h a = n) : xn h' a = n := (m.2 a (by rw [ht]; exact h0)).2.trans hn
/-- what is there lies below the heap's size -/
def wf (h : xH) : Prop := ∀ a, xt h a ≠ 0 → a ≤ xz h
theorem Rep.wf {Z : xZ} {h : xH} {H : Heap} (r : Rep Z h H) : wf h := fun a ha => by
  obtain ⟨n, rfl, -, k⟩ := r.2.2 a ha
  have : n < H.size := by
    unfold okC at k
    split at k
    · obtain ⟨cell, h1, -⟩ := k
      exact (Array.getElem?_eq_some_iff.mp h1).1
    · exact (Array.getElem?_eq_some_iff.mp k).1
  rw [r.1] at this
  exact this
theorem mono.born {h h1 h2 : xH} (m : mono h h1) (w : wf h1) (e1 : xz h2 = xz h1 + 1) (e2 : ∀ b, b ≠ xz h1 + 1 → xt h2 b = xt h1 b) (e3 : ∀ b, b ≠ xz h1 + 1 → xn h2 b = xn h1 b) : mono h h2 := by
  refine m.tr ⟨by rw [e1]; exact Nat.le_succ _, fun a ha => ?_⟩
  have : a ≠ xz h1 + 1 := by have := w a ha; omega
  exact ⟨e2 a this, e3 a this⟩
abbrev xX : Type := Program × Env × Room × State × MethodId × Array Value × List Frame × Method × Code × (State → Prop) × xH
/-- the machine at pc, with known locals E, stack st, abstract heap h and at least kc cells and ks slots of room left, comes to its end -/
def G (Z : xZ) (X : xX) (kc ks pc : Nat) (E : List (Option AV)) (st : List AV) (h : xH) : Prop :=
  match X with
  | (p, e, R, s, m, args, below, meth, c, Q, h0) => ∀ (H : Heap) (locs : List Loc) (ls : Array Slot) (cells slots : Nat), Rep Z h H → va_S (zA Z) s.heap H locs → lE ls E → cells + kc ≤ R.cells → slots + ks ≤ R.slots → mono h0 h →
      W p (zL Z) e R s m args below meth c H locs cells slots Q (F0 m pc ls (st.map tv))
def MX (Z : xZ) (X : xX) (cc : ByteArray) (own : String) (nL d : Nat) (ret : Option FieldType) (nm : String) : Prop :=
  match X with
  | (p, e, R, s, m, args, below, meth, c, Q, h0) => p.tables.exec = Jvm.exec ∧ c.code = cc ∧ c.maxLocals = nL ∧ s.vm.findClass own = some m.cls ∧ (∀ w ∈ lw_all, w.before args s = true) ∧ meth.sig.returnType = ret ∧ meth.locks = false ∧ KN Z s ∧ zB Z ≤ s.heap.size ∧ meth.name = nm ∧ R.frames = d ∧ R.locals = 700 * d
def QcOf (Z : xZ) (h0 : xH) (Qr : Option AV → xH → Prop) : Array Value → State → Outcome → State → Prop := fun _ st o t => (∃ (v : Option AV) (h' : xH), o = .returned (v.map tv) ∧ Qr v h' ∧ mono h0 h' ∧ Rep Z h' t.heap) ∧ va_F (zA Z) st t
def EX (Z : xZ) (X : xX) (mc ms : Nat) (Qr : Option AV → xH → Prop) : Prop :=
  match X with
  | (p, e, R, s, m, args, below, meth, c, Q, h0) => Q = MQ below (QcOf Z h0 Qr) args s mc ms (zA Z) ∧ R.cells = mc ∧ R.slots = ms
def PcOf (Z : xZ) (as : List AV) (h : xH) : Array Value → State → Prop := fun a U => a = (as.map tv).toArray ∧ Rep Z h U.heap ∧ KN Z U
/-- A CONTRACT: method y (code cc, maxL locals, answer ret) with arguments as, from heap h, at depth d: returns, with Qr; makes at most mc cells of ms slots -/
def CT (Z : xZ) (y : MethodName) (cc : ByteArray) (maxL : Nat) (ret : Option FieldType) (d mc ms : Nat) (as : List AV) (h : xH) (Qr : Option AV → xH → Prop) : Prop :=
  Met (zL Z) y (ws_ y cc maxL ret) ({ frames := d, cells := mc, slots := ms, locals := 700 * d }) (PcOf Z as h) (QcOf Z h Qr) mc ms (zA Z)
def rI (Q : Int32 → xH → Prop) : Option AV → xH → Prop := fun v h => ∃ x, v = some (vi x) ∧ Q x h
def rL (Q : Int64 → xH → Prop) : Option AV → xH → Prop := fun v h => ∃ x, v = some (vl x) ∧ Q x h
def rR (Q : Nat → xH → Prop) : Option AV → xH → Prop := fun v h => ∃ x, v = some (vr x) ∧ Q x h
def rV (Q : xH → Prop) : Option AV → xH → Prop := fun v h => v = none ∧ Q h
/-- the locals at a method's entry -/
def eE : Nat → List AV → List (Option AV)
  | n, [] => List.replicate n none
  | n, v :: vs => match cv v with
    | 2 => some v :: none :: eE (n - 2) vs
    | _ => some v :: eE (n - 1) vs
theorem eE_args : ∀ (vs : List AV) (k n i : Nat) (v : AV), (eE n vs)[i]? = some (some v) → (k + i, tv v) ∈ lv_args k (vs.map tv)
  | [], k, n, i, v, h => by
    simp only [eE] at h
    by_cases hi : i < n
    · rw [List.getElem?_replicate_of_lt hi] at h
      cases h
    · rw [List.getElem?_eq_none (by simp; omega)] at h
      cases h
  | w :: vs, k, n, i, v, h => by
    have hc := tv_cat w
    simp only [List.map_cons, lv_args]
    cases hw : cv w with
    | zero => cases w with
      | inl _ => cases hw
      | inr w => cases w <;> cases hw
    | succ c =>
      cases c with
      | zero =>
        rw [hw] at hc
        simp only [eE, hw] at h
        rw [if_neg (by rw [hc]; decide)]
        cases i with
        | zero =>
          simp only [List.getElem?_cons_zero, Option.some.injEq] at h
          subst h
          exact List.mem_cons_self
        | succ i =>
          rw [List.getElem?_cons_succ] at h
          have := eE_args vs (k + 1) _ i v h
          rw [show k + (i + 1) = k + 1 + i by omega]
          exact List.mem_cons_of_mem _ this
      | succ c =>
        have hw2 : c = 0 := by
          cases w with
          | inl _ => cases hw
          | inr w => cases w with
            | inl _ => cases hw; rfl
            | inr _ => cases hw
        subst hw2
        rw [hw] at hc
        simp only [eE, hw] at h
        rw [if_pos hc]
        cases i with
        | zero =>
          simp only [List.getElem?_cons_zero, Option.some.injEq] at h
          subst h
          exact List.mem_cons_self
        | succ i =>
          rw [List.getElem?_cons_succ] at h
          cases i with
          | zero => simp at h
          | succ i =>
            rw [List.getElem?_cons_succ] at h
            have := eE_args vs (k + 2) _ i v h
            rw [show k + (i + 1 + 1) = k + 2 + i by omega]
            exact List.mem_cons_of_mem _ this
