/-! ROWS: instructions that touch neither heap nor calls -/
set_option maxRecDepth 100000
def rvo : Nat → Option Nat | 0 => none | n + 1 => some n
theorem rvo_inj {a b : Nat} : rvo a = rvo b ↔ a = b := by
  cases a <;> cases b <;> simp [rvo]
/-- a long whose second half is overwritten is gone -/
def kl : Option AV → Option AV
  | none => none
  | some (.inl x) => some (vi x)
  | some (.inr (.inl _)) => none
  | some (.inr (.inr a)) => some (vr a)
/-- a store into one place -/
def st1 : List (Option AV) → Nat → Option AV → List (Option AV)
  | [], _, _ => []
  | _ :: E, 0, v => v :: E
  | a :: E, 1, v => kl a :: st1 E 0 v
  | a :: E, n + 2, v => a :: st1 E (n + 1) v
theorem kl_some {a : Option AV} {w : AV} (h : kl a = some w) : a = some w ∧ ¬ cv w = 2 := by
  rcases a with _ | (x | x | x)
  · cases h
  · cases h; exact ⟨rfl, fun z => by cases z⟩
  · cases h
  · cases h; exact ⟨rfl, fun z => by cases z⟩
/-- a store of a long -/
def st2 (E : List (Option AV)) (i : Nat) (v : Option AV) : List (Option AV) := (st1 E i v).set (i + 1) none
def lE_l (E : List (Option AV)) : List (Nat × Value) := (List.range E.length).filterMap (fun i => (E[i]?.join).map (fun v => (i, tv v)))
theorem lE_mem {E : List (Option AV)} {i : Nat} {v : AV} (h : E[i]? = some (some v)) : (i, tv v) ∈ lE_l E := by
  refine List.mem_filterMap.mpr ⟨i, List.mem_range.mpr (List.getElem?_eq_some_iff.mp h).1, ?_⟩
  rw [h]
  rfl
theorem lE_of {E : List (Option AV)} {i : Nat} {w : Value} (h : (i, w) ∈ lE_l E) : ∃ v, E[i]? = some (some v) ∧ w = tv v := by
  obtain ⟨j, -, hj⟩ := List.mem_filterMap.mp h
  cases hE : E[j]? with
  | none => rw [hE] at hj; cases hj
  | some o =>
    rw [hE] at hj
    cases o with
    | none => cases hj
    | some v => cases hj; exact ⟨v, hE, rfl⟩
theorem lE_has {ls : Array Slot} {E : List (Option AV)} (h : lE ls E) : lv_has ls E.length (lE_l E) := by
  refine ⟨h.1, h.2.1, fun q hq => ?_⟩
  obtain ⟨v, h1, h2⟩ := lE_of (E := E) (i := q.1) (w := q.2) hq
  rw [h2]
  exact h.2.2 _ _ h1
theorem st1_len : ∀ (E : List (Option AV)) (i : Nat) (v : Option AV), (st1 E i v).length = E.length
  | [], i, v => rfl
  | a :: E, 0, v => rfl
  | a :: E, 1, v => by simp only [st1, List.length_cons, st1_len E 0 v]
  | a :: E, n + 2, v => by simp only [st1, List.length_cons, st1_len E (n + 1) v]
/-- what is known behind a store was stored, or was known before, is another place and no long that ends there -/
theorem st1_at : ∀ (E : List (Option AV)) (i : Nat) (v : Option AV) (j : Nat) (w : AV), (st1 E i v)[j]? = some (some w) → (j = i ∧ v = some w) ∨ (j ≠ i ∧ E[j]? = some (some w) ∧ ¬ (j + 1 = i ∧ cv w = 2))
  | [], i, v, j, w, h => by simp [st1] at h
  | a :: E, 0, v, j, w, h => by
    have h : (v :: E)[j]? = some (some w) := h
    cases j with
    | zero => left; exact ⟨rfl, by simpa using h⟩
    | succ j => right; exact ⟨by omega, by simpa using h, by omega⟩
  | a :: E, 1, v, j, w, h => by
    have h : (kl a :: st1 E 0 v)[j]? = some (some w) := h
    cases j with
    | zero =>
      right
      obtain ⟨e1, e2⟩ := kl_some (by simpa using h : kl a = some w)
      exact ⟨by omega, by simp [e1], fun q => e2 q.2⟩
    | succ j =>
      have h2 : (st1 E 0 v)[j]? = some (some w) := by simpa using h
      rcases st1_at E 0 v j w h2 with ⟨e1, e2⟩ | ⟨e1, e2, e3⟩
      · left; exact ⟨by omega, e2⟩
      · right; exact ⟨by omega, by simpa using e2, by omega⟩
  | a :: E, n + 2, v, j, w, h => by
    have h : (a :: st1 E (n + 1) v)[j]? = some (some w) := h
    cases j with
    | zero => right; exact ⟨by omega, by simpa using h, by omega⟩
    | succ j =>
      have h2 : (st1 E (n + 1) v)[j]? = some (some w) := by simpa using h
      rcases st1_at E (n + 1) v j w h2 with ⟨e1, e2⟩ | ⟨e1, e2, e3⟩
      · left; exact ⟨by omega, e2⟩
      · right; exact ⟨by omega, by simpa using e2, by omega⟩
theorem lE_st1 {E : List (Option AV)} {i : Nat} {v : AV} {ls' : Array Slot} (hi : i < E.length) (h : lv_has ls' E.length ((i, tv v) :: (lE_l E).filter (fun q => !(q.1 == i) && !(q.1 + 1 == i && q.2.category == 2)))) (_ : True) : lE ls' (st1 E i (some v)) := by
  refine ⟨by rw [st1_len]; exact h.1, h.2.1, fun j w hj => ?_⟩
  rcases st1_at E i _ j w hj with ⟨e1, e2⟩ | ⟨e1, e2, e3⟩
  · cases e2
    subst e1
    exact h.2.2 _ List.mem_cons_self
  · refine h.2.2 (j, tv w) (List.mem_cons_of_mem _ (List.mem_filter.mpr ⟨lE_mem e2, ?_⟩))
    have : ¬ (j + 1 = i ∧ (tv w).category = 2) := by rw [tv_cat]; exact e3
    simp only [Bool.and_eq_true, Bool.not_eq_true', beq_eq_false_iff_ne, ne_eq]
    refine ⟨e1, ?_⟩
    cases hb : (j + 1 == i && (tv w).category == 2) with
    | false => rfl
    | true =>
      simp only [Bool.and_eq_true, beq_iff_eq] at hb
      exact absurd hb this
theorem lE_st2 {E : List (Option AV)} {i : Nat} {x : Int64} {ls' : Array Slot} (hi : i + 1 < E.length) (h : lv_has ls' E.length ((i, Value.long x) :: (lE_l E).filter (fun q => !(q.1 == i) && (!(q.1 == i + 1) && !(q.1 + 1 == i && q.2.category == 2))))) : lE ls' (st2 E i (some (vl x))) := by
  refine ⟨by unfold st2; rw [List.length_set, st1_len]; exact h.1, h.2.1, fun j w hj => ?_⟩
  unfold st2 at hj
  have hne : j ≠ i + 1 := by
    intro e1
    subst e1
    rw [List.getElem?_set_self (by rw [st1_len]; omega)] at hj
    cases hj
  rw [List.getElem?_set_ne (Ne.symm hne)] at hj
  rcases st1_at E i _ j w hj with ⟨e1, e2⟩ | ⟨e1, e2, e3⟩
  · cases e2
    subst e1
    exact h.2.2 _ List.mem_cons_self
  · refine h.2.2 (j, tv w) (List.mem_cons_of_mem _ (List.mem_filter.mpr ⟨lE_mem e2, ?_⟩))
    have : ¬ (j + 1 = i ∧ (tv w).category = 2) := by rw [tv_cat]; exact e3
    simp only [Bool.and_eq_true, Bool.not_eq_true', beq_eq_false_iff_ne, ne_eq]
    refine ⟨e1, hne, ?_⟩
    cases hb : (j + 1 == i && (tv w).category == 2) with
    | false => rfl
    | true =>
      simp only [Bool.and_eq_true, beq_iff_eq] at hb
      exact absurd hb this
section PUREROWS
variable {Z : xZ} {X : xX} {cc : ByteArray} {own : String} {nL d : Nat} {ret : Option FieldType} {nm : String} {kc ks pc q : Nat} {E : List (Option AV)} {st : List AV} {h : xH}
theorem g_iadd (M : MX Z X cc own nL d ret nm) {x y : Int32} (hd : decode cc pc = .ok (.iadd, 1)) (hp : pc + 1 = q) (k : G Z X kc ks q E (vi (x + y) :: st) h) : G Z X kc ks pc E (vi y :: vi x :: st) h := by
  subst hp
  obtain ⟨p, e, R, s, m, args, below, meth, c, Q, h0⟩ := X
  intro H locs ls cells slots r1 r2 r3 r4 r5 r6
  exact lv_iadd M.1 M.2.1 hd (k H locs ls cells slots r1 r2 r3 r4 r5 r6)
theorem g_isub (M : MX Z X cc own nL d ret nm) {x y : Int32} (hd : decode cc pc = .ok (.isub, 1)) (hp : pc + 1 = q) (k : G Z X kc ks q E (vi (x - y) :: st) h) : G Z X kc ks pc E (vi y :: vi x :: st) h := by
  subst hp
  obtain ⟨p, e, R, s, m, args, below, meth, c, Q, h0⟩ := X
  intro H locs ls cells slots r1 r2 r3 r4 r5 r6
  exact lv_isub M.1 M.2.1 hd (k H locs ls cells slots r1 r2 r3 r4 r5 r6)
theorem g_imul (M : MX Z X cc own nL d ret nm) {x y : Int32} (hd : decode cc pc = .ok (.imul, 1)) (hp : pc + 1 = q) (k : G Z X kc ks q E (vi (x * y) :: st) h) : G Z X kc ks pc E (vi y :: vi x :: st) h := by
  subst hp
  obtain ⟨p, e, R, s, m, args, below, meth, c, Q, h0⟩ := X
  intro H locs ls cells slots r1 r2 r3 r4 r5 r6
  exact lv_imul M.1 M.2.1 hd (k H locs ls cells slots r1 r2 r3 r4 r5 r6)
theorem g_iand (M : MX Z X cc own nL d ret nm) {x y : Int32} (hd : decode cc pc = .ok (.iand, 1)) (hp : pc + 1 = q) (k : G Z X kc ks q E (vi (x &&& y) :: st) h) : G Z X kc ks pc E (vi y :: vi x :: st) h := by
  subst hp
  obtain ⟨p, e, R, s, m, args, below, meth, c, Q, h0⟩ := X
  intro H locs ls cells slots r1 r2 r3 r4 r5 r6
  exact lv_iand M.1 M.2.1 hd (k H locs ls cells slots r1 r2 r3 r4 r5 r6)
theorem g_ior (M : MX Z X cc own nL d ret nm) {x y : Int32} (hd : decode cc pc = .ok (.ior, 1)) (hp : pc + 1 = q) (k : G Z X kc ks q E (vi (x ||| y) :: st) h) : G Z X kc ks pc E (vi y :: vi x :: st) h := by
  subst hp
  obtain ⟨p, e, R, s, m, args, below, meth, c, Q, h0⟩ := X
  intro H locs ls cells slots r1 r2 r3 r4 r5 r6
  exact lv_ior M.1 M.2.1 hd (k H locs ls cells slots r1 r2 r3 r4 r5 r6)
theorem g_ixor (M : MX Z X cc own nL d ret nm) {x y : Int32} (hd : decode cc pc = .ok (.ixor, 1)) (hp : pc + 1 = q) (k : G Z X kc ks q E (vi (x ^^^ y) :: st) h) : G Z X kc ks pc E (vi y :: vi x :: st) h := by
  subst hp
  obtain ⟨p, e, R, s, m, args, below, meth, c, Q, h0⟩ := X
  intro H locs ls cells slots r1 r2 r3 r4 r5 r6
  exact lv_ixor M.1 M.2.1 hd (k H locs ls cells slots r1 r2 r3 r4 r5 r6)
theorem g_ladd (M : MX Z X cc own nL d ret nm) {x y : Int64} (hd : decode cc pc = .ok (.ladd, 1)) (hp : pc + 1 = q) (k : G Z X kc ks q E (vl (x + y) :: st) h) : G Z X kc ks pc E (vl y :: vl x :: st) h := by
  subst hp
  obtain ⟨p, e, R, s, m, args, below, meth, c, Q, h0⟩ := X
  intro H locs ls cells slots r1 r2 r3 r4 r5 r6
  exact lv_ladd M.1 M.2.1 hd (k H locs ls cells slots r1 r2 r3 r4 r5 r6)
theorem g_lsub (M : MX Z X cc own nL d ret nm) {x y : Int64} (hd : decode cc pc = .ok (.lsub, 1)) (hp : pc + 1 = q) (k : G Z X kc ks q E (vl (x - y) :: st) h) : G Z X kc ks pc E (vl y :: vl x :: st) h := by
  subst hp
  obtain ⟨p, e, R, s, m, args, below, meth, c, Q, h0⟩ := X
  intro H locs ls cells slots r1 r2 r3 r4 r5 r6
  exact lv_lsub M.1 M.2.1 hd (k H locs ls cells slots r1 r2 r3 r4 r5 r6)
theorem g_lmul (M : MX Z X cc own nL d ret nm) {x y : Int64} (hd : decode cc pc = .ok (.lmul, 1)) (hp : pc + 1 = q) (k : G Z X kc ks q E (vl (x * y) :: st) h) : G Z X kc ks pc E (vl y :: vl x :: st) h := by
  subst hp
  obtain ⟨p, e, R, s, m, args, below, meth, c, Q, h0⟩ := X
  intro H locs ls cells slots r1 r2 r3 r4 r5 r6
  exact lv_lmul M.1 M.2.1 hd (k H locs ls cells slots r1 r2 r3 r4 r5 r6)
theorem g_land (M : MX Z X cc own nL d ret nm) {x y : Int64} (hd : decode cc pc = .ok (.land, 1)) (hp : pc + 1 = q) (k : G Z X kc ks q E (vl (x &&& y) :: st) h) : G Z X kc ks pc E (vl y :: vl x :: st) h := by
  subst hp
  obtain ⟨p, e, R, s, m, args, below, meth, c, Q, h0⟩ := X
  intro H locs ls cells slots r1 r2 r3 r4 r5 r6
  exact lv_land M.1 M.2.1 hd (k H locs ls cells slots r1 r2 r3 r4 r5 r6)
theorem g_lor (M : MX Z X cc own nL d ret nm) {x y : Int64} (hd : decode cc pc = .ok (.lor, 1)) (hp : pc + 1 = q) (k : G Z X kc ks q E (vl (x ||| y) :: st) h) : G Z X kc ks pc E (vl y :: vl x :: st) h := by
  subst hp
  obtain ⟨p, e, R, s, m, args, below, meth, c, Q, h0⟩ := X
  intro H locs ls cells slots r1 r2 r3 r4 r5 r6
  exact lv_lor M.1 M.2.1 hd (k H locs ls cells slots r1 r2 r3 r4 r5 r6)
theorem g_lxor (M : MX Z X cc own nL d ret nm) {x y : Int64} (hd : decode cc pc = .ok (.lxor, 1)) (hp : pc + 1 = q) (k : G Z X kc ks q E (vl (x ^^^ y) :: st) h) : G Z X kc ks pc E (vl y :: vl x :: st) h := by
  subst hp
  obtain ⟨p, e, R, s, m, args, below, meth, c, Q, h0⟩ := X
  intro H locs ls cells slots r1 r2 r3 r4 r5 r6
  exact lv_lxor M.1 M.2.1 hd (k H locs ls cells slots r1 r2 r3 r4 r5 r6)
theorem g_ineg (M : MX Z X cc own nL d ret nm) {x : Int32} (hd : decode cc pc = .ok (.ineg, 1)) (hp : pc + 1 = q) (k : G Z X kc ks q E (vi (-x) :: st) h) : G Z X kc ks pc E (vi x :: st) h := by
  subst hp
  obtain ⟨p, e, R, s, m, args, below, meth, c, Q, h0⟩ := X
  intro H locs ls cells slots r1 r2 r3 r4 r5 r6
  exact lv_ineg M.1 M.2.1 hd (k H locs ls cells slots r1 r2 r3 r4 r5 r6)
theorem g_lneg (M : MX Z X cc own nL d ret nm) {x : Int64} (hd : decode cc pc = .ok (.lneg, 1)) (hp : pc + 1 = q) (k : G Z X kc ks q E (vl (-x) :: st) h) : G Z X kc ks pc E (vl x :: st) h := by
  subst hp
  obtain ⟨p, e, R, s, m, args, below, meth, c, Q, h0⟩ := X
  intro H locs ls cells slots r1 r2 r3 r4 r5 r6
  exact lv_lneg M.1 M.2.1 hd (k H locs ls cells slots r1 r2 r3 r4 r5 r6)
theorem g_idiv (M : MX Z X cc own nL d ret nm) {x y : Int32} (hd : decode cc pc = .ok (.idiv, 1)) (hp : pc + 1 = q) (hne : ¬ y = 0) (k : G Z X kc ks q E (vi (x / y) :: st) h) : G Z X kc ks pc E (vi y :: vi x :: st) h := by
  subst hp
  obtain ⟨p, e, R, s, m, args, below, meth, c, Q, h0⟩ := X
  intro H locs ls cells slots r1 r2 r3 r4 r5 r6
  exact lv_idiv M.1 M.2.1 hd hne (k H locs ls cells slots r1 r2 r3 r4 r5 r6)
theorem g_irem (M : MX Z X cc own nL d ret nm) {x y : Int32} (hd : decode cc pc = .ok (.irem, 1)) (hp : pc + 1 = q) (hne : ¬ y = 0) (k : G Z X kc ks q E (vi (x - x / y * y) :: st) h) : G Z X kc ks pc E (vi y :: vi x :: st) h := by
  subst hp
  obtain ⟨p, e, R, s, m, args, below, meth, c, Q, h0⟩ := X
  intro H locs ls cells slots r1 r2 r3 r4 r5 r6
  exact lv_irem M.1 M.2.1 hd hne (k H locs ls cells slots r1 r2 r3 r4 r5 r6)
theorem g_ldiv (M : MX Z X cc own nL d ret nm) {x y : Int64} (hd : decode cc pc = .ok (.ldiv, 1)) (hp : pc + 1 = q) (hne : ¬ y = 0) (k : G Z X kc ks q E (vl (x / y) :: st) h) : G Z X kc ks pc E (vl y :: vl x :: st) h := by
  subst hp
  obtain ⟨p, e, R, s, m, args, below, meth, c, Q, h0⟩ := X
  intro H locs ls cells slots r1 r2 r3 r4 r5 r6
  exact lv_ldiv M.1 M.2.1 hd hne (k H locs ls cells slots r1 r2 r3 r4 r5 r6)
theorem g_lrem (M : MX Z X cc own nL d ret nm) {x y : Int64} (hd : decode cc pc = .ok (.lrem, 1)) (hp : pc + 1 = q) (hne : ¬ y = 0) (k : G Z X kc ks q E (vl (x - x / y * y) :: st) h) : G Z X kc ks pc E (vl y :: vl x :: st) h := by
  subst hp
  obtain ⟨p, e, R, s, m, args, below, meth, c, Q, h0⟩ := X
  intro H locs ls cells slots r1 r2 r3 r4 r5 r6
  exact lv_lrem M.1 M.2.1 hd hne (k H locs ls cells slots r1 r2 r3 r4 r5 r6)
theorem g_ishl (M : MX Z X cc own nL d ret nm) {x y : Int32} (hd : decode cc pc = .ok (.ishl, 1)) (hp : pc + 1 = q) (k : G Z X kc ks q E (vi (x <<< (y &&& 31)) :: st) h) : G Z X kc ks pc E (vi y :: vi x :: st) h := by
  subst hp
  obtain ⟨p, e, R, s, m, args, below, meth, c, Q, h0⟩ := X
  intro H locs ls cells slots r1 r2 r3 r4 r5 r6
  exact lv_ishl M.1 M.2.1 hd (k H locs ls cells slots r1 r2 r3 r4 r5 r6)
theorem g_ishr (M : MX Z X cc own nL d ret nm) {x y : Int32} (hd : decode cc pc = .ok (.ishr, 1)) (hp : pc + 1 = q) (k : G Z X kc ks q E (vi (x >>> (y &&& 31)) :: st) h) : G Z X kc ks pc E (vi y :: vi x :: st) h := by
  subst hp
  obtain ⟨p, e, R, s, m, args, below, meth, c, Q, h0⟩ := X
  intro H locs ls cells slots r1 r2 r3 r4 r5 r6
  exact lv_ishr M.1 M.2.1 hd (k H locs ls cells slots r1 r2 r3 r4 r5 r6)
theorem g_iushr (M : MX Z X cc own nL d ret nm) {x y : Int32} (hd : decode cc pc = .ok (.iushr, 1)) (hp : pc + 1 = q) (k : G Z X kc ks q E (vi (x.toUInt32 >>> (y.toUInt32 &&& Int32.toUInt32 31)).toInt32 :: st) h) : G Z X kc ks pc E (vi y :: vi x :: st) h := by
  subst hp
  obtain ⟨p, e, R, s, m, args, below, meth, c, Q, h0⟩ := X
  intro H locs ls cells slots r1 r2 r3 r4 r5 r6
  exact lv_iushr M.1 M.2.1 hd rfl (k H locs ls cells slots r1 r2 r3 r4 r5 r6)
theorem g_lshl (M : MX Z X cc own nL d ret nm) {x : Int64} {y : Int32} (hd : decode cc pc = .ok (.lshl, 1)) (hp : pc + 1 = q) (k : G Z X kc ks q E (vl (x <<< (y.toInt64 &&& 63)) :: st) h) : G Z X kc ks pc E (vi y :: vl x :: st) h := by
  subst hp
  obtain ⟨p, e, R, s, m, args, below, meth, c, Q, h0⟩ := X
  intro H locs ls cells slots r1 r2 r3 r4 r5 r6
  exact lv_lshl M.1 M.2.1 hd rfl (k H locs ls cells slots r1 r2 r3 r4 r5 r6)
theorem g_lshr (M : MX Z X cc own nL d ret nm) {x : Int64} {y : Int32} (hd : decode cc pc = .ok (.lshr, 1)) (hp : pc + 1 = q) (k : G Z X kc ks q E (vl (x >>> (y.toInt64 &&& 63)) :: st) h) : G Z X kc ks pc E (vi y :: vl x :: st) h := by
  subst hp
  obtain ⟨p, e, R, s, m, args, below, meth, c, Q, h0⟩ := X
  intro H locs ls cells slots r1 r2 r3 r4 r5 r6
  exact lv_lshr M.1 M.2.1 hd rfl (k H locs ls cells slots r1 r2 r3 r4 r5 r6)
theorem g_lushr (M : MX Z X cc own nL d ret nm) {x : Int64} {y : Int32} (hd : decode cc pc = .ok (.lushr, 1)) (hp : pc + 1 = q) (k : G Z X kc ks q E (vl (x.toUInt64 >>> (y.toInt64.toUInt64 &&& Int64.toUInt64 63)).toInt64 :: st) h) : G Z X kc ks pc E (vi y :: vl x :: st) h := by
  subst hp
  obtain ⟨p, e, R, s, m, args, below, meth, c, Q, h0⟩ := X
  intro H locs ls cells slots r1 r2 r3 r4 r5 r6
  exact lv_lushr M.1 M.2.1 hd rfl (k H locs ls cells slots r1 r2 r3 r4 r5 r6)
theorem g_i2l (M : MX Z X cc own nL d ret nm) {x : Int32} (hd : decode cc pc = .ok (.i2l, 1)) (hp : pc + 1 = q) (k : G Z X kc ks q E (vl x.toInt64 :: st) h) : G Z X kc ks pc E (vi x :: st) h := by
  subst hp
  obtain ⟨p, e, R, s, m, args, below, meth, c, Q, h0⟩ := X
  intro H locs ls cells slots r1 r2 r3 r4 r5 r6
  exact lv_i2l M.1 M.2.1 hd rfl (k H locs ls cells slots r1 r2 r3 r4 r5 r6)
theorem g_l2i (M : MX Z X cc own nL d ret nm) {x : Int64} (hd : decode cc pc = .ok (.l2i, 1)) (hp : pc + 1 = q) (k : G Z X kc ks q E (vi x.toInt32 :: st) h) : G Z X kc ks pc E (vl x :: st) h := by
  subst hp
  obtain ⟨p, e, R, s, m, args, below, meth, c, Q, h0⟩ := X
  intro H locs ls cells slots r1 r2 r3 r4 r5 r6
  exact lv_l2i M.1 M.2.1 hd rfl (k H locs ls cells slots r1 r2 r3 r4 r5 r6)
theorem g_i2b (M : MX Z X cc own nL d ret nm) {x : Int32} (hd : decode cc pc = .ok (.i2b, 1)) (hp : pc + 1 = q) (k : G Z X kc ks q E (vi x.toInt8.toInt32 :: st) h) : G Z X kc ks pc E (vi x :: st) h := by
  subst hp
  obtain ⟨p, e, R, s, m, args, below, meth, c, Q, h0⟩ := X
  intro H locs ls cells slots r1 r2 r3 r4 r5 r6
  exact lv_i2b M.1 M.2.1 hd rfl (k H locs ls cells slots r1 r2 r3 r4 r5 r6)
theorem g_i2c (M : MX Z X cc own nL d ret nm) {x : Int32} (hd : decode cc pc = .ok (.i2c, 1)) (hp : pc + 1 = q) (k : G Z X kc ks q E (vi (x.toUInt32 % 65536).toInt32 :: st) h) : G Z X kc ks pc E (vi x :: st) h := by
  subst hp
  obtain ⟨p, e, R, s, m, args, below, meth, c, Q, h0⟩ := X
  intro H locs ls cells slots r1 r2 r3 r4 r5 r6
  exact lv_i2c M.1 M.2.1 hd rfl (k H locs ls cells slots r1 r2 r3 r4 r5 r6)
theorem g_lcmp (M : MX Z X cc own nL d ret nm) {x y : Int64} (hd : decode cc pc = .ok (.lcmp, 1)) (hp : pc + 1 = q) (k : G Z X kc ks q E (vi (lg_cmp x y) :: st) h) : G Z X kc ks pc E (vl y :: vl x :: st) h := by
  subst hp
  obtain ⟨p, e, R, s, m, args, below, meth, c, Q, h0⟩ := X
  intro H locs ls cells slots r1 r2 r3 r4 r5 r6
  exact W.lcmp M.1 M.2.1 hd (k H locs ls cells slots r1 r2 r3 r4 r5 r6)
theorem g_iconst (M : MX Z X cc own nL d ret nm) {n : Int} {v : Int32} (hd : decode cc pc = .ok (.iconst n, 1)) (hp : pc + 1 = q) (hv : Int32.ofInt n = v) (k : G Z X kc ks q E (vi v :: st) h) : G Z X kc ks pc E st h := by
  subst hp
  obtain ⟨p, e, R, s, m, args, below, meth, c, Q, h0⟩ := X
  intro H locs ls cells slots r1 r2 r3 r4 r5 r6
  exact lv_iconst M.1 M.2.1 hd hv (k H locs ls cells slots r1 r2 r3 r4 r5 r6)
theorem g_bipush (M : MX Z X cc own nL d ret nm) {n : Int} {v : Int32} (hd : decode cc pc = .ok (.bipush n, 2)) (hp : pc + 2 = q) (hv : (Int8.ofInt n).toInt32 = v) (k : G Z X kc ks q E (vi v :: st) h) : G Z X kc ks pc E st h := by
  subst hp
  obtain ⟨p, e, R, s, m, args, below, meth, c, Q, h0⟩ := X
  intro H locs ls cells slots r1 r2 r3 r4 r5 r6
  exact lv_bipush M.1 M.2.1 hd hv (k H locs ls cells slots r1 r2 r3 r4 r5 r6)
theorem g_sipush (M : MX Z X cc own nL d ret nm) {n : Int} {v : Int32} (hd : decode cc pc = .ok (.sipush n, 3)) (hp : pc + 3 = q) (hv : (Int16.ofInt n).toInt32 = v) (k : G Z X kc ks q E (vi v :: st) h) : G Z X kc ks pc E st h := by
  subst hp
  obtain ⟨p, e, R, s, m, args, below, meth, c, Q, h0⟩ := X
  intro H locs ls cells slots r1 r2 r3 r4 r5 r6
  exact lv_sipush M.1 M.2.1 hd hv (k H locs ls cells slots r1 r2 r3 r4 r5 r6)
theorem g_lconst (M : MX Z X cc own nL d ret nm) {n : Fin 2} {v : Int64} (hd : decode cc pc = .ok (.lconst n, 1)) (hp : pc + 1 = q) (hv : Int64.ofNat (n : Nat) = v) (k : G Z X kc ks q E (vl v :: st) h) : G Z X kc ks pc E st h := by
  subst hp
  obtain ⟨p, e, R, s, m, args, below, meth, c, Q, h0⟩ := X
  intro H locs ls cells slots r1 r2 r3 r4 r5 r6
  exact lv_lconst M.1 M.2.1 hd hv (k H locs ls cells slots r1 r2 r3 r4 r5 r6)
theorem g_null (M : MX Z X cc own nL d ret nm) (hd : decode cc pc = .ok (.aconst_null, 1)) (hp : pc + 1 = q) (k : G Z X kc ks q E (vr 0 :: st) h) : G Z X kc ks pc E st h := by
  subst hp
  obtain ⟨p, e, R, s, m, args, below, meth, c, Q, h0⟩ := X
  intro H locs ls cells slots r1 r2 r3 r4 r5 r6
  exact lv_null M.1 M.2.1 hd (k H locs ls cells slots r1 r2 r3 r4 r5 r6)
theorem g_dup (M : MX Z X cc own nL d ret nm) {v : AV} (hd : decode cc pc = .ok (.dup, 1)) (hp : pc + 1 = q) (hv : cv v = 1) (k : G Z X kc ks q E (v :: v :: st) h) : G Z X kc ks pc E (v :: st) h := by
  subst hp
  obtain ⟨p, e, R, s, m, args, below, meth, c, Q, h0⟩ := X
  intro H locs ls cells slots r1 r2 r3 r4 r5 r6
  exact lv_dup M.1 M.2.1 hd ((tv_cat v).trans hv) (k H locs ls cells slots r1 r2 r3 r4 r5 r6)
theorem g_pop (M : MX Z X cc own nL d ret nm) {v : AV} (hd : decode cc pc = .ok (.pop, 1)) (hp : pc + 1 = q) (hv : cv v = 1) (k : G Z X kc ks q E st h) : G Z X kc ks pc E (v :: st) h := by
  subst hp
  obtain ⟨p, e, R, s, m, args, below, meth, c, Q, h0⟩ := X
  intro H locs ls cells slots r1 r2 r3 r4 r5 r6
  exact lv_pop M.1 M.2.1 hd ((tv_cat v).trans hv) (k H locs ls cells slots r1 r2 r3 r4 r5 r6)
theorem g_pop2 (M : MX Z X cc own nL d ret nm) {v : AV} (hd : decode cc pc = .ok (.pop2, 1)) (hp : pc + 1 = q) (hv : cv v = 2) (k : G Z X kc ks q E st h) : G Z X kc ks pc E (v :: st) h := by
  subst hp
  obtain ⟨p, e, R, s, m, args, below, meth, c, Q, h0⟩ := X
  intro H locs ls cells slots r1 r2 r3 r4 r5 r6
  exact lv_pop2_2 M.1 M.2.1 hd ((tv_cat v).trans hv) (k H locs ls cells slots r1 r2 r3 r4 r5 r6)
theorem g_dup_x1 (M : MX Z X cc own nL d ret nm) {v w : AV} (hd : decode cc pc = .ok (.dup_x1, 1)) (hp : pc + 1 = q) (hv : cv v = 1) (hw : cv w = 1) (k : G Z X kc ks q E (v :: w :: v :: st) h) : G Z X kc ks pc E (v :: w :: st) h := by
  subst hp
  obtain ⟨p, e, R, s, m, args, below, meth, c, Q, h0⟩ := X
  intro H locs ls cells slots r1 r2 r3 r4 r5 r6
  exact lv_dup_x1 M.1 M.2.1 hd ((tv_cat v).trans hv) ((tv_cat w).trans hw) (k H locs ls cells slots r1 r2 r3 r4 r5 r6)
theorem g_dup_x2 (M : MX Z X cc own nL d ret nm) {v w u : AV} (hd : decode cc pc = .ok (.dup_x2, 1)) (hp : pc + 1 = q) (hv : cv v = 1) (hw : cv w = 1) (hu : cv u = 1) (k : G Z X kc ks q E (v :: w :: u :: v :: st) h) : G Z X kc ks pc E (v :: w :: u :: st) h := by
  subst hp
  obtain ⟨p, e, R, s, m, args, below, meth, c, Q, h0⟩ := X
  intro H locs ls cells slots r1 r2 r3 r4 r5 r6
  exact lv_dup_x2 M.1 M.2.1 hd ((tv_cat v).trans hv) ((tv_cat w).trans hw) ((tv_cat u).trans hu) (k H locs ls cells slots r1 r2 r3 r4 r5 r6)
theorem g_dup2 (M : MX Z X cc own nL d ret nm) {v w : AV} (hd : decode cc pc = .ok (.dup2, 1)) (hp : pc + 1 = q) (hv : cv v = 1) (hw : cv w = 1) (k : G Z X kc ks q E (v :: w :: v :: w :: st) h) : G Z X kc ks pc E (v :: w :: st) h := by
  subst hp
  obtain ⟨p, e, R, s, m, args, below, meth, c, Q, h0⟩ := X
  intro H locs ls cells slots r1 r2 r3 r4 r5 r6
  exact lv_dup2_11 M.1 M.2.1 hd ((tv_cat v).trans hv) ((tv_cat w).trans hw) (k H locs ls cells slots r1 r2 r3 r4 r5 r6)
theorem g_dup2l (M : MX Z X cc own nL d ret nm) {v : AV} (hd : decode cc pc = .ok (.dup2, 1)) (hp : pc + 1 = q) (hv : cv v = 2) (k : G Z X kc ks q E (v :: v :: st) h) : G Z X kc ks pc E (v :: st) h := by
  subst hp
  obtain ⟨p, e, R, s, m, args, below, meth, c, Q, h0⟩ := X
  intro H locs ls cells slots r1 r2 r3 r4 r5 r6
  exact lv_dup2_2 M.1 M.2.1 hd ((tv_cat v).trans hv) (k H locs ls cells slots r1 r2 r3 r4 r5 r6)
theorem g_dup2_x1l (M : MX Z X cc own nL d ret nm) {v w : AV} (hd : decode cc pc = .ok (.dup2_x1, 1)) (hp : pc + 1 = q) (hv : cv v = 2) (hw : cv w = 1) (k : G Z X kc ks q E (v :: w :: v :: st) h) : G Z X kc ks pc E (v :: w :: st) h := by
  subst hp
  obtain ⟨p, e, R, s, m, args, below, meth, c, Q, h0⟩ := X
  intro H locs ls cells slots r1 r2 r3 r4 r5 r6
  exact lv_dup2_x1_2 M.1 M.2.1 hd ((tv_cat v).trans hv) ((tv_cat w).trans hw) (k H locs ls cells slots r1 r2 r3 r4 r5 r6)
theorem g_dup2_x2l (M : MX Z X cc own nL d ret nm) {v w u : AV} (hd : decode cc pc = .ok (.dup2_x2, 1)) (hp : pc + 1 = q) (hv : cv v = 2) (hw : cv w = 1) (hu : cv u = 1) (k : G Z X kc ks q E (v :: w :: u :: v :: st) h) : G Z X kc ks pc E (v :: w :: u :: st) h := by
  subst hp
  obtain ⟨p, e, R, s, m, args, below, meth, c, Q, h0⟩ := X
  intro H locs ls cells slots r1 r2 r3 r4 r5 r6
  exact lv_dup2_x2_2 M.1 M.2.1 hd ((tv_cat v).trans hv) ((tv_cat w).trans hw) ((tv_cat u).trans hu) (k H locs ls cells slots r1 r2 r3 r4 r5 r6)
theorem g_ldc (M : MX Z X cc own nL d ret nm) {ix : Nat} {v : Int32} (hd : decode cc pc = .ok (.ldc ix, 2)) (hp : pc + 2 = q) (hw : Cond.constant own ix v ∈ lw_all) (k : G Z X kc ks q E (vi v :: st) h) : G Z X kc ks pc E st h := by
  subst hp
  obtain ⟨p, e, R, s, m, args, below, meth, c, Q, h0⟩ := X
  intro H locs ls cells slots r1 r2 r3 r4 r5 r6
  exact lv_ldc M.1 M.2.1 M.2.2.2.1 (M.2.2.2.2.1 _ hw) hd (k H locs ls cells slots r1 r2 r3 r4 r5 r6)
theorem g_ldcw (M : MX Z X cc own nL d ret nm) {ix : Nat} {v : Int32} (hd : decode cc pc = .ok (.ldc_w ix, 3)) (hp : pc + 3 = q) (hw : Cond.constant own ix v ∈ lw_all) (k : G Z X kc ks q E (vi v :: st) h) : G Z X kc ks pc E st h := by
  subst hp
  obtain ⟨p, e, R, s, m, args, below, meth, c, Q, h0⟩ := X
  intro H locs ls cells slots r1 r2 r3 r4 r5 r6
  exact lv_ldcw M.1 M.2.1 M.2.2.2.1 (M.2.2.2.2.1 _ hw) hd (k H locs ls cells slots r1 r2 r3 r4 r5 r6)
theorem g_ldc2 (M : MX Z X cc own nL d ret nm) {ix : Nat} {v : Int64} (hd : decode cc pc = .ok (.ldc2_w ix, 3)) (hp : pc + 3 = q) (hw : Cond.constantLong own ix v ∈ lw_all) (k : G Z X kc ks q E (vl v :: st) h) : G Z X kc ks pc E st h := by
  subst hp
  obtain ⟨p, e, R, s, m, args, below, meth, c, Q, h0⟩ := X
  intro H locs ls cells slots r1 r2 r3 r4 r5 r6
  exact lv_ldc2 M.1 M.2.1 M.2.2.2.1 (M.2.2.2.2.1 _ hw) hd (k H locs ls cells slots r1 r2 r3 r4 r5 r6)
theorem g_iload (M : MX Z X cc own nL d ret nm) {i : Nat} {x : Int32} (hd : decode cc pc = .ok (.iload i, 2)) (hp : pc + 2 = q) (hl : E[i]? = some (some (vi x))) (k : G Z X kc ks q E (vi x :: st) h) : G Z X kc ks pc E st h := by
  subst hp
  obtain ⟨p, e, R, s, m, args, below, meth, c, Q, h0⟩ := X
  intro H locs ls cells slots r1 r2 r3 r4 r5 r6
  exact lv_iload M.1 M.2.1 hd (r3.2.2 i (vi x) hl) (k H locs ls cells slots r1 r2 r3 r4 r5 r6)
theorem g_iload_n (M : MX Z X cc own nL d ret nm) {i : Fin 4} {x : Int32} (hd : decode cc pc = .ok (.iload_n i, 1)) (hp : pc + 1 = q) (hl : E[(i : Nat)]? = some (some (vi x))) (k : G Z X kc ks q E (vi x :: st) h) : G Z X kc ks pc E st h := by
  subst hp
  obtain ⟨p, e, R, s, m, args, below, meth, c, Q, h0⟩ := X
  intro H locs ls cells slots r1 r2 r3 r4 r5 r6
  exact lv_iload_n M.1 M.2.1 hd rfl (r3.2.2 (i : Nat) (vi x) hl) (k H locs ls cells slots r1 r2 r3 r4 r5 r6)
theorem g_lload (M : MX Z X cc own nL d ret nm) {i : Nat} {x : Int64} (hd : decode cc pc = .ok (.lload i, 2)) (hp : pc + 2 = q) (hl : E[i]? = some (some (vl x))) (k : G Z X kc ks q E (vl x :: st) h) : G Z X kc ks pc E st h := by
  subst hp
  obtain ⟨p, e, R, s, m, args, below, meth, c, Q, h0⟩ := X
  intro H locs ls cells slots r1 r2 r3 r4 r5 r6
  exact lv_lload M.1 M.2.1 hd (r3.2.2 i (vl x) hl) (k H locs ls cells slots r1 r2 r3 r4 r5 r6)
theorem g_lload_n (M : MX Z X cc own nL d ret nm) {i : Fin 4} {x : Int64} (hd : decode cc pc = .ok (.lload_n i, 1)) (hp : pc + 1 = q) (hl : E[(i : Nat)]? = some (some (vl x))) (k : G Z X kc ks q E (vl x :: st) h) : G Z X kc ks pc E st h := by
  subst hp
  obtain ⟨p, e, R, s, m, args, below, meth, c, Q, h0⟩ := X
  intro H locs ls cells slots r1 r2 r3 r4 r5 r6
  exact lv_lload_n M.1 M.2.1 hd rfl (r3.2.2 (i : Nat) (vl x) hl) (k H locs ls cells slots r1 r2 r3 r4 r5 r6)
theorem g_aload (M : MX Z X cc own nL d ret nm) {i : Nat} {a : Nat} (hd : decode cc pc = .ok (.aload i, 2)) (hp : pc + 2 = q) (hl : E[i]? = some (some (vr a))) (k : G Z X kc ks q E (vr a :: st) h) : G Z X kc ks pc E st h := by
  subst hp
  obtain ⟨p, e, R, s, m, args, below, meth, c, Q, h0⟩ := X
  intro H locs ls cells slots r1 r2 r3 r4 r5 r6
  have h1 := r3.2.2 i (vr a) hl
  have h2 := k H locs ls cells slots r1 r2 r3 r4 r5 r6
  cases a with
  | zero => exact lv_aloadN M.1 M.2.1 hd h1 h2
  | succ a => exact lv_aload M.1 M.2.1 hd h1 h2
theorem g_aload_n (M : MX Z X cc own nL d ret nm) {i : Fin 4} {a : Nat} (hd : decode cc pc = .ok (.aload_n i, 1)) (hp : pc + 1 = q) (hl : E[(i : Nat)]? = some (some (vr a))) (k : G Z X kc ks q E (vr a :: st) h) : G Z X kc ks pc E st h := by
  subst hp
  obtain ⟨p, e, R, s, m, args, below, meth, c, Q, h0⟩ := X
  intro H locs ls cells slots r1 r2 r3 r4 r5 r6
  have h1 := r3.2.2 (i : Nat) (vr a) hl
  have h2 := k H locs ls cells slots r1 r2 r3 r4 r5 r6
  cases a with
  | zero => exact lv_aload_nN M.1 M.2.1 hd rfl h1 h2
  | succ a => exact lv_aload_n M.1 M.2.1 hd rfl h1 h2
theorem g_istore (M : MX Z X cc own nL d ret nm) {i : Nat} {j : Nat} {x : Int32} {E' : List (Option AV)} (hd : decode cc pc = .ok (.istore i, 2)) (hp : pc + 2 = q) (hj : i = j) (hi : j < E.length) (he : st1 E j (some (vi x)) = E') (k : G Z X kc ks q E' st h) : G Z X kc ks pc E (vi x :: st) h := by
  subst hp
  subst hj
  subst he
  obtain ⟨p, e, R, s, m, args, below, meth, c, Q, h0⟩ := X
  intro H locs ls cells slots r1 r2 r3 r4 r5 r6
  exact lv_istore (lv := lE_l E) M.1 M.2.1 hd (lE_has r3) hi rfl (fun ls' h' => k H locs ls' cells slots r1 r2 (lE_st1 hi h' trivial) r4 r5 r6)
theorem g_istore_n (M : MX Z X cc own nL d ret nm) {i : Fin 4} {j : Nat} {x : Int32} {E' : List (Option AV)} (hd : decode cc pc = .ok (.istore_n i, 1)) (hp : pc + 1 = q) (hj : (i : Nat) = j) (hi : j < E.length) (he : st1 E j (some (vi x)) = E') (k : G Z X kc ks q E' st h) : G Z X kc ks pc E (vi x :: st) h := by
  subst hp
  subst hj
  subst he
  obtain ⟨p, e, R, s, m, args, below, meth, c, Q, h0⟩ := X
  intro H locs ls cells slots r1 r2 r3 r4 r5 r6
  exact lv_istore_n (lv := lE_l E) M.1 M.2.1 hd rfl (lE_has r3) hi rfl (fun ls' h' => k H locs ls' cells slots r1 r2 (lE_st1 hi h' trivial) r4 r5 r6)
theorem g_lstore (M : MX Z X cc own nL d ret nm) {i : Nat} {j : Nat} {x : Int64} {E' : List (Option AV)} (hd : decode cc pc = .ok (.lstore i, 2)) (hp : pc + 2 = q) (hj : i = j) (hi : j + 1 < E.length) (he : st2 E j (some (vl x)) = E') (k : G Z X kc ks q E' st h) : G Z X kc ks pc E (vl x :: st) h := by
  subst hp
  subst hj
  subst he
  obtain ⟨p, e, R, s, m, args, below, meth, c, Q, h0⟩ := X
  intro H locs ls cells slots r1 r2 r3 r4 r5 r6
  exact lv_lstore (lv := lE_l E) M.1 M.2.1 hd (lE_has r3) hi rfl (fun ls' h' => k H locs ls' cells slots r1 r2 (lE_st2 hi h') r4 r5 r6)
theorem g_lstore_n (M : MX Z X cc own nL d ret nm) {i : Fin 4} {j : Nat} {x : Int64} {E' : List (Option AV)} (hd : decode cc pc = .ok (.lstore_n i, 1)) (hp : pc + 1 = q) (hj : (i : Nat) = j) (hi : j + 1 < E.length) (he : st2 E j (some (vl x)) = E') (k : G Z X kc ks q E' st h) : G Z X kc ks pc E (vl x :: st) h := by
  subst hp
  subst hj
  subst he
  obtain ⟨p, e, R, s, m, args, below, meth, c, Q, h0⟩ := X
  intro H locs ls cells slots r1 r2 r3 r4 r5 r6
  exact lv_lstore_n (lv := lE_l E) M.1 M.2.1 hd rfl (lE_has r3) hi rfl (fun ls' h' => k H locs ls' cells slots r1 r2 (lE_st2 hi h') r4 r5 r6)
theorem g_astore (M : MX Z X cc own nL d ret nm) {i : Nat} {j : Nat} {a : Nat} {E' : List (Option AV)} (hd : decode cc pc = .ok (.astore i, 2)) (hp : pc + 2 = q) (hj : i = j) (hi : j < E.length) (he : st1 E j (some (vr a)) = E') (k : G Z X kc ks q E' st h) : G Z X kc ks pc E (vr a :: st) h := by
  subst hp
  subst hj
  subst he
  obtain ⟨p, e, R, s, m, args, below, meth, c, Q, h0⟩ := X
  intro H locs ls cells slots r1 r2 r3 r4 r5 r6
  cases a with
  | zero => exact lv_astoreN (lv := lE_l E) M.1 M.2.1 hd (lE_has r3) hi rfl (fun ls' h' => k H locs ls' cells slots r1 r2 (lE_st1 hi h' trivial) r4 r5 r6)
  | succ a => exact lv_astore (lv := lE_l E) M.1 M.2.1 hd (lE_has r3) hi rfl (fun ls' h' => k H locs ls' cells slots r1 r2 (lE_st1 hi h' trivial) r4 r5 r6)
theorem g_astore_n (M : MX Z X cc own nL d ret nm) {i : Fin 4} {j : Nat} {a : Nat} {E' : List (Option AV)} (hd : decode cc pc = .ok (.astore_n i, 1)) (hp : pc + 1 = q) (hj : (i : Nat) = j) (hi : j < E.length) (he : st1 E j (some (vr a)) = E') (k : G Z X kc ks q E' st h) : G Z X kc ks pc E (vr a :: st) h := by
  subst hp
  subst hj
  subst he
  obtain ⟨p, e, R, s, m, args, below, meth, c, Q, h0⟩ := X
  intro H locs ls cells slots r1 r2 r3 r4 r5 r6
  cases a with
  | zero => exact lv_astore_nN (lv := lE_l E) M.1 M.2.1 hd rfl (lE_has r3) hi rfl (fun ls' h' => k H locs ls' cells slots r1 r2 (lE_st1 hi h' trivial) r4 r5 r6)
  | succ a => exact lv_astore_n (lv := lE_l E) M.1 M.2.1 hd rfl (lE_has r3) hi rfl (fun ls' h' => k H locs ls' cells slots r1 r2 (lE_st1 hi h' trivial) r4 r5 r6)
theorem g_iinc (M : MX Z X cc own nL d ret nm) {i : Nat} {n : Int} {x : Int32} {E' : List (Option AV)} (hd : decode cc pc = .ok (.iinc i n, 3)) (hp : pc + 3 = q) (hi : i < E.length) (hl : E[i]? = some (some (vi x))) {w : Int32} (hw : Int32.ofInt n = w) (he : st1 E i (some (vi (x + w))) = E') (k : G Z X kc ks q E' st h) : G Z X kc ks pc E st h := by
  subst hp
  subst he
  subst hw
  obtain ⟨p, e, R, s, m, args, below, meth, c, Q, h0⟩ := X
  intro H locs ls cells slots r1 r2 r3 r4 r5 r6
  obtain ⟨k0, hk0⟩ := List.getElem?_of_mem (lE_mem (E := E) hl)
  exact lv_iinc (lv := lE_l E) M.1 M.2.1 hd (lE_has r3) hk0 rfl hi rfl (fun ls' h' => k H locs ls' cells slots r1 r2 (lE_st1 (v := vi (x + Int32.ofInt n)) hi h' trivial) r4 r5 r6)
theorem g_if_eq (M : MX Z X cc own nL d ret nm) {x : Int32} {off : Int} {tgt : Nat} (hd : decode cc pc = .ok (.ifCond .eq off, 3)) (ht : (pc : Int) + off = (tgt : Int)) (hp : pc + 3 = q) (kt : x = 0 → G Z X kc ks tgt E st h) (kf : ¬ (x = 0) → G Z X kc ks q E st h) : G Z X kc ks pc E (vi x :: st) h := by
  subst hp
  obtain ⟨p, e, R, s, m, args, below, meth, c, Q, h0⟩ := X
  intro H locs ls cells slots r1 r2 r3 r4 r5 r6
  exact lv_if_eq M.1 M.2.1 hd ht (fun z => kt z H locs ls cells slots r1 r2 r3 r4 r5 r6) (fun z => kf z H locs ls cells slots r1 r2 r3 r4 r5 r6)
theorem g_icmp_eq (M : MX Z X cc own nL d ret nm) {x y : Int32} {off : Int} {tgt : Nat} (hd : decode cc pc = .ok (.if_icmp .eq off, 3)) (ht : (pc : Int) + off = (tgt : Int)) (hp : pc + 3 = q) (kt : x = y → G Z X kc ks tgt E st h) (kf : ¬ (x = y) → G Z X kc ks q E st h) : G Z X kc ks pc E (vi y :: vi x :: st) h := by
  subst hp
  obtain ⟨p, e, R, s, m, args, below, meth, c, Q, h0⟩ := X
  intro H locs ls cells slots r1 r2 r3 r4 r5 r6
  exact lv_icmp_eq M.1 M.2.1 hd ht (fun z => kt z H locs ls cells slots r1 r2 r3 r4 r5 r6) (fun z => kf z H locs ls cells slots r1 r2 r3 r4 r5 r6)
theorem g_if_ne (M : MX Z X cc own nL d ret nm) {x : Int32} {off : Int} {tgt : Nat} (hd : decode cc pc = .ok (.ifCond .ne off, 3)) (ht : (pc : Int) + off = (tgt : Int)) (hp : pc + 3 = q) (kt : ¬ x = 0 → G Z X kc ks tgt E st h) (kf : x = 0 → G Z X kc ks q E st h) : G Z X kc ks pc E (vi x :: st) h := by
  subst hp
  obtain ⟨p, e, R, s, m, args, below, meth, c, Q, h0⟩ := X
  intro H locs ls cells slots r1 r2 r3 r4 r5 r6
  exact lv_if_ne M.1 M.2.1 hd ht (fun z => kt z H locs ls cells slots r1 r2 r3 r4 r5 r6) (fun z => kf z H locs ls cells slots r1 r2 r3 r4 r5 r6)
theorem g_icmp_ne (M : MX Z X cc own nL d ret nm) {x y : Int32} {off : Int} {tgt : Nat} (hd : decode cc pc = .ok (.if_icmp .ne off, 3)) (ht : (pc : Int) + off = (tgt : Int)) (hp : pc + 3 = q) (kt : ¬ x = y → G Z X kc ks tgt E st h) (kf : x = y → G Z X kc ks q E st h) : G Z X kc ks pc E (vi y :: vi x :: st) h := by
  subst hp
  obtain ⟨p, e, R, s, m, args, below, meth, c, Q, h0⟩ := X
  intro H locs ls cells slots r1 r2 r3 r4 r5 r6
  exact lv_icmp_ne M.1 M.2.1 hd ht (fun z => kt z H locs ls cells slots r1 r2 r3 r4 r5 r6) (fun z => kf z H locs ls cells slots r1 r2 r3 r4 r5 r6)
theorem g_if_lt (M : MX Z X cc own nL d ret nm) {x : Int32} {off : Int} {tgt : Nat} (hd : decode cc pc = .ok (.ifCond .lt off, 3)) (ht : (pc : Int) + off = (tgt : Int)) (hp : pc + 3 = q) (kt : x < 0 → G Z X kc ks tgt E st h) (kf : ¬ (x < 0) → G Z X kc ks q E st h) : G Z X kc ks pc E (vi x :: st) h := by
  subst hp
  obtain ⟨p, e, R, s, m, args, below, meth, c, Q, h0⟩ := X
  intro H locs ls cells slots r1 r2 r3 r4 r5 r6
  exact lv_if_lt M.1 M.2.1 hd ht (fun z => kt z H locs ls cells slots r1 r2 r3 r4 r5 r6) (fun z => kf z H locs ls cells slots r1 r2 r3 r4 r5 r6)
theorem g_icmp_lt (M : MX Z X cc own nL d ret nm) {x y : Int32} {off : Int} {tgt : Nat} (hd : decode cc pc = .ok (.if_icmp .lt off, 3)) (ht : (pc : Int) + off = (tgt : Int)) (hp : pc + 3 = q) (kt : x < y → G Z X kc ks tgt E st h) (kf : ¬ (x < y) → G Z X kc ks q E st h) : G Z X kc ks pc E (vi y :: vi x :: st) h := by
  subst hp
  obtain ⟨p, e, R, s, m, args, below, meth, c, Q, h0⟩ := X
  intro H locs ls cells slots r1 r2 r3 r4 r5 r6
  exact lv_icmp_lt M.1 M.2.1 hd ht (fun z => kt z H locs ls cells slots r1 r2 r3 r4 r5 r6) (fun z => kf z H locs ls cells slots r1 r2 r3 r4 r5 r6)
theorem g_if_ge (M : MX Z X cc own nL d ret nm) {x : Int32} {off : Int} {tgt : Nat} (hd : decode cc pc = .ok (.ifCond .ge off, 3)) (ht : (pc : Int) + off = (tgt : Int)) (hp : pc + 3 = q) (kt : 0 ≤ x → G Z X kc ks tgt E st h) (kf : ¬ (0 ≤ x) → G Z X kc ks q E st h) : G Z X kc ks pc E (vi x :: st) h := by
  subst hp
  obtain ⟨p, e, R, s, m, args, below, meth, c, Q, h0⟩ := X
  intro H locs ls cells slots r1 r2 r3 r4 r5 r6
  exact lv_if_ge M.1 M.2.1 hd ht (fun z => kt z H locs ls cells slots r1 r2 r3 r4 r5 r6) (fun z => kf z H locs ls cells slots r1 r2 r3 r4 r5 r6)
theorem g_icmp_ge (M : MX Z X cc own nL d ret nm) {x y : Int32} {off : Int} {tgt : Nat} (hd : decode cc pc = .ok (.if_icmp .ge off, 3)) (ht : (pc : Int) + off = (tgt : Int)) (hp : pc + 3 = q) (kt : y ≤ x → G Z X kc ks tgt E st h) (kf : ¬ (y ≤ x) → G Z X kc ks q E st h) : G Z X kc ks pc E (vi y :: vi x :: st) h := by
  subst hp
  obtain ⟨p, e, R, s, m, args, below, meth, c, Q, h0⟩ := X
  intro H locs ls cells slots r1 r2 r3 r4 r5 r6
  exact lv_icmp_ge M.1 M.2.1 hd ht (fun z => kt z H locs ls cells slots r1 r2 r3 r4 r5 r6) (fun z => kf z H locs ls cells slots r1 r2 r3 r4 r5 r6)
theorem g_if_gt (M : MX Z X cc own nL d ret nm) {x : Int32} {off : Int} {tgt : Nat} (hd : decode cc pc = .ok (.ifCond .gt off, 3)) (ht : (pc : Int) + off = (tgt : Int)) (hp : pc + 3 = q) (kt : 0 < x → G Z X kc ks tgt E st h) (kf : ¬ (0 < x) → G Z X kc ks q E st h) : G Z X kc ks pc E (vi x :: st) h := by
  subst hp
  obtain ⟨p, e, R, s, m, args, below, meth, c, Q, h0⟩ := X
  intro H locs ls cells slots r1 r2 r3 r4 r5 r6
  exact lv_if_gt M.1 M.2.1 hd ht (fun z => kt z H locs ls cells slots r1 r2 r3 r4 r5 r6) (fun z => kf z H locs ls cells slots r1 r2 r3 r4 r5 r6)
theorem g_icmp_gt (M : MX Z X cc own nL d ret nm) {x y : Int32} {off : Int} {tgt : Nat} (hd : decode cc pc = .ok (.if_icmp .gt off, 3)) (ht : (pc : Int) + off = (tgt : Int)) (hp : pc + 3 = q) (kt : y < x → G Z X kc ks tgt E st h) (kf : ¬ (y < x) → G Z X kc ks q E st h) : G Z X kc ks pc E (vi y :: vi x :: st) h := by
  subst hp
  obtain ⟨p, e, R, s, m, args, below, meth, c, Q, h0⟩ := X
  intro H locs ls cells slots r1 r2 r3 r4 r5 r6
  exact lv_icmp_gt M.1 M.2.1 hd ht (fun z => kt z H locs ls cells slots r1 r2 r3 r4 r5 r6) (fun z => kf z H locs ls cells slots r1 r2 r3 r4 r5 r6)
theorem g_if_le (M : MX Z X cc own nL d ret nm) {x : Int32} {off : Int} {tgt : Nat} (hd : decode cc pc = .ok (.ifCond .le off, 3)) (ht : (pc : Int) + off = (tgt : Int)) (hp : pc + 3 = q) (kt : x ≤ 0 → G Z X kc ks tgt E st h) (kf : ¬ (x ≤ 0) → G Z X kc ks q E st h) : G Z X kc ks pc E (vi x :: st) h := by
  subst hp
  obtain ⟨p, e, R, s, m, args, below, meth, c, Q, h0⟩ := X
  intro H locs ls cells slots r1 r2 r3 r4 r5 r6
  exact lv_if_le M.1 M.2.1 hd ht (fun z => kt z H locs ls cells slots r1 r2 r3 r4 r5 r6) (fun z => kf z H locs ls cells slots r1 r2 r3 r4 r5 r6)
theorem g_icmp_le (M : MX Z X cc own nL d ret nm) {x y : Int32} {off : Int} {tgt : Nat} (hd : decode cc pc = .ok (.if_icmp .le off, 3)) (ht : (pc : Int) + off = (tgt : Int)) (hp : pc + 3 = q) (kt : x ≤ y → G Z X kc ks tgt E st h) (kf : ¬ (x ≤ y) → G Z X kc ks q E st h) : G Z X kc ks pc E (vi y :: vi x :: st) h := by
  subst hp
  obtain ⟨p, e, R, s, m, args, below, meth, c, Q, h0⟩ := X
  intro H locs ls cells slots r1 r2 r3 r4 r5 r6
  exact lv_icmp_le M.1 M.2.1 hd ht (fun z => kt z H locs ls cells slots r1 r2 r3 r4 r5 r6) (fun z => kf z H locs ls cells slots r1 r2 r3 r4 r5 r6)
theorem g_goto (M : MX Z X cc own nL d ret nm) {off : Int} {tgt : Nat} (hd : decode cc pc = .ok (.goto off, 3)) (ht : (pc : Int) + off = (tgt : Int)) (k : G Z X kc ks tgt E st h) : G Z X kc ks pc E st h := by
  obtain ⟨p, e, R, s, m, args, below, meth, c, Q, h0⟩ := X
  intro H locs ls cells slots r1 r2 r3 r4 r5 r6
  exact lv_goto M.1 M.2.1 hd ht (k H locs ls cells slots r1 r2 r3 r4 r5 r6)
theorem g_ifnull (M : MX Z X cc own nL d ret nm) {a : Nat} {off : Int} {tgt : Nat} (hd : decode cc pc = .ok (.ifnull off, 3)) (ht : (pc : Int) + off = (tgt : Int)) (hp : pc + 3 = q) (kt : a = 0 → G Z X kc ks tgt E st h) (kf : ¬ (a = 0) → G Z X kc ks q E st h) : G Z X kc ks pc E (vr a :: st) h := by
  subst hp
  obtain ⟨p, e, R, s, m, args, below, meth, c, Q, h0⟩ := X
  intro H locs ls cells slots r1 r2 r3 r4 r5 r6
  cases a with
  | zero => exact lv_ifnullN M.1 M.2.1 hd ht (kt rfl H locs ls cells slots r1 r2 r3 r4 r5 r6)
  | succ a => exact lv_ifnull M.1 M.2.1 hd (kf (Nat.succ_ne_zero _) H locs ls cells slots r1 r2 r3 r4 r5 r6)
theorem g_ifnonnull (M : MX Z X cc own nL d ret nm) {a : Nat} {off : Int} {tgt : Nat} (hd : decode cc pc = .ok (.ifnonnull off, 3)) (ht : (pc : Int) + off = (tgt : Int)) (hp : pc + 3 = q) (kt : a ≠ 0 → G Z X kc ks tgt E st h) (kf : ¬ (a ≠ 0) → G Z X kc ks q E st h) : G Z X kc ks pc E (vr a :: st) h := by
  subst hp
  obtain ⟨p, e, R, s, m, args, below, meth, c, Q, h0⟩ := X
  intro H locs ls cells slots r1 r2 r3 r4 r5 r6
  cases a with
  | zero => exact lv_ifnonnullN M.1 M.2.1 hd (kf (fun z => z rfl) H locs ls cells slots r1 r2 r3 r4 r5 r6)
  | succ a => exact lv_ifnonnull M.1 M.2.1 hd ht (kt (Nat.succ_ne_zero _) H locs ls cells slots r1 r2 r3 r4 r5 r6)
theorem g_acmp_eq (M : MX Z X cc own nL d ret nm) {a b : Nat} {off : Int} {tgt : Nat} (hd : decode cc pc = .ok (.if_acmp .eq off, 3)) (ht : (pc : Int) + off = (tgt : Int)) (hp : pc + 3 = q) (kt : a = b → G Z X kc ks tgt E st h) (kf : ¬ (a = b) → G Z X kc ks q E st h) : G Z X kc ks pc E (vr b :: vr a :: st) h := by
  subst hp
  obtain ⟨p, e, R, s, m, args, below, meth, c, Q, h0⟩ := X
  intro H locs ls cells slots r1 r2 r3 r4 r5 r6
  have e1 : ∀ z : Nat, tv (vr z) = va_rf (rvo z) := fun z => by cases z <;> rfl
  show W _ _ _ _ _ _ _ _ _ _ _ _ _ _ _ (F0 m pc ls (tv (vr b) :: tv (vr a) :: st.map tv))
  rw [e1, e1]
  exact lv_acmp_eq M.1 M.2.1 hd ht (fun z => kt (by simpa [rvo_inj] using z) H locs ls cells slots r1 r2 r3 r4 r5 r6) (fun z => kf (by simpa [rvo_inj] using z) H locs ls cells slots r1 r2 r3 r4 r5 r6)
theorem g_acmp_ne (M : MX Z X cc own nL d ret nm) {a b : Nat} {off : Int} {tgt : Nat} (hd : decode cc pc = .ok (.if_acmp .ne off, 3)) (ht : (pc : Int) + off = (tgt : Int)) (hp : pc + 3 = q) (kt : ¬ a = b → G Z X kc ks tgt E st h) (kf : ¬ (¬ a = b) → G Z X kc ks q E st h) : G Z X kc ks pc E (vr b :: vr a :: st) h := by
  subst hp
  obtain ⟨p, e, R, s, m, args, below, meth, c, Q, h0⟩ := X
  intro H locs ls cells slots r1 r2 r3 r4 r5 r6
  have e1 : ∀ z : Nat, tv (vr z) = va_rf (rvo z) := fun z => by cases z <;> rfl
  show W _ _ _ _ _ _ _ _ _ _ _ _ _ _ _ (F0 m pc ls (tv (vr b) :: tv (vr a) :: st.map tv))
  rw [e1, e1]
  exact lv_acmp_ne M.1 M.2.1 hd ht (fun z => kt (by simpa [rvo_inj] using z) H locs ls cells slots r1 r2 r3 r4 r5 r6) (fun z => kf (by simpa [rvo_inj] using z) H locs ls cells slots r1 r2 r3 r4 r5 r6)
theorem g_tableOut (M : MX Z X cc own nL d ret nm) {dflt lo hi : Int} {offs : Array Int} {len : Nat} {x : Int32} {tgt : Nat} (hd : decode cc pc = .ok (.tableswitch dflt lo hi offs, len)) (hx : x.toInt < lo ∨ hi < x.toInt) (ht : (pc : Int) + dflt = (tgt : Int)) (k : G Z X kc ks tgt E st h) : G Z X kc ks pc E (vi x :: st) h := by
  obtain ⟨p, e, R, s, m, args, below, meth, c, Q, h0⟩ := X
  intro H locs ls cells slots r1 r2 r3 r4 r5 r6
  exact lv_tableOut M.1 M.2.1 hd hx ht (k H locs ls cells slots r1 r2 r3 r4 r5 r6)
theorem g_tableIn (M : MX Z X cc own nL d ret nm) {dflt lo hi : Int} {offs : Array Int} {len : Nat} {x : Int32} {off : Int} {tgt : Nat} (hd : decode cc pc = .ok (.tableswitch dflt lo hi offs, len)) (h1 : ¬ x.toInt < lo) (h2 : ¬ hi < x.toInt) (ho : offs[(x.toInt - lo).toNat]? = some off) (ht : (pc : Int) + off = (tgt : Int)) (k : G Z X kc ks tgt E st h) : G Z X kc ks pc E (vi x :: st) h := by
  obtain ⟨p, e, R, s, m, args, below, meth, c, Q, h0⟩ := X
  intro H locs ls cells slots r1 r2 r3 r4 r5 r6
  exact lv_tableIn M.1 M.2.1 hd h1 h2 ho ht (k H locs ls cells slots r1 r2 r3 r4 r5 r6)
end PUREROWS
