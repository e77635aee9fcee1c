/-! THE TWIN: BalloonMailModel at m, its arrays at m + 1 .. m + 28 -/
set_option maxRecDepth 100000
/-- field, offset, tag, length of the twin's arrays -/
def twL : List (Nat × Nat × Nat × Nat) := [(33, 1, 60, 213), (34, 2, 60, 2), (35, 3, 60, 16), (36, 4, 60, 16), (37, 5, 60, 16), (38, 6, 60, 2), (39, 7, 60, 12), (40, 8, 60, 96), (41, 9, 60, 96), (42, 10, 60, 2), (43, 11, 60, 60), (44, 12, 60, 60), (45, 13, 60, 60), (46, 14, 60, 2), (47, 15, 60, 20), (48, 16, 60, 20), (49, 17, 60, 2), (50, 18, 60, 48), (51, 19, 60, 48), (58, 20, 62, 900), (68, 21, 61, 6), (69, 22, 61, 6), (70, 23, 61, 5632), (71, 24, 61, 90), (72, 25, 60, 25000), (74, 26, 60, 2556), (75, 27, 60, 426), (76, 28, 63, 2)]
def TW (h : xH) (m : Nat) : Prop := xt h m = 4 ∧ ∀ q ∈ twL, xR h q.1 m = m + q.2.1 ∧ xt h (m + q.2.1) = q.2.2.1 ∧ xn h (m + q.2.1) = q.2.2.2
theorem TW.a33 {h : xH} {m : Nat} (T : TW h m) : xR h 33 m = m + 1 ∧ xt h (m + 1) = 60 ∧ xn h (m + 1) = 213 := T.2 (33, 1, 60, 213) (List.mem_of_getElem? (i := 0) rfl)
theorem TW.a34 {h : xH} {m : Nat} (T : TW h m) : xR h 34 m = m + 2 ∧ xt h (m + 2) = 60 ∧ xn h (m + 2) = 2 := T.2 (34, 2, 60, 2) (List.mem_of_getElem? (i := 1) rfl)
theorem TW.a35 {h : xH} {m : Nat} (T : TW h m) : xR h 35 m = m + 3 ∧ xt h (m + 3) = 60 ∧ xn h (m + 3) = 16 := T.2 (35, 3, 60, 16) (List.mem_of_getElem? (i := 2) rfl)
theorem TW.a36 {h : xH} {m : Nat} (T : TW h m) : xR h 36 m = m + 4 ∧ xt h (m + 4) = 60 ∧ xn h (m + 4) = 16 := T.2 (36, 4, 60, 16) (List.mem_of_getElem? (i := 3) rfl)
theorem TW.a37 {h : xH} {m : Nat} (T : TW h m) : xR h 37 m = m + 5 ∧ xt h (m + 5) = 60 ∧ xn h (m + 5) = 16 := T.2 (37, 5, 60, 16) (List.mem_of_getElem? (i := 4) rfl)
theorem TW.a38 {h : xH} {m : Nat} (T : TW h m) : xR h 38 m = m + 6 ∧ xt h (m + 6) = 60 ∧ xn h (m + 6) = 2 := T.2 (38, 6, 60, 2) (List.mem_of_getElem? (i := 5) rfl)
theorem TW.a39 {h : xH} {m : Nat} (T : TW h m) : xR h 39 m = m + 7 ∧ xt h (m + 7) = 60 ∧ xn h (m + 7) = 12 := T.2 (39, 7, 60, 12) (List.mem_of_getElem? (i := 6) rfl)
theorem TW.a40 {h : xH} {m : Nat} (T : TW h m) : xR h 40 m = m + 8 ∧ xt h (m + 8) = 60 ∧ xn h (m + 8) = 96 := T.2 (40, 8, 60, 96) (List.mem_of_getElem? (i := 7) rfl)
theorem TW.a41 {h : xH} {m : Nat} (T : TW h m) : xR h 41 m = m + 9 ∧ xt h (m + 9) = 60 ∧ xn h (m + 9) = 96 := T.2 (41, 9, 60, 96) (List.mem_of_getElem? (i := 8) rfl)
theorem TW.a42 {h : xH} {m : Nat} (T : TW h m) : xR h 42 m = m + 10 ∧ xt h (m + 10) = 60 ∧ xn h (m + 10) = 2 := T.2 (42, 10, 60, 2) (List.mem_of_getElem? (i := 9) rfl)
theorem TW.a43 {h : xH} {m : Nat} (T : TW h m) : xR h 43 m = m + 11 ∧ xt h (m + 11) = 60 ∧ xn h (m + 11) = 60 := T.2 (43, 11, 60, 60) (List.mem_of_getElem? (i := 10) rfl)
theorem TW.a44 {h : xH} {m : Nat} (T : TW h m) : xR h 44 m = m + 12 ∧ xt h (m + 12) = 60 ∧ xn h (m + 12) = 60 := T.2 (44, 12, 60, 60) (List.mem_of_getElem? (i := 11) rfl)
theorem TW.a45 {h : xH} {m : Nat} (T : TW h m) : xR h 45 m = m + 13 ∧ xt h (m + 13) = 60 ∧ xn h (m + 13) = 60 := T.2 (45, 13, 60, 60) (List.mem_of_getElem? (i := 12) rfl)
theorem TW.a46 {h : xH} {m : Nat} (T : TW h m) : xR h 46 m = m + 14 ∧ xt h (m + 14) = 60 ∧ xn h (m + 14) = 2 := T.2 (46, 14, 60, 2) (List.mem_of_getElem? (i := 13) rfl)
theorem TW.a47 {h : xH} {m : Nat} (T : TW h m) : xR h 47 m = m + 15 ∧ xt h (m + 15) = 60 ∧ xn h (m + 15) = 20 := T.2 (47, 15, 60, 20) (List.mem_of_getElem? (i := 14) rfl)
theorem TW.a48 {h : xH} {m : Nat} (T : TW h m) : xR h 48 m = m + 16 ∧ xt h (m + 16) = 60 ∧ xn h (m + 16) = 20 := T.2 (48, 16, 60, 20) (List.mem_of_getElem? (i := 15) rfl)
theorem TW.a49 {h : xH} {m : Nat} (T : TW h m) : xR h 49 m = m + 17 ∧ xt h (m + 17) = 60 ∧ xn h (m + 17) = 2 := T.2 (49, 17, 60, 2) (List.mem_of_getElem? (i := 16) rfl)
theorem TW.a50 {h : xH} {m : Nat} (T : TW h m) : xR h 50 m = m + 18 ∧ xt h (m + 18) = 60 ∧ xn h (m + 18) = 48 := T.2 (50, 18, 60, 48) (List.mem_of_getElem? (i := 17) rfl)
theorem TW.a51 {h : xH} {m : Nat} (T : TW h m) : xR h 51 m = m + 19 ∧ xt h (m + 19) = 60 ∧ xn h (m + 19) = 48 := T.2 (51, 19, 60, 48) (List.mem_of_getElem? (i := 18) rfl)
theorem TW.a58 {h : xH} {m : Nat} (T : TW h m) : xR h 58 m = m + 20 ∧ xt h (m + 20) = 62 ∧ xn h (m + 20) = 900 := T.2 (58, 20, 62, 900) (List.mem_of_getElem? (i := 19) rfl)
theorem TW.a68 {h : xH} {m : Nat} (T : TW h m) : xR h 68 m = m + 21 ∧ xt h (m + 21) = 61 ∧ xn h (m + 21) = 6 := T.2 (68, 21, 61, 6) (List.mem_of_getElem? (i := 20) rfl)
theorem TW.a69 {h : xH} {m : Nat} (T : TW h m) : xR h 69 m = m + 22 ∧ xt h (m + 22) = 61 ∧ xn h (m + 22) = 6 := T.2 (69, 22, 61, 6) (List.mem_of_getElem? (i := 21) rfl)
theorem TW.a70 {h : xH} {m : Nat} (T : TW h m) : xR h 70 m = m + 23 ∧ xt h (m + 23) = 61 ∧ xn h (m + 23) = 5632 := T.2 (70, 23, 61, 5632) (List.mem_of_getElem? (i := 22) rfl)
theorem TW.a71 {h : xH} {m : Nat} (T : TW h m) : xR h 71 m = m + 24 ∧ xt h (m + 24) = 61 ∧ xn h (m + 24) = 90 := T.2 (71, 24, 61, 90) (List.mem_of_getElem? (i := 23) rfl)
theorem TW.a72 {h : xH} {m : Nat} (T : TW h m) : xR h 72 m = m + 25 ∧ xt h (m + 25) = 60 ∧ xn h (m + 25) = 25000 := T.2 (72, 25, 60, 25000) (List.mem_of_getElem? (i := 24) rfl)
theorem TW.a74 {h : xH} {m : Nat} (T : TW h m) : xR h 74 m = m + 26 ∧ xt h (m + 26) = 60 ∧ xn h (m + 26) = 2556 := T.2 (74, 26, 60, 2556) (List.mem_of_getElem? (i := 25) rfl)
theorem TW.a75 {h : xH} {m : Nat} (T : TW h m) : xR h 75 m = m + 27 ∧ xt h (m + 27) = 60 ∧ xn h (m + 27) = 426 := T.2 (75, 27, 60, 426) (List.mem_of_getElem? (i := 26) rfl)
theorem TW.a76 {h : xH} {m : Nat} (T : TW h m) : xR h 76 m = m + 28 ∧ xt h (m + 28) = 63 ∧ xn h (m + 28) = 2 := T.2 (76, 28, 63, 2) (List.mem_of_getElem? (i := 27) rfl)
theorem TW.to {h h' : xH} {m : Nat} (T : TW h m) (e1 : xR h' = xR h) (e2 : xt h' = xt h) (e3 : xn h' = xn h) : TW h' m := by
  unfold TW
  rw [e1, e2, e3]
  exact T
section TWROWS
variable {Z : xZ} {X : xX} {cc : ByteArray} {own : String} {nL d : Nat} {ret : Option FieldType} {nm : String} {kc ks pc q : Nat} {E : List (Option AV)} {st : List AV} {h : xH}
/-- an array of the twin's -/
theorem g_tw (M : MX Z X cc own nL d ret nm) {ix f m o t n : Nat} (hd : decode cc pc = .ok (.getfield ix, 3)) (hp : pc + 3 = q) (hl : xlk own ix f) (T : TW h m) (hv : (xCF 4).contains f = true) (hk : xFK f = 2) (a : xR h f m = m + o ∧ xt h (m + o) = t ∧ xn h (m + o) = n) (k : G Z X kc ks q E (vr (m + o) :: st) h) : G Z X kc ks pc E (vr m :: st) h := by
  refine g_getR M hd hp hl T.1 ?_ hk ?_
  · rw [hv]; rfl
  · rw [a.1]; exact k
end TWROWS
theorem ixN {k n : Nat} {x : Nat} (hn : x = n) (h : k < n) (hb : n < 2147483648) : ixOk (nI k) x := by
  subst hn
  exact vp_in_nI h hb
theorem ixC {i : Int32} {x n : Nat} (hn : x = n) (h : decide (0 ≤ i.toInt) && decide (i.toInt < n) = true) : ixOk i x := by
  subst hn
  simp only [Bool.and_eq_true, decide_eq_true_eq] at h
  exact vp_in_iff.mpr h
section NROWS
variable {Z : xZ} {X : xX} {cc : ByteArray} {own : String} {nL d : Nat} {ret : Option FieldType} {nm : String} {kc ks pc q : Nat} {E : List (Option AV)} {st : List AV} {h : xH}
theorem g_ialdN (M : MX Z X cc own nL d ret nm) {t a k n : Nat} {i : Int32} (hd : decode cc pc = .ok (.iaload, 1)) (hp : pc + 1 = q) (ht : xt h a = t) (hv : t % 100 = 60) (hn : xn h a = n) (hi : i = nI k) (hk : k < n) (hb : n < 2147483648) (kk : G Z X kc ks q E (vi (yI h a k) :: st) h) : G Z X kc ks pc E (vi i :: vr a :: st) h := by
  subst hi
  refine g_iald M hd hp ht hv (ixN hn hk hb) ?_
  rw [nI_clamp (by omega)]
  exact kk
theorem g_laldN (M : MX Z X cc own nL d ret nm) {t a k n : Nat} {i : Int32} (hd : decode cc pc = .ok (.laload, 1)) (hp : pc + 1 = q) (ht : xt h a = t) (hv : t % 100 = 61) (hn : xn h a = n) (hi : i = nI k) (hk : k < n) (hb : n < 2147483648) (kk : G Z X kc ks q E (vl (yL h a k) :: st) h) : G Z X kc ks pc E (vi i :: vr a :: st) h := by
  subst hi
  refine g_lald M hd hp ht hv (ixN hn hk hb) ?_
  rw [nI_clamp (by omega)]
  exact kk
theorem g_baldN (M : MX Z X cc own nL d ret nm) {t a k n : Nat} {i : Int32} (hd : decode cc pc = .ok (.baload, 1)) (hp : pc + 1 = q) (ht : xt h a = t) (hv : t % 100 = 62) (hn : xn h a = n) (hi : i = nI k) (hk : k < n) (hb : n < 2147483648) (kk : G Z X kc ks q E (vi (yI h a k) :: st) h) : G Z X kc ks pc E (vi i :: vr a :: st) h := by
  subst hi
  refine g_bald M hd hp ht hv (ixN hn hk hb) ?_
  rw [nI_clamp (by omega)]
  exact kk
theorem g_zaldN (M : MX Z X cc own nL d ret nm) {t a k n : Nat} {i : Int32} (hd : decode cc pc = .ok (.baload, 1)) (hp : pc + 1 = q) (ht : xt h a = t) (hv : t % 100 = 63) (hn : xn h a = n) (hi : i = nI k) (hk : k < n) (hb : n < 2147483648) (kk : G Z X kc ks q E (vi (yI h a k) :: st) h) : G Z X kc ks pc E (vi i :: vr a :: st) h := by
  subst hi
  refine g_zald M hd hp ht hv (ixN hn hk hb) ?_
  rw [nI_clamp (by omega)]
  exact kk
theorem g_iastN (M : MX Z X cc own nL d ret nm) {a k n : Nat} {i : Int32} {x : Int32} (hd : decode cc pc = .ok (.iastore, 1)) (hp : pc + 1 = q) (ht : xt h a = 60) (hn : xn h a = n) (hi : i = nI k) (hk : k < n) (hb : n < 2147483648) (kk : G Z X kc ks q E st (sI h a k x)) : G Z X kc ks pc E (vi x :: vi i :: vr a :: st) h := by
  subst hi
  refine g_iast M hd hp ht (ixN hn hk hb) ?_
  rw [nI_clamp (by omega)]
  exact kk
theorem g_lastN (M : MX Z X cc own nL d ret nm) {a k n : Nat} {i : Int32} {x : Int64} (hd : decode cc pc = .ok (.lastore, 1)) (hp : pc + 1 = q) (ht : xt h a = 61) (hn : xn h a = n) (hi : i = nI k) (hk : k < n) (hb : n < 2147483648) (kk : G Z X kc ks q E st (sL h a k x)) : G Z X kc ks pc E (vl x :: vi i :: vr a :: st) h := by
  subst hi
  refine g_last M hd hp ht (ixN hn hk hb) ?_
  rw [nI_clamp (by omega)]
  exact kk
theorem g_bastN (M : MX Z X cc own nL d ret nm) {a k n : Nat} {i : Int32} {x : Int32} (hd : decode cc pc = .ok (.bastore, 1)) (hp : pc + 1 = q) (ht : xt h a = 62) (hn : xn h a = n) (hi : i = nI k) (hk : k < n) (hb : n < 2147483648) (kk : G Z X kc ks q E st (sI h a k (vp_nar .byte x))) : G Z X kc ks pc E (vi x :: vi i :: vr a :: st) h := by
  subst hi
  refine g_bast M hd hp ht (ixN hn hk hb) ?_
  rw [nI_clamp (by omega)]
  exact kk
theorem g_zastN (M : MX Z X cc own nL d ret nm) {a k n : Nat} {i : Int32} {x : Int32} (hd : decode cc pc = .ok (.bastore, 1)) (hp : pc + 1 = q) (ht : xt h a = 63) (hn : xn h a = n) (hi : i = nI k) (hk : k < n) (hb : n < 2147483648) (kk : G Z X kc ks q E st (sI h a k (vp_nar .boolean x))) : G Z X kc ks pc E (vi x :: vi i :: vr a :: st) h := by
  subst hi
  refine g_zast M hd hp ht (ixN hn hk hb) ?_
  rw [nI_clamp (by omega)]
  exact kk
end NROWS
/-- a loop that counts up: from the end back -/
theorem upLoop {P : Nat → Prop} (N : Nat) (hend : P N) (hstep : ∀ k, k < N → P (k + 1) → P k) : ∀ k, k ≤ N → P k := by
  have : ∀ n k, k + n = N → P k := by
    intro n
    induction n with
    | zero => intro k hk; rw [show k = N by omega]; exact hend
    | succ n ih => intro k hk; exact hstep k (by omega) (ih (k + 1) (by omega))
  exact fun k hk => this (N - k) k (by omega)
/-- a loop that counts down to 0 -/
theorem dnLoop {P : Nat → Prop} (hend : P 0) (hstep : ∀ k, P k → P (k + 1)) : ∀ k, P k := by
  intro k
  induction k with
  | zero => exact hend
  | succ k ih => exact hstep k ih
theorem ix8 (w k : Nat) : (8 : Int32) * nI w + nI k = nI (8 * w + k) := by
  rw [show (8 : Int32) = nI 8 from rfl, pk_mul, nI_add]
theorem ixk (c : Nat) {C : Int32} (hC : C = nI c) (k : Nat) : C + nI k = nI (c + k) := by
  rw [hC, nI_add]
theorem wI_eta (h : xH) (a : Nat) : wI h a (yI h a) = h := by
  have : w2 (yI h) a (yI h a) = yI h := by
    funext x y
    unfold w2
    by_cases hx : x = a
    · rw [if_pos hx, hx]
    · rw [if_neg hx]
  unfold wI
  rw [this]
  rfl
theorem wL_eta (h : xH) (a : Nat) : wL h a (yL h a) = h := by
  have : w2 (yL h) a (yL h a) = yL h := by
    funext x y
    unfold w2
    by_cases hx : x = a
    · rw [if_pos hx, hx]
    · rw [if_neg hx]
  unfold wL
  rw [this]
  rfl
theorem w2_u2 {α : Type} (f : Nat → Nat → α) (a j : Nat) (g : Nat → α) (v : α) : u2 (w2 f a g) a j v = w2 f a (u1 g j v) := by
  funext x y
  unfold u2 w2 u1
  by_cases hx : x = a
  · by_cases hy : y = j <;> simp [hx, hy]
  · simp [hx]
theorem w2_w2 {α : Type} (f : Nat → Nat → α) (a : Nat) (g g' : Nat → α) : w2 (w2 f a g) a g' = w2 f a g' := by
  funext x y
  unfold w2
  by_cases hx : x = a <;> simp [hx]
theorem sI_wI (h : xH) (a j : Nat) (g : Nat → Int32) (v : Int32) : sI (wI h a g) a j v = wI h a (u1 g j v) := by
  unfold sI wI
  show (h.1, h.2.1, (u2 (w2 (yI h) a g) a j v, h.2.2.2)) = _
  rw [w2_u2]
theorem sL_wL (h : xH) (a j : Nat) (g : Nat → Int64) (v : Int64) : sL (wL h a g) a j v = wL h a (u1 g j v) := by
  unfold sL wL
  show (h.1, h.2.1, (yI h, u2 (w2 (yL h) a g) a j v, yR h)) = _
  rw [w2_u2]
theorem wI_wI (h : xH) (a : Nat) (g g' : Nat → Int32) : wI (wI h a g) a g' = wI h a g' := by
  unfold wI
  show (h.1, h.2.1, (w2 (w2 (yI h) a g) a g', h.2.2.2)) = _
  rw [w2_w2]
theorem wL_wL (h : xH) (a : Nat) (g g' : Nat → Int64) : wL (wL h a g) a g' = wL h a g' := by
  unfold wL
  show (h.1, h.2.1, (yI h, w2 (w2 (yL h) a g) a g', yR h)) = _
  rw [w2_w2]
theorem sI_is (h : xH) (a j : Nat) (v : Int32) : sI h a j v = wI h a (u1 (yI h a) j v) := by
  rw [← sI_wI, wI_eta]
theorem sL_is (h : xH) (a j : Nat) (v : Int64) : sL h a j v = wL h a (u1 (yL h a) j v) := by
  rw [← sL_wL, wL_eta]
/-- the copy of n places, from sp of f to dp of g -/
def cpy {α : Type} (f g : Nat → α) (sp dp n : Nat) : Nat → α := fun j => if dp ≤ j ∧ j < dp + n then f (sp + (j - dp)) else g j
theorem cpy_0 {α : Type} (f g : Nat → α) (sp dp : Nat) : cpy f g sp dp 0 = g := by
  funext j
  unfold cpy
  rw [if_neg (by omega)]
theorem cpy_1 {α : Type} (f g : Nat → α) (sp dp n : Nat) : u1 (cpy f g sp dp n) (dp + n) (f (sp + n)) = cpy f g sp dp (n + 1) := by
  funext j
  unfold u1 cpy
  by_cases hj : j = dp + n
  · subst hj
    rw [if_pos rfl, if_pos (by omega), Nat.add_sub_cancel_left]
  · rw [if_neg hj]
    by_cases h2 : dp ≤ j ∧ j < dp + n
    · rw [if_pos h2, if_pos (by omega)]
    · rw [if_neg h2, if_neg (by omega)]
