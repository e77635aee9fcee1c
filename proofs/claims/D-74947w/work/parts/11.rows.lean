/-! ROWS over the abstract heap: fields, arrays, new, returns, calls -/
set_option maxRecDepth 100000
section GROWS
variable {Z : xZ} {X : xX} {cc : ByteArray} {own : String} {nL d : Nat} {ret : Option FieldType} {nm : String} {kc ks pc q : Nat} {E : List (Option AV)} {st : List AV} {h : xH}
theorem fV_I (h : xH) {f : Nat} (hk : xFK f = 0) (a : Nat) : fV h f a = vi (xI h f a) := by unfold fV; rw [if_pos hk]
theorem fV_L (h : xH) {f : Nat} (hk : xFK f = 1) (a : Nat) : fV h f a = vl (xL h f a) := by unfold fV; rw [hk]; rfl
theorem fV_R (h : xH) {f : Nat} (hk : xFK f = 2) (a : Nat) : fV h f a = vr (xR h f a) := by unfold fV; rw [hk]; rfl
theorem g_getI (M : MX Z X cc own nL d ret nm) {ix f t a : Nat} (hd : decode cc pc = .ok (.getfield ix, 3)) (hp : pc + 3 = q) (hl : xlk own ix f) (ht : xt h a = t) (hv : decide (0 < t % 100) && decide (t % 100 < xNT) && (xCF (t % 100)).contains f = true) (hk : xFK f = 0) (k : G Z X kc ks q E (vi (xI h f a) :: st) h) : G Z X kc ks pc E (vr a :: st) h := by
  subst hp
  obtain ⟨p, e, R, s, m, args, below, meth, c, Q, h0⟩ := X
  intro H locs ls cells slots r1 r2 r3 r4 r5 r6
  refine x_get M.1 M.2.1 M.2.2.2.1 M.2.2.2.2.1 M.2.2.2.2.2.2.2.1 r1 hl ht hv hd ?_
  rw [fV_I h hk]
  exact k H locs ls cells slots r1 r2 r3 r4 r5 r6
theorem g_getL (M : MX Z X cc own nL d ret nm) {ix f t a : Nat} (hd : decode cc pc = .ok (.getfield ix, 3)) (hp : pc + 3 = q) (hl : xlk own ix f) (ht : xt h a = t) (hv : decide (0 < t % 100) && decide (t % 100 < xNT) && (xCF (t % 100)).contains f = true) (hk : xFK f = 1) (k : G Z X kc ks q E (vl (xL h f a) :: st) h) : G Z X kc ks pc E (vr a :: st) h := by
  subst hp
  obtain ⟨p, e, R, s, m, args, below, meth, c, Q, h0⟩ := X
  intro H locs ls cells slots r1 r2 r3 r4 r5 r6
  refine x_get M.1 M.2.1 M.2.2.2.1 M.2.2.2.2.1 M.2.2.2.2.2.2.2.1 r1 hl ht hv hd ?_
  rw [fV_L h hk]
  exact k H locs ls cells slots r1 r2 r3 r4 r5 r6
theorem g_getR (M : MX Z X cc own nL d ret nm) {ix f t a : Nat} (hd : decode cc pc = .ok (.getfield ix, 3)) (hp : pc + 3 = q) (hl : xlk own ix f) (ht : xt h a = t) (hv : decide (0 < t % 100) && decide (t % 100 < xNT) && (xCF (t % 100)).contains f = true) (hk : xFK f = 2) (k : G Z X kc ks q E (vr (xR h f a) :: st) h) : G Z X kc ks pc E (vr a :: st) h := by
  subst hp
  obtain ⟨p, e, R, s, m, args, below, meth, c, Q, h0⟩ := X
  intro H locs ls cells slots r1 r2 r3 r4 r5 r6
  refine x_get M.1 M.2.1 M.2.2.2.1 M.2.2.2.2.1 M.2.2.2.2.2.2.2.1 r1 hl ht hv hd ?_
  rw [fV_R h hk]
  exact k H locs ls cells slots r1 r2 r3 r4 r5 r6
theorem fV_pI (h : xH) {f : Nat} (hk : xFK f = 0) (a : Nat) (v : Int32) : (∀ g b, ¬ (g = f ∧ b = a) → fV (pI h f a v) g b = fV h g b) ∧ fV (pI h f a v) f a = vi v := by
  refine ⟨fun g b hgb => ?_, ?_⟩
  · simp only [fV, xI_pI, xL_pI, xR_pI, if_neg hgb]
  · simp [fV, xI_pI, hk]
theorem fV_pL (h : xH) {f : Nat} (hk : xFK f = 1) (a : Nat) (v : Int64) : (∀ g b, ¬ (g = f ∧ b = a) → fV (pL h f a v) g b = fV h g b) ∧ fV (pL h f a v) f a = vl v := by
  refine ⟨fun g b hgb => ?_, ?_⟩
  · simp only [fV, xI_pL, xL_pL, xR_pL, if_neg hgb]
  · simp [fV, xL_pL, hk]
theorem fV_pR (h : xH) {f : Nat} (hk : xFK f = 2) (a v : Nat) : (∀ g b, ¬ (g = f ∧ b = a) → fV (pR h f a v) g b = fV h g b) ∧ fV (pR h f a v) f a = vr v := by
  refine ⟨fun g b hgb => ?_, ?_⟩
  · simp only [fV, xI_pR, xL_pR, xR_pR, if_neg hgb]
  · simp [fV, xR_pR, hk]
abbrev putOk (own nm : String) (t f : Nat) : Prop := decide (0 < t) && decide (t < xNT) && (xCF t).contains f && ((!(xFT f).2.2.2) || (decide (nm = "<init>") && decide ((xFT f).1 = own))) = true
/-- a field of kind int: int, or with hn a byte or boolean -/
theorem g_putI (M : MX Z X cc own nL d ret nm) {ix f t a : Nat} {v : Int32} (hd : decode cc pc = .ok (.putfield ix, 3)) (hp : pc + 3 = q) (hl : xlk own ix f) (ht : xt h a = t) (hv : putOk own nm t f) (hk : xFK f = 0) (hn : narrow (xTY f) (.int v) = .int v ∧ fits (xTY f) (.int v) = true) (k : G Z X kc ks q E st (pI h f a v)) : G Z X kc ks pc E (vi v :: vr a :: st) h := by
  subst hp
  obtain ⟨p, e, R, s, m, args, below, meth, c, Q, h0⟩ := X
  intro H locs ls cells slots r1 r2 r3 r4 r5 r6
  obtain ⟨z5, z6⟩ := fV_pI h hk a v
  have hv2 : decide (0 < t) && decide (t < xNT) && (xCF t).contains f && ((!(xFT f).2.2.2) || (decide (meth.name = "<init>") && decide ((xFT f).1 = own))) = true := by rw [M.2.2.2.2.2.2.2.2.2.1]; exact hv
  exact x_put (v := vi v) M.1 M.2.1 M.2.2.2.1 M.2.2.2.2.1 M.2.2.2.2.2.2.2.1 r1 r2 hl ht hv2 hn.1 hn.2 hd (h' := pI h f a v) rfl rfl rfl (fun _ _ _ => rfl) z5 z6 (fun H' locs' r1' r2' => k H' locs' ls cells slots r1' r2' r3 r4 r5 (r6.same rfl rfl rfl))
theorem g_putL (M : MX Z X cc own nL d ret nm) {ix f t a : Nat} {v : Int64} (hd : decode cc pc = .ok (.putfield ix, 3)) (hp : pc + 3 = q) (hl : xlk own ix f) (ht : xt h a = t) (hv : putOk own nm t f) (hk : xFK f = 1) (hty : xTY f = .long) (k : G Z X kc ks q E st (pL h f a v)) : G Z X kc ks pc E (vl v :: vr a :: st) h := by
  subst hp
  obtain ⟨p, e, R, s, m, args, below, meth, c, Q, h0⟩ := X
  intro H locs ls cells slots r1 r2 r3 r4 r5 r6
  obtain ⟨z5, z6⟩ := fV_pL h hk a v
  have hv2 : decide (0 < t) && decide (t < xNT) && (xCF t).contains f && ((!(xFT f).2.2.2) || (decide (meth.name = "<init>") && decide ((xFT f).1 = own))) = true := by rw [M.2.2.2.2.2.2.2.2.2.1]; exact hv
  exact x_put (v := vl v) M.1 M.2.1 M.2.2.2.1 M.2.2.2.2.1 M.2.2.2.2.2.2.2.1 r1 r2 hl ht hv2 (by rw [hty]; rfl) (by rw [hty]; rfl) hd (h' := pL h f a v) rfl rfl rfl (fun _ _ _ => rfl) z5 z6 (fun H' locs' r1' r2' => k H' locs' ls cells slots r1' r2' r3 r4 r5 (r6.same rfl rfl rfl))
theorem nar_rv {ty : FieldType} (hty : ty.isReference = true) (a : Nat) : narrow ty (rv a) = rv a ∧ fits ty (rv a) = true := by
  cases a <;> cases ty <;> first | (cases hty; done) | exact ⟨rfl, rfl⟩
theorem g_putR (M : MX Z X cc own nL d ret nm) {ix f t a v : Nat} (hd : decode cc pc = .ok (.putfield ix, 3)) (hp : pc + 3 = q) (hl : xlk own ix f) (ht : xt h a = t) (hv : putOk own nm t f) (hk : xFK f = 2) (hty : (xTY f).isReference = true) (k : G Z X kc ks q E st (pR h f a v)) : G Z X kc ks pc E (vr v :: vr a :: st) h := by
  subst hp
  obtain ⟨p, e, R, s, m, args, below, meth, c, Q, h0⟩ := X
  intro H locs ls cells slots r1 r2 r3 r4 r5 r6
  obtain ⟨z5, z6⟩ := fV_pR h hk a v
  obtain ⟨n1, n2⟩ := nar_rv hty v
  have hv2 : decide (0 < t) && decide (t < xNT) && (xCF t).contains f && ((!(xFT f).2.2.2) || (decide (meth.name = "<init>") && decide ((xFT f).1 = own))) = true := by rw [M.2.2.2.2.2.2.2.2.2.1]; exact hv
  exact x_put (v := vr v) M.1 M.2.1 M.2.2.2.1 M.2.2.2.2.1 M.2.2.2.2.2.2.2.1 r1 r2 hl ht hv2 n1 n2 hd (h' := pR h f a v) rfl rfl rfl (fun _ _ _ => rfl) z5 z6 (fun H' locs' r1' r2' => k H' locs' ls cells slots r1' r2' r3 r4 r5 (r6.same rfl rfl rfl))
/-- an index in range -/
abbrev ixOk (i : Int32) (n : Nat) : Prop := vp_in i n
theorem ixOk.lt {i : Int32} {n : Nat} (h : ixOk i n) : i.toNatClampNeg < n := Nat.not_le.mp fun q => h (Or.inr q)
theorem aV_I (h : xH) {t : Nat} (hk : aK t = 0) (a j : Nat) : aV h t a j = vi (yI h a j) := by unfold aV; rw [if_pos hk]
theorem aV_L (h : xH) {t : Nat} (hk : aK t = 1) (a j : Nat) : aV h t a j = vl (yL h a j) := by unfold aV; rw [hk]; rfl
theorem aV_R (h : xH) {t : Nat} (hk : aK t = 2) (a j : Nat) : aV h t a j = vr (yR h a j) := by unfold aV; rw [hk]; rfl
theorem g_alen (M : MX Z X cc own nL d ret nm) {t a : Nat} (hd : decode cc pc = .ok (.arraylength, 1)) (hp : pc + 1 = q) (ht : xt h a = t) (hv : decide (60 ≤ t % 100) && decide (t % 100 < 67) = true) (k : G Z X kc ks q E (vi (nI (xn h a)) :: st) h) : G Z X kc ks pc E (vr a :: st) h := by
  subst hp
  simp only [Bool.and_eq_true, decide_eq_true_eq] at hv
  obtain ⟨p, e, R, s, m, args, below, meth, c, Q, h0⟩ := X
  intro H locs ls cells slots r1 r2 r3 r4 r5 r6
  obtain ⟨n, rfl, -, kk⟩ := r1.cell ht (by intro z; rw [z] at hv; exact absurd hv.1 (by decide))
  exact W.alen (n := nI (xn h (n + 1))) M.1 M.2.1 (kk.arr hv.1) ((M.2.2.2.2.2.2.2.1.2.2.1 _ hv.1 hv.2).1 _ _) (by rw [arrV_size] <;> rfl) rfl rfl hd (k H locs ls cells slots r1 r2 r3 r4 r5 r6)
theorem x_ald {H : Heap} (r1 : Rep Z h H) {a n : Nat} {i : Int32} {t : Nat} (kk : okC Z h H t a n) (ht : 60 ≤ t) (hi : ixOk i (xn h a)) : H[n]? = some (arrV (zC Z t) (xn h a) (fun j => tv (aV h t a j))) ∧ ¬ (i < 0 ∨ (arrV (zC Z t) (xn h a) (fun j => tv (aV h t a j))).slots.size ≤ i.toNatClampNeg) ∧ (arrV (zC Z t) (xn h a) (fun j => tv (aV h t a j))).slots[i.toNatClampNeg]? = some (tv (aV h t a i.toNatClampNeg)) := by
  refine ⟨kk.arr ht, ?_, ?_⟩
  · rw [arrV_size]; exact hi
  · rw [arrV_read _ _ hi.lt]
theorem g_iald (M : MX Z X cc own nL d ret nm) {t a : Nat} {i : Int32} (hd : decode cc pc = .ok (.iaload, 1)) (hp : pc + 1 = q) (ht : xt h a = t) (hv : t % 100 = 60) (hi : ixOk i (xn h a)) (k : G Z X kc ks q E (vi (yI h a i.toNatClampNeg) :: st) h) : G Z X kc ks pc E (vi i :: vr a :: st) h := by
  subst hp
  obtain ⟨p, e, R, s, m, args, below, meth, c, Q, h0⟩ := X
  intro H locs ls cells slots r1 r2 r3 r4 r5 r6
  obtain ⟨n, rfl, -, kk⟩ := r1.cell ht (by intro z; rw [z] at hv; exact absurd hv (by decide))
  rw [hv] at kk
  obtain ⟨w1, w2, w3⟩ := x_ald r1 kk (by decide) hi
  exact W.iald (v := .int _) M.1 M.2.1 w1 ((M.2.2.2.2.2.2.2.1.2.2.1 60 (by decide) (by decide)).1 _ _) (fun z => by cases z) w2 w3 rfl rfl hd (k H locs ls cells slots r1 r2 r3 r4 r5 r6)
theorem g_lald (M : MX Z X cc own nL d ret nm) {t a : Nat} {i : Int32} (hd : decode cc pc = .ok (.laload, 1)) (hp : pc + 1 = q) (ht : xt h a = t) (hv : t % 100 = 61) (hi : ixOk i (xn h a)) (k : G Z X kc ks q E (vl (yL h a i.toNatClampNeg) :: st) h) : G Z X kc ks pc E (vi i :: vr a :: st) h := by
  subst hp
  obtain ⟨p, e, R, s, m, args, below, meth, c, Q, h0⟩ := X
  intro H locs ls cells slots r1 r2 r3 r4 r5 r6
  obtain ⟨n, rfl, -, kk⟩ := r1.cell ht (by intro z; rw [z] at hv; exact absurd hv (by decide))
  rw [hv] at kk
  obtain ⟨w1, w2, w3⟩ := x_ald r1 kk (by decide) hi
  exact W.lald (v := .long _) M.1 M.2.1 w1 ((M.2.2.2.2.2.2.2.1.2.2.1 61 (by decide) (by decide)).1 _ _) (fun z => by cases z) w2 w3 rfl rfl hd (k H locs ls cells slots r1 r2 r3 r4 r5 r6)
theorem g_bald (M : MX Z X cc own nL d ret nm) {t a : Nat} {i : Int32} (hd : decode cc pc = .ok (.baload, 1)) (hp : pc + 1 = q) (ht : xt h a = t) (hv : t % 100 = 62) (hi : ixOk i (xn h a)) (k : G Z X kc ks q E (vi (yI h a i.toNatClampNeg) :: st) h) : G Z X kc ks pc E (vi i :: vr a :: st) h := by
  subst hp
  obtain ⟨p, e, R, s, m, args, below, meth, c, Q, h0⟩ := X
  intro H locs ls cells slots r1 r2 r3 r4 r5 r6
  obtain ⟨n, rfl, -, kk⟩ := r1.cell ht (by intro z; rw [z] at hv; exact absurd hv (by decide))
  rw [hv] at kk
  obtain ⟨w1, w2, w3⟩ := x_ald r1 kk (by decide) hi
  exact W.bald (v := .int _) M.1 M.2.1 w1 ((M.2.2.2.2.2.2.2.1.2.2.1 62 (by decide) (by decide)).1 _ _) (fun z => by cases z) w2 w3 rfl rfl hd (k H locs ls cells slots r1 r2 r3 r4 r5 r6)
theorem g_zald (M : MX Z X cc own nL d ret nm) {t a : Nat} {i : Int32} (hd : decode cc pc = .ok (.baload, 1)) (hp : pc + 1 = q) (ht : xt h a = t) (hv : t % 100 = 63) (hi : ixOk i (xn h a)) (k : G Z X kc ks q E (vi (yI h a i.toNatClampNeg) :: st) h) : G Z X kc ks pc E (vi i :: vr a :: st) h := by
  subst hp
  obtain ⟨p, e, R, s, m, args, below, meth, c, Q, h0⟩ := X
  intro H locs ls cells slots r1 r2 r3 r4 r5 r6
  obtain ⟨n, rfl, -, kk⟩ := r1.cell ht (by intro z; rw [z] at hv; exact absurd hv (by decide))
  rw [hv] at kk
  obtain ⟨w1, w2, w3⟩ := x_ald r1 kk (by decide) hi
  exact W.zald (v := .int _) M.1 M.2.1 w1 ((M.2.2.2.2.2.2.2.1.2.2.1 63 (by decide) (by decide)).1 _ _) (fun z => by cases z) w2 w3 rfl rfl hd (k H locs ls cells slots r1 r2 r3 r4 r5 r6)
theorem xAT_ref {t : Nat} (h1 : 64 ≤ t) (h2 : t < 67) : ∃ C, xAT t = .object C := by
  have : t = 64 ∨ t = 65 ∨ t = 66 := by omega
  rcases this with rfl | rfl | rfl <;> exact ⟨_, rfl⟩
theorem aK_ref {t : Nat} (h1 : 64 ≤ t) : aK t = 2 := by
  unfold aK
  rw [if_neg (by omega), if_neg (by omega)]
theorem g_aald (M : MX Z X cc own nL d ret nm) {t a : Nat} {i : Int32} (hd : decode cc pc = .ok (.aaload, 1)) (hp : pc + 1 = q) (ht : xt h a = t) (hv : decide (64 ≤ t % 100) && decide (t % 100 < 67) = true) (hi : ixOk i (xn h a)) (k : G Z X kc ks q E (vr (yR h a i.toNatClampNeg) :: st) h) : G Z X kc ks pc E (vi i :: vr a :: st) h := by
  subst hp
  simp only [Bool.and_eq_true, decide_eq_true_eq] at hv
  obtain ⟨p, e, R, s, m, args, below, meth, c, Q, h0⟩ := X
  intro H locs ls cells slots r1 r2 r3 r4 r5 r6
  obtain ⟨n, rfl, -, kk⟩ := r1.cell ht (by intro z; rw [z] at hv; exact absurd hv.1 (by decide))
  obtain ⟨w1, w2, w3⟩ := x_ald r1 kk (by omega) hi
  obtain ⟨C, hC⟩ := xAT_ref hv.1 hv.2
  have h9 := (M.2.2.2.2.2.2.2.1.2.2.1 (t % 100) (by omega) hv.2).1 (xn h (n + 1)) (fun j => tv (aV h (t % 100) (n + 1) j))
  rw [hC] at h9
  rw [aV_R h (aK_ref hv.1)] at w3
  exact W.aald (v := rv _) (ty := .object C) M.1 M.2.1 w1 h9 rfl (fun z => by cases z) w2 w3 rfl rfl hd (k H locs ls cells slots r1 r2 r3 r4 r5 r6)
theorem aV_sI (h : xH) (a j : Nat) (v : Int32) : (∀ t b i, ¬ (b = a ∧ i = j) → aV (sI h a j v) t b i = aV h t b i) ∧ ∀ t, aK t = 0 → aV (sI h a j v) t a j = vi v := by
  refine ⟨fun t b i hbi => ?_, fun t ht => ?_⟩
  · simp only [aV, yI_sI, yL_sI, yR_sI, if_neg hbi]
  · simp [aV, yI_sI, ht]
theorem aV_sL (h : xH) (a j : Nat) (v : Int64) : (∀ t b i, ¬ (b = a ∧ i = j) → aV (sL h a j v) t b i = aV h t b i) ∧ ∀ t, aK t = 1 → aV (sL h a j v) t a j = vl v := by
  refine ⟨fun t b i hbi => ?_, fun t ht => ?_⟩
  · simp only [aV, yI_sL, yL_sL, yR_sL, if_neg hbi]
  · simp [aV, yL_sL, ht]
theorem aV_sR (h : xH) (a j v : Nat) : (∀ t b i, ¬ (b = a ∧ i = j) → aV (sR h a j v) t b i = aV h t b i) ∧ ∀ t, aK t = 2 → aV (sR h a j v) t a j = vr v := by
  refine ⟨fun t b i hbi => ?_, fun t ht => ?_⟩
  · simp only [aV, yI_sR, yL_sR, yR_sR, if_neg hbi]
  · simp [aV, yR_sR, ht]
theorem g_iast (M : MX Z X cc own nL d ret nm) {a : Nat} {i x : Int32} (hd : decode cc pc = .ok (.iastore, 1)) (hp : pc + 1 = q) (ht : xt h a = 60) (hi : ixOk i (xn h a)) (k : G Z X kc ks q E st (sI h a i.toNatClampNeg x)) : G Z X kc ks pc E (vi x :: vi i :: vr a :: st) h := by
  subst hp
  obtain ⟨p, e, R, s, m, args, below, meth, c, Q, h0⟩ := X
  intro H locs ls cells slots r1 r2 r3 r4 r5 r6
  obtain ⟨n, rfl, kB, kk⟩ := r1.cell ht (by decide)
  obtain ⟨w1, w2, -⟩ := x_ald r1 kk (by decide) hi
  refine W.iast M.1 M.2.1 w1 ((M.2.2.2.2.2.2.2.1.2.2.1 60 (by decide) (by decide)).1 _ _) (fun z => by cases z) w2 rfl rfl hd fun H' e1 e2 e3 => ?_
  rw [arrV_store] at e1
  exact k H' _ ls cells slots (r1.set (v := vi x) ht (by decide) e1 e2 e3 rfl rfl rfl (fun _ _ => rfl) (aV_sI h _ _ x).1 ((aV_sI h _ _ x).2 60 rfl)) (r2.put e2 e3 (kB (by decide))) r3 r4 r5 (r6.same rfl rfl rfl)
theorem g_last (M : MX Z X cc own nL d ret nm) {a : Nat} {i : Int32} {x : Int64} (hd : decode cc pc = .ok (.lastore, 1)) (hp : pc + 1 = q) (ht : xt h a = 61) (hi : ixOk i (xn h a)) (k : G Z X kc ks q E st (sL h a i.toNatClampNeg x)) : G Z X kc ks pc E (vl x :: vi i :: vr a :: st) h := by
  subst hp
  obtain ⟨p, e, R, s, m, args, below, meth, c, Q, h0⟩ := X
  intro H locs ls cells slots r1 r2 r3 r4 r5 r6
  obtain ⟨n, rfl, kB, kk⟩ := r1.cell ht (by decide)
  obtain ⟨w1, w2, -⟩ := x_ald r1 kk (by decide) hi
  refine W.last M.1 M.2.1 w1 ((M.2.2.2.2.2.2.2.1.2.2.1 61 (by decide) (by decide)).1 _ _) (fun z => by cases z) w2 rfl rfl hd fun H' e1 e2 e3 => ?_
  rw [arrV_store] at e1
  exact k H' _ ls cells slots (r1.set (v := vl x) ht (by decide) e1 e2 e3 rfl rfl rfl (fun _ _ => rfl) (aV_sL h _ _ x).1 ((aV_sL h _ _ x).2 61 rfl)) (r2.put e2 e3 (kB (by decide))) r3 r4 r5 (r6.same rfl rfl rfl)
theorem nar_b (x : Int32) : narrow .byte (.int x) = .int (vp_nar .byte x) := by rw [vp_nar_byte]; rfl
theorem nar_z (x : Int32) : narrow .boolean (.int x) = .int (vp_nar .boolean x) := by rfl
theorem g_bast (M : MX Z X cc own nL d ret nm) {a : Nat} {i x : Int32} (hd : decode cc pc = .ok (.bastore, 1)) (hp : pc + 1 = q) (ht : xt h a = 62) (hi : ixOk i (xn h a)) (k : G Z X kc ks q E st (sI h a i.toNatClampNeg (vp_nar .byte x))) : G Z X kc ks pc E (vi x :: vi i :: vr a :: st) h := by
  subst hp
  obtain ⟨p, e, R, s, m, args, below, meth, c, Q, h0⟩ := X
  intro H locs ls cells slots r1 r2 r3 r4 r5 r6
  obtain ⟨n, rfl, kB, kk⟩ := r1.cell ht (by decide)
  obtain ⟨w1, w2, -⟩ := x_ald r1 kk (by decide) hi
  refine W.bast M.1 M.2.1 w1 ((M.2.2.2.2.2.2.2.1.2.2.1 62 (by decide) (by decide)).1 _ _) (fun z => by cases z) w2 rfl rfl hd fun H' e1 e2 e3 => ?_
  rw [arrV_store, nar_b] at e1
  exact k H' _ ls cells slots (r1.set (v := vi _) ht (by decide) e1 e2 e3 rfl rfl rfl (fun _ _ => rfl) (aV_sI h _ _ _).1 ((aV_sI h _ _ _).2 62 rfl)) (r2.put e2 e3 (kB (by decide))) r3 r4 r5 (r6.same rfl rfl rfl)
theorem g_zast (M : MX Z X cc own nL d ret nm) {a : Nat} {i x : Int32} (hd : decode cc pc = .ok (.bastore, 1)) (hp : pc + 1 = q) (ht : xt h a = 63) (hi : ixOk i (xn h a)) (k : G Z X kc ks q E st (sI h a i.toNatClampNeg (vp_nar .boolean x))) : G Z X kc ks pc E (vi x :: vi i :: vr a :: st) h := by
  subst hp
  obtain ⟨p, e, R, s, m, args, below, meth, c, Q, h0⟩ := X
  intro H locs ls cells slots r1 r2 r3 r4 r5 r6
  obtain ⟨n, rfl, kB, kk⟩ := r1.cell ht (by decide)
  obtain ⟨w1, w2, -⟩ := x_ald r1 kk (by decide) hi
  refine W.zast M.1 M.2.1 w1 ((M.2.2.2.2.2.2.2.1.2.2.1 63 (by decide) (by decide)).1 _ _) (fun z => by cases z) w2 rfl rfl hd fun H' e1 e2 e3 => ?_
  rw [arrV_store, nar_z] at e1
  exact k H' _ ls cells slots (r1.set (v := vi _) ht (by decide) e1 e2 e3 rfl rfl rfl (fun _ _ => rfl) (aV_sI h _ _ _).1 ((aV_sI h _ _ _).2 63 rfl)) (r2.put e2 e3 (kB (by decide))) r3 r4 r5 (r6.same rfl rfl rfl)
/-- null, or an object of tag tv whose class fits, is stored into an array of references -/
theorem g_aast (M : MX Z X cc own nL d ret nm) {a v t tw : Nat} {C : String} {i : Int32} (hd : decode cc pc = .ok (.aastore, 1)) (hp : pc + 1 = q) (ht : xt h a = t) (hv : decide (64 ≤ t) && decide (t < 67) = true) (hC : xAT t = .object C) (hi : ixOk i (xn h a)) (hw : v = 0 ∨ (xt h v = tw ∧ 0 < tw % 100 ∧ tw % 100 < xNT ∧ (xCN (tw % 100) = C ∨ Cond.castable (xCN (tw % 100)) C ∈ xw))) (k : G Z X kc ks q E st (sR h a i.toNatClampNeg v)) : G Z X kc ks pc E (vr v :: vi i :: vr a :: st) h := by
  subst hp
  simp only [Bool.and_eq_true, decide_eq_true_eq] at hv
  have hm : t % 100 = t := Nat.mod_eq_of_lt (by omega)
  obtain ⟨p, e, R, s, m, args, below, meth, c, Q, h0⟩ := X
  intro H locs ls cells slots r1 r2 r3 r4 r5 r6
  obtain ⟨n, rfl, kB, kk⟩ := r1.cell ht (by omega)
  rw [hm] at kk
  obtain ⟨w1, w2, -⟩ := x_ald r1 kk (by omega) hi
  have hKN : KN Z s := M.2.2.2.2.2.2.2.1
  have h9 := hKN.2.2.1 t (by omega) hv.2
  rw [hC] at h9
  have fin : ∀ H' : Heap, H'[n]? = some ((arrV (zC Z t) (xn h (n + 1)) (fun j => tv (aV h t (n + 1) j))).setSlot i.toNatClampNeg (rv v)) → H'.size = H.size → (∀ q, q ≠ n → H'[q]? = H[q]?) → W p (zL Z) e R s m args below meth c H' (locs ++ [⟨n, i.toNatClampNeg⟩]) cells slots Q (F0 m (pc + 1) ls (st.map tv)) := by
    intro H' e1 e2 e3
    rw [arrV_store] at e1
    exact k H' _ ls cells slots (r1.set (v := vr v) ht (by omega) (by rw [hm]; exact e1) e2 e3 rfl rfl rfl (fun _ _ => rfl) (aV_sR h _ _ v).1 ((aV_sR h _ _ v).2 _ (aK_ref (by omega)))) (r2.put e2 e3 (kB (by omega))) r3 r4 r5 (r6.same rfl rfl rfl)
  cases v with
  | zero => exact va_WaastN M.1 M.2.1 w1 (h9.1 _ _) (fun z => by cases z) w2 rfl rfl hd fin
  | succ v =>
    rcases hw with hw | ⟨hw1, hw2, hw3, hw4⟩
    · exact absurd hw (Nat.succ_ne_zero _)
    obtain ⟨n', e', -, kv⟩ := r1.cell hw1 (by intro z; rw [z] at hw2; exact absurd hw2 (by decide))
    cases Nat.succ.inj e'
    obtain ⟨cellV, g1, g2, g3, -⟩ := kv.obj hw3
    have hcls := hKN.1 _ hw2 hw3
    obtain ⟨kA, comp, k1, k2, k3, -⟩ := h9.2
    obtain ⟨kE, hkE, -⟩ := Vm.findClass_spec k3
    obtain ⟨kC, hkC, -⟩ := hcls.2
    have hasg : s.vm.assignable (zC Z (tw % 100)) comp = true := by
      rcases hw4 with hw4 | hw4
      · rw [hw4] at hcls
        cases hcls.1.symm.trans k3
        exact va_assign hcls
      · obtain ⟨c0, t1, f1, f2, f3⟩ := Cond.castable_spec (va_Nw.use (A := args) rfl (hKN.2.2.2.1 _ hw4))
        cases hcls.1.symm.trans f1
        cases k3.symm.trans f2
        exact f3
    exact W.aast M.1 M.2.1 w1 (fun q h => by cases h) (fun h => by cases h) k1 k2 rfl hkE ⟨fun z => hi (Or.inl z), by rw [arrV_size]; exact hi.lt⟩ g1 (fun q h => by rw [g3] at h; cases h) (by rw [g2]; exact hkC) (by rw [g2]; exact hasg) rfl rfl hd fin
theorem g_new (M : MX Z X cc own nL d ret nm) {ix t n : Nat} (hd : decode cc pc = .ok (.new ix, 3)) (hp : pc + 3 = q) (hl : Cond.classLink own ix (xCN t) ∈ lw_all) (hin : Cond.instantiable (xCN t) n ∈ lw_all) (hini : Cond.initialized (xCN t) ∈ lw_all) (hv : decide (0 < t) && decide (t < xNT) = true) (hc : 1 ≤ kc) (hs : n ≤ ks) (k : G Z X (kc - 1) (ks - n) q E (vr (xz h + 1) :: st) (nO h t)) : G Z X kc ks pc E st h := by
  subst hp
  obtain ⟨p, e, R, s, m, args, below, meth, c, Q, h0⟩ := X
  intro H locs ls cells slots r1 r2 r3 r4 r5 r6
  exact x_new M.1 M.2.1 M.2.2.2.1 M.2.2.2.2.1 M.2.2.2.2.2.2.2.1 r1 r2 hl hin hini hv (by omega) (by omega) hd (fun H' r1' r2' => k H' locs ls (cells + 1) (slots + n) r1' r2' r3 (by omega) (by omega) (r6.born r1.wf rfl (fun b hb => by rw [xt_nO, if_neg hb]) (fun b hb => rfl)))
theorem g_newA (M : MX Z X cc own nL d ret nm) {atype : ArrayType} {t : Nat} {n : Int32} (hd : decode cc pc = .ok (.newarray atype, 2)) (hp : pc + 2 = q) (ha : Cond.arrayClass (xAT t) ∈ lw_all) (hty : newarray.typeOf atype = xAT t) (hv : decide (60 ≤ t) && decide (t < 64) = true) (hn : 0 ≤ n) {N : Nat} (hN : n.toNatClampNeg = N) (hby : N ≤ 1000000) (hc : 1 ≤ kc) (hs : N ≤ ks) (k : G Z X (kc - 1) (ks - N) q E (vr (xz h + 1) :: st) (nA h t N)) : G Z X kc ks pc E (vi n :: st) h := by
  subst hp
  subst hN
  obtain ⟨p, e, R, s, m, args, below, meth, c, Q, h0⟩ := X
  intro H locs ls cells slots r1 r2 r3 r4 r5 r6
  exact x_newA M.1 M.2.1 M.2.2.2.2.1 M.2.2.2.2.2.2.2.1 r1 r2 ha hty hv hn hby (by omega) (by omega) hd (fun H' r1' r2' => k H' locs ls (cells + 1) (slots + n.toNatClampNeg) r1' r2' r3 (by omega) (by omega) (r6.born r1.wf rfl (fun b hb => by rw [xt_nA, if_neg hb]) (fun b hb => by rw [xn_nA, if_neg hb])))
theorem g_newR (M : MX Z X cc own nL d ret nm) {ix t : Nat} {C : String} {n : Int32} (hd : decode cc pc = .ok (.anewarray ix, 3)) (hp : pc + 3 = q) (hl : Cond.classLink own ix C ∈ lw_all) (ha : Cond.arrayOver (.object C) ∈ xw) (hty : xAT t = .object C) (hv : decide (64 ≤ t) && decide (t < 67) = true) (hn : 0 ≤ n) {N : Nat} (hN : n.toNatClampNeg = N) (hby : N ≤ 1000000) (hc : 1 ≤ kc) (hs : N ≤ ks) (k : G Z X (kc - 1) (ks - N) q E (vr (xz h + 1) :: st) (nA h t N)) : G Z X kc ks pc E (vi n :: st) h := by
  subst hp
  subst hN
  obtain ⟨p, e, R, s, m, args, below, meth, c, Q, h0⟩ := X
  intro H locs ls cells slots r1 r2 r3 r4 r5 r6
  exact x_newR M.1 M.2.1 M.2.2.2.1 M.2.2.2.2.1 M.2.2.2.2.2.2.2.1 r1 r2 hl ha hty hv hn hby (by omega) (by omega) hd (fun H' r1' r2' => k H' locs ls (cells + 1) (slots + n.toNatClampNeg) r1' r2' r3 (by omega) (by omega) (r6.born r1.wf rfl (fun b hb => by rw [xt_nA, if_neg hb]) (fun b hb => by rw [xn_nA, if_neg hb])))
/-- less room than there is -/
theorem G.less {kc' ks' : Nat} (hc : kc' ≤ kc) (hs : ks' ≤ ks) (k : G Z X kc' ks' pc E st h) : G Z X kc ks pc E st h := by
  obtain ⟨p, e, R, s, m, args, below, meth, c, Q, h0⟩ := X
  intro H locs ls cells slots r1 r2 r3 r4 r5 r6
  exact k H locs ls cells slots r1 r2 r3 (by omega) (by omega) r6
/-- what is there lies below the heap's size: to be had at any time -/
theorem g_wf (k : wf h → G Z X kc ks pc E st h) : G Z X kc ks pc E st h := by
  obtain ⟨p, e, R, s, m, args, below, meth, c, Q, h0⟩ := X
  intro H locs ls cells slots r1 r2 r3 r4 r5 r6
  exact k r1.wf H locs ls cells slots r1 r2 r3 r4 r5 r6
end GROWS
