/-! ROWS: fields, arrays, new -/
set_option maxRecDepth 100000
/-- the link of a getfield or putfield: plain, of a nest mate, inherited -/
def xlk (own : String) (ix f : Nat) : Prop := (Cond.fieldLink own ix (xFT f).1 (xFT f).2.1 (xFT f).2.2.1 ∈ lw_all) ∨ (∃ host, Cond.fieldLinkNest own ix (xFT f).1 (xFT f).2.1 (xFT f).2.2.1 host ∈ xw) ∨ (∃ ref, Cond.fieldLink own ix ref (xFT f).2.1 (xFT f).2.2.1 ∈ lw_all ∧ Cond.sameField ref (xFT f).1 (xFT f).2.1 (xFT f).2.2.1 ∈ lw_all)
theorem x_lays {s : State} {args : Array Value} (hts : ∀ w ∈ lw_all, w.before args s = true) {t f : Nat} (ht : t < xNT) (hf : f ∈ xCF t) : (Cond.lays (xCN t) (xFT f).1 (xFT f).2.1 (xFT f).2.2.1).before args s = true ∨ (Cond.laysFinal (xCN t) (xFT f).1 (xFT f).2.1 (xFT f).2.2.1).before args s = true := by
  have h := hts _ (x_lay_ok t ht f hf)
  unfold x_lay at h
  split at h
  · exact Or.inr h
  · exact Or.inl h
theorem x_apart {Z : xZ} {s : State} {args : Array Value} (hts : ∀ w ∈ lw_all, w.before args s = true) (hK : KN Z s) {t f g : Nat} (ht : t < xNT) (hf : f ∈ xCF t) (hg : g ∈ xCF t) (hne : f ≠ g) : zS Z f ≠ zS Z g := by
  obtain ⟨_, _, _, fa, hia, ea⟩ := hK.2.1 f (xCF_lt t ht f hf)
  obtain ⟨_, _, _, fb, hib, eb⟩ := hK.2.1 g (xCF_lt t ht g hg)
  rw [← ea, ← eb]
  refine u_apart (x_lays hts ht hf) (x_lays hts ht hg) hia hib ?_
  rw [(State.fieldFound?_type hia (xTY_ok f (xCF_lt t ht f hf))).1, (State.fieldFound?_type hib (xTY_ok g (xCF_lt t ht g hg))).1]
  exact x_nm t ht f hf g hg hne
theorem Rep.cell {Z : xZ} {h : xH} {H : Heap} (r : Rep Z h H) {a t : Nat} (ht : xt h a = t) (h0 : t ≠ 0) : ∃ n, a = n + 1 ∧ (t < 100 → zB Z ≤ n) ∧ okC Z h H (t % 100) a n := by
  subst ht
  exact r.2.2 a h0
theorem okC.obj {Z : xZ} {h : xH} {H : Heap} {t a n : Nat} (k : okC Z h H t a n) (ht : t < xNT) : ∃ cell : Cell, H[n]? = some cell ∧ cell.cls = zC Z t ∧ cell.vm = .none ∧ ∀ f ∈ xCF t, cell.slots[zS Z f]? = some (tv (fV h f a)) := by
  unfold okC at k
  rw [if_pos (show t < 60 by unfold xNT at ht; omega)] at k
  exact k
theorem okC.arr {Z : xZ} {h : xH} {H : Heap} {t a n : Nat} (k : okC Z h H t a n) (ht : 60 ≤ t) : H[n]? = some (arrV (zC Z t) (xn h a) (fun j => tv (aV h t a j))) := by
  unfold okC at k
  rw [if_neg (by omega)] at k
  exact k
theorem okC.lt {Z : xZ} {h : xH} {H : Heap} {t a n : Nat} (k : okC Z h H t a n) : n < H.size := by
  unfold okC at k
  split at k
  · obtain ⟨cell, h1, -⟩ := k
    exact (Array.getElem?_eq_some_iff.mp h1).1
  · exact (Array.getElem?_eq_some_iff.mp k).1
/-- the cell of another heap picture -/
theorem okC.to {Z : xZ} {h h' : xH} {H H' : Heap} {t a n : Nat} (k : okC Z h H t a n) (hq : H'[n]? = H[n]?) (hn : xn h' a = xn h a) (hf : ∀ f, fV h' f a = fV h f a) (ha : ∀ j, aV h' t a j = aV h t a j) : okC Z h' H' t a n := by
  unfold okC at k ⊢
  split
  · rename_i hlt
    rw [if_pos hlt] at k
    obtain ⟨cell, h1, h2, h3, h4⟩ := k
    exact ⟨cell, by rw [hq]; exact h1, h2, h3, fun f hf9 => by rw [hf]; exact h4 f hf9⟩
  · rename_i hlt
    rw [if_neg hlt] at k
    rw [hq, k, hn]
    congr 2
    funext j
    rw [ha]
section HEAPROWS
variable {p : Program} {e : Env} {R : Room} {s : State} {m : MethodId} {args : Array Value} {below : List Frame} {meth : Method} {c : Code} {H : Heap} {locs : List Loc} {cells slots : Nat} {Q : State → Prop}
variable {Z : xZ} {cc : ByteArray} {pc : Nat} {ls : Array Slot} {rest : List Value} {h : xH} {own : String} {l : Launch}
theorem x_get (hexec : p.tables.exec = Jvm.exec) (hb : c.code = cc) (hown : s.vm.findClass own = some m.cls) (hts : ∀ w ∈ lw_all, w.before args s = true) (hK : KN Z s) (r : Rep Z h H) {ix f t a : Nat} (hl : xlk own ix f) (ht : xt h a = t) (hv : decide (0 < t % 100) && decide (t % 100 < xNT) && (xCF (t % 100)).contains f = true) (hd : decode cc pc = .ok (.getfield ix, 3))
    (kk : W p l e R s m args below meth c H locs cells slots Q (F0 m (pc + 3) ls (tv (fV h f a) :: rest))) : W p l e R s m args below meth c H locs cells slots Q (F0 m pc ls (rv a :: rest)) := by
  simp only [Bool.and_eq_true, decide_eq_true_eq, List.contains_iff_mem] at hv
  obtain ⟨⟨v1, v2⟩, v3⟩ := hv
  obtain ⟨n, rfl, -, k⟩ := r.cell ht (by intro q; rw [q] at v1; exact absurd v1 (by decide))
  obtain ⟨cell, q1, q2, q3, q4⟩ := k.obj v2
  obtain ⟨hfc, kC, hkC, hkind⟩ := hK.1 _ v1 v2
  obtain ⟨cf, kf, fi, fd, hi, hsl⟩ := hK.2.1 f (xCF_lt _ v2 f v3)
  have hst := (u_facts hfc hkC (x_lays hts v2 v3) hi).1
  have hslot : cell.slots[fd.slot]? = some (tv (fV h f (n + 1))) := by rw [hsl]; exact q4 f v3
  have hkn : cell.vm ≠ .unknown := by rw [q3]; exact fun h => by cases h
  rcases hl with hl | ⟨host, hl⟩ | ⟨ref, hl, hsm⟩
  · exact W.getf hexec hb hown (hts _ hl) hi hst q1 hkn hslot rfl rfl hd kk
  · exact va_Wgetf hexec hb hown (va_Nw.use (A := args) rfl (hK.2.2.2.1 _ hl)) hi hst q1 hkn hslot rfl rfl hd kk
  · exact W.getf hexec hb hown (hts _ hl) (u_same (hts _ hsm) _ hi) hst q1 hkn hslot rfl rfl hd kk
/-- a field is written: the picture of the new heap -/
theorem Rep.put {h' : xH} {H' : Heap} {n f t : Nat} {v : AV} {cell : Cell} (hts : ∀ w ∈ lw_all, w.before args s = true) (hK : KN Z s) (r : Rep Z h H) (ht : xt h (n + 1) = t) (v1 : 0 < t) (v2 : t < xNT) (v3 : f ∈ xCF t) (hc : H[n]? = some cell) (e1 : H'[n]? = some (cell.setSlot (zS Z f) (tv v))) (e2 : H'.size = H.size) (e3 : ∀ q, q ≠ n → H'[q]? = H[q]?)
    (z1 : xz h' = xz h) (z2 : xt h' = xt h) (z3 : xn h' = xn h) (z4 : ∀ t b j, aV h' t b j = aV h t b j) (z5 : ∀ g b, ¬ (g = f ∧ b = n + 1) → fV h' g b = fV h g b) (z6 : fV h' f (n + 1) = v) : Rep Z h' H' := by
  refine ⟨by rw [e2, z1]; exact r.1, by rw [z1]; exact r.2.1, fun b hb => ?_⟩
  rw [z2] at hb
  obtain ⟨k, rfl, k1, k2⟩ := r.2.2 b hb
  refine ⟨k, rfl, by rw [z2]; exact k1, ?_⟩
  rw [z2]
  by_cases hk : k = n
  · subst hk
    rw [ht] at k2 ⊢
    have hm : t % 100 = t := Nat.mod_eq_of_lt (by unfold xNT at v2; omega)
    rw [hm] at k2 ⊢
    obtain ⟨cell', q1, q2, q3, q4⟩ := k2.obj v2
    cases hc.symm.trans q1
    unfold okC
    rw [if_pos (show t < 60 by unfold xNT at v2; omega)]
    refine ⟨_, e1, q2, q3, fun g hg => ?_⟩
    by_cases hgf : g = f
    · subst hgf
      rw [z6]
      exact Cell.slots_setSlot_self _ (k2_hasslot (q4 g hg))
    · rw [slot_ne _ _ (x_apart hts hK v2 v3 hg (Ne.symm hgf)), z5 g _ (fun z => hgf z.1)]
      exact q4 g hg
  · exact k2.to (e3 k hk) (by rw [z3]) (fun g => z5 g _ (fun z => hk (Nat.succ.inj z.2))) (fun j => z4 _ _ j)
theorem x_put (hexec : p.tables.exec = Jvm.exec) (hb : c.code = cc) (hown : s.vm.findClass own = some m.cls) (hts : ∀ w ∈ lw_all, w.before args s = true) (hK : KN Z s) (r : Rep Z h H) (hS : va_S (zA Z) s.heap H locs) {ix f t a : Nat} (hl : xlk own ix f) (ht : xt h a = t) (hv : decide (0 < t) && decide (t < xNT) && (xCF t).contains f && ((!(xFT f).2.2.2) || (decide (meth.name = "<init>") && decide ((xFT f).1 = own))) = true) {v : AV} (hn : narrow (xTY f) (tv v) = tv v) (hfit : fits (xTY f) (tv v) = true) (hd : decode cc pc = .ok (.putfield ix, 3))
    {h' : xH} (z1 : xz h' = xz h) (z2 : xt h' = xt h) (z3 : xn h' = xn h) (z4 : ∀ t b j, aV h' t b j = aV h t b j) (z5 : ∀ g b, ¬ (g = f ∧ b = a) → fV h' g b = fV h g b) (z6 : fV h' f a = v)
    (kk : ∀ H' locs', Rep Z h' H' → va_S (zA Z) s.heap H' locs' → W p l e R s m args below meth c H' locs' cells slots Q (F0 m (pc + 3) ls rest)) : W p l e R s m args below meth c H locs cells slots Q (F0 m pc ls (tv v :: rv a :: rest)) := by
  simp only [Bool.and_eq_true, decide_eq_true_eq, List.contains_iff_mem, Bool.or_eq_true, Bool.not_eq_true'] at hv
  obtain ⟨⟨⟨v1, v2⟩, v3⟩, v4⟩ := hv
  have hm : t % 100 = t := Nat.mod_eq_of_lt (by unfold xNT at v2; omega)
  obtain ⟨n, rfl, kB, k⟩ := r.cell ht (Nat.pos_iff_ne_zero.mp v1)
  rw [hm] at k
  obtain ⟨cell, q1, q2, q3, q4⟩ := k.obj v2
  obtain ⟨hfc, kC, hkC, hkind⟩ := hK.1 _ v1 v2
  obtain ⟨cf, kf, fi, fd, hi, hsl⟩ := hK.2.1 f (xCF_lt _ v2 f v3)
  have hty := xTY_ok f (xCF_lt _ v2 f v3)
  have hst := (u_facts hfc hkC (x_lays hts v2 v3) hi).1
  have hA : zA Z n := kB (by unfold xNT at v2; omega)
  have hlt : fd.slot < cell.slots.size := by rw [hsl]; exact k2_hasslot (q4 f v3)
  have kk2 : ∀ H' : Heap, H'[n]? = some (cell.setSlot fd.slot (tv v)) → H'.size = H.size → (∀ q, q ≠ n → H'[q]? = H[q]?) → W p l e R s m args below meth c H' (locs ++ [⟨n, fd.slot⟩]) cells slots Q (F0 m (pc + 3) ls rest) := by
    intro H' e1 e2 e3
    rw [hsl] at e1
    exact kk H' _ (Rep.put hts hK r ht v1 v2 v3 q1 e1 e2 e3 z1 z2 z3 z4 z5 z6) (hS.put e2 e3 hA)
  have hlay := hts _ (x_lay_ok t v2 f v3)
  unfold x_lay at hlay
  cases hfin : (xFT f).2.2.2 with
  | false =>
    rw [if_neg (by rw [hfin]; decide)] at hlay
    have h6 := u_store hfc hkC hkind hlay hi hty hn hfit
    rcases hl with hl | ⟨host, hl⟩ | ⟨ref, hl, hsm⟩
    · exact W.putK hexec hb (f := fd) ⟨hown, hts _ hl, ⟨_, _, _, hi⟩, hst⟩ (by rw [q2]; exact h6) q1 q3 hlt rfl rfl hd kk2
    · exact va_WputK hexec hb (f := fd) hown (va_Nw.use (A := args) rfl (hK.2.2.2.1 _ hl)) hi hst (by rw [q2]; exact h6) q1 q3 hlt rfl rfl hd kk2
    · exact W.putK hexec hb (f := fd) ⟨hown, hts _ hl, ⟨_, _, _, u_same (hts _ hsm) _ hi⟩, hst⟩ (by rw [q2]; exact h6) q1 q3 hlt rfl rfl hd kk2
  | true =>
    rw [if_pos hfin] at hlay
    rcases v4 with v4 | ⟨v4, v5⟩
    · rw [hfin] at v4; cases v4
    have hcf : m.cls = cf := by
      obtain ⟨_, _, c', _, _, _, -, -, hf', -, -, -, hown2, -⟩ := Cond.laysFinal_spec hlay
      have e1 : c' = cf := by have := hi.symm.trans hf'; simp at this; exact this.1.symm
      rw [v5] at hown2
      rw [← e1]; exact Option.some.inj (hown.symm.trans hown2)
    have h6 := u_fits hfc hkC hkind (Or.inr hlay) hi hty hn hfit
    rcases hl with hl | ⟨host, hl⟩ | ⟨ref, hl, hsm⟩
    · exact W.putFinK hexec hb hown (hts _ hl) hi hst hcf v4 (by rw [q2]; exact h6) q1 q3 hlt rfl rfl hd kk2
    · have kk3 := kk2 (H.setIfInBounds n (cell.setSlot fd.slot (tv v)))
      have hlt2 : n < H.size := (Array.getElem?_eq_some_iff.mp q1).1
      refine va_Wputf hexec hb hown (va_Nw.use (A := args) rfl (hK.2.2.2.1 _ hl)) hi hst (Or.inr ⟨hcf, v4⟩) q1 (by rw [q3]; exact fun h => by cases h) hlt h6.1 (by rw [q2, q3]; exact h6.2) rfl rfl hd ?_
      exact kk3 (by simp [hlt2]) (by simp) (fun q hq => by rw [Array.getElem?_setIfInBounds_ne (Ne.symm hq)])
    · exact W.putFinK hexec hb hown (hts _ hl) (u_same (hts _ hsm) _ hi) hst hcf v4 (by rw [q2]; exact h6) q1 q3 hlt rfl rfl hd kk2
/-- an array's place is written -/
theorem Rep.set {h' : xH} {H' : Heap} {n t j : Nat} {v : AV} (r : Rep Z h H) (ht : xt h (n + 1) = t) (v1 : 60 ≤ t % 100) (e1 : H'[n]? = some (arrV (zC Z (t % 100)) (xn h (n + 1)) (updV (fun j => tv (aV h (t % 100) (n + 1) j)) j (tv v)))) (e2 : H'.size = H.size) (e3 : ∀ q, q ≠ n → H'[q]? = H[q]?)
    (z1 : xz h' = xz h) (z2 : xt h' = xt h) (z3 : xn h' = xn h) (z4 : ∀ f b, fV h' f b = fV h f b) (z5 : ∀ t b i, ¬ (b = n + 1 ∧ i = j) → aV h' t b i = aV h t b i) (z6 : aV h' (t % 100) (n + 1) j = v) : Rep Z h' H' := by
  refine ⟨by rw [e2, z1]; exact r.1, by rw [z1]; exact r.2.1, fun b hb => ?_⟩
  rw [z2] at hb
  obtain ⟨k, rfl, k1, k2⟩ := r.2.2 b hb
  refine ⟨k, rfl, by rw [z2]; exact k1, ?_⟩
  rw [z2]
  by_cases hk : k = n
  · subst hk
    rw [ht] at k2 ⊢
    unfold okC
    rw [if_neg (by omega), e1, z3]
    congr 2
    funext i
    unfold updV
    by_cases hi : i = j
    · subst hi
      rw [if_pos rfl, z6]
    · rw [if_neg hi, z5 _ _ _ (fun z => hi z.2)]
  · exact k2.to (e3 k hk) (by rw [z3]) (fun g => z4 g _) (fun i => z5 _ _ _ (fun z => hk (Nat.succ.inj z.1)))
/-- an array as a whole is written -/
theorem Rep.all {h' : xH} {H' : Heap} {n t : Nat} {F : Nat → Value} (r : Rep Z h H) (ht : xt h (n + 1) = t) (v1 : 60 ≤ t % 100) (e1 : H'[n]? = some (arrV (zC Z (t % 100)) (xn h (n + 1)) F)) (e2 : H'.size = H.size) (e3 : ∀ q, q ≠ n → H'[q]? = H[q]?)
    (z1 : xz h' = xz h) (z2 : xt h' = xt h) (z3 : xn h' = xn h) (z4 : ∀ f b, fV h' f b = fV h f b) (z5 : ∀ t b i, b ≠ n + 1 → aV h' t b i = aV h t b i) (z6 : ∀ j, tv (aV h' (t % 100) (n + 1) j) = F j) : Rep Z h' H' := by
  refine ⟨by rw [e2, z1]; exact r.1, by rw [z1]; exact r.2.1, fun b hb => ?_⟩
  rw [z2] at hb
  obtain ⟨k, rfl, k1, k2⟩ := r.2.2 b hb
  refine ⟨k, rfl, by rw [z2]; exact k1, ?_⟩
  rw [z2]
  by_cases hk : k = n
  · subst hk
    rw [ht] at k2 ⊢
    unfold okC
    rw [if_neg (by omega), e1, z3]
    congr 2
    funext i
    exact (z6 i).symm
  · exact k2.to (e3 k hk) (by rw [z3]) (fun g => z4 g _) (fun i => z5 _ _ _ (fun z => hk (Nat.succ.inj z)))
/-- a cell is made -/
theorem Rep.born {h' : xH} {H' : Heap} {t : Nat} (r : Rep Z h H) (e2 : H'.size = H.size + 1) (e3 : ∀ q, q < H.size → H'[q]? = H[q]?) (z1 : xz h' = xz h + 1) (z2 : ∀ b, xt h' b = if b = xz h + 1 then t else xt h b) (z3 : ∀ b, b ≠ xz h + 1 → xn h' b = xn h b) (z4 : ∀ f b, b ≠ xz h + 1 → fV h' f b = fV h f b) (z5 : ∀ t b i, b ≠ xz h + 1 → aV h' t b i = aV h t b i) (hok : okC Z h' H' (t % 100) (xz h + 1) (xz h)) : Rep Z h' H' := by
  refine ⟨by rw [e2, z1, r.1], by rw [z1]; exact Nat.le_succ_of_le r.2.1, fun b hb => ?_⟩
  rw [z2] at hb ⊢
  by_cases hbz : b = xz h + 1
  · subst hbz
    rw [if_pos rfl]
    exact ⟨xz h, rfl, fun _ => r.2.1, hok⟩
  · rw [if_neg hbz] at hb ⊢
    obtain ⟨k, rfl, k1, k2⟩ := r.2.2 b hb
    exact ⟨k, rfl, k1, k2.to (e3 k k2.lt) (z3 _ hbz) (fun f => z4 f _ hbz) (fun i => z5 _ _ i hbz)⟩
theorem va_S.born {A : Nat → Prop} {H0 H' : Heap} (hS : va_S A H0 H locs) (e2 : H'.size = H.size + 1) (e3 : ∀ q, q < H.size → H'[q]? = H[q]?) : va_S A H0 H' locs :=
  ⟨Nat.le_trans hS.1 (by omega), fun x h1 h2 => (e3 x (Nat.lt_of_lt_of_le h1 hS.1)).trans (hS.2.1 x h1 h2), hS.2.2⟩
/-- what a fresh field holds -/
def dV (f : Nat) : AV := if xFK f = 0 then vi 0 else if xFK f = 1 then vl 0 else vr 0
def dok (f : Nat) : Bool := match xTY f with
  | .int => decide (xFK f = 0)
  | .boolean => decide (xFK f = 0)
  | .byte => decide (xFK f = 0)
  | .long => decide (xFK f = 1)
  | .object _ => decide (xFK f = 2)
  | .array _ => decide (xFK f = 2)
  | _ => false
theorem dok_all : ∀ f, f < xNF → dok f = true := by decide +kernel
theorem dV_ok (f : Nat) (hf : f < xNF) : defaultValue (xTY f) = tv (dV f) := by
  have h := dok_all f hf
  unfold dok at h
  cases hty : xTY f <;> rw [hty] at h <;> first | (cases h; done) | (simp only [decide_eq_true_eq] at h; simp [dV, h, defaultValue, tv, rv])
theorem x_new (hexec : p.tables.exec = Jvm.exec) (hb : c.code = cc) (hown : s.vm.findClass own = some m.cls) (hts : ∀ w ∈ lw_all, w.before args s = true) (hK : KN Z s) (r : Rep Z h H) (hS : va_S (zA Z) s.heap H locs) {ix t n : Nat} (hl : Cond.classLink own ix (xCN t) ∈ lw_all) (hin : Cond.instantiable (xCN t) n ∈ lw_all) (hini : Cond.initialized (xCN t) ∈ lw_all) (hv : decide (0 < t) && decide (t < xNT) = true) (hc : cells + 1 ≤ R.cells) (hs : slots + n ≤ R.slots) (hd : decode cc pc = .ok (.new ix, 3))
    (kk : ∀ H', Rep Z (nO h t) H' → va_S (zA Z) s.heap H' locs → W p l e R s m args below meth c H' locs (cells + 1) (slots + n) Q (F0 m (pc + 3) ls (rv (xz h + 1) :: rest))) : W p l e R s m args below meth c H locs cells slots Q (F0 m pc ls rest) := by
  simp only [Bool.and_eq_true, decide_eq_true_eq] at hv
  obtain ⟨v1, v2⟩ := hv
  have hKt := hK.1 t v1 v2
  have hm : t % 100 = t := Nat.mod_eq_of_lt (by unfold xNT at v2; omega)
  refine W.newcK hexec hb hown (hts _ hl) (hts _ hin) (hts _ hini) rfl hd hc hs hKt.1 r.1 fun H' kC hkC e1 e2 e3 => ?_
  rw [← r.1] at e2 e3
  refine kk H' (r.born (t := t) e2 e3 rfl (fun b => rfl) (fun b _ => rfl) (fun f b hb => ?_) (fun t b i hb => ?_) ?_) (hS.born e2 e3)
  · simp only [fV, xI_nO, xL_nO, xR_nO, if_neg hb]
  · simp only [aV, yI_nO, yL_nO, yR_nO]
  · rw [hm]
    unfold okC
    rw [if_pos (show t < 60 by unfold xNT at v2; omega)]
    refine ⟨_, e1, rfl, rfl, fun f hf => ?_⟩
    obtain ⟨cf, kf, fi, fd, hi, he⟩ := hK.2.1 f (xCF_lt t v2 f hf)
    have h3 := (u_facts hKt.1 hkC (x_lays hts v2 hf) hi).2.2
    rw [(State.fieldFound?_type hi (xTY_ok f (xCF_lt t v2 f hf))).2] at h3
    rw [← he, k2_blank h3, dV_ok f (xCF_lt t v2 f hf)]
    congr 2
    simp only [fV, xI_nO, xL_nO, xR_nO, dV, if_true]
theorem x_newA (hexec : p.tables.exec = Jvm.exec) (hb : c.code = cc) (hts : ∀ w ∈ lw_all, w.before args s = true) (hK : KN Z s) (r : Rep Z h H) (hS : va_S (zA Z) s.heap H locs) {atype : ArrayType} {t : Nat} {n : Int32} (ha : Cond.arrayClass (xAT t) ∈ lw_all) (hty : newarray.typeOf atype = xAT t) (hv : decide (60 ≤ t) && decide (t < 64) = true) (hn : 0 ≤ n) (hby : n.toNatClampNeg ≤ 1000000) (hc : cells + 1 ≤ R.cells) (hs : slots + n.toNatClampNeg ≤ R.slots) (hd : decode cc pc = .ok (.newarray atype, 2))
    (kk : ∀ H', Rep Z (nA h t n.toNatClampNeg) H' → va_S (zA Z) s.heap H' locs → W p l e R s m args below meth c H' locs (cells + 1) (slots + n.toNatClampNeg) Q (F0 m (pc + 2) ls (rv (xz h + 1) :: rest))) : W p l e R s m args below meth c H locs cells slots Q (F0 m pc ls (.int n :: rest)) := by
  simp only [Bool.and_eq_true, decide_eq_true_eq] at hv
  obtain ⟨v1, v2⟩ := hv
  have hm : t % 100 = t := Nat.mod_eq_of_lt (by omega)
  have ht4 : t = 60 ∨ t = 61 ∨ t = 62 ∨ t = 63 := by omega
  have hcb : componentBytes (newarray.typeOf atype) ≤ 8 := by
    rw [hty]
    rcases ht4 with rfl | rfl | rfl | rfl <;> decide
  refine va_newaK hexec hb (by rw [hty]; exact hts _ ha) rfl hd rfl (Int32.not_lt.mpr hn) rfl (Nat.le_trans (Nat.mul_le_mul hby hcb) (by decide)) hc hs r.1 fun H' cA e1 e2 e3 hAr hNm => ?_
  rw [← r.1] at e2 e3
  have hcA : cA = zC Z t := by
    have h1 := (hK.2.2.1 t v1 (by omega)).2
    rw [hty] at hNm
    rcases ht4 with rfl | rfl | rfl | rfl <;> exact Option.some.inj (hNm.symm.trans h1)
  refine kk H' (r.born (t := t) e2 e3 rfl (fun b => rfl) (fun b hb => ?_) (fun f b _ => ?_) (fun t b i hb => ?_) ?_) (hS.born e2 e3)
  · rw [xn_nA, if_neg hb]
  · simp only [fV, xI_nA, xL_nA, xR_nA]
  · simp only [aV, yI_nA, yL_nA, yR_nA, if_neg hb]
  · rw [hm]
    unfold okC
    rw [if_neg (by omega), e1, hcA, hty, xn_nA, if_pos rfl]
    congr 2
    funext j
    simp only [aV, yI_nA, yL_nA, yR_nA, if_true]
    rcases ht4 with rfl | rfl | rfl | rfl <;> rfl
theorem x_newR (hexec : p.tables.exec = Jvm.exec) (hb : c.code = cc) (hown : s.vm.findClass own = some m.cls) (hts : ∀ w ∈ lw_all, w.before args s = true) (hK : KN Z s) (r : Rep Z h H) (hS : va_S (zA Z) s.heap H locs) {ix t : Nat} {C : String} {n : Int32} (hl : Cond.classLink own ix C ∈ lw_all) (ha : Cond.arrayOver (.object C) ∈ xw) (hty : xAT t = .object C) (hv : decide (64 ≤ t) && decide (t < 67) = true) (hn : 0 ≤ n) (hby : n.toNatClampNeg ≤ 1000000) (hc : cells + 1 ≤ R.cells) (hs : slots + n.toNatClampNeg ≤ R.slots) (hd : decode cc pc = .ok (.anewarray ix, 3))
    (kk : ∀ H', Rep Z (nA h t n.toNatClampNeg) H' → va_S (zA Z) s.heap H' locs → W p l e R s m args below meth c H' locs (cells + 1) (slots + n.toNatClampNeg) Q (F0 m (pc + 3) ls (rv (xz h + 1) :: rest))) : W p l e R s m args below meth c H locs cells slots Q (F0 m pc ls (.int n :: rest)) := by
  simp only [Bool.and_eq_true, decide_eq_true_eq] at hv
  obtain ⟨v1, v2⟩ := hv
  have hm : t % 100 = t := Nat.mod_eq_of_lt (by omega)
  refine W.anew hexec hb hown (hts _ hl) (va_AO.use (hK.2.2.2.1 _ ha)) rfl hd rfl (Int32.not_lt.mpr hn) (Nat.le_trans (Nat.mul_le_mul hby (Nat.le_refl 4)) (by decide)) hc hs fun cA kA comp h1 h2 h3 h4 => ?_
  have hcA : cA = zC Z t := by
    have q1 := (hK.2.2.1 t (by omega) (by omega)).2
    rw [hty] at q1
    obtain ⟨kA', comp', -, -, -, q2⟩ := q1
    exact Option.some.inj (h1.symm.trans q2)
  have e2 : (H.push { cls := cA, slots := Array.replicate n.toNatClampNeg .null, vm := .none }).size = H.size + 1 := by simp
  have e3 : ∀ q, q < H.size → (H.push { cls := cA, slots := Array.replicate n.toNatClampNeg .null, vm := .none })[q]? = H[q]? := fun q hq => by rw [Array.getElem?_push, if_neg (Nat.ne_of_lt hq)]
  have := kk _ (r.born (h' := nA h t n.toNatClampNeg) (t := t) e2 e3 rfl (fun b => rfl) (fun b hb => by rw [xn_nA, if_neg hb]) (fun f b _ => by simp only [fV, xI_nA, xL_nA, xR_nA]) (fun t b i hb => by simp only [aV, yI_nA, yL_nA, yR_nA, if_neg hb]) ?_) (hS.born e2 e3)
  · rw [show rv (xz h + 1) = .ref H.size by rw [r.1]; rfl] at this
    exact this
  · rw [hm]
    unfold okC
    rw [if_neg (by omega), xn_nA, if_pos rfl, ← r.1, hcA, arrV_new]
    simp only [Array.getElem?_push, if_true]
    congr 2
    funext j
    have hk : aK t = 2 := by
      unfold aK
      rw [if_neg (by omega), if_neg (by omega)]
    simp only [aV, hk, yR_nA, r.1, if_true]
    rfl
end HEAPROWS
