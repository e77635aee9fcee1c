/-! ENTRY, RETURNS, CALLS -/
set_option maxRecDepth 100000
theorem sl_len : ∀ as : List AV, (lg_sl (as.map tv)).length = (as.map cv).sum
  | [] => rfl
  | v :: as => by
    have h1 := sl_len as
    have h2 := tv_cat v
    unfold lg_sl at h1 ⊢
    rw [List.map_cons, List.flatMap_cons, List.length_append, h1, List.map_cons, List.sum_cons]
    congr 1
    rcases v with v | v | v
    · rfl
    · rfl
    · rw [h2]; rfl
section CT
variable {Z : xZ} {X : xX} {cc : ByteArray} {own : String} {nL d : Nat} {ret : Option FieldType} {nm : String} {kc ks pc q : Nat} {E : List (Option AV)} {st : List AV} {h : xH}
theorem CT.of {y : MethodName} {maxL mc ms : Nat} {as : List AV} {Qr : Option AV → xH → Prop} (hy : plainName y.cls = true) (hE : eE maxL as = E) (hl : E.length = maxL) (hs : (as.map cv).sum ≤ maxL)
    (body : ∀ X, MX Z X cc y.cls maxL d ret y.name → EX Z X mc ms Qr → G Z X mc ms 0 E [] h) : CT Z y cc maxL ret d mc ms as h Qr := by
  refine Met.ofW (cc := cc) (maxL := maxL) (ret := ret) hy rfl ?_
  intro p e s m args below meth c s₁ B hml hv
  obtain ⟨rfl, hR, hKN⟩ := hv
  have hts := atoms_spec (ws := ws_ y cc maxL ret) B.pre
  have hts : ∀ w ∈ lw_all, w.before _ s = true := fun w h => hts w (List.mem_cons_of_mem _ h)
  have hown : s.vm.findClass y.cls = some m.cls := findClass_of_methodNamed B.named
  have hb := body (p, e, (headSpec (ws_ y cc maxL ret) ({ frames := d, cells := mc, slots := ms, locals := 700 * d })).room, s, m, (as.map tv).toArray, below, meth, c, MQ below (QcOf Z h Qr) (as.map tv).toArray s mc ms (zA Z), h)
    ⟨B.exec, B.bytes, hml, hown, hts, B.returns, B.notSynchronized, hKN, by rw [hR.1]; exact hR.2.1, (name_of_methodNamed B.named B.method).1, rfl, rfl⟩ ⟨rfl, rfl, rfl⟩
  have hent := lv_entry (as.map tv) (n := maxL) (by rw [sl_len]; exact hs)
  rw [lg_entry_eq]
  refine hb s.heap [] _ 0 0 hR va_S.rf ⟨by rw [hl]; exact hent.1, hent.2.1, fun i v hi => ?_⟩ (by simp [headSpec]) (by simp [headSpec]) mono.rf
  rw [← hE] at hi
  have := eE_args as 0 maxL i v hi
  rw [Nat.zero_add] at this
  exact hent.2.2 _ this
theorem g_ireturn (M : MX Z X cc own nL d (some .int) nm) {mc ms : Nat} {Qr : Option AV → xH → Prop} (Ee : EX Z X mc ms Qr) {x : Int32} (hd : decode cc pc = .ok (.ireturn, 1)) (hq : Qr (some (vi x)) h) : G Z X kc ks pc E [vi x] h := by
  obtain ⟨p, e, R, s, m, args, below, meth, c, Q, h0⟩ := X
  intro H locs ls cells slots r1 r2 r3 r4 r5 r6
  obtain ⟨rfl, e1, e2⟩ := Ee
  refine W.widen (k := mc) (n := ms) (by omega) (by omega) ?_
  exact W.iret (v := x) M.1 M.2.1 M.2.2.2.2.2.1 (fun t ht hW => ⟨⟨some (vi x), h, rfl, hq, r6, by rw [ht]; exact r1⟩, r2.F ht⟩) r2.2.2 hd M.2.2.2.2.2.2.1
theorem g_zreturn (M : MX Z X cc own nL d (some .boolean) nm) {mc ms : Nat} {Qr : Option AV → xH → Prop} (Ee : EX Z X mc ms Qr) {x : Int32} (hd : decode cc pc = .ok (.ireturn, 1)) (hx : x = 0 ∨ x = 1) (hq : Qr (some (vi x)) h) : G Z X kc ks pc E [vi x] h := by
  obtain ⟨p, e, R, s, m, args, below, meth, c, Q, h0⟩ := X
  intro H locs ls cells slots r1 r2 r3 r4 r5 r6
  obtain ⟨rfl, e1, e2⟩ := Ee
  refine W.widen (k := mc) (n := ms) (by omega) (by omega) ?_
  exact W.zret (v := x) M.1 M.2.1 M.2.2.2.2.2.1 (by rcases hx with rfl | rfl <;> rfl) (fun t ht hW => ⟨⟨some (vi x), h, rfl, hq, r6, by rw [ht]; exact r1⟩, r2.F ht⟩) r2.2.2 hd M.2.2.2.2.2.2.1
/-- byte, char: the answer is in its type's range -/
theorem g_breturn {ty : FieldType} (M : MX Z X cc own nL d (some ty) nm) {mc ms : Nat} {Qr : Option AV → xH → Prop} (Ee : EX Z X mc ms Qr) {x : Int32} (hd : decode cc pc = .ok (.ireturn, 1)) (hx : narrow ty (.int x) = .int x) (hq : Qr (some (vi x)) h) : G Z X kc ks pc E [vi x] h := by
  obtain ⟨p, e, R, s, m, args, below, meth, c, Q, h0⟩ := X
  intro H locs ls cells slots r1 r2 r3 r4 r5 r6
  obtain ⟨rfl, e1, e2⟩ := Ee
  refine W.widen (k := mc) (n := ms) (by omega) (by omega) ?_
  exact W.zret (v := x) M.1 M.2.1 M.2.2.2.2.2.1 hx (fun t ht hW => ⟨⟨some (vi x), h, rfl, hq, r6, by rw [ht]; exact r1⟩, r2.F ht⟩) r2.2.2 hd M.2.2.2.2.2.2.1
theorem g_lreturn (M : MX Z X cc own nL d (some .long) nm) {mc ms : Nat} {Qr : Option AV → xH → Prop} (Ee : EX Z X mc ms Qr) {x : Int64} (hd : decode cc pc = .ok (.lreturn, 1)) (hq : Qr (some (vl x)) h) : G Z X kc ks pc E [vl x] h := by
  obtain ⟨p, e, R, s, m, args, below, meth, c, Q, h0⟩ := X
  intro H locs ls cells slots r1 r2 r3 r4 r5 r6
  obtain ⟨rfl, e1, e2⟩ := Ee
  refine W.widen (k := mc) (n := ms) (by omega) (by omega) ?_
  exact W.lret (v := x) M.1 M.2.1 M.2.2.2.2.2.1 (fun t ht hW => ⟨⟨some (vl x), h, rfl, hq, r6, by rw [ht]; exact r1⟩, r2.F ht⟩) r2.2.2 hd M.2.2.2.2.2.2.1
theorem g_areturn {rt : FieldType} (M : MX Z X cc own nL d (some rt) nm) {mc ms : Nat} {Qr : Option AV → xH → Prop} (Ee : EX Z X mc ms Qr) {a : Nat} (hd : decode cc pc = .ok (.areturn, 1)) (hrt : rt.isReference = true) (hq : Qr (some (vr a)) h) : G Z X kc ks pc E [vr a] h := by
  obtain ⟨p, e, R, s, m, args, below, meth, c, Q, h0⟩ := X
  intro H locs ls cells slots r1 r2 r3 r4 r5 r6
  obtain ⟨rfl, e1, e2⟩ := Ee
  refine W.widen (k := mc) (n := ms) (by omega) (by omega) ?_
  refine W.aret (v := rv a) (rt := rt) M.1 M.2.1 M.2.2.2.2.2.1 ?_ ?_ (fun t ht hW => ⟨⟨some (vr a), h, rfl, hq, r6, by rw [ht]; exact r1⟩, r2.F ht⟩) r2.2.2 hd M.2.2.2.2.2.2.1
  · cases rt <;> first | (cases hrt; done) | exact Or.inl ⟨_, rfl⟩ | exact Or.inr ⟨_, rfl⟩
  · cases a with
    | zero => exact Or.inl rfl
    | succ a => exact Or.inr ⟨a, rfl⟩
theorem g_return (M : MX Z X cc own nL d none nm) {mc ms : Nat} {Qr : Option AV → xH → Prop} (Ee : EX Z X mc ms Qr) (hd : decode cc pc = .ok (.return_, 1)) (hq : Qr none h) : G Z X kc ks pc E [] h := by
  obtain ⟨p, e, R, s, m, args, below, meth, c, Q, h0⟩ := X
  intro H locs ls cells slots r1 r2 r3 r4 r5 r6
  obtain ⟨rfl, e1, e2⟩ := Ee
  refine W.widen (k := mc) (n := ms) (by omega) (by omega) ?_
  exact W.vret M.1 M.2.1 M.2.2.2.2.2.1 (fun t ht hW => ⟨⟨none, h, rfl, hq, r6, by rw [ht]; exact r1⟩, r2.F ht⟩) r2.2.2 hd M.2.2.2.2.2.2.1
/-- Object.<init> -/
theorem g_objInit (M : MX Z X cc own nL d ret nm) {idx a : Nat} (hd : decode cc pc = .ok (.invokespecial idx, 3)) (hp : pc + 3 = q) (hw : Cond.methodLink own idx objectInit ∈ lw_all ∧ Cond.instanceMethod objectInit ∈ lw_all ∧ Cond.code objectInit ⟨#[0xb1]⟩ 1 none ∈ lw_all) (hn : E.length = nL) (hne : xt h a ≠ 0) (hst : st.length ≤ 50) (hdp : 1 ≤ d) (k : G Z X kc ks q E st h) : G Z X kc ks pc E (vr a :: st) h := by
  subst hp
  obtain ⟨p, e, R, s, m, args, below, meth, c, Q, h0⟩ := X
  intro H locs ls cells slots r1 r2 r3 r4 r5 r6
  obtain ⟨n, rfl, -⟩ := r1.cell rfl hne
  have hcat : ∀ st : List AV, ((st.map tv).map fun v => v.category).sum ≤ 2 * st.length := by
    intro st
    induction st with
    | nil => simp
    | cons v st ih =>
      simp only [List.map_cons, List.sum_cons, List.length_cons, tv_cat]
      have : cv v ≤ 2 := by rcases v with v | v | v <;> simp [cv]
      omega
  have hc := hcat st
  have hRf : R.frames = d := M.2.2.2.2.2.2.2.2.2.2.1
  have hRl : R.locals = 700 * d := M.2.2.2.2.2.2.2.2.2.2.2
  refine W.objInit M.1 M.2.1 M.2.2.2.1 (M.2.2.2.2.1 _ hw.1) (M.2.2.2.2.1 _ hw.2.1) (M.2.2.2.2.1 _ hw.2.2) rfl ?_ rfl hd (by rw [hRf]; exact hdp) ?_ (k H locs ls cells slots r1 r2 r3 r4 r5 r6)
  · have : ls.size = nL := by rw [r3.1, hn]
    exact this.trans M.2.2.1.symm
  · have hm : (F0 m pc ls ((vr (n + 1) :: st).map tv)).monitorRoom = 0 := rfl
    rw [hm, hRl]
    omega
end CT
section CALLS
variable {Z : xZ} {X : xX} {cc : ByteArray} {own : String} {nL d : Nat} {ret : Option FieldType} {nm : String} {kc ks pc q : Nat} {E : List (Option AV)} {st : List AV} {h : xH}
variable {p : Program} {e : Env} {R : Room} {s : State} {m : MethodId} {args : Array Value} {below : List Frame} {meth : Method} {c : Code} {H : Heap} {locs : List Loc} {cells slots : Nat} {Q : State → Prop}
theorem PcOf.blind {as : List AV} : FrameBlind (PcOf Z as h) := fun a U g mk q => ⟨q.1, q.2.1, q.2.2.blind rfl rfl⟩
theorem x_S {H' : Heap} {L : List Loc} (hS : va_S (zA Z) s.heap H locs) (hz : H.size ≤ H'.size) (hk : ∀ q : Nat, q < H.size → ¬ zA Z q → H'[q]? = H[q]?) (hL : ∀ q ∈ L, zA Z q.base) : va_S (zA Z) s.heap H' (locs ++ L) :=
  ⟨Nat.le_trans hS.1 hz, fun q h1 h2 => (hk q (Nat.lt_of_lt_of_le h1 hS.1) h2).trans (hS.2.1 q h1 h2), fun q hq => (List.mem_append.mp hq).elim (hS.2.2 q) (hL q)⟩
theorem x_fin {a : Array Value} {mc ms pc : Nat} {ls : Array Slot} {st0 rest : List Value} {Qr : Option AV → xH → Prop} (hS : va_S (zA Z) s.heap H locs) (run : va_Run p (zL Z) e R s m args below meth c H locs cells slots mc ms (F0 m pc ls st0) rest (QcOf Z h Qr a) (zA Z))
    (kk : ∀ (v : Option AV) (h' : xH) (H' : Heap) (locs' : List Loc), Qr v h' → mono h h' → Rep Z h' H' → va_S (zA Z) s.heap H' locs' → W p (zL Z) e R s m args below meth c H' locs' (cells + mc) (slots + ms) Q (F0 m (pc + 3) ls ((v.map tv).toList ++ rest))) : W p (zL Z) e R s m args below meth c H locs cells slots Q (F0 m pc ls st0) := by
  intro T hT Y
  obtain ⟨v, st₀, t, T', L, h0, X', hL, e1, e2, ⟨⟨v', h', hv, hq, hm, hrep⟩, hz, hk⟩, st⟩ := run T hT Y
  cases hv
  rw [h0] at hz hk
  obtain ⟨t2, a1, b1⟩ := kk v' h' T'.heap (locs ++ L) hq hm (by rw [e1]; exact hrep) (x_S hS (by rw [e1]; exact hz) (fun q h1 h2 => by rw [e1]; exact hk q h1 h2) hL) T' rfl X'
  exact ⟨t2, st t2 a1, b1⟩
theorem x_fin5 {a : Array Value} {mc ms pc : Nat} {ls : Array Slot} {st0 rest : List Value} {Qr : Option AV → xH → Prop} (hS : va_S (zA Z) s.heap H locs) (run : va_Run5 p (zL Z) e R s m args below meth c H locs cells slots mc ms (F0 m pc ls st0) rest (QcOf Z h Qr a) (zA Z))
    (kk : ∀ (v : Option AV) (h' : xH) (H' : Heap) (locs' : List Loc), Qr v h' → mono h h' → Rep Z h' H' → va_S (zA Z) s.heap H' locs' → W p (zL Z) e R s m args below meth c H' locs' (cells + mc) (slots + ms) Q (F0 m (pc + 5) ls ((v.map tv).toList ++ rest))) : W p (zL Z) e R s m args below meth c H locs cells slots Q (F0 m pc ls st0) := by
  intro T hT Y
  obtain ⟨v, st₀, t, T', L, h0, X', hL, e1, e2, ⟨⟨v', h', hv, hq, hm, hrep⟩, hz, hk⟩, st⟩ := run T hT Y
  cases hv
  rw [h0] at hz hk
  obtain ⟨t2, a1, b1⟩ := kk v' h' T'.heap (locs ++ L) hq hm (by rw [e1]; exact hrep) (x_S hS (by rw [e1]; exact hz) (fun q h1 h2 => by rw [e1]; exact hk q h1 h2) hL) T' rfl X'
  exact ⟨t2, st t2 a1, b1⟩
theorem x_stk (as : List AV) (b : Nat) (rest : List AV) : ((as.reverse ++ vr b :: rest).map tv) = (as.map tv).reverse ++ rv b :: rest.map tv := by
  rw [List.map_append, List.map_cons, List.map_reverse]
  rfl
theorem x_stkS (as rest : List AV) : ((as.reverse ++ rest).map tv) = (as.map tv).reverse ++ rest.map tv := by
  rw [List.map_append, List.map_reverse]
theorem x_cat (rest : List AV) (hr : (rest.map cv).sum ≤ 8) {pc : Nat} {ls : Array Slot} {st : List Value} : 2 * (F0 m pc ls st).monitorRoom + ((rest.map tv).map fun v => v.category).sum ≤ 8 := by
  have : ((rest.map tv).map fun v => v.category) = rest.map cv := by
    rw [List.map_map]
    exact List.map_congr_left (fun v _ => tv_cat v)
  rw [this]
  exact lv_room (st := rest.map tv) (by rw [this]; exact hr) |> fun z => by rw [this] at z; exact z
theorem x_res (v : Option AV) (rest : List AV) : ((v.toList ++ rest).map tv) = (v.map tv).toList ++ rest.map tv := by
  cases v <;> rfl
theorem x_kn (r2 : va_S (zA Z) s.heap H locs) (hK : KN Z s) (r1 : Rep Z h H) (as : List AV) : ∀ U : State, U.heap = H → s.WarmedH U.vm → PcOf Z as h (as.map tv).toArray U := fun U hU hW => ⟨rfl, by rw [hU]; exact r1, hK.moved hW r2 hU⟩
/-- what a call site through an object says, checked once -/
def okV (own : String) (ix : Nat) (C : String) (y : MethodName) (b : ByteArray) (L : Nat) (r : Option FieldType) (n : Nat) : Prop := GoodIn lw_all (wsV own ix C y (ws_ y b L r)) ∧ (y.cls = C ∧ y.cls ≠ "java/lang/invoke/MethodHandle" ∧ y.cls ≠ "java/lang/invoke/VarHandle" ∧ (parseMethodDescriptor y.desc).map (fun d => d.parameters.length) = some n) ∧ L ≤ 500
def okS (own : String) (ix : Nat) (y : MethodName) (b : ByteArray) (L : Nat) (r : Option FieldType) (n : Nat) : Prop := GoodIn lw_all (va_wsS own ix y (ws_ y b L r)) ∧ (y.cls ≠ "java/lang/invoke/MethodHandle" ∧ y.cls ≠ "java/lang/invoke/VarHandle" ∧ (parseMethodDescriptor y.desc).map (fun d => d.parameters.length) = some n) ∧ L ≤ 500
def okI (own : String) (ix : Nat) (y : MethodName) (b : ByteArray) (L : Nat) (n : Nat) : Prop := GoodIn lw_all (ws_ y b L none) ∧ (Cond.initialized y.cls ∈ lw_all ∧ Cond.methodLink own ix y ∈ lw_all ∧ Cond.instanceMethod y ∈ lw_all) ∧ (y.name = "<init>" ∧ y.cls ≠ "java/lang/invoke/MethodHandle" ∧ y.cls ≠ "java/lang/invoke/VarHandle" ∧ (parseMethodDescriptor y.desc).map (fun d => d.parameters.length) = some n) ∧ L ≤ 500
/-- the receiver is an object of the class C -/
def isC (h : xH) (b : Nat) (C : String) : Prop := 0 < xt h b % 100 ∧ xt h b % 100 < xNT ∧ xCN (xt h b % 100) = C
theorem isC.of {h : xH} {b t : Nat} {C : String} (ht : xt h b = t) (hC : decide (0 < t % 100) && decide (t % 100 < xNT) && decide (xCN (t % 100) = C) = true) : isC h b C := by
  subst ht
  simp only [Bool.and_eq_true, decide_eq_true_eq] at hC
  exact ⟨hC.1.1, hC.1.2, hC.2⟩
theorem x_recv (hK : KN Z s) (r1 : Rep Z h H) {b : Nat} {C : String} (hC : isC h b C) : ∃ n, b = n + 1 ∧ ∃ cell : Cell, H[n]? = some cell ∧ cell.vm.isStatics = false ∧ s.vm.findClass C = some cell.cls := by
  obtain ⟨h1, h2, h3⟩ := hC
  obtain ⟨n, e, -, k⟩ := r1.cell rfl (by intro z; rw [z] at h1; exact absurd h1 (by decide))
  obtain ⟨cell, q1, q2, q3, -⟩ := k.obj h2
  exact ⟨n, e, cell, q1, by rw [q3]; rfl, by rw [← h3, q2]; exact (hK.1 _ h1 h2).1⟩
theorem g_callV (M : MX Z X cc own nL d ret nm) {y : MethodName} {C : String} {bytes : ByteArray} {maxL ix d' mc ms n b : Nat} {ret' : Option FieldType} {as rest st0 : List AV} {Qr : Option AV → xH → Prop} (hn : E.length = nL) (hd : decode cc pc = .ok (.invokevirtual ix, 3)) (hp : pc + 3 = q) (hw : okV own ix C y bytes maxL ret' n) (hM : CT Z y bytes maxL ret' d' mc ms (vr b :: as) h Qr) (hC : isC h b C) (hst : as.reverse ++ vr b :: rest = st0) (hln : as.length = n) (hcat : (rest.map cv).sum ≤ 8) (hdp : d' < d) (hc : mc ≤ kc) (hs : ms ≤ ks)
    (k : ∀ v h', Qr v h' → mono h h' → G Z X (kc - mc) (ks - ms) q E (v.toList ++ rest) h') : G Z X kc ks pc E st0 h := by
  subst hp
  subst hst
  obtain ⟨p, e, R, s, m, args, below, meth, c, Q, h0⟩ := X
  intro H locs ls cells slots r1 r2 r3 r4 r5 r6
  obtain ⟨w1, w2, w3⟩ := hw
  have hRf : R.frames = d := M.2.2.2.2.2.2.2.2.2.2.1
  have hRl : R.locals = 700 * d := M.2.2.2.2.2.2.2.2.2.2.2
  have hK : KN Z s := M.2.2.2.2.2.2.2.1
  obtain ⟨b, rfl, hcell⟩ := x_recv hK r1 hC
  rw [x_stk]
  refine x_fin (mc := mc) (ms := ms) (rest := rest.map tv) r2 (va_runV (As := as.map tv) (nL := nL) ⟨M.1, M.2.1, M.2.2.1, M.2.2.2.1, M.2.2.2.2.1⟩ hM (cwV n M.2.2.2.2.1 w1 rfl rfl rfl w2 ⟨by rw [hRf]; exact hdp, by rw [hRl]; show 8 + (maxL + 11) + 700 * d' ≤ _; omega⟩) ⟨PcOf.blind, hcell, x_kn r2 hK r1 (vr (b + 1) :: as)⟩ rfl (by rw [List.length_map]; exact hln) (r3.1.trans hn) rfl (x_cat rest hcat) hd ⟨by omega, by omega⟩) (fun v h' H' locs' hq hm r1' r2' => ?_)
  have := k v h' hq hm H' locs' ls (cells + mc) (slots + ms) r1' r2' r3 (by omega) (by omega) (r6.tr hm)
  rw [x_res] at this
  exact this
theorem g_callS (M : MX Z X cc own nL d ret nm) {y : MethodName} {bytes : ByteArray} {maxL ix d' mc ms n : Nat} {ret' : Option FieldType} {as rest st0 : List AV} {Qr : Option AV → xH → Prop} (hn : E.length = nL) (hd : decode cc pc = .ok (.invokestatic ix, 3)) (hp : pc + 3 = q) (hw : okS own ix y bytes maxL ret' n) (hM : CT Z y bytes maxL ret' d' mc ms as h Qr) (hst : as.reverse ++ rest = st0) (hln : as.length = n) (hcat : (rest.map cv).sum ≤ 8) (hdp : d' < d) (hc : mc ≤ kc) (hs : ms ≤ ks)
    (k : ∀ v h', Qr v h' → mono h h' → G Z X (kc - mc) (ks - ms) q E (v.toList ++ rest) h') : G Z X kc ks pc E st0 h := by
  subst hp
  subst hst
  obtain ⟨p, e, R, s, m, args, below, meth, c, Q, h0⟩ := X
  intro H locs ls cells slots r1 r2 r3 r4 r5 r6
  obtain ⟨w1, w2, w3⟩ := hw
  have hRf : R.frames = d := M.2.2.2.2.2.2.2.2.2.2.1
  have hRl : R.locals = 700 * d := M.2.2.2.2.2.2.2.2.2.2.2
  have hK : KN Z s := M.2.2.2.2.2.2.2.1
  rw [x_stkS]
  refine x_fin (mc := mc) (ms := ms) (rest := rest.map tv) r2 (va_runS (As := as.map tv) (nL := nL) ⟨M.1, M.2.1, M.2.2.1, M.2.2.2.1, M.2.2.2.2.1⟩ hM (va_cwS n M.2.2.2.2.1 w1 rfl rfl rfl w2 ⟨by rw [hRf]; exact hdp, by rw [hRl]; show 8 + (maxL + 11) + 700 * d' ≤ _; omega⟩) ⟨PcOf.blind, x_kn r2 hK r1 as⟩ rfl (by rw [List.length_map]; exact hln) (r3.1.trans hn) rfl (x_cat rest hcat) hd ⟨by omega, by omega⟩) (fun v h' H' locs' hq hm r1' r2' => ?_)
  have := k v h' hq hm H' locs' ls (cells + mc) (slots + ms) r1' r2' r3 (by omega) (by omega) (r6.tr hm)
  rw [x_res] at this
  exact this
theorem g_callI (M : MX Z X cc own nL d ret nm) {y : MethodName} {bytes : ByteArray} {maxL ix d' mc ms n b : Nat} {as rest st0 : List AV} {Qr : Option AV → xH → Prop} (hn : E.length = nL) (hd : decode cc pc = .ok (.invokespecial ix, 3)) (hp : pc + 3 = q) (hw : okI own ix y bytes maxL n) (hM : CT Z y bytes maxL none d' mc ms (vr b :: as) h Qr) (hne : xt h b ≠ 0) (hst : as.reverse ++ vr b :: rest = st0) (hln : as.length = n) (hcat : (rest.map cv).sum ≤ 8) (hdp : d' < d) (hc : mc ≤ kc) (hs : ms ≤ ks)
    (k : ∀ v h', Qr v h' → mono h h' → G Z X (kc - mc) (ks - ms) q E (v.toList ++ rest) h') : G Z X kc ks pc E st0 h := by
  subst hp
  subst hst
  obtain ⟨p, e, R, s, m, args, below, meth, c, Q, h0⟩ := X
  intro H locs ls cells slots r1 r2 r3 r4 r5 r6
  obtain ⟨w1, w2, w3, w4⟩ := hw
  have hRf : R.frames = d := M.2.2.2.2.2.2.2.2.2.2.1
  have hRl : R.locals = 700 * d := M.2.2.2.2.2.2.2.2.2.2.2
  have hK : KN Z s := M.2.2.2.2.2.2.2.1
  have hts : ∀ w ∈ lw_all, w.before args s = true := M.2.2.2.2.1
  obtain ⟨b, rfl, -⟩ := r1.cell rfl hne
  rw [x_stk]
  refine x_fin (mc := mc) (ms := ms) (rest := rest.map tv) r2 (va_runI (As := as.map tv) (nL := nL) ⟨M.1, M.2.1, M.2.2.1, M.2.2.2.1, M.2.2.2.2.1⟩ hM (cwI n hts w1 rfl rfl rfl (hts _ w2.1) (hts _ w2.2.1) (hts _ w2.2.2) w3.1 w3.2 ⟨by rw [hRf]; exact hdp, by rw [hRl]; show 8 + (maxL + 11) + 700 * d' ≤ _; omega⟩) ⟨PcOf.blind, x_kn r2 hK r1 (vr (b + 1) :: as)⟩ rfl (by rw [List.length_map]; exact hln) (r3.1.trans hn) rfl (x_cat rest hcat) hd ⟨by omega, by omega⟩) (fun v h' H' locs' hq hm r1' r2' => ?_)
  have := k v h' hq hm H' locs' ls (cells + mc) (slots + ms) r1' r2' r3 (by omega) (by omega) (r6.tr hm)
  rw [x_res] at this
  exact this
end CALLS
section RES
variable {Z : xZ} {X : xX} {kc ks pc : Nat} {E : List (Option AV)} {rest : List AV} {h : xH}
theorem r_I {Q : Int32 → xH → Prop} (k : ∀ x h', Q x h' → mono h h' → G Z X kc ks pc E (vi x :: rest) h') : ∀ v h', rI Q v h' → mono h h' → G Z X kc ks pc E (v.toList ++ rest) h' := by
  rintro v h' ⟨x, rfl, hq⟩ hm
  exact k x h' hq hm
theorem r_L {Q : Int64 → xH → Prop} (k : ∀ x h', Q x h' → mono h h' → G Z X kc ks pc E (vl x :: rest) h') : ∀ v h', rL Q v h' → mono h h' → G Z X kc ks pc E (v.toList ++ rest) h' := by
  rintro v h' ⟨x, rfl, hq⟩ hm
  exact k x h' hq hm
theorem r_R {Q : Nat → xH → Prop} (k : ∀ x h', Q x h' → mono h h' → G Z X kc ks pc E (vr x :: rest) h') : ∀ v h', rR Q v h' → mono h h' → G Z X kc ks pc E (v.toList ++ rest) h' := by
  rintro v h' ⟨x, rfl, hq⟩ hm
  exact k x h' hq hm
theorem r_V {Q : xH → Prop} (k : ∀ h', Q h' → mono h h' → G Z X kc ks pc E rest h') : ∀ v h', rV Q v h' → mono h h' → G Z X kc ks pc E (v.toList ++ rest) h' := by
  rintro v h' ⟨rfl, hq⟩ hm
  exact k h' hq hm
end RES
