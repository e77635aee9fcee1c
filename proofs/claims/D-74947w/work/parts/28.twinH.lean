/-! THE TWIN: assignments -/
set_option maxRecDepth 100000
def SgB (A : Nat → Nat → Int32) (nB : Nat) : Prop := ∀ b, b < nB → ∃ c p, 1 ≤ c ∧ c ≤ 999 ∧ p ≤ 4 ∧ A 15 b = nI c ∧ A 16 b = nI p
def SgL (A : Nat → Nat → Int32) (nL : Nat) : Prop := ∀ k, k < nL → ∃ w p, 1 ≤ w ∧ w ≤ 99 ∧ 1 ≤ p ∧ p ≤ 9 ∧ A 18 k = nI w ∧ A 19 k = nI p
/-- the heap with other long arrays of the twin's (offsets 21 to 24) -/
def lH (h : xH) (m : Nat) (F : Nat → Nat → Int64) : xH := (h.1, h.2.1, (yI h, (fun x y => if m + 21 ≤ x ∧ x ≤ m + 24 then F (x - m) y else yL h x y), yR h))
theorem lH_r (h : xH) (m : Nat) (F : Nat → Nat → Int64) (o : Nat) (ho : 21 ≤ o ∧ o ≤ 24) : yL (lH h m F) (m + o) = F o := by
  funext y
  show (if m + 21 ≤ m + o ∧ m + o ≤ m + 24 then F (m + o - m) y else yL h (m + o) y) = F o y
  rw [if_pos (by omega), Nat.add_sub_cancel_left]
theorem lH_s (h : xH) (m : Nat) (F : Nat → Nat → Int64) (o j : Nat) (v : Int64) (ho : 21 ≤ o ∧ o ≤ 24) : sL (lH h m F) (m + o) j v = lH h m (u2 F o j v) := by
  have : u2 (fun x y => if m + 21 ≤ x ∧ x ≤ m + 24 then F (x - m) y else yL h x y) (m + o) j v = (fun x y => if m + 21 ≤ x ∧ x ≤ m + 24 then u2 F o j v (x - m) y else yL h x y) := by
    funext x y
    unfold u2
    by_cases e : x = m + o ∧ y = j
    · rw [if_pos e, if_pos (by omega), if_pos ⟨by omega, e.2⟩]
    · rw [if_neg e]
      by_cases e2 : m + 21 ≤ x ∧ x ≤ m + 24
      · dsimp only
        rw [if_pos e2, if_pos e2, if_neg (fun z => e ⟨by omega, z.2⟩)]
      · dsimp only
        rw [if_neg e2, if_neg e2]
  exact congrArg (fun z => (h.1, h.2.1, (yI h, z, yR h))) this
theorem lH_eta (h : xH) (m : Nat) : lH h m (fun o => yL h (m + o)) = h := by
  have : (fun x y => if m + 21 ≤ x ∧ x ≤ m + 24 then yL h (m + (x - m)) y else yL h x y) = yL h := by
    funext x y
    by_cases e : m + 21 ≤ x ∧ x ≤ m + 24
    · rw [if_pos e, show m + (x - m) = x by omega]
    · rw [if_neg e]
  exact congrArg (fun z => (h.1, h.2.1, (yI h, z, yR h))) this
theorem lH_cH (h : xH) (m : Nat) (F : Nat → Nat → Int64) (g1 g2 : Nat → Int64) : cH (lH h m F) m g1 g2 = lH h m (fun o => if o = 21 then g1 else if o = 22 then g2 else F o) := by
  have : w2 (w2 (fun x y => if m + 21 ≤ x ∧ x ≤ m + 24 then F (x - m) y else yL h x y) (m + 22) g2) (m + 21) g1 = (fun x y => if m + 21 ≤ x ∧ x ≤ m + 24 then (if x - m = 21 then g1 else if x - m = 22 then g2 else F (x - m)) y else yL h x y) := by
    funext x y
    unfold w2
    by_cases e1 : x = m + 21
    · rw [if_pos e1, if_pos (by omega), if_pos (by omega)]
    · rw [if_neg e1]
      by_cases e2 : x = m + 22
      · rw [if_pos e2, if_pos (by omega), if_neg (by omega), if_pos (by omega)]
      · rw [if_neg e2]
        by_cases e3 : m + 21 ≤ x ∧ x ≤ m + 24
        · dsimp only
          rw [if_pos e3, if_pos e3, if_neg (by omega), if_neg (by omega)]
        · dsimp only
          rw [if_neg e3, if_neg e3]
  exact congrArg (fun z => (h.1, h.2.1, (yI h, z, yR h))) this
/-- sets of days -/
theorem day_has : ∀ s, s < 512 → ∀ d, d < 9 → hasB (nI s) (nI d) = s.testBit d := by decide +kernel
theorem day_off : ∀ s, s < 512 → ∀ d, d < 9 → s.testBit d = true → nI s &&& ((1 <<< (nI d &&& 31)) ^^^ (-1)) = nI (s - 2 ^ d) := by decide +kernel
/-- the greatest total of a balloon with the days s left: g what it brings a day, nx the next ones' totals -/
def spGr (g nx : Nat → Int64) (s : Nat) : Nat → Int64
  | 0 => nx s
  | d + 1 => if s.testBit d = true then (if spGr g nx s d < g d + nx (s - 2 ^ d) then g d + nx (s - 2 ^ d) else spGr g nx s d) else spGr g nx s d
theorem c_X4_greatest {Z : xZ} {h : xH} {m b s : Nat} (T : TW h m) (hb : b < 10) (hs : s < 512) : CT Z yX4_greatest cX4_greatest 8 (some .long) 1 0 0 [vr m, vi (nI b), vi (nI s)] h (rL fun r h' => h = h' ∧ r = if tA h m 1 (5 + b) = 0 then spGr (fun d => yL h (m + 24) (9 * b + d)) (fun s' => yL h (m + 23) (512 * (b + 1) + s')) s 9 else yL h (m + 23) (512 * (b + 1) + s)) := by
  have ix : ∀ k, (512 : Int32) * (nI b + 1) + nI k = nI (512 * (b + 1) + k) := fun k => by rw [nI_1, show (512 : Int32) = nI 512 from rfl, pk_mul, nI_add]
  have ix9 : ∀ k, (9 : Int32) * nI b + nI k = nI (9 * b + k) := fun k => by rw [show (9 : Int32) = nI 9 from rfl, pk_mul, nI_add]
  refine CT.of (E := [some (vr m), some (vi (nI b)), some (vi (nI s)), none, none, none, none, none]) (by decide +kernel) rfl rfl (Nat.le_of_ble_eq_true rfl) (fun X M Ee => ?_)
  have M : MX Z X cX4_greatest "BalloonMailModel" 8 1 (some .long) "greatest" := M
  refine g_aload_n (q := 1) M dX4_greatest_0 rfl rfl ?_
  refine g_tw (q := 4) (f := 70) M dX4_greatest_1 rfl l_X4_85 T rfl rfl T.a70 ?_
  refine g_sipush (q := 7) (v := 512) M dX4_greatest_4 rfl (by decide) ?_
  refine g_iload_n (q := 8) M dX4_greatest_7 rfl rfl ?_
  refine g_iconst (q := 9) (v := 1) M dX4_greatest_8 rfl (by decide) ?_
  refine g_iadd (q := 10) M dX4_greatest_9 rfl ?_
  refine g_imul (q := 11) M dX4_greatest_10 rfl ?_
  refine g_iload_n (q := 12) M dX4_greatest_11 rfl rfl ?_
  refine g_iadd (q := 13) M dX4_greatest_12 rfl ?_
  refine g_laldN (q := 14) (n := 5632) M dX4_greatest_13 rfl T.a70.2.1 rfl T.a70.2.2 (ix s) (by omega) (by decide) ?_
  refine g_lstore_n (q := 15) (j := 3) M dX4_greatest_14 rfl rfl (Nat.le_of_ble_eq_true rfl) rfl ?_
  dsimp only [st1, st2, kl, List.set_cons_zero, List.set_cons_succ, List.set_nil]
  refine g_iconst (q := 16) (v := 0) M dX4_greatest_15 rfl (by decide) ?_
  refine g_istore (q := 18) (j := 5) M dX4_greatest_16 rfl rfl (Nat.le_of_ble_eq_true rfl) rfl ?_
  dsimp only [st1, st2, kl, List.set_cons_zero, List.set_cons_succ, List.set_nil]
  have Out : ∀ z e5 e6 e7, z = (if tA h m 1 (5 + b) = 0 then spGr (fun d => yL h (m + 24) (9 * b + d)) (fun s' => yL h (m + 23) (512 * (b + 1) + s')) s 9 else yL h (m + 23) (512 * (b + 1) + s)) → G Z X 0 0 101 [some (vr m), some (vi (nI b)), some (vi (nI s)), some (vl z), none, e5, e6, e7] [] h := by
    intro z e5 e6 e7 hz
    refine g_lload_n (q := 102) M dX4_greatest_101 rfl rfl ?_
    refine g_lreturn M Ee dX4_greatest_102 ?_
    exact ⟨_, rfl, rfl, hz⟩
  by_cases hr : tA h m 1 (5 + b) = 0
  · have L : ∀ d, d ≤ 9 → ∀ e6, G Z X 0 0 18 [some (vr m), some (vi (nI b)), some (vi (nI s)), some (vl (spGr (fun d => yL h (m + 24) (9 * b + d)) (fun s' => yL h (m + 23) (512 * (b + 1) + s')) s d)), none, some (vi (nI d)), e6, none] [] h := by
      refine upLoop 9 ?_ ?_
      · intro e6
        refine g_iload (q := 20) M dX4_greatest_18 rfl rfl ?_
        refine g_bipush (q := 22) (v := 9) M dX4_greatest_20 rfl (by decide) ?_
        refine g_icmp_ge (q := 25) (tgt := 101) M dX4_greatest_22 (by decide) rfl (fun c_22 => ?_) (fun c_22 => ?_)
        · exact Out _ _ _ _ (if_pos hr).symm
        · exact absurd (Int32.le_refl _) c_22
      · intro d hd ih e6
        refine g_iload (q := 20) M dX4_greatest_18 rfl rfl ?_
        refine g_bipush (q := 22) (v := 9) M dX4_greatest_20 rfl (by decide) ?_
        refine g_icmp_ge (q := 25) (tgt := 101) M dX4_greatest_22 (by decide) rfl (fun c_22 => ?_) (fun c_22 => ?_)
        · exact absurd ((nI_leI (a := 9) (by decide) (by omega)).mp c_22) (by omega)
        · refine g_aload_n (q := 26) M dX4_greatest_25 rfl rfl ?_
          refine g_tw (q := 29) (f := 33) M dX4_greatest_26 rfl l_X4_13 T rfl rfl T.a33 ?_
          refine g_iconst (q := 30) (v := 5) M dX4_greatest_29 rfl (by decide) ?_
          refine g_iload_n (q := 31) M dX4_greatest_30 rfl rfl ?_
          refine g_iadd (q := 32) M dX4_greatest_31 rfl ?_
          refine g_ialdN (q := 33) (n := 213) M dX4_greatest_32 rfl T.a33.2.1 rfl T.a33.2.2 (ixk 5 rfl b) (by omega) (by decide) ?_
          refine g_if_ne (q := 36) (tgt := 101) M dX4_greatest_33 (by decide) rfl (fun c_33 => ?_) (fun c_33 => ?_)
          · exact absurd hr c_33
          · have J : ∀ e6, spGr (fun d => yL h (m + 24) (9 * b + d)) (fun s' => yL h (m + 23) (512 * (b + 1) + s')) s d = spGr (fun d => yL h (m + 24) (9 * b + d)) (fun s' => yL h (m + 23) (512 * (b + 1) + s')) s (d + 1) → G Z X 0 0 95 [some (vr m), some (vi (nI b)), some (vi (nI s)), some (vl (spGr (fun d => yL h (m + 24) (9 * b + d)) (fun s' => yL h (m + 23) (512 * (b + 1) + s')) s d)), none, some (vi (nI d)), e6, none] [] h := by
              intro e6 he
              refine g_iinc (q := 98) (w := 1) M dX4_greatest_95 rfl (Nat.le_of_ble_eq_true rfl) rfl (by decide) rfl ?_
              dsimp only [st1, st2, kl, List.set_cons_zero, List.set_cons_succ, List.set_nil]
              try rw [nI_1]
              refine g_goto (tgt := 18) M dX4_greatest_98 (by decide) ?_
              rw [he]
              exact ih _
            refine g_iload_n (q := 37) M dX4_greatest_36 rfl rfl ?_
            refine g_iload (q := 39) M dX4_greatest_37 rfl rfl ?_
            refine g_callS (q := 42) M rfl dX4_greatest_39 rfl w_X4_173 c_X4_has rfl rfl (Nat.le_of_ble_eq_true rfl) (by decide) (by omega) (by omega) (r_I fun x h_39 hq m_39 => ?_)
            obtain ⟨e1, rfl⟩ := hq
            subst e1
            rw [day_has s hs d hd]
            refine g_if_eq (q := 45) (tgt := 95) M dX4_greatest_42 (by decide) rfl (fun c_42 => ?_) (fun c_42 => ?_)
            · exact J _ (by show _ = (if s.testBit d = true then _ else _); rw [if_neg (by rw [bI_0.mp c_42]; decide)])
            · have ht : s.testBit d = true := by simpa [bI_0] using c_42
              refine g_aload_n (q := 46) M dX4_greatest_45 rfl rfl ?_
              refine g_tw (q := 49) (f := 71) M dX4_greatest_46 rfl l_X4_88 T rfl rfl T.a71 ?_
              refine g_bipush (q := 51) (v := 9) M dX4_greatest_49 rfl (by decide) ?_
              refine g_iload_n (q := 52) M dX4_greatest_51 rfl rfl ?_
              refine g_imul (q := 53) M dX4_greatest_52 rfl ?_
              refine g_iload (q := 55) M dX4_greatest_53 rfl rfl ?_
              refine g_iadd (q := 56) M dX4_greatest_55 rfl ?_
              refine g_laldN (q := 57) (n := 90) M dX4_greatest_56 rfl T.a71.2.1 rfl T.a71.2.2 (ix9 d) (by omega) (by decide) ?_
              refine g_aload_n (q := 58) M dX4_greatest_57 rfl rfl ?_
              refine g_tw (q := 61) (f := 70) M dX4_greatest_58 rfl l_X4_85 T rfl rfl T.a70 ?_
              refine g_sipush (q := 64) (v := 512) M dX4_greatest_61 rfl (by decide) ?_
              refine g_iload_n (q := 65) M dX4_greatest_64 rfl rfl ?_
              refine g_iconst (q := 66) (v := 1) M dX4_greatest_65 rfl (by decide) ?_
              refine g_iadd (q := 67) M dX4_greatest_66 rfl ?_
              refine g_imul (q := 68) M dX4_greatest_67 rfl ?_
              refine g_iload_n (q := 69) M dX4_greatest_68 rfl rfl ?_
              refine g_iconst (q := 70) (v := 1) M dX4_greatest_69 rfl (by decide) ?_
              refine g_iload (q := 72) M dX4_greatest_70 rfl rfl ?_
              refine g_ishl (q := 73) M dX4_greatest_72 rfl ?_
              refine g_iconst (q := 74) (v := (-1)) M dX4_greatest_73 rfl (by decide) ?_
              refine g_ixor (q := 75) M dX4_greatest_74 rfl ?_
              refine g_iand (q := 76) M dX4_greatest_75 rfl ?_
              rw [day_off s hs d hd ht]
              refine g_iadd (q := 77) M dX4_greatest_76 rfl ?_
              refine g_laldN (q := 78) (n := 5632) M dX4_greatest_77 rfl T.a70.2.1 rfl T.a70.2.2 (ix (s - 2 ^ d)) (by have := Nat.sub_le s (2 ^ d); omega) (by decide) ?_
              refine g_ladd (q := 79) M dX4_greatest_78 rfl ?_
              refine g_lstore (q := 81) (j := 6) M dX4_greatest_79 rfl rfl (Nat.le_of_ble_eq_true rfl) rfl ?_
              dsimp only [st1, st2, kl, List.set_cons_zero, List.set_cons_succ, List.set_nil]
              refine g_lload (q := 83) M dX4_greatest_81 rfl rfl ?_
              refine g_lload_n (q := 84) M dX4_greatest_83 rfl rfl ?_
              refine g_lcmp (q := 85) M dX4_greatest_84 rfl ?_
              refine g_if_le (q := 88) (tgt := 93) M dX4_greatest_85 (by decide) rfl (fun c_85 => ?_) (fun c_85 => ?_)
              · refine g_lload_n (q := 94) M dX4_greatest_93 rfl rfl ?_
                refine g_lstore_n (q := 95) (j := 3) M dX4_greatest_94 rfl rfl (Nat.le_of_ble_eq_true rfl) rfl ?_
                dsimp only [st1, st2, kl, List.set_cons_zero, List.set_cons_succ, List.set_nil]
                refine J _ ?_
                show _ = (if s.testBit d = true then _ else _)
                rw [if_pos ht, if_neg (Int64.not_lt.mpr ((lg_cmp_le _ _).mp c_85))]
              · have c := Int64.not_le.mp (fun z => c_85 ((lg_cmp_le _ _).mpr z))
                refine g_lload (q := 90) M dX4_greatest_88 rfl rfl ?_
                refine g_goto (tgt := 94) M dX4_greatest_90 (by decide) ?_
                refine g_lstore_n (q := 95) (j := 3) M dX4_greatest_94 rfl rfl (Nat.le_of_ble_eq_true rfl) rfl ?_
                dsimp only [st1, st2, kl, List.set_cons_zero, List.set_cons_succ, List.set_nil]
                refine g_iinc (q := 98) (w := 1) M dX4_greatest_95 rfl (Nat.le_of_ble_eq_true rfl) rfl (by decide) rfl ?_
                dsimp only [st1, st2, kl, List.set_cons_zero, List.set_cons_succ, List.set_nil]
                try rw [nI_1]
                refine g_goto (tgt := 18) M dX4_greatest_98 (by decide) ?_
                have := ih (some (vl (yL h (m + 24) (9 * b + d) + yL h (m + 23) (512 * (b + 1) + (s - 2 ^ d)))))
                rw [show spGr (fun d => yL h (m + 24) (9 * b + d)) (fun s' => yL h (m + 23) (512 * (b + 1) + s')) s (d + 1) = yL h (m + 24) (9 * b + d) + yL h (m + 23) (512 * (b + 1) + (s - 2 ^ d)) from by
                  show (if s.testBit d = true then _ else _) = _
                  rw [if_pos ht, if_pos c]] at this
                exact this
    exact L 0 (by decide) none
  · refine g_iload (q := 20) M dX4_greatest_18 rfl rfl ?_
    refine g_bipush (q := 22) (v := 9) M dX4_greatest_20 rfl (by decide) ?_
    refine g_icmp_ge (q := 25) (tgt := 101) M dX4_greatest_22 (by decide) rfl (fun c_22 => ?_) (fun c_22 => ?_)
    · exact absurd c_22 (by decide)
    · refine g_aload_n (q := 26) M dX4_greatest_25 rfl rfl ?_
      refine g_tw (q := 29) (f := 33) M dX4_greatest_26 rfl l_X4_13 T rfl rfl T.a33 ?_
      refine g_iconst (q := 30) (v := 5) M dX4_greatest_29 rfl (by decide) ?_
      refine g_iload_n (q := 31) M dX4_greatest_30 rfl rfl ?_
      refine g_iadd (q := 32) M dX4_greatest_31 rfl ?_
      refine g_ialdN (q := 33) (n := 213) M dX4_greatest_32 rfl T.a33.2.1 rfl T.a33.2.2 (ixk 5 rfl b) (by omega) (by decide) ?_
      refine g_if_ne (q := 36) (tgt := 101) M dX4_greatest_33 (by decide) rfl (fun c_33 => ?_) (fun c_33 => ?_)
      · exact Out _ _ _ _ (if_neg hr).symm
      · exact absurd c_33 hr
/-- what a balloon brings on a day; the totals of the last j balloons, from b on -/
def spGain (A : Nat → Nat → Int32) (nR nW nT b d : Nat) : Int64 := (A 15 b).toInt64 * spEven A nR nW nT (A 16 b).toNatClampNeg d
def spTot (gain : Nat → Nat → Int64) (R : Nat → Int32) : Nat → Nat → Nat → Int64
  | 0, _, _ => 0
  | j + 1, b, s => if R (5 + b) = 0 then spGr (gain b) (spTot gain R j (b + 1)) s 9 else spTot gain R j (b + 1) s
theorem spGr_cong {g g' nx nx' : Nat → Int64} {s : Nat} (h1 : ∀ d, d < 9 → g d = g' d) (h2 : ∀ s', s' ≤ s → nx s' = nx' s') : ∀ d, d ≤ 9 → spGr g nx s d = spGr g' nx' s d
  | 0, _ => h2 s (Nat.le_refl _)
  | d + 1, hd => by
    unfold spGr
    rw [spGr_cong h1 h2 d (by omega), h1 d (by omega), h2 _ (Nat.sub_le _ _)]
def lOk (A : Nat → Nat → Int32) (nR nW nT nB : Nat) (F : Nat → Nat → Int64) : Prop := (∀ b, b < nB → ∀ d, d < 9 → F 24 (9 * b + d) = spGain A nR nW nT b d) ∧ ∀ b, b ≤ nB → ∀ s, s < 512 → F 23 (512 * b + s) = spTot (spGain A nR nW nT) (A 1) (nB - b) b s
theorem c_X4_laysTotals {Z : xZ} {h : xH} {m : Nat} {nR nW nT nB nL : Nat} (T : TW h m) (S : SgV (tA h m) nR nW nT nB nL) (B : SgB (tA h m) nB) : CT Z yX4_laysTotals cX4_laysTotals 3 none 4 0 0 [vr m] h (rV fun h' => ∃ F, h' = lH h m F ∧ lOk (tA h m) nR nW nT nB F) := by
  have hNB : tA h m 14 0 = nI nB := S.1.2.2.2.1.1
  have hl := S.1.2.2.2.1.2
  refine CT.of (E := [some (vr m), none, none]) (by decide +kernel) rfl rfl (Nat.le_of_ble_eq_true rfl) (fun X M Ee => ?_)
  have M : MX Z X cX4_laysTotals "BalloonMailModel" 3 4 none "laysTotals" := M
  -- the totals, from the last balloon down
  have Q3 : ∀ b, b ≤ nB → ∀ e2 F, (∀ b, b < nB → ∀ d, d < 9 → F 24 (9 * b + d) = spGain (tA h m) nR nW nT b d) → (∀ b', b ≤ b' → b' ≤ nB → ∀ s, s < 512 → F 23 (512 * b' + s) = spTot (spGain (tA h m) nR nW nT) (tA h m 1) (nB - b') b' s) → G Z X 0 0 104 [some (vr m), some (vi (nI b - 1)), e2] [] (lH h m F) := by
    intro b
    induction b with
    | zero =>
      intro _ e2 F h1 h2
      rw [show nI 0 - 1 = (-1 : Int32) from by decide]
      refine g_iload_n (q := 105) M dX4_laysTotals_104 rfl rfl ?_
      refine g_if_lt (q := 108) (tgt := 147) M dX4_laysTotals_105 (by decide) rfl (fun c_105 => ?_) (fun c_105 => ?_)
      · refine g_return M Ee dX4_laysTotals_147 ?_
        exact ⟨rfl, F, rfl, h1, fun b hb s hs => h2 b (Nat.zero_le _) hb s hs⟩
      · exact absurd (by decide) c_105
    | succ b ih =>
      intro hb e2 F h1 h2
      rw [nI_pred]
      refine g_iload_n (q := 105) M dX4_laysTotals_104 rfl rfl ?_
      refine g_if_lt (q := 108) (tgt := 147) M dX4_laysTotals_105 (by decide) rfl (fun c_105 => ?_) (fun c_105 => ?_)
      · exact absurd c_105 (nI_pos (by omega))
      · refine g_iconst (q := 109) (v := 0) M dX4_laysTotals_108 rfl (by decide) ?_
        refine g_istore_n (q := 110) (j := 2) M dX4_laysTotals_109 rfl rfl (Nat.le_of_ble_eq_true rfl) rfl ?_
        dsimp only [st1, st2, kl, List.set_cons_zero, List.set_cons_succ, List.set_nil]
        have L : ∀ s, s ≤ 512 → ∀ F, (∀ b, b < nB → ∀ d, d < 9 → F 24 (9 * b + d) = spGain (tA h m) nR nW nT b d) → (∀ b', b + 1 ≤ b' → b' ≤ nB → ∀ s, s < 512 → F 23 (512 * b' + s) = spTot (spGain (tA h m) nR nW nT) (tA h m 1) (nB - b') b' s) → (∀ s', s' < s → F 23 (512 * b + s') = spTot (spGain (tA h m) nR nW nT) (tA h m 1) (nB - b) b s') → G Z X 0 0 110 [some (vr m), some (vi (nI b)), some (vi (nI s))] [] (lH h m F) := by
          refine upLoop 512 ?_ ?_
          · intro F h1 h2 h3
            refine g_iload_n (q := 111) M dX4_laysTotals_110 rfl rfl ?_
            refine g_sipush (q := 114) (v := 512) M dX4_laysTotals_111 rfl (by decide) ?_
            refine g_icmp_ge (q := 117) (tgt := 141) M dX4_laysTotals_114 (by decide) rfl (fun c_114 => ?_) (fun c_114 => ?_)
            · refine g_iinc (q := 144) (w := (-1)) M dX4_laysTotals_141 rfl (Nat.le_of_ble_eq_true rfl) rfl (by decide) rfl ?_
              dsimp only [st1, st2, kl, List.set_cons_zero, List.set_cons_succ, List.set_nil]
              refine g_goto (tgt := 104) M dX4_laysTotals_144 (by decide) ?_
              rw [← Int32.sub_eq_add_neg]
              exact ih (by omega) _ F h1 (fun b' hb' hb2 s hs => by
                by_cases e : b' = b
                · rw [e]; exact h3 s hs
                · exact h2 b' (by omega) hb2 s hs)
            · exact absurd (Int32.le_refl _) c_114
          · intro s hs ihs F h1 h2 h3
            refine g_iload_n (q := 111) M dX4_laysTotals_110 rfl rfl ?_
            refine g_sipush (q := 114) (v := 512) M dX4_laysTotals_111 rfl (by decide) ?_
            refine g_icmp_ge (q := 117) (tgt := 141) M dX4_laysTotals_114 (by decide) rfl (fun c_114 => ?_) (fun c_114 => ?_)
            · exact absurd ((nI_leI (a := 512) (by decide) (by omega)).mp c_114) (by omega)
            · refine g_aload_n (q := 118) M dX4_laysTotals_117 rfl rfl ?_
              refine g_tw (q := 121) (f := 70) M dX4_laysTotals_118 rfl l_X4_85 T rfl rfl T.a70 ?_
              refine g_sipush (q := 124) (v := 512) M dX4_laysTotals_121 rfl (by decide) ?_
              refine g_iload_n (q := 125) M dX4_laysTotals_124 rfl rfl ?_
              refine g_imul (q := 126) M dX4_laysTotals_125 rfl ?_
              refine g_iload_n (q := 127) M dX4_laysTotals_126 rfl rfl ?_
              refine g_iadd (q := 128) M dX4_laysTotals_127 rfl ?_
              refine g_aload_n (q := 129) M dX4_laysTotals_128 rfl rfl ?_
              refine g_iload_n (q := 130) M dX4_laysTotals_129 rfl rfl ?_
              refine g_iload_n (q := 131) M dX4_laysTotals_130 rfl rfl ?_
              refine g_callV (q := 134) M rfl dX4_laysTotals_131 rfl w_X4_285 (c_X4_greatest (h := lH h m F) T (by omega) hs) (isC.of T.1 rfl) rfl rfl (Nat.le_of_ble_eq_true rfl) (by decide) (by omega) (by omega) (r_L ?_)
              rintro x h_131 ⟨rfl, rfl⟩ m_131
              refine g_lastN (q := 135) (n := 5632) M dX4_laysTotals_134 rfl T.a70.2.1 T.a70.2.2 (show (512 : Int32) * nI b + nI s = nI (512 * b + s) from by rw [show (512 : Int32) = nI 512 from rfl, pk_mul, nI_add]) (by omega) (by decide) ?_
              rw [lH_s _ _ _ _ _ _ (by decide)]
              refine g_iinc (q := 138) (w := 1) M dX4_laysTotals_135 rfl (Nat.le_of_ble_eq_true rfl) rfl (by decide) rfl ?_
              dsimp only [st1, st2, kl, List.set_cons_zero, List.set_cons_succ, List.set_nil]
              try rw [nI_1]
              refine g_goto (tgt := 110) M dX4_laysTotals_138 (by decide) ?_
              refine ihs _ (fun b' hb' d hd => ?_) (fun b' hb1 hb2 s' hs' => ?_) (fun s' hs' => ?_)
              · unfold u2; rw [if_neg (by omega)]; exact h1 b' hb' d hd
              · unfold u2; rw [if_neg (by omega)]; exact h2 b' hb1 hb2 s' hs'
              · unfold u2
                by_cases e : s' = s
                · rw [e, if_pos ⟨rfl, rfl⟩]
                  have e1 : ∀ s'', s'' < 512 → yL (lH h m F) (m + 23) (512 * (b + 1) + s'') = spTot (spGain (tA h m) nR nW nT) (tA h m 1) (nB - (b + 1)) (b + 1) s'' := fun s'' hs'' => by
                    rw [lH_r _ _ _ _ (by decide)]; exact h2 (b + 1) (Nat.le_refl _) (by omega) s'' hs''
                  have e2 : ∀ d, d < 9 → yL (lH h m F) (m + 24) (9 * b + d) = spGain (tA h m) nR nW nT b d := fun d hd => by
                    rw [lH_r _ _ _ _ (by decide)]; exact h1 b (by omega) d hd
                  rw [show nB - b = (nB - (b + 1)) + 1 by omega]
                  show (if tA h m 1 (5 + b) = 0 then _ else _) = (if tA h m 1 (5 + b) = 0 then _ else _)
                  rw [e1 s hs]
                  rw [spGr_cong (g' := spGain (tA h m) nR nW nT b) (nx' := spTot (spGain (tA h m) nR nW nT) (tA h m 1) (nB - (b + 1)) (b + 1)) e2 (fun s' h' => e1 s' (by omega)) 9 (Nat.le_refl _)]
                · rw [if_neg (by omega)]; exact h3 s' (by omega)
        exact L 0 (by decide) F h1 h2 (fun s' hs' => absurd hs' (Nat.not_lt_zero _))
  -- the totals behind the last balloon
  have Q2 : ∀ s, s ≤ 512 → ∀ e2 F, (∀ b, b < nB → ∀ d, d < 9 → F 24 (9 * b + d) = spGain (tA h m) nR nW nT b d) → (∀ s', s' < s → F 23 (512 * nB + s') = 0) → G Z X 0 0 64 [some (vr m), some (vi (nI s)), e2] [] (lH h m F) := by
    refine upLoop 512 ?_ ?_
    · intro e2 F h1 h3
      refine g_iload_n (q := 65) M dX4_laysTotals_64 rfl rfl ?_
      refine g_sipush (q := 68) (v := 512) M dX4_laysTotals_65 rfl (by decide) ?_
      refine g_icmp_ge (q := 71) (tgt := 95) M dX4_laysTotals_68 (by decide) rfl (fun c_68 => ?_) (fun c_68 => ?_)
      · refine g_aload_n (q := 96) M dX4_laysTotals_95 rfl rfl ?_
        refine g_tw (q := 99) (f := 46) M dX4_laysTotals_96 rfl l_X4_53 T rfl rfl T.a46 ?_
        refine g_iconst (q := 100) (v := 0) M dX4_laysTotals_99 rfl (by decide) ?_
        refine g_ialdN (q := 101) (n := 2) (k := 0) M dX4_laysTotals_100 rfl T.a46.2.1 rfl T.a46.2.2 rfl (by decide) (by decide) ?_
        rw [show yI (lH h m F) (m + 14) 0 = nI nB from hNB]
        refine g_iconst (q := 102) (v := 1) M dX4_laysTotals_101 rfl (by decide) ?_
        refine g_isub (q := 103) M dX4_laysTotals_102 rfl ?_
        refine g_istore_n (q := 104) (j := 1) M dX4_laysTotals_103 rfl rfl (Nat.le_of_ble_eq_true rfl) rfl ?_
        dsimp only [st1, st2, kl, List.set_cons_zero, List.set_cons_succ, List.set_nil]
        exact Q3 nB (Nat.le_refl _) _ F h1 (fun b' hb1 hb2 s hs => by
          have e : b' = nB := by omega
          rw [e, Nat.sub_self]; exact h3 s hs)
      · exact absurd (Int32.le_refl _) c_68
    · intro s hs ihs e2 F h1 h3
      refine g_iload_n (q := 65) M dX4_laysTotals_64 rfl rfl ?_
      refine g_sipush (q := 68) (v := 512) M dX4_laysTotals_65 rfl (by decide) ?_
      refine g_icmp_ge (q := 71) (tgt := 95) M dX4_laysTotals_68 (by decide) rfl (fun c_68 => ?_) (fun c_68 => ?_)
      · exact absurd ((nI_leI (a := 512) (by decide) (by omega)).mp c_68) (by omega)
      · refine g_aload_n (q := 72) M dX4_laysTotals_71 rfl rfl ?_
        refine g_tw (q := 75) (f := 70) M dX4_laysTotals_72 rfl l_X4_85 T rfl rfl T.a70 ?_
        refine g_sipush (q := 78) (v := 512) M dX4_laysTotals_75 rfl (by decide) ?_
        refine g_aload_n (q := 79) M dX4_laysTotals_78 rfl rfl ?_
        refine g_tw (q := 82) (f := 46) M dX4_laysTotals_79 rfl l_X4_53 T rfl rfl T.a46 ?_
        refine g_iconst (q := 83) (v := 0) M dX4_laysTotals_82 rfl (by decide) ?_
        refine g_ialdN (q := 84) (n := 2) (k := 0) M dX4_laysTotals_83 rfl T.a46.2.1 rfl T.a46.2.2 rfl (by decide) (by decide) ?_
        rw [show yI (lH h m F) (m + 14) 0 = nI nB from hNB]
        refine g_imul (q := 85) M dX4_laysTotals_84 rfl ?_
        refine g_iload_n (q := 86) M dX4_laysTotals_85 rfl rfl ?_
        refine g_iadd (q := 87) M dX4_laysTotals_86 rfl ?_
        refine g_lconst (q := 88) (v := 0) M dX4_laysTotals_87 rfl (by decide) ?_
        refine g_lastN (q := 89) (n := 5632) M dX4_laysTotals_88 rfl T.a70.2.1 T.a70.2.2 (show (512 : Int32) * nI nB + nI s = nI (512 * nB + s) from by rw [show (512 : Int32) = nI 512 from rfl, pk_mul, nI_add]) (by omega) (by decide) ?_
        rw [lH_s _ _ _ _ _ _ (by decide)]
        refine g_iinc (q := 92) (w := 1) M dX4_laysTotals_89 rfl (Nat.le_of_ble_eq_true rfl) rfl (by decide) rfl ?_
        dsimp only [st1, st2, kl, List.set_cons_zero, List.set_cons_succ, List.set_nil]
        try rw [nI_1]
        refine g_goto (tgt := 64) M dX4_laysTotals_92 (by decide) ?_
        refine ihs _ _ (fun b' hb' d hd => ?_) (fun s' hs' => ?_)
        · unfold u2; rw [if_neg (by omega)]; exact h1 b' hb' d hd
        · unfold u2
          by_cases e : s' = s
          · rw [e, if_pos ⟨rfl, rfl⟩]
          · rw [if_neg (by omega)]; exact h3 s' (by omega)
  -- what each balloon brings each day
  have Q1 : ∀ b, b ≤ nB → ∀ e2 F, (∀ b', b' < b → ∀ d, d < 9 → F 24 (9 * b' + d) = spGain (tA h m) nR nW nT b' d) → G Z X 0 0 2 [some (vr m), some (vi (nI b)), e2] [] (lH h m F) := by
    refine upLoop nB ?_ ?_
    · intro e2 F h1
      refine g_iload_n (q := 3) M dX4_laysTotals_2 rfl rfl ?_
      refine g_aload_n (q := 4) M dX4_laysTotals_3 rfl rfl ?_
      refine g_tw (q := 7) (f := 46) M dX4_laysTotals_4 rfl l_X4_53 T rfl rfl T.a46 ?_
      refine g_iconst (q := 8) (v := 0) M dX4_laysTotals_7 rfl (by decide) ?_
      refine g_ialdN (q := 9) (n := 2) (k := 0) M dX4_laysTotals_8 rfl T.a46.2.1 rfl T.a46.2.2 rfl (by decide) (by decide) ?_
      rw [show yI (lH h m F) (m + 14) 0 = nI nB from hNB]
      refine g_icmp_ge (q := 12) (tgt := 62) M dX4_laysTotals_9 (by decide) rfl (fun c_9 => ?_) (fun c_9 => ?_)
      · refine g_iconst (q := 63) (v := 0) M dX4_laysTotals_62 rfl (by decide) ?_
        refine g_istore_n (q := 64) (j := 1) M dX4_laysTotals_63 rfl rfl (Nat.le_of_ble_eq_true rfl) rfl ?_
        dsimp only [st1, st2, kl, List.set_cons_zero, List.set_cons_succ, List.set_nil]
        exact Q2 0 (by decide) _ F h1 (fun s' hs' => absurd hs' (Nat.not_lt_zero _))
      · exact absurd (Int32.le_refl _) c_9
    · intro b hb ihb e2 F h1
      obtain ⟨c, p, hc1, hc2, hp, hc, hpp⟩ := B b hb
      refine g_iload_n (q := 3) M dX4_laysTotals_2 rfl rfl ?_
      refine g_aload_n (q := 4) M dX4_laysTotals_3 rfl rfl ?_
      refine g_tw (q := 7) (f := 46) M dX4_laysTotals_4 rfl l_X4_53 T rfl rfl T.a46 ?_
      refine g_iconst (q := 8) (v := 0) M dX4_laysTotals_7 rfl (by decide) ?_
      refine g_ialdN (q := 9) (n := 2) (k := 0) M dX4_laysTotals_8 rfl T.a46.2.1 rfl T.a46.2.2 rfl (by decide) (by decide) ?_
      rw [show yI (lH h m F) (m + 14) 0 = nI nB from hNB]
      refine g_icmp_ge (q := 12) (tgt := 62) M dX4_laysTotals_9 (by decide) rfl (fun c_9 => ?_) (fun c_9 => ?_)
      · exact absurd ((nI_leI (by omega) (by omega)).mp c_9) (by omega)
      · refine g_iconst (q := 13) (v := 0) M dX4_laysTotals_12 rfl (by decide) ?_
        refine g_istore_n (q := 14) (j := 2) M dX4_laysTotals_13 rfl rfl (Nat.le_of_ble_eq_true rfl) rfl ?_
        dsimp only [st1, st2, kl, List.set_cons_zero, List.set_cons_succ, List.set_nil]
        have L : ∀ d, d ≤ 9 → ∀ F, (∀ b', b' < b → ∀ d, d < 9 → F 24 (9 * b' + d) = spGain (tA h m) nR nW nT b' d) → (∀ d', d' < d → F 24 (9 * b + d') = spGain (tA h m) nR nW nT b d') → G Z X 0 0 14 [some (vr m), some (vi (nI b)), some (vi (nI d))] [] (lH h m F) := by
          refine upLoop 9 ?_ ?_
          · intro F h1 h2
            refine g_iload_n (q := 15) M dX4_laysTotals_14 rfl rfl ?_
            refine g_bipush (q := 17) (v := 9) M dX4_laysTotals_15 rfl (by decide) ?_
            refine g_icmp_ge (q := 20) (tgt := 56) M dX4_laysTotals_17 (by decide) rfl (fun c_17 => ?_) (fun c_17 => ?_)
            · refine g_iinc (q := 59) (w := 1) M dX4_laysTotals_56 rfl (Nat.le_of_ble_eq_true rfl) rfl (by decide) rfl ?_
              dsimp only [st1, st2, kl, List.set_cons_zero, List.set_cons_succ, List.set_nil]
              try rw [nI_1]
              refine g_goto (tgt := 2) M dX4_laysTotals_59 (by decide) ?_
              exact ihb _ F (fun b' hb' d hd => by
                by_cases e : b' = b
                · rw [e]; exact h2 d hd
                · exact h1 b' (by omega) d hd)
            · exact absurd (Int32.le_refl _) c_17
          · intro d hd ihd F h1 h2
            refine g_iload_n (q := 15) M dX4_laysTotals_14 rfl rfl ?_
            refine g_bipush (q := 17) (v := 9) M dX4_laysTotals_15 rfl (by decide) ?_
            refine g_icmp_ge (q := 20) (tgt := 56) M dX4_laysTotals_17 (by decide) rfl (fun c_17 => ?_) (fun c_17 => ?_)
            · exact absurd ((nI_leI (a := 9) (by decide) (by omega)).mp c_17) (by omega)
            · refine g_aload_n (q := 21) M dX4_laysTotals_20 rfl rfl ?_
              refine g_tw (q := 24) (f := 71) M dX4_laysTotals_21 rfl l_X4_88 T rfl rfl T.a71 ?_
              refine g_bipush (q := 26) (v := 9) M dX4_laysTotals_24 rfl (by decide) ?_
              refine g_iload_n (q := 27) M dX4_laysTotals_26 rfl rfl ?_
              refine g_imul (q := 28) M dX4_laysTotals_27 rfl ?_
              refine g_iload_n (q := 29) M dX4_laysTotals_28 rfl rfl ?_
              refine g_iadd (q := 30) M dX4_laysTotals_29 rfl ?_
              refine g_aload_n (q := 31) M dX4_laysTotals_30 rfl rfl ?_
              refine g_tw (q := 34) (f := 47) M dX4_laysTotals_31 rfl l_X4_56 T rfl rfl T.a47 ?_
              refine g_iload_n (q := 35) M dX4_laysTotals_34 rfl rfl ?_
              refine g_ialdN (q := 36) (n := 20) M dX4_laysTotals_35 rfl T.a47.2.1 rfl T.a47.2.2 rfl (by omega) (by decide) ?_
              refine g_i2l (q := 37) M dX4_laysTotals_36 rfl ?_
              refine g_aload_n (q := 38) M dX4_laysTotals_37 rfl rfl ?_
              refine g_aload_n (q := 39) M dX4_laysTotals_38 rfl rfl ?_
              refine g_tw (q := 42) (f := 48) M dX4_laysTotals_39 rfl l_X4_59 T rfl rfl T.a48 ?_
              refine g_iload_n (q := 43) M dX4_laysTotals_42 rfl rfl ?_
              refine g_ialdN (q := 44) (n := 20) M dX4_laysTotals_43 rfl T.a48.2.1 rfl T.a48.2.2 rfl (by omega) (by decide) ?_
              rw [show yI (lH h m F) (m + 16) b = nI p from hpp]
              refine g_iload_n (q := 45) M dX4_laysTotals_44 rfl rfl ?_
              refine g_callV (q := 48) M rfl dX4_laysTotals_45 rfl w_X4_282 (c_X4_evenChance (h := lH h m F) T S (d := d) (by omega) hp) (isC.of T.1 rfl) rfl rfl (Nat.le_of_ble_eq_true rfl) (by decide) (by omega) (by omega) (r_L fun x h_45 hq m_45 => ?_)
              refine g_lmul (q := 49) M dX4_laysTotals_48 rfl ?_
              obtain ⟨⟨g1, g2, rfl⟩, rfl⟩ := hq
              rw [lH_cH]
              refine g_lastN (q := 50) (n := 90) M dX4_laysTotals_49 rfl T.a71.2.1 T.a71.2.2 (show (9 : Int32) * nI b + nI d = nI (9 * b + d) from by rw [show (9 : Int32) = nI 9 from rfl, pk_mul, nI_add]) (by omega) (by decide) ?_
              rw [lH_s _ _ _ _ _ _ (by decide)]
              refine g_iinc (q := 53) (w := 1) M dX4_laysTotals_50 rfl (Nat.le_of_ble_eq_true rfl) rfl (by decide) rfl ?_
              dsimp only [st1, st2, kl, List.set_cons_zero, List.set_cons_succ, List.set_nil]
              try rw [nI_1]
              refine g_goto (tgt := 14) M dX4_laysTotals_53 (by decide) ?_
              refine ihd _ (fun b' hb' d' hd' => ?_) (fun d' hd' => ?_)
              · unfold u2; rw [if_neg (by omega)]; exact h1 b' hb' d' hd'
              · unfold u2
                by_cases e : d' = d
                · rw [e, if_pos ⟨rfl, rfl⟩]
                  unfold spGain
                  rw [hpp, nI_clamp (by omega)]
                  rfl
                · rw [if_neg (by omega)]; exact h2 d' (by omega)
        exact L 0 (by decide) F h1 (fun d' hd' => absurd hd' (Nat.not_lt_zero _))
  refine g_iconst (q := 1) (v := 0) M dX4_laysTotals_0 rfl (by decide) ?_
  refine g_istore_n (q := 2) (j := 1) M dX4_laysTotals_1 rfl rfl (Nat.le_of_ble_eq_true rfl) rfl ?_
  dsimp only [st1, st2, kl, List.set_cons_zero, List.set_cons_succ, List.set_nil]
  have := Q1 0 (Nat.zero_le _) none (fun o => yL h (m + o)) (fun b' hb' => absurd hb' (Nat.not_lt_zero _))
  rw [lH_eta] at this
  exact this
theorem c_X4_assignmentTotal {Z : xZ} {h : xH} {m : Nat} {nR nW nT nB nL : Nat} (T : TW h m) (S : SgV (tA h m) nR nW nT nB nL) (B : SgB (tA h m) nB) : CT Z yX4_assignmentTotal cX4_assignmentTotal 1 (some .long) 5 0 0 [vr m] h (rL fun r h' => (∃ F, h' = lH (pI h 32 m 0) m F) ∧ r = if nW = 0 then -1 else spTot (spGain (tA h m) nR nW nT) (tA h m 1) nB 0 511) := by
  have hNW : tA h m 6 0 = nI nW := S.1.2.1.1
  have h6 := S.1.2.1.2
  refine CT.of (E := [some (vr m)]) (by decide +kernel) rfl rfl (Nat.le_of_ble_eq_true rfl) (fun X M Ee => ?_)
  have M : MX Z X cX4_assignmentTotal "BalloonMailModel" 1 5 (some .long) "assignmentTotal" := M
  refine g_aload_n (q := 1) M dX4_assignmentTotal_0 rfl rfl ?_
  refine g_iconst (q := 2) (v := 0) M dX4_assignmentTotal_1 rfl (by decide) ?_
  refine g_putI (q := 5) (f := 32) M dX4_assignmentTotal_2 rfl l_X4_1 T.1 (by decide +kernel) rfl ⟨rfl, rfl⟩ ?_
  refine g_aload_n (q := 6) M dX4_assignmentTotal_5 rfl rfl ?_
  refine g_tw (q := 9) (f := 38) M dX4_assignmentTotal_6 rfl l_X4_29 T rfl rfl T.a38 ?_
  refine g_iconst (q := 10) (v := 0) M dX4_assignmentTotal_9 rfl (by decide) ?_
  refine g_ialdN (q := 11) (n := 2) (k := 0) M dX4_assignmentTotal_10 rfl T.a38.2.1 rfl T.a38.2.2 rfl (by decide) (by decide) ?_
  rw [show yI (pI h 32 m 0) (m + 6) 0 = nI nW from hNW]
  refine g_if_ne (q := 14) (tgt := 18) M dX4_assignmentTotal_11 (by decide) rfl (fun c_11 => ?_) (fun c_11 => ?_)
  · have hw0 : nW ≠ 0 := fun e => c_11 (by rw [e]; rfl)
    refine g_aload_n (q := 19) M dX4_assignmentTotal_18 rfl rfl ?_
    refine g_callV (q := 22) M rfl dX4_assignmentTotal_19 rfl w_X4_288 (c_X4_laysTotals (T32 T) S B) (isC.of T.1 rfl) rfl rfl (Nat.le_of_ble_eq_true rfl) (by decide) (by omega) (by omega) (r_V fun h_19 hq m_19 => ?_)
    obtain ⟨F, rfl, hF⟩ := hq
    refine g_aload_n (q := 23) M dX4_assignmentTotal_22 rfl rfl ?_
    refine g_tw (q := 26) (f := 70) M dX4_assignmentTotal_23 rfl l_X4_85 T rfl rfl T.a70 ?_
    refine g_sipush (q := 29) (v := 511) M dX4_assignmentTotal_26 rfl (by decide) ?_
    refine g_laldN (q := 30) (n := 5632) (k := 511) M dX4_assignmentTotal_29 rfl T.a70.2.1 rfl T.a70.2.2 rfl (by decide) (by decide) ?_
    rw [lH_r _ _ _ _ (by decide)]
    refine g_lreturn M Ee dX4_assignmentTotal_30 ?_
    refine ⟨_, rfl, ⟨F, rfl⟩, ?_⟩
    rw [if_neg hw0]
    exact hF.2 0 (Nat.zero_le _) 511 (by decide)
  · have hw0 : nW = 0 := (nI_eq (by omega) (by decide)).mp (show nI nW = nI 0 from c_11)
    refine g_ldc2 (q := 17) M dX4_assignmentTotal_14 rfl q2444 ?_
    refine g_lreturn M Ee dX4_assignmentTotal_17 ?_
    exact ⟨_, rfl, ⟨_, (lH_eta _ m).symm⟩, (if_pos hw0).symm⟩
/-- the first place from d on, of n, where p holds -/
def spFst (p : Nat → Prop) [DecidablePred p] : Nat → Nat → Int32
  | 0, _ => -2
  | n + 1, d => if p d then nI d else spFst p n (d + 1)
def fdP (g nx : Nat → Int64) (cur : Int64) (s d : Nat) : Bool := s.testBit d && decide (g d + nx (s - 2 ^ d) = cur)
def spFirst (R : Nat → Int32) (b : Nat) (g nx : Nat → Int64) (cur : Int64) (s : Nat) : Int32 := if R (5 + b) = 0 then spFst (fun d => fdP g nx cur s d = true) 9 0 else -2
theorem c_X4_firstDay {Z : xZ} {h : xH} {m b s : Nat} (T : TW h m) (hb : b < 10) (hs : s < 512) : CT Z yX4_firstDay cX4_firstDay 4 (some .int) 1 0 0 [vr m, vi (nI b), vi (nI s)] h (rI fun r h' => h = h' ∧ r = spFirst (tA h m 1) b (fun d => yL h (m + 24) (9 * b + d)) (fun s' => yL h (m + 23) (512 * (b + 1) + s')) (yL h (m + 23) (512 * b + s)) s) := by
  have ix : ∀ k, (512 : Int32) * (nI b + 1) + nI k = nI (512 * (b + 1) + k) := fun k => by rw [nI_1, show (512 : Int32) = nI 512 from rfl, pk_mul, nI_add]
  have ix0 : ∀ k, (512 : Int32) * nI b + nI k = nI (512 * b + k) := fun k => by rw [show (512 : Int32) = nI 512 from rfl, pk_mul, nI_add]
  have ix9 : ∀ k, (9 : Int32) * nI b + nI k = nI (9 * b + k) := fun k => by rw [show (9 : Int32) = nI 9 from rfl, pk_mul, nI_add]
  refine CT.of (E := [some (vr m), some (vi (nI b)), some (vi (nI s)), none]) (by decide +kernel) rfl rfl (Nat.le_of_ble_eq_true rfl) (fun X M Ee => ?_)
  have M : MX Z X cX4_firstDay "BalloonMailModel" 4 1 (some .int) "firstDay" := M
  refine g_aload_n (q := 1) M dX4_firstDay_0 rfl rfl ?_
  refine g_tw (q := 4) (f := 33) M dX4_firstDay_1 rfl l_X4_13 T rfl rfl T.a33 ?_
  refine g_iconst (q := 5) (v := 5) M dX4_firstDay_4 rfl (by decide) ?_
  refine g_iload_n (q := 6) M dX4_firstDay_5 rfl rfl ?_
  refine g_iadd (q := 7) M dX4_firstDay_6 rfl ?_
  refine g_ialdN (q := 8) (n := 213) M dX4_firstDay_7 rfl T.a33.2.1 rfl T.a33.2.2 (ixk 5 rfl b) (by omega) (by decide) ?_
  refine g_if_eq (q := 11) (tgt := 14) M dX4_firstDay_8 (by decide) rfl (fun c_8 => ?_) (fun c_8 => ?_)
  · refine g_iconst (q := 15) (v := 0) M dX4_firstDay_14 rfl (by decide) ?_
    refine g_istore_n (q := 16) (j := 3) M dX4_firstDay_15 rfl rfl (Nat.le_of_ble_eq_true rfl) rfl ?_
    dsimp only [st1, st2, kl, List.set_cons_zero, List.set_cons_succ, List.set_nil]
    have L : ∀ n d, d + n = 9 → spFirst (tA h m 1) b (fun d => yL h (m + 24) (9 * b + d)) (fun s' => yL h (m + 23) (512 * (b + 1) + s')) (yL h (m + 23) (512 * b + s)) s = spFst (fun d => fdP (fun d => yL h (m + 24) (9 * b + d)) (fun s' => yL h (m + 23) (512 * (b + 1) + s')) (yL h (m + 23) (512 * b + s)) s d = true) n d → G Z X 0 0 16 [some (vr m), some (vi (nI b)), some (vi (nI s)), some (vi (nI d))] [] h := by
      intro n
      induction n with
      | zero =>
        intro d hd he
        refine g_iload_n (q := 17) M dX4_firstDay_16 rfl rfl ?_
        refine g_bipush (q := 19) (v := 9) M dX4_firstDay_17 rfl (by decide) ?_
        refine g_icmp_ge (q := 22) (tgt := 86) M dX4_firstDay_19 (by decide) rfl (fun c_19 => ?_) (fun c_19 => ?_)
        · refine g_bipush (q := 88) (v := (-2)) M dX4_firstDay_86 rfl (by decide) ?_
          refine g_ireturn M Ee dX4_firstDay_88 ?_
          exact ⟨_, rfl, rfl, he.symm⟩
        · exact absurd (nI_le (a := 9) (by omega) (by omega)) c_19
      | succ n ih =>
        intro d hd he
        have J : ¬ fdP (fun d => yL h (m + 24) (9 * b + d)) (fun s' => yL h (m + 23) (512 * (b + 1) + s')) (yL h (m + 23) (512 * b + s)) s d = true → G Z X 0 0 80 [some (vr m), some (vi (nI b)), some (vi (nI s)), some (vi (nI d))] [] h := by
          intro hn
          refine g_iinc (q := 83) (w := 1) M dX4_firstDay_80 rfl (Nat.le_of_ble_eq_true rfl) rfl (by decide) rfl ?_
          dsimp only [st1, st2, kl, List.set_cons_zero, List.set_cons_succ, List.set_nil]
          try rw [nI_1]
          refine g_goto (tgt := 16) M dX4_firstDay_83 (by decide) ?_
          exact ih (d + 1) (by omega) (he.trans (if_neg hn))
        refine g_iload_n (q := 17) M dX4_firstDay_16 rfl rfl ?_
        refine g_bipush (q := 19) (v := 9) M dX4_firstDay_17 rfl (by decide) ?_
        refine g_icmp_ge (q := 22) (tgt := 86) M dX4_firstDay_19 (by decide) rfl (fun c_19 => ?_) (fun c_19 => ?_)
        · exact absurd ((nI_leI (a := 9) (by decide) (by omega)).mp c_19) (by omega)
        · refine g_iload_n (q := 23) M dX4_firstDay_22 rfl rfl ?_
          refine g_iload_n (q := 24) M dX4_firstDay_23 rfl rfl ?_
          refine g_callS (q := 27) M rfl dX4_firstDay_24 rfl w_X4_173 c_X4_has rfl rfl (Nat.le_of_ble_eq_true rfl) (by decide) (by omega) (by omega) (r_I ?_)
          rintro x h_24 ⟨rfl, rfl⟩ m_24
          rw [day_has s hs d (by omega)]
          refine g_if_eq (q := 30) (tgt := 80) M dX4_firstDay_27 (by decide) rfl (fun c_27 => ?_) (fun c_27 => ?_)
          · exact J (by unfold fdP; rw [bI_0.mp c_27, Bool.false_and]; exact Bool.false_ne_true)
          · have ht : s.testBit d = true := by simpa [bI_0] using c_27
            refine g_aload_n (q := 31) M dX4_firstDay_30 rfl rfl ?_
            refine g_tw (q := 34) (f := 71) M dX4_firstDay_31 rfl l_X4_88 T rfl rfl T.a71 ?_
            refine g_bipush (q := 36) (v := 9) M dX4_firstDay_34 rfl (by decide) ?_
            refine g_iload_n (q := 37) M dX4_firstDay_36 rfl rfl ?_
            refine g_imul (q := 38) M dX4_firstDay_37 rfl ?_
            refine g_iload_n (q := 39) M dX4_firstDay_38 rfl rfl ?_
            refine g_iadd (q := 40) M dX4_firstDay_39 rfl ?_
            refine g_laldN (q := 41) (n := 90) M dX4_firstDay_40 rfl T.a71.2.1 rfl T.a71.2.2 (ix9 d) (by omega) (by decide) ?_
            refine g_aload_n (q := 42) M dX4_firstDay_41 rfl rfl ?_
            refine g_tw (q := 45) (f := 70) M dX4_firstDay_42 rfl l_X4_85 T rfl rfl T.a70 ?_
            refine g_sipush (q := 48) (v := 512) M dX4_firstDay_45 rfl (by decide) ?_
            refine g_iload_n (q := 49) M dX4_firstDay_48 rfl rfl ?_
            refine g_iconst (q := 50) (v := 1) M dX4_firstDay_49 rfl (by decide) ?_
            refine g_iadd (q := 51) M dX4_firstDay_50 rfl ?_
            refine g_imul (q := 52) M dX4_firstDay_51 rfl ?_
            refine g_iload_n (q := 53) M dX4_firstDay_52 rfl rfl ?_
            refine g_iconst (q := 54) (v := 1) M dX4_firstDay_53 rfl (by decide) ?_
            refine g_iload_n (q := 55) M dX4_firstDay_54 rfl rfl ?_
            refine g_ishl (q := 56) M dX4_firstDay_55 rfl ?_
            refine g_iconst (q := 57) (v := (-1)) M dX4_firstDay_56 rfl (by decide) ?_
            refine g_ixor (q := 58) M dX4_firstDay_57 rfl ?_
            refine g_iand (q := 59) M dX4_firstDay_58 rfl ?_
            rw [day_off s hs d (by omega) ht]
            refine g_iadd (q := 60) M dX4_firstDay_59 rfl ?_
            refine g_laldN (q := 61) (n := 5632) M dX4_firstDay_60 rfl T.a70.2.1 rfl T.a70.2.2 (ix (s - 2 ^ d)) (by have := Nat.sub_le s (2 ^ d); omega) (by decide) ?_
            refine g_ladd (q := 62) M dX4_firstDay_61 rfl ?_
            refine g_aload_n (q := 63) M dX4_firstDay_62 rfl rfl ?_
            refine g_tw (q := 66) (f := 70) M dX4_firstDay_63 rfl l_X4_85 T rfl rfl T.a70 ?_
            refine g_sipush (q := 69) (v := 512) M dX4_firstDay_66 rfl (by decide) ?_
            refine g_iload_n (q := 70) M dX4_firstDay_69 rfl rfl ?_
            refine g_imul (q := 71) M dX4_firstDay_70 rfl ?_
            refine g_iload_n (q := 72) M dX4_firstDay_71 rfl rfl ?_
            refine g_iadd (q := 73) M dX4_firstDay_72 rfl ?_
            refine g_laldN (q := 74) (n := 5632) M dX4_firstDay_73 rfl T.a70.2.1 rfl T.a70.2.2 (ix0 s) (by omega) (by decide) ?_
            refine g_lcmp (q := 75) M dX4_firstDay_74 rfl ?_
            refine g_if_ne (q := 78) (tgt := 80) M dX4_firstDay_75 (by decide) rfl (fun c_75 => ?_) (fun c_75 => ?_)
            · refine J (fun z => c_75 ((lg_cmp_eq _ _).mpr ?_))
              unfold fdP at z
              rw [ht, Bool.true_and, decide_eq_true_eq] at z
              exact z
            · refine g_iload_n (q := 79) M dX4_firstDay_78 rfl rfl ?_
              refine g_ireturn M Ee dX4_firstDay_79 ?_
              refine ⟨_, rfl, rfl, ?_⟩
              rw [he]
              refine (if_pos ?_).symm
              unfold fdP
              dsimp only
              rw [ht, Bool.true_and, decide_eq_true_eq]
              exact (lg_cmp_eq _ _).mp c_75
    exact L 9 0 rfl (if_pos c_8)
  · refine g_bipush (q := 13) (v := (-2)) M dX4_firstDay_11 rfl (by decide) ?_
    refine g_ireturn M Ee dX4_firstDay_13 ?_
    exact ⟨_, rfl, rfl, (if_neg c_8).symm⟩
theorem spFst_in (p : Nat → Prop) [DecidablePred p] : ∀ n d, spFst p n d = -2 ∨ ∃ k, d ≤ k ∧ k < d + n ∧ p k ∧ spFst p n d = nI k
  | 0, d => Or.inl rfl
  | n + 1, d => by
    by_cases h : p d
    · exact Or.inr ⟨d, Nat.le_refl _, by omega, h, if_pos h⟩
    · rcases spFst_in p n (d + 1) with e | ⟨k, a1, a2, a3, e⟩
      · exact Or.inl ((if_neg h).trans e)
      · exact Or.inr ⟨k, by omega, by omega, a3, (if_neg h).trans e⟩
/-- sets of days left and the day of each balloon, one by one -/
def spAsg (R : Nat → Int32) (gain : Nat → Nat → Int64) (tot : Nat → Nat → Int64) : Nat → Nat × Int32
  | 0 => (511, -2)
  | b + 1 => (let s := (spAsg R gain tot b).1; let d := spFirst R b (gain b) (tot (b + 1)) (tot b s) s; (if d = -2 then s else s - 2 ^ d.toNatClampNeg, d))
theorem spAsg_lt (R : Nat → Int32) (gain : Nat → Nat → Int64) (tot : Nat → Nat → Int64) : ∀ b, (spAsg R gain tot b).1 < 512
  | 0 => show 511 < 512 by decide
  | b + 1 => by
    have := spAsg_lt R gain tot b
    show (if _ then _ else _) < 512
    split
    · exact this
    · exact Nat.lt_of_le_of_lt (Nat.sub_le _ _) this
theorem spFst_cong {p p' : Nat → Prop} [DecidablePred p] [DecidablePred p'] : ∀ n d, (∀ k, d ≤ k → k < d + n → (p k ↔ p' k)) → spFst p n d = spFst p' n d
  | 0, _, _ => rfl
  | n + 1, d, h => by
    unfold spFst
    rw [spFst_cong n (d + 1) (fun k a b => h k (by omega) (by omega))]
    have := h d (Nat.le_refl _) (by omega)
    by_cases e : p d
    · rw [if_pos e, if_pos (this.mp e)]
    · rw [if_neg e, if_neg (fun z => e (this.mpr z))]
theorem spFirst_cong {R : Nat → Int32} {b s : Nat} {g g' nx nx' : Nat → Int64} {c c' : Int64} (h1 : ∀ d, d < 9 → g d = g' d) (h2 : ∀ s', s' ≤ s → nx s' = nx' s') (h3 : c = c') : spFirst R b g nx c s = spFirst R b g' nx' c' s := by
  unfold spFirst
  split
  · refine spFst_cong 9 0 (fun k _ hk => ?_)
    unfold fdP
    rw [h1 k (by omega), h2 _ (Nat.sub_le _ _), h3]
  · rfl
theorem spFirst_in {R : Nat → Int32} {b s : Nat} {g nx : Nat → Int64} {c : Int64} : spFirst R b g nx c s = -2 ∨ ∃ k, k < 9 ∧ s.testBit k = true ∧ spFirst R b g nx c s = nI k := by
  unfold spFirst
  split
  · rcases spFst_in (fun d => fdP g nx c s d = true) 9 0 with e | ⟨k, _, a2, a3, e⟩
    · exact Or.inl e
    · refine Or.inr ⟨k, by omega, ?_, e⟩
      unfold fdP at a3
      exact (Bool.and_eq_true _ _ ▸ a3).1
  · exact Or.inl rfl
theorem c_X4_assignedDay {Z : xZ} {h : xH} {m : Nat} {b0 : Int32} {nR nW nT nB nL : Nat} (T : TW h m) (S : SgV (tA h m) nR nW nT nB nL) (B : SgB (tA h m) nB) : CT Z yX4_assignedDay cX4_assignedDay 5 (some .int) 5 0 0 [vr m, vi b0] h (rI fun r h' => (∃ F, h' = lH (pI h 32 m 0) m F) ∧ (¬ ((0 ≤ b0 ∧ b0 ≤ nI nB - 1) ∧ nW ≠ 0) → r = -1) ∧ (∀ b, b < nB → nW ≠ 0 → b0 = nI b → r = (spAsg (tA h m 1) (spGain (tA h m) nR nW nT) (fun b => spTot (spGain (tA h m) nR nW nT) (tA h m 1) (nB - b) b) (b + 1)).2)) := by
  have hNW : tA h m 6 0 = nI nW := S.1.2.1.1
  have h6 := S.1.2.1.2
  have hNB : tA h m 14 0 = nI nB := S.1.2.2.2.1.1
  have hl := S.1.2.2.2.1.2
  refine CT.of (E := [some (vr m), some (vi b0), none, none, none]) (by decide +kernel) rfl rfl (Nat.le_of_ble_eq_true rfl) (fun X M Ee => ?_)
  have M : MX Z X cX4_assignedDay "BalloonMailModel" 5 5 (some .int) "assignedDay" := M
  have N : ¬ ((0 ≤ b0 ∧ b0 ≤ nI nB - 1) ∧ nW ≠ 0) → G Z X 0 0 22 [some (vr m), some (vi b0), none, none, none] [] (pI h 32 m 0) := by
    intro hn
    refine g_iconst (q := 23) (v := (-1)) M dX4_assignedDay_22 rfl (by decide) ?_
    refine g_ireturn M Ee dX4_assignedDay_23 ?_
    refine ⟨_, rfl, ⟨_, (lH_eta _ m).symm⟩, fun _ => rfl, fun b hb hw e => absurd ⟨⟨?_, ?_⟩, hw⟩ hn⟩
    · rw [e]; exact nI_pos' (by omega)
    · rw [e, show nI nB - 1 = nI nB - nI 1 from rfl, pk_sub (by omega)]; exact nI_le (by omega) (by omega)
  refine g_aload_n (q := 1) M dX4_assignedDay_0 rfl rfl ?_
  refine g_iconst (q := 2) (v := 0) M dX4_assignedDay_1 rfl (by decide) ?_
  refine g_putI (q := 5) (f := 32) M dX4_assignedDay_2 rfl l_X4_1 T.1 (by decide +kernel) rfl ⟨rfl, rfl⟩ ?_
  refine g_aload_n (q := 6) M dX4_assignedDay_5 rfl rfl ?_
  refine g_iload_n (q := 7) M dX4_assignedDay_6 rfl rfl ?_
  refine g_callV (q := 10) M rfl dX4_assignedDay_7 rfl w_X4_246 (c_X4_isBalloon (T32 T)) (isC.of T.1 rfl) rfl rfl (Nat.le_of_ble_eq_true rfl) (by decide) (by omega) (by omega) (r_I ?_)
  rintro x h_7 ⟨rfl, rfl⟩ m_7
  rw [show tA (pI h 32 m 0) m 14 0 = nI nB from hNB]
  refine g_if_eq (q := 13) (tgt := 22) M dX4_assignedDay_10 (by decide) rfl (fun c_10 => ?_) (fun c_10 => ?_)
  · exact N (fun z => bI_d.mp c_10 z.1)
  · refine g_aload_n (q := 14) M dX4_assignedDay_13 rfl rfl ?_
    refine g_tw (q := 17) (f := 38) M dX4_assignedDay_14 rfl l_X4_29 T rfl rfl T.a38 ?_
    refine g_iconst (q := 18) (v := 0) M dX4_assignedDay_17 rfl (by decide) ?_
    refine g_ialdN (q := 19) (n := 2) (k := 0) M dX4_assignedDay_18 rfl T.a38.2.1 rfl T.a38.2.2 rfl (by decide) (by decide) ?_
    rw [show yI (pI h 32 m 0) (m + 6) 0 = nI nW from hNW]
    refine g_if_ne (q := 22) (tgt := 24) M dX4_assignedDay_19 (by decide) rfl (fun c_19 => ?_) (fun c_19 => ?_)
    · have c1 := bI_n.mp c_10
      have hw0 : nW ≠ 0 := fun e => c_19 (by rw [e]; rfl)
      obtain ⟨b, hb, rfl⟩ := nI_m1 (by omega) c1.1 c1.2
      refine g_aload_n (q := 25) M dX4_assignedDay_24 rfl rfl ?_
      refine g_callV (q := 28) M rfl dX4_assignedDay_25 rfl w_X4_288 (c_X4_laysTotals (T32 T) S B) (isC.of T.1 rfl) rfl rfl (Nat.le_of_ble_eq_true rfl) (by decide) (by omega) (by omega) (r_V fun h_25 hq m_25 => ?_)
      obtain ⟨F, rfl, hF⟩ := hq
      refine g_sipush (q := 31) (v := 511) M dX4_assignedDay_28 rfl (by decide) ?_
      refine g_istore_n (q := 32) (j := 2) M dX4_assignedDay_31 rfl rfl (Nat.le_of_ble_eq_true rfl) rfl ?_
      dsimp only [st1, st2, kl, List.set_cons_zero, List.set_cons_succ, List.set_nil]
      refine g_bipush (q := 34) (v := (-2)) M dX4_assignedDay_32 rfl (by decide) ?_
      refine g_istore_n (q := 35) (j := 3) M dX4_assignedDay_34 rfl rfl (Nat.le_of_ble_eq_true rfl) rfl ?_
      dsimp only [st1, st2, kl, List.set_cons_zero, List.set_cons_succ, List.set_nil]
      refine g_iconst (q := 36) (v := 0) M dX4_assignedDay_35 rfl (by decide) ?_
      refine g_istore (q := 38) (j := 4) M dX4_assignedDay_36 rfl rfl (Nat.le_of_ble_eq_true rfl) rfl ?_
      dsimp only [st1, st2, kl, List.set_cons_zero, List.set_cons_succ, List.set_nil]
      have L : ∀ k, k ≤ b + 1 → G Z X 0 0 38 [some (vr m), some (vi (nI b)), some (vi (nI (spAsg (tA h m 1) (spGain (tA h m) nR nW nT) (fun b => spTot (spGain (tA h m) nR nW nT) (tA h m 1) (nB - b) b) k).1)), some (vi (spAsg (tA h m 1) (spGain (tA h m) nR nW nT) (fun b => spTot (spGain (tA h m) nR nW nT) (tA h m 1) (nB - b) b) k).2), some (vi (nI k))] [] (lH (pI h 32 m 0) m F) := by
        refine upLoop (b + 1) ?_ ?_
        · refine g_iload (q := 40) M dX4_assignedDay_38 rfl rfl ?_
          refine g_iload_n (q := 41) M dX4_assignedDay_40 rfl rfl ?_
          refine g_icmp_gt (q := 44) (tgt := 76) M dX4_assignedDay_41 (by decide) rfl (fun c_41 => ?_) (fun c_41 => ?_)
          · refine g_iload_n (q := 77) M dX4_assignedDay_76 rfl rfl ?_
            refine g_ireturn M Ee dX4_assignedDay_77 ?_
            refine ⟨_, rfl, ⟨F, rfl⟩, fun z => absurd ⟨c1, hw0⟩ z, fun b' hb' _ e => ?_⟩
            rw [(nI_eq (by omega) (by omega)).mp e]
          · exact absurd (nI_lt (by omega) (by omega)) c_41
        · intro k hk ih
          have hs := spAsg_lt (tA h m 1) (spGain (tA h m) nR nW nT) (fun b => spTot (spGain (tA h m) nR nW nT) (tA h m 1) (nB - b) b) k
          have hst : spAsg (tA h m 1) (spGain (tA h m) nR nW nT) (fun b => spTot (spGain (tA h m) nR nW nT) (tA h m 1) (nB - b) b) (k + 1) = (if spFirst (tA h m 1) k (spGain (tA h m) nR nW nT k) (spTot (spGain (tA h m) nR nW nT) (tA h m 1) (nB - (k + 1)) (k + 1)) (spTot (spGain (tA h m) nR nW nT) (tA h m 1) (nB - k) k (spAsg (tA h m 1) (spGain (tA h m) nR nW nT) (fun b => spTot (spGain (tA h m) nR nW nT) (tA h m 1) (nB - b) b) k).1) (spAsg (tA h m 1) (spGain (tA h m) nR nW nT) (fun b => spTot (spGain (tA h m) nR nW nT) (tA h m 1) (nB - b) b) k).1 = -2 then (spAsg (tA h m 1) (spGain (tA h m) nR nW nT) (fun b => spTot (spGain (tA h m) nR nW nT) (tA h m 1) (nB - b) b) k).1 else (spAsg (tA h m 1) (spGain (tA h m) nR nW nT) (fun b => spTot (spGain (tA h m) nR nW nT) (tA h m 1) (nB - b) b) k).1 - 2 ^ (spFirst (tA h m 1) k (spGain (tA h m) nR nW nT k) (spTot (spGain (tA h m) nR nW nT) (tA h m 1) (nB - (k + 1)) (k + 1)) (spTot (spGain (tA h m) nR nW nT) (tA h m 1) (nB - k) k (spAsg (tA h m 1) (spGain (tA h m) nR nW nT) (fun b => spTot (spGain (tA h m) nR nW nT) (tA h m 1) (nB - b) b) k).1) (spAsg (tA h m 1) (spGain (tA h m) nR nW nT) (fun b => spTot (spGain (tA h m) nR nW nT) (tA h m 1) (nB - b) b) k).1).toNatClampNeg, spFirst (tA h m 1) k (spGain (tA h m) nR nW nT k) (spTot (spGain (tA h m) nR nW nT) (tA h m 1) (nB - (k + 1)) (k + 1)) (spTot (spGain (tA h m) nR nW nT) (tA h m 1) (nB - k) k (spAsg (tA h m 1) (spGain (tA h m) nR nW nT) (fun b => spTot (spGain (tA h m) nR nW nT) (tA h m 1) (nB - b) b) k).1) (spAsg (tA h m 1) (spGain (tA h m) nR nW nT) (fun b => spTot (spGain (tA h m) nR nW nT) (tA h m 1) (nB - b) b) k).1) := rfl
          generalize (spAsg (tA h m 1) (spGain (tA h m) nR nW nT) (fun b => spTot (spGain (tA h m) nR nW nT) (tA h m 1) (nB - b) b) k).2 = dd
          generalize (spAsg (tA h m 1) (spGain (tA h m) nR nW nT) (fun b => spTot (spGain (tA h m) nR nW nT) (tA h m 1) (nB - b) b) k).1 = s at hs hst ⊢
          rw [hst] at ih
          have hf : spFirst (tA (lH (pI h 32 m 0) m F) m 1) k (fun d => yL (lH (pI h 32 m 0) m F) (m + 24) (9 * k + d)) (fun s' => yL (lH (pI h 32 m 0) m F) (m + 23) (512 * (k + 1) + s')) (yL (lH (pI h 32 m 0) m F) (m + 23) (512 * k + s)) s = spFirst (tA h m 1) k (spGain (tA h m) nR nW nT k) (spTot (spGain (tA h m) nR nW nT) (tA h m 1) (nB - (k + 1)) (k + 1)) (spTot (spGain (tA h m) nR nW nT) (tA h m 1) (nB - k) k s) s := by
            refine spFirst_cong (fun d hd => ?_) (fun s' hs' => ?_) ?_
            · rw [lH_r _ _ _ _ (by decide)]; exact hF.1 k (by omega) d hd
            · rw [lH_r _ _ _ _ (by decide)]; exact hF.2 (k + 1) (by omega) s' (by omega)
            · rw [lH_r _ _ _ _ (by decide)]; exact hF.2 k (by omega) s hs
          refine g_iload (q := 40) M dX4_assignedDay_38 rfl rfl ?_
          refine g_iload_n (q := 41) M dX4_assignedDay_40 rfl rfl ?_
          refine g_icmp_gt (q := 44) (tgt := 76) M dX4_assignedDay_41 (by decide) rfl (fun c_41 => ?_) (fun c_41 => ?_)
          · exact absurd ((nI_ltI (by omega) (by omega)).mp c_41) (by omega)
          · refine g_aload_n (q := 45) M dX4_assignedDay_44 rfl rfl ?_
            refine g_iload (q := 47) M dX4_assignedDay_45 rfl rfl ?_
            refine g_iload_n (q := 48) M dX4_assignedDay_47 rfl rfl ?_
            refine g_callV (q := 51) M rfl dX4_assignedDay_48 rfl w_X4_291 (c_X4_firstDay (h := lH (pI h 32 m 0) m F) T (by omega) hs) (isC.of T.1 rfl) rfl rfl (Nat.le_of_ble_eq_true rfl) (by decide) (by omega) (by omega) (r_I ?_)
            rintro x h_48 ⟨rfl, rfl⟩ m_48
            rw [hf]
            rcases spFirst_in (R := tA h m 1) (b := k) (s := s) (g := spGain (tA h m) nR nW nT k) (nx := spTot (spGain (tA h m) nR nW nT) (tA h m 1) (nB - (k + 1)) (k + 1)) (c := spTot (spGain (tA h m) nR nW nT) (tA h m 1) (nB - k) k s) with e | ⟨j, hj, ht, e⟩
            · rw [e] at ih ⊢
              refine g_istore_n (q := 52) (j := 3) M dX4_assignedDay_51 rfl rfl (Nat.le_of_ble_eq_true rfl) rfl ?_
              dsimp only [st1, st2, kl, List.set_cons_zero, List.set_cons_succ, List.set_nil]
              refine g_iload_n (q := 53) M dX4_assignedDay_52 rfl rfl ?_
              refine g_iload_n (q := 54) M dX4_assignedDay_53 rfl rfl ?_
              refine g_bipush (q := 56) (v := (-2)) M dX4_assignedDay_54 rfl (by decide) ?_
              refine g_icmp_ne (q := 59) (tgt := 63) M dX4_assignedDay_56 (by decide) rfl (fun c_56 => ?_) (fun c_56 => ?_)
              · exact absurd rfl c_56
              · refine g_iload_n (q := 60) M dX4_assignedDay_59 rfl rfl ?_
                refine g_goto (tgt := 68) M dX4_assignedDay_60 (by decide) ?_
                refine g_iand (q := 69) M dX4_assignedDay_68 rfl ?_
                rw [show nI s &&& nI s = nI s from Int32.and_self]
                refine g_istore_n (q := 70) (j := 2) M dX4_assignedDay_69 rfl rfl (Nat.le_of_ble_eq_true rfl) rfl ?_
                dsimp only [st1, st2, kl, List.set_cons_zero, List.set_cons_succ, List.set_nil]
                refine g_iinc (q := 73) (w := 1) M dX4_assignedDay_70 rfl (Nat.le_of_ble_eq_true rfl) rfl (by decide) rfl ?_
                dsimp only [st1, st2, kl, List.set_cons_zero, List.set_cons_succ, List.set_nil]
                try rw [nI_1]
                refine g_goto (tgt := 38) M dX4_assignedDay_73 (by decide) ?_
                exact ih
            · rw [e] at ih ⊢
              have hne : nI j ≠ -2 := fun z => by
                have := nI_pos' (n := j) (by omega)
                rw [z] at this
                exact absurd this (by decide)
              refine g_istore_n (q := 52) (j := 3) M dX4_assignedDay_51 rfl rfl (Nat.le_of_ble_eq_true rfl) rfl ?_
              dsimp only [st1, st2, kl, List.set_cons_zero, List.set_cons_succ, List.set_nil]
              refine g_iload_n (q := 53) M dX4_assignedDay_52 rfl rfl ?_
              refine g_iload_n (q := 54) M dX4_assignedDay_53 rfl rfl ?_
              refine g_bipush (q := 56) (v := (-2)) M dX4_assignedDay_54 rfl (by decide) ?_
              refine g_icmp_ne (q := 59) (tgt := 63) M dX4_assignedDay_56 (by decide) rfl (fun c_56 => ?_) (fun c_56 => ?_)
              · refine g_iconst (q := 64) (v := 1) M dX4_assignedDay_63 rfl (by decide) ?_
                refine g_iload_n (q := 65) M dX4_assignedDay_64 rfl rfl ?_
                refine g_ishl (q := 66) M dX4_assignedDay_65 rfl ?_
                refine g_iconst (q := 67) (v := (-1)) M dX4_assignedDay_66 rfl (by decide) ?_
                refine g_ixor (q := 68) M dX4_assignedDay_67 rfl ?_
                refine g_iand (q := 69) M dX4_assignedDay_68 rfl ?_
                rw [day_off s hs j hj ht]
                refine g_istore_n (q := 70) (j := 2) M dX4_assignedDay_69 rfl rfl (Nat.le_of_ble_eq_true rfl) rfl ?_
                dsimp only [st1, st2, kl, List.set_cons_zero, List.set_cons_succ, List.set_nil]
                refine g_iinc (q := 73) (w := 1) M dX4_assignedDay_70 rfl (Nat.le_of_ble_eq_true rfl) rfl (by decide) rfl ?_
                dsimp only [st1, st2, kl, List.set_cons_zero, List.set_cons_succ, List.set_nil]
                try rw [nI_1]
                refine g_goto (tgt := 38) M dX4_assignedDay_73 (by decide) ?_
                rw [if_neg hne, nI_clamp (by omega)] at ih
                exact ih
              · exact absurd c_56 hne
      exact L 0 (Nat.zero_le _)
    · have hw0 : nW = 0 := (nI_eq (by omega) (by decide)).mp (show nI nW = nI 0 from c_19)
      exact N (fun z => z.2 hw0)
