/-! THE TWIN: loads -/
set_option maxRecDepth 100000
/-- the greatest priority of the exact weight w out of the first k letters; -1: there is none -/
def spX (A : Nat → Nat → Int32) : Nat → Nat → Int32
  | 0, w => if w = 0 then 0 else -1
  | k + 1, w => (let wi := if A 1 (35 + k) = 0 ∧ (A 18 k).toNatClampNeg ≤ w then spX A k (w - (A 18 k).toNatClampNeg) else -1; if 0 ≤ wi ∧ spX A k w < wi + A 19 k then wi + A 19 k else spX A k w)
theorem spX_s (A : Nat → Nat → Int32) (k w : Nat) (wi : Int32) (hw : wi = if A 1 (35 + k) = 0 ∧ (A 18 k).toNatClampNeg ≤ w then spX A k (w - (A 18 k).toNatClampNeg) else -1) : spX A (k + 1) w = if 0 ≤ wi ∧ spX A k w < wi + A 19 k then wi + A 19 k else spX A k w := by
  rw [hw]
  rfl
/-- the first place with the greatest value of n -/
def spArg (f : Nat → Int32) : Nat → Nat
  | 0 => 0
  | v + 1 => if f (spArg f v) < f v then v else spArg f v
theorem spArg_lt (f : Nat → Int32) : ∀ n, spArg f (n + 1) ≤ n
  | 0 => by
    show (if _ then _ else _) ≤ 0
    split <;> exact Nat.le_refl _
  | n + 1 => by
    have := spArg_lt f n
    show (if _ then _ else _) ≤ n + 1
    split
    · exact Nat.le_refl _
    · exact Nat.le_succ_of_le this
/-- the set of letters of an exact weight, from letter k - 1 down -/
def spLow (A : Nat → Nat → Int32) : Nat → Int32 → Nat → Int32 → Int32
  | 0, set, _, _ => set
  | k + 1, set, left, p => if spX A k left ≠ p then spLow A k (set ||| 1 <<< (nI k &&& 31)) (left - (A 18 k).toNatClampNeg) (p - A 19 k) else spLow A k set left p
/-- a row of 1000 weights in the twin's 'best' -/
theorem ix1000 (k w : Nat) : (1000 : Int32) * nI k + nI w = nI (1000 * k + w) := by rw [show (1000 : Int32) = nI 1000 from rfl, pk_mul, nI_add]
theorem c_X4_lowest {Z : xZ} {h : xH} {m n w : Nat} {A : Nat → Nat → Int32} (T : TW h m) (e18 : tA h m 18 = A 18) (e19 : tA h m 19 = A 19) (hL : SgL A n) (hn : n ≤ 24) (hw : w < 1000) (hb : ∀ k, k ≤ n → ∀ v, v < 1000 → tA h m 25 (1000 * k + v) = spX A k v) : CT Z yX4_lowest cX4_lowest 7 (some .int) 0 0 0 [vr m, vi (nI n), vi (nI w)] h (rI fun r h' => h = h' ∧ r = spLow A n 0 w (spX A n w)) := by
  refine CT.of (E := [some (vr m), some (vi (nI n)), some (vi (nI w)), none, none, none, none]) (by decide +kernel) rfl rfl (Nat.le_of_ble_eq_true rfl) (fun X M Ee => ?_)
  have M : MX Z X cX4_lowest "BalloonMailModel" 7 0 (some .int) "lowest" := M
  refine g_iconst (q := 1) (v := 0) M dX4_lowest_0 rfl (by decide) ?_
  refine g_istore_n (q := 2) (j := 3) M dX4_lowest_1 rfl rfl (Nat.le_of_ble_eq_true rfl) rfl ?_
  dsimp only [st1, st2, kl, List.set_cons_zero, List.set_cons_succ, List.set_nil]
  refine g_iload_n (q := 3) M dX4_lowest_2 rfl rfl ?_
  refine g_istore (q := 5) (j := 4) M dX4_lowest_3 rfl rfl (Nat.le_of_ble_eq_true rfl) rfl ?_
  dsimp only [st1, st2, kl, List.set_cons_zero, List.set_cons_succ, List.set_nil]
  refine g_aload_n (q := 6) M dX4_lowest_5 rfl rfl ?_
  refine g_tw (q := 9) (f := 72) M dX4_lowest_6 rfl l_X4_91 T rfl rfl T.a72 ?_
  refine g_sipush (q := 12) (v := 1000) M dX4_lowest_9 rfl (by decide) ?_
  refine g_iload_n (q := 13) M dX4_lowest_12 rfl rfl ?_
  refine g_imul (q := 14) M dX4_lowest_13 rfl ?_
  refine g_iload_n (q := 15) M dX4_lowest_14 rfl rfl ?_
  refine g_iadd (q := 16) M dX4_lowest_15 rfl ?_
  refine g_ialdN (q := 17) (n := 25000) M dX4_lowest_16 rfl T.a72.2.1 rfl T.a72.2.2 (ix1000 n w) (by omega) (by decide) ?_
  rw [show yI h (m + 25) (1000 * n + w) = spX A n w from hb n (Nat.le_refl _) w hw]
  refine g_istore (q := 19) (j := 5) M dX4_lowest_17 rfl rfl (Nat.le_of_ble_eq_true rfl) rfl ?_
  dsimp only [st1, st2, kl, List.set_cons_zero, List.set_cons_succ, List.set_nil]
  refine g_iload_n (q := 20) M dX4_lowest_19 rfl rfl ?_
  refine g_iconst (q := 21) (v := 1) M dX4_lowest_20 rfl (by decide) ?_
  refine g_isub (q := 22) M dX4_lowest_21 rfl ?_
  refine g_istore (q := 24) (j := 6) M dX4_lowest_22 rfl rfl (Nat.le_of_ble_eq_true rfl) rfl ?_
  dsimp only [st1, st2, kl, List.set_cons_zero, List.set_cons_succ, List.set_nil]
  have L : ∀ k, k ≤ n → ∀ set left p, left < 1000 → p = spX A k left → spLow A n 0 w (spX A n w) = spLow A k set left p → G Z X 0 0 24 [some (vr m), some (vi (nI n)), some (vi (nI w)), some (vi set), some (vi (nI left)), some (vi p), some (vi (nI k - 1))] [] h := by
    intro k
    induction k with
    | zero =>
      intro _ set left p _ _ he
      rw [show nI 0 - 1 = (-1 : Int32) from by decide]
      refine g_iload (q := 26) M dX4_lowest_24 rfl rfl ?_
      refine g_if_lt (q := 29) (tgt := 85) M dX4_lowest_26 (by decide) rfl (fun c_26 => ?_) (fun c_26 => ?_)
      · refine g_iload_n (q := 86) M dX4_lowest_85 rfl rfl ?_
        refine g_ireturn M Ee dX4_lowest_86 ?_
        exact ⟨_, rfl, rfl, he.symm⟩
      · exact absurd (by decide) c_26
    | succ k ih =>
      intro hk set left p hl hp he
      obtain ⟨wt, pr, w1, w2, p1, p2, ew, ep⟩ := hL k (by omega)
      rw [nI_pred]
      refine g_iload (q := 26) M dX4_lowest_24 rfl rfl ?_
      refine g_if_lt (q := 29) (tgt := 85) M dX4_lowest_26 (by decide) rfl (fun c_26 => ?_) (fun c_26 => ?_)
      · exact absurd c_26 (nI_pos (by omega))
      · refine g_aload_n (q := 30) M dX4_lowest_29 rfl rfl ?_
        refine g_tw (q := 33) (f := 72) M dX4_lowest_30 rfl l_X4_91 T rfl rfl T.a72 ?_
        refine g_sipush (q := 36) (v := 1000) M dX4_lowest_33 rfl (by decide) ?_
        refine g_iload (q := 38) M dX4_lowest_36 rfl rfl ?_
        refine g_imul (q := 39) M dX4_lowest_38 rfl ?_
        refine g_iload (q := 41) M dX4_lowest_39 rfl rfl ?_
        refine g_iadd (q := 42) M dX4_lowest_41 rfl ?_
        refine g_ialdN (q := 43) (n := 25000) M dX4_lowest_42 rfl T.a72.2.1 rfl T.a72.2.2 (ix1000 k left) (by omega) (by decide) ?_
        refine g_iload (q := 45) M dX4_lowest_43 rfl rfl ?_
        rw [show yI h (m + 25) (1000 * k + left) = spX A k left from hb k (by omega) left hl]
        refine g_icmp_eq (q := 48) (tgt := 79) M dX4_lowest_45 (by decide) rfl (fun c_45 => ?_) (fun c_45 => ?_)
        · refine g_iinc (q := 82) (w := (-1)) M dX4_lowest_79 rfl (Nat.le_of_ble_eq_true rfl) rfl (by decide) rfl ?_
          dsimp only [st1, st2, kl, List.set_cons_zero, List.set_cons_succ, List.set_nil]
          refine g_goto (tgt := 24) M dX4_lowest_82 (by decide) ?_
          rw [← Int32.sub_eq_add_neg]
          exact ih (by omega) set left p hl c_45.symm (he.trans (if_neg (fun z => z c_45)))
        · -- the letter is in
          have hx := spX_s A k left _ rfl
          rw [← hp] at hx
          have hin : (A 1 (35 + k) = 0 ∧ wt ≤ left) ∧ p = spX A k (left - wt) + nI pr := by
            rw [ew, nI_clamp (by omega), ep] at hx
            by_cases hc : A 1 (35 + k) = 0 ∧ wt ≤ left
            · rw [if_pos hc] at hx
              by_cases h2 : 0 ≤ spX A k (left - wt) ∧ spX A k left < spX A k (left - wt) + nI pr
              · rw [if_pos h2] at hx; exact ⟨hc, hx⟩
              · rw [if_neg h2] at hx; exact absurd hx.symm c_45
            · rw [if_neg hc, if_neg (fun z => absurd z.1 (by decide))] at hx
              exact absurd hx.symm c_45
          refine g_iload_n (q := 49) M dX4_lowest_48 rfl rfl ?_
          refine g_iconst (q := 50) (v := 1) M dX4_lowest_49 rfl (by decide) ?_
          refine g_iload (q := 52) M dX4_lowest_50 rfl rfl ?_
          refine g_ishl (q := 53) M dX4_lowest_52 rfl ?_
          refine g_ior (q := 54) M dX4_lowest_53 rfl ?_
          refine g_istore_n (q := 55) (j := 3) M dX4_lowest_54 rfl rfl (Nat.le_of_ble_eq_true rfl) rfl ?_
          dsimp only [st1, st2, kl, List.set_cons_zero, List.set_cons_succ, List.set_nil]
          refine g_iload (q := 57) M dX4_lowest_55 rfl rfl ?_
          refine g_aload_n (q := 58) M dX4_lowest_57 rfl rfl ?_
          refine g_tw (q := 61) (f := 50) M dX4_lowest_58 rfl l_X4_65 T rfl rfl T.a50 ?_
          refine g_iload (q := 63) M dX4_lowest_61 rfl rfl ?_
          refine g_ialdN (q := 64) (n := 48) M dX4_lowest_63 rfl T.a50.2.1 rfl T.a50.2.2 rfl (by omega) (by decide) ?_
          rw [show yI h (m + 18) k = nI wt from by rw [← ew, ← e18]; rfl]
          refine g_isub (q := 65) M dX4_lowest_64 rfl ?_
          rw [pk_sub hin.1.2]
          refine g_istore (q := 67) (j := 4) M dX4_lowest_65 rfl rfl (Nat.le_of_ble_eq_true rfl) rfl ?_
          dsimp only [st1, st2, kl, List.set_cons_zero, List.set_cons_succ, List.set_nil]
          refine g_iload (q := 69) M dX4_lowest_67 rfl rfl ?_
          refine g_aload_n (q := 70) M dX4_lowest_69 rfl rfl ?_
          refine g_tw (q := 73) (f := 51) M dX4_lowest_70 rfl l_X4_68 T rfl rfl T.a51 ?_
          refine g_iload (q := 75) M dX4_lowest_73 rfl rfl ?_
          refine g_ialdN (q := 76) (n := 48) M dX4_lowest_75 rfl T.a51.2.1 rfl T.a51.2.2 rfl (by omega) (by decide) ?_
          rw [show yI h (m + 19) k = nI pr from by rw [← ep, ← e19]; rfl]
          refine g_isub (q := 77) M dX4_lowest_76 rfl ?_
          refine g_istore (q := 79) (j := 5) M dX4_lowest_77 rfl rfl (Nat.le_of_ble_eq_true rfl) rfl ?_
          dsimp only [st1, st2, kl, List.set_cons_zero, List.set_cons_succ, List.set_nil]
          refine g_iinc (q := 82) (w := (-1)) M dX4_lowest_79 rfl (Nat.le_of_ble_eq_true rfl) rfl (by decide) rfl ?_
          dsimp only [st1, st2, kl, List.set_cons_zero, List.set_cons_succ, List.set_nil]
          refine g_goto (tgt := 24) M dX4_lowest_82 (by decide) ?_
          rw [← Int32.sub_eq_add_neg]
          refine ih (by omega) _ (left - wt) _ (by omega) ?_ ?_
          · rw [hin.2, Int32.add_sub_cancel]
          · have h3 := he.trans (if_pos c_45)
            rw [ew, ep, nI_clamp (by omega)] at h3
            exact h3
  exact L n (Nat.le_refl _) 0 w _ hw rfl rfl
theorem bL_c {n : Nat} {x : Int32} (hx : x = nI n) (h : n < 1000) : ¬ (999 : Int32) < x := by
  rw [hx]
  exact fun z => absurd ((nI_ltI (a := 999) (by decide) (by omega)).mp z) (by omega)
theorem c_X4_bestLoad {Z : xZ} {h : xH} {m : Nat} {b0 : Int32} {nR nW nT nB nL : Nat} (T : TW h m) (S : SgN (tA h m) nR nW nT nB nL) (B : SgB (tA h m) nB) (hL : SgL (tA h m) nL) : CT Z yX4_bestLoad cX4_bestLoad 7 (some .int) 2 0 0 [vr m, vi b0] h (rI fun r h' => (∃ g, h' = wI (pI h 32 m 0) (m + 25) g) ∧ (¬ (0 ≤ b0 ∧ b0 ≤ nI nB - 1) → r = -1) ∧ (∀ b, b < nB → b0 = nI b → tA h m 1 (5 + b) ≠ 0 → r = -2) ∧ (∀ b, b < nB → b0 = nI b → tA h m 1 (5 + b) = 0 → r = spLow (tA h m) nL 0 (spArg (spX (tA h m) nL) ((tA h m 15 b).toNatClampNeg + 1)) (spX (tA h m) nL (spArg (spX (tA h m) nL) ((tA h m 15 b).toNatClampNeg + 1))))) := by
  have hNB : tA h m 14 0 = nI nB := S.2.2.2.1.1
  have hl := S.2.2.2.1.2
  have hNL : tA h m 17 0 = nI nL := S.2.2.2.2.1
  have hl2 := S.2.2.2.2.2
  have eta : wI (pI h 32 m 0) (m + 25) (tA h m 25) = pI h 32 m 0 := wI_eta (pI h 32 m 0) (m + 25)
  refine CT.of (E := [some (vr m), some (vi b0), none, none, none, none, none]) (by decide +kernel) rfl rfl (Nat.le_of_ble_eq_true rfl) (fun X M Ee => ?_)
  have M : MX Z X cX4_bestLoad "BalloonMailModel" 7 2 (some .int) "bestLoad" := M
  refine g_aload_n (q := 1) M dX4_bestLoad_0 rfl rfl ?_
  refine g_iconst (q := 2) (v := 0) M dX4_bestLoad_1 rfl (by decide) ?_
  refine g_putI (q := 5) (f := 32) M dX4_bestLoad_2 rfl l_X4_1 T.1 (by decide +kernel) rfl ⟨rfl, rfl⟩ ?_
  refine g_aload_n (q := 6) M dX4_bestLoad_5 rfl rfl ?_
  refine g_iload_n (q := 7) M dX4_bestLoad_6 rfl rfl ?_
  refine g_callV (q := 10) M rfl dX4_bestLoad_7 rfl w_X4_246 (c_X4_isBalloon (T32 T)) (isC.of T.1 rfl) rfl rfl (Nat.le_of_ble_eq_true rfl) (by decide) (by omega) (by omega) (r_I ?_)
  rintro x h_7 ⟨rfl, rfl⟩ m_7
  rw [show tA (pI h 32 m 0) m 14 0 = nI nB from hNB]
  refine g_if_ne (q := 13) (tgt := 15) M dX4_bestLoad_10 (by decide) rfl (fun c_10 => ?_) (fun c_10 => ?_)
  · have c1 := bI_n.mp c_10
    obtain ⟨b, hb, rfl⟩ := nI_m1 (by omega) c1.1 c1.2
    have same : ∀ b', b' < nB → nI b = nI b' → b' = b := fun b' hb' e => ((nI_eq (by omega) (by omega)).mp e).symm
    obtain ⟨rm, pg, rm1, rm2, pg1, erm, epg⟩ := B b hb
    refine g_aload_n (q := 16) M dX4_bestLoad_15 rfl rfl ?_
    refine g_tw (q := 19) (f := 33) M dX4_bestLoad_16 rfl l_X4_13 T rfl rfl T.a33 ?_
    refine g_iconst (q := 20) (v := 5) M dX4_bestLoad_19 rfl (by decide) ?_
    refine g_iload_n (q := 21) M dX4_bestLoad_20 rfl rfl ?_
    refine g_iadd (q := 22) M dX4_bestLoad_21 rfl ?_
    refine g_ialdN (q := 23) (n := 213) M dX4_bestLoad_22 rfl T.a33.2.1 rfl T.a33.2.2 (ixk 5 rfl b) (by omega) (by decide) ?_
    refine g_if_eq (q := 26) (tgt := 29) M dX4_bestLoad_23 (by decide) rfl (fun c_23 => ?_) (fun c_23 => ?_)
    · refine g_aload_n (q := 30) M dX4_bestLoad_29 rfl rfl ?_
      refine g_tw (q := 33) (f := 49) M dX4_bestLoad_30 rfl l_X4_62 T rfl rfl T.a49 ?_
      refine g_iconst (q := 34) (v := 0) M dX4_bestLoad_33 rfl (by decide) ?_
      refine g_ialdN (q := 35) (n := 2) (k := 0) M dX4_bestLoad_34 rfl T.a49.2.1 rfl T.a49.2.2 rfl (by decide) (by decide) ?_
      rw [show yI (pI h 32 m 0) (m + 17) 0 = nI nL from hNL]
      refine g_istore_n (q := 36) (j := 2) M dX4_bestLoad_35 rfl rfl (Nat.le_of_ble_eq_true rfl) rfl ?_
      dsimp only [st1, st2, kl, List.set_cons_zero, List.set_cons_succ, List.set_nil]
      refine g_iconst (q := 37) (v := 0) M dX4_bestLoad_36 rfl (by decide) ?_
      refine g_istore_n (q := 38) (j := 3) M dX4_bestLoad_37 rfl rfl (Nat.le_of_ble_eq_true rfl) rfl ?_
      dsimp only [st1, st2, kl, List.set_cons_zero, List.set_cons_succ, List.set_nil]
      -- the end: the first weight with the greatest priority
      have Q4 : ∀ (g : Nat → Int32) (e6 : Option AV × Option AV), (∀ k, k ≤ nL → ∀ v, v < 1000 → g (1000 * k + v) = spX (tA h m) k v) → ∀ v, v ≤ rm + 1 → G Z X 0 0 213 [some (vr m), some (vi (nI b)), some (vi (nI nL)), some (vi (nI (spArg (spX (tA h m) nL) v))), some (vi (nI v)), e6.1, e6.2] [] (wI (pI h 32 m 0) (m + 25) g) := by
        intro g e6 hg
        refine upLoop (rm + 1) ?_ ?_
        · have ha := spArg_lt (spX (tA h m) nL) rm
          refine g_iload (q := 215) M dX4_bestLoad_213 rfl rfl ?_
          refine g_aload_n (q := 216) M dX4_bestLoad_215 rfl rfl ?_
          refine g_tw (q := 219) (f := 47) M dX4_bestLoad_216 rfl l_X4_56 T rfl rfl T.a47 ?_
          refine g_iload_n (q := 220) M dX4_bestLoad_219 rfl rfl ?_
          refine g_ialdN (q := 221) (n := 20) M dX4_bestLoad_220 rfl T.a47.2.1 rfl T.a47.2.2 rfl (by omega) (by decide) ?_
          rw [show yI (wI (pI h 32 m 0) (m + 25) g) (m + 15) b = nI rm from by rw [yI_wI_n _ _ (by omega)]; exact erm]
          refine g_icmp_gt (q := 224) (tgt := 265) M dX4_bestLoad_221 (by decide) rfl (fun c_221 => ?_) (fun c_221 => ?_)
          · refine g_aload_n (q := 266) M dX4_bestLoad_265 rfl rfl ?_
            refine g_iload_n (q := 267) M dX4_bestLoad_266 rfl rfl ?_
            refine g_iload_n (q := 268) M dX4_bestLoad_267 rfl rfl ?_
            refine g_callV (q := 271) M rfl dX4_bestLoad_268 rfl w_X4_294 (c_X4_lowest (h := wI (pI h 32 m 0) (m + 25) g) (n := nL) (A := tA h m) T (by rw [tA_wI]; rfl) (by rw [tA_wI]; rfl) hL hl2 (by omega) (by rw [tA_wI, if_pos rfl]; exact hg)) (isC.of T.1 rfl) rfl rfl (Nat.le_of_ble_eq_true rfl) (by decide) (by omega) (by omega) (r_I ?_)
            rintro x h_268 ⟨rfl, rfl⟩ m_268
            refine g_ireturn M Ee dX4_bestLoad_271 ?_
            refine ⟨_, rfl, ⟨g, rfl⟩, fun z => absurd c1 z, fun b' hb' e hne => ?_, fun b' hb' e _ => ?_⟩
            · rw [same b' hb' e] at hne; exact absurd c_23 hne
            · rw [same b' hb' e, show tA h m 15 b = nI rm from erm, nI_clamp (by omega)]
          · exact absurd (nI_lt (by omega) (by omega)) c_221
        · intro v hv ih
          have ha : spArg (spX (tA h m) nL) v < 1000 := by
            cases v with
            | zero => show 0 < 1000; decide
            | succ v => have := spArg_lt (spX (tA h m) nL) v; omega
          refine g_iload (q := 215) M dX4_bestLoad_213 rfl rfl ?_
          refine g_aload_n (q := 216) M dX4_bestLoad_215 rfl rfl ?_
          refine g_tw (q := 219) (f := 47) M dX4_bestLoad_216 rfl l_X4_56 T rfl rfl T.a47 ?_
          refine g_iload_n (q := 220) M dX4_bestLoad_219 rfl rfl ?_
          refine g_ialdN (q := 221) (n := 20) M dX4_bestLoad_220 rfl T.a47.2.1 rfl T.a47.2.2 rfl (by omega) (by decide) ?_
          rw [show yI (wI (pI h 32 m 0) (m + 25) g) (m + 15) b = nI rm from by rw [yI_wI_n _ _ (by omega)]; exact erm]
          refine g_icmp_gt (q := 224) (tgt := 265) M dX4_bestLoad_221 (by decide) rfl (fun c_221 => ?_) (fun c_221 => ?_)
          · exact absurd ((nI_ltI (by omega) (by omega)).mp c_221) (by omega)
          · refine g_aload_n (q := 225) M dX4_bestLoad_224 rfl rfl ?_
            refine g_tw (q := 228) (f := 72) M dX4_bestLoad_225 rfl l_X4_91 T rfl rfl T.a72 ?_
            refine g_sipush (q := 231) (v := 1000) M dX4_bestLoad_228 rfl (by decide) ?_
            refine g_iload_n (q := 232) M dX4_bestLoad_231 rfl rfl ?_
            refine g_imul (q := 233) M dX4_bestLoad_232 rfl ?_
            refine g_iload (q := 235) M dX4_bestLoad_233 rfl rfl ?_
            refine g_iadd (q := 236) M dX4_bestLoad_235 rfl ?_
            refine g_ialdN (q := 237) (n := 25000) M dX4_bestLoad_236 rfl T.a72.2.1 rfl T.a72.2.2 (ix1000 nL v) (by omega) (by decide) ?_
            refine g_aload_n (q := 238) M dX4_bestLoad_237 rfl rfl ?_
            refine g_tw (q := 241) (f := 72) M dX4_bestLoad_238 rfl l_X4_91 T rfl rfl T.a72 ?_
            refine g_sipush (q := 244) (v := 1000) M dX4_bestLoad_241 rfl (by decide) ?_
            refine g_iload_n (q := 245) M dX4_bestLoad_244 rfl rfl ?_
            refine g_imul (q := 246) M dX4_bestLoad_245 rfl ?_
            refine g_iload_n (q := 247) M dX4_bestLoad_246 rfl rfl ?_
            refine g_iadd (q := 248) M dX4_bestLoad_247 rfl ?_
            refine g_ialdN (q := 249) (n := 25000) M dX4_bestLoad_248 rfl T.a72.2.1 rfl T.a72.2.2 (ix1000 nL (spArg (spX (tA h m) nL) v)) (by omega) (by decide) ?_
            rw [yI_wI_s, hg nL (Nat.le_refl _) v (by omega), hg nL (Nat.le_refl _) _ ha]
            refine g_icmp_le (q := 252) (tgt := 257) M dX4_bestLoad_249 (by decide) rfl (fun c_249 => ?_) (fun c_249 => ?_)
            · refine g_iload_n (q := 258) M dX4_bestLoad_257 rfl rfl ?_
              refine g_istore_n (q := 259) (j := 3) M dX4_bestLoad_258 rfl rfl (Nat.le_of_ble_eq_true rfl) rfl ?_
              dsimp only [st1, st2, kl, List.set_cons_zero, List.set_cons_succ, List.set_nil]
              refine g_iinc (q := 262) (w := 1) M dX4_bestLoad_259 rfl (Nat.le_of_ble_eq_true rfl) rfl (by decide) rfl ?_
              dsimp only [st1, st2, kl, List.set_cons_zero, List.set_cons_succ, List.set_nil]
              try rw [nI_1]
              refine g_goto (tgt := 213) M dX4_bestLoad_262 (by decide) ?_
              have e : spArg (spX (tA h m) nL) (v + 1) = spArg (spX (tA h m) nL) v := if_neg (Int32.not_lt.mpr c_249)
              rw [e] at ih
              exact ih
            · refine g_iload (q := 254) M dX4_bestLoad_252 rfl rfl ?_
              refine g_goto (tgt := 258) M dX4_bestLoad_254 (by decide) ?_
              refine g_istore_n (q := 259) (j := 3) M dX4_bestLoad_258 rfl rfl (Nat.le_of_ble_eq_true rfl) rfl ?_
              dsimp only [st1, st2, kl, List.set_cons_zero, List.set_cons_succ, List.set_nil]
              refine g_iinc (q := 262) (w := 1) M dX4_bestLoad_259 rfl (Nat.le_of_ble_eq_true rfl) rfl (by decide) rfl ?_
              dsimp only [st1, st2, kl, List.set_cons_zero, List.set_cons_succ, List.set_nil]
              try rw [nI_1]
              refine g_goto (tgt := 213) M dX4_bestLoad_262 (by decide) ?_
              have e : spArg (spX (tA h m) nL) (v + 1) = v := if_pos (Int32.not_le.mp c_249)
              rw [e] at ih
              exact ih
      -- the rows, letter by letter
      have Q2 : ∀ k, k ≤ nL → ∀ e4 e5 e6 g, (∀ k', k' ≤ k → ∀ v, v < 1000 → g (1000 * k' + v) = spX (tA h m) k' v) → G Z X 0 0 68 [some (vr m), some (vi (nI b)), some (vi (nI nL)), some (vi (nI k)), e4, e5, e6] [] (wI (pI h 32 m 0) (m + 25) g) := by
        refine upLoop nL ?_ ?_
        · intro e4 e5 e6 g hg
          refine g_iload_n (q := 69) M dX4_bestLoad_68 rfl rfl ?_
          refine g_iload_n (q := 70) M dX4_bestLoad_69 rfl rfl ?_
          refine g_icmp_ge (q := 73) (tgt := 208) M dX4_bestLoad_70 (by decide) rfl (fun c_70 => ?_) (fun c_70 => ?_)
          · refine g_iconst (q := 209) (v := 0) M dX4_bestLoad_208 rfl (by decide) ?_
            refine g_istore_n (q := 210) (j := 3) M dX4_bestLoad_209 rfl rfl (Nat.le_of_ble_eq_true rfl) rfl ?_
            dsimp only [st1, st2, kl, List.set_cons_zero, List.set_cons_succ, List.set_nil]
            refine g_iconst (q := 211) (v := 0) M dX4_bestLoad_210 rfl (by decide) ?_
            refine g_istore (q := 213) (j := 4) M dX4_bestLoad_211 rfl rfl (Nat.le_of_ble_eq_true rfl) rfl ?_
            dsimp only [st1, st2, kl, List.set_cons_zero, List.set_cons_succ, List.set_nil]
            exact Q4 g (_, _) hg 0 (Nat.zero_le _)
          · exact absurd (Int32.le_refl _) c_70
        · intro k hk ihk e4 e5 e6 g hg
          obtain ⟨wt, pr, w1, w2, p1, p2, ew, ep⟩ := hL k hk
          refine g_iload_n (q := 69) M dX4_bestLoad_68 rfl rfl ?_
          refine g_iload_n (q := 70) M dX4_bestLoad_69 rfl rfl ?_
          refine g_icmp_ge (q := 73) (tgt := 208) M dX4_bestLoad_70 (by decide) rfl (fun c_70 => ?_) (fun c_70 => ?_)
          · exact absurd ((nI_leI (by omega) (by omega)).mp c_70) (by omega)
          · refine g_iconst (q := 74) (v := 0) M dX4_bestLoad_73 rfl (by decide) ?_
            refine g_istore (q := 76) (j := 4) M dX4_bestLoad_74 rfl rfl (Nat.le_of_ble_eq_true rfl) rfl ?_
            dsimp only [st1, st2, kl, List.set_cons_zero, List.set_cons_succ, List.set_nil]
            have Q3 : ∀ w, w ≤ 1000 → ∀ e5 e6 g, (∀ k', k' ≤ k → ∀ v, v < 1000 → g (1000 * k' + v) = spX (tA h m) k' v) → (∀ v, v < w → g (1000 * (k + 1) + v) = spX (tA h m) (k + 1) v) → G Z X 0 0 76 [some (vr m), some (vi (nI b)), some (vi (nI nL)), some (vi (nI k)), some (vi (nI w)), e5, e6] [] (wI (pI h 32 m 0) (m + 25) g) := by
              refine upLoop 1000 ?_ ?_
              · intro e5 e6 g hg hv
                refine g_iload (q := 78) M dX4_bestLoad_76 rfl rfl ?_
                refine g_sipush (q := 81) (v := 999) M dX4_bestLoad_78 rfl (by decide) ?_
                refine g_icmp_gt (q := 84) (tgt := 202) M dX4_bestLoad_81 (by decide) rfl (fun c_81 => ?_) (fun c_81 => ?_)
                · refine g_iinc (q := 205) (w := 1) M dX4_bestLoad_202 rfl (Nat.le_of_ble_eq_true rfl) rfl (by decide) rfl ?_
                  dsimp only [st1, st2, kl, List.set_cons_zero, List.set_cons_succ, List.set_nil]
                  try rw [nI_1]
                  refine g_goto (tgt := 68) M dX4_bestLoad_205 (by decide) ?_
                  exact ihk _ _ _ g (fun k' hk' v hv' => by
                    by_cases e : k' = k + 1
                    · rw [e]; exact hv v hv'
                    · exact hg k' (by omega) v hv')
                · exact absurd (show (999 : Int32) < nI 1000 by decide) c_81
              · intro w hw ihw e5 e6 g hg hv
                -- what is stored
                have St : ∀ wi z : Int32, wi = (if tA h m 1 (35 + k) = 0 ∧ (tA h m 18 k).toNatClampNeg ≤ w then spX (tA h m) k (w - (tA h m 18 k).toNatClampNeg) else -1) → z = (if 0 ≤ wi ∧ spX (tA h m) k w < wi + tA h m 19 k then wi + tA h m 19 k else spX (tA h m) k w) → G Z X 0 0 195 [some (vr m), some (vi (nI b)), some (vi (nI nL)), some (vi (nI k)), some (vi (nI w)), some (vi (spX (tA h m) k w)), some (vi wi)] [vi z, vi (nI (1000 * (k + 1) + w)), vr (m + 25)] (wI (pI h 32 m 0) (m + 25) g) := by
                  intro wi z hwi hz
                  refine g_iastN (q := 196) (n := 25000) M dX4_bestLoad_195 rfl T.a72.2.1 T.a72.2.2 rfl (by omega) (by decide) ?_
                  rw [sI_wI]
                  refine g_iinc (q := 199) (w := 1) M dX4_bestLoad_196 rfl (Nat.le_of_ble_eq_true rfl) rfl (by decide) rfl ?_
                  dsimp only [st1, st2, kl, List.set_cons_zero, List.set_cons_succ, List.set_nil]
                  try rw [nI_1]
                  refine g_goto (tgt := 76) M dX4_bestLoad_199 (by decide) ?_
                  refine ihw _ _ _ (fun k' hk' v hv' => ?_) (fun v hv' => ?_)
                  · rw [u1_n _ _ (by omega)]; exact hg k' hk' v hv'
                  · by_cases e : v = w
                    · rw [e, u1_s, hz, spX_s _ _ _ _ hwi]
                    · rw [u1_n _ _ (by omega)]; exact hv v (by omega)
                -- with the letter: wi
                have J : ∀ wi : Int32, wi = (if tA h m 1 (35 + k) = 0 ∧ (tA h m 18 k).toNatClampNeg ≤ w then spX (tA h m) k (w - (tA h m 18 k).toNatClampNeg) else -1) → G Z X 0 0 146 [some (vr m), some (vi (nI b)), some (vi (nI nL)), some (vi (nI k)), some (vi (nI w)), some (vi (spX (tA h m) k w)), e6] [vi wi] (wI (pI h 32 m 0) (m + 25) g) := by
                  intro wi hwi
                  refine g_istore (q := 148) (j := 6) M dX4_bestLoad_146 rfl rfl (Nat.le_of_ble_eq_true rfl) rfl ?_
                  dsimp only [st1, st2, kl, List.set_cons_zero, List.set_cons_succ, List.set_nil]
                  refine g_aload_n (q := 149) M dX4_bestLoad_148 rfl rfl ?_
                  refine g_tw (q := 152) (f := 72) M dX4_bestLoad_149 rfl l_X4_91 T rfl rfl T.a72 ?_
                  refine g_sipush (q := 155) (v := 1000) M dX4_bestLoad_152 rfl (by decide) ?_
                  refine g_iload_n (q := 156) M dX4_bestLoad_155 rfl rfl ?_
                  refine g_iconst (q := 157) (v := 1) M dX4_bestLoad_156 rfl (by decide) ?_
                  refine g_iadd (q := 158) M dX4_bestLoad_157 rfl ?_
                  refine g_imul (q := 159) M dX4_bestLoad_158 rfl ?_
                  refine g_iload (q := 161) M dX4_bestLoad_159 rfl rfl ?_
                  refine g_iadd (q := 162) M dX4_bestLoad_161 rfl ?_
                  rw [show (1000 : Int32) * (nI k + 1) + nI w = nI (1000 * (k + 1) + w) from by rw [nI_1, ix1000]]
                  refine g_iload (q := 164) M dX4_bestLoad_162 rfl rfl ?_
                  have No : ¬ (0 ≤ wi ∧ spX (tA h m) k w < wi + tA h m 19 k) → G Z X 0 0 193 [some (vr m), some (vi (nI b)), some (vi (nI nL)), some (vi (nI k)), some (vi (nI w)), some (vi (spX (tA h m) k w)), some (vi wi)] [vi (nI (1000 * (k + 1) + w)), vr (m + 25)] (wI (pI h 32 m 0) (m + 25) g) := by
                    intro hn
                    refine g_iload (q := 195) M dX4_bestLoad_193 rfl rfl ?_
                    exact St wi _ hwi (if_neg hn).symm
                  refine g_if_lt (q := 167) (tgt := 193) M dX4_bestLoad_164 (by decide) rfl (fun c_164 => ?_) (fun c_164 => ?_)
                  · exact No (fun z => absurd z.1 (Int32.not_le.mpr c_164))
                  · refine g_iload (q := 169) M dX4_bestLoad_167 rfl rfl ?_
                    refine g_aload_n (q := 170) M dX4_bestLoad_169 rfl rfl ?_
                    refine g_tw (q := 173) (f := 51) M dX4_bestLoad_170 rfl l_X4_68 T rfl rfl T.a51 ?_
                    refine g_iload_n (q := 174) M dX4_bestLoad_173 rfl rfl ?_
                    refine g_ialdN (q := 175) (n := 48) M dX4_bestLoad_174 rfl T.a51.2.1 rfl T.a51.2.2 rfl (by omega) (by decide) ?_
                    refine g_iadd (q := 176) M dX4_bestLoad_175 rfl ?_
                    refine g_iload (q := 178) M dX4_bestLoad_176 rfl rfl ?_
                    rw [show yI (wI (pI h 32 m 0) (m + 25) g) (m + 19) k = tA h m 19 k from by rw [yI_wI_n _ _ (by omega)]; rfl]
                    refine g_icmp_le (q := 181) (tgt := 193) M dX4_bestLoad_178 (by decide) rfl (fun c_178 => ?_) (fun c_178 => ?_)
                    · exact No (fun z => absurd z.2 (Int32.not_lt.mpr c_178))
                    · refine g_iload (q := 183) M dX4_bestLoad_181 rfl rfl ?_
                      refine g_aload_n (q := 184) M dX4_bestLoad_183 rfl rfl ?_
                      refine g_tw (q := 187) (f := 51) M dX4_bestLoad_184 rfl l_X4_68 T rfl rfl T.a51 ?_
                      refine g_iload_n (q := 188) M dX4_bestLoad_187 rfl rfl ?_
                      refine g_ialdN (q := 189) (n := 48) M dX4_bestLoad_188 rfl T.a51.2.1 rfl T.a51.2.2 rfl (by omega) (by decide) ?_
                      refine g_iadd (q := 190) M dX4_bestLoad_189 rfl ?_
                      refine g_goto (tgt := 195) M dX4_bestLoad_190 (by decide) ?_
                      rw [show yI (wI (pI h 32 m 0) (m + 25) g) (m + 19) k = tA h m 19 k from by rw [yI_wI_n _ _ (by omega)]; rfl]
                      exact St wi _ hwi (if_pos ⟨Int32.not_lt.mp c_164, Int32.not_le.mp c_178⟩).symm
                refine g_iload (q := 78) M dX4_bestLoad_76 rfl rfl ?_
                refine g_sipush (q := 81) (v := 999) M dX4_bestLoad_78 rfl (by decide) ?_
                refine g_icmp_gt (q := 84) (tgt := 202) M dX4_bestLoad_81 (by decide) rfl (fun c_81 => ?_) (fun c_81 => ?_)
                · exact absurd c_81 (bL_c rfl hw)
                · refine g_aload_n (q := 85) M dX4_bestLoad_84 rfl rfl ?_
                  refine g_tw (q := 88) (f := 72) M dX4_bestLoad_85 rfl l_X4_91 T rfl rfl T.a72 ?_
                  refine g_sipush (q := 91) (v := 1000) M dX4_bestLoad_88 rfl (by decide) ?_
                  refine g_iload_n (q := 92) M dX4_bestLoad_91 rfl rfl ?_
                  refine g_imul (q := 93) M dX4_bestLoad_92 rfl ?_
                  refine g_iload (q := 95) M dX4_bestLoad_93 rfl rfl ?_
                  refine g_iadd (q := 96) M dX4_bestLoad_95 rfl ?_
                  refine g_ialdN (q := 97) (n := 25000) M dX4_bestLoad_96 rfl T.a72.2.1 rfl T.a72.2.2 (ix1000 k w) (by omega) (by decide) ?_
                  rw [yI_wI_s, hg k (Nat.le_refl _) w hw]
                  refine g_istore (q := 99) (j := 5) M dX4_bestLoad_97 rfl rfl (Nat.le_of_ble_eq_true rfl) rfl ?_
                  dsimp only [st1, st2, kl, List.set_cons_zero, List.set_cons_succ, List.set_nil]
                  refine g_aload_n (q := 100) M dX4_bestLoad_99 rfl rfl ?_
                  refine g_tw (q := 103) (f := 33) M dX4_bestLoad_100 rfl l_X4_13 T rfl rfl T.a33 ?_
                  refine g_bipush (q := 105) (v := 35) M dX4_bestLoad_103 rfl (by decide) ?_
                  refine g_iload_n (q := 106) M dX4_bestLoad_105 rfl rfl ?_
                  refine g_iadd (q := 107) M dX4_bestLoad_106 rfl ?_
                  refine g_ialdN (q := 108) (n := 213) M dX4_bestLoad_107 rfl T.a33.2.1 rfl T.a33.2.2 (ixk 35 rfl k) (by omega) (by decide) ?_
                  rw [show yI (wI (pI h 32 m 0) (m + 25) g) (m + 1) (35 + k) = tA h m 1 (35 + k) from by rw [yI_wI_n _ _ (by omega)]; rfl]
                  refine g_if_ne (q := 111) (tgt := 145) M dX4_bestLoad_108 (by decide) rfl (fun c_108 => ?_) (fun c_108 => ?_)
                  · refine g_iconst (q := 146) (v := (-1)) M dX4_bestLoad_145 rfl (by decide) ?_
                    exact J _ (if_neg (fun z => c_108 z.1)).symm
                  · refine g_iload (q := 113) M dX4_bestLoad_111 rfl rfl ?_
                    refine g_aload_n (q := 114) M dX4_bestLoad_113 rfl rfl ?_
                    refine g_tw (q := 117) (f := 50) M dX4_bestLoad_114 rfl l_X4_65 T rfl rfl T.a50 ?_
                    refine g_iload_n (q := 118) M dX4_bestLoad_117 rfl rfl ?_
                    refine g_ialdN (q := 119) (n := 48) M dX4_bestLoad_118 rfl T.a50.2.1 rfl T.a50.2.2 rfl (by omega) (by decide) ?_
                    rw [show yI (wI (pI h 32 m 0) (m + 25) g) (m + 18) k = nI wt from by rw [yI_wI_n _ _ (by omega)]; exact ew]
                    refine g_icmp_lt (q := 122) (tgt := 145) M dX4_bestLoad_119 (by decide) rfl (fun c_119 => ?_) (fun c_119 => ?_)
                    · refine g_iconst (q := 146) (v := (-1)) M dX4_bestLoad_145 rfl (by decide) ?_
                      have h9 : w < wt := (nI_ltI (by omega) (by omega)).mp c_119
                      have hz : ¬ (tA h m 1 (35 + k) = 0 ∧ (tA h m 18 k).toNatClampNeg ≤ w) := by
                        rw [ew, nI_clamp (by omega)]
                        exact fun z => absurd z.2 (Nat.not_le.mpr h9)
                      exact J _ (if_neg hz).symm
                    · have hwt : wt ≤ w := Nat.le_of_not_lt (fun z => c_119 (nI_lt z (by omega)))
                      refine g_aload_n (q := 123) M dX4_bestLoad_122 rfl rfl ?_
                      refine g_tw (q := 126) (f := 72) M dX4_bestLoad_123 rfl l_X4_91 T rfl rfl T.a72 ?_
                      refine g_sipush (q := 129) (v := 1000) M dX4_bestLoad_126 rfl (by decide) ?_
                      refine g_iload_n (q := 130) M dX4_bestLoad_129 rfl rfl ?_
                      refine g_imul (q := 131) M dX4_bestLoad_130 rfl ?_
                      refine g_iload (q := 133) M dX4_bestLoad_131 rfl rfl ?_
                      refine g_iadd (q := 134) M dX4_bestLoad_133 rfl ?_
                      refine g_aload_n (q := 135) M dX4_bestLoad_134 rfl rfl ?_
                      refine g_tw (q := 138) (f := 50) M dX4_bestLoad_135 rfl l_X4_65 T rfl rfl T.a50 ?_
                      refine g_iload_n (q := 139) M dX4_bestLoad_138 rfl rfl ?_
                      refine g_ialdN (q := 140) (n := 48) M dX4_bestLoad_139 rfl T.a50.2.1 rfl T.a50.2.2 rfl (by omega) (by decide) ?_
                      rw [show yI (wI (pI h 32 m 0) (m + 25) g) (m + 18) k = nI wt from by rw [yI_wI_n _ _ (by omega)]; exact ew]
                      refine g_isub (q := 141) M dX4_bestLoad_140 rfl ?_
                      rw [show (1000 : Int32) * nI k + nI w - nI wt = nI (1000 * k + (w - wt)) from by rw [ix1000, pk_sub (by omega)]; congr 1; omega]
                      refine g_ialdN (q := 142) (n := 25000) M dX4_bestLoad_141 rfl T.a72.2.1 rfl T.a72.2.2 rfl (by omega) (by decide) ?_
                      rw [yI_wI_s, hg k (Nat.le_refl _) (w - wt) (by omega)]
                      refine g_goto (tgt := 146) M dX4_bestLoad_142 (by decide) ?_
                      refine J _ ?_
                      rw [ew, nI_clamp (by omega), if_pos ⟨c_108, hwt⟩]
            exact Q3 0 (by decide) _ _ g hg (fun v hv => absurd hv (Nat.not_lt_zero _))
      -- the first row
      have Q1 : ∀ w, w ≤ 1000 → ∀ g, (∀ v, v < w → g v = spX (tA h m) 0 v) → G Z X 0 0 38 [some (vr m), some (vi (nI b)), some (vi (nI nL)), some (vi (nI w)), none, none, none] [] (wI (pI h 32 m 0) (m + 25) g) := by
        refine upLoop 1000 ?_ ?_
        · intro g hg
          refine g_iload_n (q := 39) M dX4_bestLoad_38 rfl rfl ?_
          refine g_sipush (q := 42) (v := 999) M dX4_bestLoad_39 rfl (by decide) ?_
          refine g_icmp_gt (q := 45) (tgt := 66) M dX4_bestLoad_42 (by decide) rfl (fun c_42 => ?_) (fun c_42 => ?_)
          · refine g_iconst (q := 67) (v := 0) M dX4_bestLoad_66 rfl (by decide) ?_
            refine g_istore_n (q := 68) (j := 3) M dX4_bestLoad_67 rfl rfl (Nat.le_of_ble_eq_true rfl) rfl ?_
            dsimp only [st1, st2, kl, List.set_cons_zero, List.set_cons_succ, List.set_nil]
            exact Q2 0 (Nat.zero_le _) _ _ _ g (fun k' hk' v hv => by
              have e : k' = 0 := by omega
              rw [e, Nat.mul_zero, Nat.zero_add]; exact hg v hv)
          · exact absurd (show (999 : Int32) < nI 1000 by decide) c_42
        · intro w hw ih g hg
          have J : ∀ z : Int32, z = spX (tA h m) 0 w → G Z X 0 0 59 [some (vr m), some (vi (nI b)), some (vi (nI nL)), some (vi (nI w)), none, none, none] [vi z, vi (nI w), vr (m + 25)] (wI (pI h 32 m 0) (m + 25) g) := by
            intro z hz
            refine g_iastN (q := 60) (n := 25000) M dX4_bestLoad_59 rfl T.a72.2.1 T.a72.2.2 rfl (by omega) (by decide) ?_
            rw [sI_wI]
            refine g_iinc (q := 63) (w := 1) M dX4_bestLoad_60 rfl (Nat.le_of_ble_eq_true rfl) rfl (by decide) rfl ?_
            dsimp only [st1, st2, kl, List.set_cons_zero, List.set_cons_succ, List.set_nil]
            try rw [nI_1]
            refine g_goto (tgt := 38) M dX4_bestLoad_63 (by decide) ?_
            refine ih _ (fun v hv => ?_)
            by_cases e : v = w
            · rw [e, u1_s, hz]
            · rw [u1_n _ _ e]; exact hg v (by omega)
          refine g_iload_n (q := 39) M dX4_bestLoad_38 rfl rfl ?_
          refine g_sipush (q := 42) (v := 999) M dX4_bestLoad_39 rfl (by decide) ?_
          refine g_icmp_gt (q := 45) (tgt := 66) M dX4_bestLoad_42 (by decide) rfl (fun c_42 => ?_) (fun c_42 => ?_)
          · exact absurd c_42 (bL_c rfl hw)
          · refine g_aload_n (q := 46) M dX4_bestLoad_45 rfl rfl ?_
            refine g_tw (q := 49) (f := 72) M dX4_bestLoad_46 rfl l_X4_91 T rfl rfl T.a72 ?_
            refine g_iload_n (q := 50) M dX4_bestLoad_49 rfl rfl ?_
            refine g_iload_n (q := 51) M dX4_bestLoad_50 rfl rfl ?_
            refine g_if_ne (q := 54) (tgt := 58) M dX4_bestLoad_51 (by decide) rfl (fun c_51 => ?_) (fun c_51 => ?_)
            · refine g_iconst (q := 59) (v := (-1)) M dX4_bestLoad_58 rfl (by decide) ?_
              exact J _ (if_neg (fun e => c_51 (by rw [e]; rfl))).symm
            · refine g_iconst (q := 55) (v := 0) M dX4_bestLoad_54 rfl (by decide) ?_
              refine g_goto (tgt := 59) M dX4_bestLoad_55 (by decide) ?_
              exact J _ (if_pos ((nI_eq (by omega) (by decide)).mp (show nI w = nI 0 from c_51))).symm
      have := Q1 0 (by decide) (tA h m 25) (fun v hv => absurd hv (Nat.not_lt_zero _))
      rw [eta] at this
      exact this
    · refine g_bipush (q := 28) (v := (-2)) M dX4_bestLoad_26 rfl (by decide) ?_
      refine g_ireturn M Ee dX4_bestLoad_28 ?_
      refine ⟨_, rfl, ⟨_, eta.symm⟩, fun z => absurd c1 z, fun b' hb' e hne => rfl, fun b' hb' e hr => ?_⟩
      rw [same b' hb' e] at hr
      exact absurd hr c_23
  · refine g_iconst (q := 14) (v := (-1)) M dX4_bestLoad_13 rfl (by decide) ?_
    refine g_ireturn M Ee dX4_bestLoad_14 ?_
    have hno : ∀ b', b' < nB → b0 = nI b' → False := fun b' hb' e => bI_d.mp c_10 ⟨by rw [e]; exact nI_pos' (by omega), by rw [e, show nI nB - 1 = nI nB - nI 1 from rfl, pk_sub (by omega)]; exact nI_le (by omega) (by omega)⟩
    exact ⟨_, rfl, ⟨_, eta.symm⟩, fun _ => rfl, fun b' hb' e _ => (hno b' hb' e).elim, fun b' hb' e _ => (hno b' hb' e).elim⟩
