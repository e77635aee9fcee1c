/-! THE TWIN: chances of deliveries and answers -/
set_option maxRecDepth 100000
/-- what a region brings: 1, or the chance that one of p pigeons comes back -/
def spComes (A : Nat → Nat → Int32) (p : Int32) (r : Nat) : Int64 := if p < 0 then 1 else spPow 10 p.toNatClampNeg - spPow (10 - A 5 r) p.toNatClampNeg
def spCh1 (A : Nat → Nat → Int32) (nT : Nat) (p : Int32) (d w r : Nat) : Int64 := cS A nT (-2) d w * (spW A w (nI r)).toInt64 * (10 - A 3 r).toInt64 * spComes A p r
def spChance (A : Nat → Nat → Int32) (nR nW nT : Nat) (p : Int32) (d : Nat) : Int64 := smL (fun w => smL (spCh1 A nT p d w) nR) nW
theorem c_X4_chanceOf {Z : xZ} {h : xH} {m d : Nat} {p : Int32} {nR nW nT nB nL : Nat} (T : TW h m) (S : SgV (tA h m) nR nW nT nB nL) (hd : d ≤ 8) (hp : p < 0 ∨ ∃ k, k ≤ 4 ∧ p = nI k) : CT Z yX4_chanceOf cX4_chanceOf 9 (some .long) 2 0 0 [vr m, vi p, vi (nI d)] h (rL fun x h' => (∃ g1 g2, h' = cH h m g1 g2) ∧ x = spChance (tA h m) nR nW nT p d) := by
  have hNW : tA h m 6 0 = nI nW := S.1.2.1.1
  have h6 := S.1.2.1.2
  have hNR : tA h m 2 0 = nI nR := S.1.1.1
  have h8 := S.1.1.2
  refine CT.of (E := [some (vr m), some (vi p), some (vi (nI d)), none, none, none, none, none, none]) (by decide +kernel) rfl rfl (Nat.le_of_ble_eq_true rfl) (fun X M Ee => ?_)
  have M : MX Z X cX4_chanceOf "BalloonMailModel" 9 2 (some .long) "chanceOf" := M
  refine g_aload_n (q := 1) M dX4_chanceOf_0 rfl rfl ?_
  refine g_iload_n (q := 2) M dX4_chanceOf_1 rfl rfl ?_
  refine g_bipush (q := 4) (v := (-2)) M dX4_chanceOf_2 rfl (by decide) ?_
  refine g_callV (q := 7) M rfl dX4_chanceOf_4 rfl w_X4_263 (c_X4_goesOn T S hd) (isC.of T.1 rfl) rfl rfl (Nat.le_of_ble_eq_true rfl) (by decide) (by omega) (by omega) (r_V fun h_4 hq m_4 => ?_)
  obtain ⟨g1, g2, rfl, hg⟩ := hq
  refine g_lconst (q := 8) (v := 0) M dX4_chanceOf_7 rfl (by decide) ?_
  refine g_lstore_n (q := 9) (j := 3) M dX4_chanceOf_8 rfl rfl (Nat.le_of_ble_eq_true rfl) rfl ?_
  dsimp only [st1, st2, kl, List.set_cons_zero, List.set_cons_succ, List.set_nil]
  refine g_iconst (q := 10) (v := 0) M dX4_chanceOf_9 rfl (by decide) ?_
  refine g_istore (q := 12) (j := 5) M dX4_chanceOf_10 rfl rfl (Nat.le_of_ble_eq_true rfl) rfl ?_
  dsimp only [st1, st2, kl, List.set_cons_zero, List.set_cons_succ, List.set_nil]
  have O : ∀ k, k ≤ nW → ∀ e6 e7, G Z X 0 0 12 [some (vr m), some (vi p), some (vi (nI d)), some (vl (smL (fun w => smL (spCh1 (tA h m) nT p d w) nR) k)), none, some (vi (nI k)), e6, e7, none] [] (cH h m g1 g2) := by
    refine upLoop nW ?_ ?_
    · intro e6 e7
      refine g_iload (q := 14) M dX4_chanceOf_12 rfl rfl ?_
      refine g_aload_n (q := 15) M dX4_chanceOf_14 rfl rfl ?_
      refine g_tw (q := 18) (f := 38) M dX4_chanceOf_15 rfl l_X4_29 T rfl rfl T.a38 ?_
      refine g_iconst (q := 19) (v := 0) M dX4_chanceOf_18 rfl (by decide) ?_
      refine g_ialdN (q := 20) (n := 2) (k := 0) M dX4_chanceOf_19 rfl T.a38.2.1 rfl T.a38.2.2 rfl (by decide) (by decide) ?_
      rw [show yI (cH h m g1 g2) (m + 6) 0 = nI nW from hNW]
      refine g_icmp_ge (q := 23) (tgt := 115) M dX4_chanceOf_20 (by decide) rfl (fun c_20 => ?_) (fun c_20 => ?_)
      · refine g_lload_n (q := 116) M dX4_chanceOf_115 rfl rfl ?_
        refine g_lreturn M Ee dX4_chanceOf_116 ?_
        exact ⟨_, rfl, ⟨_, _, rfl⟩, rfl⟩
      · exact absurd (Int32.le_refl _) c_20
    · intro w hw ihW e6 e7
      obtain ⟨n, hn8, hn, -⟩ := S.2.2 w hw
      refine g_iload (q := 14) M dX4_chanceOf_12 rfl rfl ?_
      refine g_aload_n (q := 15) M dX4_chanceOf_14 rfl rfl ?_
      refine g_tw (q := 18) (f := 38) M dX4_chanceOf_15 rfl l_X4_29 T rfl rfl T.a38 ?_
      refine g_iconst (q := 19) (v := 0) M dX4_chanceOf_18 rfl (by decide) ?_
      refine g_ialdN (q := 20) (n := 2) (k := 0) M dX4_chanceOf_19 rfl T.a38.2.1 rfl T.a38.2.2 rfl (by decide) (by decide) ?_
      rw [show yI (cH h m g1 g2) (m + 6) 0 = nI nW from hNW]
      refine g_icmp_ge (q := 23) (tgt := 115) M dX4_chanceOf_20 (by decide) rfl (fun c_20 => ?_) (fun c_20 => ?_)
      · exact absurd ((nI_leI (by omega) (by omega)).mp c_20) (by omega)
      · refine g_iconst (q := 24) (v := 0) M dX4_chanceOf_23 rfl (by decide) ?_
        refine g_istore (q := 26) (j := 6) M dX4_chanceOf_24 rfl rfl (Nat.le_of_ble_eq_true rfl) rfl ?_
        dsimp only [st1, st2, kl, List.set_cons_zero, List.set_cons_succ, List.set_nil]
        have I : ∀ r, r ≤ nR → ∀ e7, G Z X 0 0 26 [some (vr m), some (vi p), some (vi (nI d)), some (vl (smL (fun w => smL (spCh1 (tA h m) nT p d w) nR) w + smL (spCh1 (tA h m) nT p d w) r)), none, some (vi (nI w)), some (vi (nI r)), e7, none] [] (cH h m g1 g2) := by
          refine upLoop nR ?_ ?_
          · intro e7
            refine g_iload (q := 28) M dX4_chanceOf_26 rfl rfl ?_
            refine g_aload_n (q := 29) M dX4_chanceOf_28 rfl rfl ?_
            refine g_tw (q := 32) (f := 34) M dX4_chanceOf_29 rfl l_X4_17 T rfl rfl T.a34 ?_
            refine g_iconst (q := 33) (v := 0) M dX4_chanceOf_32 rfl (by decide) ?_
            refine g_ialdN (q := 34) (n := 2) (k := 0) M dX4_chanceOf_33 rfl T.a34.2.1 rfl T.a34.2.2 rfl (by decide) (by decide) ?_
            rw [show yI (cH h m g1 g2) (m + 2) 0 = nI nR from hNR]
            refine g_icmp_ge (q := 37) (tgt := 109) M dX4_chanceOf_34 (by decide) rfl (fun c_34 => ?_) (fun c_34 => ?_)
            · refine g_iinc (q := 112) (w := 1) M dX4_chanceOf_109 rfl (Nat.le_of_ble_eq_true rfl) rfl (by decide) rfl ?_
              dsimp only [st1, st2, kl, List.set_cons_zero, List.set_cons_succ, List.set_nil]
              try rw [nI_1]
              refine g_goto (tgt := 12) M dX4_chanceOf_112 (by decide) ?_
              exact ihW _ _
            · exact absurd (Int32.le_refl _) c_34
          · intro r hr ihR e7
            refine g_iload (q := 28) M dX4_chanceOf_26 rfl rfl ?_
            refine g_aload_n (q := 29) M dX4_chanceOf_28 rfl rfl ?_
            refine g_tw (q := 32) (f := 34) M dX4_chanceOf_29 rfl l_X4_17 T rfl rfl T.a34 ?_
            refine g_iconst (q := 33) (v := 0) M dX4_chanceOf_32 rfl (by decide) ?_
            refine g_ialdN (q := 34) (n := 2) (k := 0) M dX4_chanceOf_33 rfl T.a34.2.1 rfl T.a34.2.2 rfl (by decide) (by decide) ?_
            rw [show yI (cH h m g1 g2) (m + 2) 0 = nI nR from hNR]
            refine g_icmp_ge (q := 37) (tgt := 109) M dX4_chanceOf_34 (by decide) rfl (fun c_34 => ?_) (fun c_34 => ?_)
            · exact absurd ((nI_leI (by omega) (by omega)).mp c_34) (by omega)
            · have J : ∀ z : Int64, z = spComes (tA h m) p r → G Z X 0 0 66 [some (vr m), some (vi p), some (vi (nI d)), some (vl (smL (fun w => smL (spCh1 (tA h m) nT p d w) nR) w + smL (spCh1 (tA h m) nT p d w) r)), none, some (vi (nI w)), some (vi (nI r)), e7, none] [vl z] (cH h m g1 g2) := by
                intro z hz
                refine g_lstore (q := 68) (j := 7) M dX4_chanceOf_66 rfl rfl (Nat.le_of_ble_eq_true rfl) rfl ?_
                dsimp only [st1, st2, kl, List.set_cons_zero, List.set_cons_succ, List.set_nil]
                refine g_lload_n (q := 69) M dX4_chanceOf_68 rfl rfl ?_
                refine g_aload_n (q := 70) M dX4_chanceOf_69 rfl rfl ?_
                refine g_tw (q := 73) (f := 68) M dX4_chanceOf_70 rfl l_X4_78 T rfl rfl T.a68 ?_
                refine g_iload (q := 75) M dX4_chanceOf_73 rfl rfl ?_
                refine g_laldN (q := 76) (n := 6) M dX4_chanceOf_75 rfl T.a68.2.1 rfl T.a68.2.2 rfl (by omega) (by decide) ?_
                refine g_aload_n (q := 77) M dX4_chanceOf_76 rfl rfl ?_
                refine g_iload (q := 79) M dX4_chanceOf_77 rfl rfl ?_
                refine g_iload (q := 81) M dX4_chanceOf_79 rfl rfl ?_
                refine g_callV (q := 84) M rfl dX4_chanceOf_81 rfl w_X4_267 (c_X4_weightBy (h := cH h m g1 g2) T (by omega) hn hn8) (isC.of T.1 rfl) rfl rfl (Nat.le_of_ble_eq_true rfl) (by decide) (by omega) (by omega) (r_I ?_)
                rintro x h_81 ⟨rfl, rfl⟩ m_81
                rw [cH_r1]
                refine g_i2l (q := 85) M dX4_chanceOf_84 rfl ?_
                refine g_lmul (q := 86) M dX4_chanceOf_85 rfl ?_
                refine g_bipush (q := 88) (v := 10) M dX4_chanceOf_86 rfl (by decide) ?_
                refine g_aload_n (q := 89) M dX4_chanceOf_88 rfl rfl ?_
                refine g_tw (q := 92) (f := 35) M dX4_chanceOf_89 rfl l_X4_20 T rfl rfl T.a35 ?_
                refine g_iload (q := 94) M dX4_chanceOf_92 rfl rfl ?_
                refine g_ialdN (q := 95) (n := 16) M dX4_chanceOf_94 rfl T.a35.2.1 rfl T.a35.2.2 rfl (by omega) (by decide) ?_
                refine g_isub (q := 96) M dX4_chanceOf_95 rfl ?_
                refine g_i2l (q := 97) M dX4_chanceOf_96 rfl ?_
                refine g_lmul (q := 98) M dX4_chanceOf_97 rfl ?_
                refine g_lload (q := 100) M dX4_chanceOf_98 rfl rfl ?_
                refine g_lmul (q := 101) M dX4_chanceOf_100 rfl ?_
                refine g_ladd (q := 102) M dX4_chanceOf_101 rfl ?_
                refine g_lstore_n (q := 103) (j := 3) M dX4_chanceOf_102 rfl rfl (Nat.le_of_ble_eq_true rfl) rfl ?_
                dsimp only [st1, st2, kl, List.set_cons_zero, List.set_cons_succ, List.set_nil]
                refine g_iinc (q := 106) (w := 1) M dX4_chanceOf_103 rfl (Nat.le_of_ble_eq_true rfl) rfl (by decide) rfl ?_
                dsimp only [st1, st2, kl, List.set_cons_zero, List.set_cons_succ, List.set_nil]
                try rw [nI_1]
                refine g_goto (tgt := 26) M dX4_chanceOf_106 (by decide) ?_
                have e : spW (tA h m) w (nI r) = if nI r = -2 then 10 - spNSum (tA h m) w n else spNIts (tA h m) w (nI r) n := by unfold spW; rw [hn, nI_clamp (by omega)]
                rw [show (if nI r = -2 then 10 - spNSum (tA (cH h m g1 g2) m) w n else spNIts (tA (cH h m g1 g2) m) w (nI r) n) = spW (tA h m) w (nI r) from e.symm, hg w (by omega), hz, Int64.add_assoc]
                exact ihR _
              refine g_iload_n (q := 38) M dX4_chanceOf_37 rfl rfl ?_
              refine g_if_ge (q := 41) (tgt := 45) M dX4_chanceOf_38 (by decide) rfl (fun c_38 => ?_) (fun c_38 => ?_)
              · rcases hp with hp | ⟨k, hk, rfl⟩
                · exact absurd hp (Int32.not_lt.mpr c_38)
                · refine g_bipush (q := 47) (v := 10) M dX4_chanceOf_45 rfl (by decide) ?_
                  refine g_iload_n (q := 48) M dX4_chanceOf_47 rfl rfl ?_
                  refine g_callS (q := 51) M rfl dX4_chanceOf_48 rfl w_X4_270 (c_X4_power (by omega)) rfl rfl (Nat.le_of_ble_eq_true rfl) (by decide) (by omega) (by omega) (r_L ?_)
                  rintro x h_48 ⟨rfl, rfl⟩ m_48
                  refine g_bipush (q := 53) (v := 10) M dX4_chanceOf_51 rfl (by decide) ?_
                  refine g_aload_n (q := 54) M dX4_chanceOf_53 rfl rfl ?_
                  refine g_tw (q := 57) (f := 37) M dX4_chanceOf_54 rfl l_X4_26 T rfl rfl T.a37 ?_
                  refine g_iload (q := 59) M dX4_chanceOf_57 rfl rfl ?_
                  refine g_ialdN (q := 60) (n := 16) M dX4_chanceOf_59 rfl T.a37.2.1 rfl T.a37.2.2 rfl (by omega) (by decide) ?_
                  refine g_isub (q := 61) M dX4_chanceOf_60 rfl ?_
                  refine g_iload_n (q := 62) M dX4_chanceOf_61 rfl rfl ?_
                  refine g_callS (q := 65) M rfl dX4_chanceOf_62 rfl w_X4_270 (c_X4_power (by omega)) rfl rfl (Nat.le_of_ble_eq_true rfl) (by decide) (by omega) (by omega) (r_L ?_)
                  rintro x h_62 ⟨rfl, rfl⟩ m_62
                  refine g_lsub (q := 66) M dX4_chanceOf_65 rfl ?_
                  refine J _ ?_
                  unfold spComes
                  rw [if_neg (nI_pos (by omega)), nI_clamp (by omega)]
                  rfl
              · refine g_lconst (q := 42) (v := 1) M dX4_chanceOf_41 rfl (by decide) ?_
                refine g_goto (tgt := 66) M dX4_chanceOf_42 (by decide) ?_
                exact J _ (if_pos (Int32.not_le.mp c_38)).symm
        have := I 0 (Nat.zero_le _) e7
        rw [show smL (fun w => smL (spCh1 (tA h m) nT p d w) nR) w + smL (spCh1 (tA h m) nT p d w) 0 = smL (fun w => smL (spCh1 (tA h m) nT p d w) nR) w from Int64.add_zero _] at this
        exact this
  exact O 0 (Nat.zero_le _) _ _
theorem c_X4_deliveryChance {Z : xZ} {h : xH} {m : Nat} {d : Int32} {nR nW nT nB nL : Nat} (T : TW h m) (S : SgV (tA h m) nR nW nT nB nL) : CT Z yX4_deliveryChance cX4_deliveryChance 2 (some .long) 3 0 0 [vr m, vi d] h (rL fun x h' => cHs h m h' ∧ x = if (0 ≤ d ∧ d ≤ 8) ∧ nW ≠ 0 then spChance (tA h m) nR nW nT (-1) d.toNatClampNeg else -1) := by
  have hNW : tA h m 6 0 = nI nW := S.1.2.1.1
  have h6 := S.1.2.1.2
  refine CT.of (E := [some (vr m), some (vi d)]) (by decide +kernel) rfl rfl (Nat.le_of_ble_eq_true rfl) (fun X M Ee => ?_)
  have M : MX Z X cX4_deliveryChance "BalloonMailModel" 2 3 (some .long) "deliveryChance" := M
  have N : ¬ ((0 ≤ d ∧ d ≤ 8) ∧ nW ≠ 0) → G Z X 0 0 21 [some (vr m), some (vi d)] [] (pI h 32 m 0) := by
    intro hn
    refine g_ldc2 (q := 24) M dX4_deliveryChance_21 rfl q2444 ?_
    refine g_goto (tgt := 33) M dX4_deliveryChance_24 (by decide) ?_
    refine g_lreturn M Ee dX4_deliveryChance_33 ?_
    exact ⟨_, rfl, cHs.rf, (if_neg hn).symm⟩
  refine g_aload_n (q := 1) M dX4_deliveryChance_0 rfl rfl ?_
  refine g_iconst (q := 2) (v := 0) M dX4_deliveryChance_1 rfl (by decide) ?_
  refine g_putI (q := 5) (f := 32) M dX4_deliveryChance_2 rfl l_X4_1 T.1 (by decide +kernel) rfl ⟨rfl, rfl⟩ ?_
  refine g_iload_n (q := 6) M dX4_deliveryChance_5 rfl rfl ?_
  refine g_callS (q := 9) M rfl dX4_deliveryChance_6 rfl w_X4_258 c_X4_areDays rfl rfl (Nat.le_of_ble_eq_true rfl) (by decide) (by omega) (by omega) (r_I fun x h_6 hq m_6 => ?_)
  obtain ⟨e1, rfl⟩ := hq
  subst e1
  refine g_if_eq (q := 12) (tgt := 21) M dX4_deliveryChance_9 (by decide) rfl (fun c_9 => ?_) (fun c_9 => ?_)
  · exact N (fun z => bI_d.mp c_9 z.1)
  · refine g_aload_n (q := 13) M dX4_deliveryChance_12 rfl rfl ?_
    refine g_tw (q := 16) (f := 38) M dX4_deliveryChance_13 rfl l_X4_29 T rfl rfl T.a38 ?_
    refine g_iconst (q := 17) (v := 0) M dX4_deliveryChance_16 rfl (by decide) ?_
    refine g_ialdN (q := 18) (n := 2) (k := 0) M dX4_deliveryChance_17 rfl T.a38.2.1 rfl T.a38.2.2 rfl (by decide) (by decide) ?_
    rw [show yI (pI h 32 m 0) (m + 6) 0 = nI nW from hNW]
    refine g_if_ne (q := 21) (tgt := 27) M dX4_deliveryChance_18 (by decide) rfl (fun c_18 => ?_) (fun c_18 => ?_)
    · have c2 := bI_n.mp c_9
      have hw0 : nW ≠ 0 := fun e => c_18 (by rw [e]; rfl)
      obtain ⟨j, hj, rfl⟩ := days_in c2
      refine g_aload_n (q := 28) M dX4_deliveryChance_27 rfl rfl ?_
      refine g_iconst (q := 29) (v := (-1)) M dX4_deliveryChance_28 rfl (by decide) ?_
      refine g_iload_n (q := 30) M dX4_deliveryChance_29 rfl rfl ?_
      refine g_callV (q := 33) M rfl dX4_deliveryChance_30 rfl w_X4_274 (c_X4_chanceOf (T32 T) S hj (Or.inl (by decide))) (isC.of T.1 rfl) rfl rfl (Nat.le_of_ble_eq_true rfl) (by decide) (by omega) (by omega) (r_L ?_)
      rintro x h_30 ⟨⟨g1, g2, rfl⟩, rfl⟩ m_30
      refine g_lreturn M Ee dX4_deliveryChance_33 ?_
      refine ⟨_, rfl, ⟨_, _, rfl⟩, ?_⟩
      rw [if_pos ⟨c2, hw0⟩, nI_clamp (by omega)]
      rfl
    · have hw0 : nW = 0 := (nI_eq (by omega) (by decide)).mp (show nI nW = nI 0 from c_18)
      exact N (fun z => z.2 hw0)
def spMay (nW : Nat) (p d : Int32) : Prop := (0 ≤ p ∧ p ≤ 4) ∧ (0 ≤ d ∧ d ≤ 8) ∧ nW ≠ 0
theorem spMay_pd {nW : Nat} {p d : Int32} (h : spMay nW p d) : ∃ k j, k ≤ 4 ∧ j ≤ 8 ∧ p = nI k ∧ d = nI j := by
  obtain ⟨k, hk, e1⟩ := nI_m1 (n := 5) (by decide) h.1.1 h.1.2
  obtain ⟨j, hj, e2⟩ := days_in h.2.1
  exact ⟨k, j, by omega, hj, e1, e2⟩
theorem c_X4_mayAsk {Z : xZ} {h : xH} {m : Nat} {p d : Int32} {nR nW nT nB nL : Nat} (T : TW h m) (S : SgN (tA h m) nR nW nT nB nL) : CT Z yX4_mayAsk cX4_mayAsk 3 (some .boolean) 2 0 0 [vr m, vi p, vi d] h (rI fun x h' => h = h' ∧ (x = 0 ∧ ¬ spMay nW p d ∨ x = 1 ∧ spMay nW p d)) := by
  have hNW : tA h m 6 0 = nI nW := S.2.1.1
  have h6 := S.2.1.2
  refine CT.of (E := [some (vr m), some (vi p), some (vi d)]) (by decide +kernel) rfl rfl (Nat.le_of_ble_eq_true rfl) (fun X M Ee => ?_)
  have M : MX Z X cX4_mayAsk "BalloonMailModel" 3 2 (some .boolean) "mayAsk" := M
  have N : ¬ spMay nW p d → G Z X 0 0 29 [some (vr m), some (vi p), some (vi d)] [] h := by
    intro hn
    refine g_iconst (q := 30) (v := 0) M dX4_mayAsk_29 rfl (by decide) ?_
    refine g_zreturn M Ee dX4_mayAsk_30 (by decide) ?_
    exact ⟨_, rfl, rfl, Or.inl ⟨rfl, hn⟩⟩
  refine g_iload_n (q := 1) M dX4_mayAsk_0 rfl rfl ?_
  refine g_iconst (q := 2) (v := 0) M dX4_mayAsk_1 rfl (by decide) ?_
  refine g_iconst (q := 3) (v := 4) M dX4_mayAsk_2 rfl (by decide) ?_
  refine g_callS (q := 6) M rfl dX4_mayAsk_3 rfl w_X4_139 c_X4_within rfl rfl (Nat.le_of_ble_eq_true rfl) (by decide) (by omega) (by omega) (r_I fun x h_3 hq m_3 => ?_)
  obtain ⟨e1, rfl⟩ := hq
  subst e1
  refine g_if_eq (q := 9) (tgt := 29) M dX4_mayAsk_6 (by decide) rfl (fun c_6 => ?_) (fun c_6 => ?_)
  · exact N (fun z => bI_d.mp c_6 z.1)
  · refine g_iload_n (q := 10) M dX4_mayAsk_9 rfl rfl ?_
    refine g_callS (q := 13) M rfl dX4_mayAsk_10 rfl w_X4_258 c_X4_areDays rfl rfl (Nat.le_of_ble_eq_true rfl) (by decide) (by omega) (by omega) (r_I fun x h_10 hq m_10 => ?_)
    obtain ⟨e1, rfl⟩ := hq
    subst e1
    refine g_if_eq (q := 16) (tgt := 29) M dX4_mayAsk_13 (by decide) rfl (fun c_13 => ?_) (fun c_13 => ?_)
    · exact N (fun z => bI_d.mp c_13 z.2.1)
    · refine g_aload_n (q := 17) M dX4_mayAsk_16 rfl rfl ?_
      refine g_tw (q := 20) (f := 38) M dX4_mayAsk_17 rfl l_X4_29 T rfl rfl T.a38 ?_
      refine g_iconst (q := 21) (v := 0) M dX4_mayAsk_20 rfl (by decide) ?_
      refine g_ialdN (q := 22) (n := 2) (k := 0) M dX4_mayAsk_21 rfl T.a38.2.1 rfl T.a38.2.2 rfl (by decide) (by decide) ?_
      rw [show yI _ (m + 6) 0 = nI nW from hNW]
      refine g_if_le (q := 25) (tgt := 29) M dX4_mayAsk_22 (by decide) rfl (fun c_22 => ?_) (fun c_22 => ?_)
      · exact N (fun z => z.2.2 (by have := (nI_leI (b := 0) (by omega) (by decide)).mp c_22; omega))
      · refine g_iconst (q := 26) (v := 1) M dX4_mayAsk_25 rfl (by decide) ?_
        refine g_goto (tgt := 30) M dX4_mayAsk_26 (by decide) ?_
        refine g_zreturn M Ee dX4_mayAsk_30 (by decide) ?_
        exact ⟨_, rfl, rfl, Or.inr ⟨rfl, bI_n.mp c_6, bI_n.mp c_13, fun e => c_22 (by rw [e]; exact Int32.le_refl _)⟩⟩
theorem c_X4_answerChance {Z : xZ} {h : xH} {m : Nat} {p d : Int32} {nR nW nT nB nL : Nat} (T : TW h m) (S : SgV (tA h m) nR nW nT nB nL) : CT Z yX4_answerChance cX4_answerChance 3 (some .long) 3 0 0 [vr m, vi p, vi d] h (rL fun x h' => cHs h m h' ∧ (¬ spMay nW p d → x = -1) ∧ (spMay nW p d → x = spChance (tA h m) nR nW nT p d.toNatClampNeg)) := by
  refine CT.of (E := [some (vr m), some (vi p), some (vi d)]) (by decide +kernel) rfl rfl (Nat.le_of_ble_eq_true rfl) (fun X M Ee => ?_)
  have M : MX Z X cX4_answerChance "BalloonMailModel" 3 3 (some .long) "answerChance" := M
  refine g_aload_n (q := 1) M dX4_answerChance_0 rfl rfl ?_
  refine g_iconst (q := 2) (v := 0) M dX4_answerChance_1 rfl (by decide) ?_
  refine g_putI (q := 5) (f := 32) M dX4_answerChance_2 rfl l_X4_1 T.1 (by decide +kernel) rfl ⟨rfl, rfl⟩ ?_
  refine g_aload_n (q := 6) M dX4_answerChance_5 rfl rfl ?_
  refine g_iload_n (q := 7) M dX4_answerChance_6 rfl rfl ?_
  refine g_iload_n (q := 8) M dX4_answerChance_7 rfl rfl ?_
  refine g_callV (q := 11) M rfl dX4_answerChance_8 rfl w_X4_277 (c_X4_mayAsk (T32 T) S.1) (isC.of T.1 rfl) rfl rfl (Nat.le_of_ble_eq_true rfl) (by decide) (by omega) (by omega) (r_I ?_)
  rintro x h_8 ⟨rfl, hq⟩ m_8
  refine g_if_eq (q := 14) (tgt := 23) M dX4_answerChance_11 (by decide) rfl (fun c_11 => ?_) (fun c_11 => ?_)
  · rcases hq with ⟨e, hn⟩ | ⟨e, hy⟩
    · refine g_ldc2 (q := 26) M dX4_answerChance_23 rfl q2444 ?_
      refine g_lreturn M Ee dX4_answerChance_26 ?_
      exact ⟨_, rfl, cHs.rf, fun _ => rfl, fun z => absurd z hn⟩
    · rw [e] at c_11; exact absurd c_11 (by decide)
  · rcases hq with ⟨e, hn⟩ | ⟨e, hy⟩
    · exact absurd e c_11
    · obtain ⟨k, j, hk, hj, rfl, rfl⟩ := spMay_pd hy
      refine g_aload_n (q := 15) M dX4_answerChance_14 rfl rfl ?_
      refine g_iload_n (q := 16) M dX4_answerChance_15 rfl rfl ?_
      refine g_iload_n (q := 17) M dX4_answerChance_16 rfl rfl ?_
      refine g_callV (q := 20) M rfl dX4_answerChance_17 rfl w_X4_274 (c_X4_chanceOf (T32 T) S hj (Or.inr ⟨k, hk, rfl⟩)) (isC.of T.1 rfl) rfl rfl (Nat.le_of_ble_eq_true rfl) (by decide) (by omega) (by omega) (r_L ?_)
      rintro x h_17 ⟨⟨g1, g2, rfl⟩, rfl⟩ m_17
      refine g_goto (tgt := 26) M dX4_answerChance_20 (by decide) ?_
      refine g_lreturn M Ee dX4_answerChance_26 ?_
      refine ⟨_, rfl, ⟨_, _, rfl⟩, fun z => absurd hy z, fun _ => ?_⟩
      rw [nI_clamp (by omega)]
      rfl
theorem spPow_ne : ∀ n, n < 15 → spPow 10 n ≠ 0 := by decide +kernel
theorem c_X4_answerPermille {Z : xZ} {h : xH} {m : Nat} {p d : Int32} {nR nW nT nB nL : Nat} (T : TW h m) (S : SgV (tA h m) nR nW nT nB nL) : CT Z yX4_answerPermille cX4_answerPermille 3 (some .int) 3 0 0 [vr m, vi p, vi d] h (rI fun x h' => cHs h m h' ∧ (¬ spMay nW p d → x = -1) ∧ (spMay nW p d → x = (spChance (tA h m) nR nW nT p d.toNatClampNeg * 1000 / spPow 10 (d.toNatClampNeg + 2 + p.toNatClampNeg)).toInt32)) := by
  refine CT.of (E := [some (vr m), some (vi p), some (vi d)]) (by decide +kernel) rfl rfl (Nat.le_of_ble_eq_true rfl) (fun X M Ee => ?_)
  have M : MX Z X cX4_answerPermille "BalloonMailModel" 3 3 (some .int) "answerPermille" := M
  refine g_aload_n (q := 1) M dX4_answerPermille_0 rfl rfl ?_
  refine g_iconst (q := 2) (v := 0) M dX4_answerPermille_1 rfl (by decide) ?_
  refine g_putI (q := 5) (f := 32) M dX4_answerPermille_2 rfl l_X4_1 T.1 (by decide +kernel) rfl ⟨rfl, rfl⟩ ?_
  refine g_aload_n (q := 6) M dX4_answerPermille_5 rfl rfl ?_
  refine g_iload_n (q := 7) M dX4_answerPermille_6 rfl rfl ?_
  refine g_iload_n (q := 8) M dX4_answerPermille_7 rfl rfl ?_
  refine g_callV (q := 11) M rfl dX4_answerPermille_8 rfl w_X4_277 (c_X4_mayAsk (T32 T) S.1) (isC.of T.1 rfl) rfl rfl (Nat.le_of_ble_eq_true rfl) (by decide) (by omega) (by omega) (r_I ?_)
  rintro x h_8 ⟨rfl, hq⟩ m_8
  refine g_if_eq (q := 14) (tgt := 39) M dX4_answerPermille_11 (by decide) rfl (fun c_11 => ?_) (fun c_11 => ?_)
  · rcases hq with ⟨e, hn⟩ | ⟨e, hy⟩
    · refine g_iconst (q := 40) (v := (-1)) M dX4_answerPermille_39 rfl (by decide) ?_
      refine g_ireturn M Ee dX4_answerPermille_40 ?_
      exact ⟨_, rfl, cHs.rf, fun _ => rfl, fun z => absurd z hn⟩
    · rw [e] at c_11; exact absurd c_11 (by decide)
  · rcases hq with ⟨e, hn⟩ | ⟨e, hy⟩
    · exact absurd e c_11
    · obtain ⟨k, j, hk, hj, rfl, rfl⟩ := spMay_pd hy
      refine g_aload_n (q := 15) M dX4_answerPermille_14 rfl rfl ?_
      refine g_iload_n (q := 16) M dX4_answerPermille_15 rfl rfl ?_
      refine g_iload_n (q := 17) M dX4_answerPermille_16 rfl rfl ?_
      refine g_callV (q := 20) M rfl dX4_answerPermille_17 rfl w_X4_274 (c_X4_chanceOf (T32 T) S hj (Or.inr ⟨k, hk, rfl⟩)) (isC.of T.1 rfl) rfl rfl (Nat.le_of_ble_eq_true rfl) (by decide) (by omega) (by omega) (r_L ?_)
      rintro x h_17 ⟨⟨g1, g2, rfl⟩, rfl⟩ m_17
      refine g_ldc2 (q := 23) M dX4_answerPermille_20 rfl q2488 ?_
      refine g_lmul (q := 24) M dX4_answerPermille_23 rfl ?_
      refine g_bipush (q := 26) (v := 10) M dX4_answerPermille_24 rfl (by decide) ?_
      refine g_iload_n (q := 27) M dX4_answerPermille_26 rfl rfl ?_
      refine g_iconst (q := 28) (v := 2) M dX4_answerPermille_27 rfl (by decide) ?_
      refine g_iadd (q := 29) M dX4_answerPermille_28 rfl ?_
      refine g_iload_n (q := 30) M dX4_answerPermille_29 rfl rfl ?_
      refine g_iadd (q := 31) M dX4_answerPermille_30 rfl ?_
      rw [show nI j + 2 + nI k = nI (j + 2 + k) from by rw [show (2 : Int32) = nI 2 from rfl, nI_add, nI_add]]
      refine g_callS (q := 34) M rfl dX4_answerPermille_31 rfl w_X4_270 (c_X4_power (n := j + 2 + k) (by omega)) rfl rfl (Nat.le_of_ble_eq_true rfl) (by decide) (by omega) (by omega) (r_L ?_)
      rintro x h_31 ⟨rfl, rfl⟩ m_31
      refine g_ldiv (q := 35) M dX4_answerPermille_34 rfl (spPow_ne _ (by omega)) ?_
      refine g_l2i (q := 36) M dX4_answerPermille_35 rfl ?_
      refine g_goto (tgt := 40) M dX4_answerPermille_36 (by decide) ?_
      refine g_ireturn M Ee dX4_answerPermille_40 ?_
      refine ⟨_, rfl, ⟨_, _, rfl⟩, fun z => absurd hy z, fun _ => ?_⟩
      rw [nI_clamp (by omega), nI_clamp (by omega)]
      rfl
/-- the chance in parts of 10 to the power of 14 -/
def spEven (A : Nat → Nat → Int32) (nR nW nT p d : Nat) : Int64 := spChance A nR nW nT (nI p) d * spPow 10 (12 - d - p)
theorem c_X4_evenChance {Z : xZ} {h : xH} {m d p : Nat} {nR nW nT nB nL : Nat} (T : TW h m) (S : SgV (tA h m) nR nW nT nB nL) (hd : d ≤ 8) (hp : p ≤ 4) : CT Z yX4_evenChance cX4_evenChance 3 (some .long) 3 0 0 [vr m, vi (nI p), vi (nI d)] h (rL fun x h' => (∃ g1 g2, h' = cH h m g1 g2) ∧ x = spEven (tA h m) nR nW nT p d) := by
  refine CT.of (E := [some (vr m), some (vi (nI p)), some (vi (nI d))]) (by decide +kernel) rfl rfl (Nat.le_of_ble_eq_true rfl) (fun X M Ee => ?_)
  have M : MX Z X cX4_evenChance "BalloonMailModel" 3 3 (some .long) "evenChance" := M
  refine g_aload_n (q := 1) M dX4_evenChance_0 rfl rfl ?_
  refine g_iload_n (q := 2) M dX4_evenChance_1 rfl rfl ?_
  refine g_iload_n (q := 3) M dX4_evenChance_2 rfl rfl ?_
  refine g_callV (q := 6) M rfl dX4_evenChance_3 rfl w_X4_274 (c_X4_chanceOf T S hd (Or.inr ⟨p, hp, rfl⟩)) (isC.of T.1 rfl) rfl rfl (Nat.le_of_ble_eq_true rfl) (by decide) (by omega) (by omega) (r_L ?_)
  rintro x h_3 ⟨⟨g1, g2, rfl⟩, rfl⟩ m_3
  refine g_bipush (q := 8) (v := 10) M dX4_evenChance_6 rfl (by decide) ?_
  refine g_bipush (q := 10) (v := 12) M dX4_evenChance_8 rfl (by decide) ?_
  refine g_iload_n (q := 11) M dX4_evenChance_10 rfl rfl ?_
  refine g_isub (q := 12) M dX4_evenChance_11 rfl ?_
  refine g_iload_n (q := 13) M dX4_evenChance_12 rfl rfl ?_
  refine g_isub (q := 14) M dX4_evenChance_13 rfl ?_
  rw [show (12 : Int32) - nI d - nI p = nI (12 - d - p) from by rw [show (12 : Int32) = nI 12 from rfl, pk_sub (by omega), pk_sub (by omega)]]
  refine g_callS (q := 17) M rfl dX4_evenChance_14 rfl w_X4_270 (c_X4_power (n := 12 - d - p) (by omega)) rfl rfl (Nat.le_of_ble_eq_true rfl) (by decide) (by omega) (by omega) (r_L ?_)
  rintro x h_14 ⟨rfl, rfl⟩ m_14
  refine g_lmul (q := 18) M dX4_evenChance_17 rfl ?_
  refine g_lreturn M Ee dX4_evenChance_18 ?_
  exact ⟨_, rfl, ⟨_, _, rfl⟩, rfl⟩
/-- the first of n days with the greatest chance -/
def spBest (ev : Nat → Int64) : Nat → Nat × Int64
  | 0 => (0, -1)
  | d + 1 => if (spBest ev d).2 < ev d then (d, ev d) else spBest ev d
theorem c_X4_bestDay {Z : xZ} {h : xH} {m : Nat} {p : Int32} {nR nW nT nB nL : Nat} (T : TW h m) (S : SgV (tA h m) nR nW nT nB nL) : CT Z yX4_bestDay cX4_bestDay 8 (some .int) 4 0 0 [vr m, vi p] h (rI fun x h' => cHs h m h' ∧ (¬ spMay nW p 0 → x = -1) ∧ (spMay nW p 0 → x = nI (spBest (spEven (tA h m) nR nW nT p.toNatClampNeg) 9).1)) := by
  refine CT.of (E := [some (vr m), some (vi p), none, none, none, none, none, none]) (by decide +kernel) rfl rfl (Nat.le_of_ble_eq_true rfl) (fun X M Ee => ?_)
  have M : MX Z X cX4_bestDay "BalloonMailModel" 8 4 (some .int) "bestDay" := M
  refine g_aload_n (q := 1) M dX4_bestDay_0 rfl rfl ?_
  refine g_iconst (q := 2) (v := 0) M dX4_bestDay_1 rfl (by decide) ?_
  refine g_putI (q := 5) (f := 32) M dX4_bestDay_2 rfl l_X4_1 T.1 (by decide +kernel) rfl ⟨rfl, rfl⟩ ?_
  refine g_aload_n (q := 6) M dX4_bestDay_5 rfl rfl ?_
  refine g_iload_n (q := 7) M dX4_bestDay_6 rfl rfl ?_
  refine g_iconst (q := 8) (v := 0) M dX4_bestDay_7 rfl (by decide) ?_
  refine g_callV (q := 11) M rfl dX4_bestDay_8 rfl w_X4_277 (c_X4_mayAsk (T32 T) S.1) (isC.of T.1 rfl) rfl rfl (Nat.le_of_ble_eq_true rfl) (by decide) (by omega) (by omega) (r_I ?_)
  rintro x h_8 ⟨rfl, hq⟩ m_8
  refine g_if_ne (q := 14) (tgt := 16) M dX4_bestDay_11 (by decide) rfl (fun c_11 => ?_) (fun c_11 => ?_)
  · rcases hq with ⟨e, hn⟩ | ⟨e, hy⟩
    · exact absurd e c_11
    · obtain ⟨k, j, hk, hj, rfl, -⟩ := spMay_pd hy
      refine g_iconst (q := 17) (v := 0) M dX4_bestDay_16 rfl (by decide) ?_
      refine g_istore_n (q := 18) (j := 2) M dX4_bestDay_17 rfl rfl (Nat.le_of_ble_eq_true rfl) rfl ?_
      dsimp only [st1, st2, kl, List.set_cons_zero, List.set_cons_succ, List.set_nil]
      refine g_ldc2 (q := 21) M dX4_bestDay_18 rfl q2444 ?_
      refine g_lstore_n (q := 22) (j := 3) M dX4_bestDay_21 rfl rfl (Nat.le_of_ble_eq_true rfl) rfl ?_
      dsimp only [st1, st2, kl, List.set_cons_zero, List.set_cons_succ, List.set_nil]
      refine g_iconst (q := 23) (v := 0) M dX4_bestDay_22 rfl (by decide) ?_
      refine g_istore (q := 25) (j := 5) M dX4_bestDay_23 rfl rfl (Nat.le_of_ble_eq_true rfl) rfl ?_
      dsimp only [st1, st2, kl, List.set_cons_zero, List.set_cons_succ, List.set_nil]
      have L : ∀ n, n ≤ 9 → ∀ e6 e7 g1 g2, G Z X 0 0 25 [some (vr m), some (vi (nI k)), some (vi (nI (spBest (spEven (tA h m) nR nW nT k) n).1)), some (vl (spBest (spEven (tA h m) nR nW nT k) n).2), none, some (vi (nI n)), e6, e7] [] (cH (pI h 32 m 0) m g1 g2) := by
        refine upLoop 9 ?_ ?_
        · intro e6 e7 g1 g2
          refine g_iload (q := 27) M dX4_bestDay_25 rfl rfl ?_
          refine g_bipush (q := 29) (v := 8) M dX4_bestDay_27 rfl (by decide) ?_
          refine g_icmp_gt (q := 32) (tgt := 60) M dX4_bestDay_29 (by decide) rfl (fun c_29 => ?_) (fun c_29 => ?_)
          · refine g_iload_n (q := 61) M dX4_bestDay_60 rfl rfl ?_
            refine g_ireturn M Ee dX4_bestDay_61 ?_
            refine ⟨_, rfl, ⟨_, _, rfl⟩, fun z => absurd hy z, fun _ => ?_⟩
            rw [nI_clamp (by omega)]
          · exact absurd (show (8 : Int32) < nI 9 by decide) c_29
        · intro n hn ih e6 e7 g1 g2
          refine g_iload (q := 27) M dX4_bestDay_25 rfl rfl ?_
          refine g_bipush (q := 29) (v := 8) M dX4_bestDay_27 rfl (by decide) ?_
          refine g_icmp_gt (q := 32) (tgt := 60) M dX4_bestDay_29 (by decide) rfl (fun c_29 => ?_) (fun c_29 => ?_)
          · exact absurd ((nI_ltI (a := 8) (by decide) (by omega)).mp c_29) (by omega)
          · refine g_aload_n (q := 33) M dX4_bestDay_32 rfl rfl ?_
            refine g_iload_n (q := 34) M dX4_bestDay_33 rfl rfl ?_
            refine g_iload (q := 36) M dX4_bestDay_34 rfl rfl ?_
            refine g_callV (q := 39) M rfl dX4_bestDay_36 rfl w_X4_282 (c_X4_evenChance (h := cH (pI h 32 m 0) m g1 g2) T S (d := n) (by omega) hk) (isC.of T.1 rfl) rfl rfl (Nat.le_of_ble_eq_true rfl) (by decide) (by omega) (by omega) (r_L fun x h_36 hq m_36 => ?_)
            refine g_lstore (q := 41) (j := 6) M dX4_bestDay_39 rfl rfl (Nat.le_of_ble_eq_true rfl) rfl ?_
            dsimp only [st1, st2, kl, List.set_cons_zero, List.set_cons_succ, List.set_nil]
            refine g_lload (q := 43) M dX4_bestDay_41 rfl rfl ?_
            refine g_lload_n (q := 44) M dX4_bestDay_43 rfl rfl ?_
            refine g_lcmp (q := 45) M dX4_bestDay_44 rfl ?_
            obtain ⟨⟨g3, g4, rfl⟩, rfl⟩ := hq
            rw [cH_cH, show spEven (tA (cH (pI h 32 m 0) m g1 g2) m) nR nW nT k n = spEven (tA h m) nR nW nT k n from rfl]
            have hs : spBest (spEven (tA h m) nR nW nT k) (n + 1) = if (spBest (spEven (tA h m) nR nW nT k) n).2 < spEven (tA h m) nR nW nT k n then (n, spEven (tA h m) nR nW nT k n) else spBest (spEven (tA h m) nR nW nT k) n := rfl
            refine g_if_le (q := 48) (tgt := 54) M dX4_bestDay_45 (by decide) rfl (fun c_45 => ?_) (fun c_45 => ?_)
            · have c := (lg_cmp_le _ _).mp c_45
              rw [if_neg (Int64.not_lt.mpr c)] at hs
              refine g_iinc (q := 57) (w := 1) M dX4_bestDay_54 rfl (Nat.le_of_ble_eq_true rfl) rfl (by decide) rfl ?_
              dsimp only [st1, st2, kl, List.set_cons_zero, List.set_cons_succ, List.set_nil]
              try rw [nI_1]
              refine g_goto (tgt := 25) M dX4_bestDay_57 (by decide) ?_
              have := ih (some (vl (spEven (tA h m) nR nW nT k n))) none g3 g4
              rw [hs] at this
              exact this
            · have c := Int64.not_le.mp (fun z => c_45 ((lg_cmp_le _ _).mpr z))
              rw [if_pos c] at hs
              refine g_iload (q := 50) M dX4_bestDay_48 rfl rfl ?_
              refine g_istore_n (q := 51) (j := 2) M dX4_bestDay_50 rfl rfl (Nat.le_of_ble_eq_true rfl) rfl ?_
              dsimp only [st1, st2, kl, List.set_cons_zero, List.set_cons_succ, List.set_nil]
              refine g_lload (q := 53) M dX4_bestDay_51 rfl rfl ?_
              refine g_lstore_n (q := 54) (j := 3) M dX4_bestDay_53 rfl rfl (Nat.le_of_ble_eq_true rfl) rfl ?_
              dsimp only [st1, st2, kl, List.set_cons_zero, List.set_cons_succ, List.set_nil]
              refine g_iinc (q := 57) (w := 1) M dX4_bestDay_54 rfl (Nat.le_of_ble_eq_true rfl) rfl (by decide) rfl ?_
              dsimp only [st1, st2, kl, List.set_cons_zero, List.set_cons_succ, List.set_nil]
              try rw [nI_1]
              refine g_goto (tgt := 25) M dX4_bestDay_57 (by decide) ?_
              have := ih (some (vl (spEven (tA h m) nR nW nT k n))) none g3 g4
              rw [hs] at this
              exact this
      have := L 0 (by decide) none none (yL (pI h 32 m 0) (m + 21)) (yL (pI h 32 m 0) (m + 22))
      rw [cH_eta] at this
      exact this
  · rcases hq with ⟨e, hn⟩ | ⟨e, hy⟩
    · refine g_iconst (q := 15) (v := (-1)) M dX4_bestDay_14 rfl (by decide) ?_
      refine g_ireturn M Ee dX4_bestDay_15 ?_
      exact ⟨_, rfl, cHs.rf, fun _ => rfl, fun z => absurd z hn⟩
    · rw [e] at c_11; exact absurd c_11 (by decide)
