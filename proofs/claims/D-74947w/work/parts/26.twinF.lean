/-! THE TWIN: chances -/
set_option maxRecDepth 100000
/-- what is known of the siege: its turns, named regions, balloons, letters (numbers of the twin's arrays) -/
def SgV (A : Nat → Nat → Int32) (nR nW nT nB nL : Nat) : Prop := SgN A nR nW nT nB nL ∧
  (∀ k, k < nT → ∃ f t : Nat, f < nW ∧ t < nW ∧ A 11 k = nI f ∧ A 12 k = nI t) ∧
  (∀ w, w < nW → ∃ n, n ≤ 8 ∧ A 7 w = nI n ∧ ∀ k, k < n → ∃ r, r < nR ∧ A 8 (8 * w + k) = nI r)
theorem SgV.to {A A' : Nat → Nat → Int32} {nR nW nT nB nL : Nat} (S : SgV A nR nW nT nB nL) (h : ∀ o, o ≠ 1 → A' o = A o) : SgV A' nR nW nT nB nL := by
  refine ⟨S.1.to h, ?_, ?_⟩
  · rw [h 11 (by decide), h 12 (by decide)]; exact S.2.1
  · rw [h 7 (by decide), h 8 (by decide)]; exact S.2.2
/-- the chances of the winds, day by day -/
def cS0 (A : Nat → Nat → Int32) (wo : Int32) (w : Nat) : Int64 := if nI w = A 1 1 ∧ nI w ≠ wo then 1 else 0
def cNx0 (A : Nat → Nat → Int32) (nT : Nat) (c : Nat → Int64) (w : Nat) : Int64 := c w * (10 - spTurns A (nI w) nT).toInt64
def cNx (A : Nat → Nat → Int32) (nT : Nat) (c : Nat → Int64) (n w : Nat) : Int64 := cNx0 A nT c w + smL (fun k => if A 12 k = nI w then c (A 11 k).toNatClampNeg * (A 13 k).toInt64 else 0) n
def cS (A : Nat → Nat → Int32) (nT : Nat) (wo : Int32) : Nat → Nat → Int64
  | 0 => cS0 A wo
  | d + 1 => fun w => if nI w = wo then 0 else cNx A nT (cS A nT wo d) nT w
/-- the heap with other chances -/
def cH (h : xH) (m : Nat) (g1 g2 : Nat → Int64) : xH := wL (wL h (m + 22) g2) (m + 21) g1
theorem yL_wL_s (h : xH) (a : Nat) (g : Nat → Int64) : yL (wL h a g) a = g := by
  funext y
  rw [yL_wL, if_pos rfl]
theorem yL_wL_n (h : xH) {a b : Nat} (g : Nat → Int64) (hb : b ≠ a) : yL (wL h a g) b = yL h b := by
  funext y
  rw [yL_wL, if_neg hb]
theorem cH_r1 (h : xH) (m : Nat) (g1 g2 : Nat → Int64) : yL (cH h m g1 g2) (m + 21) = g1 := yL_wL_s _ _ _
theorem cH_r2 (h : xH) (m : Nat) (g1 g2 : Nat → Int64) : yL (cH h m g1 g2) (m + 22) = g2 := by
  unfold cH
  rw [yL_wL_n _ _ (by omega), yL_wL_s]
theorem cH_s1 (h : xH) (m : Nat) (g1 g2 : Nat → Int64) (j : Nat) (v : Int64) : sL (cH h m g1 g2) (m + 21) j v = cH h m (u1 g1 j v) g2 := sL_wL _ _ _ _ _
theorem cH_s2 (h : xH) (m : Nat) (g1 g2 : Nat → Int64) (j : Nat) (v : Int64) : sL (cH h m g1 g2) (m + 22) j v = cH h m g1 (u1 g2 j v) := by
  have : u2 (w2 (w2 (yL h) (m + 22) g2) (m + 21) g1) (m + 22) j v = w2 (w2 (yL h) (m + 22) (u1 g2 j v)) (m + 21) g1 := by
    funext x y
    unfold u2 w2 u1
    by_cases e1 : x = m + 22
    · by_cases e3 : y = j <;> simp [e1, e3]
    · by_cases e2 : x = m + 21 <;> simp [e1, e2]
  exact congrArg (fun z => (h.1, h.2.1, (yI h, z, yR h))) this
theorem cH_eta (h : xH) (m : Nat) : cH h m (yL h (m + 21)) (yL h (m + 22)) = h := by
  unfold cH
  rw [wL_eta, wL_eta]
theorem cH_cH (h : xH) (m : Nat) (g1 g2 g3 g4 : Nat → Int64) : cH (cH h m g1 g2) m g3 g4 = cH h m g3 g4 := by
  unfold cH
  have : wL (wL (wL h (m + 22) g2) (m + 21) g1) (m + 22) g4 = wL (wL h (m + 22) g4) (m + 21) g1 := by
    unfold wL
    have : w2 (w2 (w2 (yL h) (m + 22) g2) (m + 21) g1) (m + 22) g4 = w2 (w2 (yL h) (m + 22) g4) (m + 21) g1 := by
      funext x y
      unfold w2
      by_cases e1 : x = m + 22
      · simp [e1]
      · by_cases e2 : x = m + 21 <;> simp [e1, e2]
    exact congrArg (fun z => (h.1, h.2.1, (yI h, z, yR h))) this
  rw [this, wL_wL]
theorem smL_1 (f : Nat → Int64) (n : Nat) : smL f (n + 1) = smL f n + f n := rfl
theorem i6 {k : Nat} (hk : k < 6) : ¬ (6 : Int32) ≤ nI k := fun z => absurd ((nI_leI (a := 6) (by decide) (by omega)).mp z) (by omega)
theorem c_X4_goesOn {Z : xZ} {h : xH} {m d : Nat} {wo : Int32} {nR nW nT nB nL : Nat} (T : TW h m) (S : SgV (tA h m) nR nW nT nB nL) (hd : d ≤ 8) : CT Z yX4_goesOn cX4_goesOn 5 none 1 0 0 [vr m, vi (nI d), vi wo] h (rV fun h' => ∃ g1 g2, h' = cH h m g1 g2 ∧ ∀ w, w < 6 → g1 w = cS (tA h m) nT wo d w) := by
  have hN : yI h (m + 10) 0 = nI nT := S.1.2.2.1.1
  have hl := S.1.2.2.1.2
  have hW := S.1.2.1.2
  refine CT.of (E := [some (vr m), some (vi (nI d)), some (vi wo), none, none]) (by decide +kernel) rfl rfl (Nat.le_of_ble_eq_true rfl) (fun X M Ee => ?_)
  have M : MX Z X cX4_goesOn "BalloonMailModel" 5 1 none "goesOn" := M
  -- day k begins
  have D : ∀ k, k ≤ d → ∀ (e4 : Option AV) g1 g2, (∀ w, w < 6 → g1 w = cS (tA h m) nT wo k w) → G Z X 0 0 42 [some (vr m), some (vi (nI d)), some (vi wo), some (vi (nI k)), e4] [] (cH h m g1 g2) := by
    refine upLoop d ?_ ?_
    · intro e4 g1 g2 hg
      refine g_iload_n (q := 43) M dX4_goesOn_42 rfl rfl ?_
      refine g_iload_n (q := 44) M dX4_goesOn_43 rfl rfl ?_
      refine g_icmp_ge (q := 47) (tgt := 190) M dX4_goesOn_44 (by decide) rfl (fun c_44 => ?_) (fun c_44 => ?_)
      · refine g_return M Ee dX4_goesOn_190 ?_
        exact ⟨rfl, g1, g2, rfl, hg⟩
      · exact absurd (Int32.le_refl _) c_44
    · intro k hk ih e4 g1 g2 hg
      refine g_iload_n (q := 43) M dX4_goesOn_42 rfl rfl ?_
      refine g_iload_n (q := 44) M dX4_goesOn_43 rfl rfl ?_
      refine g_icmp_ge (q := 47) (tgt := 190) M dX4_goesOn_44 (by decide) rfl (fun c_44 => ?_) (fun c_44 => ?_)
      · exact absurd ((nI_leI (by omega) (by omega)).mp c_44) (by omega)
      · refine g_iconst (q := 48) (v := 0) M dX4_goesOn_47 rfl (by decide) ?_
        refine g_istore (q := 50) (j := 4) M dX4_goesOn_48 rfl rfl (Nat.le_of_ble_eq_true rfl) rfl ?_
        dsimp only [st1, st2, kl, List.set_cons_zero, List.set_cons_succ, List.set_nil]
        -- the chances that stay
        have P1 : ∀ j, j ≤ 6 → ∀ g2, (∀ w, w < j → g2 w = cNx0 (tA h m) nT g1 w) → G Z X 0 0 50 [some (vr m), some (vi (nI d)), some (vi wo), some (vi (nI k)), some (vi (nI j))] [] (cH h m g1 g2) := by
          refine upLoop 6 ?_ ?_
          · intro g2 hg2
            refine g_iload (q := 52) M dX4_goesOn_50 rfl rfl ?_
            refine g_bipush (q := 54) (v := 6) M dX4_goesOn_52 rfl (by decide) ?_
            refine g_icmp_ge (q := 57) (tgt := 88) M dX4_goesOn_54 (by decide) rfl (fun c_54 => ?_) (fun c_54 => ?_)
            · refine g_iconst (q := 89) (v := 0) M dX4_goesOn_88 rfl (by decide) ?_
              refine g_istore (q := 91) (j := 4) M dX4_goesOn_89 rfl rfl (Nat.le_of_ble_eq_true rfl) rfl ?_
              dsimp only [st1, st2, kl, List.set_cons_zero, List.set_cons_succ, List.set_nil]
              -- the turns
              have P2 : ∀ j, j ≤ nT → ∀ g2, (∀ w, w < 6 → g2 w = cNx (tA h m) nT g1 j w) → G Z X 0 0 91 [some (vr m), some (vi (nI d)), some (vi wo), some (vi (nI k)), some (vi (nI j))] [] (cH h m g1 g2) := by
                refine upLoop nT ?_ ?_
                · intro g2 hg2
                  refine g_iload (q := 93) M dX4_goesOn_91 rfl rfl ?_
                  refine g_aload_n (q := 94) M dX4_goesOn_93 rfl rfl ?_
                  refine g_tw (q := 97) (f := 42) M dX4_goesOn_94 rfl l_X4_41 T rfl rfl T.a42 ?_
                  refine g_iconst (q := 98) (v := 0) M dX4_goesOn_97 rfl (by decide) ?_
                  refine g_ialdN (q := 99) (n := 2) (k := 0) M dX4_goesOn_98 rfl T.a42.2.1 rfl T.a42.2.2 rfl (by decide) (by decide) ?_
                  rw [show yI (cH h m g1 g2) (m + 10) 0 = nI nT from hN]
                  refine g_icmp_ge (q := 102) (tgt := 144) M dX4_goesOn_99 (by decide) rfl (fun c_99 => ?_) (fun c_99 => ?_)
                  · refine g_iconst (q := 145) (v := 0) M dX4_goesOn_144 rfl (by decide) ?_
                    refine g_istore (q := 147) (j := 4) M dX4_goesOn_145 rfl rfl (Nat.le_of_ble_eq_true rfl) rfl ?_
                    dsimp only [st1, st2, kl, List.set_cons_zero, List.set_cons_succ, List.set_nil]
                    -- over into the next day
                    have P3 : ∀ j, j ≤ 6 → ∀ g1', (∀ w, w < j → g1' w = cS (tA h m) nT wo (k + 1) w) → G Z X 0 0 147 [some (vr m), some (vi (nI d)), some (vi wo), some (vi (nI k)), some (vi (nI j))] [] (cH h m g1' g2) := by
                      refine upLoop 6 ?_ ?_
                      · intro g1' hg'
                        refine g_iload (q := 149) M dX4_goesOn_147 rfl rfl ?_
                        refine g_bipush (q := 151) (v := 6) M dX4_goesOn_149 rfl (by decide) ?_
                        refine g_icmp_ge (q := 154) (tgt := 184) M dX4_goesOn_151 (by decide) rfl (fun c_151 => ?_) (fun c_151 => ?_)
                        · refine g_iinc (q := 187) (w := 1) M dX4_goesOn_184 rfl (Nat.le_of_ble_eq_true rfl) rfl (by decide) rfl ?_
                          dsimp only [st1, st2, kl, List.set_cons_zero, List.set_cons_succ, List.set_nil]
                          try rw [nI_1]
                          refine g_goto (tgt := 42) M dX4_goesOn_187 (by decide) ?_
                          exact ih _ _ _ hg'
                        · exact absurd (Int32.le_refl _) c_151
                      · intro j hj ih3 g1' hg'
                        refine g_iload (q := 149) M dX4_goesOn_147 rfl rfl ?_
                        refine g_bipush (q := 151) (v := 6) M dX4_goesOn_149 rfl (by decide) ?_
                        refine g_icmp_ge (q := 154) (tgt := 184) M dX4_goesOn_151 (by decide) rfl (fun c_151 => ?_) (fun c_151 => ?_)
                        · exact absurd c_151 (i6 hj)
                        · have J : ∀ z : Int64, z = cS (tA h m) nT wo (k + 1) j → G Z X 0 0 177 [some (vr m), some (vi (nI d)), some (vi wo), some (vi (nI k)), some (vi (nI j))] [vl z, vi (nI j), vr (m + 21)] (cH h m g1' g2) := by
                            intro z hz
                            refine g_lastN (q := 178) (n := 6) M dX4_goesOn_177 rfl T.a68.2.1 T.a68.2.2 rfl hj (by decide) ?_
                            rw [cH_s1]
                            refine g_iinc (q := 181) (w := 1) M dX4_goesOn_178 rfl (Nat.le_of_ble_eq_true rfl) rfl (by decide) rfl ?_
                            dsimp only [st1, st2, kl, List.set_cons_zero, List.set_cons_succ, List.set_nil]
                            try rw [nI_1]
                            refine g_goto (tgt := 147) M dX4_goesOn_181 (by decide) ?_
                            refine ih3 _ (fun w hw => ?_)
                            by_cases e : w = j
                            · rw [e, u1_s, hz]
                            · rw [u1_n _ _ e]; exact hg' w (by omega)
                          refine g_aload_n (q := 155) M dX4_goesOn_154 rfl rfl ?_
                          refine g_tw (q := 158) (f := 68) M dX4_goesOn_155 rfl l_X4_78 T rfl rfl T.a68 ?_
                          refine g_iload (q := 160) M dX4_goesOn_158 rfl rfl ?_
                          refine g_iload (q := 162) M dX4_goesOn_160 rfl rfl ?_
                          refine g_iload_n (q := 163) M dX4_goesOn_162 rfl rfl ?_
                          refine g_icmp_ne (q := 166) (tgt := 170) M dX4_goesOn_163 (by decide) rfl (fun c_163 => ?_) (fun c_163 => ?_)
                          · refine g_aload_n (q := 171) M dX4_goesOn_170 rfl rfl ?_
                            refine g_tw (q := 174) (f := 69) M dX4_goesOn_171 rfl l_X4_82 T rfl rfl T.a69 ?_
                            refine g_iload (q := 176) M dX4_goesOn_174 rfl rfl ?_
                            refine g_laldN (q := 177) (n := 6) M dX4_goesOn_176 rfl T.a69.2.1 rfl T.a69.2.2 rfl (by omega) (by decide) ?_
                            rw [cH_r2]
                            refine J _ ?_
                            show g2 j = if nI j = wo then 0 else cNx (tA h m) nT (cS (tA h m) nT wo k) nT j
                            rw [if_neg c_163, hg2 j hj]
                            unfold cNx cNx0
                            rw [hg j hj]
                            congr 1
                            have : ∀ n, n ≤ nT → smL (fun q => if tA h m 12 q = nI j then g1 (tA h m 11 q).toNatClampNeg * (tA h m 13 q).toInt64 else 0) n = smL (fun q => if tA h m 12 q = nI j then cS (tA h m) nT wo k (tA h m 11 q).toNatClampNeg * (tA h m 13 q).toInt64 else 0) n := by
                              intro n
                              induction n with
                              | zero => intro _; rfl
                              | succ n ihn =>
                                intro hn
                                rw [smL_1, smL_1, ihn (by omega)]
                                obtain ⟨f, t, hf, ht, e1, e2⟩ := S.2.1 n (by omega)
                                rw [e1, nI_clamp (by omega), hg f (by omega)]
                            exact this nT (Nat.le_refl _)
                          · refine g_lconst (q := 167) (v := 0) M dX4_goesOn_166 rfl (by decide) ?_
                            refine g_goto (tgt := 177) M dX4_goesOn_167 (by decide) ?_
                            exact J _ (if_pos c_163).symm
                    exact P3 0 (by decide) g1 (fun w hw => absurd hw (Nat.not_lt_zero _))
                  · exact absurd (Int32.le_refl _) c_99
                · intro j hj ih2 g2 hg2
                  obtain ⟨f, t, hf, ht, e1, e2⟩ := S.2.1 j hj
                  refine g_iload (q := 93) M dX4_goesOn_91 rfl rfl ?_
                  refine g_aload_n (q := 94) M dX4_goesOn_93 rfl rfl ?_
                  refine g_tw (q := 97) (f := 42) M dX4_goesOn_94 rfl l_X4_41 T rfl rfl T.a42 ?_
                  refine g_iconst (q := 98) (v := 0) M dX4_goesOn_97 rfl (by decide) ?_
                  refine g_ialdN (q := 99) (n := 2) (k := 0) M dX4_goesOn_98 rfl T.a42.2.1 rfl T.a42.2.2 rfl (by decide) (by decide) ?_
                  rw [show yI (cH h m g1 g2) (m + 10) 0 = nI nT from hN]
                  refine g_icmp_ge (q := 102) (tgt := 144) M dX4_goesOn_99 (by decide) rfl (fun c_99 => ?_) (fun c_99 => ?_)
                  · exact absurd ((nI_leI (by omega) (by omega)).mp c_99) (by omega)
                  · refine g_aload_n (q := 103) M dX4_goesOn_102 rfl rfl ?_
                    refine g_tw (q := 106) (f := 69) M dX4_goesOn_103 rfl l_X4_82 T rfl rfl T.a69 ?_
                    refine g_aload_n (q := 107) M dX4_goesOn_106 rfl rfl ?_
                    refine g_tw (q := 110) (f := 44) M dX4_goesOn_107 rfl l_X4_47 T rfl rfl T.a44 ?_
                    refine g_iload (q := 112) M dX4_goesOn_110 rfl rfl ?_
                    refine g_ialdN (q := 113) (n := 60) M dX4_goesOn_112 rfl T.a44.2.1 rfl T.a44.2.2 rfl (by omega) (by decide) ?_
                    rw [show yI (cH h m g1 g2) (m + 12) j = nI t from e2]
                    refine g_dup2 (q := 114) M dX4_goesOn_113 rfl rfl rfl ?_
                    refine g_laldN (q := 115) (n := 6) M dX4_goesOn_114 rfl T.a69.2.1 rfl T.a69.2.2 rfl (by omega) (by decide) ?_
                    rw [cH_r2]
                    refine g_aload_n (q := 116) M dX4_goesOn_115 rfl rfl ?_
                    refine g_tw (q := 119) (f := 68) M dX4_goesOn_116 rfl l_X4_78 T rfl rfl T.a68 ?_
                    refine g_aload_n (q := 120) M dX4_goesOn_119 rfl rfl ?_
                    refine g_tw (q := 123) (f := 43) M dX4_goesOn_120 rfl l_X4_44 T rfl rfl T.a43 ?_
                    refine g_iload (q := 125) M dX4_goesOn_123 rfl rfl ?_
                    refine g_ialdN (q := 126) (n := 60) M dX4_goesOn_125 rfl T.a43.2.1 rfl T.a43.2.2 rfl (by omega) (by decide) ?_
                    rw [show yI (cH h m g1 g2) (m + 11) j = nI f from e1]
                    refine g_laldN (q := 127) (n := 6) M dX4_goesOn_126 rfl T.a68.2.1 rfl T.a68.2.2 rfl (by omega) (by decide) ?_
                    rw [cH_r1]
                    refine g_aload_n (q := 128) M dX4_goesOn_127 rfl rfl ?_
                    refine g_tw (q := 131) (f := 45) M dX4_goesOn_128 rfl l_X4_50 T rfl rfl T.a45 ?_
                    refine g_iload (q := 133) M dX4_goesOn_131 rfl rfl ?_
                    refine g_ialdN (q := 134) (n := 60) M dX4_goesOn_133 rfl T.a45.2.1 rfl T.a45.2.2 rfl (by omega) (by decide) ?_
                    refine g_i2l (q := 135) M dX4_goesOn_134 rfl ?_
                    refine g_lmul (q := 136) M dX4_goesOn_135 rfl ?_
                    refine g_ladd (q := 137) M dX4_goesOn_136 rfl ?_
                    refine g_lastN (q := 138) (n := 6) M dX4_goesOn_137 rfl T.a69.2.1 T.a69.2.2 rfl (by omega) (by decide) ?_
                    rw [cH_s2]
                    refine g_iinc (q := 141) (w := 1) M dX4_goesOn_138 rfl (Nat.le_of_ble_eq_true rfl) rfl (by decide) rfl ?_
                    dsimp only [st1, st2, kl, List.set_cons_zero, List.set_cons_succ, List.set_nil]
                    try rw [nI_1]
                    refine g_goto (tgt := 91) M dX4_goesOn_141 (by decide) ?_
                    refine ih2 _ (fun w hw => ?_)
                    show u1 g2 t _ w = cNx0 (tA h m) nT g1 w + (smL _ j + (if tA h m 12 j = nI w then g1 (tA h m 11 j).toNatClampNeg * (tA h m 13 j).toInt64 else 0))
                    have hcl : (tA h m 11 j).toNatClampNeg = f := by rw [e1, nI_clamp (by omega)]
                    by_cases e : w = t
                    · rw [e, u1_s, if_pos e2, hg2 t (by omega), hcl]
                      show cNx0 (tA h m) nT g1 t + _ + _ = _
                      rw [Int64.add_assoc]
                      rfl
                    · rw [u1_n _ _ e, if_neg (by rw [e2]; exact fun z => e ((nI_eq (by omega) (by omega)).mp z).symm), hg2 w hw, Int64.add_zero]
                      rfl
              exact P2 0 (Nat.zero_le _) _ (fun w hw => by rw [hg2 w hw]; unfold cNx smL; rw [Int64.add_zero])
            · exact absurd (Int32.le_refl _) c_54
          · intro j hj ih1 g2 hg2
            refine g_iload (q := 52) M dX4_goesOn_50 rfl rfl ?_
            refine g_bipush (q := 54) (v := 6) M dX4_goesOn_52 rfl (by decide) ?_
            refine g_icmp_ge (q := 57) (tgt := 88) M dX4_goesOn_54 (by decide) rfl (fun c_54 => ?_) (fun c_54 => ?_)
            · exact absurd c_54 (i6 hj)
            · refine g_aload_n (q := 58) M dX4_goesOn_57 rfl rfl ?_
              refine g_tw (q := 61) (f := 69) M dX4_goesOn_58 rfl l_X4_82 T rfl rfl T.a69 ?_
              refine g_iload (q := 63) M dX4_goesOn_61 rfl rfl ?_
              refine g_aload_n (q := 64) M dX4_goesOn_63 rfl rfl ?_
              refine g_tw (q := 67) (f := 68) M dX4_goesOn_64 rfl l_X4_78 T rfl rfl T.a68 ?_
              refine g_iload (q := 69) M dX4_goesOn_67 rfl rfl ?_
              refine g_laldN (q := 70) (n := 6) M dX4_goesOn_69 rfl T.a68.2.1 rfl T.a68.2.2 rfl hj (by decide) ?_
              rw [cH_r1]
              refine g_bipush (q := 72) (v := 10) M dX4_goesOn_70 rfl (by decide) ?_
              refine g_aload_n (q := 73) M dX4_goesOn_72 rfl rfl ?_
              refine g_iload (q := 75) M dX4_goesOn_73 rfl rfl ?_
              refine g_callV (q := 78) M rfl dX4_goesOn_75 rfl w_X4_252 (c_X4_turnsOf (h := cH h m g1 g2) T S.1) (isC.of T.1 rfl) rfl rfl (Nat.le_of_ble_eq_true rfl) (by decide) (by omega) (by omega) (r_I ?_)
              rintro x h_75 ⟨rfl, rfl⟩ m_75
              refine g_isub (q := 79) M dX4_goesOn_78 rfl ?_
              refine g_i2l (q := 80) M dX4_goesOn_79 rfl ?_
              refine g_lmul (q := 81) M dX4_goesOn_80 rfl ?_
              refine g_lastN (q := 82) (n := 6) M dX4_goesOn_81 rfl T.a69.2.1 T.a69.2.2 rfl hj (by decide) ?_
              rw [cH_s2]
              refine g_iinc (q := 85) (w := 1) M dX4_goesOn_82 rfl (Nat.le_of_ble_eq_true rfl) rfl (by decide) rfl ?_
              dsimp only [st1, st2, kl, List.set_cons_zero, List.set_cons_succ, List.set_nil]
              try rw [nI_1]
              refine g_goto (tgt := 50) M dX4_goesOn_85 (by decide) ?_
              refine ih1 _ (fun w hw => ?_)
              by_cases e : w = j
              · rw [e, u1_s]; rfl
              · rw [u1_n _ _ e]; exact hg2 w (by omega)
        exact P1 0 (by decide) g2 (fun w hw => absurd hw (Nat.not_lt_zero _))
  refine g_iconst (q := 1) (v := 0) M dX4_goesOn_0 rfl (by decide) ?_
  refine g_istore_n (q := 2) (j := 3) M dX4_goesOn_1 rfl rfl (Nat.le_of_ble_eq_true rfl) rfl ?_
  dsimp only [st1, st2, kl, List.set_cons_zero, List.set_cons_succ, List.set_nil]
  -- the first day's chances
  have P0 : ∀ j, j ≤ 6 → ∀ g1, (∀ w, w < j → g1 w = cS0 (tA h m) wo w) → G Z X 0 0 2 [some (vr m), some (vi (nI d)), some (vi wo), some (vi (nI j)), none] [] (cH h m g1 (yL h (m + 22))) := by
    refine upLoop 6 ?_ ?_
    · intro g1 hg
      refine g_iload_n (q := 3) M dX4_goesOn_2 rfl rfl ?_
      refine g_bipush (q := 5) (v := 6) M dX4_goesOn_3 rfl (by decide) ?_
      refine g_icmp_ge (q := 8) (tgt := 40) M dX4_goesOn_5 (by decide) rfl (fun c_5 => ?_) (fun c_5 => ?_)
      · refine g_iconst (q := 41) (v := 0) M dX4_goesOn_40 rfl (by decide) ?_
        refine g_istore_n (q := 42) (j := 3) M dX4_goesOn_41 rfl rfl (Nat.le_of_ble_eq_true rfl) rfl ?_
        dsimp only [st1, st2, kl, List.set_cons_zero, List.set_cons_succ, List.set_nil]
        exact D 0 (Nat.zero_le _) _ _ _ hg
      · exact absurd (Int32.le_refl _) c_5
    · intro j hj ih g1 hg
      refine g_iload_n (q := 3) M dX4_goesOn_2 rfl rfl ?_
      refine g_bipush (q := 5) (v := 6) M dX4_goesOn_3 rfl (by decide) ?_
      refine g_icmp_ge (q := 8) (tgt := 40) M dX4_goesOn_5 (by decide) rfl (fun c_5 => ?_) (fun c_5 => ?_)
      · exact absurd c_5 (i6 hj)
      · have J : ∀ z : Int64, z = cS0 (tA h m) wo j → G Z X 0 0 33 [some (vr m), some (vi (nI d)), some (vi wo), some (vi (nI j)), none] [vl z, vi (nI j), vr (m + 21)] (cH h m g1 (yL h (m + 22))) := by
          intro z hz
          refine g_lastN (q := 34) (n := 6) M dX4_goesOn_33 rfl T.a68.2.1 T.a68.2.2 rfl hj (by decide) ?_
          rw [cH_s1]
          refine g_iinc (q := 37) (w := 1) M dX4_goesOn_34 rfl (Nat.le_of_ble_eq_true rfl) rfl (by decide) rfl ?_
          dsimp only [st1, st2, kl, List.set_cons_zero, List.set_cons_succ, List.set_nil]
          try rw [nI_1]
          refine g_goto (tgt := 2) M dX4_goesOn_37 (by decide) ?_
          refine ih _ (fun w hw => ?_)
          by_cases e : w = j
          · rw [e, u1_s, hz]
          · rw [u1_n _ _ e]; exact hg w (by omega)
        refine g_aload_n (q := 9) M dX4_goesOn_8 rfl rfl ?_
        refine g_tw (q := 12) (f := 68) M dX4_goesOn_9 rfl l_X4_78 T rfl rfl T.a68 ?_
        refine g_iload_n (q := 13) M dX4_goesOn_12 rfl rfl ?_
        refine g_iload_n (q := 14) M dX4_goesOn_13 rfl rfl ?_
        refine g_aload_n (q := 15) M dX4_goesOn_14 rfl rfl ?_
        refine g_tw (q := 18) (f := 33) M dX4_goesOn_15 rfl l_X4_13 T rfl rfl T.a33 ?_
        refine g_iconst (q := 19) (v := 1) M dX4_goesOn_18 rfl (by decide) ?_
        refine g_ialdN (q := 20) (n := 213) (k := 1) M dX4_goesOn_19 rfl T.a33.2.1 rfl T.a33.2.2 rfl (by decide) (by decide) ?_
        refine g_icmp_ne (q := 23) (tgt := 32) M dX4_goesOn_20 (by decide) rfl (fun c_20 => ?_) (fun c_20 => ?_)
        · refine g_lconst (q := 33) (v := 0) M dX4_goesOn_32 rfl (by decide) ?_
          exact J _ (if_neg (fun z => c_20 z.1)).symm
        · refine g_iload_n (q := 24) M dX4_goesOn_23 rfl rfl ?_
          refine g_iload_n (q := 25) M dX4_goesOn_24 rfl rfl ?_
          refine g_icmp_eq (q := 28) (tgt := 32) M dX4_goesOn_25 (by decide) rfl (fun c_25 => ?_) (fun c_25 => ?_)
          · refine g_lconst (q := 33) (v := 0) M dX4_goesOn_32 rfl (by decide) ?_
            exact J _ (if_neg (fun z => z.2 c_25)).symm
          · refine g_lconst (q := 29) (v := 1) M dX4_goesOn_28 rfl (by decide) ?_
            refine g_goto (tgt := 33) M dX4_goesOn_29 (by decide) ?_
            exact J _ (if_pos ⟨c_20, c_25⟩).symm
  have := P0 0 (by decide) (yL h (m + 21)) (fun w hw => absurd hw (Nat.not_lt_zero _))
  rw [cH_eta] at this
  exact this
theorem wind_in {w : Int32} {nW : Nat} {A : Nat → Nat → Int32} (hA : A 6 0 = nI nW) (hl : nW ≤ 6) (h : 0 ≤ w ∧ w ≤ A 6 0 - 1) : ∃ k, k < nW ∧ w = nI k := nI_m1 (by omega) h.1 (by rw [← hA]; exact h.2)
theorem days_in {d : Int32} (h : 0 ≤ d ∧ d ≤ 8) : ∃ k, k ≤ 8 ∧ d = nI k := by
  obtain ⟨k, hk, e⟩ := nI_m1 (n := 9) (by decide) h.1 h.2
  exact ⟨k, by omega, e⟩
/-- the heap behind a question about chances -/
def cHs (h : xH) (m : Nat) (h' : xH) : Prop := ∃ g1 g2, h' = cH (pI h 32 m 0) m g1 g2
theorem cHs.rf {h : xH} {m : Nat} : cHs h m (pI h 32 m 0) := ⟨_, _, (cH_eta (pI h 32 m 0) m).symm⟩
def spWind (A : Nat → Nat → Int32) (nT : Nat) (w d : Int32) : Int64 := if (0 ≤ w ∧ w ≤ A 6 0 - 1) ∧ (0 ≤ d ∧ d ≤ 8) then cS A nT (-2) d.toNatClampNeg w.toNatClampNeg else -1
theorem c_X4_windChance {Z : xZ} {h : xH} {m : Nat} {w d : Int32} {nR nW nT nB nL : Nat} (T : TW h m) (S : SgV (tA h m) nR nW nT nB nL) : CT Z yX4_windChance cX4_windChance 3 (some .long) 2 0 0 [vr m, vi w, vi d] h (rL fun r h' => cHs h m h' ∧ r = spWind (tA h m) nT w d) := by
  refine CT.of (E := [some (vr m), some (vi w), some (vi d)]) (by decide +kernel) rfl rfl (Nat.le_of_ble_eq_true rfl) (fun X M Ee => ?_)
  have M : MX Z X cX4_windChance "BalloonMailModel" 3 2 (some .long) "windChance" := M
  refine g_aload_n (q := 1) M dX4_windChance_0 rfl rfl ?_
  refine g_iconst (q := 2) (v := 0) M dX4_windChance_1 rfl (by decide) ?_
  refine g_putI (q := 5) (f := 32) M dX4_windChance_2 rfl l_X4_1 T.1 (by decide +kernel) rfl ⟨rfl, rfl⟩ ?_
  refine g_aload_n (q := 6) M dX4_windChance_5 rfl rfl ?_
  refine g_iload_n (q := 7) M dX4_windChance_6 rfl rfl ?_
  refine g_callV (q := 10) M rfl dX4_windChance_7 rfl w_X4_255 (c_X4_isWind (T32 T)) (isC.of T.1 rfl) rfl rfl (Nat.le_of_ble_eq_true rfl) (by decide) (by omega) (by omega) (r_I ?_)
  rintro x h_7 ⟨rfl, rfl⟩ m_7
  refine g_if_eq (q := 13) (tgt := 20) M dX4_windChance_10 (by decide) rfl (fun c_10 => ?_) (fun c_10 => ?_)
  · refine g_ldc2 (q := 23) M dX4_windChance_20 rfl q2444 ?_
    refine g_lreturn M Ee dX4_windChance_23 ?_
    exact ⟨_, rfl, cHs.rf, (if_neg (fun z => bI_d.mp c_10 z.1)).symm⟩
  · refine g_iload_n (q := 14) M dX4_windChance_13 rfl rfl ?_
    refine g_callS (q := 17) M rfl dX4_windChance_14 rfl w_X4_258 c_X4_areDays rfl rfl (Nat.le_of_ble_eq_true rfl) (by decide) (by omega) (by omega) (r_I fun x h_14 hq m_14 => ?_)
    obtain ⟨e1, rfl⟩ := hq
    subst e1
    refine g_if_ne (q := 20) (tgt := 24) M dX4_windChance_17 (by decide) rfl (fun c_17 => ?_) (fun c_17 => ?_)
    · have c1 := bI_n.mp c_10
      have c2 := bI_n.mp c_17
      obtain ⟨k, hk, rfl⟩ := wind_in S.1.2.1.1 S.1.2.1.2 c1
      obtain ⟨j, hj, rfl⟩ := days_in c2
      have h6 := S.1.2.1.2
      refine g_aload_n (q := 25) M dX4_windChance_24 rfl rfl ?_
      refine g_iload_n (q := 26) M dX4_windChance_25 rfl rfl ?_
      refine g_bipush (q := 28) (v := (-2)) M dX4_windChance_26 rfl (by decide) ?_
      refine g_callV (q := 31) M rfl dX4_windChance_28 rfl w_X4_263 (c_X4_goesOn (T32 T) S hj) (isC.of T.1 rfl) rfl rfl (Nat.le_of_ble_eq_true rfl) (by decide) (by omega) (by omega) (r_V fun h_28 hq m_28 => ?_)
      obtain ⟨g1, g2, rfl, hg⟩ := hq
      refine g_aload_n (q := 32) M dX4_windChance_31 rfl rfl ?_
      refine g_tw (q := 35) (f := 68) M dX4_windChance_32 rfl l_X4_78 T rfl rfl T.a68 ?_
      refine g_iload_n (q := 36) M dX4_windChance_35 rfl rfl ?_
      refine g_laldN (q := 37) (n := 6) M dX4_windChance_36 rfl T.a68.2.1 rfl T.a68.2.2 rfl (by omega) (by decide) ?_
      rw [cH_r1]
      refine g_lreturn M Ee dX4_windChance_37 ?_
      refine ⟨_, rfl, ⟨_, _, rfl⟩, ?_⟩
      unfold spWind
      rw [if_pos ⟨c1, c2⟩, nI_clamp (by omega), nI_clamp (by omega)]
      exact hg k (by omega)
    · refine g_ldc2 (q := 23) M dX4_windChance_20 rfl q2444 ?_
      refine g_lreturn M Ee dX4_windChance_23 ?_
      exact ⟨_, rfl, cHs.rf, (if_neg (fun z => bI_d.mp c_17 z.2)).symm⟩
def spAvoid (A : Nat → Nat → Int32) (nT : Nat) (w d : Int32) : Int64 := if (0 ≤ w ∧ w ≤ A 6 0 - 1) ∧ (0 ≤ d ∧ d ≤ 8) then smL (cS A nT w d.toNatClampNeg) 6 else -1
theorem smL_cong {f g : Nat → Int64} : ∀ n, (∀ k, k < n → f k = g k) → smL f n = smL g n
  | 0, _ => rfl
  | n + 1, h => by rw [smL_1, smL_1, smL_cong n (fun k hk => h k (by omega)), h n (by omega)]
theorem c_X4_avoidChance {Z : xZ} {h : xH} {m : Nat} {w d : Int32} {nR nW nT nB nL : Nat} (T : TW h m) (S : SgV (tA h m) nR nW nT nB nL) : CT Z yX4_avoidChance cX4_avoidChance 6 (some .long) 2 0 0 [vr m, vi w, vi d] h (rL fun r h' => cHs h m h' ∧ r = spAvoid (tA h m) nT w d) := by
  refine CT.of (E := [some (vr m), some (vi w), some (vi d), none, none, none]) (by decide +kernel) rfl rfl (Nat.le_of_ble_eq_true rfl) (fun X M Ee => ?_)
  have M : MX Z X cX4_avoidChance "BalloonMailModel" 6 2 (some .long) "avoidChance" := M
  refine g_aload_n (q := 1) M dX4_avoidChance_0 rfl rfl ?_
  refine g_iconst (q := 2) (v := 0) M dX4_avoidChance_1 rfl (by decide) ?_
  refine g_putI (q := 5) (f := 32) M dX4_avoidChance_2 rfl l_X4_1 T.1 (by decide +kernel) rfl ⟨rfl, rfl⟩ ?_
  refine g_aload_n (q := 6) M dX4_avoidChance_5 rfl rfl ?_
  refine g_iload_n (q := 7) M dX4_avoidChance_6 rfl rfl ?_
  refine g_callV (q := 10) M rfl dX4_avoidChance_7 rfl w_X4_255 (c_X4_isWind (T32 T)) (isC.of T.1 rfl) rfl rfl (Nat.le_of_ble_eq_true rfl) (by decide) (by omega) (by omega) (r_I ?_)
  rintro x h_7 ⟨rfl, rfl⟩ m_7
  refine g_if_eq (q := 13) (tgt := 20) M dX4_avoidChance_10 (by decide) rfl (fun c_10 => ?_) (fun c_10 => ?_)
  · refine g_ldc2 (q := 23) M dX4_avoidChance_20 rfl q2444 ?_
    refine g_lreturn M Ee dX4_avoidChance_23 ?_
    exact ⟨_, rfl, cHs.rf, (if_neg (fun z => bI_d.mp c_10 z.1)).symm⟩
  · refine g_iload_n (q := 14) M dX4_avoidChance_13 rfl rfl ?_
    refine g_callS (q := 17) M rfl dX4_avoidChance_14 rfl w_X4_258 c_X4_areDays rfl rfl (Nat.le_of_ble_eq_true rfl) (by decide) (by omega) (by omega) (r_I fun x h_14 hq m_14 => ?_)
    obtain ⟨e1, rfl⟩ := hq
    subst e1
    refine g_if_ne (q := 20) (tgt := 24) M dX4_avoidChance_17 (by decide) rfl (fun c_17 => ?_) (fun c_17 => ?_)
    · have c1 := bI_n.mp c_10
      have c2 := bI_n.mp c_17
      obtain ⟨j, hj, rfl⟩ := days_in c2
      refine g_aload_n (q := 25) M dX4_avoidChance_24 rfl rfl ?_
      refine g_iload_n (q := 26) M dX4_avoidChance_25 rfl rfl ?_
      refine g_iload_n (q := 27) M dX4_avoidChance_26 rfl rfl ?_
      refine g_callV (q := 30) M rfl dX4_avoidChance_27 rfl w_X4_263 (c_X4_goesOn (T32 T) S hj) (isC.of T.1 rfl) rfl rfl (Nat.le_of_ble_eq_true rfl) (by decide) (by omega) (by omega) (r_V fun h_27 hq m_27 => ?_)
      obtain ⟨g1, g2, rfl, hg⟩ := hq
      refine g_lconst (q := 31) (v := 0) M dX4_avoidChance_30 rfl (by decide) ?_
      refine g_lstore_n (q := 32) (j := 3) M dX4_avoidChance_31 rfl rfl (Nat.le_of_ble_eq_true rfl) rfl ?_
      dsimp only [st1, st2, kl, List.set_cons_zero, List.set_cons_succ, List.set_nil]
      refine g_iconst (q := 33) (v := 0) M dX4_avoidChance_32 rfl (by decide) ?_
      refine g_istore (q := 35) (j := 5) M dX4_avoidChance_33 rfl rfl (Nat.le_of_ble_eq_true rfl) rfl ?_
      dsimp only [st1, st2, kl, List.set_cons_zero, List.set_cons_succ, List.set_nil]
      refine upLoop (P := fun k => G Z X 0 0 35 [some (vr m), some (vi w), some (vi (nI j)), some (vl (smL g1 k)), none, some (vi (nI k))] [] (cH (pI h 32 m 0) m g1 g2)) 6 ?_ ?_ 0 (by decide)
      · refine g_iload (q := 37) M dX4_avoidChance_35 rfl rfl ?_
        refine g_bipush (q := 39) (v := 6) M dX4_avoidChance_37 rfl (by decide) ?_
        refine g_icmp_ge (q := 42) (tgt := 58) M dX4_avoidChance_39 (by decide) rfl (fun c_39 => ?_) (fun c_39 => ?_)
        · refine g_lload_n (q := 59) M dX4_avoidChance_58 rfl rfl ?_
          refine g_lreturn M Ee dX4_avoidChance_59 ?_
          refine ⟨_, rfl, ⟨_, _, rfl⟩, ?_⟩
          unfold spAvoid
          rw [if_pos ⟨c1, c2⟩, nI_clamp (by omega)]
          exact smL_cong 6 hg
        · exact absurd (Int32.le_refl _) c_39
      · intro k hk ih
        refine g_iload (q := 37) M dX4_avoidChance_35 rfl rfl ?_
        refine g_bipush (q := 39) (v := 6) M dX4_avoidChance_37 rfl (by decide) ?_
        refine g_icmp_ge (q := 42) (tgt := 58) M dX4_avoidChance_39 (by decide) rfl (fun c_39 => ?_) (fun c_39 => ?_)
        · exact absurd c_39 (i6 hk)
        · refine g_lload_n (q := 43) M dX4_avoidChance_42 rfl rfl ?_
          refine g_aload_n (q := 44) M dX4_avoidChance_43 rfl rfl ?_
          refine g_tw (q := 47) (f := 68) M dX4_avoidChance_44 rfl l_X4_78 T rfl rfl T.a68 ?_
          refine g_iload (q := 49) M dX4_avoidChance_47 rfl rfl ?_
          refine g_laldN (q := 50) (n := 6) M dX4_avoidChance_49 rfl T.a68.2.1 rfl T.a68.2.2 rfl (by omega) (by decide) ?_
          rw [cH_r1]
          refine g_ladd (q := 51) M dX4_avoidChance_50 rfl ?_
          refine g_lstore_n (q := 52) (j := 3) M dX4_avoidChance_51 rfl rfl (Nat.le_of_ble_eq_true rfl) rfl ?_
          dsimp only [st1, st2, kl, List.set_cons_zero, List.set_cons_succ, List.set_nil]
          refine g_iinc (q := 55) (w := 1) M dX4_avoidChance_52 rfl (Nat.le_of_ble_eq_true rfl) rfl (by decide) rfl ?_
          dsimp only [st1, st2, kl, List.set_cons_zero, List.set_cons_succ, List.set_nil]
          try rw [nI_1]
          refine g_goto (tgt := 35) M dX4_avoidChance_55 (by decide) ?_
          exact ih
    · refine g_ldc2 (q := 23) M dX4_avoidChance_20 rfl q2444 ?_
      refine g_lreturn M Ee dX4_avoidChance_23 ?_
      exact ⟨_, rfl, cHs.rf, (if_neg (fun z => bI_d.mp c_17 z.2)).symm⟩
/-- the weight of a region in a wind; NONE: of the sea -/
def spW (A : Nat → Nat → Int32) (w : Nat) (r : Int32) : Int32 := if r = -2 then 10 - spNSum A w (A 7 w).toNatClampNeg else spNIts A w r (A 7 w).toNatClampNeg
def spLand (A : Nat → Nat → Int32) (nW nT : Nat) (r d : Int32) : Int64 := if (r = -2 ∨ 0 ≤ r ∧ r ≤ A 2 0 - 1) ∧ (0 ≤ d ∧ d ≤ 8) ∧ nW ≠ 0 then smL (fun w => cS A nT (-2) d.toNatClampNeg w * (spW A w r).toInt64) nW else -1
theorem c_X4_landingChance {Z : xZ} {h : xH} {m : Nat} {r d : Int32} {nR nW nT nB nL : Nat} (T : TW h m) (S : SgV (tA h m) nR nW nT nB nL) : CT Z yX4_landingChance cX4_landingChance 6 (some .long) 2 0 0 [vr m, vi r, vi d] h (rL fun x h' => cHs h m h' ∧ x = spLand (tA h m) nW nT r d) := by
  have hNW : tA h m 6 0 = nI nW := S.1.2.1.1
  have h6 := S.1.2.1.2
  refine CT.of (E := [some (vr m), some (vi r), some (vi d), none, none, none]) (by decide +kernel) rfl rfl (Nat.le_of_ble_eq_true rfl) (fun X M Ee => ?_)
  have M : MX Z X cX4_landingChance "BalloonMailModel" 6 2 (some .long) "landingChance" := M
  have N : ¬ ((r = -2 ∨ 0 ≤ r ∧ r ≤ tA h m 2 0 - 1) ∧ (0 ≤ d ∧ d ≤ 8) ∧ nW ≠ 0) → G Z X 0 0 43 [some (vr m), some (vi r), some (vi d), none, none, none] [] (pI h 32 m 0) := by
    intro hn
    refine g_ldc2 (q := 46) M dX4_landingChance_43 rfl q2444 ?_
    refine g_lreturn M Ee dX4_landingChance_46 ?_
    exact ⟨_, rfl, cHs.rf, (if_neg hn).symm⟩
  have Y : (r = -2 ∨ 0 ≤ r ∧ r ≤ tA h m 2 0 - 1) → G Z X 0 0 27 [some (vr m), some (vi r), some (vi d), none, none, none] [] (pI h 32 m 0) := by
    intro hr
    refine g_iload_n (q := 28) M dX4_landingChance_27 rfl rfl ?_
    refine g_callS (q := 31) M rfl dX4_landingChance_28 rfl w_X4_258 c_X4_areDays rfl rfl (Nat.le_of_ble_eq_true rfl) (by decide) (by omega) (by omega) (r_I fun x h_28 hq m_28 => ?_)
    obtain ⟨e1, rfl⟩ := hq
    subst e1
    refine g_if_eq (q := 34) (tgt := 43) M dX4_landingChance_31 (by decide) rfl (fun c_31 => ?_) (fun c_31 => ?_)
    · exact N (fun z => bI_d.mp c_31 z.2.1)
    · refine g_aload_n (q := 35) M dX4_landingChance_34 rfl rfl ?_
      refine g_tw (q := 38) (f := 38) M dX4_landingChance_35 rfl l_X4_29 T rfl rfl T.a38 ?_
      refine g_iconst (q := 39) (v := 0) M dX4_landingChance_38 rfl (by decide) ?_
      refine g_ialdN (q := 40) (n := 2) (k := 0) M dX4_landingChance_39 rfl T.a38.2.1 rfl T.a38.2.2 rfl (by decide) (by decide) ?_
      rw [show yI (pI h 32 m 0) (m + 6) 0 = nI nW from hNW]
      refine g_if_ne (q := 43) (tgt := 47) M dX4_landingChance_40 (by decide) rfl (fun c_40 => ?_) (fun c_40 => ?_)
      · have c2 := bI_n.mp c_31
        have hw0 : nW ≠ 0 := fun e => c_40 (by rw [e]; rfl)
        obtain ⟨j, hj, rfl⟩ := days_in c2
        refine g_aload_n (q := 48) M dX4_landingChance_47 rfl rfl ?_
        refine g_iload_n (q := 49) M dX4_landingChance_48 rfl rfl ?_
        refine g_bipush (q := 51) (v := (-2)) M dX4_landingChance_49 rfl (by decide) ?_
        refine g_callV (q := 54) M rfl dX4_landingChance_51 rfl w_X4_263 (c_X4_goesOn (T32 T) S hj) (isC.of T.1 rfl) rfl rfl (Nat.le_of_ble_eq_true rfl) (by decide) (by omega) (by omega) (r_V fun h_51 hq m_51 => ?_)
        obtain ⟨g1, g2, rfl, hg⟩ := hq
        refine g_lconst (q := 55) (v := 0) M dX4_landingChance_54 rfl (by decide) ?_
        refine g_lstore_n (q := 56) (j := 3) M dX4_landingChance_55 rfl rfl (Nat.le_of_ble_eq_true rfl) rfl ?_
        dsimp only [st1, st2, kl, List.set_cons_zero, List.set_cons_succ, List.set_nil]
        refine g_iconst (q := 57) (v := 0) M dX4_landingChance_56 rfl (by decide) ?_
        refine g_istore (q := 59) (j := 5) M dX4_landingChance_57 rfl rfl (Nat.le_of_ble_eq_true rfl) rfl ?_
        dsimp only [st1, st2, kl, List.set_cons_zero, List.set_cons_succ, List.set_nil]
        refine upLoop (P := fun k => G Z X 0 0 59 [some (vr m), some (vi r), some (vi (nI j)), some (vl (smL (fun w => g1 w * (spW (tA h m) w r).toInt64) k)), none, some (vi (nI k))] [] (cH (pI h 32 m 0) m g1 g2)) nW ?_ ?_ 0 (Nat.zero_le _)
        · refine g_iload (q := 61) M dX4_landingChance_59 rfl rfl ?_
          refine g_aload_n (q := 62) M dX4_landingChance_61 rfl rfl ?_
          refine g_tw (q := 65) (f := 38) M dX4_landingChance_62 rfl l_X4_29 T rfl rfl T.a38 ?_
          refine g_iconst (q := 66) (v := 0) M dX4_landingChance_65 rfl (by decide) ?_
          refine g_ialdN (q := 67) (n := 2) (k := 0) M dX4_landingChance_66 rfl T.a38.2.1 rfl T.a38.2.2 rfl (by decide) (by decide) ?_
          rw [show yI (cH (pI h 32 m 0) m g1 g2) (m + 6) 0 = nI nW from hNW]
          refine g_icmp_ge (q := 70) (tgt := 95) M dX4_landingChance_67 (by decide) rfl (fun c_67 => ?_) (fun c_67 => ?_)
          · refine g_lload_n (q := 96) M dX4_landingChance_95 rfl rfl ?_
            refine g_lreturn M Ee dX4_landingChance_96 ?_
            refine ⟨_, rfl, ⟨_, _, rfl⟩, ?_⟩
            unfold spLand
            rw [if_pos ⟨hr, c2, hw0⟩, nI_clamp (by omega)]
            exact smL_cong nW (fun k hk => by rw [hg k (by omega)]; rfl)
          · exact absurd (Int32.le_refl _) c_67
        · intro k hk ih
          obtain ⟨n, hn8, hn, -⟩ := S.2.2 k hk
          refine g_iload (q := 61) M dX4_landingChance_59 rfl rfl ?_
          refine g_aload_n (q := 62) M dX4_landingChance_61 rfl rfl ?_
          refine g_tw (q := 65) (f := 38) M dX4_landingChance_62 rfl l_X4_29 T rfl rfl T.a38 ?_
          refine g_iconst (q := 66) (v := 0) M dX4_landingChance_65 rfl (by decide) ?_
          refine g_ialdN (q := 67) (n := 2) (k := 0) M dX4_landingChance_66 rfl T.a38.2.1 rfl T.a38.2.2 rfl (by decide) (by decide) ?_
          rw [show yI (cH (pI h 32 m 0) m g1 g2) (m + 6) 0 = nI nW from hNW]
          refine g_icmp_ge (q := 70) (tgt := 95) M dX4_landingChance_67 (by decide) rfl (fun c_67 => ?_) (fun c_67 => ?_)
          · exact absurd ((nI_leI (by omega) (by omega)).mp c_67) (by omega)
          · refine g_lload_n (q := 71) M dX4_landingChance_70 rfl rfl ?_
            refine g_aload_n (q := 72) M dX4_landingChance_71 rfl rfl ?_
            refine g_tw (q := 75) (f := 68) M dX4_landingChance_72 rfl l_X4_78 T rfl rfl T.a68 ?_
            refine g_iload (q := 77) M dX4_landingChance_75 rfl rfl ?_
            refine g_laldN (q := 78) (n := 6) M dX4_landingChance_77 rfl T.a68.2.1 rfl T.a68.2.2 rfl (by omega) (by decide) ?_
            refine g_aload_n (q := 79) M dX4_landingChance_78 rfl rfl ?_
            refine g_iload (q := 81) M dX4_landingChance_79 rfl rfl ?_
            refine g_iload_n (q := 82) M dX4_landingChance_81 rfl rfl ?_
            refine g_callV (q := 85) M rfl dX4_landingChance_82 rfl w_X4_267 (c_X4_weightBy (h := cH (pI h 32 m 0) m g1 g2) T (by omega) hn hn8) (isC.of T.1 rfl) rfl rfl (Nat.le_of_ble_eq_true rfl) (by decide) (by omega) (by omega) (r_I ?_)
            rintro x h_82 ⟨rfl, rfl⟩ m_82
            rw [cH_r1]
            refine g_i2l (q := 86) M dX4_landingChance_85 rfl ?_
            refine g_lmul (q := 87) M dX4_landingChance_86 rfl ?_
            refine g_ladd (q := 88) M dX4_landingChance_87 rfl ?_
            refine g_lstore_n (q := 89) (j := 3) M dX4_landingChance_88 rfl rfl (Nat.le_of_ble_eq_true rfl) rfl ?_
            dsimp only [st1, st2, kl, List.set_cons_zero, List.set_cons_succ, List.set_nil]
            refine g_iinc (q := 92) (w := 1) M dX4_landingChance_89 rfl (Nat.le_of_ble_eq_true rfl) rfl (by decide) rfl ?_
            dsimp only [st1, st2, kl, List.set_cons_zero, List.set_cons_succ, List.set_nil]
            try rw [nI_1]
            refine g_goto (tgt := 59) M dX4_landingChance_92 (by decide) ?_
            have e : spW (tA h m) k r = if r = -2 then 10 - spNSum (tA h m) k n else spNIts (tA h m) k r n := by unfold spW; rw [hn, nI_clamp (by omega)]
            rw [show (if r = -2 then 10 - spNSum (tA (cH (pI h 32 m 0) m g1 g2) m) k n else spNIts (tA (cH (pI h 32 m 0) m g1 g2) m) k r n) = spW (tA h m) k r from e.symm]
            exact ih
      · have hw0 : nW = 0 := (nI_eq (by omega) (by decide)).mp (show nI nW = nI 0 from c_40)
        exact N (fun z => z.2.2 hw0)
  refine g_aload_n (q := 1) M dX4_landingChance_0 rfl rfl ?_
  refine g_iconst (q := 2) (v := 0) M dX4_landingChance_1 rfl (by decide) ?_
  refine g_putI (q := 5) (f := 32) M dX4_landingChance_2 rfl l_X4_1 T.1 (by decide +kernel) rfl ⟨rfl, rfl⟩ ?_
  refine g_iload_n (q := 6) M dX4_landingChance_5 rfl rfl ?_
  refine g_bipush (q := 8) (v := (-2)) M dX4_landingChance_6 rfl (by decide) ?_
  refine g_icmp_eq (q := 11) (tgt := 27) M dX4_landingChance_8 (by decide) rfl (fun c_8 => ?_) (fun c_8 => ?_)
  · exact Y (Or.inl c_8)
  · refine g_iload_n (q := 12) M dX4_landingChance_11 rfl rfl ?_
    refine g_iconst (q := 13) (v := 0) M dX4_landingChance_12 rfl (by decide) ?_
    refine g_aload_n (q := 14) M dX4_landingChance_13 rfl rfl ?_
    refine g_tw (q := 17) (f := 34) M dX4_landingChance_14 rfl l_X4_17 T rfl rfl T.a34 ?_
    refine g_iconst (q := 18) (v := 0) M dX4_landingChance_17 rfl (by decide) ?_
    refine g_ialdN (q := 19) (n := 2) (k := 0) M dX4_landingChance_18 rfl T.a34.2.1 rfl T.a34.2.2 rfl (by decide) (by decide) ?_
    refine g_iconst (q := 20) (v := 1) M dX4_landingChance_19 rfl (by decide) ?_
    refine g_isub (q := 21) M dX4_landingChance_20 rfl ?_
    refine g_callS (q := 24) M rfl dX4_landingChance_21 rfl w_X4_139 c_X4_within rfl rfl (Nat.le_of_ble_eq_true rfl) (by decide) (by omega) (by omega) (r_I fun x h_21 hq m_21 => ?_)
    obtain ⟨e1, rfl⟩ := hq
    subst e1
    refine g_if_eq (q := 27) (tgt := 43) M dX4_landingChance_24 (by decide) rfl (fun c_24 => ?_) (fun c_24 => ?_)
    · exact N (fun z => z.1.elim c_8 (fun z => bI_d.mp c_24 z))
    · exact Y (Or.inr (bI_n.mp c_24))
