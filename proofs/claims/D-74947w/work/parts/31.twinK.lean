/-! THE TWIN: launch -/
set_option maxRecDepth 100000
def spRel1 (A : Nat → Nat → Int32) (b r : Nat) (Q : Nat → Int32) : Nat → Int32 := if rngD (rngX (Q 2)) < A 5 r then u1 (u1 (u1 (u1 Q 2 (rngX (Q 2)).toInt32) (84 + (Q 83).toNatClampNeg) (nI b)) (124 + (Q 83).toNatClampNeg) (Q 0 + A 4 r)) 83 (Q 83 + 1) else u1 (u1 Q 2 (rngX (Q 2)).toInt32) 4 (Q 4 + 1)
def spRelN (A : Nat → Nat → Int32) (b r : Nat) (Q : Nat → Int32) : Nat → Nat → Int32
  | 0 => Q
  | n + 1 => spRel1 A b r (spRelN A b r Q n)
def spL1 (A : Nat → Nat → Int32) (R : Nat → Int32) (b : Nat) (set : Int32) : Nat → Int32 := u1 (u1 R 3 (R 3 - A 16 b)) (25 + b) set
def spReg (A : Nat → Nat → Int32) (Q : Nat → Int32) : Int32 := spPick (fun k => A 9 (8 * (Q 1).toNatClampNeg + k)) (fun k => A 8 (8 * (Q 1).toNatClampNeg + k)) (-2) (A 7 (Q 1).toNatClampNeg).toNatClampNeg 0 (rngD (rngX (Q 2)))
def spL2 (A : Nat → Nat → Int32) (Q : Nat → Int32) (b : Nat) : Nat → Int32 := u1 (u1 Q 2 (rngX (Q 2)).toInt32) (15 + b) (spReg A Q)
def spSt (A : Nat → Nat → Int32) (Q : Nat → Int32) (reg : Int32) : Int32 := if reg = -2 then 1 else if rngD (rngX (Q 2)) < A 3 reg.toNatClampNeg then 2 else 3
def spL3 (Q : Nat → Int32) (reg : Int32) : Nat → Int32 := if reg = -2 then Q else u1 Q 2 (rngX (Q 2)).toInt32
def spL4 (Q : Nat → Int32) (b : Nat) (set : Int32) (nL : Nat) (st : Int32) : Nat → Int32 := spBecome (u1 Q (5 + b) st) set (if st = 3 then 2 else 1) nL
def spL5 (A : Nat → Nat → Int32) (Q : Nat → Int32) (b : Nat) (reg st : Int32) : Nat → Int32 := if st = 3 then spRelN A b reg.toNatClampNeg Q (A 16 b).toNatClampNeg else u1 Q 4 (Q 4 + A 16 b)
def spLst (A : Nat → Nat → Int32) (R : Nat → Int32) (b : Nat) (set : Int32) : Int32 := spSt A (spL2 A (spL1 A R b set) b) (spReg A (spL1 A R b set))
def spLQ5 (A : Nat → Nat → Int32) (nL : Nat) (R : Nat → Int32) (b : Nat) (set : Int32) : Nat → Int32 := spL5 A (spL4 (spL3 (spL2 A (spL1 A R b set) b) (spReg A (spL1 A R b set))) b set nL (spLst A R b set)) b (spReg A (spL1 A R b set)) (spLst A R b set)
def spLaunch (A : Nat → Nat → Int32) (nL : Nat) (R : Nat → Int32) (b : Nat) (set : Int32) : Nat → Int32 := spNotes (spLQ5 A nL R b set) (spLQ5 A nL R b set 164).toNatClampNeg (spLst A R b set) (nI b)
/-- why a launch is refused; 0: it is not -/
def spLq (A : Nat → Nat → Int32) (nB nW nL : Nat) (b0 set : Int32) : Int32 := if ¬ ((0 ≤ b0 ∧ b0 ≤ nI nB - 1) ∧ (0 ≤ set ∧ set ≤ (1 <<< (A 17 0 &&& 31)) - 1)) then -1 else if A 1 (5 + b0.toNatClampNeg) ≠ 0 ∨ set &&& (spIn (A 1) 0 nL ^^^ (-1)) ≠ 0 ∨ nW = 0 then -2 else if A 15 b0.toNatClampNeg < spSum (A 18) set nL then -3 else if A 1 3 < A 16 b0.toNatClampNeg then -4 else 0
theorem spPick_in (wt num : Nat → Int32) (rest : Int32) : ∀ n k g, spPick wt num rest n k g = rest ∨ ∃ j, k ≤ j ∧ j < k + n ∧ spPick wt num rest n k g = num j
  | 0, k, g => Or.inl rfl
  | n + 1, k, g => by
    unfold spPick
    split
    · exact Or.inr ⟨k, Nat.le_refl _, by omega, rfl⟩
    · rcases spPick_in wt num rest n (k + 1) (g - wt k) with e | ⟨j, h1, h2, e⟩
      · exact Or.inl e
      · exact Or.inr ⟨j, by omega, by omega, e⟩
/-- n pigeons let go: how many fly -/
theorem spRelN_83 (A : Nat → Nat → Int32) (b r : Nat) (Q : Nat → Int32) (nF : Nat) (hF : Q 83 = nI nF) : ∀ n, nF + n ≤ 40 → ∃ f, nF ≤ f ∧ f ≤ nF + n ∧ spRelN A b r Q n 83 = nI f ∧ spRelN A b r Q n 0 = Q 0 ∧ spRelN A b r Q n 164 = Q 164
  | 0, _ => ⟨nF, Nat.le_refl _, Nat.le_refl _, hF, rfl, rfl⟩
  | n + 1, hn => by
    obtain ⟨f, h1, h2, h3, h4, h5⟩ := spRelN_83 A b r Q nF hF n (by omega)
    have hs : spRelN A b r Q (n + 1) = spRel1 A b r (spRelN A b r Q n) := rfl
    rw [hs]
    generalize spRelN A b r Q n = P at *
    unfold spRel1
    have hc : (P 83).toNatClampNeg = f := by rw [h3, nI_clamp (by omega)]
    split
    · refine ⟨f + 1, by omega, by omega, ?_, ?_, ?_⟩
      · rw [u1_s, h3, nI_1]
      · rw [u1_n _ _ (by omega), u1_n _ _ (by omega), u1_n _ _ (by omega), u1_n _ _ (by omega), h4]
      · rw [hc, u1_n _ _ (by omega), u1_n _ _ (by omega), u1_n _ _ (by omega), u1_n _ _ (by omega), h5]
    · refine ⟨f, by omega, by omega, ?_, ?_, ?_⟩
      · rw [u1_n _ _ (by omega), u1_n _ _ (by omega), h3]
      · rw [u1_n _ _ (by omega), u1_n _ _ (by omega), h4]
      · rw [u1_n _ _ (by omega), u1_n _ _ (by omega), h5]
theorem c_X4_launch {Z : xZ} {h : xH} {m nF n : Nat} {b0 set : Int32} {nR nW nT nB nL : Nat} (T : TW h m) (S : SgV (tA h m) nR nW nT nB nL) (B : SgB (tA h m) nB) (hU : xI h 73 m = nI n) (hn : n ≤ 12) (hw : nW ≠ 0 → ∃ w, w < nW ∧ tA h m 1 1 = nI w) (hF : tA h m 1 83 = nI nF) (hcap : ∀ p, p ≤ 4 → ¬ tA h m 1 3 < nI p → nF + p ≤ 40) (hE : ∃ e, e ≤ 16 ∧ tA h m 1 164 = nI e) : CT Z yX4_launch cX4_launch 6 (some .int) 2 0 0 [vr m, vi b0, vi set] h (rI fun r h' => (spLq (tA h m) nB nW nL b0 set ≠ 0 → r = spLq (tA h m) nB nW nL b0 set ∧ h' = pI h 32 m 0) ∧ (spLq (tA h m) nB nW nL b0 set = 0 → r = spLst (tA h m) (tA h m 1) b0.toNatClampNeg set ∧ h' = wI (kH h m n) (m + 1) (spLaunch (tA h m) nL (tA h m 1) b0.toNatClampNeg set))) := by
  have hl := S.1.2.2.2.2.2
  have hNB : tA h m 14 0 = nI nB := S.1.2.2.2.1.1
  have hB10 := S.1.2.2.2.1.2
  have hNW : tA h m 6 0 = nI nW := S.1.2.1.1
  have h6 := S.1.2.1.2
  have h8 := S.1.1.2
  obtain ⟨e, he, hE⟩ := hE
  refine CT.of (E := [some (vr m), some (vi b0), some (vi set), none, none, none]) (by decide +kernel) rfl rfl (Nat.le_of_ble_eq_true rfl) (fun X M Ee => ?_)
  have M : MX Z X cX4_launch "BalloonMailModel" 6 2 (some .int) "launch" := M
  have N1 : spLq (tA h m) nB nW nL b0 set = -1 → G Z X 0 0 21 [some (vr m), some (vi b0), some (vi set), none, none, none] [] (pI h 32 m 0) := by
    intro hq
    refine g_iconst (q := 22) (v := (-1)) M dX4_launch_21 rfl (by decide) ?_
    refine g_ireturn M Ee dX4_launch_22 ?_
    exact ⟨_, rfl, fun _ => ⟨hq.symm, rfl⟩, fun z => by rw [hq] at z; exact absurd z (by decide)⟩
  have N2 : spLq (tA h m) nB nW nL b0 set = -2 → G Z X 0 0 55 [some (vr m), some (vi b0), some (vi set), none, none, none] [] (pI h 32 m 0) := by
    intro hq
    refine g_bipush (q := 57) (v := (-2)) M dX4_launch_55 rfl (by decide) ?_
    refine g_ireturn M Ee dX4_launch_57 ?_
    exact ⟨_, rfl, fun _ => ⟨hq.symm, rfl⟩, fun z => by rw [hq] at z; exact absurd z (by decide)⟩
  refine g_aload_n (q := 1) M dX4_launch_0 rfl rfl ?_
  refine g_iconst (q := 2) (v := 0) M dX4_launch_1 rfl (by decide) ?_
  refine g_putI (q := 5) (f := 32) M dX4_launch_2 rfl l_X4_1 T.1 (by decide +kernel) rfl ⟨rfl, rfl⟩ ?_
  refine g_aload_n (q := 6) M dX4_launch_5 rfl rfl ?_
  refine g_iload_n (q := 7) M dX4_launch_6 rfl rfl ?_
  refine g_callV (q := 10) M rfl dX4_launch_7 rfl w_X4_246 (c_X4_isBalloon (T32 T)) (isC.of T.1 rfl) rfl rfl (Nat.le_of_ble_eq_true rfl) (by decide) (by omega) (by omega) (r_I ?_)
  rintro x h_7 ⟨rfl, rfl⟩ m_7
  rw [show tA (pI h 32 m 0) m 14 0 = nI nB from hNB]
  refine g_if_eq (q := 13) (tgt := 21) M dX4_launch_10 (by decide) rfl (fun c_10 => ?_) (fun c_10 => ?_)
  · exact N1 (if_pos (fun z => bI_d.mp c_10 z.1))
  · have c1 := bI_n.mp c_10
    obtain ⟨b, hb, rfl⟩ := nI_m1 (by omega) c1.1 c1.2
    obtain ⟨rm, p, rm1, rm2, hp4, erm, ep⟩ := B b hb
    have hcb : (nI b).toNatClampNeg = b := nI_clamp (by omega)
    refine g_aload_n (q := 14) M dX4_launch_13 rfl rfl ?_
    refine g_iload_n (q := 15) M dX4_launch_14 rfl rfl ?_
    refine g_callV (q := 18) M rfl dX4_launch_15 rfl w_X4_297 (c_X4_areLetters (T32 T)) (isC.of T.1 rfl) rfl rfl (Nat.le_of_ble_eq_true rfl) (by decide) (by omega) (by omega) (r_I ?_)
    rintro x h_15 ⟨rfl, rfl⟩ m_15
    refine g_if_ne (q := 21) (tgt := 23) M dX4_launch_18 (by decide) rfl (fun c_18 => ?_) (fun c_18 => ?_)
    · have c2 := bI_n.mp c_18
      have hq1 : spLq (tA h m) nB nW nL (nI b) set = if tA h m 1 (5 + b) ≠ 0 ∨ set &&& (spIn (tA h m 1) 0 nL ^^^ (-1)) ≠ 0 ∨ nW = 0 then -2 else if tA h m 15 b < spSum (tA h m 18) set nL then -3 else if tA h m 1 3 < tA h m 16 b then -4 else 0 := by
        unfold spLq
        rw [if_neg (fun z => z ⟨c1, c2⟩), hcb]
      rw [hcb] at Ee
      generalize hqq : spLq (tA h m) nB nW nL (nI b) set = qq at *
      refine g_aload_n (q := 24) M dX4_launch_23 rfl rfl ?_
      refine g_tw (q := 27) (f := 33) M dX4_launch_24 rfl l_X4_13 T rfl rfl T.a33 ?_
      refine g_iconst (q := 28) (v := 5) M dX4_launch_27 rfl (by decide) ?_
      refine g_iload_n (q := 29) M dX4_launch_28 rfl rfl ?_
      refine g_iadd (q := 30) M dX4_launch_29 rfl ?_
      refine g_ialdN (q := 31) (n := 213) M dX4_launch_30 rfl T.a33.2.1 rfl T.a33.2.2 (ixk 5 rfl b) (by omega) (by decide) ?_
      refine g_if_ne (q := 34) (tgt := 55) M dX4_launch_31 (by decide) rfl (fun c_31 => ?_) (fun c_31 => ?_)
      · exact N2 (hq1.trans (if_pos (Or.inl c_31)))
      · refine g_iload_n (q := 35) M dX4_launch_34 rfl rfl ?_
        refine g_aload_n (q := 36) M dX4_launch_35 rfl rfl ?_
        refine g_iconst (q := 37) (v := 0) M dX4_launch_36 rfl (by decide) ?_
        refine g_callV (q := 40) M rfl dX4_launch_37 rfl w_X4_304 (c_X4_inState (T32 T) S.1) (isC.of T.1 rfl) rfl rfl (Nat.le_of_ble_eq_true rfl) (by decide) (by omega) (by omega) (r_I ?_)
        rintro x h_37 ⟨rfl, rfl⟩ m_37
        refine g_iconst (q := 41) (v := (-1)) M dX4_launch_40 rfl (by decide) ?_
        refine g_ixor (q := 42) M dX4_launch_41 rfl ?_
        refine g_iand (q := 43) M dX4_launch_42 rfl ?_
        refine g_if_ne (q := 46) (tgt := 55) M dX4_launch_43 (by decide) rfl (fun c_43 => ?_) (fun c_43 => ?_)
        · exact N2 (hq1.trans (if_pos (Or.inr (Or.inl c_43))))
        · refine g_aload_n (q := 47) M dX4_launch_46 rfl rfl ?_
          refine g_tw (q := 50) (f := 38) M dX4_launch_47 rfl l_X4_29 T rfl rfl T.a38 ?_
          refine g_iconst (q := 51) (v := 0) M dX4_launch_50 rfl (by decide) ?_
          refine g_ialdN (q := 52) (n := 2) (k := 0) M dX4_launch_51 rfl T.a38.2.1 rfl T.a38.2.2 rfl (by decide) (by decide) ?_
          rw [show yI (pI h 32 m 0) (m + 6) 0 = nI nW from hNW]
          refine g_if_ne (q := 55) (tgt := 58) M dX4_launch_52 (by decide) rfl (fun c_52 => ?_) (fun c_52 => ?_)
          · have hw0 : nW ≠ 0 := fun z => c_52 (by rw [z]; rfl)
            have hq2 := hq1.trans (if_neg (fun z => z.elim (fun z => z c_31) (fun z => z.elim (fun z => z c_43) hw0)))
            refine g_aload_n (q := 59) M dX4_launch_58 rfl rfl ?_
            refine g_iload_n (q := 60) M dX4_launch_59 rfl rfl ?_
            refine g_aload_n (q := 61) M dX4_launch_60 rfl rfl ?_
            refine g_tw (q := 64) (f := 50) M dX4_launch_61 rfl l_X4_65 T rfl rfl T.a50 ?_
            refine g_callV (q := 67) M rfl dX4_launch_64 rfl w_X4_300 (c_X4_sumOf (T32 T) S.1 T.a50.2.1 T.a50.2.2) (isC.of T.1 rfl) rfl rfl (Nat.le_of_ble_eq_true rfl) (by decide) (by omega) (by omega) (r_I ?_)
            rintro x h_64 ⟨rfl, rfl⟩ m_64
            refine g_aload_n (q := 68) M dX4_launch_67 rfl rfl ?_
            refine g_tw (q := 71) (f := 47) M dX4_launch_68 rfl l_X4_56 T rfl rfl T.a47 ?_
            refine g_iload_n (q := 72) M dX4_launch_71 rfl rfl ?_
            refine g_ialdN (q := 73) (n := 20) M dX4_launch_72 rfl T.a47.2.1 rfl T.a47.2.2 rfl (by omega) (by decide) ?_
            refine g_icmp_le (q := 76) (tgt := 79) M dX4_launch_73 (by decide) rfl (fun c_73 => ?_) (fun c_73 => ?_)
            · have hq3 := hq2.trans (if_neg (Int32.not_lt.mpr c_73))
              refine g_aload_n (q := 80) M dX4_launch_79 rfl rfl ?_
              refine g_tw (q := 83) (f := 33) M dX4_launch_80 rfl l_X4_13 T rfl rfl T.a33 ?_
              refine g_iconst (q := 84) (v := 3) M dX4_launch_83 rfl (by decide) ?_
              refine g_ialdN (q := 85) (n := 213) (k := 3) M dX4_launch_84 rfl T.a33.2.1 rfl T.a33.2.2 rfl (by decide) (by decide) ?_
              refine g_aload_n (q := 86) M dX4_launch_85 rfl rfl ?_
              refine g_tw (q := 89) (f := 48) M dX4_launch_86 rfl l_X4_59 T rfl rfl T.a48 ?_
              refine g_iload_n (q := 90) M dX4_launch_89 rfl rfl ?_
              refine g_ialdN (q := 91) (n := 20) M dX4_launch_90 rfl T.a48.2.1 rfl T.a48.2.2 rfl (by omega) (by decide) ?_
              rw [show yI (pI h 32 m 0) (m + 1) 3 = tA h m 1 3 from rfl, show yI (pI h 32 m 0) (m + 16) b = tA h m 16 b from rfl]
              refine g_icmp_ge (q := 94) (tgt := 97) M dX4_launch_91 (by decide) rfl (fun c_91 => ?_) (fun c_91 => ?_)
              · have hlo : ¬ tA h m 1 3 < tA h m 16 b := Int32.not_lt.mpr c_91
                have hq4 := hq3.trans (if_neg hlo)
                have hcp := hcap p hp4 (by rw [← ep]; exact hlo)
                obtain ⟨w, hww, hw1⟩ := hw hw0
                obtain ⟨nn, hnn8, hnn, hnr⟩ := S.2.2 w hww
                have ra : ∀ o Q, o ≠ 1 → o ≠ 26 → yI (wI (kH h m n) (m + 1) Q) (m + o) = tA h m o := fun o Q h1 h2 => kH_w h m n o Q h1 h2
                refine g_aload_n (q := 98) M dX4_launch_97 rfl rfl ?_
                refine g_callV (q := 101) M rfl dX4_launch_98 rfl w_X4_320 (c_X4_keeps (n := n) (T32 T) hU hn) (isC.of T.1 rfl) rfl rfl (Nat.le_of_ble_eq_true rfl) (by decide) (by omega) (by omega) (r_V ?_)
                rintro h_98 rfl m_98
                rw [show pI (wI (pI h 32 m 0) (m + 26) (spKeepU (tA (pI h 32 m 0) m 26) (tA (pI h 32 m 0) m 1) n)) 73 m (nI (spKeepN n)) = wI (kH h m n) (m + 1) (tA h m 1) from (kH_eta h m n).symm]
                refine g_aload_n (q := 102) M dX4_launch_101 rfl rfl ?_
                refine g_tw (q := 105) (f := 33) M dX4_launch_102 rfl l_X4_13 T rfl rfl T.a33 ?_
                refine g_iconst (q := 106) (v := 3) M dX4_launch_105 rfl (by decide) ?_
                refine g_dup2 (q := 107) M dX4_launch_106 rfl rfl rfl ?_
                refine g_ialdN (q := 108) (n := 213) (k := 3) M dX4_launch_107 rfl T.a33.2.1 rfl T.a33.2.2 rfl (by decide) (by decide) ?_
                rw [yI_wI_s]
                refine g_aload_n (q := 109) M dX4_launch_108 rfl rfl ?_
                refine g_tw (q := 112) (f := 48) M dX4_launch_109 rfl l_X4_59 T rfl rfl T.a48 ?_
                refine g_iload_n (q := 113) M dX4_launch_112 rfl rfl ?_
                refine g_ialdN (q := 114) (n := 20) M dX4_launch_113 rfl T.a48.2.1 rfl T.a48.2.2 rfl (by omega) (by decide) ?_
                rw [ra 16 _ (by decide) (by decide)]
                refine g_isub (q := 115) M dX4_launch_114 rfl ?_
                refine g_iastN (q := 116) (n := 213) (k := 3) M dX4_launch_115 rfl T.a33.2.1 T.a33.2.2 rfl (by decide) (by decide) ?_
                refine g_aload_n (q := 117) M dX4_launch_116 rfl rfl ?_
                refine g_tw (q := 120) (f := 33) M dX4_launch_117 rfl l_X4_13 T rfl rfl T.a33 ?_
                refine g_bipush (q := 122) (v := 25) M dX4_launch_120 rfl (by decide) ?_
                refine g_iload_n (q := 123) M dX4_launch_122 rfl rfl ?_
                refine g_iadd (q := 124) M dX4_launch_123 rfl ?_
                refine g_iload_n (q := 125) M dX4_launch_124 rfl rfl ?_
                refine g_iastN (q := 126) (n := 213) M dX4_launch_125 rfl T.a33.2.1 T.a33.2.2 (ixk 25 rfl b) (by omega) (by decide) ?_
                rw [sI_wI, sI_wI, show u1 (u1 (tA h m 1) 3 (tA h m 1 3 - tA h m 16 b)) (25 + b) set = spL1 (tA h m) (tA h m 1) b set from rfl]
                have q1 : spL1 (tA h m) (tA h m 1) b set 1 = nI w ∧ spL1 (tA h m) (tA h m 1) b set 83 = nI nF ∧ spL1 (tA h m) (tA h m 1) b set 164 = nI e := by
                  unfold spL1
                  refine ⟨?_, ?_, ?_⟩ <;> rw [u1_n _ _ (by omega), u1_n _ _ (by omega)]
                  · exact hw1
                  · exact hF
                  · exact hE
                unfold spLaunch spLQ5 spLst at *
                generalize spL1 (tA h m) (tA h m 1) b set = Q1 at *
                refine g_aload_n (q := 127) M dX4_launch_126 rfl rfl ?_
                refine g_callV (q := 130) M rfl dX4_launch_127 rfl w_X4_323 (c_X4_regionDrawn (h := wI (kH h m n) (m + 1) Q1) (w := w) (n := nn) T (by rw [tA_w1]; exact q1.1) (by omega) (by rw [kH_w _ _ _ _ _ (by decide) (by decide)]; exact hnn) hnn8) (isC.of T.1 rfl) rfl rfl (Nat.le_of_ble_eq_true rfl) (by decide) (by omega) (by omega) (r_I ?_)
                rintro x h_127 ⟨rfl, rfl⟩ m_127
                refine g_istore_n (q := 131) (j := 3) M dX4_launch_130 rfl rfl (Nat.le_of_ble_eq_true rfl) rfl ?_
                dsimp only [st1, st2, kl, List.set_cons_zero, List.set_cons_succ, List.set_nil]
                rw [sI_wI, kH_w _ _ _ 9 _ (by decide) (by decide), kH_w _ _ _ 8 _ (by decide) (by decide), tA_w1]
                rw [show spPick (fun k => tA h m 9 (8 * w + k)) (fun k => tA h m 8 (8 * w + k)) (-2) nn 0 (rngD (rngX (Q1 2))) = spReg (tA h m) Q1 from by unfold spReg; rw [q1.1, nI_clamp (by omega), hnn, nI_clamp (by omega)]]
                have hreg : spReg (tA h m) Q1 = -2 ∨ ∃ r, r < nR ∧ spReg (tA h m) Q1 = nI r := by
                  unfold spReg
                  rw [q1.1, nI_clamp (by omega), hnn, nI_clamp (by omega)]
                  rcases spPick_in (fun k => tA h m 9 (8 * w + k)) (fun k => tA h m 8 (8 * w + k)) (-2) nn 0 (rngD (rngX (Q1 2))) with e9 | ⟨j, j1, j2, e9⟩
                  · exact Or.inl e9
                  · obtain ⟨r, hr, er⟩ := hnr j (by omega)
                    exact Or.inr ⟨r, hr, e9.trans er⟩
                refine g_aload_n (q := 132) M dX4_launch_131 rfl rfl ?_
                refine g_tw (q := 135) (f := 33) M dX4_launch_132 rfl l_X4_13 T rfl rfl T.a33 ?_
                refine g_bipush (q := 137) (v := 15) M dX4_launch_135 rfl (by decide) ?_
                refine g_iload_n (q := 138) M dX4_launch_137 rfl rfl ?_
                refine g_iadd (q := 139) M dX4_launch_138 rfl ?_
                refine g_iload_n (q := 140) M dX4_launch_139 rfl rfl ?_
                refine g_iastN (q := 141) (n := 213) M dX4_launch_140 rfl T.a33.2.1 T.a33.2.2 (ixk 15 rfl b) (by omega) (by decide) ?_
                rw [sI_wI, show u1 (u1 Q1 2 (rngX (Q1 2)).toInt32) (15 + b) (spReg (tA h m) Q1) = spL2 (tA h m) Q1 b from rfl]
                have q2 : spL2 (tA h m) Q1 b 83 = nI nF ∧ spL2 (tA h m) Q1 b 164 = nI e := by
                  unfold spL2
                  refine ⟨?_, ?_⟩ <;> rw [u1_n _ _ (by omega), u1_n _ _ (by omega)]
                  · exact q1.2.1
                  · exact q1.2.2
                generalize spL2 (tA h m) Q1 b = Q2 at *
                generalize spReg (tA h m) Q1 = reg at *
                -- the state is known
                have K : ∀ st, st = spSt (tA h m) Q2 reg → G Z X (0 - 0) (0 - 0) 169 [some (vr m), some (vi (nI b)), some (vi set), some (vi reg), none, none] [vi st] (wI (kH h m n) (m + 1) (spL3 Q2 reg)) := by
                  intro st hst
                  rw [← hst] at Ee
                  have q3 : spL3 Q2 reg 83 = nI nF ∧ spL3 Q2 reg 164 = nI e := by
                    unfold spL3
                    split
                    · exact q2
                    · exact ⟨(u1_n _ _ (by omega)).trans q2.1, (u1_n _ _ (by omega)).trans q2.2⟩
                  generalize spL3 Q2 reg = Q3 at *
                  have hst3 : st = 3 → ∃ r, r < nR ∧ reg = nI r := by
                    intro z
                    rcases hreg with e9 | e9
                    · rw [hst] at z
                      unfold spSt at z
                      rw [if_pos e9] at z
                      exact absurd z (by decide)
                    · exact e9
                  refine g_istore (q := 171) (j := 4) M dX4_launch_169 rfl rfl (Nat.le_of_ble_eq_true rfl) rfl ?_
                  dsimp only [st1, st2, kl, List.set_cons_zero, List.set_cons_succ, List.set_nil]
                  refine g_aload_n (q := 172) M dX4_launch_171 rfl rfl ?_
                  refine g_tw (q := 175) (f := 33) M dX4_launch_172 rfl l_X4_13 T rfl rfl T.a33 ?_
                  refine g_iconst (q := 176) (v := 5) M dX4_launch_175 rfl (by decide) ?_
                  refine g_iload_n (q := 177) M dX4_launch_176 rfl rfl ?_
                  refine g_iadd (q := 178) M dX4_launch_177 rfl ?_
                  refine g_iload (q := 180) M dX4_launch_178 rfl rfl ?_
                  refine g_iastN (q := 181) (n := 213) M dX4_launch_180 rfl T.a33.2.1 T.a33.2.2 (ixk 5 rfl b) (by omega) (by decide) ?_
                  rw [sI_wI]
                  -- the letters go with it
                  have K2 : ∀ z, z = (if st = 3 then (2 : Int32) else 1) → G Z X (0 - 0) (0 - 0) 194 [some (vr m), some (vi (nI b)), some (vi set), some (vi reg), some (vi st), none] [vi z, vi set, vr m] (wI (kH h m n) (m + 1) (u1 Q3 (5 + b) st)) := by
                    intro z hz
                    refine g_callV (q := 197) M rfl dX4_launch_194 rfl w_X4_326 (c_X4_become (h := wI (kH h m n) (m + 1) (u1 Q3 (5 + b) st)) T (kH_S S).1) (isC.of T.1 rfl) rfl rfl (Nat.le_of_ble_eq_true rfl) (by decide) (by omega) (by omega) (r_V ?_)
                    rintro h_194 rfl m_194
                    rw [wI_wI, tA_w1, hz, show spBecome (u1 Q3 (5 + b) st) set (if st = 3 then 2 else 1) nL = spL4 Q3 b set nL st from rfl]
                    have q4 : spL4 Q3 b set nL st 83 = nI nF ∧ spL4 Q3 b set nL st 164 = nI e := by
                      unfold spL4 spBecome
                      refine ⟨?_, ?_⟩ <;> rw [if_neg (by omega), u1_n _ _ (by omega)]
                      · exact q3.1
                      · exact q3.2
                    generalize spL4 Q3 b set nL st = Q4 at *
                    -- the end: the event
                    have K3 : ∀ e5 Q5, Q5 = spL5 (tA h m) Q4 b reg st → Q5 164 = nI e → G Z X (0 - 0 - 0) (0 - 0 - 0) 325 [some (vr m), some (vi (nI b)), some (vi set), some (vi reg), some (vi st), e5] [] (wI (kH h m n) (m + 1) Q5) := by
                      intro e5 Q5 hQ5 h5
                      rw [← hQ5] at Ee
                      refine g_aload_n (q := 326) M dX4_launch_325 rfl rfl ?_
                      refine g_iload (q := 328) M dX4_launch_326 rfl rfl ?_
                      refine g_iload_n (q := 329) M dX4_launch_328 rfl rfl ?_
                      refine g_callV (q := 332) M rfl dX4_launch_329 rfl w_X4_329 (c_X4_notes (h := wI (kH h m n) (m + 1) Q5) (n := e) T (by rw [tA_w1]; exact h5) he) (isC.of T.1 rfl) rfl rfl (Nat.le_of_ble_eq_true rfl) (by decide) (by omega) (by omega) (r_V ?_)
                      rintro h_329 rfl m_329
                      rw [wI_wI, tA_w1]
                      refine g_iload (q := 334) M dX4_launch_332 rfl rfl ?_
                      refine g_ireturn M Ee dX4_launch_334 ?_
                      refine ⟨_, rfl, fun z => absurd hq4 z, fun _ => ⟨rfl, ?_⟩⟩
                      rw [h5, nI_clamp (by omega)]
                    refine g_iload (q := 199) M dX4_launch_197 rfl rfl ?_
                    refine g_iconst (q := 200) (v := 3) M dX4_launch_199 rfl (by decide) ?_
                    refine g_icmp_eq (q := 203) (tgt := 218) M dX4_launch_200 (by decide) rfl (fun c_200 => ?_) (fun c_200 => ?_)
                    · -- landed: the pigeons are let go
                      obtain ⟨r, hr, er⟩ := hst3 c_200
                      have h5e : spL5 (tA h m) Q4 b reg st = spRelN (tA h m) b r Q4 p := by
                        unfold spL5
                        rw [if_pos c_200, ep, nI_clamp (by omega), er, nI_clamp (by omega)]
                      refine g_iconst (q := 219) (v := 0) M dX4_launch_218 rfl (by decide) ?_
                      refine g_istore (q := 221) (j := 5) M dX4_launch_219 rfl rfl (Nat.le_of_ble_eq_true rfl) rfl ?_
                      dsimp only [st1, st2, kl, List.set_cons_zero, List.set_cons_succ, List.set_nil]
                      have L : ∀ k, k ≤ p → G Z X (0 - 0 - 0) (0 - 0 - 0) 221 [some (vr m), some (vi (nI b)), some (vi set), some (vi reg), some (vi st), some (vi (nI k))] [] (wI (kH h m n) (m + 1) (spRelN (tA h m) b r Q4 k)) := by
                        refine upLoop p ?_ ?_
                        · obtain ⟨f, f1, f2, f3, f4, f5⟩ := spRelN_83 (tA h m) b r Q4 nF q4.1 p (by omega)
                          refine g_iload (q := 223) M dX4_launch_221 rfl rfl ?_
                          refine g_aload_n (q := 224) M dX4_launch_223 rfl rfl ?_
                          refine g_tw (q := 227) (f := 48) M dX4_launch_224 rfl l_X4_59 T rfl rfl T.a48 ?_
                          refine g_iload_n (q := 228) M dX4_launch_227 rfl rfl ?_
                          refine g_ialdN (q := 229) (n := 20) M dX4_launch_228 rfl T.a48.2.1 rfl T.a48.2.2 rfl (by omega) (by decide) ?_
                          rw [ra 16 _ (by decide) (by decide), ep]
                          refine g_icmp_ge (q := 232) (tgt := 325) M dX4_launch_229 (by decide) rfl (fun c_229 => ?_) (fun c_229 => ?_)
                          · exact K3 _ _ h5e.symm (f5.trans q4.2)
                          · exact absurd (Int32.le_refl _) c_229
                        · intro k hk ih
                          obtain ⟨f, f1, f2, f3, f4, f5⟩ := spRelN_83 (tA h m) b r Q4 nF q4.1 k (by omega)
                          have hs : spRelN (tA h m) b r Q4 (k + 1) = spRel1 (tA h m) b r (spRelN (tA h m) b r Q4 k) := rfl
                          rw [hs] at ih
                          generalize spRelN (tA h m) b r Q4 k = P at *
                          unfold spRel1 at ih
                          refine g_iload (q := 223) M dX4_launch_221 rfl rfl ?_
                          refine g_aload_n (q := 224) M dX4_launch_223 rfl rfl ?_
                          refine g_tw (q := 227) (f := 48) M dX4_launch_224 rfl l_X4_59 T rfl rfl T.a48 ?_
                          refine g_iload_n (q := 228) M dX4_launch_227 rfl rfl ?_
                          refine g_ialdN (q := 229) (n := 20) M dX4_launch_228 rfl T.a48.2.1 rfl T.a48.2.2 rfl (by omega) (by decide) ?_
                          rw [ra 16 _ (by decide) (by decide), ep]
                          refine g_icmp_ge (q := 232) (tgt := 325) M dX4_launch_229 (by decide) rfl (fun c_229 => ?_) (fun c_229 => ?_)
                          · exact absurd ((nI_leI (by omega) (by omega)).mp c_229) (by omega)
                          · refine g_iload (q := 234) M dX4_launch_232 rfl rfl ?_
                            refine g_iconst (q := 235) (v := 3) M dX4_launch_234 rfl (by decide) ?_
                            refine g_icmp_ne (q := 238) (tgt := 325) M dX4_launch_235 (by decide) rfl (fun c_235 => ?_) (fun c_235 => ?_)
                            · exact absurd c_200 c_235
                            · refine g_aload_n (q := 239) M dX4_launch_238 rfl rfl ?_
                              refine g_callV (q := 242) M rfl dX4_launch_239 rfl w_X4_317 (c_X4_draw (h := wI (kH h m n) (m + 1) P) T) (isC.of T.1 rfl) rfl rfl (Nat.le_of_ble_eq_true rfl) (by decide) (by omega) (by omega) (r_I ?_)
                              rintro x h_239 ⟨rfl, rfl⟩ m_239
                              refine g_aload_n (q := 243) M dX4_launch_242 rfl rfl ?_
                              refine g_tw (q := 246) (f := 37) M dX4_launch_243 rfl l_X4_26 T rfl rfl T.a37 ?_
                              rw [sI_wI, tA_w1, er]
                              refine g_iload_n (q := 247) M dX4_launch_246 rfl rfl ?_
                              refine g_ialdN (q := 248) (n := 16) M dX4_launch_247 rfl T.a37.2.1 rfl T.a37.2.2 rfl (by omega) (by decide) ?_
                              rw [ra 5 _ (by decide) (by decide)]
                              refine g_icmp_ge (q := 251) (tgt := 309) M dX4_launch_248 (by decide) rfl (fun c_248 => ?_) (fun c_248 => ?_)
                              · rw [if_neg (Int32.not_lt.mpr c_248)] at ih
                                refine g_aload_n (q := 310) M dX4_launch_309 rfl rfl ?_
                                refine g_tw (q := 313) (f := 33) M dX4_launch_310 rfl l_X4_13 T rfl rfl T.a33 ?_
                                refine g_iconst (q := 314) (v := 4) M dX4_launch_313 rfl (by decide) ?_
                                refine g_dup2 (q := 315) M dX4_launch_314 rfl rfl rfl ?_
                                refine g_ialdN (q := 316) (n := 213) (k := 4) M dX4_launch_315 rfl T.a33.2.1 rfl T.a33.2.2 rfl (by decide) (by decide) ?_
                                refine g_iconst (q := 317) (v := 1) M dX4_launch_316 rfl (by decide) ?_
                                refine g_iadd (q := 318) M dX4_launch_317 rfl ?_
                                refine g_iastN (q := 319) (n := 213) (k := 4) M dX4_launch_318 rfl T.a33.2.1 T.a33.2.2 rfl (by decide) (by decide) ?_
                                rw [yI_wI_s, sI_wI, u1_n _ _ (by omega)]
                                refine g_iinc (q := 322) (w := 1) M dX4_launch_319 rfl (Nat.le_of_ble_eq_true rfl) rfl (by decide) rfl ?_
                                dsimp only [st1, st2, kl, List.set_cons_zero, List.set_cons_succ, List.set_nil]
                                try rw [nI_1]
                                refine g_goto (tgt := 221) M dX4_launch_322 (by decide) ?_
                                rw [← er]
                                exact ih
                              · rw [if_pos (Int32.not_le.mp c_248)] at ih
                                have hc83 : (P 83).toNatClampNeg = f := by rw [f3, nI_clamp (by omega)]
                                refine g_aload_n (q := 252) M dX4_launch_251 rfl rfl ?_
                                refine g_tw (q := 255) (f := 33) M dX4_launch_252 rfl l_X4_13 T rfl rfl T.a33 ?_
                                refine g_bipush (q := 257) (v := 84) M dX4_launch_255 rfl (by decide) ?_
                                refine g_aload_n (q := 258) M dX4_launch_257 rfl rfl ?_
                                refine g_tw (q := 261) (f := 33) M dX4_launch_258 rfl l_X4_13 T rfl rfl T.a33 ?_
                                refine g_bipush (q := 263) (v := 83) M dX4_launch_261 rfl (by decide) ?_
                                refine g_ialdN (q := 264) (n := 213) (k := 83) M dX4_launch_263 rfl T.a33.2.1 rfl T.a33.2.2 rfl (by decide) (by decide) ?_
                                rw [yI_wI_s, u1_n _ _ (by omega), f3]
                                refine g_iadd (q := 265) M dX4_launch_264 rfl ?_
                                refine g_iload_n (q := 266) M dX4_launch_265 rfl rfl ?_
                                refine g_iastN (q := 267) (n := 213) M dX4_launch_266 rfl T.a33.2.1 T.a33.2.2 (ixk 84 rfl f) (by omega) (by decide) ?_
                                refine g_aload_n (q := 268) M dX4_launch_267 rfl rfl ?_
                                refine g_tw (q := 271) (f := 33) M dX4_launch_268 rfl l_X4_13 T rfl rfl T.a33 ?_
                                refine g_bipush (q := 273) (v := 124) M dX4_launch_271 rfl (by decide) ?_
                                refine g_aload_n (q := 274) M dX4_launch_273 rfl rfl ?_
                                refine g_tw (q := 277) (f := 33) M dX4_launch_274 rfl l_X4_13 T rfl rfl T.a33 ?_
                                refine g_bipush (q := 279) (v := 83) M dX4_launch_277 rfl (by decide) ?_
                                refine g_ialdN (q := 280) (n := 213) (k := 83) M dX4_launch_279 rfl T.a33.2.1 rfl T.a33.2.2 rfl (by decide) (by decide) ?_
                                rw [sI_wI, yI_wI_s, u1_n _ _ (by omega), u1_n _ _ (by omega), f3]
                                refine g_iadd (q := 281) M dX4_launch_280 rfl ?_
                                refine g_aload_n (q := 282) M dX4_launch_281 rfl rfl ?_
                                refine g_tw (q := 285) (f := 33) M dX4_launch_282 rfl l_X4_13 T rfl rfl T.a33 ?_
                                refine g_iconst (q := 286) (v := 0) M dX4_launch_285 rfl (by decide) ?_
                                refine g_ialdN (q := 287) (n := 213) (k := 0) M dX4_launch_286 rfl T.a33.2.1 rfl T.a33.2.2 rfl (by decide) (by decide) ?_
                                rw [yI_wI_s, u1_n _ _ (by omega), u1_n _ _ (by omega)]
                                refine g_aload_n (q := 288) M dX4_launch_287 rfl rfl ?_
                                refine g_tw (q := 291) (f := 36) M dX4_launch_288 rfl l_X4_23 T rfl rfl T.a36 ?_
                                refine g_iload_n (q := 292) M dX4_launch_291 rfl rfl ?_
                                refine g_ialdN (q := 293) (n := 16) M dX4_launch_292 rfl T.a36.2.1 rfl T.a36.2.2 rfl (by omega) (by decide) ?_
                                rw [ra 4 _ (by decide) (by decide)]
                                refine g_iadd (q := 294) M dX4_launch_293 rfl ?_
                                refine g_iastN (q := 295) (n := 213) M dX4_launch_294 rfl T.a33.2.1 T.a33.2.2 (ixk 124 rfl f) (by omega) (by decide) ?_
                                refine g_aload_n (q := 296) M dX4_launch_295 rfl rfl ?_
                                refine g_tw (q := 299) (f := 33) M dX4_launch_296 rfl l_X4_13 T rfl rfl T.a33 ?_
                                refine g_bipush (q := 301) (v := 83) M dX4_launch_299 rfl (by decide) ?_
                                refine g_dup2 (q := 302) M dX4_launch_301 rfl rfl rfl ?_
                                refine g_ialdN (q := 303) (n := 213) (k := 83) M dX4_launch_302 rfl T.a33.2.1 rfl T.a33.2.2 rfl (by decide) (by decide) ?_
                                rw [sI_wI, yI_wI_s, u1_n _ _ (by omega), u1_n _ _ (by omega), u1_n _ _ (by omega)]
                                refine g_iconst (q := 304) (v := 1) M dX4_launch_303 rfl (by decide) ?_
                                refine g_iadd (q := 305) M dX4_launch_304 rfl ?_
                                refine g_iastN (q := 306) (n := 213) (k := 83) M dX4_launch_305 rfl T.a33.2.1 T.a33.2.2 rfl (by decide) (by decide) ?_
                                rw [sI_wI]
                                refine g_goto (tgt := 319) M dX4_launch_306 (by decide) ?_
                                refine g_iinc (q := 322) (w := 1) M dX4_launch_319 rfl (Nat.le_of_ble_eq_true rfl) rfl (by decide) rfl ?_
                                dsimp only [st1, st2, kl, List.set_cons_zero, List.set_cons_succ, List.set_nil]
                                try rw [nI_1]
                                refine g_goto (tgt := 221) M dX4_launch_322 (by decide) ?_
                                rw [hc83] at ih
                                rw [← er]
                                exact ih
                      exact L 0 (Nat.zero_le _)
                    · -- not landed: they are lost
                      have h5e : spL5 (tA h m) Q4 b reg st = u1 Q4 4 (Q4 4 + tA h m 16 b) := if_neg c_200
                      refine g_aload_n (q := 204) M dX4_launch_203 rfl rfl ?_
                      refine g_tw (q := 207) (f := 33) M dX4_launch_204 rfl l_X4_13 T rfl rfl T.a33 ?_
                      refine g_iconst (q := 208) (v := 4) M dX4_launch_207 rfl (by decide) ?_
                      refine g_dup2 (q := 209) M dX4_launch_208 rfl rfl rfl ?_
                      refine g_ialdN (q := 210) (n := 213) (k := 4) M dX4_launch_209 rfl T.a33.2.1 rfl T.a33.2.2 rfl (by decide) (by decide) ?_
                      rw [yI_wI_s]
                      refine g_aload_n (q := 211) M dX4_launch_210 rfl rfl ?_
                      refine g_tw (q := 214) (f := 48) M dX4_launch_211 rfl l_X4_59 T rfl rfl T.a48 ?_
                      refine g_iload_n (q := 215) M dX4_launch_214 rfl rfl ?_
                      refine g_ialdN (q := 216) (n := 20) M dX4_launch_215 rfl T.a48.2.1 rfl T.a48.2.2 rfl (by omega) (by decide) ?_
                      rw [ra 16 _ (by decide) (by decide)]
                      refine g_iadd (q := 217) M dX4_launch_216 rfl ?_
                      refine g_iastN (q := 218) (n := 213) (k := 4) M dX4_launch_217 rfl T.a33.2.1 T.a33.2.2 rfl (by decide) (by decide) ?_
                      rw [sI_wI, ← h5e]
                      have h164 : spL5 (tA h m) Q4 b reg st 164 = nI e := by rw [h5e, u1_n _ _ (by omega)]; exact q4.2
                      refine g_iconst (q := 219) (v := 0) M dX4_launch_218 rfl (by decide) ?_
                      refine g_istore (q := 221) (j := 5) M dX4_launch_219 rfl rfl (Nat.le_of_ble_eq_true rfl) rfl ?_
                      dsimp only [st1, st2, kl, List.set_cons_zero, List.set_cons_succ, List.set_nil]
                      refine g_iload (q := 223) M dX4_launch_221 rfl rfl ?_
                      refine g_aload_n (q := 224) M dX4_launch_223 rfl rfl ?_
                      refine g_tw (q := 227) (f := 48) M dX4_launch_224 rfl l_X4_59 T rfl rfl T.a48 ?_
                      refine g_iload_n (q := 228) M dX4_launch_227 rfl rfl ?_
                      refine g_ialdN (q := 229) (n := 20) M dX4_launch_228 rfl T.a48.2.1 rfl T.a48.2.2 rfl (by omega) (by decide) ?_
                      rw [ra 16 _ (by decide) (by decide), ep]
                      refine g_icmp_ge (q := 232) (tgt := 325) M dX4_launch_229 (by decide) rfl (fun c_229 => ?_) (fun c_229 => ?_)
                      · exact K3 _ _ rfl h164
                      · refine g_iload (q := 234) M dX4_launch_232 rfl rfl ?_
                        refine g_iconst (q := 235) (v := 3) M dX4_launch_234 rfl (by decide) ?_
                        refine g_icmp_ne (q := 238) (tgt := 325) M dX4_launch_235 (by decide) rfl (fun c_235 => ?_) (fun c_235 => ?_)
                        · exact K3 _ _ rfl h164
                        · exact absurd c_235 c_200
                  refine g_aload_n (q := 182) M dX4_launch_181 rfl rfl ?_
                  refine g_iload_n (q := 183) M dX4_launch_182 rfl rfl ?_
                  refine g_iload (q := 185) M dX4_launch_183 rfl rfl ?_
                  refine g_iconst (q := 186) (v := 3) M dX4_launch_185 rfl (by decide) ?_
                  refine g_icmp_ne (q := 189) (tgt := 193) M dX4_launch_186 (by decide) rfl (fun c_186 => ?_) (fun c_186 => ?_)
                  · refine g_iconst (q := 194) (v := 1) M dX4_launch_193 rfl (by decide) ?_
                    exact K2 _ (if_neg c_186).symm
                  · refine g_iconst (q := 190) (v := 2) M dX4_launch_189 rfl (by decide) ?_
                    refine g_goto (tgt := 194) M dX4_launch_190 (by decide) ?_
                    exact K2 _ (if_pos c_186).symm
                refine g_iload_n (q := 142) M dX4_launch_141 rfl rfl ?_
                refine g_bipush (q := 144) (v := (-2)) M dX4_launch_142 rfl (by decide) ?_
                refine g_icmp_ne (q := 147) (tgt := 151) M dX4_launch_144 (by decide) rfl (fun c_144 => ?_) (fun c_144 => ?_)
                · rcases hreg with e9 | ⟨r, hr, er⟩
                  · exact absurd e9 c_144
                  · refine g_aload_n (q := 152) M dX4_launch_151 rfl rfl ?_
                    refine g_callV (q := 155) M rfl dX4_launch_152 rfl w_X4_317 (c_X4_draw (h := wI (kH h m n) (m + 1) Q2) T) (isC.of T.1 rfl) rfl rfl (Nat.le_of_ble_eq_true rfl) (by decide) (by omega) (by omega) (r_I ?_)
                    rintro x h_152 ⟨rfl, rfl⟩ m_152
                    rw [sI_wI, tA_w1]
                    have hL3 : spL3 Q2 reg = u1 Q2 2 (rngX (Q2 2)).toInt32 := if_neg c_144
                    have hSt : spSt (tA h m) Q2 reg = if rngD (rngX (Q2 2)) < tA h m 3 r then 2 else 3 := by
                      unfold spSt
                      rw [if_neg c_144, er, nI_clamp (by omega)]
                    rw [er]
                    refine g_aload_n (q := 156) M dX4_launch_155 rfl rfl ?_
                    refine g_tw (q := 159) (f := 35) M dX4_launch_156 rfl l_X4_20 T rfl rfl T.a35 ?_
                    refine g_iload_n (q := 160) M dX4_launch_159 rfl rfl ?_
                    refine g_ialdN (q := 161) (n := 16) M dX4_launch_160 rfl T.a35.2.1 rfl T.a35.2.2 rfl (by omega) (by decide) ?_
                    rw [ra 3 _ (by decide) (by decide), ← hL3, ← er]
                    refine g_icmp_ge (q := 164) (tgt := 168) M dX4_launch_161 (by decide) rfl (fun c_161 => ?_) (fun c_161 => ?_)
                    · refine g_iconst (q := 169) (v := 3) M dX4_launch_168 rfl (by decide) ?_
                      exact K _ (by rw [hSt, if_neg (Int32.not_lt.mpr c_161)])
                    · refine g_iconst (q := 165) (v := 2) M dX4_launch_164 rfl (by decide) ?_
                      refine g_goto (tgt := 169) M dX4_launch_165 (by decide) ?_
                      exact K _ (by rw [hSt, if_pos (Int32.not_le.mp c_161)])
                · refine g_iconst (q := 148) (v := 1) M dX4_launch_147 rfl (by decide) ?_
                  refine g_goto (tgt := 169) M dX4_launch_148 (by decide) ?_
                  have hL3 : spL3 Q2 reg = Q2 := if_pos c_144
                  have hSt : spSt (tA h m) Q2 reg = 1 := if_pos c_144
                  have := K 1 hSt.symm
                  rw [hL3] at this
                  exact this
              · refine g_bipush (q := 96) (v := (-4)) M dX4_launch_94 rfl (by decide) ?_
                refine g_ireturn M Ee dX4_launch_96 ?_
                have hq4 : qq = -4 := hq3.trans (if_pos (Int32.not_le.mp c_91))
                exact ⟨_, rfl, fun _ => ⟨hq4.symm, rfl⟩, fun z => by rw [hq4] at z; exact absurd z (by decide)⟩
            · refine g_bipush (q := 78) (v := (-3)) M dX4_launch_76 rfl (by decide) ?_
              refine g_ireturn M Ee dX4_launch_78 ?_
              have hq3 : qq = -3 := hq2.trans (if_pos (Int32.not_le.mp c_73))
              exact ⟨_, rfl, fun _ => ⟨hq3.symm, rfl⟩, fun z => by rw [hq3] at z; exact absurd z (by decide)⟩
          · have hw0 : nW = 0 := (nI_eq (by omega) (by decide)).mp (show nI nW = nI 0 from c_52)
            exact N2 (hq1.trans (if_pos (Or.inr (Or.inr hw0))))
    · exact N1 (if_pos (fun z => bI_d.mp c_18 z.2))
