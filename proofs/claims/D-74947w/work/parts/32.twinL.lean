/-! THE TWIN: beginnings, the buffer -/
set_option maxRecDepth 100000
/-- the row of a fresh state: wind, x, loft -/
def spInit (w x l : Int32) : Nat → Int32 := fun j => if j = 1 then w else if j = 2 then x else if j = 3 then l else if 15 ≤ j ∧ j < 25 then -2 else if 59 ≤ j ∧ j < 83 then -2 else 0
def spRow0 (h : xH) (m : Nat) : Nat → Int32 := spInit (if tA h m 6 0 = 0 then -2 else xI h 53 m) (xI h 54 m) (xI h 52 m)
theorem c_X4_begins {Z : xZ} {h : xH} {m : Nat} (T : TW h m) : CT Z yX4_begins cX4_begins 2 none 0 0 0 [vr m] h (rV fun h' => ∃ g, h' = sI (sI (pI (wI h (m + 1) g) 73 m 0) (m + 28) 0 0) (m + 28) 1 0 ∧ ∀ j, j < 213 → g j = spRow0 h m j) := by
  refine CT.of (E := [some (vr m), none]) (by decide +kernel) rfl rfl (Nat.le_of_ble_eq_true rfl) (fun X M Ee => ?_)
  have M : MX Z X cX4_begins "BalloonMailModel" 2 0 none "begins" := M
  refine g_iconst (q := 1) (v := 0) M dX4_begins_0 rfl (by decide) ?_
  refine g_istore_n (q := 2) (j := 1) M dX4_begins_1 rfl rfl (Nat.le_of_ble_eq_true rfl) rfl ?_
  dsimp only [st1, st2, kl, List.set_cons_zero, List.set_cons_succ, List.set_nil]
  -- the last loop: letters
  have L3 : ∀ k, k ≤ 24 → ∀ g, (∀ j, j < 213 → g j = if 59 + k ≤ j ∧ j < 83 then 0 else spRow0 h m j) → G Z X 0 0 93 [some (vr m), some (vi (nI k))] [] (wI h (m + 1) g) := by
    refine upLoop 24 ?_ ?_
    · intro g hg
      refine g_iload_n (q := 94) M dX4_begins_93 rfl rfl ?_
      refine g_bipush (q := 96) (v := 24) M dX4_begins_94 rfl (by decide) ?_
      refine g_icmp_ge (q := 99) (tgt := 116) M dX4_begins_96 (by decide) rfl (fun c_96 => ?_) (fun c_96 => ?_)
      · refine g_aload_n (q := 117) M dX4_begins_116 rfl rfl ?_
        refine g_iconst (q := 118) (v := 0) M dX4_begins_117 rfl (by decide) ?_
        refine g_putI (q := 121) (f := 73) M dX4_begins_118 rfl l_X4_243 T.1 (by decide +kernel) rfl ⟨rfl, rfl⟩ ?_
        refine g_aload_n (q := 122) M dX4_begins_121 rfl rfl ?_
        refine g_tw (q := 125) (f := 76) M dX4_begins_122 rfl l_X4_100 T rfl rfl T.a76 ?_
        refine g_iconst (q := 126) (v := 0) M dX4_begins_125 rfl (by decide) ?_
        refine g_iconst (q := 127) (v := 0) M dX4_begins_126 rfl (by decide) ?_
        refine g_zastN (q := 128) (n := 2) (k := 0) M dX4_begins_127 rfl T.a76.2.1 T.a76.2.2 rfl (by decide) (by decide) ?_
        refine g_aload_n (q := 129) M dX4_begins_128 rfl rfl ?_
        refine g_tw (q := 132) (f := 76) M dX4_begins_129 rfl l_X4_100 T rfl rfl T.a76 ?_
        refine g_iconst (q := 133) (v := 1) M dX4_begins_132 rfl (by decide) ?_
        refine g_iconst (q := 134) (v := 0) M dX4_begins_133 rfl (by decide) ?_
        refine g_zastN (q := 135) (n := 2) (k := 1) M dX4_begins_134 rfl T.a76.2.1 T.a76.2.2 rfl (by decide) (by decide) ?_
        refine g_return M Ee dX4_begins_135 ?_
        refine ⟨rfl, g, rfl, fun j hj => ?_⟩
        rw [hg j hj, if_neg (by omega)]
      · exact absurd (Int32.le_refl _) c_96
    · intro k hk ih g hg
      refine g_iload_n (q := 94) M dX4_begins_93 rfl rfl ?_
      refine g_bipush (q := 96) (v := 24) M dX4_begins_94 rfl (by decide) ?_
      refine g_icmp_ge (q := 99) (tgt := 116) M dX4_begins_96 (by decide) rfl (fun c_96 => ?_) (fun c_96 => ?_)
      · exact absurd ((nI_leI (a := 24) (by decide) (by omega)).mp c_96) (by omega)
      · refine g_aload_n (q := 100) M dX4_begins_99 rfl rfl ?_
        refine g_tw (q := 103) (f := 33) M dX4_begins_100 rfl l_X4_13 T rfl rfl T.a33 ?_
        refine g_bipush (q := 105) (v := 59) M dX4_begins_103 rfl (by decide) ?_
        refine g_iload_n (q := 106) M dX4_begins_105 rfl rfl ?_
        refine g_iadd (q := 107) M dX4_begins_106 rfl ?_
        refine g_bipush (q := 109) (v := (-2)) M dX4_begins_107 rfl (by decide) ?_
        refine g_iastN (q := 110) (n := 213) M dX4_begins_109 rfl T.a33.2.1 T.a33.2.2 (ixk 59 rfl k) (by omega) (by decide) ?_
        rw [sI_wI]
        refine g_iinc (q := 113) (w := 1) M dX4_begins_110 rfl (Nat.le_of_ble_eq_true rfl) rfl (by decide) rfl ?_
        dsimp only [st1, st2, kl, List.set_cons_zero, List.set_cons_succ, List.set_nil]
        try rw [nI_1]
        refine g_goto (tgt := 93) M dX4_begins_113 (by decide) ?_
        refine ih _ (fun j hj => ?_)
        by_cases e : j = 59 + k
        · rw [e, u1_s, if_neg (by omega)]
          unfold spRow0 spInit
          rw [if_neg (by omega), if_neg (by omega), if_neg (by omega), if_neg (by omega), if_pos (by omega)]
        · rw [u1_n _ _ e, hg j hj]
          by_cases e2 : 59 + k ≤ j ∧ j < 83
          · rw [if_pos e2, if_pos (by omega)]
          · rw [if_neg e2, if_neg (by omega)]
  have L2 : ∀ k, k ≤ 10 → ∀ g, (∀ j, j < 213 → g j = if (15 + k ≤ j ∧ j < 25) ∨ (59 ≤ j ∧ j < 83) then 0 else spRow0 h m j) → G Z X 0 0 68 [some (vr m), some (vi (nI k))] [] (wI h (m + 1) g) := by
    refine upLoop 10 ?_ ?_
    · intro g hg
      refine g_iload_n (q := 69) M dX4_begins_68 rfl rfl ?_
      refine g_bipush (q := 71) (v := 10) M dX4_begins_69 rfl (by decide) ?_
      refine g_icmp_ge (q := 74) (tgt := 91) M dX4_begins_71 (by decide) rfl (fun c_71 => ?_) (fun c_71 => ?_)
      · refine g_iconst (q := 92) (v := 0) M dX4_begins_91 rfl (by decide) ?_
        refine g_istore_n (q := 93) (j := 1) M dX4_begins_92 rfl rfl (Nat.le_of_ble_eq_true rfl) rfl ?_
        dsimp only [st1, st2, kl, List.set_cons_zero, List.set_cons_succ, List.set_nil]
        exact L3 0 (by decide) g (fun j hj => by
          rw [hg j hj]
          by_cases e : 59 + 0 ≤ j ∧ j < 83
          · rw [if_pos e, if_pos (by omega)]
          · rw [if_neg e, if_neg (by omega)])
      · exact absurd (Int32.le_refl _) c_71
    · intro k hk ih g hg
      refine g_iload_n (q := 69) M dX4_begins_68 rfl rfl ?_
      refine g_bipush (q := 71) (v := 10) M dX4_begins_69 rfl (by decide) ?_
      refine g_icmp_ge (q := 74) (tgt := 91) M dX4_begins_71 (by decide) rfl (fun c_71 => ?_) (fun c_71 => ?_)
      · exact absurd ((nI_leI (a := 10) (by decide) (by omega)).mp c_71) (by omega)
      · refine g_aload_n (q := 75) M dX4_begins_74 rfl rfl ?_
        refine g_tw (q := 78) (f := 33) M dX4_begins_75 rfl l_X4_13 T rfl rfl T.a33 ?_
        refine g_bipush (q := 80) (v := 15) M dX4_begins_78 rfl (by decide) ?_
        refine g_iload_n (q := 81) M dX4_begins_80 rfl rfl ?_
        refine g_iadd (q := 82) M dX4_begins_81 rfl ?_
        refine g_bipush (q := 84) (v := (-2)) M dX4_begins_82 rfl (by decide) ?_
        refine g_iastN (q := 85) (n := 213) M dX4_begins_84 rfl T.a33.2.1 T.a33.2.2 (ixk 15 rfl k) (by omega) (by decide) ?_
        rw [sI_wI]
        refine g_iinc (q := 88) (w := 1) M dX4_begins_85 rfl (Nat.le_of_ble_eq_true rfl) rfl (by decide) rfl ?_
        dsimp only [st1, st2, kl, List.set_cons_zero, List.set_cons_succ, List.set_nil]
        try rw [nI_1]
        refine g_goto (tgt := 68) M dX4_begins_88 (by decide) ?_
        refine ih _ (fun j hj => ?_)
        by_cases e : j = 15 + k
        · rw [e, u1_s, if_neg (by omega)]
          unfold spRow0 spInit
          rw [if_neg (by omega), if_neg (by omega), if_neg (by omega), if_pos (by omega)]
        · rw [u1_n _ _ e, hg j hj]
          by_cases e2 : (15 + k ≤ j ∧ j < 25) ∨ (59 ≤ j ∧ j < 83)
          · rw [if_pos e2, if_pos (by omega)]
          · rw [if_neg e2, if_neg (by omega)]
  have L1 : ∀ k, k ≤ 213 → ∀ g, (∀ j, j < k → g j = 0) → G Z X 0 0 2 [some (vr m), some (vi (nI k))] [] (wI h (m + 1) g) := by
    refine upLoop 213 ?_ ?_
    · intro g hg
      refine g_iload_n (q := 3) M dX4_begins_2 rfl rfl ?_
      refine g_sipush (q := 6) (v := 213) M dX4_begins_3 rfl (by decide) ?_
      refine g_icmp_ge (q := 9) (tgt := 22) M dX4_begins_6 (by decide) rfl (fun c_6 => ?_) (fun c_6 => ?_)
      · have J : ∀ w : Int32, w = (if tA h m 6 0 = 0 then -2 else xI h 53 m) → G Z X 0 0 45 [some (vr m), some (vi (nI 213))] [vi w, vi 1, vr (m + 1)] (wI h (m + 1) g) := by
          intro w hw
          refine g_iastN (q := 46) (n := 213) (k := 1) M dX4_begins_45 rfl T.a33.2.1 T.a33.2.2 rfl (by decide) (by decide) ?_
          rw [sI_wI]
          refine g_aload_n (q := 47) M dX4_begins_46 rfl rfl ?_
          refine g_tw (q := 50) (f := 33) M dX4_begins_47 rfl l_X4_13 T rfl rfl T.a33 ?_
          refine g_iconst (q := 51) (v := 2) M dX4_begins_50 rfl (by decide) ?_
          refine g_aload_n (q := 52) M dX4_begins_51 rfl rfl ?_
          refine g_getI (q := 55) (f := 54) M dX4_begins_52 rfl l_X4_107 T.1 rfl rfl ?_
          refine g_iastN (q := 56) (n := 213) (k := 2) M dX4_begins_55 rfl T.a33.2.1 T.a33.2.2 rfl (by decide) (by decide) ?_
          rw [sI_wI]
          refine g_aload_n (q := 57) M dX4_begins_56 rfl rfl ?_
          refine g_tw (q := 60) (f := 33) M dX4_begins_57 rfl l_X4_13 T rfl rfl T.a33 ?_
          refine g_iconst (q := 61) (v := 3) M dX4_begins_60 rfl (by decide) ?_
          refine g_aload_n (q := 62) M dX4_begins_61 rfl rfl ?_
          refine g_getI (q := 65) (f := 52) M dX4_begins_62 rfl l_X4_104 T.1 rfl rfl ?_
          refine g_iastN (q := 66) (n := 213) (k := 3) M dX4_begins_65 rfl T.a33.2.1 T.a33.2.2 rfl (by decide) (by decide) ?_
          rw [sI_wI]
          refine g_iconst (q := 67) (v := 0) M dX4_begins_66 rfl (by decide) ?_
          refine g_istore_n (q := 68) (j := 1) M dX4_begins_67 rfl rfl (Nat.le_of_ble_eq_true rfl) rfl ?_
          dsimp only [st1, st2, kl, List.set_cons_zero, List.set_cons_succ, List.set_nil]
          refine L2 0 (by decide) _ (fun j hj => ?_)
          show u1 (u1 (u1 g 1 w) 2 (xI h 54 m)) 3 (xI h 52 m) j = _
          unfold u1 spRow0 spInit
          rw [← hw]
          by_cases e3 : j = 3
          · subst e3; rfl
          · rw [if_neg e3]
            by_cases e2 : j = 2
            · subst e2; rfl
            · rw [if_neg e2]
              by_cases e1 : j = 1
              · subst e1; rfl
              · rw [if_neg e1, hg j hj, if_neg e1, if_neg e2, if_neg e3]
                by_cases e4 : (15 + 0 ≤ j ∧ j < 25) ∨ (59 ≤ j ∧ j < 83)
                · rw [if_pos e4]
                · rw [if_neg e4, if_neg (by omega), if_neg (by omega)]
        refine g_aload_n (q := 23) M dX4_begins_22 rfl rfl ?_
        refine g_tw (q := 26) (f := 33) M dX4_begins_23 rfl l_X4_13 T rfl rfl T.a33 ?_
        refine g_iconst (q := 27) (v := 1) M dX4_begins_26 rfl (by decide) ?_
        refine g_aload_n (q := 28) M dX4_begins_27 rfl rfl ?_
        refine g_tw (q := 31) (f := 38) M dX4_begins_28 rfl l_X4_29 T rfl rfl T.a38 ?_
        refine g_iconst (q := 32) (v := 0) M dX4_begins_31 rfl (by decide) ?_
        refine g_ialdN (q := 33) (n := 2) (k := 0) M dX4_begins_32 rfl T.a38.2.1 rfl T.a38.2.2 rfl (by decide) (by decide) ?_
        rw [show yI (wI h (m + 1) g) (m + 6) 0 = tA h m 6 0 from by rw [yI_wn _ _ _ _ (by decide)]; rfl]
        refine g_if_ne (q := 36) (tgt := 41) M dX4_begins_33 (by decide) rfl (fun c_33 => ?_) (fun c_33 => ?_)
        · refine g_aload_n (q := 42) M dX4_begins_41 rfl rfl ?_
          refine g_getI (q := 45) (f := 53) M dX4_begins_42 rfl l_X4_240 T.1 rfl rfl ?_
          exact J _ (if_neg c_33).symm
        · refine g_bipush (q := 38) (v := (-2)) M dX4_begins_36 rfl (by decide) ?_
          refine g_goto (tgt := 45) M dX4_begins_38 (by decide) ?_
          exact J _ (if_pos c_33).symm
      · exact absurd (Int32.le_refl _) c_6
    · intro k hk ih g hg
      refine g_iload_n (q := 3) M dX4_begins_2 rfl rfl ?_
      refine g_sipush (q := 6) (v := 213) M dX4_begins_3 rfl (by decide) ?_
      refine g_icmp_ge (q := 9) (tgt := 22) M dX4_begins_6 (by decide) rfl (fun c_6 => ?_) (fun c_6 => ?_)
      · exact absurd ((nI_leI (a := 213) (by decide) (by omega)).mp c_6) (by omega)
      · refine g_aload_n (q := 10) M dX4_begins_9 rfl rfl ?_
        refine g_tw (q := 13) (f := 33) M dX4_begins_10 rfl l_X4_13 T rfl rfl T.a33 ?_
        refine g_iload_n (q := 14) M dX4_begins_13 rfl rfl ?_
        refine g_iconst (q := 15) (v := 0) M dX4_begins_14 rfl (by decide) ?_
        refine g_iastN (q := 16) (n := 213) M dX4_begins_15 rfl T.a33.2.1 T.a33.2.2 rfl (by omega) (by decide) ?_
        rw [sI_wI]
        refine g_iinc (q := 19) (w := 1) M dX4_begins_16 rfl (Nat.le_of_ble_eq_true rfl) rfl (by decide) rfl ?_
        dsimp only [st1, st2, kl, List.set_cons_zero, List.set_cons_succ, List.set_nil]
        try rw [nI_1]
        refine g_goto (tgt := 2) M dX4_begins_19 (by decide) ?_
        refine ih _ (fun j hj => ?_)
        by_cases e : j = k
        · rw [e, u1_s]
        · rw [u1_n _ _ e]; exact hg j (by omega)
  have := L1 0 (by decide) (yI h (m + 1)) (fun j hj => absurd hj (Nat.not_lt_zero _))
  rw [wI_eta] at this
  exact this
/-- the four bytes of a word -/
def byB (x : Int32) (k : Nat) : Int32 := vp_nar .byte ((x >>> (nI (24 - 8 * k) &&& 31)).toInt8.toInt32)
def spWord (t : Nat → Int32) (n : Nat) (x : Int32) : Nat → Int32 := fun j => if n ≤ j ∧ j < n + 4 then byB x (j - n) else t j
theorem c_X4_bytesOf {Z : xZ} {h : xH} {m n : Nat} {x : Int32} (T : TW h m) (hn : xI h 59 m = nI n) (hl : n + 4 ≤ 900) : CT Z yX4_bytesOf cX4_bytesOf 3 none 0 0 0 [vr m, vi x] h (rV fun h' => h' = pI (wI h (m + 20) (spWord (tA h m 20) n x)) 59 m (nI (n + 4))) := by
  refine CT.of (E := [some (vr m), some (vi x), none]) (by decide +kernel) rfl rfl (Nat.le_of_ble_eq_true rfl) (fun X M Ee => ?_)
  have M : MX Z X cX4_bytesOf "BalloonMailModel" 3 0 none "bytesOf" := M
  refine g_bipush (q := 2) (v := 24) M dX4_bytesOf_0 rfl (by decide) ?_
  refine g_istore_n (q := 3) (j := 2) M dX4_bytesOf_2 rfl rfl (Nat.le_of_ble_eq_true rfl) rfl ?_
  dsimp only [st1, st2, kl, List.set_cons_zero, List.set_cons_succ, List.set_nil]
  have L : ∀ k, k ≤ 4 → G Z X 0 0 3 [some (vr m), some (vi x), some (vi (nI (32 - 8 * k) - 8))] [] (pI (wI h (m + 20) (fun j => if n ≤ j ∧ j < n + k then byB x (j - n) else tA h m 20 j)) 59 m (nI (n + k))) := by
    refine upLoop 4 ?_ ?_
    · rw [show nI (32 - 8 * 4) - 8 = (-8 : Int32) from by decide]
      refine g_iload_n (q := 4) M dX4_bytesOf_3 rfl rfl ?_
      refine g_if_lt (q := 7) (tgt := 36) M dX4_bytesOf_4 (by decide) rfl (fun c_4 => ?_) (fun c_4 => ?_)
      · refine g_return M Ee dX4_bytesOf_36 ?_
        exact ⟨rfl, rfl⟩
      · exact absurd (by decide) c_4
    · intro k hk ih
      rw [show nI (32 - 8 * k) - 8 = nI (24 - 8 * k) from by rw [show (8 : Int32) = nI 8 from rfl, pk_sub (by omega)]; congr 1; omega]
      refine g_iload_n (q := 4) M dX4_bytesOf_3 rfl rfl ?_
      refine g_if_lt (q := 7) (tgt := 36) M dX4_bytesOf_4 (by decide) rfl (fun c_4 => ?_) (fun c_4 => ?_)
      · exact absurd c_4 (nI_pos (by omega))
      · refine g_aload_n (q := 8) M dX4_bytesOf_7 rfl rfl ?_
        refine g_tw (q := 11) (f := 58) M dX4_bytesOf_8 rfl l_X4_71 T rfl rfl T.a58 ?_
        refine g_aload_n (q := 12) M dX4_bytesOf_11 rfl rfl ?_
        refine g_getI (q := 15) (f := 59) M dX4_bytesOf_12 rfl l_X4_113 T.1 rfl rfl ?_
        rw [show xI (pI (wI h (m + 20) (fun j => if n ≤ j ∧ j < n + k then byB x (j - n) else tA h m 20 j)) 59 m (nI (n + k))) 59 m = nI (n + k) from xI_pI_s _ _ _ _]
        refine g_iload_n (q := 16) M dX4_bytesOf_15 rfl rfl ?_
        refine g_iload_n (q := 17) M dX4_bytesOf_16 rfl rfl ?_
        refine g_ishr (q := 18) M dX4_bytesOf_17 rfl ?_
        refine g_i2b (q := 19) M dX4_bytesOf_18 rfl ?_
        refine g_bastN (q := 20) (n := 900) M dX4_bytesOf_19 rfl T.a58.2.1 T.a58.2.2 rfl (by omega) (by decide) ?_
        refine g_aload_n (q := 21) M dX4_bytesOf_20 rfl rfl ?_
        refine g_dup (q := 22) M dX4_bytesOf_21 rfl rfl ?_
        refine g_getI (q := 25) (f := 59) M dX4_bytesOf_22 rfl l_X4_113 T.1 rfl rfl ?_
        rw [show xI (sI (pI (wI h (m + 20) (fun j => if n ≤ j ∧ j < n + k then byB x (j - n) else tA h m 20 j)) 59 m (nI (n + k))) (m + 20) (n + k) (vp_nar .byte (x >>> (nI (24 - 8 * k) &&& 31)).toInt8.toInt32)) 59 m = nI (n + k) from xI_pI_s _ _ _ _]
        refine g_iconst (q := 26) (v := 1) M dX4_bytesOf_25 rfl (by decide) ?_
        refine g_iadd (q := 27) M dX4_bytesOf_26 rfl ?_
        rw [nI_1]
        refine g_putI (q := 30) (f := 59) M dX4_bytesOf_27 rfl l_X4_113 T.1 (by decide +kernel) rfl ⟨rfl, rfl⟩ ?_
        refine g_iinc (q := 33) (w := (-8)) M dX4_bytesOf_30 rfl (Nat.le_of_ble_eq_true rfl) rfl (by decide) rfl ?_
        dsimp only [st1, st2, kl, List.set_cons_zero, List.set_cons_succ, List.set_nil]
        refine g_goto (tgt := 3) M dX4_bytesOf_33 (by decide) ?_
        rw [wI_pI, sI_wI, wI_pI, pI_pI, ← wI_pI, show u1 (fun j => if n ≤ j ∧ j < n + k then byB x (j - n) else tA h m 20 j) (n + k) (vp_nar .byte (x >>> (nI (24 - 8 * k) &&& 31)).toInt8.toInt32) = (fun j => if n ≤ j ∧ j < n + (k + 1) then byB x (j - n) else tA h m 20 j) from by
          funext j
          unfold u1
          by_cases e : j = n + k
          · rw [if_pos e, if_pos (by omega), show j - n = k by omega]; rfl
          · rw [if_neg e]
            show (if n ≤ j ∧ j < n + k then byB x (j - n) else tA h m 20 j) = _
            by_cases e2 : n ≤ j ∧ j < n + k
            · rw [if_pos e2, if_pos (by omega)]
            · rw [if_neg e2, if_neg (by omega)]]
        rw [show nI (24 - 8 * k) + (-8) = nI (32 - 8 * (k + 1)) - 8 from by rw [← Int32.sub_eq_add_neg]; congr 2; omega]
        exact ih
  have := L 0 (by decide)
  rw [show (fun j => if n ≤ j ∧ j < n + 0 then byB x (j - n) else tA h m 20 j) = yI h (m + 20) from by funext j; rw [if_neg (by omega)]; rfl, wI_eta] at this
  rw [show pI h 59 m (nI (n + 0)) = h from by
    unfold pI
    have : u2 (xI h) 59 m (nI (n + 0)) = xI h := by
      funext a b
      unfold u2
      by_cases e : a = 59 ∧ b = m
      · rw [if_pos e, e.1, e.2, hn]; rfl
      · rw [if_neg e]
    rw [this]
    rfl] at this
  exact this
/-- five words more -/
def spApp (t : Nat → Int32) (n : Nat) (a b c d e : Int32) : Nat → Int32 := spWord (spWord (spWord (spWord (spWord t n a) (n + 4) b) (n + 8) c) (n + 12) d) (n + 16) e
theorem c_X4_append {Z : xZ} {h : xH} {m n : Nat} {a b c d e : Int32} (T : TW h m) (hn : xI h 59 m = nI n) (hl : n ≤ 900) : CT Z yX4_append cX4_append 6 (some .int) 1 0 0 [vr m, vi a, vi b, vi c, vi d, vi e] h (rI fun r h' => (880 < n → r = -1 ∧ h' = pI h 32 m 0) ∧ (n ≤ 880 → r = nI (n + 20) ∧ h' = pI (wI (pI h 32 m 0) (m + 20) (spApp (tA h m 20) n a b c d e)) 59 m (nI (n + 20)))) := by
  refine CT.of (E := [some (vr m), some (vi a), some (vi b), some (vi c), some (vi d), some (vi e)]) (by decide +kernel) rfl rfl (Nat.le_of_ble_eq_true rfl) (fun X M Ee => ?_)
  have M : MX Z X cX4_append "BalloonMailModel" 6 1 (some .int) "append" := M
  refine g_aload_n (q := 1) M dX4_append_0 rfl rfl ?_
  refine g_iconst (q := 2) (v := 0) M dX4_append_1 rfl (by decide) ?_
  refine g_putI (q := 5) (f := 32) M dX4_append_2 rfl l_X4_1 T.1 (by decide +kernel) rfl ⟨rfl, rfl⟩ ?_
  refine g_aload_n (q := 6) M dX4_append_5 rfl rfl ?_
  refine g_getI (q := 9) (f := 59) M dX4_append_6 rfl l_X4_113 T.1 rfl rfl ?_
  refine g_bipush (q := 11) (v := 20) M dX4_append_9 rfl (by decide) ?_
  refine g_iadd (q := 12) M dX4_append_11 rfl ?_
  refine g_sipush (q := 15) (v := 900) M dX4_append_12 rfl (by decide) ?_
  rw [show xI (pI h 32 m 0) 59 m = nI n from hn, show (20 : Int32) = nI 20 from rfl, nI_add]
  refine g_icmp_le (q := 18) (tgt := 20) M dX4_append_15 (by decide) rfl (fun c_15 => ?_) (fun c_15 => ?_)
  · have hle : n ≤ 880 := by have := (nI_leI (b := 900) (by omega) (by decide)).mp c_15; omega
    refine g_aload_n (q := 21) M dX4_append_20 rfl rfl ?_
    refine g_iload_n (q := 22) M dX4_append_21 rfl rfl ?_
    refine g_callV (q := 25) M rfl dX4_append_22 rfl w_X4_116 (c_X4_bytesOf (n := n) (T32 T) hn (by omega)) (isC.of T.1 rfl) rfl rfl (Nat.le_of_ble_eq_true rfl) (by decide) (by omega) (by omega) (r_V ?_)
    rintro h_22 rfl m_22
    refine g_aload_n (q := 26) M dX4_append_25 rfl rfl ?_
    refine g_iload_n (q := 27) M dX4_append_26 rfl rfl ?_
    refine g_callV (q := 30) M rfl dX4_append_27 rfl w_X4_116 (c_X4_bytesOf (n := n + 4) (T32 T) (xI_pI_s _ _ _ _) (by omega)) (isC.of T.1 rfl) rfl rfl (Nat.le_of_ble_eq_true rfl) (by decide) (by omega) (by omega) (r_V ?_)
    rintro h_27 rfl m_27
    refine g_aload_n (q := 31) M dX4_append_30 rfl rfl ?_
    refine g_iload_n (q := 32) M dX4_append_31 rfl rfl ?_
    refine g_callV (q := 35) M rfl dX4_append_32 rfl w_X4_116 (c_X4_bytesOf (n := n + 8) (T32 T) (xI_pI_s _ _ _ _) (by omega)) (isC.of T.1 rfl) rfl rfl (Nat.le_of_ble_eq_true rfl) (by decide) (by omega) (by omega) (r_V ?_)
    rintro h_32 rfl m_32
    refine g_aload_n (q := 36) M dX4_append_35 rfl rfl ?_
    refine g_iload (q := 38) M dX4_append_36 rfl rfl ?_
    refine g_callV (q := 41) M rfl dX4_append_38 rfl w_X4_116 (c_X4_bytesOf (n := n + 12) (T32 T) (xI_pI_s _ _ _ _) (by omega)) (isC.of T.1 rfl) rfl rfl (Nat.le_of_ble_eq_true rfl) (by decide) (by omega) (by omega) (r_V ?_)
    rintro h_38 rfl m_38
    refine g_aload_n (q := 42) M dX4_append_41 rfl rfl ?_
    refine g_iload (q := 44) M dX4_append_42 rfl rfl ?_
    refine g_callV (q := 47) M rfl dX4_append_44 rfl w_X4_116 (c_X4_bytesOf (n := n + 16) (T32 T) (xI_pI_s _ _ _ _) (by omega)) (isC.of T.1 rfl) rfl rfl (Nat.le_of_ble_eq_true rfl) (by decide) (by omega) (by omega) (r_V ?_)
    rintro h_44 rfl m_44
    refine g_aload_n (q := 48) M dX4_append_47 rfl rfl ?_
    refine g_getI (q := 51) (f := 59) M dX4_append_48 rfl l_X4_113 T.1 rfl rfl ?_
    rw [xI_pI_s]
    refine g_ireturn M Ee dX4_append_51 ?_
    refine ⟨_, rfl, fun z => absurd z (by omega), fun _ => ⟨rfl, ?_⟩⟩
    have t20 : ∀ (h : xH) (g : Nat → Int32) (v : Int32), tA (pI (wI h (m + 20) g) 59 m v) m 20 = g := fun h g v => yI_wI_s h (m + 20) g
    simp only [t20]
    simp only [wI_pI, pI_pI, wI_wI]
    rfl
  · have hgt : 880 < n := Nat.lt_of_not_le (fun z => c_15 (nI_le (b := 900) (by omega) (by decide)))
    refine g_iconst (q := 19) (v := (-1)) M dX4_append_18 rfl (by decide) ?_
    refine g_ireturn M Ee dX4_append_19 ?_
    exact ⟨_, rfl, fun _ => ⟨rfl, rfl⟩, fun z => absurd z (by omega)⟩
