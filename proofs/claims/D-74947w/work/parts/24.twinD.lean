/-! THE TWIN: the state's row and how it changes -/
set_option maxRecDepth 100000
theorem tA_w1 (h : xH) (m : Nat) (g : Nat → Int32) : tA (wI h (m + 1) g) m 1 = g := by rw [tA_wI, if_pos rfl]
theorem SgN.to {A A' : Nat → Nat → Int32} {nR nW nT nB nL : Nat} (S : SgN A nR nW nT nB nL) (h : ∀ o, o ≠ 1 → A' o = A o) : SgN A' nR nW nT nB nL := by
  unfold SgN
  rw [h 2 (by decide), h 6 (by decide), h 10 (by decide), h 14 (by decide), h 17 (by decide)]
  exact S
theorem tA_wn (h : xH) (m : Nat) (g : Nat → Int32) (o : Nat) (ho : o ≠ 1) : tA (wI h (m + 1) g) m o = tA h m o := by rw [tA_wI, if_neg ho]
theorem yI_wn (h : xH) (m o : Nat) (g : Nat → Int32) (ho : o ≠ 1) : yI (wI h (m + 1) g) (m + o) = yI h (m + o) := yI_wI_n _ _ (by omega)
theorem SgN.w1 {h : xH} {m : Nat} {g : Nat → Int32} {nR nW nT nB nL : Nat} (S : SgN (tA h m) nR nW nT nB nL) : SgN (tA (wI h (m + 1) g) m) nR nW nT nB nL := S.to (fun o ho => tA_wn h m g o ho)
/-- the letters of a set come to a state -/
def spBecome (R : Nat → Int32) (set st : Int32) (n : Nat) : Nat → Int32 := fun j => if 35 ≤ j ∧ j < 35 + n ∧ hasB set (nI (j - 35)) = true then st else R j
theorem spBecome_1 (R : Nat → Int32) (set st : Int32) (k : Nat) : u1 (spBecome R set st k) (35 + k) (if hasB set (nI k) = true then st else R (35 + k)) = spBecome R set st (k + 1) := by
  funext j
  unfold u1 spBecome
  by_cases hj : j = 35 + k
  · subst hj
    rw [if_pos rfl, Nat.add_sub_cancel_left]
    by_cases hb : hasB set (nI k) = true
    · rw [if_pos hb, if_pos ⟨by omega, by omega, hb⟩]
    · rw [if_neg hb, if_neg (fun z => hb z.2.2)]
  · rw [if_neg hj]
    by_cases h2 : 35 ≤ j ∧ j < 35 + k ∧ hasB set (nI (j - 35)) = true
    · rw [if_pos h2, if_pos ⟨h2.1, by omega, h2.2.2⟩]
    · rw [if_neg h2, if_neg (fun z => h2 ⟨z.1, by omega, z.2.2⟩)]
theorem spBecome_at (R : Nat → Int32) (set st : Int32) (k : Nat) : spBecome R set st k (35 + k) = R (35 + k) := by
  unfold spBecome
  rw [if_neg (fun z => by omega)]
theorem c_X4_become {Z : xZ} {h : xH} {m : Nat} {set st : Int32} {nR nW nT nB nL : Nat} (T : TW h m) (S : SgN (tA h m) nR nW nT nB nL) : CT Z yX4_become cX4_become 4 none 1 0 0 [vr m, vi set, vi st] h (rV fun h' => h' = wI h (m + 1) (spBecome (tA h m 1) set st nL)) := by
  have hN : yI h (m + 17) 0 = nI nL := S.2.2.2.2.1
  have hl := S.2.2.2.2.2
  refine CT.of (E := [some (vr m), some (vi set), some (vi st), none]) (by decide +kernel) rfl rfl (Nat.le_of_ble_eq_true rfl) (fun X M Ee => ?_)
  have M : MX Z X cX4_become "BalloonMailModel" 4 1 none "become" := M
  refine g_iconst (q := 1) (v := 0) M dX4_become_0 rfl (by decide) ?_
  refine g_istore_n (q := 2) (j := 3) M dX4_become_1 rfl rfl (Nat.le_of_ble_eq_true rfl) rfl ?_
  dsimp only [st1, st2, kl, List.set_cons_zero, List.set_cons_succ, List.set_nil]
  have L := upLoop (P := fun k => G Z X 0 0 2 [some (vr m), some (vi set), some (vi st), some (vi (nI k))] [] (wI h (m + 1) (spBecome (tA h m 1) set st k))) nL ?_ ?_ 0 (Nat.zero_le _)
  · rw [show spBecome (tA h m 1) set st 0 = yI h (m + 1) from by funext j; unfold spBecome; rw [if_neg (by omega)]; rfl, wI_eta] at L
    exact L
  · refine g_iload_n (q := 3) M dX4_become_2 rfl rfl ?_
    refine g_aload_n (q := 4) M dX4_become_3 rfl rfl ?_
    refine g_tw (q := 7) (f := 49) M dX4_become_4 rfl l_X4_62 T rfl rfl T.a49 ?_
    refine g_iconst (q := 8) (v := 0) M dX4_become_7 rfl (by decide) ?_
    refine g_ialdN (q := 9) (n := 2) (k := 0) M dX4_become_8 rfl T.a49.2.1 rfl T.a49.2.2 rfl (by decide) (by decide) ?_
    rw [yI_wn _ _ 17 _ (by decide), hN]
    refine g_icmp_ge (q := 12) (tgt := 48) M dX4_become_9 (by decide) rfl (fun c_9 => ?_) (fun c_9 => ?_)
    · refine g_return M Ee dX4_become_48 ?_
      exact ⟨rfl, rfl⟩
    · exact absurd (Int32.le_refl _) c_9
  · intro k hk ih
    refine g_iload_n (q := 3) M dX4_become_2 rfl rfl ?_
    refine g_aload_n (q := 4) M dX4_become_3 rfl rfl ?_
    refine g_tw (q := 7) (f := 49) M dX4_become_4 rfl l_X4_62 T rfl rfl T.a49 ?_
    refine g_iconst (q := 8) (v := 0) M dX4_become_7 rfl (by decide) ?_
    refine g_ialdN (q := 9) (n := 2) (k := 0) M dX4_become_8 rfl T.a49.2.1 rfl T.a49.2.2 rfl (by decide) (by decide) ?_
    rw [yI_wn _ _ 17 _ (by decide), hN]
    refine g_icmp_ge (q := 12) (tgt := 48) M dX4_become_9 (by decide) rfl (fun c_9 => ?_) (fun c_9 => ?_)
    · exact absurd ((nI_leI (by omega) (by omega)).mp c_9) (by omega)
    · have J : ∀ z : Int32, z = (if hasB set (nI k) = true then st else tA h m 1 (35 + k)) → G Z X 0 0 41 [some (vr m), some (vi set), some (vi st), some (vi (nI k))] [vi z, vi (35 + nI k), vr (m + 1)] (wI h (m + 1) (spBecome (tA h m 1) set st k)) := by
        intro z hz
        refine g_iastN (q := 42) (n := 213) M dX4_become_41 rfl T.a33.2.1 T.a33.2.2 (ixk 35 rfl k) (by omega) (by decide) ?_
        rw [sI_wI, hz, spBecome_1]
        refine g_iinc (q := 45) (w := 1) M dX4_become_42 rfl (Nat.le_of_ble_eq_true rfl) rfl (by decide) rfl ?_
        dsimp only [st1, st2, kl, List.set_cons_zero, List.set_cons_succ, List.set_nil]
        try rw [nI_1]
        refine g_goto (tgt := 2) M dX4_become_45 (by decide) ?_
        exact ih
      refine g_aload_n (q := 13) M dX4_become_12 rfl rfl ?_
      refine g_tw (q := 16) (f := 33) M dX4_become_13 rfl l_X4_13 T rfl rfl T.a33 ?_
      refine g_bipush (q := 18) (v := 35) M dX4_become_16 rfl (by decide) ?_
      refine g_iload_n (q := 19) M dX4_become_18 rfl rfl ?_
      refine g_iadd (q := 20) M dX4_become_19 rfl ?_
      refine g_iload_n (q := 21) M dX4_become_20 rfl rfl ?_
      refine g_iload_n (q := 22) M dX4_become_21 rfl rfl ?_
      refine g_callS (q := 25) M rfl dX4_become_22 rfl w_X4_173 c_X4_has rfl rfl (Nat.le_of_ble_eq_true rfl) (by decide) (by omega) (by omega) (r_I ?_)
      rintro x h_22 ⟨rfl, rfl⟩ m_22
      refine g_if_eq (q := 28) (tgt := 32) M dX4_become_25 (by decide) rfl (fun c_25 => ?_) (fun c_25 => ?_)
      · refine g_aload_n (q := 33) M dX4_become_32 rfl rfl ?_
        refine g_tw (q := 36) (f := 33) M dX4_become_33 rfl l_X4_13 T rfl rfl T.a33 ?_
        refine g_bipush (q := 38) (v := 35) M dX4_become_36 rfl (by decide) ?_
        refine g_iload_n (q := 39) M dX4_become_38 rfl rfl ?_
        refine g_iadd (q := 40) M dX4_become_39 rfl ?_
        refine g_ialdN (q := 41) (n := 213) M dX4_become_40 rfl T.a33.2.1 rfl T.a33.2.2 (ixk 35 rfl k) (by omega) (by decide) ?_
        rw [yI_wI_s, spBecome_at]
        exact J _ (by rw [bI_0.mp c_25]; rfl)
      · refine g_iload_n (q := 29) M dX4_become_28 rfl rfl ?_
        refine g_goto (tgt := 41) M dX4_become_29 (by decide) ?_
        exact J _ (if_pos (by simpa [bI_0] using c_25)).symm
/-- the letters of a cargo that were delivered are answered -/
def spAnswers (R : Nat → Int32) (c : Int32) (n : Nat) : Nat → Int32 := fun j => if 35 ≤ j ∧ j < 35 + n ∧ hasB c (nI (j - 35)) = true ∧ R j = 2 then 3 else if 59 ≤ j ∧ j < 59 + n ∧ hasB c (nI (j - 59)) = true ∧ R (j - 24) = 2 then R 0 else R j
theorem spAnswers_0 (R : Nat → Int32) (c : Int32) : spAnswers R c 0 = R := by
  funext j
  unfold spAnswers
  rw [if_neg (by omega), if_neg (by omega)]
theorem spAnswers_lo (R : Nat → Int32) (c : Int32) (n : Nat) {j : Nat} (hj : j < 35) : spAnswers R c n j = R j := by
  unfold spAnswers
  rw [if_neg (by omega), if_neg (by omega)]
theorem spAnswers_at (R : Nat → Int32) (c : Int32) (k : Nat) (hk : k < 24) : spAnswers R c k (35 + k) = R (35 + k) := by
  unfold spAnswers
  rw [if_neg (by omega), if_neg (by omega)]
theorem spAnswers_y (R : Nat → Int32) (c : Int32) (k : Nat) (hk : k < 24) (h : hasB c (nI k) = true ∧ R (35 + k) = 2) : u1 (u1 (spAnswers R c k) (35 + k) 3) (59 + k) (R 0) = spAnswers R c (k + 1) := by
  funext j
  unfold u1
  by_cases h1 : j = 59 + k
  · subst h1
    rw [if_pos rfl]
    unfold spAnswers
    rw [if_neg (by omega), if_pos ⟨by omega, by omega, by rw [Nat.add_sub_cancel_left]; exact h.1, by rw [show 59 + k - 24 = 35 + k by omega]; exact h.2⟩]
  · rw [if_neg h1]
    by_cases h2 : j = 35 + k
    · subst h2
      rw [if_pos rfl]
      unfold spAnswers
      rw [if_pos ⟨by omega, by omega, by rw [Nat.add_sub_cancel_left]; exact h.1, h.2⟩]
    · rw [if_neg h2]
      unfold spAnswers
      have e1 : (35 ≤ j ∧ j < 35 + k ∧ hasB c (nI (j - 35)) = true ∧ R j = 2) ↔ (35 ≤ j ∧ j < 35 + (k + 1) ∧ hasB c (nI (j - 35)) = true ∧ R j = 2) := ⟨fun z => ⟨z.1, by omega, z.2.2⟩, fun z => ⟨z.1, by omega, z.2.2⟩⟩
      have e2 : (59 ≤ j ∧ j < 59 + k ∧ hasB c (nI (j - 59)) = true ∧ R (j - 24) = 2) ↔ (59 ≤ j ∧ j < 59 + (k + 1) ∧ hasB c (nI (j - 59)) = true ∧ R (j - 24) = 2) := ⟨fun z => ⟨z.1, by omega, z.2.2⟩, fun z => ⟨z.1, by omega, z.2.2⟩⟩
      simp only [e1, e2]
theorem spAnswers_n (R : Nat → Int32) (c : Int32) (k : Nat) (hk : k < 24) (h : ¬ (hasB c (nI k) = true ∧ R (35 + k) = 2)) : spAnswers R c k = spAnswers R c (k + 1) := by
  funext j
  unfold spAnswers
  have e1 : (35 ≤ j ∧ j < 35 + k ∧ hasB c (nI (j - 35)) = true ∧ R j = 2) ↔ (35 ≤ j ∧ j < 35 + (k + 1) ∧ hasB c (nI (j - 35)) = true ∧ R j = 2) := by
    refine ⟨fun z => ⟨z.1, by omega, z.2.2⟩, fun z => ⟨z.1, ?_, z.2.2⟩⟩
    by_cases q : j = 35 + k
    · subst q; rw [Nat.add_sub_cancel_left] at z; exact absurd z.2.2 h
    · omega
  have e2 : (59 ≤ j ∧ j < 59 + k ∧ hasB c (nI (j - 59)) = true ∧ R (j - 24) = 2) ↔ (59 ≤ j ∧ j < 59 + (k + 1) ∧ hasB c (nI (j - 59)) = true ∧ R (j - 24) = 2) := by
    refine ⟨fun z => ⟨z.1, by omega, z.2.2⟩, fun z => ⟨z.1, ?_, z.2.2⟩⟩
    by_cases q : j = 59 + k
    · subst q; rw [Nat.add_sub_cancel_left, show 59 + k - 24 = 35 + k by omega] at z; exact absurd z.2.2 h
    · omega
  simp only [e1, e2]
theorem c_X4_answers {Z : xZ} {h : xH} {m b : Nat} {nR nW nT nB nL : Nat} (T : TW h m) (S : SgN (tA h m) nR nW nT nB nL) (hb : b < 10) : CT Z yX4_answers cX4_answers 3 none 1 0 0 [vr m, vi (nI b)] h (rV fun h' => h' = wI h (m + 1) (spAnswers (tA h m 1) (tA h m 1 (25 + b)) nL)) := by
  have hN : yI h (m + 17) 0 = nI nL := S.2.2.2.2.1
  have hl := S.2.2.2.2.2
  refine CT.of (E := [some (vr m), some (vi (nI b)), none]) (by decide +kernel) rfl rfl (Nat.le_of_ble_eq_true rfl) (fun X M Ee => ?_)
  have M : MX Z X cX4_answers "BalloonMailModel" 3 1 none "answers" := M
  refine g_iconst (q := 1) (v := 0) M dX4_answers_0 rfl (by decide) ?_
  refine g_istore_n (q := 2) (j := 2) M dX4_answers_1 rfl rfl (Nat.le_of_ble_eq_true rfl) rfl ?_
  dsimp only [st1, st2, kl, List.set_cons_zero, List.set_cons_succ, List.set_nil]
  have L := upLoop (P := fun k => G Z X 0 0 2 [some (vr m), some (vi (nI b)), some (vi (nI k))] [] (wI h (m + 1) (spAnswers (tA h m 1) (tA h m 1 (25 + b)) k))) nL ?_ ?_ 0 (Nat.zero_le _)
  · rw [spAnswers_0, show tA h m 1 = yI h (m + 1) from rfl, wI_eta] at L
    exact L
  · refine g_iload_n (q := 3) M dX4_answers_2 rfl rfl ?_
    refine g_aload_n (q := 4) M dX4_answers_3 rfl rfl ?_
    refine g_tw (q := 7) (f := 49) M dX4_answers_4 rfl l_X4_62 T rfl rfl T.a49 ?_
    refine g_iconst (q := 8) (v := 0) M dX4_answers_7 rfl (by decide) ?_
    refine g_ialdN (q := 9) (n := 2) (k := 0) M dX4_answers_8 rfl T.a49.2.1 rfl T.a49.2.2 rfl (by decide) (by decide) ?_
    rw [yI_wn _ _ 17 _ (by decide), hN]
    refine g_icmp_ge (q := 12) (tgt := 72) M dX4_answers_9 (by decide) rfl (fun c_9 => ?_) (fun c_9 => ?_)
    · refine g_return M Ee dX4_answers_72 ?_
      exact ⟨rfl, rfl⟩
    · exact absurd (Int32.le_refl _) c_9
  · intro k hk ih
    refine g_iload_n (q := 3) M dX4_answers_2 rfl rfl ?_
    refine g_aload_n (q := 4) M dX4_answers_3 rfl rfl ?_
    refine g_tw (q := 7) (f := 49) M dX4_answers_4 rfl l_X4_62 T rfl rfl T.a49 ?_
    refine g_iconst (q := 8) (v := 0) M dX4_answers_7 rfl (by decide) ?_
    refine g_ialdN (q := 9) (n := 2) (k := 0) M dX4_answers_8 rfl T.a49.2.1 rfl T.a49.2.2 rfl (by decide) (by decide) ?_
    rw [yI_wn _ _ 17 _ (by decide), hN]
    refine g_icmp_ge (q := 12) (tgt := 72) M dX4_answers_9 (by decide) rfl (fun c_9 => ?_) (fun c_9 => ?_)
    · exact absurd ((nI_leI (by omega) (by omega)).mp c_9) (by omega)
    · have J : ¬ (hasB (tA h m 1 (25 + b)) (nI k) = true ∧ tA h m 1 (35 + k) = 2) → G Z X 0 0 66 [some (vr m), some (vi (nI b)), some (vi (nI k))] [] (wI h (m + 1) (spAnswers (tA h m 1) (tA h m 1 (25 + b)) k)) := by
        intro hn
        rw [spAnswers_n _ _ _ (by omega) hn]
        refine g_iinc (q := 69) (w := 1) M dX4_answers_66 rfl (Nat.le_of_ble_eq_true rfl) rfl (by decide) rfl ?_
        dsimp only [st1, st2, kl, List.set_cons_zero, List.set_cons_succ, List.set_nil]
        try rw [nI_1]
        refine g_goto (tgt := 2) M dX4_answers_69 (by decide) ?_
        exact ih
      refine g_aload_n (q := 13) M dX4_answers_12 rfl rfl ?_
      refine g_tw (q := 16) (f := 33) M dX4_answers_13 rfl l_X4_13 T rfl rfl T.a33 ?_
      refine g_bipush (q := 18) (v := 25) M dX4_answers_16 rfl (by decide) ?_
      refine g_iload_n (q := 19) M dX4_answers_18 rfl rfl ?_
      refine g_iadd (q := 20) M dX4_answers_19 rfl ?_
      refine g_ialdN (q := 21) (n := 213) M dX4_answers_20 rfl T.a33.2.1 rfl T.a33.2.2 (ixk 25 rfl b) (by omega) (by decide) ?_
      rw [yI_wI_s, spAnswers_lo _ _ _ (by omega)]
      refine g_iload_n (q := 22) M dX4_answers_21 rfl rfl ?_
      refine g_callS (q := 25) M rfl dX4_answers_22 rfl w_X4_173 c_X4_has rfl rfl (Nat.le_of_ble_eq_true rfl) (by decide) (by omega) (by omega) (r_I ?_)
      rintro x h_22 ⟨rfl, rfl⟩ m_22
      refine g_if_eq (q := 28) (tgt := 66) M dX4_answers_25 (by decide) rfl (fun c_25 => ?_) (fun c_25 => ?_)
      · exact J (fun z => by rw [bI_0.mp c_25] at z; cases z.1)
      · refine g_aload_n (q := 29) M dX4_answers_28 rfl rfl ?_
        refine g_tw (q := 32) (f := 33) M dX4_answers_29 rfl l_X4_13 T rfl rfl T.a33 ?_
        refine g_bipush (q := 34) (v := 35) M dX4_answers_32 rfl (by decide) ?_
        refine g_iload_n (q := 35) M dX4_answers_34 rfl rfl ?_
        refine g_iadd (q := 36) M dX4_answers_35 rfl ?_
        refine g_ialdN (q := 37) (n := 213) M dX4_answers_36 rfl T.a33.2.1 rfl T.a33.2.2 (ixk 35 rfl k) (by omega) (by decide) ?_
        refine g_iconst (q := 38) (v := 2) M dX4_answers_37 rfl (by decide) ?_
        rw [yI_wI_s, spAnswers_at _ _ _ (by omega)]
        refine g_icmp_ne (q := 41) (tgt := 66) M dX4_answers_38 (by decide) rfl (fun c_38 => ?_) (fun c_38 => ?_)
        · exact J (fun z => c_38 z.2)
        · refine g_aload_n (q := 42) M dX4_answers_41 rfl rfl ?_
          refine g_tw (q := 45) (f := 33) M dX4_answers_42 rfl l_X4_13 T rfl rfl T.a33 ?_
          refine g_bipush (q := 47) (v := 35) M dX4_answers_45 rfl (by decide) ?_
          refine g_iload_n (q := 48) M dX4_answers_47 rfl rfl ?_
          refine g_iadd (q := 49) M dX4_answers_48 rfl ?_
          refine g_iconst (q := 50) (v := 3) M dX4_answers_49 rfl (by decide) ?_
          refine g_iastN (q := 51) (n := 213) M dX4_answers_50 rfl T.a33.2.1 T.a33.2.2 (ixk 35 rfl k) (by omega) (by decide) ?_
          refine g_aload_n (q := 52) M dX4_answers_51 rfl rfl ?_
          refine g_tw (q := 55) (f := 33) M dX4_answers_52 rfl l_X4_13 T rfl rfl T.a33 ?_
          refine g_bipush (q := 57) (v := 59) M dX4_answers_55 rfl (by decide) ?_
          refine g_iload_n (q := 58) M dX4_answers_57 rfl rfl ?_
          refine g_iadd (q := 59) M dX4_answers_58 rfl ?_
          refine g_aload_n (q := 60) M dX4_answers_59 rfl rfl ?_
          refine g_tw (q := 63) (f := 33) M dX4_answers_60 rfl l_X4_13 T rfl rfl T.a33 ?_
          refine g_iconst (q := 64) (v := 0) M dX4_answers_63 rfl (by decide) ?_
          refine g_ialdN (q := 65) (n := 213) (k := 0) M dX4_answers_64 rfl T.a33.2.1 rfl T.a33.2.2 rfl (by decide) (by decide) ?_
          refine g_iastN (q := 66) (n := 213) M dX4_answers_65 rfl T.a33.2.1 T.a33.2.2 (ixk 59 rfl k) (by omega) (by decide) ?_
          rw [sI_wI, yI_wI_s, sI_wI, u1_n _ _ (by omega), spAnswers_lo _ _ _ (by omega), spAnswers_y _ _ _ (by omega) ⟨by simpa [bI_0] using c_25, c_38⟩]
          refine g_iinc (q := 69) (w := 1) M dX4_answers_66 rfl (Nat.le_of_ble_eq_true rfl) rfl (by decide) rfl ?_
          dsimp only [st1, st2, kl, List.set_cons_zero, List.set_cons_succ, List.set_nil]
          try rw [nI_1]
          refine g_goto (tgt := 2) M dX4_answers_69 (by decide) ?_
          exact ih
/-- the undo rows and their number behind 'keep' -/
def spKeepU (U R : Nat → Int32) (n : Nat) : Nat → Int32 := if n = 12 then cpy R (cpy U U 213 0 2343) 0 2343 213 else cpy R U 0 (213 * n) 213
def spKeepN (n : Nat) : Nat := if n = 12 then 12 else n + 1
theorem wI_pI (h : xH) (a : Nat) (g : Nat → Int32) (k b : Nat) (v : Int32) : pI (wI h a g) k b v = wI (pI h k b v) a g := rfl
theorem pI_pI (h : xH) (k b : Nat) (v w : Int32) : pI (pI h k b v) k b w = pI h k b w := by
  unfold pI
  have : u2 (xI (h.1, (u2 (xI h) k b v, h.2.1.2), h.2.2)) k b w = u2 (xI h) k b w := by
    funext x y
    show u2 (u2 (xI h) k b v) k b w x y = _
    unfold u2
    by_cases e : x = k ∧ y = b <;> simp [e]
  rw [this]
theorem wI_comm (h : xH) {a b : Nat} (f g : Nat → Int32) (hab : a ≠ b) : wI (wI h a f) b g = wI (wI h b g) a f := by
  unfold wI
  have : w2 (yI (h.1, h.2.1, (w2 (yI h) a f, h.2.2.2))) b g = w2 (yI (h.1, h.2.1, (w2 (yI h) b g, h.2.2.2))) a f := by
    funext x y
    show w2 (w2 (yI h) a f) b g x y = w2 (w2 (yI h) b g) a f x y
    unfold w2
    by_cases e1 : x = b
    · have : x ≠ a := fun z => hab (z.symm.trans e1)
      simp [e1, Ne.symm hab]
    · by_cases e2 : x = a <;> simp [e1, e2, hab]
  rw [this]
theorem c_X4_keeps {Z : xZ} {h : xH} {m n : Nat} (T : TW h m) (hn : xI h 73 m = nI n) (hl : n ≤ 12) : CT Z yX4_keeps cX4_keeps 1 none 1 0 0 [vr m] h (rV fun h' => h' = pI (wI h (m + 26) (spKeepU (tA h m 26) (tA h m 1) n)) 73 m (nI (spKeepN n))) := by
  refine CT.of (E := [some (vr m)]) (by decide +kernel) rfl rfl (Nat.le_of_ble_eq_true rfl) (fun X M Ee => ?_)
  have M : MX Z X cX4_keeps "BalloonMailModel" 1 1 none "keeps" := M
  have J : ∀ (U : Nat → Int32) (k : Nat), k < 12 → spKeepU (tA h m 26) (tA h m 1) n = cpy (tA h m 1) U 0 (213 * k) 213 → spKeepN n = k + 1 → G Z X 0 0 42 [some (vr m)] [] (wI (pI h 73 m (nI k)) (m + 26) U) := by
    intro U k hk hU hN
    have e1 : xI (wI (pI h 73 m (nI k)) (m + 26) U) 73 m = nI k := by rw [xI_wI, xI_pI, if_pos ⟨rfl, rfl⟩]
    refine g_aload_n (q := 43) M dX4_keeps_42 rfl rfl ?_
    refine g_tw (q := 46) (f := 33) M dX4_keeps_43 rfl l_X4_13 T rfl rfl T.a33 ?_
    refine g_iconst (q := 47) (v := 0) M dX4_keeps_46 rfl (by decide) ?_
    refine g_aload_n (q := 48) M dX4_keeps_47 rfl rfl ?_
    refine g_tw (q := 51) (f := 74) M dX4_keeps_48 rfl l_X4_94 T rfl rfl T.a74 ?_
    refine g_sipush (q := 54) (v := 213) M dX4_keeps_51 rfl (by decide) ?_
    refine g_aload_n (q := 55) M dX4_keeps_54 rfl rfl ?_
    refine g_getI (q := 58) (f := 73) M dX4_keeps_55 rfl l_X4_243 T.1 rfl rfl ?_
    rw [e1]
    refine g_imul (q := 59) M dX4_keeps_58 rfl ?_
    rw [show (213 : Int32) * nI k = nI (213 * k) from by rw [show (213 : Int32) = nI 213 from rfl, pk_mul]]
    refine g_sipush (q := 62) (v := 213) M dX4_keeps_59 rfl (by decide) ?_
    refine g_callS (q := 65) M rfl dX4_keeps_62 rfl w_X4_232 (c_X4_copies (sp := 0) (dp := 213 * k) (n := 213) T.a33.2.1 T.a74.2.1 T.a33.2.2 T.a74.2.2 (by decide) (by omega) (fun z => by omega) (by decide) (by decide)) rfl rfl (Nat.le_of_ble_eq_true rfl) (by decide) (by omega) (by omega) (r_V ?_)
    rintro h_62 rfl m_62
    refine g_aload_n (q := 66) M dX4_keeps_65 rfl rfl ?_
    refine g_dup (q := 67) M dX4_keeps_66 rfl rfl ?_
    refine g_getI (q := 70) (f := 73) M dX4_keeps_67 rfl l_X4_243 T.1 rfl rfl ?_
    refine g_iconst (q := 71) (v := 1) M dX4_keeps_70 rfl (by decide) ?_
    refine g_iadd (q := 72) M dX4_keeps_71 rfl ?_
    rw [wI_wI, yI_wI_s, yI_wI_n _ _ (by omega), show xI (wI (pI h 73 m (nI k)) (m + 26) (cpy (yI (pI h 73 m (nI k)) (m + 1)) U 0 (213 * k) 213)) 73 m = nI k from e1, nI_1]
    refine g_putI (q := 75) (f := 73) M dX4_keeps_72 rfl l_X4_243 T.1 (by decide +kernel) rfl ⟨rfl, rfl⟩ ?_
    refine g_return M Ee dX4_keeps_75 ?_
    refine ⟨rfl, ?_⟩
    rw [hU, hN]
    simp only [wI_pI, pI_pI]
    rfl
  refine g_aload_n (q := 1) M dX4_keeps_0 rfl rfl ?_
  refine g_getI (q := 4) (f := 73) M dX4_keeps_1 rfl l_X4_243 T.1 rfl rfl ?_
  refine g_bipush (q := 6) (v := 12) M dX4_keeps_4 rfl (by decide) ?_
  rw [hn]
  refine g_icmp_ne (q := 9) (tgt := 42) M dX4_keeps_6 (by decide) rfl (fun c_6 => ?_) (fun c_6 => ?_)
  · have hne : n ≠ 12 := fun e => c_6 (by rw [e]; rfl)
    have := J (tA h m 26) n (by omega) (by unfold spKeepU; rw [if_neg hne]) (by unfold spKeepN; rw [if_neg hne])
    rw [show wI (pI h 73 m (nI n)) (m + 26) (tA h m 26) = h from by
      rw [show tA h m 26 = yI (pI h 73 m (nI n)) (m + 26) from rfl, wI_eta]
      unfold pI
      have : u2 (xI h) 73 m (nI n) = xI h := by
        funext x y
        unfold u2
        by_cases e : x = 73 ∧ y = m
        · rw [if_pos e, e.1, e.2, hn]
        · rw [if_neg e]
      rw [this]
      rfl] at this
    exact this
  · have he : n = 12 := (nI_eq (by omega) (by decide)).mp (show nI n = nI 12 from c_6)
    subst he
    refine g_aload_n (q := 10) M dX4_keeps_9 rfl rfl ?_
    refine g_dup (q := 11) M dX4_keeps_10 rfl rfl ?_
    refine g_getI (q := 14) (f := 73) M dX4_keeps_11 rfl l_X4_243 T.1 rfl rfl ?_
    refine g_iconst (q := 15) (v := 1) M dX4_keeps_14 rfl (by decide) ?_
    refine g_isub (q := 16) M dX4_keeps_15 rfl ?_
    rw [hn, show nI 12 - 1 = nI 11 from rfl]
    refine g_putI (q := 19) (f := 73) M dX4_keeps_16 rfl l_X4_243 T.1 (by decide +kernel) rfl ⟨rfl, rfl⟩ ?_
    refine g_aload_n (q := 20) M dX4_keeps_19 rfl rfl ?_
    refine g_tw (q := 23) (f := 74) M dX4_keeps_20 rfl l_X4_94 T rfl rfl T.a74 ?_
    refine g_sipush (q := 26) (v := 213) M dX4_keeps_23 rfl (by decide) ?_
    refine g_aload_n (q := 27) M dX4_keeps_26 rfl rfl ?_
    refine g_tw (q := 30) (f := 74) M dX4_keeps_27 rfl l_X4_94 T rfl rfl T.a74 ?_
    refine g_iconst (q := 31) (v := 0) M dX4_keeps_30 rfl (by decide) ?_
    refine g_sipush (q := 34) (v := 213) M dX4_keeps_31 rfl (by decide) ?_
    refine g_aload_n (q := 35) M dX4_keeps_34 rfl rfl ?_
    refine g_getI (q := 38) (f := 73) M dX4_keeps_35 rfl l_X4_243 T.1 rfl rfl ?_
    rw [show xI (pI h 73 m (nI 11)) 73 m = nI 11 from by rw [xI_pI, if_pos ⟨rfl, rfl⟩]]
    refine g_imul (q := 39) M dX4_keeps_38 rfl ?_
    refine g_callS (q := 42) M rfl dX4_keeps_39 rfl w_X4_232 (c_X4_copies (sp := 213) (dp := 0) (n := 2343) T.a74.2.1 T.a74.2.1 T.a74.2.2 T.a74.2.2 (by decide) (by decide) (fun z => by decide) (by decide) (by decide)) rfl rfl (Nat.le_of_ble_eq_true rfl) (by decide) (by omega) (by omega) (r_V ?_)
    rintro h_39 rfl m_39
    exact J _ 11 (by decide) rfl rfl
theorem c_X4_undo {Z : xZ} {h : xH} {m n : Nat} (T : TW h m) (hn : xI h 73 m = nI n) (hl : n ≤ 12) : CT Z yX4_undo cX4_undo 1 (some .boolean) 1 0 0 [vr m] h (rI fun r h' => (n = 0 → r = 0 ∧ h' = pI h 32 m 0) ∧ (∀ k, n = k + 1 → r = 1 ∧ h' = wI (pI (pI h 32 m 0) 73 m (nI k)) (m + 1) (cpy (tA h m 26) (tA h m 1) (213 * k) 0 213))) := by
  refine CT.of (E := [some (vr m)]) (by decide +kernel) rfl rfl (Nat.le_of_ble_eq_true rfl) (fun X M Ee => ?_)
  have M : MX Z X cX4_undo "BalloonMailModel" 1 1 (some .boolean) "undo" := M
  refine g_aload_n (q := 1) M dX4_undo_0 rfl rfl ?_
  refine g_iconst (q := 2) (v := 0) M dX4_undo_1 rfl (by decide) ?_
  refine g_putI (q := 5) (f := 32) M dX4_undo_2 rfl l_X4_1 T.1 (by decide +kernel) rfl ⟨rfl, rfl⟩ ?_
  refine g_aload_n (q := 6) M dX4_undo_5 rfl rfl ?_
  refine g_getI (q := 9) (f := 73) M dX4_undo_6 rfl l_X4_243 T.1 rfl rfl ?_
  rw [show xI (pI h 32 m 0) 73 m = nI n from hn]
  refine g_if_ne (q := 12) (tgt := 14) M dX4_undo_9 (by decide) rfl (fun c_9 => ?_) (fun c_9 => ?_)
  · cases n with
    | zero => exact absurd rfl c_9
    | succ k =>
      refine g_aload_n (q := 15) M dX4_undo_14 rfl rfl ?_
      refine g_dup (q := 16) M dX4_undo_15 rfl rfl ?_
      refine g_getI (q := 19) (f := 73) M dX4_undo_16 rfl l_X4_243 T.1 rfl rfl ?_
      refine g_iconst (q := 20) (v := 1) M dX4_undo_19 rfl (by decide) ?_
      refine g_isub (q := 21) M dX4_undo_20 rfl ?_
      rw [show xI (pI h 32 m 0) 73 m = nI (k + 1) from hn, nI_pred]
      refine g_putI (q := 24) (f := 73) M dX4_undo_21 rfl l_X4_243 T.1 (by decide +kernel) rfl ⟨rfl, rfl⟩ ?_
      refine g_aload_n (q := 25) M dX4_undo_24 rfl rfl ?_
      refine g_tw (q := 28) (f := 74) M dX4_undo_25 rfl l_X4_94 T rfl rfl T.a74 ?_
      refine g_sipush (q := 31) (v := 213) M dX4_undo_28 rfl (by decide) ?_
      refine g_aload_n (q := 32) M dX4_undo_31 rfl rfl ?_
      refine g_getI (q := 35) (f := 73) M dX4_undo_32 rfl l_X4_243 T.1 rfl rfl ?_
      rw [show xI (pI (pI h 32 m 0) 73 m (nI k)) 73 m = nI k from by rw [xI_pI, if_pos ⟨rfl, rfl⟩]]
      refine g_imul (q := 36) M dX4_undo_35 rfl ?_
      rw [show (213 : Int32) * nI k = nI (213 * k) from by rw [show (213 : Int32) = nI 213 from rfl, pk_mul]]
      refine g_aload_n (q := 37) M dX4_undo_36 rfl rfl ?_
      refine g_tw (q := 40) (f := 33) M dX4_undo_37 rfl l_X4_13 T rfl rfl T.a33 ?_
      refine g_iconst (q := 41) (v := 0) M dX4_undo_40 rfl (by decide) ?_
      refine g_sipush (q := 44) (v := 213) M dX4_undo_41 rfl (by decide) ?_
      refine g_callS (q := 47) M rfl dX4_undo_44 rfl w_X4_232 (c_X4_copies (sp := 213 * k) (dp := 0) (n := 213) T.a74.2.1 T.a33.2.1 T.a74.2.2 T.a33.2.2 (by omega) (by decide) (fun z => by omega) (by decide) (by decide)) rfl rfl (Nat.le_of_ble_eq_true rfl) (by decide) (by omega) (by omega) (r_V ?_)
      rintro h_44 rfl m_44
      refine g_iconst (q := 48) (v := 1) M dX4_undo_47 rfl (by decide) ?_
      refine g_zreturn M Ee dX4_undo_48 (by decide) ?_
      refine ⟨_, rfl, fun z => absurd z (Nat.succ_ne_zero _), fun j hj => ?_⟩
      cases hj
      exact ⟨rfl, rfl⟩
  · have he : n = 0 := (nI_eq (by omega) (by decide)).mp (show nI n = nI 0 from c_9)
    refine g_iconst (q := 13) (v := 0) M dX4_undo_12 rfl (by decide) ?_
    refine g_zreturn M Ee dX4_undo_13 (by decide) ?_
    exact ⟨_, rfl, fun _ => ⟨rfl, rfl⟩, fun k hk => by omega⟩
theorem nI_01 {x : Int32} (h : 0 ≤ x ∧ x ≤ 1) : ∃ k, k < 2 ∧ x = nI k := nI_m1 (n := 2) (by decide) h.1 h.2
theorem c_X4_saveSnapshot {Z : xZ} {h : xH} {m : Nat} {s : Int32} (T : TW h m) : CT Z yX4_saveSnapshot cX4_saveSnapshot 2 (some .boolean) 1 0 0 [vr m, vi s] h (rI fun r h' => (¬ (0 ≤ s ∧ s ≤ 1) → r = 0 ∧ h' = pI h 32 m 0) ∧ (∀ k, k < 2 → s = nI k → r = 1 ∧ h' = sI (wI (pI h 32 m 0) (m + 27) (cpy (tA h m 1) (tA h m 27) 0 (213 * k) 213)) (m + 28) k 1)) := by
  refine CT.of (E := [some (vr m), some (vi s)]) (by decide +kernel) rfl rfl (Nat.le_of_ble_eq_true rfl) (fun X M Ee => ?_)
  have M : MX Z X cX4_saveSnapshot "BalloonMailModel" 2 1 (some .boolean) "saveSnapshot" := M
  refine g_aload_n (q := 1) M dX4_saveSnapshot_0 rfl rfl ?_
  refine g_iconst (q := 2) (v := 0) M dX4_saveSnapshot_1 rfl (by decide) ?_
  refine g_putI (q := 5) (f := 32) M dX4_saveSnapshot_2 rfl l_X4_1 T.1 (by decide +kernel) rfl ⟨rfl, rfl⟩ ?_
  refine g_iload_n (q := 6) M dX4_saveSnapshot_5 rfl rfl ?_
  refine g_iconst (q := 7) (v := 0) M dX4_saveSnapshot_6 rfl (by decide) ?_
  refine g_iconst (q := 8) (v := 1) M dX4_saveSnapshot_7 rfl (by decide) ?_
  refine g_callS (q := 11) M rfl dX4_saveSnapshot_8 rfl w_X4_139 c_X4_within rfl rfl (Nat.le_of_ble_eq_true rfl) (by decide) (by omega) (by omega) (r_I ?_)
  rintro x h_8 ⟨rfl, rfl⟩ m_8
  refine g_if_ne (q := 14) (tgt := 16) M dX4_saveSnapshot_11 (by decide) rfl (fun c_11 => ?_) (fun c_11 => ?_)
  · have c0 := bI_n.mp c_11
    obtain ⟨k, hk, rfl⟩ := nI_01 c0
    refine g_aload_n (q := 17) M dX4_saveSnapshot_16 rfl rfl ?_
    refine g_tw (q := 20) (f := 33) M dX4_saveSnapshot_17 rfl l_X4_13 T rfl rfl T.a33 ?_
    refine g_iconst (q := 21) (v := 0) M dX4_saveSnapshot_20 rfl (by decide) ?_
    refine g_aload_n (q := 22) M dX4_saveSnapshot_21 rfl rfl ?_
    refine g_tw (q := 25) (f := 75) M dX4_saveSnapshot_22 rfl l_X4_97 T rfl rfl T.a75 ?_
    refine g_sipush (q := 28) (v := 213) M dX4_saveSnapshot_25 rfl (by decide) ?_
    refine g_iload_n (q := 29) M dX4_saveSnapshot_28 rfl rfl ?_
    refine g_imul (q := 30) M dX4_saveSnapshot_29 rfl ?_
    rw [show (213 : Int32) * nI k = nI (213 * k) from by rw [show (213 : Int32) = nI 213 from rfl, pk_mul]]
    refine g_sipush (q := 33) (v := 213) M dX4_saveSnapshot_30 rfl (by decide) ?_
    refine g_callS (q := 36) M rfl dX4_saveSnapshot_33 rfl w_X4_232 (c_X4_copies (sp := 0) (dp := 213 * k) (n := 213) T.a33.2.1 T.a75.2.1 T.a33.2.2 T.a75.2.2 (by decide) (by omega) (fun z => by omega) (by decide) (by decide)) rfl rfl (Nat.le_of_ble_eq_true rfl) (by decide) (by omega) (by omega) (r_V ?_)
    rintro h_33 rfl m_33
    refine g_aload_n (q := 37) M dX4_saveSnapshot_36 rfl rfl ?_
    refine g_tw (q := 40) (f := 76) M dX4_saveSnapshot_37 rfl l_X4_100 T rfl rfl T.a76 ?_
    refine g_iload_n (q := 41) M dX4_saveSnapshot_40 rfl rfl ?_
    refine g_iconst (q := 42) (v := 1) M dX4_saveSnapshot_41 rfl (by decide) ?_
    refine g_zastN (q := 43) (n := 2) M dX4_saveSnapshot_42 rfl T.a76.2.1 T.a76.2.2 rfl (by omega) (by decide) ?_
    refine g_iconst (q := 44) (v := 1) M dX4_saveSnapshot_43 rfl (by decide) ?_
    refine g_zreturn M Ee dX4_saveSnapshot_44 (by decide) ?_
    refine ⟨_, rfl, fun z => absurd c0 z, fun j hj e => ?_⟩
    have := (nI_eq (by omega) (by omega)).mp e
    subst this
    exact ⟨rfl, rfl⟩
  · refine g_iconst (q := 15) (v := 0) M dX4_saveSnapshot_14 rfl (by decide) ?_
    refine g_zreturn M Ee dX4_saveSnapshot_15 (by decide) ?_
    refine ⟨_, rfl, fun _ => ⟨rfl, rfl⟩, fun k hk e => absurd ?_ (bI_d.mp c_11)⟩
    subst e
    exact ⟨nI_pos' (by omega), nI_le (b := 1) (by omega) (by decide)⟩
theorem c_X4_restoreSnapshot {Z : xZ} {h : xH} {m : Nat} {s : Int32} (T : TW h m) : CT Z yX4_restoreSnapshot cX4_restoreSnapshot 2 (some .boolean) 1 0 0 [vr m, vi s] h (rI fun r h' => (¬ ((0 ≤ s ∧ s ≤ 1) ∧ ∀ k, k < 2 → s = nI k → tA h m 28 k ≠ 0) → r = 0 ∧ h' = pI h 32 m 0) ∧ (∀ k, k < 2 → s = nI k → tA h m 28 k ≠ 0 → r = 1 ∧ h' = pI (wI (pI h 32 m 0) (m + 1) (cpy (tA h m 27) (tA h m 1) (213 * k) 0 213)) 73 m 0)) := by
  refine CT.of (E := [some (vr m), some (vi s)]) (by decide +kernel) rfl rfl (Nat.le_of_ble_eq_true rfl) (fun X M Ee => ?_)
  have M : MX Z X cX4_restoreSnapshot "BalloonMailModel" 2 1 (some .boolean) "restoreSnapshot" := M
  refine g_aload_n (q := 1) M dX4_restoreSnapshot_0 rfl rfl ?_
  refine g_iconst (q := 2) (v := 0) M dX4_restoreSnapshot_1 rfl (by decide) ?_
  refine g_putI (q := 5) (f := 32) M dX4_restoreSnapshot_2 rfl l_X4_1 T.1 (by decide +kernel) rfl ⟨rfl, rfl⟩ ?_
  refine g_iload_n (q := 6) M dX4_restoreSnapshot_5 rfl rfl ?_
  refine g_iconst (q := 7) (v := 0) M dX4_restoreSnapshot_6 rfl (by decide) ?_
  refine g_iconst (q := 8) (v := 1) M dX4_restoreSnapshot_7 rfl (by decide) ?_
  refine g_callS (q := 11) M rfl dX4_restoreSnapshot_8 rfl w_X4_139 c_X4_within rfl rfl (Nat.le_of_ble_eq_true rfl) (by decide) (by omega) (by omega) (r_I ?_)
  rintro x h_8 ⟨rfl, rfl⟩ m_8
  refine g_if_eq (q := 14) (tgt := 23) M dX4_restoreSnapshot_11 (by decide) rfl (fun c_11 => ?_) (fun c_11 => ?_)
  · refine g_iconst (q := 24) (v := 0) M dX4_restoreSnapshot_23 rfl (by decide) ?_
    refine g_zreturn M Ee dX4_restoreSnapshot_24 (by decide) ?_
    refine ⟨_, rfl, fun _ => ⟨rfl, rfl⟩, fun k hk e => absurd ?_ (bI_d.mp c_11)⟩
    subst e
    exact ⟨nI_pos' (by omega), nI_le (b := 1) (by omega) (by decide)⟩
  · have c0 := bI_n.mp c_11
    obtain ⟨k, hk, rfl⟩ := nI_01 c0
    refine g_aload_n (q := 15) M dX4_restoreSnapshot_14 rfl rfl ?_
    refine g_tw (q := 18) (f := 76) M dX4_restoreSnapshot_15 rfl l_X4_100 T rfl rfl T.a76 ?_
    refine g_iload_n (q := 19) M dX4_restoreSnapshot_18 rfl rfl ?_
    refine g_zaldN (q := 20) (n := 2) M dX4_restoreSnapshot_19 rfl T.a76.2.1 rfl T.a76.2.2 rfl (by omega) (by decide) ?_
    refine g_if_ne (q := 23) (tgt := 25) M dX4_restoreSnapshot_20 (by decide) rfl (fun c_20 => ?_) (fun c_20 => ?_)
    · refine g_aload_n (q := 26) M dX4_restoreSnapshot_25 rfl rfl ?_
      refine g_tw (q := 29) (f := 75) M dX4_restoreSnapshot_26 rfl l_X4_97 T rfl rfl T.a75 ?_
      refine g_sipush (q := 32) (v := 213) M dX4_restoreSnapshot_29 rfl (by decide) ?_
      refine g_iload_n (q := 33) M dX4_restoreSnapshot_32 rfl rfl ?_
      refine g_imul (q := 34) M dX4_restoreSnapshot_33 rfl ?_
      rw [show (213 : Int32) * nI k = nI (213 * k) from by rw [show (213 : Int32) = nI 213 from rfl, pk_mul]]
      refine g_aload_n (q := 35) M dX4_restoreSnapshot_34 rfl rfl ?_
      refine g_tw (q := 38) (f := 33) M dX4_restoreSnapshot_35 rfl l_X4_13 T rfl rfl T.a33 ?_
      refine g_iconst (q := 39) (v := 0) M dX4_restoreSnapshot_38 rfl (by decide) ?_
      refine g_sipush (q := 42) (v := 213) M dX4_restoreSnapshot_39 rfl (by decide) ?_
      refine g_callS (q := 45) M rfl dX4_restoreSnapshot_42 rfl w_X4_232 (c_X4_copies (sp := 213 * k) (dp := 0) (n := 213) T.a75.2.1 T.a33.2.1 T.a75.2.2 T.a33.2.2 (by omega) (by decide) (fun z => by omega) (by decide) (by decide)) rfl rfl (Nat.le_of_ble_eq_true rfl) (by decide) (by omega) (by omega) (r_V ?_)
      rintro h_42 rfl m_42
      refine g_aload_n (q := 46) M dX4_restoreSnapshot_45 rfl rfl ?_
      refine g_iconst (q := 47) (v := 0) M dX4_restoreSnapshot_46 rfl (by decide) ?_
      refine g_putI (q := 50) (f := 73) M dX4_restoreSnapshot_47 rfl l_X4_243 T.1 (by decide +kernel) rfl ⟨rfl, rfl⟩ ?_
      refine g_iconst (q := 51) (v := 1) M dX4_restoreSnapshot_50 rfl (by decide) ?_
      refine g_zreturn M Ee dX4_restoreSnapshot_51 (by decide) ?_
      have same : ∀ j, j < 2 → nI k = nI j → j = k := fun j hj e => ((nI_eq (by omega) (by omega)).mp e).symm
      refine ⟨_, rfl, fun z => absurd ⟨c0, fun j hj e => by rw [same j hj e]; exact c_20⟩ z, fun j hj e _ => ?_⟩
      rw [same j hj e]
      exact ⟨rfl, rfl⟩
    · refine g_iconst (q := 24) (v := 0) M dX4_restoreSnapshot_23 rfl (by decide) ?_
      refine g_zreturn M Ee dX4_restoreSnapshot_24 (by decide) ?_
      refine ⟨_, rfl, fun _ => ⟨rfl, rfl⟩, fun j hj e hne => ?_⟩
      have := (nI_eq (by omega) (by omega)).mp e
      subst this
      exact absurd c_20 hne
