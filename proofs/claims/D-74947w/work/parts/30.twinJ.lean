/-! THE TWIN: days, launches -/
set_option maxRecDepth 100000
theorem spNote_lo (R : Nat → Int32) (n : Nat) (k i : Int32) {j : Nat} (hj : j < 164) : spNote R n k i j = R j := by
  unfold spNote
  rw [u1_n _ _ (by omega), u1_n _ _ (by omega), u1_n _ _ (by omega), u1_n _ _ (by omega)]
theorem spDrop_lo (R : Nat → Int32) {j : Nat} (hj : j < 164) : spDrop R j = R j := by
  unfold spDrop cpy
  rw [if_neg (by omega), if_neg (by omega), if_neg (by omega), u1_n _ _ (by omega)]
theorem spNotes_lo (R : Nat → Int32) (n : Nat) (k i : Int32) {j : Nat} (hj : j < 164) : spNotes R n k i j = R j := by
  unfold spNotes
  split
  · rw [spNote_lo _ _ _ _ hj, spDrop_lo _ hj]
  · exact spNote_lo _ _ _ _ hj
theorem spNotes_n (R : Nat → Int32) (n : Nat) (k i : Int32) (hn : n ≤ 16) : ∃ n', n' ≤ 16 ∧ spNotes R n k i 164 = nI n' := by
  unfold spNotes
  split
  · exact ⟨16, by omega, by unfold spNote; rw [u1_s]⟩
  · exact ⟨n + 1, by omega, by unfold spNote; rw [u1_s]⟩
theorem spAnswers_out (R : Nat → Int32) (c : Int32) (n : Nat) {j : Nat} (hn : n ≤ 24) (hj : j < 35 ∨ 83 ≤ j) : spAnswers R c n j = R j := by
  unfold spAnswers
  rw [if_neg (by omega), if_neg (by omega)]
/-- one that flies: it stays, or it is back -/
def spBack (Q : Nat → Int32) (k nL : Nat) : Nat → Int32 := spAnswers (spNotes (u1 Q 3 (Q 3 + 1)) (Q 164).toNatClampNeg 4 (Q (84 + k))) (Q (25 + (Q (84 + k)).toNatClampNeg)) nL
def spStay (Q : Nat → Int32) (k s : Nat) : Nat → Int32 := u1 (u1 Q (84 + s) (Q (84 + k))) (124 + s) (Q (124 + k))
def spCome (R : Nat → Int32) (nL : Nat) : Nat → (Nat → Int32) × Nat
  | 0 => (R, 0)
  | k + 1 => if (spCome R nL k).1 0 < (spCome R nL k).1 (124 + k) then (spStay (spCome R nL k).1 k (spCome R nL k).2, (spCome R nL k).2 + 1) else (spBack (spCome R nL k).1 k nL, (spCome R nL k).2)
def spFill (Q : Nat → Int32) (s n : Nat) : Nat → Int32 := fun j => if (84 + s ≤ j ∧ j < 84 + n) ∨ (124 + s ≤ j ∧ j < 124 + n) then 0 else Q j
def spComeBack (R : Nat → Int32) (nL n : Nat) : Nat → Int32 := u1 (spFill (spCome R nL n).1 (spCome R nL n).2 n) 83 (nI (spCome R nL n).2)
theorem spFill_1 (Q : Nat → Int32) (s k : Nat) (hs : s ≤ k) (hk : k < 40) : u1 (u1 (spFill Q s k) (84 + k) 0) (124 + k) 0 = spFill Q s (k + 1) := by
  funext j
  unfold u1 spFill
  by_cases e1 : j = 124 + k
  · rw [if_pos e1, if_pos (by omega)]
  · rw [if_neg e1]
    by_cases e2 : j = 84 + k
    · rw [if_pos e2, if_pos (by omega)]
    · rw [if_neg e2]
      by_cases e3 : (84 + s ≤ j ∧ j < 84 + k) ∨ (124 + s ≤ j ∧ j < 124 + k)
      · rw [if_pos e3, if_pos (by omega)]
      · rw [if_neg e3, if_neg (by omega)]
theorem spCome_inv (R : Nat → Int32) (nL n : Nat) (hL : nL ≤ 24) (hE : ∃ e, e ≤ 16 ∧ R 164 = nI e) : ∀ k, k ≤ 40 → (spCome R nL k).2 ≤ k ∧ (∀ j, k ≤ j → j < 40 → (spCome R nL k).1 (84 + j) = R (84 + j) ∧ (spCome R nL k).1 (124 + j) = R (124 + j)) ∧ (∃ e, e ≤ 16 ∧ (spCome R nL k).1 164 = nI e) ∧ ((spCome R nL k).1 0 = R 0 ∧ (spCome R nL k).1 1 = R 1 ∧ (spCome R nL k).1 2 = R 2 ∧ (spCome R nL k).1 4 = R 4) ∧ (∀ j, 5 ≤ j → j < 35 → (spCome R nL k).1 j = R j) ∧ (spCome R nL k).1 83 = R 83 := by
  intro k
  induction k with
  | zero => intro _; exact ⟨Nat.le_refl _, fun j _ _ => ⟨rfl, rfl⟩, hE, ⟨rfl, rfl, rfl, rfl⟩, fun _ _ _ => rfl, rfl⟩
  | succ k ih =>
    intro hk
    obtain ⟨a1, a2, ⟨e, he, a3⟩, a4, a5, a6⟩ := ih (by omega)
    have hst : ∀ j, j ≠ 84 + (spCome R nL k).2 → j ≠ 124 + (spCome R nL k).2 → spStay (spCome R nL k).1 k (spCome R nL k).2 j = (spCome R nL k).1 j := fun j h1 h2 => by
      unfold spStay
      rw [u1_n _ _ h2, u1_n _ _ h1]
    have hbk : ∀ j, j ≠ 3 → (j < 35 ∨ 83 ≤ j ∧ j < 164) → spBack (spCome R nL k).1 k nL j = (spCome R nL k).1 j := fun j h1 h2 => by
      unfold spBack
      rw [spAnswers_out _ _ _ hL (by omega), spNotes_lo _ _ _ _ (by omega), u1_n _ _ h1]
    have hbe : ∃ e, e ≤ 16 ∧ spBack (spCome R nL k).1 k nL 164 = nI e := by
      unfold spBack
      rw [spAnswers_out _ _ _ hL (by omega), a3, nI_clamp (by omega)]
      exact spNotes_n _ _ _ _ he
    have hs : spCome R nL (k + 1) = if (spCome R nL k).1 0 < (spCome R nL k).1 (124 + k) then (spStay (spCome R nL k).1 k (spCome R nL k).2, (spCome R nL k).2 + 1) else (spBack (spCome R nL k).1 k nL, (spCome R nL k).2) := rfl
    by_cases c : (spCome R nL k).1 0 < (spCome R nL k).1 (124 + k)
    · rw [if_pos c] at hs
      rw [hs]
      refine ⟨Nat.succ_le_succ a1, fun j h1 h2 => ⟨?_, ?_⟩, ⟨e, he, ?_⟩, ⟨?_, ?_, ?_, ?_⟩, fun j h1 h2 => ?_, ?_⟩
      · exact (hst _ (by omega) (by omega)).trans (a2 j (by omega) h2).1
      · exact (hst _ (by omega) (by omega)).trans (a2 j (by omega) h2).2
      · exact (hst _ (by omega) (by omega)).trans a3
      · exact (hst _ (by omega) (by omega)).trans a4.1
      · exact (hst _ (by omega) (by omega)).trans a4.2.1
      · exact (hst _ (by omega) (by omega)).trans a4.2.2.1
      · exact (hst _ (by omega) (by omega)).trans a4.2.2.2
      · exact (hst _ (by omega) (by omega)).trans (a5 j h1 h2)
      · exact (hst _ (by omega) (by omega)).trans a6
    · rw [if_neg c] at hs
      rw [hs]
      refine ⟨Nat.le_succ_of_le a1, fun j h1 h2 => ⟨?_, ?_⟩, hbe, ⟨?_, ?_, ?_, ?_⟩, fun j h1 h2 => ?_, ?_⟩
      · exact (hbk _ (by omega) (by omega)).trans (a2 j (by omega) h2).1
      · exact (hbk _ (by omega) (by omega)).trans (a2 j (by omega) h2).2
      · exact (hbk _ (by omega) (by omega)).trans a4.1
      · exact (hbk _ (by omega) (by omega)).trans a4.2.1
      · exact (hbk _ (by omega) (by omega)).trans a4.2.2.1
      · exact (hbk _ (by omega) (by omega)).trans a4.2.2.2
      · exact (hbk _ (by omega) (by omega)).trans (a5 j h1 h2)
      · exact (hbk _ (by omega) (by omega)).trans a6
theorem c_X4_comeBack {Z : xZ} {h : xH} {m nF : Nat} {nR nW nT nB nL : Nat} (T : TW h m) (S : SgN (tA h m) nR nW nT nB nL) (hF : tA h m 1 83 = nI nF) (hF4 : nF ≤ 40) (hfl : ∀ k, k < nF → ∃ b, b < 10 ∧ tA h m 1 (84 + k) = nI b) (hE : ∃ e, e ≤ 16 ∧ tA h m 1 164 = nI e) : CT Z yX4_comeBack cX4_comeBack 5 none 2 0 0 [vr m] h (rV fun h' => h' = wI h (m + 1) (spComeBack (tA h m 1) nL nF)) := by
  have hl := S.2.2.2.2.2
  have inv := spCome_inv (tA h m 1) nL nF hl hE
  refine CT.of (E := [some (vr m), none, none, none, none]) (by decide +kernel) rfl rfl (Nat.le_of_ble_eq_true rfl) (fun X M Ee => ?_)
  have M : MX Z X cX4_comeBack "BalloonMailModel" 5 2 none "comeBack" := M
  refine g_aload_n (q := 1) M dX4_comeBack_0 rfl rfl ?_
  refine g_tw (q := 4) (f := 33) M dX4_comeBack_1 rfl l_X4_13 T rfl rfl T.a33 ?_
  refine g_bipush (q := 6) (v := 83) M dX4_comeBack_4 rfl (by decide) ?_
  refine g_ialdN (q := 7) (n := 213) (k := 83) M dX4_comeBack_6 rfl T.a33.2.1 rfl T.a33.2.2 rfl (by decide) (by decide) ?_
  rw [show yI h (m + 1) 83 = nI nF from hF]
  refine g_istore_n (q := 8) (j := 1) M dX4_comeBack_7 rfl rfl (Nat.le_of_ble_eq_true rfl) rfl ?_
  dsimp only [st1, st2, kl, List.set_cons_zero, List.set_cons_succ, List.set_nil]
  refine g_iconst (q := 9) (v := 0) M dX4_comeBack_8 rfl (by decide) ?_
  refine g_istore_n (q := 10) (j := 2) M dX4_comeBack_9 rfl rfl (Nat.le_of_ble_eq_true rfl) rfl ?_
  dsimp only [st1, st2, kl, List.set_cons_zero, List.set_cons_succ, List.set_nil]
  refine g_iconst (q := 11) (v := 0) M dX4_comeBack_10 rfl (by decide) ?_
  refine g_istore_n (q := 12) (j := 3) M dX4_comeBack_11 rfl rfl (Nat.le_of_ble_eq_true rfl) rfl ?_
  dsimp only [st1, st2, kl, List.set_cons_zero, List.set_cons_succ, List.set_nil]
  -- the rest of the row is laid with zeros
  have F2 : ∀ k, k ≤ nF → (spCome (tA h m 1) nL nF).2 ≤ k → ∀ e4, G Z X 0 0 112 [some (vr m), some (vi (nI nF)), some (vi (nI (spCome (tA h m 1) nL nF).2)), some (vi (nI k)), e4] [] (wI h (m + 1) (spFill (spCome (tA h m 1) nL nF).1 (spCome (tA h m 1) nL nF).2 k)) := by
    have i1 := (inv nF hF4).1
    refine upLoop nF ?_ ?_
    · intro hs e4
      refine g_iload_n (q := 113) M dX4_comeBack_112 rfl rfl ?_
      refine g_iload_n (q := 114) M dX4_comeBack_113 rfl rfl ?_
      refine g_icmp_ge (q := 117) (tgt := 143) M dX4_comeBack_114 (by decide) rfl (fun c_114 => ?_) (fun c_114 => ?_)
      · refine g_aload_n (q := 144) M dX4_comeBack_143 rfl rfl ?_
        refine g_tw (q := 147) (f := 33) M dX4_comeBack_144 rfl l_X4_13 T rfl rfl T.a33 ?_
        refine g_bipush (q := 149) (v := 83) M dX4_comeBack_147 rfl (by decide) ?_
        refine g_iload_n (q := 150) M dX4_comeBack_149 rfl rfl ?_
        refine g_iastN (q := 151) (n := 213) (k := 83) M dX4_comeBack_150 rfl T.a33.2.1 T.a33.2.2 rfl (by decide) (by decide) ?_
        rw [sI_wI]
        refine g_return M Ee dX4_comeBack_151 ?_
        exact ⟨rfl, rfl⟩
      · exact absurd (Int32.le_refl _) c_114
    · intro k hk ih hs e4
      refine g_iload_n (q := 113) M dX4_comeBack_112 rfl rfl ?_
      refine g_iload_n (q := 114) M dX4_comeBack_113 rfl rfl ?_
      refine g_icmp_ge (q := 117) (tgt := 143) M dX4_comeBack_114 (by decide) rfl (fun c_114 => ?_) (fun c_114 => ?_)
      · exact absurd ((nI_leI (by omega) (by omega)).mp c_114) (by omega)
      · refine g_aload_n (q := 118) M dX4_comeBack_117 rfl rfl ?_
        refine g_tw (q := 121) (f := 33) M dX4_comeBack_118 rfl l_X4_13 T rfl rfl T.a33 ?_
        refine g_bipush (q := 123) (v := 84) M dX4_comeBack_121 rfl (by decide) ?_
        refine g_iload_n (q := 124) M dX4_comeBack_123 rfl rfl ?_
        refine g_iadd (q := 125) M dX4_comeBack_124 rfl ?_
        refine g_iconst (q := 126) (v := 0) M dX4_comeBack_125 rfl (by decide) ?_
        refine g_iastN (q := 127) (n := 213) M dX4_comeBack_126 rfl T.a33.2.1 T.a33.2.2 (ixk 84 rfl k) (by omega) (by decide) ?_
        refine g_aload_n (q := 128) M dX4_comeBack_127 rfl rfl ?_
        refine g_tw (q := 131) (f := 33) M dX4_comeBack_128 rfl l_X4_13 T rfl rfl T.a33 ?_
        refine g_bipush (q := 133) (v := 124) M dX4_comeBack_131 rfl (by decide) ?_
        refine g_iload_n (q := 134) M dX4_comeBack_133 rfl rfl ?_
        refine g_iadd (q := 135) M dX4_comeBack_134 rfl ?_
        refine g_iconst (q := 136) (v := 0) M dX4_comeBack_135 rfl (by decide) ?_
        refine g_iastN (q := 137) (n := 213) M dX4_comeBack_136 rfl T.a33.2.1 T.a33.2.2 (ixk 124 rfl k) (by omega) (by decide) ?_
        rw [sI_wI, sI_wI, spFill_1 _ _ _ hs (by omega)]
        refine g_iinc (q := 140) (w := 1) M dX4_comeBack_137 rfl (Nat.le_of_ble_eq_true rfl) rfl (by decide) rfl ?_
        dsimp only [st1, st2, kl, List.set_cons_zero, List.set_cons_succ, List.set_nil]
        try rw [nI_1]
        refine g_goto (tgt := 112) M dX4_comeBack_140 (by decide) ?_
        exact ih (by omega) _
  have L : ∀ k, k ≤ nF → ∀ e4, G Z X 0 0 12 [some (vr m), some (vi (nI nF)), some (vi (nI (spCome (tA h m 1) nL k).2)), some (vi (nI k)), e4] [] (wI h (m + 1) (spCome (tA h m 1) nL k).1) := by
    refine upLoop nF ?_ ?_
    · intro e4
      refine g_iload_n (q := 13) M dX4_comeBack_12 rfl rfl ?_
      refine g_iload_n (q := 14) M dX4_comeBack_13 rfl rfl ?_
      refine g_icmp_ge (q := 17) (tgt := 110) M dX4_comeBack_14 (by decide) rfl (fun c_14 => ?_) (fun c_14 => ?_)
      · refine g_iload_n (q := 111) M dX4_comeBack_110 rfl rfl ?_
        refine g_istore_n (q := 112) (j := 3) M dX4_comeBack_111 rfl rfl (Nat.le_of_ble_eq_true rfl) rfl ?_
        dsimp only [st1, st2, kl, List.set_cons_zero, List.set_cons_succ, List.set_nil]
        have := F2 (spCome (tA h m 1) nL nF).2 (inv nF hF4).1 (Nat.le_refl _) e4
        rw [show spFill (spCome (tA h m 1) nL nF).1 (spCome (tA h m 1) nL nF).2 (spCome (tA h m 1) nL nF).2 = (spCome (tA h m 1) nL nF).1 from by funext j; unfold spFill; rw [if_neg (by omega)]] at this
        exact this
      · exact absurd (Int32.le_refl _) c_14
    · intro k hk ih e4
      obtain ⟨i1, i2, ⟨e, he, i3⟩, i4, i5, i6⟩ := inv k (by omega)
      obtain ⟨b, hb, hfb⟩ := hfl k hk
      have hQ := (i2 k (Nat.le_refl _) (by omega)).1.trans hfb
      have hs : spCome (tA h m 1) nL (k + 1) = if (spCome (tA h m 1) nL k).1 0 < (spCome (tA h m 1) nL k).1 (124 + k) then (spStay (spCome (tA h m 1) nL k).1 k (spCome (tA h m 1) nL k).2, (spCome (tA h m 1) nL k).2 + 1) else (spBack (spCome (tA h m 1) nL k).1 k nL, (spCome (tA h m 1) nL k).2) := rfl
      generalize hq : (spCome (tA h m 1) nL k).1 = Q at *
      generalize (spCome (tA h m 1) nL k).2 = s at *
      refine g_iload_n (q := 13) M dX4_comeBack_12 rfl rfl ?_
      refine g_iload_n (q := 14) M dX4_comeBack_13 rfl rfl ?_
      refine g_icmp_ge (q := 17) (tgt := 110) M dX4_comeBack_14 (by decide) rfl (fun c_14 => ?_) (fun c_14 => ?_)
      · exact absurd ((nI_leI (by omega) (by omega)).mp c_14) (by omega)
      · refine g_aload_n (q := 18) M dX4_comeBack_17 rfl rfl ?_
        refine g_tw (q := 21) (f := 33) M dX4_comeBack_18 rfl l_X4_13 T rfl rfl T.a33 ?_
        refine g_bipush (q := 23) (v := 84) M dX4_comeBack_21 rfl (by decide) ?_
        refine g_iload_n (q := 24) M dX4_comeBack_23 rfl rfl ?_
        refine g_iadd (q := 25) M dX4_comeBack_24 rfl ?_
        refine g_ialdN (q := 26) (n := 213) M dX4_comeBack_25 rfl T.a33.2.1 rfl T.a33.2.2 (ixk 84 rfl k) (by omega) (by decide) ?_
        rw [yI_wI_s, hQ]
        refine g_istore (q := 28) (j := 4) M dX4_comeBack_26 rfl rfl (Nat.le_of_ble_eq_true rfl) rfl ?_
        dsimp only [st1, st2, kl, List.set_cons_zero, List.set_cons_succ, List.set_nil]
        refine g_aload_n (q := 29) M dX4_comeBack_28 rfl rfl ?_
        refine g_tw (q := 32) (f := 33) M dX4_comeBack_29 rfl l_X4_13 T rfl rfl T.a33 ?_
        refine g_bipush (q := 34) (v := 124) M dX4_comeBack_32 rfl (by decide) ?_
        refine g_iload_n (q := 35) M dX4_comeBack_34 rfl rfl ?_
        refine g_iadd (q := 36) M dX4_comeBack_35 rfl ?_
        refine g_ialdN (q := 37) (n := 213) M dX4_comeBack_36 rfl T.a33.2.1 rfl T.a33.2.2 (ixk 124 rfl k) (by omega) (by decide) ?_
        refine g_aload_n (q := 38) M dX4_comeBack_37 rfl rfl ?_
        refine g_tw (q := 41) (f := 33) M dX4_comeBack_38 rfl l_X4_13 T rfl rfl T.a33 ?_
        refine g_iconst (q := 42) (v := 0) M dX4_comeBack_41 rfl (by decide) ?_
        refine g_ialdN (q := 43) (n := 213) (k := 0) M dX4_comeBack_42 rfl T.a33.2.1 rfl T.a33.2.2 rfl (by decide) (by decide) ?_
        rw [yI_wI_s]
        refine g_icmp_le (q := 46) (tgt := 81) M dX4_comeBack_43 (by decide) rfl (fun c_43 => ?_) (fun c_43 => ?_)
        · rw [if_neg (Int32.not_lt.mpr c_43)] at hs
          rw [hs] at ih
          refine g_aload_n (q := 82) M dX4_comeBack_81 rfl rfl ?_
          refine g_tw (q := 85) (f := 33) M dX4_comeBack_82 rfl l_X4_13 T rfl rfl T.a33 ?_
          refine g_iconst (q := 86) (v := 3) M dX4_comeBack_85 rfl (by decide) ?_
          refine g_dup2 (q := 87) M dX4_comeBack_86 rfl rfl rfl ?_
          refine g_ialdN (q := 88) (n := 213) (k := 3) M dX4_comeBack_87 rfl T.a33.2.1 rfl T.a33.2.2 rfl (by decide) (by decide) ?_
          refine g_iconst (q := 89) (v := 1) M dX4_comeBack_88 rfl (by decide) ?_
          refine g_iadd (q := 90) M dX4_comeBack_89 rfl ?_
          refine g_iastN (q := 91) (n := 213) (k := 3) M dX4_comeBack_90 rfl T.a33.2.1 T.a33.2.2 rfl (by decide) (by decide) ?_
          refine g_aload_n (q := 92) M dX4_comeBack_91 rfl rfl ?_
          refine g_iconst (q := 93) (v := 4) M dX4_comeBack_92 rfl (by decide) ?_
          refine g_iload (q := 95) M dX4_comeBack_93 rfl rfl ?_
          rw [sI_wI, yI_wI_s]
          refine g_callV (q := 98) M rfl dX4_comeBack_95 rfl w_X4_329 (c_X4_notes (h := wI h (m + 1) (u1 Q 3 (Q 3 + 1))) (n := e) T (by rw [tA_w1, u1_n _ _ (by omega)]; exact i3) he) (isC.of T.1 rfl) rfl rfl (Nat.le_of_ble_eq_true rfl) (by decide) (by omega) (by omega) (r_V ?_)
          rintro h_95 rfl m_95
          rw [wI_wI, tA_w1]
          refine g_aload_n (q := 99) M dX4_comeBack_98 rfl rfl ?_
          refine g_iload (q := 101) M dX4_comeBack_99 rfl rfl ?_
          refine g_callV (q := 104) M rfl dX4_comeBack_101 rfl w_X4_332 (c_X4_answers (h := wI h (m + 1) (spNotes (u1 Q 3 (Q 3 + 1)) e 4 (nI b))) T S.w1 hb) (isC.of T.1 rfl) rfl rfl (Nat.le_of_ble_eq_true rfl) (by decide) (by omega) (by omega) (r_V ?_)
          rintro h_101 rfl m_101
          rw [wI_wI, tA_w1, show spAnswers (spNotes (u1 Q 3 (Q 3 + 1)) e 4 (nI b)) (spNotes (u1 Q 3 (Q 3 + 1)) e 4 (nI b) (25 + b)) nL = spBack Q k nL from by
            unfold spBack
            rw [i3, hQ, nI_clamp (by omega), nI_clamp (by omega), spNotes_lo _ _ _ _ (by omega), u1_n _ _ (by omega)]]
          refine g_iinc (q := 107) (w := 1) M dX4_comeBack_104 rfl (Nat.le_of_ble_eq_true rfl) rfl (by decide) rfl ?_
          dsimp only [st1, st2, kl, List.set_cons_zero, List.set_cons_succ, List.set_nil]
          try rw [nI_1]
          refine g_goto (tgt := 12) M dX4_comeBack_107 (by decide) ?_
          exact ih _
        · rw [if_pos (Int32.not_le.mp c_43)] at hs
          rw [hs] at ih
          refine g_aload_n (q := 47) M dX4_comeBack_46 rfl rfl ?_
          refine g_tw (q := 50) (f := 33) M dX4_comeBack_47 rfl l_X4_13 T rfl rfl T.a33 ?_
          refine g_bipush (q := 52) (v := 84) M dX4_comeBack_50 rfl (by decide) ?_
          refine g_iload_n (q := 53) M dX4_comeBack_52 rfl rfl ?_
          refine g_iadd (q := 54) M dX4_comeBack_53 rfl ?_
          refine g_iload (q := 56) M dX4_comeBack_54 rfl rfl ?_
          refine g_iastN (q := 57) (n := 213) M dX4_comeBack_56 rfl T.a33.2.1 T.a33.2.2 (ixk 84 rfl s) (by omega) (by decide) ?_
          refine g_aload_n (q := 58) M dX4_comeBack_57 rfl rfl ?_
          refine g_tw (q := 61) (f := 33) M dX4_comeBack_58 rfl l_X4_13 T rfl rfl T.a33 ?_
          refine g_bipush (q := 63) (v := 124) M dX4_comeBack_61 rfl (by decide) ?_
          refine g_iload_n (q := 64) M dX4_comeBack_63 rfl rfl ?_
          refine g_iadd (q := 65) M dX4_comeBack_64 rfl ?_
          refine g_aload_n (q := 66) M dX4_comeBack_65 rfl rfl ?_
          refine g_tw (q := 69) (f := 33) M dX4_comeBack_66 rfl l_X4_13 T rfl rfl T.a33 ?_
          refine g_bipush (q := 71) (v := 124) M dX4_comeBack_69 rfl (by decide) ?_
          refine g_iload_n (q := 72) M dX4_comeBack_71 rfl rfl ?_
          refine g_iadd (q := 73) M dX4_comeBack_72 rfl ?_
          refine g_ialdN (q := 74) (n := 213) M dX4_comeBack_73 rfl T.a33.2.1 rfl T.a33.2.2 (ixk 124 rfl k) (by omega) (by decide) ?_
          refine g_iastN (q := 75) (n := 213) M dX4_comeBack_74 rfl T.a33.2.1 T.a33.2.2 (ixk 124 rfl s) (by omega) (by decide) ?_
          rw [sI_wI, yI_wI_s, sI_wI, u1_n _ _ (by omega)]
          refine g_iinc (q := 78) (w := 1) M dX4_comeBack_75 rfl (Nat.le_of_ble_eq_true rfl) rfl (by decide) rfl ?_
          dsimp only [st1, st2, kl, List.set_cons_zero, List.set_cons_succ, List.set_nil]
          try rw [nI_1]
          refine g_goto (tgt := 104) M dX4_comeBack_78 (by decide) ?_
          refine g_iinc (q := 107) (w := 1) M dX4_comeBack_104 rfl (Nat.le_of_ble_eq_true rfl) rfl (by decide) rfl ?_
          dsimp only [st1, st2, kl, List.set_cons_zero, List.set_cons_succ, List.set_nil]
          try rw [nI_1]
          refine g_goto (tgt := 12) M dX4_comeBack_107 (by decide) ?_
          rw [← hQ]
          exact ih _
  have := L 0 (Nat.zero_le _) none
  rw [show (spCome (tA h m 1) nL 0).1 = yI h (m + 1) from rfl, wI_eta] at this
  exact this
/-- the heap behind 'keep' -/
def kH (h : xH) (m n : Nat) : xH := pI (wI (pI h 32 m 0) (m + 26) (spKeepU (tA h m 26) (tA h m 1) n)) 73 m (nI (spKeepN n))
theorem kH_tA (h : xH) (m n o : Nat) (ho : o ≠ 26) : tA (kH h m n) m o = tA h m o := by
  show yI (wI (pI h 32 m 0) (m + 26) _) (m + o) = yI h (m + o)
  rw [yI_wI_n _ _ (by omega)]
  rfl
theorem SgV.eq {A A' : Nat → Nat → Int32} {nR nW nT nB nL : Nat} (S : SgV A nR nW nT nB nL) (h : ∀ o, o ≠ 1 → o ≠ 26 → A' o = A o) : SgV A' nR nW nT nB nL := by
  unfold SgV SgN
  rw [h 2 (by decide) (by decide), h 6 (by decide) (by decide), h 10 (by decide) (by decide), h 14 (by decide) (by decide), h 17 (by decide) (by decide), h 11 (by decide) (by decide), h 12 (by decide) (by decide), h 7 (by decide) (by decide), h 8 (by decide) (by decide)]
  exact S
theorem kH_w (h : xH) (m n o : Nat) (Q : Nat → Int32) (h1 : o ≠ 1) (h2 : o ≠ 26) : tA (wI (kH h m n) (m + 1) Q) m o = tA h m o := by rw [tA_wn _ _ _ _ h1, kH_tA _ _ _ _ h2]
theorem kH_S {h : xH} {m n : Nat} {Q : Nat → Int32} {nR nW nT nB nL : Nat} (S : SgV (tA h m) nR nW nT nB nL) : SgV (tA (wI (kH h m n) (m + 1) Q) m) nR nW nT nB nL := S.eq (fun o h1 h2 => kH_w h m n o Q h1 h2)
theorem kH_eta (h : xH) (m n : Nat) : wI (kH h m n) (m + 1) (tA h m 1) = kH h m n := by
  rw [← kH_tA h m n 1 (by decide)]
  exact wI_eta _ _
/-- the wind that comes: places k .. of n turns -/
def spTP (A : Nat → Nat → Int32) (was : Int32) : Nat → Nat → Int32 → Int32 → Int32
  | 0, _, _, t => t
  | n + 1, k, g, t => if g < 0 then t else if A 11 k = was then spTP A was n (k + 1) (g - A 13 k) (if g < A 13 k then A 12 k else t) else spTP A was n (k + 1) g t
def spNextW (A : Nat → Nat → Int32) (nT : Nat) (Q : Nat → Int32) : Nat → Int32 := (let t := spTP A (Q 1) nT 0 (rngD (rngX (Q 2))) (Q 1); let Qb := u1 (u1 Q 2 (rngX (Q 2)).toInt32) 1 t; if t = Q 1 then Qb else spNotes Qb (Qb 164).toNatClampNeg 5 t)
def spNextQ (A : Nat → Nat → Int32) (nW nT : Nat) (R : Nat → Int32) : Nat → Int32 := if nW = 0 then u1 R 0 (R 0 + 1) else spNextW A nT (u1 R 0 (R 0 + 1))
def spNext (A : Nat → Nat → Int32) (nW nT nL nF : Nat) (R : Nat → Int32) : Nat → Int32 := spComeBack (spNextQ A nW nT R) nL nF
theorem c_X4_nextDay {Z : xZ} {h : xH} {m nF n : Nat} {nR nW nT nB nL : Nat} (T : TW h m) (S : SgV (tA h m) nR nW nT nB nL) (hU : xI h 73 m = nI n) (hn : n ≤ 12) (hF : tA h m 1 83 = nI nF) (hF4 : nF ≤ 40) (hfl : ∀ k, k < nF → ∃ b, b < 10 ∧ tA h m 1 (84 + k) = nI b) (hE : ∃ e, e ≤ 16 ∧ tA h m 1 164 = nI e) : CT Z yX4_nextDay cX4_nextDay 5 (some .int) 3 0 0 [vr m] h (rI fun r h' => h' = wI (kH h m n) (m + 1) (spNext (tA h m) nW nT nL nF (tA h m 1)) ∧ r = spNext (tA h m) nW nT nL nF (tA h m 1) 1) := by
  have hl := S.1.2.2.2.2.2
  have hNW : tA h m 6 0 = nI nW := S.1.2.1.1
  have h6 := S.1.2.1.2
  have hNT : tA h m 10 0 = nI nT := S.1.2.2.1.1
  have h30 := S.1.2.2.1.2
  obtain ⟨e, he, hE⟩ := hE
  refine CT.of (E := [some (vr m), none, none, none, none]) (by decide +kernel) rfl rfl (Nat.le_of_ble_eq_true rfl) (fun X M Ee => ?_)
  have M : MX Z X cX4_nextDay "BalloonMailModel" 5 3 (some .int) "nextDay" := M
  refine g_aload_n (q := 1) M dX4_nextDay_0 rfl rfl ?_
  refine g_iconst (q := 2) (v := 0) M dX4_nextDay_1 rfl (by decide) ?_
  refine g_putI (q := 5) (f := 32) M dX4_nextDay_2 rfl l_X4_1 T.1 (by decide +kernel) rfl ⟨rfl, rfl⟩ ?_
  refine g_aload_n (q := 6) M dX4_nextDay_5 rfl rfl ?_
  refine g_callV (q := 9) M rfl dX4_nextDay_6 rfl w_X4_320 (c_X4_keeps (n := n) (T32 T) hU hn) (isC.of T.1 rfl) rfl rfl (Nat.le_of_ble_eq_true rfl) (by decide) (by omega) (by omega) (r_V ?_)
  rintro h_6 rfl m_6
  rw [show pI (wI (pI h 32 m 0) (m + 26) (spKeepU (tA (pI h 32 m 0) m 26) (tA (pI h 32 m 0) m 1) n)) 73 m (nI (spKeepN n)) = wI (kH h m n) (m + 1) (tA h m 1) from (kH_eta h m n).symm]
  -- the end: the pigeons come back
  have J : ∀ e1 e2 e3 e4, G Z X 0 0 128 [some (vr m), e1, e2, e3, e4] [] (wI (kH h m n) (m + 1) (spNextQ (tA h m) nW nT (tA h m 1))) := by
    intro e1 e2 e3 e4
    have q83 : spNextQ (tA h m) nW nT (tA h m 1) 83 = tA h m 1 83 ∧ (∀ j, j < 80 → spNextQ (tA h m) nW nT (tA h m 1) (84 + j) = tA h m 1 (84 + j)) ∧ ∃ e, e ≤ 16 ∧ spNextQ (tA h m) nW nT (tA h m 1) 164 = nI e := by
      unfold spNextQ
      split
      · exact ⟨u1_n _ _ (by omega), fun j _ => u1_n _ _ (by omega), e, he, (u1_n _ _ (by omega)).trans hE⟩
      · unfold spNextW
        split
        · refine ⟨?_, fun j _ => ?_, e, he, ?_⟩ <;> rw [u1_n _ _ (by omega), u1_n _ _ (by omega), u1_n _ _ (by omega)]
          exact hE
        · refine ⟨?_, fun j _ => ?_, ?_⟩
          · rw [spNotes_lo _ _ _ _ (by omega), u1_n _ _ (by omega), u1_n _ _ (by omega), u1_n _ _ (by omega)]
          · rw [spNotes_lo _ _ _ _ (by omega), u1_n _ _ (by omega), u1_n _ _ (by omega), u1_n _ _ (by omega)]
          · refine spNotes_n _ _ _ _ ?_
            rw [u1_n _ _ (by omega), u1_n _ _ (by omega), u1_n _ _ (by omega), hE, nI_clamp (by omega)]
            exact he
    refine g_aload_n (q := 129) M dX4_nextDay_128 rfl rfl ?_
    refine g_callV (q := 132) M rfl dX4_nextDay_129 rfl w_X4_335 (c_X4_comeBack (h := wI (kH h m n) (m + 1) (spNextQ (tA h m) nW nT (tA h m 1))) (nF := nF) T (kH_S S).1 (by rw [tA_w1]; exact q83.1.trans hF) hF4 (fun k hk => by rw [tA_w1, q83.2.1 k (by omega)]; exact hfl k hk) (by rw [tA_w1]; exact q83.2.2)) (isC.of T.1 rfl) rfl rfl (Nat.le_of_ble_eq_true rfl) (by decide) (by omega) (by omega) (r_V ?_)
    rintro h_129 rfl m_129
    rw [wI_wI, tA_w1]
    refine g_aload_n (q := 133) M dX4_nextDay_132 rfl rfl ?_
    refine g_tw (q := 136) (f := 33) M dX4_nextDay_133 rfl l_X4_13 T rfl rfl T.a33 ?_
    refine g_iconst (q := 137) (v := 1) M dX4_nextDay_136 rfl (by decide) ?_
    refine g_ialdN (q := 138) (n := 213) (k := 1) M dX4_nextDay_137 rfl T.a33.2.1 rfl T.a33.2.2 rfl (by decide) (by decide) ?_
    rw [yI_wI_s]
    refine g_ireturn M Ee dX4_nextDay_138 ?_
    exact ⟨_, rfl, rfl, rfl⟩
  refine g_aload_n (q := 10) M dX4_nextDay_9 rfl rfl ?_
  refine g_tw (q := 13) (f := 33) M dX4_nextDay_10 rfl l_X4_13 T rfl rfl T.a33 ?_
  refine g_iconst (q := 14) (v := 1) M dX4_nextDay_13 rfl (by decide) ?_
  refine g_ialdN (q := 15) (n := 213) (k := 1) M dX4_nextDay_14 rfl T.a33.2.1 rfl T.a33.2.2 rfl (by decide) (by decide) ?_
  rw [yI_wI_s]
  refine g_istore_n (q := 16) (j := 1) M dX4_nextDay_15 rfl rfl (Nat.le_of_ble_eq_true rfl) rfl ?_
  dsimp only [st1, st2, kl, List.set_cons_zero, List.set_cons_succ, List.set_nil]
  refine g_aload_n (q := 17) M dX4_nextDay_16 rfl rfl ?_
  refine g_tw (q := 20) (f := 33) M dX4_nextDay_17 rfl l_X4_13 T rfl rfl T.a33 ?_
  refine g_iconst (q := 21) (v := 0) M dX4_nextDay_20 rfl (by decide) ?_
  refine g_dup2 (q := 22) M dX4_nextDay_21 rfl rfl rfl ?_
  refine g_ialdN (q := 23) (n := 213) (k := 0) M dX4_nextDay_22 rfl T.a33.2.1 rfl T.a33.2.2 rfl (by decide) (by decide) ?_
  refine g_iconst (q := 24) (v := 1) M dX4_nextDay_23 rfl (by decide) ?_
  refine g_iadd (q := 25) M dX4_nextDay_24 rfl ?_
  refine g_iastN (q := 26) (n := 213) (k := 0) M dX4_nextDay_25 rfl T.a33.2.1 T.a33.2.2 rfl (by decide) (by decide) ?_
  rw [yI_wI_s, sI_wI]
  refine g_aload_n (q := 27) M dX4_nextDay_26 rfl rfl ?_
  refine g_tw (q := 30) (f := 38) M dX4_nextDay_27 rfl l_X4_29 T rfl rfl T.a38 ?_
  refine g_iconst (q := 31) (v := 0) M dX4_nextDay_30 rfl (by decide) ?_
  refine g_ialdN (q := 32) (n := 2) (k := 0) M dX4_nextDay_31 rfl T.a38.2.1 rfl T.a38.2.2 rfl (by decide) (by decide) ?_
  rw [show yI (wI (kH h m n) (m + 1) (u1 (tA h m 1) 0 (tA h m 1 0 + 1))) (m + 6) = tA h m 6 from kH_w h m n 6 _ (by decide) (by decide), hNW]
  refine g_if_le (q := 35) (tgt := 128) M dX4_nextDay_32 (by decide) rfl (fun c_32 => ?_) (fun c_32 => ?_)
  · have hw : nW = 0 := by have := (nI_leI (b := 0) (by omega) (by decide)).mp c_32; omega
    have := J (some (vi (tA h m 1 1))) none none none
    rw [show spNextQ (tA h m) nW nT (tA h m 1) = u1 (tA h m 1) 0 (tA h m 1 0 + 1) from if_pos hw] at this
    exact this
  · have hw : nW ≠ 0 := fun z => c_32 (by rw [z]; exact Int32.le_refl _)
    have hQ : spNextQ (tA h m) nW nT (tA h m 1) = spNextW (tA h m) nT (u1 (tA h m 1) 0 (tA h m 1 0 + 1)) := if_neg hw
    have hQ1 : u1 (tA h m 1) 0 (tA h m 1 0 + 1) 1 = tA h m 1 1 := u1_n _ _ (by omega)
    have hQe : u1 (tA h m 1) 0 (tA h m 1 0 + 1) 164 = nI e := (u1_n _ _ (by omega)).trans hE
    rw [← hQ1]
    generalize u1 (tA h m 1) 0 (tA h m 1 0 + 1) = Q at *
    refine g_aload_n (q := 36) M dX4_nextDay_35 rfl rfl ?_
    refine g_callV (q := 39) M rfl dX4_nextDay_36 rfl w_X4_317 (c_X4_draw (h := wI (kH h m n) (m + 1) Q) T) (isC.of T.1 rfl) rfl rfl (Nat.le_of_ble_eq_true rfl) (by decide) (by omega) (by omega) (r_I ?_)
    rintro x h_36 ⟨rfl, rfl⟩ m_36
    refine g_istore_n (q := 40) (j := 2) M dX4_nextDay_39 rfl rfl (Nat.le_of_ble_eq_true rfl) rfl ?_
    dsimp only [st1, st2, kl, List.set_cons_zero, List.set_cons_succ, List.set_nil]
    refine g_iload_n (q := 41) M dX4_nextDay_40 rfl rfl ?_
    refine g_istore_n (q := 42) (j := 3) M dX4_nextDay_41 rfl rfl (Nat.le_of_ble_eq_true rfl) rfl ?_
    dsimp only [st1, st2, kl, List.set_cons_zero, List.set_cons_succ, List.set_nil]
    refine g_iconst (q := 43) (v := 0) M dX4_nextDay_42 rfl (by decide) ?_
    refine g_istore (q := 45) (j := 4) M dX4_nextDay_43 rfl rfl (Nat.le_of_ble_eq_true rfl) rfl ?_
    dsimp only [st1, st2, kl, List.set_cons_zero, List.set_cons_succ, List.set_nil]
    rw [sI_wI, tA_w1]
    -- the wind is chosen
    have P : ∀ t e2 e4, t = spTP (tA h m) (Q 1) nT 0 (rngD (rngX (Q 2))) (Q 1) → G Z X 0 0 110 [some (vr m), some (vi (Q 1)), e2, some (vi t), e4] [] (wI (kH h m n) (m + 1) (u1 Q 2 (rngX (Q 2)).toInt32)) := by
      intro t e2 e4 ht
      have hW : spNextW (tA h m) nT Q = if t = Q 1 then u1 (u1 Q 2 (rngX (Q 2)).toInt32) 1 t else spNotes (u1 (u1 Q 2 (rngX (Q 2)).toInt32) 1 t) (u1 (u1 Q 2 (rngX (Q 2)).toInt32) 1 t 164).toNatClampNeg 5 t := by rw [ht]; rfl
      refine g_aload_n (q := 111) M dX4_nextDay_110 rfl rfl ?_
      refine g_tw (q := 114) (f := 33) M dX4_nextDay_111 rfl l_X4_13 T rfl rfl T.a33 ?_
      refine g_iconst (q := 115) (v := 1) M dX4_nextDay_114 rfl (by decide) ?_
      refine g_iload_n (q := 116) M dX4_nextDay_115 rfl rfl ?_
      refine g_iastN (q := 117) (n := 213) (k := 1) M dX4_nextDay_116 rfl T.a33.2.1 T.a33.2.2 rfl (by decide) (by decide) ?_
      rw [sI_wI]
      refine g_iload_n (q := 118) M dX4_nextDay_117 rfl rfl ?_
      refine g_iload_n (q := 119) M dX4_nextDay_118 rfl rfl ?_
      refine g_icmp_eq (q := 122) (tgt := 128) M dX4_nextDay_119 (by decide) rfl (fun c_119 => ?_) (fun c_119 => ?_)
      · have := J (some (vi (Q 1))) e2 (some (vi t)) e4
        rw [hQ, hW, if_pos c_119] at this
        exact this
      · have h164 : u1 (u1 Q 2 (rngX (Q 2)).toInt32) 1 t 164 = nI e := by rw [u1_n _ _ (by omega), u1_n _ _ (by omega)]; exact hQe
        refine g_aload_n (q := 123) M dX4_nextDay_122 rfl rfl ?_
        refine g_iconst (q := 124) (v := 5) M dX4_nextDay_123 rfl (by decide) ?_
        refine g_iload_n (q := 125) M dX4_nextDay_124 rfl rfl ?_
        refine g_callV (q := 128) M rfl dX4_nextDay_125 rfl w_X4_329 (c_X4_notes (h := wI (kH h m n) (m + 1) (u1 (u1 Q 2 (rngX (Q 2)).toInt32) 1 t)) (n := e) T (by rw [tA_w1]; exact h164) he) (isC.of T.1 rfl) rfl rfl (Nat.le_of_ble_eq_true rfl) (by decide) (by omega) (by omega) (r_V ?_)
        rintro h_125 rfl m_125
        rw [wI_wI, tA_w1]
        have := J (some (vi (Q 1))) e2 (some (vi t)) e4
        rw [hQ, hW, if_neg c_119, h164, nI_clamp (by omega)] at this
        exact this
    have L : ∀ n' k g t, k + n' = nT → spTP (tA h m) (Q 1) nT 0 (rngD (rngX (Q 2))) (Q 1) = spTP (tA h m) (Q 1) n' k g t → G Z X 0 0 45 [some (vr m), some (vi (Q 1)), some (vi g), some (vi t), some (vi (nI k))] [] (wI (kH h m n) (m + 1) (u1 Q 2 (rngX (Q 2)).toInt32)) := by
      have ra : ∀ o, o ≠ 1 → o ≠ 26 → yI (wI (kH h m n) (m + 1) (u1 Q 2 (rngX (Q 2)).toInt32)) (m + o) = tA h m o := fun o h1 h2 => kH_w h m n o _ h1 h2
      intro n'
      induction n' with
      | zero =>
        intro k g t hk he2
        refine g_iload (q := 47) M dX4_nextDay_45 rfl rfl ?_
        refine g_aload_n (q := 48) M dX4_nextDay_47 rfl rfl ?_
        refine g_tw (q := 51) (f := 42) M dX4_nextDay_48 rfl l_X4_41 T rfl rfl T.a42 ?_
        refine g_iconst (q := 52) (v := 0) M dX4_nextDay_51 rfl (by decide) ?_
        refine g_ialdN (q := 53) (n := 2) (k := 0) M dX4_nextDay_52 rfl T.a42.2.1 rfl T.a42.2.2 rfl (by decide) (by decide) ?_
        rw [ra 10 (by decide) (by decide), hNT]
        refine g_icmp_ge (q := 56) (tgt := 110) M dX4_nextDay_53 (by decide) rfl (fun c_53 => ?_) (fun c_53 => ?_)
        · exact P t _ _ he2.symm
        · exact absurd (nI_le (by omega) (by omega)) c_53
      | succ n' ih =>
        intro k g t hk he2
        refine g_iload (q := 47) M dX4_nextDay_45 rfl rfl ?_
        refine g_aload_n (q := 48) M dX4_nextDay_47 rfl rfl ?_
        refine g_tw (q := 51) (f := 42) M dX4_nextDay_48 rfl l_X4_41 T rfl rfl T.a42 ?_
        refine g_iconst (q := 52) (v := 0) M dX4_nextDay_51 rfl (by decide) ?_
        refine g_ialdN (q := 53) (n := 2) (k := 0) M dX4_nextDay_52 rfl T.a42.2.1 rfl T.a42.2.2 rfl (by decide) (by decide) ?_
        rw [ra 10 (by decide) (by decide), hNT]
        refine g_icmp_ge (q := 56) (tgt := 110) M dX4_nextDay_53 (by decide) rfl (fun c_53 => ?_) (fun c_53 => ?_)
        · exact absurd ((nI_leI (by omega) (by omega)).mp c_53) (by omega)
        · refine g_iload_n (q := 57) M dX4_nextDay_56 rfl rfl ?_
          refine g_if_lt (q := 60) (tgt := 110) M dX4_nextDay_57 (by decide) rfl (fun c_57 => ?_) (fun c_57 => ?_)
          · exact P t _ _ (he2.trans (if_pos c_57)).symm
          · have he3 := he2.trans (if_neg c_57)
            refine g_aload_n (q := 61) M dX4_nextDay_60 rfl rfl ?_
            refine g_tw (q := 64) (f := 43) M dX4_nextDay_61 rfl l_X4_44 T rfl rfl T.a43 ?_
            refine g_iload (q := 66) M dX4_nextDay_64 rfl rfl ?_
            refine g_ialdN (q := 67) (n := 60) M dX4_nextDay_66 rfl T.a43.2.1 rfl T.a43.2.2 rfl (by omega) (by decide) ?_
            refine g_iload_n (q := 68) M dX4_nextDay_67 rfl rfl ?_
            rw [ra 11 (by decide) (by decide)]
            refine g_icmp_ne (q := 71) (tgt := 104) M dX4_nextDay_68 (by decide) rfl (fun c_68 => ?_) (fun c_68 => ?_)
            · rw [if_neg c_68] at he3
              refine g_iinc (q := 107) (w := 1) M dX4_nextDay_104 rfl (Nat.le_of_ble_eq_true rfl) rfl (by decide) rfl ?_
              dsimp only [st1, st2, kl, List.set_cons_zero, List.set_cons_succ, List.set_nil]
              try rw [nI_1]
              refine g_goto (tgt := 45) M dX4_nextDay_107 (by decide) ?_
              exact ih (k + 1) _ _ (by omega) he3
            · rw [if_pos c_68] at he3
              have J2 : ∀ t', t' = (if g < tA h m 13 k then tA h m 12 k else t) → G Z X 0 0 93 [some (vr m), some (vi (Q 1)), some (vi g), some (vi t), some (vi (nI k))] [vi t'] (wI (kH h m n) (m + 1) (u1 Q 2 (rngX (Q 2)).toInt32)) := by
                intro t' ht'
                rw [← ht'] at he3
                refine g_istore_n (q := 94) (j := 3) M dX4_nextDay_93 rfl rfl (Nat.le_of_ble_eq_true rfl) rfl ?_
                dsimp only [st1, st2, kl, List.set_cons_zero, List.set_cons_succ, List.set_nil]
                refine g_iload_n (q := 95) M dX4_nextDay_94 rfl rfl ?_
                refine g_aload_n (q := 96) M dX4_nextDay_95 rfl rfl ?_
                refine g_tw (q := 99) (f := 45) M dX4_nextDay_96 rfl l_X4_50 T rfl rfl T.a45 ?_
                refine g_iload (q := 101) M dX4_nextDay_99 rfl rfl ?_
                refine g_ialdN (q := 102) (n := 60) M dX4_nextDay_101 rfl T.a45.2.1 rfl T.a45.2.2 rfl (by omega) (by decide) ?_
                rw [ra 13 (by decide) (by decide)]
                refine g_isub (q := 103) M dX4_nextDay_102 rfl ?_
                refine g_istore_n (q := 104) (j := 2) M dX4_nextDay_103 rfl rfl (Nat.le_of_ble_eq_true rfl) rfl ?_
                dsimp only [st1, st2, kl, List.set_cons_zero, List.set_cons_succ, List.set_nil]
                refine g_iinc (q := 107) (w := 1) M dX4_nextDay_104 rfl (Nat.le_of_ble_eq_true rfl) rfl (by decide) rfl ?_
                dsimp only [st1, st2, kl, List.set_cons_zero, List.set_cons_succ, List.set_nil]
                try rw [nI_1]
                refine g_goto (tgt := 45) M dX4_nextDay_107 (by decide) ?_
                exact ih (k + 1) _ _ (by omega) he3
              refine g_iload_n (q := 72) M dX4_nextDay_71 rfl rfl ?_
              refine g_aload_n (q := 73) M dX4_nextDay_72 rfl rfl ?_
              refine g_tw (q := 76) (f := 45) M dX4_nextDay_73 rfl l_X4_50 T rfl rfl T.a45 ?_
              refine g_iload (q := 78) M dX4_nextDay_76 rfl rfl ?_
              refine g_ialdN (q := 79) (n := 60) M dX4_nextDay_78 rfl T.a45.2.1 rfl T.a45.2.2 rfl (by omega) (by decide) ?_
              rw [ra 13 (by decide) (by decide)]
              refine g_icmp_ge (q := 82) (tgt := 92) M dX4_nextDay_79 (by decide) rfl (fun c_79 => ?_) (fun c_79 => ?_)
              · refine g_iload_n (q := 93) M dX4_nextDay_92 rfl rfl ?_
                exact J2 _ (if_neg (Int32.not_lt.mpr c_79)).symm
              · refine g_aload_n (q := 83) M dX4_nextDay_82 rfl rfl ?_
                refine g_tw (q := 86) (f := 44) M dX4_nextDay_83 rfl l_X4_47 T rfl rfl T.a44 ?_
                refine g_iload (q := 88) M dX4_nextDay_86 rfl rfl ?_
                refine g_ialdN (q := 89) (n := 60) M dX4_nextDay_88 rfl T.a44.2.1 rfl T.a44.2.2 rfl (by omega) (by decide) ?_
                refine g_goto (tgt := 93) M dX4_nextDay_89 (by decide) ?_
                rw [ra 12 (by decide) (by decide)]
                exact J2 _ (if_pos (Int32.not_le.mp c_79)).symm
    exact L nT 0 _ _ (by omega) rfl
