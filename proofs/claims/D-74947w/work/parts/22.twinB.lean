/-! THE TWIN: loops that only read -/
set_option maxRecDepth 100000
/-- a sum of ints -/
def smI (f : Nat → Int32) : Nat → Int32 | 0 => 0 | k + 1 => smI f k + f k
def smL (f : Nat → Int64) : Nat → Int64 | 0 => 0 | k + 1 => smL f k + f k
theorem nI_pred2 {a b : Nat} (ha : a < 2147483648) (hb : b < 2147483648) {x : Int32} (hx : x = nI a) : x ≤ nI b ↔ a ≤ b := by rw [hx]; exact nI_leI ha hb
/-- the weight of a wind's turns -/
def spTurns (A : Nat → Nat → Int32) (w : Int32) (n : Nat) : Int32 := smI (fun k => if A 11 k = w then A 13 k else 0) n
theorem c_X4_turnsOf {Z : xZ} {h : xH} {m : Nat} {w : Int32} {nR nW nT nB nL : Nat} (T : TW h m) (S : SgN (tA h m) nR nW nT nB nL) : CT Z yX4_turnsOf cX4_turnsOf 4 (some .int) 0 0 0 [vr m, vi w] h (rI fun r h' => h = h' ∧ r = spTurns (tA h m) w nT) := by
  have hN : yI h (m + 10) 0 = nI nT := S.2.2.1.1
  have hl := S.2.2.1.2
  refine CT.of (E := [some (vr m), some (vi w), none, none]) (by decide +kernel) rfl rfl (Nat.le_of_ble_eq_true rfl) (fun X M Ee => ?_)
  have M : MX Z X cX4_turnsOf "BalloonMailModel" 4 0 (some .int) "turnsOf" := M
  refine g_iconst (q := 1) (v := 0) M dX4_turnsOf_0 rfl (by decide) ?_
  refine g_istore_n (q := 2) (j := 2) M dX4_turnsOf_1 rfl rfl (Nat.le_of_ble_eq_true rfl) rfl ?_
  dsimp only [st1, st2, kl, List.set_cons_zero, List.set_cons_succ, List.set_nil]
  refine g_iconst (q := 3) (v := 0) M dX4_turnsOf_2 rfl (by decide) ?_
  refine g_istore_n (q := 4) (j := 3) M dX4_turnsOf_3 rfl rfl (Nat.le_of_ble_eq_true rfl) rfl ?_
  dsimp only [st1, st2, kl, List.set_cons_zero, List.set_cons_succ, List.set_nil]
  refine upLoop (P := fun k => G Z X 0 0 4 [some (vr m), some (vi w), some (vi (spTurns (tA h m) w k)), some (vi (nI k))] [] h) nT ?_ ?_ 0 (Nat.zero_le _)
  · refine g_iload_n (q := 5) M dX4_turnsOf_4 rfl rfl ?_
    refine g_aload_n (q := 6) M dX4_turnsOf_5 rfl rfl ?_
    refine g_tw (q := 9) (f := 42) M dX4_turnsOf_6 rfl l_X4_41 T rfl rfl T.a42 ?_
    refine g_iconst (q := 10) (v := 0) M dX4_turnsOf_9 rfl (by decide) ?_
    refine g_ialdN (q := 11) (n := 2) (k := 0) M dX4_turnsOf_10 rfl T.a42.2.1 rfl T.a42.2.2 rfl (by decide) (by decide) ?_
    rw [hN]
    refine g_icmp_ge (q := 14) (tgt := 43) M dX4_turnsOf_11 (by decide) rfl (fun c_11 => ?_) (fun c_11 => ?_)
    · refine g_iload_n (q := 44) M dX4_turnsOf_43 rfl rfl ?_
      refine g_ireturn M Ee dX4_turnsOf_44 ?_
      exact ⟨_, rfl, rfl, rfl⟩
    · exact absurd (Int32.le_refl _) c_11
  · intro k hk ih
    refine g_iload_n (q := 5) M dX4_turnsOf_4 rfl rfl ?_
    refine g_aload_n (q := 6) M dX4_turnsOf_5 rfl rfl ?_
    refine g_tw (q := 9) (f := 42) M dX4_turnsOf_6 rfl l_X4_41 T rfl rfl T.a42 ?_
    refine g_iconst (q := 10) (v := 0) M dX4_turnsOf_9 rfl (by decide) ?_
    refine g_ialdN (q := 11) (n := 2) (k := 0) M dX4_turnsOf_10 rfl T.a42.2.1 rfl T.a42.2.2 rfl (by decide) (by decide) ?_
    rw [hN]
    refine g_icmp_ge (q := 14) (tgt := 43) M dX4_turnsOf_11 (by decide) rfl (fun c_11 => ?_) (fun c_11 => ?_)
    · exact absurd ((nI_leI (by omega) (by omega)).mp c_11) (by omega)
    · have J : ∀ z : Int32, z = (if tA h m 11 k = w then tA h m 13 k else 0) → G Z X 0 0 35 [some (vr m), some (vi w), some (vi (spTurns (tA h m) w k)), some (vi (nI k))] [vi z, vi (spTurns (tA h m) w k)] h := by
        intro z hz
        refine g_iadd (q := 36) M dX4_turnsOf_35 rfl ?_
        refine g_istore_n (q := 37) (j := 2) M dX4_turnsOf_36 rfl rfl (Nat.le_of_ble_eq_true rfl) rfl ?_
        dsimp only [st1, st2, kl, List.set_cons_zero, List.set_cons_succ, List.set_nil]
        refine g_iinc (q := 40) (w := 1) M dX4_turnsOf_37 rfl (Nat.le_of_ble_eq_true rfl) rfl (by decide) rfl ?_
        dsimp only [st1, st2, kl, List.set_cons_zero, List.set_cons_succ, List.set_nil]
        try rw [nI_1]
        refine g_goto (tgt := 4) M dX4_turnsOf_40 (by decide) ?_
        rw [hz]
        exact ih
      refine g_iload_n (q := 15) M dX4_turnsOf_14 rfl rfl ?_
      refine g_aload_n (q := 16) M dX4_turnsOf_15 rfl rfl ?_
      refine g_tw (q := 19) (f := 43) M dX4_turnsOf_16 rfl l_X4_44 T rfl rfl T.a43 ?_
      refine g_iload_n (q := 20) M dX4_turnsOf_19 rfl rfl ?_
      refine g_ialdN (q := 21) (n := 60) M dX4_turnsOf_20 rfl T.a43.2.1 rfl T.a43.2.2 rfl (by omega) (by decide) ?_
      refine g_iload_n (q := 22) M dX4_turnsOf_21 rfl rfl ?_
      refine g_icmp_ne (q := 25) (tgt := 34) M dX4_turnsOf_22 (by decide) rfl (fun c_22 => ?_) (fun c_22 => ?_)
      · refine g_iconst (q := 35) (v := 0) M dX4_turnsOf_34 rfl (by decide) ?_
        exact J _ (if_neg c_22).symm
      · refine g_aload_n (q := 26) M dX4_turnsOf_25 rfl rfl ?_
        refine g_tw (q := 29) (f := 45) M dX4_turnsOf_26 rfl l_X4_50 T rfl rfl T.a45 ?_
        refine g_iload_n (q := 30) M dX4_turnsOf_29 rfl rfl ?_
        refine g_ialdN (q := 31) (n := 60) M dX4_turnsOf_30 rfl T.a45.2.1 rfl T.a45.2.2 rfl (by omega) (by decide) ?_
        refine g_goto (tgt := 35) M dX4_turnsOf_31 (by decide) ?_
        exact J _ (if_pos c_22).symm
/-- base to the n -/
def spPow (b : Int32) : Nat → Int64 | 0 => 1 | k + 1 => spPow b k * b.toInt64
theorem c_X4_power {Z : xZ} {h : xH} {b : Int32} {n : Nat} (hn : n < 1000) : CT Z yX4_power cX4_power 5 (some .long) 0 0 0 [vi b, vi (nI n)] h (rL fun r h' => h = h' ∧ r = spPow b n) := by
  refine CT.of (E := [some (vi b), some (vi (nI n)), none, none, none]) (by decide +kernel) rfl rfl (Nat.le_of_ble_eq_true rfl) (fun X M Ee => ?_)
  have M : MX Z X cX4_power "BalloonMailModel" 5 0 (some .long) "power" := M
  refine g_lconst (q := 1) (v := 1) M dX4_power_0 rfl (by decide) ?_
  refine g_lstore_n (q := 2) (j := 2) M dX4_power_1 rfl rfl (Nat.le_of_ble_eq_true rfl) rfl ?_
  dsimp only [st1, st2, kl, List.set_cons_zero, List.set_cons_succ, List.set_nil]
  refine g_iconst (q := 3) (v := 0) M dX4_power_2 rfl (by decide) ?_
  refine g_istore (q := 5) (j := 4) M dX4_power_3 rfl rfl (Nat.le_of_ble_eq_true rfl) rfl ?_
  dsimp only [st1, st2, kl, List.set_cons_zero, List.set_cons_succ, List.set_nil]
  refine upLoop (P := fun k => G Z X 0 0 5 [some (vi b), some (vi (nI n)), some (vl (spPow b k)), none, some (vi (nI k))] [] h) n ?_ ?_ 0 (Nat.zero_le _)
  · refine g_iload (q := 7) M dX4_power_5 rfl rfl ?_
    refine g_iload_n (q := 8) M dX4_power_7 rfl rfl ?_
    refine g_icmp_ge (q := 11) (tgt := 22) M dX4_power_8 (by decide) rfl (fun c_8 => ?_) (fun c_8 => ?_)
    · refine g_lload_n (q := 23) M dX4_power_22 rfl rfl ?_
      refine g_lreturn M Ee dX4_power_23 ?_
      exact ⟨_, rfl, rfl, rfl⟩
    · exact absurd (Int32.le_refl _) c_8
  · intro k hk ih
    refine g_iload (q := 7) M dX4_power_5 rfl rfl ?_
    refine g_iload_n (q := 8) M dX4_power_7 rfl rfl ?_
    refine g_icmp_ge (q := 11) (tgt := 22) M dX4_power_8 (by decide) rfl (fun c_8 => ?_) (fun c_8 => ?_)
    · exact absurd ((nI_leI (by omega) (by omega)).mp c_8) (by omega)
    · refine g_lload_n (q := 12) M dX4_power_11 rfl rfl ?_
      refine g_iload_n (q := 13) M dX4_power_12 rfl rfl ?_
      refine g_i2l (q := 14) M dX4_power_13 rfl ?_
      refine g_lmul (q := 15) M dX4_power_14 rfl ?_
      refine g_lstore_n (q := 16) (j := 2) M dX4_power_15 rfl rfl (Nat.le_of_ble_eq_true rfl) rfl ?_
      dsimp only [st1, st2, kl, List.set_cons_zero, List.set_cons_succ, List.set_nil]
      refine g_iinc (q := 19) (w := 1) M dX4_power_16 rfl (Nat.le_of_ble_eq_true rfl) rfl (by decide) rfl ?_
      dsimp only [st1, st2, kl, List.set_cons_zero, List.set_cons_succ, List.set_nil]
      try rw [nI_1]
      refine g_goto (tgt := 5) M dX4_power_19 (by decide) ?_
      exact ih
/-- of a set of letters, the sum of one of their numbers -/
def spSum (f : Nat → Int32) (set : Int32) (n : Nat) : Int32 := smI (fun k => if hasB set (nI k) = true then f k else 0) n
theorem c_X4_sumOf {Z : xZ} {h : xH} {m a : Nat} {set : Int32} {nR nW nT nB nL : Nat} (T : TW h m) (S : SgN (tA h m) nR nW nT nB nL) (ht : xt h a = 60) (hn : xn h a = 48) : CT Z yX4_sumOf cX4_sumOf 5 (some .int) 1 0 0 [vr m, vi set, vr a] h (rI fun r h' => h = h' ∧ r = spSum (yI h a) set nL) := by
  have hN : yI h (m + 17) 0 = nI nL := S.2.2.2.2.1
  have hl := S.2.2.2.2.2
  refine CT.of (E := [some (vr m), some (vi set), some (vr a), none, none]) (by decide +kernel) rfl rfl (Nat.le_of_ble_eq_true rfl) (fun X M Ee => ?_)
  have M : MX Z X cX4_sumOf "BalloonMailModel" 5 1 (some .int) "sumOf" := M
  refine g_iconst (q := 1) (v := 0) M dX4_sumOf_0 rfl (by decide) ?_
  refine g_istore_n (q := 2) (j := 3) M dX4_sumOf_1 rfl rfl (Nat.le_of_ble_eq_true rfl) rfl ?_
  dsimp only [st1, st2, kl, List.set_cons_zero, List.set_cons_succ, List.set_nil]
  refine g_iconst (q := 3) (v := 0) M dX4_sumOf_2 rfl (by decide) ?_
  refine g_istore (q := 5) (j := 4) M dX4_sumOf_3 rfl rfl (Nat.le_of_ble_eq_true rfl) rfl ?_
  dsimp only [st1, st2, kl, List.set_cons_zero, List.set_cons_succ, List.set_nil]
  refine upLoop (P := fun k => G Z X 0 0 5 [some (vr m), some (vi set), some (vr a), some (vi (spSum (yI h a) set k)), some (vi (nI k))] [] h) nL ?_ ?_ 0 (Nat.zero_le _)
  · refine g_iload (q := 7) M dX4_sumOf_5 rfl rfl ?_
    refine g_aload_n (q := 8) M dX4_sumOf_7 rfl rfl ?_
    refine g_tw (q := 11) (f := 49) M dX4_sumOf_8 rfl l_X4_62 T rfl rfl T.a49 ?_
    refine g_iconst (q := 12) (v := 0) M dX4_sumOf_11 rfl (by decide) ?_
    refine g_ialdN (q := 13) (n := 2) (k := 0) M dX4_sumOf_12 rfl T.a49.2.1 rfl T.a49.2.2 rfl (by decide) (by decide) ?_
    rw [hN]
    refine g_icmp_ge (q := 16) (tgt := 42) M dX4_sumOf_13 (by decide) rfl (fun c_13 => ?_) (fun c_13 => ?_)
    · refine g_iload_n (q := 43) M dX4_sumOf_42 rfl rfl ?_
      refine g_ireturn M Ee dX4_sumOf_43 ?_
      exact ⟨_, rfl, rfl, rfl⟩
    · exact absurd (Int32.le_refl _) c_13
  · intro k hk ih
    refine g_iload (q := 7) M dX4_sumOf_5 rfl rfl ?_
    refine g_aload_n (q := 8) M dX4_sumOf_7 rfl rfl ?_
    refine g_tw (q := 11) (f := 49) M dX4_sumOf_8 rfl l_X4_62 T rfl rfl T.a49 ?_
    refine g_iconst (q := 12) (v := 0) M dX4_sumOf_11 rfl (by decide) ?_
    refine g_ialdN (q := 13) (n := 2) (k := 0) M dX4_sumOf_12 rfl T.a49.2.1 rfl T.a49.2.2 rfl (by decide) (by decide) ?_
    rw [hN]
    refine g_icmp_ge (q := 16) (tgt := 42) M dX4_sumOf_13 (by decide) rfl (fun c_13 => ?_) (fun c_13 => ?_)
    · exact absurd ((nI_leI (by omega) (by omega)).mp c_13) (by omega)
    · have J : ∀ z : Int32, z = (if hasB set (nI k) = true then yI h a k else 0) → G Z X 0 0 34 [some (vr m), some (vi set), some (vr a), some (vi (spSum (yI h a) set k)), some (vi (nI k))] [vi z, vi (spSum (yI h a) set k)] h := by
        intro z hz
        refine g_iadd (q := 35) M dX4_sumOf_34 rfl ?_
        refine g_istore_n (q := 36) (j := 3) M dX4_sumOf_35 rfl rfl (Nat.le_of_ble_eq_true rfl) rfl ?_
        dsimp only [st1, st2, kl, List.set_cons_zero, List.set_cons_succ, List.set_nil]
        refine g_iinc (q := 39) (w := 1) M dX4_sumOf_36 rfl (Nat.le_of_ble_eq_true rfl) rfl (by decide) rfl ?_
        dsimp only [st1, st2, kl, List.set_cons_zero, List.set_cons_succ, List.set_nil]
        try rw [nI_1]
        refine g_goto (tgt := 5) M dX4_sumOf_39 (by decide) ?_
        rw [hz]
        exact ih
      refine g_iload_n (q := 17) M dX4_sumOf_16 rfl rfl ?_
      refine g_iload_n (q := 18) M dX4_sumOf_17 rfl rfl ?_
      refine g_iload (q := 20) M dX4_sumOf_18 rfl rfl ?_
      refine g_callS (q := 23) M rfl dX4_sumOf_20 rfl w_X4_173 c_X4_has rfl rfl (Nat.le_of_ble_eq_true rfl) (by decide) (by omega) (by omega) (r_I fun x h_20 hq m_20 => ?_)
      obtain ⟨rfl, rfl⟩ := hq
      refine g_if_eq (q := 26) (tgt := 33) M dX4_sumOf_23 (by decide) rfl (fun c_23 => ?_) (fun c_23 => ?_)
      · refine g_iconst (q := 34) (v := 0) M dX4_sumOf_33 rfl (by decide) ?_
        exact J _ (by rw [bI_0.mp c_23]; rfl)
      · refine g_aload_n (q := 27) M dX4_sumOf_26 rfl rfl ?_
        refine g_iload (q := 29) M dX4_sumOf_27 rfl rfl ?_
        refine g_ialdN (q := 30) (n := 48) M dX4_sumOf_29 rfl ht rfl hn rfl (by omega) (by decide) ?_
        refine g_goto (tgt := 34) M dX4_sumOf_30 (by decide) ?_
        exact J _ (if_pos (by simpa [bI_0] using c_23)).symm
/-- the letters that are in a state -/
def spIn (R : Nat → Int32) (st : Int32) : Nat → Int32 | 0 => 0 | k + 1 => spIn R st k ||| (if R (35 + k) = st then 1 <<< (nI k &&& 31) else 0)
theorem c_X4_inState {Z : xZ} {h : xH} {m : Nat} {w : Int32} {nR nW nT nB nL : Nat} (T : TW h m) (S : SgN (tA h m) nR nW nT nB nL) : CT Z yX4_inState cX4_inState 4 (some .int) 0 0 0 [vr m, vi w] h (rI fun r h' => h = h' ∧ r = spIn (tA h m 1) w nL) := by
  have hN : yI h (m + 17) 0 = nI nL := S.2.2.2.2.1
  have hl := S.2.2.2.2.2
  refine CT.of (E := [some (vr m), some (vi w), none, none]) (by decide +kernel) rfl rfl (Nat.le_of_ble_eq_true rfl) (fun X M Ee => ?_)
  have M : MX Z X cX4_inState "BalloonMailModel" 4 0 (some .int) "inState" := M
  refine g_iconst (q := 1) (v := 0) M dX4_inState_0 rfl (by decide) ?_
  refine g_istore_n (q := 2) (j := 2) M dX4_inState_1 rfl rfl (Nat.le_of_ble_eq_true rfl) rfl ?_
  dsimp only [st1, st2, kl, List.set_cons_zero, List.set_cons_succ, List.set_nil]
  refine g_iconst (q := 3) (v := 0) M dX4_inState_2 rfl (by decide) ?_
  refine g_istore_n (q := 4) (j := 3) M dX4_inState_3 rfl rfl (Nat.le_of_ble_eq_true rfl) rfl ?_
  dsimp only [st1, st2, kl, List.set_cons_zero, List.set_cons_succ, List.set_nil]
  refine upLoop (P := fun k => G Z X 0 0 4 [some (vr m), some (vi w), some (vi (spIn (tA h m 1) w k)), some (vi (nI k))] [] h) nL ?_ ?_ 0 (Nat.zero_le _)
  · refine g_iload_n (q := 5) M dX4_inState_4 rfl rfl ?_
    refine g_aload_n (q := 6) M dX4_inState_5 rfl rfl ?_
    refine g_tw (q := 9) (f := 49) M dX4_inState_6 rfl l_X4_62 T rfl rfl T.a49 ?_
    refine g_iconst (q := 10) (v := 0) M dX4_inState_9 rfl (by decide) ?_
    refine g_ialdN (q := 11) (n := 2) (k := 0) M dX4_inState_10 rfl T.a49.2.1 rfl T.a49.2.2 rfl (by decide) (by decide) ?_
    rw [hN]
    refine g_icmp_ge (q := 14) (tgt := 43) M dX4_inState_11 (by decide) rfl (fun c_11 => ?_) (fun c_11 => ?_)
    · refine g_iload_n (q := 44) M dX4_inState_43 rfl rfl ?_
      refine g_ireturn M Ee dX4_inState_44 ?_
      exact ⟨_, rfl, rfl, rfl⟩
    · exact absurd (Int32.le_refl _) c_11
  · intro k hk ih
    refine g_iload_n (q := 5) M dX4_inState_4 rfl rfl ?_
    refine g_aload_n (q := 6) M dX4_inState_5 rfl rfl ?_
    refine g_tw (q := 9) (f := 49) M dX4_inState_6 rfl l_X4_62 T rfl rfl T.a49 ?_
    refine g_iconst (q := 10) (v := 0) M dX4_inState_9 rfl (by decide) ?_
    refine g_ialdN (q := 11) (n := 2) (k := 0) M dX4_inState_10 rfl T.a49.2.1 rfl T.a49.2.2 rfl (by decide) (by decide) ?_
    rw [hN]
    refine g_icmp_ge (q := 14) (tgt := 43) M dX4_inState_11 (by decide) rfl (fun c_11 => ?_) (fun c_11 => ?_)
    · exact absurd ((nI_leI (by omega) (by omega)).mp c_11) (by omega)
    · have J : ∀ z : Int32, z = (if tA h m 1 (35 + k) = w then 1 <<< (nI k &&& 31) else 0) → G Z X 0 0 35 [some (vr m), some (vi w), some (vi (spIn (tA h m 1) w k)), some (vi (nI k))] [vi z, vi (spIn (tA h m 1) w k)] h := by
        intro z hz
        refine g_ior (q := 36) M dX4_inState_35 rfl ?_
        refine g_istore_n (q := 37) (j := 2) M dX4_inState_36 rfl rfl (Nat.le_of_ble_eq_true rfl) rfl ?_
        dsimp only [st1, st2, kl, List.set_cons_zero, List.set_cons_succ, List.set_nil]
        refine g_iinc (q := 40) (w := 1) M dX4_inState_37 rfl (Nat.le_of_ble_eq_true rfl) rfl (by decide) rfl ?_
        dsimp only [st1, st2, kl, List.set_cons_zero, List.set_cons_succ, List.set_nil]
        try rw [nI_1]
        refine g_goto (tgt := 4) M dX4_inState_40 (by decide) ?_
        rw [hz]
        exact ih
      refine g_iload_n (q := 15) M dX4_inState_14 rfl rfl ?_
      refine g_aload_n (q := 16) M dX4_inState_15 rfl rfl ?_
      refine g_tw (q := 19) (f := 33) M dX4_inState_16 rfl l_X4_13 T rfl rfl T.a33 ?_
      refine g_bipush (q := 21) (v := 35) M dX4_inState_19 rfl (by decide) ?_
      refine g_iload_n (q := 22) M dX4_inState_21 rfl rfl ?_
      refine g_iadd (q := 23) M dX4_inState_22 rfl ?_
      refine g_ialdN (q := 24) (n := 213) M dX4_inState_23 rfl T.a33.2.1 rfl T.a33.2.2 (ixk 35 rfl k) (by omega) (by decide) ?_
      refine g_iload_n (q := 25) M dX4_inState_24 rfl rfl ?_
      refine g_icmp_ne (q := 28) (tgt := 34) M dX4_inState_25 (by decide) rfl (fun c_25 => ?_) (fun c_25 => ?_)
      · refine g_iconst (q := 35) (v := 0) M dX4_inState_34 rfl (by decide) ?_
        exact J _ (if_neg c_25).symm
      · refine g_iconst (q := 29) (v := 1) M dX4_inState_28 rfl (by decide) ?_
        refine g_iload_n (q := 30) M dX4_inState_29 rfl rfl ?_
        refine g_ishl (q := 31) M dX4_inState_30 rfl ?_
        refine g_goto (tgt := 35) M dX4_inState_31 (by decide) ?_
        exact J _ (if_pos c_25).symm
theorem c_X4_balloonsIn {Z : xZ} {h : xH} {m : Nat} {w : Int32} {nR nW nT nB nL : Nat} (T : TW h m) (S : SgN (tA h m) nR nW nT nB nL) : CT Z yX4_balloonsIn cX4_balloonsIn 4 (some .int) 1 0 0 [vr m, vi w] h (rI fun r h' => h' = pI h 32 m 0 ∧ r = if 0 ≤ w ∧ w ≤ tA h m 2 0 - 1 then smI (fun b => if tA h m 1 (15 + b) = w then 1 else 0) nB else -1) := by
  have hN : yI h (m + 14) 0 = nI nB := S.2.2.2.1.1
  have hl := S.2.2.2.1.2
  refine CT.of (E := [some (vr m), some (vi w), none, none]) (by decide +kernel) rfl rfl (Nat.le_of_ble_eq_true rfl) (fun X M Ee => ?_)
  have M : MX Z X cX4_balloonsIn "BalloonMailModel" 4 1 (some .int) "balloonsIn" := M
  refine g_aload_n (q := 1) M dX4_balloonsIn_0 rfl rfl ?_
  refine g_iconst (q := 2) (v := 0) M dX4_balloonsIn_1 rfl (by decide) ?_
  refine g_putI (q := 5) (f := 32) M dX4_balloonsIn_2 rfl l_X4_1 T.1 (by decide +kernel) rfl ⟨rfl, rfl⟩ ?_
  refine g_iload_n (q := 6) M dX4_balloonsIn_5 rfl rfl ?_
  refine g_iconst (q := 7) (v := 0) M dX4_balloonsIn_6 rfl (by decide) ?_
  refine g_aload_n (q := 8) M dX4_balloonsIn_7 rfl rfl ?_
  refine g_tw (q := 11) (f := 34) M dX4_balloonsIn_8 rfl l_X4_17 T rfl rfl T.a34 ?_
  refine g_iconst (q := 12) (v := 0) M dX4_balloonsIn_11 rfl (by decide) ?_
  refine g_ialdN (q := 13) (n := 2) (k := 0) M dX4_balloonsIn_12 rfl T.a34.2.1 rfl T.a34.2.2 rfl (by decide) (by decide) ?_
  refine g_iconst (q := 14) (v := 1) M dX4_balloonsIn_13 rfl (by decide) ?_
  refine g_isub (q := 15) M dX4_balloonsIn_14 rfl ?_
  refine g_callS (q := 18) M rfl dX4_balloonsIn_15 rfl w_X4_139 c_X4_within rfl rfl (Nat.le_of_ble_eq_true rfl) (by decide) (by omega) (by omega) (r_I fun x h_15 hq m_15 => ?_)
  obtain ⟨rfl, rfl⟩ := hq
  refine g_if_ne (q := 21) (tgt := 23) M dX4_balloonsIn_18 (by decide) rfl (fun c_18 => ?_) (fun c_18 => ?_)
  · refine g_iconst (q := 24) (v := 0) M dX4_balloonsIn_23 rfl (by decide) ?_
    refine g_istore_n (q := 25) (j := 2) M dX4_balloonsIn_24 rfl rfl (Nat.le_of_ble_eq_true rfl) rfl ?_
    dsimp only [st1, st2, kl, List.set_cons_zero, List.set_cons_succ, List.set_nil]
    refine g_iconst (q := 26) (v := 0) M dX4_balloonsIn_25 rfl (by decide) ?_
    refine g_istore_n (q := 27) (j := 3) M dX4_balloonsIn_26 rfl rfl (Nat.le_of_ble_eq_true rfl) rfl ?_
    dsimp only [st1, st2, kl, List.set_cons_zero, List.set_cons_succ, List.set_nil]
    refine upLoop (P := fun k => G Z X 0 0 27 [some (vr m), some (vi w), some (vi (smI (fun b => if tA h m 1 (15 + b) = w then 1 else 0) k)), some (vi (nI k))] [] (pI h 32 m 0)) nB ?_ ?_ 0 (Nat.zero_le _)
    · refine g_iload_n (q := 28) M dX4_balloonsIn_27 rfl rfl ?_
      refine g_aload_n (q := 29) M dX4_balloonsIn_28 rfl rfl ?_
      refine g_tw (q := 32) (f := 46) M dX4_balloonsIn_29 rfl l_X4_53 T rfl rfl T.a46 ?_
      refine g_iconst (q := 33) (v := 0) M dX4_balloonsIn_32 rfl (by decide) ?_
      refine g_ialdN (q := 34) (n := 2) (k := 0) M dX4_balloonsIn_33 rfl T.a46.2.1 rfl T.a46.2.2 rfl (by decide) (by decide) ?_
      rw [show yI (pI h 32 m 0) (m + 14) 0 = nI nB from hN]
      refine g_icmp_ge (q := 37) (tgt := 64) M dX4_balloonsIn_34 (by decide) rfl (fun c_34 => ?_) (fun c_34 => ?_)
      · refine g_iload_n (q := 65) M dX4_balloonsIn_64 rfl rfl ?_
        refine g_ireturn M Ee dX4_balloonsIn_65 ?_
        exact ⟨_, rfl, rfl, (if_pos (bI_n.mp c_18)).symm⟩
      · exact absurd (Int32.le_refl _) c_34
    · intro k hk ih
      refine g_iload_n (q := 28) M dX4_balloonsIn_27 rfl rfl ?_
      refine g_aload_n (q := 29) M dX4_balloonsIn_28 rfl rfl ?_
      refine g_tw (q := 32) (f := 46) M dX4_balloonsIn_29 rfl l_X4_53 T rfl rfl T.a46 ?_
      refine g_iconst (q := 33) (v := 0) M dX4_balloonsIn_32 rfl (by decide) ?_
      refine g_ialdN (q := 34) (n := 2) (k := 0) M dX4_balloonsIn_33 rfl T.a46.2.1 rfl T.a46.2.2 rfl (by decide) (by decide) ?_
      rw [show yI (pI h 32 m 0) (m + 14) 0 = nI nB from hN]
      refine g_icmp_ge (q := 37) (tgt := 64) M dX4_balloonsIn_34 (by decide) rfl (fun c_34 => ?_) (fun c_34 => ?_)
      · exact absurd ((nI_leI (by omega) (by omega)).mp c_34) (by omega)
      · have J : ∀ z : Int32, z = (if tA h m 1 (15 + k) = w then 1 else 0) → G Z X 0 0 56 [some (vr m), some (vi w), some (vi (smI (fun b => if tA h m 1 (15 + b) = w then 1 else 0) k)), some (vi (nI k))] [vi z, vi (smI (fun b => if tA h m 1 (15 + b) = w then 1 else 0) k)] (pI h 32 m 0) := by
          intro z hz
          refine g_iadd (q := 57) M dX4_balloonsIn_56 rfl ?_
          refine g_istore_n (q := 58) (j := 2) M dX4_balloonsIn_57 rfl rfl (Nat.le_of_ble_eq_true rfl) rfl ?_
          dsimp only [st1, st2, kl, List.set_cons_zero, List.set_cons_succ, List.set_nil]
          refine g_iinc (q := 61) (w := 1) M dX4_balloonsIn_58 rfl (Nat.le_of_ble_eq_true rfl) rfl (by decide) rfl ?_
          dsimp only [st1, st2, kl, List.set_cons_zero, List.set_cons_succ, List.set_nil]
          try rw [nI_1]
          refine g_goto (tgt := 27) M dX4_balloonsIn_61 (by decide) ?_
          rw [hz]
          exact ih
        refine g_iload_n (q := 38) M dX4_balloonsIn_37 rfl rfl ?_
        refine g_aload_n (q := 39) M dX4_balloonsIn_38 rfl rfl ?_
        refine g_tw (q := 42) (f := 33) M dX4_balloonsIn_39 rfl l_X4_13 T rfl rfl T.a33 ?_
        refine g_bipush (q := 44) (v := 15) M dX4_balloonsIn_42 rfl (by decide) ?_
        refine g_iload_n (q := 45) M dX4_balloonsIn_44 rfl rfl ?_
        refine g_iadd (q := 46) M dX4_balloonsIn_45 rfl ?_
        refine g_ialdN (q := 47) (n := 213) M dX4_balloonsIn_46 rfl T.a33.2.1 rfl T.a33.2.2 (ixk 15 rfl k) (by omega) (by decide) ?_
        refine g_iload_n (q := 48) M dX4_balloonsIn_47 rfl rfl ?_
        refine g_icmp_ne (q := 51) (tgt := 55) M dX4_balloonsIn_48 (by decide) rfl (fun c_48 => ?_) (fun c_48 => ?_)
        · refine g_iconst (q := 56) (v := 0) M dX4_balloonsIn_55 rfl (by decide) ?_
          exact J _ (if_neg c_48).symm
        · refine g_iconst (q := 52) (v := 1) M dX4_balloonsIn_51 rfl (by decide) ?_
          refine g_goto (tgt := 56) M dX4_balloonsIn_52 (by decide) ?_
          exact J _ (if_pos c_48).symm
  · refine g_iconst (q := 22) (v := (-1)) M dX4_balloonsIn_21 rfl (by decide) ?_
    refine g_ireturn M Ee dX4_balloonsIn_22 ?_
    exact ⟨_, rfl, rfl, (if_neg (bI_d.mp c_18)).symm⟩
/-- the first return of the first n that fly -/
def spRet (R : Nat → Int32) : Nat → Int32 | 0 => -2 | k + 1 => if spRet R k = -2 ∨ R (124 + k) < spRet R k then R (124 + k) else spRet R k
theorem c_X4_nextReturn {Z : xZ} {h : xH} {m nF : Nat} (T : TW h m) (hN : tA h m 1 83 = nI nF) (hl : nF ≤ 40) : CT Z yX4_nextReturn cX4_nextReturn 3 (some .int) 0 0 0 [vr m] h (rI fun r h' => h' = pI h 32 m 0 ∧ r = spRet (tA h m 1) nF) := by
  refine CT.of (E := [some (vr m), none, none]) (by decide +kernel) rfl rfl (Nat.le_of_ble_eq_true rfl) (fun X M Ee => ?_)
  have M : MX Z X cX4_nextReturn "BalloonMailModel" 3 0 (some .int) "nextReturn" := M
  refine g_aload_n (q := 1) M dX4_nextReturn_0 rfl rfl ?_
  refine g_iconst (q := 2) (v := 0) M dX4_nextReturn_1 rfl (by decide) ?_
  refine g_putI (q := 5) (f := 32) M dX4_nextReturn_2 rfl l_X4_1 T.1 (by decide +kernel) rfl ⟨rfl, rfl⟩ ?_
  refine g_bipush (q := 7) (v := (-2)) M dX4_nextReturn_5 rfl (by decide) ?_
  refine g_istore_n (q := 8) (j := 1) M dX4_nextReturn_7 rfl rfl (Nat.le_of_ble_eq_true rfl) rfl ?_
  dsimp only [st1, st2, kl, List.set_cons_zero, List.set_cons_succ, List.set_nil]
  refine g_iconst (q := 9) (v := 0) M dX4_nextReturn_8 rfl (by decide) ?_
  refine g_istore_n (q := 10) (j := 2) M dX4_nextReturn_9 rfl rfl (Nat.le_of_ble_eq_true rfl) rfl ?_
  dsimp only [st1, st2, kl, List.set_cons_zero, List.set_cons_succ, List.set_nil]
  refine upLoop (P := fun k => G Z X 0 0 10 [some (vr m), some (vi (spRet (tA h m 1) k)), some (vi (nI k))] [] (pI h 32 m 0)) nF ?_ ?_ 0 (Nat.zero_le _)
  · refine g_iload_n (q := 11) M dX4_nextReturn_10 rfl rfl ?_
    refine g_aload_n (q := 12) M dX4_nextReturn_11 rfl rfl ?_
    refine g_tw (q := 15) (f := 33) M dX4_nextReturn_12 rfl l_X4_13 T rfl rfl T.a33 ?_
    refine g_bipush (q := 17) (v := 83) M dX4_nextReturn_15 rfl (by decide) ?_
    refine g_ialdN (q := 18) (n := 213) (k := 83) M dX4_nextReturn_17 rfl T.a33.2.1 rfl T.a33.2.2 rfl (by decide) (by decide) ?_
    rw [show yI (pI h 32 m 0) (m + 1) 83 = nI nF from hN]
    refine g_icmp_ge (q := 21) (tgt := 60) M dX4_nextReturn_18 (by decide) rfl (fun c_18 => ?_) (fun c_18 => ?_)
    · refine g_iload_n (q := 61) M dX4_nextReturn_60 rfl rfl ?_
      refine g_ireturn M Ee dX4_nextReturn_61 ?_
      exact ⟨_, rfl, rfl, rfl⟩
    · exact absurd (Int32.le_refl _) c_18
  · intro k hk ih
    refine g_iload_n (q := 11) M dX4_nextReturn_10 rfl rfl ?_
    refine g_aload_n (q := 12) M dX4_nextReturn_11 rfl rfl ?_
    refine g_tw (q := 15) (f := 33) M dX4_nextReturn_12 rfl l_X4_13 T rfl rfl T.a33 ?_
    refine g_bipush (q := 17) (v := 83) M dX4_nextReturn_15 rfl (by decide) ?_
    refine g_ialdN (q := 18) (n := 213) (k := 83) M dX4_nextReturn_17 rfl T.a33.2.1 rfl T.a33.2.2 rfl (by decide) (by decide) ?_
    rw [show yI (pI h 32 m 0) (m + 1) 83 = nI nF from hN]
    refine g_icmp_ge (q := 21) (tgt := 60) M dX4_nextReturn_18 (by decide) rfl (fun c_18 => ?_) (fun c_18 => ?_)
    · exact absurd ((nI_leI (by omega) (by omega)).mp c_18) (by omega)
    · have J : ∀ z : Int32, z = spRet (tA h m 1) (k + 1) → G Z X 0 0 53 [some (vr m), some (vi (spRet (tA h m 1) k)), some (vi (nI k))] [vi z] (pI h 32 m 0) := by
        intro z hz
        refine g_istore_n (q := 54) (j := 1) M dX4_nextReturn_53 rfl rfl (Nat.le_of_ble_eq_true rfl) rfl ?_
        dsimp only [st1, st2, kl, List.set_cons_zero, List.set_cons_succ, List.set_nil]
        refine g_iinc (q := 57) (w := 1) M dX4_nextReturn_54 rfl (Nat.le_of_ble_eq_true rfl) rfl (by decide) rfl ?_
        dsimp only [st1, st2, kl, List.set_cons_zero, List.set_cons_succ, List.set_nil]
        try rw [nI_1]
        refine g_goto (tgt := 10) M dX4_nextReturn_57 (by decide) ?_
        rw [hz]
        exact ih
      refine g_iload_n (q := 22) M dX4_nextReturn_21 rfl rfl ?_
      refine g_bipush (q := 24) (v := (-2)) M dX4_nextReturn_22 rfl (by decide) ?_
      refine g_icmp_eq (q := 27) (tgt := 40) M dX4_nextReturn_24 (by decide) rfl (fun c_24 => ?_) (fun c_24 => ?_)
      · refine g_aload_n (q := 41) M dX4_nextReturn_40 rfl rfl ?_
        refine g_tw (q := 44) (f := 33) M dX4_nextReturn_41 rfl l_X4_13 T rfl rfl T.a33 ?_
        refine g_bipush (q := 46) (v := 124) M dX4_nextReturn_44 rfl (by decide) ?_
        refine g_iload_n (q := 47) M dX4_nextReturn_46 rfl rfl ?_
        refine g_iadd (q := 48) M dX4_nextReturn_47 rfl ?_
        refine g_ialdN (q := 49) (n := 213) M dX4_nextReturn_48 rfl T.a33.2.1 rfl T.a33.2.2 (ixk 124 rfl k) (by omega) (by decide) ?_
        refine g_goto (tgt := 53) M dX4_nextReturn_49 (by decide) ?_
        exact J _ (if_pos (Or.inl c_24)).symm
      · refine g_aload_n (q := 28) M dX4_nextReturn_27 rfl rfl ?_
        refine g_tw (q := 31) (f := 33) M dX4_nextReturn_28 rfl l_X4_13 T rfl rfl T.a33 ?_
        refine g_bipush (q := 33) (v := 124) M dX4_nextReturn_31 rfl (by decide) ?_
        refine g_iload_n (q := 34) M dX4_nextReturn_33 rfl rfl ?_
        refine g_iadd (q := 35) M dX4_nextReturn_34 rfl ?_
        refine g_ialdN (q := 36) (n := 213) M dX4_nextReturn_35 rfl T.a33.2.1 rfl T.a33.2.2 (ixk 124 rfl k) (by omega) (by decide) ?_
        refine g_iload_n (q := 37) M dX4_nextReturn_36 rfl rfl ?_
        refine g_icmp_ge (q := 40) (tgt := 52) M dX4_nextReturn_37 (by decide) rfl (fun c_37 => ?_) (fun c_37 => ?_)
        · refine g_iload_n (q := 53) M dX4_nextReturn_52 rfl rfl ?_
          exact J _ (if_neg (fun z => z.elim c_24 (fun z => absurd z (Int32.not_lt.mpr c_37)))).symm
        · refine g_aload_n (q := 41) M dX4_nextReturn_40 rfl rfl ?_
          refine g_tw (q := 44) (f := 33) M dX4_nextReturn_41 rfl l_X4_13 T rfl rfl T.a33 ?_
          refine g_bipush (q := 46) (v := 124) M dX4_nextReturn_44 rfl (by decide) ?_
          refine g_iload_n (q := 47) M dX4_nextReturn_46 rfl rfl ?_
          refine g_iadd (q := 48) M dX4_nextReturn_47 rfl ?_
          refine g_ialdN (q := 49) (n := 213) M dX4_nextReturn_48 rfl T.a33.2.1 rfl T.a33.2.2 (ixk 124 rfl k) (by omega) (by decide) ?_
          refine g_goto (tgt := 53) M dX4_nextReturn_49 (by decide) ?_
          exact J _ (if_pos (Or.inr (Int32.not_le.mp c_37))).symm
/-- the weight of a region in a wind, the first n entries; NONE: of the sea -/
def spNSum (A : Nat → Nat → Int32) (w n : Nat) : Int32 := smI (fun k => A 9 (8 * w + k)) n
def spNIts (A : Nat → Nat → Int32) (w : Nat) (r : Int32) : Nat → Int32 | 0 => 0 | k + 1 => if A 8 (8 * w + k) = r then A 9 (8 * w + k) else spNIts A w r k
theorem c_X4_weightBy {Z : xZ} {h : xH} {m w n : Nat} {r : Int32} (T : TW h m) (hw : w < 6) (hN : tA h m 7 w = nI n) (hl : n ≤ 8) : CT Z yX4_weightBy cX4_weightBy 6 (some .int) 0 0 0 [vr m, vi (nI w), vi r] h (rI fun x h' => h = h' ∧ x = if r = -2 then 10 - spNSum (tA h m) w n else spNIts (tA h m) w r n) := by
  refine CT.of (E := [some (vr m), some (vi (nI w)), some (vi r), none, none, none]) (by decide +kernel) rfl rfl (Nat.le_of_ble_eq_true rfl) (fun X M Ee => ?_)
  have M : MX Z X cX4_weightBy "BalloonMailModel" 6 0 (some .int) "weightBy" := M
  refine g_iconst (q := 1) (v := 0) M dX4_weightBy_0 rfl (by decide) ?_
  refine g_istore_n (q := 2) (j := 3) M dX4_weightBy_1 rfl rfl (Nat.le_of_ble_eq_true rfl) rfl ?_
  dsimp only [st1, st2, kl, List.set_cons_zero, List.set_cons_succ, List.set_nil]
  refine g_iconst (q := 3) (v := 0) M dX4_weightBy_2 rfl (by decide) ?_
  refine g_istore (q := 5) (j := 4) M dX4_weightBy_3 rfl rfl (Nat.le_of_ble_eq_true rfl) rfl ?_
  dsimp only [st1, st2, kl, List.set_cons_zero, List.set_cons_succ, List.set_nil]
  refine g_iconst (q := 6) (v := 0) M dX4_weightBy_5 rfl (by decide) ?_
  refine g_istore (q := 8) (j := 5) M dX4_weightBy_6 rfl rfl (Nat.le_of_ble_eq_true rfl) rfl ?_
  dsimp only [st1, st2, kl, List.set_cons_zero, List.set_cons_succ, List.set_nil]
  refine upLoop (P := fun k => G Z X 0 0 8 [some (vr m), some (vi (nI w)), some (vi r), some (vi (spNSum (tA h m) w k)), some (vi (spNIts (tA h m) w r k)), some (vi (nI k))] [] h) n ?_ ?_ 0 (Nat.zero_le _)
  · refine g_iload (q := 10) M dX4_weightBy_8 rfl rfl ?_
    refine g_aload_n (q := 11) M dX4_weightBy_10 rfl rfl ?_
    refine g_tw (q := 14) (f := 39) M dX4_weightBy_11 rfl l_X4_32 T rfl rfl T.a39 ?_
    refine g_iload_n (q := 15) M dX4_weightBy_14 rfl rfl ?_
    refine g_ialdN (q := 16) (n := 12) M dX4_weightBy_15 rfl T.a39.2.1 rfl T.a39.2.2 rfl (by omega) (by decide) ?_
    rw [show yI h (m + 7) w = nI n from hN]
    refine g_icmp_ge (q := 19) (tgt := 75) M dX4_weightBy_16 (by decide) rfl (fun c_16 => ?_) (fun c_16 => ?_)
    · refine g_iload_n (q := 76) M dX4_weightBy_75 rfl rfl ?_
      refine g_bipush (q := 78) (v := (-2)) M dX4_weightBy_76 rfl (by decide) ?_
      refine g_icmp_ne (q := 81) (tgt := 88) M dX4_weightBy_78 (by decide) rfl (fun c_78 => ?_) (fun c_78 => ?_)
      · refine g_iload (q := 90) M dX4_weightBy_88 rfl rfl ?_
        refine g_ireturn M Ee dX4_weightBy_90 ?_
        exact ⟨_, rfl, rfl, (if_neg c_78).symm⟩
      · refine g_bipush (q := 83) (v := 10) M dX4_weightBy_81 rfl (by decide) ?_
        refine g_iload_n (q := 84) M dX4_weightBy_83 rfl rfl ?_
        refine g_isub (q := 85) M dX4_weightBy_84 rfl ?_
        refine g_goto (tgt := 90) M dX4_weightBy_85 (by decide) ?_
        refine g_ireturn M Ee dX4_weightBy_90 ?_
        exact ⟨_, rfl, rfl, (if_pos c_78).symm⟩
    · exact absurd (Int32.le_refl _) c_16
  · intro k hk ih
    refine g_iload (q := 10) M dX4_weightBy_8 rfl rfl ?_
    refine g_aload_n (q := 11) M dX4_weightBy_10 rfl rfl ?_
    refine g_tw (q := 14) (f := 39) M dX4_weightBy_11 rfl l_X4_32 T rfl rfl T.a39 ?_
    refine g_iload_n (q := 15) M dX4_weightBy_14 rfl rfl ?_
    refine g_ialdN (q := 16) (n := 12) M dX4_weightBy_15 rfl T.a39.2.1 rfl T.a39.2.2 rfl (by omega) (by decide) ?_
    rw [show yI h (m + 7) w = nI n from hN]
    refine g_icmp_ge (q := 19) (tgt := 75) M dX4_weightBy_16 (by decide) rfl (fun c_16 => ?_) (fun c_16 => ?_)
    · exact absurd ((nI_leI (by omega) (by omega)).mp c_16) (by omega)
    · refine g_iload_n (q := 20) M dX4_weightBy_19 rfl rfl ?_
      refine g_aload_n (q := 21) M dX4_weightBy_20 rfl rfl ?_
      refine g_tw (q := 24) (f := 41) M dX4_weightBy_21 rfl l_X4_38 T rfl rfl T.a41 ?_
      refine g_bipush (q := 26) (v := 8) M dX4_weightBy_24 rfl (by decide) ?_
      refine g_iload_n (q := 27) M dX4_weightBy_26 rfl rfl ?_
      refine g_imul (q := 28) M dX4_weightBy_27 rfl ?_
      refine g_iload (q := 30) M dX4_weightBy_28 rfl rfl ?_
      refine g_iadd (q := 31) M dX4_weightBy_30 rfl ?_
      refine g_ialdN (q := 32) (n := 96) M dX4_weightBy_31 rfl T.a41.2.1 rfl T.a41.2.2 (ix8 w k) (by omega) (by decide) ?_
      refine g_iadd (q := 33) M dX4_weightBy_32 rfl ?_
      refine g_istore_n (q := 34) (j := 3) M dX4_weightBy_33 rfl rfl (Nat.le_of_ble_eq_true rfl) rfl ?_
      dsimp only [st1, st2, kl, List.set_cons_zero, List.set_cons_succ, List.set_nil]
      refine g_aload_n (q := 35) M dX4_weightBy_34 rfl rfl ?_
      refine g_tw (q := 38) (f := 40) M dX4_weightBy_35 rfl l_X4_35 T rfl rfl T.a40 ?_
      refine g_bipush (q := 40) (v := 8) M dX4_weightBy_38 rfl (by decide) ?_
      refine g_iload_n (q := 41) M dX4_weightBy_40 rfl rfl ?_
      refine g_imul (q := 42) M dX4_weightBy_41 rfl ?_
      refine g_iload (q := 44) M dX4_weightBy_42 rfl rfl ?_
      refine g_iadd (q := 45) M dX4_weightBy_44 rfl ?_
      refine g_ialdN (q := 46) (n := 96) M dX4_weightBy_45 rfl T.a40.2.1 rfl T.a40.2.2 (ix8 w k) (by omega) (by decide) ?_
      refine g_iload_n (q := 47) M dX4_weightBy_46 rfl rfl ?_
      have J : ∀ z : Int32, z = spNIts (tA h m) w r (k + 1) → G Z X 0 0 67 [some (vr m), some (vi (nI w)), some (vi r), some (vi (spNSum (tA h m) w (k + 1))), some (vi (spNIts (tA h m) w r k)), some (vi (nI k))] [vi z] h := by
        intro z hz
        refine g_istore (q := 69) (j := 4) M dX4_weightBy_67 rfl rfl (Nat.le_of_ble_eq_true rfl) rfl ?_
        dsimp only [st1, st2, kl, List.set_cons_zero, List.set_cons_succ, List.set_nil]
        refine g_iinc (q := 72) (w := 1) M dX4_weightBy_69 rfl (Nat.le_of_ble_eq_true rfl) rfl (by decide) rfl ?_
        dsimp only [st1, st2, kl, List.set_cons_zero, List.set_cons_succ, List.set_nil]
        try rw [nI_1]
        refine g_goto (tgt := 8) M dX4_weightBy_72 (by decide) ?_
        rw [hz]
        exact ih
      refine g_icmp_ne (q := 50) (tgt := 65) M dX4_weightBy_47 (by decide) rfl (fun c_47 => ?_) (fun c_47 => ?_)
      · refine g_iload (q := 67) M dX4_weightBy_65 rfl rfl ?_
        exact J _ (if_neg c_47).symm
      · refine g_aload_n (q := 51) M dX4_weightBy_50 rfl rfl ?_
        refine g_tw (q := 54) (f := 41) M dX4_weightBy_51 rfl l_X4_38 T rfl rfl T.a41 ?_
        refine g_bipush (q := 56) (v := 8) M dX4_weightBy_54 rfl (by decide) ?_
        refine g_iload_n (q := 57) M dX4_weightBy_56 rfl rfl ?_
        refine g_imul (q := 58) M dX4_weightBy_57 rfl ?_
        refine g_iload (q := 60) M dX4_weightBy_58 rfl rfl ?_
        refine g_iadd (q := 61) M dX4_weightBy_60 rfl ?_
        refine g_ialdN (q := 62) (n := 96) M dX4_weightBy_61 rfl T.a41.2.1 rfl T.a41.2.2 (ix8 w k) (by omega) (by decide) ?_
        refine g_goto (tgt := 67) M dX4_weightBy_62 (by decide) ?_
        exact J _ (if_pos c_47).symm
