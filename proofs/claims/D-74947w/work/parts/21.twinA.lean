/-! THE TWIN's small methods -/
set_option maxRecDepth 100000
/-- the twin's int arrays, by offset -/
def tA (h : xH) (m : Nat) : Nat → Nat → Int32 := fun o j => yI h (m + o) j
def bI (b : Bool) : Int32 := if b then 1 else 0
theorem bI_01 (b : Bool) : bI b = 0 ∨ bI b = 1 := by cases b <;> simp [bI]
theorem bI_0 {b : Bool} : bI b = 0 ↔ b = false := by cases b <;> simp [bI]
theorem bI_d {c : Prop} [Decidable c] : bI (decide c) = 0 ↔ ¬ c := by rw [bI_0, decide_eq_false_iff_not]
theorem bI_n {c : Prop} [Decidable c] : ¬ bI (decide c) = 0 ↔ c := by rw [bI_d, Decidable.not_not]
theorem bI_t {c : Prop} [Decidable c] (h : c) : bI (decide c) = 1 := by simp [bI, h]
theorem bI_f {c : Prop} [Decidable c] (h : ¬ c) : bI (decide c) = 0 := by simp [bI, h]
/-- the siege's counts -/
def SgN (A : Nat → Nat → Int32) (nR nW nT nB nL : Nat) : Prop := (A 2 0 = nI nR ∧ nR ≤ 8) ∧ (A 6 0 = nI nW ∧ nW ≤ 6) ∧ (A 10 0 = nI nT ∧ nT ≤ 30) ∧ (A 14 0 = nI nB ∧ nB ≤ 10) ∧ (A 17 0 = nI nL ∧ nL ≤ 24)
theorem nI_m1 {n : Nat} (h : n < 1000) {x : Int32} (h0 : 0 ≤ x) (h1 : x ≤ nI n - 1) : ∃ k, k < n ∧ x = nI k := by
  have e : (nI n - 1).toInt = (n : Int) - 1 := by
    rw [show nI n - 1 = nI n - nI 1 from rfl]
    exact pk_sub_toInt (by omega) (by decide)
  have a0 := Int32.le_iff_toInt_le.mp h0
  have a1 := Int32.le_iff_toInt_le.mp h1
  rw [e] at a1
  rw [Int32.toInt_zero] at a0
  refine ⟨x.toInt.toNat, by omega, ?_⟩
  apply Int32.toInt_inj.mp
  rw [nI_toInt (by omega)]
  omega
theorem c_X4_within {Z : xZ} {h : xH} {v a b : Int32} : CT Z yX4_within cX4_within 3 (some .boolean) 0 0 0 [vi v, vi a, vi b] h (rI fun r h' => h = h' ∧ r = bI (decide (a ≤ v ∧ v ≤ b))) := by
  refine CT.of (E := [some (vi v), some (vi a), some (vi b)]) (by decide +kernel) rfl rfl (Nat.le_of_ble_eq_true rfl) (fun X M Ee => ?_)
  have M : MX Z X cX4_within "BalloonMailModel" 3 0 (some .boolean) "within" := M
  refine g_iload_n (q := 1) M dX4_within_0 rfl rfl ?_
  refine g_iload_n (q := 2) M dX4_within_1 rfl rfl ?_
  refine g_icmp_lt (q := 5) (tgt := 14) M dX4_within_2 (by decide) rfl (fun c_2 => ?_) (fun c_2 => ?_)
  · refine g_iconst (q := 15) (v := 0) M dX4_within_14 rfl (by decide) ?_
    refine g_zreturn M Ee dX4_within_15 (by decide) ?_
    exact ⟨_, rfl, rfl, (bI_f (fun z => by rw [Int32.lt_iff_toInt_lt] at c_2; have := Int32.le_iff_toInt_le.mp z.1; omega)).symm⟩
  · refine g_iload_n (q := 6) M dX4_within_5 rfl rfl ?_
    refine g_iload_n (q := 7) M dX4_within_6 rfl rfl ?_
    refine g_icmp_gt (q := 10) (tgt := 14) M dX4_within_7 (by decide) rfl (fun c_7 => ?_) (fun c_7 => ?_)
    · refine g_iconst (q := 15) (v := 0) M dX4_within_14 rfl (by decide) ?_
      refine g_zreturn M Ee dX4_within_15 (by decide) ?_
      exact ⟨_, rfl, rfl, (bI_f (fun z => by rw [Int32.lt_iff_toInt_lt] at c_7; have := Int32.le_iff_toInt_le.mp z.2; omega)).symm⟩
    · refine g_iconst (q := 11) (v := 1) M dX4_within_10 rfl (by decide) ?_
      refine g_goto (tgt := 15) M dX4_within_11 (by decide) ?_
      refine g_zreturn M Ee dX4_within_15 (by decide) ?_
      exact ⟨_, rfl, rfl, (bI_t ⟨Int32.not_lt.mp c_2, Int32.not_lt.mp c_7⟩).symm⟩
/-- bit k of a set -/
def hasB (x k : Int32) : Bool := decide (x >>> (k &&& 31) &&& 1 = 1)
theorem c_X4_has {Z : xZ} {h : xH} {x k : Int32} : CT Z yX4_has cX4_has 2 (some .boolean) 0 0 0 [vi x, vi k] h (rI fun r h' => h = h' ∧ r = bI (hasB x k)) := by
  refine CT.of (E := [some (vi x), some (vi k)]) (by decide +kernel) rfl rfl (Nat.le_of_ble_eq_true rfl) (fun X M Ee => ?_)
  have M : MX Z X cX4_has "BalloonMailModel" 2 0 (some .boolean) "has" := M
  refine g_iload_n (q := 1) M dX4_has_0 rfl rfl ?_
  refine g_iload_n (q := 2) M dX4_has_1 rfl rfl ?_
  refine g_ishr (q := 3) M dX4_has_2 rfl ?_
  refine g_iconst (q := 4) (v := 1) M dX4_has_3 rfl (by decide) ?_
  refine g_iand (q := 5) M dX4_has_4 rfl ?_
  refine g_iconst (q := 6) (v := 1) M dX4_has_5 rfl (by decide) ?_
  refine g_icmp_ne (q := 9) (tgt := 13) M dX4_has_6 (by decide) rfl (fun c_6 => ?_) (fun c_6 => ?_)
  · refine g_iconst (q := 14) (v := 0) M dX4_has_13 rfl (by decide) ?_
    refine g_zreturn M Ee dX4_has_14 (by decide) ?_
    exact ⟨_, rfl, rfl, by simp [bI, hasB, c_6]⟩
  · refine g_iconst (q := 10) (v := 1) M dX4_has_9 rfl (by decide) ?_
    refine g_goto (tgt := 14) M dX4_has_10 (by decide) ?_
    refine g_zreturn M Ee dX4_has_14 (by decide) ?_
    exact ⟨_, rfl, rfl, by simp [bI, hasB, c_6]⟩
theorem c_X4_thrown {Z : xZ} {h : xH} {m : Nat} (T : TW h m) : CT Z yX4_thrown cX4_thrown 1 (some .int) 0 0 0 [vr m] h (rI fun r h' => h = h' ∧ r = xI h 32 m) := by
  refine CT.of (E := [some (vr m)]) (by decide +kernel) rfl rfl (Nat.le_of_ble_eq_true rfl) (fun X M Ee => ?_)
  have M : MX Z X cX4_thrown "BalloonMailModel" 1 0 (some .int) "thrown" := M
  refine g_aload_n (q := 1) M dX4_thrown_0 rfl rfl ?_
  refine g_getI (q := 4) (f := 32) M dX4_thrown_1 rfl l_X4_1 T.1 rfl rfl ?_
  refine g_ireturn M Ee dX4_thrown_4 ?_
  exact ⟨_, rfl, rfl, rfl⟩

theorem c_X4_errorPosition {Z : xZ} {h : xH} {m : Nat} (T : TW h m) : CT Z yX4_errorPosition cX4_errorPosition 1 (some .int) 0 0 0 [vr m] h (rI fun r h' => h' = pI h 32 m 0 ∧ r = xI h 66 m) := by
  refine CT.of (E := [some (vr m)]) (by decide +kernel) rfl rfl (Nat.le_of_ble_eq_true rfl) (fun X M Ee => ?_)
  have M : MX Z X cX4_errorPosition "BalloonMailModel" 1 0 (some .int) "errorPosition" := M
  refine g_aload_n (q := 1) M dX4_errorPosition_0 rfl rfl ?_
  refine g_iconst (q := 2) (v := 0) M dX4_errorPosition_1 rfl (by decide) ?_
  refine g_putI (q := 5) (f := 32) M dX4_errorPosition_2 rfl l_X4_1 T.1 (by decide +kernel) rfl ⟨rfl, rfl⟩ ?_
  refine g_aload_n (q := 6) M dX4_errorPosition_5 rfl rfl ?_
  refine g_getI (q := 9) (f := 66) M dX4_errorPosition_6 rfl l_X4_75 T.1 rfl rfl ?_
  refine g_ireturn M Ee dX4_errorPosition_9 ?_
  exact ⟨_, rfl, rfl, rfl⟩
theorem c_X4_regionCount {Z : xZ} {h : xH} {m : Nat} (T : TW h m) : CT Z yX4_regionCount cX4_regionCount 1 (some .int) 0 0 0 [vr m] h (rI fun r h' => h' = pI h 32 m 0 ∧ r = tA h m 2 0) := by
  refine CT.of (E := [some (vr m)]) (by decide +kernel) rfl rfl (Nat.le_of_ble_eq_true rfl) (fun X M Ee => ?_)
  have M : MX Z X cX4_regionCount "BalloonMailModel" 1 0 (some .int) "regionCount" := M
  refine g_aload_n (q := 1) M dX4_regionCount_0 rfl rfl ?_
  refine g_iconst (q := 2) (v := 0) M dX4_regionCount_1 rfl (by decide) ?_
  refine g_putI (q := 5) (f := 32) M dX4_regionCount_2 rfl l_X4_1 T.1 (by decide +kernel) rfl ⟨rfl, rfl⟩ ?_
  refine g_aload_n (q := 6) M dX4_regionCount_5 rfl rfl ?_
  refine g_tw (q := 9) (f := 34) M dX4_regionCount_6 rfl l_X4_17 T rfl rfl T.a34 ?_
  refine g_iconst (q := 10) (v := 0) M dX4_regionCount_9 rfl (by decide) ?_
  refine g_ialdN (q := 11) (n := 2) (k := 0) M dX4_regionCount_10 rfl T.a34.2.1 rfl T.a34.2.2 rfl (by decide) (by decide) ?_
  refine g_ireturn M Ee dX4_regionCount_11 ?_
  exact ⟨_, rfl, rfl, rfl⟩
theorem c_X4_windCount {Z : xZ} {h : xH} {m : Nat} (T : TW h m) : CT Z yX4_windCount cX4_windCount 1 (some .int) 0 0 0 [vr m] h (rI fun r h' => h' = pI h 32 m 0 ∧ r = tA h m 6 0) := by
  refine CT.of (E := [some (vr m)]) (by decide +kernel) rfl rfl (Nat.le_of_ble_eq_true rfl) (fun X M Ee => ?_)
  have M : MX Z X cX4_windCount "BalloonMailModel" 1 0 (some .int) "windCount" := M
  refine g_aload_n (q := 1) M dX4_windCount_0 rfl rfl ?_
  refine g_iconst (q := 2) (v := 0) M dX4_windCount_1 rfl (by decide) ?_
  refine g_putI (q := 5) (f := 32) M dX4_windCount_2 rfl l_X4_1 T.1 (by decide +kernel) rfl ⟨rfl, rfl⟩ ?_
  refine g_aload_n (q := 6) M dX4_windCount_5 rfl rfl ?_
  refine g_tw (q := 9) (f := 38) M dX4_windCount_6 rfl l_X4_29 T rfl rfl T.a38 ?_
  refine g_iconst (q := 10) (v := 0) M dX4_windCount_9 rfl (by decide) ?_
  refine g_ialdN (q := 11) (n := 2) (k := 0) M dX4_windCount_10 rfl T.a38.2.1 rfl T.a38.2.2 rfl (by decide) (by decide) ?_
  refine g_ireturn M Ee dX4_windCount_11 ?_
  exact ⟨_, rfl, rfl, rfl⟩
theorem c_X4_balloonCount {Z : xZ} {h : xH} {m : Nat} (T : TW h m) : CT Z yX4_balloonCount cX4_balloonCount 1 (some .int) 0 0 0 [vr m] h (rI fun r h' => h' = pI h 32 m 0 ∧ r = tA h m 14 0) := by
  refine CT.of (E := [some (vr m)]) (by decide +kernel) rfl rfl (Nat.le_of_ble_eq_true rfl) (fun X M Ee => ?_)
  have M : MX Z X cX4_balloonCount "BalloonMailModel" 1 0 (some .int) "balloonCount" := M
  refine g_aload_n (q := 1) M dX4_balloonCount_0 rfl rfl ?_
  refine g_iconst (q := 2) (v := 0) M dX4_balloonCount_1 rfl (by decide) ?_
  refine g_putI (q := 5) (f := 32) M dX4_balloonCount_2 rfl l_X4_1 T.1 (by decide +kernel) rfl ⟨rfl, rfl⟩ ?_
  refine g_aload_n (q := 6) M dX4_balloonCount_5 rfl rfl ?_
  refine g_tw (q := 9) (f := 46) M dX4_balloonCount_6 rfl l_X4_53 T rfl rfl T.a46 ?_
  refine g_iconst (q := 10) (v := 0) M dX4_balloonCount_9 rfl (by decide) ?_
  refine g_ialdN (q := 11) (n := 2) (k := 0) M dX4_balloonCount_10 rfl T.a46.2.1 rfl T.a46.2.2 rfl (by decide) (by decide) ?_
  refine g_ireturn M Ee dX4_balloonCount_11 ?_
  exact ⟨_, rfl, rfl, rfl⟩
theorem c_X4_letterCount {Z : xZ} {h : xH} {m : Nat} (T : TW h m) : CT Z yX4_letterCount cX4_letterCount 1 (some .int) 0 0 0 [vr m] h (rI fun r h' => h' = pI h 32 m 0 ∧ r = tA h m 17 0) := by
  refine CT.of (E := [some (vr m)]) (by decide +kernel) rfl rfl (Nat.le_of_ble_eq_true rfl) (fun X M Ee => ?_)
  have M : MX Z X cX4_letterCount "BalloonMailModel" 1 0 (some .int) "letterCount" := M
  refine g_aload_n (q := 1) M dX4_letterCount_0 rfl rfl ?_
  refine g_iconst (q := 2) (v := 0) M dX4_letterCount_1 rfl (by decide) ?_
  refine g_putI (q := 5) (f := 32) M dX4_letterCount_2 rfl l_X4_1 T.1 (by decide +kernel) rfl ⟨rfl, rfl⟩ ?_
  refine g_aload_n (q := 6) M dX4_letterCount_5 rfl rfl ?_
  refine g_tw (q := 9) (f := 49) M dX4_letterCount_6 rfl l_X4_62 T rfl rfl T.a49 ?_
  refine g_iconst (q := 10) (v := 0) M dX4_letterCount_9 rfl (by decide) ?_
  refine g_ialdN (q := 11) (n := 2) (k := 0) M dX4_letterCount_10 rfl T.a49.2.1 rfl T.a49.2.2 rfl (by decide) (by decide) ?_
  refine g_ireturn M Ee dX4_letterCount_11 ?_
  exact ⟨_, rfl, rfl, rfl⟩
theorem c_X4_day {Z : xZ} {h : xH} {m : Nat} (T : TW h m) : CT Z yX4_day cX4_day 1 (some .int) 0 0 0 [vr m] h (rI fun r h' => h' = pI h 32 m 0 ∧ r = tA h m 1 0) := by
  refine CT.of (E := [some (vr m)]) (by decide +kernel) rfl rfl (Nat.le_of_ble_eq_true rfl) (fun X M Ee => ?_)
  have M : MX Z X cX4_day "BalloonMailModel" 1 0 (some .int) "day" := M
  refine g_aload_n (q := 1) M dX4_day_0 rfl rfl ?_
  refine g_iconst (q := 2) (v := 0) M dX4_day_1 rfl (by decide) ?_
  refine g_putI (q := 5) (f := 32) M dX4_day_2 rfl l_X4_1 T.1 (by decide +kernel) rfl ⟨rfl, rfl⟩ ?_
  refine g_aload_n (q := 6) M dX4_day_5 rfl rfl ?_
  refine g_tw (q := 9) (f := 33) M dX4_day_6 rfl l_X4_13 T rfl rfl T.a33 ?_
  refine g_iconst (q := 10) (v := 0) M dX4_day_9 rfl (by decide) ?_
  refine g_ialdN (q := 11) (n := 213) (k := 0) M dX4_day_10 rfl T.a33.2.1 rfl T.a33.2.2 rfl (by decide) (by decide) ?_
  refine g_ireturn M Ee dX4_day_11 ?_
  exact ⟨_, rfl, rfl, rfl⟩
theorem c_X4_wind {Z : xZ} {h : xH} {m : Nat} (T : TW h m) : CT Z yX4_wind cX4_wind 1 (some .int) 0 0 0 [vr m] h (rI fun r h' => h' = pI h 32 m 0 ∧ r = tA h m 1 1) := by
  refine CT.of (E := [some (vr m)]) (by decide +kernel) rfl rfl (Nat.le_of_ble_eq_true rfl) (fun X M Ee => ?_)
  have M : MX Z X cX4_wind "BalloonMailModel" 1 0 (some .int) "wind" := M
  refine g_aload_n (q := 1) M dX4_wind_0 rfl rfl ?_
  refine g_iconst (q := 2) (v := 0) M dX4_wind_1 rfl (by decide) ?_
  refine g_putI (q := 5) (f := 32) M dX4_wind_2 rfl l_X4_1 T.1 (by decide +kernel) rfl ⟨rfl, rfl⟩ ?_
  refine g_aload_n (q := 6) M dX4_wind_5 rfl rfl ?_
  refine g_tw (q := 9) (f := 33) M dX4_wind_6 rfl l_X4_13 T rfl rfl T.a33 ?_
  refine g_iconst (q := 10) (v := 1) M dX4_wind_9 rfl (by decide) ?_
  refine g_ialdN (q := 11) (n := 213) (k := 1) M dX4_wind_10 rfl T.a33.2.1 rfl T.a33.2.2 rfl (by decide) (by decide) ?_
  refine g_ireturn M Ee dX4_wind_11 ?_
  exact ⟨_, rfl, rfl, rfl⟩
theorem c_X4_pigeonsInLoft {Z : xZ} {h : xH} {m : Nat} (T : TW h m) : CT Z yX4_pigeonsInLoft cX4_pigeonsInLoft 1 (some .int) 0 0 0 [vr m] h (rI fun r h' => h' = pI h 32 m 0 ∧ r = tA h m 1 3) := by
  refine CT.of (E := [some (vr m)]) (by decide +kernel) rfl rfl (Nat.le_of_ble_eq_true rfl) (fun X M Ee => ?_)
  have M : MX Z X cX4_pigeonsInLoft "BalloonMailModel" 1 0 (some .int) "pigeonsInLoft" := M
  refine g_aload_n (q := 1) M dX4_pigeonsInLoft_0 rfl rfl ?_
  refine g_iconst (q := 2) (v := 0) M dX4_pigeonsInLoft_1 rfl (by decide) ?_
  refine g_putI (q := 5) (f := 32) M dX4_pigeonsInLoft_2 rfl l_X4_1 T.1 (by decide +kernel) rfl ⟨rfl, rfl⟩ ?_
  refine g_aload_n (q := 6) M dX4_pigeonsInLoft_5 rfl rfl ?_
  refine g_tw (q := 9) (f := 33) M dX4_pigeonsInLoft_6 rfl l_X4_13 T rfl rfl T.a33 ?_
  refine g_iconst (q := 10) (v := 3) M dX4_pigeonsInLoft_9 rfl (by decide) ?_
  refine g_ialdN (q := 11) (n := 213) (k := 3) M dX4_pigeonsInLoft_10 rfl T.a33.2.1 rfl T.a33.2.2 rfl (by decide) (by decide) ?_
  refine g_ireturn M Ee dX4_pigeonsInLoft_11 ?_
  exact ⟨_, rfl, rfl, rfl⟩
theorem c_X4_pigeonsOnTheWay {Z : xZ} {h : xH} {m : Nat} (T : TW h m) : CT Z yX4_pigeonsOnTheWay cX4_pigeonsOnTheWay 1 (some .int) 0 0 0 [vr m] h (rI fun r h' => h' = pI h 32 m 0 ∧ r = tA h m 1 83) := by
  refine CT.of (E := [some (vr m)]) (by decide +kernel) rfl rfl (Nat.le_of_ble_eq_true rfl) (fun X M Ee => ?_)
  have M : MX Z X cX4_pigeonsOnTheWay "BalloonMailModel" 1 0 (some .int) "pigeonsOnTheWay" := M
  refine g_aload_n (q := 1) M dX4_pigeonsOnTheWay_0 rfl rfl ?_
  refine g_iconst (q := 2) (v := 0) M dX4_pigeonsOnTheWay_1 rfl (by decide) ?_
  refine g_putI (q := 5) (f := 32) M dX4_pigeonsOnTheWay_2 rfl l_X4_1 T.1 (by decide +kernel) rfl ⟨rfl, rfl⟩ ?_
  refine g_aload_n (q := 6) M dX4_pigeonsOnTheWay_5 rfl rfl ?_
  refine g_tw (q := 9) (f := 33) M dX4_pigeonsOnTheWay_6 rfl l_X4_13 T rfl rfl T.a33 ?_
  refine g_bipush (q := 11) (v := 83) M dX4_pigeonsOnTheWay_9 rfl (by decide) ?_
  refine g_ialdN (q := 12) (n := 213) (k := 83) M dX4_pigeonsOnTheWay_11 rfl T.a33.2.1 rfl T.a33.2.2 rfl (by decide) (by decide) ?_
  refine g_ireturn M Ee dX4_pigeonsOnTheWay_12 ?_
  exact ⟨_, rfl, rfl, rfl⟩
theorem c_X4_pigeonsLost {Z : xZ} {h : xH} {m : Nat} (T : TW h m) : CT Z yX4_pigeonsLost cX4_pigeonsLost 1 (some .int) 0 0 0 [vr m] h (rI fun r h' => h' = pI h 32 m 0 ∧ r = tA h m 1 4) := by
  refine CT.of (E := [some (vr m)]) (by decide +kernel) rfl rfl (Nat.le_of_ble_eq_true rfl) (fun X M Ee => ?_)
  have M : MX Z X cX4_pigeonsLost "BalloonMailModel" 1 0 (some .int) "pigeonsLost" := M
  refine g_aload_n (q := 1) M dX4_pigeonsLost_0 rfl rfl ?_
  refine g_iconst (q := 2) (v := 0) M dX4_pigeonsLost_1 rfl (by decide) ?_
  refine g_putI (q := 5) (f := 32) M dX4_pigeonsLost_2 rfl l_X4_1 T.1 (by decide +kernel) rfl ⟨rfl, rfl⟩ ?_
  refine g_aload_n (q := 6) M dX4_pigeonsLost_5 rfl rfl ?_
  refine g_tw (q := 9) (f := 33) M dX4_pigeonsLost_6 rfl l_X4_13 T rfl rfl T.a33 ?_
  refine g_iconst (q := 10) (v := 4) M dX4_pigeonsLost_9 rfl (by decide) ?_
  refine g_ialdN (q := 11) (n := 213) (k := 4) M dX4_pigeonsLost_10 rfl T.a33.2.1 rfl T.a33.2.2 rfl (by decide) (by decide) ?_
  refine g_ireturn M Ee dX4_pigeonsLost_11 ?_
  exact ⟨_, rfl, rfl, rfl⟩
theorem c_X4_eventCount {Z : xZ} {h : xH} {m : Nat} (T : TW h m) : CT Z yX4_eventCount cX4_eventCount 1 (some .int) 0 0 0 [vr m] h (rI fun r h' => h' = pI h 32 m 0 ∧ r = tA h m 1 164) := by
  refine CT.of (E := [some (vr m)]) (by decide +kernel) rfl rfl (Nat.le_of_ble_eq_true rfl) (fun X M Ee => ?_)
  have M : MX Z X cX4_eventCount "BalloonMailModel" 1 0 (some .int) "eventCount" := M
  refine g_aload_n (q := 1) M dX4_eventCount_0 rfl rfl ?_
  refine g_iconst (q := 2) (v := 0) M dX4_eventCount_1 rfl (by decide) ?_
  refine g_putI (q := 5) (f := 32) M dX4_eventCount_2 rfl l_X4_1 T.1 (by decide +kernel) rfl ⟨rfl, rfl⟩ ?_
  refine g_aload_n (q := 6) M dX4_eventCount_5 rfl rfl ?_
  refine g_tw (q := 9) (f := 33) M dX4_eventCount_6 rfl l_X4_13 T rfl rfl T.a33 ?_
  refine g_sipush (q := 12) (v := 164) M dX4_eventCount_9 rfl (by decide) ?_
  refine g_ialdN (q := 13) (n := 213) (k := 164) M dX4_eventCount_12 rfl T.a33.2.1 rfl T.a33.2.2 rfl (by decide) (by decide) ?_
  refine g_ireturn M Ee dX4_eventCount_13 ?_
  exact ⟨_, rfl, rfl, rfl⟩
theorem c_X4_undoDepth {Z : xZ} {h : xH} {m : Nat} (T : TW h m) : CT Z yX4_undoDepth cX4_undoDepth 1 (some .int) 0 0 0 [vr m] h (rI fun r h' => h' = pI h 32 m 0 ∧ r = xI h 73 m) := by
  refine CT.of (E := [some (vr m)]) (by decide +kernel) rfl rfl (Nat.le_of_ble_eq_true rfl) (fun X M Ee => ?_)
  have M : MX Z X cX4_undoDepth "BalloonMailModel" 1 0 (some .int) "undoDepth" := M
  refine g_aload_n (q := 1) M dX4_undoDepth_0 rfl rfl ?_
  refine g_iconst (q := 2) (v := 0) M dX4_undoDepth_1 rfl (by decide) ?_
  refine g_putI (q := 5) (f := 32) M dX4_undoDepth_2 rfl l_X4_1 T.1 (by decide +kernel) rfl ⟨rfl, rfl⟩ ?_
  refine g_aload_n (q := 6) M dX4_undoDepth_5 rfl rfl ?_
  refine g_getI (q := 9) (f := 73) M dX4_undoDepth_6 rfl l_X4_243 T.1 rfl rfl ?_
  refine g_ireturn M Ee dX4_undoDepth_9 ?_
  exact ⟨_, rfl, rfl, rfl⟩
theorem c_X4_isBalloon {Z : xZ} {h : xH} {m : Nat} {b : Int32} (T : TW h m) : CT Z yX4_isBalloon cX4_isBalloon 2 (some .boolean) 1 0 0 [vr m, vi b] h (rI fun r h' => h = h' ∧ r = bI (decide (0 ≤ b ∧ b ≤ tA h m 14 0 - 1))) := by
  refine CT.of (E := [some (vr m), some (vi b)]) (by decide +kernel) rfl rfl (Nat.le_of_ble_eq_true rfl) (fun X M Ee => ?_)
  have M : MX Z X cX4_isBalloon "BalloonMailModel" 2 1 (some .boolean) "isBalloon" := M
  refine g_iload_n (q := 1) M dX4_isBalloon_0 rfl rfl ?_
  refine g_iconst (q := 2) (v := 0) M dX4_isBalloon_1 rfl (by decide) ?_
  refine g_aload_n (q := 3) M dX4_isBalloon_2 rfl rfl ?_
  refine g_tw (q := 6) (f := 46) M dX4_isBalloon_3 rfl l_X4_53 T rfl rfl T.a46 ?_
  refine g_iconst (q := 7) (v := 0) M dX4_isBalloon_6 rfl (by decide) ?_
  refine g_ialdN (q := 8) (n := 2) (k := 0) M dX4_isBalloon_7 rfl T.a46.2.1 rfl T.a46.2.2 rfl (by decide) (by decide) ?_
  refine g_iconst (q := 9) (v := 1) M dX4_isBalloon_8 rfl (by decide) ?_
  refine g_isub (q := 10) M dX4_isBalloon_9 rfl ?_
  refine g_callS (q := 13) M rfl dX4_isBalloon_10 rfl w_X4_139 c_X4_within rfl rfl (Nat.le_of_ble_eq_true rfl) (by decide) (by omega) (by omega) (r_I fun x h_10 hq m_10 => ?_)
  obtain ⟨rfl, rfl⟩ := hq
  refine g_zreturn M Ee dX4_isBalloon_13 (bI_01 _) ?_
  exact ⟨_, rfl, rfl, rfl⟩
theorem c_X4_isLetter {Z : xZ} {h : xH} {m : Nat} {b : Int32} (T : TW h m) : CT Z yX4_isLetter cX4_isLetter 2 (some .boolean) 1 0 0 [vr m, vi b] h (rI fun r h' => h = h' ∧ r = bI (decide (0 ≤ b ∧ b ≤ tA h m 17 0 - 1))) := by
  refine CT.of (E := [some (vr m), some (vi b)]) (by decide +kernel) rfl rfl (Nat.le_of_ble_eq_true rfl) (fun X M Ee => ?_)
  have M : MX Z X cX4_isLetter "BalloonMailModel" 2 1 (some .boolean) "isLetter" := M
  refine g_iload_n (q := 1) M dX4_isLetter_0 rfl rfl ?_
  refine g_iconst (q := 2) (v := 0) M dX4_isLetter_1 rfl (by decide) ?_
  refine g_aload_n (q := 3) M dX4_isLetter_2 rfl rfl ?_
  refine g_tw (q := 6) (f := 49) M dX4_isLetter_3 rfl l_X4_62 T rfl rfl T.a49 ?_
  refine g_iconst (q := 7) (v := 0) M dX4_isLetter_6 rfl (by decide) ?_
  refine g_ialdN (q := 8) (n := 2) (k := 0) M dX4_isLetter_7 rfl T.a49.2.1 rfl T.a49.2.2 rfl (by decide) (by decide) ?_
  refine g_iconst (q := 9) (v := 1) M dX4_isLetter_8 rfl (by decide) ?_
  refine g_isub (q := 10) M dX4_isLetter_9 rfl ?_
  refine g_callS (q := 13) M rfl dX4_isLetter_10 rfl w_X4_139 c_X4_within rfl rfl (Nat.le_of_ble_eq_true rfl) (by decide) (by omega) (by omega) (r_I fun x h_10 hq m_10 => ?_)
  obtain ⟨rfl, rfl⟩ := hq
  refine g_zreturn M Ee dX4_isLetter_13 (bI_01 _) ?_
  exact ⟨_, rfl, rfl, rfl⟩
theorem c_X4_isWind {Z : xZ} {h : xH} {m : Nat} {b : Int32} (T : TW h m) : CT Z yX4_isWind cX4_isWind 2 (some .boolean) 1 0 0 [vr m, vi b] h (rI fun r h' => h = h' ∧ r = bI (decide (0 ≤ b ∧ b ≤ tA h m 6 0 - 1))) := by
  refine CT.of (E := [some (vr m), some (vi b)]) (by decide +kernel) rfl rfl (Nat.le_of_ble_eq_true rfl) (fun X M Ee => ?_)
  have M : MX Z X cX4_isWind "BalloonMailModel" 2 1 (some .boolean) "isWind" := M
  refine g_iload_n (q := 1) M dX4_isWind_0 rfl rfl ?_
  refine g_iconst (q := 2) (v := 0) M dX4_isWind_1 rfl (by decide) ?_
  refine g_aload_n (q := 3) M dX4_isWind_2 rfl rfl ?_
  refine g_tw (q := 6) (f := 38) M dX4_isWind_3 rfl l_X4_29 T rfl rfl T.a38 ?_
  refine g_iconst (q := 7) (v := 0) M dX4_isWind_6 rfl (by decide) ?_
  refine g_ialdN (q := 8) (n := 2) (k := 0) M dX4_isWind_7 rfl T.a38.2.1 rfl T.a38.2.2 rfl (by decide) (by decide) ?_
  refine g_iconst (q := 9) (v := 1) M dX4_isWind_8 rfl (by decide) ?_
  refine g_isub (q := 10) M dX4_isWind_9 rfl ?_
  refine g_callS (q := 13) M rfl dX4_isWind_10 rfl w_X4_139 c_X4_within rfl rfl (Nat.le_of_ble_eq_true rfl) (by decide) (by omega) (by omega) (r_I fun x h_10 hq m_10 => ?_)
  obtain ⟨rfl, rfl⟩ := hq
  refine g_zreturn M Ee dX4_isWind_13 (bI_01 _) ?_
  exact ⟨_, rfl, rfl, rfl⟩
theorem c_X4_areLetters {Z : xZ} {h : xH} {m : Nat} {b : Int32} (T : TW h m) : CT Z yX4_areLetters cX4_areLetters 2 (some .boolean) 1 0 0 [vr m, vi b] h (rI fun r h' => h = h' ∧ r = bI (decide (0 ≤ b ∧ b ≤ (1 <<< (tA h m 17 0 &&& 31)) - 1))) := by
  refine CT.of (E := [some (vr m), some (vi b)]) (by decide +kernel) rfl rfl (Nat.le_of_ble_eq_true rfl) (fun X M Ee => ?_)
  have M : MX Z X cX4_areLetters "BalloonMailModel" 2 1 (some .boolean) "areLetters" := M
  refine g_iload_n (q := 1) M dX4_areLetters_0 rfl rfl ?_
  refine g_iconst (q := 2) (v := 0) M dX4_areLetters_1 rfl (by decide) ?_
  refine g_iconst (q := 3) (v := 1) M dX4_areLetters_2 rfl (by decide) ?_
  refine g_aload_n (q := 4) M dX4_areLetters_3 rfl rfl ?_
  refine g_tw (q := 7) (f := 49) M dX4_areLetters_4 rfl l_X4_62 T rfl rfl T.a49 ?_
  refine g_iconst (q := 8) (v := 0) M dX4_areLetters_7 rfl (by decide) ?_
  refine g_ialdN (q := 9) (n := 2) (k := 0) M dX4_areLetters_8 rfl T.a49.2.1 rfl T.a49.2.2 rfl (by decide) (by decide) ?_
  refine g_ishl (q := 10) M dX4_areLetters_9 rfl ?_
  refine g_iconst (q := 11) (v := 1) M dX4_areLetters_10 rfl (by decide) ?_
  refine g_isub (q := 12) M dX4_areLetters_11 rfl ?_
  refine g_callS (q := 15) M rfl dX4_areLetters_12 rfl w_X4_139 c_X4_within rfl rfl (Nat.le_of_ble_eq_true rfl) (by decide) (by omega) (by omega) (r_I fun x h_12 hq m_12 => ?_)
  obtain ⟨rfl, rfl⟩ := hq
  refine g_zreturn M Ee dX4_areLetters_15 (bI_01 _) ?_
  exact ⟨_, rfl, rfl, rfl⟩
theorem c_X4_areDays {Z : xZ} {h : xH} {b : Int32} : CT Z yX4_areDays cX4_areDays 1 (some .boolean) 1 0 0 [vi b] h (rI fun r h' => h = h' ∧ r = bI (decide (0 ≤ b ∧ b ≤ 8))) := by
  refine CT.of (E := [some (vi b)]) (by decide +kernel) rfl rfl (Nat.le_of_ble_eq_true rfl) (fun X M Ee => ?_)
  have M : MX Z X cX4_areDays "BalloonMailModel" 1 1 (some .boolean) "areDays" := M
  refine g_iload_n (q := 1) M dX4_areDays_0 rfl rfl ?_
  refine g_iconst (q := 2) (v := 0) M dX4_areDays_1 rfl (by decide) ?_
  refine g_bipush (q := 4) (v := 8) M dX4_areDays_2 rfl (by decide) ?_
  refine g_callS (q := 7) M rfl dX4_areDays_4 rfl w_X4_139 c_X4_within rfl rfl (Nat.le_of_ble_eq_true rfl) (by decide) (by omega) (by omega) (r_I fun x h_4 hq m_4 => ?_)
  obtain ⟨rfl, rfl⟩ := hq
  refine g_zreturn M Ee dX4_areDays_7 (bI_01 _) ?_
  exact ⟨_, rfl, rfl, rfl⟩
theorem c_X4_capacity {Z : xZ} {h : xH} {m : Nat} {b : Int32} {nR nW nT nB nL : Nat} (T : TW h m) (S : SgN (tA h m) nR nW nT nB nL) : CT Z yX4_capacity cX4_capacity 2 (some .int) 2 0 0 [vr m, vi b] h (rI fun r h' => h' = pI h 32 m 0 ∧ r = if 0 ≤ b ∧ b ≤ tA h m 14 0 - 1 then tA h m 15 (b).toNatClampNeg else -1) := by
  refine CT.of (E := [some (vr m), some (vi b)]) (by decide +kernel) rfl rfl (Nat.le_of_ble_eq_true rfl) (fun X M Ee => ?_)
  have M : MX Z X cX4_capacity "BalloonMailModel" 2 2 (some .int) "capacity" := M
  refine g_aload_n (q := 1) M dX4_capacity_0 rfl rfl ?_
  refine g_iconst (q := 2) (v := 0) M dX4_capacity_1 rfl (by decide) ?_
  refine g_putI (q := 5) (f := 32) M dX4_capacity_2 rfl l_X4_1 T.1 (by decide +kernel) rfl ⟨rfl, rfl⟩ ?_
  refine g_aload_n (q := 6) M dX4_capacity_5 rfl rfl ?_
  refine g_iload_n (q := 7) M dX4_capacity_6 rfl rfl ?_
  refine g_callV (q := 10) M rfl dX4_capacity_7 rfl w_X4_246 (c_X4_isBalloon T) (isC.of T.1 rfl) rfl rfl (Nat.le_of_ble_eq_true rfl) (by decide) (by omega) (by omega) (r_I fun x h_7 hq m_7 => ?_)
  obtain ⟨rfl, rfl⟩ := hq
  refine g_if_eq (q := 13) (tgt := 22) M dX4_capacity_10 (by decide) rfl (fun c_10 => ?_) (fun c_10 => ?_)
  · refine g_iconst (q := 23) (v := (-1)) M dX4_capacity_22 rfl (by decide) ?_
    refine g_ireturn M Ee dX4_capacity_23 ?_
    exact ⟨_, rfl, rfl, (if_neg (bI_d.mp c_10)).symm⟩
  · have c0 := bI_n.mp c_10
    obtain ⟨k, hk, hb⟩ := nI_m1 (x := b) (n := nB) (by have := S.2.2.2.1.2; omega) c0.1 (by have h2 := c0.2; rw [← S.2.2.2.1.1]; exact h2)
    have hl := S.2.2.2.1.2
    refine g_aload_n (q := 14) M dX4_capacity_13 rfl rfl ?_
    refine g_tw (q := 17) (f := 47) M dX4_capacity_14 rfl l_X4_56 T rfl rfl T.a47 ?_
    refine g_iload_n (q := 18) M dX4_capacity_17 rfl rfl ?_
    refine g_ialdN (q := 19) (n := 20) M dX4_capacity_18 rfl T.a47.2.1 rfl T.a47.2.2 hb (by omega) (by decide) ?_
    refine g_goto (tgt := 23) M dX4_capacity_19 (by decide) ?_
    refine g_ireturn M Ee dX4_capacity_23 ?_
    exact ⟨_, rfl, rfl, ((if_pos c0).trans (by rw [hb, nI_clamp (by omega)]; rfl)).symm⟩
theorem c_X4_letterWeight {Z : xZ} {h : xH} {m : Nat} {b : Int32} {nR nW nT nB nL : Nat} (T : TW h m) (S : SgN (tA h m) nR nW nT nB nL) : CT Z yX4_letterWeight cX4_letterWeight 2 (some .int) 2 0 0 [vr m, vi b] h (rI fun r h' => h' = pI h 32 m 0 ∧ r = if 0 ≤ b ∧ b ≤ tA h m 17 0 - 1 then tA h m 18 (b).toNatClampNeg else -1) := by
  refine CT.of (E := [some (vr m), some (vi b)]) (by decide +kernel) rfl rfl (Nat.le_of_ble_eq_true rfl) (fun X M Ee => ?_)
  have M : MX Z X cX4_letterWeight "BalloonMailModel" 2 2 (some .int) "letterWeight" := M
  refine g_aload_n (q := 1) M dX4_letterWeight_0 rfl rfl ?_
  refine g_iconst (q := 2) (v := 0) M dX4_letterWeight_1 rfl (by decide) ?_
  refine g_putI (q := 5) (f := 32) M dX4_letterWeight_2 rfl l_X4_1 T.1 (by decide +kernel) rfl ⟨rfl, rfl⟩ ?_
  refine g_aload_n (q := 6) M dX4_letterWeight_5 rfl rfl ?_
  refine g_iload_n (q := 7) M dX4_letterWeight_6 rfl rfl ?_
  refine g_callV (q := 10) M rfl dX4_letterWeight_7 rfl w_X4_249 (c_X4_isLetter T) (isC.of T.1 rfl) rfl rfl (Nat.le_of_ble_eq_true rfl) (by decide) (by omega) (by omega) (r_I fun x h_7 hq m_7 => ?_)
  obtain ⟨rfl, rfl⟩ := hq
  refine g_if_eq (q := 13) (tgt := 22) M dX4_letterWeight_10 (by decide) rfl (fun c_10 => ?_) (fun c_10 => ?_)
  · refine g_iconst (q := 23) (v := (-1)) M dX4_letterWeight_22 rfl (by decide) ?_
    refine g_ireturn M Ee dX4_letterWeight_23 ?_
    exact ⟨_, rfl, rfl, (if_neg (bI_d.mp c_10)).symm⟩
  · have c0 := bI_n.mp c_10
    obtain ⟨k, hk, hb⟩ := nI_m1 (x := b) (n := nL) (by have := S.2.2.2.2.2; omega) c0.1 (by have h2 := c0.2; rw [← S.2.2.2.2.1]; exact h2)
    have hl := S.2.2.2.2.2
    refine g_aload_n (q := 14) M dX4_letterWeight_13 rfl rfl ?_
    refine g_tw (q := 17) (f := 50) M dX4_letterWeight_14 rfl l_X4_65 T rfl rfl T.a50 ?_
    refine g_iload_n (q := 18) M dX4_letterWeight_17 rfl rfl ?_
    refine g_ialdN (q := 19) (n := 48) M dX4_letterWeight_18 rfl T.a50.2.1 rfl T.a50.2.2 hb (by omega) (by decide) ?_
    refine g_goto (tgt := 23) M dX4_letterWeight_19 (by decide) ?_
    refine g_ireturn M Ee dX4_letterWeight_23 ?_
    exact ⟨_, rfl, rfl, ((if_pos c0).trans (by rw [hb, nI_clamp (by omega)]; rfl)).symm⟩
theorem c_X4_balloonState {Z : xZ} {h : xH} {m : Nat} {b : Int32} {nR nW nT nB nL : Nat} (T : TW h m) (S : SgN (tA h m) nR nW nT nB nL) : CT Z yX4_balloonState cX4_balloonState 2 (some .int) 2 0 0 [vr m, vi b] h (rI fun r h' => h' = pI h 32 m 0 ∧ r = if 0 ≤ b ∧ b ≤ tA h m 14 0 - 1 then tA h m 1 (5 + b).toNatClampNeg else -1) := by
  refine CT.of (E := [some (vr m), some (vi b)]) (by decide +kernel) rfl rfl (Nat.le_of_ble_eq_true rfl) (fun X M Ee => ?_)
  have M : MX Z X cX4_balloonState "BalloonMailModel" 2 2 (some .int) "balloonState" := M
  refine g_aload_n (q := 1) M dX4_balloonState_0 rfl rfl ?_
  refine g_iconst (q := 2) (v := 0) M dX4_balloonState_1 rfl (by decide) ?_
  refine g_putI (q := 5) (f := 32) M dX4_balloonState_2 rfl l_X4_1 T.1 (by decide +kernel) rfl ⟨rfl, rfl⟩ ?_
  refine g_aload_n (q := 6) M dX4_balloonState_5 rfl rfl ?_
  refine g_iload_n (q := 7) M dX4_balloonState_6 rfl rfl ?_
  refine g_callV (q := 10) M rfl dX4_balloonState_7 rfl w_X4_246 (c_X4_isBalloon T) (isC.of T.1 rfl) rfl rfl (Nat.le_of_ble_eq_true rfl) (by decide) (by omega) (by omega) (r_I fun x h_7 hq m_7 => ?_)
  obtain ⟨rfl, rfl⟩ := hq
  refine g_if_eq (q := 13) (tgt := 24) M dX4_balloonState_10 (by decide) rfl (fun c_10 => ?_) (fun c_10 => ?_)
  · refine g_iconst (q := 25) (v := (-1)) M dX4_balloonState_24 rfl (by decide) ?_
    refine g_ireturn M Ee dX4_balloonState_25 ?_
    exact ⟨_, rfl, rfl, (if_neg (bI_d.mp c_10)).symm⟩
  · have c0 := bI_n.mp c_10
    obtain ⟨k, hk, hb⟩ := nI_m1 (x := b) (n := nB) (by have := S.2.2.2.1.2; omega) c0.1 (by have h2 := c0.2; rw [← S.2.2.2.1.1]; exact h2)
    have hl := S.2.2.2.1.2
    refine g_aload_n (q := 14) M dX4_balloonState_13 rfl rfl ?_
    refine g_tw (q := 17) (f := 33) M dX4_balloonState_14 rfl l_X4_13 T rfl rfl T.a33 ?_
    refine g_iconst (q := 18) (v := 5) M dX4_balloonState_17 rfl (by decide) ?_
    refine g_iload_n (q := 19) M dX4_balloonState_18 rfl rfl ?_
    refine g_iadd (q := 20) M dX4_balloonState_19 rfl ?_
    refine g_ialdN (q := 21) (n := 213) M dX4_balloonState_20 rfl T.a33.2.1 rfl T.a33.2.2 (by rw [hb]; exact ixk 5 rfl k) (by omega) (by decide) ?_
    refine g_goto (tgt := 25) M dX4_balloonState_21 (by decide) ?_
    refine g_ireturn M Ee dX4_balloonState_25 ?_
    exact ⟨_, rfl, rfl, ((if_pos c0).trans (by rw [hb, ixk 5 (C := 5) rfl, nI_clamp (by omega)]; rfl)).symm⟩
theorem c_X4_balloonRegion {Z : xZ} {h : xH} {m : Nat} {b : Int32} {nR nW nT nB nL : Nat} (T : TW h m) (S : SgN (tA h m) nR nW nT nB nL) : CT Z yX4_balloonRegion cX4_balloonRegion 2 (some .int) 2 0 0 [vr m, vi b] h (rI fun r h' => h' = pI h 32 m 0 ∧ r = if 0 ≤ b ∧ b ≤ tA h m 14 0 - 1 then tA h m 1 (15 + b).toNatClampNeg else -1) := by
  refine CT.of (E := [some (vr m), some (vi b)]) (by decide +kernel) rfl rfl (Nat.le_of_ble_eq_true rfl) (fun X M Ee => ?_)
  have M : MX Z X cX4_balloonRegion "BalloonMailModel" 2 2 (some .int) "balloonRegion" := M
  refine g_aload_n (q := 1) M dX4_balloonRegion_0 rfl rfl ?_
  refine g_iconst (q := 2) (v := 0) M dX4_balloonRegion_1 rfl (by decide) ?_
  refine g_putI (q := 5) (f := 32) M dX4_balloonRegion_2 rfl l_X4_1 T.1 (by decide +kernel) rfl ⟨rfl, rfl⟩ ?_
  refine g_aload_n (q := 6) M dX4_balloonRegion_5 rfl rfl ?_
  refine g_iload_n (q := 7) M dX4_balloonRegion_6 rfl rfl ?_
  refine g_callV (q := 10) M rfl dX4_balloonRegion_7 rfl w_X4_246 (c_X4_isBalloon T) (isC.of T.1 rfl) rfl rfl (Nat.le_of_ble_eq_true rfl) (by decide) (by omega) (by omega) (r_I fun x h_7 hq m_7 => ?_)
  obtain ⟨rfl, rfl⟩ := hq
  refine g_if_eq (q := 13) (tgt := 25) M dX4_balloonRegion_10 (by decide) rfl (fun c_10 => ?_) (fun c_10 => ?_)
  · refine g_iconst (q := 26) (v := (-1)) M dX4_balloonRegion_25 rfl (by decide) ?_
    refine g_ireturn M Ee dX4_balloonRegion_26 ?_
    exact ⟨_, rfl, rfl, (if_neg (bI_d.mp c_10)).symm⟩
  · have c0 := bI_n.mp c_10
    obtain ⟨k, hk, hb⟩ := nI_m1 (x := b) (n := nB) (by have := S.2.2.2.1.2; omega) c0.1 (by have h2 := c0.2; rw [← S.2.2.2.1.1]; exact h2)
    have hl := S.2.2.2.1.2
    refine g_aload_n (q := 14) M dX4_balloonRegion_13 rfl rfl ?_
    refine g_tw (q := 17) (f := 33) M dX4_balloonRegion_14 rfl l_X4_13 T rfl rfl T.a33 ?_
    refine g_bipush (q := 19) (v := 15) M dX4_balloonRegion_17 rfl (by decide) ?_
    refine g_iload_n (q := 20) M dX4_balloonRegion_19 rfl rfl ?_
    refine g_iadd (q := 21) M dX4_balloonRegion_20 rfl ?_
    refine g_ialdN (q := 22) (n := 213) M dX4_balloonRegion_21 rfl T.a33.2.1 rfl T.a33.2.2 (by rw [hb]; exact ixk 15 rfl k) (by omega) (by decide) ?_
    refine g_goto (tgt := 26) M dX4_balloonRegion_22 (by decide) ?_
    refine g_ireturn M Ee dX4_balloonRegion_26 ?_
    exact ⟨_, rfl, rfl, ((if_pos c0).trans (by rw [hb, ixk 15 (C := 15) rfl, nI_clamp (by omega)]; rfl)).symm⟩
theorem c_X4_cargo {Z : xZ} {h : xH} {m : Nat} {b : Int32} {nR nW nT nB nL : Nat} (T : TW h m) (S : SgN (tA h m) nR nW nT nB nL) : CT Z yX4_cargo cX4_cargo 2 (some .int) 2 0 0 [vr m, vi b] h (rI fun r h' => h' = pI h 32 m 0 ∧ r = if 0 ≤ b ∧ b ≤ tA h m 14 0 - 1 then tA h m 1 (25 + b).toNatClampNeg else -1) := by
  refine CT.of (E := [some (vr m), some (vi b)]) (by decide +kernel) rfl rfl (Nat.le_of_ble_eq_true rfl) (fun X M Ee => ?_)
  have M : MX Z X cX4_cargo "BalloonMailModel" 2 2 (some .int) "cargo" := M
  refine g_aload_n (q := 1) M dX4_cargo_0 rfl rfl ?_
  refine g_iconst (q := 2) (v := 0) M dX4_cargo_1 rfl (by decide) ?_
  refine g_putI (q := 5) (f := 32) M dX4_cargo_2 rfl l_X4_1 T.1 (by decide +kernel) rfl ⟨rfl, rfl⟩ ?_
  refine g_aload_n (q := 6) M dX4_cargo_5 rfl rfl ?_
  refine g_iload_n (q := 7) M dX4_cargo_6 rfl rfl ?_
  refine g_callV (q := 10) M rfl dX4_cargo_7 rfl w_X4_246 (c_X4_isBalloon T) (isC.of T.1 rfl) rfl rfl (Nat.le_of_ble_eq_true rfl) (by decide) (by omega) (by omega) (r_I fun x h_7 hq m_7 => ?_)
  obtain ⟨rfl, rfl⟩ := hq
  refine g_if_eq (q := 13) (tgt := 25) M dX4_cargo_10 (by decide) rfl (fun c_10 => ?_) (fun c_10 => ?_)
  · refine g_iconst (q := 26) (v := (-1)) M dX4_cargo_25 rfl (by decide) ?_
    refine g_ireturn M Ee dX4_cargo_26 ?_
    exact ⟨_, rfl, rfl, (if_neg (bI_d.mp c_10)).symm⟩
  · have c0 := bI_n.mp c_10
    obtain ⟨k, hk, hb⟩ := nI_m1 (x := b) (n := nB) (by have := S.2.2.2.1.2; omega) c0.1 (by have h2 := c0.2; rw [← S.2.2.2.1.1]; exact h2)
    have hl := S.2.2.2.1.2
    refine g_aload_n (q := 14) M dX4_cargo_13 rfl rfl ?_
    refine g_tw (q := 17) (f := 33) M dX4_cargo_14 rfl l_X4_13 T rfl rfl T.a33 ?_
    refine g_bipush (q := 19) (v := 25) M dX4_cargo_17 rfl (by decide) ?_
    refine g_iload_n (q := 20) M dX4_cargo_19 rfl rfl ?_
    refine g_iadd (q := 21) M dX4_cargo_20 rfl ?_
    refine g_ialdN (q := 22) (n := 213) M dX4_cargo_21 rfl T.a33.2.1 rfl T.a33.2.2 (by rw [hb]; exact ixk 25 rfl k) (by omega) (by decide) ?_
    refine g_goto (tgt := 26) M dX4_cargo_22 (by decide) ?_
    refine g_ireturn M Ee dX4_cargo_26 ?_
    exact ⟨_, rfl, rfl, ((if_pos c0).trans (by rw [hb, ixk 25 (C := 25) rfl, nI_clamp (by omega)]; rfl)).symm⟩
theorem c_X4_letterState {Z : xZ} {h : xH} {m : Nat} {b : Int32} {nR nW nT nB nL : Nat} (T : TW h m) (S : SgN (tA h m) nR nW nT nB nL) : CT Z yX4_letterState cX4_letterState 2 (some .int) 2 0 0 [vr m, vi b] h (rI fun r h' => h' = pI h 32 m 0 ∧ r = if 0 ≤ b ∧ b ≤ tA h m 17 0 - 1 then tA h m 1 (35 + b).toNatClampNeg else -1) := by
  refine CT.of (E := [some (vr m), some (vi b)]) (by decide +kernel) rfl rfl (Nat.le_of_ble_eq_true rfl) (fun X M Ee => ?_)
  have M : MX Z X cX4_letterState "BalloonMailModel" 2 2 (some .int) "letterState" := M
  refine g_aload_n (q := 1) M dX4_letterState_0 rfl rfl ?_
  refine g_iconst (q := 2) (v := 0) M dX4_letterState_1 rfl (by decide) ?_
  refine g_putI (q := 5) (f := 32) M dX4_letterState_2 rfl l_X4_1 T.1 (by decide +kernel) rfl ⟨rfl, rfl⟩ ?_
  refine g_aload_n (q := 6) M dX4_letterState_5 rfl rfl ?_
  refine g_iload_n (q := 7) M dX4_letterState_6 rfl rfl ?_
  refine g_callV (q := 10) M rfl dX4_letterState_7 rfl w_X4_249 (c_X4_isLetter T) (isC.of T.1 rfl) rfl rfl (Nat.le_of_ble_eq_true rfl) (by decide) (by omega) (by omega) (r_I fun x h_7 hq m_7 => ?_)
  obtain ⟨rfl, rfl⟩ := hq
  refine g_if_eq (q := 13) (tgt := 25) M dX4_letterState_10 (by decide) rfl (fun c_10 => ?_) (fun c_10 => ?_)
  · refine g_iconst (q := 26) (v := (-1)) M dX4_letterState_25 rfl (by decide) ?_
    refine g_ireturn M Ee dX4_letterState_26 ?_
    exact ⟨_, rfl, rfl, (if_neg (bI_d.mp c_10)).symm⟩
  · have c0 := bI_n.mp c_10
    obtain ⟨k, hk, hb⟩ := nI_m1 (x := b) (n := nL) (by have := S.2.2.2.2.2; omega) c0.1 (by have h2 := c0.2; rw [← S.2.2.2.2.1]; exact h2)
    have hl := S.2.2.2.2.2
    refine g_aload_n (q := 14) M dX4_letterState_13 rfl rfl ?_
    refine g_tw (q := 17) (f := 33) M dX4_letterState_14 rfl l_X4_13 T rfl rfl T.a33 ?_
    refine g_bipush (q := 19) (v := 35) M dX4_letterState_17 rfl (by decide) ?_
    refine g_iload_n (q := 20) M dX4_letterState_19 rfl rfl ?_
    refine g_iadd (q := 21) M dX4_letterState_20 rfl ?_
    refine g_ialdN (q := 22) (n := 213) M dX4_letterState_21 rfl T.a33.2.1 rfl T.a33.2.2 (by rw [hb]; exact ixk 35 rfl k) (by omega) (by decide) ?_
    refine g_goto (tgt := 26) M dX4_letterState_22 (by decide) ?_
    refine g_ireturn M Ee dX4_letterState_26 ?_
    exact ⟨_, rfl, rfl, ((if_pos c0).trans (by rw [hb, ixk 35 (C := 35) rfl, nI_clamp (by omega)]; rfl)).symm⟩
theorem c_X4_answerDay {Z : xZ} {h : xH} {m : Nat} {b : Int32} {nR nW nT nB nL : Nat} (T : TW h m) (S : SgN (tA h m) nR nW nT nB nL) : CT Z yX4_answerDay cX4_answerDay 2 (some .int) 2 0 0 [vr m, vi b] h (rI fun r h' => h' = pI h 32 m 0 ∧ r = if 0 ≤ b ∧ b ≤ tA h m 17 0 - 1 then tA h m 1 (59 + b).toNatClampNeg else -1) := by
  refine CT.of (E := [some (vr m), some (vi b)]) (by decide +kernel) rfl rfl (Nat.le_of_ble_eq_true rfl) (fun X M Ee => ?_)
  have M : MX Z X cX4_answerDay "BalloonMailModel" 2 2 (some .int) "answerDay" := M
  refine g_aload_n (q := 1) M dX4_answerDay_0 rfl rfl ?_
  refine g_iconst (q := 2) (v := 0) M dX4_answerDay_1 rfl (by decide) ?_
  refine g_putI (q := 5) (f := 32) M dX4_answerDay_2 rfl l_X4_1 T.1 (by decide +kernel) rfl ⟨rfl, rfl⟩ ?_
  refine g_aload_n (q := 6) M dX4_answerDay_5 rfl rfl ?_
  refine g_iload_n (q := 7) M dX4_answerDay_6 rfl rfl ?_
  refine g_callV (q := 10) M rfl dX4_answerDay_7 rfl w_X4_249 (c_X4_isLetter T) (isC.of T.1 rfl) rfl rfl (Nat.le_of_ble_eq_true rfl) (by decide) (by omega) (by omega) (r_I fun x h_7 hq m_7 => ?_)
  obtain ⟨rfl, rfl⟩ := hq
  refine g_if_eq (q := 13) (tgt := 25) M dX4_answerDay_10 (by decide) rfl (fun c_10 => ?_) (fun c_10 => ?_)
  · refine g_iconst (q := 26) (v := (-1)) M dX4_answerDay_25 rfl (by decide) ?_
    refine g_ireturn M Ee dX4_answerDay_26 ?_
    exact ⟨_, rfl, rfl, (if_neg (bI_d.mp c_10)).symm⟩
  · have c0 := bI_n.mp c_10
    obtain ⟨k, hk, hb⟩ := nI_m1 (x := b) (n := nL) (by have := S.2.2.2.2.2; omega) c0.1 (by have h2 := c0.2; rw [← S.2.2.2.2.1]; exact h2)
    have hl := S.2.2.2.2.2
    refine g_aload_n (q := 14) M dX4_answerDay_13 rfl rfl ?_
    refine g_tw (q := 17) (f := 33) M dX4_answerDay_14 rfl l_X4_13 T rfl rfl T.a33 ?_
    refine g_bipush (q := 19) (v := 59) M dX4_answerDay_17 rfl (by decide) ?_
    refine g_iload_n (q := 20) M dX4_answerDay_19 rfl rfl ?_
    refine g_iadd (q := 21) M dX4_answerDay_20 rfl ?_
    refine g_ialdN (q := 22) (n := 213) M dX4_answerDay_21 rfl T.a33.2.1 rfl T.a33.2.2 (by rw [hb]; exact ixk 59 rfl k) (by omega) (by decide) ?_
    refine g_goto (tgt := 26) M dX4_answerDay_22 (by decide) ?_
    refine g_ireturn M Ee dX4_answerDay_26 ?_
    exact ⟨_, rfl, rfl, ((if_pos c0).trans (by rw [hb, ixk 59 (C := 59) rfl, nI_clamp (by omega)]; rfl)).symm⟩
/-- the generator's next number, and what is drawn -/
def rngX (x : Int32) : Int64 := (x.toInt64 * 1103515245 + 12345) - (x.toInt64 * 1103515245 + 12345) / 2147483648 * 2147483648
def rngD (y : Int64) : Int32 := (y / 65536 - y / 65536 / 10 * 10).toInt32
theorem c_X4_draw {Z : xZ} {h : xH} {m : Nat} (T : TW h m) : CT Z yX4_draw cX4_draw 3 (some .int) 0 0 0 [vr m] h (rI fun r h' => h' = sI h (m + 1) 2 (rngX (tA h m 1 2)).toInt32 ∧ r = rngD (rngX (tA h m 1 2))) := by
  refine CT.of (E := [some (vr m), none, none]) (by decide +kernel) rfl rfl (Nat.le_of_ble_eq_true rfl) (fun X M Ee => ?_)
  have M : MX Z X cX4_draw "BalloonMailModel" 3 0 (some .int) "draw" := M
  refine g_aload_n (q := 1) M dX4_draw_0 rfl rfl ?_
  refine g_tw (q := 4) (f := 33) M dX4_draw_1 rfl l_X4_13 T rfl rfl T.a33 ?_
  refine g_iconst (q := 5) (v := 2) M dX4_draw_4 rfl (by decide) ?_
  refine g_ialdN (q := 6) (n := 213) (k := 2) M dX4_draw_5 rfl T.a33.2.1 rfl T.a33.2.2 rfl (by decide) (by decide) ?_
  refine g_i2l (q := 7) M dX4_draw_6 rfl ?_
  refine g_ldc2 (q := 10) M dX4_draw_7 rfl q2573 ?_
  refine g_lmul (q := 11) M dX4_draw_10 rfl ?_
  refine g_ldc2 (q := 14) M dX4_draw_11 rfl q2574 ?_
  refine g_ladd (q := 15) M dX4_draw_14 rfl ?_
  refine g_ldc2 (q := 18) M dX4_draw_15 rfl q2575 ?_
  refine g_lrem (q := 19) M dX4_draw_18 rfl (by decide) ?_
  refine g_lstore_n (q := 20) (j := 1) M dX4_draw_19 rfl rfl (Nat.le_of_ble_eq_true rfl) rfl ?_
  dsimp only [st1, st2, kl, List.set_cons_zero, List.set_cons_succ, List.set_nil]
  refine g_aload_n (q := 21) M dX4_draw_20 rfl rfl ?_
  refine g_tw (q := 24) (f := 33) M dX4_draw_21 rfl l_X4_13 T rfl rfl T.a33 ?_
  refine g_iconst (q := 25) (v := 2) M dX4_draw_24 rfl (by decide) ?_
  refine g_lload_n (q := 26) M dX4_draw_25 rfl rfl ?_
  refine g_l2i (q := 27) M dX4_draw_26 rfl ?_
  refine g_iastN (q := 28) (n := 213) (k := 2) M dX4_draw_27 rfl T.a33.2.1 T.a33.2.2 rfl (by decide) (by decide) ?_
  refine g_lload_n (q := 29) M dX4_draw_28 rfl rfl ?_
  refine g_ldc2 (q := 32) M dX4_draw_29 rfl q2576 ?_
  refine g_ldiv (q := 33) M dX4_draw_32 rfl (by decide) ?_
  refine g_ldc2 (q := 36) M dX4_draw_33 rfl q2577 ?_
  refine g_lrem (q := 37) M dX4_draw_36 rfl (by decide) ?_
  refine g_l2i (q := 38) M dX4_draw_37 rfl ?_
  refine g_ireturn M Ee dX4_draw_38 ?_
  exact ⟨_, rfl, rfl, rfl⟩
