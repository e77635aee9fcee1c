/-! THE TWIN: sets, events, flying -/
set_option maxRecDepth 100000
theorem xI_pI_s (h : xH) (k a : Nat) (v : Int32) : xI (pI h k a v) k a = v := by rw [xI_pI, if_pos ⟨rfl, rfl⟩]
theorem T32 {h : xH} {m : Nat} (T : TW h m) : TW (pI h 32 m 0) m := T
theorem c_X4_weightOf {Z : xZ} {h : xH} {m : Nat} {b : Int32} {nR nW nT nB nL : Nat} (T : TW h m) (S : SgN (tA h m) nR nW nT nB nL) : CT Z yX4_weightOf cX4_weightOf 2 (some .int) 2 0 0 [vr m, vi b] h (rI fun r h' => h' = pI h 32 m 0 ∧ r = if 0 ≤ b ∧ b ≤ (1 <<< (tA h m 17 0 &&& 31)) - 1 then spSum (tA h m 18) b nL else -1) := by
  refine CT.of (E := [some (vr m), some (vi b)]) (by decide +kernel) rfl rfl (Nat.le_of_ble_eq_true rfl) (fun X M Ee => ?_)
  have M : MX Z X cX4_weightOf "BalloonMailModel" 2 2 (some .int) "weightOf" := M
  refine g_aload_n (q := 1) M dX4_weightOf_0 rfl rfl ?_
  refine g_iconst (q := 2) (v := 0) M dX4_weightOf_1 rfl (by decide) ?_
  refine g_putI (q := 5) (f := 32) M dX4_weightOf_2 rfl l_X4_1 T.1 (by decide +kernel) rfl ⟨rfl, rfl⟩ ?_
  refine g_aload_n (q := 6) M dX4_weightOf_5 rfl rfl ?_
  refine g_iload_n (q := 7) M dX4_weightOf_6 rfl rfl ?_
  refine g_callV (q := 10) M rfl dX4_weightOf_7 rfl w_X4_297 (c_X4_areLetters (T32 T)) (isC.of T.1 rfl) rfl rfl (Nat.le_of_ble_eq_true rfl) (by decide) (by omega) (by omega) (r_I ?_)
  rintro x h_7 ⟨rfl, rfl⟩ m_7
  refine g_if_eq (q := 13) (tgt := 25) M dX4_weightOf_10 (by decide) rfl (fun c_10 => ?_) (fun c_10 => ?_)
  · refine g_iconst (q := 26) (v := (-1)) M dX4_weightOf_25 rfl (by decide) ?_
    refine g_ireturn M Ee dX4_weightOf_26 ?_
    exact ⟨_, rfl, rfl, (if_neg (bI_d.mp c_10)).symm⟩
  · refine g_aload_n (q := 14) M dX4_weightOf_13 rfl rfl ?_
    refine g_iload_n (q := 15) M dX4_weightOf_14 rfl rfl ?_
    refine g_aload_n (q := 16) M dX4_weightOf_15 rfl rfl ?_
    refine g_tw (q := 19) (f := 50) M dX4_weightOf_16 rfl l_X4_65 T rfl rfl T.a50 ?_
    refine g_callV (q := 22) M rfl dX4_weightOf_19 rfl w_X4_300 (c_X4_sumOf (T32 T) S T.a50.2.1 T.a50.2.2) (isC.of T.1 rfl) rfl rfl (Nat.le_of_ble_eq_true rfl) (by decide) (by omega) (by omega) (r_I ?_)
    rintro x h_19 ⟨rfl, rfl⟩ m_19
    refine g_goto (tgt := 26) M dX4_weightOf_22 (by decide) ?_
    refine g_ireturn M Ee dX4_weightOf_26 ?_
    exact ⟨_, rfl, rfl, (if_pos (bI_n.mp c_10)).symm⟩
theorem c_X4_priorityOf {Z : xZ} {h : xH} {m : Nat} {b : Int32} {nR nW nT nB nL : Nat} (T : TW h m) (S : SgN (tA h m) nR nW nT nB nL) : CT Z yX4_priorityOf cX4_priorityOf 2 (some .int) 2 0 0 [vr m, vi b] h (rI fun r h' => h' = pI h 32 m 0 ∧ r = if 0 ≤ b ∧ b ≤ (1 <<< (tA h m 17 0 &&& 31)) - 1 then spSum (tA h m 19) b nL else -1) := by
  refine CT.of (E := [some (vr m), some (vi b)]) (by decide +kernel) rfl rfl (Nat.le_of_ble_eq_true rfl) (fun X M Ee => ?_)
  have M : MX Z X cX4_priorityOf "BalloonMailModel" 2 2 (some .int) "priorityOf" := M
  refine g_aload_n (q := 1) M dX4_priorityOf_0 rfl rfl ?_
  refine g_iconst (q := 2) (v := 0) M dX4_priorityOf_1 rfl (by decide) ?_
  refine g_putI (q := 5) (f := 32) M dX4_priorityOf_2 rfl l_X4_1 T.1 (by decide +kernel) rfl ⟨rfl, rfl⟩ ?_
  refine g_aload_n (q := 6) M dX4_priorityOf_5 rfl rfl ?_
  refine g_iload_n (q := 7) M dX4_priorityOf_6 rfl rfl ?_
  refine g_callV (q := 10) M rfl dX4_priorityOf_7 rfl w_X4_297 (c_X4_areLetters (T32 T)) (isC.of T.1 rfl) rfl rfl (Nat.le_of_ble_eq_true rfl) (by decide) (by omega) (by omega) (r_I ?_)
  rintro x h_7 ⟨rfl, rfl⟩ m_7
  refine g_if_eq (q := 13) (tgt := 25) M dX4_priorityOf_10 (by decide) rfl (fun c_10 => ?_) (fun c_10 => ?_)
  · refine g_iconst (q := 26) (v := (-1)) M dX4_priorityOf_25 rfl (by decide) ?_
    refine g_ireturn M Ee dX4_priorityOf_26 ?_
    exact ⟨_, rfl, rfl, (if_neg (bI_d.mp c_10)).symm⟩
  · refine g_aload_n (q := 14) M dX4_priorityOf_13 rfl rfl ?_
    refine g_iload_n (q := 15) M dX4_priorityOf_14 rfl rfl ?_
    refine g_aload_n (q := 16) M dX4_priorityOf_15 rfl rfl ?_
    refine g_tw (q := 19) (f := 51) M dX4_priorityOf_16 rfl l_X4_68 T rfl rfl T.a51 ?_
    refine g_callV (q := 22) M rfl dX4_priorityOf_19 rfl w_X4_300 (c_X4_sumOf (T32 T) S T.a51.2.1 T.a51.2.2) (isC.of T.1 rfl) rfl rfl (Nat.le_of_ble_eq_true rfl) (by decide) (by omega) (by omega) (r_I ?_)
    rintro x h_19 ⟨rfl, rfl⟩ m_19
    refine g_goto (tgt := 26) M dX4_priorityOf_22 (by decide) ?_
    refine g_ireturn M Ee dX4_priorityOf_26 ?_
    exact ⟨_, rfl, rfl, (if_pos (bI_n.mp c_10)).symm⟩
theorem c_X4_lettersIn {Z : xZ} {h : xH} {m : Nat} {b : Int32} {nR nW nT nB nL : Nat} (T : TW h m) (S : SgN (tA h m) nR nW nT nB nL) : CT Z yX4_lettersIn cX4_lettersIn 2 (some .int) 1 0 0 [vr m, vi b] h (rI fun r h' => h' = pI h 32 m 0 ∧ r = if 0 ≤ b ∧ b ≤ 3 then spIn (tA h m 1) b nL else -1) := by
  refine CT.of (E := [some (vr m), some (vi b)]) (by decide +kernel) rfl rfl (Nat.le_of_ble_eq_true rfl) (fun X M Ee => ?_)
  have M : MX Z X cX4_lettersIn "BalloonMailModel" 2 1 (some .int) "lettersIn" := M
  refine g_aload_n (q := 1) M dX4_lettersIn_0 rfl rfl ?_
  refine g_iconst (q := 2) (v := 0) M dX4_lettersIn_1 rfl (by decide) ?_
  refine g_putI (q := 5) (f := 32) M dX4_lettersIn_2 rfl l_X4_1 T.1 (by decide +kernel) rfl ⟨rfl, rfl⟩ ?_
  refine g_iload_n (q := 6) M dX4_lettersIn_5 rfl rfl ?_
  refine g_iconst (q := 7) (v := 0) M dX4_lettersIn_6 rfl (by decide) ?_
  refine g_iconst (q := 8) (v := 3) M dX4_lettersIn_7 rfl (by decide) ?_
  refine g_callS (q := 11) M rfl dX4_lettersIn_8 rfl w_X4_139 c_X4_within rfl rfl (Nat.le_of_ble_eq_true rfl) (by decide) (by omega) (by omega) (r_I ?_)
  rintro x h_8 ⟨rfl, rfl⟩ m_8
  refine g_if_eq (q := 14) (tgt := 22) M dX4_lettersIn_11 (by decide) rfl (fun c_11 => ?_) (fun c_11 => ?_)
  · refine g_iconst (q := 23) (v := (-1)) M dX4_lettersIn_22 rfl (by decide) ?_
    refine g_ireturn M Ee dX4_lettersIn_23 ?_
    exact ⟨_, rfl, rfl, (if_neg (bI_d.mp c_11)).symm⟩
  · refine g_aload_n (q := 15) M dX4_lettersIn_14 rfl rfl ?_
    refine g_iload_n (q := 16) M dX4_lettersIn_15 rfl rfl ?_
    refine g_callV (q := 19) M rfl dX4_lettersIn_16 rfl w_X4_304 (c_X4_inState (T32 T) S) (isC.of T.1 rfl) rfl rfl (Nat.le_of_ble_eq_true rfl) (by decide) (by omega) (by omega) (r_I ?_)
    rintro x h_16 ⟨rfl, rfl⟩ m_16
    refine g_goto (tgt := 23) M dX4_lettersIn_19 (by decide) ?_
    refine g_ireturn M Ee dX4_lettersIn_23 ?_
    exact ⟨_, rfl, rfl, (if_pos (bI_n.mp c_11)).symm⟩
theorem c_X4_weightIn {Z : xZ} {h : xH} {m : Nat} {b : Int32} {nR nW nT nB nL : Nat} (T : TW h m) (S : SgN (tA h m) nR nW nT nB nL) : CT Z yX4_weightIn cX4_weightIn 2 (some .int) 2 0 0 [vr m, vi b] h (rI fun r h' => h' = pI h 32 m 0 ∧ r = if 0 ≤ b ∧ b ≤ 3 then spSum (tA h m 18) (spIn (tA h m 1) b nL) nL else -1) := by
  refine CT.of (E := [some (vr m), some (vi b)]) (by decide +kernel) rfl rfl (Nat.le_of_ble_eq_true rfl) (fun X M Ee => ?_)
  have M : MX Z X cX4_weightIn "BalloonMailModel" 2 2 (some .int) "weightIn" := M
  refine g_aload_n (q := 1) M dX4_weightIn_0 rfl rfl ?_
  refine g_iconst (q := 2) (v := 0) M dX4_weightIn_1 rfl (by decide) ?_
  refine g_putI (q := 5) (f := 32) M dX4_weightIn_2 rfl l_X4_1 T.1 (by decide +kernel) rfl ⟨rfl, rfl⟩ ?_
  refine g_iload_n (q := 6) M dX4_weightIn_5 rfl rfl ?_
  refine g_iconst (q := 7) (v := 0) M dX4_weightIn_6 rfl (by decide) ?_
  refine g_iconst (q := 8) (v := 3) M dX4_weightIn_7 rfl (by decide) ?_
  refine g_callS (q := 11) M rfl dX4_weightIn_8 rfl w_X4_139 c_X4_within rfl rfl (Nat.le_of_ble_eq_true rfl) (by decide) (by omega) (by omega) (r_I ?_)
  rintro x h_8 ⟨rfl, rfl⟩ m_8
  refine g_if_eq (q := 14) (tgt := 30) M dX4_weightIn_11 (by decide) rfl (fun c_11 => ?_) (fun c_11 => ?_)
  · refine g_iconst (q := 31) (v := (-1)) M dX4_weightIn_30 rfl (by decide) ?_
    refine g_ireturn M Ee dX4_weightIn_31 ?_
    exact ⟨_, rfl, rfl, (if_neg (bI_d.mp c_11)).symm⟩
  · refine g_aload_n (q := 15) M dX4_weightIn_14 rfl rfl ?_
    refine g_aload_n (q := 16) M dX4_weightIn_15 rfl rfl ?_
    refine g_iload_n (q := 17) M dX4_weightIn_16 rfl rfl ?_
    refine g_callV (q := 20) M rfl dX4_weightIn_17 rfl w_X4_304 (c_X4_inState (T32 T) S) (isC.of T.1 rfl) rfl rfl (Nat.le_of_ble_eq_true rfl) (by decide) (by omega) (by omega) (r_I ?_)
    rintro x h_17 ⟨rfl, rfl⟩ m_17
    refine g_aload_n (q := 21) M dX4_weightIn_20 rfl rfl ?_
    refine g_tw (q := 24) (f := 50) M dX4_weightIn_21 rfl l_X4_65 T rfl rfl T.a50 ?_
    refine g_callV (q := 27) M rfl dX4_weightIn_24 rfl w_X4_300 (c_X4_sumOf (T32 T) S T.a50.2.1 T.a50.2.2) (isC.of T.1 rfl) rfl rfl (Nat.le_of_ble_eq_true rfl) (by decide) (by omega) (by omega) (r_I ?_)
    rintro x h_24 ⟨rfl, rfl⟩ m_24
    refine g_goto (tgt := 31) M dX4_weightIn_27 (by decide) ?_
    refine g_ireturn M Ee dX4_weightIn_31 ?_
    exact ⟨_, rfl, rfl, (if_pos (bI_n.mp c_11)).symm⟩
theorem c_X4_answeredPriority {Z : xZ} {h : xH} {m : Nat} {nR nW nT nB nL : Nat} (T : TW h m) (S : SgN (tA h m) nR nW nT nB nL) : CT Z yX4_answeredPriority cX4_answeredPriority 1 (some .int) 2 0 0 [vr m] h (rI fun r h' => h' = pI h 32 m 0 ∧ r = spSum (tA h m 19) (spIn (tA h m 1) 3 nL) nL) := by
  refine CT.of (E := [some (vr m)]) (by decide +kernel) rfl rfl (Nat.le_of_ble_eq_true rfl) (fun X M Ee => ?_)
  have M : MX Z X cX4_answeredPriority "BalloonMailModel" 1 2 (some .int) "answeredPriority" := M
  refine g_aload_n (q := 1) M dX4_answeredPriority_0 rfl rfl ?_
  refine g_iconst (q := 2) (v := 0) M dX4_answeredPriority_1 rfl (by decide) ?_
  refine g_putI (q := 5) (f := 32) M dX4_answeredPriority_2 rfl l_X4_1 T.1 (by decide +kernel) rfl ⟨rfl, rfl⟩ ?_
  refine g_aload_n (q := 6) M dX4_answeredPriority_5 rfl rfl ?_
  refine g_aload_n (q := 7) M dX4_answeredPriority_6 rfl rfl ?_
  refine g_iconst (q := 8) (v := 3) M dX4_answeredPriority_7 rfl (by decide) ?_
  refine g_callV (q := 11) M rfl dX4_answeredPriority_8 rfl w_X4_304 (c_X4_inState (T32 T) S) (isC.of T.1 rfl) rfl rfl (Nat.le_of_ble_eq_true rfl) (by decide) (by omega) (by omega) (r_I ?_)
  rintro x h_8 ⟨rfl, rfl⟩ m_8
  refine g_aload_n (q := 12) M dX4_answeredPriority_11 rfl rfl ?_
  refine g_tw (q := 15) (f := 51) M dX4_answeredPriority_12 rfl l_X4_68 T rfl rfl T.a51 ?_
  refine g_callV (q := 18) M rfl dX4_answeredPriority_15 rfl w_X4_300 (c_X4_sumOf (T32 T) S T.a51.2.1 T.a51.2.2) (isC.of T.1 rfl) rfl rfl (Nat.le_of_ble_eq_true rfl) (by decide) (by omega) (by omega) (r_I ?_)
  rintro x h_15 ⟨rfl, rfl⟩ m_15
  refine g_ireturn M Ee dX4_answeredPriority_18 ?_
  exact ⟨_, rfl, rfl, rfl⟩
theorem c_X4_event {Z : xZ} {h : xH} {m at0 n : Nat} {i : Int32} (T : TW h m) (hn : tA h m 1 164 = nI n) (hl : n ≤ 16) (ha : at0 + 16 ≤ 213) : CT Z yX4_event cX4_event 3 (some .int) 1 0 0 [vr m, vi (nI at0), vi i] h (rI fun r h' => (¬ (0 ≤ i ∧ i ≤ nI n - 1) → h' = pI h 32 m 1) ∧ (∀ k, k < n → i = nI k → h' = pI h 32 m 0 ∧ r = tA h m 1 (at0 + k))) := by
  refine CT.of (E := [some (vr m), some (vi (nI at0)), some (vi i)]) (by decide +kernel) rfl rfl (Nat.le_of_ble_eq_true rfl) (fun X M Ee => ?_)
  have M : MX Z X cX4_event "BalloonMailModel" 3 1 (some .int) "event" := M
  refine g_aload_n (q := 1) M dX4_event_0 rfl rfl ?_
  refine g_iload_n (q := 2) M dX4_event_1 rfl rfl ?_
  refine g_iconst (q := 3) (v := 0) M dX4_event_2 rfl (by decide) ?_
  refine g_aload_n (q := 4) M dX4_event_3 rfl rfl ?_
  refine g_tw (q := 7) (f := 33) M dX4_event_4 rfl l_X4_13 T rfl rfl T.a33 ?_
  refine g_sipush (q := 10) (v := 164) M dX4_event_7 rfl (by decide) ?_
  refine g_ialdN (q := 11) (n := 213) (k := 164) M dX4_event_10 rfl T.a33.2.1 rfl T.a33.2.2 rfl (by decide) (by decide) ?_
  refine g_iconst (q := 12) (v := 1) M dX4_event_11 rfl (by decide) ?_
  refine g_isub (q := 13) M dX4_event_12 rfl ?_
  refine g_callS (q := 16) M rfl dX4_event_13 rfl w_X4_139 c_X4_within rfl rfl (Nat.le_of_ble_eq_true rfl) (by decide) (by omega) (by omega) (r_I ?_)
  rintro x h_13 ⟨rfl, rfl⟩ m_13
  rw [show yI _ (m + 1) 164 = nI n from hn]
  refine g_if_eq (q := 19) (tgt := 23) M dX4_event_16 (by decide) rfl (fun c_16 => ?_) (fun c_16 => ?_)
  · refine g_iconst (q := 24) (v := 1) M dX4_event_23 rfl (by decide) ?_
    refine g_putI (q := 27) (f := 32) M dX4_event_24 rfl l_X4_1 T.1 (by decide +kernel) rfl ⟨rfl, rfl⟩ ?_
    refine g_aload_n (q := 28) M dX4_event_27 rfl rfl ?_
    refine g_getI (q := 31) (f := 32) M dX4_event_28 rfl l_X4_1 T.1 rfl rfl ?_
    rw [xI_pI_s]
    refine g_if_le (q := 34) (tgt := 38) M dX4_event_31 (by decide) rfl (fun c_31 => ?_) (fun c_31 => ?_)
    · exact absurd c_31 (by decide)
    · refine g_iconst (q := 35) (v := 0) M dX4_event_34 rfl (by decide) ?_
      refine g_goto (tgt := 46) M dX4_event_35 (by decide) ?_
      refine g_ireturn M Ee dX4_event_46 ?_
      refine ⟨_, rfl, fun _ => rfl, fun k hk e => absurd ?_ (bI_d.mp c_16)⟩
      subst e
      exact ⟨nI_pos' (by omega), by rw [show nI n - 1 = nI n - nI 1 from rfl, pk_sub (by omega)]; exact nI_le (by omega) (by omega)⟩
  · have c0 := bI_n.mp c_16
    obtain ⟨k, hk, rfl⟩ := nI_m1 (by omega) c0.1 c0.2
    refine g_iconst (q := 20) (v := 0) M dX4_event_19 rfl (by decide) ?_
    refine g_goto (tgt := 24) M dX4_event_20 (by decide) ?_
    refine g_putI (q := 27) (f := 32) M dX4_event_24 rfl l_X4_1 T.1 (by decide +kernel) rfl ⟨rfl, rfl⟩ ?_
    refine g_aload_n (q := 28) M dX4_event_27 rfl rfl ?_
    refine g_getI (q := 31) (f := 32) M dX4_event_28 rfl l_X4_1 T.1 rfl rfl ?_
    rw [xI_pI_s]
    refine g_if_le (q := 34) (tgt := 38) M dX4_event_31 (by decide) rfl (fun c_31 => ?_) (fun c_31 => ?_)
    · refine g_aload_n (q := 39) M dX4_event_38 rfl rfl ?_
      refine g_tw (q := 42) (f := 33) M dX4_event_39 rfl l_X4_13 T rfl rfl T.a33 ?_
      refine g_iload_n (q := 43) M dX4_event_42 rfl rfl ?_
      refine g_iload_n (q := 44) M dX4_event_43 rfl rfl ?_
      refine g_iadd (q := 45) M dX4_event_44 rfl ?_
      refine g_ialdN (q := 46) (n := 213) M dX4_event_45 rfl T.a33.2.1 rfl T.a33.2.2 (nI_add at0 k) (by omega) (by decide) ?_
      refine g_ireturn M Ee dX4_event_46 ?_
      refine ⟨_, rfl, fun z => absurd c0 z, fun j hj e => ?_⟩
      rw [← (nI_eq (by omega) (by omega)).mp e]
      exact ⟨rfl, rfl⟩
    · exact absurd (Int32.le_refl _) c_31
theorem c_X4_eventKind {Z : xZ} {h : xH} {m n : Nat} {i : Int32} (T : TW h m) (hn : tA h m 1 164 = nI n) (hl : n ≤ 16) : CT Z yX4_eventKind cX4_eventKind 2 (some .int) 2 0 0 [vr m, vi i] h (rI fun r h' => (¬ (0 ≤ i ∧ i ≤ nI n - 1) → h' = pI h 32 m 1) ∧ (∀ k, k < n → i = nI k → h' = pI h 32 m 0 ∧ r = tA h m 1 (165 + k))) := by
  refine CT.of (E := [some (vr m), some (vi i)]) (by decide +kernel) rfl rfl (Nat.le_of_ble_eq_true rfl) (fun X M Ee => ?_)
  have M : MX Z X cX4_eventKind "BalloonMailModel" 2 2 (some .int) "eventKind" := M
  refine g_aload_n (q := 1) M dX4_eventKind_0 rfl rfl ?_
  refine g_sipush (q := 4) (v := 165) M dX4_eventKind_1 rfl (by decide) ?_
  refine g_iload_n (q := 5) M dX4_eventKind_4 rfl rfl ?_
  refine g_callV (q := 8) M rfl dX4_eventKind_5 rfl w_X4_338 (c_X4_event (at0 := 165) T hn hl (by decide)) (isC.of T.1 rfl) rfl rfl (Nat.le_of_ble_eq_true rfl) (by decide) (by omega) (by omega) (r_I fun x h_5 hq m_5 => ?_)
  refine g_ireturn M Ee dX4_eventKind_8 ?_
  exact ⟨_, rfl, hq⟩
theorem c_X4_eventNumber {Z : xZ} {h : xH} {m n : Nat} {i : Int32} (T : TW h m) (hn : tA h m 1 164 = nI n) (hl : n ≤ 16) : CT Z yX4_eventNumber cX4_eventNumber 2 (some .int) 2 0 0 [vr m, vi i] h (rI fun r h' => (¬ (0 ≤ i ∧ i ≤ nI n - 1) → h' = pI h 32 m 1) ∧ (∀ k, k < n → i = nI k → h' = pI h 32 m 0 ∧ r = tA h m 1 (181 + k))) := by
  refine CT.of (E := [some (vr m), some (vi i)]) (by decide +kernel) rfl rfl (Nat.le_of_ble_eq_true rfl) (fun X M Ee => ?_)
  have M : MX Z X cX4_eventNumber "BalloonMailModel" 2 2 (some .int) "eventNumber" := M
  refine g_aload_n (q := 1) M dX4_eventNumber_0 rfl rfl ?_
  refine g_sipush (q := 4) (v := 181) M dX4_eventNumber_1 rfl (by decide) ?_
  refine g_iload_n (q := 5) M dX4_eventNumber_4 rfl rfl ?_
  refine g_callV (q := 8) M rfl dX4_eventNumber_5 rfl w_X4_338 (c_X4_event (at0 := 181) T hn hl (by decide)) (isC.of T.1 rfl) rfl rfl (Nat.le_of_ble_eq_true rfl) (by decide) (by omega) (by omega) (r_I fun x h_5 hq m_5 => ?_)
  refine g_ireturn M Ee dX4_eventNumber_8 ?_
  exact ⟨_, rfl, hq⟩
theorem c_X4_eventDay {Z : xZ} {h : xH} {m n : Nat} {i : Int32} (T : TW h m) (hn : tA h m 1 164 = nI n) (hl : n ≤ 16) : CT Z yX4_eventDay cX4_eventDay 2 (some .int) 2 0 0 [vr m, vi i] h (rI fun r h' => (¬ (0 ≤ i ∧ i ≤ nI n - 1) → h' = pI h 32 m 1) ∧ (∀ k, k < n → i = nI k → h' = pI h 32 m 0 ∧ r = tA h m 1 (197 + k))) := by
  refine CT.of (E := [some (vr m), some (vi i)]) (by decide +kernel) rfl rfl (Nat.le_of_ble_eq_true rfl) (fun X M Ee => ?_)
  have M : MX Z X cX4_eventDay "BalloonMailModel" 2 2 (some .int) "eventDay" := M
  refine g_aload_n (q := 1) M dX4_eventDay_0 rfl rfl ?_
  refine g_sipush (q := 4) (v := 197) M dX4_eventDay_1 rfl (by decide) ?_
  refine g_iload_n (q := 5) M dX4_eventDay_4 rfl rfl ?_
  refine g_callV (q := 8) M rfl dX4_eventDay_5 rfl w_X4_338 (c_X4_event (at0 := 197) T hn hl (by decide)) (isC.of T.1 rfl) rfl rfl (Nat.le_of_ble_eq_true rfl) (by decide) (by omega) (by omega) (r_I fun x h_5 hq m_5 => ?_)
  refine g_ireturn M Ee dX4_eventDay_8 ?_
  exact ⟨_, rfl, hq⟩
/-- what is chosen by weights, from place k on, n places: else rest -/
def spPick (wt num : Nat → Int32) (rest : Int32) : Nat → Nat → Int32 → Int32
  | 0, _, _ => rest
  | n + 1, k, g => if g < wt k then num k else spPick wt num rest n (k + 1) (g - wt k)
theorem c_X4_regionDrawn {Z : xZ} {h : xH} {m w n : Nat} (T : TW h m) (hw : tA h m 1 1 = nI w) (hw6 : w < 6) (hn : tA h m 7 w = nI n) (hl : n ≤ 8) : CT Z yX4_regionDrawn cX4_regionDrawn 4 (some .int) 1 0 0 [vr m] h (rI fun r h' => h' = sI h (m + 1) 2 (rngX (tA h m 1 2)).toInt32 ∧ r = spPick (fun k => tA h m 9 (8 * w + k)) (fun k => tA h m 8 (8 * w + k)) (-2) n 0 (rngD (rngX (tA h m 1 2)))) := by
  refine CT.of (E := [some (vr m), none, none, none]) (by decide +kernel) rfl rfl (Nat.le_of_ble_eq_true rfl) (fun X M Ee => ?_)
  have M : MX Z X cX4_regionDrawn "BalloonMailModel" 4 1 (some .int) "regionDrawn" := M
  refine g_aload_n (q := 1) M dX4_regionDrawn_0 rfl rfl ?_
  refine g_tw (q := 4) (f := 33) M dX4_regionDrawn_1 rfl l_X4_13 T rfl rfl T.a33 ?_
  refine g_iconst (q := 5) (v := 1) M dX4_regionDrawn_4 rfl (by decide) ?_
  refine g_ialdN (q := 6) (n := 213) (k := 1) M dX4_regionDrawn_5 rfl T.a33.2.1 rfl T.a33.2.2 rfl (by decide) (by decide) ?_
  refine g_istore_n (q := 7) (j := 1) M dX4_regionDrawn_6 rfl rfl (Nat.le_of_ble_eq_true rfl) rfl ?_
  dsimp only [st1, st2, kl, List.set_cons_zero, List.set_cons_succ, List.set_nil]
  rw [show yI h (m + 1) 1 = nI w from hw]
  refine g_aload_n (q := 8) M dX4_regionDrawn_7 rfl rfl ?_
  refine g_callV (q := 11) M rfl dX4_regionDrawn_8 rfl w_X4_317 (c_X4_draw T) (isC.of T.1 rfl) rfl rfl (Nat.le_of_ble_eq_true rfl) (by decide) (by omega) (by omega) (r_I ?_)
  rintro x h_8 ⟨rfl, rfl⟩ m_8
  refine g_istore_n (q := 12) (j := 2) M dX4_regionDrawn_11 rfl rfl (Nat.le_of_ble_eq_true rfl) rfl ?_
  dsimp only [st1, st2, kl, List.set_cons_zero, List.set_cons_succ, List.set_nil]
  refine g_iconst (q := 13) (v := 0) M dX4_regionDrawn_12 rfl (by decide) ?_
  refine g_istore_n (q := 14) (j := 3) M dX4_regionDrawn_13 rfl rfl (Nat.le_of_ble_eq_true rfl) rfl ?_
  dsimp only [st1, st2, kl, List.set_cons_zero, List.set_cons_succ, List.set_nil]
  have L : ∀ n' k (g : Int32), k + n' = n → spPick (fun k => tA h m 9 (8 * w + k)) (fun k => tA h m 8 (8 * w + k)) (-2) n 0 (rngD (rngX (tA h m 1 2))) = spPick (fun k => tA h m 9 (8 * w + k)) (fun k => tA h m 8 (8 * w + k)) (-2) n' k g → G Z X 0 0 14 [some (vr m), some (vi (nI w)), some (vi g), some (vi (nI k))] [] (sI h (m + 1) 2 (rngX (tA h m 1 2)).toInt32) := by
    intro n'
    induction n' with
    | zero =>
      intro k g hk hs
      refine g_iload_n (q := 15) M dX4_regionDrawn_14 rfl rfl ?_
      refine g_aload_n (q := 16) M dX4_regionDrawn_15 rfl rfl ?_
      refine g_tw (q := 19) (f := 39) M dX4_regionDrawn_16 rfl l_X4_32 T rfl rfl T.a39 ?_
      refine g_iload_n (q := 20) M dX4_regionDrawn_19 rfl rfl ?_
      refine g_ialdN (q := 21) (n := 12) M dX4_regionDrawn_20 rfl T.a39.2.1 rfl T.a39.2.2 rfl (by omega) (by decide) ?_
      rw [show yI (sI h (m + 1) 2 (rngX (tA h m 1 2)).toInt32) (m + 7) w = nI n from by rw [yI_sI, if_neg (by omega)]; exact hn]
      refine g_icmp_ge (q := 24) (tgt := 71) M dX4_regionDrawn_21 (by decide) rfl (fun c_21 => ?_) (fun c_21 => ?_)
      · refine g_bipush (q := 73) (v := (-2)) M dX4_regionDrawn_71 rfl (by decide) ?_
        refine g_ireturn M Ee dX4_regionDrawn_73 ?_
        exact ⟨_, rfl, rfl, hs.symm⟩
      · exact absurd (nI_le (by omega) (by omega)) c_21
    | succ n' ih =>
      intro k g hk hs
      refine g_iload_n (q := 15) M dX4_regionDrawn_14 rfl rfl ?_
      refine g_aload_n (q := 16) M dX4_regionDrawn_15 rfl rfl ?_
      refine g_tw (q := 19) (f := 39) M dX4_regionDrawn_16 rfl l_X4_32 T rfl rfl T.a39 ?_
      refine g_iload_n (q := 20) M dX4_regionDrawn_19 rfl rfl ?_
      refine g_ialdN (q := 21) (n := 12) M dX4_regionDrawn_20 rfl T.a39.2.1 rfl T.a39.2.2 rfl (by omega) (by decide) ?_
      rw [show yI (sI h (m + 1) 2 (rngX (tA h m 1 2)).toInt32) (m + 7) w = nI n from by rw [yI_sI, if_neg (by omega)]; exact hn]
      refine g_icmp_ge (q := 24) (tgt := 71) M dX4_regionDrawn_21 (by decide) rfl (fun c_21 => ?_) (fun c_21 => ?_)
      · exact absurd ((nI_leI (by omega) (by omega)).mp c_21) (by omega)
      · refine g_iload_n (q := 25) M dX4_regionDrawn_24 rfl rfl ?_
        refine g_aload_n (q := 26) M dX4_regionDrawn_25 rfl rfl ?_
        refine g_tw (q := 29) (f := 41) M dX4_regionDrawn_26 rfl l_X4_38 T rfl rfl T.a41 ?_
        refine g_bipush (q := 31) (v := 8) M dX4_regionDrawn_29 rfl (by decide) ?_
        refine g_iload_n (q := 32) M dX4_regionDrawn_31 rfl rfl ?_
        refine g_imul (q := 33) M dX4_regionDrawn_32 rfl ?_
        refine g_iload_n (q := 34) M dX4_regionDrawn_33 rfl rfl ?_
        refine g_iadd (q := 35) M dX4_regionDrawn_34 rfl ?_
        refine g_ialdN (q := 36) (n := 96) M dX4_regionDrawn_35 rfl T.a41.2.1 rfl T.a41.2.2 (ix8 w k) (by omega) (by decide) ?_
        rw [show yI (sI h (m + 1) 2 (rngX (tA h m 1 2)).toInt32) (m + 9) (8 * w + k) = tA h m 9 (8 * w + k) from by rw [yI_sI, if_neg (by omega)]; rfl]
        refine g_icmp_ge (q := 39) (tgt := 51) M dX4_regionDrawn_36 (by decide) rfl (fun c_36 => ?_) (fun c_36 => ?_)
        · refine g_iload_n (q := 52) M dX4_regionDrawn_51 rfl rfl ?_
          refine g_aload_n (q := 53) M dX4_regionDrawn_52 rfl rfl ?_
          refine g_tw (q := 56) (f := 41) M dX4_regionDrawn_53 rfl l_X4_38 T rfl rfl T.a41 ?_
          refine g_bipush (q := 58) (v := 8) M dX4_regionDrawn_56 rfl (by decide) ?_
          refine g_iload_n (q := 59) M dX4_regionDrawn_58 rfl rfl ?_
          refine g_imul (q := 60) M dX4_regionDrawn_59 rfl ?_
          refine g_iload_n (q := 61) M dX4_regionDrawn_60 rfl rfl ?_
          refine g_iadd (q := 62) M dX4_regionDrawn_61 rfl ?_
          refine g_ialdN (q := 63) (n := 96) M dX4_regionDrawn_62 rfl T.a41.2.1 rfl T.a41.2.2 (ix8 w k) (by omega) (by decide) ?_
          rw [show yI (sI h (m + 1) 2 (rngX (tA h m 1 2)).toInt32) (m + 9) (8 * w + k) = tA h m 9 (8 * w + k) from by rw [yI_sI, if_neg (by omega)]; rfl]
          refine g_isub (q := 64) M dX4_regionDrawn_63 rfl ?_
          refine g_istore_n (q := 65) (j := 2) M dX4_regionDrawn_64 rfl rfl (Nat.le_of_ble_eq_true rfl) rfl ?_
          dsimp only [st1, st2, kl, List.set_cons_zero, List.set_cons_succ, List.set_nil]
          refine g_iinc (q := 68) (w := 1) M dX4_regionDrawn_65 rfl (Nat.le_of_ble_eq_true rfl) rfl (by decide) rfl ?_
          dsimp only [st1, st2, kl, List.set_cons_zero, List.set_cons_succ, List.set_nil]
          try rw [nI_1]
          refine g_goto (tgt := 14) M dX4_regionDrawn_68 (by decide) ?_
          exact ih (k + 1) _ (by omega) (hs.trans (if_neg (Int32.not_lt.mpr c_36)))
        · refine g_aload_n (q := 40) M dX4_regionDrawn_39 rfl rfl ?_
          refine g_tw (q := 43) (f := 40) M dX4_regionDrawn_40 rfl l_X4_35 T rfl rfl T.a40 ?_
          refine g_bipush (q := 45) (v := 8) M dX4_regionDrawn_43 rfl (by decide) ?_
          refine g_iload_n (q := 46) M dX4_regionDrawn_45 rfl rfl ?_
          refine g_imul (q := 47) M dX4_regionDrawn_46 rfl ?_
          refine g_iload_n (q := 48) M dX4_regionDrawn_47 rfl rfl ?_
          refine g_iadd (q := 49) M dX4_regionDrawn_48 rfl ?_
          refine g_ialdN (q := 50) (n := 96) M dX4_regionDrawn_49 rfl T.a40.2.1 rfl T.a40.2.2 (ix8 w k) (by omega) (by decide) ?_
          rw [show yI (sI h (m + 1) 2 (rngX (tA h m 1 2)).toInt32) (m + 8) (8 * w + k) = tA h m 8 (8 * w + k) from by rw [yI_sI, if_neg (by omega)]; rfl]
          refine g_ireturn M Ee dX4_regionDrawn_50 ?_
          exact ⟨_, rfl, rfl, (hs.trans (if_pos (Int32.not_le.mp c_36))).symm⟩
  exact L n 0 _ (by omega) rfl
