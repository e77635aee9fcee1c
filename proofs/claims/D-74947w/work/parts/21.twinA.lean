/-! THE TWIN's small methods -/
set_option maxRecDepth 100000
/-- the generator's next number, and what is drawn -/
def rngX (x : Int32) : Int64 := (x.toInt64 * 1103515245 + 12345) - (x.toInt64 * 1103515245 + 12345) / 2147483648 * 2147483648
def rngD (y : Int64) : Int32 := (y / 65536 - y / 65536 / 10 * 10).toInt32
theorem c_X4_draw {Z : xZ} {h : xH} {m : Nat} (T : TW h m) : CT Z yX4_draw cX4_draw 3 (some .int) 0 0 0 [vr m] h (rI fun r h' => h' = sI h (m + 1) 2 (rngX (yI h (m + 1) 2)).toInt32 ∧ r = rngD (rngX (yI h (m + 1) 2))) := by
  refine CT.of (E := [some (vr m), none, none]) (by decide +kernel) rfl rfl (Nat.le_of_ble_eq_true rfl) (fun X M Ee => ?_)
  have M : MX Z X cX4_draw "BalloonMailModel" 3 0 (some .int) "draw" := M
  refine g_aload_n (q := 1) M dX4_draw_0 rfl rfl ?_
  refine g_tw (q := 4) (f := 33) M dX4_draw_1 rfl l_X4_13 T rfl rfl T.a33 ?_
  refine g_iconst (q := 5) (v := 2) M dX4_draw_4 rfl (by decide) ?_
  refine g_iald (q := 6) M dX4_draw_5 rfl T.a33.2.1 rfl (ixC T.a33.2.2 (by decide)) ?_
  refine g_i2l (q := 7) M dX4_draw_6 rfl ?_
  refine g_ldc2 (q := 10) M dX4_draw_7 rfl q2573 ?_
  refine g_lmul (q := 11) M dX4_draw_10 rfl ?_
  refine g_ldc2 (q := 14) M dX4_draw_11 rfl q2574 ?_
  refine g_ladd (q := 15) M dX4_draw_14 rfl ?_
  refine g_ldc2 (q := 18) M dX4_draw_15 rfl q2575 ?_
  refine g_lrem (q := 19) M dX4_draw_18 rfl (by decide) ?_
  refine g_lstore_n (q := 20) M dX4_draw_19 rfl (Nat.le_of_ble_eq_true rfl) rfl ?_
  dsimp only [st1, st2, List.set_cons_zero, List.set_cons_succ, List.set_nil]
  refine g_aload_n (q := 21) M dX4_draw_20 rfl rfl ?_
  refine g_tw (q := 24) (f := 33) M dX4_draw_21 rfl l_X4_13 T rfl rfl T.a33 ?_
  refine g_iconst (q := 25) (v := 2) M dX4_draw_24 rfl (by decide) ?_
  refine g_lload_n (q := 26) M dX4_draw_25 rfl rfl ?_
  refine g_l2i (q := 27) M dX4_draw_26 rfl ?_
  refine g_iast (q := 28) M dX4_draw_27 rfl T.a33.2.1 (ixC T.a33.2.2 (by decide)) ?_
  refine g_lload_n (q := 29) M dX4_draw_28 rfl rfl ?_
  refine g_ldc2 (q := 32) M dX4_draw_29 rfl q2576 ?_
  refine g_ldiv (q := 33) M dX4_draw_32 rfl (by decide) ?_
  refine g_ldc2 (q := 36) M dX4_draw_33 rfl q2577 ?_
  refine g_lrem (q := 37) M dX4_draw_36 rfl (by decide) ?_
  refine g_l2i (q := 38) M dX4_draw_37 rfl ?_
  refine g_ireturn M Ee dX4_draw_38 ?_
  exact ⟨_, rfl, rfl, rfl⟩
