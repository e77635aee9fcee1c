/-! THE TWIN: what writes -/
set_option maxRecDepth 100000
theorem yI_wI_s (h : xH) (a : Nat) (g : Nat → Int32) : yI (wI h a g) a = g := by
  funext y
  rw [yI_wI, if_pos rfl]
theorem yI_wI_n (h : xH) {a b : Nat} (g : Nat → Int32) (hb : b ≠ a) : yI (wI h a g) b = yI h b := by
  funext y
  rw [yI_wI, if_neg hb]
theorem tA_wI (h : xH) (m o o' : Nat) (g : Nat → Int32) : tA (wI h (m + o) g) m o' = if o' = o then g else tA h m o' := by
  unfold tA
  by_cases e : o' = o
  · subst e
    rw [if_pos rfl, yI_wI_s]
  · rw [if_neg e, yI_wI_n _ _ (by omega)]
theorem u1_s {α : Type} (f : Nat → α) (k : Nat) (v : α) : u1 f k v k = v := by simp [u1]
theorem u1_n {α : Type} (f : Nat → α) {k j : Nat} (v : α) (hj : j ≠ k) : u1 f k v j = f j := by simp [u1, hj]
theorem c_X4_copies {Z : xZ} {h : xH} {a b sp dp n la lb : Nat} (ta : xt h a = 60) (tb : xt h b = 60) (na : xn h a = la) (nb : xn h b = lb) (h1 : sp + n ≤ la) (h2 : dp + n ≤ lb) (hab : a = b → dp ≤ sp) (hla : la < 100000) (hlb : lb < 100000) : CT Z yX4_copies cX4_copies 6 none 0 0 0 [vr a, vi (nI sp), vr b, vi (nI dp), vi (nI n)] h (rV fun h' => h' = wI h b (cpy (yI h a) (yI h b) sp dp n)) := by
  refine CT.of (E := [some (vr a), some (vi (nI sp)), some (vr b), some (vi (nI dp)), some (vi (nI n)), none]) (by decide +kernel) rfl rfl (Nat.le_of_ble_eq_true rfl) (fun X M Ee => ?_)
  have M : MX Z X cX4_copies "BalloonMailModel" 6 0 none "copies" := M
  refine g_iconst (q := 1) (v := 0) M dX4_copies_0 rfl (by decide) ?_
  refine g_istore (q := 3) (j := 5) M dX4_copies_1 rfl rfl (Nat.le_of_ble_eq_true rfl) rfl ?_
  dsimp only [st1, st2, kl, List.set_cons_zero, List.set_cons_succ, List.set_nil]
  have L := upLoop (P := fun k => G Z X 0 0 3 [some (vr a), some (vi (nI sp)), some (vr b), some (vi (nI dp)), some (vi (nI n)), some (vi (nI k))] [] (wI h b (cpy (yI h a) (yI h b) sp dp k))) n ?_ ?_ 0 (Nat.zero_le _)
  · rw [cpy_0, wI_eta] at L
    exact L
  · refine g_iload (q := 5) M dX4_copies_3 rfl rfl ?_
    refine g_iload (q := 7) M dX4_copies_5 rfl rfl ?_
    refine g_icmp_ge (q := 10) (tgt := 28) M dX4_copies_7 (by decide) rfl (fun c_7 => ?_) (fun c_7 => ?_)
    · refine g_return M Ee dX4_copies_28 ?_
      exact ⟨rfl, rfl⟩
    · exact absurd (Int32.le_refl _) c_7
  · intro k hk ih
    refine g_iload (q := 5) M dX4_copies_3 rfl rfl ?_
    refine g_iload (q := 7) M dX4_copies_5 rfl rfl ?_
    refine g_icmp_ge (q := 10) (tgt := 28) M dX4_copies_7 (by decide) rfl (fun c_7 => ?_) (fun c_7 => ?_)
    · exact absurd ((nI_leI (by omega) (by omega)).mp c_7) (by omega)
    · refine g_aload_n (q := 11) M dX4_copies_10 rfl rfl ?_
      refine g_iload_n (q := 12) M dX4_copies_11 rfl rfl ?_
      refine g_iload (q := 14) M dX4_copies_12 rfl rfl ?_
      refine g_iadd (q := 15) M dX4_copies_14 rfl ?_
      refine g_aload_n (q := 16) M dX4_copies_15 rfl rfl ?_
      refine g_iload_n (q := 17) M dX4_copies_16 rfl rfl ?_
      refine g_iload (q := 19) M dX4_copies_17 rfl rfl ?_
      refine g_iadd (q := 20) M dX4_copies_19 rfl ?_
      refine g_ialdN (q := 21) (n := la) M dX4_copies_20 rfl ta rfl na (nI_add sp k) (by omega) (by omega) ?_
      refine g_iastN (q := 22) (n := lb) M dX4_copies_21 rfl tb nb (nI_add dp k) (by omega) (by omega) ?_
      refine g_iinc (q := 25) (w := 1) M dX4_copies_22 rfl (Nat.le_of_ble_eq_true rfl) rfl (by decide) rfl ?_
      dsimp only [st1, st2, kl, List.set_cons_zero, List.set_cons_succ, List.set_nil]
      try rw [nI_1]
      refine g_goto (tgt := 3) M dX4_copies_25 (by decide) ?_
      rw [sI_wI, show yI (wI h b (cpy (yI h a) (yI h b) sp dp k)) a (sp + k) = yI h a (sp + k) from ?_, cpy_1]
      · exact ih
      · by_cases e : a = b
        · subst e
          rw [yI_wI_s]
          have := hab rfl
          unfold cpy
          rw [if_neg (by omega)]
        · rw [yI_wI_n _ _ e]
theorem c_X4_lifts {Z : xZ} {h : xH} {a n : Nat} (ta : xt h a = 60) (na : xn h a = n + n) (hn : n < 1000) : CT Z yX4_lifts cX4_lifts 2 none 1 0 0 [vr a] h (rV fun h' => h' = wI h a (cpy (yI h a) (yI h a) n 0 n)) := by
  refine CT.of (E := [some (vr a), none]) (by decide +kernel) rfl rfl (Nat.le_of_ble_eq_true rfl) (fun X M Ee => ?_)
  have M : MX Z X cX4_lifts "BalloonMailModel" 2 1 none "lifts" := M
  refine g_aload_n (q := 1) M dX4_lifts_0 rfl rfl ?_
  refine g_alen (q := 2) M dX4_lifts_1 rfl ta rfl ?_
  refine g_iconst (q := 3) (v := 2) M dX4_lifts_2 rfl (by decide) ?_
  refine g_idiv (q := 4) M dX4_lifts_3 rfl (by decide) ?_
  rw [na, show nI (n + n) / 2 = nI n from by rw [show (2 : Int32) = nI 2 from rfl, pk_div (by omega) (by decide) (by decide)]; congr 1; omega]
  refine g_istore_n (q := 5) (j := 1) M dX4_lifts_4 rfl rfl (Nat.le_of_ble_eq_true rfl) rfl ?_
  dsimp only [st1, st2, kl, List.set_cons_zero, List.set_cons_succ, List.set_nil]
  refine g_aload_n (q := 6) M dX4_lifts_5 rfl rfl ?_
  refine g_iload_n (q := 7) M dX4_lifts_6 rfl rfl ?_
  refine g_aload_n (q := 8) M dX4_lifts_7 rfl rfl ?_
  refine g_iconst (q := 9) (v := 0) M dX4_lifts_8 rfl (by decide) ?_
  refine g_iload_n (q := 10) M dX4_lifts_9 rfl rfl ?_
  refine g_callS (q := 13) M rfl dX4_lifts_10 rfl w_X4_232 (c_X4_copies ta ta na na (Nat.le_refl _) (by omega) (fun _ => Nat.zero_le _) (by omega) (by omega)) rfl rfl (Nat.le_of_ble_eq_true rfl) (by decide) (by omega) (by omega) (r_V fun h_10 hq m_10 => ?_)
  refine g_return M Ee dX4_lifts_13 ?_
  exact ⟨rfl, hq⟩
/-- the journal without its first event; with one more; as it is kept -/
def spDrop (R : Nat → Int32) : Nat → Int32 := cpy (cpy (cpy (u1 R 164 15) (u1 R 164 15) 166 165 15) (cpy (u1 R 164 15) (u1 R 164 15) 166 165 15) 182 181 15) (cpy (cpy (u1 R 164 15) (u1 R 164 15) 166 165 15) (cpy (u1 R 164 15) (u1 R 164 15) 166 165 15) 182 181 15) 198 197 15
def spNote (R : Nat → Int32) (n : Nat) (kind its : Int32) : Nat → Int32 := u1 (u1 (u1 (u1 R (165 + n) kind) (181 + n) its) (197 + n) (R 0)) 164 (nI (n + 1))
def spNotes (R : Nat → Int32) (n : Nat) (kind its : Int32) : Nat → Int32 := if n = 16 then spNote (spDrop R) 15 kind its else spNote R n kind its
theorem spDrop_164 (R : Nat → Int32) : spDrop R 164 = 15 := by simp [spDrop, cpy, u1]
theorem c_X4_notes {Z : xZ} {h : xH} {m n : Nat} {kind its : Int32} (T : TW h m) (hn : tA h m 1 164 = nI n) (hl : n ≤ 16) : CT Z yX4_notes cX4_notes 3 none 1 0 0 [vr m, vi kind, vi its] h (rV fun h' => h' = wI h (m + 1) (spNotes (tA h m 1) n kind its)) := by
  refine CT.of (E := [some (vr m), some (vi kind), some (vi its)]) (by decide +kernel) rfl rfl (Nat.le_of_ble_eq_true rfl) (fun X M Ee => ?_)
  have M : MX Z X cX4_notes "BalloonMailModel" 3 1 none "notes" := M
  have J : ∀ (R : Nat → Int32) (k : Nat), R 164 = nI k → k < 16 → spNote R k kind its = spNotes (tA h m 1) n kind its → G Z X 0 0 82 [some (vr m), some (vi kind), some (vi its)] [] (wI h (m + 1) R) := by
    intro R k hR hk hs
    have e1 : ∀ (g : Nat → Int32) (i : Nat), yI (wI h (m + 1) g) (m + 1) i = g i := fun g i => by rw [yI_wI_s]
    refine g_aload_n (q := 83) M dX4_notes_82 rfl rfl ?_
    refine g_tw (q := 86) (f := 33) M dX4_notes_83 rfl l_X4_13 T rfl rfl T.a33 ?_
    refine g_sipush (q := 89) (v := 165) M dX4_notes_86 rfl (by decide) ?_
    refine g_aload_n (q := 90) M dX4_notes_89 rfl rfl ?_
    refine g_tw (q := 93) (f := 33) M dX4_notes_90 rfl l_X4_13 T rfl rfl T.a33 ?_
    refine g_sipush (q := 96) (v := 164) M dX4_notes_93 rfl (by decide) ?_
    refine g_ialdN (q := 97) (n := 213) (k := 164) M dX4_notes_96 rfl T.a33.2.1 rfl T.a33.2.2 rfl (by decide) (by decide) ?_
    refine g_iadd (q := 98) M dX4_notes_97 rfl ?_
    refine g_iload_n (q := 99) M dX4_notes_98 rfl rfl ?_
    rw [e1, hR]
    refine g_iastN (q := 100) (n := 213) M dX4_notes_99 rfl T.a33.2.1 T.a33.2.2 (ixk 165 rfl k) (by omega) (by decide) ?_
    rw [sI_wI]
    refine g_aload_n (q := 101) M dX4_notes_100 rfl rfl ?_
    refine g_tw (q := 104) (f := 33) M dX4_notes_101 rfl l_X4_13 T rfl rfl T.a33 ?_
    refine g_sipush (q := 107) (v := 181) M dX4_notes_104 rfl (by decide) ?_
    refine g_aload_n (q := 108) M dX4_notes_107 rfl rfl ?_
    refine g_tw (q := 111) (f := 33) M dX4_notes_108 rfl l_X4_13 T rfl rfl T.a33 ?_
    refine g_sipush (q := 114) (v := 164) M dX4_notes_111 rfl (by decide) ?_
    refine g_ialdN (q := 115) (n := 213) (k := 164) M dX4_notes_114 rfl T.a33.2.1 rfl T.a33.2.2 rfl (by decide) (by decide) ?_
    refine g_iadd (q := 116) M dX4_notes_115 rfl ?_
    refine g_iload_n (q := 117) M dX4_notes_116 rfl rfl ?_
    rw [e1, u1_n _ _ (by omega), hR]
    refine g_iastN (q := 118) (n := 213) M dX4_notes_117 rfl T.a33.2.1 T.a33.2.2 (ixk 181 rfl k) (by omega) (by decide) ?_
    rw [sI_wI]
    refine g_aload_n (q := 119) M dX4_notes_118 rfl rfl ?_
    refine g_tw (q := 122) (f := 33) M dX4_notes_119 rfl l_X4_13 T rfl rfl T.a33 ?_
    refine g_sipush (q := 125) (v := 197) M dX4_notes_122 rfl (by decide) ?_
    refine g_aload_n (q := 126) M dX4_notes_125 rfl rfl ?_
    refine g_tw (q := 129) (f := 33) M dX4_notes_126 rfl l_X4_13 T rfl rfl T.a33 ?_
    refine g_sipush (q := 132) (v := 164) M dX4_notes_129 rfl (by decide) ?_
    refine g_ialdN (q := 133) (n := 213) (k := 164) M dX4_notes_132 rfl T.a33.2.1 rfl T.a33.2.2 rfl (by decide) (by decide) ?_
    rw [e1, u1_n _ _ (by omega), u1_n _ _ (by omega), hR]
    refine g_iadd (q := 134) M dX4_notes_133 rfl ?_
    refine g_aload_n (q := 135) M dX4_notes_134 rfl rfl ?_
    refine g_tw (q := 138) (f := 33) M dX4_notes_135 rfl l_X4_13 T rfl rfl T.a33 ?_
    refine g_iconst (q := 139) (v := 0) M dX4_notes_138 rfl (by decide) ?_
    refine g_ialdN (q := 140) (n := 213) (k := 0) M dX4_notes_139 rfl T.a33.2.1 rfl T.a33.2.2 rfl (by decide) (by decide) ?_
    rw [e1, u1_n _ _ (by omega), u1_n _ _ (by omega)]
    refine g_iastN (q := 141) (n := 213) M dX4_notes_140 rfl T.a33.2.1 T.a33.2.2 (ixk 197 rfl k) (by omega) (by decide) ?_
    rw [sI_wI]
    refine g_aload_n (q := 142) M dX4_notes_141 rfl rfl ?_
    refine g_tw (q := 145) (f := 33) M dX4_notes_142 rfl l_X4_13 T rfl rfl T.a33 ?_
    refine g_sipush (q := 148) (v := 164) M dX4_notes_145 rfl (by decide) ?_
    refine g_dup2 (q := 149) M dX4_notes_148 rfl rfl rfl ?_
    refine g_ialdN (q := 150) (n := 213) (k := 164) M dX4_notes_149 rfl T.a33.2.1 rfl T.a33.2.2 rfl (by decide) (by decide) ?_
    rw [e1, u1_n _ _ (by omega), u1_n _ _ (by omega), u1_n _ _ (by omega), hR]
    refine g_iconst (q := 151) (v := 1) M dX4_notes_150 rfl (by decide) ?_
    refine g_iadd (q := 152) M dX4_notes_151 rfl ?_
    refine g_iastN (q := 153) (n := 213) (k := 164) M dX4_notes_152 rfl T.a33.2.1 T.a33.2.2 rfl (by decide) (by decide) ?_
    rw [sI_wI, nI_1]
    refine g_return M Ee dX4_notes_153 ?_
    refine ⟨rfl, ?_⟩
    rw [← hs]
    rfl
  refine g_aload_n (q := 1) M dX4_notes_0 rfl rfl ?_
  refine g_tw (q := 4) (f := 33) M dX4_notes_1 rfl l_X4_13 T rfl rfl T.a33 ?_
  refine g_sipush (q := 7) (v := 164) M dX4_notes_4 rfl (by decide) ?_
  refine g_ialdN (q := 8) (n := 213) (k := 164) M dX4_notes_7 rfl T.a33.2.1 rfl T.a33.2.2 rfl (by decide) (by decide) ?_
  refine g_bipush (q := 10) (v := 16) M dX4_notes_8 rfl (by decide) ?_
  refine g_icmp_ne (q := 13) (tgt := 82) M dX4_notes_10 (by decide) rfl (fun c_10 => ?_) (fun c_10 => ?_)
  · have hne : n ≠ 16 := fun e => c_10 (by show tA h m 1 164 = 16; rw [hn, e]; rfl)
    have := J (yI h (m + 1)) n hn (by omega) (by unfold spNotes; rw [if_neg hne]; rfl)
    rw [wI_eta] at this
    exact this
  · have he : n = 16 := (nI_eq (by omega) (by decide)).mp (hn.symm.trans (show tA h m 1 164 = nI 16 from c_10))
    refine g_aload_n (q := 14) M dX4_notes_13 rfl rfl ?_
    refine g_tw (q := 17) (f := 33) M dX4_notes_14 rfl l_X4_13 T rfl rfl T.a33 ?_
    refine g_sipush (q := 20) (v := 164) M dX4_notes_17 rfl (by decide) ?_
    refine g_dup2 (q := 21) M dX4_notes_20 rfl rfl rfl ?_
    refine g_ialdN (q := 22) (n := 213) (k := 164) M dX4_notes_21 rfl T.a33.2.1 rfl T.a33.2.2 rfl (by decide) (by decide) ?_
    refine g_iconst (q := 23) (v := 1) M dX4_notes_22 rfl (by decide) ?_
    refine g_isub (q := 24) M dX4_notes_23 rfl ?_
    refine g_iastN (q := 25) (n := 213) (k := 164) M dX4_notes_24 rfl T.a33.2.1 T.a33.2.2 rfl (by decide) (by decide) ?_
    rw [show yI h (m + 1) 164 = 16 from c_10, sI_is, show (16 : Int32) - 1 = 15 from rfl]
    refine g_aload_n (q := 26) M dX4_notes_25 rfl rfl ?_
    refine g_tw (q := 29) (f := 33) M dX4_notes_26 rfl l_X4_13 T rfl rfl T.a33 ?_
    refine g_sipush (q := 32) (v := 166) M dX4_notes_29 rfl (by decide) ?_
    refine g_aload_n (q := 33) M dX4_notes_32 rfl rfl ?_
    refine g_tw (q := 36) (f := 33) M dX4_notes_33 rfl l_X4_13 T rfl rfl T.a33 ?_
    refine g_sipush (q := 39) (v := 165) M dX4_notes_36 rfl (by decide) ?_
    refine g_bipush (q := 41) (v := 15) M dX4_notes_39 rfl (by decide) ?_
    refine g_callS (q := 44) M rfl dX4_notes_41 rfl w_X4_232 (c_X4_copies (sp := 166) (dp := 165) (n := 15) T.a33.2.1 T.a33.2.1 T.a33.2.2 T.a33.2.2 (by decide) (by decide) (fun _ => by decide) (by decide) (by decide)) rfl rfl (Nat.le_of_ble_eq_true rfl) (by decide) (by omega) (by omega) (r_V ?_)
    rintro h_41 rfl m_41
    refine g_aload_n (q := 45) M dX4_notes_44 rfl rfl ?_
    refine g_tw (q := 48) (f := 33) M dX4_notes_45 rfl l_X4_13 T rfl rfl T.a33 ?_
    refine g_sipush (q := 51) (v := 182) M dX4_notes_48 rfl (by decide) ?_
    refine g_aload_n (q := 52) M dX4_notes_51 rfl rfl ?_
    refine g_tw (q := 55) (f := 33) M dX4_notes_52 rfl l_X4_13 T rfl rfl T.a33 ?_
    refine g_sipush (q := 58) (v := 181) M dX4_notes_55 rfl (by decide) ?_
    refine g_bipush (q := 60) (v := 15) M dX4_notes_58 rfl (by decide) ?_
    refine g_callS (q := 63) M rfl dX4_notes_60 rfl w_X4_232 (c_X4_copies (sp := 182) (dp := 181) (n := 15) T.a33.2.1 T.a33.2.1 T.a33.2.2 T.a33.2.2 (by decide) (by decide) (fun _ => by decide) (by decide) (by decide)) rfl rfl (Nat.le_of_ble_eq_true rfl) (by decide) (by omega) (by omega) (r_V ?_)
    rintro h_60 rfl m_60
    refine g_aload_n (q := 64) M dX4_notes_63 rfl rfl ?_
    refine g_tw (q := 67) (f := 33) M dX4_notes_64 rfl l_X4_13 T rfl rfl T.a33 ?_
    refine g_sipush (q := 70) (v := 198) M dX4_notes_67 rfl (by decide) ?_
    refine g_aload_n (q := 71) M dX4_notes_70 rfl rfl ?_
    refine g_tw (q := 74) (f := 33) M dX4_notes_71 rfl l_X4_13 T rfl rfl T.a33 ?_
    refine g_sipush (q := 77) (v := 197) M dX4_notes_74 rfl (by decide) ?_
    refine g_bipush (q := 79) (v := 15) M dX4_notes_77 rfl (by decide) ?_
    refine g_callS (q := 82) M rfl dX4_notes_79 rfl w_X4_232 (c_X4_copies (sp := 198) (dp := 197) (n := 15) T.a33.2.1 T.a33.2.1 T.a33.2.2 T.a33.2.2 (by decide) (by decide) (fun _ => by decide) (by decide) (by decide)) rfl rfl (Nat.le_of_ble_eq_true rfl) (by decide) (by omega) (by omega) (r_V ?_)
    rintro h_79 rfl m_79
    simp only [wI_wI, yI_wI_s]
    exact J (spDrop (tA h m 1)) 15 (spDrop_164 _) (by decide) (by unfold spNotes; rw [if_pos he])
