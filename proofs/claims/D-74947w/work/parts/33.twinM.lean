/-! THE TWIN: the parser's state, the lexer -/
set_option maxRecDepth 100000
/-- the parser's own fields: drafts, start, next, token, value, error, its place, number -/
def pF (k : Nat) : Bool := decide (55 ≤ k ∧ k ≤ 57) || decide (61 ≤ k ∧ k ≤ 67)
/-- the heap with other fields and arrays of the twin's parser -/
def pH (h : xH) (m : Nat) (F : Nat → Int32) (D : Nat → Nat → Int32) : xH := (h.1, ((fun k a => if a = m ∧ pF k = true then F k else xI h k a), h.2.1.2), ((fun x y => if m + 2 ≤ x ∧ x ≤ m + 19 then D (x - m) y else yI h x y), h.2.2.2))
theorem pH_I (h : xH) (m : Nat) (F : Nat → Int32) (D : Nat → Nat → Int32) {k : Nat} (hk : pF k = true) : xI (pH h m F D) k m = F k := if_pos ⟨rfl, hk⟩
theorem pH_In (h : xH) (m : Nat) (F : Nat → Int32) (D : Nat → Nat → Int32) {k : Nat} (hk : pF k = false) : xI (pH h m F D) k m = xI h k m := if_neg (fun z => by rw [hk] at z; cases z.2)
theorem pH_r (h : xH) (m : Nat) (F : Nat → Int32) (D : Nat → Nat → Int32) (o : Nat) (ho : 2 ≤ o ∧ o ≤ 19) : yI (pH h m F D) (m + o) = D o := by
  funext y
  show (if m + 2 ≤ m + o ∧ m + o ≤ m + 19 then D (m + o - m) y else yI h (m + o) y) = D o y
  rw [if_pos (by omega), Nat.add_sub_cancel_left]
theorem pH_rn (h : xH) (m : Nat) (F : Nat → Int32) (D : Nat → Nat → Int32) (o : Nat) (ho : ¬ (2 ≤ o ∧ o ≤ 19)) : yI (pH h m F D) (m + o) = yI h (m + o) := by
  funext y
  show (if m + 2 ≤ m + o ∧ m + o ≤ m + 19 then D (m + o - m) y else yI h (m + o) y) = yI h (m + o) y
  rw [if_neg (by omega)]
theorem pH_p (h : xH) (m : Nat) (F : Nat → Int32) (D : Nat → Nat → Int32) {k : Nat} (v : Int32) (hk : pF k = true) : pI (pH h m F D) k m v = pH h m (u1 F k v) D := by
  have : u2 (fun k a => if a = m ∧ pF k = true then F k else xI h k a) k m v = (fun k' a => if a = m ∧ pF k' = true then u1 F k v k' else xI h k' a) := by
    funext x y
    unfold u2 u1
    by_cases e : x = k ∧ y = m
    · rw [if_pos e, if_pos ⟨e.2, by rw [e.1]; exact hk⟩, if_pos e.1]
    · rw [if_neg e]
      by_cases e2 : y = m ∧ pF x = true
      · rw [if_pos e2, if_neg (fun z => e ⟨z, e2.1⟩)]
        exact if_pos e2
      · rw [if_neg e2]
        exact if_neg e2
  exact congrArg (fun z => (h.1, (z, h.2.1.2), ((fun x y => if m + 2 ≤ x ∧ x ≤ m + 19 then D (x - m) y else yI h x y), h.2.2.2))) this
theorem pH_s (h : xH) (m : Nat) (F : Nat → Int32) (D : Nat → Nat → Int32) (o j : Nat) (v : Int32) (ho : 2 ≤ o ∧ o ≤ 19) : sI (pH h m F D) (m + o) j v = pH h m F (u2 D o j v) := by
  have : u2 (fun x y => if m + 2 ≤ x ∧ x ≤ m + 19 then D (x - m) y else yI h x y) (m + o) j v = (fun x y => if m + 2 ≤ x ∧ x ≤ m + 19 then u2 D o j v (x - m) y else yI h x y) := by
    funext x y
    unfold u2
    by_cases e : x = m + o ∧ y = j
    · rw [if_pos e, if_pos (by omega), if_pos ⟨by omega, e.2⟩]
    · rw [if_neg e]
      by_cases e2 : m + 2 ≤ x ∧ x ≤ m + 19
      · rw [if_pos e2, if_neg (fun z => e ⟨by omega, z.2⟩)]
        exact if_pos e2
      · rw [if_neg e2]
        exact if_neg e2
  exact congrArg (fun z => (h.1, ((fun k a => if a = m ∧ pF k = true then F k else xI h k a), h.2.1.2), (z, h.2.2.2))) this
theorem pH_w (h : xH) (m : Nat) (F : Nat → Int32) (D : Nat → Nat → Int32) (o : Nat) (g : Nat → Int32) (ho : 2 ≤ o ∧ o ≤ 19) : wI (pH h m F D) (m + o) g = pH h m F (w2 D o g) := by
  have : w2 (fun x y => if m + 2 ≤ x ∧ x ≤ m + 19 then D (x - m) y else yI h x y) (m + o) g = (fun x y => if m + 2 ≤ x ∧ x ≤ m + 19 then w2 D o g (x - m) y else yI h x y) := by
    funext x y
    unfold w2
    by_cases e : x = m + o
    · rw [if_pos e, if_pos (by omega), if_pos (by omega)]
    · rw [if_neg e]
      by_cases e2 : m + 2 ≤ x ∧ x ≤ m + 19
      · rw [if_pos e2, if_neg (by omega)]
        exact if_pos e2
      · rw [if_neg e2]
        exact if_neg e2
  exact congrArg (fun z => (h.1, ((fun k a => if a = m ∧ pF k = true then F k else xI h k a), h.2.1.2), (z, h.2.2.2))) this
theorem pH_eta (h : xH) (m : Nat) : pH h m (fun k => xI h k m) (fun o => yI h (m + o)) = h := by
  have e1 : (fun k a => if a = m ∧ pF k = true then xI h k m else xI h k a) = xI h := by
    funext k a
    by_cases e : a = m ∧ pF k = true
    · rw [if_pos e, e.1]
    · rw [if_neg e]
  have e2 : (fun x y => if m + 2 ≤ x ∧ x ≤ m + 19 then yI h (m + (x - m)) y else yI h x y) = yI h := by
    funext x y
    by_cases e : m + 2 ≤ x ∧ x ≤ m + 19
    · rw [if_pos e, show m + (x - m) = x by omega]
    · rw [if_neg e]
  show (h.1, ((fun k a => if a = m ∧ pF k = true then xI h k m else xI h k a), h.2.1.2), ((fun x y => if m + 2 ≤ x ∧ x ≤ m + 19 then yI h (m + (x - m)) y else yI h x y), h.2.2.2)) = h
  rw [e1, e2]
  rfl
theorem u1_u1 {α : Type} (f : Nat → α) (k : Nat) (v w : α) : u1 (u1 f k v) k w = u1 f k w := by
  funext j
  unfold u1
  by_cases e : j = k <;> simp [e]
/-- the text's byte k; NONE: behind its end -/
def spBy (t : Nat → Int32) (n k : Nat) : Int32 := if k < n then t k &&& 255 else -2
theorem c_X4_byteAt {Z : xZ} {h : xH} {m n k : Nat} {t : Nat → Int32} (T : TW h m) (ht : tA h m 20 = t) (hn : xI h 60 m = nI n) (hl : n ≤ 900) (hk : k ≤ 1000) : CT Z yX4_byteAt cX4_byteAt 2 (some .int) 0 0 0 [vr m, vi (nI k)] h (rI fun r h' => h = h' ∧ r = spBy t n k) := by
  refine CT.of (E := [some (vr m), some (vi (nI k))]) (by decide +kernel) rfl rfl (Nat.le_of_ble_eq_true rfl) (fun X M Ee => ?_)
  have M : MX Z X cX4_byteAt "BalloonMailModel" 2 0 (some .int) "byteAt" := M
  refine g_iload_n (q := 1) M dX4_byteAt_0 rfl rfl ?_
  refine g_aload_n (q := 2) M dX4_byteAt_1 rfl rfl ?_
  refine g_getI (q := 5) (f := 60) M dX4_byteAt_2 rfl l_X4_120 T.1 rfl rfl ?_
  rw [hn]
  refine g_icmp_ge (q := 8) (tgt := 21) M dX4_byteAt_5 (by decide) rfl (fun c_5 => ?_) (fun c_5 => ?_)
  · refine g_bipush (q := 23) (v := (-2)) M dX4_byteAt_21 rfl (by decide) ?_
    refine g_ireturn M Ee dX4_byteAt_23 ?_
    exact ⟨_, rfl, rfl, (if_neg (by have := (nI_leI (by omega) (by omega)).mp c_5; omega)).symm⟩
  · have hlt : k < n := Nat.lt_of_not_le (fun z => c_5 (nI_le z (by omega)))
    refine g_aload_n (q := 9) M dX4_byteAt_8 rfl rfl ?_
    refine g_tw (q := 12) (f := 58) M dX4_byteAt_9 rfl l_X4_71 T rfl rfl T.a58 ?_
    refine g_iload_n (q := 13) M dX4_byteAt_12 rfl rfl ?_
    refine g_baldN (q := 14) (n := 900) M dX4_byteAt_13 rfl T.a58.2.1 rfl T.a58.2.2 rfl (by omega) (by decide) ?_
    refine g_sipush (q := 17) (v := 255) M dX4_byteAt_14 rfl (by decide) ?_
    refine g_iand (q := 18) M dX4_byteAt_17 rfl ?_
    refine g_goto (tgt := 23) M dX4_byteAt_18 (by decide) ?_
    refine g_ireturn M Ee dX4_byteAt_23 ?_
    exact ⟨_, rfl, rfl, by rw [← ht]; exact (if_pos hlt).symm⟩
/-- past spaces and ends of lines; past a run of bytes from lo to hi -/
def spSp (t : Nat → Int32) (n : Nat) : Nat → Nat → Nat
  | 0, p => p
  | f + 1, p => if spBy t n p = 32 ∨ spBy t n p = 10 then spSp t n f (p + 1) else p
def spRun (t : Nat → Int32) (n : Nat) (lo hi : Int32) : Nat → Nat → Nat
  | 0, p => p
  | f + 1, p => if lo ≤ spBy t n p ∧ spBy t n p ≤ hi then spRun t n lo hi f (p + 1) else p
/-- the number in the digits from s to before s + k: of four digits at most -/
def spVal (t : Nat → Int32) (n s : Nat) : Nat → Int32
  | 0 => 0
  | k + 1 => if k < 4 then 10 * spVal t n s k + spBy t n (s + k) - 48 else spVal t n s k
theorem spSp_le (t : Nat → Int32) (n : Nat) : ∀ f p, p + f = n → p ≤ spSp t n f p ∧ spSp t n f p ≤ n
  | 0, p, h => ⟨Nat.le_refl _, by show p ≤ n; omega⟩
  | f + 1, p, h => by
    unfold spSp
    split
    · have := spSp_le t n f (p + 1) (by omega)
      omega
    · omega
theorem spRun_le (t : Nat → Int32) (n : Nat) (lo hi : Int32) : ∀ f p, p + f = n → p ≤ spRun t n lo hi f p ∧ spRun t n lo hi f p ≤ n
  | 0, p, h => ⟨Nat.le_refl _, by show p ≤ n; omega⟩
  | f + 1, p, h => by
    unfold spRun
    split
    · have := spRun_le t n lo hi f (p + 1) (by omega)
      omega
    · omega
theorem spBy_end (t : Nat → Int32) {n k : Nat} (h : n ≤ k) : spBy t n k = -2 := if_neg (by omega)
/-- a token: its start, its end, its kind (0 end, 1 word, 2 number, 3 semicolon, 4 bad), its value -/
def spS (t : Nat → Int32) (n p : Nat) : Nat := spSp t n (n - p) p
def isLo (x : Int32) : Prop := 97 ≤ x ∧ x ≤ 122
def isDg (x : Int32) : Prop := 48 ≤ x ∧ x ≤ 57
def spTok (t : Nat → Int32) (n s : Nat) : Nat × Nat × Int32 :=
  if spBy t n s = -2 then (s, 0, 0)
  else if 97 ≤ spBy t n s ∧ spBy t n s ≤ 122 then (spRun t n 97 122 (n - s) s, (if 8 < spRun t n 97 122 (n - s) s - s then 4 else 1), 0)
  else if 48 ≤ spBy t n s ∧ spBy t n s ≤ 57 then (spRun t n 48 57 (n - s) s, (if 4 < spRun t n 48 57 (n - s) s - s then 4 else 2), spVal t n s (spRun t n 48 57 (n - s) s - s))
  else (s + 1, (if spBy t n s = 59 then 3 else 4), 0)
def advF (t : Nat → Int32) (n : Nat) (F : Nat → Int32) : Nat → Int32 := (let s := spS t n (F 62).toNatClampNeg; u1 (u1 (u1 (u1 F 61 (nI s)) 64 (spTok t n s).2.2) 63 (nI (spTok t n s).2.1)) 62 (nI (spTok t n s).1))
theorem u1_comm {α : Type} (f : Nat → α) {k j : Nat} (v w : α) (h : k ≠ j) : u1 (u1 f k v) j w = u1 (u1 f j w) k v := by
  funext i
  unfold u1
  by_cases e1 : i = j
  · have : i ≠ k := fun z => h (z.symm.trans e1)
    simp [e1, Ne.symm h]
  · by_cases e2 : i = k <;> simp [e1, e2, h]
theorem u1_id {α : Type} (f : Nat → α) (k : Nat) : u1 f k (f k) = f := by
  funext i
  unfold u1
  by_cases e : i = k
  · rw [if_pos e, e]
  · rw [if_neg e]
theorem by_in (t : Nat → Int32) {n k : Nat} {lo hi : Int32} (hlo : 0 ≤ lo) (h : lo ≤ spBy t n k ∧ spBy t n k ≤ hi) : k < n := by
  refine Nat.lt_of_not_le (fun z => ?_)
  rw [spBy_end t z] at h
  exact absurd (Int32.le_trans hlo h.1) (by decide)
theorem c_X4_advance {Z : xZ} {h : xH} {m n p : Nat} {t : Nat → Int32} {F : Nat → Int32} {D : Nat → Nat → Int32} (T : TW h m) (ht : tA h m 20 = t) (hn : xI h 60 m = nI n) (hl : n ≤ 900) (hp : F 62 = nI p) (hpn : p ≤ n) : CT Z yX4_advance cX4_advance 2 none 1 0 0 [vr m] (pH h m F D) (rV fun h' => h' = pH h m (advF t n F) D) := by
  have by0 : ∀ {F : Nat → Int32} {k : Nat}, k ≤ 1000 → CT Z yX4_byteAt cX4_byteAt 2 (some .int) 0 0 0 [vr m, vi (nI k)] (pH h m F D) (rI fun r h' => pH h m F D = h' ∧ r = spBy t n k) := fun hk => c_X4_byteAt (h := pH h m _ D) T ((pH_rn h m _ D 20 (by decide)).trans ht) ((pH_In h m _ D rfl).trans hn) hl hk
  have gF : ∀ {F : Nat → Int32} {k : Nat}, pF k = true → xI (pH h m F D) k m = F k := fun hk => pH_I h m _ D hk
  have pP : ∀ {F : Nat → Int32} {k : Nat} {v : Int32}, pF k = true → pI (pH h m F D) k m v = pH h m (u1 F k v) D := fun hk => pH_p h m _ D _ hk
  refine CT.of (E := [some (vr m), none]) (by decide +kernel) rfl rfl (Nat.le_of_ble_eq_true rfl) (fun X M Ee => ?_)
  have M : MX Z X cX4_advance "BalloonMailModel" 2 1 none "advance" := M
  rw [show advF t n F = (let s := spS t n p; u1 (u1 (u1 (u1 F 61 (nI s)) 64 (spTok t n s).2.2) 63 (nI (spTok t n s).2.1)) 62 (nI (spTok t n s).1)) from by unfold advF; rw [hp, nI_clamp (by omega)]] at Ee
  -- behind the token
  have Fin : ∀ (F' : Nat → Int32) (e1 : Option AV), F' = u1 (u1 (u1 (u1 F 61 (nI (spS t n p))) 64 (spTok t n (spS t n p)).2.2) 63 (nI (spTok t n (spS t n p)).2.1)) 62 (nI (spTok t n (spS t n p)).1) → G Z X 0 0 278 [some (vr m), e1] [] (pH h m F' D) := by
    intro F' e1 he
    refine g_return M Ee dX4_advance_278 ?_
    exact ⟨rfl, by rw [he]⟩
  have hsl := spSp_le t n (n - p) p (by omega)
  -- behind the spaces
  have Main : G Z X 0 0 39 [some (vr m), none] [] (pH h m (u1 F 62 (nI (spS t n p))) D) := by
    have hs1 : spS t n p ≤ n := hsl.2
    generalize spS t n p = s at *
    have nrm : ∀ (e : Nat) (kd v : Int32), u1 (u1 (u1 (u1 (u1 F 62 (nI s)) 61 (nI s)) 64 v) 62 (nI e)) 63 kd = u1 (u1 (u1 (u1 F 61 (nI s)) 64 v) 63 kd) 62 (nI e) := by
      intro e kd v
      funext j
      simp only [u1]
      by_cases e1 : j = 61 <;> by_cases e2 : j = 62 <;> by_cases e3 : j = 63 <;> by_cases e4 : j = 64 <;> simp [e1, e2, e3, e4]
    have base : u1 (u1 (u1 F 62 (nI s)) 61 (nI s)) 64 0 = u1 (u1 (u1 (u1 F 62 (nI s)) 61 (nI s)) 64 0) 62 (nI s) := by
      funext j
      simp only [u1]
      by_cases e1 : j = 61 <;> by_cases e2 : j = 62 <;> by_cases e4 : j = 64 <;> simp [e1, e2, e4]
    refine g_aload_n (q := 40) M dX4_advance_39 rfl rfl ?_
    refine g_aload_n (q := 41) M dX4_advance_40 rfl rfl ?_
    refine g_getI (q := 44) (f := 62) M dX4_advance_41 rfl l_X4_123 T.1 rfl rfl ?_
    rw [gF rfl, u1_s]
    refine g_putI (q := 47) (f := 61) M dX4_advance_44 rfl l_X4_130 T.1 (by decide +kernel) rfl ⟨rfl, rfl⟩ ?_
    refine g_aload_n (q := 48) M dX4_advance_47 rfl rfl ?_
    refine g_iconst (q := 49) (v := 0) M dX4_advance_48 rfl (by decide) ?_
    refine g_putI (q := 52) (f := 64) M dX4_advance_49 rfl l_X4_133 T.1 (by decide +kernel) rfl ⟨rfl, rfl⟩ ?_
    rw [pP rfl, pP rfl, base]
    refine g_aload_n (q := 53) M dX4_advance_52 rfl rfl ?_
    refine g_aload_n (q := 54) M dX4_advance_53 rfl rfl ?_
    refine g_getI (q := 57) (f := 62) M dX4_advance_54 rfl l_X4_123 T.1 rfl rfl ?_
    rw [gF rfl, u1_s]
    refine g_callV (q := 60) M rfl dX4_advance_57 rfl w_X4_126 (by0 (by omega)) (isC.of T.1 rfl) rfl rfl (Nat.le_of_ble_eq_true rfl) (by decide) (by omega) (by omega) (r_I ?_)
    rintro x h_57 ⟨rfl, rfl⟩ m_57
    refine g_istore_n (q := 61) (j := 1) M dX4_advance_60 rfl rfl (Nat.le_of_ble_eq_true rfl) rfl ?_
    dsimp only [st1, st2, kl, List.set_cons_zero, List.set_cons_succ, List.set_nil]
    refine g_iload_n (q := 62) M dX4_advance_61 rfl rfl ?_
    refine g_bipush (q := 64) (v := (-2)) M dX4_advance_62 rfl (by decide) ?_
    refine g_icmp_ne (q := 67) (tgt := 75) M dX4_advance_64 (by decide) rfl (fun c_64 => ?_) (fun c_64 => ?_)
    · -- a token
      have hs : spBy t n s ≠ -2 := c_64
      refine g_iload_n (q := 76) M dX4_advance_75 rfl rfl ?_
      refine g_bipush (q := 78) (v := 97) M dX4_advance_76 rfl (by decide) ?_
      refine g_bipush (q := 80) (v := 122) M dX4_advance_78 rfl (by decide) ?_
      refine g_callS (q := 83) M rfl dX4_advance_80 rfl w_X4_139 c_X4_within rfl rfl (Nat.le_of_ble_eq_true rfl) (by decide) (by omega) (by omega) (r_I ?_)
      rintro x h_80 ⟨rfl, rfl⟩ m_80
      refine g_if_eq (q := 86) (tgt := 143) M dX4_advance_83 (by decide) rfl (fun c_83 => ?_) (fun c_83 => ?_)
      · have nlo := bI_d.mp c_83
        refine g_iload_n (q := 144) M dX4_advance_143 rfl rfl ?_
        refine g_bipush (q := 146) (v := 48) M dX4_advance_144 rfl (by decide) ?_
        refine g_bipush (q := 148) (v := 57) M dX4_advance_146 rfl (by decide) ?_
        refine g_callS (q := 151) M rfl dX4_advance_148 rfl w_X4_139 c_X4_within rfl rfl (Nat.le_of_ble_eq_true rfl) (by decide) (by omega) (by omega) (r_I ?_)
        rintro x h_148 ⟨rfl, rfl⟩ m_148
        refine g_if_eq (q := 154) (tgt := 253) M dX4_advance_151 (by decide) rfl (fun c_151 => ?_) (fun c_151 => ?_)
        · have ndg := bI_d.mp c_151
          have tk : spTok t n s = (s + 1, (if spBy t n s = 59 then 3 else 4), 0) := by
            unfold spTok
            rw [if_neg hs, if_neg nlo, if_neg ndg]
          have K : ∀ z : Int32, z = nI (if spBy t n s = 59 then 3 else 4) → G Z X 0 0 275 [some (vr m), some (vi (spBy t n s))] [vi z, vr m] (pH h m (u1 (u1 (u1 (u1 F 62 (nI s)) 61 (nI s)) 64 0) 62 (nI (s + 1))) D) := by
            intro z hz
            refine g_putI (q := 278) (f := 63) M dX4_advance_275 rfl l_X4_136 T.1 (by decide +kernel) rfl ⟨rfl, rfl⟩ ?_
            rw [pP rfl, nrm]
            refine Fin _ _ ?_
            rw [tk, hz]
          refine g_aload_n (q := 254) M dX4_advance_253 rfl rfl ?_
          refine g_dup (q := 255) M dX4_advance_254 rfl rfl ?_
          refine g_getI (q := 258) (f := 62) M dX4_advance_255 rfl l_X4_123 T.1 rfl rfl ?_
          refine g_iconst (q := 259) (v := 1) M dX4_advance_258 rfl (by decide) ?_
          refine g_iadd (q := 260) M dX4_advance_259 rfl ?_
          rw [gF rfl, u1_s, nI_1]
          refine g_putI (q := 263) (f := 62) M dX4_advance_260 rfl l_X4_123 T.1 (by decide +kernel) rfl ⟨rfl, rfl⟩ ?_
          rw [pP rfl, u1_u1]
          refine g_aload_n (q := 264) M dX4_advance_263 rfl rfl ?_
          refine g_iload_n (q := 265) M dX4_advance_264 rfl rfl ?_
          refine g_bipush (q := 267) (v := 59) M dX4_advance_265 rfl (by decide) ?_
          refine g_icmp_ne (q := 270) (tgt := 274) M dX4_advance_267 (by decide) rfl (fun c_267 => ?_) (fun c_267 => ?_)
          · refine g_iconst (q := 275) (v := 4) M dX4_advance_274 rfl (by decide) ?_
            exact K _ (by rw [if_neg c_267]; rfl)
          · refine g_iconst (q := 271) (v := 3) M dX4_advance_270 rfl (by decide) ?_
            refine g_goto (tgt := 275) M dX4_advance_271 (by decide) ?_
            exact K _ (by rw [if_pos c_267]; rfl)
        · -- a number
          have dg := bI_n.mp c_151
          have tk : spTok t n s = (spRun t n 48 57 (n - s) s, (if 4 < spRun t n 48 57 (n - s) s - s then 4 else 2), spVal t n s (spRun t n 48 57 (n - s) s - s)) := by
            unfold spTok
            rw [if_neg hs, if_neg nlo, if_pos dg]
          have hr := spRun_le t n 48 57 (n - s) s (by omega)
          have E : G Z X 0 0 228 [some (vr m), some (vi (spBy t n s))] [] (pH h m (u1 (u1 (u1 (u1 F 62 (nI s)) 61 (nI s)) 64 (spVal t n s (spRun t n 48 57 (n - s) s - s))) 62 (nI (spRun t n 48 57 (n - s) s))) D) := by
            generalize spRun t n 48 57 (n - s) s = r at *
            have K : ∀ z : Int32, z = nI (if 4 < r - s then 4 else 2) → G Z X 0 0 247 [some (vr m), some (vi (spBy t n s))] [vi z, vr m] (pH h m (u1 (u1 (u1 (u1 F 62 (nI s)) 61 (nI s)) 64 (spVal t n s (r - s))) 62 (nI r)) D) := by
              intro z hz
              refine g_putI (q := 250) (f := 63) M dX4_advance_247 rfl l_X4_136 T.1 (by decide +kernel) rfl ⟨rfl, rfl⟩ ?_
              refine g_goto (tgt := 278) M dX4_advance_250 (by decide) ?_
              rw [pP rfl, nrm]
              refine Fin _ _ ?_
              rw [tk, hz]
            refine g_aload_n (q := 229) M dX4_advance_228 rfl rfl ?_
            refine g_aload_n (q := 230) M dX4_advance_229 rfl rfl ?_
            refine g_getI (q := 233) (f := 62) M dX4_advance_230 rfl l_X4_123 T.1 rfl rfl ?_
            rw [gF rfl, u1_s]
            refine g_aload_n (q := 234) M dX4_advance_233 rfl rfl ?_
            refine g_getI (q := 237) (f := 61) M dX4_advance_234 rfl l_X4_130 T.1 rfl rfl ?_
            rw [gF rfl, u1_n _ _ (by omega), u1_n _ _ (by omega), u1_s]
            refine g_isub (q := 238) M dX4_advance_237 rfl ?_
            rw [pk_sub hr.1]
            refine g_iconst (q := 239) (v := 4) M dX4_advance_238 rfl (by decide) ?_
            refine g_icmp_le (q := 242) (tgt := 246) M dX4_advance_239 (by decide) rfl (fun c_239 => ?_) (fun c_239 => ?_)
            · refine g_iconst (q := 247) (v := 2) M dX4_advance_246 rfl (by decide) ?_
              refine K _ ?_
              rw [if_neg (by have := (nI_leI (b := 4) (by omega) (by decide)).mp c_239; omega)]
              rfl
            · refine g_iconst (q := 243) (v := 4) M dX4_advance_242 rfl (by decide) ?_
              refine g_goto (tgt := 247) M dX4_advance_243 (by decide) ?_
              refine K _ ?_
              rw [if_pos (Nat.lt_of_not_le (fun z => c_239 (nI_le (b := 4) z (by decide))))]
              rfl
          have L : ∀ f q, q + f = n → s ≤ q → spRun t n 48 57 (n - s) s = spRun t n 48 57 f q → G Z X 0 0 154 [some (vr m), some (vi (spBy t n s))] [] (pH h m (u1 (u1 (u1 (u1 F 62 (nI s)) 61 (nI s)) 64 (spVal t n s (q - s))) 62 (nI q)) D) := by
            intro f
            have Out : ∀ q, spRun t n 48 57 (n - s) s = q → s ≤ q → q ≤ n → ¬ (48 ≤ spBy t n q ∧ spBy t n q ≤ 57) → G Z X 0 0 154 [some (vr m), some (vi (spBy t n s))] [] (pH h m (u1 (u1 (u1 (u1 F 62 (nI s)) 61 (nI s)) 64 (spVal t n s (q - s))) 62 (nI q)) D) := by
              intro q hq hsq hqn hno
              refine g_aload_n (q := 155) M dX4_advance_154 rfl rfl ?_
              refine g_aload_n (q := 156) M dX4_advance_155 rfl rfl ?_
              refine g_getI (q := 159) (f := 62) M dX4_advance_156 rfl l_X4_123 T.1 rfl rfl ?_
              rw [gF rfl, u1_s]
              refine g_callV (q := 162) M rfl dX4_advance_159 rfl w_X4_126 (by0 (by omega)) (isC.of T.1 rfl) rfl rfl (Nat.le_of_ble_eq_true rfl) (by decide) (by omega) (by omega) (r_I ?_)
              rintro x h_159 ⟨rfl, rfl⟩ m_159
              refine g_bipush (q := 164) (v := 48) M dX4_advance_162 rfl (by decide) ?_
              refine g_bipush (q := 166) (v := 57) M dX4_advance_164 rfl (by decide) ?_
              refine g_callS (q := 169) M rfl dX4_advance_166 rfl w_X4_139 c_X4_within rfl rfl (Nat.le_of_ble_eq_true rfl) (by decide) (by omega) (by omega) (r_I ?_)
              rintro x h_166 ⟨rfl, rfl⟩ m_166
              refine g_if_eq (q := 172) (tgt := 228) M dX4_advance_169 (by decide) rfl (fun c_169 => ?_) (fun c_169 => ?_)
              · rw [hq] at E
                exact E
              · exact absurd (bI_n.mp c_169) hno
            induction f with
            | zero =>
              intro q hq hsq hs2
              exact Out q hs2 hsq (by omega) (fun z => by rw [spBy_end t (by omega)] at z; exact absurd z.1 (by decide))
            | succ f ih =>
              intro q hq hsq hs2
              by_cases hd : 48 ≤ spBy t n q ∧ spBy t n q ≤ 57
              · have W : ∀ v : Int32, v = spVal t n s (q + 1 - s) → G Z X 0 0 212 [some (vr m), some (vi (spBy t n s))] [vi v, vr m] (pH h m (u1 (u1 (u1 (u1 F 62 (nI s)) 61 (nI s)) 64 (spVal t n s (q - s))) 62 (nI q)) D) := by
                  intro v hv
                  refine g_putI (q := 215) (f := 64) M dX4_advance_212 rfl l_X4_133 T.1 (by decide +kernel) rfl ⟨rfl, rfl⟩ ?_
                  refine g_aload_n (q := 216) M dX4_advance_215 rfl rfl ?_
                  refine g_dup (q := 217) M dX4_advance_216 rfl rfl ?_
                  refine g_getI (q := 220) (f := 62) M dX4_advance_217 rfl l_X4_123 T.1 rfl rfl ?_
                  refine g_iconst (q := 221) (v := 1) M dX4_advance_220 rfl (by decide) ?_
                  refine g_iadd (q := 222) M dX4_advance_221 rfl ?_
                  rw [pP rfl, gF rfl, u1_n _ _ (by omega), u1_s, nI_1]
                  refine g_putI (q := 225) (f := 62) M dX4_advance_222 rfl l_X4_123 T.1 (by decide +kernel) rfl ⟨rfl, rfl⟩ ?_
                  refine g_goto (tgt := 154) M dX4_advance_225 (by decide) ?_
                  rw [pP rfl, hv, u1_comm _ _ _ (show (62 : Nat) ≠ 64 by omega), u1_u1, u1_u1]
                  exact ih (q + 1) (by omega) (by omega) (hs2.trans (if_pos hd))
                have hv1 : spVal t n s (q + 1 - s) = if q - s < 4 then 10 * spVal t n s (q - s) + spBy t n q - 48 else spVal t n s (q - s) := by
                  rw [show q + 1 - s = (q - s) + 1 by omega]
                  show (if q - s < 4 then 10 * spVal t n s (q - s) + spBy t n (s + (q - s)) - 48 else spVal t n s (q - s)) = _
                  rw [show s + (q - s) = q by omega]
                refine g_aload_n (q := 155) M dX4_advance_154 rfl rfl ?_
                refine g_aload_n (q := 156) M dX4_advance_155 rfl rfl ?_
                refine g_getI (q := 159) (f := 62) M dX4_advance_156 rfl l_X4_123 T.1 rfl rfl ?_
                rw [gF rfl, u1_s]
                refine g_callV (q := 162) M rfl dX4_advance_159 rfl w_X4_126 (by0 (by omega)) (isC.of T.1 rfl) rfl rfl (Nat.le_of_ble_eq_true rfl) (by decide) (by omega) (by omega) (r_I ?_)
                rintro x h_159 ⟨rfl, rfl⟩ m_159
                refine g_bipush (q := 164) (v := 48) M dX4_advance_162 rfl (by decide) ?_
                refine g_bipush (q := 166) (v := 57) M dX4_advance_164 rfl (by decide) ?_
                refine g_callS (q := 169) M rfl dX4_advance_166 rfl w_X4_139 c_X4_within rfl rfl (Nat.le_of_ble_eq_true rfl) (by decide) (by omega) (by omega) (r_I ?_)
                rintro x h_166 ⟨rfl, rfl⟩ m_166
                refine g_if_eq (q := 172) (tgt := 228) M dX4_advance_169 (by decide) rfl (fun c_169 => ?_) (fun c_169 => ?_)
                · exact absurd hd (bI_d.mp c_169)
                · refine g_aload_n (q := 173) M dX4_advance_172 rfl rfl ?_
                  refine g_aload_n (q := 174) M dX4_advance_173 rfl rfl ?_
                  refine g_getI (q := 177) (f := 62) M dX4_advance_174 rfl l_X4_123 T.1 rfl rfl ?_
                  rw [gF rfl, u1_s]
                  refine g_aload_n (q := 178) M dX4_advance_177 rfl rfl ?_
                  refine g_getI (q := 181) (f := 61) M dX4_advance_178 rfl l_X4_130 T.1 rfl rfl ?_
                  rw [gF rfl, u1_n _ _ (by omega), u1_n _ _ (by omega), u1_s]
                  refine g_isub (q := 182) M dX4_advance_181 rfl ?_
                  rw [pk_sub hsq]
                  refine g_iconst (q := 183) (v := 4) M dX4_advance_182 rfl (by decide) ?_
                  refine g_icmp_ge (q := 186) (tgt := 208) M dX4_advance_183 (by decide) rfl (fun c_183 => ?_) (fun c_183 => ?_)
                  · refine g_aload_n (q := 209) M dX4_advance_208 rfl rfl ?_
                    refine g_getI (q := 212) (f := 64) M dX4_advance_209 rfl l_X4_133 T.1 rfl rfl ?_
                    rw [gF rfl, u1_n _ _ (by omega), u1_s]
                    refine W _ ?_
                    rw [hv1, if_neg (by have := (nI_leI (a := 4) (by decide) (by omega)).mp c_183; omega)]
                  · refine g_bipush (q := 188) (v := 10) M dX4_advance_186 rfl (by decide) ?_
                    refine g_aload_n (q := 189) M dX4_advance_188 rfl rfl ?_
                    refine g_getI (q := 192) (f := 64) M dX4_advance_189 rfl l_X4_133 T.1 rfl rfl ?_
                    rw [gF rfl, u1_n _ _ (by omega), u1_s]
                    refine g_imul (q := 193) M dX4_advance_192 rfl ?_
                    refine g_aload_n (q := 194) M dX4_advance_193 rfl rfl ?_
                    refine g_aload_n (q := 195) M dX4_advance_194 rfl rfl ?_
                    refine g_getI (q := 198) (f := 62) M dX4_advance_195 rfl l_X4_123 T.1 rfl rfl ?_
                    rw [gF rfl, u1_s]
                    refine g_callV (q := 201) M rfl dX4_advance_198 rfl w_X4_126 (by0 (by omega)) (isC.of T.1 rfl) rfl rfl (Nat.le_of_ble_eq_true rfl) (by decide) (by omega) (by omega) (r_I ?_)
                    rintro x h_198 ⟨rfl, rfl⟩ m_198
                    refine g_iadd (q := 202) M dX4_advance_201 rfl ?_
                    refine g_bipush (q := 204) (v := 48) M dX4_advance_202 rfl (by decide) ?_
                    refine g_isub (q := 205) M dX4_advance_204 rfl ?_
                    refine g_goto (tgt := 212) M dX4_advance_205 (by decide) ?_
                    refine W _ ?_
                    rw [hv1, if_pos (Nat.lt_of_not_le (fun z => c_183 (nI_le (a := 4) z (by omega))))]
              · exact Out q (hs2.trans (if_neg hd)) hsq (by omega) hd
          have := L (n - s) s (by omega) (Nat.le_refl _) rfl
          rw [Nat.sub_self] at this
          exact this
      · -- a word
        have lo := bI_n.mp c_83
        have tk : spTok t n s = (spRun t n 97 122 (n - s) s, (if 8 < spRun t n 97 122 (n - s) s - s then 4 else 1), 0) := by
          unfold spTok
          rw [if_neg hs, if_pos lo]
        have hr := spRun_le t n 97 122 (n - s) s (by omega)
        have E : G Z X 0 0 117 [some (vr m), some (vi (spBy t n s))] [] (pH h m (u1 (u1 (u1 (u1 F 62 (nI s)) 61 (nI s)) 64 0) 62 (nI (spRun t n 97 122 (n - s) s))) D) := by
          generalize spRun t n 97 122 (n - s) s = r at *
          have K : ∀ z : Int32, z = nI (if 8 < r - s then 4 else 1) → G Z X 0 0 137 [some (vr m), some (vi (spBy t n s))] [vi z, vr m] (pH h m (u1 (u1 (u1 (u1 F 62 (nI s)) 61 (nI s)) 64 0) 62 (nI r)) D) := by
            intro z hz
            refine g_putI (q := 140) (f := 63) M dX4_advance_137 rfl l_X4_136 T.1 (by decide +kernel) rfl ⟨rfl, rfl⟩ ?_
            refine g_goto (tgt := 278) M dX4_advance_140 (by decide) ?_
            rw [pP rfl, nrm]
            refine Fin _ _ ?_
            rw [tk, hz]
          refine g_aload_n (q := 118) M dX4_advance_117 rfl rfl ?_
          refine g_aload_n (q := 119) M dX4_advance_118 rfl rfl ?_
          refine g_getI (q := 122) (f := 62) M dX4_advance_119 rfl l_X4_123 T.1 rfl rfl ?_
          rw [gF rfl, u1_s]
          refine g_aload_n (q := 123) M dX4_advance_122 rfl rfl ?_
          refine g_getI (q := 126) (f := 61) M dX4_advance_123 rfl l_X4_130 T.1 rfl rfl ?_
          rw [gF rfl, u1_n _ _ (by omega), u1_n _ _ (by omega), u1_s]
          refine g_isub (q := 127) M dX4_advance_126 rfl ?_
          rw [pk_sub hr.1]
          refine g_bipush (q := 129) (v := 8) M dX4_advance_127 rfl (by decide) ?_
          refine g_icmp_le (q := 132) (tgt := 136) M dX4_advance_129 (by decide) rfl (fun c_129 => ?_) (fun c_129 => ?_)
          · refine g_iconst (q := 137) (v := 1) M dX4_advance_136 rfl (by decide) ?_
            refine K _ ?_
            rw [if_neg (by have := (nI_leI (b := 8) (by omega) (by decide)).mp c_129; omega)]
            rfl
          · refine g_iconst (q := 133) (v := 4) M dX4_advance_132 rfl (by decide) ?_
            refine g_goto (tgt := 137) M dX4_advance_133 (by decide) ?_
            refine K _ ?_
            rw [if_pos (Nat.lt_of_not_le (fun z => c_129 (nI_le (b := 8) z (by decide))))]
            rfl
        have L : ∀ f q, q + f = n → s ≤ q → spRun t n 97 122 (n - s) s = spRun t n 97 122 f q → G Z X 0 0 86 [some (vr m), some (vi (spBy t n s))] [] (pH h m (u1 (u1 (u1 (u1 F 62 (nI s)) 61 (nI s)) 64 0) 62 (nI q)) D) := by
          intro f
          have Out : ∀ q, spRun t n 97 122 (n - s) s = q → q ≤ n → ¬ (97 ≤ spBy t n q ∧ spBy t n q ≤ 122) → G Z X 0 0 86 [some (vr m), some (vi (spBy t n s))] [] (pH h m (u1 (u1 (u1 (u1 F 62 (nI s)) 61 (nI s)) 64 0) 62 (nI q)) D) := by
            intro q hq hqn hno
            refine g_aload_n (q := 87) M dX4_advance_86 rfl rfl ?_
            refine g_aload_n (q := 88) M dX4_advance_87 rfl rfl ?_
            refine g_getI (q := 91) (f := 62) M dX4_advance_88 rfl l_X4_123 T.1 rfl rfl ?_
            rw [gF rfl, u1_s]
            refine g_callV (q := 94) M rfl dX4_advance_91 rfl w_X4_126 (by0 (by omega)) (isC.of T.1 rfl) rfl rfl (Nat.le_of_ble_eq_true rfl) (by decide) (by omega) (by omega) (r_I ?_)
            rintro x h_91 ⟨rfl, rfl⟩ m_91
            refine g_bipush (q := 96) (v := 97) M dX4_advance_94 rfl (by decide) ?_
            refine g_bipush (q := 98) (v := 122) M dX4_advance_96 rfl (by decide) ?_
            refine g_callS (q := 101) M rfl dX4_advance_98 rfl w_X4_139 c_X4_within rfl rfl (Nat.le_of_ble_eq_true rfl) (by decide) (by omega) (by omega) (r_I ?_)
            rintro x h_98 ⟨rfl, rfl⟩ m_98
            refine g_if_eq (q := 104) (tgt := 117) M dX4_advance_101 (by decide) rfl (fun c_101 => ?_) (fun c_101 => ?_)
            · rw [hq] at E
              exact E
            · exact absurd (bI_n.mp c_101) hno
          induction f with
          | zero =>
            intro q hq hsq hs2
            exact Out q hs2 (by omega) (fun z => by rw [spBy_end t (by omega)] at z; exact absurd z.1 (by decide))
          | succ f ih =>
            intro q hq hsq hs2
            by_cases hd : 97 ≤ spBy t n q ∧ spBy t n q ≤ 122
            · refine g_aload_n (q := 87) M dX4_advance_86 rfl rfl ?_
              refine g_aload_n (q := 88) M dX4_advance_87 rfl rfl ?_
              refine g_getI (q := 91) (f := 62) M dX4_advance_88 rfl l_X4_123 T.1 rfl rfl ?_
              rw [gF rfl, u1_s]
              refine g_callV (q := 94) M rfl dX4_advance_91 rfl w_X4_126 (by0 (by omega)) (isC.of T.1 rfl) rfl rfl (Nat.le_of_ble_eq_true rfl) (by decide) (by omega) (by omega) (r_I ?_)
              rintro x h_91 ⟨rfl, rfl⟩ m_91
              refine g_bipush (q := 96) (v := 97) M dX4_advance_94 rfl (by decide) ?_
              refine g_bipush (q := 98) (v := 122) M dX4_advance_96 rfl (by decide) ?_
              refine g_callS (q := 101) M rfl dX4_advance_98 rfl w_X4_139 c_X4_within rfl rfl (Nat.le_of_ble_eq_true rfl) (by decide) (by omega) (by omega) (r_I ?_)
              rintro x h_98 ⟨rfl, rfl⟩ m_98
              refine g_if_eq (q := 104) (tgt := 117) M dX4_advance_101 (by decide) rfl (fun c_101 => ?_) (fun c_101 => ?_)
              · exact absurd hd (bI_d.mp c_101)
              · refine g_aload_n (q := 105) M dX4_advance_104 rfl rfl ?_
                refine g_dup (q := 106) M dX4_advance_105 rfl rfl ?_
                refine g_getI (q := 109) (f := 62) M dX4_advance_106 rfl l_X4_123 T.1 rfl rfl ?_
                refine g_iconst (q := 110) (v := 1) M dX4_advance_109 rfl (by decide) ?_
                refine g_iadd (q := 111) M dX4_advance_110 rfl ?_
                rw [gF rfl, u1_s, nI_1]
                refine g_putI (q := 114) (f := 62) M dX4_advance_111 rfl l_X4_123 T.1 (by decide +kernel) rfl ⟨rfl, rfl⟩ ?_
                refine g_goto (tgt := 86) M dX4_advance_114 (by decide) ?_
                rw [pP rfl, u1_u1]
                exact ih (q + 1) (by omega) (by omega) (hs2.trans (if_pos hd))
            · exact Out q (hs2.trans (if_neg hd)) (by omega) hd
        exact L (n - s) s (by omega) (Nat.le_refl _) rfl
    · -- the end
      have tk : spTok t n s = (s, 0, 0) := by
        unfold spTok
        rw [if_pos c_64]
      refine g_aload_n (q := 68) M dX4_advance_67 rfl rfl ?_
      refine g_iconst (q := 69) (v := 0) M dX4_advance_68 rfl (by decide) ?_
      refine g_putI (q := 72) (f := 63) M dX4_advance_69 rfl l_X4_136 T.1 (by decide +kernel) rfl ⟨rfl, rfl⟩ ?_
      refine g_goto (tgt := 278) M dX4_advance_72 (by decide) ?_
      rw [pP rfl, nrm]
      refine Fin _ _ ?_
      rw [tk]
      rfl
  have L : ∀ f q, q + f = n → p ≤ q → spS t n p = spSp t n f q → G Z X 0 0 0 [some (vr m), none] [] (pH h m (u1 F 62 (nI q)) D) := by
    intro f
    induction f with
    | zero =>
      intro q hq hpq hs
      refine g_aload_n (q := 1) M dX4_advance_0 rfl rfl ?_
      refine g_aload_n (q := 2) M dX4_advance_1 rfl rfl ?_
      refine g_getI (q := 5) (f := 62) M dX4_advance_2 rfl l_X4_123 T.1 rfl rfl ?_
      rw [gF rfl, u1_s]
      refine g_callV (q := 8) M rfl dX4_advance_5 rfl w_X4_126 (by0 (by omega)) (isC.of T.1 rfl) rfl rfl (Nat.le_of_ble_eq_true rfl) (by decide) (by omega) (by omega) (r_I ?_)
      rintro x h_5 ⟨rfl, rfl⟩ m_5
      refine g_bipush (q := 10) (v := 32) M dX4_advance_8 rfl (by decide) ?_
      rw [spBy_end t (by omega)]
      refine g_icmp_eq (q := 13) (tgt := 26) M dX4_advance_10 (by decide) rfl (fun c_10 => ?_) (fun c_10 => ?_)
      · exact absurd c_10 (by decide)
      · refine g_aload_n (q := 14) M dX4_advance_13 rfl rfl ?_
        refine g_aload_n (q := 15) M dX4_advance_14 rfl rfl ?_
        refine g_getI (q := 18) (f := 62) M dX4_advance_15 rfl l_X4_123 T.1 rfl rfl ?_
        rw [gF rfl, u1_s]
        refine g_callV (q := 21) M rfl dX4_advance_18 rfl w_X4_126 (by0 (by omega)) (isC.of T.1 rfl) rfl rfl (Nat.le_of_ble_eq_true rfl) (by decide) (by omega) (by omega) (r_I ?_)
        rintro x h_18 ⟨rfl, rfl⟩ m_18
        refine g_bipush (q := 23) (v := 10) M dX4_advance_21 rfl (by decide) ?_
        rw [spBy_end t (by omega)]
        refine g_icmp_ne (q := 26) (tgt := 39) M dX4_advance_23 (by decide) rfl (fun c_23 => ?_) (fun c_23 => ?_)
        · rw [show spS t n p = q from hs] at Main
          exact Main
        · exact absurd c_23 (by decide)
    | succ f ih =>
      intro q hq hpq hs
      have Y : (spBy t n q = 32 ∨ spBy t n q = 10) → G Z X 0 0 26 [some (vr m), none] [] (pH h m (u1 F 62 (nI q)) D) := by
        intro hy
        refine g_aload_n (q := 27) M dX4_advance_26 rfl rfl ?_
        refine g_dup (q := 28) M dX4_advance_27 rfl rfl ?_
        refine g_getI (q := 31) (f := 62) M dX4_advance_28 rfl l_X4_123 T.1 rfl rfl ?_
        refine g_iconst (q := 32) (v := 1) M dX4_advance_31 rfl (by decide) ?_
        refine g_iadd (q := 33) M dX4_advance_32 rfl ?_
        rw [gF rfl, u1_s, nI_1]
        refine g_putI (q := 36) (f := 62) M dX4_advance_33 rfl l_X4_123 T.1 (by decide +kernel) rfl ⟨rfl, rfl⟩ ?_
        rw [pP rfl, u1_u1]
        refine g_goto (tgt := 0) M dX4_advance_36 (by decide) ?_
        exact ih (q + 1) (by omega) (by omega) (hs.trans (if_pos hy))
      refine g_aload_n (q := 1) M dX4_advance_0 rfl rfl ?_
      refine g_aload_n (q := 2) M dX4_advance_1 rfl rfl ?_
      refine g_getI (q := 5) (f := 62) M dX4_advance_2 rfl l_X4_123 T.1 rfl rfl ?_
      rw [gF rfl, u1_s]
      refine g_callV (q := 8) M rfl dX4_advance_5 rfl w_X4_126 (by0 (by omega)) (isC.of T.1 rfl) rfl rfl (Nat.le_of_ble_eq_true rfl) (by decide) (by omega) (by omega) (r_I ?_)
      rintro x h_5 ⟨rfl, rfl⟩ m_5
      refine g_bipush (q := 10) (v := 32) M dX4_advance_8 rfl (by decide) ?_
      refine g_icmp_eq (q := 13) (tgt := 26) M dX4_advance_10 (by decide) rfl (fun c_10 => ?_) (fun c_10 => ?_)
      · exact Y (Or.inl c_10)
      · refine g_aload_n (q := 14) M dX4_advance_13 rfl rfl ?_
        refine g_aload_n (q := 15) M dX4_advance_14 rfl rfl ?_
        refine g_getI (q := 18) (f := 62) M dX4_advance_15 rfl l_X4_123 T.1 rfl rfl ?_
        rw [gF rfl, u1_s]
        refine g_callV (q := 21) M rfl dX4_advance_18 rfl w_X4_126 (by0 (by omega)) (isC.of T.1 rfl) rfl rfl (Nat.le_of_ble_eq_true rfl) (by decide) (by omega) (by omega) (r_I ?_)
        rintro x h_18 ⟨rfl, rfl⟩ m_18
        refine g_bipush (q := 23) (v := 10) M dX4_advance_21 rfl (by decide) ?_
        refine g_icmp_ne (q := 26) (tgt := 39) M dX4_advance_23 (by decide) rfl (fun c_23 => ?_) (fun c_23 => ?_)
        · rw [show spS t n p = q from hs.trans (if_neg (fun z => z.elim c_10 c_23))] at Main
          exact Main
        · exact Y (Or.inr c_23)
  have := L (n - p) p (by omega) (Nat.le_refl _) rfl
  rw [← hp, u1_id] at this
  exact this
