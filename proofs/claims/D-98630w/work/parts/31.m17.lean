/-! the reference: tell, undo; wars drawn -/
set_option maxRecDepth 100000
def dwN (x : Nat) : Nat := (1103515245 * x + 12345) % 2147483648
def dwS (sd : Nat) : Nat → Nat
  | 0 => dwN sd
  | t + 1 => dwN (dwS sd t)
def dwH (x : Nat) : Nat := x / 65536 % 100
def dwO (W : Nat → Nat) (sd : Nat) : Option Nat := if dwH (dwS sd 0) < W 3 then none else some (setN (fun t => decide (dwH (dwS sd (t + 1)) < W (13 + 6 * t + 3))) (W 4))
theorem dwN_lt (x : Nat) : dwN x < 2147483648 := Nat.mod_lt _ (by decide)
theorem dwS_lt (sd : Nat) : ∀ t, dwS sd t < 2147483648
  | 0 => dwN_lt _
  | _ + 1 => dwN_lt _
theorem dw_step {x : Nat} (hx : x ≤ 2147483648) : (1103515245 : Int64) * lN x + 12345 - ((1103515245 : Int64) * lN x + 12345) / 2147483648 * 2147483648 = lN (dwN x) := by
  rw [show (1103515245 : Int64) = lN 1103515245 from rfl, show (12345 : Int64) = lN 12345 from rfl, show (2147483648 : Int64) = lN 2147483648 from rfl, lN_mul, lN_add]
  exact pk_lRem (by omega) (by decide) (by decide)
theorem dw_hun {x : Nat} (hx : x < 2147483648) : lN x / 65536 - lN x / 65536 / 100 * 100 = lN (dwH x) := by
  rw [show (65536 : Int64) = lN 65536 from rfl, show (100 : Int64) = lN 100 from rfl, pk_lDiv (by omega) (by decide) (by decide)]
  have := Nat.div_le_self x 65536
  exact pk_lRem (by omega) (by decide) (by decide)
theorem lc_ge {a b : Nat} (ha : a < 2 ^ 63) (hb : b < 2 ^ 63) : 0 ≤ lg_cmp (lN a) (lN b) ↔ b ≤ a := by
  rw [← Int32.not_lt, lg_cmp_lt, pk_lLT ha hb]
  omega
theorem dwO_b {W : Nat → Nat} (hi : InvW W) {sd n : Nat} (h : dwO W sd = some n) : n < 512 := by
  unfold dwO at h
  split at h
  · cases h
  · cases h
    have h1 := setN_lt (fun t => decide (dwH (dwS sd (t + 1)) < W (13 + 6 * t + 3))) (W 4)
    have h2 : 2 ^ W 4 ≤ 2 ^ 9 := Nat.pow_le_pow_right (by decide) hi.h4
    omega
def seedB (W : Nat → Nat) (v : Int32) : Bool := isWarB W && inI v 0 2000000000
def aDrawn (W : Nat → Nat) (v w : Int32) : Int32 := if (seedB W v && inI w 0 2) = true then (if w = 0 then oZ (dwO W (tn v)) else match dwO W (tn v) with | none => if w = 1 then -1 else 0 | some d => if w = 1 then iI (winZ W d) else iI (frZ W d (W 0))) else -2
def luF (W : Nat → Nat) (sd s : Nat) : Nat → Nat := sN (fun k => match dwO W (sd + k) with | none => 0 | some d => if winZ W d = (s : Int) then 1 else 0)
def aLuck (W : Nat → Nat) (v n s : Int32) : Int32 := if (seedB W v && inI n 1 20 && isSideB W s) = true then nI (luF W (tn v) (tn s) (tn n)) else -2
theorem seed_nat {W : Nat → Nat} {v : Int32} (h : seedB W v = true) : ∃ n : Nat, n ≤ 2000000000 ∧ v = nI n := by
  unfold seedB at h
  rw [Bool.and_eq_true] at h
  obtain ⟨n, h1, h2, h3⟩ := inI_nat h.2
  exact ⟨n, by omega, h3⟩
theorem twenty_nat {v : Int32} (h : inI v 1 20 = true) : ∃ n : Nat, 1 ≤ n ∧ n ≤ 20 ∧ v = nI n := by
  obtain ⟨n, h1, h2, -, h3⟩ := one_nat h
  exact ⟨n, h1, by omega, h3⟩
theorem telP_b {t : Nat} (w : Nat) (ht : t < 9) : 11 ≤ telP t w ∧ telP t w < 67 := by
  unfold telP
  split
  · omega
  · split <;> omega
theorem wz_b (W : Nat → Nat) (d : Nat) : -1 ≤ winZ W d ∧ winZ W d ≤ 1 := by
  unfold winZ
  split
  · split
    · omega
    · split <;> omega
  · split <;> omega
theorem luF_le (W : Nat → Nat) (sd s k : Nat) : luF W sd s k ≤ k := by
  refine sN_1 (fun j => ?_) k
  split
  · omega
  · split <;> omega
theorem lu_none {W : Nat → Nat} {sd s k : Nat} (h : dwO W (sd + k) = none) : luF W sd s (k + 1) = luF W sd s k := by
  unfold luF
  simp only [sN]
  rw [h]
  rfl
theorem lu_some {W : Nat → Nat} {sd s k d : Nat} (h : dwO W (sd + k) = some d) : luF W sd s (k + 1) = luF W sd s k + (if winZ W d = (s : Int) then 1 else 0) := by
  unfold luF
  simp only [sN]
  rw [h]
theorem tel_n {v : Int32} {w : Nat} (h : inI v 0 (telM w) = true) : ∃ n : Nat, n ≤ 999 ∧ v = nI n := by
  obtain ⟨n, h1, h2, h3⟩ := inI_nat h
  refine ⟨n, ?_, h3⟩
  unfold telM at h1
  split at h1
  · omega
  · split at h1 <;> omega
set_option maxHeartbeats 4000000 in
theorem m_tell {l : Launch} {g : Zg} {ad : Nat → Nat} {M : Zm} {st : Ms} {W : Nat → Nat} (hm : Mod g ad M st) (hw : WR st W) (hi : InvW W) (tv wv nv : Int32) : Cn l g yX11_tell cX11_tell 4 (some .int) 3 0 0 [.ref (ad 0), .int tv, .int wv, .int nv] M (PMW g ad st (some (.int (aTell W tv wv nv))) (wTell W tv wv nv)) := by
  refine Cn.start [(0, .ref (ad 0)), (1, .int tv), (2, .int wv), (3, .int nv)] (by decide) (Nat.le_of_ble_eq_true rfl) rfl ?_
  intro γ el eg h hq
  subst el; subst eg
  have hk : keepW st st := keepW.rf st
  have h4 := hi.h4
  refine z_aload_n 0 h dX11_tell_0 rfl rfl rfl ?_
  refine z_iload_n 1 h dX11_tell_1 rfl rfl ?_
  refine z_callVP h (m_isTrain hm hw hi tv) kX11 (.inl (hm.at 0 (by decide))) (lw_V q2074 q2076 qs81 q148 q2077) nX11_isTrain rfl rfl rfl (Nat.le_of_ble_eq_true rfl) (Nat.le_of_ble_eq_true rfl) (Nat.le_of_ble_eq_true rfl) dX11_tell_2 ?_
  refine z_ifz_eq 53 h dX11_tell_5 (by decide) (fun c_5 => ?_) (fun c_5 => ?_)
  · have _z := c_5
    refine z_bipush h dX11_tell_53 kb_m2 ?_
    refine z_iret h hq dX11_tell_55 (Nat.le_of_ble_eq_true rfl) (Nat.le_of_ble_eq_true rfl) ?_
    first | (refine ⟨vS ?_, st, hm, hk, ?_⟩; rotate_left; (unfold wTell telB; rw [c_5]; exact hw); simp [aTell, telB, c_5]; done) | (refine ⟨vS ?_, st, hm, hk, ?_⟩; rotate_left; (unfold wTell telB; rw [c_17, Bool.and_false]; exact hw); simp [aTell, telB, c_17]; done) | (refine ⟨vS ?_, st, hm, hk, ?_⟩; rotate_left; (unfold wTell telB; rw [tn_nI (show w < 2 ^ 31 by omega), c_50, Bool.and_false]; exact hw); simp [aTell, telB, tn_nI (show w < 2 ^ 31 by omega), c_50]; done)
  · have _z := c_5
    obtain ⟨t, h_t, ht, rfl⟩ := train_nat c_5
    refine z_iload_n 2 h dX11_tell_8 rfl rfl ?_
    refine z_i2l h dX11_tell_9 ?_
    refine z_lconst h dX11_tell_10 kl_0 ?_
    refine z_ldc2 h q1949 dX11_tell_11 ?_
    refine z_callSP h (m_inI wv 0 2 0 2 rfl rfl) (lw_S q1950 q1951 q148 q1952) nX11_in rfl rfl rfl (Nat.le_of_ble_eq_true rfl) (Nat.le_of_ble_eq_true rfl) (Nat.le_of_ble_eq_true rfl) dX11_tell_14 ?_
    refine z_ifz_eq 53 h dX11_tell_17 (by decide) (fun c_17 => ?_) (fun c_17 => ?_)
    · have _z := c_17
      refine z_bipush h dX11_tell_53 kb_m2 ?_
      refine z_iret h hq dX11_tell_55 (Nat.le_of_ble_eq_true rfl) (Nat.le_of_ble_eq_true rfl) ?_
      first | (refine ⟨vS ?_, st, hm, hk, ?_⟩; rotate_left; (unfold wTell telB; rw [c_5]; exact hw); simp [aTell, telB, c_5]; done) | (refine ⟨vS ?_, st, hm, hk, ?_⟩; rotate_left; (unfold wTell telB; rw [c_17, Bool.and_false]; exact hw); simp [aTell, telB, c_17]; done) | (refine ⟨vS ?_, st, hm, hk, ?_⟩; rotate_left; (unfold wTell telB; rw [tn_nI (show w < 2 ^ 31 by omega), c_50, Bool.and_false]; exact hw); simp [aTell, telB, tn_nI (show w < 2 ^ 31 by omega), c_50]; done)
    · have _z := c_17
      obtain ⟨w, h_w, rfl⟩ := two_nat c_17
      have join_47 : ∀ (hi3 : Int64) (hb : hi3.toInt = telM w), Z γ M 0 0 47 (lof [(0, .ref (ad 0)), (1, .int (nI t)), (2, .int (nI w)), (3, .int nv)]) [.long hi3, .long 0, .long (nv.toInt64)] := by
        intro hi3 hb
        refine z_callSP h (m_inI nv 0 _ 0 (telM w) rfl hb) (lw_S q1950 q1951 q148 q1952) nX11_in rfl rfl rfl (Nat.le_of_ble_eq_true rfl) (Nat.le_of_ble_eq_true rfl) (Nat.le_of_ble_eq_true rfl) dX11_tell_47 ?_
        refine z_ifz_ne 56 h dX11_tell_50 (by decide) (fun c_50 => ?_) (fun c_50 => ?_)
        · have _z := c_50
          obtain ⟨n, h_n, rfl⟩ := tel_n c_50
          have join_82 : ∀ (cv : Int32) (hc : (13 : Int32) + 6 * nI t + cv = nI (telP t w)), Z γ M 0 0 82 (lof [(0, .ref (ad 0)), (1, .int (nI t)), (2, .int (nI w)), (3, .int (nI n))]) [.int cv, .int (13 + 6 * nI t), .ref (ad 0)] := by
            intro cv hc
            refine z_iadd h dX11_tell_82 ?_
            refine z_iload_n 3 h dX11_tell_83 rfl rfl ?_
            refine Z.st (show _ = [.int (nI n), .int (nI (telP t w)), .ref (ad 0)] by rw [hc]) ?_
            refine z_callV h (m_changed hm hw hi (telP t w) n (telP_b w (by omega))) kX11 (.inl (hm.at 0 (by decide))) (lw_V q2521 q2523 qs129 q148 q2524) nX11_changed rfl rfl rfl (Nat.le_of_ble_eq_true rfl) (Nat.le_of_ble_eq_true rfl) (Nat.le_of_ble_eq_true rfl) dX11_tell_84 (fun v M hv => ?_)
            obtain ⟨rfl, s9, hm, hk9, hw9⟩ := hv
            refine z_iret h hq dX11_tell_87 (Nat.le_of_ble_eq_true rfl) (Nat.le_of_ble_eq_true rfl) ?_
            refine ⟨vS ?_, s9, hm, hk9, ?_⟩; rotate_left; (unfold wTell telB; rw [c_5, c_17, tn_nI (show w < 2 ^ 31 by omega), c_50, tn_nI (show t < 2 ^ 31 by omega), tn_nI (show n < 2 ^ 31 by omega)]; exact hw9); simp [aTell, telB, c_5, c_17, tn_nI (show w < 2 ^ 31 by omega), c_50, tn_nI (show t < 2 ^ 31 by omega)]; done
          refine z_aload_n 0 h dX11_tell_56 rfl rfl rfl ?_
          refine z_bipush h dX11_tell_57 kb_13 ?_
          refine z_bipush h dX11_tell_59 kb_6 ?_
          refine z_iload_n 1 h dX11_tell_61 rfl rfl ?_
          refine z_imul h dX11_tell_62 ?_
          refine z_iadd h dX11_tell_63 ?_
          refine z_iload_n 2 h dX11_tell_64 rfl rfl ?_
          refine z_if_ne 72 h dX11_tell_65 (by decide) (fun c_65 => ?_) (fun c_65 => ?_)
          · have _z := c_65
            replace c_65 := (not_congr (ieq (a := w) (b := 0) rfl rfl (by omega) (by decide))).mp c_65
            refine z_iload_n 2 h dX11_tell_72 rfl rfl ?_
            refine z_iconst h dX11_tell_73 ki_1 ?_
            refine z_icmp_ne 81 h dX11_tell_74 (by decide) (fun c_74 => ?_) (fun c_74 => ?_)
            · have _z := c_74
              replace c_74 := (not_congr (ieq (a := w) (b := 1) rfl rfl (by omega) (by decide))).mp c_74
              refine z_iconst h dX11_tell_81 ki_5 ?_
              refine Z.loc [(0, .ref (ad 0)), (1, .int (nI t)), (2, .int (nI w)), (3, .int (nI n))] (ll1 rfl (ll1 rfl (ll1 rfl (ll1 rfl ll0)))) ?_
              exact join_82 _ (by unfold telP; rw [if_neg (by omega), if_neg (by omega)]; exact ixa (a := 13 + 6 * t) (b := 5) (ixa (a := 13) rfl (ixm (a := 6) rfl rfl)) rfl)
            · have _z := c_74
              replace c_74 := (ieq (a := w) (b := 1) rfl rfl (by omega) (by decide)).mp c_74
              refine z_iconst h dX11_tell_77 ki_3 ?_
              refine z_goto 82 h dX11_tell_78 (by decide) ?_
              refine Z.loc [(0, .ref (ad 0)), (1, .int (nI t)), (2, .int (nI w)), (3, .int (nI n))] (ll1 rfl (ll1 rfl (ll1 rfl (ll1 rfl ll0)))) ?_
              exact join_82 _ (by unfold telP; rw [if_neg (by omega), if_pos (by omega)]; exact ixa (a := 13 + 6 * t) (b := 3) (ixa (a := 13) rfl (ixm (a := 6) rfl rfl)) rfl)
          · have _z := c_65
            replace c_65 := (ieq (a := w) (b := 0) rfl rfl (by omega) (by decide)).mp c_65
            refine z_iconst h dX11_tell_68 ki_2 ?_
            refine z_goto 82 h dX11_tell_69 (by decide) ?_
            refine Z.loc [(0, .ref (ad 0)), (1, .int (nI t)), (2, .int (nI w)), (3, .int (nI n))] (ll1 rfl (ll1 rfl (ll1 rfl (ll1 rfl ll0)))) ?_
            exact join_82 _ (by unfold telP; rw [if_pos (by omega)]; exact ixa (a := 13 + 6 * t) (b := 2) (ixa (a := 13) rfl (ixm (a := 6) rfl rfl)) rfl)
        · have _z := c_50
          refine z_bipush h dX11_tell_53 kb_m2 ?_
          refine z_iret h hq dX11_tell_55 (Nat.le_of_ble_eq_true rfl) (Nat.le_of_ble_eq_true rfl) ?_
          first | (refine ⟨vS ?_, st, hm, hk, ?_⟩; rotate_left; (unfold wTell telB; rw [c_5]; exact hw); simp [aTell, telB, c_5]; done) | (refine ⟨vS ?_, st, hm, hk, ?_⟩; rotate_left; (unfold wTell telB; rw [c_17, Bool.and_false]; exact hw); simp [aTell, telB, c_17]; done) | (refine ⟨vS ?_, st, hm, hk, ?_⟩; rotate_left; (unfold wTell telB; rw [tn_nI (show w < 2 ^ 31 by omega), c_50, Bool.and_false]; exact hw); simp [aTell, telB, tn_nI (show w < 2 ^ 31 by omega), c_50]; done)
      refine z_iload_n 3 h dX11_tell_20 rfl rfl ?_
      refine z_i2l h dX11_tell_21 ?_
      refine z_lconst h dX11_tell_22 kl_0 ?_
      refine z_iload_n 2 h dX11_tell_23 rfl rfl ?_
      refine z_if_ne 33 h dX11_tell_24 (by decide) (fun c_24 => ?_) (fun c_24 => ?_)
      · have _z := c_24
        replace c_24 := (not_congr (ieq (a := w) (b := 0) rfl rfl (by omega) (by decide))).mp c_24
        refine z_iload_n 2 h dX11_tell_33 rfl rfl ?_
        refine z_iconst h dX11_tell_34 ki_1 ?_
        refine z_icmp_ne 44 h dX11_tell_35 (by decide) (fun c_35 => ?_) (fun c_35 => ?_)
        · have _z := c_35
          replace c_35 := (not_congr (ieq (a := w) (b := 1) rfl rfl (by omega) (by decide))).mp c_35
          refine z_ldc2 h q2333 dX11_tell_44 ?_
          refine Z.loc [(0, .ref (ad 0)), (1, .int (nI t)), (2, .int (nI w)), (3, .int nv)] (ll1 rfl (ll1 rfl (ll1 rfl (ll1 rfl ll0)))) ?_
          exact join_47 _ (by unfold telM; rw [if_neg (by omega), if_neg (by omega)]; rfl)
        · have _z := c_35
          replace c_35 := (ieq (a := w) (b := 1) rfl rfl (by omega) (by decide)).mp c_35
          refine z_ldc2 h q2231 dX11_tell_38 ?_
          refine z_goto 47 h dX11_tell_41 (by decide) ?_
          refine Z.loc [(0, .ref (ad 0)), (1, .int (nI t)), (2, .int (nI w)), (3, .int nv)] (ll1 rfl (ll1 rfl (ll1 rfl (ll1 rfl ll0)))) ?_
          exact join_47 _ (by unfold telM; rw [if_neg (by omega), if_pos (by omega)]; rfl)
      · have _z := c_24
        replace c_24 := (ieq (a := w) (b := 0) rfl rfl (by omega) (by decide)).mp c_24
        refine z_ldc2 h q2399 dX11_tell_27 ?_
        refine z_goto 47 h dX11_tell_30 (by decide) ?_
        refine Z.loc [(0, .ref (ad 0)), (1, .int (nI t)), (2, .int (nI w)), (3, .int nv)] (ll1 rfl (ll1 rfl (ll1 rfl (ll1 rfl ll0)))) ?_
        exact join_47 _ (by unfold telM; rw [if_pos (by omega)]; rfl)
set_option maxHeartbeats 4000000 in
theorem m_undo {l : Launch} {g : Zg} {ad : Nat → Nat} {M : Zm} {st : Ms} {W : Nat → Nat} (hm : Mod g ad M st) (hw : WR st W) (hi : InvW W)  : Cn l g yX11_undo cX11_undo 2 (some .int) 2 0 0 [.ref (ad 0)] M (PMW g ad st (some (.int (aUndo W))) (wUndo W)) := by
  refine Cn.start [(0, .ref (ad 0))] (by decide) (Nat.le_of_ble_eq_true rfl) rfl ?_
  intro γ el eg h hq
  subst el; subst eg
  have hk : keepW st st := keepW.rf st
  have h10 := hi.h10
  refine z_aload_n 0 h dX11_undo_0 rfl rfl rfl ?_
  refine z_callVP h (m_isWar hm hw hi) kX11 (.inl (hm.at 0 (by decide))) (lw_V q2091 q2093 qs84 q148 q2094) nX11_isWar rfl rfl rfl (Nat.le_of_ble_eq_true rfl) (Nat.le_of_ble_eq_true rfl) (Nat.le_of_ble_eq_true rfl) dX11_undo_1 ?_
  refine z_ifz_ne 10 h dX11_undo_4 (by decide) (fun c_4 => ?_) (fun c_4 => ?_)
  · have _z := c_4
    refine z_aload_n 0 h dX11_undo_10 rfl rfl rfl ?_
    refine z_get h kX11 (.inl (hm.at 0 (by decide))) 1 rfl q1848 rfl dX11_undo_11 ?_
    refine z_bipush h dX11_undo_14 kb_10 ?_
    refine zm_w (10) h hm hw rfl (by omega) dX11_undo_16 ?_
    refine z_if_ne 23 h dX11_undo_17 (by decide) (fun c_17 => ?_) (fun c_17 => ?_)
    · have _z := c_17
      replace c_17 := (not_congr (ieq (a := W (10)) (b := 0) rfl rfl (hi.lt _ (by omega)) (by decide))).mp c_17
      have hcg := chV_p hi (hi.cg (W 10 - 1) (by omega))
      refine z_aload_n 0 h dX11_undo_23 rfl rfl rfl ?_
      refine z_get h kX11 (.inl (hm.at 0 (by decide))) 1 rfl q1848 rfl dX11_undo_24 ?_
      refine z_bipush h dX11_undo_27 kb_10 ?_
      refine z_dup2 h dX11_undo_29 rfl rfl ?_
      refine zm_w (10) h hm hw rfl (by omega) dX11_undo_30 ?_
      refine z_iconst h dX11_undo_31 ki_1 ?_
      refine z_isub h dX11_undo_32 ?_
      refine Z.st (show _ = _ by rw [show nI (W 10) - 1 = nI (W 10 - 1) from ixs (a := W 10) (b := 1) rfl rfl (by omega)]) ?_
      refine zm_iast 1 (10) h hm (by decide) (fun _ => rfl) rfl (by omega) (by decide) dX11_undo_33 (fun M hm => ?_)
      generalize hs1 : uA st 1 _ = s1 at hm
      have f1 := at1 hs1
      replace hk := hk.A hs1
      refine z_bipush h dX11_undo_34 kb_120 ?_
      refine z_iconst h dX11_undo_36 ki_2 ?_
      refine z_aload_n 0 h dX11_undo_37 rfl rfl rfl ?_
      refine z_get h kX11 (.inl (hm.at 0 (by decide))) 1 rfl q1848 rfl dX11_undo_38 ?_
      refine z_bipush h dX11_undo_41 kb_10 ?_
      refine z_ialdN (10) h (.inl (hm.at 1 (by decide))) rfl (by omega) (by decide) dX11_undo_43 ?_
      refine Z.st (show _ = [.int (nI (W 10 - 1)), _, _] by rw [f1, upd_s]) ?_
      refine z_imul h dX11_undo_44 ?_
      refine z_iadd h dX11_undo_45 ?_
      refine z_istore_n 1 h dX11_undo_46 rfl rfl ?_
      refine z_aload_n 0 h dX11_undo_47 rfl rfl rfl ?_
      refine z_get h kX11 (.inl (hm.at 0 (by decide))) 1 rfl q1848 rfl dX11_undo_48 ?_
      refine z_aload_n 0 h dX11_undo_51 rfl rfl rfl ?_
      refine z_get h kX11 (.inl (hm.at 0 (by decide))) 1 rfl q1848 rfl dX11_undo_52 ?_
      refine z_iload_n 1 h dX11_undo_55 rfl rfl ?_
      refine z_ialdN (120 + 2 * (W 10 - 1)) h (.inl (hm.at 1 (by decide))) (ixa (a := 120) rfl (ixm (a := 2) rfl rfl)) (by omega) (by decide) dX11_undo_56 ?_
      refine Z.st (show _ = [.int (nI (W (120 + 2 * (W 10 - 1)))), _] by rw [f1, upd_n (show 120 + 2 * (W 10 - 1) ≠ 10 by omega) (hw _ (by omega))]) ?_
      refine z_aload_n 0 h dX11_undo_57 rfl rfl rfl ?_
      refine z_get h kX11 (.inl (hm.at 0 (by decide))) 1 rfl q1848 rfl dX11_undo_58 ?_
      refine z_iload_n 1 h dX11_undo_61 rfl rfl ?_
      refine z_iconst h dX11_undo_62 ki_1 ?_
      refine z_iadd h dX11_undo_63 ?_
      refine z_ialdN (120 + 2 * (W 10 - 1) + 1) h (.inl (hm.at 1 (by decide))) (ixa (ixa (a := 120) rfl (ixm (a := 2) rfl rfl)) (b := 1) rfl) (by omega) (by decide) dX11_undo_64 ?_
      refine Z.st (show _ = [.int (nI (W (120 + 2 * (W 10 - 1) + 1))), _, _] by rw [f1, upd_n (show 120 + 2 * (W 10 - 1) + 1 ≠ 10 by omega) (hw _ (by omega))]) ?_
      refine zm_iast 1 (W (120 + 2 * (W 10 - 1))) h hm (by decide) (fun _ => rfl) rfl (by omega) (by decide) dX11_undo_65 (fun M hm => ?_)
      generalize hs2 : uA s1 1 _ = s2 at hm
      have f2 := at1 hs2
      replace hk := hk.A hs2
      refine z_aload_n 0 h dX11_undo_66 rfl rfl rfl ?_
      refine z_get h kX11 (.inl (hm.at 0 (by decide))) 1 rfl q1848 rfl dX11_undo_67 ?_
      refine z_bipush h dX11_undo_70 kb_10 ?_
      refine z_ialdN (10) h (.inl (hm.at 1 (by decide))) rfl (by omega) (by decide) dX11_undo_72 ?_
      refine Z.st (show _ = [.int (nI (W 10 - 1))] by rw [f2, upd_n (show 10 ≠ W (120 + 2 * (W 10 - 1)) by omega) (y := nI (W 10 - 1)) (by rw [f1, upd_s])]) ?_
      refine z_iret h hq dX11_undo_73 (Nat.le_of_ble_eq_true rfl) (Nat.le_of_ble_eq_true rfl) ?_
      refine ⟨vS (by simp [aUndo, c_4, c_17]), s2, hm, hk, ?_⟩
      unfold wUndo WR
      rw [if_pos ⟨c_4, c_17⟩, f2, f1]
      exact un_wr hw
    · have _z := c_17
      replace c_17 := (ieq (a := W (10)) (b := 0) rfl rfl (hi.lt _ (by omega)) (by decide)).mp c_17
      refine z_bipush h dX11_undo_20 kb_m5 ?_
      exact z_iret h hq dX11_undo_22 (Nat.le_of_ble_eq_true rfl) (Nat.le_of_ble_eq_true rfl) (⟨vS (by simp [aUndo, c_4, c_17]), st, hm, hk, by unfold wUndo; rw [if_neg (by simp [c_17])]; exact hw⟩)
  · have _z := c_4
    refine z_bipush h dX11_undo_7 kb_m2 ?_
    exact z_iret h hq dX11_undo_9 (Nat.le_of_ble_eq_true rfl) (Nat.le_of_ble_eq_true rfl) (⟨vS (by simp [aUndo, c_4]), st, hm, hk, by unfold wUndo; rw [if_neg (by simp [c_4])]; exact hw⟩)
set_option maxHeartbeats 4000000 in
theorem m_drawnDelays {l : Launch} {g : Zg} {ad : Nat → Nat} {M : Zm} {st : Ms} {W : Nat → Nat} (hm : Mod g ad M st) (hw : WR st W) (hi : InvW W) (sd : Nat) (hsd : sd ≤ 2147483648) : Cn l g yX11_drawnDelays cX11_drawnDelays 7 (some .int) 2 0 0 [.ref (ad 0), .long (lN sd)] M (PV (.int (oZ (dwO W sd))) M) := by
  refine Cn.start [(0, .ref (ad 0)), (1, .long (lN sd))] (by decide) (Nat.le_of_ble_eq_true rfl) rfl ?_
  intro γ el eg h hq
  subst el; subst eg
  have h4 := hi.h4
  have h3 : W 3 ≤ 100 := hi.2.2.2.1
  refine z_ldc2 h q2550 dX11_drawnDelays_0 ?_
  refine z_lload_n 1 h dX11_drawnDelays_3 rfl rfl ?_
  refine z_lmul h dX11_drawnDelays_4 ?_
  refine z_ldc2 h q2551 dX11_drawnDelays_5 ?_
  refine z_ladd h dX11_drawnDelays_8 ?_
  refine z_ldc2 h q2552 dX11_drawnDelays_9 ?_
  refine z_lrem h dX11_drawnDelays_12 (by decide) ?_
  rw [dw_step hsd]
  refine z_lstore_n 3 h dX11_drawnDelays_13 rfl rfl ?_
  refine z_lload_n 3 h dX11_drawnDelays_14 rfl rfl ?_
  refine z_ldc2 h q2553 dX11_drawnDelays_15 ?_
  refine z_ldiv h dX11_drawnDelays_18 (by decide) ?_
  refine z_ldc2 h q2231 dX11_drawnDelays_19 ?_
  refine z_lrem h dX11_drawnDelays_22 (by decide) ?_
  refine z_aload_n 0 h dX11_drawnDelays_23 rfl rfl rfl ?_
  refine z_get h kX11 (.inl (hm.at 0 (by decide))) 1 rfl q1848 rfl dX11_drawnDelays_24 ?_
  refine z_iconst h dX11_drawnDelays_27 ki_3 ?_
  refine zm_w (3) h hm hw rfl (by omega) dX11_drawnDelays_28 ?_
  refine z_i2l h dX11_drawnDelays_29 ?_
  refine Z.st (show _ = _ by rw [dw_hun (dwN_lt sd), nI_l (hi.lt _ (by omega))]) ?_
  refine z_lcmp h dX11_drawnDelays_30 ?_
  refine z_if_ge 36 h dX11_drawnDelays_31 (by decide) (fun c_31 => ?_) (fun c_31 => ?_)
  · have _z := c_31
    replace c_31 := (lc_ge (by have := Nat.mod_lt (dwN sd / 65536) (show 0 < 100 by decide); unfold dwH; omega) (by omega)).mp c_31
    refine z_iconst h dX11_drawnDelays_36 ki_0 ?_
    refine z_istore h dX11_drawnDelays_37 rfl ?_
    refine z_iconst h dX11_drawnDelays_39 ki_0 ?_
    refine z_istore h dX11_drawnDelays_40 rfl ?_
    have loop_42 : ∀ (fz : Nat) (t : Nat) (ht : t ≤ W 4), (W 4 - t) < fz → Z γ M 0 0 42 (lof [(0, .ref (ad 0)), (1, .long (lN sd)), (3, .long (lN (dwS sd t))), (5, .int (nI (setN (fun t => decide (dwH (dwS sd (t + 1)) < W (13 + 6 * t + 3))) t))), (6, .int (nI t))]) [] := by
      intro fz
      induction fz with
      | zero => intro t ht hz; exact absurd hz (Nat.not_lt_zero _)
      | succ fz ih_42 =>
        intro t ht hz_42
        refine z_iload h dX11_drawnDelays_42 rfl ?_
        refine z_aload_n 0 h dX11_drawnDelays_44 rfl rfl rfl ?_
        refine z_get h kX11 (.inl (hm.at 0 (by decide))) 1 rfl q1848 rfl dX11_drawnDelays_45 ?_
        refine z_iconst h dX11_drawnDelays_48 ki_4 ?_
        refine zm_w (4) h hm hw rfl (by omega) dX11_drawnDelays_49 ?_
        refine z_icmp_ge 107 h dX11_drawnDelays_50 (by decide) (fun c_50 => ?_) (fun c_50 => ?_)
        · have _z := c_50
          replace c_50 := (ile (a := W (4)) (b := t) rfl rfl (hi.lt _ (by omega)) (by omega)).mp c_50
          refine z_iload h dX11_drawnDelays_107 rfl ?_
          refine z_iret h hq dX11_drawnDelays_109 (Nat.le_of_ble_eq_true rfl) (Nat.le_of_ble_eq_true rfl) ?_
          obtain rfl : t = W 4 := by omega
          exact ⟨vS (by unfold dwO; rw [if_neg (show ¬ dwH (dwS sd 0) < W 3 by unfold dwS; omega)]; rfl), rfl⟩
        · have _z := c_50
          replace c_50 := (not_congr (ile (a := W (4)) (b := t) rfl rfl (hi.lt _ (by omega)) (by omega))).mp c_50
          refine z_ldc2 h q2550 dX11_drawnDelays_53 ?_
          refine z_lload_n 3 h dX11_drawnDelays_56 rfl rfl ?_
          refine z_lmul h dX11_drawnDelays_57 ?_
          refine z_ldc2 h q2551 dX11_drawnDelays_58 ?_
          refine z_ladd h dX11_drawnDelays_61 ?_
          refine z_ldc2 h q2552 dX11_drawnDelays_62 ?_
          refine z_lrem h dX11_drawnDelays_65 (by decide) ?_
          rw [dw_step (Nat.le_of_lt (dwS_lt sd t))]
          refine z_lstore_n 3 h dX11_drawnDelays_66 rfl rfl ?_
          refine z_iload h dX11_drawnDelays_67 rfl ?_
          refine z_lload_n 3 h dX11_drawnDelays_69 rfl rfl ?_
          refine z_ldc2 h q2553 dX11_drawnDelays_70 ?_
          refine z_ldiv h dX11_drawnDelays_73 (by decide) ?_
          refine z_ldc2 h q2231 dX11_drawnDelays_74 ?_
          refine z_lrem h dX11_drawnDelays_77 (by decide) ?_
          refine z_aload_n 0 h dX11_drawnDelays_78 rfl rfl rfl ?_
          refine z_iload h dX11_drawnDelays_79 rfl ?_
          refine z_iconst h dX11_drawnDelays_81 ki_3 ?_
          refine z_callVP h (m_of hm hw hi t 3 (by omega)) kX11 (.inl (hm.at 0 (by decide))) (lw_V q2079 q2081 qs82 q148 q2082) nX11_of rfl rfl rfl (Nat.le_of_ble_eq_true rfl) (Nat.le_of_ble_eq_true rfl) (Nat.le_of_ble_eq_true rfl) dX11_drawnDelays_82 ?_
          refine z_i2l h dX11_drawnDelays_85 ?_
          refine Z.st (show _ = _ by rw [dw_hun (dwN_lt (dwS sd t)), nI_l (hi.lt _ (by omega))]) ?_
          refine z_lcmp h dX11_drawnDelays_86 ?_
          refine z_if_ge 97 h dX11_drawnDelays_87 (by decide) (fun c_87 => ?_) (fun c_87 => ?_)
          · have _z := c_87
            replace c_87 := (lc_ge (by have := Nat.mod_lt (dwN (dwS sd t) / 65536) (show 0 < 100 by decide); unfold dwH; omega) (by have := hi.lt (13 + 6 * t + 3) (by omega); omega)).mp c_87
            refine z_iconst h dX11_drawnDelays_97 ki_0 ?_
            refine z_ior h dX11_drawnDelays_98 ?_
            refine z_istore h dX11_drawnDelays_99 rfl ?_
            refine z_iinc h dX11_drawnDelays_101 rfl rfl ki_1 ?_
            refine z_goto 42 h dX11_drawnDelays_104 (by decide) ?_
            refine Z.loc [(0, .ref (ad 0)), (1, .long (lN sd)), (3, .long (lN (dwS sd (t + 1)))), (5, .int (nI (setN (fun t => decide (dwH (dwS sd (t + 1)) < W (13 + 6 * t + 3))) (t + 1)))), (6, .int (nI (t + 1)))] (ll1 rfl (ll1 rfl (ll1 rfl (ll1 (vS (by first | (refine set_f (by omega) (decide_eq_false ?_); show ¬ dwH (dwN (dwS sd t)) < _; omega) | (refine set_t (by omega) (decide_eq_true ?_); show dwH (dwN (dwS sd t)) < _; omega))) (ll1 (vS (nI_1 t)) ll0))))) ?_
            exact ih_42 (t + 1) (by omega) (by omega)
          · have _z := c_87
            replace c_87 := (not_congr (lc_ge (by have := Nat.mod_lt (dwN (dwS sd t) / 65536) (show 0 < 100 by decide); unfold dwH; omega) (by have := hi.lt (13 + 6 * t + 3) (by omega); omega))).mp c_87
            refine z_iconst h dX11_drawnDelays_90 ki_1 ?_
            refine z_iload h dX11_drawnDelays_91 rfl ?_
            refine z_ishl h dX11_drawnDelays_93 ?_
            refine z_goto 98 h dX11_drawnDelays_94 (by decide) ?_
            refine z_ior h dX11_drawnDelays_98 ?_
            refine z_istore h dX11_drawnDelays_99 rfl ?_
            refine z_iinc h dX11_drawnDelays_101 rfl rfl ki_1 ?_
            refine z_goto 42 h dX11_drawnDelays_104 (by decide) ?_
            refine Z.loc [(0, .ref (ad 0)), (1, .long (lN sd)), (3, .long (lN (dwS sd (t + 1)))), (5, .int (nI (setN (fun t => decide (dwH (dwS sd (t + 1)) < W (13 + 6 * t + 3))) (t + 1)))), (6, .int (nI (t + 1)))] (ll1 rfl (ll1 rfl (ll1 rfl (ll1 (vS (by first | (refine set_f (by omega) (decide_eq_false ?_); show ¬ dwH (dwN (dwS sd t)) < _; omega) | (refine set_t (by omega) (decide_eq_true ?_); show dwH (dwN (dwS sd t)) < _; omega))) (ll1 (vS (nI_1 t)) ll0))))) ?_
            exact ih_42 (t + 1) (by omega) (by omega)
    refine Z.loc [(0, .ref (ad 0)), (1, .long (lN sd)), (3, .long (lN (dwS sd 0))), (5, .int (nI (setN (fun t => decide (dwH (dwS sd (t + 1)) < W (13 + 6 * t + 3))) 0))), (6, .int (nI 0))] (ll1 rfl (ll1 rfl (ll1 rfl (ll1 rfl (ll1 rfl ll0))))) ?_
    exact loop_42 _ 0 (Nat.zero_le _) (Nat.lt_succ_self _)
  · have _z := c_31
    replace c_31 := (not_congr (lc_ge (by have := Nat.mod_lt (dwN sd / 65536) (show 0 < 100 by decide); unfold dwH; omega) (by omega))).mp c_31
    refine z_iconst h dX11_drawnDelays_34 ki_m1 ?_
    exact z_iret h hq dX11_drawnDelays_35 (Nat.le_of_ble_eq_true rfl) (Nat.le_of_ble_eq_true rfl) (⟨vS (by unfold dwO; rw [if_pos (show dwH (dwS sd 0) < W 3 by unfold dwS; omega)]; rfl), rfl⟩)
set_option maxHeartbeats 4000000 in
theorem m_isSeed {l : Launch} {g : Zg} {ad : Nat → Nat} {M : Zm} {st : Ms} {W : Nat → Nat} (hm : Mod g ad M st) (hw : WR st W) (hi : InvW W) (v : Int32) : Cn l g yX11_isSeed cX11_isSeed 2 (some .boolean) 2 0 0 [.ref (ad 0), .int v] M (PV (.int (z2i (seedB W v))) M) := by
  refine Cn.start [(0, .ref (ad 0)), (1, .int v)] (by decide) (Nat.le_of_ble_eq_true rfl) rfl ?_
  intro γ el eg h hq
  subst el; subst eg
  refine z_aload_n 0 h dX11_isSeed_0 rfl rfl rfl ?_
  refine z_callVP h (m_isWar hm hw hi) kX11 (.inl (hm.at 0 (by decide))) (lw_V q2091 q2093 qs84 q148 q2094) nX11_isWar rfl rfl rfl (Nat.le_of_ble_eq_true rfl) (Nat.le_of_ble_eq_true rfl) (Nat.le_of_ble_eq_true rfl) dX11_isSeed_1 ?_
  refine z_ifz_eq 23 h dX11_isSeed_4 (by decide) (fun c_4 => ?_) (fun c_4 => ?_)
  · have _z := c_4
    refine z_iconst h dX11_isSeed_23 ki_0 ?_
    refine z_zret h hq rfl dX11_isSeed_24 (Nat.le_of_ble_eq_true rfl) (Nat.le_of_ble_eq_true rfl) ?_
    first | (refine ⟨zb1 ?_, rfl⟩; simp [seedB, *]; done) | (refine ⟨zb0 ?_, rfl⟩; simp [seedB, *]; done) | (refine ⟨zb1 ?_, rfl⟩; simp [seedB, *]; omega) | (refine ⟨zb0 ?_, rfl⟩; simp [seedB, *]; omega)
  · have _z := c_4
    refine z_iload_n 1 h dX11_isSeed_7 rfl rfl ?_
    refine z_i2l h dX11_isSeed_8 ?_
    refine z_lconst h dX11_isSeed_9 kl_0 ?_
    refine z_ldc2 h q2545 dX11_isSeed_10 ?_
    refine z_callSP h (m_inI v 0 2000000000 0 2000000000 rfl rfl) (lw_S q1950 q1951 q148 q1952) nX11_in rfl rfl rfl (Nat.le_of_ble_eq_true rfl) (Nat.le_of_ble_eq_true rfl) (Nat.le_of_ble_eq_true rfl) dX11_isSeed_13 ?_
    refine z_ifz_eq 23 h dX11_isSeed_16 (by decide) (fun c_16 => ?_) (fun c_16 => ?_)
    · have _z := c_16
      refine z_iconst h dX11_isSeed_23 ki_0 ?_
      refine z_zret h hq rfl dX11_isSeed_24 (Nat.le_of_ble_eq_true rfl) (Nat.le_of_ble_eq_true rfl) ?_
      first | (refine ⟨zb1 ?_, rfl⟩; simp [seedB, *]; done) | (refine ⟨zb0 ?_, rfl⟩; simp [seedB, *]; done) | (refine ⟨zb1 ?_, rfl⟩; simp [seedB, *]; omega) | (refine ⟨zb0 ?_, rfl⟩; simp [seedB, *]; omega)
    · have _z := c_16
      refine z_iconst h dX11_isSeed_19 ki_1 ?_
      refine z_goto 24 h dX11_isSeed_20 (by decide) ?_
      refine z_zret h hq rfl dX11_isSeed_24 (Nat.le_of_ble_eq_true rfl) (Nat.le_of_ble_eq_true rfl) ?_
      first | (refine ⟨zb1 ?_, rfl⟩; simp [seedB, *]; done) | (refine ⟨zb0 ?_, rfl⟩; simp [seedB, *]; done) | (refine ⟨zb1 ?_, rfl⟩; simp [seedB, *]; omega) | (refine ⟨zb0 ?_, rfl⟩; simp [seedB, *]; omega)
set_option maxHeartbeats 4000000 in
theorem m_drawn {l : Launch} {g : Zg} {ad : Nat → Nat} {M : Zm} {st : Ms} {W : Nat → Nat} (hm : Mod g ad M st) (hw : WR st W) (hi : InvW W) (v wv : Int32) : Cn l g yX11_drawn cX11_drawn 4 (some .int) 7 0 0 [.ref (ad 0), .int v, .int wv] M (PM g ad st (some (.int (aDrawn W v wv))) (fun _ => True)) := by
  refine Cn.start [(0, .ref (ad 0)), (1, .int v), (2, .int wv)] (by decide) (Nat.le_of_ble_eq_true rfl) rfl ?_
  intro γ el eg h hq
  subst el; subst eg
  have h4 := hi.h4
  have h0 := hi.h0
  have hw0 := hw
  have hk : keep st st := keep.rf st
  refine z_aload_n 0 h dX11_drawn_0 rfl rfl rfl ?_
  refine z_iload_n 1 h dX11_drawn_1 rfl rfl ?_
  refine z_callVP h (m_isSeed hm hw hi v) kX11 (.inl (hm.at 0 (by decide))) (lw_V q2541 q2543 qs131 q148 q2544) nX11_isSeed rfl rfl rfl (Nat.le_of_ble_eq_true rfl) (Nat.le_of_ble_eq_true rfl) (Nat.le_of_ble_eq_true rfl) dX11_drawn_2 ?_
  refine z_ifz_eq 20 h dX11_drawn_5 (by decide) (fun c_5 => ?_) (fun c_5 => ?_)
  · have _z := c_5
    refine z_bipush h dX11_drawn_20 kb_m2 ?_
    refine z_iret h hq dX11_drawn_22 (Nat.le_of_ble_eq_true rfl) (Nat.le_of_ble_eq_true rfl) ?_
    refine ⟨vS ?_, _, hm, hk, trivial⟩
    first | (simp [aDrawn, c_5]; done) | (simp [aDrawn, c_17]; done)
  · have _z := c_5
    obtain ⟨sd, h_sd, rfl⟩ := seed_nat c_5
    refine z_iload_n 2 h dX11_drawn_8 rfl rfl ?_
    refine z_i2l h dX11_drawn_9 ?_
    refine z_lconst h dX11_drawn_10 kl_0 ?_
    refine z_ldc2 h q1949 dX11_drawn_11 ?_
    refine z_callSP h (m_inI wv 0 2 0 2 rfl rfl) (lw_S q1950 q1951 q148 q1952) nX11_in rfl rfl rfl (Nat.le_of_ble_eq_true rfl) (Nat.le_of_ble_eq_true rfl) (Nat.le_of_ble_eq_true rfl) dX11_drawn_14 ?_
    refine z_ifz_ne 23 h dX11_drawn_17 (by decide) (fun c_17 => ?_) (fun c_17 => ?_)
    · have _z := c_17
      refine z_aload_n 0 h dX11_drawn_23 rfl rfl rfl ?_
      refine z_iload_n 1 h dX11_drawn_24 rfl rfl ?_
      refine z_i2l h dX11_drawn_25 ?_
      refine Z.st (show _ = _ by rw [nI_l (show sd < 2 ^ 31 by omega)]) ?_
      refine z_callVP h (m_drawnDelays hm hw hi sd (by omega)) kX11 (.inl (hm.at 0 (by decide))) (lw_V q2546 q2548 qs132 q148 q2549) nX11_drawnDelays rfl rfl rfl (Nat.le_of_ble_eq_true rfl) (Nat.le_of_ble_eq_true rfl) (Nat.le_of_ble_eq_true rfl) dX11_drawn_26 ?_
      refine z_istore_n 3 h dX11_drawn_29 rfl rfl ?_
      refine z_iload_n 2 h dX11_drawn_30 rfl rfl ?_
      refine z_if_ne 36 h dX11_drawn_31 (by decide) (fun c_31 => ?_) (fun c_31 => ?_)
      · have _z := c_31
        refine z_iload_n 3 h dX11_drawn_36 rfl rfl ?_
        refine z_iconst h dX11_drawn_37 ki_m1 ?_
        refine z_icmp_ne 52 h dX11_drawn_38 (by decide) (fun c_38 => ?_) (fun c_38 => ?_)
        · have _z := c_38
          obtain ⟨b, hb⟩ := oZ_some c_38
          rw [show oZ (dwO W sd) = nI b by rw [hb]; rfl]
          refine z_iload_n 2 h dX11_drawn_52 rfl rfl ?_
          refine z_iconst h dX11_drawn_53 ki_1 ?_
          refine z_icmp_ne 65 h dX11_drawn_54 (by decide) (fun c_54 => ?_) (fun c_54 => ?_)
          · have _z := c_54
            refine z_aload_n 0 h dX11_drawn_65 rfl rfl rfl ?_
            refine z_iload_n 3 h dX11_drawn_66 rfl rfl ?_
            refine z_callV h (m_lastFront hm hw hi b (by have := dwO_b hi hb; omega)) kX11 (.inl (hm.at 0 (by decide))) (lw_V q2167 q2169 qs93 q148 q2170) nX11_lastFront rfl rfl rfl (Nat.le_of_ble_eq_true rfl) (Nat.le_of_ble_eq_true rfl) (Nat.le_of_ble_eq_true rfl) dX11_drawn_67 (fun v M hv => ?_)
            obtain ⟨rfl, s1, hm, hkf, hX⟩ := hv
            replace hk := hk.tr hkf.k
            have hw := hk.w hw0
            refine z_iret h hq dX11_drawn_70 (Nat.le_of_ble_eq_true rfl) (Nat.le_of_ble_eq_true rfl) ?_
            refine ⟨vS ?_, _, hm, hk, trivial⟩
            rw [aDrawn, if_pos (by rw [c_5, c_17]; rfl), tn_nI (show sd < 2 ^ 31 by omega)]
            rw [if_neg c_31, hb]
            first | exact (if_pos c_54).symm | exact (if_neg c_54).symm
          · have _z := c_54
            refine z_aload_n 0 h dX11_drawn_57 rfl rfl rfl ?_
            refine z_iload_n 3 h dX11_drawn_58 rfl rfl ?_
            refine z_callV h (m_winner hm hw hi b (by have := dwO_b hi hb; omega)) kX11 (.inl (hm.at 0 (by decide))) (lw_V q2163 q2165 qs92 q148 q2166) nX11_winner rfl rfl rfl (Nat.le_of_ble_eq_true rfl) (Nat.le_of_ble_eq_true rfl) (Nat.le_of_ble_eq_true rfl) dX11_drawn_59 (fun v M hv => ?_)
            obtain ⟨rfl, s1, hm, hkf, hX⟩ := hv
            replace hk := hk.tr hkf.k
            have hw := hk.w hw0
            refine z_goto 70 h dX11_drawn_62 (by decide) ?_
            refine z_iret h hq dX11_drawn_70 (Nat.le_of_ble_eq_true rfl) (Nat.le_of_ble_eq_true rfl) ?_
            refine ⟨vS ?_, _, hm, hk, trivial⟩
            rw [aDrawn, if_pos (by rw [c_5, c_17]; rfl), tn_nI (show sd < 2 ^ 31 by omega)]
            rw [if_neg c_31, hb]
            first | exact (if_pos c_54).symm | exact (if_neg c_54).symm
        · have _z := c_38
          have hb := oZ_none (fun b hb => (by have := dwO_b hi hb; omega)) c_38
          refine z_iload_n 2 h dX11_drawn_41 rfl rfl ?_
          refine z_iconst h dX11_drawn_42 ki_1 ?_
          refine z_icmp_ne 50 h dX11_drawn_43 (by decide) (fun c_43 => ?_) (fun c_43 => ?_)
          · have _z := c_43
            refine z_iconst h dX11_drawn_50 ki_0 ?_
            refine z_iret h hq dX11_drawn_51 (Nat.le_of_ble_eq_true rfl) (Nat.le_of_ble_eq_true rfl) ?_
            refine ⟨vS ?_, _, hm, hk, trivial⟩
            rw [aDrawn, if_pos (by rw [c_5, c_17]; rfl), tn_nI (show sd < 2 ^ 31 by omega)]
            rw [if_neg c_31, hb]
            first | exact (if_pos c_43).symm | exact (if_neg c_43).symm
          · have _z := c_43
            refine z_iconst h dX11_drawn_46 ki_m1 ?_
            refine z_goto 51 h dX11_drawn_47 (by decide) ?_
            refine z_iret h hq dX11_drawn_51 (Nat.le_of_ble_eq_true rfl) (Nat.le_of_ble_eq_true rfl) ?_
            refine ⟨vS ?_, _, hm, hk, trivial⟩
            rw [aDrawn, if_pos (by rw [c_5, c_17]; rfl), tn_nI (show sd < 2 ^ 31 by omega)]
            rw [if_neg c_31, hb]
            first | exact (if_pos c_43).symm | exact (if_neg c_43).symm
      · have _z := c_31
        refine z_iload_n 3 h dX11_drawn_34 rfl rfl ?_
        refine z_iret h hq dX11_drawn_35 (Nat.le_of_ble_eq_true rfl) (Nat.le_of_ble_eq_true rfl) ?_
        refine ⟨vS ?_, _, hm, hk, trivial⟩
        rw [aDrawn, if_pos (by rw [c_5, c_17]; rfl), tn_nI (show sd < 2 ^ 31 by omega)]
        rw [if_pos c_31]
    · have _z := c_17
      refine z_bipush h dX11_drawn_20 kb_m2 ?_
      refine z_iret h hq dX11_drawn_22 (Nat.le_of_ble_eq_true rfl) (Nat.le_of_ble_eq_true rfl) ?_
      refine ⟨vS ?_, _, hm, hk, trivial⟩
      first | (simp [aDrawn, c_5]; done) | (simp [aDrawn, c_17]; done)
set_option maxHeartbeats 4000000 in
theorem m_luck {l : Launch} {g : Zg} {ad : Nat → Nat} {M : Zm} {st : Ms} {W : Nat → Nat} (hm : Mod g ad M st) (hw : WR st W) (hi : InvW W) (v nv sv : Int32) : Cn l g yX11_luck cX11_luck 7 (some .int) 7 0 0 [.ref (ad 0), .int v, .int nv, .int sv] M (PM g ad st (some (.int (aLuck W v nv sv))) (fun _ => True)) := by
  refine Cn.start [(0, .ref (ad 0)), (1, .int v), (2, .int nv), (3, .int sv)] (by decide) (Nat.le_of_ble_eq_true rfl) rfl ?_
  intro γ el eg h hq
  subst el; subst eg
  have h4 := hi.h4
  have h0 := hi.h0
  have hw0 := hw
  have hk : keep st st := keep.rf st
  refine z_aload_n 0 h dX11_luck_0 rfl rfl rfl ?_
  refine z_iload_n 1 h dX11_luck_1 rfl rfl ?_
  refine z_callVP h (m_isSeed hm hw hi v) kX11 (.inl (hm.at 0 (by decide))) (lw_V q2541 q2543 qs131 q148 q2544) nX11_isSeed rfl rfl rfl (Nat.le_of_ble_eq_true rfl) (Nat.le_of_ble_eq_true rfl) (Nat.le_of_ble_eq_true rfl) dX11_luck_2 ?_
  refine z_ifz_eq 28 h dX11_luck_5 (by decide) (fun c_5 => ?_) (fun c_5 => ?_)
  · have _z := c_5
    refine z_bipush h dX11_luck_28 kb_m2 ?_
    refine z_iret h hq dX11_luck_30 (Nat.le_of_ble_eq_true rfl) (Nat.le_of_ble_eq_true rfl) ?_
    refine ⟨vS ?_, _, hm, hk, trivial⟩
    first | (simp [aLuck, c_5]; done) | (simp [aLuck, c_17]; done) | (simp [aLuck, c_25]; done)
  · have _z := c_5
    obtain ⟨sd, h_sd, rfl⟩ := seed_nat c_5
    refine z_iload_n 2 h dX11_luck_8 rfl rfl ?_
    refine z_i2l h dX11_luck_9 ?_
    refine z_lconst h dX11_luck_10 kl_1 ?_
    refine z_ldc2 h q2558 dX11_luck_11 ?_
    refine z_callSP h (m_inI nv 1 20 1 20 rfl rfl) (lw_S q1950 q1951 q148 q1952) nX11_in rfl rfl rfl (Nat.le_of_ble_eq_true rfl) (Nat.le_of_ble_eq_true rfl) (Nat.le_of_ble_eq_true rfl) dX11_luck_14 ?_
    refine z_ifz_eq 28 h dX11_luck_17 (by decide) (fun c_17 => ?_) (fun c_17 => ?_)
    · have _z := c_17
      refine z_bipush h dX11_luck_28 kb_m2 ?_
      refine z_iret h hq dX11_luck_30 (Nat.le_of_ble_eq_true rfl) (Nat.le_of_ble_eq_true rfl) ?_
      refine ⟨vS ?_, _, hm, hk, trivial⟩
      first | (simp [aLuck, c_5]; done) | (simp [aLuck, c_17]; done) | (simp [aLuck, c_25]; done)
    · have _z := c_17
      obtain ⟨n, h_n1, h_n, rfl⟩ := twenty_nat c_17
      refine z_aload_n 0 h dX11_luck_20 rfl rfl rfl ?_
      refine z_iload_n 3 h dX11_luck_21 rfl rfl ?_
      refine z_callVP h (m_isSide hm hw hi sv) kX11 (.inl (hm.at 0 (by decide))) (lw_V q2087 q2089 qs83 q148 q2090) nX11_isSide rfl rfl rfl (Nat.le_of_ble_eq_true rfl) (Nat.le_of_ble_eq_true rfl) (Nat.le_of_ble_eq_true rfl) dX11_luck_22 ?_
      refine z_ifz_ne 31 h dX11_luck_25 (by decide) (fun c_25 => ?_) (fun c_25 => ?_)
      · have _z := c_25
        obtain ⟨s, h_s, rfl⟩ := isSide_nat c_25
        refine z_iconst h dX11_luck_31 ki_0 ?_
        refine z_istore h dX11_luck_32 rfl ?_
        refine z_iconst h dX11_luck_34 ki_0 ?_
        refine z_istore h dX11_luck_35 rfl ?_
        have loop_37 : ∀ (fz : Nat) (M : Zm) (s1 : Ms) (k : Nat) (hm : Mod (cg γ) ad M s1) (hk : keep st s1) (hkn : k ≤ n), (n - k) < fz → Z γ M 0 0 37 (lof [(0, .ref (ad 0)), (1, .int (nI sd)), (2, .int (nI n)), (3, .int (nI s)), (4, .int (nI (luF W sd s k))), (5, .int (nI k))]) [] := by
          intro fz
          induction fz with
          | zero => intro M s1 k hm hk hkn hz; exact absurd hz (Nat.not_lt_zero _)
          | succ fz ih_37 =>
            intro M s1 k hm hk hkn hz_37
            have hw := hk.w hw0
            refine z_iload h dX11_luck_37 rfl ?_
            refine z_iload_n 2 h dX11_luck_39 rfl rfl ?_
            refine z_icmp_ge 87 h dX11_luck_40 (by decide) (fun c_40 => ?_) (fun c_40 => ?_)
            · have _z := c_40
              replace c_40 := (ile (a := n) (b := k) rfl rfl (by omega) (by omega)).mp c_40
              refine z_iload h dX11_luck_87 rfl ?_
              refine z_iret h hq dX11_luck_89 (Nat.le_of_ble_eq_true rfl) (Nat.le_of_ble_eq_true rfl) ?_
              obtain rfl : n = k := by omega
              refine ⟨vS ?_, _, hm, hk, trivial⟩
              rw [aLuck, if_pos (by rw [c_5, c_17, c_25]; rfl), tn_nI (show sd < 2 ^ 31 by omega), tn_nI (show n < 2 ^ 31 by omega), tn_nI (show s < 2 ^ 31 by omega)]
            · have _z := c_40
              replace c_40 := (not_congr (ile (a := n) (b := k) rfl rfl (by omega) (by omega))).mp c_40
              refine z_aload_n 0 h dX11_luck_43 rfl rfl rfl ?_
              refine z_iload_n 1 h dX11_luck_44 rfl rfl ?_
              refine z_i2l h dX11_luck_45 ?_
              refine z_iload h dX11_luck_46 rfl ?_
              refine z_i2l h dX11_luck_48 ?_
              refine z_ladd h dX11_luck_49 ?_
              refine Z.st (show _ = [.long (lN (sd + k)), .ref (ad 0)] by rw [nI_l (show sd < 2 ^ 31 by omega), nI_l (show k < 2 ^ 31 by omega), lN_add]) ?_
              refine z_callVP h (m_drawnDelays hm hw hi (sd + k) (by omega)) kX11 (.inl (hm.at 0 (by decide))) (lw_V q2546 q2548 qs132 q148 q2549) nX11_drawnDelays rfl rfl rfl (Nat.le_of_ble_eq_true rfl) (Nat.le_of_ble_eq_true rfl) (Nat.le_of_ble_eq_true rfl) dX11_luck_50 ?_
              refine z_istore h dX11_luck_53 rfl ?_
              refine z_iload h dX11_luck_55 rfl ?_
              refine z_iload h dX11_luck_57 rfl ?_
              refine z_iconst h dX11_luck_59 ki_m1 ?_
              refine z_icmp_eq 77 h dX11_luck_60 (by decide) (fun c_60 => ?_) (fun c_60 => ?_)
              · have _z := c_60
                have hb := oZ_none (fun b hb => (by have := dwO_b hi hb; omega)) c_60
                refine z_iconst h dX11_luck_77 ki_0 ?_
                refine z_iadd h dX11_luck_78 ?_
                refine z_istore h dX11_luck_79 rfl ?_
                refine z_iinc h dX11_luck_81 rfl rfl ki_1 ?_
                refine z_goto 37 h dX11_luck_84 (by decide) ?_
                refine Z.loc [(0, .ref (ad 0)), (1, .int (nI sd)), (2, .int (nI n)), (3, .int (nI s)), (4, .int (nI (luF W sd s (k + 1)))), (5, .int (nI (k + 1)))] (ll1 rfl (ll1 rfl (ll1 rfl (ll1 rfl (ll1 (vS (by first | (rw [lu_some hb, if_pos c_70]; exact nI_1 _) | (rw [lu_some hb, if_neg c_70]; exact ixa rfl rfl) | (rw [lu_none hb]; exact ixa (b := 0) rfl rfl))) (ll1 (vS (nI_1 k)) ll0)))))) ?_
                exact ih_37 _ _ (k + 1) hm hk (by omega) (by omega)
              · have _z := c_60
                obtain ⟨b, hb⟩ := oZ_some c_60
                rw [show oZ (dwO W (sd + k)) = nI b by rw [hb]; rfl]
                refine z_aload_n 0 h dX11_luck_63 rfl rfl rfl ?_
                refine z_iload h dX11_luck_64 rfl ?_
                refine z_callV h (m_winner hm hw hi b (by have := dwO_b hi hb; omega)) kX11 (.inl (hm.at 0 (by decide))) (lw_V q2163 q2165 qs92 q148 q2166) nX11_winner rfl rfl rfl (Nat.le_of_ble_eq_true rfl) (Nat.le_of_ble_eq_true rfl) (Nat.le_of_ble_eq_true rfl) dX11_luck_66 (fun v M hv => ?_)
                obtain ⟨rfl, s1, hm, hkf, hX⟩ := hv
                replace hk := hk.tr hkf.k
                have hw := hk.w hw0
                refine z_iload_n 3 h dX11_luck_69 rfl rfl ?_
                refine z_icmp_ne 77 h dX11_luck_70 (by decide) (fun c_70 => ?_) (fun c_70 => ?_)
                · have _z := c_70
                  replace c_70 := (not_congr (zeq (a := winZ W b) (b := ((s : Nat) : Int)) rfl (nz rfl) (by have := wz_b W b; omega) (by omega))).mp c_70
                  refine z_iconst h dX11_luck_77 ki_0 ?_
                  refine z_iadd h dX11_luck_78 ?_
                  refine z_istore h dX11_luck_79 rfl ?_
                  refine z_iinc h dX11_luck_81 rfl rfl ki_1 ?_
                  refine z_goto 37 h dX11_luck_84 (by decide) ?_
                  refine Z.loc [(0, .ref (ad 0)), (1, .int (nI sd)), (2, .int (nI n)), (3, .int (nI s)), (4, .int (nI (luF W sd s (k + 1)))), (5, .int (nI (k + 1)))] (ll1 rfl (ll1 rfl (ll1 rfl (ll1 rfl (ll1 (vS (by first | (rw [lu_some hb, if_pos c_70]; exact nI_1 _) | (rw [lu_some hb, if_neg c_70]; exact ixa rfl rfl) | (rw [lu_none hb]; exact ixa (b := 0) rfl rfl))) (ll1 (vS (nI_1 k)) ll0)))))) ?_
                  exact ih_37 _ _ (k + 1) hm hk (by omega) (by omega)
                · have _z := c_70
                  replace c_70 := (zeq (a := winZ W b) (b := ((s : Nat) : Int)) rfl (nz rfl) (by have := wz_b W b; omega) (by omega)).mp c_70
                  refine z_iconst h dX11_luck_73 ki_1 ?_
                  refine z_goto 78 h dX11_luck_74 (by decide) ?_
                  refine z_iadd h dX11_luck_78 ?_
                  refine z_istore h dX11_luck_79 rfl ?_
                  refine z_iinc h dX11_luck_81 rfl rfl ki_1 ?_
                  refine z_goto 37 h dX11_luck_84 (by decide) ?_
                  refine Z.loc [(0, .ref (ad 0)), (1, .int (nI sd)), (2, .int (nI n)), (3, .int (nI s)), (4, .int (nI (luF W sd s (k + 1)))), (5, .int (nI (k + 1)))] (ll1 rfl (ll1 rfl (ll1 rfl (ll1 rfl (ll1 (vS (by first | (rw [lu_some hb, if_pos c_70]; exact nI_1 _) | (rw [lu_some hb, if_neg c_70]; exact ixa rfl rfl) | (rw [lu_none hb]; exact ixa (b := 0) rfl rfl))) (ll1 (vS (nI_1 k)) ll0)))))) ?_
                  exact ih_37 _ _ (k + 1) hm hk (by omega) (by omega)
        refine Z.loc [(0, .ref (ad 0)), (1, .int (nI sd)), (2, .int (nI n)), (3, .int (nI s)), (4, .int (nI (luF W sd s 0))), (5, .int (nI 0))] (ll1 rfl (ll1 rfl (ll1 rfl (ll1 rfl (ll1 rfl (ll1 rfl ll0)))))) ?_
        exact loop_37 _ _ _ 0 hm hk (Nat.zero_le _) (Nat.lt_succ_self _)
      · have _z := c_25
        refine z_bipush h dX11_luck_28 kb_m2 ?_
        refine z_iret h hq dX11_luck_30 (Nat.le_of_ble_eq_true rfl) (Nat.le_of_ble_eq_true rfl) ?_
        refine ⟨vS ?_, _, hm, hk, trivial⟩
        first | (simp [aLuck, c_5]; done) | (simp [aLuck, c_17]; done) | (simp [aLuck, c_25]; done)
