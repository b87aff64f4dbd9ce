/-! the reference: what is told -/
set_option maxRecDepth 100000
def aTrain (W : Nat → Nat) (t w : Int32) : Int32 := if (isTrainB W t && inI w 0 5) = true then nI (W (13 + 6 * tn t + tn w)) else -2
def aNeed (W : Nat → Nat) (s : Int32) : Int32 := if isSideB W s = true then nI (W (11 + tn s)) else -2
def aTea (W : Nat → Nat) (v : Int32) : Int32 := if (isWarB W && inI v 0 ((W 0 : Int) - 1)) = true then z2i (teaB W (tn v) (W 5)) else -2
def aCannon (W : Nat → Nat) (a w : Int32) : Int32 := if (inI a 0 ((W 6 : Int) - 1) && inI w 0 3) = true then nI (W (75 + 4 * tn a + tn w)) else -2
def aRule (W : Nat → Nat) (a w : Int32) : Int32 := if (inI a 0 ((W 7 : Int) - 1) && inI w 0 1) = true then nI (W (107 + 2 * tn a + tn w)) else -2
def aSpy (W : Nat → Nat) (a : Int32) : Int32 := if inI a 0 ((W 8 : Int) - 1) = true then nI (W (115 + tn a)) else -2
theorem five_nat {v : Int32} (h : inI v 0 5 = true) : ∃ n : Nat, n ≤ 5 ∧ v = nI n := by
  obtain ⟨n, h1, h2, h3⟩ := inI_nat h
  exact ⟨n, by omega, h3⟩
theorem z2i_f : z2i false = 0 := rfl
theorem z2i_t : z2i true = 1 := rfl
set_option maxHeartbeats 4000000 in
theorem m_train {l : Launch} {g : Zg} {ad : Nat → Nat} {M : Zm} {st : Ms} {W : Nat → Nat} (hm : Mod g ad M st) (hw : WR st W) (hi : InvW W) (tv wv : Int32) : Cn l g yX11_train cX11_train 3 (some .int) 3 0 0 [.ref (ad 0), .int tv, .int wv] M (PV (.int (aTrain W tv wv)) M) := by
  refine Cn.start [(0, .ref (ad 0)), (1, .int tv), (2, .int wv)] (by decide) (Nat.le_of_ble_eq_true rfl) rfl ?_
  intro γ el eg h hq
  subst el; subst eg
  have h4 := hi.h4
  refine z_aload_n 0 h dX11_train_0 rfl rfl rfl ?_
  refine z_iload_n 1 h dX11_train_1 rfl rfl ?_
  refine z_callVP h (m_isTrain hm hw hi tv) kX11 (.inl (hm.at 0 (by decide))) (lw_V q2074 q2076 qs81 q148 q2077) nX11_isTrain rfl rfl rfl (Nat.le_of_ble_eq_true rfl) (Nat.le_of_ble_eq_true rfl) (Nat.le_of_ble_eq_true rfl) dX11_train_2 ?_
  refine z_ifz_eq 29 h dX11_train_5 (by decide) (fun c_5 => ?_) (fun c_5 => ?_)
  · have _z := c_5
    refine z_bipush h dX11_train_29 kb_m2 ?_
    refine z_iret h hq dX11_train_31 (Nat.le_of_ble_eq_true rfl) (Nat.le_of_ble_eq_true rfl) ?_
    refine ⟨vS ?_, rfl⟩
    first | (simp [aTrain, c_5]; done) | (simp [aTrain, c_17]; done) | (simp [aTrain, c_5, c_17, tn_nI (show t < 2 ^ 31 by omega), tn_nI (show w < 2 ^ 31 by omega)]; done)
  · have _z := c_5
    obtain ⟨t, h_t, ht, rfl⟩ := train_nat c_5
    refine z_iload_n 2 h dX11_train_8 rfl rfl ?_
    refine z_i2l h dX11_train_9 ?_
    refine z_lconst h dX11_train_10 kl_0 ?_
    refine z_ldc2 h q2078 dX11_train_11 ?_
    refine z_callSP h (m_inI wv 0 5 0 5 rfl rfl) (lw_S q1950 q1951 q148 q1952) nX11_in rfl rfl rfl (Nat.le_of_ble_eq_true rfl) (Nat.le_of_ble_eq_true rfl) (Nat.le_of_ble_eq_true rfl) dX11_train_14 ?_
    refine z_ifz_eq 29 h dX11_train_17 (by decide) (fun c_17 => ?_) (fun c_17 => ?_)
    · have _z := c_17
      refine z_bipush h dX11_train_29 kb_m2 ?_
      refine z_iret h hq dX11_train_31 (Nat.le_of_ble_eq_true rfl) (Nat.le_of_ble_eq_true rfl) ?_
      refine ⟨vS ?_, rfl⟩
      first | (simp [aTrain, c_5]; done) | (simp [aTrain, c_17]; done) | (simp [aTrain, c_5, c_17, tn_nI (show t < 2 ^ 31 by omega), tn_nI (show w < 2 ^ 31 by omega)]; done)
    · have _z := c_17
      obtain ⟨w, h_w, rfl⟩ := five_nat c_17
      refine z_aload_n 0 h dX11_train_20 rfl rfl rfl ?_
      refine z_iload_n 1 h dX11_train_21 rfl rfl ?_
      refine z_iload_n 2 h dX11_train_22 rfl rfl ?_
      refine z_callVP h (m_of hm hw hi t w (by omega)) kX11 (.inl (hm.at 0 (by decide))) (lw_V q2079 q2081 qs82 q148 q2082) nX11_of rfl rfl rfl (Nat.le_of_ble_eq_true rfl) (Nat.le_of_ble_eq_true rfl) (Nat.le_of_ble_eq_true rfl) dX11_train_23 ?_
      refine z_goto 31 h dX11_train_26 (by decide) ?_
      refine z_iret h hq dX11_train_31 (Nat.le_of_ble_eq_true rfl) (Nat.le_of_ble_eq_true rfl) ?_
      refine ⟨vS ?_, rfl⟩
      first | (simp [aTrain, c_5]; done) | (simp [aTrain, c_17]; done) | (simp [aTrain, c_5, c_17, tn_nI (show t < 2 ^ 31 by omega), tn_nI (show w < 2 ^ 31 by omega)]; done)
set_option maxHeartbeats 4000000 in
theorem m_need {l : Launch} {g : Zg} {ad : Nat → Nat} {M : Zm} {st : Ms} {W : Nat → Nat} (hm : Mod g ad M st) (hw : WR st W) (hi : InvW W) (sv : Int32) : Cn l g yX11_need cX11_need 2 (some .int) 3 0 0 [.ref (ad 0), .int sv] M (PV (.int (aNeed W sv)) M) := by
  refine Cn.start [(0, .ref (ad 0)), (1, .int sv)] (by decide) (Nat.le_of_ble_eq_true rfl) rfl ?_
  intro γ el eg h hq
  subst el; subst eg
  refine z_aload_n 0 h dX11_need_0 rfl rfl rfl ?_
  refine z_iload_n 1 h dX11_need_1 rfl rfl ?_
  refine z_callVP h (m_isSide hm hw hi sv) kX11 (.inl (hm.at 0 (by decide))) (lw_V q2087 q2089 qs83 q148 q2090) nX11_isSide rfl rfl rfl (Nat.le_of_ble_eq_true rfl) (Nat.le_of_ble_eq_true rfl) (Nat.le_of_ble_eq_true rfl) dX11_need_2 ?_
  refine z_ifz_eq 20 h dX11_need_5 (by decide) (fun c_5 => ?_) (fun c_5 => ?_)
  · have _z := c_5
    refine z_bipush h dX11_need_20 kb_m2 ?_
    refine z_iret h hq dX11_need_22 (Nat.le_of_ble_eq_true rfl) (Nat.le_of_ble_eq_true rfl) ?_
    refine ⟨vS ?_, rfl⟩
    first | (simp [aNeed, c_5]; done) | (simp [aNeed, c_5, tn_nI (show s < 2 ^ 31 by omega)]; done)
  · have _z := c_5
    obtain ⟨s, h_s, rfl⟩ := isSide_nat c_5
    refine z_aload_n 0 h dX11_need_8 rfl rfl rfl ?_
    refine z_get h kX11 (.inl (hm.at 0 (by decide))) 1 rfl q1848 rfl dX11_need_9 ?_
    refine z_bipush h dX11_need_12 kb_11 ?_
    refine z_iload_n 1 h dX11_need_14 rfl rfl ?_
    refine z_iadd h dX11_need_15 ?_
    refine zm_w (11 + s) h hm hw (ixa rfl rfl) (by omega) dX11_need_16 ?_
    refine z_goto 22 h dX11_need_17 (by decide) ?_
    refine z_iret h hq dX11_need_22 (Nat.le_of_ble_eq_true rfl) (Nat.le_of_ble_eq_true rfl) ?_
    refine ⟨vS ?_, rfl⟩
    first | (simp [aNeed, c_5]; done) | (simp [aNeed, c_5, tn_nI (show s < 2 ^ 31 by omega)]; done)
set_option maxHeartbeats 4000000 in
theorem m_tea {l : Launch} {g : Zg} {ad : Nat → Nat} {M : Zm} {st : Ms} {W : Nat → Nat} (hm : Mod g ad M st) (hw : WR st W) (hi : InvW W) (v : Int32) : Cn l g yX11_tea cX11_tea 2 (some .int) 3 0 0 [.ref (ad 0), .int v] M (PV (.int (aTea W v)) M) := by
  refine Cn.start [(0, .ref (ad 0)), (1, .int v)] (by decide) (Nat.le_of_ble_eq_true rfl) rfl ?_
  intro γ el eg h hq
  subst el; subst eg
  have h0 := hi.h0
  refine z_aload_n 0 h dX11_tea_0 rfl rfl rfl ?_
  refine z_callVP h (m_isWar hm hw hi) kX11 (.inl (hm.at 0 (by decide))) (lw_V q2091 q2093 qs84 q148 q2094) nX11_isWar rfl rfl rfl (Nat.le_of_ble_eq_true rfl) (Nat.le_of_ble_eq_true rfl) (Nat.le_of_ble_eq_true rfl) dX11_tea_1 ?_
  refine z_ifz_eq 41 h dX11_tea_4 (by decide) (fun c_4 => ?_) (fun c_4 => ?_)
  · have _z := c_4
    refine z_bipush h dX11_tea_41 kb_m2 ?_
    refine z_iret h hq dX11_tea_43 (Nat.le_of_ble_eq_true rfl) (Nat.le_of_ble_eq_true rfl) ?_
    refine ⟨vS ?_, rfl⟩
    first | (simp [aTea, c_4]; done) | (simp [aTea, c_22]; done) | (simp [aTea, c_4, c_22, tn_nI (show m < 2 ^ 31 by omega), c_30, z2i_f, z2i_t]; done)
  · have _z := c_4
    refine z_iload_n 1 h dX11_tea_7 rfl rfl ?_
    refine z_i2l h dX11_tea_8 ?_
    refine z_lconst h dX11_tea_9 kl_0 ?_
    refine z_aload_n 0 h dX11_tea_10 rfl rfl rfl ?_
    refine z_get h kX11 (.inl (hm.at 0 (by decide))) 1 rfl q1848 rfl dX11_tea_11 ?_
    refine z_iconst h dX11_tea_14 ki_0 ?_
    refine zm_w (0) h hm hw rfl (by omega) dX11_tea_15 ?_
    refine z_iconst h dX11_tea_16 ki_1 ?_
    refine z_isub h dX11_tea_17 ?_
    refine z_i2l h dX11_tea_18 ?_
    refine z_callSP h (m_inI v 0 _ 0 ((W 0 : Int) - 1) rfl (toIz (zsub (nz rfl) (nz (a := 1) rfl)) (by have := hi.lt 0 (by decide); omega))) (lw_S q1950 q1951 q148 q1952) nX11_in rfl rfl rfl (Nat.le_of_ble_eq_true rfl) (Nat.le_of_ble_eq_true rfl) (Nat.le_of_ble_eq_true rfl) dX11_tea_19 ?_
    refine z_ifz_eq 41 h dX11_tea_22 (by decide) (fun c_22 => ?_) (fun c_22 => ?_)
    · have _z := c_22
      refine z_bipush h dX11_tea_41 kb_m2 ?_
      refine z_iret h hq dX11_tea_43 (Nat.le_of_ble_eq_true rfl) (Nat.le_of_ble_eq_true rfl) ?_
      refine ⟨vS ?_, rfl⟩
      first | (simp [aTea, c_4]; done) | (simp [aTea, c_22]; done) | (simp [aTea, c_4, c_22, tn_nI (show m < 2 ^ 31 by omega), c_30, z2i_f, z2i_t]; done)
    · have _z := c_22
      obtain ⟨m, h_m, rfl⟩ := upto1_nat c_22
      refine z_aload_n 0 h dX11_tea_25 rfl rfl rfl ?_
      refine z_iload_n 1 h dX11_tea_26 rfl rfl ?_
      refine z_callVP h (m_isTea hm hw hi m (by omega)) kX11 (.inl (hm.at 0 (by decide))) (lw_V q2099 q2101 qs85 q148 q2102) nX11_isTea rfl rfl rfl (Nat.le_of_ble_eq_true rfl) (Nat.le_of_ble_eq_true rfl) (Nat.le_of_ble_eq_true rfl) dX11_tea_27 ?_
      refine z_ifz_eq 37 h dX11_tea_30 (by decide) (fun c_30 => ?_) (fun c_30 => ?_)
      · have _z := c_30
        refine z_iconst h dX11_tea_37 ki_0 ?_
        refine z_goto 43 h dX11_tea_38 (by decide) ?_
        refine z_iret h hq dX11_tea_43 (Nat.le_of_ble_eq_true rfl) (Nat.le_of_ble_eq_true rfl) ?_
        refine ⟨vS ?_, rfl⟩
        first | (simp [aTea, c_4]; done) | (simp [aTea, c_22]; done) | (simp [aTea, c_4, c_22, tn_nI (show m < 2 ^ 31 by omega), c_30, z2i_f, z2i_t]; done)
      · have _z := c_30
        refine z_iconst h dX11_tea_33 ki_1 ?_
        refine z_goto 43 h dX11_tea_34 (by decide) ?_
        refine z_iret h hq dX11_tea_43 (Nat.le_of_ble_eq_true rfl) (Nat.le_of_ble_eq_true rfl) ?_
        refine ⟨vS ?_, rfl⟩
        first | (simp [aTea, c_4]; done) | (simp [aTea, c_22]; done) | (simp [aTea, c_4, c_22, tn_nI (show m < 2 ^ 31 by omega), c_30, z2i_f, z2i_t]; done)
set_option maxHeartbeats 4000000 in
theorem m_cannon {l : Launch} {g : Zg} {ad : Nat → Nat} {M : Zm} {st : Ms} {W : Nat → Nat} (hm : Mod g ad M st) (hw : WR st W) (hi : InvW W) (av wv : Int32) : Cn l g yX11_cannon cX11_cannon 3 (some .int) 2 0 0 [.ref (ad 0), .int av, .int wv] M (PV (.int (aCannon W av wv)) M) := by
  refine Cn.start [(0, .ref (ad 0)), (1, .int av), (2, .int wv)] (by decide) (Nat.le_of_ble_eq_true rfl) rfl ?_
  intro γ el eg h hq
  subst el; subst eg
  have h6 := hi.h6
  refine z_iload_n 1 h dX11_cannon_0 rfl rfl ?_
  refine z_i2l h dX11_cannon_1 ?_
  refine z_lconst h dX11_cannon_2 kl_0 ?_
  refine z_aload_n 0 h dX11_cannon_3 rfl rfl rfl ?_
  refine z_get h kX11 (.inl (hm.at 0 (by decide))) 1 rfl q1848 rfl dX11_cannon_4 ?_
  refine z_bipush h dX11_cannon_7 kb_6 ?_
  refine zm_w (6) h hm hw rfl (by omega) dX11_cannon_9 ?_
  refine z_iconst h dX11_cannon_10 ki_1 ?_
  refine z_isub h dX11_cannon_11 ?_
  refine z_i2l h dX11_cannon_12 ?_
  refine z_callSP h (m_inI av 0 _ 0 ((W 6 : Int) - 1) rfl (toIz (zsub (nz rfl) (nz (a := 1) rfl)) (by have := hi.lt 6 (by decide); omega))) (lw_S q1950 q1951 q148 q1952) nX11_in rfl rfl rfl (Nat.le_of_ble_eq_true rfl) (Nat.le_of_ble_eq_true rfl) (Nat.le_of_ble_eq_true rfl) dX11_cannon_13 ?_
  refine z_ifz_eq 47 h dX11_cannon_16 (by decide) (fun c_16 => ?_) (fun c_16 => ?_)
  · have _z := c_16
    refine z_bipush h dX11_cannon_47 kb_m2 ?_
    refine z_iret h hq dX11_cannon_49 (Nat.le_of_ble_eq_true rfl) (Nat.le_of_ble_eq_true rfl) ?_
    refine ⟨vS ?_, rfl⟩
    first | (simp [aCannon, c_16]; done) | (simp [aCannon, c_28]; done) | (simp [aCannon, c_16, c_28, tn_nI (show a < 2 ^ 31 by omega), tn_nI (show w < 2 ^ 31 by omega)]; done)
  · have _z := c_16
    obtain ⟨a, h_a, rfl⟩ := upto1_nat c_16
    refine z_iload_n 2 h dX11_cannon_19 rfl rfl ?_
    refine z_i2l h dX11_cannon_20 ?_
    refine z_lconst h dX11_cannon_21 kl_0 ?_
    refine z_ldc2 h q2107 dX11_cannon_22 ?_
    refine z_callSP h (m_inI wv 0 3 0 3 rfl rfl) (lw_S q1950 q1951 q148 q1952) nX11_in rfl rfl rfl (Nat.le_of_ble_eq_true rfl) (Nat.le_of_ble_eq_true rfl) (Nat.le_of_ble_eq_true rfl) dX11_cannon_25 ?_
    refine z_ifz_eq 47 h dX11_cannon_28 (by decide) (fun c_28 => ?_) (fun c_28 => ?_)
    · have _z := c_28
      refine z_bipush h dX11_cannon_47 kb_m2 ?_
      refine z_iret h hq dX11_cannon_49 (Nat.le_of_ble_eq_true rfl) (Nat.le_of_ble_eq_true rfl) ?_
      refine ⟨vS ?_, rfl⟩
      first | (simp [aCannon, c_16]; done) | (simp [aCannon, c_28]; done) | (simp [aCannon, c_16, c_28, tn_nI (show a < 2 ^ 31 by omega), tn_nI (show w < 2 ^ 31 by omega)]; done)
    · have _z := c_28
      obtain ⟨w, h_w, rfl⟩ := three_nat c_28
      refine z_aload_n 0 h dX11_cannon_31 rfl rfl rfl ?_
      refine z_get h kX11 (.inl (hm.at 0 (by decide))) 1 rfl q1848 rfl dX11_cannon_32 ?_
      refine z_bipush h dX11_cannon_35 kb_75 ?_
      refine z_iconst h dX11_cannon_37 ki_4 ?_
      refine z_iload_n 1 h dX11_cannon_38 rfl rfl ?_
      refine z_imul h dX11_cannon_39 ?_
      refine z_iadd h dX11_cannon_40 ?_
      refine z_iload_n 2 h dX11_cannon_41 rfl rfl ?_
      refine z_iadd h dX11_cannon_42 ?_
      refine zm_w ((75 + (4 * a)) + w) h hm hw (ixa (ixa rfl (ixm rfl rfl)) rfl) (by omega) dX11_cannon_43 ?_
      refine z_goto 49 h dX11_cannon_44 (by decide) ?_
      refine z_iret h hq dX11_cannon_49 (Nat.le_of_ble_eq_true rfl) (Nat.le_of_ble_eq_true rfl) ?_
      refine ⟨vS ?_, rfl⟩
      first | (simp [aCannon, c_16]; done) | (simp [aCannon, c_28]; done) | (simp [aCannon, c_16, c_28, tn_nI (show a < 2 ^ 31 by omega), tn_nI (show w < 2 ^ 31 by omega)]; done)
set_option maxHeartbeats 4000000 in
theorem m_rule {l : Launch} {g : Zg} {ad : Nat → Nat} {M : Zm} {st : Ms} {W : Nat → Nat} (hm : Mod g ad M st) (hw : WR st W) (hi : InvW W) (av wv : Int32) : Cn l g yX11_rule cX11_rule 3 (some .int) 2 0 0 [.ref (ad 0), .int av, .int wv] M (PV (.int (aRule W av wv)) M) := by
  refine Cn.start [(0, .ref (ad 0)), (1, .int av), (2, .int wv)] (by decide) (Nat.le_of_ble_eq_true rfl) rfl ?_
  intro γ el eg h hq
  subst el; subst eg
  have h7 := hi.h7
  refine z_iload_n 1 h dX11_rule_0 rfl rfl ?_
  refine z_i2l h dX11_rule_1 ?_
  refine z_lconst h dX11_rule_2 kl_0 ?_
  refine z_aload_n 0 h dX11_rule_3 rfl rfl rfl ?_
  refine z_get h kX11 (.inl (hm.at 0 (by decide))) 1 rfl q1848 rfl dX11_rule_4 ?_
  refine z_bipush h dX11_rule_7 kb_7 ?_
  refine zm_w (7) h hm hw rfl (by omega) dX11_rule_9 ?_
  refine z_iconst h dX11_rule_10 ki_1 ?_
  refine z_isub h dX11_rule_11 ?_
  refine z_i2l h dX11_rule_12 ?_
  refine z_callSP h (m_inI av 0 _ 0 ((W 7 : Int) - 1) rfl (toIz (zsub (nz rfl) (nz (a := 1) rfl)) (by have := hi.lt 7 (by decide); omega))) (lw_S q1950 q1951 q148 q1952) nX11_in rfl rfl rfl (Nat.le_of_ble_eq_true rfl) (Nat.le_of_ble_eq_true rfl) (Nat.le_of_ble_eq_true rfl) dX11_rule_13 ?_
  refine z_ifz_eq 45 h dX11_rule_16 (by decide) (fun c_16 => ?_) (fun c_16 => ?_)
  · have _z := c_16
    refine z_bipush h dX11_rule_45 kb_m2 ?_
    refine z_iret h hq dX11_rule_47 (Nat.le_of_ble_eq_true rfl) (Nat.le_of_ble_eq_true rfl) ?_
    refine ⟨vS ?_, rfl⟩
    first | (simp [aRule, c_16]; done) | (simp [aRule, c_26]; done) | (simp [aRule, c_16, c_26, tn_nI (show a < 2 ^ 31 by omega), tn_nI (show w < 2 ^ 31 by omega)]; done)
  · have _z := c_16
    obtain ⟨a, h_a, rfl⟩ := upto1_nat c_16
    refine z_iload_n 2 h dX11_rule_19 rfl rfl ?_
    refine z_i2l h dX11_rule_20 ?_
    refine z_lconst h dX11_rule_21 kl_0 ?_
    refine z_lconst h dX11_rule_22 kl_1 ?_
    refine z_callSP h (m_inI wv 0 1 0 1 rfl rfl) (lw_S q1950 q1951 q148 q1952) nX11_in rfl rfl rfl (Nat.le_of_ble_eq_true rfl) (Nat.le_of_ble_eq_true rfl) (Nat.le_of_ble_eq_true rfl) dX11_rule_23 ?_
    refine z_ifz_eq 45 h dX11_rule_26 (by decide) (fun c_26 => ?_) (fun c_26 => ?_)
    · have _z := c_26
      refine z_bipush h dX11_rule_45 kb_m2 ?_
      refine z_iret h hq dX11_rule_47 (Nat.le_of_ble_eq_true rfl) (Nat.le_of_ble_eq_true rfl) ?_
      refine ⟨vS ?_, rfl⟩
      first | (simp [aRule, c_16]; done) | (simp [aRule, c_26]; done) | (simp [aRule, c_16, c_26, tn_nI (show a < 2 ^ 31 by omega), tn_nI (show w < 2 ^ 31 by omega)]; done)
    · have _z := c_26
      obtain ⟨w, h_w, rfl⟩ := onebit_nat c_26
      refine z_aload_n 0 h dX11_rule_29 rfl rfl rfl ?_
      refine z_get h kX11 (.inl (hm.at 0 (by decide))) 1 rfl q1848 rfl dX11_rule_30 ?_
      refine z_bipush h dX11_rule_33 kb_107 ?_
      refine z_iconst h dX11_rule_35 ki_2 ?_
      refine z_iload_n 1 h dX11_rule_36 rfl rfl ?_
      refine z_imul h dX11_rule_37 ?_
      refine z_iadd h dX11_rule_38 ?_
      refine z_iload_n 2 h dX11_rule_39 rfl rfl ?_
      refine z_iadd h dX11_rule_40 ?_
      refine zm_w ((107 + (2 * a)) + w) h hm hw (ixa (ixa rfl (ixm rfl rfl)) rfl) (by omega) dX11_rule_41 ?_
      refine z_goto 47 h dX11_rule_42 (by decide) ?_
      refine z_iret h hq dX11_rule_47 (Nat.le_of_ble_eq_true rfl) (Nat.le_of_ble_eq_true rfl) ?_
      refine ⟨vS ?_, rfl⟩
      first | (simp [aRule, c_16]; done) | (simp [aRule, c_26]; done) | (simp [aRule, c_16, c_26, tn_nI (show a < 2 ^ 31 by omega), tn_nI (show w < 2 ^ 31 by omega)]; done)
set_option maxHeartbeats 4000000 in
theorem m_spy {l : Launch} {g : Zg} {ad : Nat → Nat} {M : Zm} {st : Ms} {W : Nat → Nat} (hm : Mod g ad M st) (hw : WR st W) (hi : InvW W) (av : Int32) : Cn l g yX11_spy cX11_spy 2 (some .int) 2 0 0 [.ref (ad 0), .int av] M (PV (.int (aSpy W av)) M) := by
  refine Cn.start [(0, .ref (ad 0)), (1, .int av)] (by decide) (Nat.le_of_ble_eq_true rfl) rfl ?_
  intro γ el eg h hq
  subst el; subst eg
  have h8 := hi.h8
  refine z_iload_n 1 h dX11_spy_0 rfl rfl ?_
  refine z_i2l h dX11_spy_1 ?_
  refine z_lconst h dX11_spy_2 kl_0 ?_
  refine z_aload_n 0 h dX11_spy_3 rfl rfl rfl ?_
  refine z_get h kX11 (.inl (hm.at 0 (by decide))) 1 rfl q1848 rfl dX11_spy_4 ?_
  refine z_bipush h dX11_spy_7 kb_8 ?_
  refine zm_w (8) h hm hw rfl (by omega) dX11_spy_9 ?_
  refine z_iconst h dX11_spy_10 ki_1 ?_
  refine z_isub h dX11_spy_11 ?_
  refine z_i2l h dX11_spy_12 ?_
  refine z_callSP h (m_inI av 0 _ 0 ((W 8 : Int) - 1) rfl (toIz (zsub (nz rfl) (nz (a := 1) rfl)) (by have := hi.lt 8 (by decide); omega))) (lw_S q1950 q1951 q148 q1952) nX11_in rfl rfl rfl (Nat.le_of_ble_eq_true rfl) (Nat.le_of_ble_eq_true rfl) (Nat.le_of_ble_eq_true rfl) dX11_spy_13 ?_
  refine z_ifz_eq 31 h dX11_spy_16 (by decide) (fun c_16 => ?_) (fun c_16 => ?_)
  · have _z := c_16
    refine z_bipush h dX11_spy_31 kb_m2 ?_
    refine z_iret h hq dX11_spy_33 (Nat.le_of_ble_eq_true rfl) (Nat.le_of_ble_eq_true rfl) ?_
    refine ⟨vS ?_, rfl⟩
    first | (simp [aSpy, c_16]; done) | (simp [aSpy, c_16, tn_nI (show a < 2 ^ 31 by omega)]; done)
  · have _z := c_16
    obtain ⟨a, h_a, rfl⟩ := upto1_nat c_16
    refine z_aload_n 0 h dX11_spy_19 rfl rfl rfl ?_
    refine z_get h kX11 (.inl (hm.at 0 (by decide))) 1 rfl q1848 rfl dX11_spy_20 ?_
    refine z_bipush h dX11_spy_23 kb_115 ?_
    refine z_iload_n 1 h dX11_spy_25 rfl rfl ?_
    refine z_iadd h dX11_spy_26 ?_
    refine zm_w (115 + a) h hm hw (ixa rfl rfl) (by omega) dX11_spy_27 ?_
    refine z_goto 33 h dX11_spy_28 (by decide) ?_
    refine z_iret h hq dX11_spy_33 (Nat.le_of_ble_eq_true rfl) (Nat.le_of_ble_eq_true rfl) ?_
    refine ⟨vS ?_, rfl⟩
    first | (simp [aSpy, c_16]; done) | (simp [aSpy, c_16, tn_nI (show a < 2 ^ 31 by omega)]; done)
theorem sw_j {j : Nat} (h : j ≤ 12) : j = 0 ∨ j = 1 ∨ j = 2 ∨ j = 3 ∨ j = 4 ∨ j = 5 ∨ j = 6 ∨ j = 7 ∨ j = 8 ∨ j = 9 ∨ j = 10 ∨ j = 11 ∨ j = 12 := by omega
theorem sw_out {v : Int32} (h : inI v 0 12 = false) : v.toInt < 0 ∨ 12 < v.toInt := by
  have := of_decide_eq_false h
  omega
set_option maxHeartbeats 4000000 in
theorem m_count {l : Launch} {g : Zg} {ad : Nat → Nat} {M : Zm} {st : Ms} {W : Nat → Nat} (hm : Mod g ad M st) (hw : WR st W) (hi : InvW W) {tp : Nat} {Sl : Nat → Option (Nat × Nat)} (ht5 : st.1 5 = nI tp) (hSl : SlR st Sl) (v : Int32) : Cn l g yX11_count cX11_count 4 (some .int) 1 0 0 [.ref (ad 0), .int v] M (PV (.int (aCount W tp Sl v)) M) := by
  refine Cn.start [(0, .ref (ad 0)), (1, .int v)] (by decide) (Nat.le_of_ble_eq_true rfl) rfl ?_
  intro γ el eg h hq
  subst el; subst eg
  refine z_iconst h dX11_count_0 ki_0 ?_
  refine z_istore_n 2 h dX11_count_1 rfl rfl ?_
  refine z_iload_n 1 h dX11_count_2 rfl rfl ?_
  refine sw13 (v := v) (fun j hj e => ?_) (fun hout => ?_)
  · subst e
    have hin : inI (nI j) 0 12 = true := by rw [inI_nI (by omega)]; exact decide_eq_true (by omega)
    rcases sw_j hj with rfl | rfl | rfl | rfl | rfl | rfl | rfl | rfl | rfl | rfl | rfl | rfl | rfl
    · refine z_tableIn 68 h dX11_count_3 (off := 65) (by decide) (by decide) rfl (by decide) ?_
      refine z_aload_n 0 h dX11_count_68 rfl rfl rfl ?_
      refine z_get h kX11 (.inl (hm.at 0 (by decide))) 1 rfl q1848 rfl dX11_count_69 ?_
      refine z_iconst h dX11_count_72 ki_0 ?_
      refine zm_w (0) h hm hw rfl (by omega) dX11_count_73 ?_
      refine z_iret h hq dX11_count_74 (Nat.le_of_ble_eq_true rfl) (Nat.le_of_ble_eq_true rfl) ?_
      refine ⟨vS ?_, rfl⟩
      rw [aCount, if_pos hin]
      rfl
    · refine z_tableIn 75 h dX11_count_3 (off := 72) (by decide) (by decide) rfl (by decide) ?_
      refine z_aload_n 0 h dX11_count_75 rfl rfl rfl ?_
      refine z_get h kX11 (.inl (hm.at 0 (by decide))) 1 rfl q1848 rfl dX11_count_76 ?_
      refine z_iconst h dX11_count_79 ki_1 ?_
      refine zm_w (1) h hm hw rfl (by omega) dX11_count_80 ?_
      refine z_iret h hq dX11_count_81 (Nat.le_of_ble_eq_true rfl) (Nat.le_of_ble_eq_true rfl) ?_
      refine ⟨vS ?_, rfl⟩
      rw [aCount, if_pos hin]
      rfl
    · refine z_tableIn 82 h dX11_count_3 (off := 79) (by decide) (by decide) rfl (by decide) ?_
      refine z_aload_n 0 h dX11_count_82 rfl rfl rfl ?_
      refine z_get h kX11 (.inl (hm.at 0 (by decide))) 1 rfl q1848 rfl dX11_count_83 ?_
      refine z_iconst h dX11_count_86 ki_2 ?_
      refine zm_w (2) h hm hw rfl (by omega) dX11_count_87 ?_
      refine z_iret h hq dX11_count_88 (Nat.le_of_ble_eq_true rfl) (Nat.le_of_ble_eq_true rfl) ?_
      refine ⟨vS ?_, rfl⟩
      rw [aCount, if_pos hin]
      rfl
    · refine z_tableIn 89 h dX11_count_3 (off := 86) (by decide) (by decide) rfl (by decide) ?_
      refine z_aload_n 0 h dX11_count_89 rfl rfl rfl ?_
      refine z_get h kX11 (.inl (hm.at 0 (by decide))) 1 rfl q1848 rfl dX11_count_90 ?_
      refine z_iconst h dX11_count_93 ki_3 ?_
      refine zm_w (3) h hm hw rfl (by omega) dX11_count_94 ?_
      refine z_iret h hq dX11_count_95 (Nat.le_of_ble_eq_true rfl) (Nat.le_of_ble_eq_true rfl) ?_
      refine ⟨vS ?_, rfl⟩
      rw [aCount, if_pos hin]
      rfl
    · refine z_tableIn 96 h dX11_count_3 (off := 93) (by decide) (by decide) rfl (by decide) ?_
      refine z_aload_n 0 h dX11_count_96 rfl rfl rfl ?_
      refine z_get h kX11 (.inl (hm.at 0 (by decide))) 1 rfl q1848 rfl dX11_count_97 ?_
      refine z_iconst h dX11_count_100 ki_4 ?_
      refine zm_w (4) h hm hw rfl (by omega) dX11_count_101 ?_
      refine z_iret h hq dX11_count_102 (Nat.le_of_ble_eq_true rfl) (Nat.le_of_ble_eq_true rfl) ?_
      refine ⟨vS ?_, rfl⟩
      rw [aCount, if_pos hin]
      rfl
    · refine z_tableIn 103 h dX11_count_3 (off := 100) (by decide) (by decide) rfl (by decide) ?_
      refine z_aload_n 0 h dX11_count_103 rfl rfl rfl ?_
      refine z_get h kX11 (.inl (hm.at 0 (by decide))) 1 rfl q1848 rfl dX11_count_104 ?_
      refine z_iconst h dX11_count_107 ki_5 ?_
      refine zm_w (5) h hm hw rfl (by omega) dX11_count_108 ?_
      refine z_iret h hq dX11_count_109 (Nat.le_of_ble_eq_true rfl) (Nat.le_of_ble_eq_true rfl) ?_
      refine ⟨vS ?_, rfl⟩
      rw [aCount, if_pos hin]
      rfl
    · refine z_tableIn 110 h dX11_count_3 (off := 107) (by decide) (by decide) rfl (by decide) ?_
      refine z_aload_n 0 h dX11_count_110 rfl rfl rfl ?_
      refine z_get h kX11 (.inl (hm.at 0 (by decide))) 1 rfl q1848 rfl dX11_count_111 ?_
      refine z_bipush h dX11_count_114 kb_6 ?_
      refine zm_w (6) h hm hw rfl (by omega) dX11_count_116 ?_
      refine z_iret h hq dX11_count_117 (Nat.le_of_ble_eq_true rfl) (Nat.le_of_ble_eq_true rfl) ?_
      refine ⟨vS ?_, rfl⟩
      rw [aCount, if_pos hin]
      rfl
    · refine z_tableIn 118 h dX11_count_3 (off := 115) (by decide) (by decide) rfl (by decide) ?_
      refine z_aload_n 0 h dX11_count_118 rfl rfl rfl ?_
      refine z_get h kX11 (.inl (hm.at 0 (by decide))) 1 rfl q1848 rfl dX11_count_119 ?_
      refine z_bipush h dX11_count_122 kb_7 ?_
      refine zm_w (7) h hm hw rfl (by omega) dX11_count_124 ?_
      refine z_iret h hq dX11_count_125 (Nat.le_of_ble_eq_true rfl) (Nat.le_of_ble_eq_true rfl) ?_
      refine ⟨vS ?_, rfl⟩
      rw [aCount, if_pos hin]
      rfl
    · refine z_tableIn 126 h dX11_count_3 (off := 123) (by decide) (by decide) rfl (by decide) ?_
      refine z_aload_n 0 h dX11_count_126 rfl rfl rfl ?_
      refine z_get h kX11 (.inl (hm.at 0 (by decide))) 1 rfl q1848 rfl dX11_count_127 ?_
      refine z_bipush h dX11_count_130 kb_8 ?_
      refine zm_w (8) h hm hw rfl (by omega) dX11_count_132 ?_
      refine z_iret h hq dX11_count_133 (Nat.le_of_ble_eq_true rfl) (Nat.le_of_ble_eq_true rfl) ?_
      refine ⟨vS ?_, rfl⟩
      rw [aCount, if_pos hin]
      rfl
    · refine z_tableIn 134 h dX11_count_3 (off := 131) (by decide) (by decide) rfl (by decide) ?_
      refine z_aload_n 0 h dX11_count_134 rfl rfl rfl ?_
      refine z_get h kX11 (.inl (hm.at 0 (by decide))) 1 rfl q1848 rfl dX11_count_135 ?_
      refine z_bipush h dX11_count_138 kb_9 ?_
      refine zm_w (9) h hm hw rfl (by omega) dX11_count_140 ?_
      refine z_iret h hq dX11_count_141 (Nat.le_of_ble_eq_true rfl) (Nat.le_of_ble_eq_true rfl) ?_
      refine ⟨vS ?_, rfl⟩
      rw [aCount, if_pos hin]
      rfl
    · refine z_tableIn 142 h dX11_count_3 (off := 139) (by decide) (by decide) rfl (by decide) ?_
      refine z_aload_n 0 h dX11_count_142 rfl rfl rfl ?_
      refine z_get h kX11 (.inl (hm.at 0 (by decide))) 5 rfl q1852 rfl dX11_count_143 ?_
      rw [ht5]
      refine z_iret h hq dX11_count_146 (Nat.le_of_ble_eq_true rfl) (Nat.le_of_ble_eq_true rfl) ?_
      refine ⟨vS ?_, rfl⟩
      rw [aCount, if_pos hin]
      rfl
    · refine z_tableIn 147 h dX11_count_3 (off := 144) (by decide) (by decide) rfl (by decide) ?_
      refine z_aload_n 0 h dX11_count_147 rfl rfl rfl ?_
      refine z_get h kX11 (.inl (hm.at 0 (by decide))) 1 rfl q1848 rfl dX11_count_148 ?_
      refine z_bipush h dX11_count_151 kb_10 ?_
      refine zm_w (10) h hm hw rfl (by omega) dX11_count_153 ?_
      refine z_iret h hq dX11_count_154 (Nat.le_of_ble_eq_true rfl) (Nat.le_of_ble_eq_true rfl) ?_
      refine ⟨vS ?_, rfl⟩
      rw [aCount, if_pos hin]
      rfl
    · refine z_tableIn 155 h dX11_count_3 (off := 152) (by decide) (by decide) rfl (by decide) ?_
      refine z_iconst h dX11_count_155 ki_0 ?_
      refine z_istore_n 3 h dX11_count_156 rfl rfl ?_
      have loop_157 : ∀ (fz : Nat) (k : Nat) (hk4 : k ≤ 4), (4 - k) < fz → Z γ M 0 0 157 (lof [(0, .ref (ad 0)), (2, .int (nI (slN Sl k))), (3, .int (nI k))]) [] := by
        intro fz
        induction fz with
        | zero => intro k hk4 hz; exact absurd hz (Nat.not_lt_zero _)
        | succ fz ih_157 =>
          intro k hk4 hz_157
          refine z_iload_n 3 h dX11_count_157 rfl rfl ?_
          refine z_iconst h dX11_count_158 ki_4 ?_
          refine z_icmp_ge 186 h dX11_count_159 (by decide) (fun c_159 => ?_) (fun c_159 => ?_)
          · have _z := c_159
            replace c_159 := (ile (a := 4) (b := k) rfl rfl (by decide) (by omega)).mp c_159
            refine z_iload_n 2 h dX11_count_186 rfl rfl ?_
            refine z_iret h hq dX11_count_187 (Nat.le_of_ble_eq_true rfl) (Nat.le_of_ble_eq_true rfl) ?_
            obtain rfl : k = 4 := by omega
            refine ⟨vS ?_, rfl⟩
            rw [aCount, if_pos hin]
            rfl
          · have _z := c_159
            replace c_159 := (not_congr (ile (a := 4) (b := k) rfl rfl (by decide) (by omega))).mp c_159
            refine z_iload_n 2 h dX11_count_162 rfl rfl ?_
            refine z_aload_n 0 h dX11_count_163 rfl rfl rfl ?_
            refine z_get h kX11 (.inl (hm.at 0 (by decide))) 28 rfl q1875 rfl dX11_count_164 ?_
            refine z_iload_n 3 h dX11_count_167 rfl rfl ?_
            refine z_ialdN (k) h (.inl (hm.at 28 (by decide))) rfl (by omega) (by decide) dX11_count_168 ?_
            refine z_iconst h dX11_count_169 ki_m1 ?_
            refine z_icmp_ne 177 h dX11_count_170 (by decide) (fun c_170 => ?_) (fun c_170 => ?_)
            · have _z := c_170
              obtain ⟨w, n, hS⟩ := sl_some (hSl k (by omega)).1 c_170
              refine z_iconst h dX11_count_177 ki_1 ?_
              refine z_iadd h dX11_count_178 ?_
              refine z_istore_n 2 h dX11_count_179 rfl rfl ?_
              refine z_iinc h dX11_count_180 rfl rfl ki_1 ?_
              refine z_goto 157 h dX11_count_183 (by decide) ?_
              refine Z.loc [(0, .ref (ad 0)), (2, .int (nI (slN Sl (k + 1)))), (3, .int (nI (k + 1)))] (ll1 rfl (ll1 (vS (by simp only [slN, sN]; first | (rw [if_neg (by rw [hS]; exact Option.some_ne_none _)]; exact nI_1 _) | (rw [if_pos hN]; exact ixa (b := 0) rfl rfl))) (ll1 (vS (nI_1 k)) ll0))) ?_
              exact ih_157 (k + 1) (by omega) (by omega)
            · have _z := c_170
              have hN := sl_none (fun w n hS => (by obtain ⟨q1, q2, q3, q4⟩ := (hSl k (by omega)).2 w n hS; exact ⟨q1, q3⟩)) c_170
              refine z_iconst h dX11_count_173 ki_0 ?_
              refine z_goto 178 h dX11_count_174 (by decide) ?_
              refine z_iadd h dX11_count_178 ?_
              refine z_istore_n 2 h dX11_count_179 rfl rfl ?_
              refine z_iinc h dX11_count_180 rfl rfl ki_1 ?_
              refine z_goto 157 h dX11_count_183 (by decide) ?_
              refine Z.loc [(0, .ref (ad 0)), (2, .int (nI (slN Sl (k + 1)))), (3, .int (nI (k + 1)))] (ll1 rfl (ll1 (vS (by simp only [slN, sN]; first | (rw [if_neg (by rw [hS]; exact Option.some_ne_none _)]; exact nI_1 _) | (rw [if_pos hN]; exact ixa (b := 0) rfl rfl))) (ll1 (vS (nI_1 k)) ll0))) ?_
              exact ih_157 (k + 1) (by omega) (by omega)
      refine Z.loc [(0, .ref (ad 0)), (2, .int (nI (slN Sl 0))), (3, .int (nI 0))] (ll1 rfl (ll1 rfl (ll1 rfl ll0))) ?_
      exact loop_157 _ 0 (Nat.zero_le _) (Nat.lt_succ_self _)
  · refine z_tableOut 188 h dX11_count_3 (sw_out hout) (by decide) ?_
    refine z_iconst h dX11_count_188 ki_m1 ?_
    refine z_iret h hq dX11_count_189 (Nat.le_of_ble_eq_true rfl) (Nat.le_of_ble_eq_true rfl) ?_
    refine ⟨vS ?_, rfl⟩
    rw [aCount, hout]
    rfl
