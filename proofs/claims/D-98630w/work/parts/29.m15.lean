/-! the reference: rain -/
set_option maxRecDepth 100000
theorem nine1_nat {v : Int32} (h : inI v 1 9 = true) : ∃ n : Nat, 1 ≤ n ∧ n ≤ 9 ∧ v = nI n := by
  obtain ⟨n, h1, h2, -, h3⟩ := one_nat h
  exact ⟨n, h1, by omega, h3⟩
theorem upto_nat {v : Int32} {b : Nat} (h : inI v 0 b = true) : ∃ n : Nat, n ≤ b ∧ n < 2 ^ 31 ∧ v = nI n := by
  obtain ⟨n, h1, h2, h3⟩ := inI_nat h
  exact ⟨n, by omega, h2, h3⟩
theorem bnF_s (n i : Nat) : bnF n (i + 1) = bnF n i * (n - i) / (i + 1) := rfl
theorem drF_s (b k r i : Nat) : drF b k r (i + 1) = drF b k r i * (if i < k then 100 - r else r) := rfl
theorem inF_s (W : Nat → Nat) (k f is n : Nat) : inF W k (f + 1) is n = if is * W 3 / 100 ≤ 10000 * (100 - k) then nI n else inF W k f (is * W 3 / 100) (n + 1) := rfl
theorem bin_step {n i : Nat} (hn : n ≤ 9) (hi : i < n) : lN (bnF n i) * (nI n - nI i).toInt64 / (nI i + 1).toInt64 = lN (bnF n (i + 1)) := by
  have h1 := bnF_b n (by omega) i (by omega)
  have h2 : bnF n i * (n - i) ≤ 126 * 9 := Nat.mul_le_mul h1 (by omega)
  rw [ixs (a := n) (b := i) rfl rfl (by omega), nI_l (by omega), show nI i + 1 = nI (i + 1) from nI_1 i, nI_l (by omega), lN_mul, pk_lDiv (by omega) (by omega) (by omega)]
  rfl
theorem hun_sub {r : Nat} (h : r ≤ 100) : (100 : Int32) - nI r = nI (100 - r) := ixs (a := 100) rfl rfl h
theorem p100b {i : Nat} (h : i ≤ 9) : 100 ^ i < 2 ^ 63 ∧ 0 < 100 ^ i := by
  have h1 : 100 ^ i ≤ 100 ^ 9 := Nat.pow_le_pow_right (by decide) h
  have h2 : 100 ^ 9 < 2 ^ 63 := by decide
  exact ⟨by omega, Nat.pow_pos (by decide)⟩
set_option maxHeartbeats 4000000 in
theorem m_dry {l : Launch} {g : Zg} {ad : Nat → Nat} {M : Zm} {st : Ms} {W : Nat → Nat} (hm : Mod g ad M st) (hw : WR st W) (hi : InvW W) (nv kv wv : Int32) : Cn l g yX11_dry cX11_dry 9 (some .long) 3 0 0 [.ref (ad 0), .int nv, .int kv, .int wv] M (PV (.long (aDry W nv kv wv)) M) := by
  refine Cn.start [(0, .ref (ad 0)), (1, .int nv), (2, .int kv), (3, .int wv)] (by decide) (Nat.le_of_ble_eq_true rfl) rfl ?_
  intro γ el eg h hq
  subst el; subst eg
  have h3 : W 3 ≤ 100 := hi.2.2.2.1
  refine z_aload_n 0 h dX11_dry_0 rfl rfl rfl ?_
  refine z_callVP h (m_isWar hm hw hi) kX11 (.inl (hm.at 0 (by decide))) (lw_V q2091 q2093 qs84 q148 q2094) nX11_isWar rfl rfl rfl (Nat.le_of_ble_eq_true rfl) (Nat.le_of_ble_eq_true rfl) (Nat.le_of_ble_eq_true rfl) dX11_dry_1 ?_
  refine z_ifz_eq 40 h dX11_dry_4 (by decide) (fun c_4 => ?_) (fun c_4 => ?_)
  · have _z := c_4
    refine z_ldc2 h q2194 dX11_dry_40 ?_
    refine z_lret h hq dX11_dry_43 (Nat.le_of_ble_eq_true rfl) (Nat.le_of_ble_eq_true rfl) ?_
    refine ⟨vL2 ?_, rfl⟩
    first | (simp [aDry, c_4]; done) | (simp [aDry, c_16]; done) | (rw [aDry, if_neg]; simp [nI_toInt (show n < 2 ^ 31 by omega), c_27]; done) | (simp [aDry, c_37]; done)
  · have _z := c_4
    refine z_iload_n 1 h dX11_dry_7 rfl rfl ?_
    refine z_i2l h dX11_dry_8 ?_
    refine z_lconst h dX11_dry_9 kl_1 ?_
    refine z_ldc2 h q2371 dX11_dry_10 ?_
    refine z_callSP h (m_inI nv 1 9 1 9 rfl rfl) (lw_S q1950 q1951 q148 q1952) nX11_in rfl rfl rfl (Nat.le_of_ble_eq_true rfl) (Nat.le_of_ble_eq_true rfl) (Nat.le_of_ble_eq_true rfl) dX11_dry_13 ?_
    refine z_ifz_eq 40 h dX11_dry_16 (by decide) (fun c_16 => ?_) (fun c_16 => ?_)
    · have _z := c_16
      refine z_ldc2 h q2194 dX11_dry_40 ?_
      refine z_lret h hq dX11_dry_43 (Nat.le_of_ble_eq_true rfl) (Nat.le_of_ble_eq_true rfl) ?_
      refine ⟨vL2 ?_, rfl⟩
      first | (simp [aDry, c_4]; done) | (simp [aDry, c_16]; done) | (rw [aDry, if_neg]; simp [nI_toInt (show n < 2 ^ 31 by omega), c_27]; done) | (simp [aDry, c_37]; done)
    · have _z := c_16
      obtain ⟨n, h_n1, h_n, rfl⟩ := nine1_nat c_16
      refine z_iload_n 2 h dX11_dry_19 rfl rfl ?_
      refine z_i2l h dX11_dry_20 ?_
      refine z_lconst h dX11_dry_21 kl_0 ?_
      refine z_iload_n 1 h dX11_dry_22 rfl rfl ?_
      refine z_i2l h dX11_dry_23 ?_
      refine z_callSP h (m_inI kv 0 _ 0 (n : Int) rfl (toIz (nz rfl) (by omega))) (lw_S q1950 q1951 q148 q1952) nX11_in rfl rfl rfl (Nat.le_of_ble_eq_true rfl) (Nat.le_of_ble_eq_true rfl) (Nat.le_of_ble_eq_true rfl) dX11_dry_24 ?_
      refine z_ifz_eq 40 h dX11_dry_27 (by decide) (fun c_27 => ?_) (fun c_27 => ?_)
      · have _z := c_27
        refine z_ldc2 h q2194 dX11_dry_40 ?_
        refine z_lret h hq dX11_dry_43 (Nat.le_of_ble_eq_true rfl) (Nat.le_of_ble_eq_true rfl) ?_
        refine ⟨vL2 ?_, rfl⟩
        first | (simp [aDry, c_4]; done) | (simp [aDry, c_16]; done) | (rw [aDry, if_neg]; simp [nI_toInt (show n < 2 ^ 31 by omega), c_27]; done) | (simp [aDry, c_37]; done)
      · have _z := c_27
        obtain ⟨k, h_k, -, rfl⟩ := upto_nat c_27
        refine z_iload_n 3 h dX11_dry_30 rfl rfl ?_
        refine z_i2l h dX11_dry_31 ?_
        refine z_lconst h dX11_dry_32 kl_0 ?_
        refine z_lconst h dX11_dry_33 kl_1 ?_
        refine z_callSP h (m_inI wv 0 1 0 1 rfl rfl) (lw_S q1950 q1951 q148 q1952) nX11_in rfl rfl rfl (Nat.le_of_ble_eq_true rfl) (Nat.le_of_ble_eq_true rfl) (Nat.le_of_ble_eq_true rfl) dX11_dry_34 ?_
        refine z_ifz_ne 44 h dX11_dry_37 (by decide) (fun c_37 => ?_) (fun c_37 => ?_)
        · have _z := c_37
          obtain ⟨w, h_w, rfl⟩ := onebit_nat c_37
          refine z_lconst h dX11_dry_44 kl_1 ?_
          refine z_lstore h dX11_dry_45 rfl ?_
          refine z_lconst h dX11_dry_47 kl_1 ?_
          refine z_lstore h dX11_dry_48 rfl ?_
          refine z_iconst h dX11_dry_50 ki_0 ?_
          refine z_istore h dX11_dry_51 rfl ?_
          have loop_53 : ∀ (fz : Nat) (i : Nat) (hik : i ≤ k), (k - i) < fz → Z γ M 0 0 53 (lof [(0, .ref (ad 0)), (1, .int (nI n)), (2, .int (nI k)), (3, .int (nI w)), (4, .long (lN (bnF n i))), (6, .long (lN 1)), (8, .int (nI i))]) [] := by
            intro fz
            induction fz with
            | zero => intro i hik hz; exact absurd hz (Nat.not_lt_zero _)
            | succ fz ih_53 =>
              intro i hik hz_53
              refine z_iload h dX11_dry_53 rfl ?_
              refine z_iload_n 2 h dX11_dry_55 rfl rfl ?_
              refine z_icmp_ge 81 h dX11_dry_56 (by decide) (fun c_56 => ?_) (fun c_56 => ?_)
              · have _z := c_56
                replace c_56 := (ile (a := k) (b := i) rfl rfl (by omega) (by omega)).mp c_56
                refine z_iconst h dX11_dry_81 ki_0 ?_
                refine z_istore h dX11_dry_82 rfl ?_
                have loop_84 : ∀ (fz : Nat) (i : Nat) (hin : i ≤ n), (n - i) < fz → Z γ M 0 0 84 (lof [(0, .ref (ad 0)), (1, .int (nI n)), (2, .int (nI k)), (3, .int (nI w)), (4, .long (lN (drF (bnF n k) k (W 3) i))), (6, .long (lN (100 ^ i))), (8, .int (nI i))]) [] := by
                  intro fz
                  induction fz with
                  | zero => intro i hin hz; exact absurd hz (Nat.not_lt_zero _)
                  | succ fz ih_84 =>
                    intro i hin hz_84
                    refine z_iload h dX11_dry_84 rfl ?_
                    refine z_iload_n 1 h dX11_dry_86 rfl rfl ?_
                    refine z_icmp_ge 135 h dX11_dry_87 (by decide) (fun c_87 => ?_) (fun c_87 => ?_)
                    · have _z := c_87
                      replace c_87 := (ile (a := n) (b := i) rfl rfl (by omega) (by omega)).mp c_87
                      refine z_lload h dX11_dry_135 rfl ?_
                      refine z_lload h dX11_dry_137 rfl ?_
                      refine z_iload_n 3 h dX11_dry_139 rfl rfl ?_
                      obtain rfl : n = i := by omega
                      refine z_callSP h (m_part (drF (bnF n k) k (W 3) n) (100 ^ n) w (drF_lt h_n h_k h3 (Nat.le_refl _)) (p100b h_n).1 (p100b h_n).2 h_w) (lw_S q2232 q2233 q148 q2234) nX11_part rfl rfl rfl (Nat.le_of_ble_eq_true rfl) (Nat.le_of_ble_eq_true rfl) (Nat.le_of_ble_eq_true rfl) dX11_dry_140 ?_
                      refine z_lret h hq dX11_dry_143 (Nat.le_of_ble_eq_true rfl) (Nat.le_of_ble_eq_true rfl) ?_
                      refine ⟨vL2 ?_, rfl⟩
                      rw [aDry, if_pos (by rw [c_4, c_16, nI_toInt (by omega), c_27, c_37]; rfl), tn_nI (by omega), tn_nI (by omega), tn_nI (by omega)]
                    · have _z := c_87
                      replace c_87 := (not_congr (ile (a := n) (b := i) rfl rfl (by omega) (by omega))).mp c_87
                      refine z_lload h dX11_dry_90 rfl ?_
                      refine z_iload h dX11_dry_92 rfl ?_
                      refine z_iload_n 2 h dX11_dry_94 rfl rfl ?_
                      refine z_icmp_ge 111 h dX11_dry_95 (by decide) (fun c_95 => ?_) (fun c_95 => ?_)
                      · have _z := c_95
                        replace c_95 := (ile (a := k) (b := i) rfl rfl (by omega) (by omega)).mp c_95
                        refine z_aload_n 0 h dX11_dry_111 rfl rfl rfl ?_
                        refine z_get h kX11 (.inl (hm.at 0 (by decide))) 1 rfl q1848 rfl dX11_dry_112 ?_
                        refine z_iconst h dX11_dry_115 ki_3 ?_
                        refine zm_w (3) h hm hw rfl (by omega) dX11_dry_116 ?_
                        refine z_i2l h dX11_dry_117 ?_
                        refine z_lmul h dX11_dry_118 ?_
                        refine z_lstore h dX11_dry_119 rfl ?_
                        refine z_lload h dX11_dry_121 rfl ?_
                        refine z_ldc2 h q2231 dX11_dry_123 ?_
                        refine z_lmul h dX11_dry_126 ?_
                        refine z_lstore h dX11_dry_127 rfl ?_
                        refine z_iinc h dX11_dry_129 rfl rfl ki_1 ?_
                        refine z_goto 84 h dX11_dry_132 (by decide) ?_
                        refine Z.loc [(0, .ref (ad 0)), (1, .int (nI n)), (2, .int (nI k)), (3, .int (nI w)), (4, .long (lN (drF (bnF n k) k (W 3) (i + 1)))), (6, .long (lN (100 ^ (i + 1)))), (8, .int (nI (i + 1)))] (ll1 rfl (ll1 rfl (ll1 rfl (ll1 rfl (ll1 (vL2 (by rw [drF_s]; first | (rw [if_pos (Nat.lt_of_not_le c_95), hun_sub h3, nI_l (by omega), lN_mul]; done) | (rw [if_neg (Nat.not_lt.mpr c_95), nI_l (hi.lt 3 (by decide)), lN_mul]; done))) (ll1 (vL2 (by rw [show (100 : Int64) = lN 100 from rfl, lN_mul, Nat.pow_succ])) (ll1 (vS (nI_1 i)) ll0))))))) ?_
                        exact ih_84 (i + 1) (by omega) (by omega)
                      · have _z := c_95
                        replace c_95 := (not_congr (ile (a := k) (b := i) rfl rfl (by omega) (by omega))).mp c_95
                        refine z_bipush h dX11_dry_98 kb_100 ?_
                        refine z_aload_n 0 h dX11_dry_100 rfl rfl rfl ?_
                        refine z_get h kX11 (.inl (hm.at 0 (by decide))) 1 rfl q1848 rfl dX11_dry_101 ?_
                        refine z_iconst h dX11_dry_104 ki_3 ?_
                        refine zm_w (3) h hm hw rfl (by omega) dX11_dry_105 ?_
                        refine z_isub h dX11_dry_106 ?_
                        refine z_i2l h dX11_dry_107 ?_
                        refine z_goto 118 h dX11_dry_108 (by decide) ?_
                        refine z_lmul h dX11_dry_118 ?_
                        refine z_lstore h dX11_dry_119 rfl ?_
                        refine z_lload h dX11_dry_121 rfl ?_
                        refine z_ldc2 h q2231 dX11_dry_123 ?_
                        refine z_lmul h dX11_dry_126 ?_
                        refine z_lstore h dX11_dry_127 rfl ?_
                        refine z_iinc h dX11_dry_129 rfl rfl ki_1 ?_
                        refine z_goto 84 h dX11_dry_132 (by decide) ?_
                        refine Z.loc [(0, .ref (ad 0)), (1, .int (nI n)), (2, .int (nI k)), (3, .int (nI w)), (4, .long (lN (drF (bnF n k) k (W 3) (i + 1)))), (6, .long (lN (100 ^ (i + 1)))), (8, .int (nI (i + 1)))] (ll1 rfl (ll1 rfl (ll1 rfl (ll1 rfl (ll1 (vL2 (by rw [drF_s]; first | (rw [if_pos (Nat.lt_of_not_le c_95), hun_sub h3, nI_l (by omega), lN_mul]; done) | (rw [if_neg (Nat.not_lt.mpr c_95), nI_l (hi.lt 3 (by decide)), lN_mul]; done))) (ll1 (vL2 (by rw [show (100 : Int64) = lN 100 from rfl, lN_mul, Nat.pow_succ])) (ll1 (vS (nI_1 i)) ll0))))))) ?_
                        exact ih_84 (i + 1) (by omega) (by omega)
                obtain rfl : k = i := by omega
                refine Z.loc [(0, .ref (ad 0)), (1, .int (nI n)), (2, .int (nI k)), (3, .int (nI w)), (4, .long (lN (drF (bnF n k) k (W 3) 0))), (6, .long (lN (100 ^ 0))), (8, .int (nI 0))] (ll1 rfl (ll1 rfl (ll1 rfl (ll1 rfl (ll1 rfl (ll1 rfl (ll1 rfl ll0))))))) ?_
                exact loop_84 _ 0 (Nat.zero_le _) (Nat.lt_succ_self _)
              · have _z := c_56
                replace c_56 := (not_congr (ile (a := k) (b := i) rfl rfl (by omega) (by omega))).mp c_56
                refine z_lload h dX11_dry_59 rfl ?_
                refine z_iload_n 1 h dX11_dry_61 rfl rfl ?_
                refine z_iload h dX11_dry_62 rfl ?_
                refine z_isub h dX11_dry_64 ?_
                refine z_i2l h dX11_dry_65 ?_
                refine z_lmul h dX11_dry_66 ?_
                refine z_iload h dX11_dry_67 rfl ?_
                refine z_iconst h dX11_dry_69 ki_1 ?_
                refine z_iadd h dX11_dry_70 ?_
                refine z_i2l h dX11_dry_71 ?_
                refine z_ldiv h dX11_dry_72 (by rw [show nI i + 1 = nI (i + 1) from nI_1 i, nI_l (by omega)]; exact lN_ne0 (by omega) (by omega)) ?_
                refine z_lstore h dX11_dry_73 rfl ?_
                refine z_iinc h dX11_dry_75 rfl rfl ki_1 ?_
                refine z_goto 53 h dX11_dry_78 (by decide) ?_
                refine Z.loc [(0, .ref (ad 0)), (1, .int (nI n)), (2, .int (nI k)), (3, .int (nI w)), (4, .long (lN (bnF n (i + 1)))), (6, .long (lN 1)), (8, .int (nI (i + 1)))] (ll1 rfl (ll1 rfl (ll1 rfl (ll1 rfl (ll1 (vL2 (bin_step h_n (by omega))) (ll1 rfl (ll1 (vS (nI_1 i)) ll0))))))) ?_
                exact ih_53 (i + 1) (by omega) (by omega)
          refine Z.loc [(0, .ref (ad 0)), (1, .int (nI n)), (2, .int (nI k)), (3, .int (nI w)), (4, .long (lN (bnF n 0))), (6, .long (lN 1)), (8, .int (nI 0))] (ll1 rfl (ll1 rfl (ll1 rfl (ll1 rfl (ll1 rfl (ll1 rfl (ll1 rfl ll0))))))) ?_
          exact loop_53 _ 0 (Nat.zero_le _) (Nat.lt_succ_self _)
        · have _z := c_37
          refine z_ldc2 h q2194 dX11_dry_40 ?_
          refine z_lret h hq dX11_dry_43 (Nat.le_of_ble_eq_true rfl) (Nat.le_of_ble_eq_true rfl) ?_
          refine ⟨vL2 ?_, rfl⟩
          first | (simp [aDry, c_4]; done) | (simp [aDry, c_16]; done) | (rw [aDry, if_neg]; simp [nI_toInt (show n < 2 ^ 31 by omega), c_27]; done) | (simp [aDry, c_37]; done)
set_option maxHeartbeats 4000000 in
theorem m_insist {l : Launch} {g : Zg} {ad : Nat → Nat} {M : Zm} {st : Ms} {W : Nat → Nat} (hm : Mod g ad M st) (hw : WR st W) (hi : InvW W) (kv : Int32) : Cn l g yX11_insist cX11_insist 4 (some .int) 2 0 0 [.ref (ad 0), .int kv] M (PV (.int (aInsist W kv)) M) := by
  refine Cn.start [(0, .ref (ad 0)), (1, .int kv)] (by decide) (Nat.le_of_ble_eq_true rfl) rfl ?_
  intro γ el eg h hq
  subst el; subst eg
  have h3 : W 3 ≤ 100 := hi.2.2.2.1
  refine z_aload_n 0 h dX11_insist_0 rfl rfl rfl ?_
  refine z_callVP h (m_isWar hm hw hi) kX11 (.inl (hm.at 0 (by decide))) (lw_V q2091 q2093 qs84 q148 q2094) nX11_isWar rfl rfl rfl (Nat.le_of_ble_eq_true rfl) (Nat.le_of_ble_eq_true rfl) (Nat.le_of_ble_eq_true rfl) dX11_insist_1 ?_
  refine z_ifz_eq 19 h dX11_insist_4 (by decide) (fun c_4 => ?_) (fun c_4 => ?_)
  · have _z := c_4
    refine z_bipush h dX11_insist_19 kb_m2 ?_
    refine z_iret h hq dX11_insist_21 (Nat.le_of_ble_eq_true rfl) (Nat.le_of_ble_eq_true rfl) ?_
    refine ⟨vS ?_, rfl⟩
    first | (simp [aInsist, c_4]; done) | (simp [aInsist, c_16]; done)
  · have _z := c_4
    refine z_iload_n 1 h dX11_insist_7 rfl rfl ?_
    refine z_i2l h dX11_insist_8 ?_
    refine z_lconst h dX11_insist_9 kl_0 ?_
    refine z_ldc2 h q2231 dX11_insist_10 ?_
    refine z_callSP h (m_inI kv 0 100 0 100 rfl rfl) (lw_S q1950 q1951 q148 q1952) nX11_in rfl rfl rfl (Nat.le_of_ble_eq_true rfl) (Nat.le_of_ble_eq_true rfl) (Nat.le_of_ble_eq_true rfl) dX11_insist_13 ?_
    refine z_ifz_ne 22 h dX11_insist_16 (by decide) (fun c_16 => ?_) (fun c_16 => ?_)
    · have _z := c_16
      obtain ⟨k, h_k, rfl⟩ := hun_nat c_16
      refine z_ldcw h q2203 dX11_insist_22 ?_
      refine z_istore_n 2 h dX11_insist_25 rfl rfl ?_
      refine z_iconst h dX11_insist_26 ki_1 ?_
      refine z_istore_n 3 h dX11_insist_27 rfl rfl ?_
      have loop_28 : ∀ (fz : Nat) (n : Nat) (is : Nat) (hn : n ≤ 61) (hn1 : 1 ≤ n) (hi6 : is ≤ 1000000) (hF : inF W k 60 1000000 1 = inF W k (61 - n) is n), (61 - n) < fz → Z γ M 0 0 28 (lof [(0, .ref (ad 0)), (1, .int (nI k)), (2, .int (nI is)), (3, .int (nI n))]) [] := by
        intro fz
        induction fz with
        | zero => intro n is hn hn1 hi6 hF hz; exact absurd hz (Nat.not_lt_zero _)
        | succ fz ih_28 =>
          intro n is hn hn1 hi6 hF hz_28
          refine z_iload_n 3 h dX11_insist_28 rfl rfl ?_
          refine z_bipush h dX11_insist_29 kb_60 ?_
          refine z_icmp_gt 66 h dX11_insist_31 (by decide) (fun c_31 => ?_) (fun c_31 => ?_)
          · have _z := c_31
            replace c_31 := (ilt (a := 60) (b := n) rfl rfl (by decide) (by omega)).mp c_31
            refine z_iconst h dX11_insist_66 ki_m1 ?_
            refine z_iret h hq dX11_insist_67 (Nat.le_of_ble_eq_true rfl) (Nat.le_of_ble_eq_true rfl) ?_
            refine ⟨vS ?_, rfl⟩
            obtain rfl : n = 61 := by omega
            rw [aInsist, if_pos (by rw [c_4, c_16]; rfl), tn_nI (by omega), hF]
            rfl
          · have _z := c_31
            replace c_31 := (not_congr (ilt (a := 60) (b := n) rfl rfl (by decide) (by omega))).mp c_31
            refine z_iload_n 2 h dX11_insist_34 rfl rfl ?_
            refine z_aload_n 0 h dX11_insist_35 rfl rfl rfl ?_
            refine z_get h kX11 (.inl (hm.at 0 (by decide))) 1 rfl q1848 rfl dX11_insist_36 ?_
            refine z_iconst h dX11_insist_39 ki_3 ?_
            refine zm_w (3) h hm hw rfl (by omega) dX11_insist_40 ?_
            have hmb : is * W 3 ≤ 1000000 * 100 := Nat.mul_le_mul hi6 h3
            refine z_imul h dX11_insist_41 ?_
            refine z_bipush h dX11_insist_42 kb_100 ?_
            refine z_idiv h dX11_insist_44 (by decide) ?_
            refine z_istore_n 2 h dX11_insist_45 rfl rfl ?_
            refine z_iload_n 2 h dX11_insist_46 rfl rfl ?_
            refine z_sipush h dX11_insist_47 ks_10000 ?_
            refine z_bipush h dX11_insist_50 kb_100 ?_
            refine z_iload_n 1 h dX11_insist_52 rfl rfl ?_
            refine z_isub h dX11_insist_53 ?_
            refine z_imul h dX11_insist_54 ?_
            refine z_icmp_gt 60 h dX11_insist_55 (by decide) (fun c_55 => ?_) (fun c_55 => ?_)
            · have _z := c_55
              replace c_55 := (ilt (a := 10000 * (100 - k)) (b := is * W 3 / 100) (ixm rfl (ixs rfl rfl (by omega))) (by rw [pk_mul, show (100 : Int32) = nI 100 from rfl, pk_div (by omega) (by decide) (by decide)]) (by omega) (by omega)).mp c_55
              refine z_iinc h dX11_insist_60 rfl rfl ki_1 ?_
              refine z_goto 28 h dX11_insist_63 (by decide) ?_
              refine Z.loc [(0, .ref (ad 0)), (1, .int (nI k)), (2, .int (nI (is * W 3 / 100))), (3, .int (nI (n + 1)))] (ll1 rfl (ll1 rfl (ll1 (vS (by rw [pk_mul, show (100 : Int32) = nI 100 from rfl, pk_div (by omega) (by decide) (by decide)])) (ll1 (vS (nI_1 n)) ll0)))) ?_
              exact ih_28 (n + 1) (is * W 3 / 100) (by omega) (by omega) (by omega) (by rw [hF, show 61 - n = (61 - (n + 1)) + 1 by omega, inF_s, if_neg (Nat.not_le_of_lt c_55)]) (by omega)
            · have _z := c_55
              replace c_55 := (not_congr (ilt (a := 10000 * (100 - k)) (b := is * W 3 / 100) (ixm rfl (ixs rfl rfl (by omega))) (by rw [pk_mul, show (100 : Int32) = nI 100 from rfl, pk_div (by omega) (by decide) (by decide)]) (by omega) (by omega))).mp c_55
              refine z_iload_n 3 h dX11_insist_58 rfl rfl ?_
              refine z_iret h hq dX11_insist_59 (Nat.le_of_ble_eq_true rfl) (Nat.le_of_ble_eq_true rfl) ?_
              refine ⟨vS ?_, rfl⟩
              rw [aInsist, if_pos (by rw [c_4, c_16]; rfl), tn_nI (by omega), hF, show 61 - n = (60 - n) + 1 by omega, inF_s, if_pos (Nat.le_of_not_lt c_55)]
      refine Z.loc [(0, .ref (ad 0)), (1, .int (nI k)), (2, .int (nI 1000000)), (3, .int (nI 1))] (ll1 rfl (ll1 rfl (ll1 rfl (ll1 rfl ll0)))) ?_
      exact loop_28 _ 1 1000000 (by omega) (by omega) (by omega) rfl (Nat.lt_succ_self _)
    · have _z := c_16
      refine z_bipush h dX11_insist_19 kb_m2 ?_
      refine z_iret h hq dX11_insist_21 (Nat.le_of_ble_eq_true rfl) (Nat.le_of_ble_eq_true rfl) ?_
      refine ⟨vS ?_, rfl⟩
      first | (simp [aInsist, c_4]; done) | (simp [aInsist, c_16]; done)
