/-! the reference: the tape, what there is -/
set_option maxRecDepth 100000
theorem fd_five {g0 g1 g2 g3 g4 g5 : Nat → Int32} {a b c d e : Int32} (h1 : g1 = upd g0 0 a) (h2 : g2 = upd g1 1 b) (h3 : g3 = upd g2 2 c) (h4 : g4 = upd g3 3 d) (h5 : g5 = upd g4 4 e) : ∀ q, q < 5 → g5 q = sel5 a b c d e q := by
  intro q hq
  rw [h5, h4, h3, h2, h1]
  rcases (show q = 0 ∨ q = 1 ∨ q = 2 ∨ q = 3 ∨ q = 4 by omega) with rfl | rfl | rfl | rfl | rfl <;> simp [upd, sel5]
theorem fd_step {f T : Nat → Int32} {a b c d e x : Int32} {tp k : Nat} (hx : x = fdB a b c d e k) (h : ∀ j, j < tp + k → f j = if j < tp then T j else fdB a b c d e (j - tp)) : ∀ j, j < tp + (k + 1) → upd f (tp + k) x j = if j < tp then T j else fdB a b c d e (j - tp) := by
  intro j hj
  unfold upd
  by_cases q : j = tp + k
  · rw [if_pos q, if_neg (by omega), hx, q, show tp + k - tp = k by omega]
  · rw [if_neg q]
    exact h j (by omega)
set_option maxHeartbeats 4000000 in
theorem m_feed {l : Launch} {g : Zg} {ad : Nat → Nat} {M : Zm} {st : Ms} (hm : Mod g ad M st) {tp : Nat} {T : Nat → Int32} (hT : TpR st tp T) (a b c d e : Int32) : Cn l g yX11_feed cX11_feed 7 (some .int) 1 0 0 [.ref (ad 0), .int a, .int b, .int c, .int d, .int e] M (PMT2 g ad st (some (.int (aFeed tp))) (fun s9 => TpR s9 (nFeed tp) (wFeed tp T a b c d e))) := by
  refine Cn.start [(0, .ref (ad 0)), (1, .int a), (2, .int b), (3, .int c), (4, .int d), (5, .int e)] (by decide) (Nat.le_of_ble_eq_true rfl) rfl ?_
  intro γ el eg h hq
  subst el; subst eg
  have hk0 : kpE st st := kpE.rf st
  obtain ⟨ht0, ht5, ht4⟩ := hT
  refine z_aload_n 0 h dX11_feed_0 rfl rfl rfl ?_
  refine z_get h kX11 (.inl (hm.at 0 (by decide))) 5 rfl q1852 rfl dX11_feed_1 ?_
  refine z_bipush h dX11_feed_4 kb_20 ?_
  refine z_iadd h dX11_feed_6 ?_
  refine z_sipush h dX11_feed_7 ks_1200 ?_
  refine z_icmp_le 15 h dX11_feed_10 (by decide) (fun c_10 => ?_) (fun c_10 => ?_)
  · have _z := c_10
    replace c_10 := (ile (a := tp + 20) (b := 1200) (ixa ht5 rfl) rfl (by omega) (by decide)).mp c_10
    refine z_aload_n 0 h dX11_feed_15 rfl rfl rfl ?_
    refine z_get h kX11 (.inl (hm.at 0 (by decide))) 6 rfl q1853 rfl dX11_feed_16 ?_
    refine z_iconst h dX11_feed_19 ki_0 ?_
    refine z_iload_n 1 h dX11_feed_20 rfl rfl ?_
    refine zm_iast 6 (0) h hm (by decide) (fun _ => rfl) rfl (by decide) (by decide) dX11_feed_21 (fun M hm => ?_)
    generalize hs1 : uA st 6 _ = s1 at hm
    obtain ⟨f1, e1⟩ := atq hs1
    replace hk0 := hk0.A (Or.inr rfl) hs1
    have t1 : s1.1 5 = nI tp := by rw [← hs1]; exact ht5
    refine z_aload_n 0 h dX11_feed_22 rfl rfl rfl ?_
    refine z_get h kX11 (.inl (hm.at 0 (by decide))) 6 rfl q1853 rfl dX11_feed_23 ?_
    refine z_iconst h dX11_feed_26 ki_1 ?_
    refine z_iload_n 2 h dX11_feed_27 rfl rfl ?_
    refine zm_iast 6 (1) h hm (by decide) (fun _ => rfl) rfl (by decide) (by decide) dX11_feed_28 (fun M hm => ?_)
    generalize hs2 : uA s1 6 _ = s2 at hm
    obtain ⟨f2, e2⟩ := atq hs2
    replace hk0 := hk0.A (Or.inr rfl) hs2
    have t2 : s2.1 5 = nI tp := by rw [← hs2]; exact t1
    refine z_aload_n 0 h dX11_feed_29 rfl rfl rfl ?_
    refine z_get h kX11 (.inl (hm.at 0 (by decide))) 6 rfl q1853 rfl dX11_feed_30 ?_
    refine z_iconst h dX11_feed_33 ki_2 ?_
    refine z_iload_n 3 h dX11_feed_34 rfl rfl ?_
    refine zm_iast 6 (2) h hm (by decide) (fun _ => rfl) rfl (by decide) (by decide) dX11_feed_35 (fun M hm => ?_)
    generalize hs3 : uA s2 6 _ = s3 at hm
    obtain ⟨f3, e3⟩ := atq hs3
    replace hk0 := hk0.A (Or.inr rfl) hs3
    have t3 : s3.1 5 = nI tp := by rw [← hs3]; exact t2
    refine z_aload_n 0 h dX11_feed_36 rfl rfl rfl ?_
    refine z_get h kX11 (.inl (hm.at 0 (by decide))) 6 rfl q1853 rfl dX11_feed_37 ?_
    refine z_iconst h dX11_feed_40 ki_3 ?_
    refine z_iload h dX11_feed_41 rfl ?_
    refine zm_iast 6 (3) h hm (by decide) (fun _ => rfl) rfl (by decide) (by decide) dX11_feed_43 (fun M hm => ?_)
    generalize hs4 : uA s3 6 _ = s4 at hm
    obtain ⟨f4, e4⟩ := atq hs4
    replace hk0 := hk0.A (Or.inr rfl) hs4
    have t4 : s4.1 5 = nI tp := by rw [← hs4]; exact t3
    refine z_aload_n 0 h dX11_feed_44 rfl rfl rfl ?_
    refine z_get h kX11 (.inl (hm.at 0 (by decide))) 6 rfl q1853 rfl dX11_feed_45 ?_
    refine z_iconst h dX11_feed_48 ki_4 ?_
    refine z_iload h dX11_feed_49 rfl ?_
    refine zm_iast 6 (4) h hm (by decide) (fun _ => rfl) rfl (by decide) (by decide) dX11_feed_51 (fun M hm => ?_)
    generalize hs5 : uA s4 6 _ = s5 at hm
    obtain ⟨f5, e5⟩ := atq hs5
    replace hk0 := hk0.A (Or.inr rfl) hs5
    have t5 : s5.1 5 = nI tp := by rw [← hs5]; exact t4
    refine z_iconst h dX11_feed_52 ki_0 ?_
    refine z_istore h dX11_feed_53 rfl ?_
    have loop_55 : ∀ (fz : Nat) (M : Zm) (s6 : Ms) (k : Nat) (hm : Mod (cg γ) ad M s6) (hk : kpE st s6) (hk2 : k ≤ 20) (h5 : s6.1 5 = nI tp) (h6 : ∀ q, q < 5 → s6.2.1 6 q = sel5 a b c d e q) (h4 : ∀ j, j < tp + k → s6.2.1 4 j = if j < tp then T j else fdB a b c d e (j - tp)), (20 - k) < fz → Z γ M 0 0 55 (lof [(0, .ref (ad 0)), (6, .int (nI k))]) [] := by
      intro fz
      induction fz with
      | zero => intro M s6 k hm hk hk2 h5 h6 h4 hz; exact absurd hz (Nat.not_lt_zero _)
      | succ fz ih_55 =>
        intro M s6 k hm hk hk2 h5 h6 h4 hz_55
        refine z_iload h dX11_feed_55 rfl ?_
        refine z_bipush h dX11_feed_57 kb_20 ?_
        refine z_icmp_ge 101 h dX11_feed_59 (by decide) (fun c_59 => ?_) (fun c_59 => ?_)
        · have _z := c_59
          replace c_59 := (ile (a := 20) (b := k) rfl rfl (by decide) (by omega)).mp c_59
          refine z_aload_n 0 h dX11_feed_101 rfl rfl rfl ?_
          refine z_dup h dX11_feed_102 rfl ?_
          refine z_get h kX11 (.inl (hm.at 0 (by decide))) 5 rfl q1852 rfl dX11_feed_103 ?_
          refine z_bipush h dX11_feed_106 kb_20 ?_
          refine z_iadd h dX11_feed_108 ?_
          refine Z.st (show _ = [.int (nI (tp + 20)), .ref (ad 0)] by rw [h5, show nI tp + 20 = nI (tp + 20) from ixa (b := 20) rfl rfl]) ?_
          refine zm_put 5 h hm (by decide) q1852 dX11_feed_109 (fun M hm => ?_)
          generalize hs8 : uS s6 5 _ = s8 at hm
          obtain ⟨f8, e8, e9⟩ := atS hs8
          replace hk := hk.S hs8
          obtain rfl : k = 20 := by omega
          refine z_aload_n 0 h dX11_feed_112 rfl rfl rfl ?_
          refine z_get h kX11 (.inl (hm.at 0 (by decide))) 5 rfl q1852 rfl dX11_feed_113 ?_
          refine z_iret h hq dX11_feed_116 (Nat.le_of_ble_eq_true rfl) (Nat.le_of_ble_eq_true rfl) ?_
          refine ⟨vS ?_, s8, hm, hk, ?_⟩
          · rw [f8]; unfold aFeed fdC; rw [if_pos (by simp; omega)]
          · unfold nFeed wFeed fdC; rw [if_pos (by simp; omega), if_pos (by simp; omega)]
            exact ⟨by omega, f8, fun j hj => by rw [e9]; exact h4 j hj⟩
        · have _z := c_59
          replace c_59 := (not_congr (ile (a := 20) (b := k) rfl rfl (by decide) (by omega))).mp c_59
          refine z_aload_n 0 h dX11_feed_62 rfl rfl rfl ?_
          refine z_get h kX11 (.inl (hm.at 0 (by decide))) 4 rfl q1851 rfl dX11_feed_63 ?_
          refine z_aload_n 0 h dX11_feed_66 rfl rfl rfl ?_
          refine z_get h kX11 (.inl (hm.at 0 (by decide))) 5 rfl q1852 rfl dX11_feed_67 ?_
          refine z_iload h dX11_feed_70 rfl ?_
          refine z_iadd h dX11_feed_72 ?_
          refine z_aload_n 0 h dX11_feed_73 rfl rfl rfl ?_
          refine z_get h kX11 (.inl (hm.at 0 (by decide))) 6 rfl q1853 rfl dX11_feed_74 ?_
          refine z_iload h dX11_feed_77 rfl ?_
          refine z_iconst h dX11_feed_79 ki_4 ?_
          refine z_idiv h dX11_feed_80 (by decide) ?_
          refine z_ialdN (k / 4) h (.inl (hm.at 6 (by decide))) (by rw [show (4 : Int32) = nI 4 from rfl]; exact pk_div (by omega) (by decide) (by decide)) (by omega) (by decide) dX11_feed_81 ?_
          rw [h6 (k / 4) (by omega)]
          refine z_bipush h dX11_feed_82 kb_24 ?_
          refine z_bipush h dX11_feed_84 kb_8 ?_
          refine z_iload h dX11_feed_86 rfl ?_
          refine z_iconst h dX11_feed_88 ki_4 ?_
          refine z_irem h dX11_feed_89 (by decide) ?_
          refine z_imul h dX11_feed_90 ?_
          refine z_isub h dX11_feed_91 ?_
          refine Z.st (show _ = [.int (nI (24 - 8 * (k % 4))), .int (sel5 a b c d e (k / 4)), _, _] by rw [show (4 : Int32) = nI 4 from rfl, pk_rem (a := k) (d := 4) (by omega) (by decide) (by decide), show (8 : Int32) * nI (k % 4) = nI (8 * (k % 4)) from ixm (a := 8) rfl rfl, show (24 : Int32) - nI (8 * (k % 4)) = nI (24 - 8 * (k % 4)) from ixs (a := 24) rfl rfl (by omega)]) ?_
          refine z_ishr h dX11_feed_92 ?_
          refine z_i2b h dX11_feed_93 ?_
          refine zm_bast 4 (tp + k) h hm (by decide) (fun _ => rfl) (ixa h5 rfl) (by omega) (by decide) dX11_feed_94 (fun M hm => ?_)
          generalize hs7 : uA s6 4 _ = s7 at hm
          obtain ⟨f7, e7⟩ := atq hs7
          replace hk := hk.A (Or.inl rfl) hs7
          have t7 : s7.1 5 = nI tp := by rw [← hs7]; exact h5
          refine z_iinc h dX11_feed_95 rfl rfl ki_1 ?_
          refine z_goto 55 h dX11_feed_98 (by decide) ?_
          refine Z.loc [(0, .ref (ad 0)), (6, .int (nI (k + 1)))] (ll1 rfl (ll1 (vS (nI_1 k)) ll0)) ?_
          exact ih_55 _ _ (k + 1) hm hk (by omega) t7 (fun q hq5 => by rw [e7 6 (by decide)]; exact h6 q hq5) (fun j hj => by rw [f7]; exact fd_step (pk_vb _) h4 j hj) (by omega)
    refine Z.loc [(0, .ref (ad 0)), (6, .int (nI 0))] (ll1 rfl (ll1 rfl ll0)) ?_
    exact loop_55 _ _ _ 0 hm hk0 (Nat.zero_le _) t5 (fd_five f1 f2 f3 f4 f5) (fun j hj => by rw [if_pos (by omega), e5 4 (by decide), e4 4 (by decide), e3 4 (by decide), e2 4 (by decide), e1 4 (by decide)]; exact ht4 j (by omega)) (Nat.lt_succ_self _)
  · have _z := c_10
    replace c_10 := (not_congr (ile (a := tp + 20) (b := 1200) (ixa ht5 rfl) rfl (by omega) (by decide))).mp c_10
    refine z_iconst h dX11_feed_13 ki_m1 ?_
    refine z_iret h hq dX11_feed_14 (Nat.le_of_ble_eq_true rfl) (Nat.le_of_ble_eq_true rfl) ?_
    refine ⟨vS ?_, st, hm, hk0, ?_⟩
    · unfold aFeed fdC; rw [if_neg (by simp; omega)]
    · unfold nFeed wFeed fdC; rw [if_neg (by simp; omega), if_neg (by simp; omega)]; exact ⟨ht0, ht5, ht4⟩
set_option maxHeartbeats 4000000 in
theorem m_end {l : Launch} {g : Zg} {ad : Nat → Nat} {M : Zm} {st : Ms} (hm : Mod g ad M st) {tp : Nat} {T : Nat → Int32} (hT : TpR st tp T) (v : Int32) : Cn l g yX11_end cX11_end 2 (some .int) 2 0 0 [.ref (ad 0), .int v] M (PMT2 g ad st (some (.int (aEnd tp v))) (fun s9 => TpR s9 (nEnd tp v) T)) := by
  refine Cn.start [(0, .ref (ad 0)), (1, .int v)] (by decide) (Nat.le_of_ble_eq_true rfl) rfl ?_
  intro γ el eg h hq
  subst el; subst eg
  have hk0 : kpE st st := kpE.rf st
  obtain ⟨ht0, ht5, ht4⟩ := hT
  refine z_iload_n 1 h dX11_end_0 rfl rfl ?_
  refine z_i2l h dX11_end_1 ?_
  refine z_lconst h dX11_end_2 kl_0 ?_
  refine z_aload_n 0 h dX11_end_3 rfl rfl rfl ?_
  refine z_get h kX11 (.inl (hm.at 0 (by decide))) 5 rfl q1852 rfl dX11_end_4 ?_
  rw [ht5]
  refine z_i2l h dX11_end_7 ?_
  refine z_callSP h (m_inI v 0 _ 0 (tp : Int) rfl (toIz (nz rfl) (by omega))) (lw_S q1950 q1951 q148 q1952) nX11_in rfl rfl rfl (Nat.le_of_ble_eq_true rfl) (Nat.le_of_ble_eq_true rfl) (Nat.le_of_ble_eq_true rfl) dX11_end_8 ?_
  refine z_ifz_ne 16 h dX11_end_11 (by decide) (fun c_11 => ?_) (fun c_11 => ?_)
  · have _z := c_11
    obtain ⟨n, h_n, hn, rfl⟩ := upto_nat c_11
    refine z_aload_n 0 h dX11_end_16 rfl rfl rfl ?_
    refine z_iload_n 1 h dX11_end_17 rfl rfl ?_
    refine zm_put 5 h hm (by decide) q1852 dX11_end_18 (fun M hm => ?_)
    generalize hs8 : uS st 5 _ = s8 at hm
    obtain ⟨f8, e8, e9⟩ := atS hs8
    replace hk0 := hk0.S hs8
    refine z_iload_n 1 h dX11_end_21 rfl rfl ?_
    exact z_iret h hq dX11_end_22 (Nat.le_of_ble_eq_true rfl) (Nat.le_of_ble_eq_true rfl) (⟨vS (by simp [aEnd, c_11]), s8, hm, hk0, by unfold nEnd; rw [c_11, if_pos rfl, tn_nI hn]; exact ⟨by omega, f8, fun j hj => by rw [e9]; exact ht4 j (by omega)⟩⟩)
  · have _z := c_11
    refine z_iconst h dX11_end_14 ki_m1 ?_
    exact z_iret h hq dX11_end_15 (Nat.le_of_ble_eq_true rfl) (Nat.le_of_ble_eq_true rfl) (⟨vS (by simp [aEnd, c_11]), st, hm, hk0, by unfold nEnd; rw [c_11]; exact ⟨ht0, ht5, ht4⟩⟩)
set_option maxHeartbeats 4000000 in
theorem m_fault {l : Launch} {g : Zg} {ad : Nat → Nat} {M : Zm} {st : Ms} (hm : Mod g ad M st) {fk fp : Int32} (h12 : st.1 12 = fk) (h13 : st.1 13 = fp) (v : Int32) : Cn l g yX11_fault cX11_fault 2 (some .int) 1 0 0 [.ref (ad 0), .int v] M (PV (.int (aFault fk fp v)) M) := by
  refine Cn.start [(0, .ref (ad 0)), (1, .int v)] (by decide) (Nat.le_of_ble_eq_true rfl) rfl ?_
  intro γ el eg h hq
  subst el; subst eg
  refine z_iload_n 1 h dX11_fault_0 rfl rfl ?_
  refine z_if_ne 11 h dX11_fault_1 (by decide) (fun c_1 => ?_) (fun c_1 => ?_)
  · have _z := c_1
    refine z_iload_n 1 h dX11_fault_11 rfl rfl ?_
    refine z_iconst h dX11_fault_12 ki_1 ?_
    refine z_icmp_ne 23 h dX11_fault_13 (by decide) (fun c_13 => ?_) (fun c_13 => ?_)
    · have _z := c_13
      refine z_iconst h dX11_fault_23 ki_m1 ?_
      refine z_iret h hq dX11_fault_24 (Nat.le_of_ble_eq_true rfl) (Nat.le_of_ble_eq_true rfl) ?_
      refine ⟨vS ?_, rfl⟩
      unfold aFault
      first | (rw [if_pos c_1]; exact h12) | (rw [if_neg c_1, if_pos c_13]; exact h13) | (rw [if_neg c_1, if_neg c_13]; done)
    · have _z := c_13
      refine z_aload_n 0 h dX11_fault_16 rfl rfl rfl ?_
      refine z_get h kX11 (.inl (hm.at 0 (by decide))) 13 rfl q1860 rfl dX11_fault_17 ?_
      refine z_goto 24 h dX11_fault_20 (by decide) ?_
      refine z_iret h hq dX11_fault_24 (Nat.le_of_ble_eq_true rfl) (Nat.le_of_ble_eq_true rfl) ?_
      refine ⟨vS ?_, rfl⟩
      unfold aFault
      first | (rw [if_pos c_1]; exact h12) | (rw [if_neg c_1, if_pos c_13]; exact h13) | (rw [if_neg c_1, if_neg c_13]; done)
  · have _z := c_1
    refine z_aload_n 0 h dX11_fault_4 rfl rfl rfl ?_
    refine z_get h kX11 (.inl (hm.at 0 (by decide))) 12 rfl q1859 rfl dX11_fault_5 ?_
    refine z_goto 24 h dX11_fault_8 (by decide) ?_
    refine z_iret h hq dX11_fault_24 (Nat.le_of_ble_eq_true rfl) (Nat.le_of_ble_eq_true rfl) ?_
    refine ⟨vS ?_, rfl⟩
    unfold aFault
    first | (rw [if_pos c_1]; exact h12) | (rw [if_neg c_1, if_pos c_13]; exact h13) | (rw [if_neg c_1, if_neg c_13]; done)
