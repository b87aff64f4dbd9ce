/-! the reference: bounds that shut out, treaties -/
set_option maxRecDepth 100000
theorem cuA_up {W : Nat → Nat} {m s j : Nat} (h : cuA W m s j) (hb : cuB W m s (j + 1) = true) : cuA W m s (j + 1) := by
  intro i hi
  by_cases e : i = j
  · subst e; exact hb
  · exact h i (by omega)
theorem clN_b {W : Nat → Nat} (hi : InvW W) {m b : Nat} (h : clN W m = some b) : b < 256 := by
  have h1 := clF_lt _ _ h
  have h2 := arN_b hi
  omega
theorem pf_le60 {W : Nat → Nat} (hi : InvW W) (d n : Nat) : pfN W d n ≤ 60 := by
  have h1 := pfF_le W d n (W 0 - n)
  have h0 := hi.h0
  unfold pfN
  omega
set_option maxHeartbeats 4000000 in
theorem m_closedOf {l : Launch} {g : Zg} {ad : Nat → Nat} {M : Zm} {st : Ms} {W : Nat → Nat} (hm : Mod g ad M st) (hw : WR st W) (hi : InvW W) (m : Nat) (hm2 : m ≤ 59) : Cn l g yX11_closedOf cX11_closedOf 6 (some .int) 3 0 0 [.ref (ad 0), .int (nI m)] M (PV (.int (oZ (clN W m))) M) := by
  refine Cn.start [(0, .ref (ad 0)), (1, .int (nI m))] (by decide) (Nat.le_of_ble_eq_true rfl) rfl ?_
  intro γ el eg h hq
  subst el; subst eg
  obtain ⟨ha1, ha2⟩ := arN_b hi
  refine z_iconst h dX11_closedOf_0 ki_m1 ?_
  refine z_istore_n 2 h dX11_closedOf_1 rfl rfl ?_
  refine z_iconst h dX11_closedOf_2 ki_0 ?_
  refine z_istore_n 3 h dX11_closedOf_3 rfl rfl ?_
  have loop_4 : ∀ (fz : Nat) (s : Nat) (hs : s ≤ arN W), (arN W - s) < fz → Z γ M 0 0 4 (lof [(0, .ref (ad 0)), (1, .int (nI m)), (2, .int (oZ (clF W m s))), (3, .int (nI s))]) [] := by
    intro fz
    induction fz with
    | zero => intro s hs hz; exact absurd hz (Nat.not_lt_zero _)
    | succ fz ih_4 =>
      intro s hs hz_4
      refine z_iload_n 3 h dX11_closedOf_4 rfl rfl ?_
      refine z_aload_n 0 h dX11_closedOf_5 rfl rfl rfl ?_
      refine z_callVP h (m_allReadings hm hw hi) kX11 (.inl (hm.at 0 (by decide))) (lw_V q2404 q2406 qs117 q148 q2407) nX11_allReadings rfl rfl rfl (Nat.le_of_ble_eq_true rfl) (Nat.le_of_ble_eq_true rfl) (Nat.le_of_ble_eq_true rfl) dX11_closedOf_6 ?_
      refine z_icmp_ge 100 h dX11_closedOf_9 (by decide) (fun c_9 => ?_) (fun c_9 => ?_)
      · have _z := c_9
        replace c_9 := (ile (a := arN W) (b := s) rfl rfl (by omega) (by omega)).mp c_9
        refine z_iload_n 2 h dX11_closedOf_100 rfl rfl ?_
        refine z_iret h hq dX11_closedOf_101 (Nat.le_of_ble_eq_true rfl) (Nat.le_of_ble_eq_true rfl) ?_
        obtain rfl : s = arN W := by omega
        exact ⟨rfl, rfl⟩
      · have _z := c_9
        replace c_9 := (not_congr (ile (a := arN W) (b := s) rfl rfl (by omega) (by omega))).mp c_9
        have join_31 : ∀ (hq : clQ (clF W m s) s = true), Z γ M 0 0 31 (lof [(0, .ref (ad 0)), (1, .int (nI m)), (2, .int (oZ (clF W m s))), (3, .int (nI s))]) [] := by
          intro hq
          refine z_iconst h dX11_closedOf_31 ki_1 ?_
          refine z_istore h dX11_closedOf_32 rfl ?_
          refine z_iconst h dX11_closedOf_34 ki_0 ?_
          refine z_istore h dX11_closedOf_35 rfl ?_
          have loop_37 : ∀ (fz : Nat) (j : Nat) (hj : j ≤ arN W) (hcu : cuB W m s j = true → cuA W m s j), (arN W - j) < fz → Z γ M 0 0 37 (lof [(0, .ref (ad 0)), (1, .int (nI m)), (2, .int (oZ (clF W m s))), (3, .int (nI s)), (4, .int (z2i (cuB W m s j))), (5, .int (nI j))]) [] := by
            intro fz
            induction fz with
            | zero => intro j hj hcu hz; exact absurd hz (Nat.not_lt_zero _)
            | succ fz ih_37 =>
              intro j hj hcu hz_37
              refine z_iload h dX11_closedOf_37 rfl ?_
              refine z_aload_n 0 h dX11_closedOf_39 rfl rfl rfl ?_
              refine z_callVP h (m_allReadings hm hw hi) kX11 (.inl (hm.at 0 (by decide))) (lw_V q2404 q2406 qs117 q148 q2407) nX11_allReadings rfl rfl rfl (Nat.le_of_ble_eq_true rfl) (Nat.le_of_ble_eq_true rfl) (Nat.le_of_ble_eq_true rfl) dX11_closedOf_40 ?_
              refine z_icmp_ge 83 h dX11_closedOf_43 (by decide) (fun c_43 => ?_) (fun c_43 => ?_)
              · have _z := c_43
                replace c_43 := (ile (a := arN W) (b := j) rfl rfl (by omega) (by omega)).mp c_43
                refine z_iload h dX11_closedOf_83 rfl ?_
                refine z_ifz_eq 92 h dX11_closedOf_85 (by decide) (fun c_85 => ?_) (fun c_85 => ?_)
                · have _z := c_85
                  have hyes := cu_f c_85
                  refine z_iload_n 2 h dX11_closedOf_92 rfl rfl ?_
                  refine z_istore_n 2 h dX11_closedOf_93 rfl rfl ?_
                  refine z_iinc h dX11_closedOf_94 rfl rfl ki_1 ?_
                  refine z_goto 4 h dX11_closedOf_97 (by decide) ?_
                  refine Z.loc [(0, .ref (ad 0)), (1, .int (nI m)), (2, .int (oZ (clF W m (s + 1)))), (3, .int (nI (s + 1)))] (ll1 rfl (ll1 rfl (ll1 (vS (by simp only [clF]; first | (rw [if_pos (by rw [hq, hno]; rfl)]; rfl) | (rw [if_neg]; simp [hqf]; done) | (rw [if_neg]; simp [hyes]; done))) (ll1 (vS (nI_1 s)) ll0)))) ?_
                  exact ih_4 (s + 1) (by omega) (by omega)
                · have _z := c_85
                  have hno : hoB W m s (W 7) = false := by first | (exact absurd (c_48.symm.trans c_85) (by decide)) | (have e : j = arN W := (by omega); subst e; exact cu_end (by omega) (hcu c_85))
                  refine z_iload_n 3 h dX11_closedOf_88 rfl rfl ?_
                  refine z_goto 93 h dX11_closedOf_89 (by decide) ?_
                  refine z_istore_n 2 h dX11_closedOf_93 rfl rfl ?_
                  refine z_iinc h dX11_closedOf_94 rfl rfl ki_1 ?_
                  refine z_goto 4 h dX11_closedOf_97 (by decide) ?_
                  refine Z.loc [(0, .ref (ad 0)), (1, .int (nI m)), (2, .int (oZ (clF W m (s + 1)))), (3, .int (nI (s + 1)))] (ll1 rfl (ll1 rfl (ll1 (vS (by simp only [clF]; first | (rw [if_pos (by rw [hq, hno]; rfl)]; rfl) | (rw [if_neg]; simp [hqf]; done) | (rw [if_neg]; simp [hyes]; done))) (ll1 (vS (nI_1 s)) ll0)))) ?_
                  exact ih_4 (s + 1) (by omega) (by omega)
              · have _z := c_43
                replace c_43 := (not_congr (ile (a := arN W) (b := j) rfl rfl (by omega) (by omega))).mp c_43
                refine z_iload h dX11_closedOf_46 rfl ?_
                refine z_ifz_eq 83 h dX11_closedOf_48 (by decide) (fun c_48 => ?_) (fun c_48 => ?_)
                · have _z := c_48
                  refine z_iload h dX11_closedOf_83 rfl ?_
                  refine z_ifz_eq 92 h dX11_closedOf_85 (by decide) (fun c_85 => ?_) (fun c_85 => ?_)
                  · have _z := c_85
                    have hyes := cu_f c_85
                    refine z_iload_n 2 h dX11_closedOf_92 rfl rfl ?_
                    refine z_istore_n 2 h dX11_closedOf_93 rfl rfl ?_
                    refine z_iinc h dX11_closedOf_94 rfl rfl ki_1 ?_
                    refine z_goto 4 h dX11_closedOf_97 (by decide) ?_
                    refine Z.loc [(0, .ref (ad 0)), (1, .int (nI m)), (2, .int (oZ (clF W m (s + 1)))), (3, .int (nI (s + 1)))] (ll1 rfl (ll1 rfl (ll1 (vS (by simp only [clF]; first | (rw [if_pos (by rw [hq, hno]; rfl)]; rfl) | (rw [if_neg]; simp [hqf]; done) | (rw [if_neg]; simp [hyes]; done))) (ll1 (vS (nI_1 s)) ll0)))) ?_
                    exact ih_4 (s + 1) (by omega) (by omega)
                  · have _z := c_85
                    have hno : hoB W m s (W 7) = false := by first | (exact absurd (c_48.symm.trans c_85) (by decide)) | (have e : j = arN W := (by omega); subst e; exact cu_end (by omega) (hcu c_85))
                    refine z_iload_n 3 h dX11_closedOf_88 rfl rfl ?_
                    refine z_goto 93 h dX11_closedOf_89 (by decide) ?_
                    refine z_istore_n 2 h dX11_closedOf_93 rfl rfl ?_
                    refine z_iinc h dX11_closedOf_94 rfl rfl ki_1 ?_
                    refine z_goto 4 h dX11_closedOf_97 (by decide) ?_
                    refine Z.loc [(0, .ref (ad 0)), (1, .int (nI m)), (2, .int (oZ (clF W m (s + 1)))), (3, .int (nI (s + 1)))] (ll1 rfl (ll1 rfl (ll1 (vS (by simp only [clF]; first | (rw [if_pos (by rw [hq, hno]; rfl)]; rfl) | (rw [if_neg]; simp [hqf]; done) | (rw [if_neg]; simp [hyes]; done))) (ll1 (vS (nI_1 s)) ll0)))) ?_
                    exact ih_4 (s + 1) (by omega) (by omega)
                · have _z := c_48
                  refine z_iload_n 3 h dX11_closedOf_51 rfl rfl ?_
                  refine z_iload h dX11_closedOf_52 rfl ?_
                  refine z_iconst h dX11_closedOf_54 ki_m1 ?_
                  refine z_ixor h dX11_closedOf_55 ?_
                  refine z_iand h dX11_closedOf_56 ?_
                  refine z_if_ne 70 h dX11_closedOf_57 (by decide) (fun c_57 => ?_) (fun c_57 => ?_)
                  · have _z := c_57
                    have hsb : subN s j = false := Bool.eq_false_iff.mpr (fun q => c_57 ((sub_iff (a := s) (b := j) (by omega) (by omega)).mpr q))
                    refine z_iconst h dX11_closedOf_70 ki_1 ?_
                    refine z_goto 75 h dX11_closedOf_71 (by decide) ?_
                    refine z_istore h dX11_closedOf_75 rfl ?_
                    refine z_iinc h dX11_closedOf_77 rfl rfl ki_1 ?_
                    refine z_goto 37 h dX11_closedOf_80 (by decide) ?_
                    refine Z.loc [(0, .ref (ad 0)), (1, .int (nI m)), (2, .int (oZ (clF W m s))), (3, .int (nI s)), (4, .int (z2i (cuB W m s (j + 1)))), (5, .int (nI (j + 1)))] (ll1 rfl (ll1 rfl (ll1 rfl (ll1 rfl (ll1 (by first | (refine zb1 ?_; simp [cuB, hsb]; done) | (refine zb1 ?_; simp [cuB, c_67]; done) | (refine zb0 ?_; simp [cuB, hsb, c_67]; done)) (ll1 (vS (nI_1 j)) ll0)))))) ?_
                    exact ih_37 (j + 1) (by omega) (fun q => cuA_up (hcu c_48) q) (by omega)
                  · have _z := c_57
                    have hsb := (sub_iff (a := s) (b := j) (by omega) (by omega)).mp c_57
                    refine z_aload_n 0 h dX11_closedOf_60 rfl rfl rfl ?_
                    refine z_iload_n 1 h dX11_closedOf_61 rfl rfl ?_
                    refine z_iload h dX11_closedOf_62 rfl ?_
                    refine z_callVP h (m_holdsBy hm hw hi m j (by omega) (by omega)) kX11 (.inl (hm.at 0 (by decide))) (lw_V q2408 q2410 qs118 q148 q2411) nX11_holdsBy rfl rfl rfl (Nat.le_of_ble_eq_true rfl) (Nat.le_of_ble_eq_true rfl) (Nat.le_of_ble_eq_true rfl) dX11_closedOf_64 ?_
                    refine z_ifz_ne 74 h dX11_closedOf_67 (by decide) (fun c_67 => ?_) (fun c_67 => ?_)
                    · have _z := c_67
                      refine z_iconst h dX11_closedOf_74 ki_0 ?_
                      refine z_istore h dX11_closedOf_75 rfl ?_
                      refine z_iinc h dX11_closedOf_77 rfl rfl ki_1 ?_
                      refine z_goto 37 h dX11_closedOf_80 (by decide) ?_
                      refine Z.loc [(0, .ref (ad 0)), (1, .int (nI m)), (2, .int (oZ (clF W m s))), (3, .int (nI s)), (4, .int (z2i (cuB W m s (j + 1)))), (5, .int (nI (j + 1)))] (ll1 rfl (ll1 rfl (ll1 rfl (ll1 rfl (ll1 (by first | (refine zb1 ?_; simp [cuB, hsb]; done) | (refine zb1 ?_; simp [cuB, c_67]; done) | (refine zb0 ?_; simp [cuB, hsb, c_67]; done)) (ll1 (vS (nI_1 j)) ll0)))))) ?_
                      exact ih_37 (j + 1) (by omega) (fun q => cuA_up (hcu c_48) q) (by omega)
                    · have _z := c_67
                      refine z_iconst h dX11_closedOf_70 ki_1 ?_
                      refine z_goto 75 h dX11_closedOf_71 (by decide) ?_
                      refine z_istore h dX11_closedOf_75 rfl ?_
                      refine z_iinc h dX11_closedOf_77 rfl rfl ki_1 ?_
                      refine z_goto 37 h dX11_closedOf_80 (by decide) ?_
                      refine Z.loc [(0, .ref (ad 0)), (1, .int (nI m)), (2, .int (oZ (clF W m s))), (3, .int (nI s)), (4, .int (z2i (cuB W m s (j + 1)))), (5, .int (nI (j + 1)))] (ll1 rfl (ll1 rfl (ll1 rfl (ll1 rfl (ll1 (by first | (refine zb1 ?_; simp [cuB, hsb]; done) | (refine zb1 ?_; simp [cuB, c_67]; done) | (refine zb0 ?_; simp [cuB, hsb, c_67]; done)) (ll1 (vS (nI_1 j)) ll0)))))) ?_
                      exact ih_37 (j + 1) (by omega) (fun q => cuA_up (hcu c_48) q) (by omega)
          refine Z.loc [(0, .ref (ad 0)), (1, .int (nI m)), (2, .int (oZ (clF W m s))), (3, .int (nI s)), (4, .int (z2i (cuB W m s 0))), (5, .int (nI 0))] (ll1 rfl (ll1 rfl (ll1 rfl (ll1 rfl (ll1 rfl (ll1 rfl ll0)))))) ?_
          exact loop_37 _ 0 (Nat.zero_le _) (fun _ i h => absurd h (Nat.not_lt_zero i)) (Nat.lt_succ_self _)
        refine z_iload_n 2 h dX11_closedOf_12 rfl rfl ?_
        refine z_iconst h dX11_closedOf_13 ki_m1 ?_
        refine z_icmp_eq 31 h dX11_closedOf_14 (by decide) (fun c_14 => ?_) (fun c_14 => ?_)
        · have _z := c_14
          have hqt : clQ (clF W m s) s = true := by rw [oZ_none (fun b hb => (by have := clF_lt _ _ hb; omega)) c_14]; rfl
          refine Z.loc [(0, .ref (ad 0)), (1, .int (nI m)), (2, .int (oZ (clF W m s))), (3, .int (nI s))] (ll1 rfl (ll1 rfl (ll1 rfl (ll1 rfl ll0)))) ?_
          exact join_31  hqt
        · have _z := c_14
          obtain ⟨b, hb⟩ := oZ_some c_14
          have hbl := clF_lt _ _ hb
          refine z_iload_n 3 h dX11_closedOf_17 rfl rfl ?_
          refine z_callSP h (m_bits s (by omega)) (lw_S q2204 q2205 q148 q2206) nX11_bits rfl rfl rfl (Nat.le_of_ble_eq_true rfl) (Nat.le_of_ble_eq_true rfl) (Nat.le_of_ble_eq_true rfl) dX11_closedOf_18 ?_
          refine z_iload_n 2 h dX11_closedOf_21 rfl rfl ?_
          refine Z.st (show _ = [.int (nI b), .int (nI (bcN s))] by rw [hb]; rfl) ?_
          refine z_callSP h (m_bits b (by omega)) (lw_S q2204 q2205 q148 q2206) nX11_bits rfl rfl rfl (Nat.le_of_ble_eq_true rfl) (Nat.le_of_ble_eq_true rfl) (Nat.le_of_ble_eq_true rfl) dX11_closedOf_22 ?_
          refine z_icmp_lt 31 h dX11_closedOf_25 (by decide) (fun c_25 => ?_) (fun c_25 => ?_)
          · have _z := c_25
            replace c_25 := (ilt (a := bcN s) (b := bcN b) rfl rfl (by have := bcN_le s; omega) (by have := bcN_le b; omega)).mp c_25
            have hqt : clQ (clF W m s) s = true := by rw [hb]; exact decide_eq_true c_25
            refine Z.loc [(0, .ref (ad 0)), (1, .int (nI m)), (2, .int (oZ (clF W m s))), (3, .int (nI s))] (ll1 rfl (ll1 rfl (ll1 rfl (ll1 rfl ll0)))) ?_
            exact join_31  hqt
          · have _z := c_25
            replace c_25 := (not_congr (ilt (a := bcN s) (b := bcN b) rfl rfl (by have := bcN_le s; omega) (by have := bcN_le b; omega))).mp c_25
            have hqf : clQ (clF W m s) s = false := by rw [hb]; exact decide_eq_false c_25
            refine z_goto 94 h dX11_closedOf_28 (by decide) ?_
            refine z_iinc h dX11_closedOf_94 rfl rfl ki_1 ?_
            refine z_goto 4 h dX11_closedOf_97 (by decide) ?_
            refine Z.loc [(0, .ref (ad 0)), (1, .int (nI m)), (2, .int (oZ (clF W m (s + 1)))), (3, .int (nI (s + 1)))] (ll1 rfl (ll1 rfl (ll1 (vS (by simp only [clF]; first | (rw [if_pos (by rw [hq, hno]; rfl)]; rfl) | (rw [if_neg]; simp [hqf]; done) | (rw [if_neg]; simp [hyes]; done))) (ll1 (vS (nI_1 s)) ll0)))) ?_
            exact ih_4 (s + 1) (by omega) (by omega)
  refine Z.loc [(0, .ref (ad 0)), (1, .int (nI m)), (2, .int (oZ (clF W m 0))), (3, .int (nI 0))] (ll1 rfl (ll1 rfl (ll1 rfl (ll1 rfl ll0)))) ?_
  exact loop_4 _ 0 (Nat.zero_le _) (Nat.lt_succ_self _)
set_option maxHeartbeats 4000000 in
theorem m_close {l : Launch} {g : Zg} {ad : Nat → Nat} {M : Zm} {st : Ms} {W : Nat → Nat} (hm : Mod g ad M st) (hw : WR st W) (hi : InvW W) (v : Int32) : Cn l g yX11_close cX11_close 3 (some .int) 4 0 0 [.ref (ad 0), .int v] M (PV (.int (aClose W v)) M) := by
  refine Cn.start [(0, .ref (ad 0)), (1, .int v)] (by decide) (Nat.le_of_ble_eq_true rfl) rfl ?_
  intro γ el eg h hq
  subst el; subst eg
  refine z_aload_n 0 h dX11_close_0 rfl rfl rfl ?_
  refine z_iload_n 1 h dX11_close_1 rfl rfl ?_
  refine z_callVP h (m_isSigned hm hw hi v) kX11 (.inl (hm.at 0 (by decide))) (lw_V q2395 q2397 qs115 q148 q2398) nX11_isSigned rfl rfl rfl (Nat.le_of_ble_eq_true rfl) (Nat.le_of_ble_eq_true rfl) (Nat.le_of_ble_eq_true rfl) dX11_close_2 ?_
  refine z_ifz_ne 11 h dX11_close_5 (by decide) (fun c_5 => ?_) (fun c_5 => ?_)
  · have _z := c_5
    obtain ⟨n, h_n, rfl⟩ := sgn_nat c_5
    refine z_aload_n 0 h dX11_close_11 rfl rfl rfl ?_
    refine z_iload_n 1 h dX11_close_12 rfl rfl ?_
    refine z_callVP h (m_closedOf hm hw hi n h_n) kX11 (.inl (hm.at 0 (by decide))) (lw_V q2420 q2422 qs119 q148 q2423) nX11_closedOf rfl rfl rfl (Nat.le_of_ble_eq_true rfl) (Nat.le_of_ble_eq_true rfl) (Nat.le_of_ble_eq_true rfl) dX11_close_13 ?_
    refine z_istore_n 2 h dX11_close_16 rfl rfl ?_
    refine z_iload_n 2 h dX11_close_17 rfl rfl ?_
    refine z_iconst h dX11_close_18 ki_m1 ?_
    refine z_icmp_ne 26 h dX11_close_19 (by decide) (fun c_19 => ?_) (fun c_19 => ?_)
    · have _z := c_19
      obtain ⟨b, hb⟩ := oZ_some c_19
      have hbl := clN_b hi hb
      refine z_iload_n 2 h dX11_close_26 rfl rfl ?_
      refine Z.st (show _ = [.int (nI b)] by rw [hb]; rfl) ?_
      refine z_callSP h (m_bits b (by omega)) (lw_S q2204 q2205 q148 q2206) nX11_bits rfl rfl rfl (Nat.le_of_ble_eq_true rfl) (Nat.le_of_ble_eq_true rfl) (Nat.le_of_ble_eq_true rfl) dX11_close_27 ?_
      exact z_iret h hq dX11_close_30 (Nat.le_of_ble_eq_true rfl) (Nat.le_of_ble_eq_true rfl) (⟨vS (by simp [aClose, c_5, hb, oZ, tn_nI (show n < 2 ^ 31 by omega)]), rfl⟩)
    · have _z := c_19
      have hb := oZ_none (fun b hb => (by have := clN_b hi hb; omega)) c_19
      refine z_iconst h dX11_close_22 ki_m1 ?_
      refine z_goto 30 h dX11_close_23 (by decide) ?_
      exact z_iret h hq dX11_close_30 (Nat.le_of_ble_eq_true rfl) (Nat.le_of_ble_eq_true rfl) (⟨vS (by simp [aClose, c_5, hb, oZ, tn_nI (show n < 2 ^ 31 by omega)]), rfl⟩)
  · have _z := c_5
    refine z_bipush h dX11_close_8 kb_m2 ?_
    exact z_iret h hq dX11_close_10 (Nat.le_of_ble_eq_true rfl) (Nat.le_of_ble_eq_true rfl) (⟨vS (by simp [aClose, c_5]), rfl⟩)
set_option maxHeartbeats 4000000 in
theorem m_closed {l : Launch} {g : Zg} {ad : Nat → Nat} {M : Zm} {st : Ms} {W : Nat → Nat} (hm : Mod g ad M st) (hw : WR st W) (hi : InvW W) (v : Int32) : Cn l g yX11_closed cX11_closed 2 (some .int) 4 0 0 [.ref (ad 0), .int v] M (PV (.int (aClosed W v)) M) := by
  refine Cn.start [(0, .ref (ad 0)), (1, .int v)] (by decide) (Nat.le_of_ble_eq_true rfl) rfl ?_
  intro γ el eg h hq
  subst el; subst eg
  refine z_aload_n 0 h dX11_closed_0 rfl rfl rfl ?_
  refine z_iload_n 1 h dX11_closed_1 rfl rfl ?_
  refine z_callVP h (m_isSigned hm hw hi v) kX11 (.inl (hm.at 0 (by decide))) (lw_V q2395 q2397 qs115 q148 q2398) nX11_isSigned rfl rfl rfl (Nat.le_of_ble_eq_true rfl) (Nat.le_of_ble_eq_true rfl) (Nat.le_of_ble_eq_true rfl) dX11_closed_2 ?_
  refine z_ifz_eq 16 h dX11_closed_5 (by decide) (fun c_5 => ?_) (fun c_5 => ?_)
  · have _z := c_5
    refine z_bipush h dX11_closed_16 kb_m2 ?_
    exact z_iret h hq dX11_closed_18 (Nat.le_of_ble_eq_true rfl) (Nat.le_of_ble_eq_true rfl) (⟨vS (by first | (simp [aClosed, c_5]; done) | (simp [aClosed, c_5, tn_nI (show n < 2 ^ 31 by omega)]; done)), rfl⟩)
  · have _z := c_5
    obtain ⟨n, h_n, rfl⟩ := sgn_nat c_5
    refine z_aload_n 0 h dX11_closed_8 rfl rfl rfl ?_
    refine z_iload_n 1 h dX11_closed_9 rfl rfl ?_
    refine z_callVP h (m_closedOf hm hw hi n h_n) kX11 (.inl (hm.at 0 (by decide))) (lw_V q2420 q2422 qs119 q148 q2423) nX11_closedOf rfl rfl rfl (Nat.le_of_ble_eq_true rfl) (Nat.le_of_ble_eq_true rfl) (Nat.le_of_ble_eq_true rfl) dX11_closed_10 ?_
    refine z_goto 18 h dX11_closed_13 (by decide) ?_
    exact z_iret h hq dX11_closed_18 (Nat.le_of_ble_eq_true rfl) (Nat.le_of_ble_eq_true rfl) (⟨vS (by first | (simp [aClosed, c_5]; done) | (simp [aClosed, c_5, tn_nI (show n < 2 ^ 31 by omega)]; done)), rfl⟩)
set_option maxHeartbeats 4000000 in
theorem m_signs {l : Launch} {g : Zg} {ad : Nat → Nat} {M : Zm} {st : Ms} {W : Nat → Nat} (hm : Mod g ad M st) (hw : WR st W) (hi : InvW W)  : Cn l g yX11_signs cX11_signs 2 (some .int) 4 0 0 [.ref (ad 0)] M (PV (.int (aSigns W)) M) := by
  refine Cn.start [(0, .ref (ad 0))] (by decide) (Nat.le_of_ble_eq_true rfl) rfl ?_
  intro γ el eg h hq
  subst el; subst eg
  obtain ⟨ha1, ha2⟩ := arN_b hi
  refine z_aload_n 0 h dX11_signs_0 rfl rfl rfl ?_
  refine z_callVP h (m_isWar hm hw hi) kX11 (.inl (hm.at 0 (by decide))) (lw_V q2091 q2093 qs84 q148 q2094) nX11_isWar rfl rfl rfl (Nat.le_of_ble_eq_true rfl) (Nat.le_of_ble_eq_true rfl) (Nat.le_of_ble_eq_true rfl) dX11_signs_1 ?_
  refine z_ifz_ne 10 h dX11_signs_4 (by decide) (fun c_4 => ?_) (fun c_4 => ?_)
  · have _z := c_4
    refine z_iconst h dX11_signs_10 ki_0 ?_
    refine z_istore_n 1 h dX11_signs_11 rfl rfl ?_
    have loop_12 : ∀ (fz : Nat) (t : Nat) (ht : t ≤ 60) (hF : sgF W 60 0 = sgF W (60 - t) t), (60 - t) < fz → Z γ M 0 0 12 (lof [(0, .ref (ad 0)), (1, .int (nI t))]) [] := by
      intro fz
      induction fz with
      | zero => intro t ht hF hz; exact absurd hz (Nat.not_lt_zero _)
      | succ fz ih_12 =>
        intro t ht hF hz_12
        refine z_iload_n 1 h dX11_signs_12 rfl rfl ?_
        refine z_bipush h dX11_signs_13 kb_60 ?_
        refine z_icmp_ge 38 h dX11_signs_15 (by decide) (fun c_15 => ?_) (fun c_15 => ?_)
        · have _z := c_15
          replace c_15 := (ile (a := 60) (b := t) rfl rfl (by decide) (by omega)).mp c_15
          refine z_iconst h dX11_signs_38 ki_m1 ?_
          refine z_iret h hq dX11_signs_39 (Nat.le_of_ble_eq_true rfl) (Nat.le_of_ble_eq_true rfl) ?_
          refine ⟨vS ?_, rfl⟩
          unfold aSigns
          rw [if_pos c_4, hF, show 60 - t = 0 by omega]
          rfl
        · have _z := c_15
          replace c_15 := (not_congr (ile (a := 60) (b := t) rfl rfl (by decide) (by omega))).mp c_15
          refine z_aload_n 0 h dX11_signs_18 rfl rfl rfl ?_
          refine z_iload_n 1 h dX11_signs_19 rfl rfl ?_
          refine z_callVP h (m_readingsOf hm hw hi t (by omega)) kX11 (.inl (hm.at 0 (by decide))) (lw_V q2400 q2402 qs116 q148 q2403) nX11_readingsOf rfl rfl rfl (Nat.le_of_ble_eq_true rfl) (Nat.le_of_ble_eq_true rfl) (Nat.le_of_ble_eq_true rfl) dX11_signs_20 ?_
          refine z_aload_n 0 h dX11_signs_23 rfl rfl rfl ?_
          refine z_callVP h (m_allReadings hm hw hi) kX11 (.inl (hm.at 0 (by decide))) (lw_V q2404 q2406 qs117 q148 q2407) nX11_allReadings rfl rfl rfl (Nat.le_of_ble_eq_true rfl) (Nat.le_of_ble_eq_true rfl) (Nat.le_of_ble_eq_true rfl) dX11_signs_24 ?_
          refine z_icmp_ne 32 h dX11_signs_27 (by decide) (fun c_27 => ?_) (fun c_27 => ?_)
          · have _z := c_27
            replace c_27 := (not_congr (ieq (a := rdN W t) (b := arN W) rfl rfl (by have := rdN_b hi t; omega) (by omega))).mp c_27
            refine z_iinc h dX11_signs_32 rfl rfl ki_1 ?_
            refine z_goto 12 h dX11_signs_35 (by decide) ?_
            refine Z.loc [(0, .ref (ad 0)), (1, .int (nI (t + 1)))] (ll1 rfl (ll1 (vS (nI_1 t)) ll0)) ?_
            exact ih_12 (t + 1) (by omega) (by rw [hF, show 60 - t = (60 - (t + 1)) + 1 by omega, sgF, if_neg (by omega)]) (by omega)
          · have _z := c_27
            replace c_27 := (ieq (a := rdN W t) (b := arN W) rfl rfl (by have := rdN_b hi t; omega) (by omega)).mp c_27
            refine z_iload_n 1 h dX11_signs_30 rfl rfl ?_
            refine z_iret h hq dX11_signs_31 (Nat.le_of_ble_eq_true rfl) (Nat.le_of_ble_eq_true rfl) ?_
            refine ⟨vS ?_, rfl⟩
            unfold aSigns
            rw [if_pos c_4, hF, show 60 - t = (59 - t) + 1 by omega, sgF, if_pos (by omega)]
    refine Z.loc [(0, .ref (ad 0)), (1, .int (nI 0))] (ll1 rfl (ll1 rfl ll0)) ?_
    exact loop_12 _ 0 (Nat.zero_le _) rfl (Nat.lt_succ_self _)
  · have _z := c_4
    refine z_bipush h dX11_signs_7 kb_m2 ?_
    exact z_iret h hq dX11_signs_9 (Nat.le_of_ble_eq_true rfl) (Nat.le_of_ble_eq_true rfl) (⟨vS (by simp [aSigns, c_4]), rfl⟩)
set_option maxHeartbeats 4000000 in
theorem m_isTreaty {l : Launch} {g : Zg} {ad : Nat → Nat} {M : Zm} {st : Ms} {W : Nat → Nat} (hm : Mod g ad M st) (hw : WR st W) (hi : InvW W) (d n k : Nat) (hfr : FrA W d (W 0) st) (hn : n ≤ W 0) (hk : k ≤ 1000) : Cn l g yX11_isTreaty cX11_isTreaty 4 (some .boolean) 2 0 0 [.ref (ad 0), .int (nI n), .int (nI k)] M (PV (.int (z2i (trB W d n k))) M) := by
  refine Cn.start [(0, .ref (ad 0)), (1, .int (nI n)), (2, .int (nI k))] (by decide) (Nat.le_of_ble_eq_true rfl) rfl ?_
  intro γ el eg h hq
  subst el; subst eg
  have h0 := hi.h0
  refine z_iload_n 1 h dX11_isTreaty_0 rfl rfl ?_
  refine z_iconst h dX11_isTreaty_1 ki_1 ?_
  refine z_iadd h dX11_isTreaty_2 ?_
  refine z_istore_n 3 h dX11_isTreaty_3 rfl rfl ?_
  have loop_4 : ∀ (fz : Nat) (i : Nat) (hi2 : i ≤ W 0 - n) (hpf : pfF W d n i ≤ k), (W 0 - n - i) < fz → Z γ M 0 0 4 (lof [(0, .ref (ad 0)), (1, .int (nI n)), (2, .int (nI k)), (3, .int (nI (n + 1 + i)))]) [] := by
    intro fz
    induction fz with
    | zero => intro i hi2 hpf hz; exact absurd hz (Nat.not_lt_zero _)
    | succ fz ih_4 =>
      intro i hi2 hpf hz_4
      refine z_iload_n 3 h dX11_isTreaty_4 rfl rfl ?_
      refine z_aload_n 0 h dX11_isTreaty_5 rfl rfl rfl ?_
      refine z_get h kX11 (.inl (hm.at 0 (by decide))) 1 rfl q1848 rfl dX11_isTreaty_6 ?_
      refine z_iconst h dX11_isTreaty_9 ki_0 ?_
      refine zm_w (0) h hm hw rfl (by omega) dX11_isTreaty_10 ?_
      refine z_icmp_gt 42 h dX11_isTreaty_11 (by decide) (fun c_11 => ?_) (fun c_11 => ?_)
      · have _z := c_11
        replace c_11 := (ilt (a := W (0)) (b := n + 1 + i) rfl rfl (hi.lt _ (by omega)) (by omega)).mp c_11
        refine z_iconst h dX11_isTreaty_42 ki_1 ?_
        refine z_zret h hq rfl dX11_isTreaty_43 (Nat.le_of_ble_eq_true rfl) (Nat.le_of_ble_eq_true rfl) ?_
        obtain rfl : i = W 0 - n := by omega
        exact ⟨zb1 (decide_eq_true hpf), rfl⟩
      · have _z := c_11
        replace c_11 := (not_congr (ilt (a := W (0)) (b := n + 1 + i) rfl rfl (hi.lt _ (by omega)) (by omega))).mp c_11
        refine z_aload_n 0 h dX11_isTreaty_14 rfl rfl rfl ?_
        refine z_get h kX11 (.inl (hm.at 0 (by decide))) 15 rfl q1862 rfl dX11_isTreaty_15 ?_
        refine z_iload_n 3 h dX11_isTreaty_18 rfl rfl ?_
        refine z_ialdN (n + 1 + i) h (.inl (hm.at 15 (by decide))) rfl (by omega) (by decide) dX11_isTreaty_19 ?_
        refine z_aload_n 0 h dX11_isTreaty_20 rfl rfl rfl ?_
        refine z_get h kX11 (.inl (hm.at 0 (by decide))) 15 rfl q1862 rfl dX11_isTreaty_21 ?_
        refine z_iload_n 1 h dX11_isTreaty_24 rfl rfl ?_
        refine z_ialdN (n) h (.inl (hm.at 15 (by decide))) rfl (by omega) (by decide) dX11_isTreaty_25 ?_
        refine z_isub h dX11_isTreaty_26 ?_
        have hfd := fr_diff W d n (1 + i)
        rw [← Nat.add_assoc] at hfd
        refine Z.st (show _ = [.int (iI (frZ W d (n + 1 + i) - frZ W d n))] by rw [zsub (hfr (n + 1 + i) (by omega)) (hfr n (by omega))]) ?_
        refine z_callSP h (j_abs (iI (frZ W d (n + 1 + i) - frZ W d n))) (lw_S q2440 q1584 q150 q1585) nJ3_abs rfl rfl rfl (Nat.le_of_ble_eq_true rfl) (Nat.le_of_ble_eq_true rfl) (Nat.le_of_ble_eq_true rfl) dX11_isTreaty_27 ?_
        rw [abs_iI (by omega)]
        refine z_iload_n 2 h dX11_isTreaty_30 rfl rfl ?_
        refine z_icmp_le 36 h dX11_isTreaty_31 (by decide) (fun c_31 => ?_) (fun c_31 => ?_)
        · have _z := c_31
          replace c_31 := (ile (a := (frZ W d (n + 1 + i) - frZ W d n).natAbs) (b := k) rfl rfl (by omega) (by omega)).mp c_31
          refine z_iinc h dX11_isTreaty_36 rfl rfl ki_1 ?_
          refine z_goto 4 h dX11_isTreaty_39 (by decide) ?_
          refine Z.loc [(0, .ref (ad 0)), (1, .int (nI n)), (2, .int (nI k)), (3, .int (nI (n + 1 + (i + 1))))] (ll1 rfl (ll1 rfl (ll1 rfl (ll1 (vS (nI_1 (n + 1 + i))) ll0)))) ?_
          exact ih_4 (i + 1) (by omega) (by unfold pfF; omega) (by omega)
        · have _z := c_31
          replace c_31 := (not_congr (ile (a := (frZ W d (n + 1 + i) - frZ W d n).natAbs) (b := k) rfl rfl (by omega) (by omega))).mp c_31
          refine z_iconst h dX11_isTreaty_34 ki_0 ?_
          refine z_zret h hq rfl dX11_isTreaty_35 (Nat.le_of_ble_eq_true rfl) (Nat.le_of_ble_eq_true rfl) ?_
          refine ⟨zb0 (decide_eq_false ?_), rfl⟩
          have h1 := @pfF_at W d n i
          have h2 := pfF_mono (W := W) (d := d) (n := n) (show i + 1 ≤ W 0 - n by omega)
          unfold pfN
          omega
  refine Z.loc [(0, .ref (ad 0)), (1, .int (nI n)), (2, .int (nI k)), (3, .int (nI (n + 1 + 0)))] (ll1 rfl (ll1 rfl (ll1 rfl (ll1 (vS (nI_1 n)) ll0)))) ?_
  exact loop_4 _ 0 (Nat.zero_le _) (Nat.zero_le _) (Nat.lt_succ_self _)
set_option maxHeartbeats 4000000 in
theorem m_treaties {l : Launch} {g : Zg} {ad : Nat → Nat} {M : Zm} {st : Ms} {W : Nat → Nat} (hm : Mod g ad M st) (hw : WR st W) (hi : InvW W) (v : Int32) : Cn l g yX11_treaties cX11_treaties 5 (some .long) 6 0 0 [.ref (ad 0), .int v] M (PM g ad st (some (.long (aTreaties W v))) (fun _ => True)) := by
  refine Cn.start [(0, .ref (ad 0)), (1, .int v)] (by decide) (Nat.le_of_ble_eq_true rfl) rfl ?_
  intro γ el eg h hq
  subst el; subst eg
  have h4 := hi.h4
  have h0 := hi.h0
  have hw0 := hw
  have hk : keep st st := keep.rf st
  have h2 := hi.2.2.1
  refine z_aload_n 0 h dX11_treaties_0 rfl rfl rfl ?_
  refine z_iload_n 1 h dX11_treaties_1 rfl rfl ?_
  refine z_callVP h (m_areTrains hm hw hi v) kX11 (.inl (hm.at 0 (by decide))) (lw_V q2124 q2126 qs86 q148 q2127) nX11_areTrains rfl rfl rfl (Nat.le_of_ble_eq_true rfl) (Nat.le_of_ble_eq_true rfl) (Nat.le_of_ble_eq_true rfl) dX11_treaties_2 ?_
  refine z_ifz_ne 12 h dX11_treaties_5 (by decide) (fun c_5 => ?_) (fun c_5 => ?_)
  · have _z := c_5
    obtain ⟨d, h_d, hd, rfl⟩ := areTr_nat c_5
    refine z_aload_n 0 h dX11_treaties_12 rfl rfl rfl ?_
    refine z_iload_n 1 h dX11_treaties_13 rfl rfl ?_
    refine z_callV h (m_lastFront hm hw hi d hd) kX11 (.inl (hm.at 0 (by decide))) (lw_V q2167 q2169 qs93 q148 q2170) nX11_lastFront rfl rfl rfl (Nat.le_of_ble_eq_true rfl) (Nat.le_of_ble_eq_true rfl) (Nat.le_of_ble_eq_true rfl) dX11_treaties_14 (fun v M hv => ?_)
    obtain ⟨rfl, s1, hm, hkf, hX⟩ := hv
    replace hk := hk.tr hkf.k
    have hw := hk.w hw0
    refine z_pop h dX11_treaties_17 rfl ?_
    refine z_lconst h dX11_treaties_18 kl_0 ?_
    refine z_lstore_n 2 h dX11_treaties_19 rfl rfl ?_
    refine z_iconst h dX11_treaties_20 ki_1 ?_
    refine z_istore h dX11_treaties_21 rfl ?_
    have loop_23 : ∀ (fz : Nat) (k : Nat) (hk2 : k ≤ W 0), (W 0 - k) < fz → Z γ M 0 0 23 (lof [(0, .ref (ad 0)), (1, .int (nI d)), (2, .long (lN (setN (fun k => trB W d (k + 1) (W 2)) k))), (4, .int (nI (k + 1)))]) [] := by
      intro fz
      induction fz with
      | zero => intro k hk2 hz; exact absurd hz (Nat.not_lt_zero _)
      | succ fz ih_23 =>
        intro k hk2 hz_23
        refine z_iload h dX11_treaties_23 rfl ?_
        refine z_aload_n 0 h dX11_treaties_25 rfl rfl rfl ?_
        refine z_get h kX11 (.inl (hm.at 0 (by decide))) 1 rfl q1848 rfl dX11_treaties_26 ?_
        refine z_iconst h dX11_treaties_29 ki_0 ?_
        refine zm_w (0) h hm hw rfl (by omega) dX11_treaties_30 ?_
        refine z_icmp_gt 68 h dX11_treaties_31 (by decide) (fun c_31 => ?_) (fun c_31 => ?_)
        · have _z := c_31
          replace c_31 := (ilt (a := W (0)) (b := k + 1) rfl rfl (hi.lt _ (by omega)) (by omega)).mp c_31
          refine z_lload_n 2 h dX11_treaties_68 rfl rfl ?_
          refine z_lret h hq dX11_treaties_69 (Nat.le_of_ble_eq_true rfl) (Nat.le_of_ble_eq_true rfl) ?_
          obtain rfl : k = W 0 := by omega
          refine ⟨vL2 ?_, _, hm, hk, trivial⟩
          simp [aTreaties, c_5, tn_nI hd]
        · have _z := c_31
          replace c_31 := (not_congr (ilt (a := W (0)) (b := k + 1) rfl rfl (hi.lt _ (by omega)) (by omega))).mp c_31
          refine z_lload_n 2 h dX11_treaties_34 rfl rfl ?_
          refine z_aload_n 0 h dX11_treaties_35 rfl rfl rfl ?_
          refine z_iload h dX11_treaties_36 rfl ?_
          refine z_aload_n 0 h dX11_treaties_38 rfl rfl rfl ?_
          refine z_get h kX11 (.inl (hm.at 0 (by decide))) 1 rfl q1848 rfl dX11_treaties_39 ?_
          refine z_iconst h dX11_treaties_42 ki_2 ?_
          refine zm_w (2) h hm hw rfl (by omega) dX11_treaties_43 ?_
          refine z_callVP h (m_isTreaty hm hw hi d (k + 1) (W 2) hX (by omega) (by omega)) kX11 (.inl (hm.at 0 (by decide))) (lw_V q2436 q2438 qs120 q148 q2439) nX11_isTreaty rfl rfl rfl (Nat.le_of_ble_eq_true rfl) (Nat.le_of_ble_eq_true rfl) (Nat.le_of_ble_eq_true rfl) dX11_treaties_44 ?_
          refine z_ifz_eq 59 h dX11_treaties_47 (by decide) (fun c_47 => ?_) (fun c_47 => ?_)
          · have _z := c_47
            refine z_lconst h dX11_treaties_59 kl_0 ?_
            refine z_lor h dX11_treaties_60 ?_
            refine z_lstore_n 2 h dX11_treaties_61 rfl rfl ?_
            refine z_iinc h dX11_treaties_62 rfl rfl ki_1 ?_
            refine z_goto 23 h dX11_treaties_65 (by decide) ?_
            refine Z.loc [(0, .ref (ad 0)), (1, .int (nI d)), (2, .long (lN (setN (fun k => trB W d (k + 1) (W 2)) (k + 1)))), (4, .int (nI ((k + 1) + 1)))] (ll1 rfl (ll1 rfl (ll1 (vL2 (by first | (refine setL_t (by omega) ?_; exact c_47) | (refine setL_f (by omega) ?_; exact c_47))) (ll1 (vS (nI_1 (k + 1))) ll0)))) ?_
            exact ih_23 (k + 1) (by omega) (by omega)
          · have _z := c_47
            refine z_lconst h dX11_treaties_50 kl_1 ?_
            refine z_iload h dX11_treaties_51 rfl ?_
            refine z_iconst h dX11_treaties_53 ki_1 ?_
            refine z_isub h dX11_treaties_54 ?_
            refine Z.st (show _ = _ by rw [show nI (k + 1) - 1 = nI k from ixs (a := k + 1) (b := 1) rfl rfl (by omega)]) ?_
            refine z_lshl h dX11_treaties_55 ?_
            refine z_goto 60 h dX11_treaties_56 (by decide) ?_
            refine z_lor h dX11_treaties_60 ?_
            refine z_lstore_n 2 h dX11_treaties_61 rfl rfl ?_
            refine z_iinc h dX11_treaties_62 rfl rfl ki_1 ?_
            refine z_goto 23 h dX11_treaties_65 (by decide) ?_
            refine Z.loc [(0, .ref (ad 0)), (1, .int (nI d)), (2, .long (lN (setN (fun k => trB W d (k + 1) (W 2)) (k + 1)))), (4, .int (nI ((k + 1) + 1)))] (ll1 rfl (ll1 rfl (ll1 (vL2 (by first | (refine setL_t (by omega) ?_; exact c_47) | (refine setL_f (by omega) ?_; exact c_47))) (ll1 (vS (nI_1 (k + 1))) ll0)))) ?_
            exact ih_23 (k + 1) (by omega) (by omega)
    refine Z.loc [(0, .ref (ad 0)), (1, .int (nI d)), (2, .long (lN (setN (fun k => trB W d (k + 1) (W 2)) 0))), (4, .int (nI (0 + 1)))] (ll1 rfl (ll1 rfl (ll1 rfl (ll1 rfl ll0)))) ?_
    exact loop_23 _ 0 (Nat.zero_le _) (Nat.lt_succ_self _)
  · have _z := c_5
    refine z_ldc2 h q2194 dX11_treaties_8 ?_
    exact z_lret h hq dX11_treaties_11 (Nat.le_of_ble_eq_true rfl) (Nat.le_of_ble_eq_true rfl) (⟨vL2 (by simp [aTreaties, c_5]), _, hm, hk, trivial⟩)
set_option maxHeartbeats 4000000 in
theorem m_price {l : Launch} {g : Zg} {ad : Nat → Nat} {M : Zm} {st : Ms} {W : Nat → Nat} (hm : Mod g ad M st) (hw : WR st W) (hi : InvW W) (nv v : Int32) : Cn l g yX11_price cX11_price 4 (some .int) 6 0 0 [.ref (ad 0), .int nv, .int v] M (PM g ad st (some (.int (aPrice W nv v))) (fun _ => True)) := by
  refine Cn.start [(0, .ref (ad 0)), (1, .int nv), (2, .int v)] (by decide) (Nat.le_of_ble_eq_true rfl) rfl ?_
  intro γ el eg h hq
  subst el; subst eg
  have h4 := hi.h4
  have h0 := hi.h0
  have hw0 := hw
  have hk : keep st st := keep.rf st
  refine z_aload_n 0 h dX11_price_0 rfl rfl rfl ?_
  refine z_iload_n 2 h dX11_price_1 rfl rfl ?_
  refine z_callVP h (m_areTrains hm hw hi v) kX11 (.inl (hm.at 0 (by decide))) (lw_V q2124 q2126 qs86 q148 q2127) nX11_areTrains rfl rfl rfl (Nat.le_of_ble_eq_true rfl) (Nat.le_of_ble_eq_true rfl) (Nat.le_of_ble_eq_true rfl) dX11_price_2 ?_
  refine z_ifz_eq 24 h dX11_price_5 (by decide) (fun c_5 => ?_) (fun c_5 => ?_)
  · have _z := c_5
    refine z_bipush h dX11_price_24 kb_m2 ?_
    refine z_iret h hq dX11_price_26 (Nat.le_of_ble_eq_true rfl) (Nat.le_of_ble_eq_true rfl) ?_
    refine ⟨vS ?_, _, hm, hk, trivial⟩
    first | (simp [aPrice, c_5]; done) | (simp [aPrice, c_21]; done)
  · have _z := c_5
    obtain ⟨d, h_d, hd, rfl⟩ := areTr_nat c_5
    refine z_iload_n 1 h dX11_price_8 rfl rfl ?_
    refine z_i2l h dX11_price_9 ?_
    refine z_lconst h dX11_price_10 kl_1 ?_
    refine z_aload_n 0 h dX11_price_11 rfl rfl rfl ?_
    refine z_get h kX11 (.inl (hm.at 0 (by decide))) 1 rfl q1848 rfl dX11_price_12 ?_
    refine z_iconst h dX11_price_15 ki_0 ?_
    refine zm_w (0) h hm hw rfl (by omega) dX11_price_16 ?_
    refine z_i2l h dX11_price_17 ?_
    refine z_callSP h (m_inI nv 1 _ 1 (W 0) rfl (toIz (nz rfl) (by omega))) (lw_S q1950 q1951 q148 q1952) nX11_in rfl rfl rfl (Nat.le_of_ble_eq_true rfl) (Nat.le_of_ble_eq_true rfl) (Nat.le_of_ble_eq_true rfl) dX11_price_18 ?_
    refine z_ifz_ne 27 h dX11_price_21 (by decide) (fun c_21 => ?_) (fun c_21 => ?_)
    · have _z := c_21
      obtain ⟨n, h_n1, h_n, hn, rfl⟩ := one_nat c_21
      have hpf := pf_le60 hi d n
      refine z_aload_n 0 h dX11_price_27 rfl rfl rfl ?_
      refine z_iload_n 2 h dX11_price_28 rfl rfl ?_
      refine z_callV h (m_lastFront hm hw hi d hd) kX11 (.inl (hm.at 0 (by decide))) (lw_V q2167 q2169 qs93 q148 q2170) nX11_lastFront rfl rfl rfl (Nat.le_of_ble_eq_true rfl) (Nat.le_of_ble_eq_true rfl) (Nat.le_of_ble_eq_true rfl) dX11_price_29 (fun v M hv => ?_)
      obtain ⟨rfl, s1, hm, hkf, hX⟩ := hv
      replace hk := hk.tr hkf.k
      have hw := hk.w hw0
      refine z_pop h dX11_price_32 rfl ?_
      refine z_iconst h dX11_price_33 ki_0 ?_
      refine z_istore_n 3 h dX11_price_34 rfl rfl ?_
      have loop_35 : ∀ (fz : Nat) (k : Nat) (hk2 : k ≤ 61) (hpk : k ≤ pfN W d n), (61 - k) < fz → Z γ M 0 0 35 (lof [(0, .ref (ad 0)), (1, .int (nI n)), (2, .int (nI d)), (3, .int (nI k))]) [] := by
        intro fz
        induction fz with
        | zero => intro k hk2 hpk hz; exact absurd hz (Nat.not_lt_zero _)
        | succ fz ih_35 =>
          intro k hk2 hpk hz_35
          refine z_iload_n 3 h dX11_price_35 rfl rfl ?_
          refine z_bipush h dX11_price_36 kb_60 ?_
          refine z_icmp_gt 58 h dX11_price_38 (by decide) (fun c_38 => ?_) (fun c_38 => ?_)
          · have _z := c_38
            replace c_38 := (ilt (a := 60) (b := k) rfl rfl (by decide) (by omega)).mp c_38
            refine z_iconst h dX11_price_58 ki_m1 ?_
            refine z_iret h hq dX11_price_59 (Nat.le_of_ble_eq_true rfl) (Nat.le_of_ble_eq_true rfl) ?_
            exact absurd hpk (by omega)
          · have _z := c_38
            replace c_38 := (not_congr (ilt (a := 60) (b := k) rfl rfl (by decide) (by omega))).mp c_38
            refine z_aload_n 0 h dX11_price_41 rfl rfl rfl ?_
            refine z_iload_n 1 h dX11_price_42 rfl rfl ?_
            refine z_iload_n 3 h dX11_price_43 rfl rfl ?_
            refine z_callVP h (m_isTreaty hm hw hi d (n) (k) hX (by omega) (by omega)) kX11 (.inl (hm.at 0 (by decide))) (lw_V q2436 q2438 qs120 q148 q2439) nX11_isTreaty rfl rfl rfl (Nat.le_of_ble_eq_true rfl) (Nat.le_of_ble_eq_true rfl) (Nat.le_of_ble_eq_true rfl) dX11_price_44 ?_
            refine z_ifz_eq 52 h dX11_price_47 (by decide) (fun c_47 => ?_) (fun c_47 => ?_)
            · have _z := c_47
              replace c_47 := of_decide_eq_false c_47
              refine z_iinc h dX11_price_52 rfl rfl ki_1 ?_
              refine z_goto 35 h dX11_price_55 (by decide) ?_
              refine Z.loc [(0, .ref (ad 0)), (1, .int (nI n)), (2, .int (nI d)), (3, .int (nI (k + 1)))] (ll1 rfl (ll1 rfl (ll1 rfl (ll1 (vS (nI_1 k)) ll0)))) ?_
              exact ih_35 (k + 1) (by omega) (by omega) (by omega)
            · have _z := c_47
              replace c_47 := of_decide_eq_true c_47
              refine z_iload_n 3 h dX11_price_50 rfl rfl ?_
              refine z_iret h hq dX11_price_51 (Nat.le_of_ble_eq_true rfl) (Nat.le_of_ble_eq_true rfl) ?_
              refine ⟨vS ?_, _, hm, hk, trivial⟩
              unfold aPrice
              rw [if_pos (by rw [c_5, c_21]; rfl), tn_nI hd, tn_nI hn, show pfN W d n = k by omega]
      refine Z.loc [(0, .ref (ad 0)), (1, .int (nI n)), (2, .int (nI d)), (3, .int (nI 0))] (ll1 rfl (ll1 rfl (ll1 rfl (ll1 rfl ll0)))) ?_
      exact loop_35 _ 0 (Nat.zero_le _) (Nat.zero_le _) (Nat.lt_succ_self _)
    · have _z := c_21
      refine z_bipush h dX11_price_24 kb_m2 ?_
      refine z_iret h hq dX11_price_26 (Nat.le_of_ble_eq_true rfl) (Nat.le_of_ble_eq_true rfl) ?_
      refine ⟨vS ?_, _, hm, hk, trivial⟩
      first | (simp [aPrice, c_5]; done) | (simp [aPrice, c_21]; done)
