/-! the reference: slots -/
set_option maxRecDepth 100000
/-- slots: the width and the number of each, or nothing -/
def SlR (st : Ms) (Sl : Nat → Option (Nat × Nat)) : Prop := ∀ s, s < 4 → (Sl s = none → st.2.1 28 s = -1) ∧ ∀ w n, Sl s = some (w, n) → st.2.1 28 s = nI n ∧ st.2.1 29 s = nI w ∧ n ≤ 60 ∧ w ≤ 3
def rowC (s w n : Int32) : Bool := inI s 0 3 && inI w 0 3 && decide (n.toInt ≤ 60)
def aRow (s w n : Int32) : Int32 := if rowC s w n = true then (if n.toInt < 0 then -3 else 0) else -2
def wRow (Sl : Nat → Option (Nat × Nat)) (s w n : Int32) : Nat → Option (Nat × Nat) := if rowC s w n = true ∧ ¬ n.toInt < 0 then (fun k => if k = tn s then some (tn w, tn n) else Sl k) else Sl
def aWrite (Sl : Nat → Option (Nat × Nat)) (s i : Int32) : Int32 := if inI s 0 3 = true then (match Sl (tn s) with | none => -6 | some (_, n) => if inI i 0 ((n : Int) - 1) = true then 0 else -7) else -2
def pasB (a b : Nat) (i k n : Int32) : Bool := decide (0 ≤ i.toInt ∧ 0 ≤ k.toInt ∧ 0 ≤ n.toInt ∧ i.toInt + n.toInt ≤ (a : Int) ∧ k.toInt + n.toInt ≤ (b : Int))
def aPaste (Sl : Nat → Option (Nat × Nat)) (s i t k n : Int32) : Int32 := if (inI s 0 3 && inI t 0 3) = true then (match Sl (tn s), Sl (tn t) with | some (w, a), some (u, b) => if w = u then (if pasB a b i k n = true then 0 else -7) else -8 | _, _ => -6) else -2
theorem three_nat {v : Int32} (h : inI v 0 3 = true) : ∃ n : Nat, n ≤ 3 ∧ v = nI n := by
  obtain ⟨n, h1, h2, h3⟩ := inI_nat h
  exact ⟨n, by omega, h3⟩
theorem nn_nat {v : Int32} (h : ¬ v < 0) : ∃ n : Nat, n < 2 ^ 31 ∧ v = nI n := by
  have h1 : ¬ v.toInt < 0 := fun q => h (Int32.lt_iff_toInt_lt.mpr q)
  have h3 := Int32.toInt_lt v
  refine ⟨v.toInt.toNat, by omega, ?_⟩
  apply Int32.toInt_inj.mp
  rw [nI_toInt (by omega)]
  omega
theorem neg_int {v : Int32} : v < 0 ↔ v.toInt < 0 := Int32.lt_iff_toInt_lt
theorem sl_some {o : Option (Nat × Nat)} {x : Int32} (h : o = none → x = -1) (hx : ¬ x = -1) : ∃ w n, o = some (w, n) := by
  cases o with
  | none => exact absurd (h rfl) hx
  | some p => exact ⟨p.1, p.2, rfl⟩
theorem sl_none {o : Option (Nat × Nat)} {x : Int32} (h : ∀ w n, o = some (w, n) → x = nI n ∧ n ≤ 60) (hx : x = -1) : o = none := by
  cases o with
  | none => rfl
  | some p =>
    obtain ⟨h1, h2⟩ := h p.1 p.2 rfl
    rw [hx] at h1
    have h3 := congrArg Int32.toInt h1
    rw [nI_toInt (by omega)] at h3
    exact absurd h3 (by show ¬ ((-1 : Int) = p.2); omega)
theorem SlR.kp {B : List Nat} {st st' : Ms} {Sl : Nat → Option (Nat × Nat)} (h : SlR st Sl) (hk : kpA B st st') (h1 : 28 ∉ B) (h2 : 29 ∉ B) : SlR st' Sl := by
  intro s hs
  rw [hk.2 28 (by decide) h1, hk.2 29 (by decide) h2]
  exact h s hs
theorem SlR.k {st st' : Ms} {Sl : Nat → Option (Nat × Nat)} (h : SlR st Sl) (hk : keep st st') : SlR st' Sl := by
  intro s hs
  rw [hk.2.1 28 (by decide), hk.2.1 29 (by decide)]
  exact h s hs
theorem lc_gt {a b : Nat} (ha : a < 2 ^ 63) (hb : b < 2 ^ 63) : 0 < lg_cmp (lN a) (lN b) ↔ b < a := by
  rw [lg_cmp_gt, pk_lLT hb ha]
theorem lc_le {a b : Nat} (ha : a < 2 ^ 63) (hb : b < 2 ^ 63) : lg_cmp (lN a) (lN b) ≤ 0 ↔ a ≤ b := by
  rw [← Int32.not_lt, lg_cmp_gt, pk_lLT hb ha]
  omega
set_option maxHeartbeats 4000000 in
theorem m_isSlot {l : Launch} {g : Zg} {M : Zm} (v : Int32) : Cn l g yX11_isSlot cX11_isSlot 1 (some .boolean) 2 0 0 [.int v] M (PV (.int (z2i (inI v 0 3))) M) := by
  refine Cn.start [(0, .int v)] (by decide) (Nat.le_of_ble_eq_true rfl) rfl ?_
  intro γ el eg h hq
  subst el; subst eg
  refine z_iload_n 0 h dX11_isSlot_0 rfl rfl ?_
  refine z_i2l h dX11_isSlot_1 ?_
  refine z_lconst h dX11_isSlot_2 kl_0 ?_
  refine z_ldc2 h q2107 dX11_isSlot_3 ?_
  refine z_callSP h (m_inI v 0 3 0 3 rfl rfl) (lw_S q1950 q1951 q148 q1952) nX11_in rfl rfl rfl (Nat.le_of_ble_eq_true rfl) (Nat.le_of_ble_eq_true rfl) (Nat.le_of_ble_eq_true rfl) dX11_isSlot_6 ?_
  exact z_zret h hq (z2i_n _) dX11_isSlot_9 (Nat.le_of_ble_eq_true rfl) (Nat.le_of_ble_eq_true rfl) (⟨rfl, rfl⟩)
set_option maxHeartbeats 4000000 in
theorem m_cut {l : Launch} {g : Zg} {M : Zm} (v : Int64) (w : Int32) : Cn l g yX11_cut cX11_cut 4 (some .long) 1 0 0 [.long v, .int w] M (fun r M' => (∃ z, r = some (.long z)) ∧ M' = M) := by
  refine Cn.start [(0, .long v), (2, .int w)] (by decide) (Nat.le_of_ble_eq_true rfl) rfl ?_
  intro γ el eg h hq
  subst el; subst eg
  refine z_bipush h dX11_cut_0 kb_64 ?_
  refine z_bipush h dX11_cut_2 kb_8 ?_
  refine z_iload_n 2 h dX11_cut_4 rfl rfl ?_
  refine z_ishl h dX11_cut_5 ?_
  refine z_isub h dX11_cut_6 ?_
  refine z_istore_n 3 h dX11_cut_7 rfl rfl ?_
  refine z_lload_n 0 h dX11_cut_8 rfl rfl ?_
  refine z_iload_n 3 h dX11_cut_9 rfl rfl ?_
  refine z_lshl h dX11_cut_10 ?_
  refine z_iload_n 3 h dX11_cut_11 rfl rfl ?_
  refine z_lshr h dX11_cut_12 ?_
  exact z_lret h hq dX11_cut_13 (Nat.le_of_ble_eq_true rfl) (Nat.le_of_ble_eq_true rfl) (⟨⟨_, rfl⟩, rfl⟩)
set_option maxHeartbeats 4000000 in
theorem m_row {l : Launch} {g : Zg} {ad : Nat → Nat} {M : Zm} {st : Ms} (hm : Mod g ad M st) {Sl : Nat → Option (Nat × Nat)} (hSl : SlR st Sl) (sv wv nv : Int32) : Cn l g yX11_row cX11_row 5 (some .int) 3 0 0 [.ref (ad 0), .int sv, .int wv, .int nv] M (PMK g ad [28, 29] st (some (.int (aRow sv wv nv))) (fun s9 => SlR s9 (wRow Sl sv wv nv))) := by
  refine Cn.start [(0, .ref (ad 0)), (1, .int sv), (2, .int wv), (3, .int nv)] (by decide) (Nat.le_of_ble_eq_true rfl) rfl ?_
  intro γ el eg h hq
  subst el; subst eg
  have hk0 : kpA [28, 29] st st := kpA.rf _ st
  refine z_iload_n 1 h dX11_row_0 rfl rfl ?_
  refine z_callSP h (m_isSlot sv) (lw_S q2567 q2568 q148 q2569) nX11_isSlot rfl rfl rfl (Nat.le_of_ble_eq_true rfl) (Nat.le_of_ble_eq_true rfl) (Nat.le_of_ble_eq_true rfl) dX11_row_1 ?_
  refine z_ifz_eq 25 h dX11_row_4 (by decide) (fun c_4 => ?_) (fun c_4 => ?_)
  · have _z := c_4
    refine z_bipush h dX11_row_25 kb_m2 ?_
    refine z_iret h hq dX11_row_27 (Nat.le_of_ble_eq_true rfl) (Nat.le_of_ble_eq_true rfl) ?_
    first | (refine ⟨vS ?_, st, hm, hk0, ?_⟩; rotate_left; (unfold wRow rowC; rw [c_4, if_neg (by simp)]; exact hSl); simp [aRow, rowC, c_4]; done) | (refine ⟨vS ?_, st, hm, hk0, ?_⟩; rotate_left; (unfold wRow rowC; rw [c_16, if_neg (by simp)]; exact hSl); simp [aRow, rowC, c_16]; done) | (refine ⟨vS ?_, st, hm, hk0, ?_⟩; rotate_left; (unfold wRow rowC; rw [decide_eq_false hgt, if_neg (by simp)]; exact hSl); simp [aRow, rowC, hgt]; done)
  · have _z := c_4
    obtain ⟨s, h_s, rfl⟩ := three_nat c_4
    refine z_iload_n 2 h dX11_row_7 rfl rfl ?_
    refine z_i2l h dX11_row_8 ?_
    refine z_lconst h dX11_row_9 kl_0 ?_
    refine z_ldc2 h q2107 dX11_row_10 ?_
    refine z_callSP h (m_inI wv 0 3 0 3 rfl rfl) (lw_S q1950 q1951 q148 q1952) nX11_in rfl rfl rfl (Nat.le_of_ble_eq_true rfl) (Nat.le_of_ble_eq_true rfl) (Nat.le_of_ble_eq_true rfl) dX11_row_13 ?_
    refine z_ifz_eq 25 h dX11_row_16 (by decide) (fun c_16 => ?_) (fun c_16 => ?_)
    · have _z := c_16
      refine z_bipush h dX11_row_25 kb_m2 ?_
      refine z_iret h hq dX11_row_27 (Nat.le_of_ble_eq_true rfl) (Nat.le_of_ble_eq_true rfl) ?_
      first | (refine ⟨vS ?_, st, hm, hk0, ?_⟩; rotate_left; (unfold wRow rowC; rw [c_4, if_neg (by simp)]; exact hSl); simp [aRow, rowC, c_4]; done) | (refine ⟨vS ?_, st, hm, hk0, ?_⟩; rotate_left; (unfold wRow rowC; rw [c_16, if_neg (by simp)]; exact hSl); simp [aRow, rowC, c_16]; done) | (refine ⟨vS ?_, st, hm, hk0, ?_⟩; rotate_left; (unfold wRow rowC; rw [decide_eq_false hgt, if_neg (by simp)]; exact hSl); simp [aRow, rowC, hgt]; done)
    · have _z := c_16
      obtain ⟨w, h_w, rfl⟩ := three_nat c_16
      refine z_iload_n 3 h dX11_row_19 rfl rfl ?_
      refine z_bipush h dX11_row_20 kb_60 ?_
      refine z_icmp_le 28 h dX11_row_22 (by decide) (fun c_22 => ?_) (fun c_22 => ?_)
      · have _z := c_22
        have hle : nv.toInt ≤ 60 := Int32.le_iff_toInt_le.mp c_22
        refine z_iload_n 3 h dX11_row_28 rfl rfl ?_
        refine z_if_ge 35 h dX11_row_29 (by decide) (fun c_29 => ?_) (fun c_29 => ?_)
        · have _z := c_29
          obtain ⟨n, h_n, rfl⟩ := nn_nat (Int32.not_lt.mpr c_29)
          rw [nI_toInt h_n] at hle
          refine z_aload_n 0 h dX11_row_35 rfl rfl rfl ?_
          refine z_get h kX11 (.inl (hm.at 0 (by decide))) 28 rfl q1875 rfl dX11_row_36 ?_
          refine z_iload_n 1 h dX11_row_39 rfl rfl ?_
          refine z_iload_n 3 h dX11_row_40 rfl rfl ?_
          refine zm_iast 28 (s) h hm (by decide) (fun _ => rfl) rfl (by omega) (by decide) dX11_row_41 (fun M hm => ?_)
          generalize hs1 : uA st 28 _ = s1 at hm
          obtain ⟨f1, f2⟩ := atq hs1
          have hk1 := hk0.A (Or.inl (by decide)) hs1
          refine z_aload_n 0 h dX11_row_42 rfl rfl rfl ?_
          refine z_get h kX11 (.inl (hm.at 0 (by decide))) 29 rfl q1876 rfl dX11_row_43 ?_
          refine z_iload_n 1 h dX11_row_46 rfl rfl ?_
          refine z_iload_n 2 h dX11_row_47 rfl rfl ?_
          refine zm_iast 29 (s) h hm (by decide) (fun _ => rfl) rfl (by omega) (by decide) dX11_row_48 (fun M hm => ?_)
          generalize hs2 : uA s1 29 _ = s2 at hm
          obtain ⟨g1, g2⟩ := atq hs2
          replace hk1 := hk1.A (Or.inl (by decide)) hs2
          refine z_iconst h dX11_row_49 ki_0 ?_
          refine z_istore h dX11_row_50 rfl ?_
          have loop_52 : ∀ (fz : Nat) (M : Zm) (s3 : Ms) (i : Nat) (hm : Mod (cg γ) ad M s3) (hk : kpA [28, 29] st s3) (hi6 : i ≤ 60) (hs : s3.2.1 = s2.2.1), (60 - i) < fz → Z γ M 0 0 52 (lof [(0, .ref (ad 0)), (1, .int (nI s)), (2, .int (nI w)), (3, .int (nI n)), (4, .int (nI i))]) [] := by
            intro fz
            induction fz with
            | zero => intro M s3 i hm hk hi6 hs hz; exact absurd hz (Nat.not_lt_zero _)
            | succ fz ih_52 =>
              intro M s3 i hm hk hi6 hs hz_52
              refine z_iload h dX11_row_52 rfl ?_
              refine z_bipush h dX11_row_54 kb_60 ?_
              refine z_icmp_ge 78 h dX11_row_56 (by decide) (fun c_56 => ?_) (fun c_56 => ?_)
              · have _z := c_56
                replace c_56 := (ile (a := 60) (b := i) rfl rfl (by decide) (by omega)).mp c_56
                refine z_iconst h dX11_row_78 ki_0 ?_
                refine z_iret h hq dX11_row_79 (Nat.le_of_ble_eq_true rfl) (Nat.le_of_ble_eq_true rfl) ?_
                refine ⟨vS ?_, s3, hm, hk, ?_⟩
                · unfold aRow rowC; rw [c_4, c_16, if_pos (by simp [nI_toInt h_n]; omega), if_neg (by rw [nI_toInt h_n]; omega)]
                · unfold wRow rowC; rw [c_4, c_16, if_pos ⟨by simp [nI_toInt h_n]; omega, by rw [nI_toInt h_n]; omega⟩, tn_nI (show s < 2 ^ 31 by omega), tn_nI (show w < 2 ^ 31 by omega), tn_nI h_n]
                  intro q hq4
                  rw [hs, g1, g2 28 (by decide), f1, f2 29 (by decide)]
                  unfold upd
                  by_cases e : q = s
                  · simp only [if_pos e]
                    exact ⟨fun r => by simp at r, fun a b r => by simp at r; obtain ⟨rfl, rfl⟩ := r; exact ⟨rfl, rfl, by omega, by omega⟩⟩
                  · simp only [if_neg e]
                    exact hSl q hq4
              · have _z := c_56
                replace c_56 := (not_congr (ile (a := 60) (b := i) rfl rfl (by decide) (by omega))).mp c_56
                refine z_aload_n 0 h dX11_row_59 rfl rfl rfl ?_
                refine z_get h kX11 (.inl (hm.at 0 (by decide))) 30 rfl q1877 rfl dX11_row_60 ?_
                refine z_bipush h dX11_row_63 kb_60 ?_
                refine z_iload_n 1 h dX11_row_65 rfl rfl ?_
                refine z_imul h dX11_row_66 ?_
                refine z_iload h dX11_row_67 rfl ?_
                refine z_iadd h dX11_row_69 ?_
                refine z_lconst h dX11_row_70 kl_0 ?_
                refine zm_last 30 ((60 * s) + i) h hm (by decide) (fun _ => rfl) (ixa (ixm rfl rfl) rfl) (by omega) (by decide) dX11_row_71 (fun M hm => ?_)
                generalize hs3 : uL s3 30 _ = s4 at hm
                have e4 := atL hs3
                replace hk := hk.L hs3
                refine z_iinc h dX11_row_72 rfl rfl ki_1 ?_
                refine z_goto 52 h dX11_row_75 (by decide) ?_
                refine Z.loc [(0, .ref (ad 0)), (1, .int (nI s)), (2, .int (nI w)), (3, .int (nI n)), (4, .int (nI (i + 1)))] (ll1 rfl (ll1 rfl (ll1 rfl (ll1 rfl (ll1 (vS (nI_1 i)) ll0))))) ?_
                exact ih_52 _ _ (i + 1) hm hk (by omega) (e4.trans hs) (by omega)
          refine Z.loc [(0, .ref (ad 0)), (1, .int (nI s)), (2, .int (nI w)), (3, .int (nI n)), (4, .int (nI 0))] (ll1 rfl (ll1 rfl (ll1 rfl (ll1 rfl (ll1 rfl ll0))))) ?_
          exact loop_52 _ _ _ 0 hm hk1 (Nat.zero_le _) rfl (Nat.lt_succ_self _)
        · have _z := c_29
          have hneg := neg_int.mp (Int32.not_le.mp c_29)
          refine z_bipush h dX11_row_32 kb_m3 ?_
          refine z_iret h hq dX11_row_34 (Nat.le_of_ble_eq_true rfl) (Nat.le_of_ble_eq_true rfl) ?_
          refine ⟨vS ?_, st, hm, hk0, ?_⟩
          · simp [aRow, rowC, c_4, c_16, hle, hneg]
          · unfold wRow; rw [if_neg (fun q => q.2 hneg)]; exact hSl
      · have _z := c_22
        have hgt : ¬ nv.toInt ≤ 60 := fun q => c_22 (Int32.le_iff_toInt_le.mpr q)
        refine z_bipush h dX11_row_25 kb_m2 ?_
        refine z_iret h hq dX11_row_27 (Nat.le_of_ble_eq_true rfl) (Nat.le_of_ble_eq_true rfl) ?_
        first | (refine ⟨vS ?_, st, hm, hk0, ?_⟩; rotate_left; (unfold wRow rowC; rw [c_4, if_neg (by simp)]; exact hSl); simp [aRow, rowC, c_4]; done) | (refine ⟨vS ?_, st, hm, hk0, ?_⟩; rotate_left; (unfold wRow rowC; rw [c_16, if_neg (by simp)]; exact hSl); simp [aRow, rowC, c_16]; done) | (refine ⟨vS ?_, st, hm, hk0, ?_⟩; rotate_left; (unfold wRow rowC; rw [decide_eq_false hgt, if_neg (by simp)]; exact hSl); simp [aRow, rowC, hgt]; done)
theorem upto1_nat {v : Int32} {n : Nat} (h : inI v 0 ((n : Int) - 1) = true) : ∃ i : Nat, i < n ∧ v = nI i := by
  obtain ⟨i, h1, h2, h3⟩ := inI_nat h
  exact ⟨i, by omega, h3⟩
set_option maxHeartbeats 4000000 in
theorem m_write {l : Launch} {g : Zg} {ad : Nat → Nat} {M : Zm} {st : Ms} (hm : Mod g ad M st) {Sl : Nat → Option (Nat × Nat)} (hSl : SlR st Sl) (sv iv : Int32) (v : Int64) : Cn l g yX11_write cX11_write 5 (some .int) 3 0 0 [.ref (ad 0), .int sv, .int iv, .long v] M (PMK g ad [] st (some (.int (aWrite Sl sv iv))) (fun _ => True)) := by
  refine Cn.start [(0, .ref (ad 0)), (1, .int sv), (2, .int iv), (3, .long v)] (by decide) (Nat.le_of_ble_eq_true rfl) rfl ?_
  intro γ el eg h hq
  subst el; subst eg
  have hk0 : kpA [] st st := kpA.rf _ st
  refine z_iload_n 1 h dX11_write_0 rfl rfl ?_
  refine z_callSP h (m_isSlot sv) (lw_S q2567 q2568 q148 q2569) nX11_isSlot rfl rfl rfl (Nat.le_of_ble_eq_true rfl) (Nat.le_of_ble_eq_true rfl) (Nat.le_of_ble_eq_true rfl) dX11_write_1 ?_
  refine z_ifz_ne 10 h dX11_write_4 (by decide) (fun c_4 => ?_) (fun c_4 => ?_)
  · have _z := c_4
    obtain ⟨s, h_s, rfl⟩ := three_nat c_4
    refine z_aload_n 0 h dX11_write_10 rfl rfl rfl ?_
    refine z_get h kX11 (.inl (hm.at 0 (by decide))) 28 rfl q1875 rfl dX11_write_11 ?_
    refine z_iload_n 1 h dX11_write_14 rfl rfl ?_
    refine z_ialdN (s) h (.inl (hm.at 28 (by decide))) rfl (by omega) (by decide) dX11_write_15 ?_
    refine z_iconst h dX11_write_16 ki_m1 ?_
    refine z_icmp_ne 23 h dX11_write_17 (by decide) (fun c_17 => ?_) (fun c_17 => ?_)
    · have _z := c_17
      obtain ⟨w, n, hS⟩ := sl_some (hSl s (by omega)).1 c_17
      obtain ⟨hmn, hwd, hn60, hw3⟩ := (hSl s (by omega)).2 w n hS
      refine z_iload_n 2 h dX11_write_23 rfl rfl ?_
      refine z_i2l h dX11_write_24 ?_
      refine z_lconst h dX11_write_25 kl_0 ?_
      refine z_aload_n 0 h dX11_write_26 rfl rfl rfl ?_
      refine z_get h kX11 (.inl (hm.at 0 (by decide))) 28 rfl q1875 rfl dX11_write_27 ?_
      refine z_iload_n 1 h dX11_write_30 rfl rfl ?_
      refine z_ialdN (s) h (.inl (hm.at 28 (by decide))) rfl (by omega) (by decide) dX11_write_31 ?_
      rw [hmn]
      refine z_iconst h dX11_write_32 ki_1 ?_
      refine z_isub h dX11_write_33 ?_
      refine z_i2l h dX11_write_34 ?_
      refine z_callSP h (m_inI iv 0 _ 0 ((n : Int) - 1) rfl (toIz (zsub (nz rfl) (nz (a := 1) rfl)) (by omega))) (lw_S q1950 q1951 q148 q1952) nX11_in rfl rfl rfl (Nat.le_of_ble_eq_true rfl) (Nat.le_of_ble_eq_true rfl) (Nat.le_of_ble_eq_true rfl) dX11_write_35 ?_
      refine z_ifz_ne 44 h dX11_write_38 (by decide) (fun c_38 => ?_) (fun c_38 => ?_)
      · have _z := c_38
        obtain ⟨i, h_i, rfl⟩ := upto1_nat c_38
        refine z_aload_n 0 h dX11_write_44 rfl rfl rfl ?_
        refine z_get h kX11 (.inl (hm.at 0 (by decide))) 30 rfl q1877 rfl dX11_write_45 ?_
        refine z_bipush h dX11_write_48 kb_60 ?_
        refine z_iload_n 1 h dX11_write_50 rfl rfl ?_
        refine z_imul h dX11_write_51 ?_
        refine z_iload_n 2 h dX11_write_52 rfl rfl ?_
        refine z_iadd h dX11_write_53 ?_
        refine z_lload_n 3 h dX11_write_54 rfl rfl ?_
        refine z_aload_n 0 h dX11_write_55 rfl rfl rfl ?_
        refine z_get h kX11 (.inl (hm.at 0 (by decide))) 29 rfl q1876 rfl dX11_write_56 ?_
        refine z_iload_n 1 h dX11_write_59 rfl rfl ?_
        refine z_ialdN (s) h (.inl (hm.at 29 (by decide))) rfl (by omega) (by decide) dX11_write_60 ?_
        refine z_callS h (m_cut _ _) (lw_S q2574 q2575 q148 q2576) nX11_cut rfl rfl rfl (Nat.le_of_ble_eq_true rfl) (Nat.le_of_ble_eq_true rfl) (Nat.le_of_ble_eq_true rfl) dX11_write_61 (fun v M hv => ?_)
        obtain ⟨⟨z, rfl⟩, rfl⟩ := hv
        refine zm_last 30 ((60 * s) + i) h hm (by decide) (fun _ => rfl) (ixa (ixm rfl rfl) rfl) (by omega) (by decide) dX11_write_64 (fun M hm => ?_)
        generalize hs1 : uL st 30 _ = s1 at hm
        have hk := hk0.L hs1
        refine z_iconst h dX11_write_65 ki_0 ?_
        exact z_iret h hq dX11_write_66 (Nat.le_of_ble_eq_true rfl) (Nat.le_of_ble_eq_true rfl) (⟨vS (by simp [aWrite, c_4, tn_nI (show s < 2 ^ 31 by omega), hS, c_38]), s1, hm, hk, trivial⟩)
      · have _z := c_38
        refine z_bipush h dX11_write_41 kb_m7 ?_
        exact z_iret h hq dX11_write_43 (Nat.le_of_ble_eq_true rfl) (Nat.le_of_ble_eq_true rfl) (⟨vS (by simp [aWrite, c_4, tn_nI (show s < 2 ^ 31 by omega), hS, c_38]), st, hm, hk0, trivial⟩)
    · have _z := c_17
      have hN := sl_none (fun w n hS => (by obtain ⟨q1, q2, q3, q4⟩ := (hSl s (by omega)).2 w n hS; exact ⟨q1, q3⟩)) c_17
      refine z_bipush h dX11_write_20 kb_m6 ?_
      exact z_iret h hq dX11_write_22 (Nat.le_of_ble_eq_true rfl) (Nat.le_of_ble_eq_true rfl) (⟨vS (by simp [aWrite, c_4, tn_nI (show s < 2 ^ 31 by omega), hN]), st, hm, hk0, trivial⟩)
  · have _z := c_4
    refine z_bipush h dX11_write_7 kb_m2 ?_
    exact z_iret h hq dX11_write_9 (Nat.le_of_ble_eq_true rfl) (Nat.le_of_ble_eq_true rfl) (⟨vS (by simp [aWrite, c_4]), st, hm, hk0, trivial⟩)
