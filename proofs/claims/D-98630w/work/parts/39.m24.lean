/-! the reference: words, numbers, faults -/
set_option maxRecDepth 100000
theorem and_tt {a b : Bool} (h : (a && b) = true) : a = true ∧ b = true := by rwa [Bool.and_eq_true] at h
theorem TxC.cell {g : Zg} {a : Nat} {w : List Nat} (h : TxC g a w) : ∃ v, zRom g a = some (eo 20 [.ref v, .int 0]) := by
  obtain ⟨v, f, q, -⟩ := h
  exact ⟨v, q⟩
theorem TxC.lt {g : Zg} {a : Nat} {w : List Nat} (h : TxC g a w) : w.length < 100 := by
  obtain ⟨v, f, -, -, q, -⟩ := h
  exact q
theorem isA_eq (w : List Nat) (t : Tk) : isA w (.ok t) = (decide (t.2.2.1 = 1) && decide (t.1 - t.2.1 = w.length)) := rfl
theorem tak_t {T : Nat → Int32} {tp : Nat} {w : List Nat} {t : Tk} (h : isX T w (.ok t) = true) : takX T tp w (.ok t) = .ok (adv T tp t.1) := if_pos h
theorem RSt.kp {st st' : Ms} {tp : Nat} {T : Nat → Int32} {t : Tk} (h : RX st tp T) (hk : kpR st st') (h12 : st.1 12 = 0) (h13 : st.1 13 = -1) (hT : tkR st' t) (hB : TkB tp t) : RSt st' tp T (.ok t) :=
  ⟨h.kp hk, (hk.1 12 (by decide) (by decide) (by decide) (by decide)).trans h12, (hk.1 13 (by decide) (by decide) (by decide) (by decide)).trans h13, hT, hB⟩
set_option maxHeartbeats 4000000 in
theorem m_is {l : Launch} {g : Zg} {ad : Nat → Nat} {M : Zm} {st : Ms} (hm : Mod g ad M st) {tp : Nat} {T : Nat → Int32} {X : Rs} (hX : RSt st tp T X) {wa : Nat} {w : List Nat} (hg : Gok g) (ht : TxC g wa w)  : Cn l g yX11_is cX11_is 4 (some .boolean) 5 0 0 [.ref (ad 0), .ref wa] M (PV (.int (z2i (isX T w X))) M) := by
  refine Cn.start [(0, .ref (ad 0)), (1, .ref wa)] (by decide) (Nat.le_of_ble_eq_true rfl) rfl ?_
  intro γ el eg h hq
  subst el; subst eg
  obtain ⟨sv, hcell⟩ := ht.cell
  have hwl := ht.lt
  have join_36 : ∀ (b : Bool) (hb : isA w X = b), Z γ M 0 0 36 (lof [(0, .ref (ad 0)), (1, .ref wa)]) [.int (z2i b)] := by
    intro b hb
    refine z_istore_n 2 h dX11_is_36 rfl rfl ?_
    refine z_iconst h dX11_is_37 ki_0 ?_
    refine z_istore_n 3 h dX11_is_38 rfl rfl ?_
    have loop_39 : ∀ (fz : Nat) (k : Nat) (hkl : k ≤ w.length), (w.length - k) < fz → Z γ M 0 0 39 (lof [(0, .ref (ad 0)), (1, .ref wa), (2, .int (z2i (isA w X && isE T w X k))), (3, .int (nI k))]) [] := by
      intro fz
      induction fz with
      | zero => intro k hkl hz; exact absurd hz (Nat.not_lt_zero _)
      | succ fz ih_39 =>
        intro k hkl hz_39
        refine z_iload_n 3 h dX11_is_39 rfl rfl ?_
        refine z_aload_n 1 h dX11_is_40 rfl rfl rfl ?_
        refine z_callVP h (tx_len hg wa w ht) kJ4 (.inr hcell) (lw_V q2012 q758 q759 q151 q760) nJ4_length rfl rfl rfl (Nat.le_of_ble_eq_true rfl) (Nat.le_of_ble_eq_true rfl) (Nat.le_of_ble_eq_true rfl) dX11_is_41 ?_
        refine z_icmp_ge 82 h dX11_is_44 (by decide) (fun c_44 => ?_) (fun c_44 => ?_)
        · have _z := c_44
          replace c_44 := (ile (a := w.length) (b := k) rfl rfl (by omega) (by omega)).mp c_44
          refine z_iload_n 2 h dX11_is_82 rfl rfl ?_
          refine z_zret h hq (z2i_n _) dX11_is_83 (Nat.le_of_ble_eq_true rfl) (Nat.le_of_ble_eq_true rfl) ?_
          refine ⟨vS ?_, rfl⟩
          first | (rw [isX_f hkl c_48, c_48]; done) | (obtain rfl : k = w.length := (by omega); rfl)
        · have _z := c_44
          replace c_44 := (not_congr (ile (a := w.length) (b := k) rfl rfl (by omega) (by omega))).mp c_44
          refine z_iload_n 2 h dX11_is_47 rfl rfl ?_
          refine z_ifz_eq 82 h dX11_is_48 (by decide) (fun c_48 => ?_) (fun c_48 => ?_)
          · have _z := c_48
            refine z_iload_n 2 h dX11_is_82 rfl rfl ?_
            refine z_zret h hq (z2i_n _) dX11_is_83 (Nat.le_of_ble_eq_true rfl) (Nat.le_of_ble_eq_true rfl) ?_
            refine ⟨vS ?_, rfl⟩
            first | (rw [isX_f hkl c_48, c_48]; done) | (obtain rfl : k = w.length := (by omega); rfl)
          · have _z := c_48
            obtain ⟨hA, hE⟩ := and_tt c_48
            obtain ⟨t, hXt, hw1, hlen⟩ := isA_ok hA
            have hX0 := hX
            rw [hXt] at hX0
            obtain ⟨hx, g12, g13, ⟨t8, t9, t10, t11⟩, tB1, tB2, tB3, tB4, tB5⟩ := hX0
            have htp := hx.1
            refine z_aload_n 0 h dX11_is_51 rfl rfl rfl ?_
            refine z_get h kX11 (.inl (hm.at 0 (by decide))) 4 rfl q1851 rfl dX11_is_52 ?_
            refine z_aload_n 0 h dX11_is_55 rfl rfl rfl ?_
            refine z_get h kX11 (.inl (hm.at 0 (by decide))) 9 rfl q1856 rfl dX11_is_56 ?_
            rw [t9]
            refine z_iload_n 3 h dX11_is_59 rfl rfl ?_
            refine z_iadd h dX11_is_60 ?_
            refine z_baldN (t.2.1 + k) h (.inl (hm.at 4 (by decide))) (ixa rfl rfl) (by omega) (by decide) dX11_is_61 ?_
            rw [hx.2.2 (t.2.1 + k) (by omega)]
            refine z_aload_n 1 h dX11_is_62 rfl rfl rfl ?_
            refine z_iload_n 3 h dX11_is_63 rfl rfl ?_
            refine z_callVP h (tx_at hg wa w ht k (by omega)) kJ4 (.inr hcell) (lw_V q2013 q768 q769 q151 q770) nJ4_charAt rfl rfl rfl (Nat.le_of_ble_eq_true rfl) (Nat.le_of_ble_eq_true rfl) (Nat.le_of_ble_eq_true rfl) dX11_is_64 ?_
            refine z_icmp_ne 74 h dX11_is_67 (by decide) (fun c_67 => ?_) (fun c_67 => ?_)
            · have _z := c_67
              refine z_iconst h dX11_is_74 ki_0 ?_
              refine z_istore_n 2 h dX11_is_75 rfl rfl ?_
              refine z_iinc h dX11_is_76 rfl rfl ki_1 ?_
              refine z_goto 39 h dX11_is_79 (by decide) ?_
              refine Z.loc [(0, .ref (ad 0)), (1, .ref wa), (2, .int (z2i (isA w X && isE T w X (k + 1)))), (3, .int (nI (k + 1)))] (ll1 rfl (ll1 rfl (ll1 (by first | (refine zb0 ?_; rw [show isE T w X (k + 1) = (isE T w X k && decide (T (t.2.1 + k) = nI (w.getD k 0))) from (by rw [hXt]; rfl), decide_eq_false c_67, Bool.and_false, Bool.and_false]; done) | (refine zb1 ?_; rw [show isE T w X (k + 1) = (isE T w X k && decide (T (t.2.1 + k) = nI (w.getD k 0))) from (by rw [hXt]; rfl), decide_eq_true c_67, hA, hE]; rfl)) (ll1 (vS (nI_1 k)) ll0)))) ?_
              exact ih_39 (k + 1) (by omega) (by omega)
            · have _z := c_67
              refine z_iconst h dX11_is_70 ki_1 ?_
              refine z_goto 75 h dX11_is_71 (by decide) ?_
              refine z_istore_n 2 h dX11_is_75 rfl rfl ?_
              refine z_iinc h dX11_is_76 rfl rfl ki_1 ?_
              refine z_goto 39 h dX11_is_79 (by decide) ?_
              refine Z.loc [(0, .ref (ad 0)), (1, .ref wa), (2, .int (z2i (isA w X && isE T w X (k + 1)))), (3, .int (nI (k + 1)))] (ll1 rfl (ll1 rfl (ll1 (by first | (refine zb0 ?_; rw [show isE T w X (k + 1) = (isE T w X k && decide (T (t.2.1 + k) = nI (w.getD k 0))) from (by rw [hXt]; rfl), decide_eq_false c_67, Bool.and_false, Bool.and_false]; done) | (refine zb1 ?_; rw [show isE T w X (k + 1) = (isE T w X k && decide (T (t.2.1 + k) = nI (w.getD k 0))) from (by rw [hXt]; rfl), decide_eq_true c_67, hA, hE]; rfl)) (ll1 (vS (nI_1 k)) ll0)))) ?_
              exact ih_39 (k + 1) (by omega) (by omega)
    refine Z.loc [(0, .ref (ad 0)), (1, .ref wa), (2, .int (z2i (isA w X && isE T w X 0))), (3, .int (nI 0))] (ll1 rfl (ll1 rfl (ll1 (vS (by rw [show isE T w X 0 = true from by (cases X <;> rfl), Bool.and_true, hb])) (ll1 rfl ll0)))) ?_
    exact loop_39 _ 0 (Nat.zero_le _) (Nat.lt_succ_self _)
  refine z_aload_n 0 h dX11_is_0 rfl rfl rfl ?_
  refine z_callVP h (m_good hm hX) kX11 (.inl (hm.at 0 (by decide))) (lw_V q1987 q1989 qs66 q148 q1990) nX11_good rfl rfl rfl (Nat.le_of_ble_eq_true rfl) (Nat.le_of_ble_eq_true rfl) (Nat.le_of_ble_eq_true rfl) dX11_is_1 ?_
  refine z_ifz_eq 35 h dX11_is_4 (by decide) (fun c_4 => ?_) (fun c_4 => ?_)
  · have _z := c_4
    have hb : isA w X = false := by (obtain ⟨e, rfl⟩ := gd_er c_4; rfl)
    refine z_iconst h dX11_is_35 ki_0 ?_
    refine Z.loc [(0, .ref (ad 0)), (1, .ref wa)] (ll1 rfl (ll1 rfl ll0)) ?_
    exact join_36 false hb
  · have _z := c_4
    obtain ⟨t, rfl⟩ := gd_ok c_4
    obtain ⟨hx, g12, g13, ⟨t8, t9, t10, t11⟩, tB1, tB2, tB3, tB4, tB5⟩ := hX
    have htp := hx.1
    refine z_aload_n 0 h dX11_is_7 rfl rfl rfl ?_
    refine z_get h kX11 (.inl (hm.at 0 (by decide))) 10 rfl q1857 rfl dX11_is_8 ?_
    rw [t10]
    refine z_iconst h dX11_is_11 ki_1 ?_
    refine z_icmp_ne 35 h dX11_is_12 (by decide) (fun c_12 => ?_) (fun c_12 => ?_)
    · have _z := c_12
      replace c_12 := (not_congr (ieq (a := t.2.2.1) (b := 1) rfl rfl (by omega) (by decide))).mp c_12
      have hb : isA w (.ok t) = false := by (rw [isA_eq, decide_eq_false c_12]; rfl)
      refine z_iconst h dX11_is_35 ki_0 ?_
      refine Z.loc [(0, .ref (ad 0)), (1, .ref wa)] (ll1 rfl (ll1 rfl ll0)) ?_
      exact join_36 false hb
    · have _z := c_12
      replace c_12 := (ieq (a := t.2.2.1) (b := 1) rfl rfl (by omega) (by decide)).mp c_12
      refine z_aload_n 0 h dX11_is_15 rfl rfl rfl ?_
      refine z_get h kX11 (.inl (hm.at 0 (by decide))) 8 rfl q1855 rfl dX11_is_16 ?_
      rw [t8]
      refine z_aload_n 0 h dX11_is_19 rfl rfl rfl ?_
      refine z_get h kX11 (.inl (hm.at 0 (by decide))) 9 rfl q1856 rfl dX11_is_20 ?_
      rw [t9]
      refine z_isub h dX11_is_23 ?_
      refine z_aload_n 1 h dX11_is_24 rfl rfl rfl ?_
      refine z_callVP h (tx_len hg wa w ht) kJ4 (.inr hcell) (lw_V q2012 q758 q759 q151 q760) nJ4_length rfl rfl rfl (Nat.le_of_ble_eq_true rfl) (Nat.le_of_ble_eq_true rfl) (Nat.le_of_ble_eq_true rfl) dX11_is_25 ?_
      refine z_icmp_ne 35 h dX11_is_28 (by decide) (fun c_28 => ?_) (fun c_28 => ?_)
      · have _z := c_28
        replace c_28 := (not_congr (ieq (a := t.1 - t.2.1) (b := w.length) (ixs rfl rfl tB1) rfl (by omega) (by omega))).mp c_28
        have hb : isA w (.ok t) = false := by (rw [isA_eq, decide_eq_false c_28, Bool.and_false])
        refine z_iconst h dX11_is_35 ki_0 ?_
        refine Z.loc [(0, .ref (ad 0)), (1, .ref wa)] (ll1 rfl (ll1 rfl ll0)) ?_
        exact join_36 false hb
      · have _z := c_28
        replace c_28 := (ieq (a := t.1 - t.2.1) (b := w.length) (ixs rfl rfl tB1) rfl (by omega) (by omega)).mp c_28
        have hb : isA w (.ok t) = true := by (rw [isA_eq, decide_eq_true (show t.2.2.1 = 1 by omega), decide_eq_true (show t.1 - t.2.1 = w.length by omega)]; rfl)
        refine z_iconst h dX11_is_31 ki_1 ?_
        refine z_goto 36 h dX11_is_32 (by decide) ?_
        refine Z.loc [(0, .ref (ad 0)), (1, .ref wa)] (ll1 rfl (ll1 rfl ll0)) ?_
        exact join_36 true hb
theorem tak_f {T : Nat → Int32} {tp : Nat} {w : List Nat} {X : Rs} (h : isX T w X = false) : takX T tp w X = X := by
  cases X with
  | ok t => show (if isX T w (.ok t) = true then _ else _) = _; rw [h]; rfl
  | error e => rfl
theorem wrd_t {T : Nat → Int32} {tp : Nat} {w : List Nat} {X : Rs} (h : isX T w X = true) : wrdX T tp w X = takX T tp w X := by
  cases X with
  | ok t => show (if isX T w (.ok t) = true then _ else _) = _; rw [h]; first | rfl | (rw [tak_t h]; rfl) | (rw [tak_f h]; rfl)
  | error e => rfl
theorem wrd_f {T : Nat → Int32} {tp : Nat} {w : List Nat} {X : Rs} (h : isX T w X = false) : wrdX T tp w X = errX 1 (takX T tp w X) := by
  cases X with
  | ok t => show (if isX T w (.ok t) = true then _ else _) = _; rw [h]; first | rfl | (rw [tak_t h]; rfl) | (rw [tak_f h]; rfl)
  | error e => rfl
set_option maxHeartbeats 4000000 in
theorem m_takes {l : Launch} {g : Zg} {ad : Nat → Nat} {M : Zm} {st : Ms} (hm : Mod g ad M st) {tp : Nat} {T : Nat → Int32} {X : Rs} (hX : RSt st tp T X) {wa : Nat} {w : List Nat} (hg : Gok g) (ht : TxC g wa w)  : Cn l g yX11_takes cX11_takes 3 (some .boolean) 6 0 0 [.ref (ad 0), .ref wa] M (PMD g ad st (some (.int (z2i (isX T w X)))) (fun s9 => RSt s9 tp T (takX T tp w X))) := by
  refine Cn.start [(0, .ref (ad 0)), (1, .ref wa)] (by decide) (Nat.le_of_ble_eq_true rfl) rfl ?_
  intro γ el eg h hq
  subst el; subst eg
  have hk : kpD st st := kpD.rf st
  refine z_aload_n 0 h dX11_takes_0 rfl rfl rfl ?_
  refine z_aload_n 1 h dX11_takes_1 rfl rfl rfl ?_
  refine z_callVP h (m_is hm hX hg ht) kX11 (.inl (hm.at 0 (by decide))) (lw_V q2008 q2010 qs71 q148 q2011) nX11_is rfl rfl rfl (Nat.le_of_ble_eq_true rfl) (Nat.le_of_ble_eq_true rfl) (Nat.le_of_ble_eq_true rfl) dX11_takes_2 ?_
  refine z_istore_n 2 h dX11_takes_5 rfl rfl ?_
  refine z_iload_n 2 h dX11_takes_6 rfl rfl ?_
  refine z_ifz_eq 14 h dX11_takes_7 (by decide) (fun c_7 => ?_) (fun c_7 => ?_)
  · have _z := c_7
    refine z_iload_n 2 h dX11_takes_14 rfl rfl ?_
    refine z_zret h hq (z2i_n _) dX11_takes_15 (Nat.le_of_ble_eq_true rfl) (Nat.le_of_ble_eq_true rfl) ?_
    first | (refine ⟨rfl, s1, hm, hkr.D, ?_⟩; rw [tak_t c_7]; exact RSt.kp hx hkr g12 g13 hT (adv_b tB2)) | (refine ⟨rfl, st, hm, hk, ?_⟩; rw [tak_f c_7]; exact hX)
  · have _z := c_7
    obtain ⟨t, rfl, -, -⟩ := isA_ok (and_tt c_7).1
    obtain ⟨hx, g12, g13, ⟨t8, t9, t10, t11⟩, tB1, tB2, tB3, tB4, tB5⟩ := hX
    refine z_aload_n 0 h dX11_takes_10 rfl rfl rfl ?_
    refine z_callV h (m_advance hm hx t.1 t8 tB2) kX11 (.inl (hm.at 0 (by decide))) (lw_V q1973 q1975 qs64 q148 q1976) nX11_advance rfl rfl rfl (Nat.le_of_ble_eq_true rfl) (Nat.le_of_ble_eq_true rfl) (Nat.le_of_ble_eq_true rfl) dX11_takes_11 (fun v M hv => ?_)
    obtain ⟨rfl, s1, hm, hkr, hT⟩ := hv
    refine z_iload_n 2 h dX11_takes_14 rfl rfl ?_
    refine z_zret h hq (z2i_n _) dX11_takes_15 (Nat.le_of_ble_eq_true rfl) (Nat.le_of_ble_eq_true rfl) ?_
    first | (refine ⟨rfl, s1, hm, hkr.D, ?_⟩; rw [tak_t c_7]; exact RSt.kp hx hkr g12 g13 hT (adv_b tB2)) | (refine ⟨rfl, st, hm, hk, ?_⟩; rw [tak_f c_7]; exact hX)
set_option maxHeartbeats 4000000 in
theorem m_needs {l : Launch} {g : Zg} {ad : Nat → Nat} {M : Zm} {st : Ms} (hm : Mod g ad M st) {tp : Nat} {T : Nat → Int32} {X : Rs} (hX : RSt st tp T X) {wa : Nat} {w : List Nat} (hg : Gok g) (ht : TxC g wa w)  : Cn l g yX11_needs cX11_needs 2 none 7 0 0 [.ref (ad 0), .ref wa] M (PMD g ad st none (fun s9 => RSt s9 tp T (wrdX T tp w X))) := by
  refine Cn.start [(0, .ref (ad 0)), (1, .ref wa)] (by decide) (Nat.le_of_ble_eq_true rfl) rfl ?_
  intro γ el eg h hq
  subst el; subst eg
  have hk : kpD st st := kpD.rf st
  refine z_aload_n 0 h dX11_needs_0 rfl rfl rfl ?_
  refine z_aload_n 1 h dX11_needs_1 rfl rfl rfl ?_
  refine z_callV h (m_takes hm hX hg ht) kX11 (.inl (hm.at 0 (by decide))) (lw_V q2004 q2006 qs70 q148 q2007) nX11_takes rfl rfl rfl (Nat.le_of_ble_eq_true rfl) (Nat.le_of_ble_eq_true rfl) (Nat.le_of_ble_eq_true rfl) dX11_needs_2 (fun v M hv => ?_)
  obtain ⟨rfl, s1, hm, hk1, hX1⟩ := hv
  replace hk := hk.tr hk1
  refine z_ifz_ne 13 h dX11_needs_5 (by decide) (fun c_5 => ?_) (fun c_5 => ?_)
  · have _z := c_5
    refine z_vret h hq dX11_needs_13 (Nat.le_of_ble_eq_true rfl) (Nat.le_of_ble_eq_true rfl) ?_
    first | (refine ⟨rfl, s2, hm, hk, ?_⟩; rw [wrd_f c_5]; exact hX2) | (refine ⟨rfl, s1, hm, hk, ?_⟩; rw [wrd_t c_5]; exact hX1)
  · have _z := c_5
    refine z_aload_n 0 h dX11_needs_8 rfl rfl rfl ?_
    refine z_iconst h dX11_needs_9 ki_1 ?_
    refine z_callV h (m_errs hm hX1 1 (by decide)) kX11 (.inl (hm.at 0 (by decide))) (lw_V q2014 q2016 qs72 q148 q2017) nX11_errs rfl rfl rfl (Nat.le_of_ble_eq_true rfl) (Nat.le_of_ble_eq_true rfl) (Nat.le_of_ble_eq_true rfl) dX11_needs_10 (fun v M hv => ?_)
    obtain ⟨rfl, s2, hm, hk2, hX2⟩ := hv
    replace hk := hk.tr hk2
    refine z_vret h hq dX11_needs_13 (Nat.le_of_ble_eq_true rfl) (Nat.le_of_ble_eq_true rfl) ?_
    first | (refine ⟨rfl, s2, hm, hk, ?_⟩; rw [wrd_f c_5]; exact hX2) | (refine ⟨rfl, s1, hm, hk, ?_⟩; rw [wrd_t c_5]; exact hX1)
theorem tok_2 {X : Rs} {t : Tk} (h : tokX X = .ok t) : t.2.2.1 = 2 := by
  cases X with
  | error e => cases h
  | ok u =>
    unfold tokX at h
    dsimp only at h
    split at h
    · rename_i q; cases h; exact q
    · cases h
set_option maxHeartbeats 4000000 in
theorem m_number {l : Launch} {g : Zg} {ad : Nat → Nat} {M : Zm} {st : Ms} (hm : Mod g ad M st) {tp : Nat} {T : Nat → Int32} {X : Rs} (hX : RSt st tp T X) (lo : Nat) (hi : Int) (hlo : lo < 2 ^ 31) (hhi : -2 ^ 31 ≤ hi ∧ hi < 2 ^ 31) : Cn l g yX11_number cX11_number 4 (some .int) 3 0 0 [.ref (ad 0), .int (nI lo), .int (iI hi)] M (PMD g ad st (some (.int (nI (numV lo hi X)))) (fun s9 => RSt s9 tp T (numX T tp lo hi X))) := by
  refine Cn.start [(0, .ref (ad 0)), (1, .int (nI lo)), (2, .int (iI hi))] (by decide) (Nat.le_of_ble_eq_true rfl) rfl ?_
  intro γ el eg h hq
  subst el; subst eg
  have hk : kpD st st := kpD.rf st
  have join_20 : ∀ (M : Zm) (s1 : Ms) (hm : Mod (cg γ) ad M s1) (hk : kpD st s1) (hX1 : RSt s1 tp T (tokX X)), Z γ M 0 0 20 (lof [(0, .ref (ad 0)), (1, .int (nI lo)), (2, .int (iI hi))]) [] := by
    intro M s1 hm hk hX1
    have join_47 : ∀ (M : Zm) (s1 : Ms) (hm : Mod (cg γ) ad M s1) (hk : kpD st s1) (hX1 : RSt s1 tp T (rngX lo hi (tokX X))), Z γ M 0 0 47 (lof [(0, .ref (ad 0)), (1, .int (nI lo)), (2, .int (iI hi))]) [] := by
      intro M s1 hm hk hX1
      refine z_aload_n 0 h dX11_number_47 rfl rfl rfl ?_
      refine z_callVP h (m_good hm hX1) kX11 (.inl (hm.at 0 (by decide))) (lw_V q1987 q1989 qs66 q148 q1990) nX11_good rfl rfl rfl (Nat.le_of_ble_eq_true rfl) (Nat.le_of_ble_eq_true rfl) (Nat.le_of_ble_eq_true rfl) dX11_number_48 ?_
      refine z_ifz_ne 56 h dX11_number_51 (by decide) (fun c_51 => ?_) (fun c_51 => ?_)
      · have _z := c_51
        obtain ⟨t, hXt⟩ := gd_ok c_51
        rw [hXt] at hX1
        obtain ⟨hx, g12, g13, ⟨t8, t9, t10, t11⟩, tB1, tB2, tB3, tB4, tB5⟩ := hX1
        have h2 := (rng_tok hXt).1
        refine z_aload_n 0 h dX11_number_56 rfl rfl rfl ?_
        refine z_get h kX11 (.inl (hm.at 0 (by decide))) 11 rfl q1858 rfl dX11_number_57 ?_
        rw [t11 h2]
        refine z_istore_n 3 h dX11_number_60 rfl rfl ?_
        refine z_aload_n 0 h dX11_number_61 rfl rfl rfl ?_
        refine z_callV h (m_advance hm hx t.1 t8 tB2) kX11 (.inl (hm.at 0 (by decide))) (lw_V q1973 q1975 qs64 q148 q1976) nX11_advance rfl rfl rfl (Nat.le_of_ble_eq_true rfl) (Nat.le_of_ble_eq_true rfl) (Nat.le_of_ble_eq_true rfl) dX11_number_62 (fun v M hv => ?_)
        obtain ⟨rfl, s2, hm, hkr, hT⟩ := hv
        refine z_iload_n 3 h dX11_number_65 rfl rfl ?_
        refine z_iret h hq dX11_number_66 (Nat.le_of_ble_eq_true rfl) (Nat.le_of_ble_eq_true rfl) ?_
        refine ⟨vS ?_, s2, hm, hk.tr hkr.D, ?_⟩
        · unfold numV; rw [hXt]; rfl
        · unfold numX; rw [hXt]; exact RSt.kp hx hkr g12 g13 hT (adv_b tB2)
      · have _z := c_51
        obtain ⟨e, he⟩ := gd_er c_51
        refine z_iconst h dX11_number_54 ki_0 ?_
        refine z_iret h hq dX11_number_55 (Nat.le_of_ble_eq_true rfl) (Nat.le_of_ble_eq_true rfl) ?_
        refine ⟨vS ?_, s1, hm, hk, ?_⟩
        · unfold numV; rw [he]; rfl
        · unfold numX; rw [he] at hX1 ⊢; exact hX1
    refine z_aload_n 0 h dX11_number_20 rfl rfl rfl ?_
    refine z_callVP h (m_good hm hX1) kX11 (.inl (hm.at 0 (by decide))) (lw_V q1987 q1989 qs66 q148 q1990) nX11_good rfl rfl rfl (Nat.le_of_ble_eq_true rfl) (Nat.le_of_ble_eq_true rfl) (Nat.le_of_ble_eq_true rfl) dX11_number_21 ?_
    refine z_ifz_eq 47 h dX11_number_24 (by decide) (fun c_24 => ?_) (fun c_24 => ?_)
    · have _z := c_24
      have h0 : rngX lo hi (tokX X) = tokX X := by (obtain ⟨e, he⟩ := gd_er c_24; rw [he]; rfl)
      refine Z.loc [(0, .ref (ad 0)), (1, .int (nI lo)), (2, .int (iI hi))] (ll1 rfl (ll1 rfl (ll1 rfl ll0))) ?_
      exact join_47 _ _ hm hk (by rw [h0]; exact hX1)
    · have _z := c_24
      obtain ⟨t, hXt⟩ := gd_ok c_24
      rw [hXt] at hX1
      have hX0 := hX1
      obtain ⟨hx, g12, g13, ⟨t8, t9, t10, t11⟩, tB1, tB2, tB3, tB4, tB5⟩ := hX1
      have h2 := tok_2 hXt
      refine z_aload_n 0 h dX11_number_27 rfl rfl rfl ?_
      refine z_get h kX11 (.inl (hm.at 0 (by decide))) 11 rfl q1858 rfl dX11_number_28 ?_
      rw [t11 h2]
      refine z_i2l h dX11_number_31 ?_
      refine z_iload_n 1 h dX11_number_32 rfl rfl ?_
      refine z_i2l h dX11_number_33 ?_
      refine z_iload_n 2 h dX11_number_34 rfl rfl ?_
      refine z_i2l h dX11_number_35 ?_
      refine z_callSP h (m_inI (nI t.2.2.2) _ _ lo hi (toI64 (nI_toInt hlo)) (toI64 (iI_toInt hhi))) (lw_S q1950 q1951 q148 q1952) nX11_in rfl rfl rfl (Nat.le_of_ble_eq_true rfl) (Nat.le_of_ble_eq_true rfl) (Nat.le_of_ble_eq_true rfl) dX11_number_36 ?_
      refine z_ifz_ne 47 h dX11_number_39 (by decide) (fun c_39 => ?_) (fun c_39 => ?_)
      · have _z := c_39
        have h0 : rngX lo hi (tokX X) = .ok t := by (rw [hXt]; rw [inI_nI (by omega)] at c_39; replace c_39 := of_decide_eq_true c_39; exact if_pos ⟨by omega, c_39.2⟩)
        refine Z.loc [(0, .ref (ad 0)), (1, .int (nI lo)), (2, .int (iI hi))] (ll1 rfl (ll1 rfl (ll1 rfl ll0))) ?_
        exact join_47 _ _ hm hk (by rw [h0]; exact hX0)
      · have _z := c_39
        have h0 : rngX lo hi (tokX X) = errX 2 (.ok t) := by (rw [hXt]; rw [inI_nI (by omega)] at c_39; replace c_39 := of_decide_eq_false c_39; exact if_neg (fun q => c_39 ⟨by omega, q.2⟩))
        refine z_aload_n 0 h dX11_number_42 rfl rfl rfl ?_
        refine z_iconst h dX11_number_43 ki_2 ?_
        refine z_callV h (m_errs hm hX0 2 (by decide)) kX11 (.inl (hm.at 0 (by decide))) (lw_V q2014 q2016 qs72 q148 q2017) nX11_errs rfl rfl rfl (Nat.le_of_ble_eq_true rfl) (Nat.le_of_ble_eq_true rfl) (Nat.le_of_ble_eq_true rfl) dX11_number_44 (fun v M hv => ?_)
        obtain ⟨rfl, s2, hm, hk2, hX2⟩ := hv
        replace hk := hk.tr hk2
        rw [← h0] at hX2
        refine Z.loc [(0, .ref (ad 0)), (1, .int (nI lo)), (2, .int (iI hi))] (ll1 rfl (ll1 rfl (ll1 rfl ll0))) ?_
        exact join_47 _ _ hm hk hX2
  refine z_aload_n 0 h dX11_number_0 rfl rfl rfl ?_
  refine z_callVP h (m_good hm hX) kX11 (.inl (hm.at 0 (by decide))) (lw_V q1987 q1989 qs66 q148 q1990) nX11_good rfl rfl rfl (Nat.le_of_ble_eq_true rfl) (Nat.le_of_ble_eq_true rfl) (Nat.le_of_ble_eq_true rfl) dX11_number_1 ?_
  refine z_ifz_eq 20 h dX11_number_4 (by decide) (fun c_4 => ?_) (fun c_4 => ?_)
  · have _z := c_4
    have h0 : tokX X = X := by (obtain ⟨e, rfl⟩ := gd_er c_4; rfl)
    refine Z.loc [(0, .ref (ad 0)), (1, .int (nI lo)), (2, .int (iI hi))] (ll1 rfl (ll1 rfl (ll1 rfl ll0))) ?_
    exact join_20 _ _ hm hk (by rw [h0]; exact hX)
  · have _z := c_4
    obtain ⟨t, rfl⟩ := gd_ok c_4
    have hX0 := hX
    obtain ⟨hx, g12, g13, ⟨t8, t9, t10, t11⟩, tB1, tB2, tB3, tB4, tB5⟩ := hX
    refine z_aload_n 0 h dX11_number_7 rfl rfl rfl ?_
    refine z_get h kX11 (.inl (hm.at 0 (by decide))) 10 rfl q1857 rfl dX11_number_8 ?_
    rw [t10]
    refine z_iconst h dX11_number_11 ki_2 ?_
    refine z_icmp_eq 20 h dX11_number_12 (by decide) (fun c_12 => ?_) (fun c_12 => ?_)
    · have _z := c_12
      replace c_12 := (ieq (a := t.2.2.1) (b := 2) rfl rfl (by omega) (by decide)).mp c_12
      have h0 : tokX (.ok t) = .ok t := if_pos (by omega)
      refine Z.loc [(0, .ref (ad 0)), (1, .int (nI lo)), (2, .int (iI hi))] (ll1 rfl (ll1 rfl (ll1 rfl ll0))) ?_
      exact join_20 _ _ hm hk (by rw [h0]; exact hX0)
    · have _z := c_12
      replace c_12 := (not_congr (ieq (a := t.2.2.1) (b := 2) rfl rfl (by omega) (by decide))).mp c_12
      have h0 : tokX (.ok t) = errX 1 (.ok t) := if_neg (by omega)
      refine z_aload_n 0 h dX11_number_15 rfl rfl rfl ?_
      refine z_iconst h dX11_number_16 ki_1 ?_
      refine z_callV h (m_errs hm hX0 1 (by decide)) kX11 (.inl (hm.at 0 (by decide))) (lw_V q2014 q2016 qs72 q148 q2017) nX11_errs rfl rfl rfl (Nat.le_of_ble_eq_true rfl) (Nat.le_of_ble_eq_true rfl) (Nat.le_of_ble_eq_true rfl) dX11_number_17 (fun v M hv => ?_)
      obtain ⟨rfl, s2, hm, hk2, hX2⟩ := hv
      replace hk := hk.tr hk2
      rw [← h0] at hX2
      refine Z.loc [(0, .ref (ad 0)), (1, .int (nI lo)), (2, .int (iI hi))] (ll1 rfl (ll1 rfl (ll1 rfl ll0))) ?_
      exact join_20 _ _ hm hk hX2
set_option maxHeartbeats 4000000 in
theorem m_told {l : Launch} {g : Zg} {ad : Nat → Nat} {M : Zm} {st : Ms} (hm : Mod g ad M st) {tp : Nat} {T : Nat → Int32} {X : Rs} (hX : RSt st tp T X) {wa : Nat} {w : List Nat} (hg : Gok g) (ht : TxC g wa w) (lo : Nat) (hi : Int) (hlo : lo < 2 ^ 31) (hhi : -2 ^ 31 ≤ hi ∧ hi < 2 ^ 31) : Cn l g yX11_told cX11_told 4 (some .int) 8 0 0 [.ref (ad 0), .ref wa, .int (nI lo), .int (iI hi)] M (PMD g ad st (some (.int (nI (tldV T tp w lo hi X)))) (fun s9 => RSt s9 tp T (tldX T tp w lo hi X))) := by
  refine Cn.start [(0, .ref (ad 0)), (1, .ref wa), (2, .int (nI lo)), (3, .int (iI hi))] (by decide) (Nat.le_of_ble_eq_true rfl) rfl ?_
  intro γ el eg h hq
  subst el; subst eg
  have hk : kpD st st := kpD.rf st
  refine z_aload_n 0 h dX11_told_0 rfl rfl rfl ?_
  refine z_aload_n 1 h dX11_told_1 rfl rfl rfl ?_
  refine z_callV h (m_needs hm hX hg ht) kX11 (.inl (hm.at 0 (by decide))) (lw_V q2000 q2002 qs69 q148 q2003) nX11_needs rfl rfl rfl (Nat.le_of_ble_eq_true rfl) (Nat.le_of_ble_eq_true rfl) (Nat.le_of_ble_eq_true rfl) dX11_told_2 (fun v M hv => ?_)
  obtain ⟨rfl, s1, hm, hk1, hX1⟩ := hv
  replace hk := hk.tr hk1
  refine z_aload_n 0 h dX11_told_5 rfl rfl rfl ?_
  refine z_iload_n 2 h dX11_told_6 rfl rfl ?_
  refine z_iload_n 3 h dX11_told_7 rfl rfl ?_
  refine z_callV h (m_number hm hX1 lo hi hlo hhi) kX11 (.inl (hm.at 0 (by decide))) (lw_V q2023 q2025 qs74 q148 q2026) nX11_number rfl rfl rfl (Nat.le_of_ble_eq_true rfl) (Nat.le_of_ble_eq_true rfl) (Nat.le_of_ble_eq_true rfl) dX11_told_8 (fun v M hv => ?_)
  obtain ⟨rfl, s2, hm, hk2, hX2⟩ := hv
  replace hk := hk.tr hk2
  exact z_iret h hq dX11_told_11 (Nat.le_of_ble_eq_true rfl) (Nat.le_of_ble_eq_true rfl) (⟨rfl, s2, hm, hk, hX2⟩)
