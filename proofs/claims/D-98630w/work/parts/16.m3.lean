/-! the reference: what is asked of men and fronts -/
set_option maxRecDepth 100000
def tn (v : Int32) : Nat := v.toNatClampNeg
theorem tn_nI {n : Nat} (h : n < 2 ^ 31) : tn (nI n) = n := nI_clamp h
def aMen (W : Nat → Nat) (s m v : Int32) : Int32 := if (isSideB W s && inI m 0 99 && areTrB W v) = true then nI (menN W (tn s) (tn m) (tn v) (W 4)) else -2
def aFront (W : Nat → Nat) (n v : Int32) : Int32 := if (areTrB W v && inI n 0 (W 0)) = true then iI (frZ W (tn v) (tn n)) else -1000
def lateN (W : Nat → Nat) (n : Nat) : Nat := (if lateB W 0 n = true then 1 else 0) + (if lateB W 1 n = true then 2 else 0)
def aLate (W : Nat → Nat) (v : Int32) : Int32 := if areTrB W v = true then nI (lateN W (tn v)) else -2
def aWins (W : Nat → Nat) (v : Int32) : Int32 := if areTrB W v = true then iI (winZ W (tn v)) else -2
def peakN (W : Nat → Nat) (s n : Nat) : Nat → Nat
  | 0 => 0
  | k + 1 => if gdZ s (frZ W n (peakN W s n k)) < gdZ s (frZ W n (k + 1)) then k + 1 else peakN W s n k
theorem peakN_le (W : Nat → Nat) (s n : Nat) : ∀ k, peakN W s n k ≤ k
  | 0 => Nat.le_refl _
  | k + 1 => by
    have := peakN_le W s n k
    unfold peakN
    split <;> omega
def aPeak (W : Nat → Nat) (s v : Int32) : Int32 := if (isSideB W s && areTrB W v) = true then nI (peakN W (tn s) (tn v) (W 0)) else -2
def sgZ (z : Int) : Int := if 0 < z then 1 else if z < 0 then -1 else 0
theorem sgZ_b (z : Int) : -1 ≤ sgZ z ∧ sgZ z ≤ 1 := by
  unfold sgZ
  split
  · decide
  · split <;> decide
def swF (W : Nat → Nat) (n : Nat) : Nat → Nat × Int
  | 0 => (0, 0)
  | k + 1 => if sgZ (frZ W n (k + 1)) = 0 then swF W n k else ((swF W n k).1 + (if (swF W n k).2 ≠ 0 ∧ sgZ (frZ W n (k + 1)) ≠ (swF W n k).2 then 1 else 0), sgZ (frZ W n (k + 1)))
theorem swF_b (W : Nat → Nat) (n : Nat) : ∀ k, (swF W n k).1 ≤ k ∧ -1 ≤ (swF W n k).2 ∧ (swF W n k).2 ≤ 1
  | 0 => ⟨Nat.le_refl _, by simp [swF], by simp [swF]⟩
  | k + 1 => by
    have h := swF_b W n k
    have h2 := sgZ_b (frZ W n (k + 1))
    unfold swF
    split
    · omega
    · refine ⟨?_, h2⟩
      show _ + _ ≤ _
      split <;> omega
def aSwings (W : Nat → Nat) (v : Int32) : Int32 := if areTrB W v = true then nI (swF W (tn v) (W 0)).1 else -2
/-- the first from k on, of f of them, for which P holds; -1 -/
def firstF (P : Nat → Bool) : Nat → Nat → Int
  | 0, _ => -1
  | f + 1, k => if P k = true then k else firstF P f (k + 1)
theorem firstF_t {P : Nat → Bool} {f k : Nat} (h : P k = true) : firstF P (f + 1) k = k := by simp [firstF, h]
theorem firstF_f {P : Nat → Bool} {f k : Nat} (h : P k = false) : firstF P (f + 1) k = firstF P f (k + 1) := by simp [firstF, h]
def sinceB (W : Nat → Nat) (s n t : Nat) : Bool := decide (W (11 + s) ≤ menN W s t n (W 4))
def aSince (W : Nat → Nat) (s v : Int32) : Int32 := if (isSideB W s && areTrB W v) = true then iI (firstF (sinceB W (tn s) (tn v)) 100 0) else -2
def comesS (W : Nat → Nat) (m n : Nat) : Nat → Nat := setN (fun t => decide (comesN W n t = m))
def aComes (W : Nat → Nat) (m v : Int32) : Int32 := if (inI m 0 99 && areTrB W v) = true then nI (comesS W (tn m) (tn v) (W 4)) else -2
def evenS (W : Nat → Nat) (n : Nat) : Nat → Nat := setN (fun m => decide (menN W 0 m n (W 4) = menN W 1 m n (W 4)))
def aEven (W : Nat → Nat) (v : Int32) : Int64 := if areTrB W v = true then lN (evenS W (tn v) (W 0)) else -2
theorem any_nat {v : Int32} (h : inI v 0 99 = true) : ∃ n : Nat, n ≤ 99 ∧ v = nI n := by
  obtain ⟨n, h1, h2, h3⟩ := inI_nat h
  exact ⟨n, by omega, h3⟩
theorem shl_L : ∀ k, k < 63 → (1 : Int64) <<< ((nI k).toInt64 &&& 63) = lN (2 ^ k) := by decide +kernel
theorem lN_tn {n : Nat} (h : n < 2 ^ 64) : (lN n).toBitVec.toNat = n := by
  show (BitVec.ofNat 64 n).toNat = n
  rw [BitVec.toNat_ofNat, Nat.mod_eq_of_lt h]
theorem or_lN {a b : Nat} (ha : a < 2 ^ 64) (hb : b < 2 ^ 64) : lN a ||| lN b = lN (a ||| b) := by
  apply Int64.toBitVec_inj.mp
  apply BitVec.eq_of_toNat_eq
  rw [Int64.toBitVec_or, BitVec.toNat_or, lN_tn ha, lN_tn hb, lN_tn (Nat.or_lt_two_pow ha hb)]
theorem setL_t {p : Nat → Bool} {n : Nat} (hn : n < 63) (hp : p n = true) : lN (setN p n) ||| ((1 : Int64) <<< ((nI n).toInt64 &&& 63)) = lN (setN p (n + 1)) := by
  have h1 := setN_lt p n
  have h2 : 2 ^ n ≤ 2 ^ 62 := Nat.pow_le_pow_right (by decide) (by omega)
  rw [shl_L n hn, or_lN (by omega) (by omega)]
  simp [setN, hp]
theorem setL_f {p : Nat → Bool} {n : Nat} (hn : n < 63) (hp : p n = false) : lN (setN p n) ||| 0 = lN (setN p (n + 1)) := by
  have h1 := setN_lt p n
  have h2 : 2 ^ n ≤ 2 ^ 62 := Nat.pow_le_pow_right (by decide) (by omega)
  rw [show (0 : Int64) = lN 0 from rfl, or_lN (by omega) (by omega)]
  simp [setN, hp]
theorem gdZ_b (W : Nat → Nat) (s n m : Nat) (h : m ≤ 60) : -60 ≤ gdZ s (frZ W n m) ∧ gdZ s (frZ W n m) ≤ 60 := by
  have := frZ_b W n m
  unfold gdZ
  split <;> omega
set_option maxHeartbeats 4000000 in
theorem m_isAny {l : Launch} {g : Zg} {M : Zm} (v : Int32) : Cn l g yX11_isAny cX11_isAny 1 (some .boolean) 2 0 0 [.int v] M (PV (.int (z2i (inI v 0 99))) M) := by
  refine Cn.start [(0, .int v)] (by decide) (Nat.le_of_ble_eq_true rfl) rfl ?_
  intro γ el eg h hq
  subst el; subst eg
  refine z_iload_n 0 h dX11_isAny_0 rfl rfl ?_
  refine z_i2l h dX11_isAny_1 ?_
  refine z_lconst h dX11_isAny_2 kl_0 ?_
  refine z_ldc2 h q2123 dX11_isAny_3 ?_
  refine z_callSP h (m_inI v 0 99 0 99 rfl rfl) (lw_S q1950 q1951 q148 q1952) nX11_in rfl rfl rfl (Nat.le_of_ble_eq_true rfl) (Nat.le_of_ble_eq_true rfl) (Nat.le_of_ble_eq_true rfl) dX11_isAny_6 ?_
  exact z_zret h hq (z2i_n _) dX11_isAny_9 (Nat.le_of_ble_eq_true rfl) (Nat.le_of_ble_eq_true rfl) (⟨rfl, rfl⟩)
set_option maxHeartbeats 4000000 in
theorem m_men {l : Launch} {g : Zg} {ad : Nat → Nat} {M : Zm} {st : Ms} {W : Nat → Nat} (hm : Mod g ad M st) (hw : WR st W) (hi : InvW W) (sv mv v : Int32) : Cn l g yX11_men cX11_men 4 (some .int) 4 0 0 [.ref (ad 0), .int sv, .int mv, .int v] M (PM g ad st (some (.int (aMen W sv mv v))) (fun _ => True)) := by
  refine Cn.start [(0, .ref (ad 0)), (1, .int sv), (2, .int mv), (3, .int v)] (by decide) (Nat.le_of_ble_eq_true rfl) rfl ?_
  intro γ el eg h hq
  subst el; subst eg
  have h4 := hi.h4
  have h0 := hi.h0
  have hw0 := hw
  have hk : keep st st := keep.rf st
  refine z_aload_n 0 h dX11_men_0 rfl rfl rfl ?_
  refine z_iload_n 1 h dX11_men_1 rfl rfl ?_
  refine z_callVP h (m_isSide hm hw hi sv) kX11 (.inl (hm.at 0 (by decide))) (lw_V q2087 q2089 qs83 q148 q2090) nX11_isSide rfl rfl rfl (Nat.le_of_ble_eq_true rfl) (Nat.le_of_ble_eq_true rfl) (Nat.le_of_ble_eq_true rfl) dX11_men_2 ?_
  refine z_ifz_eq 33 h dX11_men_5 (by decide) (fun c_5 => ?_) (fun c_5 => ?_)
  · have _z := c_5
    refine z_bipush h dX11_men_33 kb_m2 ?_
    refine z_iret h hq dX11_men_35 (Nat.le_of_ble_eq_true rfl) (Nat.le_of_ble_eq_true rfl) ?_
    refine ⟨vS ?_, _, hm, hk, trivial⟩
    first | (simp [aMen, c_5]; done) | (simp [aMen, c_12]; done) | (simp [aMen, c_20]; done) | (simp [aMen, c_5, c_12, c_20, tn_nI (show s < 2 ^ 31 by omega), tn_nI (show m < 2 ^ 31 by omega), tn_nI hn]; done)
  · have _z := c_5
    obtain ⟨s, h_s, rfl⟩ := isSide_nat c_5
    refine z_iload_n 2 h dX11_men_8 rfl rfl ?_
    refine z_callSP h (m_isAny mv) (lw_S q2120 q2121 q148 q2122) nX11_isAny rfl rfl rfl (Nat.le_of_ble_eq_true rfl) (Nat.le_of_ble_eq_true rfl) (Nat.le_of_ble_eq_true rfl) dX11_men_9 ?_
    refine z_ifz_eq 33 h dX11_men_12 (by decide) (fun c_12 => ?_) (fun c_12 => ?_)
    · have _z := c_12
      refine z_bipush h dX11_men_33 kb_m2 ?_
      refine z_iret h hq dX11_men_35 (Nat.le_of_ble_eq_true rfl) (Nat.le_of_ble_eq_true rfl) ?_
      refine ⟨vS ?_, _, hm, hk, trivial⟩
      first | (simp [aMen, c_5]; done) | (simp [aMen, c_12]; done) | (simp [aMen, c_20]; done) | (simp [aMen, c_5, c_12, c_20, tn_nI (show s < 2 ^ 31 by omega), tn_nI (show m < 2 ^ 31 by omega), tn_nI hn]; done)
    · have _z := c_12
      obtain ⟨m, h_m, rfl⟩ := any_nat c_12
      refine z_aload_n 0 h dX11_men_15 rfl rfl rfl ?_
      refine z_iload_n 3 h dX11_men_16 rfl rfl ?_
      refine z_callVP h (m_areTrains hm hw hi v) kX11 (.inl (hm.at 0 (by decide))) (lw_V q2124 q2126 qs86 q148 q2127) nX11_areTrains rfl rfl rfl (Nat.le_of_ble_eq_true rfl) (Nat.le_of_ble_eq_true rfl) (Nat.le_of_ble_eq_true rfl) dX11_men_17 ?_
      refine z_ifz_eq 33 h dX11_men_20 (by decide) (fun c_20 => ?_) (fun c_20 => ?_)
      · have _z := c_20
        refine z_bipush h dX11_men_33 kb_m2 ?_
        refine z_iret h hq dX11_men_35 (Nat.le_of_ble_eq_true rfl) (Nat.le_of_ble_eq_true rfl) ?_
        refine ⟨vS ?_, _, hm, hk, trivial⟩
        first | (simp [aMen, c_5]; done) | (simp [aMen, c_12]; done) | (simp [aMen, c_20]; done) | (simp [aMen, c_5, c_12, c_20, tn_nI (show s < 2 ^ 31 by omega), tn_nI (show m < 2 ^ 31 by omega), tn_nI hn]; done)
      · have _z := c_20
        obtain ⟨n, h_n, hn, rfl⟩ := areTr_nat c_20
        refine z_aload_n 0 h dX11_men_23 rfl rfl rfl ?_
        refine z_iload_n 1 h dX11_men_24 rfl rfl ?_
        refine z_iload_n 2 h dX11_men_25 rfl rfl ?_
        refine z_iload_n 3 h dX11_men_26 rfl rfl ?_
        refine z_callVP h (m_menOf hm hw hi s m n (by omega) (by omega) hn) kX11 (.inl (hm.at 0 (by decide))) (lw_V q2132 q2134 qs88 q148 q2135) nX11_menOf rfl rfl rfl (Nat.le_of_ble_eq_true rfl) (Nat.le_of_ble_eq_true rfl) (Nat.le_of_ble_eq_true rfl) dX11_men_27 ?_
        refine z_goto 35 h dX11_men_30 (by decide) ?_
        refine z_iret h hq dX11_men_35 (Nat.le_of_ble_eq_true rfl) (Nat.le_of_ble_eq_true rfl) ?_
        refine ⟨vS ?_, _, hm, hk, trivial⟩
        first | (simp [aMen, c_5]; done) | (simp [aMen, c_12]; done) | (simp [aMen, c_20]; done) | (simp [aMen, c_5, c_12, c_20, tn_nI (show s < 2 ^ 31 by omega), tn_nI (show m < 2 ^ 31 by omega), tn_nI hn]; done)
set_option maxHeartbeats 4000000 in
theorem m_front {l : Launch} {g : Zg} {ad : Nat → Nat} {M : Zm} {st : Ms} {W : Nat → Nat} (hm : Mod g ad M st) (hw : WR st W) (hi : InvW W) (nv v : Int32) : Cn l g yX11_front cX11_front 3 (some .int) 5 0 0 [.ref (ad 0), .int nv, .int v] M (PM g ad st (some (.int (aFront W nv v))) (fun _ => True)) := by
  refine Cn.start [(0, .ref (ad 0)), (1, .int nv), (2, .int v)] (by decide) (Nat.le_of_ble_eq_true rfl) rfl ?_
  intro γ el eg h hq
  subst el; subst eg
  have h4 := hi.h4
  have h0 := hi.h0
  have hw0 := hw
  have hk : keep st st := keep.rf st
  refine z_aload_n 0 h dX11_front_0 rfl rfl rfl ?_
  refine z_iload_n 2 h dX11_front_1 rfl rfl ?_
  refine z_callVP h (m_areTrains hm hw hi v) kX11 (.inl (hm.at 0 (by decide))) (lw_V q2124 q2126 qs86 q148 q2127) nX11_areTrains rfl rfl rfl (Nat.le_of_ble_eq_true rfl) (Nat.le_of_ble_eq_true rfl) (Nat.le_of_ble_eq_true rfl) dX11_front_2 ?_
  refine z_ifz_eq 33 h dX11_front_5 (by decide) (fun c_5 => ?_) (fun c_5 => ?_)
  · have _z := c_5
    refine z_sipush h dX11_front_33 ks_m1000 ?_
    refine z_iret h hq dX11_front_36 (Nat.le_of_ble_eq_true rfl) (Nat.le_of_ble_eq_true rfl) ?_
    refine ⟨vS ?_, _, hm, hk, trivial⟩
    first | (simp [aFront, c_5]; done) | (simp [aFront, c_21]; done) | (simp [aFront, c_5, c_21, tn_nI hk3, tn_nI hn]; done)
  · have _z := c_5
    obtain ⟨n, h_n, hn, rfl⟩ := areTr_nat c_5
    refine z_iload_n 1 h dX11_front_8 rfl rfl ?_
    refine z_i2l h dX11_front_9 ?_
    refine z_lconst h dX11_front_10 kl_0 ?_
    refine z_aload_n 0 h dX11_front_11 rfl rfl rfl ?_
    refine z_get h kX11 (.inl (hm.at 0 (by decide))) 1 rfl q1848 rfl dX11_front_12 ?_
    refine z_iconst h dX11_front_15 ki_0 ?_
    refine zm_w (0) h hm hw rfl (by omega) dX11_front_16 ?_
    refine z_i2l h dX11_front_17 ?_
    refine z_callSP h (m_inI nv 0 _ 0 (W 0) rfl (toI64 (nI_toInt (hi.lt 0 (by decide))))) (lw_S q1950 q1951 q148 q1952) nX11_in rfl rfl rfl (Nat.le_of_ble_eq_true rfl) (Nat.le_of_ble_eq_true rfl) (Nat.le_of_ble_eq_true rfl) dX11_front_18 ?_
    refine z_ifz_eq 33 h dX11_front_21 (by decide) (fun c_21 => ?_) (fun c_21 => ?_)
    · have _z := c_21
      refine z_sipush h dX11_front_33 ks_m1000 ?_
      refine z_iret h hq dX11_front_36 (Nat.le_of_ble_eq_true rfl) (Nat.le_of_ble_eq_true rfl) ?_
      refine ⟨vS ?_, _, hm, hk, trivial⟩
      first | (simp [aFront, c_5]; done) | (simp [aFront, c_21]; done) | (simp [aFront, c_5, c_21, tn_nI hk3, tn_nI hn]; done)
    · have _z := c_21
      obtain ⟨k, hk2, hk3, rfl⟩ := inI_nat c_21
      refine z_aload_n 0 h dX11_front_24 rfl rfl rfl ?_
      refine z_iload_n 1 h dX11_front_25 rfl rfl ?_
      refine z_iload_n 2 h dX11_front_26 rfl rfl ?_
      refine z_callV h (m_frontOf hm hw hi k n (by omega) hn) kX11 (.inl (hm.at 0 (by decide))) (lw_V q2147 q2149 qs90 q148 q2150) nX11_frontOf rfl rfl rfl (Nat.le_of_ble_eq_true rfl) (Nat.le_of_ble_eq_true rfl) (Nat.le_of_ble_eq_true rfl) dX11_front_27 (fun v M hv => ?_)
      obtain ⟨rfl, s1, hm, hkf, hX⟩ := hv
      replace hk := hk.tr hkf.k
      have hw := hk.w hw0
      refine z_goto 36 h dX11_front_30 (by decide) ?_
      refine z_iret h hq dX11_front_36 (Nat.le_of_ble_eq_true rfl) (Nat.le_of_ble_eq_true rfl) ?_
      refine ⟨vS ?_, _, hm, hk, trivial⟩
      first | (simp [aFront, c_5]; done) | (simp [aFront, c_21]; done) | (simp [aFront, c_5, c_21, tn_nI hk3, tn_nI hn]; done)
set_option maxHeartbeats 4000000 in
theorem m_late {l : Launch} {g : Zg} {ad : Nat → Nat} {M : Zm} {st : Ms} {W : Nat → Nat} (hm : Mod g ad M st) (hw : WR st W) (hi : InvW W) (v : Int32) : Cn l g yX11_late cX11_late 2 (some .int) 5 0 0 [.ref (ad 0), .int v] M (PM g ad st (some (.int (aLate W v))) (fun _ => True)) := by
  refine Cn.start [(0, .ref (ad 0)), (1, .int v)] (by decide) (Nat.le_of_ble_eq_true rfl) rfl ?_
  intro γ el eg h hq
  subst el; subst eg
  have h4 := hi.h4
  have h0 := hi.h0
  have hw0 := hw
  have hk : keep st st := keep.rf st
  refine z_aload_n 0 h dX11_late_0 rfl rfl rfl ?_
  refine z_iload_n 1 h dX11_late_1 rfl rfl ?_
  refine z_callVP h (m_areTrains hm hw hi v) kX11 (.inl (hm.at 0 (by decide))) (lw_V q2124 q2126 qs86 q148 q2127) nX11_areTrains rfl rfl rfl (Nat.le_of_ble_eq_true rfl) (Nat.le_of_ble_eq_true rfl) (Nat.le_of_ble_eq_true rfl) dX11_late_2 ?_
  refine z_ifz_eq 40 h dX11_late_5 (by decide) (fun c_5 => ?_) (fun c_5 => ?_)
  · have _z := c_5
    refine z_bipush h dX11_late_40 kb_m2 ?_
    refine z_iret h hq dX11_late_42 (Nat.le_of_ble_eq_true rfl) (Nat.le_of_ble_eq_true rfl) ?_
    refine ⟨vS ?_, _, hm, hk, trivial⟩
    first | (simp [aLate, c_5]; done) | (simp [aLate, c_5, tn_nI hn, lateN, c_14, c_28]; rfl)
  · have _z := c_5
    obtain ⟨n, h_n, hn, rfl⟩ := areTr_nat c_5
    refine z_aload_n 0 h dX11_late_8 rfl rfl rfl ?_
    refine z_iconst h dX11_late_9 ki_0 ?_
    refine z_iload_n 1 h dX11_late_10 rfl rfl ?_
    refine z_callVP h (m_isLate hm hw hi 0 n (by decide) hn) kX11 (.inl (hm.at 0 (by decide))) (lw_V q2155 q2157 qs91 q148 q2158) nX11_isLate rfl rfl rfl (Nat.le_of_ble_eq_true rfl) (Nat.le_of_ble_eq_true rfl) (Nat.le_of_ble_eq_true rfl) dX11_late_11 ?_
    refine z_ifz_eq 21 h dX11_late_14 (by decide) (fun c_14 => ?_) (fun c_14 => ?_)
    · have _z := c_14
      refine z_iconst h dX11_late_21 ki_0 ?_
      refine z_aload_n 0 h dX11_late_22 rfl rfl rfl ?_
      refine z_iconst h dX11_late_23 ki_1 ?_
      refine z_iload_n 1 h dX11_late_24 rfl rfl ?_
      refine z_callVP h (m_isLate hm hw hi 1 n (by decide) hn) kX11 (.inl (hm.at 0 (by decide))) (lw_V q2155 q2157 qs91 q148 q2158) nX11_isLate rfl rfl rfl (Nat.le_of_ble_eq_true rfl) (Nat.le_of_ble_eq_true rfl) (Nat.le_of_ble_eq_true rfl) dX11_late_25 ?_
      refine z_ifz_eq 35 h dX11_late_28 (by decide) (fun c_28 => ?_) (fun c_28 => ?_)
      · have _z := c_28
        refine z_iconst h dX11_late_35 ki_0 ?_
        refine z_iadd h dX11_late_36 ?_
        refine z_goto 42 h dX11_late_37 (by decide) ?_
        refine z_iret h hq dX11_late_42 (Nat.le_of_ble_eq_true rfl) (Nat.le_of_ble_eq_true rfl) ?_
        refine ⟨vS ?_, _, hm, hk, trivial⟩
        first | (simp [aLate, c_5]; done) | (simp [aLate, c_5, tn_nI hn, lateN, c_14, c_28]; rfl)
      · have _z := c_28
        refine z_iconst h dX11_late_31 ki_2 ?_
        refine z_goto 36 h dX11_late_32 (by decide) ?_
        refine z_iadd h dX11_late_36 ?_
        refine z_goto 42 h dX11_late_37 (by decide) ?_
        refine z_iret h hq dX11_late_42 (Nat.le_of_ble_eq_true rfl) (Nat.le_of_ble_eq_true rfl) ?_
        refine ⟨vS ?_, _, hm, hk, trivial⟩
        first | (simp [aLate, c_5]; done) | (simp [aLate, c_5, tn_nI hn, lateN, c_14, c_28]; rfl)
    · have _z := c_14
      refine z_iconst h dX11_late_17 ki_1 ?_
      refine z_goto 22 h dX11_late_18 (by decide) ?_
      refine z_aload_n 0 h dX11_late_22 rfl rfl rfl ?_
      refine z_iconst h dX11_late_23 ki_1 ?_
      refine z_iload_n 1 h dX11_late_24 rfl rfl ?_
      refine z_callVP h (m_isLate hm hw hi 1 n (by decide) hn) kX11 (.inl (hm.at 0 (by decide))) (lw_V q2155 q2157 qs91 q148 q2158) nX11_isLate rfl rfl rfl (Nat.le_of_ble_eq_true rfl) (Nat.le_of_ble_eq_true rfl) (Nat.le_of_ble_eq_true rfl) dX11_late_25 ?_
      refine z_ifz_eq 35 h dX11_late_28 (by decide) (fun c_28 => ?_) (fun c_28 => ?_)
      · have _z := c_28
        refine z_iconst h dX11_late_35 ki_0 ?_
        refine z_iadd h dX11_late_36 ?_
        refine z_goto 42 h dX11_late_37 (by decide) ?_
        refine z_iret h hq dX11_late_42 (Nat.le_of_ble_eq_true rfl) (Nat.le_of_ble_eq_true rfl) ?_
        refine ⟨vS ?_, _, hm, hk, trivial⟩
        first | (simp [aLate, c_5]; done) | (simp [aLate, c_5, tn_nI hn, lateN, c_14, c_28]; rfl)
      · have _z := c_28
        refine z_iconst h dX11_late_31 ki_2 ?_
        refine z_goto 36 h dX11_late_32 (by decide) ?_
        refine z_iadd h dX11_late_36 ?_
        refine z_goto 42 h dX11_late_37 (by decide) ?_
        refine z_iret h hq dX11_late_42 (Nat.le_of_ble_eq_true rfl) (Nat.le_of_ble_eq_true rfl) ?_
        refine ⟨vS ?_, _, hm, hk, trivial⟩
        first | (simp [aLate, c_5]; done) | (simp [aLate, c_5, tn_nI hn, lateN, c_14, c_28]; rfl)
set_option maxHeartbeats 4000000 in
theorem m_wins {l : Launch} {g : Zg} {ad : Nat → Nat} {M : Zm} {st : Ms} {W : Nat → Nat} (hm : Mod g ad M st) (hw : WR st W) (hi : InvW W) (v : Int32) : Cn l g yX11_wins cX11_wins 2 (some .int) 7 0 0 [.ref (ad 0), .int v] M (PM g ad st (some (.int (aWins W v))) (fun _ => True)) := by
  refine Cn.start [(0, .ref (ad 0)), (1, .int v)] (by decide) (Nat.le_of_ble_eq_true rfl) rfl ?_
  intro γ el eg h hq
  subst el; subst eg
  have h4 := hi.h4
  have h0 := hi.h0
  have hw0 := hw
  have hk : keep st st := keep.rf st
  refine z_aload_n 0 h dX11_wins_0 rfl rfl rfl ?_
  refine z_iload_n 1 h dX11_wins_1 rfl rfl ?_
  refine z_callVP h (m_areTrains hm hw hi v) kX11 (.inl (hm.at 0 (by decide))) (lw_V q2124 q2126 qs86 q148 q2127) nX11_areTrains rfl rfl rfl (Nat.le_of_ble_eq_true rfl) (Nat.le_of_ble_eq_true rfl) (Nat.le_of_ble_eq_true rfl) dX11_wins_2 ?_
  refine z_ifz_eq 16 h dX11_wins_5 (by decide) (fun c_5 => ?_) (fun c_5 => ?_)
  · have _z := c_5
    refine z_bipush h dX11_wins_16 kb_m2 ?_
    refine z_iret h hq dX11_wins_18 (Nat.le_of_ble_eq_true rfl) (Nat.le_of_ble_eq_true rfl) ?_
    refine ⟨vS ?_, _, hm, hk, trivial⟩
    first | (simp [aWins, c_5]; done) | (simp [aWins, c_5, tn_nI hn]; done)
  · have _z := c_5
    obtain ⟨n, h_n, hn, rfl⟩ := areTr_nat c_5
    refine z_aload_n 0 h dX11_wins_8 rfl rfl rfl ?_
    refine z_iload_n 1 h dX11_wins_9 rfl rfl ?_
    refine z_callV h (m_winner hm hw hi n hn) kX11 (.inl (hm.at 0 (by decide))) (lw_V q2163 q2165 qs92 q148 q2166) nX11_winner rfl rfl rfl (Nat.le_of_ble_eq_true rfl) (Nat.le_of_ble_eq_true rfl) (Nat.le_of_ble_eq_true rfl) dX11_wins_10 (fun v M hv => ?_)
    obtain ⟨rfl, s1, hm, hkf, hX⟩ := hv
    replace hk := hk.tr hkf.k
    have hw := hk.w hw0
    refine z_goto 18 h dX11_wins_13 (by decide) ?_
    refine z_iret h hq dX11_wins_18 (Nat.le_of_ble_eq_true rfl) (Nat.le_of_ble_eq_true rfl) ?_
    refine ⟨vS ?_, _, hm, hk, trivial⟩
    first | (simp [aWins, c_5]; done) | (simp [aWins, c_5, tn_nI hn]; done)
set_option maxHeartbeats 4000000 in
theorem m_peak {l : Launch} {g : Zg} {ad : Nat → Nat} {M : Zm} {st : Ms} {W : Nat → Nat} (hm : Mod g ad M st) (hw : WR st W) (hi : InvW W) (sv v : Int32) : Cn l g yX11_peak cX11_peak 5 (some .int) 6 0 0 [.ref (ad 0), .int sv, .int v] M (PM g ad st (some (.int (aPeak W sv v))) (fun _ => True)) := by
  refine Cn.start [(0, .ref (ad 0)), (1, .int sv), (2, .int v)] (by decide) (Nat.le_of_ble_eq_true rfl) rfl ?_
  intro γ el eg h hq
  subst el; subst eg
  have h4 := hi.h4
  have h0 := hi.h0
  have hw0 := hw
  have hk : keep st st := keep.rf st
  refine z_aload_n 0 h dX11_peak_0 rfl rfl rfl ?_
  refine z_iload_n 1 h dX11_peak_1 rfl rfl ?_
  refine z_callVP h (m_isSide hm hw hi sv) kX11 (.inl (hm.at 0 (by decide))) (lw_V q2087 q2089 qs83 q148 q2090) nX11_isSide rfl rfl rfl (Nat.le_of_ble_eq_true rfl) (Nat.le_of_ble_eq_true rfl) (Nat.le_of_ble_eq_true rfl) dX11_peak_2 ?_
  refine z_ifz_eq 16 h dX11_peak_5 (by decide) (fun c_5 => ?_) (fun c_5 => ?_)
  · have _z := c_5
    refine z_bipush h dX11_peak_16 kb_m2 ?_
    refine z_iret h hq dX11_peak_18 (Nat.le_of_ble_eq_true rfl) (Nat.le_of_ble_eq_true rfl) ?_
    refine ⟨vS ?_, _, hm, hk, trivial⟩
    first | (simp [aPeak, c_5]; done) | (simp [aPeak, c_13]; done)
  · have _z := c_5
    obtain ⟨s, h_s, rfl⟩ := isSide_nat c_5
    refine z_aload_n 0 h dX11_peak_8 rfl rfl rfl ?_
    refine z_iload_n 2 h dX11_peak_9 rfl rfl ?_
    refine z_callVP h (m_areTrains hm hw hi v) kX11 (.inl (hm.at 0 (by decide))) (lw_V q2124 q2126 qs86 q148 q2127) nX11_areTrains rfl rfl rfl (Nat.le_of_ble_eq_true rfl) (Nat.le_of_ble_eq_true rfl) (Nat.le_of_ble_eq_true rfl) dX11_peak_10 ?_
    refine z_ifz_ne 19 h dX11_peak_13 (by decide) (fun c_13 => ?_) (fun c_13 => ?_)
    · have _z := c_13
      obtain ⟨n, h_n, hn, rfl⟩ := areTr_nat c_13
      refine z_aload_n 0 h dX11_peak_19 rfl rfl rfl ?_
      refine z_iload_n 2 h dX11_peak_20 rfl rfl ?_
      refine z_callV h (m_lastFront hm hw hi n hn) kX11 (.inl (hm.at 0 (by decide))) (lw_V q2167 q2169 qs93 q148 q2170) nX11_lastFront rfl rfl rfl (Nat.le_of_ble_eq_true rfl) (Nat.le_of_ble_eq_true rfl) (Nat.le_of_ble_eq_true rfl) dX11_peak_21 (fun v M hv => ?_)
      obtain ⟨rfl, s1, hm, hkf, hX⟩ := hv
      replace hk := hk.tr hkf.k
      have hw := hk.w hw0
      refine z_pop h dX11_peak_24 rfl ?_
      refine z_iconst h dX11_peak_25 ki_0 ?_
      refine z_istore_n 3 h dX11_peak_26 rfl rfl ?_
      refine z_iconst h dX11_peak_27 ki_1 ?_
      refine z_istore h dX11_peak_28 rfl ?_
      have loop_30 : ∀ (fz : Nat) (k : Nat) (hk1 : 1 ≤ k) (hk2 : k ≤ W 0 + 1), (W 0 + 1 - k) < fz → Z γ M 0 0 30 (lof [(0, .ref (ad 0)), (1, .int (nI s)), (3, .int (nI (peakN W s n (k - 1)))), (4, .int (nI k))]) [] := by
        intro fz
        induction fz with
        | zero => intro k hk1 hk2 hz; exact absurd hz (Nat.not_lt_zero _)
        | succ fz ih_30 =>
          intro k hk1 hk2 hz_30
          have hp := peakN_le W s n (k - 1)
          refine z_iload h dX11_peak_30 rfl ?_
          refine z_aload_n 0 h dX11_peak_32 rfl rfl rfl ?_
          refine z_get h kX11 (.inl (hm.at 0 (by decide))) 1 rfl q1848 rfl dX11_peak_33 ?_
          refine z_iconst h dX11_peak_36 ki_0 ?_
          refine zm_w (0) h hm hw rfl (by omega) dX11_peak_37 ?_
          refine z_icmp_gt 78 h dX11_peak_38 (by decide) (fun c_38 => ?_) (fun c_38 => ?_)
          · have _z := c_38
            replace c_38 := (ilt (a := W (0)) (b := k) rfl rfl (hi.lt _ (by omega)) (by omega)).mp c_38
            refine z_iload_n 3 h dX11_peak_78 rfl rfl ?_
            refine z_iret h hq dX11_peak_79 (Nat.le_of_ble_eq_true rfl) (Nat.le_of_ble_eq_true rfl) ?_
            obtain rfl : k = W 0 + 1 := by omega
            refine ⟨vS ?_, _, hm, hk, trivial⟩
            simp [aPeak, c_5, c_13, tn_nI (show s < 2 ^ 31 by omega), tn_nI hn]
          · have _z := c_38
            replace c_38 := (not_congr (ilt (a := W (0)) (b := k) rfl rfl (hi.lt _ (by omega)) (by omega))).mp c_38
            refine z_iload_n 1 h dX11_peak_41 rfl rfl ?_
            refine z_aload_n 0 h dX11_peak_42 rfl rfl rfl ?_
            refine z_get h kX11 (.inl (hm.at 0 (by decide))) 15 rfl q1862 rfl dX11_peak_43 ?_
            refine z_iload h dX11_peak_46 rfl ?_
            refine z_ialdN (k) h (.inl (hm.at 15 (by decide))) rfl (by omega) (by decide) dX11_peak_48 ?_
            rw [hX k (by omega)]
            refine z_callSP h (m_goodBy s (frZ W n (k)) (by omega)) (lw_S q2175 q2176 q148 q2177) nX11_goodBy rfl rfl rfl (Nat.le_of_ble_eq_true rfl) (Nat.le_of_ble_eq_true rfl) (Nat.le_of_ble_eq_true rfl) dX11_peak_49 ?_
            refine z_iload_n 1 h dX11_peak_52 rfl rfl ?_
            refine z_aload_n 0 h dX11_peak_53 rfl rfl rfl ?_
            refine z_get h kX11 (.inl (hm.at 0 (by decide))) 15 rfl q1862 rfl dX11_peak_54 ?_
            refine z_iload_n 3 h dX11_peak_57 rfl rfl ?_
            refine z_ialdN (peakN W s n (k - 1)) h (.inl (hm.at 15 (by decide))) rfl (by omega) (by decide) dX11_peak_58 ?_
            rw [hX (peakN W s n (k - 1)) (by omega)]
            refine z_callSP h (m_goodBy s (frZ W n (peakN W s n (k - 1))) (by omega)) (lw_S q2175 q2176 q148 q2177) nX11_goodBy rfl rfl rfl (Nat.le_of_ble_eq_true rfl) (Nat.le_of_ble_eq_true rfl) (Nat.le_of_ble_eq_true rfl) dX11_peak_59 ?_
            refine z_icmp_le 70 h dX11_peak_62 (by decide) (fun c_62 => ?_) (fun c_62 => ?_)
            · have _z := c_62
              replace c_62 := (zle (a := gdZ s (frZ W n (k))) (b := gdZ s (frZ W n (peakN W s n (k - 1)))) rfl rfl (by have := gdZ_b W s n (k) (by omega); omega) (by have := gdZ_b W s n (peakN W s n (k - 1)) (by omega); omega)).mp c_62
              refine z_iload_n 3 h dX11_peak_70 rfl rfl ?_
              refine z_istore_n 3 h dX11_peak_71 rfl rfl ?_
              refine z_iinc h dX11_peak_72 rfl rfl ki_1 ?_
              refine z_goto 30 h dX11_peak_75 (by decide) ?_
              refine Z.loc [(0, .ref (ad 0)), (1, .int (nI s)), (3, .int (nI (peakN W s n ((k + 1) - 1)))), (4, .int (nI (k + 1)))] (ll1 rfl (ll1 rfl (ll1 (vS (by obtain ⟨j, rfl⟩ : ∃ j, k = j + 1 := ⟨k - 1, by omega⟩; first | (rw [show j + 1 + 1 - 1 = j + 1 from rfl, peakN, if_pos (by simpa using c_62)]; done) | (rw [show j + 1 + 1 - 1 = j + 1 from rfl, peakN, if_neg (by simpa using c_62)]; rfl))) (ll1 (vS (nI_1 k)) ll0)))) ?_
              exact ih_30 (k + 1) (by omega) (by omega) (by omega)
            · have _z := c_62
              replace c_62 := (not_congr (zle (a := gdZ s (frZ W n (k))) (b := gdZ s (frZ W n (peakN W s n (k - 1)))) rfl rfl (by have := gdZ_b W s n (k) (by omega); omega) (by have := gdZ_b W s n (peakN W s n (k - 1)) (by omega); omega))).mp c_62
              refine z_iload h dX11_peak_65 rfl ?_
              refine z_goto 71 h dX11_peak_67 (by decide) ?_
              refine z_istore_n 3 h dX11_peak_71 rfl rfl ?_
              refine z_iinc h dX11_peak_72 rfl rfl ki_1 ?_
              refine z_goto 30 h dX11_peak_75 (by decide) ?_
              refine Z.loc [(0, .ref (ad 0)), (1, .int (nI s)), (3, .int (nI (peakN W s n ((k + 1) - 1)))), (4, .int (nI (k + 1)))] (ll1 rfl (ll1 rfl (ll1 (vS (by obtain ⟨j, rfl⟩ : ∃ j, k = j + 1 := ⟨k - 1, by omega⟩; first | (rw [show j + 1 + 1 - 1 = j + 1 from rfl, peakN, if_pos (by simpa using c_62)]; done) | (rw [show j + 1 + 1 - 1 = j + 1 from rfl, peakN, if_neg (by simpa using c_62)]; rfl))) (ll1 (vS (nI_1 k)) ll0)))) ?_
              exact ih_30 (k + 1) (by omega) (by omega) (by omega)
      refine Z.loc [(0, .ref (ad 0)), (1, .int (nI s)), (3, .int (nI (peakN W s n (1 - 1)))), (4, .int (nI 1))] (ll1 rfl (ll1 rfl (ll1 rfl (ll1 rfl ll0)))) ?_
      exact loop_30 _ 1 (Nat.le_refl _) (by omega) (Nat.lt_succ_self _)
    · have _z := c_13
      refine z_bipush h dX11_peak_16 kb_m2 ?_
      refine z_iret h hq dX11_peak_18 (Nat.le_of_ble_eq_true rfl) (Nat.le_of_ble_eq_true rfl) ?_
      refine ⟨vS ?_, _, hm, hk, trivial⟩
      first | (simp [aPeak, c_5]; done) | (simp [aPeak, c_13]; done)
set_option maxHeartbeats 4000000 in
theorem m_since {l : Launch} {g : Zg} {ad : Nat → Nat} {M : Zm} {st : Ms} {W : Nat → Nat} (hm : Mod g ad M st) (hw : WR st W) (hi : InvW W) (sv v : Int32) : Cn l g yX11_since cX11_since 4 (some .int) 4 0 0 [.ref (ad 0), .int sv, .int v] M (PM g ad st (some (.int (aSince W sv v))) (fun _ => True)) := by
  refine Cn.start [(0, .ref (ad 0)), (1, .int sv), (2, .int v)] (by decide) (Nat.le_of_ble_eq_true rfl) rfl ?_
  intro γ el eg h hq
  subst el; subst eg
  have h4 := hi.h4
  have h0 := hi.h0
  have hw0 := hw
  have hk : keep st st := keep.rf st
  refine z_aload_n 0 h dX11_since_0 rfl rfl rfl ?_
  refine z_iload_n 1 h dX11_since_1 rfl rfl ?_
  refine z_callVP h (m_isSide hm hw hi sv) kX11 (.inl (hm.at 0 (by decide))) (lw_V q2087 q2089 qs83 q148 q2090) nX11_isSide rfl rfl rfl (Nat.le_of_ble_eq_true rfl) (Nat.le_of_ble_eq_true rfl) (Nat.le_of_ble_eq_true rfl) dX11_since_2 ?_
  refine z_ifz_eq 16 h dX11_since_5 (by decide) (fun c_5 => ?_) (fun c_5 => ?_)
  · have _z := c_5
    refine z_bipush h dX11_since_16 kb_m2 ?_
    refine z_iret h hq dX11_since_18 (Nat.le_of_ble_eq_true rfl) (Nat.le_of_ble_eq_true rfl) ?_
    refine ⟨vS ?_, _, hm, hk, trivial⟩
    first | (simp [aSince, c_5]; done) | (simp [aSince, c_13]; done)
  · have _z := c_5
    obtain ⟨s, h_s, rfl⟩ := isSide_nat c_5
    refine z_aload_n 0 h dX11_since_8 rfl rfl rfl ?_
    refine z_iload_n 2 h dX11_since_9 rfl rfl ?_
    refine z_callVP h (m_areTrains hm hw hi v) kX11 (.inl (hm.at 0 (by decide))) (lw_V q2124 q2126 qs86 q148 q2127) nX11_areTrains rfl rfl rfl (Nat.le_of_ble_eq_true rfl) (Nat.le_of_ble_eq_true rfl) (Nat.le_of_ble_eq_true rfl) dX11_since_10 ?_
    refine z_ifz_ne 19 h dX11_since_13 (by decide) (fun c_13 => ?_) (fun c_13 => ?_)
    · have _z := c_13
      obtain ⟨n, h_n, hn, rfl⟩ := areTr_nat c_13
      refine z_iconst h dX11_since_19 ki_0 ?_
      refine z_istore_n 3 h dX11_since_20 rfl rfl ?_
      have loop_21 : ∀ (fz : Nat) (t : Nat) (ht : t ≤ 100) (hf : firstF (sinceB W s n) (100 - t) t = firstF (sinceB W s n) 100 0), (100 - t) < fz → Z γ M 0 0 21 (lof [(0, .ref (ad 0)), (1, .int (nI s)), (2, .int (nI n)), (3, .int (nI t))]) [] := by
        intro fz
        induction fz with
        | zero => intro t ht hf hz; exact absurd hz (Nat.not_lt_zero _)
        | succ fz ih_21 =>
          intro t ht hf hz_21
          refine z_iload_n 3 h dX11_since_21 rfl rfl ?_
          refine z_bipush h dX11_since_22 kb_100 ?_
          refine z_icmp_ge 54 h dX11_since_24 (by decide) (fun c_24 => ?_) (fun c_24 => ?_)
          · have _z := c_24
            replace c_24 := (ile (a := 100) (b := t) rfl rfl (by decide) (by omega)).mp c_24
            refine z_iconst h dX11_since_54 ki_m1 ?_
            refine z_iret h hq dX11_since_55 (Nat.le_of_ble_eq_true rfl) (Nat.le_of_ble_eq_true rfl) ?_
            obtain rfl : t = 100 := by omega
            refine ⟨vS ?_, _, hm, hk, trivial⟩
            rw [aSince, if_pos (by simp [c_5, c_13]), tn_nI (show s < 2 ^ 31 by omega), tn_nI hn, ← hf]
            rfl
          · have _z := c_24
            replace c_24 := (not_congr (ile (a := 100) (b := t) rfl rfl (by decide) (by omega))).mp c_24
            refine z_aload_n 0 h dX11_since_27 rfl rfl rfl ?_
            refine z_iload_n 1 h dX11_since_28 rfl rfl ?_
            refine z_iload_n 3 h dX11_since_29 rfl rfl ?_
            refine z_iload_n 2 h dX11_since_30 rfl rfl ?_
            refine z_callVP h (m_menOf hm hw hi s t n (by omega) (by omega) hn) kX11 (.inl (hm.at 0 (by decide))) (lw_V q2132 q2134 qs88 q148 q2135) nX11_menOf rfl rfl rfl (Nat.le_of_ble_eq_true rfl) (Nat.le_of_ble_eq_true rfl) (Nat.le_of_ble_eq_true rfl) dX11_since_31 ?_
            refine z_aload_n 0 h dX11_since_34 rfl rfl rfl ?_
            refine z_get h kX11 (.inl (hm.at 0 (by decide))) 1 rfl q1848 rfl dX11_since_35 ?_
            refine z_bipush h dX11_since_38 kb_11 ?_
            refine z_iload_n 1 h dX11_since_40 rfl rfl ?_
            refine z_iadd h dX11_since_41 ?_
            refine zm_w (11 + s) h hm hw (ixa rfl rfl) (by omega) dX11_since_42 ?_
            refine z_icmp_lt 48 h dX11_since_43 (by decide) (fun c_43 => ?_) (fun c_43 => ?_)
            · have _z := c_43
              replace c_43 := (ilt (a := menN W s t n (W 4)) (b := W (11 + s)) rfl rfl (menN_lt hi _ _ _) (hi.lt _ (by omega))).mp c_43
              refine z_iinc h dX11_since_48 rfl rfl ki_1 ?_
              refine z_goto 21 h dX11_since_51 (by decide) ?_
              refine Z.loc [(0, .ref (ad 0)), (1, .int (nI s)), (2, .int (nI n)), (3, .int (nI (t + 1)))] (ll1 rfl (ll1 rfl (ll1 rfl (ll1 (vS (nI_1 t)) ll0)))) ?_
              exact ih_21 (t + 1) (by omega) (by rw [← hf, show 100 - t = (100 - (t + 1)) + 1 by omega, firstF_f (by simp [sinceB]; omega)]) (by omega)
            · have _z := c_43
              replace c_43 := (not_congr (ilt (a := menN W s t n (W 4)) (b := W (11 + s)) rfl rfl (menN_lt hi _ _ _) (hi.lt _ (by omega)))).mp c_43
              refine z_iload_n 3 h dX11_since_46 rfl rfl ?_
              refine z_iret h hq dX11_since_47 (Nat.le_of_ble_eq_true rfl) (Nat.le_of_ble_eq_true rfl) ?_
              refine ⟨vS ?_, _, hm, hk, trivial⟩
              rw [aSince, if_pos (by simp [c_5, c_13]), tn_nI (show s < 2 ^ 31 by omega), tn_nI hn, ← hf, show 100 - t = (99 - t) + 1 by omega, firstF_t (by simp [sinceB]; omega)]
              exact nz rfl
      refine Z.loc [(0, .ref (ad 0)), (1, .int (nI s)), (2, .int (nI n)), (3, .int (nI 0))] (ll1 rfl (ll1 rfl (ll1 rfl (ll1 rfl ll0)))) ?_
      exact loop_21 _ 0 (Nat.zero_le _) rfl (Nat.lt_succ_self _)
    · have _z := c_13
      refine z_bipush h dX11_since_16 kb_m2 ?_
      refine z_iret h hq dX11_since_18 (Nat.le_of_ble_eq_true rfl) (Nat.le_of_ble_eq_true rfl) ?_
      refine ⟨vS ?_, _, hm, hk, trivial⟩
      first | (simp [aSince, c_5]; done) | (simp [aSince, c_13]; done)
set_option maxHeartbeats 4000000 in
theorem m_comes {l : Launch} {g : Zg} {ad : Nat → Nat} {M : Zm} {st : Ms} {W : Nat → Nat} (hm : Mod g ad M st) (hw : WR st W) (hi : InvW W) (mv v : Int32) : Cn l g yX11_comes cX11_comes 5 (some .int) 3 0 0 [.ref (ad 0), .int mv, .int v] M (PM g ad st (some (.int (aComes W mv v))) (fun _ => True)) := by
  refine Cn.start [(0, .ref (ad 0)), (1, .int mv), (2, .int v)] (by decide) (Nat.le_of_ble_eq_true rfl) rfl ?_
  intro γ el eg h hq
  subst el; subst eg
  have h4 := hi.h4
  have h0 := hi.h0
  have hw0 := hw
  have hk : keep st st := keep.rf st
  refine z_iload_n 1 h dX11_comes_0 rfl rfl ?_
  refine z_callSP h (m_isAny mv) (lw_S q2120 q2121 q148 q2122) nX11_isAny rfl rfl rfl (Nat.le_of_ble_eq_true rfl) (Nat.le_of_ble_eq_true rfl) (Nat.le_of_ble_eq_true rfl) dX11_comes_1 ?_
  refine z_ifz_eq 15 h dX11_comes_4 (by decide) (fun c_4 => ?_) (fun c_4 => ?_)
  · have _z := c_4
    refine z_bipush h dX11_comes_15 kb_m2 ?_
    refine z_iret h hq dX11_comes_17 (Nat.le_of_ble_eq_true rfl) (Nat.le_of_ble_eq_true rfl) ?_
    refine ⟨vS ?_, _, hm, hk, trivial⟩
    first | (simp [aComes, c_4]; done) | (simp [aComes, c_12]; done)
  · have _z := c_4
    obtain ⟨m, h_m, rfl⟩ := any_nat c_4
    refine z_aload_n 0 h dX11_comes_7 rfl rfl rfl ?_
    refine z_iload_n 2 h dX11_comes_8 rfl rfl ?_
    refine z_callVP h (m_areTrains hm hw hi v) kX11 (.inl (hm.at 0 (by decide))) (lw_V q2124 q2126 qs86 q148 q2127) nX11_areTrains rfl rfl rfl (Nat.le_of_ble_eq_true rfl) (Nat.le_of_ble_eq_true rfl) (Nat.le_of_ble_eq_true rfl) dX11_comes_9 ?_
    refine z_ifz_ne 18 h dX11_comes_12 (by decide) (fun c_12 => ?_) (fun c_12 => ?_)
    · have _z := c_12
      obtain ⟨n, h_n, hn, rfl⟩ := areTr_nat c_12
      refine z_iconst h dX11_comes_18 ki_0 ?_
      refine z_istore_n 3 h dX11_comes_19 rfl rfl ?_
      refine z_iconst h dX11_comes_20 ki_0 ?_
      refine z_istore h dX11_comes_21 rfl ?_
      have loop_23 : ∀ (fz : Nat) (t : Nat) (ht : t ≤ W 4), (W 4 - t) < fz → Z γ M 0 0 23 (lof [(0, .ref (ad 0)), (1, .int (nI m)), (2, .int (nI n)), (3, .int (nI (comesS W m n t))), (4, .int (nI t))]) [] := by
        intro fz
        induction fz with
        | zero => intro t ht hz; exact absurd hz (Nat.not_lt_zero _)
        | succ fz ih_23 =>
          intro t ht hz_23
          refine z_iload h dX11_comes_23 rfl ?_
          refine z_aload_n 0 h dX11_comes_25 rfl rfl rfl ?_
          refine z_get h kX11 (.inl (hm.at 0 (by decide))) 1 rfl q1848 rfl dX11_comes_26 ?_
          refine z_iconst h dX11_comes_29 ki_4 ?_
          refine zm_w (4) h hm hw rfl (by omega) dX11_comes_30 ?_
          refine z_icmp_ge 62 h dX11_comes_31 (by decide) (fun c_31 => ?_) (fun c_31 => ?_)
          · have _z := c_31
            replace c_31 := (ile (a := W (4)) (b := t) rfl rfl (hi.lt _ (by omega)) (by omega)).mp c_31
            refine z_iload_n 3 h dX11_comes_62 rfl rfl ?_
            refine z_iret h hq dX11_comes_63 (Nat.le_of_ble_eq_true rfl) (Nat.le_of_ble_eq_true rfl) ?_
            obtain rfl : t = W 4 := by omega
            refine ⟨vS ?_, _, hm, hk, trivial⟩
            simp [aComes, c_4, c_12, tn_nI (show m < 2 ^ 31 by omega), tn_nI hn]
          · have _z := c_31
            replace c_31 := (not_congr (ile (a := W (4)) (b := t) rfl rfl (hi.lt _ (by omega)) (by omega))).mp c_31
            refine z_iload_n 3 h dX11_comes_34 rfl rfl ?_
            refine z_aload_n 0 h dX11_comes_35 rfl rfl rfl ?_
            refine z_iload h dX11_comes_36 rfl ?_
            refine z_iload_n 2 h dX11_comes_38 rfl rfl ?_
            refine z_callVP h (m_comesAt hm hw hi t n (by omega) hn) kX11 (.inl (hm.at 0 (by decide))) (lw_V q2136 q2138 qs89 q148 q2139) nX11_comesAt rfl rfl rfl (Nat.le_of_ble_eq_true rfl) (Nat.le_of_ble_eq_true rfl) (Nat.le_of_ble_eq_true rfl) dX11_comes_39 ?_
            refine z_iload_n 1 h dX11_comes_42 rfl rfl ?_
            refine z_icmp_ne 53 h dX11_comes_43 (by decide) (fun c_43 => ?_) (fun c_43 => ?_)
            · have _z := c_43
              replace c_43 := (not_congr (ieq (a := comesN W n t) (b := m) rfl rfl (by have := comesN_le hi n t (by omega); omega) (by omega))).mp c_43
              refine z_iconst h dX11_comes_53 ki_0 ?_
              refine z_ior h dX11_comes_54 ?_
              refine z_istore_n 3 h dX11_comes_55 rfl rfl ?_
              refine z_iinc h dX11_comes_56 rfl rfl ki_1 ?_
              refine z_goto 23 h dX11_comes_59 (by decide) ?_
              refine Z.loc [(0, .ref (ad 0)), (1, .int (nI m)), (2, .int (nI n)), (3, .int (nI (comesS W m n (t + 1)))), (4, .int (nI (t + 1)))] (ll1 rfl (ll1 rfl (ll1 rfl (ll1 (vS (by first | (refine set_t (by omega) ?_; simp [c_43]; done) | (refine set_f (by omega) ?_; simp [c_43]; done))) (ll1 (vS (nI_1 t)) ll0))))) ?_
              exact ih_23 (t + 1) (by omega) (by omega)
            · have _z := c_43
              replace c_43 := (ieq (a := comesN W n t) (b := m) rfl rfl (by have := comesN_le hi n t (by omega); omega) (by omega)).mp c_43
              refine z_iconst h dX11_comes_46 ki_1 ?_
              refine z_iload h dX11_comes_47 rfl ?_
              refine z_ishl h dX11_comes_49 ?_
              refine z_goto 54 h dX11_comes_50 (by decide) ?_
              refine z_ior h dX11_comes_54 ?_
              refine z_istore_n 3 h dX11_comes_55 rfl rfl ?_
              refine z_iinc h dX11_comes_56 rfl rfl ki_1 ?_
              refine z_goto 23 h dX11_comes_59 (by decide) ?_
              refine Z.loc [(0, .ref (ad 0)), (1, .int (nI m)), (2, .int (nI n)), (3, .int (nI (comesS W m n (t + 1)))), (4, .int (nI (t + 1)))] (ll1 rfl (ll1 rfl (ll1 rfl (ll1 (vS (by first | (refine set_t (by omega) ?_; simp [c_43]; done) | (refine set_f (by omega) ?_; simp [c_43]; done))) (ll1 (vS (nI_1 t)) ll0))))) ?_
              exact ih_23 (t + 1) (by omega) (by omega)
      refine Z.loc [(0, .ref (ad 0)), (1, .int (nI m)), (2, .int (nI n)), (3, .int (nI (comesS W m n 0))), (4, .int (nI 0))] (ll1 rfl (ll1 rfl (ll1 rfl (ll1 rfl (ll1 rfl ll0))))) ?_
      exact loop_23 _ 0 (Nat.zero_le _) (Nat.lt_succ_self _)
    · have _z := c_12
      refine z_bipush h dX11_comes_15 kb_m2 ?_
      refine z_iret h hq dX11_comes_17 (Nat.le_of_ble_eq_true rfl) (Nat.le_of_ble_eq_true rfl) ?_
      refine ⟨vS ?_, _, hm, hk, trivial⟩
      first | (simp [aComes, c_4]; done) | (simp [aComes, c_12]; done)
theorem vL2 {a b : Int64} (h : a = b) : some (Value.long a) = some (Value.long b) := by rw [h]
set_option maxHeartbeats 4000000 in
theorem m_even {l : Launch} {g : Zg} {ad : Nat → Nat} {M : Zm} {st : Ms} {W : Nat → Nat} (hm : Mod g ad M st) (hw : WR st W) (hi : InvW W) (v : Int32) : Cn l g yX11_even cX11_even 5 (some .long) 4 0 0 [.ref (ad 0), .int v] M (PM g ad st (some (.long (aEven W v))) (fun _ => True)) := by
  refine Cn.start [(0, .ref (ad 0)), (1, .int v)] (by decide) (Nat.le_of_ble_eq_true rfl) rfl ?_
  intro γ el eg h hq
  subst el; subst eg
  have h4 := hi.h4
  have h0 := hi.h0
  have hw0 := hw
  have hk : keep st st := keep.rf st
  refine z_aload_n 0 h dX11_even_0 rfl rfl rfl ?_
  refine z_iload_n 1 h dX11_even_1 rfl rfl ?_
  refine z_callVP h (m_areTrains hm hw hi v) kX11 (.inl (hm.at 0 (by decide))) (lw_V q2124 q2126 qs86 q148 q2127) nX11_areTrains rfl rfl rfl (Nat.le_of_ble_eq_true rfl) (Nat.le_of_ble_eq_true rfl) (Nat.le_of_ble_eq_true rfl) dX11_even_2 ?_
  refine z_ifz_ne 12 h dX11_even_5 (by decide) (fun c_5 => ?_) (fun c_5 => ?_)
  · have _z := c_5
    obtain ⟨n, h_n, hn, rfl⟩ := areTr_nat c_5
    refine z_lconst h dX11_even_12 kl_0 ?_
    refine z_lstore_n 2 h dX11_even_13 rfl rfl ?_
    refine z_iconst h dX11_even_14 ki_0 ?_
    refine z_istore h dX11_even_15 rfl ?_
    have loop_17 : ∀ (fz : Nat) (m : Nat) (hm3 : m ≤ W 0), (W 0 - m) < fz → Z γ M 0 0 17 (lof [(0, .ref (ad 0)), (1, .int (nI n)), (2, .long (lN (evenS W n m))), (4, .int (nI m))]) [] := by
      intro fz
      induction fz with
      | zero => intro m hm3 hz; exact absurd hz (Nat.not_lt_zero _)
      | succ fz ih_17 =>
        intro m hm3 hz_17
        refine z_iload h dX11_even_17 rfl ?_
        refine z_aload_n 0 h dX11_even_19 rfl rfl rfl ?_
        refine z_get h kX11 (.inl (hm.at 0 (by decide))) 1 rfl q1848 rfl dX11_even_20 ?_
        refine z_iconst h dX11_even_23 ki_0 ?_
        refine zm_w (0) h hm hw rfl (by omega) dX11_even_24 ?_
        refine z_icmp_ge 64 h dX11_even_25 (by decide) (fun c_25 => ?_) (fun c_25 => ?_)
        · have _z := c_25
          replace c_25 := (ile (a := W (0)) (b := m) rfl rfl (hi.lt _ (by omega)) (by omega)).mp c_25
          refine z_lload_n 2 h dX11_even_64 rfl rfl ?_
          refine z_lret h hq dX11_even_65 (Nat.le_of_ble_eq_true rfl) (Nat.le_of_ble_eq_true rfl) ?_
          obtain rfl : m = W 0 := by omega
          refine ⟨vL2 ?_, _, hm, hk, trivial⟩
          simp [aEven, c_5, tn_nI hn]
        · have _z := c_25
          replace c_25 := (not_congr (ile (a := W (0)) (b := m) rfl rfl (hi.lt _ (by omega)) (by omega))).mp c_25
          refine z_lload_n 2 h dX11_even_28 rfl rfl ?_
          refine z_aload_n 0 h dX11_even_29 rfl rfl rfl ?_
          refine z_iconst h dX11_even_30 ki_0 ?_
          refine z_iload h dX11_even_31 rfl ?_
          refine z_iload_n 1 h dX11_even_33 rfl rfl ?_
          refine z_callVP h (m_menOf hm hw hi 0 m n (by omega) (by omega) hn) kX11 (.inl (hm.at 0 (by decide))) (lw_V q2132 q2134 qs88 q148 q2135) nX11_menOf rfl rfl rfl (Nat.le_of_ble_eq_true rfl) (Nat.le_of_ble_eq_true rfl) (Nat.le_of_ble_eq_true rfl) dX11_even_34 ?_
          refine z_aload_n 0 h dX11_even_37 rfl rfl rfl ?_
          refine z_iconst h dX11_even_38 ki_1 ?_
          refine z_iload h dX11_even_39 rfl ?_
          refine z_iload_n 1 h dX11_even_41 rfl rfl ?_
          refine z_callVP h (m_menOf hm hw hi 1 m n (by omega) (by omega) hn) kX11 (.inl (hm.at 0 (by decide))) (lw_V q2132 q2134 qs88 q148 q2135) nX11_menOf rfl rfl rfl (Nat.le_of_ble_eq_true rfl) (Nat.le_of_ble_eq_true rfl) (Nat.le_of_ble_eq_true rfl) dX11_even_42 ?_
          refine z_icmp_ne 55 h dX11_even_45 (by decide) (fun c_45 => ?_) (fun c_45 => ?_)
          · have _z := c_45
            replace c_45 := (not_congr (ieq (a := menN W 0 m n (W 4)) (b := menN W 1 m n (W 4)) rfl rfl (menN_lt hi _ _ _) (menN_lt hi _ _ _))).mp c_45
            refine z_lconst h dX11_even_55 kl_0 ?_
            refine z_lor h dX11_even_56 ?_
            refine z_lstore_n 2 h dX11_even_57 rfl rfl ?_
            refine z_iinc h dX11_even_58 rfl rfl ki_1 ?_
            refine z_goto 17 h dX11_even_61 (by decide) ?_
            refine Z.loc [(0, .ref (ad 0)), (1, .int (nI n)), (2, .long (lN (evenS W n (m + 1)))), (4, .int (nI (m + 1)))] (ll1 rfl (ll1 rfl (ll1 (vL2 (by first | (refine setL_t (by omega) ?_; simp [c_45]; done) | (refine setL_f (by omega) ?_; simp [c_45]; done))) (ll1 (vS (nI_1 m)) ll0)))) ?_
            exact ih_17 (m + 1) (by omega) (by omega)
          · have _z := c_45
            replace c_45 := (ieq (a := menN W 0 m n (W 4)) (b := menN W 1 m n (W 4)) rfl rfl (menN_lt hi _ _ _) (menN_lt hi _ _ _)).mp c_45
            refine z_lconst h dX11_even_48 kl_1 ?_
            refine z_iload h dX11_even_49 rfl ?_
            refine z_lshl h dX11_even_51 ?_
            refine z_goto 56 h dX11_even_52 (by decide) ?_
            refine z_lor h dX11_even_56 ?_
            refine z_lstore_n 2 h dX11_even_57 rfl rfl ?_
            refine z_iinc h dX11_even_58 rfl rfl ki_1 ?_
            refine z_goto 17 h dX11_even_61 (by decide) ?_
            refine Z.loc [(0, .ref (ad 0)), (1, .int (nI n)), (2, .long (lN (evenS W n (m + 1)))), (4, .int (nI (m + 1)))] (ll1 rfl (ll1 rfl (ll1 (vL2 (by first | (refine setL_t (by omega) ?_; simp [c_45]; done) | (refine setL_f (by omega) ?_; simp [c_45]; done))) (ll1 (vS (nI_1 m)) ll0)))) ?_
            exact ih_17 (m + 1) (by omega) (by omega)
    refine Z.loc [(0, .ref (ad 0)), (1, .int (nI n)), (2, .long (lN (evenS W n 0))), (4, .int (nI 0))] (ll1 rfl (ll1 rfl (ll1 rfl (ll1 rfl ll0)))) ?_
    exact loop_17 _ 0 (Nat.zero_le _) (Nat.lt_succ_self _)
  · have _z := c_5
    refine z_ldc2 h q2194 dX11_even_8 ?_
    refine z_lret h hq dX11_even_11 (Nat.le_of_ble_eq_true rfl) (Nat.le_of_ble_eq_true rfl) ?_
    refine ⟨vL2 ?_, _, hm, hk, trivial⟩
    simp [aEven, c_5]
