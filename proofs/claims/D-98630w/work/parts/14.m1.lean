/-! the reference: its small readers -/
set_option maxRecDepth 100000
theorem ile {x z : Int32} {a b : Nat} (hx : x = nI a) (hz : z = nI b) (ha : a < 2 ^ 31) (hb : b < 2 ^ 31) : x ≤ z ↔ a ≤ b := by rw [hx, hz]; exact nI_leI ha hb
theorem ilt {x z : Int32} {a b : Nat} (hx : x = nI a) (hz : z = nI b) (ha : a < 2 ^ 31) (hb : b < 2 ^ 31) : x < z ↔ a < b := by rw [hx, hz]; exact nI_ltI ha hb
theorem ieq {x z : Int32} {a b : Nat} (hx : x = nI a) (hz : z = nI b) (ha : a < 2 ^ 31) (hb : b < 2 ^ 31) : x = z ↔ a = b := by rw [hx, hz]; exact nI_eq ha hb
theorem InvW.lt {W : Nat → Nat} (hi : InvW W) (k : Nat) (hk : k < 240) : W k < 2 ^ 31 := by
  have := hi.2.2.2.2.2.2.2.2.2.2.2.2.2.2.2.2.2.2.2.1 k hk
  omega
theorem InvW.h4 {W : Nat → Nat} (hi : InvW W) : W 4 ≤ 9 := hi.2.2.2.2.1
theorem InvW.h5 {W : Nat → Nat} (hi : InvW W) : W 5 ≤ 4 := hi.2.2.2.2.2.1
theorem InvW.h6 {W : Nat → Nat} (hi : InvW W) : W 6 ≤ 8 := hi.2.2.2.2.2.2.1
theorem InvW.h7 {W : Nat → Nat} (hi : InvW W) : W 7 ≤ 4 := hi.2.2.2.2.2.2.2.1
theorem InvW.h8 {W : Nat → Nat} (hi : InvW W) : W 8 ≤ 5 := hi.2.2.2.2.2.2.2.2.1
theorem InvW.h0 {W : Nat → Nat} (hi : InvW W) : W 0 ≤ 60 := hi.1
theorem InvW.h1 {W : Nat → Nat} (hi : InvW W) : W 1 ≤ 60 := hi.2.1
theorem InvW.h10 {W : Nat → Nat} (hi : InvW W) : W 10 ≤ 60 := hi.2.2.2.2.2.2.2.2.2.2.1
theorem InvW.tr {W : Nat → Nat} (hi : InvW W) (t : Nat) (ht : t < W 4) : W (13 + 6 * t) ≤ 1 ∧ W (13 + 6 * t + 1) ≤ 99 ∧ W (13 + 6 * t + 2) ≤ 59 ∧ W (13 + 6 * t + 3) ≤ 100 ∧ W (13 + 6 * t + 4) ≤ 30 ∧ W (13 + 6 * t + 5) ≤ 999 := hi.2.2.2.2.2.2.2.2.2.2.2.2.2.1 t ht
def isWarB (W : Nat → Nat) : Bool := decide (0 < W 9)
def isSideB (W : Nat → Nat) (x : Int32) : Bool := isWarB W && inI x 0 1
def isTrainB (W : Nat → Nat) (x : Int32) : Bool := inI x 0 ((W 4 : Int) - 1)
def allN (W : Nat → Nat) : Nat := 2 ^ W 4 - 1
def areTrB (W : Nat → Nat) (x : Int32) : Bool := isWarB W && inI x 0 (allN W)
theorem zcb {a b : Bool} (h : a = b) : some (Value.int (z2i a)) = some (Value.int (z2i b)) := by rw [h]
theorem zb1 {b : Bool} (h : b = true) : some (Value.int 1) = some (Value.int (z2i b)) := by rw [h]; rfl
theorem zb0 {b : Bool} (h : b = false) : some (Value.int 0) = some (Value.int (z2i b)) := by rw [h]; rfl
theorem shl_N : ∀ k, k < 31 → (1 : Int32) <<< (nI k &&& 31) = nI (2 ^ k) := by decide +kernel
theorem vS {x z : Int32} (h : x = z) : some (Value.int x) = some (Value.int z) := by rw [h]
theorem sub1_i {n : Nat} (h : n < 2 ^ 31) : (nI n - 1).toInt = (n : Int) - 1 := by
  have h1 : (1 : Int32) = nI 1 := rfl
  by_cases h0 : n = 0
  · subst h0; decide
  · rw [h1, pk_sub (by omega), nI_toInt (by omega)]
    omega
theorem allN_lt {W : Nat → Nat} (hi : InvW W) : allN W < 2 ^ 31 := by
  have h1 := hi.h4
  have h2 : 2 ^ W 4 ≤ 2 ^ 9 := Nat.pow_le_pow_right (by decide) h1
  unfold allN
  omega
theorem pow_b {k n : Nat} (h : k ≤ n) : 2 ^ k ≤ 2 ^ n := Nat.pow_le_pow_right (by decide) h
set_option maxHeartbeats 4000000 in
theorem m_in {l : Launch} {g : Zg} {M : Zm} (v lo hi : Int64) : Cn l g yX11_in cX11_in 6 (some .boolean) 1 0 0 [.long v, .long lo, .long hi] M (PV (.int (z2i (decide (lo ≤ v ∧ v ≤ hi)))) M) := by
  refine Cn.start [(0, .long v), (2, .long lo), (4, .long hi)] (by decide) (Nat.le_of_ble_eq_true rfl) rfl ?_
  intro γ el eg h hq
  subst el; subst eg
  refine z_lload_n 0 h dX11_in_0 rfl rfl ?_
  refine z_lload_n 2 h dX11_in_1 rfl rfl ?_
  refine z_lcmp h dX11_in_2 ?_
  refine z_if_lt 17 h dX11_in_3 (by decide) (fun c_3 => ?_) (fun c_3 => ?_)
  · have _z := c_3
    refine z_iconst h dX11_in_17 ki_0 ?_
    refine z_zret h hq rfl dX11_in_18 (Nat.le_of_ble_eq_true rfl) (Nat.le_of_ble_eq_true rfl) ?_
    refine ⟨?_, rfl⟩
    first | exact zb1 (decide_eq_true ⟨Int64.not_lt.mp (fun q => c_3 ((lg_cmp_lt v lo).mpr q)), Int64.not_lt.mp (fun q => c_10 ((lg_cmp_gt v hi).mpr q))⟩) | exact zb0 (decide_eq_false (fun q => Int64.not_lt.mpr q.2 ((lg_cmp_gt v hi).mp c_10))) | exact zb0 (decide_eq_false (fun q => Int64.not_lt.mpr q.1 ((lg_cmp_lt v lo).mp c_3)))
  · have _z := c_3
    refine z_lload_n 0 h dX11_in_6 rfl rfl ?_
    refine z_lload h dX11_in_7 rfl ?_
    refine z_lcmp h dX11_in_9 ?_
    refine z_if_gt 17 h dX11_in_10 (by decide) (fun c_10 => ?_) (fun c_10 => ?_)
    · have _z := c_10
      refine z_iconst h dX11_in_17 ki_0 ?_
      refine z_zret h hq rfl dX11_in_18 (Nat.le_of_ble_eq_true rfl) (Nat.le_of_ble_eq_true rfl) ?_
      refine ⟨?_, rfl⟩
      first | exact zb1 (decide_eq_true ⟨Int64.not_lt.mp (fun q => c_3 ((lg_cmp_lt v lo).mpr q)), Int64.not_lt.mp (fun q => c_10 ((lg_cmp_gt v hi).mpr q))⟩) | exact zb0 (decide_eq_false (fun q => Int64.not_lt.mpr q.2 ((lg_cmp_gt v hi).mp c_10))) | exact zb0 (decide_eq_false (fun q => Int64.not_lt.mpr q.1 ((lg_cmp_lt v lo).mp c_3)))
    · have _z := c_10
      refine z_iconst h dX11_in_13 ki_1 ?_
      refine z_goto 18 h dX11_in_14 (by decide) ?_
      refine z_zret h hq rfl dX11_in_18 (Nat.le_of_ble_eq_true rfl) (Nat.le_of_ble_eq_true rfl) ?_
      refine ⟨?_, rfl⟩
      first | exact zb1 (decide_eq_true ⟨Int64.not_lt.mp (fun q => c_3 ((lg_cmp_lt v lo).mpr q)), Int64.not_lt.mp (fun q => c_10 ((lg_cmp_gt v hi).mpr q))⟩) | exact zb0 (decide_eq_false (fun q => Int64.not_lt.mpr q.2 ((lg_cmp_gt v hi).mp c_10))) | exact zb0 (decide_eq_false (fun q => Int64.not_lt.mpr q.1 ((lg_cmp_lt v lo).mp c_3)))
theorem m_inI {l : Launch} {g : Zg} {M : Zm} (x : Int32) (lo hi : Int64) (a b : Int) (ha : lo.toInt = a) (hb : hi.toInt = b) : Cn l g yX11_in cX11_in 6 (some .boolean) 1 0 0 [.long x.toInt64, .long lo, .long hi] M (PV (.int (z2i (inI x a b))) M) := by
  rw [← inL_inI ha hb]
  exact m_in _ _ _
set_option maxHeartbeats 4000000 in
theorem m_bit {l : Launch} {g : Zg} {M : Zm} (n k : Nat) (hn : n < 2 ^ 31) (hk : k < 31) : Cn l g yX11_bit cX11_bit 2 (some .int) 1 0 0 [.int (nI n), .int (nI k)] M (PV (.int (nI (bN n k))) M) := by
  refine Cn.start [(0, .int (nI n)), (1, .int (nI k))] (by decide) (Nat.le_of_ble_eq_true rfl) rfl ?_
  intro γ el eg h hq
  subst el; subst eg
  refine z_iload_n 0 h dX11_bit_0 rfl rfl ?_
  refine z_iload_n 1 h dX11_bit_1 rfl rfl ?_
  refine z_ishr h dX11_bit_2 ?_
  refine z_iconst h dX11_bit_3 ki_1 ?_
  refine z_iand h dX11_bit_4 ?_
  exact z_iret h hq dX11_bit_5 (Nat.le_of_ble_eq_true rfl) (Nat.le_of_ble_eq_true rfl) (⟨vS (bit_at hn hk), rfl⟩)
def bcN (n : Nat) : Nat := sN (bN n) 12
set_option maxHeartbeats 4000000 in
theorem m_bits {l : Launch} {g : Zg} {M : Zm} (n : Nat) (hn : n < 2 ^ 31) : Cn l g yX11_bits cX11_bits 3 (some .int) 1 0 0 [.int (nI n)] M (PV (.int (nI (bcN n))) M) := by
  refine Cn.start [(0, .int (nI n))] (by decide) (Nat.le_of_ble_eq_true rfl) rfl ?_
  intro γ el eg h hq
  subst el; subst eg
  refine z_iconst h dX11_bits_0 ki_0 ?_
  refine z_istore_n 1 h dX11_bits_1 rfl rfl ?_
  refine z_iconst h dX11_bits_2 ki_0 ?_
  refine z_istore_n 2 h dX11_bits_3 rfl rfl ?_
  have loop_4 : ∀ (fz : Nat) (k : Nat) (hk : k ≤ 12), (12 - k) < fz → Z γ M 0 0 4 (lof [(0, .int (nI n)), (1, .int (nI (sN (bN n) k))), (2, .int (nI k))]) [] := by
    intro fz
    induction fz with
    | zero => intro k hk hz; exact absurd hz (Nat.not_lt_zero _)
    | succ fz ih_4 =>
      intro k hk hz_4
      refine z_iload_n 2 h dX11_bits_4 rfl rfl ?_
      refine z_bipush h dX11_bits_5 kb_12 ?_
      refine z_icmp_ge 24 h dX11_bits_7 (by decide) (fun c_7 => ?_) (fun c_7 => ?_)
      · have _z := c_7
        replace c_7 := (ile (a := 12) (b := k) rfl rfl (by decide) (by omega)).mp c_7
        refine z_iload_n 1 h dX11_bits_24 rfl rfl ?_
        refine z_iret h hq dX11_bits_25 (Nat.le_of_ble_eq_true rfl) (Nat.le_of_ble_eq_true rfl) ?_
        obtain rfl : k = 12 := by omega
        exact ⟨rfl, rfl⟩
      · have _z := c_7
        replace c_7 := (not_congr (ile (a := 12) (b := k) rfl rfl (by decide) (by omega))).mp c_7
        refine z_iload_n 1 h dX11_bits_10 rfl rfl ?_
        refine z_iload_n 0 h dX11_bits_11 rfl rfl ?_
        refine z_iload_n 2 h dX11_bits_12 rfl rfl ?_
        refine z_ishr h dX11_bits_13 ?_
        refine z_iconst h dX11_bits_14 ki_1 ?_
        refine z_iand h dX11_bits_15 ?_
        refine z_iadd h dX11_bits_16 ?_
        refine z_istore_n 1 h dX11_bits_17 rfl rfl ?_
        refine z_iinc h dX11_bits_18 rfl rfl ki_1 ?_
        refine z_goto 4 h dX11_bits_21 (by decide) ?_
        refine Z.loc [(0, .int (nI n)), (1, .int (nI (sN (bN n) (k + 1)))), (2, .int (nI (k + 1)))] (ll1 rfl (ll1 (vS (by rw [bit_at hn (by omega), nI_add]; rfl)) (ll1 (vS (nI_1 k)) ll0))) ?_
        exact ih_4 (k + 1) (by omega) (by omega)
  refine Z.loc [(0, .int (nI n)), (1, .int (nI (sN (bN n) 0))), (2, .int (nI 0))] (ll1 rfl (ll1 rfl (ll1 rfl ll0))) ?_
  exact loop_4 _ 0 (Nat.zero_le _) (Nat.lt_succ_self _)
set_option maxHeartbeats 4000000 in
theorem m_isWar {l : Launch} {g : Zg} {ad : Nat → Nat} {M : Zm} {st : Ms} {W : Nat → Nat} (hm : Mod g ad M st) (hw : WR st W) (hi : InvW W)  : Cn l g yX11_isWar cX11_isWar 1 (some .boolean) 1 0 0 [.ref (ad 0)] M (PV (.int (z2i (isWarB W))) M) := by
  refine Cn.start [(0, .ref (ad 0))] (by decide) (Nat.le_of_ble_eq_true rfl) rfl ?_
  intro γ el eg h hq
  subst el; subst eg
  refine z_aload_n 0 h dX11_isWar_0 rfl rfl rfl ?_
  refine z_get h kX11 (.inl (hm.at 0 (by decide))) 1 rfl q1848 rfl dX11_isWar_1 ?_
  refine z_bipush h dX11_isWar_4 kb_9 ?_
  refine zm_w (9) h hm hw rfl (by omega) dX11_isWar_6 ?_
  refine z_if_le 14 h dX11_isWar_7 (by decide) (fun c_7 => ?_) (fun c_7 => ?_)
  · have _z := c_7
    replace c_7 := (ile (a := W (9)) (b := 0) rfl rfl (hi.lt _ (by omega)) (by decide)).mp c_7
    refine z_iconst h dX11_isWar_14 ki_0 ?_
    refine z_zret h hq rfl dX11_isWar_15 (Nat.le_of_ble_eq_true rfl) (Nat.le_of_ble_eq_true rfl) ?_
    first | (refine ⟨zb1 ?_, rfl⟩; simp [isWarB, *]; done) | (refine ⟨zb0 ?_, rfl⟩; simp [isWarB, *]; done) | (refine ⟨zb1 ?_, rfl⟩; simp [isWarB, *]; omega) | (refine ⟨zb0 ?_, rfl⟩; simp [isWarB, *]; omega)
  · have _z := c_7
    replace c_7 := (not_congr (ile (a := W (9)) (b := 0) rfl rfl (hi.lt _ (by omega)) (by decide))).mp c_7
    refine z_iconst h dX11_isWar_10 ki_1 ?_
    refine z_goto 15 h dX11_isWar_11 (by decide) ?_
    refine z_zret h hq rfl dX11_isWar_15 (Nat.le_of_ble_eq_true rfl) (Nat.le_of_ble_eq_true rfl) ?_
    first | (refine ⟨zb1 ?_, rfl⟩; simp [isWarB, *]; done) | (refine ⟨zb0 ?_, rfl⟩; simp [isWarB, *]; done) | (refine ⟨zb1 ?_, rfl⟩; simp [isWarB, *]; omega) | (refine ⟨zb0 ?_, rfl⟩; simp [isWarB, *]; omega)
set_option maxHeartbeats 4000000 in
theorem m_isSide {l : Launch} {g : Zg} {ad : Nat → Nat} {M : Zm} {st : Ms} {W : Nat → Nat} (hm : Mod g ad M st) (hw : WR st W) (hi : InvW W) (x : Int32) : Cn l g yX11_isSide cX11_isSide 2 (some .boolean) 2 0 0 [.ref (ad 0), .int x] M (PV (.int (z2i (isSideB W x))) M) := by
  refine Cn.start [(0, .ref (ad 0)), (1, .int x)] (by decide) (Nat.le_of_ble_eq_true rfl) rfl ?_
  intro γ el eg h hq
  subst el; subst eg
  refine z_aload_n 0 h dX11_isSide_0 rfl rfl rfl ?_
  refine z_callVP h (m_isWar hm hw hi) kX11 (.inl (hm.at 0 (by decide))) (lw_V q2091 q2093 qs84 q148 q2094) nX11_isWar rfl rfl rfl (Nat.le_of_ble_eq_true rfl) (Nat.le_of_ble_eq_true rfl) (Nat.le_of_ble_eq_true rfl) dX11_isSide_1 ?_
  refine z_ifz_eq 21 h dX11_isSide_4 (by decide) (fun c_4 => ?_) (fun c_4 => ?_)
  · have _z := c_4
    refine z_iconst h dX11_isSide_21 ki_0 ?_
    refine z_zret h hq rfl dX11_isSide_22 (Nat.le_of_ble_eq_true rfl) (Nat.le_of_ble_eq_true rfl) ?_
    first | (refine ⟨zb1 ?_, rfl⟩; simp [isSideB, *]; done) | (refine ⟨zb0 ?_, rfl⟩; simp [isSideB, *]; done) | (refine ⟨zb1 ?_, rfl⟩; simp [isSideB, *]; omega) | (refine ⟨zb0 ?_, rfl⟩; simp [isSideB, *]; omega)
  · have _z := c_4
    refine z_iload_n 1 h dX11_isSide_7 rfl rfl ?_
    refine z_i2l h dX11_isSide_8 ?_
    refine z_lconst h dX11_isSide_9 kl_0 ?_
    refine z_lconst h dX11_isSide_10 kl_1 ?_
    refine z_callSP h (m_inI x 0 1 0 1 rfl rfl) (lw_S q1950 q1951 q148 q1952) nX11_in rfl rfl rfl (Nat.le_of_ble_eq_true rfl) (Nat.le_of_ble_eq_true rfl) (Nat.le_of_ble_eq_true rfl) dX11_isSide_11 ?_
    refine z_ifz_eq 21 h dX11_isSide_14 (by decide) (fun c_14 => ?_) (fun c_14 => ?_)
    · have _z := c_14
      refine z_iconst h dX11_isSide_21 ki_0 ?_
      refine z_zret h hq rfl dX11_isSide_22 (Nat.le_of_ble_eq_true rfl) (Nat.le_of_ble_eq_true rfl) ?_
      first | (refine ⟨zb1 ?_, rfl⟩; simp [isSideB, *]; done) | (refine ⟨zb0 ?_, rfl⟩; simp [isSideB, *]; done) | (refine ⟨zb1 ?_, rfl⟩; simp [isSideB, *]; omega) | (refine ⟨zb0 ?_, rfl⟩; simp [isSideB, *]; omega)
    · have _z := c_14
      refine z_iconst h dX11_isSide_17 ki_1 ?_
      refine z_goto 22 h dX11_isSide_18 (by decide) ?_
      refine z_zret h hq rfl dX11_isSide_22 (Nat.le_of_ble_eq_true rfl) (Nat.le_of_ble_eq_true rfl) ?_
      first | (refine ⟨zb1 ?_, rfl⟩; simp [isSideB, *]; done) | (refine ⟨zb0 ?_, rfl⟩; simp [isSideB, *]; done) | (refine ⟨zb1 ?_, rfl⟩; simp [isSideB, *]; omega) | (refine ⟨zb0 ?_, rfl⟩; simp [isSideB, *]; omega)
set_option maxHeartbeats 4000000 in
theorem m_isTrain {l : Launch} {g : Zg} {ad : Nat → Nat} {M : Zm} {st : Ms} {W : Nat → Nat} (hm : Mod g ad M st) (hw : WR st W) (hi : InvW W) (x : Int32) : Cn l g yX11_isTrain cX11_isTrain 2 (some .boolean) 2 0 0 [.ref (ad 0), .int x] M (PV (.int (z2i (isTrainB W x))) M) := by
  refine Cn.start [(0, .ref (ad 0)), (1, .int x)] (by decide) (Nat.le_of_ble_eq_true rfl) rfl ?_
  intro γ el eg h hq
  subst el; subst eg
  refine z_iload_n 1 h dX11_isTrain_0 rfl rfl ?_
  refine z_i2l h dX11_isTrain_1 ?_
  refine z_lconst h dX11_isTrain_2 kl_0 ?_
  refine z_aload_n 0 h dX11_isTrain_3 rfl rfl rfl ?_
  refine z_get h kX11 (.inl (hm.at 0 (by decide))) 1 rfl q1848 rfl dX11_isTrain_4 ?_
  refine z_iconst h dX11_isTrain_7 ki_4 ?_
  refine zm_w (4) h hm hw rfl (by omega) dX11_isTrain_8 ?_
  refine z_iconst h dX11_isTrain_9 ki_1 ?_
  refine z_isub h dX11_isTrain_10 ?_
  refine z_i2l h dX11_isTrain_11 ?_
  refine z_callSP h (m_inI x _ _ 0 ((W 4 : Int) - 1) rfl (toI64 (sub1_i (hi.lt 4 (by decide))))) (lw_S q1950 q1951 q148 q1952) nX11_in rfl rfl rfl (Nat.le_of_ble_eq_true rfl) (Nat.le_of_ble_eq_true rfl) (Nat.le_of_ble_eq_true rfl) dX11_isTrain_12 ?_
  exact z_zret h hq (z2i_n _) dX11_isTrain_15 (Nat.le_of_ble_eq_true rfl) (Nat.le_of_ble_eq_true rfl) (⟨rfl, rfl⟩)
set_option maxHeartbeats 4000000 in
theorem m_allTrains {l : Launch} {g : Zg} {ad : Nat → Nat} {M : Zm} {st : Ms} {W : Nat → Nat} (hm : Mod g ad M st) (hw : WR st W) (hi : InvW W)  : Cn l g yX11_allTrains cX11_allTrains 1 (some .int) 1 0 0 [.ref (ad 0)] M (PV (.int (nI (allN W))) M) := by
  refine Cn.start [(0, .ref (ad 0))] (by decide) (Nat.le_of_ble_eq_true rfl) rfl ?_
  intro γ el eg h hq
  subst el; subst eg
  refine z_iconst h dX11_allTrains_0 ki_1 ?_
  refine z_aload_n 0 h dX11_allTrains_1 rfl rfl rfl ?_
  refine z_get h kX11 (.inl (hm.at 0 (by decide))) 1 rfl q1848 rfl dX11_allTrains_2 ?_
  refine z_iconst h dX11_allTrains_5 ki_4 ?_
  refine zm_w (4) h hm hw rfl (by omega) dX11_allTrains_6 ?_
  refine z_ishl h dX11_allTrains_7 ?_
  refine z_iconst h dX11_allTrains_8 ki_1 ?_
  refine z_isub h dX11_allTrains_9 ?_
  exact z_iret h hq dX11_allTrains_10 (Nat.le_of_ble_eq_true rfl) (Nat.le_of_ble_eq_true rfl) (⟨vS (by rw [shl_N _ (by have := hi.h4; omega)]; exact pk_sub (Nat.one_le_two_pow)), rfl⟩)
set_option maxHeartbeats 4000000 in
theorem m_areTrains {l : Launch} {g : Zg} {ad : Nat → Nat} {M : Zm} {st : Ms} {W : Nat → Nat} (hm : Mod g ad M st) (hw : WR st W) (hi : InvW W) (x : Int32) : Cn l g yX11_areTrains cX11_areTrains 2 (some .boolean) 2 0 0 [.ref (ad 0), .int x] M (PV (.int (z2i (areTrB W x))) M) := by
  refine Cn.start [(0, .ref (ad 0)), (1, .int x)] (by decide) (Nat.le_of_ble_eq_true rfl) rfl ?_
  intro γ el eg h hq
  subst el; subst eg
  refine z_aload_n 0 h dX11_areTrains_0 rfl rfl rfl ?_
  refine z_callVP h (m_isWar hm hw hi) kX11 (.inl (hm.at 0 (by decide))) (lw_V q2091 q2093 qs84 q148 q2094) nX11_isWar rfl rfl rfl (Nat.le_of_ble_eq_true rfl) (Nat.le_of_ble_eq_true rfl) (Nat.le_of_ble_eq_true rfl) dX11_areTrains_1 ?_
  refine z_ifz_eq 25 h dX11_areTrains_4 (by decide) (fun c_4 => ?_) (fun c_4 => ?_)
  · have _z := c_4
    refine z_iconst h dX11_areTrains_25 ki_0 ?_
    refine z_zret h hq rfl dX11_areTrains_26 (Nat.le_of_ble_eq_true rfl) (Nat.le_of_ble_eq_true rfl) ?_
    first | (refine ⟨zb1 ?_, rfl⟩; simp [areTrB, *]; done) | (refine ⟨zb0 ?_, rfl⟩; simp [areTrB, *]; done) | (refine ⟨zb1 ?_, rfl⟩; simp [areTrB, *]; omega) | (refine ⟨zb0 ?_, rfl⟩; simp [areTrB, *]; omega)
  · have _z := c_4
    refine z_iload_n 1 h dX11_areTrains_7 rfl rfl ?_
    refine z_i2l h dX11_areTrains_8 ?_
    refine z_lconst h dX11_areTrains_9 kl_0 ?_
    refine z_aload_n 0 h dX11_areTrains_10 rfl rfl rfl ?_
    refine z_callVP h (m_allTrains hm hw hi) kX11 (.inl (hm.at 0 (by decide))) (lw_V q2128 q2130 qs87 q148 q2131) nX11_allTrains rfl rfl rfl (Nat.le_of_ble_eq_true rfl) (Nat.le_of_ble_eq_true rfl) (Nat.le_of_ble_eq_true rfl) dX11_areTrains_11 ?_
    refine z_i2l h dX11_areTrains_14 ?_
    refine z_callSP h (m_inI x _ _ 0 (allN W) rfl (toI64 (nI_toInt (allN_lt hi)))) (lw_S q1950 q1951 q148 q1952) nX11_in rfl rfl rfl (Nat.le_of_ble_eq_true rfl) (Nat.le_of_ble_eq_true rfl) (Nat.le_of_ble_eq_true rfl) dX11_areTrains_15 ?_
    refine z_ifz_eq 25 h dX11_areTrains_18 (by decide) (fun c_18 => ?_) (fun c_18 => ?_)
    · have _z := c_18
      refine z_iconst h dX11_areTrains_25 ki_0 ?_
      refine z_zret h hq rfl dX11_areTrains_26 (Nat.le_of_ble_eq_true rfl) (Nat.le_of_ble_eq_true rfl) ?_
      first | (refine ⟨zb1 ?_, rfl⟩; simp [areTrB, *]; done) | (refine ⟨zb0 ?_, rfl⟩; simp [areTrB, *]; done) | (refine ⟨zb1 ?_, rfl⟩; simp [areTrB, *]; omega) | (refine ⟨zb0 ?_, rfl⟩; simp [areTrB, *]; omega)
    · have _z := c_18
      refine z_iconst h dX11_areTrains_21 ki_1 ?_
      refine z_goto 26 h dX11_areTrains_22 (by decide) ?_
      refine z_zret h hq rfl dX11_areTrains_26 (Nat.le_of_ble_eq_true rfl) (Nat.le_of_ble_eq_true rfl) ?_
      first | (refine ⟨zb1 ?_, rfl⟩; simp [areTrB, *]; done) | (refine ⟨zb0 ?_, rfl⟩; simp [areTrB, *]; done) | (refine ⟨zb1 ?_, rfl⟩; simp [areTrB, *]; omega) | (refine ⟨zb0 ?_, rfl⟩; simp [areTrB, *]; omega)
set_option maxHeartbeats 4000000 in
theorem m_of {l : Launch} {g : Zg} {ad : Nat → Nat} {M : Zm} {st : Ms} {W : Nat → Nat} (hm : Mod g ad M st) (hw : WR st W) (hi : InvW W) (t k : Nat) (ht : 6 * t + k < 200) : Cn l g yX11_of cX11_of 3 (some .int) 1 0 0 [.ref (ad 0), .int (nI t), .int (nI k)] M (PV (.int (nI (W (13 + 6 * t + k)))) M) := by
  refine Cn.start [(0, .ref (ad 0)), (1, .int (nI t)), (2, .int (nI k))] (by decide) (Nat.le_of_ble_eq_true rfl) rfl ?_
  intro γ el eg h hq
  subst el; subst eg
  refine z_aload_n 0 h dX11_of_0 rfl rfl rfl ?_
  refine z_get h kX11 (.inl (hm.at 0 (by decide))) 1 rfl q1848 rfl dX11_of_1 ?_
  refine z_bipush h dX11_of_4 kb_13 ?_
  refine z_bipush h dX11_of_6 kb_6 ?_
  refine z_iload_n 1 h dX11_of_8 rfl rfl ?_
  refine z_imul h dX11_of_9 ?_
  refine z_iadd h dX11_of_10 ?_
  refine z_iload_n 2 h dX11_of_11 rfl rfl ?_
  refine z_iadd h dX11_of_12 ?_
  refine zm_w ((13 + (6 * t)) + k) h hm hw (ixa (ixa rfl (ixm rfl rfl)) rfl) (by omega) dX11_of_13 ?_
  exact z_iret h hq dX11_of_14 (Nat.le_of_ble_eq_true rfl) (Nat.le_of_ble_eq_true rfl) (⟨rfl, rfl⟩)
theorem m_of0 {l : Launch} {g : Zg} {ad : Nat → Nat} {M : Zm} {st : Ms} {W : Nat → Nat} (hm : Mod g ad M st) (hw : WR st W) (hi : InvW W) (t : Nat) (ht : 6 * t + 0 < 200) : Cn l g yX11_of cX11_of 3 (some .int) 1 0 0 [.ref (ad 0), .int (nI t), .int 0] M (PV (.int (nI (W (13 + 6 * t)))) M) := m_of hm hw hi t 0 ht
/-- the set of those below n for which p holds -/
def setN (p : Nat → Bool) : Nat → Nat
  | 0 => 0
  | n + 1 => setN p n ||| (if p n = true then 2 ^ n else 0)
theorem setN_lt (p : Nat → Bool) : ∀ n, setN p n < 2 ^ n
  | 0 => by simp [setN]
  | n + 1 => by
    have h1 := setN_lt p n
    have h2 : 2 ^ n < 2 ^ (n + 1) := Nat.pow_lt_pow_right (by decide) (by omega)
    unfold setN
    split
    · exact Nat.or_lt_two_pow (by omega) h2
    · exact Nat.or_lt_two_pow (by omega) (by omega)
theorem setN_bit (p : Nat → Bool) : ∀ n k, (setN p n).testBit k = (decide (k < n) && p k)
  | 0, k => by simp [setN]
  | n + 1, k => by
    unfold setN
    rw [Nat.testBit_or, setN_bit p n k]
    by_cases hk : k = n
    · subst hk
      cases hp : p k <;> simp [hp]
    · split
      · rw [Nat.testBit_two_pow_of_ne (Ne.symm hk)]
        by_cases h : k < n
        · simp [h, show k < n + 1 by omega]
        · simp [h, show ¬ k < n + 1 by omega]
      · by_cases h : k < n
        · simp [h, show k < n + 1 by omega]
        · simp [h, show ¬ k < n + 1 by omega]
theorem or_nI {a b : Nat} (ha : a < 2 ^ 32) (hb : b < 2 ^ 32) : nI a ||| nI b = nI (a ||| b) := by
  apply Int32.toBitVec_inj.mp
  apply BitVec.eq_of_toNat_eq
  rw [Int32.toBitVec_or, BitVec.toNat_or, pk_tn ha, pk_tn hb, pk_tn (Nat.or_lt_two_pow ha hb)]
theorem and_nI {a b : Nat} (ha : a < 2 ^ 32) (hb : b < 2 ^ 32) : nI a &&& nI b = nI (a &&& b) := by
  apply Int32.toBitVec_inj.mp
  apply BitVec.eq_of_toNat_eq
  rw [Int32.toBitVec_and, BitVec.toNat_and, pk_tn ha, pk_tn hb, pk_tn (Nat.lt_of_le_of_lt Nat.and_le_left ha)]
theorem xor_nI {a b : Nat} (ha : a < 2 ^ 32) (hb : b < 2 ^ 32) : nI a ^^^ nI b = nI (a ^^^ b) := by
  apply Int32.toBitVec_inj.mp
  apply BitVec.eq_of_toNat_eq
  rw [Int32.toBitVec_xor, BitVec.toNat_xor, pk_tn ha, pk_tn hb, pk_tn (Nat.xor_lt_two_pow ha hb)]
/-- a step of a set -/
theorem set_t {p : Nat → Bool} {n : Nat} (hn : n < 31) (hp : p n = true) : nI (setN p n) ||| ((1 : Int32) <<< (nI n &&& 31)) = nI (setN p (n + 1)) := by
  have h1 := setN_lt p n
  have h2 : 2 ^ n ≤ 2 ^ 30 := Nat.pow_le_pow_right (by decide) (by omega)
  rw [shl_N n hn, or_nI (by omega) (by omega)]
  simp [setN, hp]
theorem set_f {p : Nat → Bool} {n : Nat} (hn : n < 31) (hp : p n = false) : nI (setN p n) ||| 0 = nI (setN p (n + 1)) := by
  have h1 := setN_lt p n
  have h2 : 2 ^ n ≤ 2 ^ 30 := Nat.pow_le_pow_right (by decide) (by omega)
  rw [show (0 : Int32) = nI 0 from rfl, or_nI (by omega) (by omega)]
  simp [setN, hp]
/-- the trains of a side -/
def ownN (W : Nat → Nat) (s : Nat) : Nat := setN (fun t => decide (W (13 + 6 * t) = s)) (W 4)
def priceN (W : Nat → Nat) (n : Nat) : Nat → Nat := sN (fun t => bN n t * W (13 + 6 * t + 5))
def comesN (W : Nat → Nat) (n t : Nat) : Nat := W (13 + 6 * t + 2) + bN n t * W (13 + 6 * t + 4)
def menN (W : Nat → Nat) (s m n : Nat) : Nat → Nat := sN (fun t => if W (13 + 6 * t) = s ∧ comesN W n t ≤ m then W (13 + 6 * t + 1) else 0)
def teaB (W : Nat → Nat) (m : Nat) : Nat → Bool
  | 0 => false
  | k + 1 => teaB W m k || (decide (W (67 + 2 * k) ≤ m) && decide (m ≤ W (67 + 2 * k + 1)))
theorem comesN_le {W : Nat → Nat} (hi : InvW W) (n t : Nat) (ht : t < W 4) : comesN W n t ≤ 89 := by
  have h1 := hi.tr t ht
  have h2 := Nat.mul_le_mul (bN_le n t) h1.2.2.2.2.1
  unfold comesN
  omega
theorem menN_le {W : Nat → Nat} (hi : InvW W) (s m n : Nat) : ∀ t, t ≤ W 4 → menN W s m n t ≤ 99 * t
  | 0, _ => Nat.le_refl _
  | t + 1, ht => by
    have h1 := menN_le hi s m n t (by omega)
    have h2 := (hi.tr t (by omega)).2.1
    unfold menN at h1 ⊢
    simp only [sN]
    split <;> omega
theorem priceN_le {W : Nat → Nat} (hi : InvW W) (n : Nat) : ∀ t, t ≤ W 4 → priceN W n t ≤ 999 * t
  | 0, _ => Nat.le_refl _
  | t + 1, ht => by
    have h1 := priceN_le hi n t (by omega)
    have h2 := Nat.mul_le_mul (bN_le n t) (hi.tr t (by omega)).2.2.2.2.2
    unfold priceN at h1 ⊢
    simp only [sN]
    omega
theorem ownN_lt {W : Nat → Nat} (hi : InvW W) (s : Nat) : ownN W s < 512 := by
  have h1 := setN_lt (fun t => decide (W (13 + 6 * t) = s)) (W 4)
  have h2 : 2 ^ W 4 ≤ 2 ^ 9 := Nat.pow_le_pow_right (by decide) hi.h4
  unfold ownN
  omega
set_option maxHeartbeats 4000000 in
theorem m_trainsOf {l : Launch} {g : Zg} {ad : Nat → Nat} {M : Zm} {st : Ms} {W : Nat → Nat} (hm : Mod g ad M st) (hw : WR st W) (hi : InvW W) (s : Nat) (hs : s ≤ 1) : Cn l g yX11_trainsOf cX11_trainsOf 4 (some .int) 2 0 0 [.ref (ad 0), .int (nI s)] M (PV (.int (nI (ownN W s))) M) := by
  refine Cn.start [(0, .ref (ad 0)), (1, .int (nI s))] (by decide) (Nat.le_of_ble_eq_true rfl) rfl ?_
  intro γ el eg h hq
  subst el; subst eg
  have h4 := hi.h4
  refine z_iconst h dX11_trainsOf_0 ki_0 ?_
  refine z_istore_n 2 h dX11_trainsOf_1 rfl rfl ?_
  refine z_iconst h dX11_trainsOf_2 ki_0 ?_
  refine z_istore_n 3 h dX11_trainsOf_3 rfl rfl ?_
  have loop_4 : ∀ (fz : Nat) (t : Nat) (ht : t ≤ W 4), (W 4 - t) < fz → Z γ M 0 0 4 (lof [(0, .ref (ad 0)), (1, .int (nI s)), (2, .int (nI (setN (fun t => decide (W (13 + 6 * t) = s)) t))), (3, .int (nI t))]) [] := by
    intro fz
    induction fz with
    | zero => intro t ht hz; exact absurd hz (Nat.not_lt_zero _)
    | succ fz ih_4 =>
      intro t ht hz_4
      refine z_iload_n 3 h dX11_trainsOf_4 rfl rfl ?_
      refine z_aload_n 0 h dX11_trainsOf_5 rfl rfl rfl ?_
      refine z_get h kX11 (.inl (hm.at 0 (by decide))) 1 rfl q1848 rfl dX11_trainsOf_6 ?_
      refine z_iconst h dX11_trainsOf_9 ki_4 ?_
      refine zm_w (4) h hm hw rfl (by omega) dX11_trainsOf_10 ?_
      refine z_icmp_ge 40 h dX11_trainsOf_11 (by decide) (fun c_11 => ?_) (fun c_11 => ?_)
      · have _z := c_11
        replace c_11 := (ile (a := W (4)) (b := t) rfl rfl (hi.lt _ (by omega)) (by omega)).mp c_11
        refine z_iload_n 2 h dX11_trainsOf_40 rfl rfl ?_
        refine z_iret h hq dX11_trainsOf_41 (Nat.le_of_ble_eq_true rfl) (Nat.le_of_ble_eq_true rfl) ?_
        obtain rfl : t = W 4 := by omega
        exact ⟨rfl, rfl⟩
      · have _z := c_11
        replace c_11 := (not_congr (ile (a := W (4)) (b := t) rfl rfl (hi.lt _ (by omega)) (by omega))).mp c_11
        refine z_iload_n 2 h dX11_trainsOf_14 rfl rfl ?_
        refine z_aload_n 0 h dX11_trainsOf_15 rfl rfl rfl ?_
        refine z_iload_n 3 h dX11_trainsOf_16 rfl rfl ?_
        refine z_iconst h dX11_trainsOf_17 ki_0 ?_
        refine z_callVP h (m_of0 hm hw hi t (by omega)) kX11 (.inl (hm.at 0 (by decide))) (lw_V q2079 q2081 qs82 q148 q2082) nX11_of rfl rfl rfl (Nat.le_of_ble_eq_true rfl) (Nat.le_of_ble_eq_true rfl) (Nat.le_of_ble_eq_true rfl) dX11_trainsOf_18 ?_
        refine z_iload_n 1 h dX11_trainsOf_21 rfl rfl ?_
        refine z_icmp_ne 31 h dX11_trainsOf_22 (by decide) (fun c_22 => ?_) (fun c_22 => ?_)
        · have _z := c_22
          replace c_22 := (not_congr (ieq (a := W (13 + 6 * t)) (b := s) rfl rfl (hi.lt _ (by omega)) (by omega))).mp c_22
          refine z_iconst h dX11_trainsOf_31 ki_0 ?_
          refine z_ior h dX11_trainsOf_32 ?_
          refine z_istore_n 2 h dX11_trainsOf_33 rfl rfl ?_
          refine z_iinc h dX11_trainsOf_34 rfl rfl ki_1 ?_
          refine z_goto 4 h dX11_trainsOf_37 (by decide) ?_
          refine Z.loc [(0, .ref (ad 0)), (1, .int (nI s)), (2, .int (nI (setN (fun t => decide (W (13 + 6 * t) = s)) (t + 1)))), (3, .int (nI (t + 1)))] (ll1 rfl (ll1 rfl (ll1 (vS (by first | (refine set_t (by omega) ?_; simp [c_22]; done) | (refine set_f (by omega) ?_; simp [c_22]; done))) (ll1 (vS (nI_1 t)) ll0)))) ?_
          exact ih_4 (t + 1) (by omega) (by omega)
        · have _z := c_22
          replace c_22 := (ieq (a := W (13 + 6 * t)) (b := s) rfl rfl (hi.lt _ (by omega)) (by omega)).mp c_22
          refine z_iconst h dX11_trainsOf_25 ki_1 ?_
          refine z_iload_n 3 h dX11_trainsOf_26 rfl rfl ?_
          refine z_ishl h dX11_trainsOf_27 ?_
          refine z_goto 32 h dX11_trainsOf_28 (by decide) ?_
          refine z_ior h dX11_trainsOf_32 ?_
          refine z_istore_n 2 h dX11_trainsOf_33 rfl rfl ?_
          refine z_iinc h dX11_trainsOf_34 rfl rfl ki_1 ?_
          refine z_goto 4 h dX11_trainsOf_37 (by decide) ?_
          refine Z.loc [(0, .ref (ad 0)), (1, .int (nI s)), (2, .int (nI (setN (fun t => decide (W (13 + 6 * t) = s)) (t + 1)))), (3, .int (nI (t + 1)))] (ll1 rfl (ll1 rfl (ll1 (vS (by first | (refine set_t (by omega) ?_; simp [c_22]; done) | (refine set_f (by omega) ?_; simp [c_22]; done))) (ll1 (vS (nI_1 t)) ll0)))) ?_
          exact ih_4 (t + 1) (by omega) (by omega)
  refine Z.loc [(0, .ref (ad 0)), (1, .int (nI s)), (2, .int (nI (setN (fun t => decide (W (13 + 6 * t) = s)) 0))), (3, .int (nI 0))] (ll1 rfl (ll1 rfl (ll1 rfl (ll1 rfl ll0)))) ?_
  exact loop_4 _ 0 (Nat.zero_le _) (Nat.lt_succ_self _)
set_option maxHeartbeats 4000000 in
theorem m_priceOf {l : Launch} {g : Zg} {ad : Nat → Nat} {M : Zm} {st : Ms} {W : Nat → Nat} (hm : Mod g ad M st) (hw : WR st W) (hi : InvW W) (n : Nat) (hn : n < 2 ^ 31) : Cn l g yX11_priceOf cX11_priceOf 4 (some .int) 2 0 0 [.ref (ad 0), .int (nI n)] M (PV (.int (nI (priceN W n (W 4)))) M) := by
  refine Cn.start [(0, .ref (ad 0)), (1, .int (nI n))] (by decide) (Nat.le_of_ble_eq_true rfl) rfl ?_
  intro γ el eg h hq
  subst el; subst eg
  have h4 := hi.h4
  refine z_iconst h dX11_priceOf_0 ki_0 ?_
  refine z_istore_n 2 h dX11_priceOf_1 rfl rfl ?_
  refine z_iconst h dX11_priceOf_2 ki_0 ?_
  refine z_istore_n 3 h dX11_priceOf_3 rfl rfl ?_
  have loop_4 : ∀ (fz : Nat) (t : Nat) (ht : t ≤ W 4), (W 4 - t) < fz → Z γ M 0 0 4 (lof [(0, .ref (ad 0)), (1, .int (nI n)), (2, .int (nI (priceN W n t))), (3, .int (nI t))]) [] := by
    intro fz
    induction fz with
    | zero => intro t ht hz; exact absurd hz (Nat.not_lt_zero _)
    | succ fz ih_4 =>
      intro t ht hz_4
      refine z_iload_n 3 h dX11_priceOf_4 rfl rfl ?_
      refine z_aload_n 0 h dX11_priceOf_5 rfl rfl rfl ?_
      refine z_get h kX11 (.inl (hm.at 0 (by decide))) 1 rfl q1848 rfl dX11_priceOf_6 ?_
      refine z_iconst h dX11_priceOf_9 ki_4 ?_
      refine zm_w (4) h hm hw rfl (by omega) dX11_priceOf_10 ?_
      refine z_icmp_ge 35 h dX11_priceOf_11 (by decide) (fun c_11 => ?_) (fun c_11 => ?_)
      · have _z := c_11
        replace c_11 := (ile (a := W (4)) (b := t) rfl rfl (hi.lt _ (by omega)) (by omega)).mp c_11
        refine z_iload_n 2 h dX11_priceOf_35 rfl rfl ?_
        refine z_iret h hq dX11_priceOf_36 (Nat.le_of_ble_eq_true rfl) (Nat.le_of_ble_eq_true rfl) ?_
        obtain rfl : t = W 4 := by omega
        exact ⟨rfl, rfl⟩
      · have _z := c_11
        replace c_11 := (not_congr (ile (a := W (4)) (b := t) rfl rfl (hi.lt _ (by omega)) (by omega))).mp c_11
        refine z_iload_n 2 h dX11_priceOf_14 rfl rfl ?_
        refine z_iload_n 1 h dX11_priceOf_15 rfl rfl ?_
        refine z_iload_n 3 h dX11_priceOf_16 rfl rfl ?_
        refine z_callSP h (m_bit n t hn (by omega)) (lw_S q2140 q2141 q148 q2142) nX11_bit rfl rfl rfl (Nat.le_of_ble_eq_true rfl) (Nat.le_of_ble_eq_true rfl) (Nat.le_of_ble_eq_true rfl) dX11_priceOf_17 ?_
        refine z_aload_n 0 h dX11_priceOf_20 rfl rfl rfl ?_
        refine z_iload_n 3 h dX11_priceOf_21 rfl rfl ?_
        refine z_iconst h dX11_priceOf_22 ki_5 ?_
        refine z_callVP h (m_of hm hw hi t 5 (by omega)) kX11 (.inl (hm.at 0 (by decide))) (lw_V q2079 q2081 qs82 q148 q2082) nX11_of rfl rfl rfl (Nat.le_of_ble_eq_true rfl) (Nat.le_of_ble_eq_true rfl) (Nat.le_of_ble_eq_true rfl) dX11_priceOf_23 ?_
        refine z_imul h dX11_priceOf_26 ?_
        refine z_iadd h dX11_priceOf_27 ?_
        refine z_istore_n 2 h dX11_priceOf_28 rfl rfl ?_
        refine z_iinc h dX11_priceOf_29 rfl rfl ki_1 ?_
        refine z_goto 4 h dX11_priceOf_32 (by decide) ?_
        refine Z.loc [(0, .ref (ad 0)), (1, .int (nI n)), (2, .int (nI (priceN W n (t + 1)))), (3, .int (nI (t + 1)))] (ll1 rfl (ll1 rfl (ll1 (vS (by rw [pk_mul, nI_add]; rfl)) (ll1 (vS (nI_1 t)) ll0)))) ?_
        exact ih_4 (t + 1) (by omega) (by omega)
  refine Z.loc [(0, .ref (ad 0)), (1, .int (nI n)), (2, .int (nI (priceN W n 0))), (3, .int (nI 0))] (ll1 rfl (ll1 rfl (ll1 rfl (ll1 rfl ll0)))) ?_
  exact loop_4 _ 0 (Nat.zero_le _) (Nat.lt_succ_self _)
set_option maxHeartbeats 4000000 in
theorem m_comesAt {l : Launch} {g : Zg} {ad : Nat → Nat} {M : Zm} {st : Ms} {W : Nat → Nat} (hm : Mod g ad M st) (hw : WR st W) (hi : InvW W) (t n : Nat) (ht : t < W 4) (hn : n < 2 ^ 31) : Cn l g yX11_comesAt cX11_comesAt 3 (some .int) 2 0 0 [.ref (ad 0), .int (nI t), .int (nI n)] M (PV (.int (nI (comesN W n t))) M) := by
  refine Cn.start [(0, .ref (ad 0)), (1, .int (nI t)), (2, .int (nI n))] (by decide) (Nat.le_of_ble_eq_true rfl) rfl ?_
  intro γ el eg h hq
  subst el; subst eg
  have h4 := hi.h4
  refine z_aload_n 0 h dX11_comesAt_0 rfl rfl rfl ?_
  refine z_iload_n 1 h dX11_comesAt_1 rfl rfl ?_
  refine z_iconst h dX11_comesAt_2 ki_2 ?_
  refine z_callVP h (m_of hm hw hi t 2 (by omega)) kX11 (.inl (hm.at 0 (by decide))) (lw_V q2079 q2081 qs82 q148 q2082) nX11_of rfl rfl rfl (Nat.le_of_ble_eq_true rfl) (Nat.le_of_ble_eq_true rfl) (Nat.le_of_ble_eq_true rfl) dX11_comesAt_3 ?_
  refine z_iload_n 2 h dX11_comesAt_6 rfl rfl ?_
  refine z_iload_n 1 h dX11_comesAt_7 rfl rfl ?_
  refine z_callSP h (m_bit n t hn (by omega)) (lw_S q2140 q2141 q148 q2142) nX11_bit rfl rfl rfl (Nat.le_of_ble_eq_true rfl) (Nat.le_of_ble_eq_true rfl) (Nat.le_of_ble_eq_true rfl) dX11_comesAt_8 ?_
  refine z_aload_n 0 h dX11_comesAt_11 rfl rfl rfl ?_
  refine z_iload_n 1 h dX11_comesAt_12 rfl rfl ?_
  refine z_iconst h dX11_comesAt_13 ki_4 ?_
  refine z_callVP h (m_of hm hw hi t 4 (by omega)) kX11 (.inl (hm.at 0 (by decide))) (lw_V q2079 q2081 qs82 q148 q2082) nX11_of rfl rfl rfl (Nat.le_of_ble_eq_true rfl) (Nat.le_of_ble_eq_true rfl) (Nat.le_of_ble_eq_true rfl) dX11_comesAt_14 ?_
  refine z_imul h dX11_comesAt_17 ?_
  refine z_iadd h dX11_comesAt_18 ?_
  exact z_iret h hq dX11_comesAt_19 (Nat.le_of_ble_eq_true rfl) (Nat.le_of_ble_eq_true rfl) (⟨vS (by rw [pk_mul, nI_add]; rfl), rfl⟩)
set_option maxHeartbeats 4000000 in
theorem m_menOf {l : Launch} {g : Zg} {ad : Nat → Nat} {M : Zm} {st : Ms} {W : Nat → Nat} (hm : Mod g ad M st) (hw : WR st W) (hi : InvW W) (s m n : Nat) (hs : s ≤ 1) (hm2 : m < 2 ^ 31) (hn : n < 2 ^ 31) : Cn l g yX11_menOf cX11_menOf 6 (some .int) 3 0 0 [.ref (ad 0), .int (nI s), .int (nI m), .int (nI n)] M (PV (.int (nI (menN W s m n (W 4)))) M) := by
  refine Cn.start [(0, .ref (ad 0)), (1, .int (nI s)), (2, .int (nI m)), (3, .int (nI n))] (by decide) (Nat.le_of_ble_eq_true rfl) rfl ?_
  intro γ el eg h hq
  subst el; subst eg
  have h4 := hi.h4
  refine z_iconst h dX11_menOf_0 ki_0 ?_
  refine z_istore h dX11_menOf_1 rfl ?_
  refine z_iconst h dX11_menOf_3 ki_0 ?_
  refine z_istore h dX11_menOf_4 rfl ?_
  have loop_6 : ∀ (fz : Nat) (t : Nat) (ht : t ≤ W 4), (W 4 - t) < fz → Z γ M 0 0 6 (lof [(0, .ref (ad 0)), (1, .int (nI s)), (2, .int (nI m)), (3, .int (nI n)), (4, .int (nI (menN W s m n t))), (5, .int (nI t))]) [] := by
    intro fz
    induction fz with
    | zero => intro t ht hz; exact absurd hz (Nat.not_lt_zero _)
    | succ fz ih_6 =>
      intro t ht hz_6
      refine z_iload h dX11_menOf_6 rfl ?_
      refine z_aload_n 0 h dX11_menOf_8 rfl rfl rfl ?_
      refine z_get h kX11 (.inl (hm.at 0 (by decide))) 1 rfl q1848 rfl dX11_menOf_9 ?_
      refine z_iconst h dX11_menOf_12 ki_4 ?_
      refine zm_w (4) h hm hw rfl (by omega) dX11_menOf_13 ?_
      refine z_icmp_ge 61 h dX11_menOf_14 (by decide) (fun c_14 => ?_) (fun c_14 => ?_)
      · have _z := c_14
        replace c_14 := (ile (a := W (4)) (b := t) rfl rfl (hi.lt _ (by omega)) (by omega)).mp c_14
        refine z_iload h dX11_menOf_61 rfl ?_
        refine z_iret h hq dX11_menOf_63 (Nat.le_of_ble_eq_true rfl) (Nat.le_of_ble_eq_true rfl) ?_
        obtain rfl : t = W 4 := by omega
        exact ⟨rfl, rfl⟩
      · have _z := c_14
        replace c_14 := (not_congr (ile (a := W (4)) (b := t) rfl rfl (hi.lt _ (by omega)) (by omega))).mp c_14
        refine z_iload h dX11_menOf_17 rfl ?_
        refine z_aload_n 0 h dX11_menOf_19 rfl rfl rfl ?_
        refine z_iload h dX11_menOf_20 rfl ?_
        refine z_iconst h dX11_menOf_22 ki_0 ?_
        refine z_callVP h (m_of0 hm hw hi t (by omega)) kX11 (.inl (hm.at 0 (by decide))) (lw_V q2079 q2081 qs82 q148 q2082) nX11_of rfl rfl rfl (Nat.le_of_ble_eq_true rfl) (Nat.le_of_ble_eq_true rfl) (Nat.le_of_ble_eq_true rfl) dX11_menOf_23 ?_
        refine z_iload_n 1 h dX11_menOf_26 rfl rfl ?_
        refine z_icmp_ne 51 h dX11_menOf_27 (by decide) (fun c_27 => ?_) (fun c_27 => ?_)
        · have _z := c_27
          replace c_27 := (not_congr (ieq (a := W (13 + 6 * t)) (b := s) rfl rfl (hi.lt _ (by omega)) (by omega))).mp c_27
          refine z_iconst h dX11_menOf_51 ki_0 ?_
          refine z_iadd h dX11_menOf_52 ?_
          refine z_istore h dX11_menOf_53 rfl ?_
          refine z_iinc h dX11_menOf_55 rfl rfl ki_1 ?_
          refine z_goto 6 h dX11_menOf_58 (by decide) ?_
          refine Z.loc [(0, .ref (ad 0)), (1, .int (nI s)), (2, .int (nI m)), (3, .int (nI n)), (4, .int (nI (menN W s m n (t + 1)))), (5, .int (nI (t + 1)))] (ll1 rfl (ll1 rfl (ll1 rfl (ll1 rfl (ll1 (vS (by first | (rw [nI_add]; exact congrArg nI (by simp only [menN, sN]; split <;> omega)) | (rw [show (0 : Int32) = nI 0 from rfl, nI_add]; exact congrArg nI (by simp only [menN, sN]; split <;> omega)))) (ll1 (vS (nI_1 t)) ll0)))))) ?_
          exact ih_6 (t + 1) (by omega) (by omega)
        · have _z := c_27
          replace c_27 := (ieq (a := W (13 + 6 * t)) (b := s) rfl rfl (hi.lt _ (by omega)) (by omega)).mp c_27
          refine z_aload_n 0 h dX11_menOf_30 rfl rfl rfl ?_
          refine z_iload h dX11_menOf_31 rfl ?_
          refine z_iload_n 3 h dX11_menOf_33 rfl rfl ?_
          refine z_callVP h (m_comesAt hm hw hi t n (by omega) hn) kX11 (.inl (hm.at 0 (by decide))) (lw_V q2136 q2138 qs89 q148 q2139) nX11_comesAt rfl rfl rfl (Nat.le_of_ble_eq_true rfl) (Nat.le_of_ble_eq_true rfl) (Nat.le_of_ble_eq_true rfl) dX11_menOf_34 ?_
          refine z_iload_n 2 h dX11_menOf_37 rfl rfl ?_
          refine z_icmp_gt 51 h dX11_menOf_38 (by decide) (fun c_38 => ?_) (fun c_38 => ?_)
          · have _z := c_38
            replace c_38 := (ilt (a := m) (b := comesN W n t) rfl rfl (by omega) (by have := comesN_le hi n t (by omega); omega)).mp c_38
            refine z_iconst h dX11_menOf_51 ki_0 ?_
            refine z_iadd h dX11_menOf_52 ?_
            refine z_istore h dX11_menOf_53 rfl ?_
            refine z_iinc h dX11_menOf_55 rfl rfl ki_1 ?_
            refine z_goto 6 h dX11_menOf_58 (by decide) ?_
            refine Z.loc [(0, .ref (ad 0)), (1, .int (nI s)), (2, .int (nI m)), (3, .int (nI n)), (4, .int (nI (menN W s m n (t + 1)))), (5, .int (nI (t + 1)))] (ll1 rfl (ll1 rfl (ll1 rfl (ll1 rfl (ll1 (vS (by first | (rw [nI_add]; exact congrArg nI (by simp only [menN, sN]; split <;> omega)) | (rw [show (0 : Int32) = nI 0 from rfl, nI_add]; exact congrArg nI (by simp only [menN, sN]; split <;> omega)))) (ll1 (vS (nI_1 t)) ll0)))))) ?_
            exact ih_6 (t + 1) (by omega) (by omega)
          · have _z := c_38
            replace c_38 := (not_congr (ilt (a := m) (b := comesN W n t) rfl rfl (by omega) (by have := comesN_le hi n t (by omega); omega))).mp c_38
            refine z_aload_n 0 h dX11_menOf_41 rfl rfl rfl ?_
            refine z_iload h dX11_menOf_42 rfl ?_
            refine z_iconst h dX11_menOf_44 ki_1 ?_
            refine z_callVP h (m_of hm hw hi t 1 (by omega)) kX11 (.inl (hm.at 0 (by decide))) (lw_V q2079 q2081 qs82 q148 q2082) nX11_of rfl rfl rfl (Nat.le_of_ble_eq_true rfl) (Nat.le_of_ble_eq_true rfl) (Nat.le_of_ble_eq_true rfl) dX11_menOf_45 ?_
            refine z_goto 52 h dX11_menOf_48 (by decide) ?_
            refine z_iadd h dX11_menOf_52 ?_
            refine z_istore h dX11_menOf_53 rfl ?_
            refine z_iinc h dX11_menOf_55 rfl rfl ki_1 ?_
            refine z_goto 6 h dX11_menOf_58 (by decide) ?_
            refine Z.loc [(0, .ref (ad 0)), (1, .int (nI s)), (2, .int (nI m)), (3, .int (nI n)), (4, .int (nI (menN W s m n (t + 1)))), (5, .int (nI (t + 1)))] (ll1 rfl (ll1 rfl (ll1 rfl (ll1 rfl (ll1 (vS (by first | (rw [nI_add]; exact congrArg nI (by simp only [menN, sN]; split <;> omega)) | (rw [show (0 : Int32) = nI 0 from rfl, nI_add]; exact congrArg nI (by simp only [menN, sN]; split <;> omega)))) (ll1 (vS (nI_1 t)) ll0)))))) ?_
            exact ih_6 (t + 1) (by omega) (by omega)
  refine Z.loc [(0, .ref (ad 0)), (1, .int (nI s)), (2, .int (nI m)), (3, .int (nI n)), (4, .int (nI (menN W s m n 0))), (5, .int (nI 0))] (ll1 rfl (ll1 rfl (ll1 rfl (ll1 rfl (ll1 rfl (ll1 rfl ll0)))))) ?_
  exact loop_6 _ 0 (Nat.zero_le _) (Nat.lt_succ_self _)
theorem teaB_mono {W : Nat → Nat} {m k n : Nat} (h : k ≤ n) (hk : teaB W m k = true) : teaB W m n = true := by
  induction h with
  | refl => exact hk
  | step _ ih => simp [teaB, ih]
set_option maxHeartbeats 4000000 in
theorem m_isTea {l : Launch} {g : Zg} {ad : Nat → Nat} {M : Zm} {st : Ms} {W : Nat → Nat} (hm : Mod g ad M st) (hw : WR st W) (hi : InvW W) (m : Nat) (hm2 : m < 2 ^ 31) : Cn l g yX11_isTea cX11_isTea 3 (some .boolean) 2 0 0 [.ref (ad 0), .int (nI m)] M (PV (.int (z2i (teaB W m (W 5)))) M) := by
  refine Cn.start [(0, .ref (ad 0)), (1, .int (nI m))] (by decide) (Nat.le_of_ble_eq_true rfl) rfl ?_
  intro γ el eg h hq
  subst el; subst eg
  have h5 := hi.h5
  refine z_iconst h dX11_isTea_0 ki_0 ?_
  refine z_istore_n 2 h dX11_isTea_1 rfl rfl ?_
  have loop_2 : ∀ (fz : Nat) (k : Nat) (hk : k ≤ W 5) (hf : teaB W m k = false), (W 5 - k) < fz → Z γ M 0 0 2 (lof [(0, .ref (ad 0)), (1, .int (nI m)), (2, .int (nI k))]) [] := by
    intro fz
    induction fz with
    | zero => intro k hk hf hz; exact absurd hz (Nat.not_lt_zero _)
    | succ fz ih_2 =>
      intro k hk hf hz_2
      refine z_iload_n 2 h dX11_isTea_2 rfl rfl ?_
      refine z_aload_n 0 h dX11_isTea_3 rfl rfl rfl ?_
      refine z_get h kX11 (.inl (hm.at 0 (by decide))) 1 rfl q1848 rfl dX11_isTea_4 ?_
      refine z_iconst h dX11_isTea_7 ki_5 ?_
      refine zm_w (5) h hm hw rfl (by omega) dX11_isTea_8 ?_
      refine z_icmp_ge 54 h dX11_isTea_9 (by decide) (fun c_9 => ?_) (fun c_9 => ?_)
      · have _z := c_9
        replace c_9 := (ile (a := W (5)) (b := k) rfl rfl (hi.lt _ (by omega)) (by omega)).mp c_9
        refine z_iconst h dX11_isTea_54 ki_0 ?_
        refine z_zret h hq rfl dX11_isTea_55 (Nat.le_of_ble_eq_true rfl) (Nat.le_of_ble_eq_true rfl) ?_
        obtain rfl : k = W 5 := by omega
        exact ⟨zb0 hf, rfl⟩
      · have _z := c_9
        replace c_9 := (not_congr (ile (a := W (5)) (b := k) rfl rfl (hi.lt _ (by omega)) (by omega))).mp c_9
        refine z_iload_n 1 h dX11_isTea_12 rfl rfl ?_
        refine z_i2l h dX11_isTea_13 ?_
        refine z_aload_n 0 h dX11_isTea_14 rfl rfl rfl ?_
        refine z_get h kX11 (.inl (hm.at 0 (by decide))) 1 rfl q1848 rfl dX11_isTea_15 ?_
        refine z_bipush h dX11_isTea_18 kb_67 ?_
        refine z_iconst h dX11_isTea_20 ki_2 ?_
        refine z_iload_n 2 h dX11_isTea_21 rfl rfl ?_
        refine z_imul h dX11_isTea_22 ?_
        refine z_iadd h dX11_isTea_23 ?_
        refine zm_w (67 + (2 * k)) h hm hw (ixa rfl (ixm rfl rfl)) (by omega) dX11_isTea_24 ?_
        refine z_i2l h dX11_isTea_25 ?_
        refine z_aload_n 0 h dX11_isTea_26 rfl rfl rfl ?_
        refine z_get h kX11 (.inl (hm.at 0 (by decide))) 1 rfl q1848 rfl dX11_isTea_27 ?_
        refine z_bipush h dX11_isTea_30 kb_67 ?_
        refine z_iconst h dX11_isTea_32 ki_2 ?_
        refine z_iload_n 2 h dX11_isTea_33 rfl rfl ?_
        refine z_imul h dX11_isTea_34 ?_
        refine z_iadd h dX11_isTea_35 ?_
        refine z_iconst h dX11_isTea_36 ki_1 ?_
        refine z_iadd h dX11_isTea_37 ?_
        refine zm_w ((67 + (2 * k)) + 1) h hm hw (ixa (ixa rfl (ixm rfl rfl)) rfl) (by omega) dX11_isTea_38 ?_
        refine z_i2l h dX11_isTea_39 ?_
        refine z_callSP h (m_inI (nI m) _ _ (W (67 + 2 * k)) (W (67 + 2 * k + 1)) (toI64 (nI_toInt (hi.lt _ (by omega)))) (toI64 (nI_toInt (hi.lt _ (by omega))))) (lw_S q1950 q1951 q148 q1952) nX11_in rfl rfl rfl (Nat.le_of_ble_eq_true rfl) (Nat.le_of_ble_eq_true rfl) (Nat.le_of_ble_eq_true rfl) dX11_isTea_40 ?_
        refine z_ifz_eq 48 h dX11_isTea_43 (by decide) (fun c_43 => ?_) (fun c_43 => ?_)
        · have _z := c_43
          refine z_iinc h dX11_isTea_48 rfl rfl ki_1 ?_
          refine z_goto 2 h dX11_isTea_51 (by decide) ?_
          refine Z.loc [(0, .ref (ad 0)), (1, .int (nI m)), (2, .int (nI (k + 1)))] (ll1 rfl (ll1 rfl (ll1 (vS (nI_1 k)) ll0))) ?_
          exact ih_2 (k + 1) (by omega) (by rw [inI_nI hm2] at c_43; simp [teaB, hf] at c_43 ⊢; omega) (by omega)
        · have _z := c_43
          refine z_iconst h dX11_isTea_46 ki_1 ?_
          refine z_zret h hq rfl dX11_isTea_47 (Nat.le_of_ble_eq_true rfl) (Nat.le_of_ble_eq_true rfl) ?_
          refine ⟨zb1 ?_, rfl⟩
          rw [inI_nI hm2] at c_43
          refine teaB_mono (k := k + 1) (by omega) ?_
          simp [teaB] at c_43 ⊢
          omega
  refine Z.loc [(0, .ref (ad 0)), (1, .int (nI m)), (2, .int (nI 0))] (ll1 rfl (ll1 rfl (ll1 rfl ll0))) ?_
  exact loop_2 _ 0 (Nat.zero_le _) rfl (Nat.lt_succ_self _)
