/-! the reference: spies -/
set_option maxRecDepth 100000
theorem InvW.sp {W : Nat → Nat} (hi : InvW W) (k : Nat) (hk : k < W 8) : W (115 + k) < 2 ^ W 4 := hi.2.2.2.2.2.2.2.2.2.2.2.2.2.2.2.2.2.1 k hk
def spN (W : Nat → Nat) (e : Nat) : Nat := setN (fun k => subN e (W (115 + k))) (W 8)
theorem spN_lt {W : Nat → Nat} (hi : InvW W) (e : Nat) : spN W e < 32 := by
  have h1 := setN_lt (fun k => subN e (W (115 + k))) (W 8)
  have h2 : 2 ^ W 8 ≤ 2 ^ 5 := Nat.pow_le_pow_right (by decide) hi.h8
  unfold spN
  omega
def knF (W : Nat → Nat) (f t : Nat) : Nat → Nat := sN (fun k => bN f k * bN (W (115 + k)) t)
def knN (W : Nat → Nat) (f t : Nat) : Nat := knF W f t (W 8)
theorem knF_le (W : Nat → Nat) (f t : Nat) : ∀ k, knF W f t k ≤ sN (bN f) k
  | 0 => Nat.le_refl _
  | k + 1 => by
    have h1 := knF_le W f t k
    have h2 : bN f k * bN (W (115 + k)) t ≤ bN f k * 1 := Nat.mul_le_mul (Nat.le_refl _) (bN_le _ _)
    unfold knF at *
    simp only [sN]
    omega
theorem sN_mono (f : Nat → Nat) {a b : Nat} (h : a ≤ b) : sN f a ≤ sN f b := by
  induction h with
  | refl => exact Nat.le_refl _
  | step _ ih => simp only [sN]; omega
theorem knN_le {W : Nat → Nat} (hi : InvW W) (f t : Nat) : knN W f t ≤ bcN f := Nat.le_trans (knF_le W f t _) (sN_mono _ (by have := hi.h8; omega))
theorem knF_b (W : Nat → Nat) (f t : Nat) (k : Nat) : knF W f t k ≤ k := sN_1 (fun j => by
  have h1 := bN_le f j
  have h2 : bN f j * bN (W (115 + j)) t ≤ bN f j * 1 := Nat.mul_le_mul (Nat.le_refl _) (bN_le _ _)
  omega) k
def woN (W : Nat → Nat) (f t : Nat) : Nat := max (knN W f t) (bcN f - knN W f t)
def waF (W : Nat → Nat) (e : Nat) : Nat → Option Nat × Nat
  | 0 => (none, bcN (spN W e))
  | t + 1 => if bN e t = 0 ∧ woN W (spN W e) t < (waF W e t).2 then (some t, woN W (spN W e) t) else waF W e t
theorem waF_b (W : Nat → Nat) (e : Nat) : ∀ t, (waF W e t).2 ≤ 12
  | 0 => bcN_le _
  | t + 1 => by
    have h1 := waF_b W e t
    unfold waF
    split
    · dsimp only; omega
    · exact h1
def knwP (W : Nat → Nat) (f w t : Nat) : Bool := decide (f ≠ 0) && decide ((if w = 0 then bcN f else 1) ≤ knN W f t)
def aSpies (W : Nat → Nat) (v : Int32) : Int32 := if areTrB W v = true then nI (spN W (tn v)) else -2
def aWatch (W : Nat → Nat) (v : Int32) : Int32 := if areTrB W v = true then oZ (waF W (tn v) (W 4)).1 else -2
def aLeaves (W : Nat → Nat) (v : Int32) : Int32 := if areTrB W v = true then nI (waF W (tn v) (W 4)).2 else -2
def aKnown (W : Nat → Nat) (v w : Int32) : Int32 := if (areTrB W v && inI w 0 1) = true then nI (setN (knwP W (spN W (tn v)) (tn w)) (W 4)) else -2
theorem max_nI {a b : Nat} (ha : a < 2 ^ 31) (hb : b < 2 ^ 31) : (if nI a < nI b then nI b else nI a) = nI (max a b) := by
  by_cases h : a < b
  · rw [if_pos ((ilt rfl rfl ha hb).mpr h), Nat.max_eq_right (by omega)]
  · rw [if_neg (fun q => h ((ilt rfl rfl ha hb).mp q)), Nat.max_eq_left (by omega)]
theorem setN_f {p : Nat → Bool} {n : Nat} (h : p n = false) : setN p (n + 1) = setN p n := by simp [setN, h]
theorem onebit_nat {v : Int32} (h : inI v 0 1 = true) : ∃ n : Nat, n ≤ 1 ∧ v = nI n := by
  obtain ⟨n, h1, h2, h3⟩ := inI_nat h
  exact ⟨n, by omega, h3⟩
set_option maxHeartbeats 4000000 in
theorem m_spiesBy {l : Launch} {g : Zg} {ad : Nat → Nat} {M : Zm} {st : Ms} {W : Nat → Nat} (hm : Mod g ad M st) (hw : WR st W) (hi : InvW W) (e : Nat) (he : e < 2 ^ 31) : Cn l g yX11_spiesBy cX11_spiesBy 4 (some .int) 1 0 0 [.ref (ad 0), .int (nI e)] M (PV (.int (nI (spN W e))) M) := by
  refine Cn.start [(0, .ref (ad 0)), (1, .int (nI e))] (by decide) (Nat.le_of_ble_eq_true rfl) rfl ?_
  intro γ el eg h hq
  subst el; subst eg
  have h8 := hi.h8
  refine z_iconst h dX11_spiesBy_0 ki_0 ?_
  refine z_istore_n 2 h dX11_spiesBy_1 rfl rfl ?_
  refine z_iconst h dX11_spiesBy_2 ki_0 ?_
  refine z_istore_n 3 h dX11_spiesBy_3 rfl rfl ?_
  have loop_4 : ∀ (fz : Nat) (k : Nat) (hk : k ≤ W 8), (W 8 - k) < fz → Z γ M 0 0 4 (lof [(0, .ref (ad 0)), (1, .int (nI e)), (2, .int (nI (setN (fun k => subN e (W (115 + k))) k))), (3, .int (nI k))]) [] := by
    intro fz
    induction fz with
    | zero => intro k hk hz; exact absurd hz (Nat.not_lt_zero _)
    | succ fz ih_4 =>
      intro k hk hz_4
      refine z_iload_n 3 h dX11_spiesBy_4 rfl rfl ?_
      refine z_aload_n 0 h dX11_spiesBy_5 rfl rfl rfl ?_
      refine z_get h kX11 (.inl (hm.at 0 (by decide))) 1 rfl q1848 rfl dX11_spiesBy_6 ?_
      refine z_bipush h dX11_spiesBy_9 kb_8 ?_
      refine zm_w (8) h hm hw rfl (by omega) dX11_spiesBy_11 ?_
      refine z_icmp_ge 47 h dX11_spiesBy_12 (by decide) (fun c_12 => ?_) (fun c_12 => ?_)
      · have _z := c_12
        replace c_12 := (ile (a := W (8)) (b := k) rfl rfl (hi.lt _ (by omega)) (by omega)).mp c_12
        refine z_iload_n 2 h dX11_spiesBy_47 rfl rfl ?_
        refine z_iret h hq dX11_spiesBy_48 (Nat.le_of_ble_eq_true rfl) (Nat.le_of_ble_eq_true rfl) ?_
        obtain rfl : k = W 8 := by omega
        exact ⟨rfl, rfl⟩
      · have _z := c_12
        replace c_12 := (not_congr (ile (a := W (8)) (b := k) rfl rfl (hi.lt _ (by omega)) (by omega))).mp c_12
        refine z_iload_n 2 h dX11_spiesBy_15 rfl rfl ?_
        refine z_iload_n 1 h dX11_spiesBy_16 rfl rfl ?_
        refine z_aload_n 0 h dX11_spiesBy_17 rfl rfl rfl ?_
        refine z_get h kX11 (.inl (hm.at 0 (by decide))) 1 rfl q1848 rfl dX11_spiesBy_18 ?_
        refine z_bipush h dX11_spiesBy_21 kb_115 ?_
        refine z_iload_n 3 h dX11_spiesBy_23 rfl rfl ?_
        refine z_iadd h dX11_spiesBy_24 ?_
        refine zm_w (115 + k) h hm hw (ixa rfl rfl) (by omega) dX11_spiesBy_25 ?_
        refine z_iconst h dX11_spiesBy_26 ki_m1 ?_
        refine z_ixor h dX11_spiesBy_27 ?_
        refine z_iand h dX11_spiesBy_28 ?_
        refine z_if_ne 38 h dX11_spiesBy_29 (by decide) (fun c_29 => ?_) (fun c_29 => ?_)
        · have _z := c_29
          have hsb : subN e (W (115 + k)) = false := Bool.eq_false_iff.mpr (fun q => c_29 ((sub_iff (a := e) (b := W (115 + k)) (by omega) (hi.lt _ (by omega))).mpr q))
          refine z_iconst h dX11_spiesBy_38 ki_0 ?_
          refine z_ior h dX11_spiesBy_39 ?_
          refine z_istore_n 2 h dX11_spiesBy_40 rfl rfl ?_
          refine z_iinc h dX11_spiesBy_41 rfl rfl ki_1 ?_
          refine z_goto 4 h dX11_spiesBy_44 (by decide) ?_
          refine Z.loc [(0, .ref (ad 0)), (1, .int (nI e)), (2, .int (nI (setN (fun k => subN e (W (115 + k))) (k + 1)))), (3, .int (nI (k + 1)))] (ll1 rfl (ll1 rfl (ll1 (vS (by first | (refine set_t (by omega) ?_; exact hsb) | (refine set_f (by omega) ?_; exact hsb))) (ll1 (vS (nI_1 k)) ll0)))) ?_
          exact ih_4 (k + 1) (by omega) (by omega)
        · have _z := c_29
          have hsb := (sub_iff (a := e) (b := W (115 + k)) (by omega) (hi.lt _ (by omega))).mp c_29
          refine z_iconst h dX11_spiesBy_32 ki_1 ?_
          refine z_iload_n 3 h dX11_spiesBy_33 rfl rfl ?_
          refine z_ishl h dX11_spiesBy_34 ?_
          refine z_goto 39 h dX11_spiesBy_35 (by decide) ?_
          refine z_ior h dX11_spiesBy_39 ?_
          refine z_istore_n 2 h dX11_spiesBy_40 rfl rfl ?_
          refine z_iinc h dX11_spiesBy_41 rfl rfl ki_1 ?_
          refine z_goto 4 h dX11_spiesBy_44 (by decide) ?_
          refine Z.loc [(0, .ref (ad 0)), (1, .int (nI e)), (2, .int (nI (setN (fun k => subN e (W (115 + k))) (k + 1)))), (3, .int (nI (k + 1)))] (ll1 rfl (ll1 rfl (ll1 (vS (by first | (refine set_t (by omega) ?_; exact hsb) | (refine set_f (by omega) ?_; exact hsb))) (ll1 (vS (nI_1 k)) ll0)))) ?_
          exact ih_4 (k + 1) (by omega) (by omega)
  refine Z.loc [(0, .ref (ad 0)), (1, .int (nI e)), (2, .int (nI (setN (fun k => subN e (W (115 + k))) 0))), (3, .int (nI 0))] (ll1 rfl (ll1 rfl (ll1 rfl (ll1 rfl ll0)))) ?_
  exact loop_4 _ 0 (Nat.zero_le _) (Nat.lt_succ_self _)
set_option maxHeartbeats 4000000 in
theorem m_knowing {l : Launch} {g : Zg} {ad : Nat → Nat} {M : Zm} {st : Ms} {W : Nat → Nat} (hm : Mod g ad M st) (hw : WR st W) (hi : InvW W) (f t : Nat) (hf : f < 2 ^ 31) (ht : t ≤ 9) : Cn l g yX11_knowing cX11_knowing 5 (some .int) 2 0 0 [.ref (ad 0), .int (nI f), .int (nI t)] M (PV (.int (nI (knN W f t))) M) := by
  refine Cn.start [(0, .ref (ad 0)), (1, .int (nI f)), (2, .int (nI t))] (by decide) (Nat.le_of_ble_eq_true rfl) rfl ?_
  intro γ el eg h hq
  subst el; subst eg
  have h8 := hi.h8
  refine z_iconst h dX11_knowing_0 ki_0 ?_
  refine z_istore_n 3 h dX11_knowing_1 rfl rfl ?_
  refine z_iconst h dX11_knowing_2 ki_0 ?_
  refine z_istore h dX11_knowing_3 rfl ?_
  have loop_5 : ∀ (fz : Nat) (k : Nat) (hk : k ≤ W 8), (W 8 - k) < fz → Z γ M 0 0 5 (lof [(0, .ref (ad 0)), (1, .int (nI f)), (2, .int (nI t)), (3, .int (nI (knF W f t k))), (4, .int (nI k))]) [] := by
    intro fz
    induction fz with
    | zero => intro k hk hz; exact absurd hz (Nat.not_lt_zero _)
    | succ fz ih_5 =>
      intro k hk hz_5
      refine z_iload h dX11_knowing_5 rfl ?_
      refine z_aload_n 0 h dX11_knowing_7 rfl rfl rfl ?_
      refine z_get h kX11 (.inl (hm.at 0 (by decide))) 1 rfl q1848 rfl dX11_knowing_8 ?_
      refine z_bipush h dX11_knowing_11 kb_8 ?_
      refine zm_w (8) h hm hw rfl (by omega) dX11_knowing_13 ?_
      refine z_icmp_ge 47 h dX11_knowing_14 (by decide) (fun c_14 => ?_) (fun c_14 => ?_)
      · have _z := c_14
        replace c_14 := (ile (a := W (8)) (b := k) rfl rfl (hi.lt _ (by omega)) (by omega)).mp c_14
        refine z_iload_n 3 h dX11_knowing_47 rfl rfl ?_
        refine z_iret h hq dX11_knowing_48 (Nat.le_of_ble_eq_true rfl) (Nat.le_of_ble_eq_true rfl) ?_
        obtain rfl : k = W 8 := by omega
        exact ⟨rfl, rfl⟩
      · have _z := c_14
        replace c_14 := (not_congr (ile (a := W (8)) (b := k) rfl rfl (hi.lt _ (by omega)) (by omega))).mp c_14
        refine z_iload_n 3 h dX11_knowing_17 rfl rfl ?_
        refine z_iload_n 1 h dX11_knowing_18 rfl rfl ?_
        refine z_iload h dX11_knowing_19 rfl ?_
        refine z_callSP h (m_bit f k hf (by omega)) (lw_S q2140 q2141 q148 q2142) nX11_bit rfl rfl rfl (Nat.le_of_ble_eq_true rfl) (Nat.le_of_ble_eq_true rfl) (Nat.le_of_ble_eq_true rfl) dX11_knowing_21 ?_
        refine z_aload_n 0 h dX11_knowing_24 rfl rfl rfl ?_
        refine z_get h kX11 (.inl (hm.at 0 (by decide))) 1 rfl q1848 rfl dX11_knowing_25 ?_
        refine z_bipush h dX11_knowing_28 kb_115 ?_
        refine z_iload h dX11_knowing_30 rfl ?_
        refine z_iadd h dX11_knowing_32 ?_
        refine zm_w (115 + k) h hm hw (ixa rfl rfl) (by omega) dX11_knowing_33 ?_
        refine z_iload_n 2 h dX11_knowing_34 rfl rfl ?_
        refine z_callSP h (m_bit (W (115 + k)) t (hi.lt _ (by omega)) (by omega)) (lw_S q2140 q2141 q148 q2142) nX11_bit rfl rfl rfl (Nat.le_of_ble_eq_true rfl) (Nat.le_of_ble_eq_true rfl) (Nat.le_of_ble_eq_true rfl) dX11_knowing_35 ?_
        refine z_imul h dX11_knowing_38 ?_
        refine z_iadd h dX11_knowing_39 ?_
        refine z_istore_n 3 h dX11_knowing_40 rfl rfl ?_
        refine z_iinc h dX11_knowing_41 rfl rfl ki_1 ?_
        refine z_goto 5 h dX11_knowing_44 (by decide) ?_
        refine Z.loc [(0, .ref (ad 0)), (1, .int (nI f)), (2, .int (nI t)), (3, .int (nI (knF W f t (k + 1)))), (4, .int (nI (k + 1)))] (ll1 rfl (ll1 rfl (ll1 rfl (ll1 (vS (ixa rfl (ixm rfl rfl))) (ll1 (vS (nI_1 k)) ll0))))) ?_
        exact ih_5 (k + 1) (by omega) (by omega)
  refine Z.loc [(0, .ref (ad 0)), (1, .int (nI f)), (2, .int (nI t)), (3, .int (nI (knF W f t 0))), (4, .int (nI 0))] (ll1 rfl (ll1 rfl (ll1 rfl (ll1 rfl (ll1 rfl ll0))))) ?_
  exact loop_5 _ 0 (Nat.zero_le _) (Nat.lt_succ_self _)
set_option maxHeartbeats 4000000 in
theorem m_spies {l : Launch} {g : Zg} {ad : Nat → Nat} {M : Zm} {st : Ms} {W : Nat → Nat} (hm : Mod g ad M st) (hw : WR st W) (hi : InvW W) (v : Int32) : Cn l g yX11_spies cX11_spies 2 (some .int) 3 0 0 [.ref (ad 0), .int v] M (PV (.int (aSpies W v)) M) := by
  refine Cn.start [(0, .ref (ad 0)), (1, .int v)] (by decide) (Nat.le_of_ble_eq_true rfl) rfl ?_
  intro γ el eg h hq
  subst el; subst eg
  refine z_aload_n 0 h dX11_spies_0 rfl rfl rfl ?_
  refine z_iload_n 1 h dX11_spies_1 rfl rfl ?_
  refine z_callVP h (m_areTrains hm hw hi v) kX11 (.inl (hm.at 0 (by decide))) (lw_V q2124 q2126 qs86 q148 q2127) nX11_areTrains rfl rfl rfl (Nat.le_of_ble_eq_true rfl) (Nat.le_of_ble_eq_true rfl) (Nat.le_of_ble_eq_true rfl) dX11_spies_2 ?_
  refine z_ifz_eq 16 h dX11_spies_5 (by decide) (fun c_5 => ?_) (fun c_5 => ?_)
  · have _z := c_5
    refine z_bipush h dX11_spies_16 kb_m2 ?_
    exact z_iret h hq dX11_spies_18 (Nat.le_of_ble_eq_true rfl) (Nat.le_of_ble_eq_true rfl) (⟨vS (by first | (simp [aSpies, c_5]; done) | (simp [aSpies, c_5, tn_nI he]; done)), rfl⟩)
  · have _z := c_5
    obtain ⟨e, h_e, he, rfl⟩ := areTr_nat c_5
    refine z_aload_n 0 h dX11_spies_8 rfl rfl rfl ?_
    refine z_iload_n 1 h dX11_spies_9 rfl rfl ?_
    refine z_callVP h (m_spiesBy hm hw hi e (by omega)) kX11 (.inl (hm.at 0 (by decide))) (lw_V q2449 q2451 qs121 q148 q2452) nX11_spiesBy rfl rfl rfl (Nat.le_of_ble_eq_true rfl) (Nat.le_of_ble_eq_true rfl) (Nat.le_of_ble_eq_true rfl) dX11_spies_10 ?_
    refine z_goto 18 h dX11_spies_13 (by decide) ?_
    exact z_iret h hq dX11_spies_18 (Nat.le_of_ble_eq_true rfl) (Nat.le_of_ble_eq_true rfl) (⟨vS (by first | (simp [aSpies, c_5]; done) | (simp [aSpies, c_5, tn_nI he]; done)), rfl⟩)
set_option maxHeartbeats 4000000 in
theorem m_watchOf {l : Launch} {g : Zg} {ad : Nat → Nat} {M : Zm} {st : Ms} {W : Nat → Nat} (hm : Mod g ad M st) (hw : WR st W) (hi : InvW W) (e : Nat) (he : e < 2 ^ 31) : Cn l g yX11_watchOf cX11_watchOf 6 (some .int) 3 0 0 [.ref (ad 0), .int (nI e)] M (PM g ad st (some (.int (oZ (waF W e (W 4)).1))) (fun s9 => s9.1 26 = nI (waF W e (W 4)).2)) := by
  refine Cn.start [(0, .ref (ad 0)), (1, .int (nI e))] (by decide) (Nat.le_of_ble_eq_true rfl) rfl ?_
  intro γ el eg h hq
  subst el; subst eg
  have h4 := hi.h4
  have h0 := hi.h0
  have hw0 := hw
  have hk : keep st st := keep.rf st
  have hsp := spN_lt hi e
  have hbc := bcN_le (spN W e)
  refine z_aload_n 0 h dX11_watchOf_0 rfl rfl rfl ?_
  refine z_iload_n 1 h dX11_watchOf_1 rfl rfl ?_
  refine z_callVP h (m_spiesBy hm hw hi e (by omega)) kX11 (.inl (hm.at 0 (by decide))) (lw_V q2449 q2451 qs121 q148 q2452) nX11_spiesBy rfl rfl rfl (Nat.le_of_ble_eq_true rfl) (Nat.le_of_ble_eq_true rfl) (Nat.le_of_ble_eq_true rfl) dX11_watchOf_2 ?_
  refine z_istore_n 2 h dX11_watchOf_5 rfl rfl ?_
  refine z_aload_n 0 h dX11_watchOf_6 rfl rfl rfl ?_
  refine z_iload_n 2 h dX11_watchOf_7 rfl rfl ?_
  refine z_callSP h (m_bits (spN W e) (by omega)) (lw_S q2204 q2205 q148 q2206) nX11_bits rfl rfl rfl (Nat.le_of_ble_eq_true rfl) (Nat.le_of_ble_eq_true rfl) (Nat.le_of_ble_eq_true rfl) dX11_watchOf_8 ?_
  refine zm_put 26 h hm (by decide) q1873 dX11_watchOf_11 (fun M hm => ?_)
  replace hk := keepS hk hm (by decide)
  have hw := hk.w hw0
  refine z_iconst h dX11_watchOf_14 ki_m1 ?_
  refine z_istore_n 3 h dX11_watchOf_15 rfl rfl ?_
  refine z_iconst h dX11_watchOf_16 ki_0 ?_
  refine z_istore h dX11_watchOf_17 rfl ?_
  have loop_19 : ∀ (fz : Nat) (M : Zm) (s1 : Ms) (t : Nat) (hm : Mod (cg γ) ad M s1) (hk : keep st s1) (ht : t ≤ W 4) (h26 : s1.1 26 = nI (waF W e t).2), (W 4 - t) < fz → Z γ M 0 0 19 (lof [(0, .ref (ad 0)), (1, .int (nI e)), (2, .int (nI (spN W e))), (3, .int (oZ (waF W e t).1)), (4, .int (nI t))]) [] := by
    intro fz
    induction fz with
    | zero => intro M s1 t hm hk ht h26 hz; exact absurd hz (Nat.not_lt_zero _)
    | succ fz ih_19 =>
      intro M s1 t hm hk ht h26 hz_19
      have hw := hk.w hw0
      have hwb := waF_b W e t
      have hbe := bN_le e t
      refine z_iload h dX11_watchOf_19 rfl ?_
      refine z_aload_n 0 h dX11_watchOf_21 rfl rfl rfl ?_
      refine z_get h kX11 (.inl (hm.at 0 (by decide))) 1 rfl q1848 rfl dX11_watchOf_22 ?_
      refine z_iconst h dX11_watchOf_25 ki_4 ?_
      refine zm_w (4) h hm hw rfl (by omega) dX11_watchOf_26 ?_
      refine z_icmp_ge 91 h dX11_watchOf_27 (by decide) (fun c_27 => ?_) (fun c_27 => ?_)
      · have _z := c_27
        replace c_27 := (ile (a := W (4)) (b := t) rfl rfl (hi.lt _ (by omega)) (by omega)).mp c_27
        refine z_iload_n 3 h dX11_watchOf_91 rfl rfl ?_
        refine z_iret h hq dX11_watchOf_92 (Nat.le_of_ble_eq_true rfl) (Nat.le_of_ble_eq_true rfl) ?_
        obtain rfl : t = W 4 := by omega
        exact ⟨rfl, _, hm, hk, h26⟩
      · have _z := c_27
        replace c_27 := (not_congr (ile (a := W (4)) (b := t) rfl rfl (hi.lt _ (by omega)) (by omega))).mp c_27
        refine z_aload_n 0 h dX11_watchOf_30 rfl rfl rfl ?_
        refine z_iload_n 2 h dX11_watchOf_31 rfl rfl ?_
        refine z_iload h dX11_watchOf_32 rfl ?_
        refine z_callVP h (m_knowing hm hw hi (spN W e) t (by omega) (by omega)) kX11 (.inl (hm.at 0 (by decide))) (lw_V q2461 q2463 qs123 q148 q2464) nX11_knowing rfl rfl rfl (Nat.le_of_ble_eq_true rfl) (Nat.le_of_ble_eq_true rfl) (Nat.le_of_ble_eq_true rfl) dX11_watchOf_34 ?_
        refine z_iload_n 2 h dX11_watchOf_37 rfl rfl ?_
        refine z_callSP h (m_bits (spN W e) (by omega)) (lw_S q2204 q2205 q148 q2206) nX11_bits rfl rfl rfl (Nat.le_of_ble_eq_true rfl) (Nat.le_of_ble_eq_true rfl) (Nat.le_of_ble_eq_true rfl) dX11_watchOf_38 ?_
        refine z_aload_n 0 h dX11_watchOf_41 rfl rfl rfl ?_
        refine z_iload_n 2 h dX11_watchOf_42 rfl rfl ?_
        refine z_iload h dX11_watchOf_43 rfl ?_
        refine z_callVP h (m_knowing hm hw hi (spN W e) t (by omega) (by omega)) kX11 (.inl (hm.at 0 (by decide))) (lw_V q2461 q2463 qs123 q148 q2464) nX11_knowing rfl rfl rfl (Nat.le_of_ble_eq_true rfl) (Nat.le_of_ble_eq_true rfl) (Nat.le_of_ble_eq_true rfl) dX11_watchOf_45 ?_
        refine z_isub h dX11_watchOf_48 ?_
        have hkl := knN_le hi (spN W e) t
        refine Z.st (show _ = _ by rw [show nI (bcN (spN W e)) - nI (knN W (spN W e) t) = nI (bcN (spN W e) - knN W (spN W e) t) from ixs rfl rfl hkl]) ?_
        refine z_callSP h (j_max (nI (knN W (spN W e) t)) (nI (bcN (spN W e) - knN W (spN W e) t))) (lw_S q2359 q946 q150 q947) nJ3_max rfl rfl rfl (Nat.le_of_ble_eq_true rfl) (Nat.le_of_ble_eq_true rfl) (Nat.le_of_ble_eq_true rfl) dX11_watchOf_49 ?_
        rw [max_nI (by omega) (by omega)]
        refine z_istore h dX11_watchOf_52 rfl ?_
        refine z_iload_n 1 h dX11_watchOf_54 rfl rfl ?_
        refine z_iload h dX11_watchOf_55 rfl ?_
        refine z_callSP h (m_bit e t he (by omega)) (lw_S q2140 q2141 q148 q2142) nX11_bit rfl rfl rfl (Nat.le_of_ble_eq_true rfl) (Nat.le_of_ble_eq_true rfl) (Nat.le_of_ble_eq_true rfl) dX11_watchOf_57 ?_
        refine z_iconst h dX11_watchOf_60 ki_1 ?_
        refine z_icmp_eq 85 h dX11_watchOf_61 (by decide) (fun c_61 => ?_) (fun c_61 => ?_)
        · have _z := c_61
          replace c_61 := (ieq (a := bN e t) (b := 1) rfl rfl (by have := bN_le e t; omega) (by decide)).mp c_61
          refine z_iinc h dX11_watchOf_85 rfl rfl ki_1 ?_
          refine z_goto 19 h dX11_watchOf_88 (by decide) ?_
          refine Z.loc [(0, .ref (ad 0)), (1, .int (nI e)), (2, .int (nI (spN W e))), (3, .int (oZ (waF W e (t + 1)).1)), (4, .int (nI (t + 1)))] (ll1 rfl (ll1 rfl (ll1 rfl (ll1 (vS (by simp only [waF]; first | (rw [if_neg (by omega)]; done) | (rw [if_pos (by omega)]; rfl))) (ll1 (vS (nI_1 t)) ll0))))) ?_
          exact ih_19 _ _ (t + 1) hm hk (by omega) (by simp only [waF]; first | (rw [if_neg (by omega)]; exact h26) | (rw [if_pos (by omega)]; simp [uS, woN]; done)) (by omega)
        · have _z := c_61
          replace c_61 := (not_congr (ieq (a := bN e t) (b := 1) rfl rfl (by have := bN_le e t; omega) (by decide))).mp c_61
          refine z_iload h dX11_watchOf_64 rfl ?_
          refine z_aload_n 0 h dX11_watchOf_66 rfl rfl rfl ?_
          refine z_get h kX11 (.inl (hm.at 0 (by decide))) 26 rfl q1873 rfl dX11_watchOf_67 ?_
          refine z_icmp_lt 76 h dX11_watchOf_70 (by decide) (fun c_70 => ?_) (fun c_70 => ?_)
          · have _z := c_70
            replace c_70 := (ilt (a := woN W (spN W e) t) (b := (waF W e t).2) rfl h26 (by unfold woN; omega) (by omega)).mp c_70
            refine z_aload_n 0 h dX11_watchOf_76 rfl rfl rfl ?_
            refine z_iload h dX11_watchOf_77 rfl ?_
            refine zm_put 26 h hm (by decide) q1873 dX11_watchOf_79 (fun M hm => ?_)
            replace hk := keepS hk hm (by decide)
            have hw := hk.w hw0
            refine z_iload h dX11_watchOf_82 rfl ?_
            refine z_istore_n 3 h dX11_watchOf_84 rfl rfl ?_
            refine z_iinc h dX11_watchOf_85 rfl rfl ki_1 ?_
            refine z_goto 19 h dX11_watchOf_88 (by decide) ?_
            refine Z.loc [(0, .ref (ad 0)), (1, .int (nI e)), (2, .int (nI (spN W e))), (3, .int (oZ (waF W e (t + 1)).1)), (4, .int (nI (t + 1)))] (ll1 rfl (ll1 rfl (ll1 rfl (ll1 (vS (by simp only [waF]; first | (rw [if_neg (by omega)]; done) | (rw [if_pos (by omega)]; rfl))) (ll1 (vS (nI_1 t)) ll0))))) ?_
            exact ih_19 _ _ (t + 1) hm hk (by omega) (by simp only [waF]; first | (rw [if_neg (by omega)]; exact h26) | (rw [if_pos (by omega)]; simp [uS, woN]; done)) (by omega)
          · have _z := c_70
            replace c_70 := (not_congr (ilt (a := woN W (spN W e) t) (b := (waF W e t).2) rfl h26 (by unfold woN; omega) (by omega))).mp c_70
            refine z_goto 85 h dX11_watchOf_73 (by decide) ?_
            refine z_iinc h dX11_watchOf_85 rfl rfl ki_1 ?_
            refine z_goto 19 h dX11_watchOf_88 (by decide) ?_
            refine Z.loc [(0, .ref (ad 0)), (1, .int (nI e)), (2, .int (nI (spN W e))), (3, .int (oZ (waF W e (t + 1)).1)), (4, .int (nI (t + 1)))] (ll1 rfl (ll1 rfl (ll1 rfl (ll1 (vS (by simp only [waF]; first | (rw [if_neg (by omega)]; done) | (rw [if_pos (by omega)]; rfl))) (ll1 (vS (nI_1 t)) ll0))))) ?_
            exact ih_19 _ _ (t + 1) hm hk (by omega) (by simp only [waF]; first | (rw [if_neg (by omega)]; exact h26) | (rw [if_pos (by omega)]; simp [uS, woN]; done)) (by omega)
  refine Z.loc [(0, .ref (ad 0)), (1, .int (nI e)), (2, .int (nI (spN W e))), (3, .int (oZ (waF W e 0).1)), (4, .int (nI 0))] (ll1 rfl (ll1 rfl (ll1 rfl (ll1 rfl (ll1 rfl ll0))))) ?_
  exact loop_19 _ _ _ 0 hm hk (Nat.zero_le _) (by simp [uS, waF]) (Nat.lt_succ_self _)
set_option maxHeartbeats 4000000 in
theorem m_watch {l : Launch} {g : Zg} {ad : Nat → Nat} {M : Zm} {st : Ms} {W : Nat → Nat} (hm : Mod g ad M st) (hw : WR st W) (hi : InvW W) (v : Int32) : Cn l g yX11_watch cX11_watch 2 (some .int) 4 0 0 [.ref (ad 0), .int v] M (PM g ad st (some (.int (aWatch W v))) (fun _ => True)) := by
  refine Cn.start [(0, .ref (ad 0)), (1, .int v)] (by decide) (Nat.le_of_ble_eq_true rfl) rfl ?_
  intro γ el eg h hq
  subst el; subst eg
  have h4 := hi.h4
  have h0 := hi.h0
  have hw0 := hw
  have hk : keep st st := keep.rf st
  refine z_aload_n 0 h dX11_watch_0 rfl rfl rfl ?_
  refine z_iload_n 1 h dX11_watch_1 rfl rfl ?_
  refine z_callVP h (m_areTrains hm hw hi v) kX11 (.inl (hm.at 0 (by decide))) (lw_V q2124 q2126 qs86 q148 q2127) nX11_areTrains rfl rfl rfl (Nat.le_of_ble_eq_true rfl) (Nat.le_of_ble_eq_true rfl) (Nat.le_of_ble_eq_true rfl) dX11_watch_2 ?_
  refine z_ifz_eq 16 h dX11_watch_5 (by decide) (fun c_5 => ?_) (fun c_5 => ?_)
  · have _z := c_5
    refine z_bipush h dX11_watch_16 kb_m2 ?_
    refine z_iret h hq dX11_watch_18 (Nat.le_of_ble_eq_true rfl) (Nat.le_of_ble_eq_true rfl) ?_
    refine ⟨vS ?_, _, hm, hk, trivial⟩
    first | (simp [aWatch, c_5]; done) | (simp [aWatch, c_5, tn_nI he]; done)
  · have _z := c_5
    obtain ⟨e, h_e, he, rfl⟩ := areTr_nat c_5
    refine z_aload_n 0 h dX11_watch_8 rfl rfl rfl ?_
    refine z_iload_n 1 h dX11_watch_9 rfl rfl ?_
    refine z_callV h (m_watchOf hm hw hi e he) kX11 (.inl (hm.at 0 (by decide))) (lw_V q2457 q2459 qs122 q148 q2460) nX11_watchOf rfl rfl rfl (Nat.le_of_ble_eq_true rfl) (Nat.le_of_ble_eq_true rfl) (Nat.le_of_ble_eq_true rfl) dX11_watch_10 (fun v M hv => ?_)
    obtain ⟨rfl, s1, hm, hk1, hX⟩ := hv
    replace hk := hk.tr hk1
    have hw := hk.w hw0
    refine z_goto 18 h dX11_watch_13 (by decide) ?_
    refine z_iret h hq dX11_watch_18 (Nat.le_of_ble_eq_true rfl) (Nat.le_of_ble_eq_true rfl) ?_
    refine ⟨vS ?_, _, hm, hk, trivial⟩
    first | (simp [aWatch, c_5]; done) | (simp [aWatch, c_5, tn_nI he]; done)
set_option maxHeartbeats 4000000 in
theorem m_leaves {l : Launch} {g : Zg} {ad : Nat → Nat} {M : Zm} {st : Ms} {W : Nat → Nat} (hm : Mod g ad M st) (hw : WR st W) (hi : InvW W) (v : Int32) : Cn l g yX11_leaves cX11_leaves 2 (some .int) 4 0 0 [.ref (ad 0), .int v] M (PM g ad st (some (.int (aLeaves W v))) (fun _ => True)) := by
  refine Cn.start [(0, .ref (ad 0)), (1, .int v)] (by decide) (Nat.le_of_ble_eq_true rfl) rfl ?_
  intro γ el eg h hq
  subst el; subst eg
  have h4 := hi.h4
  have h0 := hi.h0
  have hw0 := hw
  have hk : keep st st := keep.rf st
  refine z_aload_n 0 h dX11_leaves_0 rfl rfl rfl ?_
  refine z_iload_n 1 h dX11_leaves_1 rfl rfl ?_
  refine z_callVP h (m_areTrains hm hw hi v) kX11 (.inl (hm.at 0 (by decide))) (lw_V q2124 q2126 qs86 q148 q2127) nX11_areTrains rfl rfl rfl (Nat.le_of_ble_eq_true rfl) (Nat.le_of_ble_eq_true rfl) (Nat.le_of_ble_eq_true rfl) dX11_leaves_2 ?_
  refine z_ifz_ne 11 h dX11_leaves_5 (by decide) (fun c_5 => ?_) (fun c_5 => ?_)
  · have _z := c_5
    obtain ⟨e, h_e, he, rfl⟩ := areTr_nat c_5
    refine z_aload_n 0 h dX11_leaves_11 rfl rfl rfl ?_
    refine z_iload_n 1 h dX11_leaves_12 rfl rfl ?_
    refine z_callV h (m_watchOf hm hw hi e he) kX11 (.inl (hm.at 0 (by decide))) (lw_V q2457 q2459 qs122 q148 q2460) nX11_watchOf rfl rfl rfl (Nat.le_of_ble_eq_true rfl) (Nat.le_of_ble_eq_true rfl) (Nat.le_of_ble_eq_true rfl) dX11_leaves_13 (fun v M hv => ?_)
    obtain ⟨rfl, s1, hm, hk1, hX⟩ := hv
    replace hk := hk.tr hk1
    have hw := hk.w hw0
    refine z_pop h dX11_leaves_16 rfl ?_
    refine z_aload_n 0 h dX11_leaves_17 rfl rfl rfl ?_
    refine z_get h kX11 (.inl (hm.at 0 (by decide))) 26 rfl q1873 rfl dX11_leaves_18 ?_
    refine z_iret h hq dX11_leaves_21 (Nat.le_of_ble_eq_true rfl) (Nat.le_of_ble_eq_true rfl) ?_
    refine ⟨vS ?_, _, hm, hk, trivial⟩
    rw [hX]
    simp [aLeaves, c_5, tn_nI he]
  · have _z := c_5
    refine z_bipush h dX11_leaves_8 kb_m2 ?_
    refine z_iret h hq dX11_leaves_10 (Nat.le_of_ble_eq_true rfl) (Nat.le_of_ble_eq_true rfl) ?_
    refine ⟨vS ?_, _, hm, hk, trivial⟩
    simp [aLeaves, c_5]
set_option maxHeartbeats 4000000 in
theorem m_known {l : Launch} {g : Zg} {ad : Nat → Nat} {M : Zm} {st : Ms} {W : Nat → Nat} (hm : Mod g ad M st) (hw : WR st W) (hi : InvW W) (v wv : Int32) : Cn l g yX11_known cX11_known 6 (some .int) 3 0 0 [.ref (ad 0), .int v, .int wv] M (PV (.int (aKnown W v wv)) M) := by
  refine Cn.start [(0, .ref (ad 0)), (1, .int v), (2, .int wv)] (by decide) (Nat.le_of_ble_eq_true rfl) rfl ?_
  intro γ el eg h hq
  subst el; subst eg
  have h4 := hi.h4
  refine z_aload_n 0 h dX11_known_0 rfl rfl rfl ?_
  refine z_iload_n 1 h dX11_known_1 rfl rfl ?_
  refine z_callVP h (m_areTrains hm hw hi v) kX11 (.inl (hm.at 0 (by decide))) (lw_V q2124 q2126 qs86 q148 q2127) nX11_areTrains rfl rfl rfl (Nat.le_of_ble_eq_true rfl) (Nat.le_of_ble_eq_true rfl) (Nat.le_of_ble_eq_true rfl) dX11_known_2 ?_
  refine z_ifz_eq 18 h dX11_known_5 (by decide) (fun c_5 => ?_) (fun c_5 => ?_)
  · have _z := c_5
    refine z_bipush h dX11_known_18 kb_m2 ?_
    exact z_iret h hq dX11_known_20 (Nat.le_of_ble_eq_true rfl) (Nat.le_of_ble_eq_true rfl) (⟨vS (by first | (simp [aKnown, c_5]; done) | (simp [aKnown, c_15]; done)), rfl⟩)
  · have _z := c_5
    obtain ⟨e, h_e, he, rfl⟩ := areTr_nat c_5
    refine z_iload_n 2 h dX11_known_8 rfl rfl ?_
    refine z_i2l h dX11_known_9 ?_
    refine z_lconst h dX11_known_10 kl_0 ?_
    refine z_lconst h dX11_known_11 kl_1 ?_
    refine z_callSP h (m_inI wv 0 1 0 1 rfl rfl) (lw_S q1950 q1951 q148 q1952) nX11_in rfl rfl rfl (Nat.le_of_ble_eq_true rfl) (Nat.le_of_ble_eq_true rfl) (Nat.le_of_ble_eq_true rfl) dX11_known_12 ?_
    refine z_ifz_ne 21 h dX11_known_15 (by decide) (fun c_15 => ?_) (fun c_15 => ?_)
    · have _z := c_15
      obtain ⟨w, h_w, rfl⟩ := onebit_nat c_15
      refine z_aload_n 0 h dX11_known_21 rfl rfl rfl ?_
      refine z_iload_n 1 h dX11_known_22 rfl rfl ?_
      refine z_callVP h (m_spiesBy hm hw hi e (by omega)) kX11 (.inl (hm.at 0 (by decide))) (lw_V q2449 q2451 qs121 q148 q2452) nX11_spiesBy rfl rfl rfl (Nat.le_of_ble_eq_true rfl) (Nat.le_of_ble_eq_true rfl) (Nat.le_of_ble_eq_true rfl) dX11_known_23 ?_
      have hsp := spN_lt hi e
      have hbc := bcN_le (spN W e)
      refine z_istore_n 3 h dX11_known_26 rfl rfl ?_
      refine z_iconst h dX11_known_27 ki_0 ?_
      refine z_istore h dX11_known_28 rfl ?_
      refine z_iconst h dX11_known_30 ki_0 ?_
      refine z_istore h dX11_known_31 rfl ?_
      have loop_33 : ∀ (fz : Nat) (t : Nat) (ht : t ≤ W 4), (W 4 - t) < fz → Z γ M 0 0 33 (lof [(0, .ref (ad 0)), (1, .int (nI e)), (2, .int (nI w)), (3, .int (nI (spN W e))), (4, .int (nI (setN (knwP W (spN W e) w) t))), (5, .int (nI t))]) [] := by
        intro fz
        induction fz with
        | zero => intro t ht hz; exact absurd hz (Nat.not_lt_zero _)
        | succ fz ih_33 =>
          intro t ht hz_33
          refine z_iload h dX11_known_33 rfl ?_
          refine z_aload_n 0 h dX11_known_35 rfl rfl rfl ?_
          refine z_get h kX11 (.inl (hm.at 0 (by decide))) 1 rfl q1848 rfl dX11_known_36 ?_
          refine z_iconst h dX11_known_39 ki_4 ?_
          refine zm_w (4) h hm hw rfl (by omega) dX11_known_40 ?_
          refine z_icmp_ge 89 h dX11_known_41 (by decide) (fun c_41 => ?_) (fun c_41 => ?_)
          · have _z := c_41
            replace c_41 := (ile (a := W (4)) (b := t) rfl rfl (hi.lt _ (by omega)) (by omega)).mp c_41
            refine z_iload h dX11_known_89 rfl ?_
            refine z_iret h hq dX11_known_91 (Nat.le_of_ble_eq_true rfl) (Nat.le_of_ble_eq_true rfl) ?_
            obtain rfl : t = W 4 := by omega
            exact ⟨vS (by simp [aKnown, c_5, c_15, tn_nI he, tn_nI (show w < 2 ^ 31 by omega)]), rfl⟩
          · have _z := c_41
            replace c_41 := (not_congr (ile (a := W (4)) (b := t) rfl rfl (hi.lt _ (by omega)) (by omega))).mp c_41
            refine z_iload_n 3 h dX11_known_44 rfl rfl ?_
            refine z_if_eq 83 h dX11_known_45 (by decide) (fun c_45 => ?_) (fun c_45 => ?_)
            · have _z := c_45
              replace c_45 := (ieq (a := spN W e) (b := 0) rfl rfl (by omega) (by decide)).mp c_45
              refine z_iinc h dX11_known_83 rfl rfl ki_1 ?_
              refine z_goto 33 h dX11_known_86 (by decide) ?_
              refine Z.loc [(0, .ref (ad 0)), (1, .int (nI e)), (2, .int (nI w)), (3, .int (nI (spN W e))), (4, .int (nI (setN (knwP W (spN W e) w) (t + 1)))), (5, .int (nI (t + 1)))] (ll1 rfl (ll1 rfl (ll1 rfl (ll1 rfl (ll1 (vS (by first | (rw [setN_f]; simp [knwP, c_45]; done) | (refine set_t (by omega) ?_; simp [knwP, c_45, ← hq2]; omega) | (refine set_f (by omega) ?_; simp [knwP, c_45, ← hq2]; omega))) (ll1 (vS (nI_1 t)) ll0)))))) ?_
              exact ih_33 (t + 1) (by omega) (by omega)
            · have _z := c_45
              replace c_45 := (not_congr (ieq (a := spN W e) (b := 0) rfl rfl (by omega) (by decide))).mp c_45
              refine z_iload h dX11_known_48 rfl ?_
              refine z_aload_n 0 h dX11_known_50 rfl rfl rfl ?_
              refine z_iload_n 3 h dX11_known_51 rfl rfl ?_
              refine z_iload h dX11_known_52 rfl ?_
              refine z_callVP h (m_knowing hm hw hi (spN W e) t (by omega) (by omega)) kX11 (.inl (hm.at 0 (by decide))) (lw_V q2461 q2463 qs123 q148 q2464) nX11_knowing rfl rfl rfl (Nat.le_of_ble_eq_true rfl) (Nat.le_of_ble_eq_true rfl) (Nat.le_of_ble_eq_true rfl) dX11_known_54 ?_
              have join_69 : ∀ (q : Nat) (hq2 : q = if w = 0 then bcN (spN W e) else 1), Z γ M 0 0 69 (lof [(0, .ref (ad 0)), (1, .int (nI e)), (2, .int (nI w)), (3, .int (nI (spN W e))), (4, .int (nI (setN (knwP W (spN W e) w) t))), (5, .int (nI t))]) [.int (nI q), .int (nI (knN W (spN W e) t)), .int (nI (setN (knwP W (spN W e) w) t))] := by
                intro q hq2
                have hqb : q ≤ 12 := by rw [hq2]; split <;> omega
                refine z_icmp_lt 79 h dX11_known_69 (by decide) (fun c_69 => ?_) (fun c_69 => ?_)
                · have _z := c_69
                  replace c_69 := (ilt (a := knN W (spN W e) t) (b := q) rfl rfl (by have := knN_le hi (spN W e) t; omega) (by omega)).mp c_69
                  refine z_iconst h dX11_known_79 ki_0 ?_
                  refine z_ior h dX11_known_80 ?_
                  refine z_istore h dX11_known_81 rfl ?_
                  refine z_iinc h dX11_known_83 rfl rfl ki_1 ?_
                  refine z_goto 33 h dX11_known_86 (by decide) ?_
                  refine Z.loc [(0, .ref (ad 0)), (1, .int (nI e)), (2, .int (nI w)), (3, .int (nI (spN W e))), (4, .int (nI (setN (knwP W (spN W e) w) (t + 1)))), (5, .int (nI (t + 1)))] (ll1 rfl (ll1 rfl (ll1 rfl (ll1 rfl (ll1 (vS (by first | (rw [setN_f]; simp [knwP, c_45]; done) | (refine set_t (by omega) ?_; simp [knwP, c_45, ← hq2]; omega) | (refine set_f (by omega) ?_; simp [knwP, c_45, ← hq2]; omega))) (ll1 (vS (nI_1 t)) ll0)))))) ?_
                  exact ih_33 (t + 1) (by omega) (by omega)
                · have _z := c_69
                  replace c_69 := (not_congr (ilt (a := knN W (spN W e) t) (b := q) rfl rfl (by have := knN_le hi (spN W e) t; omega) (by omega))).mp c_69
                  refine z_iconst h dX11_known_72 ki_1 ?_
                  refine z_iload h dX11_known_73 rfl ?_
                  refine z_ishl h dX11_known_75 ?_
                  refine z_goto 80 h dX11_known_76 (by decide) ?_
                  refine z_ior h dX11_known_80 ?_
                  refine z_istore h dX11_known_81 rfl ?_
                  refine z_iinc h dX11_known_83 rfl rfl ki_1 ?_
                  refine z_goto 33 h dX11_known_86 (by decide) ?_
                  refine Z.loc [(0, .ref (ad 0)), (1, .int (nI e)), (2, .int (nI w)), (3, .int (nI (spN W e))), (4, .int (nI (setN (knwP W (spN W e) w) (t + 1)))), (5, .int (nI (t + 1)))] (ll1 rfl (ll1 rfl (ll1 rfl (ll1 rfl (ll1 (vS (by first | (rw [setN_f]; simp [knwP, c_45]; done) | (refine set_t (by omega) ?_; simp [knwP, c_45, ← hq2]; omega) | (refine set_f (by omega) ?_; simp [knwP, c_45, ← hq2]; omega))) (ll1 (vS (nI_1 t)) ll0)))))) ?_
                  exact ih_33 (t + 1) (by omega) (by omega)
              refine z_iload_n 2 h dX11_known_57 rfl rfl ?_
              refine z_if_ne 68 h dX11_known_58 (by decide) (fun c_58 => ?_) (fun c_58 => ?_)
              · have _z := c_58
                replace c_58 := (not_congr (ieq (a := w) (b := 0) rfl rfl (by omega) (by decide))).mp c_58
                refine z_iconst h dX11_known_68 ki_1 ?_
                refine Z.loc [(0, .ref (ad 0)), (1, .int (nI e)), (2, .int (nI w)), (3, .int (nI (spN W e))), (4, .int (nI (setN (knwP W (spN W e) w) t))), (5, .int (nI t))] (ll1 rfl (ll1 rfl (ll1 rfl (ll1 rfl (ll1 rfl (ll1 rfl ll0)))))) ?_
                exact join_69 1 (by rw [if_neg (by omega)])
              · have _z := c_58
                replace c_58 := (ieq (a := w) (b := 0) rfl rfl (by omega) (by decide)).mp c_58
                refine z_iload_n 3 h dX11_known_61 rfl rfl ?_
                refine z_callSP h (m_bits (spN W e) (by omega)) (lw_S q2204 q2205 q148 q2206) nX11_bits rfl rfl rfl (Nat.le_of_ble_eq_true rfl) (Nat.le_of_ble_eq_true rfl) (Nat.le_of_ble_eq_true rfl) dX11_known_62 ?_
                refine z_goto 69 h dX11_known_65 (by decide) ?_
                refine Z.loc [(0, .ref (ad 0)), (1, .int (nI e)), (2, .int (nI w)), (3, .int (nI (spN W e))), (4, .int (nI (setN (knwP W (spN W e) w) t))), (5, .int (nI t))] (ll1 rfl (ll1 rfl (ll1 rfl (ll1 rfl (ll1 rfl (ll1 rfl ll0)))))) ?_
                exact join_69 (bcN (spN W e)) (by rw [if_pos (by omega)])
      refine Z.loc [(0, .ref (ad 0)), (1, .int (nI e)), (2, .int (nI w)), (3, .int (nI (spN W e))), (4, .int (nI (setN (knwP W (spN W e) w) 0))), (5, .int (nI 0))] (ll1 rfl (ll1 rfl (ll1 rfl (ll1 rfl (ll1 rfl (ll1 rfl ll0)))))) ?_
      exact loop_33 _ 0 (Nat.zero_le _) (Nat.lt_succ_self _)
    · have _z := c_15
      refine z_bipush h dX11_known_18 kb_m2 ?_
      exact z_iret h hq dX11_known_20 (Nat.le_of_ble_eq_true rfl) (Nat.le_of_ble_eq_true rfl) (⟨vS (by first | (simp [aKnown, c_5]; done) | (simp [aKnown, c_15]; done)), rfl⟩)
