/-! the reference: the cannon shared, rain -/
set_option maxRecDepth 100000
theorem InvW.ak {W : Nat → Nat} (hi : InvW W) (k : Nat) (hk : k < W 6) : W (75 + 4 * k) ≤ 1 ∧ W (75 + 4 * k + 1) ≤ 59 ∧ 1 ≤ W (75 + 4 * k + 2) ∧ W (75 + 4 * k + 2) ≤ 20 ∧ W (75 + 4 * k + 3) ≤ 99 := hi.2.2.2.2.2.2.2.2.2.2.2.2.2.2.2.1 k hk
/-- the first asked for of the set s at minute m or later -/
def naQ (W : Nat → Nat) (b : Option Nat) (k : Nat) : Bool := match b with
  | none => true
  | some b => decide (W (75 + 4 * k + 1) < W (75 + 4 * b + 1))
def naF (W : Nat → Nat) (s m : Nat) : Nat → Option Nat
  | 0 => none
  | k + 1 => if (decide (bN s k = 1) && decide (m ≤ W (75 + 4 * k + 1)) && naQ W (naF W s m k) k) = true then some k else naF W s m k
def naN (W : Nat → Nat) (s m : Nat) : Option Nat := naF W s m (W 6)
theorem naF_lt {W : Nat → Nat} {s m : Nat} : ∀ n b, naF W s m n = some b → b < n ∧ m ≤ W (75 + 4 * b + 1)
  | 0, b, h => by cases h
  | n + 1, b, h => by
    unfold naF at h
    split at h
    · rename_i q
      cases h
      rw [Bool.and_eq_true, Bool.and_eq_true] at q
      exact ⟨by omega, of_decide_eq_true q.1.2⟩
    · have := naF_lt n b h
      exact ⟨by omega, this.2⟩
theorem naF_0 {W : Nat → Nat} {m : Nat} : ∀ n, naF W 0 m n = none
  | 0 => rfl
  | n + 1 => by
    unfold naF
    rw [if_neg (by simp [bN]), naF_0 n]
/-- whether all of s can be granted, one behind the other -/
def cgF (W : Nat → Nat) (s : Nat) (h : Bool) : Nat → Nat → Int → Nat → Bool
  | 0, _, _, _ => false
  | f + 1, m, last, n => match naN W s m with
    | none => decide (n = bcN s)
    | some b => if (h && decide ((W (75 + 4 * b) : Int) = last)) = true then false else cgF W s h f (W (75 + 4 * b + 1) + W (75 + 4 * b + 2)) (W (75 + 4 * b) : Int) (n + 1)
theorem cgF_none {W : Nat → Nat} {s : Nat} {h : Bool} {f m : Nat} {last : Int} {n : Nat} (e : naN W s m = none) : cgF W s h (f + 1) m last n = decide (n = bcN s) := by
  rw [cgF, e]
theorem cgF_some {W : Nat → Nat} {s : Nat} {h : Bool} {f m : Nat} {last : Int} {n b : Nat} (e : naN W s m = some b) : cgF W s h (f + 1) m last n = if (h && decide ((W (75 + 4 * b) : Int) = last)) = true then false else cgF W s h f (W (75 + 4 * b + 1) + W (75 + 4 * b + 2)) (W (75 + 4 * b) : Int) (n + 1) := by
  rw [cgF, e]
def cgB (W : Nat → Nat) (s : Nat) (h : Bool) : Bool := cgF W s h 81 0 (-1) 0
theorem bcN_0 : bcN 0 = 0 := by decide
theorem cgB_0 (W : Nat → Nat) (h : Bool) : cgB W 0 h = true := by
  unfold cgB
  rw [cgF_none (naF_0 _), bcN_0]
  rfl
def woF (W : Nat → Nat) (s : Nat) : Nat → Nat := sN (fun k => bN s k * W (75 + 4 * k + 3))
def woA (W : Nat → Nat) (s : Nat) : Nat := woF W s (W 6)
theorem woF_le {W : Nat → Nat} (hi : InvW W) (s : Nat) : ∀ k, k ≤ W 6 → woF W s k ≤ 99 * k
  | 0, _ => Nat.le_refl _
  | k + 1, h => by
    have h1 := woF_le hi s k (by omega)
    have h2 := (hi.ak k (by omega)).2.2.2.2
    have h3 : bN s k * W (75 + 4 * k + 3) ≤ 1 * W (75 + 4 * k + 3) := Nat.mul_le_mul (bN_le _ _) (Nat.le_refl _)
    unfold woF at *
    simp only [sN]
    omega
theorem woA_le {W : Nat → Nat} (hi : InvW W) (s : Nat) : woA W s ≤ 792 := by
  have h1 := woF_le hi s _ (Nat.le_refl _)
  have h2 := hi.h6
  unfold woA
  omega
theorem wo_0 (W : Nat → Nat) : woA W 0 = 0 := by
  have : ∀ k, woF W 0 k = 0 := by
    intro k
    induction k with
    | zero => rfl
    | succ k ih => unfold woF at *; simp only [sN]; rw [ih]; simp [bN]
  exact this _
def grF (W : Nat → Nat) (h : Bool) : Nat → Nat
  | 0 => 0
  | s + 1 => if (decide (woA W (grF W h s) < woA W s) && cgB W s h) = true then s else grF W h s
theorem grF_s (W : Nat → Nat) (h : Bool) (s : Nat) : grF W h (s + 1) = if (decide (woA W (grF W h s) < woA W s) && cgB W s h) = true then s else grF W h s := rfl
def grInv (W : Nat → Nat) (h : Bool) (s : Nat) (lz : Int) (v : Int32) : Prop := (s = 0 ∧ lz = -1) ∨ (0 < s ∧ lz = (woA W (grF W h s) : Int) ∧ v = nI (grF W h s))
theorem grInv_b {W : Nat → Nat} (hi : InvW W) {h : Bool} {s : Nat} {lz : Int} {v : Int32} (q : grInv W h s lz v) : -1 ≤ lz ∧ lz ≤ 792 := by
  rcases q with ⟨-, e⟩ | ⟨-, e, -⟩
  · omega
  · have := woA_le hi (grF W h s); omega
theorem grInv_skip {W : Nat → Nat} {h : Bool} {s : Nat} {lz : Int} {v : Int32} (q : grInv W h s lz v) (hc : (woA W s : Int) ≤ lz) : grInv W h (s + 1) lz v := by
  rcases q with ⟨e1, e2⟩ | ⟨e1, e2, e3⟩
  · omega
  · have : grF W h (s + 1) = grF W h s := by
      rw [grF_s, if_neg]
      rw [Bool.and_eq_true]
      intro p
      have := of_decide_eq_true p.1
      omega
    exact Or.inr ⟨by omega, by rw [this]; exact e2, by rw [this]; exact e3⟩
theorem grInv_no {W : Nat → Nat} {h : Bool} {s : Nat} {lz : Int} {v : Int32} (q : grInv W h s lz v) (hc : cgB W s h = false) : grInv W h (s + 1) lz v := by
  rcases q with ⟨e1, e2⟩ | ⟨e1, e2, e3⟩
  · subst e1; rw [cgB_0] at hc; cases hc
  · have : grF W h (s + 1) = grF W h s := by
      rw [grF_s, hc, Bool.and_false]
      exact if_neg Bool.false_ne_true
    exact Or.inr ⟨by omega, by rw [this]; exact e2, by rw [this]; exact e3⟩
theorem grInv_take {W : Nat → Nat} {h : Bool} {s : Nat} {lz : Int} {v : Int32} (q : grInv W h s lz v) (hb : lz < (woA W s : Int)) (hc : cgB W s h = true) : grInv W h (s + 1) (woA W s : Int) (nI s) := by
  have : grF W h (s + 1) = s := by
    rw [grF_s]
    rcases q with ⟨e1, e2⟩ | ⟨e1, e2, e3⟩
    · subst e1
      split
      · rfl
      · rfl
    · rw [hc, decide_eq_true (by omega)]
      rfl
  exact Or.inr ⟨by omega, by rw [this], by rw [this]⟩
def grS (W : Nat → Nat) (h : Bool) : Nat := grF W h (2 ^ W 6)
def aGrant (W : Nat → Nat) : Int32 := if isWarB W = true then nI (woA W (grS W false)) else -2
def aGranted (W : Nat → Nat) : Int32 := if isWarB W = true then nI (grS W false) else -2
def aHalves (W : Nat → Nat) : Int32 := if isWarB W = true then nI (woA W (grS W true)) else -2
def aHalved (W : Nat → Nat) : Int32 := if isWarB W = true then nI (grS W true) else -2
/-- rain -/
def bnF (n : Nat) : Nat → Nat
  | 0 => 1
  | i + 1 => bnF n i * (n - i) / (i + 1)
def drF (b k r : Nat) : Nat → Nat
  | 0 => b
  | i + 1 => drF b k r i * (if i < k then 100 - r else r)
theorem bnF_b : ∀ n, n < 10 → ∀ i, i < 10 → bnF n i ≤ 126 := by decide +kernel
theorem drF_b8 {b k r : Nat} (hr : r ≤ 100) : ∀ i, drF b k r i ≤ b * 100 ^ i
  | 0 => by simp [drF]
  | i + 1 => by
    have h1 := drF_b8 (b := b) (k := k) hr i
    have h2 : (if i < k then 100 - r else r) ≤ 100 := by split <;> omega
    unfold drF
    rw [Nat.pow_succ, ← Nat.mul_assoc]
    exact Nat.mul_le_mul h1 h2
theorem drF_b9 : ∀ k, k < 10 → ∀ r, r < 101 → drF (bnF 9 k) k r 9 < 2 ^ 63 := by decide +kernel
theorem drF_lt {n k r i : Nat} (hn : n ≤ 9) (hk : k ≤ n) (hr : r ≤ 100) (hi : i ≤ n) : drF (bnF n k) k r i < 2 ^ 63 := by
  by_cases e : i ≤ 8
  · have h1 := drF_b8 (b := bnF n k) (k := k) hr i
    have h2 := bnF_b n (by omega) k (by omega)
    have h3 : 100 ^ i ≤ 100 ^ 8 := Nat.pow_le_pow_right (by decide) e
    have h4 : bnF n k * 100 ^ i ≤ 126 * 100 ^ 8 := Nat.mul_le_mul h2 h3
    have h5 : 126 * 100 ^ 8 < 2 ^ 63 := by decide
    omega
  · obtain rfl : i = 9 := by omega
    obtain rfl : n = 9 := by omega
    exact drF_b9 k (by omega) r (by omega)
def aDry (W : Nat → Nat) (n k w : Int32) : Int64 := if (isWarB W && inI n 1 9 && inI k 0 n.toInt && inI w 0 1) = true then lN (partN (drF (bnF (tn n) (tn k)) (tn k) (W 3) (tn n)) (100 ^ tn n) (tn w)) else -2
def inF (W : Nat → Nat) (k : Nat) : Nat → Nat → Nat → Int32
  | 0, _, _ => -1
  | f + 1, is, n => if is * W 3 / 100 ≤ 10000 * (100 - k) then nI n else inF W k f (is * W 3 / 100) (n + 1)
def aInsist (W : Nat → Nat) (k : Int32) : Int32 := if (isWarB W && inI k 0 100) = true then inF W (tn k) 60 1000000 1 else -2
set_option maxHeartbeats 4000000 in
theorem m_ofAsk {l : Launch} {g : Zg} {ad : Nat → Nat} {M : Zm} {st : Ms} {W : Nat → Nat} (hm : Mod g ad M st) (hw : WR st W) (hi : InvW W) (k j : Nat) (hk : k ≤ 40) (hj : j ≤ 3) : Cn l g yX11_ofAsk cX11_ofAsk 3 (some .int) 1 0 0 [.ref (ad 0), .int (nI k), .int (nI j)] M (PV (.int (nI (W (75 + 4 * k + j)))) M) := by
  refine Cn.start [(0, .ref (ad 0)), (1, .int (nI k)), (2, .int (nI j))] (by decide) (Nat.le_of_ble_eq_true rfl) rfl ?_
  intro γ el eg h hq
  subst el; subst eg
  refine z_aload_n 0 h dX11_ofAsk_0 rfl rfl rfl ?_
  refine z_get h kX11 (.inl (hm.at 0 (by decide))) 1 rfl q1848 rfl dX11_ofAsk_1 ?_
  refine z_bipush h dX11_ofAsk_4 kb_75 ?_
  refine z_iconst h dX11_ofAsk_6 ki_4 ?_
  refine z_iload_n 1 h dX11_ofAsk_7 rfl rfl ?_
  refine z_imul h dX11_ofAsk_8 ?_
  refine z_iadd h dX11_ofAsk_9 ?_
  refine z_iload_n 2 h dX11_ofAsk_10 rfl rfl ?_
  refine z_iadd h dX11_ofAsk_11 ?_
  refine zm_w ((75 + (4 * k)) + j) h hm hw (ixa (ixa rfl (ixm rfl rfl)) rfl) (by omega) dX11_ofAsk_12 ?_
  exact z_iret h hq dX11_ofAsk_13 (Nat.le_of_ble_eq_true rfl) (Nat.le_of_ble_eq_true rfl) (⟨rfl, rfl⟩)
theorem m_ofAsk0 {l : Launch} {g : Zg} {ad : Nat → Nat} {M : Zm} {st : Ms} {W : Nat → Nat} (hm : Mod g ad M st) (hw : WR st W) (hi : InvW W) (k : Nat) (hk : k ≤ 40) : Cn l g yX11_ofAsk cX11_ofAsk 3 (some .int) 1 0 0 [.ref (ad 0), .int (nI k), .int 0] M (PV (.int (nI (W (75 + 4 * k)))) M) := m_ofAsk hm hw hi k 0 hk (by decide)
set_option maxHeartbeats 4000000 in
theorem m_endOf {l : Launch} {g : Zg} {ad : Nat → Nat} {M : Zm} {st : Ms} {W : Nat → Nat} (hm : Mod g ad M st) (hw : WR st W) (hi : InvW W) (k : Nat) (hk : k < W 6) : Cn l g yX11_endOf cX11_endOf 2 (some .int) 2 0 0 [.ref (ad 0), .int (nI k)] M (PV (.int (nI (W (75 + 4 * k + 1) + W (75 + 4 * k + 2)))) M) := by
  refine Cn.start [(0, .ref (ad 0)), (1, .int (nI k))] (by decide) (Nat.le_of_ble_eq_true rfl) rfl ?_
  intro γ el eg h hq
  subst el; subst eg
  have h6 := hi.h6
  refine z_aload_n 0 h dX11_endOf_0 rfl rfl rfl ?_
  refine z_iload_n 1 h dX11_endOf_1 rfl rfl ?_
  refine z_iconst h dX11_endOf_2 ki_1 ?_
  refine z_callVP h (m_ofAsk hm hw hi k 1 (by omega) (by omega)) kX11 (.inl (hm.at 0 (by decide))) (lw_V q2481 q2483 qs125 q148 q2484) nX11_ofAsk rfl rfl rfl (Nat.le_of_ble_eq_true rfl) (Nat.le_of_ble_eq_true rfl) (Nat.le_of_ble_eq_true rfl) dX11_endOf_3 ?_
  refine z_aload_n 0 h dX11_endOf_6 rfl rfl rfl ?_
  refine z_iload_n 1 h dX11_endOf_7 rfl rfl ?_
  refine z_iconst h dX11_endOf_8 ki_2 ?_
  refine z_callVP h (m_ofAsk hm hw hi k 2 (by omega) (by omega)) kX11 (.inl (hm.at 0 (by decide))) (lw_V q2481 q2483 qs125 q148 q2484) nX11_ofAsk rfl rfl rfl (Nat.le_of_ble_eq_true rfl) (Nat.le_of_ble_eq_true rfl) (Nat.le_of_ble_eq_true rfl) dX11_endOf_9 ?_
  refine z_iadd h dX11_endOf_12 ?_
  exact z_iret h hq dX11_endOf_13 (Nat.le_of_ble_eq_true rfl) (Nat.le_of_ble_eq_true rfl) (⟨vS (ixa rfl rfl), rfl⟩)
set_option maxHeartbeats 4000000 in
theorem m_nextAsk {l : Launch} {g : Zg} {ad : Nat → Nat} {M : Zm} {st : Ms} {W : Nat → Nat} (hm : Mod g ad M st) (hw : WR st W) (hi : InvW W) (s m : Nat) (hs : s < 2 ^ 31) (hm2 : m ≤ 1000) : Cn l g yX11_nextAsk cX11_nextAsk 5 (some .int) 2 0 0 [.ref (ad 0), .int (nI s), .int (nI m)] M (PV (.int (oZ (naN W s m))) M) := by
  refine Cn.start [(0, .ref (ad 0)), (1, .int (nI s)), (2, .int (nI m))] (by decide) (Nat.le_of_ble_eq_true rfl) rfl ?_
  intro γ el eg h hq
  subst el; subst eg
  have h6 := hi.h6
  refine z_iconst h dX11_nextAsk_0 ki_m1 ?_
  refine z_istore_n 3 h dX11_nextAsk_1 rfl rfl ?_
  refine z_iconst h dX11_nextAsk_2 ki_0 ?_
  refine z_istore h dX11_nextAsk_3 rfl ?_
  have loop_5 : ∀ (fz : Nat) (k : Nat) (hk : k ≤ W 6), (W 6 - k) < fz → Z γ M 0 0 5 (lof [(0, .ref (ad 0)), (1, .int (nI s)), (2, .int (nI m)), (3, .int (oZ (naF W s m k))), (4, .int (nI k))]) [] := by
    intro fz
    induction fz with
    | zero => intro k hk hz; exact absurd hz (Nat.not_lt_zero _)
    | succ fz ih_5 =>
      intro k hk hz_5
      refine z_iload h dX11_nextAsk_5 rfl ?_
      refine z_aload_n 0 h dX11_nextAsk_7 rfl rfl rfl ?_
      refine z_get h kX11 (.inl (hm.at 0 (by decide))) 1 rfl q1848 rfl dX11_nextAsk_8 ?_
      refine z_bipush h dX11_nextAsk_11 kb_6 ?_
      refine zm_w (6) h hm hw rfl (by omega) dX11_nextAsk_13 ?_
      refine z_icmp_ge 68 h dX11_nextAsk_14 (by decide) (fun c_14 => ?_) (fun c_14 => ?_)
      · have _z := c_14
        replace c_14 := (ile (a := W (6)) (b := k) rfl rfl (hi.lt _ (by omega)) (by omega)).mp c_14
        refine z_iload_n 3 h dX11_nextAsk_68 rfl rfl ?_
        refine z_iret h hq dX11_nextAsk_69 (Nat.le_of_ble_eq_true rfl) (Nat.le_of_ble_eq_true rfl) ?_
        obtain rfl : k = W 6 := by omega
        exact ⟨rfl, rfl⟩
      · have _z := c_14
        replace c_14 := (not_congr (ile (a := W (6)) (b := k) rfl rfl (hi.lt _ (by omega)) (by omega))).mp c_14
        refine z_iload_n 1 h dX11_nextAsk_17 rfl rfl ?_
        refine z_iload h dX11_nextAsk_18 rfl ?_
        refine z_callSP h (m_bit s k (by omega) (by omega)) (lw_S q2140 q2141 q148 q2142) nX11_bit rfl rfl rfl (Nat.le_of_ble_eq_true rfl) (Nat.le_of_ble_eq_true rfl) (Nat.le_of_ble_eq_true rfl) dX11_nextAsk_20 ?_
        refine z_iconst h dX11_nextAsk_23 ki_1 ?_
        refine z_icmp_ne 62 h dX11_nextAsk_24 (by decide) (fun c_24 => ?_) (fun c_24 => ?_)
        · have _z := c_24
          replace c_24 := (not_congr (ieq (a := bN s k) (b := 1) rfl rfl (by have := bN_le s k; omega) (by decide))).mp c_24
          refine z_iinc h dX11_nextAsk_62 rfl rfl ki_1 ?_
          refine z_goto 5 h dX11_nextAsk_65 (by decide) ?_
          refine Z.loc [(0, .ref (ad 0)), (1, .int (nI s)), (2, .int (nI m)), (3, .int (oZ (naF W s m (k + 1)))), (4, .int (nI (k + 1)))] (ll1 rfl (ll1 rfl (ll1 rfl (ll1 (vS (by simp only [naF]; first | (rw [if_neg]; simp [hqf]; done) | (rw [if_pos]; rfl; simp [hqt, c_24]; omega) | (rw [if_neg]; simp; omega))) (ll1 (vS (nI_1 k)) ll0))))) ?_
          exact ih_5 (k + 1) (by omega) (by omega)
        · have _z := c_24
          replace c_24 := (ieq (a := bN s k) (b := 1) rfl rfl (by have := bN_le s k; omega) (by decide)).mp c_24
          refine z_aload_n 0 h dX11_nextAsk_27 rfl rfl rfl ?_
          refine z_iload h dX11_nextAsk_28 rfl ?_
          refine z_iconst h dX11_nextAsk_30 ki_1 ?_
          refine z_callVP h (m_ofAsk hm hw hi k 1 (by omega) (by omega)) kX11 (.inl (hm.at 0 (by decide))) (lw_V q2481 q2483 qs125 q148 q2484) nX11_ofAsk rfl rfl rfl (Nat.le_of_ble_eq_true rfl) (Nat.le_of_ble_eq_true rfl) (Nat.le_of_ble_eq_true rfl) dX11_nextAsk_31 ?_
          refine z_iload_n 2 h dX11_nextAsk_34 rfl rfl ?_
          refine z_icmp_lt 62 h dX11_nextAsk_35 (by decide) (fun c_35 => ?_) (fun c_35 => ?_)
          · have _z := c_35
            replace c_35 := (ilt (a := W (75 + 4 * k + 1)) (b := m) rfl rfl (hi.lt _ (by omega)) (by omega)).mp c_35
            refine z_iinc h dX11_nextAsk_62 rfl rfl ki_1 ?_
            refine z_goto 5 h dX11_nextAsk_65 (by decide) ?_
            refine Z.loc [(0, .ref (ad 0)), (1, .int (nI s)), (2, .int (nI m)), (3, .int (oZ (naF W s m (k + 1)))), (4, .int (nI (k + 1)))] (ll1 rfl (ll1 rfl (ll1 rfl (ll1 (vS (by simp only [naF]; first | (rw [if_neg]; simp [hqf]; done) | (rw [if_pos]; rfl; simp [hqt, c_24]; omega) | (rw [if_neg]; simp; omega))) (ll1 (vS (nI_1 k)) ll0))))) ?_
            exact ih_5 (k + 1) (by omega) (by omega)
          · have _z := c_35
            replace c_35 := (not_congr (ilt (a := W (75 + 4 * k + 1)) (b := m) rfl rfl (hi.lt _ (by omega)) (by omega))).mp c_35
            refine z_iload_n 3 h dX11_nextAsk_38 rfl rfl ?_
            refine z_iconst h dX11_nextAsk_39 ki_m1 ?_
            refine z_icmp_eq 59 h dX11_nextAsk_40 (by decide) (fun c_40 => ?_) (fun c_40 => ?_)
            · have _z := c_40
              have hqt : naQ W (naF W s m k) k = true := by rw [oZ_none (fun b hb => (by have := naF_lt _ _ hb; omega)) c_40]; rfl
              refine z_iload h dX11_nextAsk_59 rfl ?_
              refine z_istore_n 3 h dX11_nextAsk_61 rfl rfl ?_
              refine z_iinc h dX11_nextAsk_62 rfl rfl ki_1 ?_
              refine z_goto 5 h dX11_nextAsk_65 (by decide) ?_
              refine Z.loc [(0, .ref (ad 0)), (1, .int (nI s)), (2, .int (nI m)), (3, .int (oZ (naF W s m (k + 1)))), (4, .int (nI (k + 1)))] (ll1 rfl (ll1 rfl (ll1 rfl (ll1 (vS (by simp only [naF]; first | (rw [if_neg]; simp [hqf]; done) | (rw [if_pos]; rfl; simp [hqt, c_24]; omega) | (rw [if_neg]; simp; omega))) (ll1 (vS (nI_1 k)) ll0))))) ?_
              exact ih_5 (k + 1) (by omega) (by omega)
            · have _z := c_40
              obtain ⟨b, hb⟩ := oZ_some c_40
              have hbl := (naF_lt _ _ hb).1
              refine z_aload_n 0 h dX11_nextAsk_43 rfl rfl rfl ?_
              refine z_iload h dX11_nextAsk_44 rfl ?_
              refine z_iconst h dX11_nextAsk_46 ki_1 ?_
              refine z_callVP h (m_ofAsk hm hw hi k 1 (by omega) (by omega)) kX11 (.inl (hm.at 0 (by decide))) (lw_V q2481 q2483 qs125 q148 q2484) nX11_ofAsk rfl rfl rfl (Nat.le_of_ble_eq_true rfl) (Nat.le_of_ble_eq_true rfl) (Nat.le_of_ble_eq_true rfl) dX11_nextAsk_47 ?_
              refine z_aload_n 0 h dX11_nextAsk_50 rfl rfl rfl ?_
              refine z_iload_n 3 h dX11_nextAsk_51 rfl rfl ?_
              refine z_iconst h dX11_nextAsk_52 ki_1 ?_
              refine Z.st (show _ = [.int 1, .int (nI b), .ref (ad 0), .int (nI (W (75 + 4 * k + 1)))] by rw [hb]; rfl) ?_
              refine z_callVP h (m_ofAsk hm hw hi b 1 (by omega) (by omega)) kX11 (.inl (hm.at 0 (by decide))) (lw_V q2481 q2483 qs125 q148 q2484) nX11_ofAsk rfl rfl rfl (Nat.le_of_ble_eq_true rfl) (Nat.le_of_ble_eq_true rfl) (Nat.le_of_ble_eq_true rfl) dX11_nextAsk_53 ?_
              refine z_icmp_ge 62 h dX11_nextAsk_56 (by decide) (fun c_56 => ?_) (fun c_56 => ?_)
              · have _z := c_56
                replace c_56 := (ile (a := W (75 + 4 * b + 1)) (b := W (75 + 4 * k + 1)) rfl rfl (hi.lt _ (by omega)) (hi.lt _ (by omega))).mp c_56
                have hqf : naQ W (naF W s m k) k = false := by rw [hb]; exact decide_eq_false (by omega)
                refine z_iinc h dX11_nextAsk_62 rfl rfl ki_1 ?_
                refine z_goto 5 h dX11_nextAsk_65 (by decide) ?_
                refine Z.loc [(0, .ref (ad 0)), (1, .int (nI s)), (2, .int (nI m)), (3, .int (oZ (naF W s m (k + 1)))), (4, .int (nI (k + 1)))] (ll1 rfl (ll1 rfl (ll1 rfl (ll1 (vS (by simp only [naF]; first | (rw [if_neg]; simp [hqf]; done) | (rw [if_pos]; rfl; simp [hqt, c_24]; omega) | (rw [if_neg]; simp; omega))) (ll1 (vS (nI_1 k)) ll0))))) ?_
                exact ih_5 (k + 1) (by omega) (by omega)
              · have _z := c_56
                replace c_56 := (not_congr (ile (a := W (75 + 4 * b + 1)) (b := W (75 + 4 * k + 1)) rfl rfl (hi.lt _ (by omega)) (hi.lt _ (by omega)))).mp c_56
                have hqt : naQ W (naF W s m k) k = true := by rw [hb]; exact decide_eq_true (by omega)
                refine z_iload h dX11_nextAsk_59 rfl ?_
                refine z_istore_n 3 h dX11_nextAsk_61 rfl rfl ?_
                refine z_iinc h dX11_nextAsk_62 rfl rfl ki_1 ?_
                refine z_goto 5 h dX11_nextAsk_65 (by decide) ?_
                refine Z.loc [(0, .ref (ad 0)), (1, .int (nI s)), (2, .int (nI m)), (3, .int (oZ (naF W s m (k + 1)))), (4, .int (nI (k + 1)))] (ll1 rfl (ll1 rfl (ll1 rfl (ll1 (vS (by simp only [naF]; first | (rw [if_neg]; simp [hqf]; done) | (rw [if_pos]; rfl; simp [hqt, c_24]; omega) | (rw [if_neg]; simp; omega))) (ll1 (vS (nI_1 k)) ll0))))) ?_
                exact ih_5 (k + 1) (by omega) (by omega)
  refine Z.loc [(0, .ref (ad 0)), (1, .int (nI s)), (2, .int (nI m)), (3, .int (oZ (naF W s m 0))), (4, .int (nI 0))] (ll1 rfl (ll1 rfl (ll1 rfl (ll1 rfl (ll1 rfl ll0))))) ?_
  exact loop_5 _ 0 (Nat.zero_le _) (Nat.lt_succ_self _)
set_option maxHeartbeats 4000000 in
theorem m_canGrant {l : Launch} {g : Zg} {ad : Nat → Nat} {M : Zm} {st : Ms} {W : Nat → Nat} (hm : Mod g ad M st) (hw : WR st W) (hi : InvW W) (s : Nat) (bh : Bool) (hs : s < 2 ^ 31) : Cn l g yX11_canGrant cX11_canGrant 7 (some .boolean) 3 0 0 [.ref (ad 0), .int (nI s), .int (z2i bh)] M (PV (.int (z2i (cgB W s bh))) M) := by
  refine Cn.start [(0, .ref (ad 0)), (1, .int (nI s)), (2, .int (z2i bh))] (by decide) (Nat.le_of_ble_eq_true rfl) rfl ?_
  intro γ el eg h hq
  subst el; subst eg
  have h6 := hi.h6
  have hbc := bcN_le s
  refine z_iconst h dX11_canGrant_0 ki_0 ?_
  refine z_istore_n 3 h dX11_canGrant_1 rfl rfl ?_
  refine z_iconst h dX11_canGrant_2 ki_m1 ?_
  refine z_istore h dX11_canGrant_3 rfl ?_
  refine z_iconst h dX11_canGrant_5 ki_0 ?_
  refine z_istore h dX11_canGrant_6 rfl ?_
  refine z_aload_n 0 h dX11_canGrant_8 rfl rfl rfl ?_
  refine z_iload_n 1 h dX11_canGrant_9 rfl rfl ?_
  refine z_iload h dX11_canGrant_10 rfl ?_
  refine z_callVP h (m_nextAsk hm hw hi s (0) hs (by omega)) kX11 (.inl (hm.at 0 (by decide))) (lw_V q2489 q2491 qs127 q148 q2492) nX11_nextAsk rfl rfl rfl (Nat.le_of_ble_eq_true rfl) (Nat.le_of_ble_eq_true rfl) (Nat.le_of_ble_eq_true rfl) dX11_canGrant_12 ?_
  refine z_istore h dX11_canGrant_15 rfl ?_
  have loop_17 : ∀ (fz : Nat) (f : Nat) (n : Nat) (m : Nat) (last : Int) (hF : cgF W s bh f m last n = cgF W s bh 81 0 (-1) 0) (hm9 : m ≤ 79) (hfm : 80 < m + f) (hnf : n + f ≤ 81) (hla : -1 ≤ last ∧ last ≤ 1), (f) < fz → Z γ M 0 0 17 (lof [(0, .ref (ad 0)), (1, .int (nI s)), (2, .int (z2i bh)), (3, .int (nI n)), (4, .int (iI last)), (5, .int (nI m)), (6, .int (oZ (naN W s m)))]) [] := by
    intro fz
    induction fz with
    | zero => intro f n m last hF hm9 hfm hnf hla hz; exact absurd hz (Nat.not_lt_zero _)
    | succ fz ih_17 =>
      intro f n m last hF hm9 hfm hnf hla hz_17
      obtain ⟨f, rfl⟩ : ∃ q, f = q + 1 := ⟨f - 1, by omega⟩
      refine z_iload h dX11_canGrant_17 rfl ?_
      refine z_iconst h dX11_canGrant_19 ki_m1 ?_
      refine z_icmp_eq 73 h dX11_canGrant_20 (by decide) (fun c_20 => ?_) (fun c_20 => ?_)
      · have _z := c_20
        have hb := oZ_none (fun b hb => (by have := naF_lt _ _ hb; omega)) c_20
        refine z_iload_n 3 h dX11_canGrant_73 rfl rfl ?_
        refine z_iload_n 1 h dX11_canGrant_74 rfl rfl ?_
        refine z_callSP h (m_bits s hs) (lw_S q2204 q2205 q148 q2206) nX11_bits rfl rfl rfl (Nat.le_of_ble_eq_true rfl) (Nat.le_of_ble_eq_true rfl) (Nat.le_of_ble_eq_true rfl) dX11_canGrant_75 ?_
        refine z_icmp_ne 85 h dX11_canGrant_78 (by decide) (fun c_78 => ?_) (fun c_78 => ?_)
        · have _z := c_78
          replace c_78 := (not_congr (ieq (a := n) (b := bcN s) rfl rfl (by omega) (by omega))).mp c_78
          refine z_iconst h dX11_canGrant_85 ki_0 ?_
          refine z_zret h hq rfl dX11_canGrant_86 (Nat.le_of_ble_eq_true rfl) (Nat.le_of_ble_eq_true rfl) ?_
          first | (refine ⟨zb1 ?_, rfl⟩; unfold cgB; rw [← hF, cgF_none hb]; exact decide_eq_true c_78) | (refine ⟨zb0 ?_, rfl⟩; unfold cgB; rw [← hF, cgF_none hb]; exact decide_eq_false c_78)
        · have _z := c_78
          replace c_78 := (ieq (a := n) (b := bcN s) rfl rfl (by omega) (by omega)).mp c_78
          refine z_iconst h dX11_canGrant_81 ki_1 ?_
          refine z_goto 86 h dX11_canGrant_82 (by decide) ?_
          refine z_zret h hq rfl dX11_canGrant_86 (Nat.le_of_ble_eq_true rfl) (Nat.le_of_ble_eq_true rfl) ?_
          first | (refine ⟨zb1 ?_, rfl⟩; unfold cgB; rw [← hF, cgF_none hb]; exact decide_eq_true c_78) | (refine ⟨zb0 ?_, rfl⟩; unfold cgB; rw [← hF, cgF_none hb]; exact decide_eq_false c_78)
      · have _z := c_20
        obtain ⟨b, hb⟩ := oZ_some c_20
        have hbl := naF_lt _ _ hb
        have hak := hi.ak b hbl.1
        rw [show oZ (naN W s m) = nI b by rw [hb]; rfl]
        refine z_iload_n 2 h dX11_canGrant_23 rfl rfl ?_
        refine z_ifz_eq 41 h dX11_canGrant_24 (by decide) (fun c_24 => ?_) (fun c_24 => ?_)
        · have _z := c_24
          refine z_aload_n 0 h dX11_canGrant_41 rfl rfl rfl ?_
          refine z_iload h dX11_canGrant_42 rfl ?_
          refine z_iconst h dX11_canGrant_44 ki_0 ?_
          refine z_callVP h (m_ofAsk0 hm hw hi b (by omega)) kX11 (.inl (hm.at 0 (by decide))) (lw_V q2481 q2483 qs125 q148 q2484) nX11_ofAsk rfl rfl rfl (Nat.le_of_ble_eq_true rfl) (Nat.le_of_ble_eq_true rfl) (Nat.le_of_ble_eq_true rfl) dX11_canGrant_45 ?_
          refine z_istore h dX11_canGrant_48 rfl ?_
          refine z_aload_n 0 h dX11_canGrant_50 rfl rfl rfl ?_
          refine z_iload h dX11_canGrant_51 rfl ?_
          refine z_callVP h (m_endOf hm hw hi b hbl.1) kX11 (.inl (hm.at 0 (by decide))) (lw_V q2493 q2495 qs128 q148 q2496) nX11_endOf rfl rfl rfl (Nat.le_of_ble_eq_true rfl) (Nat.le_of_ble_eq_true rfl) (Nat.le_of_ble_eq_true rfl) dX11_canGrant_53 ?_
          refine z_istore h dX11_canGrant_56 rfl ?_
          refine z_iinc h dX11_canGrant_58 rfl rfl ki_1 ?_
          refine z_aload_n 0 h dX11_canGrant_61 rfl rfl rfl ?_
          refine z_iload_n 1 h dX11_canGrant_62 rfl rfl ?_
          refine z_iload h dX11_canGrant_63 rfl ?_
          refine z_callVP h (m_nextAsk hm hw hi s (W (75 + 4 * b + 1) + W (75 + 4 * b + 2)) hs (by omega)) kX11 (.inl (hm.at 0 (by decide))) (lw_V q2489 q2491 qs127 q148 q2492) nX11_nextAsk rfl rfl rfl (Nat.le_of_ble_eq_true rfl) (Nat.le_of_ble_eq_true rfl) (Nat.le_of_ble_eq_true rfl) dX11_canGrant_65 ?_
          refine z_istore h dX11_canGrant_68 rfl ?_
          refine z_goto 17 h dX11_canGrant_70 (by decide) ?_
          refine Z.loc [(0, .ref (ad 0)), (1, .int (nI s)), (2, .int (z2i bh)), (3, .int (nI (n + 1))), (4, .int (iI (W (75 + 4 * b) : Int))), (5, .int (nI (W (75 + 4 * b + 1) + W (75 + 4 * b + 2)))), (6, .int (oZ (naN W s (W (75 + 4 * b + 1) + W (75 + 4 * b + 2)))))] (ll1 rfl (ll1 rfl (ll1 rfl (ll1 (vS (nI_1 n)) (ll1 (vS (nz rfl)) (ll1 rfl (ll1 rfl ll0))))))) ?_
          exact ih_17 f (n + 1) (W (75 + 4 * b + 1) + W (75 + 4 * b + 2)) (W (75 + 4 * b) : Int) (by rw [← hF, cgF_some hb, if_neg]; first | (rw [c_24]; exact Bool.false_ne_true) | (rw [Bool.and_eq_true]; exact fun q => c_36 (of_decide_eq_true q.2))) (by omega) (by omega) (by omega) (by omega) (by omega)
        · have _z := c_24
          refine z_aload_n 0 h dX11_canGrant_27 rfl rfl rfl ?_
          refine z_iload h dX11_canGrant_28 rfl ?_
          refine z_iconst h dX11_canGrant_30 ki_0 ?_
          refine z_callVP h (m_ofAsk0 hm hw hi b (by omega)) kX11 (.inl (hm.at 0 (by decide))) (lw_V q2481 q2483 qs125 q148 q2484) nX11_ofAsk rfl rfl rfl (Nat.le_of_ble_eq_true rfl) (Nat.le_of_ble_eq_true rfl) (Nat.le_of_ble_eq_true rfl) dX11_canGrant_31 ?_
          refine z_iload h dX11_canGrant_34 rfl ?_
          refine z_icmp_ne 41 h dX11_canGrant_36 (by decide) (fun c_36 => ?_) (fun c_36 => ?_)
          · have _z := c_36
            replace c_36 := (not_congr (zeq (a := ((W (75 + 4 * b) : Nat) : Int)) (b := last) (nz rfl) rfl (nzb (hi.lt _ (by omega))) (by omega))).mp c_36
            refine z_aload_n 0 h dX11_canGrant_41 rfl rfl rfl ?_
            refine z_iload h dX11_canGrant_42 rfl ?_
            refine z_iconst h dX11_canGrant_44 ki_0 ?_
            refine z_callVP h (m_ofAsk0 hm hw hi b (by omega)) kX11 (.inl (hm.at 0 (by decide))) (lw_V q2481 q2483 qs125 q148 q2484) nX11_ofAsk rfl rfl rfl (Nat.le_of_ble_eq_true rfl) (Nat.le_of_ble_eq_true rfl) (Nat.le_of_ble_eq_true rfl) dX11_canGrant_45 ?_
            refine z_istore h dX11_canGrant_48 rfl ?_
            refine z_aload_n 0 h dX11_canGrant_50 rfl rfl rfl ?_
            refine z_iload h dX11_canGrant_51 rfl ?_
            refine z_callVP h (m_endOf hm hw hi b hbl.1) kX11 (.inl (hm.at 0 (by decide))) (lw_V q2493 q2495 qs128 q148 q2496) nX11_endOf rfl rfl rfl (Nat.le_of_ble_eq_true rfl) (Nat.le_of_ble_eq_true rfl) (Nat.le_of_ble_eq_true rfl) dX11_canGrant_53 ?_
            refine z_istore h dX11_canGrant_56 rfl ?_
            refine z_iinc h dX11_canGrant_58 rfl rfl ki_1 ?_
            refine z_aload_n 0 h dX11_canGrant_61 rfl rfl rfl ?_
            refine z_iload_n 1 h dX11_canGrant_62 rfl rfl ?_
            refine z_iload h dX11_canGrant_63 rfl ?_
            refine z_callVP h (m_nextAsk hm hw hi s (W (75 + 4 * b + 1) + W (75 + 4 * b + 2)) hs (by omega)) kX11 (.inl (hm.at 0 (by decide))) (lw_V q2489 q2491 qs127 q148 q2492) nX11_nextAsk rfl rfl rfl (Nat.le_of_ble_eq_true rfl) (Nat.le_of_ble_eq_true rfl) (Nat.le_of_ble_eq_true rfl) dX11_canGrant_65 ?_
            refine z_istore h dX11_canGrant_68 rfl ?_
            refine z_goto 17 h dX11_canGrant_70 (by decide) ?_
            refine Z.loc [(0, .ref (ad 0)), (1, .int (nI s)), (2, .int (z2i bh)), (3, .int (nI (n + 1))), (4, .int (iI (W (75 + 4 * b) : Int))), (5, .int (nI (W (75 + 4 * b + 1) + W (75 + 4 * b + 2)))), (6, .int (oZ (naN W s (W (75 + 4 * b + 1) + W (75 + 4 * b + 2)))))] (ll1 rfl (ll1 rfl (ll1 rfl (ll1 (vS (nI_1 n)) (ll1 (vS (nz rfl)) (ll1 rfl (ll1 rfl ll0))))))) ?_
            exact ih_17 f (n + 1) (W (75 + 4 * b + 1) + W (75 + 4 * b + 2)) (W (75 + 4 * b) : Int) (by rw [← hF, cgF_some hb, if_neg]; first | (rw [c_24]; exact Bool.false_ne_true) | (rw [Bool.and_eq_true]; exact fun q => c_36 (of_decide_eq_true q.2))) (by omega) (by omega) (by omega) (by omega) (by omega)
          · have _z := c_36
            replace c_36 := (zeq (a := ((W (75 + 4 * b) : Nat) : Int)) (b := last) (nz rfl) rfl (nzb (hi.lt _ (by omega))) (by omega)).mp c_36
            refine z_iconst h dX11_canGrant_39 ki_0 ?_
            refine z_zret h hq rfl dX11_canGrant_40 (Nat.le_of_ble_eq_true rfl) (Nat.le_of_ble_eq_true rfl) ?_
            refine ⟨zb0 ?_, rfl⟩
            unfold cgB
            rw [← hF, cgF_some hb, if_pos]
            rw [c_24, decide_eq_true c_36]
            rfl
  refine Z.loc [(0, .ref (ad 0)), (1, .int (nI s)), (2, .int (z2i bh)), (3, .int (nI 0)), (4, .int (iI (-1))), (5, .int (nI 0)), (6, .int (oZ (naN W s 0)))] (ll1 rfl (ll1 rfl (ll1 rfl (ll1 rfl (ll1 rfl (ll1 rfl (ll1 rfl ll0))))))) ?_
  exact loop_17 _ 81 0 0 (-1) rfl (by omega) (by omega) (by omega) (by omega) (Nat.lt_succ_self _)
set_option maxHeartbeats 4000000 in
theorem m_grantOf {l : Launch} {g : Zg} {ad : Nat → Nat} {M : Zm} {st : Ms} {W : Nat → Nat} (hm : Mod g ad M st) (hw : WR st W) (hi : InvW W) (bh : Bool) : Cn l g yX11_grantOf cX11_grantOf 6 (some .int) 4 0 0 [.ref (ad 0), .int (z2i bh)] M (PM g ad st (some (.int (nI (woA W (grS W bh))))) (fun s9 => s9.1 27 = nI (grS W bh))) := by
  refine Cn.start [(0, .ref (ad 0)), (1, .int (z2i bh))] (by decide) (Nat.le_of_ble_eq_true rfl) rfl ?_
  intro γ el eg h hq
  subst el; subst eg
  have h4 := hi.h4
  have h0 := hi.h0
  have hw0 := hw
  have hk : keep st st := keep.rf st
  have h6 := hi.h6
  have hp6 : 2 ^ W 6 ≤ 2 ^ 8 := Nat.pow_le_pow_right (by decide) h6
  have hp1 := Nat.one_le_two_pow (n := W 6)
  refine z_iconst h dX11_grantOf_0 ki_m1 ?_
  refine z_istore_n 2 h dX11_grantOf_1 rfl rfl ?_
  refine z_iconst h dX11_grantOf_2 ki_0 ?_
  refine z_istore_n 3 h dX11_grantOf_3 rfl rfl ?_
  have loop_4 : ∀ (fz : Nat) (M : Zm) (s1 : Ms) (s : Nat) (lz : Int) (hm : Mod (cg γ) ad M s1) (hk : keep st s1) (hs : s ≤ 2 ^ W 6) (hq3 : grInv W bh s lz (s1.1 27)), (2 ^ W 6 - s) < fz → Z γ M 0 0 4 (lof [(0, .ref (ad 0)), (1, .int (z2i bh)), (2, .int (iI lz)), (3, .int (nI s))]) [] := by
    intro fz
    induction fz with
    | zero => intro M s1 s lz hm hk hs hq3 hz; exact absurd hz (Nat.not_lt_zero _)
    | succ fz ih_4 =>
      intro M s1 s lz hm hk hs hq3 hz_4
      have hw := hk.w hw0
      have hlz := grInv_b hi hq3
      refine z_iload_n 3 h dX11_grantOf_4 rfl rfl ?_
      refine z_iconst h dX11_grantOf_5 ki_1 ?_
      refine z_aload_n 0 h dX11_grantOf_6 rfl rfl rfl ?_
      refine z_get h kX11 (.inl (hm.at 0 (by decide))) 1 rfl q1848 rfl dX11_grantOf_7 ?_
      refine z_bipush h dX11_grantOf_10 kb_6 ?_
      refine zm_w (6) h hm hw rfl (by omega) dX11_grantOf_12 ?_
      refine z_ishl h dX11_grantOf_13 ?_
      refine z_icmp_ge 92 h dX11_grantOf_14 (by decide) (fun c_14 => ?_) (fun c_14 => ?_)
      · have _z := c_14
        replace c_14 := (ile (a := 2 ^ W 6) (b := s) (shl_N _ (by omega)) rfl (by omega) (by omega)).mp c_14
        refine z_iload_n 2 h dX11_grantOf_92 rfl rfl ?_
        refine z_iret h hq dX11_grantOf_93 (Nat.le_of_ble_eq_true rfl) (Nat.le_of_ble_eq_true rfl) ?_
        obtain rfl : s = 2 ^ W 6 := by omega
        rcases hq3 with ⟨e, -⟩ | ⟨-, e1, e2⟩
        · omega
        · exact ⟨by rw [e1, ← nz rfl]; rfl, _, hm, hk, e2⟩
      · have _z := c_14
        replace c_14 := (not_congr (ile (a := 2 ^ W 6) (b := s) (shl_N _ (by omega)) rfl (by omega) (by omega))).mp c_14
        refine z_iconst h dX11_grantOf_17 ki_0 ?_
        refine z_istore h dX11_grantOf_18 rfl ?_
        refine z_iconst h dX11_grantOf_20 ki_0 ?_
        refine z_istore h dX11_grantOf_21 rfl ?_
        have loop_23 : ∀ (fz : Nat) (k : Nat) (hk6 : k ≤ W 6), (W 6 - k) < fz → Z γ M 0 0 23 (lof [(0, .ref (ad 0)), (1, .int (z2i bh)), (2, .int (iI lz)), (3, .int (nI s)), (4, .int (nI (woF W s k))), (5, .int (nI k))]) [] := by
          intro fz
          induction fz with
          | zero => intro k hk6 hz; exact absurd hz (Nat.not_lt_zero _)
          | succ fz ih_23 =>
            intro k hk6 hz_23
            have hwl := woF_le hi s k hk6
            refine z_iload h dX11_grantOf_23 rfl ?_
            refine z_aload_n 0 h dX11_grantOf_25 rfl rfl rfl ?_
            refine z_get h kX11 (.inl (hm.at 0 (by decide))) 1 rfl q1848 rfl dX11_grantOf_26 ?_
            refine z_bipush h dX11_grantOf_29 kb_6 ?_
            refine zm_w (6) h hm hw rfl (by omega) dX11_grantOf_31 ?_
            refine z_icmp_ge 60 h dX11_grantOf_32 (by decide) (fun c_32 => ?_) (fun c_32 => ?_)
            · have _z := c_32
              replace c_32 := (ile (a := W (6)) (b := k) rfl rfl (hi.lt _ (by omega)) (by omega)).mp c_32
              refine z_iload h dX11_grantOf_60 rfl ?_
              refine z_iload_n 2 h dX11_grantOf_62 rfl rfl ?_
              refine z_icmp_le 86 h dX11_grantOf_63 (by decide) (fun c_63 => ?_) (fun c_63 => ?_)
              · have _z := c_63
                replace c_63 := (zle (a := ((woF W s k : Nat) : Int)) (b := lz) (nz rfl) rfl (by omega) (by omega)).mp c_63
                refine z_iinc h dX11_grantOf_86 rfl rfl ki_1 ?_
                refine z_goto 4 h dX11_grantOf_89 (by decide) ?_
                obtain rfl : k = W 6 := by omega
                refine Z.loc [(0, .ref (ad 0)), (1, .int (z2i bh)), (2, .int (iI _)), (3, .int (nI (s + 1)))] (ll1 rfl (ll1 rfl (ll1 (by first | exact vS (nz rfl) | rfl) (ll1 (vS (nI_1 s)) ll0)))) ?_
                exact ih_4 _ _ (s + 1) _ hm hk (by omega) (by first | exact grInv_no hq3 c_72 | exact grInv_skip hq3 c_63 | exact grInv_take hq3 (by unfold woA; omega) c_72) (by omega)
              · have _z := c_63
                replace c_63 := (not_congr (zle (a := ((woF W s k : Nat) : Int)) (b := lz) (nz rfl) rfl (by omega) (by omega))).mp c_63
                refine z_aload_n 0 h dX11_grantOf_66 rfl rfl rfl ?_
                refine z_iload_n 3 h dX11_grantOf_67 rfl rfl ?_
                refine z_iload_n 1 h dX11_grantOf_68 rfl rfl ?_
                refine z_callVP h (m_canGrant hm hw hi s bh (by omega)) kX11 (.inl (hm.at 0 (by decide))) (lw_V q2485 q2487 qs126 q148 q2488) nX11_canGrant rfl rfl rfl (Nat.le_of_ble_eq_true rfl) (Nat.le_of_ble_eq_true rfl) (Nat.le_of_ble_eq_true rfl) dX11_grantOf_69 ?_
                refine z_ifz_ne 78 h dX11_grantOf_72 (by decide) (fun c_72 => ?_) (fun c_72 => ?_)
                · have _z := c_72
                  refine z_iload h dX11_grantOf_78 rfl ?_
                  refine z_istore_n 2 h dX11_grantOf_80 rfl rfl ?_
                  refine z_aload_n 0 h dX11_grantOf_81 rfl rfl rfl ?_
                  refine z_iload_n 3 h dX11_grantOf_82 rfl rfl ?_
                  refine zm_put 27 h hm (by decide) q1874 dX11_grantOf_83 (fun M hm => ?_)
                  replace hk := keepS hk hm (by decide)
                  have hw := hk.w hw0
                  refine z_iinc h dX11_grantOf_86 rfl rfl ki_1 ?_
                  refine z_goto 4 h dX11_grantOf_89 (by decide) ?_
                  obtain rfl : k = W 6 := by omega
                  refine Z.loc [(0, .ref (ad 0)), (1, .int (z2i bh)), (2, .int (iI _)), (3, .int (nI (s + 1)))] (ll1 rfl (ll1 rfl (ll1 (by first | exact vS (nz rfl) | rfl) (ll1 (vS (nI_1 s)) ll0)))) ?_
                  exact ih_4 _ _ (s + 1) _ hm hk (by omega) (by first | exact grInv_no hq3 c_72 | exact grInv_skip hq3 c_63 | exact grInv_take hq3 (by unfold woA; omega) c_72) (by omega)
                · have _z := c_72
                  refine z_goto 86 h dX11_grantOf_75 (by decide) ?_
                  refine z_iinc h dX11_grantOf_86 rfl rfl ki_1 ?_
                  refine z_goto 4 h dX11_grantOf_89 (by decide) ?_
                  obtain rfl : k = W 6 := by omega
                  refine Z.loc [(0, .ref (ad 0)), (1, .int (z2i bh)), (2, .int (iI _)), (3, .int (nI (s + 1)))] (ll1 rfl (ll1 rfl (ll1 (by first | exact vS (nz rfl) | rfl) (ll1 (vS (nI_1 s)) ll0)))) ?_
                  exact ih_4 _ _ (s + 1) _ hm hk (by omega) (by first | exact grInv_no hq3 c_72 | exact grInv_skip hq3 c_63 | exact grInv_take hq3 (by unfold woA; omega) c_72) (by omega)
            · have _z := c_32
              replace c_32 := (not_congr (ile (a := W (6)) (b := k) rfl rfl (hi.lt _ (by omega)) (by omega))).mp c_32
              refine z_iload h dX11_grantOf_35 rfl ?_
              refine z_iload_n 3 h dX11_grantOf_37 rfl rfl ?_
              refine z_iload h dX11_grantOf_38 rfl ?_
              refine z_callSP h (m_bit s k (by omega) (by omega)) (lw_S q2140 q2141 q148 q2142) nX11_bit rfl rfl rfl (Nat.le_of_ble_eq_true rfl) (Nat.le_of_ble_eq_true rfl) (Nat.le_of_ble_eq_true rfl) dX11_grantOf_40 ?_
              refine z_aload_n 0 h dX11_grantOf_43 rfl rfl rfl ?_
              refine z_iload h dX11_grantOf_44 rfl ?_
              refine z_iconst h dX11_grantOf_46 ki_3 ?_
              refine z_callVP h (m_ofAsk hm hw hi k 3 (by omega) (by omega)) kX11 (.inl (hm.at 0 (by decide))) (lw_V q2481 q2483 qs125 q148 q2484) nX11_ofAsk rfl rfl rfl (Nat.le_of_ble_eq_true rfl) (Nat.le_of_ble_eq_true rfl) (Nat.le_of_ble_eq_true rfl) dX11_grantOf_47 ?_
              refine z_imul h dX11_grantOf_50 ?_
              refine z_iadd h dX11_grantOf_51 ?_
              refine z_istore h dX11_grantOf_52 rfl ?_
              refine z_iinc h dX11_grantOf_54 rfl rfl ki_1 ?_
              refine z_goto 23 h dX11_grantOf_57 (by decide) ?_
              refine Z.loc [(0, .ref (ad 0)), (1, .int (z2i bh)), (2, .int (iI lz)), (3, .int (nI s)), (4, .int (nI (woF W s (k + 1)))), (5, .int (nI (k + 1)))] (ll1 rfl (ll1 rfl (ll1 rfl (ll1 rfl (ll1 (vS (ixa rfl (ixm rfl rfl))) (ll1 (vS (nI_1 k)) ll0)))))) ?_
              exact ih_23 (k + 1) (by omega) (by omega)
        refine Z.loc [(0, .ref (ad 0)), (1, .int (z2i bh)), (2, .int (iI lz)), (3, .int (nI s)), (4, .int (nI (woF W s 0))), (5, .int (nI 0))] (ll1 rfl (ll1 rfl (ll1 rfl (ll1 rfl (ll1 rfl (ll1 rfl ll0)))))) ?_
        exact loop_23 _ 0 (Nat.zero_le _) (Nat.lt_succ_self _)
  refine Z.loc [(0, .ref (ad 0)), (1, .int (z2i bh)), (2, .int (iI (-1))), (3, .int (nI 0))] (ll1 rfl (ll1 rfl (ll1 rfl (ll1 rfl ll0)))) ?_
  exact loop_4 _ _ _ 0 (-1) hm hk (Nat.zero_le _) (Or.inl ⟨rfl, rfl⟩) (Nat.lt_succ_self _)
set_option maxHeartbeats 4000000 in
theorem m_grant {l : Launch} {g : Zg} {ad : Nat → Nat} {M : Zm} {st : Ms} {W : Nat → Nat} (hm : Mod g ad M st) (hw : WR st W) (hi : InvW W)  : Cn l g yX11_grant cX11_grant 1 (some .int) 5 0 0 [.ref (ad 0)] M (PM g ad st (some (.int (aGrant W))) (fun _ => True)) := by
  refine Cn.start [(0, .ref (ad 0))] (by decide) (Nat.le_of_ble_eq_true rfl) rfl ?_
  intro γ el eg h hq
  subst el; subst eg
  have h4 := hi.h4
  have h0 := hi.h0
  have hw0 := hw
  have hk : keep st st := keep.rf st
  refine z_aload_n 0 h dX11_grant_0 rfl rfl rfl ?_
  refine z_callVP h (m_isWar hm hw hi) kX11 (.inl (hm.at 0 (by decide))) (lw_V q2091 q2093 qs84 q148 q2094) nX11_isWar rfl rfl rfl (Nat.le_of_ble_eq_true rfl) (Nat.le_of_ble_eq_true rfl) (Nat.le_of_ble_eq_true rfl) dX11_grant_1 ?_
  refine z_ifz_eq 15 h dX11_grant_4 (by decide) (fun c_4 => ?_) (fun c_4 => ?_)
  · have _z := c_4
    refine z_bipush h dX11_grant_15 kb_m2 ?_
    refine z_iret h hq dX11_grant_17 (Nat.le_of_ble_eq_true rfl) (Nat.le_of_ble_eq_true rfl) ?_
    refine ⟨vS ?_, _, hm, hk, trivial⟩
    simp [aGrant, c_4]
  · have _z := c_4
    refine z_aload_n 0 h dX11_grant_7 rfl rfl rfl ?_
    refine z_iconst h dX11_grant_8 ki_0 ?_
    refine z_callV h (m_grantOf hm hw hi false) kX11 (.inl (hm.at 0 (by decide))) (lw_V q2477 q2479 qs124 q148 q2480) nX11_grantOf rfl rfl rfl (Nat.le_of_ble_eq_true rfl) (Nat.le_of_ble_eq_true rfl) (Nat.le_of_ble_eq_true rfl) dX11_grant_9 (fun v M hv => ?_)
    obtain ⟨rfl, s1, hm, hk1, hX⟩ := hv
    replace hk := hk.tr hk1
    have hw := hk.w hw0
    refine z_goto 17 h dX11_grant_12 (by decide) ?_
    refine z_iret h hq dX11_grant_17 (Nat.le_of_ble_eq_true rfl) (Nat.le_of_ble_eq_true rfl) ?_
    refine ⟨vS ?_, _, hm, hk, trivial⟩
    simp [aGrant, c_4]
set_option maxHeartbeats 4000000 in
theorem m_halves {l : Launch} {g : Zg} {ad : Nat → Nat} {M : Zm} {st : Ms} {W : Nat → Nat} (hm : Mod g ad M st) (hw : WR st W) (hi : InvW W)  : Cn l g yX11_halves cX11_halves 1 (some .int) 5 0 0 [.ref (ad 0)] M (PM g ad st (some (.int (aHalves W))) (fun _ => True)) := by
  refine Cn.start [(0, .ref (ad 0))] (by decide) (Nat.le_of_ble_eq_true rfl) rfl ?_
  intro γ el eg h hq
  subst el; subst eg
  have h4 := hi.h4
  have h0 := hi.h0
  have hw0 := hw
  have hk : keep st st := keep.rf st
  refine z_aload_n 0 h dX11_halves_0 rfl rfl rfl ?_
  refine z_callVP h (m_isWar hm hw hi) kX11 (.inl (hm.at 0 (by decide))) (lw_V q2091 q2093 qs84 q148 q2094) nX11_isWar rfl rfl rfl (Nat.le_of_ble_eq_true rfl) (Nat.le_of_ble_eq_true rfl) (Nat.le_of_ble_eq_true rfl) dX11_halves_1 ?_
  refine z_ifz_eq 15 h dX11_halves_4 (by decide) (fun c_4 => ?_) (fun c_4 => ?_)
  · have _z := c_4
    refine z_bipush h dX11_halves_15 kb_m2 ?_
    refine z_iret h hq dX11_halves_17 (Nat.le_of_ble_eq_true rfl) (Nat.le_of_ble_eq_true rfl) ?_
    refine ⟨vS ?_, _, hm, hk, trivial⟩
    simp [aHalves, c_4]
  · have _z := c_4
    refine z_aload_n 0 h dX11_halves_7 rfl rfl rfl ?_
    refine z_iconst h dX11_halves_8 ki_1 ?_
    refine z_callV h (m_grantOf hm hw hi true) kX11 (.inl (hm.at 0 (by decide))) (lw_V q2477 q2479 qs124 q148 q2480) nX11_grantOf rfl rfl rfl (Nat.le_of_ble_eq_true rfl) (Nat.le_of_ble_eq_true rfl) (Nat.le_of_ble_eq_true rfl) dX11_halves_9 (fun v M hv => ?_)
    obtain ⟨rfl, s1, hm, hk1, hX⟩ := hv
    replace hk := hk.tr hk1
    have hw := hk.w hw0
    refine z_goto 17 h dX11_halves_12 (by decide) ?_
    refine z_iret h hq dX11_halves_17 (Nat.le_of_ble_eq_true rfl) (Nat.le_of_ble_eq_true rfl) ?_
    refine ⟨vS ?_, _, hm, hk, trivial⟩
    simp [aHalves, c_4]
set_option maxHeartbeats 4000000 in
theorem m_granted {l : Launch} {g : Zg} {ad : Nat → Nat} {M : Zm} {st : Ms} {W : Nat → Nat} (hm : Mod g ad M st) (hw : WR st W) (hi : InvW W)  : Cn l g yX11_granted cX11_granted 1 (some .int) 5 0 0 [.ref (ad 0)] M (PM g ad st (some (.int (aGranted W))) (fun _ => True)) := by
  refine Cn.start [(0, .ref (ad 0))] (by decide) (Nat.le_of_ble_eq_true rfl) rfl ?_
  intro γ el eg h hq
  subst el; subst eg
  have h4 := hi.h4
  have h0 := hi.h0
  have hw0 := hw
  have hk : keep st st := keep.rf st
  refine z_aload_n 0 h dX11_granted_0 rfl rfl rfl ?_
  refine z_callVP h (m_isWar hm hw hi) kX11 (.inl (hm.at 0 (by decide))) (lw_V q2091 q2093 qs84 q148 q2094) nX11_isWar rfl rfl rfl (Nat.le_of_ble_eq_true rfl) (Nat.le_of_ble_eq_true rfl) (Nat.le_of_ble_eq_true rfl) dX11_granted_1 ?_
  refine z_ifz_ne 10 h dX11_granted_4 (by decide) (fun c_4 => ?_) (fun c_4 => ?_)
  · have _z := c_4
    refine z_aload_n 0 h dX11_granted_10 rfl rfl rfl ?_
    refine z_iconst h dX11_granted_11 ki_0 ?_
    refine z_callV h (m_grantOf hm hw hi false) kX11 (.inl (hm.at 0 (by decide))) (lw_V q2477 q2479 qs124 q148 q2480) nX11_grantOf rfl rfl rfl (Nat.le_of_ble_eq_true rfl) (Nat.le_of_ble_eq_true rfl) (Nat.le_of_ble_eq_true rfl) dX11_granted_12 (fun v M hv => ?_)
    obtain ⟨rfl, s1, hm, hk1, hX⟩ := hv
    replace hk := hk.tr hk1
    have hw := hk.w hw0
    refine z_pop h dX11_granted_15 rfl ?_
    refine z_aload_n 0 h dX11_granted_16 rfl rfl rfl ?_
    refine z_get h kX11 (.inl (hm.at 0 (by decide))) 27 rfl q1874 rfl dX11_granted_17 ?_
    refine z_iret h hq dX11_granted_20 (Nat.le_of_ble_eq_true rfl) (Nat.le_of_ble_eq_true rfl) ?_
    refine ⟨vS ?_, _, hm, hk, trivial⟩
    rw [hX]
    simp [aGranted, c_4]
  · have _z := c_4
    refine z_bipush h dX11_granted_7 kb_m2 ?_
    refine z_iret h hq dX11_granted_9 (Nat.le_of_ble_eq_true rfl) (Nat.le_of_ble_eq_true rfl) ?_
    refine ⟨vS ?_, _, hm, hk, trivial⟩
    simp [aGranted, c_4]
set_option maxHeartbeats 4000000 in
theorem m_halved {l : Launch} {g : Zg} {ad : Nat → Nat} {M : Zm} {st : Ms} {W : Nat → Nat} (hm : Mod g ad M st) (hw : WR st W) (hi : InvW W)  : Cn l g yX11_halved cX11_halved 1 (some .int) 5 0 0 [.ref (ad 0)] M (PM g ad st (some (.int (aHalved W))) (fun _ => True)) := by
  refine Cn.start [(0, .ref (ad 0))] (by decide) (Nat.le_of_ble_eq_true rfl) rfl ?_
  intro γ el eg h hq
  subst el; subst eg
  have h4 := hi.h4
  have h0 := hi.h0
  have hw0 := hw
  have hk : keep st st := keep.rf st
  refine z_aload_n 0 h dX11_halved_0 rfl rfl rfl ?_
  refine z_callVP h (m_isWar hm hw hi) kX11 (.inl (hm.at 0 (by decide))) (lw_V q2091 q2093 qs84 q148 q2094) nX11_isWar rfl rfl rfl (Nat.le_of_ble_eq_true rfl) (Nat.le_of_ble_eq_true rfl) (Nat.le_of_ble_eq_true rfl) dX11_halved_1 ?_
  refine z_ifz_ne 10 h dX11_halved_4 (by decide) (fun c_4 => ?_) (fun c_4 => ?_)
  · have _z := c_4
    refine z_aload_n 0 h dX11_halved_10 rfl rfl rfl ?_
    refine z_iconst h dX11_halved_11 ki_1 ?_
    refine z_callV h (m_grantOf hm hw hi true) kX11 (.inl (hm.at 0 (by decide))) (lw_V q2477 q2479 qs124 q148 q2480) nX11_grantOf rfl rfl rfl (Nat.le_of_ble_eq_true rfl) (Nat.le_of_ble_eq_true rfl) (Nat.le_of_ble_eq_true rfl) dX11_halved_12 (fun v M hv => ?_)
    obtain ⟨rfl, s1, hm, hk1, hX⟩ := hv
    replace hk := hk.tr hk1
    have hw := hk.w hw0
    refine z_pop h dX11_halved_15 rfl ?_
    refine z_aload_n 0 h dX11_halved_16 rfl rfl rfl ?_
    refine z_get h kX11 (.inl (hm.at 0 (by decide))) 27 rfl q1874 rfl dX11_halved_17 ?_
    refine z_iret h hq dX11_halved_20 (Nat.le_of_ble_eq_true rfl) (Nat.le_of_ble_eq_true rfl) ?_
    refine ⟨vS ?_, _, hm, hk, trivial⟩
    rw [hX]
    simp [aHalved, c_4]
  · have _z := c_4
    refine z_bipush h dX11_halved_7 kb_m2 ?_
    refine z_iret h hq dX11_halved_9 (Nat.le_of_ble_eq_true rfl) (Nat.le_of_ble_eq_true rfl) ?_
    refine ⟨vS ?_, _, hm, hk, trivial⟩
    simp [aHalved, c_4]
