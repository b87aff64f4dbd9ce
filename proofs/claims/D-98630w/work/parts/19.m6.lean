/-! the reference: chances; trains sent -/
set_option maxRecDepth 100000
def pN (f : Nat → Nat) : Nat → Nat
  | 0 => 1
  | n + 1 => pN f n * f n
/-- how often just the trains of n are late, of 100 each, by the first t of them -/
def oftN (W : Nat → Nat) (n : Nat) : Nat → Nat := pN (fun t => if bN n t = 1 then W (13 + 6 * t + 3) else 100 - W (13 + 6 * t + 3))
theorem sN_add (f : Nat → Nat) (a : Nat) : ∀ b, sN f (a + b) = sN f a + sN (fun i => f (a + i)) b
  | 0 => rfl
  | b + 1 => by
    show sN f (a + b) + f (a + b) = sN f a + (sN (fun i => f (a + i)) b + f (a + b))
    rw [sN_add f a b, Nat.add_assoc]
theorem sN_mul (f : Nat → Nat) (c : Nat) : ∀ b, sN (fun i => f i * c) b = sN f b * c
  | 0 => (Nat.zero_mul c).symm
  | b + 1 => by simp only [sN]; rw [sN_mul f c b, Nat.add_mul]
theorem sN_ext {f g : Nat → Nat} : ∀ {b : Nat}, (∀ i, i < b → f i = g i) → sN f b = sN g b
  | 0, _ => rfl
  | b + 1, h => by simp only [sN]; rw [sN_ext (fun i hi => h i (by omega)), h b (by omega)]
theorem sN_le {f g : Nat → Nat} : ∀ {b : Nat}, (∀ i, i < b → f i ≤ g i) → sN f b ≤ sN g b
  | 0, _ => Nat.le_refl _
  | b + 1, h => by
    have h1 := sN_le (f := f) (g := g) (b := b) (fun i hi => h i (by omega))
    have h2 := h b (by omega)
    simp only [sN]
    omega
theorem pN_ext {f g : Nat → Nat} : ∀ {b : Nat}, (∀ i, i < b → f i = g i) → pN f b = pN g b
  | 0, _ => rfl
  | b + 1, h => by simp only [pN]; rw [pN_ext (fun i hi => h i (by omega)), h b (by omega)]
theorem bN_add {k n t : Nat} (hn : n < 2 ^ k) (ht : t < k) : bN (2 ^ k + n) t = bN n t := by
  unfold bN
  rw [Nat.testBit_two_pow_add_gt ht]
theorem bN_top {k n : Nat} (hn : n < 2 ^ k) : bN (2 ^ k + n) k = 1 ∧ bN n k = 0 := by
  unfold bN
  rw [Nat.testBit_two_pow_add_eq, Nat.testBit_lt_two_pow hn]
  exact ⟨rfl, rfl⟩
theorem oft_sum (W : Nat → Nat) : ∀ k : Nat, (∀ t, t < k → W (13 + 6 * t + 3) ≤ 100) → sN (fun n => oftN W n k) (2 ^ k) = 100 ^ k
  | 0, _ => rfl
  | k + 1, h => by
    have ih := oft_sum W k (fun t ht => h t (by omega))
    have hk := h k (by omega)
    have e1 : sN (fun n => oftN W n (k + 1)) (2 ^ k) = sN (fun n => oftN W n k) (2 ^ k) * (100 - W (13 + 6 * k + 3)) := by
      rw [← sN_mul]
      refine sN_ext (fun n hn => ?_)
      unfold oftN
      simp only [pN]
      rw [if_neg (by rw [(bN_top hn).2]; decide)]
    have e2 : sN (fun n => oftN W (2 ^ k + n) (k + 1)) (2 ^ k) = sN (fun n => oftN W n k) (2 ^ k) * W (13 + 6 * k + 3) := by
      rw [← sN_mul]
      refine sN_ext (fun n hn => ?_)
      unfold oftN
      simp only [pN]
      rw [if_pos (bN_top hn).1]
      congr 1
      exact pN_ext (fun t ht => by rw [bN_add hn ht])
    rw [show 2 ^ (k + 1) = 2 ^ k + 2 ^ k by rw [Nat.pow_succ]; omega, sN_add, e1, e2, ih, ← Nat.mul_add, Nat.pow_succ]
    congr 1
    omega
def enS (W : Nat → Nat) (s : Nat) : Nat → Nat := sN (fun n => if lateB W s n = true then 0 else oftN W n (W 4))
def chS (W : Nat → Nat) (s : Nat) : Nat → Nat := sN (fun n => if winZ W n = (s : Int) then oftN W n (W 4) else 0)
theorem all1 (W : Nat → Nat) : allN W + 1 = 2 ^ W 4 := by
  have := Nat.one_le_two_pow (n := W 4)
  unfold allN
  omega
theorem p100 {W : Nat → Nat} (hi : InvW W) : 100 ^ W 4 ≤ 1000000000000000000 ∧ 0 < 100 ^ W 4 := by
  have h := Nat.pow_le_pow_right (n := 100) (by decide) hi.h4
  exact ⟨h, Nat.pow_pos (by decide)⟩
theorem oft_all {W : Nat → Nat} (hi : InvW W) : sN (fun n => oftN W n (W 4)) (allN W + 1) = 100 ^ W 4 := by
  rw [all1]
  exact oft_sum W (W 4) (fun t ht => (hi.tr t ht).2.2.2.1)
theorem enS_le {W : Nat → Nat} (hi : InvW W) (s : Nat) : enS W s (allN W + 1) ≤ 100 ^ W 4 := by
  rw [← oft_all hi]
  refine sN_le (fun n _ => ?_)
  show (if _ then _ else _) ≤ _
  split <;> omega
theorem chS_le {W : Nat → Nat} (hi : InvW W) (s : Nat) : chS W s (allN W + 1) ≤ 100 ^ W 4 := by
  rw [← oft_all hi]
  refine sN_le (fun n _ => ?_)
  show (if _ then _ else _) ≤ _
  split <;> omega
def partN (a b k : Nat) : Nat := (if k = 0 then a else b) / Nat.gcd a b
def aEnough (W : Nat → Nat) (s v : Int32) : Int64 := if (isSideB W s && inI v 0 1) = true then lN (partN (enS W (tn s) (allN W + 1)) (100 ^ W 4) (tn v)) else -2
def aChance (W : Nat → Nat) (s v : Int32) : Int64 := if (isSideB W s && inI v 0 1) = true then lN (partN (chS W (tn s) (allN W + 1)) (100 ^ W 4) (tn v)) else -2
theorem lN_ne0 {n : Nat} (h : ¬ n = 0) (hn : n < 2 ^ 63) : ¬ lN n = 0 := fun q => h ((pk_lEQ hn (by decide : 0 < 2 ^ 63)).mp q)
theorem lc_eq0 {n : Nat} (hn : n < 2 ^ 63) : lg_cmp (lN n) 0 = 0 ↔ n = 0 := by
  rw [lg_cmp_eq]
  exact pk_lEQ (a := n) (b := 0) hn (by decide)
theorem bit_nat {v : Int32} (h : inI v 0 1 = true) : ∃ n : Nat, n ≤ 1 ∧ v = nI n := by
  obtain ⟨n, h1, h2, h3⟩ := inI_nat h
  exact ⟨n, by omega, h3⟩
/-- men of a set that are there in the minute late; they are enough though all are late -/
def sentN (W : Nat → Nat) (o n : Nat) : Nat → Nat := sN (fun t => if bN o t = 1 ∧ comesN W n t ≤ W 1 then W (13 + 6 * t + 1) else 0)
def sureB (W : Nat → Nat) (s k : Nat) : Bool := decide (W (11 + s) ≤ sentN W k (allN W) (W 4))
theorem sentN_le {W : Nat → Nat} (hi : InvW W) (o n : Nat) : ∀ t, t ≤ W 4 → sentN W o n t ≤ 99 * t
  | 0, _ => Nat.le_refl _
  | t + 1, ht => by
    have h1 := sentN_le hi o n t (by omega)
    have h2 := (hi.tr t (by omega)).2.1
    unfold sentN at h1 ⊢
    simp only [sN]
    split <;> omega
theorem sentN_lt {W : Nat → Nat} (hi : InvW W) (o n : Nat) : sentN W o n (W 4) < 2 ^ 31 := by
  have h1 := sentN_le hi o n (W 4) (Nat.le_refl _)
  have h3 := hi.h4
  omega
theorem priceN_lt {W : Nat → Nat} (hi : InvW W) (n : Nat) : priceN W n (W 4) < 10000 := by
  have h1 := priceN_le hi n (W 4) (Nat.le_refl _)
  have h3 := hi.h4
  omega
/-- the least found so far, as the reference keeps it -/
def ZM (s : Ms) (c : Nat → Nat) (o : Option Nat) : Prop := (o = none → s.1 19 = -1) ∧ ∀ b, o = some b → s.1 19 = nI b ∧ s.1 18 = nI (c b)
def pC (W : Nat → Nat) (k : Nat) : Nat := priceN W k (W 4)
/-- what is kept but for the least -/
def keepT (st st' : Ms) : Prop := (∀ k, k ≠ 18 → k ≠ 19 → st'.1 k = st.1 k) ∧ st'.2 = st.2
theorem keepT.k {a b : Ms} (h : keepT a b) : keep a b := ⟨fun k hk => h.1 k (fun e => by subst e; revert hk; decide) (fun e => by subst e; revert hk; decide), fun k _ => by rw [h.2], by rw [h.2]⟩
theorem keepT.rf (a : Ms) : keepT a a := ⟨fun _ _ _ => rfl, rfl⟩
theorem keepT.tr {a b c : Ms} (h1 : keepT a b) (h2 : keepT b c) : keepT a c := ⟨fun k h3 h4 => (h2.1 k h3 h4).trans (h1.1 k h3 h4), h2.2.trans h1.2⟩
theorem keepT.s {a st : Ms} {k : Nat} {v : Int32} {g : Zg} {ad : Nat → Nat} {M : Zm} (hk : keepT a st) (_ : Mod g ad M (uS st k v)) (h : k = 18 ∨ k = 19) : keepT a (uS st k v) := hk.tr ⟨fun j h3 h4 => by rcases h with rfl | rfl <;> simp [uS, h3, h4], rfl⟩
def PMT (g : Zg) (ad : Nat → Nat) (st : Ms) (v : Option Value) (X : Ms → Prop) : Option Value → Zm → Prop := fun r M' => r = v ∧ ∃ st' : Ms, Mod g ad M' st' ∧ keepT st st' ∧ X st'
def sendO (W : Nat → Nat) (s : Nat) (c : Nat → Nat) : Option Nat := argm (fun k => subN k (ownN W s) && sureB W s k) c (allN W + 1)
def orN (c : Nat → Nat) (o : Option Nat) : Int32 := match o with
  | none => -1
  | some b => nI (c b)
def setO (o : Option Nat) : Int32 := match o with
  | none => -1
  | some b => nI b
theorem ZM.or {s : Ms} {c : Nat → Nat} {o : Option Nat} (h : ZM s c o) : s.1 19 = setO o := by
  cases o with
  | none => exact h.1 rfl
  | some b => exact (h.2 b rfl).1
theorem nI_m1 {n : Nat} (h : n < 2 ^ 31) : ¬ nI n = -1 := by
  intro q
  have h1 := congrArg Int32.toInt q
  rw [nI_toInt h] at h1
  have : (-1 : Int32).toInt = -1 := by decide
  omega
theorem ownN_all {W : Nat → Nat} (s : Nat) : ownN W s ≤ allN W := by
  have h1 := setN_lt (fun t => decide (W (13 + 6 * t) = s)) (W 4)
  unfold ownN allN
  omega
def aSend (W : Nat → Nat) (s : Int32) : Int32 := if isSideB W s = true then orN (pC W) (sendO W (tn s) (pC W)) else -2
def aSent (W : Nat → Nat) (s : Int32) : Int32 := if isSideB W s = true then setO (sendO W (tn s) (pC W)) else -2
def aFewest (W : Nat → Nat) (s : Int32) : Int32 := if isSideB W s = true then orN bcN (sendO W (tn s) bcN) else -2
set_option maxHeartbeats 4000000 in
theorem m_divisor {l : Launch} {g : Zg} {M : Zm} (a b : Nat) (ha : a < 2 ^ 63) (hb : b < 2 ^ 63) : Cn l g yX11_divisor cX11_divisor 10 (some .long) 1 0 0 [.long (lN a), .long (lN b)] M (PV (.long (lN (Nat.gcd a b))) M) := by
  refine Cn.start [(0, .long (lN a)), (2, .long (lN b))] (by decide) (Nat.le_of_ble_eq_true rfl) rfl ?_
  intro γ el eg h hq
  subst el; subst eg
  refine z_lload_n 0 h dX11_divisor_0 rfl rfl ?_
  refine z_lstore h dX11_divisor_1 rfl ?_
  refine z_lload_n 2 h dX11_divisor_3 rfl rfl ?_
  refine z_lstore h dX11_divisor_4 rfl ?_
  have loop_6 : ∀ (fz : Nat) (p : Nat) (z : Nat) (hp : p < 2 ^ 63) (hz : z < 2 ^ 63) (hg : Nat.gcd p z = Nat.gcd a b), (z) < fz → Z γ M 0 0 6 (lof [(0, .long (lN a)), (2, .long (lN b)), (4, .long (lN p)), (6, .long (lN z))]) [] := by
    intro fz
    induction fz with
    | zero => intro p z hp hz hg hz; exact absurd hz (Nat.not_lt_zero _)
    | succ fz ih_6 =>
      intro p z hp hz hg hz_6
      refine z_lload h dX11_divisor_6 rfl ?_
      refine z_lconst h dX11_divisor_8 kl_0 ?_
      refine z_lcmp h dX11_divisor_9 ?_
      refine z_if_eq 31 h dX11_divisor_10 (by decide) (fun c_10 => ?_) (fun c_10 => ?_)
      · have _z := c_10
        replace c_10 := (lc_eq0 hz).mp c_10
        refine z_lload h dX11_divisor_31 rfl ?_
        refine z_lret h hq dX11_divisor_33 (Nat.le_of_ble_eq_true rfl) (Nat.le_of_ble_eq_true rfl) ?_
        subst c_10
        rw [Nat.gcd_zero_right] at hg
        exact ⟨vL2 (by rw [hg]), rfl⟩
      · have _z := c_10
        replace c_10 := (not_congr (lc_eq0 hz)).mp c_10
        refine z_lload h dX11_divisor_13 rfl ?_
        refine z_lload h dX11_divisor_15 rfl ?_
        refine z_lrem h dX11_divisor_17 (lN_ne0 c_10 hz) ?_
        refine z_lstore h dX11_divisor_18 rfl ?_
        refine z_lload h dX11_divisor_20 rfl ?_
        refine z_lstore h dX11_divisor_22 rfl ?_
        refine z_lload h dX11_divisor_24 rfl ?_
        refine z_lstore h dX11_divisor_26 rfl ?_
        refine z_goto 6 h dX11_divisor_28 (by decide) ?_
        refine Z.loc [(0, .long (lN a)), (2, .long (lN b)), (4, .long (lN z)), (6, .long (lN (p % z)))] (ll1 rfl (ll1 rfl (ll1 rfl (ll1 (vL2 (pk_lRem hp (Nat.pos_of_ne_zero c_10) hz)) ll0)))) ?_
        exact ih_6 z (p % z) hz (Nat.lt_trans (Nat.mod_lt _ (Nat.pos_of_ne_zero c_10)) hz) (by rw [← hg, Nat.gcd_comm z, ← Nat.gcd_rec, Nat.gcd_comm]) (Nat.lt_of_lt_of_le (Nat.mod_lt _ (Nat.pos_of_ne_zero c_10)) (Nat.le_of_lt_succ hz_6))
  refine Z.loc [(0, .long (lN a)), (2, .long (lN b)), (4, .long (lN a)), (6, .long (lN b))] (ll1 rfl (ll1 rfl (ll1 rfl (ll1 rfl ll0)))) ?_
  exact loop_6 _ a b ha hb rfl (Nat.lt_succ_self _)
set_option maxHeartbeats 4000000 in
theorem m_part {l : Launch} {g : Zg} {M : Zm} (a b k : Nat) (ha : a < 2 ^ 63) (hb : b < 2 ^ 63) (hb0 : 0 < b) (hk : k ≤ 1) : Cn l g yX11_part cX11_part 5 (some .long) 2 0 0 [.long (lN a), .long (lN b), .int (nI k)] M (PV (.long (lN (partN a b k))) M) := by
  refine Cn.start [(0, .long (lN a)), (2, .long (lN b)), (4, .int (nI k))] (by decide) (Nat.le_of_ble_eq_true rfl) rfl ?_
  intro γ el eg h hq
  subst el; subst eg
  have hg0 := Nat.gcd_pos_of_pos_right a hb0
  have hg1 : Nat.gcd a b < 2 ^ 63 := Nat.lt_of_le_of_lt (Nat.le_of_dvd hb0 (Nat.gcd_dvd_right a b)) hb
  refine z_iload h dX11_part_0 rfl ?_
  refine z_if_ne 9 h dX11_part_2 (by decide) (fun c_2 => ?_) (fun c_2 => ?_)
  · have _z := c_2
    replace c_2 := (not_congr (ieq (a := k) (b := 0) rfl rfl (by omega) (by decide))).mp c_2
    refine z_lload_n 2 h dX11_part_9 rfl rfl ?_
    refine z_lload_n 0 h dX11_part_10 rfl rfl ?_
    refine z_lload_n 2 h dX11_part_11 rfl rfl ?_
    refine z_callSP h (m_divisor a b ha hb) (lw_S q2235 q2236 q148 q2237) nX11_divisor rfl rfl rfl (Nat.le_of_ble_eq_true rfl) (Nat.le_of_ble_eq_true rfl) (Nat.le_of_ble_eq_true rfl) dX11_part_12 ?_
    refine z_ldiv h dX11_part_15 (lN_ne0 (by omega) hg1) ?_
    refine z_lret h hq dX11_part_16 (Nat.le_of_ble_eq_true rfl) (Nat.le_of_ble_eq_true rfl) ?_
    refine ⟨vL2 ?_, rfl⟩
    first | (rw [partN, if_pos c_2]; exact pk_lDiv ha hg0 hg1) | (rw [partN, if_neg c_2]; exact pk_lDiv hb hg0 hg1)
  · have _z := c_2
    replace c_2 := (ieq (a := k) (b := 0) rfl rfl (by omega) (by decide)).mp c_2
    refine z_lload_n 0 h dX11_part_5 rfl rfl ?_
    refine z_goto 10 h dX11_part_6 (by decide) ?_
    refine z_lload_n 0 h dX11_part_10 rfl rfl ?_
    refine z_lload_n 2 h dX11_part_11 rfl rfl ?_
    refine z_callSP h (m_divisor a b ha hb) (lw_S q2235 q2236 q148 q2237) nX11_divisor rfl rfl rfl (Nat.le_of_ble_eq_true rfl) (Nat.le_of_ble_eq_true rfl) (Nat.le_of_ble_eq_true rfl) dX11_part_12 ?_
    refine z_ldiv h dX11_part_15 (lN_ne0 (by omega) hg1) ?_
    refine z_lret h hq dX11_part_16 (Nat.le_of_ble_eq_true rfl) (Nat.le_of_ble_eq_true rfl) ?_
    refine ⟨vL2 ?_, rfl⟩
    first | (rw [partN, if_pos c_2]; exact pk_lDiv ha hg0 hg1) | (rw [partN, if_neg c_2]; exact pk_lDiv hb hg0 hg1)
set_option maxHeartbeats 4000000 in
theorem m_oftenOf {l : Launch} {g : Zg} {ad : Nat → Nat} {M : Zm} {st : Ms} {W : Nat → Nat} (hm : Mod g ad M st) (hw : WR st W) (hi : InvW W) (n : Nat) (hn : n < 2 ^ 31) : Cn l g yX11_oftenOf cX11_oftenOf 5 (some .long) 2 0 0 [.ref (ad 0), .int (nI n)] M (PV (.long (lN (oftN W n (W 4)))) M) := by
  refine Cn.start [(0, .ref (ad 0)), (1, .int (nI n))] (by decide) (Nat.le_of_ble_eq_true rfl) rfl ?_
  intro γ el eg h hq
  subst el; subst eg
  have h4 := hi.h4
  refine z_lconst h dX11_oftenOf_0 kl_1 ?_
  refine z_lstore_n 2 h dX11_oftenOf_1 rfl rfl ?_
  refine z_iconst h dX11_oftenOf_2 ki_0 ?_
  refine z_istore h dX11_oftenOf_3 rfl ?_
  have loop_5 : ∀ (fz : Nat) (t : Nat) (ht : t ≤ W 4), (W 4 - t) < fz → Z γ M 0 0 5 (lof [(0, .ref (ad 0)), (1, .int (nI n)), (2, .long (lN (oftN W n t))), (4, .int (nI t))]) [] := by
    intro fz
    induction fz with
    | zero => intro t ht hz; exact absurd hz (Nat.not_lt_zero _)
    | succ fz ih_5 =>
      intro t ht hz_5
      refine z_iload h dX11_oftenOf_5 rfl ?_
      refine z_aload_n 0 h dX11_oftenOf_7 rfl rfl rfl ?_
      refine z_get h kX11 (.inl (hm.at 0 (by decide))) 1 rfl q1848 rfl dX11_oftenOf_8 ?_
      refine z_iconst h dX11_oftenOf_11 ki_4 ?_
      refine zm_w (4) h hm hw rfl (by omega) dX11_oftenOf_12 ?_
      refine z_icmp_ge 57 h dX11_oftenOf_13 (by decide) (fun c_13 => ?_) (fun c_13 => ?_)
      · have _z := c_13
        replace c_13 := (ile (a := W (4)) (b := t) rfl rfl (hi.lt _ (by omega)) (by omega)).mp c_13
        refine z_lload_n 2 h dX11_oftenOf_57 rfl rfl ?_
        refine z_lret h hq dX11_oftenOf_58 (Nat.le_of_ble_eq_true rfl) (Nat.le_of_ble_eq_true rfl) ?_
        obtain rfl : t = W 4 := by omega
        exact ⟨rfl, rfl⟩
      · have _z := c_13
        replace c_13 := (not_congr (ile (a := W (4)) (b := t) rfl rfl (hi.lt _ (by omega)) (by omega))).mp c_13
        refine z_lload_n 2 h dX11_oftenOf_16 rfl rfl ?_
        refine z_iload_n 1 h dX11_oftenOf_17 rfl rfl ?_
        refine z_iload h dX11_oftenOf_18 rfl ?_
        refine z_callSP h (m_bit n t hn (by omega)) (lw_S q2140 q2141 q148 q2142) nX11_bit rfl rfl rfl (Nat.le_of_ble_eq_true rfl) (Nat.le_of_ble_eq_true rfl) (Nat.le_of_ble_eq_true rfl) dX11_oftenOf_20 ?_
        refine z_iconst h dX11_oftenOf_23 ki_1 ?_
        refine z_icmp_ne 38 h dX11_oftenOf_24 (by decide) (fun c_24 => ?_) (fun c_24 => ?_)
        · have _z := c_24
          replace c_24 := (not_congr (ieq (a := bN n t) (b := 1) rfl rfl (by have := bN_le n t; omega) (by decide))).mp c_24
          refine z_bipush h dX11_oftenOf_38 kb_100 ?_
          refine z_aload_n 0 h dX11_oftenOf_40 rfl rfl rfl ?_
          refine z_iload h dX11_oftenOf_41 rfl ?_
          refine z_iconst h dX11_oftenOf_43 ki_3 ?_
          refine z_callVP h (m_of hm hw hi t 3 (by omega)) kX11 (.inl (hm.at 0 (by decide))) (lw_V q2079 q2081 qs82 q148 q2082) nX11_of rfl rfl rfl (Nat.le_of_ble_eq_true rfl) (Nat.le_of_ble_eq_true rfl) (Nat.le_of_ble_eq_true rfl) dX11_oftenOf_44 ?_
          refine z_isub h dX11_oftenOf_47 ?_
          refine z_i2l h dX11_oftenOf_48 ?_
          refine z_lmul h dX11_oftenOf_49 ?_
          refine z_lstore_n 2 h dX11_oftenOf_50 rfl rfl ?_
          refine z_iinc h dX11_oftenOf_51 rfl rfl ki_1 ?_
          refine z_goto 5 h dX11_oftenOf_54 (by decide) ?_
          refine Z.loc [(0, .ref (ad 0)), (1, .int (nI n)), (2, .long (lN (oftN W n (t + 1)))), (4, .int (nI (t + 1)))] (ll1 rfl (ll1 rfl (ll1 (vL2 (by simp only [oftN, pN]; first | (rw [if_pos c_24, nI_l (hi.lt _ (by omega)), lN_mul]; done) | (rw [if_neg c_24, show (100 : Int32) = nI 100 from rfl, pk_sub (hi.tr t (by omega)).2.2.2.1, nI_l (by omega), lN_mul]; done))) (ll1 (vS (nI_1 t)) ll0)))) ?_
          exact ih_5 (t + 1) (by omega) (by omega)
        · have _z := c_24
          replace c_24 := (ieq (a := bN n t) (b := 1) rfl rfl (by have := bN_le n t; omega) (by decide)).mp c_24
          refine z_aload_n 0 h dX11_oftenOf_27 rfl rfl rfl ?_
          refine z_iload h dX11_oftenOf_28 rfl ?_
          refine z_iconst h dX11_oftenOf_30 ki_3 ?_
          refine z_callVP h (m_of hm hw hi t 3 (by omega)) kX11 (.inl (hm.at 0 (by decide))) (lw_V q2079 q2081 qs82 q148 q2082) nX11_of rfl rfl rfl (Nat.le_of_ble_eq_true rfl) (Nat.le_of_ble_eq_true rfl) (Nat.le_of_ble_eq_true rfl) dX11_oftenOf_31 ?_
          refine z_i2l h dX11_oftenOf_34 ?_
          refine z_goto 49 h dX11_oftenOf_35 (by decide) ?_
          refine z_lmul h dX11_oftenOf_49 ?_
          refine z_lstore_n 2 h dX11_oftenOf_50 rfl rfl ?_
          refine z_iinc h dX11_oftenOf_51 rfl rfl ki_1 ?_
          refine z_goto 5 h dX11_oftenOf_54 (by decide) ?_
          refine Z.loc [(0, .ref (ad 0)), (1, .int (nI n)), (2, .long (lN (oftN W n (t + 1)))), (4, .int (nI (t + 1)))] (ll1 rfl (ll1 rfl (ll1 (vL2 (by simp only [oftN, pN]; first | (rw [if_pos c_24, nI_l (hi.lt _ (by omega)), lN_mul]; done) | (rw [if_neg c_24, show (100 : Int32) = nI 100 from rfl, pk_sub (hi.tr t (by omega)).2.2.2.1, nI_l (by omega), lN_mul]; done))) (ll1 (vS (nI_1 t)) ll0)))) ?_
          exact ih_5 (t + 1) (by omega) (by omega)
  refine Z.loc [(0, .ref (ad 0)), (1, .int (nI n)), (2, .long (lN (oftN W n 0))), (4, .int (nI 0))] (ll1 rfl (ll1 rfl (ll1 rfl (ll1 rfl ll0)))) ?_
  exact loop_5 _ 0 (Nat.zero_le _) (Nat.lt_succ_self _)
set_option maxHeartbeats 4000000 in
theorem m_allOften {l : Launch} {g : Zg} {ad : Nat → Nat} {M : Zm} {st : Ms} {W : Nat → Nat} (hm : Mod g ad M st) (hw : WR st W) (hi : InvW W)  : Cn l g yX11_allOften cX11_allOften 4 (some .long) 1 0 0 [.ref (ad 0)] M (PV (.long (lN (100 ^ W 4))) M) := by
  refine Cn.start [(0, .ref (ad 0))] (by decide) (Nat.le_of_ble_eq_true rfl) rfl ?_
  intro γ el eg h hq
  subst el; subst eg
  have h4 := hi.h4
  refine z_lconst h dX11_allOften_0 kl_1 ?_
  refine z_lstore_n 1 h dX11_allOften_1 rfl rfl ?_
  refine z_iconst h dX11_allOften_2 ki_0 ?_
  refine z_istore_n 3 h dX11_allOften_3 rfl rfl ?_
  have loop_4 : ∀ (fz : Nat) (t : Nat) (ht : t ≤ W 4), (W 4 - t) < fz → Z γ M 0 0 4 (lof [(0, .ref (ad 0)), (1, .long (lN (100 ^ t))), (3, .int (nI t))]) [] := by
    intro fz
    induction fz with
    | zero => intro t ht hz; exact absurd hz (Nat.not_lt_zero _)
    | succ fz ih_4 =>
      intro t ht hz_4
      refine z_iload_n 3 h dX11_allOften_4 rfl rfl ?_
      refine z_aload_n 0 h dX11_allOften_5 rfl rfl rfl ?_
      refine z_get h kX11 (.inl (hm.at 0 (by decide))) 1 rfl q1848 rfl dX11_allOften_6 ?_
      refine z_iconst h dX11_allOften_9 ki_4 ?_
      refine zm_w (4) h hm hw rfl (by omega) dX11_allOften_10 ?_
      refine z_icmp_ge 26 h dX11_allOften_11 (by decide) (fun c_11 => ?_) (fun c_11 => ?_)
      · have _z := c_11
        replace c_11 := (ile (a := W (4)) (b := t) rfl rfl (hi.lt _ (by omega)) (by omega)).mp c_11
        refine z_lload_n 1 h dX11_allOften_26 rfl rfl ?_
        refine z_lret h hq dX11_allOften_27 (Nat.le_of_ble_eq_true rfl) (Nat.le_of_ble_eq_true rfl) ?_
        obtain rfl : t = W 4 := by omega
        exact ⟨rfl, rfl⟩
      · have _z := c_11
        replace c_11 := (not_congr (ile (a := W (4)) (b := t) rfl rfl (hi.lt _ (by omega)) (by omega))).mp c_11
        refine z_lload_n 1 h dX11_allOften_14 rfl rfl ?_
        refine z_ldc2 h q2231 dX11_allOften_15 ?_
        refine z_lmul h dX11_allOften_18 ?_
        refine z_lstore_n 1 h dX11_allOften_19 rfl rfl ?_
        refine z_iinc h dX11_allOften_20 rfl rfl ki_1 ?_
        refine z_goto 4 h dX11_allOften_23 (by decide) ?_
        refine Z.loc [(0, .ref (ad 0)), (1, .long (lN (100 ^ (t + 1)))), (3, .int (nI (t + 1)))] (ll1 rfl (ll1 (vL2 (by rw [show (100 : Int64) = lN 100 from rfl, lN_mul, Nat.pow_succ])) (ll1 (vS (nI_1 t)) ll0))) ?_
        exact ih_4 (t + 1) (by omega) (by omega)
  refine Z.loc [(0, .ref (ad 0)), (1, .long (lN (100 ^ 0))), (3, .int (nI 0))] (ll1 rfl (ll1 rfl (ll1 rfl ll0))) ?_
  exact loop_4 _ 0 (Nat.zero_le _) (Nat.lt_succ_self _)
set_option maxHeartbeats 4000000 in
theorem m_enough {l : Launch} {g : Zg} {ad : Nat → Nat} {M : Zm} {st : Ms} {W : Nat → Nat} (hm : Mod g ad M st) (hw : WR st W) (hi : InvW W) (sv wv : Int32) : Cn l g yX11_enough cX11_enough 6 (some .long) 5 0 0 [.ref (ad 0), .int sv, .int wv] M (PM g ad st (some (.long (aEnough W sv wv))) (fun _ => True)) := by
  refine Cn.start [(0, .ref (ad 0)), (1, .int sv), (2, .int wv)] (by decide) (Nat.le_of_ble_eq_true rfl) rfl ?_
  intro γ el eg h hq
  subst el; subst eg
  have h4 := hi.h4
  have h0 := hi.h0
  have hw0 := hw
  have hk : keep st st := keep.rf st
  have hall := allN_511 hi
  refine z_aload_n 0 h dX11_enough_0 rfl rfl rfl ?_
  refine z_iload_n 1 h dX11_enough_1 rfl rfl ?_
  refine z_callVP h (m_isSide hm hw hi sv) kX11 (.inl (hm.at 0 (by decide))) (lw_V q2087 q2089 qs83 q148 q2090) nX11_isSide rfl rfl rfl (Nat.le_of_ble_eq_true rfl) (Nat.le_of_ble_eq_true rfl) (Nat.le_of_ble_eq_true rfl) dX11_enough_2 ?_
  refine z_ifz_eq 18 h dX11_enough_5 (by decide) (fun c_5 => ?_) (fun c_5 => ?_)
  · have _z := c_5
    refine z_ldc2 h q2194 dX11_enough_18 ?_
    refine z_lret h hq dX11_enough_21 (Nat.le_of_ble_eq_true rfl) (Nat.le_of_ble_eq_true rfl) ?_
    refine ⟨vL2 ?_, _, hm, hk, trivial⟩
    first | (simp [aEnough, c_5]; done) | (simp [aEnough, c_15]; done)
  · have _z := c_5
    obtain ⟨s, h_s, rfl⟩ := isSide_nat c_5
    refine z_iload_n 2 h dX11_enough_8 rfl rfl ?_
    refine z_i2l h dX11_enough_9 ?_
    refine z_lconst h dX11_enough_10 kl_0 ?_
    refine z_lconst h dX11_enough_11 kl_1 ?_
    refine z_callSP h (m_inI wv 0 1 0 1 rfl rfl) (lw_S q1950 q1951 q148 q1952) nX11_in rfl rfl rfl (Nat.le_of_ble_eq_true rfl) (Nat.le_of_ble_eq_true rfl) (Nat.le_of_ble_eq_true rfl) dX11_enough_12 ?_
    refine z_ifz_ne 22 h dX11_enough_15 (by decide) (fun c_15 => ?_) (fun c_15 => ?_)
    · have _z := c_15
      obtain ⟨w, h_w, rfl⟩ := bit_nat c_15
      refine z_lconst h dX11_enough_22 kl_0 ?_
      refine z_lstore_n 3 h dX11_enough_23 rfl rfl ?_
      refine z_iconst h dX11_enough_24 ki_0 ?_
      refine z_istore h dX11_enough_25 rfl ?_
      have loop_27 : ∀ (fz : Nat) (M : Zm) (s1 : Ms) (k : Nat) (hm : Mod (cg γ) ad M s1) (hk : keep st s1) (hk2 : k ≤ allN W + 1), (allN W + 1 - k) < fz → Z γ M 0 0 27 (lof [(0, .ref (ad 0)), (1, .int (nI s)), (2, .int (nI w)), (3, .long (lN (enS W s k))), (5, .int (nI k))]) [] := by
        intro fz
        induction fz with
        | zero => intro M s1 k hm hk hk2 hz; exact absurd hz (Nat.not_lt_zero _)
        | succ fz ih_27 =>
          intro M s1 k hm hk hk2 hz_27
          have hw := hk.w hw0
          refine z_iload h dX11_enough_27 rfl ?_
          refine z_aload_n 0 h dX11_enough_29 rfl rfl rfl ?_
          refine z_callVP h (m_allTrains hm hw hi) kX11 (.inl (hm.at 0 (by decide))) (lw_V q2128 q2130 qs87 q148 q2131) nX11_allTrains rfl rfl rfl (Nat.le_of_ble_eq_true rfl) (Nat.le_of_ble_eq_true rfl) (Nat.le_of_ble_eq_true rfl) dX11_enough_30 ?_
          refine z_icmp_gt 65 h dX11_enough_33 (by decide) (fun c_33 => ?_) (fun c_33 => ?_)
          · have _z := c_33
            replace c_33 := (ilt (a := allN W) (b := k) rfl rfl (allN_lt hi) (by omega)).mp c_33
            refine z_lload_n 3 h dX11_enough_65 rfl rfl ?_
            refine z_aload_n 0 h dX11_enough_66 rfl rfl rfl ?_
            refine z_callVP h (m_allOften hm hw hi) kX11 (.inl (hm.at 0 (by decide))) (lw_V q2227 q2229 qs96 q148 q2230) nX11_allOften rfl rfl rfl (Nat.le_of_ble_eq_true rfl) (Nat.le_of_ble_eq_true rfl) (Nat.le_of_ble_eq_true rfl) dX11_enough_67 ?_
            refine z_iload_n 2 h dX11_enough_70 rfl rfl ?_
            obtain rfl : k = allN W + 1 := by omega
            refine z_callSP h (m_part (enS W s (allN W + 1)) (100 ^ W 4) w (by have := enS_le hi s; have := (p100 hi).1; omega) (by have := (p100 hi).1; omega) (p100 hi).2 (by omega)) (lw_S q2232 q2233 q148 q2234) nX11_part rfl rfl rfl (Nat.le_of_ble_eq_true rfl) (Nat.le_of_ble_eq_true rfl) (Nat.le_of_ble_eq_true rfl) dX11_enough_71 ?_
            refine z_lret h hq dX11_enough_74 (Nat.le_of_ble_eq_true rfl) (Nat.le_of_ble_eq_true rfl) ?_
            refine ⟨vL2 ?_, _, hm, hk, trivial⟩
            simp [aEnough, c_5, c_15, tn_nI (show s < 2 ^ 31 by omega), tn_nI (show w < 2 ^ 31 by omega)]
          · have _z := c_33
            replace c_33 := (not_congr (ilt (a := allN W) (b := k) rfl rfl (allN_lt hi) (by omega))).mp c_33
            refine z_lload_n 3 h dX11_enough_36 rfl rfl ?_
            refine z_aload_n 0 h dX11_enough_37 rfl rfl rfl ?_
            refine z_iload_n 1 h dX11_enough_38 rfl rfl ?_
            refine z_iload h dX11_enough_39 rfl ?_
            refine z_callVP h (m_isLate hm hw hi s k (by omega) (by omega)) kX11 (.inl (hm.at 0 (by decide))) (lw_V q2155 q2157 qs91 q148 q2158) nX11_isLate rfl rfl rfl (Nat.le_of_ble_eq_true rfl) (Nat.le_of_ble_eq_true rfl) (Nat.le_of_ble_eq_true rfl) dX11_enough_41 ?_
            refine z_ifz_eq 51 h dX11_enough_44 (by decide) (fun c_44 => ?_) (fun c_44 => ?_)
            · have _z := c_44
              refine z_aload_n 0 h dX11_enough_51 rfl rfl rfl ?_
              refine z_iload h dX11_enough_52 rfl ?_
              refine z_callVP h (m_oftenOf hm hw hi k (by omega)) kX11 (.inl (hm.at 0 (by decide))) (lw_V q2223 q2225 qs95 q148 q2226) nX11_oftenOf rfl rfl rfl (Nat.le_of_ble_eq_true rfl) (Nat.le_of_ble_eq_true rfl) (Nat.le_of_ble_eq_true rfl) dX11_enough_54 ?_
              refine z_ladd h dX11_enough_57 ?_
              refine z_lstore_n 3 h dX11_enough_58 rfl rfl ?_
              refine z_iinc h dX11_enough_59 rfl rfl ki_1 ?_
              refine z_goto 27 h dX11_enough_62 (by decide) ?_
              refine Z.loc [(0, .ref (ad 0)), (1, .int (nI s)), (2, .int (nI w)), (3, .long (lN (enS W s (k + 1)))), (5, .int (nI (k + 1)))] (ll1 rfl (ll1 rfl (ll1 rfl (ll1 (vL2 (by simp only [enS, sN]; first | (rw [if_pos c_44, show (0 : Int64) = lN 0 from rfl, lN_add]; done) | (rw [if_neg (by simp [c_44]), lN_add]; done))) (ll1 (vS (nI_1 k)) ll0))))) ?_
              exact ih_27 _ _ (k + 1) hm hk (by omega) (by omega)
            · have _z := c_44
              refine z_lconst h dX11_enough_47 kl_0 ?_
              refine z_goto 57 h dX11_enough_48 (by decide) ?_
              refine z_ladd h dX11_enough_57 ?_
              refine z_lstore_n 3 h dX11_enough_58 rfl rfl ?_
              refine z_iinc h dX11_enough_59 rfl rfl ki_1 ?_
              refine z_goto 27 h dX11_enough_62 (by decide) ?_
              refine Z.loc [(0, .ref (ad 0)), (1, .int (nI s)), (2, .int (nI w)), (3, .long (lN (enS W s (k + 1)))), (5, .int (nI (k + 1)))] (ll1 rfl (ll1 rfl (ll1 rfl (ll1 (vL2 (by simp only [enS, sN]; first | (rw [if_pos c_44, show (0 : Int64) = lN 0 from rfl, lN_add]; done) | (rw [if_neg (by simp [c_44]), lN_add]; done))) (ll1 (vS (nI_1 k)) ll0))))) ?_
              exact ih_27 _ _ (k + 1) hm hk (by omega) (by omega)
      refine Z.loc [(0, .ref (ad 0)), (1, .int (nI s)), (2, .int (nI w)), (3, .long (lN (enS W s 0))), (5, .int (nI 0))] (ll1 rfl (ll1 rfl (ll1 rfl (ll1 rfl (ll1 rfl ll0))))) ?_
      exact loop_27 _ _ _ 0 hm hk (Nat.zero_le _) (Nat.lt_succ_self _)
    · have _z := c_15
      refine z_ldc2 h q2194 dX11_enough_18 ?_
      refine z_lret h hq dX11_enough_21 (Nat.le_of_ble_eq_true rfl) (Nat.le_of_ble_eq_true rfl) ?_
      refine ⟨vL2 ?_, _, hm, hk, trivial⟩
      first | (simp [aEnough, c_5]; done) | (simp [aEnough, c_15]; done)
set_option maxHeartbeats 4000000 in
theorem m_chance {l : Launch} {g : Zg} {ad : Nat → Nat} {M : Zm} {st : Ms} {W : Nat → Nat} (hm : Mod g ad M st) (hw : WR st W) (hi : InvW W) (sv wv : Int32) : Cn l g yX11_chance cX11_chance 6 (some .long) 7 0 0 [.ref (ad 0), .int sv, .int wv] M (PM g ad st (some (.long (aChance W sv wv))) (fun _ => True)) := by
  refine Cn.start [(0, .ref (ad 0)), (1, .int sv), (2, .int wv)] (by decide) (Nat.le_of_ble_eq_true rfl) rfl ?_
  intro γ el eg h hq
  subst el; subst eg
  have h4 := hi.h4
  have h0 := hi.h0
  have hw0 := hw
  have hk : keep st st := keep.rf st
  have hall := allN_511 hi
  refine z_aload_n 0 h dX11_chance_0 rfl rfl rfl ?_
  refine z_iload_n 1 h dX11_chance_1 rfl rfl ?_
  refine z_callVP h (m_isSide hm hw hi sv) kX11 (.inl (hm.at 0 (by decide))) (lw_V q2087 q2089 qs83 q148 q2090) nX11_isSide rfl rfl rfl (Nat.le_of_ble_eq_true rfl) (Nat.le_of_ble_eq_true rfl) (Nat.le_of_ble_eq_true rfl) dX11_chance_2 ?_
  refine z_ifz_eq 18 h dX11_chance_5 (by decide) (fun c_5 => ?_) (fun c_5 => ?_)
  · have _z := c_5
    refine z_ldc2 h q2194 dX11_chance_18 ?_
    refine z_lret h hq dX11_chance_21 (Nat.le_of_ble_eq_true rfl) (Nat.le_of_ble_eq_true rfl) ?_
    refine ⟨vL2 ?_, _, hm, hk, trivial⟩
    first | (simp [aChance, c_5]; done) | (simp [aChance, c_15]; done)
  · have _z := c_5
    obtain ⟨s, h_s, rfl⟩ := isSide_nat c_5
    refine z_iload_n 2 h dX11_chance_8 rfl rfl ?_
    refine z_i2l h dX11_chance_9 ?_
    refine z_lconst h dX11_chance_10 kl_0 ?_
    refine z_lconst h dX11_chance_11 kl_1 ?_
    refine z_callSP h (m_inI wv 0 1 0 1 rfl rfl) (lw_S q1950 q1951 q148 q1952) nX11_in rfl rfl rfl (Nat.le_of_ble_eq_true rfl) (Nat.le_of_ble_eq_true rfl) (Nat.le_of_ble_eq_true rfl) dX11_chance_12 ?_
    refine z_ifz_ne 22 h dX11_chance_15 (by decide) (fun c_15 => ?_) (fun c_15 => ?_)
    · have _z := c_15
      obtain ⟨w, h_w, rfl⟩ := bit_nat c_15
      refine z_lconst h dX11_chance_22 kl_0 ?_
      refine z_lstore_n 3 h dX11_chance_23 rfl rfl ?_
      refine z_iconst h dX11_chance_24 ki_0 ?_
      refine z_istore h dX11_chance_25 rfl ?_
      have loop_27 : ∀ (fz : Nat) (M : Zm) (s1 : Ms) (k : Nat) (hm : Mod (cg γ) ad M s1) (hk : keep st s1) (hk2 : k ≤ allN W + 1), (allN W + 1 - k) < fz → Z γ M 0 0 27 (lof [(0, .ref (ad 0)), (1, .int (nI s)), (2, .int (nI w)), (3, .long (lN (chS W s k))), (5, .int (nI k))]) [] := by
        intro fz
        induction fz with
        | zero => intro M s1 k hm hk hk2 hz; exact absurd hz (Nat.not_lt_zero _)
        | succ fz ih_27 =>
          intro M s1 k hm hk hk2 hz_27
          have hw := hk.w hw0
          refine z_iload h dX11_chance_27 rfl ?_
          refine z_aload_n 0 h dX11_chance_29 rfl rfl rfl ?_
          refine z_callVP h (m_allTrains hm hw hi) kX11 (.inl (hm.at 0 (by decide))) (lw_V q2128 q2130 qs87 q148 q2131) nX11_allTrains rfl rfl rfl (Nat.le_of_ble_eq_true rfl) (Nat.le_of_ble_eq_true rfl) (Nat.le_of_ble_eq_true rfl) dX11_chance_30 ?_
          refine z_icmp_gt 65 h dX11_chance_33 (by decide) (fun c_33 => ?_) (fun c_33 => ?_)
          · have _z := c_33
            replace c_33 := (ilt (a := allN W) (b := k) rfl rfl (allN_lt hi) (by omega)).mp c_33
            refine z_lload_n 3 h dX11_chance_65 rfl rfl ?_
            refine z_aload_n 0 h dX11_chance_66 rfl rfl rfl ?_
            refine z_callVP h (m_allOften hm hw hi) kX11 (.inl (hm.at 0 (by decide))) (lw_V q2227 q2229 qs96 q148 q2230) nX11_allOften rfl rfl rfl (Nat.le_of_ble_eq_true rfl) (Nat.le_of_ble_eq_true rfl) (Nat.le_of_ble_eq_true rfl) dX11_chance_67 ?_
            refine z_iload_n 2 h dX11_chance_70 rfl rfl ?_
            obtain rfl : k = allN W + 1 := by omega
            refine z_callSP h (m_part (chS W s (allN W + 1)) (100 ^ W 4) w (by have := chS_le hi s; have := (p100 hi).1; omega) (by have := (p100 hi).1; omega) (p100 hi).2 (by omega)) (lw_S q2232 q2233 q148 q2234) nX11_part rfl rfl rfl (Nat.le_of_ble_eq_true rfl) (Nat.le_of_ble_eq_true rfl) (Nat.le_of_ble_eq_true rfl) dX11_chance_71 ?_
            refine z_lret h hq dX11_chance_74 (Nat.le_of_ble_eq_true rfl) (Nat.le_of_ble_eq_true rfl) ?_
            refine ⟨vL2 ?_, _, hm, hk, trivial⟩
            simp [aChance, c_5, c_15, tn_nI (show s < 2 ^ 31 by omega), tn_nI (show w < 2 ^ 31 by omega)]
          · have _z := c_33
            replace c_33 := (not_congr (ilt (a := allN W) (b := k) rfl rfl (allN_lt hi) (by omega))).mp c_33
            refine z_lload_n 3 h dX11_chance_36 rfl rfl ?_
            refine z_aload_n 0 h dX11_chance_37 rfl rfl rfl ?_
            refine z_iload h dX11_chance_38 rfl ?_
            refine z_callV h (m_winner hm hw hi k (by omega)) kX11 (.inl (hm.at 0 (by decide))) (lw_V q2163 q2165 qs92 q148 q2166) nX11_winner rfl rfl rfl (Nat.le_of_ble_eq_true rfl) (Nat.le_of_ble_eq_true rfl) (Nat.le_of_ble_eq_true rfl) dX11_chance_40 (fun v M hv => ?_)
            obtain ⟨rfl, s1, hm, hkf, hX⟩ := hv
            replace hk := hk.tr hkf.k
            have hw := hk.w hw0
            refine z_iload_n 1 h dX11_chance_43 rfl rfl ?_
            refine z_icmp_ne 56 h dX11_chance_44 (by decide) (fun c_44 => ?_) (fun c_44 => ?_)
            · have _z := c_44
              replace c_44 := (not_congr (zeq (a := winZ W k) (b := ((s : Nat) : Int)) rfl (nz rfl) (by have := winZ_b W k; omega) (by omega))).mp c_44
              refine z_lconst h dX11_chance_56 kl_0 ?_
              refine z_ladd h dX11_chance_57 ?_
              refine z_lstore_n 3 h dX11_chance_58 rfl rfl ?_
              refine z_iinc h dX11_chance_59 rfl rfl ki_1 ?_
              refine z_goto 27 h dX11_chance_62 (by decide) ?_
              refine Z.loc [(0, .ref (ad 0)), (1, .int (nI s)), (2, .int (nI w)), (3, .long (lN (chS W s (k + 1)))), (5, .int (nI (k + 1)))] (ll1 rfl (ll1 rfl (ll1 rfl (ll1 (vL2 (by simp only [chS, sN]; first | (rw [if_pos c_44, lN_add]; done) | (rw [if_neg c_44, show (0 : Int64) = lN 0 from rfl, lN_add]; done))) (ll1 (vS (nI_1 k)) ll0))))) ?_
              exact ih_27 _ _ (k + 1) hm hk (by omega) (by omega)
            · have _z := c_44
              replace c_44 := (zeq (a := winZ W k) (b := ((s : Nat) : Int)) rfl (nz rfl) (by have := winZ_b W k; omega) (by omega)).mp c_44
              refine z_aload_n 0 h dX11_chance_47 rfl rfl rfl ?_
              refine z_iload h dX11_chance_48 rfl ?_
              refine z_callVP h (m_oftenOf hm hw hi k (by omega)) kX11 (.inl (hm.at 0 (by decide))) (lw_V q2223 q2225 qs95 q148 q2226) nX11_oftenOf rfl rfl rfl (Nat.le_of_ble_eq_true rfl) (Nat.le_of_ble_eq_true rfl) (Nat.le_of_ble_eq_true rfl) dX11_chance_50 ?_
              refine z_goto 57 h dX11_chance_53 (by decide) ?_
              refine z_ladd h dX11_chance_57 ?_
              refine z_lstore_n 3 h dX11_chance_58 rfl rfl ?_
              refine z_iinc h dX11_chance_59 rfl rfl ki_1 ?_
              refine z_goto 27 h dX11_chance_62 (by decide) ?_
              refine Z.loc [(0, .ref (ad 0)), (1, .int (nI s)), (2, .int (nI w)), (3, .long (lN (chS W s (k + 1)))), (5, .int (nI (k + 1)))] (ll1 rfl (ll1 rfl (ll1 rfl (ll1 (vL2 (by simp only [chS, sN]; first | (rw [if_pos c_44, lN_add]; done) | (rw [if_neg c_44, show (0 : Int64) = lN 0 from rfl, lN_add]; done))) (ll1 (vS (nI_1 k)) ll0))))) ?_
              exact ih_27 _ _ (k + 1) hm hk (by omega) (by omega)
      refine Z.loc [(0, .ref (ad 0)), (1, .int (nI s)), (2, .int (nI w)), (3, .long (lN (chS W s 0))), (5, .int (nI 0))] (ll1 rfl (ll1 rfl (ll1 rfl (ll1 rfl (ll1 rfl ll0))))) ?_
      exact loop_27 _ _ _ 0 hm hk (Nat.zero_le _) (Nat.lt_succ_self _)
    · have _z := c_15
      refine z_ldc2 h q2194 dX11_chance_18 ?_
      refine z_lret h hq dX11_chance_21 (Nat.le_of_ble_eq_true rfl) (Nat.le_of_ble_eq_true rfl) ?_
      refine ⟨vL2 ?_, _, hm, hk, trivial⟩
      first | (simp [aChance, c_5]; done) | (simp [aChance, c_15]; done)
set_option maxHeartbeats 4000000 in
theorem m_menSent {l : Launch} {g : Zg} {ad : Nat → Nat} {M : Zm} {st : Ms} {W : Nat → Nat} (hm : Mod g ad M st) (hw : WR st W) (hi : InvW W) (o n : Nat) (ho : o < 2 ^ 31) (hn : n < 2 ^ 31) : Cn l g yX11_menSent cX11_menSent 5 (some .int) 3 0 0 [.ref (ad 0), .int (nI o), .int (nI n)] M (PV (.int (nI (sentN W o n (W 4)))) M) := by
  refine Cn.start [(0, .ref (ad 0)), (1, .int (nI o)), (2, .int (nI n))] (by decide) (Nat.le_of_ble_eq_true rfl) rfl ?_
  intro γ el eg h hq
  subst el; subst eg
  have h4 := hi.h4
  refine z_iconst h dX11_menSent_0 ki_0 ?_
  refine z_istore_n 3 h dX11_menSent_1 rfl rfl ?_
  refine z_iconst h dX11_menSent_2 ki_0 ?_
  refine z_istore h dX11_menSent_3 rfl ?_
  have loop_5 : ∀ (fz : Nat) (t : Nat) (ht : t ≤ W 4), (W 4 - t) < fz → Z γ M 0 0 5 (lof [(0, .ref (ad 0)), (1, .int (nI o)), (2, .int (nI n)), (3, .int (nI (sentN W o n t))), (4, .int (nI t))]) [] := by
    intro fz
    induction fz with
    | zero => intro t ht hz; exact absurd hz (Nat.not_lt_zero _)
    | succ fz ih_5 =>
      intro t ht hz_5
      refine z_iload h dX11_menSent_5 rfl ?_
      refine z_aload_n 0 h dX11_menSent_7 rfl rfl rfl ?_
      refine z_get h kX11 (.inl (hm.at 0 (by decide))) 1 rfl q1848 rfl dX11_menSent_8 ?_
      refine z_iconst h dX11_menSent_11 ki_4 ?_
      refine zm_w (4) h hm hw rfl (by omega) dX11_menSent_12 ?_
      refine z_icmp_ge 62 h dX11_menSent_13 (by decide) (fun c_13 => ?_) (fun c_13 => ?_)
      · have _z := c_13
        replace c_13 := (ile (a := W (4)) (b := t) rfl rfl (hi.lt _ (by omega)) (by omega)).mp c_13
        refine z_iload_n 3 h dX11_menSent_62 rfl rfl ?_
        refine z_iret h hq dX11_menSent_63 (Nat.le_of_ble_eq_true rfl) (Nat.le_of_ble_eq_true rfl) ?_
        obtain rfl : t = W 4 := by omega
        exact ⟨rfl, rfl⟩
      · have _z := c_13
        replace c_13 := (not_congr (ile (a := W (4)) (b := t) rfl rfl (hi.lt _ (by omega)) (by omega))).mp c_13
        refine z_iload_n 3 h dX11_menSent_16 rfl rfl ?_
        refine z_iload_n 1 h dX11_menSent_17 rfl rfl ?_
        refine z_iload h dX11_menSent_18 rfl ?_
        refine z_callSP h (m_bit o t ho (by omega)) (lw_S q2140 q2141 q148 q2142) nX11_bit rfl rfl rfl (Nat.le_of_ble_eq_true rfl) (Nat.le_of_ble_eq_true rfl) (Nat.le_of_ble_eq_true rfl) dX11_menSent_20 ?_
        refine z_iconst h dX11_menSent_23 ki_1 ?_
        refine z_icmp_ne 53 h dX11_menSent_24 (by decide) (fun c_24 => ?_) (fun c_24 => ?_)
        · have _z := c_24
          replace c_24 := (not_congr (ieq (a := bN o t) (b := 1) rfl rfl (by have := bN_le o t; omega) (by decide))).mp c_24
          refine z_iconst h dX11_menSent_53 ki_0 ?_
          refine z_iadd h dX11_menSent_54 ?_
          refine z_istore_n 3 h dX11_menSent_55 rfl rfl ?_
          refine z_iinc h dX11_menSent_56 rfl rfl ki_1 ?_
          refine z_goto 5 h dX11_menSent_59 (by decide) ?_
          refine Z.loc [(0, .ref (ad 0)), (1, .int (nI o)), (2, .int (nI n)), (3, .int (nI (sentN W o n (t + 1)))), (4, .int (nI (t + 1)))] (ll1 rfl (ll1 rfl (ll1 rfl (ll1 (vS (by simp only [sentN, sN]; first | (rw [if_pos ⟨c_24, by omega⟩, nI_add]; done) | (rw [if_neg (by omega), show (0 : Int32) = nI 0 from rfl, nI_add]; done))) (ll1 (vS (nI_1 t)) ll0))))) ?_
          exact ih_5 (t + 1) (by omega) (by omega)
        · have _z := c_24
          replace c_24 := (ieq (a := bN o t) (b := 1) rfl rfl (by have := bN_le o t; omega) (by decide)).mp c_24
          refine z_aload_n 0 h dX11_menSent_27 rfl rfl rfl ?_
          refine z_iload h dX11_menSent_28 rfl ?_
          refine z_iload_n 2 h dX11_menSent_30 rfl rfl ?_
          refine z_callVP h (m_comesAt hm hw hi t n (by omega) hn) kX11 (.inl (hm.at 0 (by decide))) (lw_V q2136 q2138 qs89 q148 q2139) nX11_comesAt rfl rfl rfl (Nat.le_of_ble_eq_true rfl) (Nat.le_of_ble_eq_true rfl) (Nat.le_of_ble_eq_true rfl) dX11_menSent_31 ?_
          refine z_aload_n 0 h dX11_menSent_34 rfl rfl rfl ?_
          refine z_get h kX11 (.inl (hm.at 0 (by decide))) 1 rfl q1848 rfl dX11_menSent_35 ?_
          refine z_iconst h dX11_menSent_38 ki_1 ?_
          refine zm_w (1) h hm hw rfl (by omega) dX11_menSent_39 ?_
          refine z_icmp_gt 53 h dX11_menSent_40 (by decide) (fun c_40 => ?_) (fun c_40 => ?_)
          · have _z := c_40
            replace c_40 := (ilt (a := W (1)) (b := comesN W n t) rfl rfl (hi.lt _ (by omega)) (by have := comesN_le hi n t (by omega); omega)).mp c_40
            refine z_iconst h dX11_menSent_53 ki_0 ?_
            refine z_iadd h dX11_menSent_54 ?_
            refine z_istore_n 3 h dX11_menSent_55 rfl rfl ?_
            refine z_iinc h dX11_menSent_56 rfl rfl ki_1 ?_
            refine z_goto 5 h dX11_menSent_59 (by decide) ?_
            refine Z.loc [(0, .ref (ad 0)), (1, .int (nI o)), (2, .int (nI n)), (3, .int (nI (sentN W o n (t + 1)))), (4, .int (nI (t + 1)))] (ll1 rfl (ll1 rfl (ll1 rfl (ll1 (vS (by simp only [sentN, sN]; first | (rw [if_pos ⟨c_24, by omega⟩, nI_add]; done) | (rw [if_neg (by omega), show (0 : Int32) = nI 0 from rfl, nI_add]; done))) (ll1 (vS (nI_1 t)) ll0))))) ?_
            exact ih_5 (t + 1) (by omega) (by omega)
          · have _z := c_40
            replace c_40 := (not_congr (ilt (a := W (1)) (b := comesN W n t) rfl rfl (hi.lt _ (by omega)) (by have := comesN_le hi n t (by omega); omega))).mp c_40
            refine z_aload_n 0 h dX11_menSent_43 rfl rfl rfl ?_
            refine z_iload h dX11_menSent_44 rfl ?_
            refine z_iconst h dX11_menSent_46 ki_1 ?_
            refine z_callVP h (m_of hm hw hi t 1 (by omega)) kX11 (.inl (hm.at 0 (by decide))) (lw_V q2079 q2081 qs82 q148 q2082) nX11_of rfl rfl rfl (Nat.le_of_ble_eq_true rfl) (Nat.le_of_ble_eq_true rfl) (Nat.le_of_ble_eq_true rfl) dX11_menSent_47 ?_
            refine z_goto 54 h dX11_menSent_50 (by decide) ?_
            refine z_iadd h dX11_menSent_54 ?_
            refine z_istore_n 3 h dX11_menSent_55 rfl rfl ?_
            refine z_iinc h dX11_menSent_56 rfl rfl ki_1 ?_
            refine z_goto 5 h dX11_menSent_59 (by decide) ?_
            refine Z.loc [(0, .ref (ad 0)), (1, .int (nI o)), (2, .int (nI n)), (3, .int (nI (sentN W o n (t + 1)))), (4, .int (nI (t + 1)))] (ll1 rfl (ll1 rfl (ll1 rfl (ll1 (vS (by simp only [sentN, sN]; first | (rw [if_pos ⟨c_24, by omega⟩, nI_add]; done) | (rw [if_neg (by omega), show (0 : Int32) = nI 0 from rfl, nI_add]; done))) (ll1 (vS (nI_1 t)) ll0))))) ?_
            exact ih_5 (t + 1) (by omega) (by omega)
  refine Z.loc [(0, .ref (ad 0)), (1, .int (nI o)), (2, .int (nI n)), (3, .int (nI (sentN W o n 0))), (4, .int (nI 0))] (ll1 rfl (ll1 rfl (ll1 rfl (ll1 rfl (ll1 rfl ll0))))) ?_
  exact loop_5 _ 0 (Nat.zero_le _) (Nat.lt_succ_self _)
set_option maxHeartbeats 4000000 in
theorem m_isSurely {l : Launch} {g : Zg} {ad : Nat → Nat} {M : Zm} {st : Ms} {W : Nat → Nat} (hm : Mod g ad M st) (hw : WR st W) (hi : InvW W) (s k : Nat) (hs : s ≤ 1) (hk : k < 2 ^ 31) : Cn l g yX11_isSurely cX11_isSurely 3 (some .boolean) 4 0 0 [.ref (ad 0), .int (nI s), .int (nI k)] M (PV (.int (z2i (sureB W s k))) M) := by
  refine Cn.start [(0, .ref (ad 0)), (1, .int (nI s)), (2, .int (nI k))] (by decide) (Nat.le_of_ble_eq_true rfl) rfl ?_
  intro γ el eg h hq
  subst el; subst eg
  refine z_aload_n 0 h dX11_isSurely_0 rfl rfl rfl ?_
  refine z_iload_n 2 h dX11_isSurely_1 rfl rfl ?_
  refine z_aload_n 0 h dX11_isSurely_2 rfl rfl rfl ?_
  refine z_callVP h (m_allTrains hm hw hi) kX11 (.inl (hm.at 0 (by decide))) (lw_V q2128 q2130 qs87 q148 q2131) nX11_allTrains rfl rfl rfl (Nat.le_of_ble_eq_true rfl) (Nat.le_of_ble_eq_true rfl) (Nat.le_of_ble_eq_true rfl) dX11_isSurely_3 ?_
  refine z_callVP h (m_menSent hm hw hi k (allN W) hk (allN_lt hi)) kX11 (.inl (hm.at 0 (by decide))) (lw_V q2258 q2260 qs100 q148 q2261) nX11_menSent rfl rfl rfl (Nat.le_of_ble_eq_true rfl) (Nat.le_of_ble_eq_true rfl) (Nat.le_of_ble_eq_true rfl) dX11_isSurely_6 ?_
  refine z_aload_n 0 h dX11_isSurely_9 rfl rfl rfl ?_
  refine z_get h kX11 (.inl (hm.at 0 (by decide))) 1 rfl q1848 rfl dX11_isSurely_10 ?_
  refine z_bipush h dX11_isSurely_13 kb_11 ?_
  refine z_iload_n 1 h dX11_isSurely_15 rfl rfl ?_
  refine z_iadd h dX11_isSurely_16 ?_
  refine zm_w (11 + s) h hm hw (ixa rfl rfl) (by omega) dX11_isSurely_17 ?_
  refine z_icmp_lt 25 h dX11_isSurely_18 (by decide) (fun c_18 => ?_) (fun c_18 => ?_)
  · have _z := c_18
    replace c_18 := (ilt (a := sentN W k (allN W) (W 4)) (b := W (11 + s)) rfl rfl (sentN_lt hi _ _) (hi.lt _ (by omega))).mp c_18
    refine z_iconst h dX11_isSurely_25 ki_0 ?_
    refine z_zret h hq rfl dX11_isSurely_26 (Nat.le_of_ble_eq_true rfl) (Nat.le_of_ble_eq_true rfl) ?_
    first | exact ⟨zb1 (decide_eq_true (Nat.not_lt.mp c_18)), rfl⟩ | exact ⟨zb0 (decide_eq_false (Nat.not_le.mpr c_18)), rfl⟩
  · have _z := c_18
    replace c_18 := (not_congr (ilt (a := sentN W k (allN W) (W 4)) (b := W (11 + s)) rfl rfl (sentN_lt hi _ _) (hi.lt _ (by omega)))).mp c_18
    refine z_iconst h dX11_isSurely_21 ki_1 ?_
    refine z_goto 26 h dX11_isSurely_22 (by decide) ?_
    refine z_zret h hq rfl dX11_isSurely_26 (Nat.le_of_ble_eq_true rfl) (Nat.le_of_ble_eq_true rfl) ?_
    first | exact ⟨zb1 (decide_eq_true (Nat.not_lt.mp c_18)), rfl⟩ | exact ⟨zb0 (decide_eq_false (Nat.not_le.mpr c_18)), rfl⟩
set_option maxHeartbeats 4000000 in
theorem m_take {l : Launch} {g : Zg} {ad : Nat → Nat} {M : Zm} {st : Ms} (hm : Mod g ad M st) (c : Nat → Nat) (o : Option Nat) (k p : Nat) (hz : ZM st c o) (hp : p = c k) (hk : k < 2 ^ 31) (hp2 : p < 2 ^ 31) (hb : ∀ b, o = some b → b < 2 ^ 31 ∧ c b < 2 ^ 31) : Cn l g yX11_take cX11_take 3 none 1 0 0 [.ref (ad 0), .int (nI p), .int (nI k)] M (PMT g ad st none (fun s9 => ZM s9 c (upd1 c o k))) := by
  refine Cn.start [(0, .ref (ad 0)), (1, .int (nI p)), (2, .int (nI k))] (by decide) (Nat.le_of_ble_eq_true rfl) rfl ?_
  intro γ el eg h hq
  subst el; subst eg
  have hk1 := keepT.rf st
  refine z_aload_n 0 h dX11_take_0 rfl rfl rfl ?_
  refine z_get h kX11 (.inl (hm.at 0 (by decide))) 19 rfl q1866 rfl dX11_take_1 ?_
  refine z_iconst h dX11_take_4 ki_m1 ?_
  refine z_icmp_eq 17 h dX11_take_5 (by decide) (fun c_5 => ?_) (fun c_5 => ?_)
  · have _z := c_5
    have ho : o = none := by
      cases o with
      | none => rfl
      | some b => exact absurd ((hz.2 b rfl).1.symm.trans c_5) (nI_m1 (hb b rfl).1)
    refine z_aload_n 0 h dX11_take_17 rfl rfl rfl ?_
    refine z_iload_n 1 h dX11_take_18 rfl rfl ?_
    refine zm_put 18 h hm (by decide) q1865 dX11_take_19 (fun M hm => ?_)
    replace hk1 := hk1.s hm (Or.inl rfl)
    refine z_aload_n 0 h dX11_take_22 rfl rfl rfl ?_
    refine z_iload_n 2 h dX11_take_23 rfl rfl ?_
    refine zm_put 19 h hm (by decide) q1866 dX11_take_24 (fun M hm => ?_)
    replace hk1 := hk1.s hm (Or.inr rfl)
    refine z_vret h hq dX11_take_27 (Nat.le_of_ble_eq_true rfl) (Nat.le_of_ble_eq_true rfl) ?_
    refine ⟨rfl, _, hm, hk1, ?_⟩
    have e : upd1 c o k = some k := by
      first | (rw [ho]; rfl) | (rw [ho]; exact if_pos c_13)
    rw [e]
    exact ⟨(fun q => by cases q), fun b2 q => by cases q; exact ⟨rfl, by rw [← hp]; rfl⟩⟩
  · have _z := c_5
    obtain ⟨b, ho⟩ : ∃ b, o = some b := by
      cases o with
      | none => exact absurd (hz.1 rfl) c_5
      | some b => exact ⟨b, rfl⟩
    have hb1 := hz.2 b ho
    have hb2 := hb b ho
    refine z_iload_n 1 h dX11_take_8 rfl rfl ?_
    refine z_aload_n 0 h dX11_take_9 rfl rfl rfl ?_
    refine z_get h kX11 (.inl (hm.at 0 (by decide))) 18 rfl q1865 rfl dX11_take_10 ?_
    refine z_icmp_lt 17 h dX11_take_13 (by decide) (fun c_13 => ?_) (fun c_13 => ?_)
    · have _z := c_13
      rw [hb1.2, nI_ltI hp2 hb2.2, hp] at c_13
      refine z_aload_n 0 h dX11_take_17 rfl rfl rfl ?_
      refine z_iload_n 1 h dX11_take_18 rfl rfl ?_
      refine zm_put 18 h hm (by decide) q1865 dX11_take_19 (fun M hm => ?_)
      replace hk1 := hk1.s hm (Or.inl rfl)
      refine z_aload_n 0 h dX11_take_22 rfl rfl rfl ?_
      refine z_iload_n 2 h dX11_take_23 rfl rfl ?_
      refine zm_put 19 h hm (by decide) q1866 dX11_take_24 (fun M hm => ?_)
      replace hk1 := hk1.s hm (Or.inr rfl)
      refine z_vret h hq dX11_take_27 (Nat.le_of_ble_eq_true rfl) (Nat.le_of_ble_eq_true rfl) ?_
      refine ⟨rfl, _, hm, hk1, ?_⟩
      have e : upd1 c o k = some k := by
        first | (rw [ho]; rfl) | (rw [ho]; exact if_pos c_13)
      rw [e]
      exact ⟨(fun q => by cases q), fun b2 q => by cases q; exact ⟨rfl, by rw [← hp]; rfl⟩⟩
    · have _z := c_13
      rw [hb1.2, nI_ltI hp2 hb2.2, hp] at c_13
      refine z_vret h hq dX11_take_16 (Nat.le_of_ble_eq_true rfl) (Nat.le_of_ble_eq_true rfl) ?_
      refine ⟨rfl, _, hm, hk1, ?_⟩
      rw [ho]
      simp only [upd1, if_neg c_13]
      rw [ho] at hz
      exact hz
set_option maxHeartbeats 4000000 in
theorem m_orNone {l : Launch} {g : Zg} {ad : Nat → Nat} {M : Zm} {st : Ms} (hm : Mod g ad M st) (c : Nat → Nat) (o : Option Nat) (hz : ZM st c o) (hb : ∀ b, o = some b → b < 2 ^ 31 ∧ c b < 2 ^ 31) : Cn l g yX11_orNone cX11_orNone 1 (some .int) 1 0 0 [.ref (ad 0)] M (PV (.int (orN c o)) M) := by
  refine Cn.start [(0, .ref (ad 0))] (by decide) (Nat.le_of_ble_eq_true rfl) rfl ?_
  intro γ el eg h hq
  subst el; subst eg
  refine z_aload_n 0 h dX11_orNone_0 rfl rfl rfl ?_
  refine z_get h kX11 (.inl (hm.at 0 (by decide))) 19 rfl q1866 rfl dX11_orNone_1 ?_
  refine z_iconst h dX11_orNone_4 ki_m1 ?_
  refine z_icmp_ne 12 h dX11_orNone_5 (by decide) (fun c_5 => ?_) (fun c_5 => ?_)
  · have _z := c_5
    refine z_aload_n 0 h dX11_orNone_12 rfl rfl rfl ?_
    refine z_get h kX11 (.inl (hm.at 0 (by decide))) 18 rfl q1865 rfl dX11_orNone_13 ?_
    refine z_iret h hq dX11_orNone_16 (Nat.le_of_ble_eq_true rfl) (Nat.le_of_ble_eq_true rfl) ?_
    cases o with
    | none => first | exact ⟨rfl, rfl⟩ | exact absurd (hz.1 rfl) c_5
    | some b => first | exact ⟨vS (hz.2 b rfl).2, rfl⟩ | exact absurd (Decidable.not_not.mp c_5) (by rw [(hz.2 b rfl).1]; exact nI_m1 (hb b rfl).1) | exact absurd ((hz.2 b rfl).1.symm.trans c_5) (nI_m1 (hb b rfl).1)
  · have _z := c_5
    refine z_iconst h dX11_orNone_8 ki_m1 ?_
    refine z_goto 16 h dX11_orNone_9 (by decide) ?_
    refine z_iret h hq dX11_orNone_16 (Nat.le_of_ble_eq_true rfl) (Nat.le_of_ble_eq_true rfl) ?_
    cases o with
    | none => first | exact ⟨rfl, rfl⟩ | exact absurd (hz.1 rfl) c_5
    | some b => first | exact ⟨vS (hz.2 b rfl).2, rfl⟩ | exact absurd (Decidable.not_not.mp c_5) (by rw [(hz.2 b rfl).1]; exact nI_m1 (hb b rfl).1) | exact absurd ((hz.2 b rfl).1.symm.trans c_5) (nI_m1 (hb b rfl).1)
