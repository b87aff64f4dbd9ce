/-! the reference: readings of the rules, treaties -/
set_option maxRecDepth 100000
theorem InvW.rl {W : Nat → Nat} (hi : InvW W) (k : Nat) (hk : k < W 7) : W (107 + 2 * k) ≤ 59 ∧ W (107 + 2 * k + 1) ≤ 59 := hi.2.2.2.2.2.2.2.2.2.2.2.2.2.2.2.2.1 k hk
/-- rule k forbids minute m by a reading; whether none of the first k does -/
def forbB (W : Nat → Nat) (m r k : Nat) : Bool := decide ((W (107 + 2 * k) : Int) + 1 - bN r (2 * k) ≤ (m : Int) ∧ (m : Int) ≤ (W (107 + 2 * k + 1) : Int) - 1 + bN r (2 * k + 1))
def hoB (W : Nat → Nat) (m r : Nat) : Nat → Bool
  | 0 => true
  | k + 1 => hoB W m r k && !forbB W m r k
theorem hoB_f {W : Nat → Nat} {m r k : Nat} (h : forbB W m r k = true) : ∀ n, k < n → hoB W m r n = false
  | 0, q => absurd q (Nat.not_lt_zero _)
  | n + 1, q => by
    unfold hoB
    by_cases e : k = n
    · subst e; rw [h]; simp
    · rw [hoB_f h n (by omega)]; rfl
def arN (W : Nat → Nat) : Nat := 2 ^ (2 * W 7)
theorem arN_b {W : Nat → Nat} (hi : InvW W) : 1 ≤ arN W ∧ arN W ≤ 256 := by
  have h := hi.h7
  have h1 : 2 ^ (2 * W 7) ≤ 2 ^ 8 := Nat.pow_le_pow_right (by decide) (by omega)
  have h2 := Nat.one_le_two_pow (n := 2 * W 7)
  unfold arN
  omega
def rdF (W : Nat → Nat) (m : Nat) : Nat → Nat := sN (fun r => if hoB W m r (W 7) = true then 1 else 0)
def rdN (W : Nat → Nat) (m : Nat) : Nat := rdF W m (arN W)
theorem rdF_le (W : Nat → Nat) (m k : Nat) : rdF W m k ≤ k := sN_1 (fun r => by split <;> omega) k
theorem rdN_b {W : Nat → Nat} (hi : InvW W) (m : Nat) : rdN W m ≤ 256 := by
  have h1 := rdF_le W m (arN W)
  have h2 := arN_b hi
  unfold rdN
  omega
def sgnB (W : Nat → Nat) (v : Int32) : Bool := isWarB W && inI v 0 59
theorem min_nat {v : Int32} (h : inI v 0 59 = true) : ∃ n : Nat, n ≤ 59 ∧ v = nI n := by
  obtain ⟨n, h1, h2, h3⟩ := inI_nat h
  exact ⟨n, by omega, h3⟩
theorem sgn_nat {W : Nat → Nat} {v : Int32} (h : sgnB W v = true) : ∃ n : Nat, n ≤ 59 ∧ v = nI n := by
  unfold sgnB at h
  rw [Bool.and_eq_true] at h
  exact min_nat h.2
def loopB (W : Nat → Nat) (m : Nat) : Bool := inI (nI (rdN W m)) 1 ((arN W : Int) - 1)
def aReadings (W : Nat → Nat) (v : Int32) : Int32 := if sgnB W v = true then nI (rdN W (tn v)) else -2
def aLoopholes (W : Nat → Nat) : Int64 := if isWarB W = true then lN (setN (loopB W) 60) else -2
/-- more bounds shut out more -/
theorem bN_sub {a b : Nat} (h : subN a b = true) (k : Nat) : bN a k ≤ bN b k := by
  have h1 : a &&& b = a := of_decide_eq_true h
  unfold bN
  have h2 : a.testBit k = (a.testBit k && b.testBit k) := by rw [← Nat.testBit_and, h1]
  cases ha : a.testBit k <;> cases hb : b.testBit k <;> simp_all
theorem forb_sub {W : Nat → Nat} {m a b k : Nat} (h : subN a b = true) (hf : forbB W m a k = true) : forbB W m b k = true := by
  have h1 := bN_sub h (2 * k)
  have h2 := bN_sub h (2 * k + 1)
  have h3 := of_decide_eq_true hf
  refine decide_eq_true ?_
  omega
theorem ho_sub {W : Nat → Nat} {m a b : Nat} (h : subN a b = true) : ∀ n, hoB W m b n = true → hoB W m a n = true
  | 0, _ => rfl
  | n + 1, q => by
    unfold hoB at q ⊢
    rw [Bool.and_eq_true] at q ⊢
    refine ⟨ho_sub h n q.1, ?_⟩
    cases hf : forbB W m a n
    · rfl
    · rw [forb_sub h hf] at q; exact absurd q.2 (by decide)
/-- whether no reading below k that bounds all of s holds -/
def cuB (W : Nat → Nat) (m s : Nat) : Nat → Bool
  | 0 => true
  | j + 1 => !subN s j || !hoB W m j (W 7)
def cuA (W : Nat → Nat) (m s j : Nat) : Prop := ∀ i, i < j → cuB W m s (i + 1) = true
theorem cu_end {W : Nat → Nat} {m s : Nat} (hs : s < arN W) (h : cuA W m s (arN W)) : hoB W m s (W 7) = false := by
  have this : (!subN s s || !hoB W m s (W 7)) = true := h s hs
  have e : subN s s = true := decide_eq_true (Nat.and_self s)
  rw [e] at this
  simpa using this
theorem cu_f {W : Nat → Nat} {m s j : Nat} (h : cuB W m s j = false) : hoB W m s (W 7) = true := by
  cases j with
  | zero => exact absurd (show true = false from h) (by decide)
  | succ j =>
    replace h : (!subN s j || !hoB W m j (W 7)) = false := h
    rw [Bool.or_eq_false_iff] at h
    exact ho_sub (by simpa using h.1) _ (by simpa using h.2)
/-- the least set of fewest bounds among those below n by which peace holds not -/
def clQ (b : Option Nat) (s : Nat) : Bool := match b with
  | none => true
  | some b => decide (bcN s < bcN b)
def clF (W : Nat → Nat) (m : Nat) : Nat → Option Nat
  | 0 => none
  | s + 1 => if (clQ (clF W m s) s && !hoB W m s (W 7)) = true then some s else clF W m s
theorem clF_lt {W : Nat → Nat} {m : Nat} : ∀ n b, clF W m n = some b → b < n
  | 0, b, h => by cases h
  | n + 1, b, h => by
    unfold clF at h
    split at h
    · cases h; omega
    · have := clF_lt n b h; omega
def oZ : Option Nat → Int32
  | none => -1
  | some n => nI n
def clN (W : Nat → Nat) (m : Nat) : Option Nat := clF W m (arN W)
def aClosed (W : Nat → Nat) (v : Int32) : Int32 := if sgnB W v = true then oZ (clN W (tn v)) else -2
def aClose (W : Nat → Nat) (v : Int32) : Int32 := if sgnB W v = true then oZ ((clN W (tn v)).map bcN) else -2
theorem oZ_none {o : Option Nat} (hb : ∀ b, o = some b → b < 2 ^ 31) (h : oZ o = -1) : o = none := by
  cases o with
  | none => rfl
  | some b =>
    have h2 := congrArg Int32.toInt (show nI b = -1 from h)
    rw [nI_toInt (hb b rfl)] at h2
    exact absurd h2 (by show ¬ ((b : Int) = -1); omega)
theorem oZ_some {o : Option Nat} (h : ¬ oZ o = -1) : ∃ b, o = some b := by
  cases o with
  | none => exact absurd rfl h
  | some b => exact ⟨b, rfl⟩
def sgF (W : Nat → Nat) : Nat → Nat → Int32
  | 0, _ => -1
  | f + 1, m => if rdN W m = arN W then nI m else sgF W f (m + 1)
def aSigns (W : Nat → Nat) : Int32 := if isWarB W = true then sgF W 60 0 else -2
/-- the most that one still gains behind n minutes -/
def pfF (W : Nat → Nat) (d n : Nat) : Nat → Nat
  | 0 => 0
  | k + 1 => max (pfF W d n k) (frZ W d (n + 1 + k) - frZ W d n).natAbs
def pfN (W : Nat → Nat) (d n : Nat) : Nat := pfF W d n (W 0 - n)
theorem fr_stp (W : Nat → Nat) (d m : Nat) : -1 ≤ frZ W d (m + 1) - frZ W d m ∧ frZ W d (m + 1) - frZ W d m ≤ 1 := by
  show -1 ≤ frZ W d m + dirZ W d m - frZ W d m ∧ _
  rw [show frZ W d (m + 1) = frZ W d m + dirZ W d m from rfl]
  unfold dirZ
  split
  · omega
  · split
    · omega
    · split <;> omega
theorem fr_diff (W : Nat → Nat) (d n : Nat) : ∀ k : Nat, (frZ W d (n + k) - frZ W d n).natAbs ≤ k
  | 0 => by simp
  | k + 1 => by
    have h1 := fr_diff W d n k
    have h2 := fr_stp W d (n + k)
    rw [← Nat.add_assoc]
    omega
theorem pfF_le (W : Nat → Nat) (d n : Nat) : ∀ k, pfF W d n k ≤ k
  | 0 => Nat.le_refl _
  | k + 1 => by
    have h1 := pfF_le W d n k
    have h2 := fr_diff W d n (k + 1)
    rw [show n + (k + 1) = n + 1 + k by omega] at h2
    unfold pfF
    omega
theorem pfF_mono {W : Nat → Nat} {d n : Nat} : ∀ {a b : Nat}, a ≤ b → pfF W d n a ≤ pfF W d n b := by
  intro a b h
  induction h with
  | refl => exact Nat.le_refl _
  | step _ ih => exact Nat.le_trans ih (Nat.le_max_left _ _)
theorem pfF_at {W : Nat → Nat} {d n k : Nat} : (frZ W d (n + 1 + k) - frZ W d n).natAbs ≤ pfF W d n (k + 1) := Nat.le_max_right _ _
def trB (W : Nat → Nat) (d n p : Nat) : Bool := decide (pfN W d n ≤ p)
def aTreaties (W : Nat → Nat) (v : Int32) : Int64 := if areTrB W v = true then lN (setN (fun k => trB W (tn v) (k + 1) (W 2)) (W 0)) else -2
def aPrice (W : Nat → Nat) (n v : Int32) : Int32 := if (areTrB W v && inI n 1 (W 0)) = true then nI (pfN W (tn v) (tn n)) else -2
theorem abs_iI {a : Int} (ha : -2 ^ 31 < a ∧ a < 2 ^ 31) : (if iI a < 0 then -iI a else iI a) = nI a.natAbs := by
  by_cases h : a < 0
  · rw [if_pos ((zlt rfl (show (0 : Int32) = iI 0 from rfl) (by omega) (by omega)).mpr h), zneg rfl, nz (a := a.natAbs) rfl]
    congr 1
    omega
  · rw [if_neg (fun q => h ((zlt rfl (show (0 : Int32) = iI 0 from rfl) (by omega) (by omega)).mp q)), nz (a := a.natAbs) rfl]
    congr 1
    omega
theorem toIz {x : Int32} {a : Int} (h : x = iI a) (hb : -2 ^ 31 ≤ a ∧ a < 2 ^ 31) : x.toInt64.toInt = a := toI64 (by rw [h]; exact iI_toInt hb)
theorem one_nat {v : Int32} {b : Int} (h : inI v 1 b = true) : ∃ n : Nat, 1 ≤ n ∧ (n : Int) ≤ b ∧ n < 2 ^ 31 ∧ v = nI n := by
  obtain ⟨h1, h2⟩ := inI_t h
  have h3 := Int32.toInt_lt v
  refine ⟨v.toInt.toNat, by omega, by omega, by omega, ?_⟩
  apply Int32.toInt_inj.mp
  rw [nI_toInt (by omega)]
  omega
set_option maxHeartbeats 4000000 in
theorem m_holdsBy {l : Launch} {g : Zg} {ad : Nat → Nat} {M : Zm} {st : Ms} {W : Nat → Nat} (hm : Mod g ad M st) (hw : WR st W) (hi : InvW W) (m r : Nat) (hm2 : m ≤ 59) (hr : r < 2 ^ 31) : Cn l g yX11_holdsBy cX11_holdsBy 6 (some .boolean) 2 0 0 [.ref (ad 0), .int (nI m), .int (nI r)] M (PV (.int (z2i (hoB W m r (W 7)))) M) := by
  refine Cn.start [(0, .ref (ad 0)), (1, .int (nI m)), (2, .int (nI r))] (by decide) (Nat.le_of_ble_eq_true rfl) rfl ?_
  intro γ el eg h hq
  subst el; subst eg
  have h7 := hi.h7
  refine z_iconst h dX11_holdsBy_0 ki_0 ?_
  refine z_istore_n 3 h dX11_holdsBy_1 rfl rfl ?_
  have loop_2 : ∀ (fz : Nat) (k : Nat) (hk : k ≤ W 7) (hh : hoB W m r k = true), (W 7 - k) < fz → Z γ M 0 0 2 (lof [(0, .ref (ad 0)), (1, .int (nI m)), (2, .int (nI r)), (3, .int (nI k))]) [] := by
    intro fz
    induction fz with
    | zero => intro k hk hh hz; exact absurd hz (Nat.not_lt_zero _)
    | succ fz ih_2 =>
      intro k hk hh hz_2
      refine z_iload_n 3 h dX11_holdsBy_2 rfl rfl ?_
      refine z_aload_n 0 h dX11_holdsBy_3 rfl rfl rfl ?_
      refine z_get h kX11 (.inl (hm.at 0 (by decide))) 1 rfl q1848 rfl dX11_holdsBy_4 ?_
      refine z_bipush h dX11_holdsBy_7 kb_7 ?_
      refine zm_w (7) h hm hw rfl (by omega) dX11_holdsBy_9 ?_
      refine z_icmp_ge 85 h dX11_holdsBy_10 (by decide) (fun c_10 => ?_) (fun c_10 => ?_)
      · have _z := c_10
        replace c_10 := (ile (a := W (7)) (b := k) rfl rfl (hi.lt _ (by omega)) (by omega)).mp c_10
        refine z_iconst h dX11_holdsBy_85 ki_1 ?_
        refine z_zret h hq rfl dX11_holdsBy_86 (Nat.le_of_ble_eq_true rfl) (Nat.le_of_ble_eq_true rfl) ?_
        obtain rfl : k = W 7 := by omega
        exact ⟨zb1 hh, rfl⟩
      · have _z := c_10
        replace c_10 := (not_congr (ile (a := W (7)) (b := k) rfl rfl (hi.lt _ (by omega)) (by omega))).mp c_10
        have hrl := hi.rl k (by omega)
        have hb1 := bN_le r (2 * k)
        have hb2 := bN_le r (2 * k + 1)
        refine z_aload_n 0 h dX11_holdsBy_13 rfl rfl rfl ?_
        refine z_get h kX11 (.inl (hm.at 0 (by decide))) 1 rfl q1848 rfl dX11_holdsBy_14 ?_
        refine z_bipush h dX11_holdsBy_17 kb_107 ?_
        refine z_iconst h dX11_holdsBy_19 ki_2 ?_
        refine z_iload_n 3 h dX11_holdsBy_20 rfl rfl ?_
        refine z_imul h dX11_holdsBy_21 ?_
        refine z_iadd h dX11_holdsBy_22 ?_
        refine zm_w (107 + (2 * k)) h hm hw (ixa rfl (ixm rfl rfl)) (by omega) dX11_holdsBy_23 ?_
        refine z_iconst h dX11_holdsBy_24 ki_1 ?_
        refine z_iadd h dX11_holdsBy_25 ?_
        refine z_iload_n 2 h dX11_holdsBy_26 rfl rfl ?_
        refine z_iconst h dX11_holdsBy_27 ki_2 ?_
        refine z_iload_n 3 h dX11_holdsBy_28 rfl rfl ?_
        refine z_imul h dX11_holdsBy_29 ?_
        refine Z.st (show _ = _ by rw [show (2 : Int32) * nI k = nI (2 * k) from ixm rfl rfl]) ?_
        refine z_callSP h (m_bit r (2 * k) hr (by omega)) (lw_S q2140 q2141 q148 q2142) nX11_bit rfl rfl rfl (Nat.le_of_ble_eq_true rfl) (Nat.le_of_ble_eq_true rfl) (Nat.le_of_ble_eq_true rfl) dX11_holdsBy_30 ?_
        refine z_isub h dX11_holdsBy_33 ?_
        refine z_istore h dX11_holdsBy_34 rfl ?_
        refine z_aload_n 0 h dX11_holdsBy_36 rfl rfl rfl ?_
        refine z_get h kX11 (.inl (hm.at 0 (by decide))) 1 rfl q1848 rfl dX11_holdsBy_37 ?_
        refine z_bipush h dX11_holdsBy_40 kb_107 ?_
        refine z_iconst h dX11_holdsBy_42 ki_2 ?_
        refine z_iload_n 3 h dX11_holdsBy_43 rfl rfl ?_
        refine z_imul h dX11_holdsBy_44 ?_
        refine z_iadd h dX11_holdsBy_45 ?_
        refine z_iconst h dX11_holdsBy_46 ki_1 ?_
        refine z_iadd h dX11_holdsBy_47 ?_
        refine zm_w ((107 + (2 * k)) + 1) h hm hw (ixa (ixa rfl (ixm rfl rfl)) rfl) (by omega) dX11_holdsBy_48 ?_
        refine z_iconst h dX11_holdsBy_49 ki_1 ?_
        refine z_isub h dX11_holdsBy_50 ?_
        refine z_iload_n 2 h dX11_holdsBy_51 rfl rfl ?_
        refine z_iconst h dX11_holdsBy_52 ki_2 ?_
        refine z_iload_n 3 h dX11_holdsBy_53 rfl rfl ?_
        refine z_imul h dX11_holdsBy_54 ?_
        refine z_iconst h dX11_holdsBy_55 ki_1 ?_
        refine z_iadd h dX11_holdsBy_56 ?_
        refine Z.st (show _ = _ by rw [show (2 : Int32) * nI k + 1 = nI (2 * k + 1) from ixa (ixm rfl rfl) rfl]) ?_
        refine z_callSP h (m_bit r (2 * k + 1) hr (by omega)) (lw_S q2140 q2141 q148 q2142) nX11_bit rfl rfl rfl (Nat.le_of_ble_eq_true rfl) (Nat.le_of_ble_eq_true rfl) (Nat.le_of_ble_eq_true rfl) dX11_holdsBy_57 ?_
        refine z_iadd h dX11_holdsBy_60 ?_
        refine z_istore h dX11_holdsBy_61 rfl ?_
        refine z_iload_n 1 h dX11_holdsBy_63 rfl rfl ?_
        refine z_i2l h dX11_holdsBy_64 ?_
        refine z_iload h dX11_holdsBy_65 rfl ?_
        refine z_i2l h dX11_holdsBy_67 ?_
        refine z_iload h dX11_holdsBy_68 rfl ?_
        refine z_i2l h dX11_holdsBy_70 ?_
        refine z_callSP h (m_inI (nI m) _ _ ((W (107 + 2 * k) : Int) + 1 - bN r (2 * k)) ((W (107 + 2 * k + 1) : Int) - 1 + bN r (2 * k + 1)) (toIz (zsub (zadd (nz rfl) (nz (a := 1) rfl)) (nz rfl)) (by omega)) (toIz (zadd (zsub (nz rfl) (nz (a := 1) rfl)) (nz rfl)) (by omega))) (lw_S q1950 q1951 q148 q1952) nX11_in rfl rfl rfl (Nat.le_of_ble_eq_true rfl) (Nat.le_of_ble_eq_true rfl) (Nat.le_of_ble_eq_true rfl) dX11_holdsBy_71 ?_
        refine z_ifz_eq 79 h dX11_holdsBy_74 (by decide) (fun c_74 => ?_) (fun c_74 => ?_)
        · have _z := c_74
          have hfo : forbB W m r k = false := by rw [inI_nI (by omega)] at c_74; exact c_74
          refine z_iinc h dX11_holdsBy_79 rfl rfl ki_1 ?_
          refine z_goto 2 h dX11_holdsBy_82 (by decide) ?_
          refine Z.loc [(0, .ref (ad 0)), (1, .int (nI m)), (2, .int (nI r)), (3, .int (nI (k + 1)))] (ll1 rfl (ll1 rfl (ll1 rfl (ll1 (vS (nI_1 k)) ll0)))) ?_
          exact ih_2 (k + 1) (by omega) (by simp [hoB, hh, hfo]) (by omega)
        · have _z := c_74
          have hfo : forbB W m r k = true := by rw [inI_nI (by omega)] at c_74; exact c_74
          refine z_iconst h dX11_holdsBy_77 ki_0 ?_
          exact z_zret h hq rfl dX11_holdsBy_78 (Nat.le_of_ble_eq_true rfl) (Nat.le_of_ble_eq_true rfl) (⟨zb0 (hoB_f hfo _ (by omega)), rfl⟩)
  refine Z.loc [(0, .ref (ad 0)), (1, .int (nI m)), (2, .int (nI r)), (3, .int (nI 0))] (ll1 rfl (ll1 rfl (ll1 rfl (ll1 rfl ll0)))) ?_
  exact loop_2 _ 0 (Nat.zero_le _) rfl (Nat.lt_succ_self _)
set_option maxHeartbeats 4000000 in
theorem m_allReadings {l : Launch} {g : Zg} {ad : Nat → Nat} {M : Zm} {st : Ms} {W : Nat → Nat} (hm : Mod g ad M st) (hw : WR st W) (hi : InvW W)  : Cn l g yX11_allReadings cX11_allReadings 1 (some .int) 1 0 0 [.ref (ad 0)] M (PV (.int (nI (arN W))) M) := by
  refine Cn.start [(0, .ref (ad 0))] (by decide) (Nat.le_of_ble_eq_true rfl) rfl ?_
  intro γ el eg h hq
  subst el; subst eg
  have h7 := hi.h7
  refine z_iconst h dX11_allReadings_0 ki_1 ?_
  refine z_iconst h dX11_allReadings_1 ki_2 ?_
  refine z_aload_n 0 h dX11_allReadings_2 rfl rfl rfl ?_
  refine z_get h kX11 (.inl (hm.at 0 (by decide))) 1 rfl q1848 rfl dX11_allReadings_3 ?_
  refine z_bipush h dX11_allReadings_6 kb_7 ?_
  refine zm_w (7) h hm hw rfl (by omega) dX11_allReadings_8 ?_
  refine z_imul h dX11_allReadings_9 ?_
  refine Z.st (show _ = _ by rw [show (2 : Int32) * nI (W 7) = nI (2 * W 7) from ixm rfl rfl]) ?_
  refine z_ishl h dX11_allReadings_10 ?_
  exact z_iret h hq dX11_allReadings_11 (Nat.le_of_ble_eq_true rfl) (Nat.le_of_ble_eq_true rfl) (⟨vS (shl_N _ (by omega)), rfl⟩)
set_option maxHeartbeats 4000000 in
theorem m_readingsOf {l : Launch} {g : Zg} {ad : Nat → Nat} {M : Zm} {st : Ms} {W : Nat → Nat} (hm : Mod g ad M st) (hw : WR st W) (hi : InvW W) (m : Nat) (hm2 : m ≤ 59) : Cn l g yX11_readingsOf cX11_readingsOf 4 (some .int) 3 0 0 [.ref (ad 0), .int (nI m)] M (PV (.int (nI (rdN W m))) M) := by
  refine Cn.start [(0, .ref (ad 0)), (1, .int (nI m))] (by decide) (Nat.le_of_ble_eq_true rfl) rfl ?_
  intro γ el eg h hq
  subst el; subst eg
  obtain ⟨ha1, ha2⟩ := arN_b hi
  refine z_iconst h dX11_readingsOf_0 ki_0 ?_
  refine z_istore_n 2 h dX11_readingsOf_1 rfl rfl ?_
  refine z_iconst h dX11_readingsOf_2 ki_0 ?_
  refine z_istore_n 3 h dX11_readingsOf_3 rfl rfl ?_
  have loop_4 : ∀ (fz : Nat) (k : Nat) (hk : k ≤ arN W), (arN W - k) < fz → Z γ M 0 0 4 (lof [(0, .ref (ad 0)), (1, .int (nI m)), (2, .int (nI (rdF W m k))), (3, .int (nI k))]) [] := by
    intro fz
    induction fz with
    | zero => intro k hk hz; exact absurd hz (Nat.not_lt_zero _)
    | succ fz ih_4 =>
      intro k hk hz_4
      refine z_iload_n 3 h dX11_readingsOf_4 rfl rfl ?_
      refine z_aload_n 0 h dX11_readingsOf_5 rfl rfl rfl ?_
      refine z_callVP h (m_allReadings hm hw hi) kX11 (.inl (hm.at 0 (by decide))) (lw_V q2404 q2406 qs117 q148 q2407) nX11_allReadings rfl rfl rfl (Nat.le_of_ble_eq_true rfl) (Nat.le_of_ble_eq_true rfl) (Nat.le_of_ble_eq_true rfl) dX11_readingsOf_6 ?_
      refine z_icmp_ge 35 h dX11_readingsOf_9 (by decide) (fun c_9 => ?_) (fun c_9 => ?_)
      · have _z := c_9
        replace c_9 := (ile (a := arN W) (b := k) rfl rfl (by omega) (by omega)).mp c_9
        refine z_iload_n 2 h dX11_readingsOf_35 rfl rfl ?_
        refine z_iret h hq dX11_readingsOf_36 (Nat.le_of_ble_eq_true rfl) (Nat.le_of_ble_eq_true rfl) ?_
        obtain rfl : k = arN W := by omega
        exact ⟨rfl, rfl⟩
      · have _z := c_9
        replace c_9 := (not_congr (ile (a := arN W) (b := k) rfl rfl (by omega) (by omega))).mp c_9
        refine z_iload_n 2 h dX11_readingsOf_12 rfl rfl ?_
        refine z_aload_n 0 h dX11_readingsOf_13 rfl rfl rfl ?_
        refine z_iload_n 1 h dX11_readingsOf_14 rfl rfl ?_
        refine z_iload_n 3 h dX11_readingsOf_15 rfl rfl ?_
        refine z_callVP h (m_holdsBy hm hw hi m k (by omega) (by omega)) kX11 (.inl (hm.at 0 (by decide))) (lw_V q2408 q2410 qs118 q148 q2411) nX11_holdsBy rfl rfl rfl (Nat.le_of_ble_eq_true rfl) (Nat.le_of_ble_eq_true rfl) (Nat.le_of_ble_eq_true rfl) dX11_readingsOf_16 ?_
        refine z_ifz_eq 26 h dX11_readingsOf_19 (by decide) (fun c_19 => ?_) (fun c_19 => ?_)
        · have _z := c_19
          refine z_iconst h dX11_readingsOf_26 ki_0 ?_
          refine z_iadd h dX11_readingsOf_27 ?_
          refine z_istore_n 2 h dX11_readingsOf_28 rfl rfl ?_
          refine z_iinc h dX11_readingsOf_29 rfl rfl ki_1 ?_
          refine z_goto 4 h dX11_readingsOf_32 (by decide) ?_
          refine Z.loc [(0, .ref (ad 0)), (1, .int (nI m)), (2, .int (nI (rdF W m (k + 1)))), (3, .int (nI (k + 1)))] (ll1 rfl (ll1 rfl (ll1 (vS (by simp only [rdF, sN]; first | (rw [if_pos c_19]; exact nI_1 _) | (rw [if_neg (by simp [c_19])]; exact ixa rfl rfl))) (ll1 (vS (nI_1 k)) ll0)))) ?_
          exact ih_4 (k + 1) (by omega) (by omega)
        · have _z := c_19
          refine z_iconst h dX11_readingsOf_22 ki_1 ?_
          refine z_goto 27 h dX11_readingsOf_23 (by decide) ?_
          refine z_iadd h dX11_readingsOf_27 ?_
          refine z_istore_n 2 h dX11_readingsOf_28 rfl rfl ?_
          refine z_iinc h dX11_readingsOf_29 rfl rfl ki_1 ?_
          refine z_goto 4 h dX11_readingsOf_32 (by decide) ?_
          refine Z.loc [(0, .ref (ad 0)), (1, .int (nI m)), (2, .int (nI (rdF W m (k + 1)))), (3, .int (nI (k + 1)))] (ll1 rfl (ll1 rfl (ll1 (vS (by simp only [rdF, sN]; first | (rw [if_pos c_19]; exact nI_1 _) | (rw [if_neg (by simp [c_19])]; exact ixa rfl rfl))) (ll1 (vS (nI_1 k)) ll0)))) ?_
          exact ih_4 (k + 1) (by omega) (by omega)
  refine Z.loc [(0, .ref (ad 0)), (1, .int (nI m)), (2, .int (nI (rdF W m 0))), (3, .int (nI 0))] (ll1 rfl (ll1 rfl (ll1 rfl (ll1 rfl ll0)))) ?_
  exact loop_4 _ 0 (Nat.zero_le _) (Nat.lt_succ_self _)
set_option maxHeartbeats 4000000 in
theorem m_isSigned {l : Launch} {g : Zg} {ad : Nat → Nat} {M : Zm} {st : Ms} {W : Nat → Nat} (hm : Mod g ad M st) (hw : WR st W) (hi : InvW W) (v : Int32) : Cn l g yX11_isSigned cX11_isSigned 2 (some .boolean) 2 0 0 [.ref (ad 0), .int v] M (PV (.int (z2i (sgnB W v))) M) := by
  refine Cn.start [(0, .ref (ad 0)), (1, .int v)] (by decide) (Nat.le_of_ble_eq_true rfl) rfl ?_
  intro γ el eg h hq
  subst el; subst eg
  refine z_aload_n 0 h dX11_isSigned_0 rfl rfl rfl ?_
  refine z_callVP h (m_isWar hm hw hi) kX11 (.inl (hm.at 0 (by decide))) (lw_V q2091 q2093 qs84 q148 q2094) nX11_isWar rfl rfl rfl (Nat.le_of_ble_eq_true rfl) (Nat.le_of_ble_eq_true rfl) (Nat.le_of_ble_eq_true rfl) dX11_isSigned_1 ?_
  refine z_ifz_eq 23 h dX11_isSigned_4 (by decide) (fun c_4 => ?_) (fun c_4 => ?_)
  · have _z := c_4
    refine z_iconst h dX11_isSigned_23 ki_0 ?_
    refine z_zret h hq rfl dX11_isSigned_24 (Nat.le_of_ble_eq_true rfl) (Nat.le_of_ble_eq_true rfl) ?_
    first | (refine ⟨zb1 ?_, rfl⟩; simp [sgnB, *]; done) | (refine ⟨zb0 ?_, rfl⟩; simp [sgnB, *]; done) | (refine ⟨zb1 ?_, rfl⟩; simp [sgnB, *]; omega) | (refine ⟨zb0 ?_, rfl⟩; simp [sgnB, *]; omega)
  · have _z := c_4
    refine z_iload_n 1 h dX11_isSigned_7 rfl rfl ?_
    refine z_i2l h dX11_isSigned_8 ?_
    refine z_lconst h dX11_isSigned_9 kl_0 ?_
    refine z_ldc2 h q2399 dX11_isSigned_10 ?_
    refine z_callSP h (m_inI v 0 59 0 59 rfl rfl) (lw_S q1950 q1951 q148 q1952) nX11_in rfl rfl rfl (Nat.le_of_ble_eq_true rfl) (Nat.le_of_ble_eq_true rfl) (Nat.le_of_ble_eq_true rfl) dX11_isSigned_13 ?_
    refine z_ifz_eq 23 h dX11_isSigned_16 (by decide) (fun c_16 => ?_) (fun c_16 => ?_)
    · have _z := c_16
      refine z_iconst h dX11_isSigned_23 ki_0 ?_
      refine z_zret h hq rfl dX11_isSigned_24 (Nat.le_of_ble_eq_true rfl) (Nat.le_of_ble_eq_true rfl) ?_
      first | (refine ⟨zb1 ?_, rfl⟩; simp [sgnB, *]; done) | (refine ⟨zb0 ?_, rfl⟩; simp [sgnB, *]; done) | (refine ⟨zb1 ?_, rfl⟩; simp [sgnB, *]; omega) | (refine ⟨zb0 ?_, rfl⟩; simp [sgnB, *]; omega)
    · have _z := c_16
      refine z_iconst h dX11_isSigned_19 ki_1 ?_
      refine z_goto 24 h dX11_isSigned_20 (by decide) ?_
      refine z_zret h hq rfl dX11_isSigned_24 (Nat.le_of_ble_eq_true rfl) (Nat.le_of_ble_eq_true rfl) ?_
      first | (refine ⟨zb1 ?_, rfl⟩; simp [sgnB, *]; done) | (refine ⟨zb0 ?_, rfl⟩; simp [sgnB, *]; done) | (refine ⟨zb1 ?_, rfl⟩; simp [sgnB, *]; omega) | (refine ⟨zb0 ?_, rfl⟩; simp [sgnB, *]; omega)
set_option maxHeartbeats 4000000 in
theorem m_readings {l : Launch} {g : Zg} {ad : Nat → Nat} {M : Zm} {st : Ms} {W : Nat → Nat} (hm : Mod g ad M st) (hw : WR st W) (hi : InvW W) (v : Int32) : Cn l g yX11_readings cX11_readings 2 (some .int) 4 0 0 [.ref (ad 0), .int v] M (PV (.int (aReadings W v)) M) := by
  refine Cn.start [(0, .ref (ad 0)), (1, .int v)] (by decide) (Nat.le_of_ble_eq_true rfl) rfl ?_
  intro γ el eg h hq
  subst el; subst eg
  refine z_aload_n 0 h dX11_readings_0 rfl rfl rfl ?_
  refine z_iload_n 1 h dX11_readings_1 rfl rfl ?_
  refine z_callVP h (m_isSigned hm hw hi v) kX11 (.inl (hm.at 0 (by decide))) (lw_V q2395 q2397 qs115 q148 q2398) nX11_isSigned rfl rfl rfl (Nat.le_of_ble_eq_true rfl) (Nat.le_of_ble_eq_true rfl) (Nat.le_of_ble_eq_true rfl) dX11_readings_2 ?_
  refine z_ifz_eq 16 h dX11_readings_5 (by decide) (fun c_5 => ?_) (fun c_5 => ?_)
  · have _z := c_5
    refine z_bipush h dX11_readings_16 kb_m2 ?_
    exact z_iret h hq dX11_readings_18 (Nat.le_of_ble_eq_true rfl) (Nat.le_of_ble_eq_true rfl) (⟨vS (by first | (simp [aReadings, c_5]; done) | (simp [aReadings, c_5, tn_nI (show n < 2 ^ 31 by omega)]; done)), rfl⟩)
  · have _z := c_5
    obtain ⟨n, h_n, rfl⟩ := sgn_nat c_5
    refine z_aload_n 0 h dX11_readings_8 rfl rfl rfl ?_
    refine z_iload_n 1 h dX11_readings_9 rfl rfl ?_
    refine z_callVP h (m_readingsOf hm hw hi n (by omega)) kX11 (.inl (hm.at 0 (by decide))) (lw_V q2400 q2402 qs116 q148 q2403) nX11_readingsOf rfl rfl rfl (Nat.le_of_ble_eq_true rfl) (Nat.le_of_ble_eq_true rfl) (Nat.le_of_ble_eq_true rfl) dX11_readings_10 ?_
    refine z_goto 18 h dX11_readings_13 (by decide) ?_
    exact z_iret h hq dX11_readings_18 (Nat.le_of_ble_eq_true rfl) (Nat.le_of_ble_eq_true rfl) (⟨vS (by first | (simp [aReadings, c_5]; done) | (simp [aReadings, c_5, tn_nI (show n < 2 ^ 31 by omega)]; done)), rfl⟩)
set_option maxHeartbeats 4000000 in
theorem m_loopholes {l : Launch} {g : Zg} {ad : Nat → Nat} {M : Zm} {st : Ms} {W : Nat → Nat} (hm : Mod g ad M st) (hw : WR st W) (hi : InvW W)  : Cn l g yX11_loopholes cX11_loopholes 4 (some .long) 4 0 0 [.ref (ad 0)] M (PV (.long (aLoopholes W)) M) := by
  refine Cn.start [(0, .ref (ad 0))] (by decide) (Nat.le_of_ble_eq_true rfl) rfl ?_
  intro γ el eg h hq
  subst el; subst eg
  obtain ⟨ha1, ha2⟩ := arN_b hi
  refine z_aload_n 0 h dX11_loopholes_0 rfl rfl rfl ?_
  refine z_callVP h (m_isWar hm hw hi) kX11 (.inl (hm.at 0 (by decide))) (lw_V q2091 q2093 qs84 q148 q2094) nX11_isWar rfl rfl rfl (Nat.le_of_ble_eq_true rfl) (Nat.le_of_ble_eq_true rfl) (Nat.le_of_ble_eq_true rfl) dX11_loopholes_1 ?_
  refine z_ifz_ne 11 h dX11_loopholes_4 (by decide) (fun c_4 => ?_) (fun c_4 => ?_)
  · have _z := c_4
    refine z_lconst h dX11_loopholes_11 kl_0 ?_
    refine z_lstore_n 1 h dX11_loopholes_12 rfl rfl ?_
    refine z_iconst h dX11_loopholes_13 ki_0 ?_
    refine z_istore_n 3 h dX11_loopholes_14 rfl rfl ?_
    have loop_15 : ∀ (fz : Nat) (t : Nat) (ht : t ≤ 60), (60 - t) < fz → Z γ M 0 0 15 (lof [(0, .ref (ad 0)), (1, .long (lN (setN (loopB W) t))), (3, .int (nI t))]) [] := by
      intro fz
      induction fz with
      | zero => intro t ht hz; exact absurd hz (Nat.not_lt_zero _)
      | succ fz ih_15 =>
        intro t ht hz_15
        refine z_iload_n 3 h dX11_loopholes_15 rfl rfl ?_
        refine z_bipush h dX11_loopholes_16 kb_60 ?_
        refine z_icmp_ge 57 h dX11_loopholes_18 (by decide) (fun c_18 => ?_) (fun c_18 => ?_)
        · have _z := c_18
          replace c_18 := (ile (a := 60) (b := t) rfl rfl (by decide) (by omega)).mp c_18
          refine z_lload_n 1 h dX11_loopholes_57 rfl rfl ?_
          refine z_lret h hq dX11_loopholes_58 (Nat.le_of_ble_eq_true rfl) (Nat.le_of_ble_eq_true rfl) ?_
          obtain rfl : t = 60 := by omega
          exact ⟨vL2 (by simp [aLoopholes, c_4]), rfl⟩
        · have _z := c_18
          replace c_18 := (not_congr (ile (a := 60) (b := t) rfl rfl (by decide) (by omega))).mp c_18
          refine z_lload_n 1 h dX11_loopholes_21 rfl rfl ?_
          refine z_aload_n 0 h dX11_loopholes_22 rfl rfl rfl ?_
          refine z_iload_n 3 h dX11_loopholes_23 rfl rfl ?_
          refine z_callVP h (m_readingsOf hm hw hi t (by omega)) kX11 (.inl (hm.at 0 (by decide))) (lw_V q2400 q2402 qs116 q148 q2403) nX11_readingsOf rfl rfl rfl (Nat.le_of_ble_eq_true rfl) (Nat.le_of_ble_eq_true rfl) (Nat.le_of_ble_eq_true rfl) dX11_loopholes_24 ?_
          refine z_i2l h dX11_loopholes_27 ?_
          refine z_lconst h dX11_loopholes_28 kl_1 ?_
          refine z_aload_n 0 h dX11_loopholes_29 rfl rfl rfl ?_
          refine z_callVP h (m_allReadings hm hw hi) kX11 (.inl (hm.at 0 (by decide))) (lw_V q2404 q2406 qs117 q148 q2407) nX11_allReadings rfl rfl rfl (Nat.le_of_ble_eq_true rfl) (Nat.le_of_ble_eq_true rfl) (Nat.le_of_ble_eq_true rfl) dX11_loopholes_30 ?_
          refine z_iconst h dX11_loopholes_33 ki_1 ?_
          refine z_isub h dX11_loopholes_34 ?_
          refine z_i2l h dX11_loopholes_35 ?_
          refine z_callSP h (m_inI (nI (rdN W t)) 1 _ 1 ((arN W : Int) - 1) rfl (toIz (zsub (nz rfl) (nz (a := 1) rfl)) (by omega))) (lw_S q1950 q1951 q148 q1952) nX11_in rfl rfl rfl (Nat.le_of_ble_eq_true rfl) (Nat.le_of_ble_eq_true rfl) (Nat.le_of_ble_eq_true rfl) dX11_loopholes_36 ?_
          refine z_ifz_eq 48 h dX11_loopholes_39 (by decide) (fun c_39 => ?_) (fun c_39 => ?_)
          · have _z := c_39
            refine z_lconst h dX11_loopholes_48 kl_0 ?_
            refine z_lor h dX11_loopholes_49 ?_
            refine z_lstore_n 1 h dX11_loopholes_50 rfl rfl ?_
            refine z_iinc h dX11_loopholes_51 rfl rfl ki_1 ?_
            refine z_goto 15 h dX11_loopholes_54 (by decide) ?_
            refine Z.loc [(0, .ref (ad 0)), (1, .long (lN (setN (loopB W) (t + 1)))), (3, .int (nI (t + 1)))] (ll1 rfl (ll1 (vL2 (by first | (refine setL_t (by omega) ?_; exact c_39) | (refine setL_f (by omega) ?_; exact c_39))) (ll1 (vS (nI_1 t)) ll0))) ?_
            exact ih_15 (t + 1) (by omega) (by omega)
          · have _z := c_39
            refine z_lconst h dX11_loopholes_42 kl_1 ?_
            refine z_iload_n 3 h dX11_loopholes_43 rfl rfl ?_
            refine z_lshl h dX11_loopholes_44 ?_
            refine z_goto 49 h dX11_loopholes_45 (by decide) ?_
            refine z_lor h dX11_loopholes_49 ?_
            refine z_lstore_n 1 h dX11_loopholes_50 rfl rfl ?_
            refine z_iinc h dX11_loopholes_51 rfl rfl ki_1 ?_
            refine z_goto 15 h dX11_loopholes_54 (by decide) ?_
            refine Z.loc [(0, .ref (ad 0)), (1, .long (lN (setN (loopB W) (t + 1)))), (3, .int (nI (t + 1)))] (ll1 rfl (ll1 (vL2 (by first | (refine setL_t (by omega) ?_; exact c_39) | (refine setL_f (by omega) ?_; exact c_39))) (ll1 (vS (nI_1 t)) ll0))) ?_
            exact ih_15 (t + 1) (by omega) (by omega)
    refine Z.loc [(0, .ref (ad 0)), (1, .long (lN (setN (loopB W) 0))), (3, .int (nI 0))] (ll1 rfl (ll1 rfl (ll1 rfl ll0))) ?_
    exact loop_15 _ 0 (Nat.zero_le _) (Nat.lt_succ_self _)
  · have _z := c_4
    refine z_ldc2 h q2194 dX11_loopholes_7 ?_
    exact z_lret h hq dX11_loopholes_10 (Nat.le_of_ble_eq_true rfl) (Nat.le_of_ble_eq_true rfl) (⟨vL2 (by simp [aLoopholes, c_4]), rfl⟩)
