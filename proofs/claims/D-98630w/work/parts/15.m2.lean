/-! the reference: fronts, who wins -/
set_option maxRecDepth 100000
/-- whole numbers as the machine's ints -/
def iI (z : Int) : Int32 := Int32.ofInt z
theorem iI_toInt {z : Int} (h : -2 ^ 31 ≤ z ∧ z < 2 ^ 31) : (iI z).toInt = z := by
  unfold iI
  rw [Int32.toInt_ofInt]
  simp only [Int32.size]
  exact Int.bmod_eq_of_le (by omega) (by omega)
theorem nz {x : Int32} {a : Nat} (h : x = nI a) : x = iI (a : Int) := by
  rw [h]
  unfold nI iI
  exact (Int32.ofInt_eq_ofNat).symm
theorem nzb {a : Nat} (h : a < 2 ^ 31) : -2 ^ 31 ≤ (a : Int) ∧ (a : Int) < 2 ^ 31 := by omega
theorem zadd {x z : Int32} {a b : Int} (hx : x = iI a) (hz : z = iI b) : x + z = iI (a + b) := by rw [hx, hz]; unfold iI; rw [Int32.ofInt_add]
theorem zsub {x z : Int32} {a b : Int} (hx : x = iI a) (hz : z = iI b) : x - z = iI (a - b) := by rw [hx, hz]; unfold iI; rw [Int32.ofInt_sub]
theorem zneg {x : Int32} {a : Int} (hx : x = iI a) : -x = iI (-a) := by rw [hx]; unfold iI; rw [Int32.ofInt_neg]
theorem zle {x z : Int32} {a b : Int} (hx : x = iI a) (hz : z = iI b) (ha : -2 ^ 31 ≤ a ∧ a < 2 ^ 31) (hb : -2 ^ 31 ≤ b ∧ b < 2 ^ 31) : x ≤ z ↔ a ≤ b := by
  rw [hx, hz, Int32.le_iff_toInt_le, iI_toInt ha, iI_toInt hb]
theorem zlt {x z : Int32} {a b : Int} (hx : x = iI a) (hz : z = iI b) (ha : -2 ^ 31 ≤ a ∧ a < 2 ^ 31) (hb : -2 ^ 31 ≤ b ∧ b < 2 ^ 31) : x < z ↔ a < b := by
  rw [hx, hz, Int32.lt_iff_toInt_lt, iI_toInt ha, iI_toInt hb]
theorem zeq {x z : Int32} {a b : Int} (hx : x = iI a) (hz : z = iI b) (ha : -2 ^ 31 ≤ a ∧ a < 2 ^ 31) (hb : -2 ^ 31 ≤ b ∧ b < 2 ^ 31) : x = z ↔ a = b := by
  rw [hx, hz, ← Int32.toInt_inj, iI_toInt ha, iI_toInt hb]
theorem keepA {a st : Ms} {k : Nat} {f : Nat → Int32} {g : Zg} {ad : Nat → Nat} {M : Zm} (hk : keep a st) (_ : Mod g ad M (uA st k f)) (h : k ∉ ([1, 2, 3, 4, 28, 29] : List Nat)) : keep a (uA st k f) := hk.tr (keep_uA h)
theorem keepS {a st : Ms} {k : Nat} {v : Int32} {g : Zg} {ad : Nat → Nat} {M : Zm} (hk : keep a st) (_ : Mod g ad M (uS st k v)) (h : k ∉ ([5, 12, 13] : List Nat)) : keep a (uS st k v) := hk.tr (keep_uS h)
/-- what stays when the front is laid: all but the front's array -/
def keepF (st st' : Ms) : Prop := st'.1 = st.1 ∧ (∀ k, k ≠ 15 → st'.2.1 k = st.2.1 k) ∧ st'.2.2 = st.2.2
theorem keepF.rf (st : Ms) : keepF st st := ⟨rfl, fun _ _ => rfl, rfl⟩
theorem keepF.tr {a b c : Ms} (h1 : keepF a b) (h2 : keepF b c) : keepF a c := ⟨h2.1.trans h1.1, fun k hk => (h2.2.1 k hk).trans (h1.2.1 k hk), h2.2.2.trans h1.2.2⟩
theorem keepF.k {a b : Ms} (h : keepF a b) : keep a b := ⟨fun k _ => by rw [h.1], fun k hk => h.2.1 k (fun e => by subst e; revert hk; decide), by rw [h.2.2]⟩
theorem keepFA {a st : Ms} {f : Nat → Int32} {g : Zg} {ad : Nat → Nat} {M : Zm} (hk : keepF a st) (_ : Mod g ad M (uA st 15 f)) : keepF a (uA st 15 f) := hk.tr ⟨rfl, fun k hk => by simp [uA, hk], rfl⟩
def PMF (g : Zg) (ad : Nat → Nat) (st : Ms) (v : Option Value) (X : Ms → Prop) : Option Value → Zm → Prop := fun r M' => r = v ∧ ∃ st' : Ms, Mod g ad M' st' ∧ keepF st st' ∧ X st'
/-- how the front moves in a minute; where it stands behind n minutes -/
def dirZ (W : Nat → Nat) (n m : Nat) : Int :=
  if teaB W m (W 5) = true then 0 else if menN W 1 m n (W 4) < menN W 0 m n (W 4) then 1 else if menN W 0 m n (W 4) < menN W 1 m n (W 4) then -1 else 0
def frZ (W : Nat → Nat) (n : Nat) : Nat → Int
  | 0 => 0
  | m + 1 => frZ W n m + dirZ W n m
theorem frZ_b (W : Nat → Nat) (n : Nat) : ∀ m : Nat, -(m : Int) ≤ frZ W n m ∧ frZ W n m ≤ m
  | 0 => ⟨Int.le_refl _, Int.le_refl _⟩
  | m + 1 => by
    have h := frZ_b W n m
    unfold frZ dirZ
    split
    · omega
    · split
      · omega
      · split <;> omega
theorem dirZ_sub {W : Nat → Nat} {n m : Nat} (h : teaB W m (W 5) = false) : dirZ W n m = if 0 < (menN W 0 m n (W 4) : Int) - (menN W 1 m n (W 4) : Int) then 1 else if (menN W 0 m n (W 4) : Int) - (menN W 1 m n (W 4) : Int) < 0 then -1 else 0 := by
  unfold dirZ
  rw [if_neg (by simp [h])]
  by_cases h1 : menN W 1 m n (W 4) < menN W 0 m n (W 4)
  · rw [if_pos h1, if_pos (by omega)]
  · rw [if_neg h1, if_neg (show ¬ (0 : Int) < _ by omega)]
    by_cases h2 : menN W 0 m n (W 4) < menN W 1 m n (W 4)
    · rw [if_pos h2, if_pos (by omega)]
    · rw [if_neg h2, if_neg (by omega)]
theorem frZ_b2 (W : Nat → Nat) (n m : Nat) (h : m < 2 ^ 30) : -2 ^ 31 ≤ frZ W n m ∧ frZ W n m < 2 ^ 31 := by
  have := frZ_b W n m
  omega
theorem men2_b {W : Nat → Nat} (hi : InvW W) (m n : Nat) : menN W 0 m n (W 4) ≤ 891 ∧ menN W 1 m n (W 4) ≤ 891 := by
  have h1 := menN_le hi 0 m n (W 4) (Nat.le_refl _)
  have h2 := menN_le hi 1 m n (W 4) (Nat.le_refl _)
  have h3 := hi.h4
  omega
theorem menN_lt {W : Nat → Nat} (hi : InvW W) (s m n : Nat) : menN W s m n (W 4) < 2 ^ 31 := by
  have h1 := menN_le hi s m n (W 4) (Nat.le_refl _)
  have h3 := hi.h4
  omega
theorem fr_step {F : Nat → Int} {f : Nat → Int32} {m : Nat} {v : Int32} (h : ∀ j, j ≤ m → f j = iI (F j)) (hv : v = iI (F (m + 1))) : ∀ j, j ≤ m + 1 → upd f (m + 1) v j = iI (F j) := by
  intro j hj
  by_cases e : j = m + 1
  · rw [e, hv]; simp [upd]
  · rw [← h j (by omega)]; simp [upd, e]
/-- the front's array up to k -/
def FrA (W : Nat → Nat) (n k : Nat) (s : Ms) : Prop := ∀ j, j ≤ k → s.2.1 15 j = iI (frZ W n j)
def lateB (W : Nat → Nat) (s n : Nat) : Bool := decide (menN W s (W 1) n (W 4) < W (11 + s))
def winZ (W : Nat → Nat) (n : Nat) : Int :=
  if lateB W 0 n = lateB W 1 n then (if 0 < frZ W n (W 0) then 0 else if frZ W n (W 0) < 0 then 1 else -1) else if lateB W 0 n = true then 1 else 0
def gdZ (s : Nat) (z : Int) : Int := if s = 0 then z else -z
theorem areTr_nat {W : Nat → Nat} {x : Int32} (h : areTrB W x = true) : ∃ n : Nat, n ≤ allN W ∧ n < 2 ^ 31 ∧ x = nI n := by
  unfold areTrB at h
  obtain ⟨n, h1, h2, h3⟩ := inI_nat (Bool.and_eq_true_iff.mp h).2
  exact ⟨n, by omega, h2, h3⟩
theorem isSide_nat {W : Nat → Nat} {x : Int32} (h : isSideB W x = true) : ∃ n : Nat, n ≤ 1 ∧ x = nI n := by
  unfold isSideB at h
  obtain ⟨n, h1, h2, h3⟩ := inI_nat (Bool.and_eq_true_iff.mp h).2
  exact ⟨n, by omega, h3⟩
set_option maxHeartbeats 4000000 in
theorem m_frontOf {l : Launch} {g : Zg} {ad : Nat → Nat} {M : Zm} {st : Ms} {W : Nat → Nat} (hm : Mod g ad M st) (hw : WR st W) (hi : InvW W) (k n : Nat) (hk2 : k ≤ 60) (hn : n < 2 ^ 31) : Cn l g yX11_frontOf cX11_frontOf 5 (some .int) 4 0 0 [.ref (ad 0), .int (nI k), .int (nI n)] M (PMF g ad st (some (.int (iI (frZ W n k)))) (fun s9 => FrA W n k s9)) := by
  refine Cn.start [(0, .ref (ad 0)), (1, .int (nI k)), (2, .int (nI n))] (by decide) (Nat.le_of_ble_eq_true rfl) rfl ?_
  intro γ el eg h hq
  subst el; subst eg
  have h4 := hi.h4
  have h0 := hi.h0
  have hw0 := hw
  have hk : keepF st st := keepF.rf st
  refine z_aload_n 0 h dX11_frontOf_0 rfl rfl rfl ?_
  refine z_get h kX11 (.inl (hm.at 0 (by decide))) 15 rfl q1862 rfl dX11_frontOf_1 ?_
  refine z_iconst h dX11_frontOf_4 ki_0 ?_
  refine z_iconst h dX11_frontOf_5 ki_0 ?_
  refine zm_iast 15 (0) h hm (by decide) (fun _ => rfl) rfl (by omega) (by decide) dX11_frontOf_6 (fun M hm => ?_)
  replace hk := keepFA hk hm
  have hw := hk.k.w hw0
  refine z_iconst h dX11_frontOf_7 ki_0 ?_
  refine z_istore_n 3 h dX11_frontOf_8 rfl rfl ?_
  have loop_9 : ∀ (fz : Nat) (M : Zm) (s1 : Ms) (m : Nat) (hm : Mod (cg γ) ad M s1) (hk : keepF st s1) (hf : ∀ j, j ≤ m → s1.2.1 15 j = iI (frZ W n j)) (hmk : m ≤ k), (k - m) < fz → Z γ M 0 0 9 (lof [(0, .ref (ad 0)), (1, .int (nI k)), (2, .int (nI n)), (3, .int (nI m))]) [] := by
    intro fz
    induction fz with
    | zero => intro M s1 m hm hk hf hmk hz; exact absurd hz (Nat.not_lt_zero _)
    | succ fz ih_9 =>
      intro M s1 m hm hk hf hmk hz_9
      have hw := hk.k.w hw0
      have hfm := hf m (Nat.le_refl _)
      refine z_iload_n 3 h dX11_frontOf_9 rfl rfl ?_
      refine z_iload_n 1 h dX11_frontOf_10 rfl rfl ?_
      refine z_icmp_ge 83 h dX11_frontOf_11 (by decide) (fun c_11 => ?_) (fun c_11 => ?_)
      · have _z := c_11
        replace c_11 := (ile (a := k) (b := m) rfl rfl (by omega) (by omega)).mp c_11
        refine z_aload_n 0 h dX11_frontOf_83 rfl rfl rfl ?_
        refine z_get h kX11 (.inl (hm.at 0 (by decide))) 15 rfl q1862 rfl dX11_frontOf_84 ?_
        refine z_iload_n 1 h dX11_frontOf_87 rfl rfl ?_
        refine z_ialdN (k) h (.inl (hm.at 15 (by decide))) rfl (by omega) (by decide) dX11_frontOf_88 ?_
        exact z_iret h hq dX11_frontOf_89 (Nat.le_of_ble_eq_true rfl) (Nat.le_of_ble_eq_true rfl) (⟨vS (hf k (by omega)), _, hm, hk, fun j hj => hf j (by omega)⟩)
      · have _z := c_11
        replace c_11 := (not_congr (ile (a := k) (b := m) rfl rfl (by omega) (by omega))).mp c_11
        have join_41 : ∀ (x : Int32) (a : Int) (hx : x = iI a) (hd : dirZ W n m = if 0 < a then 1 else if a < 0 then -1 else 0) (ha : -1000 ≤ a ∧ a ≤ 1000), Z γ M 0 0 41 (lof [(0, .ref (ad 0)), (1, .int (nI k)), (2, .int (nI n)), (3, .int (nI m))]) [.int x] := by
          intro x a hx hd ha
          refine z_istore h dX11_frontOf_41 rfl ?_
          refine z_aload_n 0 h dX11_frontOf_43 rfl rfl rfl ?_
          refine z_get h kX11 (.inl (hm.at 0 (by decide))) 15 rfl q1862 rfl dX11_frontOf_44 ?_
          refine z_iload_n 3 h dX11_frontOf_47 rfl rfl ?_
          refine z_iconst h dX11_frontOf_48 ki_1 ?_
          refine z_iadd h dX11_frontOf_49 ?_
          refine z_aload_n 0 h dX11_frontOf_50 rfl rfl rfl ?_
          refine z_get h kX11 (.inl (hm.at 0 (by decide))) 15 rfl q1862 rfl dX11_frontOf_51 ?_
          refine z_iload_n 3 h dX11_frontOf_54 rfl rfl ?_
          refine z_ialdN (m) h (.inl (hm.at 15 (by decide))) rfl (by omega) (by decide) dX11_frontOf_55 ?_
          refine z_iload h dX11_frontOf_56 rfl ?_
          refine z_if_le 65 h dX11_frontOf_58 (by decide) (fun c_58 => ?_) (fun c_58 => ?_)
          · have _z := c_58
            replace c_58 := (zle (a := a) (b := 0) hx rfl (by omega) (by decide)).mp c_58
            refine z_iload h dX11_frontOf_65 rfl ?_
            refine z_if_ge 74 h dX11_frontOf_67 (by decide) (fun c_67 => ?_) (fun c_67 => ?_)
            · have _z := c_67
              replace c_67 := (zle (a := 0) (b := a) rfl hx (by decide) (by omega)).mp c_67
              refine z_iconst h dX11_frontOf_74 ki_0 ?_
              refine z_iadd h dX11_frontOf_75 ?_
              refine zm_iast 15 (m + 1) h hm (by decide) (fun _ => rfl) (nI_1 m) (by omega) (by decide) dX11_frontOf_76 (fun M hm => ?_)
              refine z_iinc h dX11_frontOf_77 rfl rfl ki_1 ?_
              refine z_goto 9 h dX11_frontOf_80 (by decide) ?_
              replace hk := keepFA hk hm
              refine Z.loc [(0, .ref (ad 0)), (1, .int (nI k)), (2, .int (nI n)), (3, .int (nI (m + 1)))] (ll1 rfl (ll1 rfl (ll1 rfl (ll1 (vS (nI_1 m)) ll0)))) ?_
              exact ih_9 _ _ (m + 1) hm hk (fr_step hf (by rw [hfm]; simp only [frZ]; rw [hd]; split <;> first | exact zadd rfl rfl | (split <;> first | exact zadd rfl rfl | (exfalso; omega)) | (exfalso; omega))) (by omega) (by omega)
            · have _z := c_67
              replace c_67 := (not_congr (zle (a := 0) (b := a) rfl hx (by decide) (by omega))).mp c_67
              refine z_iconst h dX11_frontOf_70 ki_m1 ?_
              refine z_goto 75 h dX11_frontOf_71 (by decide) ?_
              refine z_iadd h dX11_frontOf_75 ?_
              refine zm_iast 15 (m + 1) h hm (by decide) (fun _ => rfl) (nI_1 m) (by omega) (by decide) dX11_frontOf_76 (fun M hm => ?_)
              refine z_iinc h dX11_frontOf_77 rfl rfl ki_1 ?_
              refine z_goto 9 h dX11_frontOf_80 (by decide) ?_
              replace hk := keepFA hk hm
              refine Z.loc [(0, .ref (ad 0)), (1, .int (nI k)), (2, .int (nI n)), (3, .int (nI (m + 1)))] (ll1 rfl (ll1 rfl (ll1 rfl (ll1 (vS (nI_1 m)) ll0)))) ?_
              exact ih_9 _ _ (m + 1) hm hk (fr_step hf (by rw [hfm]; simp only [frZ]; rw [hd]; split <;> first | exact zadd rfl rfl | (split <;> first | exact zadd rfl rfl | (exfalso; omega)) | (exfalso; omega))) (by omega) (by omega)
          · have _z := c_58
            replace c_58 := (not_congr (zle (a := a) (b := 0) hx rfl (by omega) (by decide))).mp c_58
            refine z_iconst h dX11_frontOf_61 ki_1 ?_
            refine z_goto 75 h dX11_frontOf_62 (by decide) ?_
            refine z_iadd h dX11_frontOf_75 ?_
            refine zm_iast 15 (m + 1) h hm (by decide) (fun _ => rfl) (nI_1 m) (by omega) (by decide) dX11_frontOf_76 (fun M hm => ?_)
            refine z_iinc h dX11_frontOf_77 rfl rfl ki_1 ?_
            refine z_goto 9 h dX11_frontOf_80 (by decide) ?_
            replace hk := keepFA hk hm
            refine Z.loc [(0, .ref (ad 0)), (1, .int (nI k)), (2, .int (nI n)), (3, .int (nI (m + 1)))] (ll1 rfl (ll1 rfl (ll1 rfl (ll1 (vS (nI_1 m)) ll0)))) ?_
            exact ih_9 _ _ (m + 1) hm hk (fr_step hf (by rw [hfm]; simp only [frZ]; rw [hd]; split <;> first | exact zadd rfl rfl | (split <;> first | exact zadd rfl rfl | (exfalso; omega)) | (exfalso; omega))) (by omega) (by omega)
        refine z_aload_n 0 h dX11_frontOf_14 rfl rfl rfl ?_
        refine z_iload_n 3 h dX11_frontOf_15 rfl rfl ?_
        refine z_callVP h (m_isTea hm hw hi m (by omega)) kX11 (.inl (hm.at 0 (by decide))) (lw_V q2099 q2101 qs85 q148 q2102) nX11_isTea rfl rfl rfl (Nat.le_of_ble_eq_true rfl) (Nat.le_of_ble_eq_true rfl) (Nat.le_of_ble_eq_true rfl) dX11_frontOf_16 ?_
        refine z_ifz_eq 26 h dX11_frontOf_19 (by decide) (fun c_19 => ?_) (fun c_19 => ?_)
        · have _z := c_19
          refine z_aload_n 0 h dX11_frontOf_26 rfl rfl rfl ?_
          refine z_iconst h dX11_frontOf_27 ki_0 ?_
          refine z_iload_n 3 h dX11_frontOf_28 rfl rfl ?_
          refine z_iload_n 2 h dX11_frontOf_29 rfl rfl ?_
          have b2 := men2_b hi m n
          refine z_callVP h (m_menOf hm hw hi 0 m n (by omega) (by omega) hn) kX11 (.inl (hm.at 0 (by decide))) (lw_V q2132 q2134 qs88 q148 q2135) nX11_menOf rfl rfl rfl (Nat.le_of_ble_eq_true rfl) (Nat.le_of_ble_eq_true rfl) (Nat.le_of_ble_eq_true rfl) dX11_frontOf_30 ?_
          refine z_aload_n 0 h dX11_frontOf_33 rfl rfl rfl ?_
          refine z_iconst h dX11_frontOf_34 ki_1 ?_
          refine z_iload_n 3 h dX11_frontOf_35 rfl rfl ?_
          refine z_iload_n 2 h dX11_frontOf_36 rfl rfl ?_
          refine z_callVP h (m_menOf hm hw hi 1 m n (by omega) (by omega) hn) kX11 (.inl (hm.at 0 (by decide))) (lw_V q2132 q2134 qs88 q148 q2135) nX11_menOf rfl rfl rfl (Nat.le_of_ble_eq_true rfl) (Nat.le_of_ble_eq_true rfl) (Nat.le_of_ble_eq_true rfl) dX11_frontOf_37 ?_
          refine z_isub h dX11_frontOf_40 ?_
          refine Z.loc [(0, .ref (ad 0)), (1, .int (nI k)), (2, .int (nI n)), (3, .int (nI m))] (ll1 rfl (ll1 rfl (ll1 rfl (ll1 rfl ll0)))) ?_
          exact join_41 _ ((menN W 0 m n (W 4) : Int) - (menN W 1 m n (W 4) : Int)) (zsub (nz rfl) (nz rfl)) (dirZ_sub c_19) (by omega)
        · have _z := c_19
          refine z_iconst h dX11_frontOf_22 ki_0 ?_
          refine z_goto 41 h dX11_frontOf_23 (by decide) ?_
          refine Z.loc [(0, .ref (ad 0)), (1, .int (nI k)), (2, .int (nI n)), (3, .int (nI m))] (ll1 rfl (ll1 rfl (ll1 rfl (ll1 rfl ll0)))) ?_
          exact join_41 _ 0 rfl (by simp [dirZ, c_19]) (by decide)
  refine Z.loc [(0, .ref (ad 0)), (1, .int (nI k)), (2, .int (nI n)), (3, .int (nI 0))] (ll1 rfl (ll1 rfl (ll1 rfl (ll1 rfl ll0)))) ?_
  exact loop_9 _ _ _ 0 hm hk (by intro j hj; rw [Nat.le_zero.mp hj]; rfl) (Nat.zero_le _) (Nat.lt_succ_self _)
set_option maxHeartbeats 4000000 in
theorem m_lastFront {l : Launch} {g : Zg} {ad : Nat → Nat} {M : Zm} {st : Ms} {W : Nat → Nat} (hm : Mod g ad M st) (hw : WR st W) (hi : InvW W) (n : Nat) (hn : n < 2 ^ 31) : Cn l g yX11_lastFront cX11_lastFront 2 (some .int) 5 0 0 [.ref (ad 0), .int (nI n)] M (PMF g ad st (some (.int (iI (frZ W n (W 0))))) (fun s9 => FrA W n (W 0) s9)) := by
  refine Cn.start [(0, .ref (ad 0)), (1, .int (nI n))] (by decide) (Nat.le_of_ble_eq_true rfl) rfl ?_
  intro γ el eg h hq
  subst el; subst eg
  have h4 := hi.h4
  have h0 := hi.h0
  have hw0 := hw
  have hk : keepF st st := keepF.rf st
  refine z_aload_n 0 h dX11_lastFront_0 rfl rfl rfl ?_
  refine z_aload_n 0 h dX11_lastFront_1 rfl rfl rfl ?_
  refine z_get h kX11 (.inl (hm.at 0 (by decide))) 1 rfl q1848 rfl dX11_lastFront_2 ?_
  refine z_iconst h dX11_lastFront_5 ki_0 ?_
  refine zm_w (0) h hm hw rfl (by omega) dX11_lastFront_6 ?_
  refine z_iload_n 1 h dX11_lastFront_7 rfl rfl ?_
  refine z_callV h (m_frontOf hm hw hi (W 0) n h0 hn) kX11 (.inl (hm.at 0 (by decide))) (lw_V q2147 q2149 qs90 q148 q2150) nX11_frontOf rfl rfl rfl (Nat.le_of_ble_eq_true rfl) (Nat.le_of_ble_eq_true rfl) (Nat.le_of_ble_eq_true rfl) dX11_lastFront_8 (fun v M hv => ?_)
  obtain ⟨rfl, s1, hm, hkf, hX⟩ := hv
  replace hk := hk.tr hkf
  have hw := hk.k.w hw0
  exact z_iret h hq dX11_lastFront_11 (Nat.le_of_ble_eq_true rfl) (Nat.le_of_ble_eq_true rfl) (⟨rfl, _, hm, hk, hX⟩)
set_option maxHeartbeats 4000000 in
theorem m_goodBy {l : Launch} {g : Zg} {M : Zm} (s : Nat) (z : Int) (hs : s ≤ 1) : Cn l g yX11_goodBy cX11_goodBy 2 (some .int) 1 0 0 [.int (nI s), .int (iI z)] M (PV (.int (iI (gdZ s z))) M) := by
  refine Cn.start [(0, .int (nI s)), (1, .int (iI z))] (by decide) (Nat.le_of_ble_eq_true rfl) rfl ?_
  intro γ el eg h hq
  subst el; subst eg
  refine z_iload_n 0 h dX11_goodBy_0 rfl rfl ?_
  refine z_if_ne 8 h dX11_goodBy_1 (by decide) (fun c_1 => ?_) (fun c_1 => ?_)
  · have _z := c_1
    replace c_1 := (not_congr (ieq (a := s) (b := 0) rfl rfl (by omega) (by decide))).mp c_1
    refine z_iload_n 1 h dX11_goodBy_8 rfl rfl ?_
    refine z_ineg h dX11_goodBy_9 ?_
    refine z_iret h hq dX11_goodBy_10 (Nat.le_of_ble_eq_true rfl) (Nat.le_of_ble_eq_true rfl) ?_
    first | exact ⟨by rw [gdZ, if_pos c_1], rfl⟩ | exact ⟨by rw [zneg rfl, gdZ, if_neg c_1], rfl⟩
  · have _z := c_1
    replace c_1 := (ieq (a := s) (b := 0) rfl rfl (by omega) (by decide)).mp c_1
    refine z_iload_n 1 h dX11_goodBy_4 rfl rfl ?_
    refine z_goto 10 h dX11_goodBy_5 (by decide) ?_
    refine z_iret h hq dX11_goodBy_10 (Nat.le_of_ble_eq_true rfl) (Nat.le_of_ble_eq_true rfl) ?_
    first | exact ⟨by rw [gdZ, if_pos c_1], rfl⟩ | exact ⟨by rw [zneg rfl, gdZ, if_neg c_1], rfl⟩
set_option maxHeartbeats 4000000 in
theorem m_isLate {l : Launch} {g : Zg} {ad : Nat → Nat} {M : Zm} {st : Ms} {W : Nat → Nat} (hm : Mod g ad M st) (hw : WR st W) (hi : InvW W) (s n : Nat) (hs : s ≤ 1) (hn : n < 2 ^ 31) : Cn l g yX11_isLate cX11_isLate 3 (some .boolean) 4 0 0 [.ref (ad 0), .int (nI s), .int (nI n)] M (PV (.int (z2i (lateB W s n))) M) := by
  refine Cn.start [(0, .ref (ad 0)), (1, .int (nI s)), (2, .int (nI n))] (by decide) (Nat.le_of_ble_eq_true rfl) rfl ?_
  intro γ el eg h hq
  subst el; subst eg
  have h1 := hi.h1
  refine z_aload_n 0 h dX11_isLate_0 rfl rfl rfl ?_
  refine z_iload_n 1 h dX11_isLate_1 rfl rfl ?_
  refine z_aload_n 0 h dX11_isLate_2 rfl rfl rfl ?_
  refine z_get h kX11 (.inl (hm.at 0 (by decide))) 1 rfl q1848 rfl dX11_isLate_3 ?_
  refine z_iconst h dX11_isLate_6 ki_1 ?_
  refine zm_w (1) h hm hw rfl (by omega) dX11_isLate_7 ?_
  refine z_iload_n 2 h dX11_isLate_8 rfl rfl ?_
  refine z_callVP h (m_menOf hm hw hi s (W 1) n (by omega) (by omega) hn) kX11 (.inl (hm.at 0 (by decide))) (lw_V q2132 q2134 qs88 q148 q2135) nX11_menOf rfl rfl rfl (Nat.le_of_ble_eq_true rfl) (Nat.le_of_ble_eq_true rfl) (Nat.le_of_ble_eq_true rfl) dX11_isLate_9 ?_
  refine z_aload_n 0 h dX11_isLate_12 rfl rfl rfl ?_
  refine z_get h kX11 (.inl (hm.at 0 (by decide))) 1 rfl q1848 rfl dX11_isLate_13 ?_
  refine z_bipush h dX11_isLate_16 kb_11 ?_
  refine z_iload_n 1 h dX11_isLate_18 rfl rfl ?_
  refine z_iadd h dX11_isLate_19 ?_
  refine zm_w (11 + s) h hm hw (ixa rfl rfl) (by omega) dX11_isLate_20 ?_
  refine z_icmp_ge 28 h dX11_isLate_21 (by decide) (fun c_21 => ?_) (fun c_21 => ?_)
  · have _z := c_21
    replace c_21 := (ile (a := W (11 + s)) (b := menN W s (W 1) n (W 4)) rfl rfl (hi.lt _ (by omega)) (menN_lt hi _ _ _)).mp c_21
    refine z_iconst h dX11_isLate_28 ki_0 ?_
    refine z_zret h hq rfl dX11_isLate_29 (Nat.le_of_ble_eq_true rfl) (Nat.le_of_ble_eq_true rfl) ?_
    first | exact ⟨zb1 (decide_eq_true (Nat.not_le.mp c_21)), rfl⟩ | exact ⟨zb0 (decide_eq_false (Nat.not_lt.mpr c_21)), rfl⟩
  · have _z := c_21
    replace c_21 := (not_congr (ile (a := W (11 + s)) (b := menN W s (W 1) n (W 4)) rfl rfl (hi.lt _ (by omega)) (menN_lt hi _ _ _))).mp c_21
    refine z_iconst h dX11_isLate_24 ki_1 ?_
    refine z_goto 29 h dX11_isLate_25 (by decide) ?_
    refine z_zret h hq rfl dX11_isLate_29 (Nat.le_of_ble_eq_true rfl) (Nat.le_of_ble_eq_true rfl) ?_
    first | exact ⟨zb1 (decide_eq_true (Nat.not_le.mp c_21)), rfl⟩ | exact ⟨zb0 (decide_eq_false (Nat.not_lt.mpr c_21)), rfl⟩
theorem z2i_inj {a b : Bool} (h : z2i a = z2i b) : a = b := by cases a <;> cases b <;> first | rfl | (revert h; decide)
set_option maxHeartbeats 4000000 in
theorem m_winner {l : Launch} {g : Zg} {ad : Nat → Nat} {M : Zm} {st : Ms} {W : Nat → Nat} (hm : Mod g ad M st) (hw : WR st W) (hi : InvW W) (n : Nat) (hn : n < 2 ^ 31) : Cn l g yX11_winner cX11_winner 5 (some .int) 6 0 0 [.ref (ad 0), .int (nI n)] M (PMF g ad st (some (.int (iI (winZ W n)))) (fun s9 => True)) := by
  refine Cn.start [(0, .ref (ad 0)), (1, .int (nI n))] (by decide) (Nat.le_of_ble_eq_true rfl) rfl ?_
  intro γ el eg h hq
  subst el; subst eg
  have h4 := hi.h4
  have h0 := hi.h0
  have hw0 := hw
  have hk : keepF st st := keepF.rf st
  refine z_aload_n 0 h dX11_winner_0 rfl rfl rfl ?_
  refine z_iconst h dX11_winner_1 ki_0 ?_
  refine z_iload_n 1 h dX11_winner_2 rfl rfl ?_
  refine z_callVP h (m_isLate hm hw hi 0 n (by decide) hn) kX11 (.inl (hm.at 0 (by decide))) (lw_V q2155 q2157 qs91 q148 q2158) nX11_isLate rfl rfl rfl (Nat.le_of_ble_eq_true rfl) (Nat.le_of_ble_eq_true rfl) (Nat.le_of_ble_eq_true rfl) dX11_winner_3 ?_
  refine z_istore_n 2 h dX11_winner_6 rfl rfl ?_
  refine z_aload_n 0 h dX11_winner_7 rfl rfl rfl ?_
  refine z_iconst h dX11_winner_8 ki_1 ?_
  refine z_iload_n 1 h dX11_winner_9 rfl rfl ?_
  refine z_callVP h (m_isLate hm hw hi 1 n (by decide) hn) kX11 (.inl (hm.at 0 (by decide))) (lw_V q2155 q2157 qs91 q148 q2158) nX11_isLate rfl rfl rfl (Nat.le_of_ble_eq_true rfl) (Nat.le_of_ble_eq_true rfl) (Nat.le_of_ble_eq_true rfl) dX11_winner_10 ?_
  refine z_istore_n 3 h dX11_winner_13 rfl rfl ?_
  refine z_iload_n 2 h dX11_winner_14 rfl rfl ?_
  refine z_iload_n 3 h dX11_winner_15 rfl rfl ?_
  refine z_icmp_eq 29 h dX11_winner_16 (by decide) (fun c_16 => ?_) (fun c_16 => ?_)
  · have _z := c_16
    replace c_16 := z2i_inj c_16
    refine z_aload_n 0 h dX11_winner_29 rfl rfl rfl ?_
    refine z_iload_n 1 h dX11_winner_30 rfl rfl ?_
    refine z_callV h (m_lastFront hm hw hi n hn) kX11 (.inl (hm.at 0 (by decide))) (lw_V q2167 q2169 qs93 q148 q2170) nX11_lastFront rfl rfl rfl (Nat.le_of_ble_eq_true rfl) (Nat.le_of_ble_eq_true rfl) (Nat.le_of_ble_eq_true rfl) dX11_winner_31 (fun v M hv => ?_)
    obtain ⟨rfl, s1, hm, hkf, hX⟩ := hv
    replace hk := hk.tr hkf
    have hw := hk.k.w hw0
    refine z_istore h dX11_winner_34 rfl ?_
    refine z_iload h dX11_winner_36 rfl ?_
    refine z_if_le 45 h dX11_winner_38 (by decide) (fun c_38 => ?_) (fun c_38 => ?_)
    · have _z := c_38
      replace c_38 := (zle (a := frZ W n (W 0)) (b := 0) rfl rfl (frZ_b2 W _ _ (by omega)) (by decide)).mp c_38
      refine z_iload h dX11_winner_45 rfl ?_
      refine z_if_ge 54 h dX11_winner_47 (by decide) (fun c_47 => ?_) (fun c_47 => ?_)
      · have _z := c_47
        replace c_47 := (zle (a := 0) (b := frZ W n (W 0)) rfl rfl (by decide) (frZ_b2 W _ _ (by omega))).mp c_47
        refine z_iconst h dX11_winner_54 ki_m1 ?_
        refine z_iret h hq dX11_winner_55 (Nat.le_of_ble_eq_true rfl) (Nat.le_of_ble_eq_true rfl) ?_
        refine ⟨vS ?_, _, hm, hk, trivial⟩
        first | (rw [winZ, if_neg c_16, if_pos c_20]; rfl) | (rw [winZ, if_neg c_16, if_neg (by simp [c_20])]; rfl) | (rw [winZ, if_pos c_16, if_pos (by omega)]; rfl) | (rw [winZ, if_pos c_16, if_neg (by omega), if_pos (by omega)]; rfl) | (rw [winZ, if_pos c_16, if_neg (by omega), if_neg (by omega)]; rfl)
      · have _z := c_47
        replace c_47 := (not_congr (zle (a := 0) (b := frZ W n (W 0)) rfl rfl (by decide) (frZ_b2 W _ _ (by omega)))).mp c_47
        refine z_iconst h dX11_winner_50 ki_1 ?_
        refine z_goto 55 h dX11_winner_51 (by decide) ?_
        refine z_iret h hq dX11_winner_55 (Nat.le_of_ble_eq_true rfl) (Nat.le_of_ble_eq_true rfl) ?_
        refine ⟨vS ?_, _, hm, hk, trivial⟩
        first | (rw [winZ, if_neg c_16, if_pos c_20]; rfl) | (rw [winZ, if_neg c_16, if_neg (by simp [c_20])]; rfl) | (rw [winZ, if_pos c_16, if_pos (by omega)]; rfl) | (rw [winZ, if_pos c_16, if_neg (by omega), if_pos (by omega)]; rfl) | (rw [winZ, if_pos c_16, if_neg (by omega), if_neg (by omega)]; rfl)
    · have _z := c_38
      replace c_38 := (not_congr (zle (a := frZ W n (W 0)) (b := 0) rfl rfl (frZ_b2 W _ _ (by omega)) (by decide))).mp c_38
      refine z_iconst h dX11_winner_41 ki_0 ?_
      refine z_goto 55 h dX11_winner_42 (by decide) ?_
      refine z_iret h hq dX11_winner_55 (Nat.le_of_ble_eq_true rfl) (Nat.le_of_ble_eq_true rfl) ?_
      refine ⟨vS ?_, _, hm, hk, trivial⟩
      first | (rw [winZ, if_neg c_16, if_pos c_20]; rfl) | (rw [winZ, if_neg c_16, if_neg (by simp [c_20])]; rfl) | (rw [winZ, if_pos c_16, if_pos (by omega)]; rfl) | (rw [winZ, if_pos c_16, if_neg (by omega), if_pos (by omega)]; rfl) | (rw [winZ, if_pos c_16, if_neg (by omega), if_neg (by omega)]; rfl)
  · have _z := c_16
    replace c_16 : ¬ lateB W 0 n = lateB W 1 n := fun q => c_16 (by rw [q])
    refine z_iload_n 2 h dX11_winner_19 rfl rfl ?_
    refine z_ifz_eq 27 h dX11_winner_20 (by decide) (fun c_20 => ?_) (fun c_20 => ?_)
    · have _z := c_20
      refine z_iconst h dX11_winner_27 ki_0 ?_
      refine z_iret h hq dX11_winner_28 (Nat.le_of_ble_eq_true rfl) (Nat.le_of_ble_eq_true rfl) ?_
      refine ⟨vS ?_, _, hm, hk, trivial⟩
      first | (rw [winZ, if_neg c_16, if_pos c_20]; rfl) | (rw [winZ, if_neg c_16, if_neg (by simp [c_20])]; rfl) | (rw [winZ, if_pos c_16, if_pos (by omega)]; rfl) | (rw [winZ, if_pos c_16, if_neg (by omega), if_pos (by omega)]; rfl) | (rw [winZ, if_pos c_16, if_neg (by omega), if_neg (by omega)]; rfl)
    · have _z := c_20
      refine z_iconst h dX11_winner_23 ki_1 ?_
      refine z_goto 28 h dX11_winner_24 (by decide) ?_
      refine z_iret h hq dX11_winner_28 (Nat.le_of_ble_eq_true rfl) (Nat.le_of_ble_eq_true rfl) ?_
      refine ⟨vS ?_, _, hm, hk, trivial⟩
      first | (rw [winZ, if_neg c_16, if_pos c_20]; rfl) | (rw [winZ, if_neg c_16, if_neg (by simp [c_20])]; rfl) | (rw [winZ, if_pos c_16, if_pos (by omega)]; rfl) | (rw [winZ, if_pos c_16, if_neg (by omega), if_pos (by omega)]; rfl) | (rw [winZ, if_pos c_16, if_neg (by omega), if_neg (by omega)]; rfl)
