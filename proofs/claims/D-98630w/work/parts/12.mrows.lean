/-! the reference's world as naturals; rows for it -/
set_option maxRecDepth 100000
/-- the world's numbers: minutes 0, late 1, peace 2, rain 3, trains 4, teas 5, asks 6, rules 7, spies 8, lines 9, changes 10, needs 11 and 12, trains from 13 (six each), teas from 67 (two), asks from 75 (four), rules from 107 (two), spies from 115, changes from 120 (two) -/
def InvW (W : Nat → Nat) : Prop :=
  W 0 ≤ 60 ∧ W 1 ≤ 60 ∧ W 2 ≤ 60 ∧ W 3 ≤ 100 ∧ W 4 ≤ 9 ∧ W 5 ≤ 4 ∧ W 6 ≤ 8 ∧ W 7 ≤ 4 ∧ W 8 ≤ 5 ∧ W 9 ≤ 1300 ∧ W 10 ≤ 60 ∧ W 11 ≤ 999 ∧ W 12 ≤ 999 ∧
  (∀ t, t < W 4 → W (13 + 6 * t) ≤ 1 ∧ W (13 + 6 * t + 1) ≤ 99 ∧ W (13 + 6 * t + 2) ≤ 59 ∧ W (13 + 6 * t + 3) ≤ 100 ∧ W (13 + 6 * t + 4) ≤ 30 ∧ W (13 + 6 * t + 5) ≤ 999) ∧
  (∀ k, k < W 5 → W (67 + 2 * k) ≤ 59 ∧ W (67 + 2 * k + 1) ≤ 59) ∧
  (∀ k, k < W 6 → W (75 + 4 * k) ≤ 1 ∧ W (75 + 4 * k + 1) ≤ 59 ∧ 1 ≤ W (75 + 4 * k + 2) ∧ W (75 + 4 * k + 2) ≤ 20 ∧ W (75 + 4 * k + 3) ≤ 99) ∧
  (∀ k, k < W 7 → W (107 + 2 * k) ≤ 59 ∧ W (107 + 2 * k + 1) ≤ 59) ∧
  (∀ k, k < W 8 → W (115 + k) < 2 ^ W 4) ∧
  (∀ k, k < W 10 → (W (120 + 2 * k) = 11 ∧ W (120 + 2 * k + 1) ≤ 999) ∨ (W (120 + 2 * k) = 12 ∧ W (120 + 2 * k + 1) ≤ 999) ∨ ∃ t, t < W 4 ∧ ((W (120 + 2 * k) = 13 + 6 * t + 2 ∧ W (120 + 2 * k + 1) ≤ 59) ∨ (W (120 + 2 * k) = 13 + 6 * t + 3 ∧ W (120 + 2 * k + 1) ≤ 100) ∨ (W (120 + 2 * k) = 13 + 6 * t + 5 ∧ W (120 + 2 * k + 1) ≤ 999))) ∧
  (∀ k, k < 240 → W k < 100000) ∧ (W 9 = 0 → ∀ k, k < 240 → W k = 0)
/-- the reference's world is W -/
def WR (st : Ms) (W : Nat → Nat) : Prop := ∀ k, k < 240 → st.2.1 1 k = nI (W k)
/-- what stays when a method only asks -/
def keep (st st' : Ms) : Prop := (∀ k ∈ ([5, 12, 13] : List Nat), st'.1 k = st.1 k) ∧ (∀ k ∈ ([1, 2, 3, 4, 28, 29] : List Nat), st'.2.1 k = st.2.1 k) ∧ st'.2.2 30 = st.2.2 30
theorem keep.rf (st : Ms) : keep st st := ⟨fun _ _ => rfl, fun _ _ => rfl, rfl⟩
theorem keep.tr {a b c : Ms} (h1 : keep a b) (h2 : keep b c) : keep a c := ⟨fun k hk => (h2.1 k hk).trans (h1.1 k hk), fun k hk => (h2.2.1 k hk).trans (h1.2.1 k hk), h2.2.2.trans h1.2.2⟩
theorem keep.w {st st' : Ms} {W : Nat → Nat} (h : keep st st') (hw : WR st W) : WR st' W := fun k hk => by rw [h.2.1 1 (by decide)]; exact hw k hk
theorem keep_uS {st : Ms} {k : Nat} {v : Int32} (hk : k ∉ ([5, 12, 13] : List Nat)) : keep st (uS st k v) := ⟨fun j hj => by simp [uS, show j ≠ k from fun q => hk (q ▸ hj)], fun _ _ => rfl, rfl⟩
theorem keep_uA {st : Ms} {k : Nat} {f : Nat → Int32} (hk : k ∉ ([1, 2, 3, 4, 28, 29] : List Nat)) : keep st (uA st k f) := ⟨fun _ _ => rfl, fun j hj => by simp [uA, show j ≠ k from fun q => hk (q ▸ hj)], rfl⟩
/-- an answer v, and a memory that keeps -/
def PM (g : Zg) (ad : Nat → Nat) (st : Ms) (v : Option Value) (X : Ms → Prop) : Option Value → Zm → Prop := fun r M' => r = v ∧ ∃ st' : Ms, Mod g ad M' st' ∧ keep st st' ∧ X st'
section ZW
variable {γ : Zc} {y : MethodName} {cc : ByteArray} {nL d mc ms : Nat} {M : Zm} {kc ks pc : Nat} {L : Nat → Option Value} {S : List Value} {ad : Nat → Nat} {st : Ms} {W : Nat → Nat}
theorem zm_w (j : Nat) (h : Zok γ y cc nL d mc ms) (hm : Mod (cg γ) ad M st) (hw : WR st W) {i : Int32} (hi : i = nI j) (hj : j < 240) (hdg : decode cc pc = .ok (.iaload, 1)) (kk : Z γ M kc ks (pc + 1) L (.int (nI (W j)) :: S)) : Z γ M kc ks pc L (.int i :: .ref (ad 1) :: S) := by
  refine z_ialdN j h (n := 240) (f := st.2.1 1) (.inl (hm.at 1 (by decide))) hi hj (by decide) hdg ?_
  rw [hw j hj]
  exact kk
end ZW
/-- a number between bounds -/
def inI (x : Int32) (a b : Int) : Bool := decide (a ≤ x.toInt ∧ x.toInt ≤ b)
theorem inI_t {x : Int32} {a b : Int} (h : inI x a b = true) : a ≤ x.toInt ∧ x.toInt ≤ b := of_decide_eq_true h
theorem inI_f {x : Int32} {a b : Int} (h : inI x a b = false) : ¬ (a ≤ x.toInt ∧ x.toInt ≤ b) := of_decide_eq_false h
theorem inI_nat {x : Int32} {b : Int} (h : inI x 0 b = true) : ∃ j : Nat, (j : Int) ≤ b ∧ j < 2 ^ 31 ∧ x = nI j := by
  obtain ⟨h1, h2⟩ := inI_t h
  have h3 := Int32.toInt_lt x
  refine ⟨x.toInt.toNat, by omega, by omega, ?_⟩
  apply Int32.toInt_inj.mp
  rw [nI_toInt (by omega)]
  omega
theorem inI_nI {n : Nat} {a b : Int} (hn : n < 2 ^ 31) : inI (nI n) a b = decide (a ≤ n ∧ (n : Int) ≤ b) := by unfold inI; rw [nI_toInt hn]
theorem inL_inI {x : Int32} {lo hi : Int64} {a b : Int} (ha : lo.toInt = a) (hb : hi.toInt = b) : decide (lo ≤ x.toInt64 ∧ x.toInt64 ≤ hi) = inI x a b := by
  unfold inI
  simp only [Int64.le_iff_toInt_le, Int32.toInt_toInt64, ha, hb]
theorem toI64 {x : Int32} {a : Int} (h : x.toInt = a) : x.toInt64.toInt = a := by rw [Int32.toInt_toInt64, h]
/-- sums, sets of bits, counts -/
def sN (f : Nat → Nat) : Nat → Nat
  | 0 => 0
  | n + 1 => sN f n + f n
def bN (n k : Nat) : Nat := (n.testBit k).toNat
theorem bN_le (n k : Nat) : bN n k ≤ 1 := by unfold bN; cases n.testBit k <;> decide
theorem bN_div (n k : Nat) : n / 2 ^ k % 2 = bN n k := by
  unfold bN
  rw [Nat.testBit_eq_decide_div_mod_eq]
  rcases Nat.mod_two_eq_zero_or_one (n / 2 ^ k) with h | h <;> simp [h]
/-- bit k of a number, as the machine has it -/
theorem bit_sm : ∀ k, k < 32 → ((nI k &&& 31).toBitVec.smod 32).toNat = k := by decide +kernel
theorem bit_at {n k : Nat} (hn : n < 2 ^ 31) (hk : k < 31) : (nI n >>> (nI k &&& 31)) &&& 1 = nI (bN n k) := by
  have h1 : nI n >>> (nI k &&& 31) = nI (n / 2 ^ k) := by
    have e : (nI k &&& 31) = nI k := by
      have := pk_andN (n := k) (m := 31) (by omega) 5 (by decide)
      rw [this, Nat.mod_eq_of_lt (by omega)]
    rw [e]
    refine pk_shrN hn (nI k) k ?_
    have := bit_sm k (by omega)
    rw [e] at this
    exact this
  rw [h1]
  have h2 := pk_andN (n := n / 2 ^ k) (m := 1) (by have := Nat.div_le_self n (2 ^ k); omega) 1 (by decide)
  rw [h2, ← bN_div]
