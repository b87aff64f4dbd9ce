/-! the reference: pasting, counting, the tape -/
set_option maxRecDepth 100000
theorem sl_w {a b : Nat} (ha : a ≤ 3) (hb : b ≤ 3) : nI a = nI b ↔ a = b := nI_eq (by omega) (by omega)
theorem pas_nat {a b i k n : Nat} (hi : i < 2 ^ 31) (hk : k < 2 ^ 31) (hn : n < 2 ^ 31) : pasB a b (nI i) (nI k) (nI n) = decide (i + n ≤ a ∧ k + n ≤ b) := by
  unfold pasB
  rw [nI_toInt hi, nI_toInt hk, nI_toInt hn, decide_eq_decide]
  omega
/-- the tape -/
def TpR (st : Ms) (tp : Nat) (T : Nat → Int32) : Prop := tp ≤ 1200 ∧ st.1 5 = nI tp ∧ ∀ j, j < tp → st.2.1 4 j = T j
def sel5 (a b c d e : Int32) (k : Nat) : Int32 := if k = 0 then a else if k = 1 then b else if k = 2 then c else if k = 3 then d else e
def fdB (a b c d e : Int32) (k : Nat) : Int32 := (sel5 a b c d e (k / 4) >>> (nI (24 - 8 * (k % 4)) &&& 31)).toInt8.toInt32
def fdC (tp : Nat) : Bool := decide (tp + 20 ≤ 1200)
def aFeed (tp : Nat) : Int32 := if fdC tp = true then nI (tp + 20) else -1
def nFeed (tp : Nat) : Nat := if fdC tp = true then tp + 20 else tp
def wFeed (tp : Nat) (T : Nat → Int32) (a b c d e : Int32) : Nat → Int32 := if fdC tp = true then (fun j => if j < tp then T j else fdB a b c d e (j - tp)) else T
def aEnd (tp : Nat) (v : Int32) : Int32 := if inI v 0 tp = true then v else -1
def nEnd (tp : Nat) (v : Int32) : Nat := if inI v 0 tp = true then tn v else tp
def aFault (fk fp v : Int32) : Int32 := if v = 0 then fk else if v = 1 then fp else -1
def slN (Sl : Nat → Option (Nat × Nat)) : Nat → Nat := sN (fun s => if Sl s = none then 0 else 1)
def aCount (W : Nat → Nat) (tp : Nat) (Sl : Nat → Option (Nat × Nat)) (v : Int32) : Int32 := if inI v 0 12 = true then (if tn v ≤ 9 then nI (W (tn v)) else if tn v = 10 then nI tp else if tn v = 11 then nI (W 10) else nI (slN Sl 4)) else -1
theorem slN_le (Sl : Nat → Option (Nat × Nat)) (k : Nat) : slN Sl k ≤ k := sN_1 (fun j => by split <;> omega) k
theorem TpR.kp {B : List Nat} {st st' : Ms} {tp : Nat} {T : Nat → Int32} (h : TpR st tp T) (hk : kpA B st st') (h4 : 4 ∉ B) : TpR st' tp T := ⟨h.1, (hk.1 5 (by decide)).trans h.2.1, fun j hj => by rw [hk.2 4 (by decide) h4]; exact h.2.2 j hj⟩
theorem atS {st s1 : Ms} {q : Nat} {v : Int32} (e : uS st q v = s1) : s1.1 q = v ∧ (∀ j, j ≠ q → s1.1 j = st.1 j) ∧ s1.2 = st.2 := by subst e; exact ⟨by simp [uS], fun j h => by simp [uS, h], rfl⟩
theorem sw13 {v : Int32} {P : Prop} (h : ∀ j : Nat, j ≤ 12 → v = nI j → P) (ho : inI v 0 12 = false → P) : P := by
  cases hv : inI v 0 12 with
  | false => exact ho hv
  | true =>
    obtain ⟨j, h1, h2, h3⟩ := inI_nat hv
    exact h j (by omega) h3
/-- all but the tape and what tells of it -/
def kpE (st st' : Ms) : Prop := (∀ k ∈ ([12, 13] : List Nat), st'.1 k = st.1 k) ∧ ∀ k ∈ ([1, 2, 3, 28, 29] : List Nat), st'.2.1 k = st.2.1 k
theorem kpE.rf (st : Ms) : kpE st st := ⟨fun _ _ => rfl, fun _ _ => rfl⟩
theorem kpE.A {a st s1 : Ms} {f : Nat → Int32} {q : Nat} (hq : q = 4 ∨ q = 6) (h : kpE a st) (e : uA st q f = s1) : kpE a s1 := by
  subst e
  refine ⟨h.1, fun k hk => ?_⟩
  rw [← h.2 k hk]
  have : k ≠ q := fun r => by
    subst r
    rcases hq with rfl | rfl <;> exact absurd hk (by decide)
  simp [uA, this]
theorem kpE.S {a st s1 : Ms} {v : Int32} (h : kpE a st) (e : uS st 5 v = s1) : kpE a s1 := by
  subst e
  refine ⟨fun k hk => ?_, h.2⟩
  rw [← h.1 k hk]
  have : k ≠ 5 := fun r => by subst r; exact absurd hk (by decide)
  simp [uS, this]
def PMT2 (g : Zg) (ad : Nat → Nat) (st : Ms) (v : Option Value) (X : Ms → Prop) : Option Value → Zm → Prop := fun r M' => r = v ∧ ∃ st' : Ms, Mod g ad M' st' ∧ kpE st st' ∧ X st'
theorem pas_f1 {a b : Nat} {i k n : Int32} (h : i < 0) : pasB a b i k n = false := decide_eq_false (fun q => by have := neg_int.mp h; omega)
theorem pas_f2 {a b : Nat} {i k n : Int32} (h : k < 0) : pasB a b i k n = false := decide_eq_false (fun q => by have := neg_int.mp h; omega)
theorem pas_f3 {a b : Nat} {i k n : Int32} (h : n < 0) : pasB a b i k n = false := decide_eq_false (fun q => by have := neg_int.mp h; omega)
set_option maxHeartbeats 4000000 in
theorem m_paste {l : Launch} {g : Zg} {ad : Nat → Nat} {M : Zm} {st : Ms} (hm : Mod g ad M st) {Sl : Nat → Option (Nat × Nat)} (hSl : SlR st Sl) (sv iv tv kv nv : Int32) : Cn l g yX11_paste cX11_paste 7 (some .int) 3 0 0 [.ref (ad 0), .int sv, .int iv, .int tv, .int kv, .int nv] M (PMK g ad [] st (some (.int (aPaste Sl sv iv tv kv nv))) (fun _ => True)) := by
  refine Cn.start [(0, .ref (ad 0)), (1, .int sv), (2, .int iv), (3, .int tv), (4, .int kv), (5, .int nv)] (by decide) (Nat.le_of_ble_eq_true rfl) rfl ?_
  intro γ el eg h hq
  subst el; subst eg
  have hk0 : kpA [] st st := kpA.rf _ st
  refine z_iload_n 1 h dX11_paste_0 rfl rfl ?_
  refine z_callSP h (m_isSlot sv) (lw_S q2567 q2568 q148 q2569) nX11_isSlot rfl rfl rfl (Nat.le_of_ble_eq_true rfl) (Nat.le_of_ble_eq_true rfl) (Nat.le_of_ble_eq_true rfl) dX11_paste_1 ?_
  refine z_ifz_eq 14 h dX11_paste_4 (by decide) (fun c_4 => ?_) (fun c_4 => ?_)
  · have _z := c_4
    refine z_bipush h dX11_paste_14 kb_m2 ?_
    refine z_iret h hq dX11_paste_16 (Nat.le_of_ble_eq_true rfl) (Nat.le_of_ble_eq_true rfl) ?_
    refine ⟨vS ?_, st, hm, hk0, trivial⟩
    first | (simp [aPaste, c_4]; done) | (simp [aPaste, c_11]; done)
  · have _z := c_4
    obtain ⟨s, h_s, rfl⟩ := three_nat c_4
    refine z_iload_n 3 h dX11_paste_7 rfl rfl ?_
    refine z_callSP h (m_isSlot tv) (lw_S q2567 q2568 q148 q2569) nX11_isSlot rfl rfl rfl (Nat.le_of_ble_eq_true rfl) (Nat.le_of_ble_eq_true rfl) (Nat.le_of_ble_eq_true rfl) dX11_paste_8 ?_
    refine z_ifz_ne 17 h dX11_paste_11 (by decide) (fun c_11 => ?_) (fun c_11 => ?_)
    · have _z := c_11
      obtain ⟨t, h_t, rfl⟩ := three_nat c_11
      refine z_aload_n 0 h dX11_paste_17 rfl rfl rfl ?_
      refine z_get h kX11 (.inl (hm.at 0 (by decide))) 28 rfl q1875 rfl dX11_paste_18 ?_
      refine z_iload_n 1 h dX11_paste_21 rfl rfl ?_
      refine z_ialdN (s) h (.inl (hm.at 28 (by decide))) rfl (by omega) (by decide) dX11_paste_22 ?_
      refine z_iconst h dX11_paste_23 ki_m1 ?_
      refine z_icmp_eq 37 h dX11_paste_24 (by decide) (fun c_24 => ?_) (fun c_24 => ?_)
      · have _z := c_24
        have hNs := sl_none (fun w n hS => (by obtain ⟨q1, q2, q3, q4⟩ := (hSl s (by omega)).2 w n hS; exact ⟨q1, q3⟩)) c_24
        refine z_bipush h dX11_paste_37 kb_m6 ?_
        refine z_iret h hq dX11_paste_39 (Nat.le_of_ble_eq_true rfl) (Nat.le_of_ble_eq_true rfl) ?_
        refine ⟨vS ?_, st, hm, hk0, trivial⟩
        first | (simp [aPaste, c_4, c_11, tn_nI (show s < 2 ^ 31 by omega), tn_nI (show t < 2 ^ 31 by omega), hNs]; done) | (simp [aPaste, c_4, c_11, tn_nI (show s < 2 ^ 31 by omega), tn_nI (show t < 2 ^ 31 by omega), hSs, hNt]; done)
      · have _z := c_24
        obtain ⟨w, a, hSs⟩ := sl_some (hSl s (by omega)).1 c_24
        obtain ⟨hms, hws, hns, hls⟩ := (hSl s (by omega)).2 w a hSs
        refine z_aload_n 0 h dX11_paste_27 rfl rfl rfl ?_
        refine z_get h kX11 (.inl (hm.at 0 (by decide))) 28 rfl q1875 rfl dX11_paste_28 ?_
        refine z_iload_n 3 h dX11_paste_31 rfl rfl ?_
        refine z_ialdN (t) h (.inl (hm.at 28 (by decide))) rfl (by omega) (by decide) dX11_paste_32 ?_
        refine z_iconst h dX11_paste_33 ki_m1 ?_
        refine z_icmp_ne 40 h dX11_paste_34 (by decide) (fun c_34 => ?_) (fun c_34 => ?_)
        · have _z := c_34
          obtain ⟨u, b, hSt⟩ := sl_some (hSl t (by omega)).1 c_34
          obtain ⟨hmt, hwt, hnt, hlt⟩ := (hSl t (by omega)).2 u b hSt
          refine z_aload_n 0 h dX11_paste_40 rfl rfl rfl ?_
          refine z_get h kX11 (.inl (hm.at 0 (by decide))) 29 rfl q1876 rfl dX11_paste_41 ?_
          refine z_iload_n 1 h dX11_paste_44 rfl rfl ?_
          refine z_ialdN (s) h (.inl (hm.at 29 (by decide))) rfl (by omega) (by decide) dX11_paste_45 ?_
          rw [hws]
          refine z_aload_n 0 h dX11_paste_46 rfl rfl rfl ?_
          refine z_get h kX11 (.inl (hm.at 0 (by decide))) 29 rfl q1876 rfl dX11_paste_47 ?_
          refine z_iload_n 3 h dX11_paste_50 rfl rfl ?_
          refine z_ialdN (t) h (.inl (hm.at 29 (by decide))) rfl (by omega) (by decide) dX11_paste_51 ?_
          rw [hwt]
          refine z_icmp_eq 58 h dX11_paste_52 (by decide) (fun c_52 => ?_) (fun c_52 => ?_)
          · have _z := c_52
            replace c_52 := (ieq (a := w) (b := u) rfl rfl (by omega) (by omega)).mp c_52
            refine z_iload_n 2 h dX11_paste_58 rfl rfl ?_
            refine z_if_lt 107 h dX11_paste_59 (by decide) (fun c_59 => ?_) (fun c_59 => ?_)
            · have _z := c_59
              refine z_bipush h dX11_paste_107 kb_m7 ?_
              refine z_iret h hq dX11_paste_109 (Nat.le_of_ble_eq_true rfl) (Nat.le_of_ble_eq_true rfl) ?_
              refine ⟨vS ?_, st, hm, hk0, trivial⟩
              first | (simp [aPaste, c_4, c_11, tn_nI (show s < 2 ^ 31 by omega), tn_nI (show t < 2 ^ 31 by omega), hSs, hSt, c_52]; exact pas_f1 c_59) | (simp [aPaste, c_4, c_11, tn_nI (show s < 2 ^ 31 by omega), tn_nI (show t < 2 ^ 31 by omega), hSs, hSt, c_52]; exact pas_f2 c_64) | (simp [aPaste, c_4, c_11, tn_nI (show s < 2 ^ 31 by omega), tn_nI (show t < 2 ^ 31 by omega), hSs, hSt, c_52]; exact pas_f3 c_69) | (simp [aPaste, c_4, c_11, tn_nI (show s < 2 ^ 31 by omega), tn_nI (show t < 2 ^ 31 by omega), hSs, hSt, c_52]; rw [pas_nat (by omega) (by omega) (by omega)]; simp; omega)
            · have _z := c_59
              obtain ⟨i, h_i, rfl⟩ := nn_nat c_59
              refine z_iload h dX11_paste_62 rfl ?_
              refine z_if_lt 107 h dX11_paste_64 (by decide) (fun c_64 => ?_) (fun c_64 => ?_)
              · have _z := c_64
                refine z_bipush h dX11_paste_107 kb_m7 ?_
                refine z_iret h hq dX11_paste_109 (Nat.le_of_ble_eq_true rfl) (Nat.le_of_ble_eq_true rfl) ?_
                refine ⟨vS ?_, st, hm, hk0, trivial⟩
                first | (simp [aPaste, c_4, c_11, tn_nI (show s < 2 ^ 31 by omega), tn_nI (show t < 2 ^ 31 by omega), hSs, hSt, c_52]; exact pas_f1 c_59) | (simp [aPaste, c_4, c_11, tn_nI (show s < 2 ^ 31 by omega), tn_nI (show t < 2 ^ 31 by omega), hSs, hSt, c_52]; exact pas_f2 c_64) | (simp [aPaste, c_4, c_11, tn_nI (show s < 2 ^ 31 by omega), tn_nI (show t < 2 ^ 31 by omega), hSs, hSt, c_52]; exact pas_f3 c_69) | (simp [aPaste, c_4, c_11, tn_nI (show s < 2 ^ 31 by omega), tn_nI (show t < 2 ^ 31 by omega), hSs, hSt, c_52]; rw [pas_nat (by omega) (by omega) (by omega)]; simp; omega)
              · have _z := c_64
                obtain ⟨k, h_k, rfl⟩ := nn_nat c_64
                refine z_iload h dX11_paste_67 rfl ?_
                refine z_if_lt 107 h dX11_paste_69 (by decide) (fun c_69 => ?_) (fun c_69 => ?_)
                · have _z := c_69
                  refine z_bipush h dX11_paste_107 kb_m7 ?_
                  refine z_iret h hq dX11_paste_109 (Nat.le_of_ble_eq_true rfl) (Nat.le_of_ble_eq_true rfl) ?_
                  refine ⟨vS ?_, st, hm, hk0, trivial⟩
                  first | (simp [aPaste, c_4, c_11, tn_nI (show s < 2 ^ 31 by omega), tn_nI (show t < 2 ^ 31 by omega), hSs, hSt, c_52]; exact pas_f1 c_59) | (simp [aPaste, c_4, c_11, tn_nI (show s < 2 ^ 31 by omega), tn_nI (show t < 2 ^ 31 by omega), hSs, hSt, c_52]; exact pas_f2 c_64) | (simp [aPaste, c_4, c_11, tn_nI (show s < 2 ^ 31 by omega), tn_nI (show t < 2 ^ 31 by omega), hSs, hSt, c_52]; exact pas_f3 c_69) | (simp [aPaste, c_4, c_11, tn_nI (show s < 2 ^ 31 by omega), tn_nI (show t < 2 ^ 31 by omega), hSs, hSt, c_52]; rw [pas_nat (by omega) (by omega) (by omega)]; simp; omega)
                · have _z := c_69
                  obtain ⟨n, h_n, rfl⟩ := nn_nat c_69
                  refine z_iload_n 2 h dX11_paste_72 rfl rfl ?_
                  refine z_i2l h dX11_paste_73 ?_
                  refine z_iload h dX11_paste_74 rfl ?_
                  refine z_i2l h dX11_paste_76 ?_
                  refine z_ladd h dX11_paste_77 ?_
                  refine z_aload_n 0 h dX11_paste_78 rfl rfl rfl ?_
                  refine z_get h kX11 (.inl (hm.at 0 (by decide))) 28 rfl q1875 rfl dX11_paste_79 ?_
                  refine z_iload_n 1 h dX11_paste_82 rfl rfl ?_
                  refine z_ialdN (s) h (.inl (hm.at 28 (by decide))) rfl (by omega) (by decide) dX11_paste_83 ?_
                  rw [hms]
                  refine z_i2l h dX11_paste_84 ?_
                  refine Z.st (show _ = [.long (lN a), .long (lN (i + n))] by rw [nI_l (show a < 2 ^ 31 by omega), nI_l h_i, nI_l h_n, lN_add]) ?_
                  refine z_lcmp h dX11_paste_85 ?_
                  refine z_if_gt 107 h dX11_paste_86 (by decide) (fun c_86 => ?_) (fun c_86 => ?_)
                  · have _z := c_86
                    replace c_86 := (lc_gt (by omega) (by omega)).mp c_86
                    refine z_bipush h dX11_paste_107 kb_m7 ?_
                    refine z_iret h hq dX11_paste_109 (Nat.le_of_ble_eq_true rfl) (Nat.le_of_ble_eq_true rfl) ?_
                    refine ⟨vS ?_, st, hm, hk0, trivial⟩
                    first | (simp [aPaste, c_4, c_11, tn_nI (show s < 2 ^ 31 by omega), tn_nI (show t < 2 ^ 31 by omega), hSs, hSt, c_52]; exact pas_f1 c_59) | (simp [aPaste, c_4, c_11, tn_nI (show s < 2 ^ 31 by omega), tn_nI (show t < 2 ^ 31 by omega), hSs, hSt, c_52]; exact pas_f2 c_64) | (simp [aPaste, c_4, c_11, tn_nI (show s < 2 ^ 31 by omega), tn_nI (show t < 2 ^ 31 by omega), hSs, hSt, c_52]; exact pas_f3 c_69) | (simp [aPaste, c_4, c_11, tn_nI (show s < 2 ^ 31 by omega), tn_nI (show t < 2 ^ 31 by omega), hSs, hSt, c_52]; rw [pas_nat (by omega) (by omega) (by omega)]; simp; omega)
                  · have _z := c_86
                    replace c_86 := (not_congr (lc_gt (by omega) (by omega))).mp c_86
                    refine z_iload h dX11_paste_89 rfl ?_
                    refine z_i2l h dX11_paste_91 ?_
                    refine z_iload h dX11_paste_92 rfl ?_
                    refine z_i2l h dX11_paste_94 ?_
                    refine z_ladd h dX11_paste_95 ?_
                    refine z_aload_n 0 h dX11_paste_96 rfl rfl rfl ?_
                    refine z_get h kX11 (.inl (hm.at 0 (by decide))) 28 rfl q1875 rfl dX11_paste_97 ?_
                    refine z_iload_n 3 h dX11_paste_100 rfl rfl ?_
                    refine z_ialdN (t) h (.inl (hm.at 28 (by decide))) rfl (by omega) (by decide) dX11_paste_101 ?_
                    rw [hmt]
                    refine z_i2l h dX11_paste_102 ?_
                    refine Z.st (show _ = [.long (lN b), .long (lN (k + n))] by rw [nI_l (show b < 2 ^ 31 by omega), nI_l h_k, nI_l h_n, lN_add]) ?_
                    refine z_lcmp h dX11_paste_103 ?_
                    refine z_if_le 110 h dX11_paste_104 (by decide) (fun c_104 => ?_) (fun c_104 => ?_)
                    · have _z := c_104
                      replace c_104 := (lc_le (by omega) (by omega)).mp c_104
                      have hk := hk0
                      refine z_iconst h dX11_paste_110 ki_0 ?_
                      refine z_istore h dX11_paste_111 rfl ?_
                      have loop_113 : ∀ (fz : Nat) (M : Zm) (s1 : Ms) (x : Nat) (hm : Mod (cg γ) ad M s1) (hk : kpA [] st s1) (hx : x ≤ n), (n - x) < fz → Z γ M 0 0 113 (lof [(0, .ref (ad 0)), (1, .int (nI s)), (2, .int (nI i)), (3, .int (nI t)), (4, .int (nI k)), (5, .int (nI n)), (6, .int (nI x))]) [] := by
                        intro fz
                        induction fz with
                        | zero => intro M s1 x hm hk hx hz; exact absurd hz (Nat.not_lt_zero _)
                        | succ fz ih_113 =>
                          intro M s1 x hm hk hx hz_113
                          refine z_iload h dX11_paste_113 rfl ?_
                          refine z_iload h dX11_paste_115 rfl ?_
                          refine z_icmp_ge 147 h dX11_paste_117 (by decide) (fun c_117 => ?_) (fun c_117 => ?_)
                          · have _z := c_117
                            replace c_117 := (ile (a := n) (b := x) rfl rfl (by omega) (by omega)).mp c_117
                            refine z_iconst h dX11_paste_147 ki_0 ?_
                            refine z_istore h dX11_paste_148 rfl ?_
                            have loop_150 : ∀ (fz : Nat) (M : Zm) (s1 : Ms) (x : Nat) (hm : Mod (cg γ) ad M s1) (hk : kpA [] st s1) (hx : x ≤ n), (n - x) < fz → Z γ M 0 0 150 (lof [(0, .ref (ad 0)), (1, .int (nI s)), (2, .int (nI i)), (3, .int (nI t)), (4, .int (nI k)), (5, .int (nI n)), (6, .int (nI x))]) [] := by
                              intro fz
                              induction fz with
                              | zero => intro M s1 x hm hk hx hz; exact absurd hz (Nat.not_lt_zero _)
                              | succ fz ih_150 =>
                                intro M s1 x hm hk hx hz_150
                                refine z_iload h dX11_paste_150 rfl ?_
                                refine z_iload h dX11_paste_152 rfl ?_
                                refine z_icmp_ge 185 h dX11_paste_154 (by decide) (fun c_154 => ?_) (fun c_154 => ?_)
                                · have _z := c_154
                                  replace c_154 := (ile (a := n) (b := x) rfl rfl (by omega) (by omega)).mp c_154
                                  refine z_iconst h dX11_paste_185 ki_0 ?_
                                  refine z_iret h hq dX11_paste_186 (Nat.le_of_ble_eq_true rfl) (Nat.le_of_ble_eq_true rfl) ?_
                                  refine ⟨vS ?_, s1, hm, hk, trivial⟩
                                  simp [aPaste, c_4, c_11, tn_nI (show s < 2 ^ 31 by omega), tn_nI (show t < 2 ^ 31 by omega), hSs, hSt, c_52]
                                  rw [pas_nat (by omega) (by omega) (by omega)]
                                  simp
                                  omega
                                · have _z := c_154
                                  replace c_154 := (not_congr (ile (a := n) (b := x) rfl rfl (by omega) (by omega))).mp c_154
                                  refine z_aload_n 0 h dX11_paste_157 rfl rfl rfl ?_
                                  refine z_get h kX11 (.inl (hm.at 0 (by decide))) 30 rfl q1877 rfl dX11_paste_158 ?_
                                  refine z_bipush h dX11_paste_161 kb_60 ?_
                                  refine z_iload_n 3 h dX11_paste_163 rfl rfl ?_
                                  refine z_imul h dX11_paste_164 ?_
                                  refine z_iload h dX11_paste_165 rfl ?_
                                  refine z_iadd h dX11_paste_167 ?_
                                  refine z_iload h dX11_paste_168 rfl ?_
                                  refine z_iadd h dX11_paste_170 ?_
                                  refine z_aload_n 0 h dX11_paste_171 rfl rfl rfl ?_
                                  refine z_get h kX11 (.inl (hm.at 0 (by decide))) 31 rfl q1878 rfl dX11_paste_172 ?_
                                  refine z_iload h dX11_paste_175 rfl ?_
                                  refine z_laldN (x) h (.inl (hm.at 31 (by decide))) rfl (by omega) (by decide) dX11_paste_177 ?_
                                  refine zm_last 30 (((60 * t) + k) + x) h hm (by decide) (fun _ => rfl) (ixa (ixa (ixm rfl rfl) rfl) rfl) (by omega) (by decide) dX11_paste_178 (fun M hm => ?_)
                                  generalize hs1 : uL s1 30 _ = s2 at hm
                                  replace hk := hk.L hs1
                                  refine z_iinc h dX11_paste_179 rfl rfl ki_1 ?_
                                  refine z_goto 150 h dX11_paste_182 (by decide) ?_
                                  refine Z.loc [(0, .ref (ad 0)), (1, .int (nI s)), (2, .int (nI i)), (3, .int (nI t)), (4, .int (nI k)), (5, .int (nI n)), (6, .int (nI (x + 1)))] (ll1 rfl (ll1 rfl (ll1 rfl (ll1 rfl (ll1 rfl (ll1 rfl (ll1 (vS (nI_1 x)) ll0))))))) ?_
                                  exact ih_150 _ _ (x + 1) hm hk (by omega) (by omega)
                            refine Z.loc [(0, .ref (ad 0)), (1, .int (nI s)), (2, .int (nI i)), (3, .int (nI t)), (4, .int (nI k)), (5, .int (nI n)), (6, .int (nI 0))] (ll1 rfl (ll1 rfl (ll1 rfl (ll1 rfl (ll1 rfl (ll1 rfl (ll1 rfl ll0))))))) ?_
                            exact loop_150 _ _ _ 0 hm hk (Nat.zero_le _) (Nat.lt_succ_self _)
                          · have _z := c_117
                            replace c_117 := (not_congr (ile (a := n) (b := x) rfl rfl (by omega) (by omega))).mp c_117
                            refine z_aload_n 0 h dX11_paste_120 rfl rfl rfl ?_
                            refine z_get h kX11 (.inl (hm.at 0 (by decide))) 31 rfl q1878 rfl dX11_paste_121 ?_
                            refine z_iload h dX11_paste_124 rfl ?_
                            refine z_aload_n 0 h dX11_paste_126 rfl rfl rfl ?_
                            refine z_get h kX11 (.inl (hm.at 0 (by decide))) 30 rfl q1877 rfl dX11_paste_127 ?_
                            refine z_bipush h dX11_paste_130 kb_60 ?_
                            refine z_iload_n 1 h dX11_paste_132 rfl rfl ?_
                            refine z_imul h dX11_paste_133 ?_
                            refine z_iload_n 2 h dX11_paste_134 rfl rfl ?_
                            refine z_iadd h dX11_paste_135 ?_
                            refine z_iload h dX11_paste_136 rfl ?_
                            refine z_iadd h dX11_paste_138 ?_
                            refine z_laldN (((60 * s) + i) + x) h (.inl (hm.at 30 (by decide))) (ixa (ixa (ixm rfl rfl) rfl) rfl) (by omega) (by decide) dX11_paste_139 ?_
                            refine zm_last 31 (x) h hm (by decide) (fun _ => rfl) rfl (by omega) (by decide) dX11_paste_140 (fun M hm => ?_)
                            generalize hs1 : uL s1 31 _ = s2 at hm
                            replace hk := hk.L hs1
                            refine z_iinc h dX11_paste_141 rfl rfl ki_1 ?_
                            refine z_goto 113 h dX11_paste_144 (by decide) ?_
                            refine Z.loc [(0, .ref (ad 0)), (1, .int (nI s)), (2, .int (nI i)), (3, .int (nI t)), (4, .int (nI k)), (5, .int (nI n)), (6, .int (nI (x + 1)))] (ll1 rfl (ll1 rfl (ll1 rfl (ll1 rfl (ll1 rfl (ll1 rfl (ll1 (vS (nI_1 x)) ll0))))))) ?_
                            exact ih_113 _ _ (x + 1) hm hk (by omega) (by omega)
                      refine Z.loc [(0, .ref (ad 0)), (1, .int (nI s)), (2, .int (nI i)), (3, .int (nI t)), (4, .int (nI k)), (5, .int (nI n)), (6, .int (nI 0))] (ll1 rfl (ll1 rfl (ll1 rfl (ll1 rfl (ll1 rfl (ll1 rfl (ll1 rfl ll0))))))) ?_
                      exact loop_113 _ _ _ 0 hm hk (Nat.zero_le _) (Nat.lt_succ_self _)
                    · have _z := c_104
                      replace c_104 := (not_congr (lc_le (by omega) (by omega))).mp c_104
                      refine z_bipush h dX11_paste_107 kb_m7 ?_
                      refine z_iret h hq dX11_paste_109 (Nat.le_of_ble_eq_true rfl) (Nat.le_of_ble_eq_true rfl) ?_
                      refine ⟨vS ?_, st, hm, hk0, trivial⟩
                      first | (simp [aPaste, c_4, c_11, tn_nI (show s < 2 ^ 31 by omega), tn_nI (show t < 2 ^ 31 by omega), hSs, hSt, c_52]; exact pas_f1 c_59) | (simp [aPaste, c_4, c_11, tn_nI (show s < 2 ^ 31 by omega), tn_nI (show t < 2 ^ 31 by omega), hSs, hSt, c_52]; exact pas_f2 c_64) | (simp [aPaste, c_4, c_11, tn_nI (show s < 2 ^ 31 by omega), tn_nI (show t < 2 ^ 31 by omega), hSs, hSt, c_52]; exact pas_f3 c_69) | (simp [aPaste, c_4, c_11, tn_nI (show s < 2 ^ 31 by omega), tn_nI (show t < 2 ^ 31 by omega), hSs, hSt, c_52]; rw [pas_nat (by omega) (by omega) (by omega)]; simp; omega)
          · have _z := c_52
            replace c_52 := (not_congr (ieq (a := w) (b := u) rfl rfl (by omega) (by omega))).mp c_52
            refine z_bipush h dX11_paste_55 kb_m8 ?_
            refine z_iret h hq dX11_paste_57 (Nat.le_of_ble_eq_true rfl) (Nat.le_of_ble_eq_true rfl) ?_
            refine ⟨vS ?_, st, hm, hk0, trivial⟩
            simp [aPaste, c_4, c_11, tn_nI (show s < 2 ^ 31 by omega), tn_nI (show t < 2 ^ 31 by omega), hSs, hSt, c_52]
        · have _z := c_34
          have hNt := sl_none (fun w n hS => (by obtain ⟨q1, q2, q3, q4⟩ := (hSl t (by omega)).2 w n hS; exact ⟨q1, q3⟩)) c_34
          refine z_bipush h dX11_paste_37 kb_m6 ?_
          refine z_iret h hq dX11_paste_39 (Nat.le_of_ble_eq_true rfl) (Nat.le_of_ble_eq_true rfl) ?_
          refine ⟨vS ?_, st, hm, hk0, trivial⟩
          first | (simp [aPaste, c_4, c_11, tn_nI (show s < 2 ^ 31 by omega), tn_nI (show t < 2 ^ 31 by omega), hNs]; done) | (simp [aPaste, c_4, c_11, tn_nI (show s < 2 ^ 31 by omega), tn_nI (show t < 2 ^ 31 by omega), hSs, hNt]; done)
    · have _z := c_11
      refine z_bipush h dX11_paste_14 kb_m2 ?_
      refine z_iret h hq dX11_paste_16 (Nat.le_of_ble_eq_true rfl) (Nat.le_of_ble_eq_true rfl) ?_
      refine ⟨vS ?_, st, hm, hk0, trivial⟩
      first | (simp [aPaste, c_4]; done) | (simp [aPaste, c_11]; done)
