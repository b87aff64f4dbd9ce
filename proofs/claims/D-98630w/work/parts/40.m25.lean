/-! the reference: lines read -/
set_option maxRecDepth 100000
theorem twX12_203 : (RX12, 203, "war", 0) ∈ lw_tx := by decide +kernel
theorem twX12_205 : (RX12, 205, "minutes", 1) ∈ lw_tx := by decide +kernel
theorem twX12_209 : (RX12, 209, "late", 2) ∈ lw_tx := by decide +kernel
theorem twX12_213 : (RX12, 213, "peace", 3) ∈ lw_tx := by decide +kernel
theorem twX12_217 : (RX12, 217, "rain", 4) ∈ lw_tx := by decide +kernel
theorem twX12_165 : (RX12, 165, "train", 5) ∈ lw_tx := by decide +kernel
theorem twX12_118 : (RX12, 118, "men", 6) ∈ lw_tx := by decide +kernel
theorem twX12_122 : (RX12, 122, "due", 7) ∈ lw_tx := by decide +kernel
theorem twX12_126 : (RX12, 126, "odds", 8) ∈ lw_tx := by decide +kernel
theorem twX12_130 : (RX12, 130, "by", 9) ∈ lw_tx := by decide +kernel
theorem twX12_134 : (RX12, 134, "price", 10) ∈ lw_tx := by decide +kernel
theorem twX12_170 : (RX12, 170, "cannon", 11) ∈ lw_tx := by decide +kernel
theorem twX12_144 : (RX12, 144, "at", 12) ∈ lw_tx := by decide +kernel
theorem twX12_145 : (RX12, 145, "for", 13) ∈ lw_tx := by decide +kernel
theorem twX12_149 : (RX12, 149, "worth", 14) ∈ lw_tx := by decide +kernel
theorem twX12_175 : (RX12, 175, "spy", 15) ∈ lw_tx := by decide +kernel
theorem twX12_157 : (RX12, 157, "knows", 16) ∈ lw_tx := by decide +kernel
theorem twX12_180 : (RX12, 180, "tea", 17) ∈ lw_tx := by decide +kernel
theorem twX12_91 : (RX12, 91, "to", 18) ∈ lw_tx := by decide +kernel
theorem twX12_189 : (RX12, 189, "rule", 19) ∈ lw_tx := by decide +kernel
theorem twX12_194 : (RX12, 194, "need", 20) ∈ lw_tx := by decide +kernel
theorem twX11_161 : (RX11, 161, "war", 0) ∈ lw_tx := by decide +kernel
theorem twX11_163 : (RX11, 163, "minutes", 1) ∈ lw_tx := by decide +kernel
theorem twX11_169 : (RX11, 169, "late", 2) ∈ lw_tx := by decide +kernel
theorem twX11_171 : (RX11, 171, "peace", 3) ∈ lw_tx := by decide +kernel
theorem twX11_173 : (RX11, 173, "rain", 4) ∈ lw_tx := by decide +kernel
theorem twX11_194 : (RX11, 194, "need", 20) ∈ lw_tx := by decide +kernel
theorem twX11_196 : (RX11, 196, "train", 5) ∈ lw_tx := by decide +kernel
theorem twX11_198 : (RX11, 198, "tea", 17) ∈ lw_tx := by decide +kernel
theorem twX11_200 : (RX11, 200, "cannon", 11) ∈ lw_tx := by decide +kernel
theorem twX11_202 : (RX11, 202, "rule", 19) ∈ lw_tx := by decide +kernel
theorem twX11_204 : (RX11, 204, "spy", 15) ∈ lw_tx := by decide +kernel
theorem twX11_175 : (RX11, 175, "men", 6) ∈ lw_tx := by decide +kernel
theorem twX11_177 : (RX11, 177, "due", 7) ∈ lw_tx := by decide +kernel
theorem twX11_179 : (RX11, 179, "odds", 8) ∈ lw_tx := by decide +kernel
theorem twX11_181 : (RX11, 181, "by", 9) ∈ lw_tx := by decide +kernel
theorem twX11_183 : (RX11, 183, "price", 10) ∈ lw_tx := by decide +kernel
theorem twX11_185 : (RX11, 185, "to", 18) ∈ lw_tx := by decide +kernel
theorem twX11_187 : (RX11, 187, "at", 12) ∈ lw_tx := by decide +kernel
theorem twX11_188 : (RX11, 188, "for", 13) ∈ lw_tx := by decide +kernel
theorem twX11_190 : (RX11, 190, "worth", 14) ∈ lw_tx := by decide +kernel
theorem twX11_192 : (RX11, 192, "knows", 16) ∈ lw_tx := by decide +kernel
/-- the row that is being read -/
def FrR (st : Ms) (F : Nat → Nat) : Prop := ∀ k, k < 240 → st.2.1 14 k = nI (F k)
def updN (F : Nat → Nat) (j v : Nat) : Nat → Nat := fun k => if k = j then v else F k
theorem updN_s {F : Nat → Nat} {j v : Nat} : updN F j v j = v := if_pos rfl
theorem updN_n {F : Nat → Nat} {j v k : Nat} (h : k ≠ j) : updN F j v k = F k := if_neg h
theorem FrR.up {st s1 : Ms} {F : Nat → Nat} {j v : Nat} {x : Int32} (h : FrR st F) (e : uA st 14 (upd (st.2.1 14) j x) = s1) (hx : x = nI v) : FrR s1 (updN F j v) := by
  intro k hk
  rw [(atq e).1]
  unfold upd updN
  by_cases q : k = j
  · rw [if_pos q, if_pos q]; exact hx
  · rw [if_neg q, if_neg q]; exact h k hk
/-- what stays when lines are read -/
def kpF (st st' : Ms) : Prop := (∀ k, k < 8 ∨ 13 < k → st'.1 k = st.1 k) ∧ (∀ k, k ≠ 14 → st'.2.1 k = st.2.1 k)
theorem kpF.rf (st : Ms) : kpF st st := ⟨fun _ _ => rfl, fun _ _ => rfl⟩
theorem kpF.tr {a b c : Ms} (h1 : kpF a b) (h2 : kpF b c) : kpF a c := ⟨fun k q => (h2.1 k q).trans (h1.1 k q), fun k q => (h2.2 k q).trans (h1.2 k q)⟩
theorem kpD.F {a b : Ms} (h : kpD a b) : kpF a b := ⟨h.1, fun k _ => by rw [h.2]⟩
theorem kpF.A {a st s1 : Ms} {f : Nat → Int32} (h : kpF a st) (e : uA st 14 f = s1) : kpF a s1 := by
  refine ⟨fun k q => ?_, fun k q => ((atq e).2 k q).trans (h.2 k q)⟩
  subst e
  exact h.1 k q
theorem RSt.up {st s1 : Ms} {tp : Nat} {T : Nat → Int32} {X : Rs} {f : Nat → Int32} (h : RSt st tp T X) (e : uA st 14 f = s1) : RSt s1 tp T X := by
  obtain ⟨⟨h1, h2, h3⟩, h4⟩ := h
  refine ⟨⟨h1, ?_, fun j hj => by rw [(atq e).2 4 (by decide)]; exact h3 j hj⟩, ?_⟩
  · subst e; exact h2
  · subst e; exact h4
theorem FrR.D {st st' : Ms} {F : Nat → Nat} (h : FrR st F) (hk : kpD st st') : FrR st' F := fun k q => by rw [hk.2]; exact h k q
def PMG (g : Zg) (ad : Nat → Nat) (st : Ms) (tp : Nat) (T : Nat → Int32) (p : Rs × (Nat → Nat)) : Option Value → Zm → Prop := fun r M' => r = none ∧ ∃ st' : Ms, Mod g ad M' st' ∧ kpF st st' ∧ RSt st' tp T p.1 ∧ FrR st' p.2
section RD
variable (T : Nat → Int32) (tp : Nat)
def rdFirst (X : Rs) (F : Nat → Nat) : Rs × (Nat → Nat) :=
  let X0 := wrdX T tp (txN 0) X
  let m := tldV T tp (txN 1) 1 60 X0
  let X1 := tldX T tp (txN 1) 1 60 X0
  let l := tldV T tp (txN 2) 0 ((m : Int) - 1) X1
  let X2 := tldX T tp (txN 2) 0 ((m : Int) - 1) X1
  let p := tldV T tp (txN 3) 0 60 X2
  let X3 := tldX T tp (txN 3) 0 60 X2
  let r := tldV T tp (txN 4) 0 100 X3
  (tldX T tp (txN 4) 0 100 X3, updN (updN (updN (updN F 0 m) 1 l) 2 p) 3 r)
def rdNeed (X : Rs) (F : Nat → Nat) : Rs × (Nat → Nat) :=
  let X1 := numX T tp 0 1 X
  let X2 := numX T tp 0 999 X1
  (X2, if gdX X2 = true then updN F (11 + numV 0 1 X) (numV 0 999 X1) else F)
def rdTrain (X : Rs) (F : Nat → Nat) : Rs × (Nat → Nat) :=
  let k := 13 + 6 * F 4
  let X1 := numX T tp 0 1 X
  let X2 := tldX T tp (txN 6) 1 99 X1
  let X3 := tldX T tp (txN 7) 0 59 X2
  let X4 := tldX T tp (txN 8) 0 100 X3
  let X5 := tldX T tp (txN 9) 1 30 X4
  let X6 := tldX T tp (txN 10) 0 999 X5
  (X6, updN (updN (updN (updN (updN (updN (updN F k (numV 0 1 X)) (k + 1) (tldV T tp (txN 6) 1 99 X1)) (k + 2) (tldV T tp (txN 7) 0 59 X2)) (k + 3) (tldV T tp (txN 8) 0 100 X3)) (k + 4) (tldV T tp (txN 9) 1 30 X4)) (k + 5) (tldV T tp (txN 10) 0 999 X5)) 4 (F 4 + 1))
def rdBounds (k : Nat) (X : Rs) (F : Nat → Nat) : Rs × (Nat → Nat) :=
  let a := numV 0 59 X
  let X1 := numX T tp 0 59 X
  (tldX T tp (txN 18) a 59 X1, updN (updN F k a) (k + 1) (tldV T tp (txN 18) a 59 X1))
def rdAsk (X : Rs) (F : Nat → Nat) : Rs × (Nat → Nat) :=
  let k := 75 + 4 * F 6
  let X1 := numX T tp 0 1 X
  let X2 := tldX T tp (txN 12) 0 59 X1
  let X3 := tldX T tp (txN 13) 1 20 X2
  let X4 := tldX T tp (txN 14) 1 99 X3
  (X4, updN (updN (updN (updN (updN F k (numV 0 1 X)) (k + 1) (tldV T tp (txN 12) 0 59 X1)) (k + 2) (tldV T tp (txN 13) 1 20 X2)) (k + 3) (tldV T tp (txN 14) 1 99 X3)) 6 (F 6 + 1))
end RD
theorem numV_b (lo : Nat) (hi : Int) (X : Rs) (h0 : 0 ≤ hi) : (numV lo hi X : Int) ≤ hi := by
  unfold numV
  cases h : rngX lo hi (tokX X) with
  | ok t => exact (rng_tok h).2.2
  | error e => exact h0
theorem tldV_b {T : Nat → Int32} {tp : Nat} {w : List Nat} (lo : Nat) (hi : Int) (X : Rs) (h0 : 0 ≤ hi) : (tldV T tp w lo hi X : Int) ≤ hi := numV_b _ _ _ h0
theorem num_99999 {st : Ms} {tp : Nat} {T : Nat → Int32} {X : Rs} (h : RSt st tp T X) (lo : Nat) (hi : Int) : numV lo hi X ≤ 99999 := by
  unfold numV
  cases X with
  | error e => exact Nat.zero_le _
  | ok t =>
    have := h.2.2.2.2.2.2.2.1
    unfold tokX
    dsimp only
    split
    · unfold rngX
      dsimp only
      split
      · exact this
      · exact Nat.zero_le _
    · exact Nat.zero_le _
set_option maxHeartbeats 4000000 in
theorem m_readFirst {l : Launch} {g : Zg} {ad : Nat → Nat} {M : Zm} {st : Ms} (hm : Mod g ad M st) {tp : Nat} {T : Nat → Int32} {X : Rs} {F : Nat → Nat} (hg : Gok g) (hX : RSt st tp T X) (hF : FrR st F)  : Cn l g yX11_readFirst cX11_readFirst 1 none 9 0 0 [.ref (ad 0)] M (PMG g ad st tp T (rdFirst T tp X F)) := by
  refine Cn.start [(0, .ref (ad 0))] (by decide) (Nat.le_of_ble_eq_true rfl) rfl ?_
  intro γ el eg h hq
  subst el; subst eg
  have hk : kpF st st := kpF.rf st
  refine z_aload_n 0 h dX11_readFirst_0 rfl rfl rfl ?_
  refine z_ldcS h twX11_161 dX11_readFirst_1 ?_
  refine z_callV h (m_needs hm hX hg (hg.2.2 0 (by decide))) kX11 (.inl (hm.at 0 (by decide))) (lw_V q2000 q2002 qs69 q148 q2003) nX11_needs rfl rfl rfl (Nat.le_of_ble_eq_true rfl) (Nat.le_of_ble_eq_true rfl) (Nat.le_of_ble_eq_true rfl) dX11_readFirst_3 (fun v M hv => ?_)
  obtain ⟨rfl, s1, hm, hkd, hX1⟩ := hv
  clear hX
  have hX := hX1
  clear hX1
  replace hk := hk.tr hkd.F
  replace hF := hF.D hkd
  refine z_aload_n 0 h dX11_readFirst_6 rfl rfl rfl ?_
  refine z_get h kX11 (.inl (hm.at 0 (by decide))) 14 rfl q1861 rfl dX11_readFirst_7 ?_
  refine z_iconst h dX11_readFirst_10 ki_0 ?_
  refine z_aload_n 0 h dX11_readFirst_11 rfl rfl rfl ?_
  refine z_ldcS h twX11_163 dX11_readFirst_12 ?_
  refine z_iconst h dX11_readFirst_14 ki_1 ?_
  refine z_bipush h dX11_readFirst_15 kb_60 ?_
  refine z_callV h (m_told hm hX hg (hg.2.2 1 (by decide)) 1 60 (by omega) (by decide)) kX11 (.inl (hm.at 0 (by decide))) (lw_V q2019 q2021 qs73 q148 q2022) nX11_told rfl rfl rfl (Nat.le_of_ble_eq_true rfl) (Nat.le_of_ble_eq_true rfl) (Nat.le_of_ble_eq_true rfl) dX11_readFirst_17 (fun v M hv => ?_)
  have hmb := tldV_b (T := T) (tp := tp) (w := txN 1) 1 60 (wrdX T tp (txN 0) X) (by decide)
  obtain ⟨rfl, s2, hm, hkd, hX1⟩ := hv
  clear hX
  have hX := hX1
  clear hX1
  replace hk := hk.tr hkd.F
  replace hF := hF.D hkd
  refine zm_iast 14 (0) h hm (by decide) (fun _ => rfl) rfl (by omega) (by decide) dX11_readFirst_20 (fun M hm => ?_)
  generalize hs3 : uA s2 14 _ = s3 at hm
  replace hk := hk.A hs3
  replace hX := hX.up hs3
  replace hF := hF.up (v := tldV T tp (txN 1) 1 60 (wrdX T tp (txN 0) X)) hs3 rfl
  refine z_aload_n 0 h dX11_readFirst_21 rfl rfl rfl ?_
  refine z_get h kX11 (.inl (hm.at 0 (by decide))) 14 rfl q1861 rfl dX11_readFirst_22 ?_
  refine z_iconst h dX11_readFirst_25 ki_1 ?_
  refine z_aload_n 0 h dX11_readFirst_26 rfl rfl rfl ?_
  refine z_ldcS h twX11_169 dX11_readFirst_27 ?_
  refine z_iconst h dX11_readFirst_29 ki_0 ?_
  refine z_aload_n 0 h dX11_readFirst_30 rfl rfl rfl ?_
  refine z_get h kX11 (.inl (hm.at 0 (by decide))) 14 rfl q1861 rfl dX11_readFirst_31 ?_
  refine z_iconst h dX11_readFirst_34 ki_0 ?_
  refine z_ialdN (0) h (.inl (hm.at 14 (by decide))) rfl (by omega) (by decide) dX11_readFirst_35 ?_
  rw [hF 0 (by decide), updN_s]
  refine z_iconst h dX11_readFirst_36 ki_1 ?_
  refine z_isub h dX11_readFirst_37 ?_
  refine Z.st (show _ = _ by rw [show nI (tldV T tp (txN 1) 1 60 (wrdX T tp (txN 0) X)) - 1 = iI (((tldV T tp (txN 1) 1 60 (wrdX T tp (txN 0) X) : Nat) : Int) - 1) from zsub (nz rfl) rfl]) ?_
  refine z_callV h (m_told hm hX hg (hg.2.2 2 (by decide)) 0 _ (by omega) (by omega)) kX11 (.inl (hm.at 0 (by decide))) (lw_V q2019 q2021 qs73 q148 q2022) nX11_told rfl rfl rfl (Nat.le_of_ble_eq_true rfl) (Nat.le_of_ble_eq_true rfl) (Nat.le_of_ble_eq_true rfl) dX11_readFirst_38 (fun v M hv => ?_)
  obtain ⟨rfl, s4, hm, hkd, hX1⟩ := hv
  clear hX
  have hX := hX1
  clear hX1
  replace hk := hk.tr hkd.F
  replace hF := hF.D hkd
  refine zm_iast 14 (1) h hm (by decide) (fun _ => rfl) rfl (by omega) (by decide) dX11_readFirst_41 (fun M hm => ?_)
  generalize hs5 : uA s4 14 _ = s5 at hm
  replace hk := hk.A hs5
  replace hX := hX.up hs5
  replace hF := hF.up (v := _) hs5 rfl
  refine z_aload_n 0 h dX11_readFirst_42 rfl rfl rfl ?_
  refine z_get h kX11 (.inl (hm.at 0 (by decide))) 14 rfl q1861 rfl dX11_readFirst_43 ?_
  refine z_iconst h dX11_readFirst_46 ki_2 ?_
  refine z_aload_n 0 h dX11_readFirst_47 rfl rfl rfl ?_
  refine z_ldcS h twX11_171 dX11_readFirst_48 ?_
  refine z_iconst h dX11_readFirst_50 ki_0 ?_
  refine z_bipush h dX11_readFirst_51 kb_60 ?_
  refine z_callV h (m_told hm hX hg (hg.2.2 3 (by decide)) 0 60 (by omega) (by decide)) kX11 (.inl (hm.at 0 (by decide))) (lw_V q2019 q2021 qs73 q148 q2022) nX11_told rfl rfl rfl (Nat.le_of_ble_eq_true rfl) (Nat.le_of_ble_eq_true rfl) (Nat.le_of_ble_eq_true rfl) dX11_readFirst_53 (fun v M hv => ?_)
  obtain ⟨rfl, s6, hm, hkd, hX1⟩ := hv
  clear hX
  have hX := hX1
  clear hX1
  replace hk := hk.tr hkd.F
  replace hF := hF.D hkd
  refine zm_iast 14 (2) h hm (by decide) (fun _ => rfl) rfl (by omega) (by decide) dX11_readFirst_56 (fun M hm => ?_)
  generalize hs7 : uA s6 14 _ = s7 at hm
  replace hk := hk.A hs7
  replace hX := hX.up hs7
  replace hF := hF.up (v := _) hs7 rfl
  refine z_aload_n 0 h dX11_readFirst_57 rfl rfl rfl ?_
  refine z_get h kX11 (.inl (hm.at 0 (by decide))) 14 rfl q1861 rfl dX11_readFirst_58 ?_
  refine z_iconst h dX11_readFirst_61 ki_3 ?_
  refine z_aload_n 0 h dX11_readFirst_62 rfl rfl rfl ?_
  refine z_ldcS h twX11_173 dX11_readFirst_63 ?_
  refine z_iconst h dX11_readFirst_65 ki_0 ?_
  refine z_bipush h dX11_readFirst_66 kb_100 ?_
  refine z_callV h (m_told hm hX hg (hg.2.2 4 (by decide)) 0 100 (by omega) (by decide)) kX11 (.inl (hm.at 0 (by decide))) (lw_V q2019 q2021 qs73 q148 q2022) nX11_told rfl rfl rfl (Nat.le_of_ble_eq_true rfl) (Nat.le_of_ble_eq_true rfl) (Nat.le_of_ble_eq_true rfl) dX11_readFirst_68 (fun v M hv => ?_)
  obtain ⟨rfl, s8, hm, hkd, hX1⟩ := hv
  clear hX
  have hX := hX1
  clear hX1
  replace hk := hk.tr hkd.F
  replace hF := hF.D hkd
  refine zm_iast 14 (3) h hm (by decide) (fun _ => rfl) rfl (by omega) (by decide) dX11_readFirst_71 (fun M hm => ?_)
  generalize hs9 : uA s8 14 _ = s9 at hm
  replace hk := hk.A hs9
  replace hX := hX.up hs9
  replace hF := hF.up (v := _) hs9 rfl
  exact z_vret h hq dX11_readFirst_72 (Nat.le_of_ble_eq_true rfl) (Nat.le_of_ble_eq_true rfl) (⟨rfl, s9, hm, hk, hX, hF⟩)
set_option maxHeartbeats 4000000 in
theorem m_readNeed {l : Launch} {g : Zg} {ad : Nat → Nat} {M : Zm} {st : Ms} (hm : Mod g ad M st) {tp : Nat} {T : Nat → Int32} {X : Rs} {F : Nat → Nat} (hg : Gok g) (hX : RSt st tp T X) (hF : FrR st F)  : Cn l g yX11_readNeed cX11_readNeed 3 none 4 0 0 [.ref (ad 0)] M (PMG g ad st tp T (rdNeed T tp X F)) := by
  refine Cn.start [(0, .ref (ad 0))] (by decide) (Nat.le_of_ble_eq_true rfl) rfl ?_
  intro γ el eg h hq
  subst el; subst eg
  have hk : kpF st st := kpF.rf st
  refine z_aload_n 0 h dX11_readNeed_0 rfl rfl rfl ?_
  refine z_iconst h dX11_readNeed_1 ki_0 ?_
  refine z_iconst h dX11_readNeed_2 ki_1 ?_
  refine z_callV h (m_number hm hX 0 1 (by omega) (by decide)) kX11 (.inl (hm.at 0 (by decide))) (lw_V q2023 q2025 qs74 q148 q2026) nX11_number rfl rfl rfl (Nat.le_of_ble_eq_true rfl) (Nat.le_of_ble_eq_true rfl) (Nat.le_of_ble_eq_true rfl) dX11_readNeed_3 (fun v M hv => ?_)
  have hnb := numV_b 0 1 X (by decide)
  obtain ⟨rfl, s1, hm, hkd, hX1⟩ := hv
  clear hX
  have hX := hX1
  clear hX1
  replace hk := hk.tr hkd.F
  replace hF := hF.D hkd
  refine z_istore_n 1 h dX11_readNeed_6 rfl rfl ?_
  refine z_aload_n 0 h dX11_readNeed_7 rfl rfl rfl ?_
  refine z_iconst h dX11_readNeed_8 ki_0 ?_
  refine z_sipush h dX11_readNeed_9 ks_999 ?_
  refine z_callV h (m_number hm hX 0 999 (by omega) (by decide)) kX11 (.inl (hm.at 0 (by decide))) (lw_V q2023 q2025 qs74 q148 q2026) nX11_number rfl rfl rfl (Nat.le_of_ble_eq_true rfl) (Nat.le_of_ble_eq_true rfl) (Nat.le_of_ble_eq_true rfl) dX11_readNeed_12 (fun v M hv => ?_)
  obtain ⟨rfl, s2, hm, hkd, hX1⟩ := hv
  clear hX
  have hX := hX1
  clear hX1
  replace hk := hk.tr hkd.F
  replace hF := hF.D hkd
  refine z_istore_n 2 h dX11_readNeed_15 rfl rfl ?_
  refine z_aload_n 0 h dX11_readNeed_16 rfl rfl rfl ?_
  refine z_callVP h (m_good hm hX) kX11 (.inl (hm.at 0 (by decide))) (lw_V q1987 q1989 qs66 q148 q1990) nX11_good rfl rfl rfl (Nat.le_of_ble_eq_true rfl) (Nat.le_of_ble_eq_true rfl) (Nat.le_of_ble_eq_true rfl) dX11_readNeed_17 ?_
  refine z_ifz_eq 33 h dX11_readNeed_20 (by decide) (fun c_20 => ?_) (fun c_20 => ?_)
  · have _z := c_20
    refine z_vret h hq dX11_readNeed_33 (Nat.le_of_ble_eq_true rfl) (Nat.le_of_ble_eq_true rfl) ?_
    first | (refine ⟨rfl, s2, hm, hk, hX, ?_⟩; unfold rdNeed; dsimp only; rw [c_20, if_neg (by decide)]; exact hF) | (refine ⟨rfl, s3, hm, hk, hX, ?_⟩; unfold rdNeed; dsimp only; rw [c_20, if_pos rfl]; exact hF)
  · have _z := c_20
    refine z_aload_n 0 h dX11_readNeed_23 rfl rfl rfl ?_
    refine z_get h kX11 (.inl (hm.at 0 (by decide))) 14 rfl q1861 rfl dX11_readNeed_24 ?_
    refine z_bipush h dX11_readNeed_27 kb_11 ?_
    refine z_iload_n 1 h dX11_readNeed_29 rfl rfl ?_
    refine z_iadd h dX11_readNeed_30 ?_
    refine z_iload_n 2 h dX11_readNeed_31 rfl rfl ?_
    refine zm_iast 14 (11 + (numV 0 1 X)) h hm (by decide) (fun _ => rfl) (ixa rfl rfl) (by omega) (by decide) dX11_readNeed_32 (fun M hm => ?_)
    generalize hs3 : uA s2 14 _ = s3 at hm
    replace hk := hk.A hs3
    replace hX := hX.up hs3
    replace hF := hF.up (v := _) hs3 rfl
    refine z_vret h hq dX11_readNeed_33 (Nat.le_of_ble_eq_true rfl) (Nat.le_of_ble_eq_true rfl) ?_
    first | (refine ⟨rfl, s2, hm, hk, hX, ?_⟩; unfold rdNeed; dsimp only; rw [c_20, if_neg (by decide)]; exact hF) | (refine ⟨rfl, s3, hm, hk, hX, ?_⟩; unfold rdNeed; dsimp only; rw [c_20, if_pos rfl]; exact hF)
set_option maxHeartbeats 4000000 in
theorem m_readTrain {l : Launch} {g : Zg} {ad : Nat → Nat} {M : Zm} {st : Ms} (hm : Mod g ad M st) {tp : Nat} {T : Nat → Int32} {X : Rs} {F : Nat → Nat} (hg : Gok g) (hX : RSt st tp T X) (hF : FrR st F) (hF4 : F 4 ≤ 8) : Cn l g yX11_readTrain cX11_readTrain 2 none 9 0 0 [.ref (ad 0)] M (PMG g ad st tp T (rdTrain T tp X F)) := by
  refine Cn.start [(0, .ref (ad 0))] (by decide) (Nat.le_of_ble_eq_true rfl) rfl ?_
  intro γ el eg h hq
  subst el; subst eg
  have hk : kpF st st := kpF.rf st
  refine z_bipush h dX11_readTrain_0 kb_13 ?_
  refine z_bipush h dX11_readTrain_2 kb_6 ?_
  refine z_aload_n 0 h dX11_readTrain_4 rfl rfl rfl ?_
  refine z_get h kX11 (.inl (hm.at 0 (by decide))) 14 rfl q1861 rfl dX11_readTrain_5 ?_
  refine z_iconst h dX11_readTrain_8 ki_4 ?_
  refine z_ialdN (4) h (.inl (hm.at 14 (by decide))) rfl (by omega) (by decide) dX11_readTrain_9 ?_
  rw [hF 4 (by decide)]
  refine z_imul h dX11_readTrain_10 ?_
  refine z_iadd h dX11_readTrain_11 ?_
  refine z_istore_n 1 h dX11_readTrain_12 rfl rfl ?_
  refine z_aload_n 0 h dX11_readTrain_13 rfl rfl rfl ?_
  refine z_get h kX11 (.inl (hm.at 0 (by decide))) 14 rfl q1861 rfl dX11_readTrain_14 ?_
  refine z_iload_n 1 h dX11_readTrain_17 rfl rfl ?_
  refine z_iconst h dX11_readTrain_18 ki_0 ?_
  refine z_iadd h dX11_readTrain_19 ?_
  refine z_aload_n 0 h dX11_readTrain_20 rfl rfl rfl ?_
  refine z_iconst h dX11_readTrain_21 ki_0 ?_
  refine z_iconst h dX11_readTrain_22 ki_1 ?_
  refine z_callV h (m_number hm hX 0 1 (by omega) (by decide)) kX11 (.inl (hm.at 0 (by decide))) (lw_V q2023 q2025 qs74 q148 q2026) nX11_number rfl rfl rfl (Nat.le_of_ble_eq_true rfl) (Nat.le_of_ble_eq_true rfl) (Nat.le_of_ble_eq_true rfl) dX11_readTrain_23 (fun v M hv => ?_)
  obtain ⟨rfl, s1, hm, hkd, hX1⟩ := hv
  clear hX
  have hX := hX1
  clear hX1
  replace hk := hk.tr hkd.F
  replace hF := hF.D hkd
  refine zm_iast 14 ((13 + (6 * (F 4))) + 0) h hm (by decide) (fun _ => rfl) (ixa (ixa rfl (ixm rfl rfl)) rfl) (by omega) (by decide) dX11_readTrain_26 (fun M hm => ?_)
  generalize hs1 : uA s1 14 _ = s2 at hm
  replace hk := hk.A hs1
  replace hX := hX.up hs1
  replace hF := hF.up (v := _) hs1 rfl
  refine z_aload_n 0 h dX11_readTrain_27 rfl rfl rfl ?_
  refine z_get h kX11 (.inl (hm.at 0 (by decide))) 14 rfl q1861 rfl dX11_readTrain_28 ?_
  refine z_iload_n 1 h dX11_readTrain_31 rfl rfl ?_
  refine z_iconst h dX11_readTrain_32 ki_1 ?_
  refine z_iadd h dX11_readTrain_33 ?_
  refine z_aload_n 0 h dX11_readTrain_34 rfl rfl rfl ?_
  refine z_ldcS h twX11_175 dX11_readTrain_35 ?_
  refine z_iconst h dX11_readTrain_37 ki_1 ?_
  refine z_bipush h dX11_readTrain_38 kb_99 ?_
  refine z_callV h (m_told hm hX hg (hg.2.2 6 (by decide)) 1 99 (by omega) (by decide)) kX11 (.inl (hm.at 0 (by decide))) (lw_V q2019 q2021 qs73 q148 q2022) nX11_told rfl rfl rfl (Nat.le_of_ble_eq_true rfl) (Nat.le_of_ble_eq_true rfl) (Nat.le_of_ble_eq_true rfl) dX11_readTrain_40 (fun v M hv => ?_)
  obtain ⟨rfl, s3, hm, hkd, hX1⟩ := hv
  clear hX
  have hX := hX1
  clear hX1
  replace hk := hk.tr hkd.F
  replace hF := hF.D hkd
  refine zm_iast 14 ((13 + (6 * (F 4))) + 1) h hm (by decide) (fun _ => rfl) (ixa (ixa rfl (ixm rfl rfl)) rfl) (by omega) (by decide) dX11_readTrain_43 (fun M hm => ?_)
  generalize hs3 : uA s3 14 _ = s4 at hm
  replace hk := hk.A hs3
  replace hX := hX.up hs3
  replace hF := hF.up (v := _) hs3 rfl
  refine z_aload_n 0 h dX11_readTrain_44 rfl rfl rfl ?_
  refine z_get h kX11 (.inl (hm.at 0 (by decide))) 14 rfl q1861 rfl dX11_readTrain_45 ?_
  refine z_iload_n 1 h dX11_readTrain_48 rfl rfl ?_
  refine z_iconst h dX11_readTrain_49 ki_2 ?_
  refine z_iadd h dX11_readTrain_50 ?_
  refine z_aload_n 0 h dX11_readTrain_51 rfl rfl rfl ?_
  refine z_ldcS h twX11_177 dX11_readTrain_52 ?_
  refine z_iconst h dX11_readTrain_54 ki_0 ?_
  refine z_bipush h dX11_readTrain_55 kb_59 ?_
  refine z_callV h (m_told hm hX hg (hg.2.2 7 (by decide)) 0 59 (by omega) (by decide)) kX11 (.inl (hm.at 0 (by decide))) (lw_V q2019 q2021 qs73 q148 q2022) nX11_told rfl rfl rfl (Nat.le_of_ble_eq_true rfl) (Nat.le_of_ble_eq_true rfl) (Nat.le_of_ble_eq_true rfl) dX11_readTrain_57 (fun v M hv => ?_)
  obtain ⟨rfl, s5, hm, hkd, hX1⟩ := hv
  clear hX
  have hX := hX1
  clear hX1
  replace hk := hk.tr hkd.F
  replace hF := hF.D hkd
  refine zm_iast 14 ((13 + (6 * (F 4))) + 2) h hm (by decide) (fun _ => rfl) (ixa (ixa rfl (ixm rfl rfl)) rfl) (by omega) (by decide) dX11_readTrain_60 (fun M hm => ?_)
  generalize hs5 : uA s5 14 _ = s6 at hm
  replace hk := hk.A hs5
  replace hX := hX.up hs5
  replace hF := hF.up (v := _) hs5 rfl
  refine z_aload_n 0 h dX11_readTrain_61 rfl rfl rfl ?_
  refine z_get h kX11 (.inl (hm.at 0 (by decide))) 14 rfl q1861 rfl dX11_readTrain_62 ?_
  refine z_iload_n 1 h dX11_readTrain_65 rfl rfl ?_
  refine z_iconst h dX11_readTrain_66 ki_3 ?_
  refine z_iadd h dX11_readTrain_67 ?_
  refine z_aload_n 0 h dX11_readTrain_68 rfl rfl rfl ?_
  refine z_ldcS h twX11_179 dX11_readTrain_69 ?_
  refine z_iconst h dX11_readTrain_71 ki_0 ?_
  refine z_bipush h dX11_readTrain_72 kb_100 ?_
  refine z_callV h (m_told hm hX hg (hg.2.2 8 (by decide)) 0 100 (by omega) (by decide)) kX11 (.inl (hm.at 0 (by decide))) (lw_V q2019 q2021 qs73 q148 q2022) nX11_told rfl rfl rfl (Nat.le_of_ble_eq_true rfl) (Nat.le_of_ble_eq_true rfl) (Nat.le_of_ble_eq_true rfl) dX11_readTrain_74 (fun v M hv => ?_)
  obtain ⟨rfl, s7, hm, hkd, hX1⟩ := hv
  clear hX
  have hX := hX1
  clear hX1
  replace hk := hk.tr hkd.F
  replace hF := hF.D hkd
  refine zm_iast 14 ((13 + (6 * (F 4))) + 3) h hm (by decide) (fun _ => rfl) (ixa (ixa rfl (ixm rfl rfl)) rfl) (by omega) (by decide) dX11_readTrain_77 (fun M hm => ?_)
  generalize hs7 : uA s7 14 _ = s8 at hm
  replace hk := hk.A hs7
  replace hX := hX.up hs7
  replace hF := hF.up (v := _) hs7 rfl
  refine z_aload_n 0 h dX11_readTrain_78 rfl rfl rfl ?_
  refine z_get h kX11 (.inl (hm.at 0 (by decide))) 14 rfl q1861 rfl dX11_readTrain_79 ?_
  refine z_iload_n 1 h dX11_readTrain_82 rfl rfl ?_
  refine z_iconst h dX11_readTrain_83 ki_4 ?_
  refine z_iadd h dX11_readTrain_84 ?_
  refine z_aload_n 0 h dX11_readTrain_85 rfl rfl rfl ?_
  refine z_ldcS h twX11_181 dX11_readTrain_86 ?_
  refine z_iconst h dX11_readTrain_88 ki_1 ?_
  refine z_bipush h dX11_readTrain_89 kb_30 ?_
  refine z_callV h (m_told hm hX hg (hg.2.2 9 (by decide)) 1 30 (by omega) (by decide)) kX11 (.inl (hm.at 0 (by decide))) (lw_V q2019 q2021 qs73 q148 q2022) nX11_told rfl rfl rfl (Nat.le_of_ble_eq_true rfl) (Nat.le_of_ble_eq_true rfl) (Nat.le_of_ble_eq_true rfl) dX11_readTrain_91 (fun v M hv => ?_)
  obtain ⟨rfl, s9, hm, hkd, hX1⟩ := hv
  clear hX
  have hX := hX1
  clear hX1
  replace hk := hk.tr hkd.F
  replace hF := hF.D hkd
  refine zm_iast 14 ((13 + (6 * (F 4))) + 4) h hm (by decide) (fun _ => rfl) (ixa (ixa rfl (ixm rfl rfl)) rfl) (by omega) (by decide) dX11_readTrain_94 (fun M hm => ?_)
  generalize hs9 : uA s9 14 _ = s10 at hm
  replace hk := hk.A hs9
  replace hX := hX.up hs9
  replace hF := hF.up (v := _) hs9 rfl
  refine z_aload_n 0 h dX11_readTrain_95 rfl rfl rfl ?_
  refine z_get h kX11 (.inl (hm.at 0 (by decide))) 14 rfl q1861 rfl dX11_readTrain_96 ?_
  refine z_iload_n 1 h dX11_readTrain_99 rfl rfl ?_
  refine z_iconst h dX11_readTrain_100 ki_5 ?_
  refine z_iadd h dX11_readTrain_101 ?_
  refine z_aload_n 0 h dX11_readTrain_102 rfl rfl rfl ?_
  refine z_ldcS h twX11_183 dX11_readTrain_103 ?_
  refine z_iconst h dX11_readTrain_105 ki_0 ?_
  refine z_sipush h dX11_readTrain_106 ks_999 ?_
  refine z_callV h (m_told hm hX hg (hg.2.2 10 (by decide)) 0 999 (by omega) (by decide)) kX11 (.inl (hm.at 0 (by decide))) (lw_V q2019 q2021 qs73 q148 q2022) nX11_told rfl rfl rfl (Nat.le_of_ble_eq_true rfl) (Nat.le_of_ble_eq_true rfl) (Nat.le_of_ble_eq_true rfl) dX11_readTrain_109 (fun v M hv => ?_)
  obtain ⟨rfl, s11, hm, hkd, hX1⟩ := hv
  clear hX
  have hX := hX1
  clear hX1
  replace hk := hk.tr hkd.F
  replace hF := hF.D hkd
  refine zm_iast 14 ((13 + (6 * (F 4))) + 5) h hm (by decide) (fun _ => rfl) (ixa (ixa rfl (ixm rfl rfl)) rfl) (by omega) (by decide) dX11_readTrain_112 (fun M hm => ?_)
  generalize hs11 : uA s11 14 _ = s12 at hm
  replace hk := hk.A hs11
  replace hX := hX.up hs11
  replace hF := hF.up (v := _) hs11 rfl
  refine z_aload_n 0 h dX11_readTrain_113 rfl rfl rfl ?_
  refine z_get h kX11 (.inl (hm.at 0 (by decide))) 14 rfl q1861 rfl dX11_readTrain_114 ?_
  refine z_iconst h dX11_readTrain_117 ki_4 ?_
  refine z_dup2 h dX11_readTrain_118 rfl rfl ?_
  refine z_ialdN (4) h (.inl (hm.at 14 (by decide))) rfl (by omega) (by decide) dX11_readTrain_119 ?_
  rw [hF 4 (by decide), updN_n (by omega), updN_n (by omega), updN_n (by omega), updN_n (by omega), updN_n (by omega), updN_n (by omega)]
  refine z_iconst h dX11_readTrain_120 ki_1 ?_
  refine z_iadd h dX11_readTrain_121 ?_
  refine zm_iast 14 (4) h hm (by decide) (fun _ => rfl) rfl (by omega) (by decide) dX11_readTrain_122 (fun M hm => ?_)
  generalize hs99 : uA s12 14 _ = s100 at hm
  replace hk := hk.A hs99
  replace hX := hX.up hs99
  replace hF := hF.up (v := F 4 + 1) hs99 (nI_1 _)
  exact z_vret h hq dX11_readTrain_123 (Nat.le_of_ble_eq_true rfl) (Nat.le_of_ble_eq_true rfl) (⟨rfl, s100, hm, hk, hX, hF⟩)
set_option maxHeartbeats 4000000 in
theorem m_readAsk {l : Launch} {g : Zg} {ad : Nat → Nat} {M : Zm} {st : Ms} (hm : Mod g ad M st) {tp : Nat} {T : Nat → Int32} {X : Rs} {F : Nat → Nat} (hg : Gok g) (hX : RSt st tp T X) (hF : FrR st F) (hF6 : F 6 ≤ 7) : Cn l g yX11_readAsk cX11_readAsk 2 none 9 0 0 [.ref (ad 0)] M (PMG g ad st tp T (rdAsk T tp X F)) := by
  refine Cn.start [(0, .ref (ad 0))] (by decide) (Nat.le_of_ble_eq_true rfl) rfl ?_
  intro γ el eg h hq
  subst el; subst eg
  have hk : kpF st st := kpF.rf st
  refine z_bipush h dX11_readAsk_0 kb_75 ?_
  refine z_iconst h dX11_readAsk_2 ki_4 ?_
  refine z_aload_n 0 h dX11_readAsk_3 rfl rfl rfl ?_
  refine z_get h kX11 (.inl (hm.at 0 (by decide))) 14 rfl q1861 rfl dX11_readAsk_4 ?_
  refine z_bipush h dX11_readAsk_7 kb_6 ?_
  refine z_ialdN (6) h (.inl (hm.at 14 (by decide))) rfl (by omega) (by decide) dX11_readAsk_9 ?_
  rw [hF 6 (by decide)]
  refine z_imul h dX11_readAsk_10 ?_
  refine z_iadd h dX11_readAsk_11 ?_
  refine z_istore_n 1 h dX11_readAsk_12 rfl rfl ?_
  refine z_aload_n 0 h dX11_readAsk_13 rfl rfl rfl ?_
  refine z_get h kX11 (.inl (hm.at 0 (by decide))) 14 rfl q1861 rfl dX11_readAsk_14 ?_
  refine z_iload_n 1 h dX11_readAsk_17 rfl rfl ?_
  refine z_aload_n 0 h dX11_readAsk_18 rfl rfl rfl ?_
  refine z_iconst h dX11_readAsk_19 ki_0 ?_
  refine z_iconst h dX11_readAsk_20 ki_1 ?_
  refine z_callV h (m_number hm hX 0 1 (by omega) (by decide)) kX11 (.inl (hm.at 0 (by decide))) (lw_V q2023 q2025 qs74 q148 q2026) nX11_number rfl rfl rfl (Nat.le_of_ble_eq_true rfl) (Nat.le_of_ble_eq_true rfl) (Nat.le_of_ble_eq_true rfl) dX11_readAsk_21 (fun v M hv => ?_)
  obtain ⟨rfl, s1, hm, hkd, hX1⟩ := hv
  clear hX
  have hX := hX1
  clear hX1
  replace hk := hk.tr hkd.F
  replace hF := hF.D hkd
  refine zm_iast 14 (75 + (4 * (F 6))) h hm (by decide) (fun _ => rfl) (ixa rfl (ixm rfl rfl)) (by omega) (by decide) dX11_readAsk_24 (fun M hm => ?_)
  generalize hs1 : uA s1 14 _ = s2 at hm
  replace hk := hk.A hs1
  replace hX := hX.up hs1
  replace hF := hF.up (v := _) hs1 rfl
  refine z_aload_n 0 h dX11_readAsk_25 rfl rfl rfl ?_
  refine z_get h kX11 (.inl (hm.at 0 (by decide))) 14 rfl q1861 rfl dX11_readAsk_26 ?_
  refine z_iload_n 1 h dX11_readAsk_29 rfl rfl ?_
  refine z_iconst h dX11_readAsk_30 ki_1 ?_
  refine z_iadd h dX11_readAsk_31 ?_
  refine z_aload_n 0 h dX11_readAsk_32 rfl rfl rfl ?_
  refine z_ldcS h twX11_187 dX11_readAsk_33 ?_
  refine z_iconst h dX11_readAsk_35 ki_0 ?_
  refine z_bipush h dX11_readAsk_36 kb_59 ?_
  refine z_callV h (m_told hm hX hg (hg.2.2 12 (by decide)) 0 59 (by omega) (by decide)) kX11 (.inl (hm.at 0 (by decide))) (lw_V q2019 q2021 qs73 q148 q2022) nX11_told rfl rfl rfl (Nat.le_of_ble_eq_true rfl) (Nat.le_of_ble_eq_true rfl) (Nat.le_of_ble_eq_true rfl) dX11_readAsk_38 (fun v M hv => ?_)
  obtain ⟨rfl, s3, hm, hkd, hX1⟩ := hv
  clear hX
  have hX := hX1
  clear hX1
  replace hk := hk.tr hkd.F
  replace hF := hF.D hkd
  refine zm_iast 14 ((75 + (4 * (F 6))) + 1) h hm (by decide) (fun _ => rfl) (ixa (ixa rfl (ixm rfl rfl)) rfl) (by omega) (by decide) dX11_readAsk_41 (fun M hm => ?_)
  generalize hs3 : uA s3 14 _ = s4 at hm
  replace hk := hk.A hs3
  replace hX := hX.up hs3
  replace hF := hF.up (v := _) hs3 rfl
  refine z_aload_n 0 h dX11_readAsk_42 rfl rfl rfl ?_
  refine z_get h kX11 (.inl (hm.at 0 (by decide))) 14 rfl q1861 rfl dX11_readAsk_43 ?_
  refine z_iload_n 1 h dX11_readAsk_46 rfl rfl ?_
  refine z_iconst h dX11_readAsk_47 ki_2 ?_
  refine z_iadd h dX11_readAsk_48 ?_
  refine z_aload_n 0 h dX11_readAsk_49 rfl rfl rfl ?_
  refine z_ldcS h twX11_188 dX11_readAsk_50 ?_
  refine z_iconst h dX11_readAsk_52 ki_1 ?_
  refine z_bipush h dX11_readAsk_53 kb_20 ?_
  refine z_callV h (m_told hm hX hg (hg.2.2 13 (by decide)) 1 20 (by omega) (by decide)) kX11 (.inl (hm.at 0 (by decide))) (lw_V q2019 q2021 qs73 q148 q2022) nX11_told rfl rfl rfl (Nat.le_of_ble_eq_true rfl) (Nat.le_of_ble_eq_true rfl) (Nat.le_of_ble_eq_true rfl) dX11_readAsk_55 (fun v M hv => ?_)
  obtain ⟨rfl, s5, hm, hkd, hX1⟩ := hv
  clear hX
  have hX := hX1
  clear hX1
  replace hk := hk.tr hkd.F
  replace hF := hF.D hkd
  refine zm_iast 14 ((75 + (4 * (F 6))) + 2) h hm (by decide) (fun _ => rfl) (ixa (ixa rfl (ixm rfl rfl)) rfl) (by omega) (by decide) dX11_readAsk_58 (fun M hm => ?_)
  generalize hs5 : uA s5 14 _ = s6 at hm
  replace hk := hk.A hs5
  replace hX := hX.up hs5
  replace hF := hF.up (v := _) hs5 rfl
  refine z_aload_n 0 h dX11_readAsk_59 rfl rfl rfl ?_
  refine z_get h kX11 (.inl (hm.at 0 (by decide))) 14 rfl q1861 rfl dX11_readAsk_60 ?_
  refine z_iload_n 1 h dX11_readAsk_63 rfl rfl ?_
  refine z_iconst h dX11_readAsk_64 ki_3 ?_
  refine z_iadd h dX11_readAsk_65 ?_
  refine z_aload_n 0 h dX11_readAsk_66 rfl rfl rfl ?_
  refine z_ldcS h twX11_190 dX11_readAsk_67 ?_
  refine z_iconst h dX11_readAsk_69 ki_1 ?_
  refine z_bipush h dX11_readAsk_70 kb_99 ?_
  refine z_callV h (m_told hm hX hg (hg.2.2 14 (by decide)) 1 99 (by omega) (by decide)) kX11 (.inl (hm.at 0 (by decide))) (lw_V q2019 q2021 qs73 q148 q2022) nX11_told rfl rfl rfl (Nat.le_of_ble_eq_true rfl) (Nat.le_of_ble_eq_true rfl) (Nat.le_of_ble_eq_true rfl) dX11_readAsk_72 (fun v M hv => ?_)
  obtain ⟨rfl, s7, hm, hkd, hX1⟩ := hv
  clear hX
  have hX := hX1
  clear hX1
  replace hk := hk.tr hkd.F
  replace hF := hF.D hkd
  refine zm_iast 14 ((75 + (4 * (F 6))) + 3) h hm (by decide) (fun _ => rfl) (ixa (ixa rfl (ixm rfl rfl)) rfl) (by omega) (by decide) dX11_readAsk_75 (fun M hm => ?_)
  generalize hs7 : uA s7 14 _ = s8 at hm
  replace hk := hk.A hs7
  replace hX := hX.up hs7
  replace hF := hF.up (v := _) hs7 rfl
  refine z_aload_n 0 h dX11_readAsk_76 rfl rfl rfl ?_
  refine z_get h kX11 (.inl (hm.at 0 (by decide))) 14 rfl q1861 rfl dX11_readAsk_77 ?_
  refine z_bipush h dX11_readAsk_80 kb_6 ?_
  refine z_dup2 h dX11_readAsk_82 rfl rfl ?_
  refine z_ialdN (6) h (.inl (hm.at 14 (by decide))) rfl (by omega) (by decide) dX11_readAsk_83 ?_
  rw [hF 6 (by decide), updN_n (by omega), updN_n (by omega), updN_n (by omega), updN_n (by omega)]
  refine z_iconst h dX11_readAsk_84 ki_1 ?_
  refine z_iadd h dX11_readAsk_85 ?_
  refine zm_iast 14 (6) h hm (by decide) (fun _ => rfl) rfl (by omega) (by decide) dX11_readAsk_86 (fun M hm => ?_)
  generalize hs99 : uA s8 14 _ = s100 at hm
  replace hk := hk.A hs99
  replace hX := hX.up hs99
  replace hF := hF.up (v := F 6 + 1) hs99 (nI_1 _)
  exact z_vret h hq dX11_readAsk_87 (Nat.le_of_ble_eq_true rfl) (Nat.le_of_ble_eq_true rfl) (⟨rfl, s100, hm, hk, hX, hF⟩)
set_option maxHeartbeats 4000000 in
theorem m_readBounds {l : Launch} {g : Zg} {ad : Nat → Nat} {M : Zm} {st : Ms} (hm : Mod g ad M st) {tp : Nat} {T : Nat → Int32} {X : Rs} {F : Nat → Nat} (hg : Gok g) (hX : RSt st tp T X) (hF : FrR st F) (k : Nat) (hk2 : k ≤ 200) : Cn l g yX11_readBounds cX11_readBounds 2 none 9 0 0 [.ref (ad 0), .int (nI k)] M (PMG g ad st tp T (rdBounds T tp k X F)) := by
  refine Cn.start [(0, .ref (ad 0)), (1, .int (nI k))] (by decide) (Nat.le_of_ble_eq_true rfl) rfl ?_
  intro γ el eg h hq
  subst el; subst eg
  have hk : kpF st st := kpF.rf st
  refine z_aload_n 0 h dX11_readBounds_0 rfl rfl rfl ?_
  refine z_get h kX11 (.inl (hm.at 0 (by decide))) 14 rfl q1861 rfl dX11_readBounds_1 ?_
  refine z_iload_n 1 h dX11_readBounds_4 rfl rfl ?_
  refine z_aload_n 0 h dX11_readBounds_5 rfl rfl rfl ?_
  refine z_iconst h dX11_readBounds_6 ki_0 ?_
  refine z_bipush h dX11_readBounds_7 kb_59 ?_
  refine z_callV h (m_number hm hX 0 59 (by omega) (by decide)) kX11 (.inl (hm.at 0 (by decide))) (lw_V q2023 q2025 qs74 q148 q2026) nX11_number rfl rfl rfl (Nat.le_of_ble_eq_true rfl) (Nat.le_of_ble_eq_true rfl) (Nat.le_of_ble_eq_true rfl) dX11_readBounds_9 (fun v M hv => ?_)
  have hnb := numV_b 0 59 X (by decide)
  obtain ⟨rfl, s1, hm, hkd, hX1⟩ := hv
  clear hX
  have hX := hX1
  clear hX1
  replace hk := hk.tr hkd.F
  replace hF := hF.D hkd
  refine zm_iast 14 (k) h hm (by decide) (fun _ => rfl) rfl (by omega) (by decide) dX11_readBounds_12 (fun M hm => ?_)
  generalize hs2 : uA s1 14 _ = s2 at hm
  replace hk := hk.A hs2
  replace hX := hX.up hs2
  replace hF := hF.up (v := _) hs2 rfl
  refine z_aload_n 0 h dX11_readBounds_13 rfl rfl rfl ?_
  refine z_get h kX11 (.inl (hm.at 0 (by decide))) 14 rfl q1861 rfl dX11_readBounds_14 ?_
  refine z_iload_n 1 h dX11_readBounds_17 rfl rfl ?_
  refine z_iconst h dX11_readBounds_18 ki_1 ?_
  refine z_iadd h dX11_readBounds_19 ?_
  refine z_aload_n 0 h dX11_readBounds_20 rfl rfl rfl ?_
  refine z_ldcS h twX11_185 dX11_readBounds_21 ?_
  refine z_aload_n 0 h dX11_readBounds_23 rfl rfl rfl ?_
  refine z_get h kX11 (.inl (hm.at 0 (by decide))) 14 rfl q1861 rfl dX11_readBounds_24 ?_
  refine z_iload_n 1 h dX11_readBounds_27 rfl rfl ?_
  refine z_ialdN (k) h (.inl (hm.at 14 (by decide))) rfl (by omega) (by decide) dX11_readBounds_28 ?_
  rw [hF k (by omega), updN_s]
  refine z_bipush h dX11_readBounds_29 kb_59 ?_
  refine z_callV h (m_told hm hX hg (hg.2.2 18 (by decide)) (numV 0 59 X) 59 (by omega) (by decide)) kX11 (.inl (hm.at 0 (by decide))) (lw_V q2019 q2021 qs73 q148 q2022) nX11_told rfl rfl rfl (Nat.le_of_ble_eq_true rfl) (Nat.le_of_ble_eq_true rfl) (Nat.le_of_ble_eq_true rfl) dX11_readBounds_31 (fun v M hv => ?_)
  obtain ⟨rfl, s3, hm, hkd, hX1⟩ := hv
  clear hX
  have hX := hX1
  clear hX1
  replace hk := hk.tr hkd.F
  replace hF := hF.D hkd
  refine zm_iast 14 (k + 1) h hm (by decide) (fun _ => rfl) (ixa rfl rfl) (by omega) (by decide) dX11_readBounds_34 (fun M hm => ?_)
  generalize hs4 : uA s3 14 _ = s4 at hm
  replace hk := hk.A hs4
  replace hX := hX.up hs4
  replace hF := hF.up (v := _) hs4 rfl
  exact z_vret h hq dX11_readBounds_35 (Nat.le_of_ble_eq_true rfl) (Nat.le_of_ble_eq_true rfl) (⟨rfl, s4, hm, hk, hX, hF⟩)
