/-! String: length, charAt; texts -/
set_option maxRecDepth 100000
theorem st_COMPACT_STRINGS : ("java/lang/String", "COMPACT_STRINGS", "Z", 4) ∈ lw_st := by decide +kernel
theorem st_SIOOBE_FORMATTER : ("jdk/internal/util/Preconditions", "SIOOBE_FORMATTER", "Ljava/util/function/BiFunction;", 10) ∈ lw_st := by decide +kernel
/-- the letters of the texts, by their numbers -/
def txN : Nat → List Nat
  | 0 => [119, 97, 114]
  | 1 => [109, 105, 110, 117, 116, 101, 115]
  | 2 => [108, 97, 116, 101]
  | 3 => [112, 101, 97, 99, 101]
  | 4 => [114, 97, 105, 110]
  | 5 => [116, 114, 97, 105, 110]
  | 6 => [109, 101, 110]
  | 7 => [100, 117, 101]
  | 8 => [111, 100, 100, 115]
  | 9 => [98, 121]
  | 10 => [112, 114, 105, 99, 101]
  | 11 => [99, 97, 110, 110, 111, 110]
  | 12 => [97, 116]
  | 13 => [102, 111, 114]
  | 14 => [119, 111, 114, 116, 104]
  | 15 => [115, 112, 121]
  | 16 => [107, 110, 111, 119, 115]
  | 17 => [116, 101, 97]
  | 18 => [116, 111]
  | 19 => [114, 117, 108, 101]
  | 20 => [110, 101, 101, 100]
  | _ => []
/-- a text of these letters lies at a -/
def TxC (g : Zg) (a : Nat) (t : List Nat) : Prop := ∃ v f, zRom g a = some (eo 20 [.ref v, .int 0]) ∧ zRom g v = some (eB g t.length f) ∧ t.length < 100 ∧ ∀ k, k < t.length → f k = nI (t.getD k 0) ∧ t.getD k 0 < 128
/-- what is known of the machine's own: text rows are compact, texts lie where they lie -/
def Gok (g : Zg) : Prop := zSv g 4 = .int 1 ∧ (∃ f, zSv g 10 = .ref f) ∧ ∀ i, i < 21 → TxC g (zTx g i) (txN i)
set_option maxHeartbeats 4000000 in
theorem j_coder {l : Launch} {g : Zg} {M : Zm} (hg : Gok g) {a v n : Nat} {f : Nat → Int32} (ha : zRom g a = some (eo 20 [.ref v, .int 0])) (hv : zRom g v = some (eB g n f)) : Cn l g yJ4_coder cJ4_coder 1 (some .byte) 1 0 0 [.ref a] M (PV (.int 0) M) := by
  refine Cn.start [(0, .ref a)] (by decide) (Nat.le_of_ble_eq_true rfl) rfl ?_
  intro γ el eg h hq
  subst el; subst eg
  refine z_gets h st_COMPACT_STRINGS q765 dJ4_coder_0 ?_
  rw [hg.1]
  refine z_if_eq 13 h dJ4_coder_3 (by decide) (fun c_3 => ?_) (fun c_3 => ?_)
  · have _z := c_3
    exact absurd c_3 (by decide)
  · have _z := c_3
    refine z_aload_n 0 h dJ4_coder_6 rfl rfl rfl ?_
    refine z_get h kJ4 (.inr ha) 1 rfl q2623 rfl dJ4_coder_7 ?_
    refine z_goto 14 h dJ4_coder_10 (by decide) ?_
    exact z_zret h hq rfl dJ4_coder_14 (Nat.le_of_ble_eq_true rfl) (Nat.le_of_ble_eq_true rfl) (⟨rfl, rfl⟩)
set_option maxHeartbeats 4000000 in
theorem j_isLatin1 {l : Launch} {g : Zg} {M : Zm} (hg : Gok g) {a v n : Nat} {f : Nat → Int32} (ha : zRom g a = some (eo 20 [.ref v, .int 0])) (hv : zRom g v = some (eB g n f)) : Cn l g yJ4_isLatin1 cJ4_isLatin1 1 (some .boolean) 1 0 0 [.ref a] M (PV (.int 1) M) := by
  refine Cn.start [(0, .ref a)] (by decide) (Nat.le_of_ble_eq_true rfl) rfl ?_
  intro γ el eg h hq
  subst el; subst eg
  refine z_gets h st_COMPACT_STRINGS q765 dJ4_isLatin1_0 ?_
  rw [hg.1]
  refine z_if_eq 17 h dJ4_isLatin1_3 (by decide) (fun c_3 => ?_) (fun c_3 => ?_)
  · have _z := c_3
    exact absurd c_3 (by decide)
  · have _z := c_3
    refine z_aload_n 0 h dJ4_isLatin1_6 rfl rfl rfl ?_
    refine z_get h kJ4 (.inr ha) 1 rfl q2623 rfl dJ4_isLatin1_7 ?_
    refine z_if_ne 17 h dJ4_isLatin1_10 (by decide) (fun c_10 => ?_) (fun c_10 => ?_)
    · have _z := c_10
      exact absurd c_10 (by decide)
    · have _z := c_10
      refine z_iconst h dJ4_isLatin1_13 ki_1 ?_
      refine z_goto 18 h dJ4_isLatin1_14 (by decide) ?_
      exact z_zret h hq rfl dJ4_isLatin1_18 (Nat.le_of_ble_eq_true rfl) (Nat.le_of_ble_eq_true rfl) (⟨rfl, rfl⟩)
set_option maxHeartbeats 4000000 in
theorem j_length {l : Launch} {g : Zg} {M : Zm} (hg : Gok g) {a v n : Nat} {f : Nat → Int32} (ha : zRom g a = some (eo 20 [.ref v, .int 0])) (hv : zRom g v = some (eB g n f)) : Cn l g yJ4_length cJ4_length 1 (some .int) 2 0 0 [.ref a] M (PV (.int (nI n)) M) := by
  refine Cn.startF [(0, .ref a)] (by decide +kernel) (Nat.le_of_ble_eq_true rfl) rfl ?_
  intro γ el eg h hq
  subst el; subst eg
  refine z_aload_n 0 h dJ4_length_0 rfl rfl rfl ?_
  refine z_get h kJ4 (.inr ha) 0 rfl q2622 rfl dJ4_length_1 ?_
  refine z_alen 1 h rfl (.inr hv) dJ4_length_4 ?_
  refine z_aload_n 0 h dJ4_length_5 rfl rfl rfl ?_
  refine z_callVP h (j_coder hg ha hv) kJ4 (.inr ha) (lw_V q761 q762 q763 q151 q764) nJ4_coder rfl rfl rfl (Nat.le_of_ble_eq_true rfl) (Nat.le_of_ble_eq_true rfl) (Nat.le_of_ble_eq_true rfl) dJ4_length_6 ?_
  refine z_ishr h dJ4_length_9 ?_
  exact z_iret h hq dJ4_length_10 (Nat.le_of_ble_eq_true rfl) (Nat.le_of_ble_eq_true rfl) (⟨vS (by have e : (0 : Int32) &&& 31 = 0 := (by decide); rw [e]; simp), rfl⟩)
set_option maxHeartbeats 4000000 in
theorem j_preF {l : Launch} {g : Zg} {M : Zm} (i n : Nat) (hin : i < n) (hn : n < 2 ^ 31) (f : Nat) : Cn l g yJ6_checkIndex cJ6_checkIndex 3 (some .int) 1 0 0 [.int (nI i), .int (nI n), .ref f] M (PV (.int (nI i)) M) := by
  refine Cn.start [(0, .int (nI i)), (1, .int (nI n)), (2, .ref f)] (by decide) (Nat.le_of_ble_eq_true rfl) rfl ?_
  intro γ el eg h hq
  subst el; subst eg
  refine z_iload_n 0 h dJ6_checkIndex_0 rfl rfl ?_
  refine z_if_lt 9 h dJ6_checkIndex_1 (by decide) (fun c_1 => ?_) (fun c_1 => ?_)
  · have _z := c_1
    replace c_1 := (ilt (a := i) (b := 0) rfl rfl (by omega) (by decide)).mp c_1
    exact absurd c_1 (by omega)
  · have _z := c_1
    replace c_1 := (not_congr (ilt (a := i) (b := 0) rfl rfl (by omega) (by decide))).mp c_1
    refine z_iload_n 0 h dJ6_checkIndex_4 rfl rfl ?_
    refine z_iload_n 1 h dJ6_checkIndex_5 rfl rfl ?_
    refine z_icmp_lt 16 h dJ6_checkIndex_6 (by decide) (fun c_6 => ?_) (fun c_6 => ?_)
    · have _z := c_6
      replace c_6 := (ilt (a := i) (b := n) rfl rfl (by omega) (by omega)).mp c_6
      refine z_iload_n 0 h dJ6_checkIndex_16 rfl rfl ?_
      exact z_iret h hq dJ6_checkIndex_17 (Nat.le_of_ble_eq_true rfl) (Nat.le_of_ble_eq_true rfl) (⟨rfl, rfl⟩)
    · have _z := c_6
      replace c_6 := (not_congr (ilt (a := i) (b := n) rfl rfl (by omega) (by omega))).mp c_6
      exact absurd hin c_6
set_option maxHeartbeats 4000000 in
theorem j_preN {l : Launch} {g : Zg} {M : Zm} (i n : Nat) (hin : i < n) (hn : n < 2 ^ 31) : Cn l g yJ6_checkIndex cJ6_checkIndex 3 (some .int) 1 0 0 [.int (nI i), .int (nI n), .null] M (PV (.int (nI i)) M) := by
  refine Cn.start [(0, .int (nI i)), (1, .int (nI n)), (2, .null)] (by decide) (Nat.le_of_ble_eq_true rfl) rfl ?_
  intro γ el eg h hq
  subst el; subst eg
  refine z_iload_n 0 h dJ6_checkIndex_0 rfl rfl ?_
  refine z_if_lt 9 h dJ6_checkIndex_1 (by decide) (fun c_1 => ?_) (fun c_1 => ?_)
  · have _z := c_1
    replace c_1 := (ilt (a := i) (b := 0) rfl rfl (by omega) (by decide)).mp c_1
    exact absurd c_1 (by omega)
  · have _z := c_1
    replace c_1 := (not_congr (ilt (a := i) (b := 0) rfl rfl (by omega) (by decide))).mp c_1
    refine z_iload_n 0 h dJ6_checkIndex_4 rfl rfl ?_
    refine z_iload_n 1 h dJ6_checkIndex_5 rfl rfl ?_
    refine z_icmp_lt 16 h dJ6_checkIndex_6 (by decide) (fun c_6 => ?_) (fun c_6 => ?_)
    · have _z := c_6
      replace c_6 := (ilt (a := i) (b := n) rfl rfl (by omega) (by omega)).mp c_6
      refine z_iload_n 0 h dJ6_checkIndex_16 rfl rfl ?_
      exact z_iret h hq dJ6_checkIndex_17 (Nat.le_of_ble_eq_true rfl) (Nat.le_of_ble_eq_true rfl) (⟨rfl, rfl⟩)
    · have _z := c_6
      replace c_6 := (not_congr (ilt (a := i) (b := n) rfl rfl (by omega) (by omega))).mp c_6
      exact absurd hin c_6
set_option maxHeartbeats 4000000 in
theorem j_objCheck {l : Launch} {g : Zg} {M : Zm} (i n : Nat) (hin : i < n) (hn : n < 2 ^ 31) : Cn l g yJ15_checkIndex cJ15_checkIndex 2 (some .int) 2 0 0 [.int (nI i), .int (nI n)] M (PV (.int (nI i)) M) := by
  refine Cn.startF [(0, .int (nI i)), (1, .int (nI n))] (by decide +kernel) (Nat.le_of_ble_eq_true rfl) rfl ?_
  intro γ el eg h hq
  subst el; subst eg
  refine z_iload_n 0 h dJ15_checkIndex_0 rfl rfl ?_
  refine z_iload_n 1 h dJ15_checkIndex_1 rfl rfl ?_
  refine z_null h dJ15_checkIndex_2 ?_
  refine z_callSP h (j_preN i n hin hn) (lw_S q1110 q784 q153 q785) nJ6_checkIndex rfl rfl rfl (Nat.le_of_ble_eq_true rfl) (Nat.le_of_ble_eq_true rfl) (Nat.le_of_ble_eq_true rfl) dJ15_checkIndex_3 ?_
  exact z_iret h hq dJ15_checkIndex_6 (Nat.le_of_ble_eq_true rfl) (Nat.le_of_ble_eq_true rfl) (⟨rfl, rfl⟩)
set_option maxHeartbeats 4000000 in
theorem j_strCheck {l : Launch} {g : Zg} {M : Zm} (hg : Gok g) (i n : Nat) (hin : i < n) (hn : n < 2 ^ 31) : Cn l g yJ4_checkIndex cJ4_checkIndex 2 none 2 0 0 [.int (nI i), .int (nI n)] M ((fun r M9 => r = none ∧ M9 = M)) := by
  refine Cn.start [(0, .int (nI i)), (1, .int (nI n))] (by decide) (Nat.le_of_ble_eq_true rfl) rfl ?_
  intro γ el eg h hq
  subst el; subst eg
  obtain ⟨fv, hfv⟩ := hg.2.1
  refine z_iload_n 0 h dJ4_checkIndex_0 rfl rfl ?_
  refine z_iload_n 1 h dJ4_checkIndex_1 rfl rfl ?_
  refine z_gets h st_SIOOBE_FORMATTER q781 dJ4_checkIndex_2 ?_
  rw [hfv]
  refine z_callSP h (j_preF i n hin hn fv) (lw_S q783 q784 q153 q785) nJ6_checkIndex rfl rfl rfl (Nat.le_of_ble_eq_true rfl) (Nat.le_of_ble_eq_true rfl) (Nat.le_of_ble_eq_true rfl) dJ4_checkIndex_5 ?_
  refine z_pop h dJ4_checkIndex_8 rfl ?_
  exact z_vret h hq dJ4_checkIndex_9 (Nat.le_of_ble_eq_true rfl) (Nat.le_of_ble_eq_true rfl) (⟨rfl, rfl⟩)
set_option maxHeartbeats 4000000 in
theorem j_latinAt {l : Launch} {g : Zg} {M : Zm} (hg : Gok g) {v n : Nat} {f : Nat → Int32} (hv : zRom g v = some (eB g n f)) (i c : Nat) (hin : i < n) (hn : n < 2 ^ 31) (hc : f i = nI c) (hc8 : c < 128) : Cn l g yJ5_charAt cJ5_charAt 2 (some .char) 3 0 0 [.ref v, .int (nI i)] M (PV (.int (nI c)) M) := by
  refine Cn.start [(0, .ref v), (1, .int (nI i))] (by decide) (Nat.le_of_ble_eq_true rfl) rfl ?_
  intro γ el eg h hq
  subst el; subst eg
  refine z_iload_n 1 h dJ5_charAt_0 rfl rfl ?_
  refine z_aload_n 0 h dJ5_charAt_1 rfl rfl rfl ?_
  refine z_alen 1 h rfl (.inr hv) dJ5_charAt_2 ?_
  refine z_callS h (j_strCheck hg i n hin hn) (lw_S q778 q779 q151 q780) nJ4_checkIndex rfl rfl rfl (Nat.le_of_ble_eq_true rfl) (Nat.le_of_ble_eq_true rfl) (Nat.le_of_ble_eq_true rfl) dJ5_charAt_3 (fun v M hv => ?_)
  obtain ⟨rfl, rfl⟩ := hv
  refine z_aload_n 0 h dJ5_charAt_6 rfl rfl rfl ?_
  refine z_iload_n 1 h dJ5_charAt_7 rfl rfl ?_
  refine z_baldN (i) h (.inr hv) rfl hin hn dJ5_charAt_8 ?_
  rw [hc]
  refine z_sipush h dJ5_charAt_9 ks_255 ?_
  refine z_iand h dJ5_charAt_12 ?_
  refine z_i2c h dJ5_charAt_13 ?_
  refine Z.st (show _ = .int (nI c) :: _ by rw [pk_andN (n := c) (m := 255) (by omega) 8 (by decide), pk_char, pk_tn (by omega), Nat.mod_eq_of_lt (by omega), Nat.mod_eq_of_lt (by omega)]) ?_
  exact z_zret h hq (pk_charN (show c < 65536 by omega)).1 dJ5_charAt_14 (Nat.le_of_ble_eq_true rfl) (Nat.le_of_ble_eq_true rfl) (⟨rfl, rfl⟩)
set_option maxHeartbeats 4000000 in
theorem j_charAt {l : Launch} {g : Zg} {M : Zm} (hg : Gok g) {a v n : Nat} {f : Nat → Int32} (ha : zRom g a = some (eo 20 [.ref v, .int 0])) (hv : zRom g v = some (eB g n f)) (i c : Nat) (hin : i < n) (hn : n < 2 ^ 31) (hc : f i = nI c) (hc8 : c < 128) : Cn l g yJ4_charAt cJ4_charAt 2 (some .char) 4 0 0 [.ref a, .int (nI i)] M (PV (.int (nI c)) M) := by
  refine Cn.start [(0, .ref a), (1, .int (nI i))] (by decide) (Nat.le_of_ble_eq_true rfl) rfl ?_
  intro γ el eg h hq
  subst el; subst eg
  refine z_aload_n 0 h dJ4_charAt_0 rfl rfl rfl ?_
  refine z_callVP h (j_isLatin1 hg ha hv) kJ4 (.inr ha) (lw_V q771 q772 q773 q151 q774) nJ4_isLatin1 rfl rfl rfl (Nat.le_of_ble_eq_true rfl) (Nat.le_of_ble_eq_true rfl) (Nat.le_of_ble_eq_true rfl) dJ4_charAt_1 ?_
  refine z_if_eq 16 h dJ4_charAt_4 (by decide) (fun c_4 => ?_) (fun c_4 => ?_)
  · have _z := c_4
    exact absurd c_4 (by decide)
  · have _z := c_4
    refine z_aload_n 0 h dJ4_charAt_7 rfl rfl rfl ?_
    refine z_get h kJ4 (.inr ha) 0 rfl q2622 rfl dJ4_charAt_8 ?_
    refine z_iload_n 1 h dJ4_charAt_11 rfl rfl ?_
    refine z_callSP h (j_latinAt hg hv i c hin hn hc hc8) (lw_S q775 q776 q152 q777) nJ5_charAt rfl rfl rfl (Nat.le_of_ble_eq_true rfl) (Nat.le_of_ble_eq_true rfl) (Nat.le_of_ble_eq_true rfl) dJ4_charAt_12 ?_
    exact z_zret h hq (pk_charN (show c < 65536 by omega)).1 dJ4_charAt_15 (Nat.le_of_ble_eq_true rfl) (Nat.le_of_ble_eq_true rfl) (⟨rfl, rfl⟩)
/-- a text's length and letters -/
theorem tx_len {l : Launch} {g : Zg} {M : Zm} (hg : Gok g) (a : Nat) (t : List Nat) (h : TxC g a t) : Cn l g yJ4_length cJ4_length 1 (some .int) 2 0 0 [.ref a] M (PV (.int (nI t.length)) M) := by
  obtain ⟨v, f, h1, h2, -, -⟩ := h
  exact j_length hg h1 h2
theorem tx_at {l : Launch} {g : Zg} {M : Zm} (hg : Gok g) (a : Nat) (t : List Nat) (h : TxC g a t) (i : Nat) (hi : i < t.length) : Cn l g yJ4_charAt cJ4_charAt 2 (some .char) 4 0 0 [.ref a, .int (nI i)] M (PV (.int (nI (t.getD i 0))) M) := by
  obtain ⟨v, f, h1, h2, h3, h4⟩ := h
  obtain ⟨h5, h6⟩ := h4 i hi
  exact j_charAt hg h1 h2 i _ hi (by omega) h5 h6
