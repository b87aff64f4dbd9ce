/-! Math.max, min, abs -/
set_option maxRecDepth 100000
set_option maxHeartbeats 4000000 in
theorem j_max {l : Launch} {g : Zg} {M : Zm} (a b : Int32) : Cn l g yJ3_max cJ3_max 2 (some .int) 1 0 0 [.int a, .int b] M (PV (.int (if a < b then b else a)) M) := by
  refine Cn.startF [(0, .int a), (1, .int b)] (by decide +kernel) (Nat.le_of_ble_eq_true rfl) rfl ?_
  intro γ el eg h hq
  subst el; subst eg
  refine z_iload_n 0 h dJ3_max_0 rfl rfl ?_
  refine z_iload_n 1 h dJ3_max_1 rfl rfl ?_
  refine z_icmp_lt 9 h dJ3_max_2 (by decide) (fun c_2 => ?_) (fun c_2 => ?_)
  · have _z := c_2
    refine z_iload_n 1 h dJ3_max_9 rfl rfl ?_
    refine z_iret h hq dJ3_max_10 (Nat.le_of_ble_eq_true rfl) (Nat.le_of_ble_eq_true rfl) ?_
    first | (refine ⟨vS ?_, rfl⟩; simp [c_2]; done) | (refine ⟨vS ?_, rfl⟩; rw [if_neg (by rw [Int32.not_lt]; exact c_2)]; done) | (refine ⟨vS ?_, rfl⟩; rw [if_pos (by rw [← Int32.not_le]; exact c_2)]; done)
  · have _z := c_2
    refine z_iload_n 0 h dJ3_max_5 rfl rfl ?_
    refine z_goto 10 h dJ3_max_6 (by decide) ?_
    refine z_iret h hq dJ3_max_10 (Nat.le_of_ble_eq_true rfl) (Nat.le_of_ble_eq_true rfl) ?_
    first | (refine ⟨vS ?_, rfl⟩; simp [c_2]; done) | (refine ⟨vS ?_, rfl⟩; rw [if_neg (by rw [Int32.not_lt]; exact c_2)]; done) | (refine ⟨vS ?_, rfl⟩; rw [if_pos (by rw [← Int32.not_le]; exact c_2)]; done)
set_option maxHeartbeats 4000000 in
theorem j_min {l : Launch} {g : Zg} {M : Zm} (a b : Int32) : Cn l g yJ3_min cJ3_min 2 (some .int) 1 0 0 [.int a, .int b] M (PV (.int (if b < a then b else a)) M) := by
  refine Cn.startF [(0, .int a), (1, .int b)] (by decide +kernel) (Nat.le_of_ble_eq_true rfl) rfl ?_
  intro γ el eg h hq
  subst el; subst eg
  refine z_iload_n 0 h dJ3_min_0 rfl rfl ?_
  refine z_iload_n 1 h dJ3_min_1 rfl rfl ?_
  refine z_icmp_gt 9 h dJ3_min_2 (by decide) (fun c_2 => ?_) (fun c_2 => ?_)
  · have _z := c_2
    refine z_iload_n 1 h dJ3_min_9 rfl rfl ?_
    refine z_iret h hq dJ3_min_10 (Nat.le_of_ble_eq_true rfl) (Nat.le_of_ble_eq_true rfl) ?_
    first | (refine ⟨vS ?_, rfl⟩; simp [c_2]; done) | (refine ⟨vS ?_, rfl⟩; rw [if_neg (by rw [Int32.not_lt]; exact c_2)]; done) | (refine ⟨vS ?_, rfl⟩; rw [if_pos (by rw [← Int32.not_le]; exact c_2)]; done)
  · have _z := c_2
    refine z_iload_n 0 h dJ3_min_5 rfl rfl ?_
    refine z_goto 10 h dJ3_min_6 (by decide) ?_
    refine z_iret h hq dJ3_min_10 (Nat.le_of_ble_eq_true rfl) (Nat.le_of_ble_eq_true rfl) ?_
    first | (refine ⟨vS ?_, rfl⟩; simp [c_2]; done) | (refine ⟨vS ?_, rfl⟩; rw [if_neg (by rw [Int32.not_lt]; exact c_2)]; done) | (refine ⟨vS ?_, rfl⟩; rw [if_pos (by rw [← Int32.not_le]; exact c_2)]; done)
set_option maxHeartbeats 4000000 in
theorem j_abs {l : Launch} {g : Zg} {M : Zm} (a : Int32) : Cn l g yJ3_abs cJ3_abs 1 (some .int) 1 0 0 [.int a] M (PV (.int (if a < 0 then -a else a)) M) := by
  refine Cn.startF [(0, .int a)] (by decide +kernel) (Nat.le_of_ble_eq_true rfl) rfl ?_
  intro γ el eg h hq
  subst el; subst eg
  refine z_iload_n 0 h dJ3_abs_0 rfl rfl ?_
  refine z_if_ge 9 h dJ3_abs_1 (by decide) (fun c_1 => ?_) (fun c_1 => ?_)
  · have _z := c_1
    refine z_iload_n 0 h dJ3_abs_9 rfl rfl ?_
    refine z_iret h hq dJ3_abs_10 (Nat.le_of_ble_eq_true rfl) (Nat.le_of_ble_eq_true rfl) ?_
    first | (refine ⟨vS ?_, rfl⟩; simp [c_1]; done) | (refine ⟨vS ?_, rfl⟩; rw [if_neg (by rw [Int32.not_lt]; exact c_1)]; done) | (refine ⟨vS ?_, rfl⟩; rw [if_pos (by rw [← Int32.not_le]; exact c_1)]; done)
  · have _z := c_1
    refine z_iload_n 0 h dJ3_abs_4 rfl rfl ?_
    refine z_ineg h dJ3_abs_5 ?_
    refine z_goto 10 h dJ3_abs_6 (by decide) ?_
    refine z_iret h hq dJ3_abs_10 (Nat.le_of_ble_eq_true rfl) (Nat.le_of_ble_eq_true rfl) ?_
    first | (refine ⟨vS ?_, rfl⟩; simp [c_1]; done) | (refine ⟨vS ?_, rfl⟩; rw [if_neg (by rw [Int32.not_lt]; exact c_1)]; done) | (refine ⟨vS ?_, rfl⟩; rw [if_pos (by rw [← Int32.not_le]; exact c_1)]; done)
