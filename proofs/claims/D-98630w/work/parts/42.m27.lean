/-! the reference: a line read -/
set_option maxRecDepth 100000
def knX (T : Nat → Int32) (X : Rs) : Bool := isX T (txN 20) X || isX T (txN 5) X || isX T (txN 17) X || isX T (txN 11) X || isX T (txN 19) X || isX T (txN 15) X
def nxA (T : Nat → Int32) (X : Rs) : Rs := if knX T X = true then X else errX 1 X
def fulA (T : Nat → Int32) (X : Rs) (F : Nat → Nat) : Bool := (isX T (txN 5) X && decide (F 4 = 9)) || (isX T (txN 17) X && decide (F 5 = 4)) || (isX T (txN 11) X && decide (F 6 = 8))
def nxB (T : Nat → Int32) (X : Rs) (F : Nat → Nat) : Rs := if fulA T (nxA T X) F = true then errX 3 (nxA T X) else nxA T X
def fulB (T : Nat → Int32) (X : Rs) (F : Nat → Nat) : Bool := (isX T (txN 19) X && decide (F 7 = 4)) || (isX T (txN 15) X && decide (F 8 = 5))
def nxC (T : Nat → Int32) (X : Rs) (F : Nat → Nat) : Rs := if fulB T (nxB T X F) F = true then errX 3 (nxB T X F) else nxB T X F
def bump (F : Nat → Nat) (j : Nat) (r : Rs × (Nat → Nat)) : Rs × (Nat → Nat) := (r.1, updN r.2 j (F j + 1))
def rdN2 (T : Nat → Int32) (tp : Nat) (Y : Rs) (F : Nat → Nat) : Rs × (Nat → Nat) :=
  if gdX Y = false then (Y, F) else if isX T (txN 20) Y = true then rdNeed T tp (takX T tp (txN 20) Y) F else if isX T (txN 5) Y = true then rdTrain T tp (takX T tp (txN 5) Y) F else if isX T (txN 17) Y = true then bump F 5 (rdBounds T tp (67 + 2 * F 5) (takX T tp (txN 17) Y) F) else if isX T (txN 11) Y = true then rdAsk T tp (takX T tp (txN 11) Y) F else if isX T (txN 19) Y = true then bump F 7 (rdBounds T tp (107 + 2 * F 7) (takX T tp (txN 19) Y) F) else rdSpy T tp (advX T tp Y) F
def rdNext (T : Nat → Int32) (tp : Nat) (X : Rs) (F : Nat → Nat) : Rs × (Nat → Nat) := rdN2 T tp (nxC T X F) F
theorem gd_err {k : Nat} {X : Rs} (h : gdX (errX k X) = true) : False := by
  cases X <;> cases h
theorem nx_gd {T : Nat → Int32} {X : Rs} {F : Nat → Nat} (h : gdX (nxC T X F) = true) : nxC T X F = X ∧ knX T X = true ∧ fulA T X F = false ∧ fulB T X F = false := by
  unfold nxC at h ⊢
  split at h
  · exact absurd h (fun q => gd_err q)
  · rename_i hB
    rw [if_neg hB]
    unfold nxB at h hB ⊢
    split at h
    · exact absurd h (fun q => gd_err q)
    · rename_i hA
      rw [if_neg hA] at hB ⊢
      unfold nxA at h hA hB ⊢
      split at h
      · rename_i hK
        rw [if_pos hK] at hA hB ⊢
        exact ⟨rfl, hK, Bool.eq_false_iff.mpr hA, Bool.eq_false_iff.mpr hB⟩
      · exact absurd h (fun q => gd_err q)
theorem rb_at {T : Nat → Int32} {tp k j : Nat} {X : Rs} {F : Nat → Nat} (h1 : j ≠ k) (h2 : j ≠ k + 1) : (rdBounds T tp k X F).2 j = F j := by
  unfold rdBounds
  dsimp only
  rw [updN_n h2, updN_n h1]
/-- there is room in the row for what may come -/
def IF (F : Nat → Nat) : Prop := F 4 ≤ 9 ∧ F 5 ≤ 4 ∧ F 6 ≤ 8 ∧ F 7 ≤ 4 ∧ F 8 ≤ 5
theorem room4 {T : Nat → Int32} {X : Rs} {F : Nat → Nat} (hI : IF F) (h : gdX (nxC T X F) = true) (hw : isX T (txN 5) (nxC T X F) = true) : F 4 ≤ 8 := by
  obtain ⟨e, -, hA, -⟩ := nx_gd h
  rw [e] at hw
  have := hI.1
  unfold fulA at hA
  rw [hw] at hA
  simp at hA
  omega
theorem room5 {T : Nat → Int32} {X : Rs} {F : Nat → Nat} (hI : IF F) (h : gdX (nxC T X F) = true) (hw : isX T (txN 17) (nxC T X F) = true) : F 5 ≤ 3 := by
  obtain ⟨e, -, hA, -⟩ := nx_gd h
  rw [e] at hw
  have := hI.2.1
  unfold fulA at hA
  rw [hw] at hA
  simp at hA
  omega
theorem room6 {T : Nat → Int32} {X : Rs} {F : Nat → Nat} (hI : IF F) (h : gdX (nxC T X F) = true) (hw : isX T (txN 11) (nxC T X F) = true) : F 6 ≤ 7 := by
  obtain ⟨e, -, hA, -⟩ := nx_gd h
  rw [e] at hw
  have := hI.2.2.1
  unfold fulA at hA
  rw [hw] at hA
  simp at hA
  omega
theorem room7 {T : Nat → Int32} {X : Rs} {F : Nat → Nat} (hI : IF F) (h : gdX (nxC T X F) = true) (hw : isX T (txN 19) (nxC T X F) = true) : F 7 ≤ 3 := by
  obtain ⟨e, -, -, hB⟩ := nx_gd h
  rw [e] at hw
  have := hI.2.2.2.1
  unfold fulB at hB
  rw [hw] at hB
  simp at hB
  omega
theorem room8 {T : Nat → Int32} {X : Rs} {F : Nat → Nat} (hI : IF F) (h : gdX (nxC T X F) = true) (h1 : isX T (txN 20) (nxC T X F) = false) (h2 : isX T (txN 5) (nxC T X F) = false) (h3 : isX T (txN 17) (nxC T X F) = false) (h4 : isX T (txN 11) (nxC T X F) = false) (h5 : isX T (txN 19) (nxC T X F) = false) : F 8 ≤ 4 := by
  obtain ⟨e, hK, -, hB⟩ := nx_gd h
  rw [e] at h1 h2 h3 h4 h5
  have := hI.2.2.2.2
  unfold knX at hK
  rw [h1, h2, h3, h4, h5] at hK
  simp at hK
  unfold fulB at hB
  rw [hK] at hB
  simp at hB
  omega
set_option maxHeartbeats 4000000 in
theorem m_readNext {l : Launch} {g : Zg} {ad : Nat → Nat} {M : Zm} {st : Ms} (hm : Mod g ad M st) {tp : Nat} {T : Nat → Int32} {X : Rs} {F : Nat → Nat} (hg : Gok g) (hX : RSt st tp T X) (hF : FrR st F) (hI : IF F) : Cn l g yX11_readNext cX11_readNext 2 none 10 0 0 [.ref (ad 0)] M (PMG g ad st tp T (rdNext T tp X F)) := by
  refine Cn.start [(0, .ref (ad 0))] (by decide) (Nat.le_of_ble_eq_true rfl) rfl ?_
  intro γ el eg h hq
  subst el; subst eg
  have hk : kpF st st := kpF.rf st
  obtain ⟨i4, i5, i6, i7, i8⟩ := hI
  have hI : IF F := ⟨i4, i5, i6, i7, i8⟩
  have join_179 : ∀ (M : Zm) (s1 : Ms) (hm : Mod (cg γ) ad M s1) (hk : kpF st s1) (hX : RSt s1 tp T (nxC T X F)) (hF : FrR s1 F), Z γ M 0 0 179 (lof [(0, .ref (ad 0))]) [] := by
    intro M s1 hm hk hX hF
    refine z_aload_n 0 h dX11_readNext_179 rfl rfl rfl ?_
    refine z_callVP h (m_good hm hX) kX11 (.inl (hm.at 0 (by decide))) (lw_V q1987 q1989 qs66 q148 q1990) nX11_good rfl rfl rfl (Nat.le_of_ble_eq_true rfl) (Nat.le_of_ble_eq_true rfl) (Nat.le_of_ble_eq_true rfl) dX11_readNext_180 ?_
    refine z_ifz_ne 187 h dX11_readNext_183 (by decide) (fun c_183 => ?_) (fun c_183 => ?_)
    · have _z := c_183
      refine z_aload_n 0 h dX11_readNext_187 rfl rfl rfl ?_
      refine z_ldcS h twX11_194 dX11_readNext_188 ?_
      refine z_callV h (m_takes hm hX hg (hg.2.2 20 (by decide))) kX11 (.inl (hm.at 0 (by decide))) (lw_V q2004 q2006 qs70 q148 q2007) nX11_takes rfl rfl rfl (Nat.le_of_ble_eq_true rfl) (Nat.le_of_ble_eq_true rfl) (Nat.le_of_ble_eq_true rfl) dX11_readNext_190 (fun v M hv => ?_)
      obtain ⟨rfl, s2, hm, hkd, hX1⟩ := hv
      clear hX
      have hX := hX1
      clear hX1
      replace hk := hk.tr hkd.F
      replace hF := hF.D hkd
      refine z_ifz_eq 203 h dX11_readNext_193 (by decide) (fun c_193 => ?_) (fun c_193 => ?_)
      · have _z := c_193
        rw [tak_f c_193] at hX
        refine z_aload_n 0 h dX11_readNext_203 rfl rfl rfl ?_
        refine z_ldcS h twX11_196 dX11_readNext_204 ?_
        refine z_callV h (m_takes hm hX hg (hg.2.2 5 (by decide))) kX11 (.inl (hm.at 0 (by decide))) (lw_V q2004 q2006 qs70 q148 q2007) nX11_takes rfl rfl rfl (Nat.le_of_ble_eq_true rfl) (Nat.le_of_ble_eq_true rfl) (Nat.le_of_ble_eq_true rfl) dX11_readNext_206 (fun v M hv => ?_)
        obtain ⟨rfl, s3, hm, hkd, hX1⟩ := hv
        clear hX
        have hX := hX1
        clear hX1
        replace hk := hk.tr hkd.F
        replace hF := hF.D hkd
        refine z_ifz_eq 219 h dX11_readNext_209 (by decide) (fun c_209 => ?_) (fun c_209 => ?_)
        · have _z := c_209
          rw [tak_f c_209] at hX
          refine z_aload_n 0 h dX11_readNext_219 rfl rfl rfl ?_
          refine z_ldcS h twX11_198 dX11_readNext_220 ?_
          refine z_callV h (m_takes hm hX hg (hg.2.2 17 (by decide))) kX11 (.inl (hm.at 0 (by decide))) (lw_V q2004 q2006 qs70 q148 q2007) nX11_takes rfl rfl rfl (Nat.le_of_ble_eq_true rfl) (Nat.le_of_ble_eq_true rfl) (Nat.le_of_ble_eq_true rfl) dX11_readNext_222 (fun v M hv => ?_)
          obtain ⟨rfl, s4, hm, hkd, hX1⟩ := hv
          clear hX
          have hX := hX1
          clear hX1
          replace hk := hk.tr hkd.F
          replace hF := hF.D hkd
          refine z_ifz_eq 256 h dX11_readNext_225 (by decide) (fun c_225 => ?_) (fun c_225 => ?_)
          · have _z := c_225
            rw [tak_f c_225] at hX
            refine z_aload_n 0 h dX11_readNext_256 rfl rfl rfl ?_
            refine z_ldcS h twX11_200 dX11_readNext_257 ?_
            refine z_callV h (m_takes hm hX hg (hg.2.2 11 (by decide))) kX11 (.inl (hm.at 0 (by decide))) (lw_V q2004 q2006 qs70 q148 q2007) nX11_takes rfl rfl rfl (Nat.le_of_ble_eq_true rfl) (Nat.le_of_ble_eq_true rfl) (Nat.le_of_ble_eq_true rfl) dX11_readNext_259 (fun v M hv => ?_)
            obtain ⟨rfl, s5, hm, hkd, hX1⟩ := hv
            clear hX
            have hX := hX1
            clear hX1
            replace hk := hk.tr hkd.F
            replace hF := hF.D hkd
            refine z_ifz_eq 272 h dX11_readNext_262 (by decide) (fun c_262 => ?_) (fun c_262 => ?_)
            · have _z := c_262
              rw [tak_f c_262] at hX
              refine z_aload_n 0 h dX11_readNext_272 rfl rfl rfl ?_
              refine z_ldcS h twX11_202 dX11_readNext_273 ?_
              refine z_callV h (m_takes hm hX hg (hg.2.2 19 (by decide))) kX11 (.inl (hm.at 0 (by decide))) (lw_V q2004 q2006 qs70 q148 q2007) nX11_takes rfl rfl rfl (Nat.le_of_ble_eq_true rfl) (Nat.le_of_ble_eq_true rfl) (Nat.le_of_ble_eq_true rfl) dX11_readNext_275 (fun v M hv => ?_)
              obtain ⟨rfl, s6, hm, hkd, hX1⟩ := hv
              clear hX
              have hX := hX1
              clear hX1
              replace hk := hk.tr hkd.F
              replace hF := hF.D hkd
              refine z_ifz_eq 311 h dX11_readNext_278 (by decide) (fun c_278 => ?_) (fun c_278 => ?_)
              · have _z := c_278
                rw [tak_f c_278] at hX
                have hrm := room8 hI c_183 c_193 c_209 c_225 c_262 c_278
                have hR : rdNext T tp X F = rdSpy T tp (advX T tp (nxC T X F)) F := by unfold rdNext rdN2; rw [if_neg (by rw [c_183]; decide), if_neg (by rw [c_193]; decide), if_neg (by rw [c_209]; decide), if_neg (by rw [c_225]; decide), if_neg (by rw [c_262]; decide), if_neg (by rw [c_278]; decide)]
                obtain ⟨t, hYt⟩ := gd_ok c_183
                rw [hYt] at hX
                obtain ⟨hx, g12, g13, hT, hB⟩ := hX
                refine z_aload_n 0 h dX11_readNext_311 rfl rfl rfl ?_
                refine z_callV h (m_advance hm hx t.1 hT.1 hB.2.1) kX11 (.inl (hm.at 0 (by decide))) (lw_V q1973 q1975 qs64 q148 q1976) nX11_advance rfl rfl rfl (Nat.le_of_ble_eq_true rfl) (Nat.le_of_ble_eq_true rfl) (Nat.le_of_ble_eq_true rfl) dX11_readNext_312 (fun v M hv => ?_)
                obtain ⟨rfl, s7, hm, hkr, hT2⟩ := hv
                have hX := RSt.kp hx hkr g12 g13 hT2 (adv_b hB.2.1)
                replace hk := hk.tr hkr.D.F
                replace hF := hF.D hkr.D
                rw [hYt] at hR
                replace hR : rdNext T tp X F = rdSpy T tp (.ok (adv T tp t.1)) F := hR
                refine z_aload_n 0 h dX11_readNext_315 rfl rfl rfl ?_
                refine z_callV h (m_readSpy hm hg hX hF hI.1 hrm) kX11 (.inl (hm.at 0 (by decide))) (lw_V q2065 q2067 qs80 q148 q2068) nX11_readSpy rfl rfl rfl (Nat.le_of_ble_eq_true rfl) (Nat.le_of_ble_eq_true rfl) (Nat.le_of_ble_eq_true rfl) dX11_readNext_316 (fun v M hv => ?_)
                obtain ⟨rfl, s8, hm, hkf, hX1, hF1⟩ := hv
                clear hX
                have hX := hX1
                clear hX1
                clear hF
                have hF := hF1
                clear hF1
                replace hk := hk.tr hkf
                refine z_vret h hq dX11_readNext_319 (Nat.le_of_ble_eq_true rfl) (Nat.le_of_ble_eq_true rfl) ?_
                rw [hR]
                exact ⟨rfl, _, hm, hk, hX, hF⟩
              · have _z := c_278
                have hR : rdNext T tp X F = bump F 7 (rdBounds T tp (107 + 2 * F 7) (takX T tp (txN 19) (nxC T X F)) F) := by unfold rdNext rdN2; rw [if_neg (by rw [c_183]; decide), if_neg (by rw [c_193]; decide), if_neg (by rw [c_209]; decide), if_neg (by rw [c_225]; decide), if_neg (by rw [c_262]; decide), if_pos c_278]
                have hrm := room7 hI c_183 c_278
                refine z_aload_n 0 h dX11_readNext_281 rfl rfl rfl ?_
                refine z_bipush h dX11_readNext_282 kb_107 ?_
                refine z_iconst h dX11_readNext_284 ki_2 ?_
                refine z_aload_n 0 h dX11_readNext_285 rfl rfl rfl ?_
                refine z_get h kX11 (.inl (hm.at 0 (by decide))) 14 rfl q1861 rfl dX11_readNext_286 ?_
                refine z_bipush h dX11_readNext_289 kb_7 ?_
                refine z_ialdN (7) h (.inl (hm.at 14 (by decide))) rfl (by omega) (by decide) dX11_readNext_291 ?_
                rw [hF 7 (by decide)]
                refine z_imul h dX11_readNext_292 ?_
                refine z_iadd h dX11_readNext_293 ?_
                refine Z.st (show _ = _ by rw [show (107 : Int32) + 2 * nI (F 7) = nI (107 + 2 * F 7) from ixa (a := 107) rfl (ixm (a := 2) rfl rfl)]) ?_
                refine z_callV h (m_readBounds hm hg hX hF (107 + 2 * F 7) (by omega)) kX11 (.inl (hm.at 0 (by decide))) (lw_V q2053 q2055 qs78 q148 q2056) nX11_readBounds rfl rfl rfl (Nat.le_of_ble_eq_true rfl) (Nat.le_of_ble_eq_true rfl) (Nat.le_of_ble_eq_true rfl) dX11_readNext_294 (fun v M hv => ?_)
                obtain ⟨rfl, s7, hm, hkf, hX1, hF1⟩ := hv
                clear hX
                have hX := hX1
                clear hX1
                clear hF
                have hF := hF1
                clear hF1
                replace hk := hk.tr hkf
                refine z_aload_n 0 h dX11_readNext_297 rfl rfl rfl ?_
                refine z_get h kX11 (.inl (hm.at 0 (by decide))) 14 rfl q1861 rfl dX11_readNext_298 ?_
                refine z_bipush h dX11_readNext_301 kb_7 ?_
                refine z_dup2 h dX11_readNext_303 rfl rfl ?_
                refine z_ialdN (7) h (.inl (hm.at 14 (by decide))) rfl (by omega) (by decide) dX11_readNext_304 ?_
                rw [hF 7 (by decide), rb_at (j := 7) (k := 107 + 2 * F 7) (by omega) (by omega)]
                refine z_iconst h dX11_readNext_305 ki_1 ?_
                refine z_iadd h dX11_readNext_306 ?_
                refine zm_iast 14 (7) h hm (by decide) (fun _ => rfl) rfl (by omega) (by decide) dX11_readNext_307 (fun M hm => ?_)
                generalize hs8 : uA s7 14 _ = s8 at hm
                replace hk := hk.A hs8
                replace hX := hX.up hs8
                replace hF := hF.up (v := F 7 + 1) hs8 (nI_1 _)
                refine z_goto 319 h dX11_readNext_308 (by decide) ?_
                refine z_vret h hq dX11_readNext_319 (Nat.le_of_ble_eq_true rfl) (Nat.le_of_ble_eq_true rfl) ?_
                rw [hR]
                exact ⟨rfl, _, hm, hk, hX, hF⟩
            · have _z := c_262
              have hR : rdNext T tp X F = rdAsk T tp (takX T tp (txN 11) (nxC T X F)) F := by unfold rdNext rdN2; rw [if_neg (by rw [c_183]; decide), if_neg (by rw [c_193]; decide), if_neg (by rw [c_209]; decide), if_neg (by rw [c_225]; decide), if_pos c_262]
              refine z_aload_n 0 h dX11_readNext_265 rfl rfl rfl ?_
              refine z_callV h (m_readAsk hm hg hX hF (room6 hI c_183 c_262)) kX11 (.inl (hm.at 0 (by decide))) (lw_V q2058 q2060 qs79 q148 q2061) nX11_readAsk rfl rfl rfl (Nat.le_of_ble_eq_true rfl) (Nat.le_of_ble_eq_true rfl) (Nat.le_of_ble_eq_true rfl) dX11_readNext_266 (fun v M hv => ?_)
              obtain ⟨rfl, s6, hm, hkf, hX1, hF1⟩ := hv
              clear hX
              have hX := hX1
              clear hX1
              clear hF
              have hF := hF1
              clear hF1
              replace hk := hk.tr hkf
              refine z_goto 319 h dX11_readNext_269 (by decide) ?_
              refine z_vret h hq dX11_readNext_319 (Nat.le_of_ble_eq_true rfl) (Nat.le_of_ble_eq_true rfl) ?_
              rw [hR]
              exact ⟨rfl, _, hm, hk, hX, hF⟩
          · have _z := c_225
            have hR : rdNext T tp X F = bump F 5 (rdBounds T tp (67 + 2 * F 5) (takX T tp (txN 17) (nxC T X F)) F) := by unfold rdNext rdN2; rw [if_neg (by rw [c_183]; decide), if_neg (by rw [c_193]; decide), if_neg (by rw [c_209]; decide), if_pos c_225]
            have hrm := room5 hI c_183 c_225
            refine z_aload_n 0 h dX11_readNext_228 rfl rfl rfl ?_
            refine z_bipush h dX11_readNext_229 kb_67 ?_
            refine z_iconst h dX11_readNext_231 ki_2 ?_
            refine z_aload_n 0 h dX11_readNext_232 rfl rfl rfl ?_
            refine z_get h kX11 (.inl (hm.at 0 (by decide))) 14 rfl q1861 rfl dX11_readNext_233 ?_
            refine z_iconst h dX11_readNext_236 ki_5 ?_
            refine z_ialdN (5) h (.inl (hm.at 14 (by decide))) rfl (by omega) (by decide) dX11_readNext_237 ?_
            rw [hF 5 (by decide)]
            refine z_imul h dX11_readNext_238 ?_
            refine z_iadd h dX11_readNext_239 ?_
            refine Z.st (show _ = _ by rw [show (67 : Int32) + 2 * nI (F 5) = nI (67 + 2 * F 5) from ixa (a := 67) rfl (ixm (a := 2) rfl rfl)]) ?_
            refine z_callV h (m_readBounds hm hg hX hF (67 + 2 * F 5) (by omega)) kX11 (.inl (hm.at 0 (by decide))) (lw_V q2053 q2055 qs78 q148 q2056) nX11_readBounds rfl rfl rfl (Nat.le_of_ble_eq_true rfl) (Nat.le_of_ble_eq_true rfl) (Nat.le_of_ble_eq_true rfl) dX11_readNext_240 (fun v M hv => ?_)
            obtain ⟨rfl, s5, hm, hkf, hX1, hF1⟩ := hv
            clear hX
            have hX := hX1
            clear hX1
            clear hF
            have hF := hF1
            clear hF1
            replace hk := hk.tr hkf
            refine z_aload_n 0 h dX11_readNext_243 rfl rfl rfl ?_
            refine z_get h kX11 (.inl (hm.at 0 (by decide))) 14 rfl q1861 rfl dX11_readNext_244 ?_
            refine z_iconst h dX11_readNext_247 ki_5 ?_
            refine z_dup2 h dX11_readNext_248 rfl rfl ?_
            refine z_ialdN (5) h (.inl (hm.at 14 (by decide))) rfl (by omega) (by decide) dX11_readNext_249 ?_
            rw [hF 5 (by decide), rb_at (j := 5) (k := 67 + 2 * F 5) (by omega) (by omega)]
            refine z_iconst h dX11_readNext_250 ki_1 ?_
            refine z_iadd h dX11_readNext_251 ?_
            refine zm_iast 14 (5) h hm (by decide) (fun _ => rfl) rfl (by omega) (by decide) dX11_readNext_252 (fun M hm => ?_)
            generalize hs6 : uA s5 14 _ = s6 at hm
            replace hk := hk.A hs6
            replace hX := hX.up hs6
            replace hF := hF.up (v := F 5 + 1) hs6 (nI_1 _)
            refine z_goto 319 h dX11_readNext_253 (by decide) ?_
            refine z_vret h hq dX11_readNext_319 (Nat.le_of_ble_eq_true rfl) (Nat.le_of_ble_eq_true rfl) ?_
            rw [hR]
            exact ⟨rfl, _, hm, hk, hX, hF⟩
        · have _z := c_209
          have hR : rdNext T tp X F = rdTrain T tp (takX T tp (txN 5) (nxC T X F)) F := by unfold rdNext rdN2; rw [if_neg (by rw [c_183]; decide), if_neg (by rw [c_193]; decide), if_pos c_209]
          refine z_aload_n 0 h dX11_readNext_212 rfl rfl rfl ?_
          refine z_callV h (m_readTrain hm hg hX hF (room4 hI c_183 c_209)) kX11 (.inl (hm.at 0 (by decide))) (lw_V q2044 q2046 qs77 q148 q2047) nX11_readTrain rfl rfl rfl (Nat.le_of_ble_eq_true rfl) (Nat.le_of_ble_eq_true rfl) (Nat.le_of_ble_eq_true rfl) dX11_readNext_213 (fun v M hv => ?_)
          obtain ⟨rfl, s4, hm, hkf, hX1, hF1⟩ := hv
          clear hX
          have hX := hX1
          clear hX1
          clear hF
          have hF := hF1
          clear hF1
          replace hk := hk.tr hkf
          refine z_goto 319 h dX11_readNext_216 (by decide) ?_
          refine z_vret h hq dX11_readNext_319 (Nat.le_of_ble_eq_true rfl) (Nat.le_of_ble_eq_true rfl) ?_
          rw [hR]
          exact ⟨rfl, _, hm, hk, hX, hF⟩
      · have _z := c_193
        have hR : rdNext T tp X F = rdNeed T tp (takX T tp (txN 20) (nxC T X F)) F := by unfold rdNext rdN2; rw [if_neg (by rw [c_183]; decide), if_pos c_193]
        refine z_aload_n 0 h dX11_readNext_196 rfl rfl rfl ?_
        refine z_callV h (m_readNeed hm hg hX hF) kX11 (.inl (hm.at 0 (by decide))) (lw_V q2040 q2042 qs76 q148 q2043) nX11_readNeed rfl rfl rfl (Nat.le_of_ble_eq_true rfl) (Nat.le_of_ble_eq_true rfl) (Nat.le_of_ble_eq_true rfl) dX11_readNext_197 (fun v M hv => ?_)
        obtain ⟨rfl, s3, hm, hkf, hX1, hF1⟩ := hv
        clear hX
        have hX := hX1
        clear hX1
        clear hF
        have hF := hF1
        clear hF1
        replace hk := hk.tr hkf
        refine z_goto 319 h dX11_readNext_200 (by decide) ?_
        refine z_vret h hq dX11_readNext_319 (Nat.le_of_ble_eq_true rfl) (Nat.le_of_ble_eq_true rfl) ?_
        rw [hR]
        exact ⟨rfl, _, hm, hk, hX, hF⟩
    · have _z := c_183
      refine z_vret h hq dX11_readNext_186 (Nat.le_of_ble_eq_true rfl) (Nat.le_of_ble_eq_true rfl) ?_
      refine ⟨rfl, _, hm, hk, ?_⟩
      unfold rdNext rdN2
      rw [if_pos c_183]
      exact ⟨hX, hF⟩
  have join_134 : ∀ (M : Zm) (s1 : Ms) (hm : Mod (cg γ) ad M s1) (hk : kpF st s1) (hX : RSt s1 tp T (nxB T X F)) (hF : FrR s1 F), Z γ M 0 0 134 (lof [(0, .ref (ad 0))]) [] := by
    intro M s1 hm hk hX hF
    refine z_aload_n 0 h dX11_readNext_134 rfl rfl rfl ?_
    refine z_ldcS h twX11_202 dX11_readNext_135 ?_
    refine z_callVP h (m_is hm hX hg (hg.2.2 19 (by decide))) kX11 (.inl (hm.at 0 (by decide))) (lw_V q2008 q2010 qs71 q148 q2011) nX11_is rfl rfl rfl (Nat.le_of_ble_eq_true rfl) (Nat.le_of_ble_eq_true rfl) (Nat.le_of_ble_eq_true rfl) dX11_readNext_137 ?_
    refine z_ifz_eq 154 h dX11_readNext_140 (by decide) (fun c_140 => ?_) (fun c_140 => ?_)
    · have _z := c_140
      refine z_aload_n 0 h dX11_readNext_154 rfl rfl rfl ?_
      refine z_ldcS h twX11_204 dX11_readNext_155 ?_
      refine z_callVP h (m_is hm hX hg (hg.2.2 15 (by decide))) kX11 (.inl (hm.at 0 (by decide))) (lw_V q2008 q2010 qs71 q148 q2011) nX11_is rfl rfl rfl (Nat.le_of_ble_eq_true rfl) (Nat.le_of_ble_eq_true rfl) (Nat.le_of_ble_eq_true rfl) dX11_readNext_157 ?_
      refine z_ifz_eq 179 h dX11_readNext_160 (by decide) (fun c_160 => ?_) (fun c_160 => ?_)
      · have _z := c_160
        have hnx : nxC T X F = nxB T X F := if_neg (by first | (simp [fulB, c_140, c_160]; done) | (simp [fulB, c_140, c_160, c_151]; done))
        refine Z.loc [(0, .ref (ad 0))] (ll1 rfl ll0) ?_
        exact join_179 _ _ hm hk (by rw [hnx]; exact hX) hF
      · have _z := c_160
        refine z_aload_n 0 h dX11_readNext_163 rfl rfl rfl ?_
        refine z_get h kX11 (.inl (hm.at 0 (by decide))) 14 rfl q1861 rfl dX11_readNext_164 ?_
        refine z_bipush h dX11_readNext_167 kb_8 ?_
        refine z_ialdN (8) h (.inl (hm.at 14 (by decide))) rfl (by omega) (by decide) dX11_readNext_169 ?_
        rw [hF 8 (by decide)]
        refine z_iconst h dX11_readNext_170 ki_5 ?_
        refine z_icmp_ne 179 h dX11_readNext_171 (by decide) (fun c_171 => ?_) (fun c_171 => ?_)
        · have _z := c_171
          replace c_171 := (not_congr (ieq (a := F 8) (b := 5) rfl rfl (by omega) (by decide))).mp c_171
          have hnx : nxC T X F = nxB T X F := if_neg (by first | (simp [fulB, c_140, c_160]; omega) | (simp [fulB, c_140, c_160, c_151]; omega))
          refine Z.loc [(0, .ref (ad 0))] (ll1 rfl ll0) ?_
          exact join_179 _ _ hm hk (by rw [hnx]; exact hX) hF
        · have _z := c_171
          replace c_171 := (ieq (a := F 8) (b := 5) rfl rfl (by omega) (by decide)).mp c_171
          have hnx : nxC T X F = errX 3 (nxB T X F) := if_pos (by simp [fulB, c_160]; omega)
          refine z_aload_n 0 h dX11_readNext_174 rfl rfl rfl ?_
          refine z_iconst h dX11_readNext_175 ki_3 ?_
          refine z_callV h (m_errs hm hX 3 (by decide)) kX11 (.inl (hm.at 0 (by decide))) (lw_V q2014 q2016 qs72 q148 q2017) nX11_errs rfl rfl rfl (Nat.le_of_ble_eq_true rfl) (Nat.le_of_ble_eq_true rfl) (Nat.le_of_ble_eq_true rfl) dX11_readNext_176 (fun v M hv => ?_)
          obtain ⟨rfl, s2, hm, hkd, hX1⟩ := hv
          clear hX
          have hX := hX1
          clear hX1
          replace hk := hk.tr hkd.F
          replace hF := hF.D hkd
          refine Z.loc [(0, .ref (ad 0))] (ll1 rfl ll0) ?_
          exact join_179 _ _ hm hk (by rw [hnx]; exact hX) hF
    · have _z := c_140
      refine z_aload_n 0 h dX11_readNext_143 rfl rfl rfl ?_
      refine z_get h kX11 (.inl (hm.at 0 (by decide))) 14 rfl q1861 rfl dX11_readNext_144 ?_
      refine z_bipush h dX11_readNext_147 kb_7 ?_
      refine z_ialdN (7) h (.inl (hm.at 14 (by decide))) rfl (by omega) (by decide) dX11_readNext_149 ?_
      rw [hF 7 (by decide)]
      refine z_iconst h dX11_readNext_150 ki_4 ?_
      refine z_icmp_eq 174 h dX11_readNext_151 (by decide) (fun c_151 => ?_) (fun c_151 => ?_)
      · have _z := c_151
        replace c_151 := (ieq (a := F 7) (b := 4) rfl rfl (by omega) (by decide)).mp c_151
        have hnx : nxC T X F = errX 3 (nxB T X F) := if_pos (by simp [fulB, c_140, c_151])
        refine z_aload_n 0 h dX11_readNext_174 rfl rfl rfl ?_
        refine z_iconst h dX11_readNext_175 ki_3 ?_
        refine z_callV h (m_errs hm hX 3 (by decide)) kX11 (.inl (hm.at 0 (by decide))) (lw_V q2014 q2016 qs72 q148 q2017) nX11_errs rfl rfl rfl (Nat.le_of_ble_eq_true rfl) (Nat.le_of_ble_eq_true rfl) (Nat.le_of_ble_eq_true rfl) dX11_readNext_176 (fun v M hv => ?_)
        obtain ⟨rfl, s2, hm, hkd, hX1⟩ := hv
        clear hX
        have hX := hX1
        clear hX1
        replace hk := hk.tr hkd.F
        replace hF := hF.D hkd
        refine Z.loc [(0, .ref (ad 0))] (ll1 rfl ll0) ?_
        exact join_179 _ _ hm hk (by rw [hnx]; exact hX) hF
      · have _z := c_151
        replace c_151 := (not_congr (ieq (a := F 7) (b := 4) rfl rfl (by omega) (by decide))).mp c_151
        refine z_aload_n 0 h dX11_readNext_154 rfl rfl rfl ?_
        refine z_ldcS h twX11_204 dX11_readNext_155 ?_
        refine z_callVP h (m_is hm hX hg (hg.2.2 15 (by decide))) kX11 (.inl (hm.at 0 (by decide))) (lw_V q2008 q2010 qs71 q148 q2011) nX11_is rfl rfl rfl (Nat.le_of_ble_eq_true rfl) (Nat.le_of_ble_eq_true rfl) (Nat.le_of_ble_eq_true rfl) dX11_readNext_157 ?_
        refine z_ifz_eq 179 h dX11_readNext_160 (by decide) (fun c_160 => ?_) (fun c_160 => ?_)
        · have _z := c_160
          have hnx : nxC T X F = nxB T X F := if_neg (by first | (simp [fulB, c_140, c_160]; done) | (simp [fulB, c_140, c_160, c_151]; done))
          refine Z.loc [(0, .ref (ad 0))] (ll1 rfl ll0) ?_
          exact join_179 _ _ hm hk (by rw [hnx]; exact hX) hF
        · have _z := c_160
          refine z_aload_n 0 h dX11_readNext_163 rfl rfl rfl ?_
          refine z_get h kX11 (.inl (hm.at 0 (by decide))) 14 rfl q1861 rfl dX11_readNext_164 ?_
          refine z_bipush h dX11_readNext_167 kb_8 ?_
          refine z_ialdN (8) h (.inl (hm.at 14 (by decide))) rfl (by omega) (by decide) dX11_readNext_169 ?_
          rw [hF 8 (by decide)]
          refine z_iconst h dX11_readNext_170 ki_5 ?_
          refine z_icmp_ne 179 h dX11_readNext_171 (by decide) (fun c_171 => ?_) (fun c_171 => ?_)
          · have _z := c_171
            replace c_171 := (not_congr (ieq (a := F 8) (b := 5) rfl rfl (by omega) (by decide))).mp c_171
            have hnx : nxC T X F = nxB T X F := if_neg (by first | (simp [fulB, c_140, c_160]; omega) | (simp [fulB, c_140, c_160, c_151]; omega))
            refine Z.loc [(0, .ref (ad 0))] (ll1 rfl ll0) ?_
            exact join_179 _ _ hm hk (by rw [hnx]; exact hX) hF
          · have _z := c_171
            replace c_171 := (ieq (a := F 8) (b := 5) rfl rfl (by omega) (by decide)).mp c_171
            have hnx : nxC T X F = errX 3 (nxB T X F) := if_pos (by simp [fulB, c_160]; omega)
            refine z_aload_n 0 h dX11_readNext_174 rfl rfl rfl ?_
            refine z_iconst h dX11_readNext_175 ki_3 ?_
            refine z_callV h (m_errs hm hX 3 (by decide)) kX11 (.inl (hm.at 0 (by decide))) (lw_V q2014 q2016 qs72 q148 q2017) nX11_errs rfl rfl rfl (Nat.le_of_ble_eq_true rfl) (Nat.le_of_ble_eq_true rfl) (Nat.le_of_ble_eq_true rfl) dX11_readNext_176 (fun v M hv => ?_)
            obtain ⟨rfl, s2, hm, hkd, hX1⟩ := hv
            clear hX
            have hX := hX1
            clear hX1
            replace hk := hk.tr hkd.F
            replace hF := hF.D hkd
            refine Z.loc [(0, .ref (ad 0))] (ll1 rfl ll0) ?_
            exact join_179 _ _ hm hk (by rw [hnx]; exact hX) hF
  have join_69 : ∀ (M : Zm) (s1 : Ms) (hm : Mod (cg γ) ad M s1) (hk : kpF st s1) (hX : RSt s1 tp T (nxA T X)) (hF : FrR s1 F), Z γ M 0 0 69 (lof [(0, .ref (ad 0))]) [] := by
    intro M s1 hm hk hX hF
    refine z_aload_n 0 h dX11_readNext_69 rfl rfl rfl ?_
    refine z_ldcS h twX11_196 dX11_readNext_70 ?_
    refine z_callVP h (m_is hm hX hg (hg.2.2 5 (by decide))) kX11 (.inl (hm.at 0 (by decide))) (lw_V q2008 q2010 qs71 q148 q2011) nX11_is rfl rfl rfl (Nat.le_of_ble_eq_true rfl) (Nat.le_of_ble_eq_true rfl) (Nat.le_of_ble_eq_true rfl) dX11_readNext_72 ?_
    refine z_ifz_eq 89 h dX11_readNext_75 (by decide) (fun c_75 => ?_) (fun c_75 => ?_)
    · have _z := c_75
      refine z_aload_n 0 h dX11_readNext_89 rfl rfl rfl ?_
      refine z_ldcS h twX11_198 dX11_readNext_90 ?_
      refine z_callVP h (m_is hm hX hg (hg.2.2 17 (by decide))) kX11 (.inl (hm.at 0 (by decide))) (lw_V q2008 q2010 qs71 q148 q2011) nX11_is rfl rfl rfl (Nat.le_of_ble_eq_true rfl) (Nat.le_of_ble_eq_true rfl) (Nat.le_of_ble_eq_true rfl) dX11_readNext_92 ?_
      refine z_ifz_eq 108 h dX11_readNext_95 (by decide) (fun c_95 => ?_) (fun c_95 => ?_)
      · have _z := c_95
        refine z_aload_n 0 h dX11_readNext_108 rfl rfl rfl ?_
        refine z_ldcS h twX11_200 dX11_readNext_109 ?_
        refine z_callVP h (m_is hm hX hg (hg.2.2 11 (by decide))) kX11 (.inl (hm.at 0 (by decide))) (lw_V q2008 q2010 qs71 q148 q2011) nX11_is rfl rfl rfl (Nat.le_of_ble_eq_true rfl) (Nat.le_of_ble_eq_true rfl) (Nat.le_of_ble_eq_true rfl) dX11_readNext_111 ?_
        refine z_ifz_eq 134 h dX11_readNext_114 (by decide) (fun c_114 => ?_) (fun c_114 => ?_)
        · have _z := c_114
          have hnx : nxB T X F = nxA T X := if_neg (by first | (simp [fulA, c_75, c_95, c_114]; done) | (simp [fulA, c_75, c_95, c_114, c_86]; done) | (simp [fulA, c_75, c_95, c_114, c_105]; done) | (simp [fulA, c_75, c_95, c_114, c_86, c_105]; done))
          refine Z.loc [(0, .ref (ad 0))] (ll1 rfl ll0) ?_
          exact join_134 _ _ hm hk (by rw [hnx]; exact hX) hF
        · have _z := c_114
          refine z_aload_n 0 h dX11_readNext_117 rfl rfl rfl ?_
          refine z_get h kX11 (.inl (hm.at 0 (by decide))) 14 rfl q1861 rfl dX11_readNext_118 ?_
          refine z_bipush h dX11_readNext_121 kb_6 ?_
          refine z_ialdN (6) h (.inl (hm.at 14 (by decide))) rfl (by omega) (by decide) dX11_readNext_123 ?_
          rw [hF 6 (by decide)]
          refine z_bipush h dX11_readNext_124 kb_8 ?_
          refine z_icmp_ne 134 h dX11_readNext_126 (by decide) (fun c_126 => ?_) (fun c_126 => ?_)
          · have _z := c_126
            replace c_126 := (not_congr (ieq (a := F 6) (b := 8) rfl rfl (by omega) (by decide))).mp c_126
            have hnx : nxB T X F = nxA T X := if_neg (by first | (simp [fulA, c_75, c_95, c_114]; omega) | (simp [fulA, c_75, c_95, c_114, c_86]; omega) | (simp [fulA, c_75, c_95, c_114, c_105]; omega) | (simp [fulA, c_75, c_95, c_114, c_86, c_105]; omega))
            refine Z.loc [(0, .ref (ad 0))] (ll1 rfl ll0) ?_
            exact join_134 _ _ hm hk (by rw [hnx]; exact hX) hF
          · have _z := c_126
            replace c_126 := (ieq (a := F 6) (b := 8) rfl rfl (by omega) (by decide)).mp c_126
            have hnx : nxB T X F = errX 3 (nxA T X) := if_pos (by simp [fulA, c_114]; omega)
            refine z_aload_n 0 h dX11_readNext_129 rfl rfl rfl ?_
            refine z_iconst h dX11_readNext_130 ki_3 ?_
            refine z_callV h (m_errs hm hX 3 (by decide)) kX11 (.inl (hm.at 0 (by decide))) (lw_V q2014 q2016 qs72 q148 q2017) nX11_errs rfl rfl rfl (Nat.le_of_ble_eq_true rfl) (Nat.le_of_ble_eq_true rfl) (Nat.le_of_ble_eq_true rfl) dX11_readNext_131 (fun v M hv => ?_)
            obtain ⟨rfl, s2, hm, hkd, hX1⟩ := hv
            clear hX
            have hX := hX1
            clear hX1
            replace hk := hk.tr hkd.F
            replace hF := hF.D hkd
            refine Z.loc [(0, .ref (ad 0))] (ll1 rfl ll0) ?_
            exact join_134 _ _ hm hk (by rw [hnx]; exact hX) hF
      · have _z := c_95
        refine z_aload_n 0 h dX11_readNext_98 rfl rfl rfl ?_
        refine z_get h kX11 (.inl (hm.at 0 (by decide))) 14 rfl q1861 rfl dX11_readNext_99 ?_
        refine z_iconst h dX11_readNext_102 ki_5 ?_
        refine z_ialdN (5) h (.inl (hm.at 14 (by decide))) rfl (by omega) (by decide) dX11_readNext_103 ?_
        rw [hF 5 (by decide)]
        refine z_iconst h dX11_readNext_104 ki_4 ?_
        refine z_icmp_eq 129 h dX11_readNext_105 (by decide) (fun c_105 => ?_) (fun c_105 => ?_)
        · have _z := c_105
          replace c_105 := (ieq (a := F 5) (b := 4) rfl rfl (by omega) (by decide)).mp c_105
          have hnx : nxB T X F = errX 3 (nxA T X) := if_pos (by simp [fulA, c_95, c_105])
          refine z_aload_n 0 h dX11_readNext_129 rfl rfl rfl ?_
          refine z_iconst h dX11_readNext_130 ki_3 ?_
          refine z_callV h (m_errs hm hX 3 (by decide)) kX11 (.inl (hm.at 0 (by decide))) (lw_V q2014 q2016 qs72 q148 q2017) nX11_errs rfl rfl rfl (Nat.le_of_ble_eq_true rfl) (Nat.le_of_ble_eq_true rfl) (Nat.le_of_ble_eq_true rfl) dX11_readNext_131 (fun v M hv => ?_)
          obtain ⟨rfl, s2, hm, hkd, hX1⟩ := hv
          clear hX
          have hX := hX1
          clear hX1
          replace hk := hk.tr hkd.F
          replace hF := hF.D hkd
          refine Z.loc [(0, .ref (ad 0))] (ll1 rfl ll0) ?_
          exact join_134 _ _ hm hk (by rw [hnx]; exact hX) hF
        · have _z := c_105
          replace c_105 := (not_congr (ieq (a := F 5) (b := 4) rfl rfl (by omega) (by decide))).mp c_105
          refine z_aload_n 0 h dX11_readNext_108 rfl rfl rfl ?_
          refine z_ldcS h twX11_200 dX11_readNext_109 ?_
          refine z_callVP h (m_is hm hX hg (hg.2.2 11 (by decide))) kX11 (.inl (hm.at 0 (by decide))) (lw_V q2008 q2010 qs71 q148 q2011) nX11_is rfl rfl rfl (Nat.le_of_ble_eq_true rfl) (Nat.le_of_ble_eq_true rfl) (Nat.le_of_ble_eq_true rfl) dX11_readNext_111 ?_
          refine z_ifz_eq 134 h dX11_readNext_114 (by decide) (fun c_114 => ?_) (fun c_114 => ?_)
          · have _z := c_114
            have hnx : nxB T X F = nxA T X := if_neg (by first | (simp [fulA, c_75, c_95, c_114]; done) | (simp [fulA, c_75, c_95, c_114, c_86]; done) | (simp [fulA, c_75, c_95, c_114, c_105]; done) | (simp [fulA, c_75, c_95, c_114, c_86, c_105]; done))
            refine Z.loc [(0, .ref (ad 0))] (ll1 rfl ll0) ?_
            exact join_134 _ _ hm hk (by rw [hnx]; exact hX) hF
          · have _z := c_114
            refine z_aload_n 0 h dX11_readNext_117 rfl rfl rfl ?_
            refine z_get h kX11 (.inl (hm.at 0 (by decide))) 14 rfl q1861 rfl dX11_readNext_118 ?_
            refine z_bipush h dX11_readNext_121 kb_6 ?_
            refine z_ialdN (6) h (.inl (hm.at 14 (by decide))) rfl (by omega) (by decide) dX11_readNext_123 ?_
            rw [hF 6 (by decide)]
            refine z_bipush h dX11_readNext_124 kb_8 ?_
            refine z_icmp_ne 134 h dX11_readNext_126 (by decide) (fun c_126 => ?_) (fun c_126 => ?_)
            · have _z := c_126
              replace c_126 := (not_congr (ieq (a := F 6) (b := 8) rfl rfl (by omega) (by decide))).mp c_126
              have hnx : nxB T X F = nxA T X := if_neg (by first | (simp [fulA, c_75, c_95, c_114]; omega) | (simp [fulA, c_75, c_95, c_114, c_86]; omega) | (simp [fulA, c_75, c_95, c_114, c_105]; omega) | (simp [fulA, c_75, c_95, c_114, c_86, c_105]; omega))
              refine Z.loc [(0, .ref (ad 0))] (ll1 rfl ll0) ?_
              exact join_134 _ _ hm hk (by rw [hnx]; exact hX) hF
            · have _z := c_126
              replace c_126 := (ieq (a := F 6) (b := 8) rfl rfl (by omega) (by decide)).mp c_126
              have hnx : nxB T X F = errX 3 (nxA T X) := if_pos (by simp [fulA, c_114]; omega)
              refine z_aload_n 0 h dX11_readNext_129 rfl rfl rfl ?_
              refine z_iconst h dX11_readNext_130 ki_3 ?_
              refine z_callV h (m_errs hm hX 3 (by decide)) kX11 (.inl (hm.at 0 (by decide))) (lw_V q2014 q2016 qs72 q148 q2017) nX11_errs rfl rfl rfl (Nat.le_of_ble_eq_true rfl) (Nat.le_of_ble_eq_true rfl) (Nat.le_of_ble_eq_true rfl) dX11_readNext_131 (fun v M hv => ?_)
              obtain ⟨rfl, s2, hm, hkd, hX1⟩ := hv
              clear hX
              have hX := hX1
              clear hX1
              replace hk := hk.tr hkd.F
              replace hF := hF.D hkd
              refine Z.loc [(0, .ref (ad 0))] (ll1 rfl ll0) ?_
              exact join_134 _ _ hm hk (by rw [hnx]; exact hX) hF
    · have _z := c_75
      refine z_aload_n 0 h dX11_readNext_78 rfl rfl rfl ?_
      refine z_get h kX11 (.inl (hm.at 0 (by decide))) 14 rfl q1861 rfl dX11_readNext_79 ?_
      refine z_iconst h dX11_readNext_82 ki_4 ?_
      refine z_ialdN (4) h (.inl (hm.at 14 (by decide))) rfl (by omega) (by decide) dX11_readNext_83 ?_
      rw [hF 4 (by decide)]
      refine z_bipush h dX11_readNext_84 kb_9 ?_
      refine z_icmp_eq 129 h dX11_readNext_86 (by decide) (fun c_86 => ?_) (fun c_86 => ?_)
      · have _z := c_86
        replace c_86 := (ieq (a := F 4) (b := 9) rfl rfl (by omega) (by decide)).mp c_86
        have hnx : nxB T X F = errX 3 (nxA T X) := if_pos (by simp [fulA, c_75, c_86])
        refine z_aload_n 0 h dX11_readNext_129 rfl rfl rfl ?_
        refine z_iconst h dX11_readNext_130 ki_3 ?_
        refine z_callV h (m_errs hm hX 3 (by decide)) kX11 (.inl (hm.at 0 (by decide))) (lw_V q2014 q2016 qs72 q148 q2017) nX11_errs rfl rfl rfl (Nat.le_of_ble_eq_true rfl) (Nat.le_of_ble_eq_true rfl) (Nat.le_of_ble_eq_true rfl) dX11_readNext_131 (fun v M hv => ?_)
        obtain ⟨rfl, s2, hm, hkd, hX1⟩ := hv
        clear hX
        have hX := hX1
        clear hX1
        replace hk := hk.tr hkd.F
        replace hF := hF.D hkd
        refine Z.loc [(0, .ref (ad 0))] (ll1 rfl ll0) ?_
        exact join_134 _ _ hm hk (by rw [hnx]; exact hX) hF
      · have _z := c_86
        replace c_86 := (not_congr (ieq (a := F 4) (b := 9) rfl rfl (by omega) (by decide))).mp c_86
        refine z_aload_n 0 h dX11_readNext_89 rfl rfl rfl ?_
        refine z_ldcS h twX11_198 dX11_readNext_90 ?_
        refine z_callVP h (m_is hm hX hg (hg.2.2 17 (by decide))) kX11 (.inl (hm.at 0 (by decide))) (lw_V q2008 q2010 qs71 q148 q2011) nX11_is rfl rfl rfl (Nat.le_of_ble_eq_true rfl) (Nat.le_of_ble_eq_true rfl) (Nat.le_of_ble_eq_true rfl) dX11_readNext_92 ?_
        refine z_ifz_eq 108 h dX11_readNext_95 (by decide) (fun c_95 => ?_) (fun c_95 => ?_)
        · have _z := c_95
          refine z_aload_n 0 h dX11_readNext_108 rfl rfl rfl ?_
          refine z_ldcS h twX11_200 dX11_readNext_109 ?_
          refine z_callVP h (m_is hm hX hg (hg.2.2 11 (by decide))) kX11 (.inl (hm.at 0 (by decide))) (lw_V q2008 q2010 qs71 q148 q2011) nX11_is rfl rfl rfl (Nat.le_of_ble_eq_true rfl) (Nat.le_of_ble_eq_true rfl) (Nat.le_of_ble_eq_true rfl) dX11_readNext_111 ?_
          refine z_ifz_eq 134 h dX11_readNext_114 (by decide) (fun c_114 => ?_) (fun c_114 => ?_)
          · have _z := c_114
            have hnx : nxB T X F = nxA T X := if_neg (by first | (simp [fulA, c_75, c_95, c_114]; done) | (simp [fulA, c_75, c_95, c_114, c_86]; done) | (simp [fulA, c_75, c_95, c_114, c_105]; done) | (simp [fulA, c_75, c_95, c_114, c_86, c_105]; done))
            refine Z.loc [(0, .ref (ad 0))] (ll1 rfl ll0) ?_
            exact join_134 _ _ hm hk (by rw [hnx]; exact hX) hF
          · have _z := c_114
            refine z_aload_n 0 h dX11_readNext_117 rfl rfl rfl ?_
            refine z_get h kX11 (.inl (hm.at 0 (by decide))) 14 rfl q1861 rfl dX11_readNext_118 ?_
            refine z_bipush h dX11_readNext_121 kb_6 ?_
            refine z_ialdN (6) h (.inl (hm.at 14 (by decide))) rfl (by omega) (by decide) dX11_readNext_123 ?_
            rw [hF 6 (by decide)]
            refine z_bipush h dX11_readNext_124 kb_8 ?_
            refine z_icmp_ne 134 h dX11_readNext_126 (by decide) (fun c_126 => ?_) (fun c_126 => ?_)
            · have _z := c_126
              replace c_126 := (not_congr (ieq (a := F 6) (b := 8) rfl rfl (by omega) (by decide))).mp c_126
              have hnx : nxB T X F = nxA T X := if_neg (by first | (simp [fulA, c_75, c_95, c_114]; omega) | (simp [fulA, c_75, c_95, c_114, c_86]; omega) | (simp [fulA, c_75, c_95, c_114, c_105]; omega) | (simp [fulA, c_75, c_95, c_114, c_86, c_105]; omega))
              refine Z.loc [(0, .ref (ad 0))] (ll1 rfl ll0) ?_
              exact join_134 _ _ hm hk (by rw [hnx]; exact hX) hF
            · have _z := c_126
              replace c_126 := (ieq (a := F 6) (b := 8) rfl rfl (by omega) (by decide)).mp c_126
              have hnx : nxB T X F = errX 3 (nxA T X) := if_pos (by simp [fulA, c_114]; omega)
              refine z_aload_n 0 h dX11_readNext_129 rfl rfl rfl ?_
              refine z_iconst h dX11_readNext_130 ki_3 ?_
              refine z_callV h (m_errs hm hX 3 (by decide)) kX11 (.inl (hm.at 0 (by decide))) (lw_V q2014 q2016 qs72 q148 q2017) nX11_errs rfl rfl rfl (Nat.le_of_ble_eq_true rfl) (Nat.le_of_ble_eq_true rfl) (Nat.le_of_ble_eq_true rfl) dX11_readNext_131 (fun v M hv => ?_)
              obtain ⟨rfl, s2, hm, hkd, hX1⟩ := hv
              clear hX
              have hX := hX1
              clear hX1
              replace hk := hk.tr hkd.F
              replace hF := hF.D hkd
              refine Z.loc [(0, .ref (ad 0))] (ll1 rfl ll0) ?_
              exact join_134 _ _ hm hk (by rw [hnx]; exact hX) hF
        · have _z := c_95
          refine z_aload_n 0 h dX11_readNext_98 rfl rfl rfl ?_
          refine z_get h kX11 (.inl (hm.at 0 (by decide))) 14 rfl q1861 rfl dX11_readNext_99 ?_
          refine z_iconst h dX11_readNext_102 ki_5 ?_
          refine z_ialdN (5) h (.inl (hm.at 14 (by decide))) rfl (by omega) (by decide) dX11_readNext_103 ?_
          rw [hF 5 (by decide)]
          refine z_iconst h dX11_readNext_104 ki_4 ?_
          refine z_icmp_eq 129 h dX11_readNext_105 (by decide) (fun c_105 => ?_) (fun c_105 => ?_)
          · have _z := c_105
            replace c_105 := (ieq (a := F 5) (b := 4) rfl rfl (by omega) (by decide)).mp c_105
            have hnx : nxB T X F = errX 3 (nxA T X) := if_pos (by simp [fulA, c_95, c_105])
            refine z_aload_n 0 h dX11_readNext_129 rfl rfl rfl ?_
            refine z_iconst h dX11_readNext_130 ki_3 ?_
            refine z_callV h (m_errs hm hX 3 (by decide)) kX11 (.inl (hm.at 0 (by decide))) (lw_V q2014 q2016 qs72 q148 q2017) nX11_errs rfl rfl rfl (Nat.le_of_ble_eq_true rfl) (Nat.le_of_ble_eq_true rfl) (Nat.le_of_ble_eq_true rfl) dX11_readNext_131 (fun v M hv => ?_)
            obtain ⟨rfl, s2, hm, hkd, hX1⟩ := hv
            clear hX
            have hX := hX1
            clear hX1
            replace hk := hk.tr hkd.F
            replace hF := hF.D hkd
            refine Z.loc [(0, .ref (ad 0))] (ll1 rfl ll0) ?_
            exact join_134 _ _ hm hk (by rw [hnx]; exact hX) hF
          · have _z := c_105
            replace c_105 := (not_congr (ieq (a := F 5) (b := 4) rfl rfl (by omega) (by decide))).mp c_105
            refine z_aload_n 0 h dX11_readNext_108 rfl rfl rfl ?_
            refine z_ldcS h twX11_200 dX11_readNext_109 ?_
            refine z_callVP h (m_is hm hX hg (hg.2.2 11 (by decide))) kX11 (.inl (hm.at 0 (by decide))) (lw_V q2008 q2010 qs71 q148 q2011) nX11_is rfl rfl rfl (Nat.le_of_ble_eq_true rfl) (Nat.le_of_ble_eq_true rfl) (Nat.le_of_ble_eq_true rfl) dX11_readNext_111 ?_
            refine z_ifz_eq 134 h dX11_readNext_114 (by decide) (fun c_114 => ?_) (fun c_114 => ?_)
            · have _z := c_114
              have hnx : nxB T X F = nxA T X := if_neg (by first | (simp [fulA, c_75, c_95, c_114]; done) | (simp [fulA, c_75, c_95, c_114, c_86]; done) | (simp [fulA, c_75, c_95, c_114, c_105]; done) | (simp [fulA, c_75, c_95, c_114, c_86, c_105]; done))
              refine Z.loc [(0, .ref (ad 0))] (ll1 rfl ll0) ?_
              exact join_134 _ _ hm hk (by rw [hnx]; exact hX) hF
            · have _z := c_114
              refine z_aload_n 0 h dX11_readNext_117 rfl rfl rfl ?_
              refine z_get h kX11 (.inl (hm.at 0 (by decide))) 14 rfl q1861 rfl dX11_readNext_118 ?_
              refine z_bipush h dX11_readNext_121 kb_6 ?_
              refine z_ialdN (6) h (.inl (hm.at 14 (by decide))) rfl (by omega) (by decide) dX11_readNext_123 ?_
              rw [hF 6 (by decide)]
              refine z_bipush h dX11_readNext_124 kb_8 ?_
              refine z_icmp_ne 134 h dX11_readNext_126 (by decide) (fun c_126 => ?_) (fun c_126 => ?_)
              · have _z := c_126
                replace c_126 := (not_congr (ieq (a := F 6) (b := 8) rfl rfl (by omega) (by decide))).mp c_126
                have hnx : nxB T X F = nxA T X := if_neg (by first | (simp [fulA, c_75, c_95, c_114]; omega) | (simp [fulA, c_75, c_95, c_114, c_86]; omega) | (simp [fulA, c_75, c_95, c_114, c_105]; omega) | (simp [fulA, c_75, c_95, c_114, c_86, c_105]; omega))
                refine Z.loc [(0, .ref (ad 0))] (ll1 rfl ll0) ?_
                exact join_134 _ _ hm hk (by rw [hnx]; exact hX) hF
              · have _z := c_126
                replace c_126 := (ieq (a := F 6) (b := 8) rfl rfl (by omega) (by decide)).mp c_126
                have hnx : nxB T X F = errX 3 (nxA T X) := if_pos (by simp [fulA, c_114]; omega)
                refine z_aload_n 0 h dX11_readNext_129 rfl rfl rfl ?_
                refine z_iconst h dX11_readNext_130 ki_3 ?_
                refine z_callV h (m_errs hm hX 3 (by decide)) kX11 (.inl (hm.at 0 (by decide))) (lw_V q2014 q2016 qs72 q148 q2017) nX11_errs rfl rfl rfl (Nat.le_of_ble_eq_true rfl) (Nat.le_of_ble_eq_true rfl) (Nat.le_of_ble_eq_true rfl) dX11_readNext_131 (fun v M hv => ?_)
                obtain ⟨rfl, s2, hm, hkd, hX1⟩ := hv
                clear hX
                have hX := hX1
                clear hX1
                replace hk := hk.tr hkd.F
                replace hF := hF.D hkd
                refine Z.loc [(0, .ref (ad 0))] (ll1 rfl ll0) ?_
                exact join_134 _ _ hm hk (by rw [hnx]; exact hX) hF
  have join_59 : ∀ (b : Bool) (hb : knX T X = b), Z γ M 0 0 59 (lof [(0, .ref (ad 0))]) [.int (z2i b)] := by
    intro b hb
    refine z_istore_n 1 h dX11_readNext_59 rfl rfl ?_
    refine z_iload_n 1 h dX11_readNext_60 rfl rfl ?_
    refine z_ifz_ne 69 h dX11_readNext_61 (by decide) (fun c_61 => ?_) (fun c_61 => ?_)
    · have _z := c_61
      have hnx : nxA T X = X := if_pos (hb.trans c_61)
      refine Z.loc [(0, .ref (ad 0))] (ll1 rfl ll0) ?_
      exact join_69 _ _ hm hk (by rw [hnx]; exact hX) hF
    · have _z := c_61
      have hnx : nxA T X = errX 1 X := if_neg (by rw [hb, c_61]; decide)
      refine z_aload_n 0 h dX11_readNext_64 rfl rfl rfl ?_
      refine z_iconst h dX11_readNext_65 ki_1 ?_
      refine z_callV h (m_errs hm hX 1 (by decide)) kX11 (.inl (hm.at 0 (by decide))) (lw_V q2014 q2016 qs72 q148 q2017) nX11_errs rfl rfl rfl (Nat.le_of_ble_eq_true rfl) (Nat.le_of_ble_eq_true rfl) (Nat.le_of_ble_eq_true rfl) dX11_readNext_66 (fun v M hv => ?_)
      obtain ⟨rfl, s2, hm, hkd, hX1⟩ := hv
      clear hX
      have hX := hX1
      clear hX1
      replace hk := hk.tr hkd.F
      replace hF := hF.D hkd
      refine Z.loc [(0, .ref (ad 0))] (ll1 rfl ll0) ?_
      exact join_69 _ _ hm hk (by rw [hnx]; exact hX) hF
  refine z_aload_n 0 h dX11_readNext_0 rfl rfl rfl ?_
  refine z_ldcS h twX11_194 dX11_readNext_1 ?_
  refine z_callVP h (m_is hm hX hg (hg.2.2 20 (by decide))) kX11 (.inl (hm.at 0 (by decide))) (lw_V q2008 q2010 qs71 q148 q2011) nX11_is rfl rfl rfl (Nat.le_of_ble_eq_true rfl) (Nat.le_of_ble_eq_true rfl) (Nat.le_of_ble_eq_true rfl) dX11_readNext_3 ?_
  refine z_ifz_ne 54 h dX11_readNext_6 (by decide) (fun c_6 => ?_) (fun c_6 => ?_)
  · have _z := c_6
    refine z_iconst h dX11_readNext_54 ki_1 ?_
    refine z_goto 59 h dX11_readNext_55 (by decide) ?_
    refine Z.loc [(0, .ref (ad 0))] (ll1 rfl ll0) ?_
    exact join_59 true (by first | (simp [knX, c_6]; done) | (simp [knX, c_15]; done) | (simp [knX, c_24]; done) | (simp [knX, c_33]; done) | (simp [knX, c_42]; done) | (simp [knX, c_51]; done) | (simp [knX, c_6, c_15, c_24, c_33, c_42, c_51]; done))
  · have _z := c_6
    refine z_aload_n 0 h dX11_readNext_9 rfl rfl rfl ?_
    refine z_ldcS h twX11_196 dX11_readNext_10 ?_
    refine z_callVP h (m_is hm hX hg (hg.2.2 5 (by decide))) kX11 (.inl (hm.at 0 (by decide))) (lw_V q2008 q2010 qs71 q148 q2011) nX11_is rfl rfl rfl (Nat.le_of_ble_eq_true rfl) (Nat.le_of_ble_eq_true rfl) (Nat.le_of_ble_eq_true rfl) dX11_readNext_12 ?_
    refine z_ifz_ne 54 h dX11_readNext_15 (by decide) (fun c_15 => ?_) (fun c_15 => ?_)
    · have _z := c_15
      refine z_iconst h dX11_readNext_54 ki_1 ?_
      refine z_goto 59 h dX11_readNext_55 (by decide) ?_
      refine Z.loc [(0, .ref (ad 0))] (ll1 rfl ll0) ?_
      exact join_59 true (by first | (simp [knX, c_6]; done) | (simp [knX, c_15]; done) | (simp [knX, c_24]; done) | (simp [knX, c_33]; done) | (simp [knX, c_42]; done) | (simp [knX, c_51]; done) | (simp [knX, c_6, c_15, c_24, c_33, c_42, c_51]; done))
    · have _z := c_15
      refine z_aload_n 0 h dX11_readNext_18 rfl rfl rfl ?_
      refine z_ldcS h twX11_198 dX11_readNext_19 ?_
      refine z_callVP h (m_is hm hX hg (hg.2.2 17 (by decide))) kX11 (.inl (hm.at 0 (by decide))) (lw_V q2008 q2010 qs71 q148 q2011) nX11_is rfl rfl rfl (Nat.le_of_ble_eq_true rfl) (Nat.le_of_ble_eq_true rfl) (Nat.le_of_ble_eq_true rfl) dX11_readNext_21 ?_
      refine z_ifz_ne 54 h dX11_readNext_24 (by decide) (fun c_24 => ?_) (fun c_24 => ?_)
      · have _z := c_24
        refine z_iconst h dX11_readNext_54 ki_1 ?_
        refine z_goto 59 h dX11_readNext_55 (by decide) ?_
        refine Z.loc [(0, .ref (ad 0))] (ll1 rfl ll0) ?_
        exact join_59 true (by first | (simp [knX, c_6]; done) | (simp [knX, c_15]; done) | (simp [knX, c_24]; done) | (simp [knX, c_33]; done) | (simp [knX, c_42]; done) | (simp [knX, c_51]; done) | (simp [knX, c_6, c_15, c_24, c_33, c_42, c_51]; done))
      · have _z := c_24
        refine z_aload_n 0 h dX11_readNext_27 rfl rfl rfl ?_
        refine z_ldcS h twX11_200 dX11_readNext_28 ?_
        refine z_callVP h (m_is hm hX hg (hg.2.2 11 (by decide))) kX11 (.inl (hm.at 0 (by decide))) (lw_V q2008 q2010 qs71 q148 q2011) nX11_is rfl rfl rfl (Nat.le_of_ble_eq_true rfl) (Nat.le_of_ble_eq_true rfl) (Nat.le_of_ble_eq_true rfl) dX11_readNext_30 ?_
        refine z_ifz_ne 54 h dX11_readNext_33 (by decide) (fun c_33 => ?_) (fun c_33 => ?_)
        · have _z := c_33
          refine z_iconst h dX11_readNext_54 ki_1 ?_
          refine z_goto 59 h dX11_readNext_55 (by decide) ?_
          refine Z.loc [(0, .ref (ad 0))] (ll1 rfl ll0) ?_
          exact join_59 true (by first | (simp [knX, c_6]; done) | (simp [knX, c_15]; done) | (simp [knX, c_24]; done) | (simp [knX, c_33]; done) | (simp [knX, c_42]; done) | (simp [knX, c_51]; done) | (simp [knX, c_6, c_15, c_24, c_33, c_42, c_51]; done))
        · have _z := c_33
          refine z_aload_n 0 h dX11_readNext_36 rfl rfl rfl ?_
          refine z_ldcS h twX11_202 dX11_readNext_37 ?_
          refine z_callVP h (m_is hm hX hg (hg.2.2 19 (by decide))) kX11 (.inl (hm.at 0 (by decide))) (lw_V q2008 q2010 qs71 q148 q2011) nX11_is rfl rfl rfl (Nat.le_of_ble_eq_true rfl) (Nat.le_of_ble_eq_true rfl) (Nat.le_of_ble_eq_true rfl) dX11_readNext_39 ?_
          refine z_ifz_ne 54 h dX11_readNext_42 (by decide) (fun c_42 => ?_) (fun c_42 => ?_)
          · have _z := c_42
            refine z_iconst h dX11_readNext_54 ki_1 ?_
            refine z_goto 59 h dX11_readNext_55 (by decide) ?_
            refine Z.loc [(0, .ref (ad 0))] (ll1 rfl ll0) ?_
            exact join_59 true (by first | (simp [knX, c_6]; done) | (simp [knX, c_15]; done) | (simp [knX, c_24]; done) | (simp [knX, c_33]; done) | (simp [knX, c_42]; done) | (simp [knX, c_51]; done) | (simp [knX, c_6, c_15, c_24, c_33, c_42, c_51]; done))
          · have _z := c_42
            refine z_aload_n 0 h dX11_readNext_45 rfl rfl rfl ?_
            refine z_ldcS h twX11_204 dX11_readNext_46 ?_
            refine z_callVP h (m_is hm hX hg (hg.2.2 15 (by decide))) kX11 (.inl (hm.at 0 (by decide))) (lw_V q2008 q2010 qs71 q148 q2011) nX11_is rfl rfl rfl (Nat.le_of_ble_eq_true rfl) (Nat.le_of_ble_eq_true rfl) (Nat.le_of_ble_eq_true rfl) dX11_readNext_48 ?_
            refine z_ifz_eq 58 h dX11_readNext_51 (by decide) (fun c_51 => ?_) (fun c_51 => ?_)
            · have _z := c_51
              refine z_iconst h dX11_readNext_58 ki_0 ?_
              refine Z.loc [(0, .ref (ad 0))] (ll1 rfl ll0) ?_
              exact join_59 false (by first | (simp [knX, c_6]; done) | (simp [knX, c_15]; done) | (simp [knX, c_24]; done) | (simp [knX, c_33]; done) | (simp [knX, c_42]; done) | (simp [knX, c_51]; done) | (simp [knX, c_6, c_15, c_24, c_33, c_42, c_51]; done))
            · have _z := c_51
              refine z_iconst h dX11_readNext_54 ki_1 ?_
              refine z_goto 59 h dX11_readNext_55 (by decide) ?_
              refine Z.loc [(0, .ref (ad 0))] (ll1 rfl ll0) ?_
              exact join_59 true (by first | (simp [knX, c_6]; done) | (simp [knX, c_15]; done) | (simp [knX, c_24]; done) | (simp [knX, c_33]; done) | (simp [knX, c_42]; done) | (simp [knX, c_51]; done) | (simp [knX, c_6, c_15, c_24, c_33, c_42, c_51]; done))
