/-! 16: ReversalCourtModel: problems, second part; games -/
set_option maxRecDepth 100000
section M6
variable {w : WD} {am fi : Nat → Nat} {ar : Nat → Nat → Int32} {h0 : AH}
theorem c_X2_forth (G : Good w) (d : Nat) (hd : 3 ≤ d) {p q i : Int32} (hI : MI am) (M : MOK fi ar) : Con w yX2_forth (ws_ yX2_forth cX2_forth 6 (some .int)) d 0 0 [.ref (am 0), .int p, .int q, .int i] (mput w am fi ar h0) (Pi (foV fi ar p q i) (mput w am (fset fi 0 (foT fi ar p q i)) ar h0)) noX := by
  refine Con.of G [some (.ref (am 0)), some (.int p), some (.int q), some (.int i), none, none] (body := fun g C => ?_)
  have hT : foT fi ar p q i < 2 ^ 31 := by unfold foT; split <;> decide
  have h6 : fi 27 ≤ 6 := M.2.2.2.2.1
  refine r_aload_0 (pc := 0) C dX2_forth_0 ?_
  refine r_iload_1 (pc := 1) C dX2_forth_1 ?_
  refine r_callV (pc := 2) (nA := 1) C (c_X2_isProblem G (d - 1) (by omega) hI) (ha := (mput_at hI (j := 0) (by decide))) (hc := rfl) (h1 := q1757) (h2 := q1759) (h3 := qs47) (h4 := q61) (h5 := q1760)  (hd := dX2_forth_2) (kk := kP ?_) (kx := kN)
  refine r_ifeqM (pc := 5) (tgt := 36) C 37 ?_ ?_ dX2_forth_5 (by decide) (fun c_5 j_5 => ?_) (fun c_5 j_5 => ?_) ?_
  rotate_left 2
  · refine r_iconst (pc := 36) (v := 0) C dX2_forth_36 (by decide) ?_
    exact j_5
  · refine r_aload_0 (pc := 8) C dX2_forth_8 ?_
    refine r_iload_2 (pc := 9) C dX2_forth_9 ?_
    refine r_callV (pc := 10) (nA := 1) C (c_X2_isProblem G (d - 1) (by omega) hI) (ha := (mput_at hI (j := 0) (by decide))) (hc := rfl) (h1 := q1757) (h2 := q1759) (h3 := qs47) (h4 := q61) (h5 := q1760)  (hd := dX2_forth_10) (kk := kP ?_) (kx := kN)
    refine r_ifeqM (pc := 13) (tgt := 36) C 37 ?_ ?_ dX2_forth_13 (by decide) (fun c_13 j_13 => ?_) (fun c_13 j_13 => ?_) ?_
    rotate_left 2
    · refine r_iconst (pc := 36) (v := 0) C dX2_forth_36 (by decide) ?_
      exact j_13
    · refine r_iload_3 (pc := 16) C dX2_forth_16 ?_
      refine r_iconst (pc := 17) (v := 0) C dX2_forth_17 (by decide) ?_
      refine r_aload_0 (pc := 18) C dX2_forth_18 ?_
      refine r_mg28 (pc := 19) C hI dX2_forth_19 ?_
      refine r_iload_1 (pc := 22) C dX2_forth_22 ?_
      refine r_miald (pc := 23) C hI (by decide) (by decide) (pb_in h6 c_5) dX2_forth_23 ?_
      refine r_iconst (pc := 24) (v := 1) C dX2_forth_24 (by decide) ?_
      refine r_isub (pc := 25) C dX2_forth_25 ?_
      refine r_callS (pc := 26) (nA := 3) C (c_X2_in G (d - 1)) (h1 := q1570) (h2 := q1571) (h3 := q61) (h4 := q1572)  (hd := dX2_forth_26) (kk := kP ?_) (kx := kN)
      refine r_ifeqM (pc := 29) (tgt := 36) C 37 ?_ ?_ dX2_forth_29 (by decide) (fun c_29 j_29 => ?_) (fun c_29 j_29 => ?_) ?_
      rotate_left 2
      · refine r_iconst (pc := 36) (v := 0) C dX2_forth_36 (by decide) ?_
        exact j_29
      · refine r_iconst (pc := 32) (v := 1) C dX2_forth_32 (by decide) ?_
        refine r_goto (pc := 33) (tgt := 37) C dX2_forth_33 (by decide) ?_
        exact j_29
      exact j_13
    exact j_5
  refine r_istore_4 (pc := 37) C dX2_forth_37 ?_
  refine r_aload_0 (pc := 39) C dX2_forth_39 ?_
  refine r_iload_4 (pc := 40) C dX2_forth_40 ?_
  refine r_ifeqM (pc := 42) (tgt := 49) C 50 ?_ ?_ dX2_forth_42 (by decide) (fun c_42 j_42 => ?_) (fun c_42 j_42 => ?_) ?_
  rotate_left 2
  · refine r_iconst (pc := 49) (v := 1) C dX2_forth_49 (by decide) ?_
    exact j_42
  · refine r_iconst (pc := 45) (v := 0) C dX2_forth_45 (by decide) ?_
    refine r_goto (pc := 46) (tgt := 50) C dX2_forth_46 (by decide) ?_
    exact j_42
  refine r_callV (pc := 50) (nA := 1) C (c_X2_goesWell G (d - 1) (p := foT fi ar p q i) hI ?_) (ha := (mput_at hI (j := 0) (by decide))) (hc := rfl) (h1 := q1576) (h2 := q1578) (h3 := qs25) (h4 := q61) (h5 := q1579)  (hd := dX2_forth_50) (kk := kP ?_) (kx := kN)
  · unfold foT foB; cases isPbB fi p <;> cases isPbB fi q <;> cases inB i 0 (ar 20 p.toNatClampNeg - 1) <;> rfl
  refine r_ifne (pc := 53) (tgt := 58) C dX2_forth_53 (by decide) (fun c_53 => ?_) (fun c_53 => ?_)
  · have e0 := gw_t c_53 hT
    have e1 : isPbB fi p = true ∧ isPbB fi q = true := by
      have e0 := e0
      unfold foT foB at e0
      cases h2 : isPbB fi p <;> cases h3 : isPbB fi q <;> simp [h2, h3] at e0 ⊢
    obtain ⟨pn, hpn, rfl⟩ := isPbB_nI h6 e1.1
    obtain ⟨qn, hqn, rfl⟩ := isPbB_nI h6 e1.2
    refine r_aload_0 (pc := 58) C dX2_forth_58 ?_
    refine r_iload_1 (pc := 59) C dX2_forth_59 ?_
    refine r_iload_2 (pc := 60) C dX2_forth_60 ?_
    refine r_callV (pc := 61) (nA := 2) C (c_X2_codeOf G (d - 1) (by omega) hI (MOK_0 M) hpn hqn) (ha := (mput_at hI (j := 0) (by decide))) (hc := rfl) (h1 := q1765) (h2 := q1767) (h3 := qs48) (h4 := q61) (h5 := q1768)  (hd := dX2_forth_61) (kk := kP ?_) (kx := kN)
    refine r_istore_5 (pc := 64) C dX2_forth_64 ?_
    refine r_iload_5 (pc := 66) C dX2_forth_66 ?_
    refine r_iconst (pc := 68) (v := -1) C dX2_forth_68 (by decide) ?_
    refine r_icneM (pc := 69) (tgt := 76) C 85 ?_ ?_ dX2_forth_69 (by decide) (fun c_69 j_69 => ?_) (fun c_69 j_69 => ?_) ?_
    rotate_left 2
    · refine r_aload_0 (pc := 76) C dX2_forth_76 ?_
      refine r_iload_1 (pc := 77) C dX2_forth_77 ?_
      refine r_iload_2 (pc := 78) C dX2_forth_78 ?_
      refine r_iload_5 (pc := 79) C dX2_forth_79 ?_
      refine r_iload_3 (pc := 81) C dX2_forth_81 ?_
      refine r_callV (pc := 82) (nA := 4) C (c_X2_served G (d - 1) (by omega) hI (MOK_0 M) hpn hqn) (ha := (mput_at hI (j := 0) (by decide))) (hc := rfl) (h1 := q1769) (h2 := q1771) (h3 := qs49) (h4 := q61) (h5 := q1772)  (hd := dX2_forth_82) (kk := kP ?_) (kx := kN)
      exact j_69
    · refine r_iconst (pc := 72) (v := -1) C dX2_forth_72 (by decide) ?_
      refine r_goto (pc := 73) (tgt := 85) C dX2_forth_73 (by decide) ?_
      exact j_69
    refine r_iret (pc := 85) C dX2_forth_85 ?_
    refine ⟨?_, rfl⟩
    obtain ⟨p1, p2, p3, p4, pe1, pe2⟩ := MOK_p M hpn
    obtain ⟨q1', q2', q3', q4', qe1, qe2⟩ := MOK_p M hqn
    have h256 := pow_256 p4 q4'
    unfold foV
    rw [if_pos e0, nI_clamp (by omega), nI_clamp (by omega)]
    cases e5 : cdF ar pn qn with
    | none => rfl
    | some r =>
      have := cdF_lt e5
      rw [if_neg (o2i_some (k := r) (by omega))]
      rfl
  · refine r_iconst (pc := 56) (v := 0) C dX2_forth_56 (by decide) ?_
    refine r_iret (pc := 57) C dX2_forth_57 ?_
    have e0 := gw_f c_53
    exact ⟨by unfold foV; rw [if_neg e0], rfl⟩
theorem c_X2_product (G : Good w) (d : Nat) (hd : 3 ≤ d) {p q : Int32} (hI : MI am) (M : MOK fi ar) : Con w yX2_product (ws_ yX2_product cX2_product 12 (some .int)) d 0 0 [.ref (am 0), .int p, .int q] (mput w am fi ar h0) (Pi (if prT fi ar p q = 0 then nI (fi 27) else 0) (mput w am (if prT fi ar p q = 0 then fset (fset fi 0 (prT fi ar p q)) 27 (fi 27 + 1) else fset fi 0 (prT fi ar p q)) (if prT fi ar p q = 0 then prAr fi ar p.toNatClampNeg q.toNatClampNeg else ar) h0)) noX := by
  refine Con.of G [some (.ref (am 0)), some (.int p), some (.int q), none, none, none, none, none, none, none, none, none] (body := fun g C => ?_)
  have h6 : fi 27 ≤ 6 := M.2.2.2.2.1
  have hT : prT fi ar p q < 2 ^ 31 := by unfold prT; split <;> (try split) <;> decide
  by_cases hpq : (isPbB fi p && isPbB fi q) = true
  case neg =>
    have hpq : (isPbB fi p && isPbB fi q) = false := by simpa using hpq
    have e1 : prT fi ar p q = 1 := by unfold prT; rw [if_pos hpq]
    rw [e1, if_neg (by decide), if_neg (by decide), if_neg (by decide)]
    refine r_aload_0 (pc := 0) C dX2_product_0 ?_
    refine r_iload_1 (pc := 1) C dX2_product_1 ?_
    refine r_callV (pc := 2) (nA := 1) C (c_X2_isProblem G (d - 1) (by omega) hI) (ha := (mput_at hI (j := 0) (by decide))) (hc := rfl) (h1 := q1757) (h2 := q1759) (h3 := qs47) (h4 := q61) (h5 := q1760)  (hd := dX2_product_2) (kk := kP ?_) (kx := kN)
    refine r_ifeqM (pc := 5) (tgt := 20) C 21 ?_ ?_ dX2_product_5 (by decide) (fun c_5 j_5 => ?_) (fun c_5 j_5 => ?_) ?_
    rotate_left 2
    · refine r_iconst (pc := 20) (v := 0) C dX2_product_20 (by decide) ?_
      exact j_5
    · refine r_aload_0 (pc := 8) C dX2_product_8 ?_
      refine r_iload_2 (pc := 9) C dX2_product_9 ?_
      refine r_callV (pc := 10) (nA := 1) C (c_X2_isProblem G (d - 1) (by omega) hI) (ha := (mput_at hI (j := 0) (by decide))) (hc := rfl) (h1 := q1757) (h2 := q1759) (h3 := qs47) (h4 := q61) (h5 := q1760)  (hd := dX2_product_10) (kk := kP ?_) (kx := kN)
      refine r_ifeqM (pc := 13) (tgt := 20) C 21 ?_ ?_ dX2_product_13 (by decide) (fun c_13 j_13 => ?_) (fun c_13 j_13 => ?_) ?_
      rotate_left 2
      · refine r_iconst (pc := 20) (v := 0) C dX2_product_20 (by decide) ?_
        exact j_13
      · refine r_iconst (pc := 16) (v := 1) C dX2_product_16 (by decide) ?_
        refine r_goto (pc := 17) (tgt := 21) C dX2_product_17 (by decide) ?_
        exact j_13
      exact j_5
    rw [show (if bI (isPbB fi p) = 0 then (0 : Int32) else if bI (isPbB fi q) = 0 then 0 else 1) = 0 by cases h1 : isPbB fi p <;> cases h2 : isPbB fi q <;> simp [h1, h2, bI] at hpq ⊢]
    refine r_istore_3 (pc := 21) C dX2_product_21 ?_
    refine r_iload_3 (pc := 22) C dX2_product_22 ?_
    refine r_ifeq (pc := 23) (tgt := 73) C dX2_product_23 (by decide) (fun c_23 => ?_) (fun c_23 => ?_)
    · refine r_iconst (pc := 73) (v := 0) C dX2_product_73 (by decide) ?_
      refine r_istore_4 (pc := 74) C dX2_product_74 ?_
      refine r_aload_0 (pc := 76) C dX2_product_76 ?_
      refine r_iload_3 (pc := 77) C dX2_product_77 ?_
      refine r_ifne (pc := 78) (tgt := 85) C dX2_product_78 (by decide) (fun c_78 => ?_) (fun c_78 => ?_)
      · exact absurd rfl c_78 --halt
      · refine r_iconst (pc := 81) (v := 1) C dX2_product_81 (by decide) ?_
        refine r_goto (pc := 82) (tgt := 95) C dX2_product_82 (by decide) ?_
        refine r_callV (pc := 95) (nA := 1) C (c_X2_goesWell G (d - 1) (p := 1) hI rfl) (ha := (mput_at hI (j := 0) (by decide))) (hc := rfl) (h1 := q1576) (h2 := q1578) (h3 := qs25) (h4 := q61) (h5 := q1579)  (hd := dX2_product_95) (kk := kP ?_) (kx := kN)
        refine r_ifne (pc := 98) (tgt := 103) C dX2_product_98 (by decide) (fun c_98 => ?_) (fun c_98 => ?_)
        · exact absurd (by decide) c_98 --halt
        · refine r_iconst (pc := 101) (v := 0) C dX2_product_101 (by decide) ?_
          refine r_iret (pc := 102) C dX2_product_102 ?_
          exact ⟨rfl, rfl⟩
    · exact absurd rfl c_23 --halt
  case pos =>
    have hpq' := hpq
    rw [Bool.and_eq_true] at hpq
    obtain ⟨pn, hpn, rfl⟩ := isPbB_nI h6 hpq.1
    obtain ⟨qn, hqn, rfl⟩ := isPbB_nI h6 hpq.2
    obtain ⟨p1, p2, p3, p4, pe1, pe2⟩ := MOK_p M hpn
    obtain ⟨q1', q2', q3', q4', qe1, qe2⟩ := MOK_p M hqn
    have e1 : prT fi ar (nI pn) (nI qn) = if prC fi ar pn qn = true then 0 else 2 := by
      unfold prT
      rw [hpq', if_neg (by decide), nI_clamp (by omega), nI_clamp (by omega)]
    have hm16 : iN ar pn * iN ar qn ≤ 16 := Nat.mul_le_mul p2 q2'
    have ha16 : aN ar pn * aN ar qn ≤ 16 := Nat.mul_le_mul p4 q4'
    have hne1 : ¬ ar 20 qn = 0 := by rw [qe1]; exact nI_ne0 (by omega) (by omega)
    have hne2 : ¬ ar 21 qn = 0 := by rw [qe2]; exact nI_ne0 (by omega) (by omega)
    rw [nI_clamp (show pn < 2 ^ 31 by omega), nI_clamp (show qn < 2 ^ 31 by omega)]
    have Lin : ∀ m k i : Nat, k + m = aN ar pn * aN ar qn → i < iN ar pn * iN ar qn → prT fi ar (nI pn) (nI qn) = 0 → ∀ z1 z2, (∀ z1 z2 z3, wp w g (mQ w g 0 0 (Pi (if prT fi ar (nI pn) (nI qn) = 0 then nI (fi 27) else 0) (mput w am (if prT fi ar (nI pn) (nI qn) = 0 then fset (fset fi 0 (prT fi ar (nI pn) (nI qn))) 27 (fi 27 + 1) else fset fi 0 (prT fi ar (nI pn) (nI qn))) (if prT fi ar (nI pn) (nI qn) = 0 then prAr fi ar pn qn else ar) h0)) noX) 248 [some (.ref (am 0)), some (.int (nI pn)), some (.int (nI qn)), some (.int 1), z1, some (.int (nI (iN ar pn * iN ar qn))), some (.int (nI (aN ar pn * aN ar qn))), some (.int (orN (fun i => orN (prP ar pn qn i) (aN ar pn * aN ar qn)) (i + 1))), some (.int (nI i)), z2, z3, z3] [] (mput w am (fset fi 0 (prT fi ar (nI pn) (nI qn))) ar h0) 0 0 → True) → (∀ z3 z4 z5, wp w g (mQ w g 0 0 (Pi (if prT fi ar (nI pn) (nI qn) = 0 then nI (fi 27) else 0) (mput w am (if prT fi ar (nI pn) (nI qn) = 0 then fset (fset fi 0 (prT fi ar (nI pn) (nI qn))) 27 (fi 27 + 1) else fset fi 0 (prT fi ar (nI pn) (nI qn))) (if prT fi ar (nI pn) (nI qn) = 0 then prAr fi ar pn qn else ar) h0)) noX) 248 [some (.ref (am 0)), some (.int (nI pn)), some (.int (nI qn)), some (.int 1), z1, some (.int (nI (iN ar pn * iN ar qn))), some (.int (nI (aN ar pn * aN ar qn))), some (.int (orN (fun i => orN (prP ar pn qn i) (aN ar pn * aN ar qn)) (i + 1))), some (.int (nI i)), z3, z4, z5] [] (mput w am (fset fi 0 (prT fi ar (nI pn) (nI qn))) ar h0) 0 0) → ∀ z5, wp w g (mQ w g 0 0 (Pi (if prT fi ar (nI pn) (nI qn) = 0 then nI (fi 27) else 0) (mput w am (if prT fi ar (nI pn) (nI qn) = 0 then fset (fset fi 0 (prT fi ar (nI pn) (nI qn))) 27 (fi 27 + 1) else fset fi 0 (prT fi ar (nI pn) (nI qn))) (if prT fi ar (nI pn) (nI qn) = 0 then prAr fi ar pn qn else ar) h0)) noX) 149 [some (.ref (am 0)), some (.int (nI pn)), some (.int (nI qn)), some (.int 1), z1, some (.int (nI (iN ar pn * iN ar qn))), some (.int (nI (aN ar pn * aN ar qn))), some (.int (orN (fun i => orN (prP ar pn qn i) (aN ar pn * aN ar qn)) i ||| orN (prP ar pn qn i) k)), some (.int (nI i)), some (.int (nI k)), z2, z5] [] (mput w am (fset fi 0 (prT fi ar (nI pn) (nI qn))) ar h0) 0 0 := by
      intro m
      induction m with
      | zero =>
        intro k i hk hi e0 z1 z2 _ kk z5
        have hk : k = aN ar pn * aN ar qn := by omega
        subst hk
        refine r_iload_9 (pc := 149) C dX2_product_149 ?_
        refine r_iload_6 (pc := 151) C dX2_product_151 ?_
        refine r_icge (pc := 153) (tgt := 248) C dX2_product_153 (by decide) (fun c_153 => ?_) (fun c_153 => ?_)
        · exact kk _ _ _
        · exact absurd (nI_le (Nat.le_refl _) (by omega)) c_153 --halt
      | succ m ih =>
        intro k i hk hi e0 z1 z2 tt kk z5
        refine r_iload_9 (pc := 149) C dX2_product_149 ?_
        refine r_iload_6 (pc := 151) C dX2_product_151 ?_
        refine r_icge (pc := 153) (tgt := 248) C dX2_product_153 (by decide) (fun c_153 => ?_) (fun c_153 => ?_)
        · exact absurd c_153 (nI_ge (by omega) (by omega)) --halt
        · refine r_aload_0 (pc := 156) C dX2_product_156 ?_
          refine r_mg30 (pc := 157) C hI dX2_product_157 ?_
          refine r_iload_1 (pc := 160) C dX2_product_160 ?_
          refine r_mniald (pc := 161) C hI (by decide) (by decide) rfl (by simp only [mlen]; omega) (by decide) dX2_product_161 ?_
          refine r_iload_8 (pc := 162) C dX2_product_162 ?_
          refine r_aload_0 (pc := 164) C dX2_product_164 ?_
          refine r_mg28 (pc := 165) C hI dX2_product_165 ?_
          refine r_iload_2 (pc := 168) C dX2_product_168 ?_
          refine r_mniald (pc := 169) C hI (by decide) (by decide) rfl (by simp only [mlen]; omega) (by decide) dX2_product_169 ?_
          refine r_idiv (pc := 170) C dX2_product_170 hne1 ?_
          refine r_iload_9 (pc := 171) C dX2_product_171 ?_
          refine r_aload_0 (pc := 173) C dX2_product_173 ?_
          refine r_mg29 (pc := 174) C hI dX2_product_174 ?_
          refine r_iload_2 (pc := 177) C dX2_product_177 ?_
          refine r_mniald (pc := 178) C hI (by decide) (by decide) rfl (by simp only [mlen]; omega) (by decide) dX2_product_178 ?_
          refine r_idiv (pc := 179) C dX2_product_179 hne2 ?_
          refine r_callS (pc := 180) (nA := 3) C (c_X2_isSolved G (d - 1)) (h1 := q1746) (h2 := q1747) (h3 := q61) (h4 := q1748)  (hd := dX2_product_180) (kk := kP ?_) (kx := kN)
          refine r_istore_10 (pc := 183) C dX2_product_183 ?_
          refine r_aload_0 (pc := 185) C dX2_product_185 ?_
          refine r_mg30 (pc := 186) C hI dX2_product_186 ?_
          refine r_iload_2 (pc := 189) C dX2_product_189 ?_
          refine r_mniald (pc := 190) C hI (by decide) (by decide) rfl (by simp only [mlen]; omega) (by decide) dX2_product_190 ?_
          refine r_iload_8 (pc := 191) C dX2_product_191 ?_
          refine r_aload_0 (pc := 193) C dX2_product_193 ?_
          refine r_mg28 (pc := 194) C hI dX2_product_194 ?_
          refine r_iload_2 (pc := 197) C dX2_product_197 ?_
          refine r_mniald (pc := 198) C hI (by decide) (by decide) rfl (by simp only [mlen]; omega) (by decide) dX2_product_198 ?_
          refine r_irem (pc := 199) C dX2_product_199 hne1 ?_
          refine r_iload_9 (pc := 200) C dX2_product_200 ?_
          refine r_aload_0 (pc := 202) C dX2_product_202 ?_
          refine r_mg29 (pc := 203) C hI dX2_product_203 ?_
          refine r_iload_2 (pc := 206) C dX2_product_206 ?_
          refine r_mniald (pc := 207) C hI (by decide) (by decide) rfl (by simp only [mlen]; omega) (by decide) dX2_product_207 ?_
          refine r_irem (pc := 208) C dX2_product_208 hne2 ?_
          refine r_callS (pc := 209) (nA := 3) C (c_X2_isSolved G (d - 1)) (h1 := q1746) (h2 := q1747) (h3 := q61) (h4 := q1748)  (hd := dX2_product_209) (kk := kP ?_) (kx := kN)
          refine r_istore_11 (pc := 212) C dX2_product_212 ?_
          refine r_iload_7 (pc := 214) C dX2_product_214 ?_
          refine r_iload_10 (pc := 216) C dX2_product_216 ?_
          refine r_ifeqM (pc := 218) (tgt := 238) C 239 ?_ ?_ dX2_product_218 (by decide) (fun c_218 j_218 => ?_) (fun c_218 j_218 => ?_) ?_
          rotate_left 2
          · refine r_iconst (pc := 238) (v := 0) C dX2_product_238 (by decide) ?_
            exact j_218
          · refine r_iload_11 (pc := 221) C dX2_product_221 ?_
            refine r_ifeqM (pc := 223) (tgt := 238) C 239 ?_ ?_ dX2_product_223 (by decide) (fun c_223 j_223 => ?_) (fun c_223 j_223 => ?_) ?_
            rotate_left 2
            · refine r_iconst (pc := 238) (v := 0) C dX2_product_238 (by decide) ?_
              exact j_223
            · refine r_iconst (pc := 226) (v := 1) C dX2_product_226 (by decide) ?_
              refine r_iconst (pc := 227) (v := 4) C dX2_product_227 (by decide) ?_
              refine r_iload_8 (pc := 228) C dX2_product_228 ?_
              refine r_imul (pc := 230) C dX2_product_230 ?_
              refine r_iload_9 (pc := 231) C dX2_product_231 ?_
              refine r_iadd (pc := 233) C dX2_product_233 ?_
              refine r_ishl (pc := 234) C dX2_product_234 ?_
              refine r_goto (pc := 235) (tgt := 239) C dX2_product_235 (by decide) ?_
              exact j_223
            exact j_218
          have e := ih (k + 1) i (by omega) hi e0 z1 (some (.int (bI (solB (ar 22 pn) (nI i / ar 20 qn) (nI k / ar 21 qn))))) tt kk (some (.int (bI (solB (ar 22 qn) (nI i - nI i / ar 20 qn * ar 20 qn) (nI k - nI k / ar 21 qn * ar 21 qn)))))
          rw [show orN (prP ar pn qn i) (k + 1) = orN (prP ar pn qn i) k ||| prP ar pn qn i k from rfl, ← Int32.or_assoc] at e
          refine r_ior (pc := 239) C dX2_product_239 ?_
          refine r_istore_7 (pc := 240) C dX2_product_240 ?_
          refine r_iinc_9 (pc := 242) C dX2_product_242 (nI_1 k) ?_
          refine r_goto (pc := 245) (tgt := 149) C dX2_product_245 (by decide) ?_
          exact e
    have L : ∀ m i : Nat, i + m = iN ar pn * iN ar qn → prT fi ar (nI pn) (nI qn) = 0 → fi 27 < 6 → ∀ z1 z2 z3 z4, wp w g (mQ w g 0 0 (Pi (if prT fi ar (nI pn) (nI qn) = 0 then nI (fi 27) else 0) (mput w am (if prT fi ar (nI pn) (nI qn) = 0 then fset (fset fi 0 (prT fi ar (nI pn) (nI qn))) 27 (fi 27 + 1) else fset fi 0 (prT fi ar (nI pn) (nI qn))) (if prT fi ar (nI pn) (nI qn) = 0 then prAr fi ar pn qn else ar) h0)) noX) 139 [some (.ref (am 0)), some (.int (nI pn)), some (.int (nI qn)), some (.int 1), z1, some (.int (nI (iN ar pn * iN ar qn))), some (.int (nI (aN ar pn * aN ar qn))), some (.int (orN (fun i => orN (prP ar pn qn i) (aN ar pn * aN ar qn)) i)), some (.int (nI i)), z2, z3, z4] [] (mput w am (fset fi 0 (prT fi ar (nI pn) (nI qn))) ar h0) 0 0 := by
      intro m
      induction m with
      | zero =>
        intro i hi e0 h27 z1 z2 z3 z4
        have hi : i = iN ar pn * iN ar qn := by omega
        subst hi
        refine r_iload_8 (pc := 139) C dX2_product_139 ?_
        refine r_iload_5 (pc := 141) C dX2_product_141 ?_
        refine r_icge (pc := 143) (tgt := 254) C dX2_product_143 (by decide) (fun c_143 => ?_) (fun c_143 => ?_)
        · refine r_aload_0 (pc := 254) C dX2_product_254 ?_
          refine r_iload_5 (pc := 255) C dX2_product_255 ?_
          refine r_iload_6 (pc := 257) C dX2_product_257 ?_
          refine r_iload_7 (pc := 259) C dX2_product_259 ?_
          refine r_callV (pc := 261) (nA := 3) C (c_X2_addProblem G (d - 1) hI h27) (ha := (mput_at hI (j := 0) (by decide))) (hc := rfl) (h1 := q1749) (h2 := q1751) (h3 := qs46) (h4 := q61) (h5 := q1752)  (hd := dX2_product_261) (kk := kP ?_) (kx := kN)
          refine r_iret (pc := 264) C dX2_product_264 ?_
          rw [if_pos e0, if_pos e0, if_pos e0]
          exact ⟨rfl, rfl⟩
        · exact absurd (nI_le (Nat.le_refl _) (by omega)) c_143 --halt
      | succ m ih =>
        intro i hi e0 h27 z1 z2 z3 z4
        refine r_iload_8 (pc := 139) C dX2_product_139 ?_
        refine r_iload_5 (pc := 141) C dX2_product_141 ?_
        refine r_icge (pc := 143) (tgt := 254) C dX2_product_143 (by decide) (fun c_143 => ?_) (fun c_143 => ?_)
        · exact absurd c_143 (nI_ge (by omega) (by omega)) --halt
        · refine r_iconst (pc := 146) (v := 0) C dX2_product_146 (by decide) ?_
          refine r_istore_9 (pc := 147) C dX2_product_147 ?_
          have e := Lin _ 0 i (Nat.zero_add _) (by omega) e0 z1 z3 (fun _ _ _ _ => trivial) ?_ z4
          · rw [show orN (prP ar pn qn i) 0 = 0 from rfl, Int32.or_zero] at e
            exact e
          intro y3 y4 y5
          refine r_iinc_8 (pc := 248) C dX2_product_248 (nI_1 i) ?_
          refine r_goto (pc := 251) (tgt := 139) C dX2_product_251 (by decide) ?_
          exact ih (i + 1) (by omega) e0 h27 _ _ _ _
    have Le4 : ∀ n : Nat, n ≤ 16 → ((4 : Int32) < nI n ↔ 4 < n) := fun n hn => nI_ltI (a := 4) (by decide) (by omega)
    refine r_aload_0 (pc := 0) C dX2_product_0 ?_
    refine r_iload_1 (pc := 1) C dX2_product_1 ?_
    refine r_callV (pc := 2) (nA := 1) C (c_X2_isProblem G (d - 1) (by omega) hI) (ha := (mput_at hI (j := 0) (by decide))) (hc := rfl) (h1 := q1757) (h2 := q1759) (h3 := qs47) (h4 := q61) (h5 := q1760)  (hd := dX2_product_2) (kk := kP ?_) (kx := kN)
    refine r_ifeqM (pc := 5) (tgt := 20) C 21 ?_ ?_ dX2_product_5 (by decide) (fun c_5 j_5 => ?_) (fun c_5 j_5 => ?_) ?_
    rotate_left 2
    · refine r_iconst (pc := 20) (v := 0) C dX2_product_20 (by decide) ?_
      exact j_5
    · refine r_aload_0 (pc := 8) C dX2_product_8 ?_
      refine r_iload_2 (pc := 9) C dX2_product_9 ?_
      refine r_callV (pc := 10) (nA := 1) C (c_X2_isProblem G (d - 1) (by omega) hI) (ha := (mput_at hI (j := 0) (by decide))) (hc := rfl) (h1 := q1757) (h2 := q1759) (h3 := qs47) (h4 := q61) (h5 := q1760)  (hd := dX2_product_10) (kk := kP ?_) (kx := kN)
      refine r_ifeqM (pc := 13) (tgt := 20) C 21 ?_ ?_ dX2_product_13 (by decide) (fun c_13 j_13 => ?_) (fun c_13 j_13 => ?_) ?_
      rotate_left 2
      · refine r_iconst (pc := 20) (v := 0) C dX2_product_20 (by decide) ?_
        exact j_13
      · refine r_iconst (pc := 16) (v := 1) C dX2_product_16 (by decide) ?_
        refine r_goto (pc := 17) (tgt := 21) C dX2_product_17 (by decide) ?_
        exact j_13
      exact j_5
    rw [show (if bI (isPbB fi (nI pn)) = 0 then (0 : Int32) else if bI (isPbB fi (nI qn)) = 0 then 0 else 1) = 1 by rw [hpq.1, hpq.2]; rfl]
    refine r_istore_3 (pc := 21) C dX2_product_21 ?_
    refine r_iload_3 (pc := 22) C dX2_product_22 ?_
    refine r_ifeqM (pc := 23) (tgt := 73) C 74 ?_ ?_ dX2_product_23 (by decide) (fun c_23 j_23 => ?_) (fun c_23 j_23 => ?_) ?_
    rotate_left 2
    · refine r_iconst (pc := 73) (v := 0) C dX2_product_73 (by decide) ?_
      exact j_23
    · refine r_aload_0 (pc := 26) C dX2_product_26 ?_
      refine r_mg27 (pc := 27) C hI dX2_product_27 ?_
      refine r_bipush (pc := 30) (v := 6) C dX2_product_30 (by decide) ?_
      refine r_icgeM (pc := 32) (tgt := 73) C 74 ?_ ?_ dX2_product_32 (by decide) (fun c_32 j_32 => ?_) (fun c_32 j_32 => ?_) ?_
      rotate_left 2
      · refine r_iconst (pc := 73) (v := 0) C dX2_product_73 (by decide) ?_
        exact j_32
      · refine r_aload_0 (pc := 35) C dX2_product_35 ?_
        refine r_mg28 (pc := 36) C hI dX2_product_36 ?_
        refine r_iload_1 (pc := 39) C dX2_product_39 ?_
        refine r_mniald (pc := 40) C hI (by decide) (by decide) rfl (by simp only [mlen]; omega) (by decide) dX2_product_40 ?_
        refine r_aload_0 (pc := 41) C dX2_product_41 ?_
        refine r_mg28 (pc := 42) C hI dX2_product_42 ?_
        refine r_iload_2 (pc := 45) C dX2_product_45 ?_
        refine r_mniald (pc := 46) C hI (by decide) (by decide) rfl (by simp only [mlen]; omega) (by decide) dX2_product_46 ?_
        refine r_imul (pc := 47) C dX2_product_47 ?_
        rw [pe1, qe1, pk_mul]
        refine r_iconst (pc := 48) (v := 4) C dX2_product_48 (by decide) ?_
        refine r_icgtM (pc := 49) (tgt := 73) C 74 ?_ ?_ dX2_product_49 (by decide) (fun c_49 j_49 => ?_) (fun c_49 j_49 => ?_) ?_
        rotate_left 2
        · refine r_iconst (pc := 73) (v := 0) C dX2_product_73 (by decide) ?_
          exact j_49
        · refine r_aload_0 (pc := 52) C dX2_product_52 ?_
          refine r_mg29 (pc := 53) C hI dX2_product_53 ?_
          refine r_iload_1 (pc := 56) C dX2_product_56 ?_
          refine r_mniald (pc := 57) C hI (by decide) (by decide) rfl (by simp only [mlen]; omega) (by decide) dX2_product_57 ?_
          refine r_aload_0 (pc := 58) C dX2_product_58 ?_
          refine r_mg29 (pc := 59) C hI dX2_product_59 ?_
          refine r_iload_2 (pc := 62) C dX2_product_62 ?_
          refine r_mniald (pc := 63) C hI (by decide) (by decide) rfl (by simp only [mlen]; omega) (by decide) dX2_product_63 ?_
          refine r_imul (pc := 64) C dX2_product_64 ?_
          rw [pe2, qe2, pk_mul]
          refine r_iconst (pc := 65) (v := 4) C dX2_product_65 (by decide) ?_
          refine r_icgtM (pc := 66) (tgt := 73) C 74 ?_ ?_ dX2_product_66 (by decide) (fun c_66 j_66 => ?_) (fun c_66 j_66 => ?_) ?_
          rotate_left 2
          · refine r_iconst (pc := 73) (v := 0) C dX2_product_73 (by decide) ?_
            exact j_66
          · refine r_iconst (pc := 69) (v := 1) C dX2_product_69 (by decide) ?_
            refine r_goto (pc := 70) (tgt := 74) C dX2_product_70 (by decide) ?_
            exact j_66
          exact j_49
        exact j_32
      exact j_23
    refine r_istore_4 (pc := 74) C dX2_product_74 ?_
    refine r_aload_0 (pc := 76) C dX2_product_76 ?_
    refine r_iload_3 (pc := 77) C dX2_product_77 ?_
    refine r_ifneM (pc := 78) (tgt := 85) C 95 ?_ ?_ dX2_product_78 (by decide) (fun c_78 j_78 => ?_) (fun c_78 j_78 => ?_) ?_
    rotate_left 2
    · refine r_iload_4 (pc := 85) C dX2_product_85 ?_
      refine r_ifeqM (pc := 87) (tgt := 94) C 95 ?_ ?_ dX2_product_87 (by decide) (fun c_87 j_87 => ?_) (fun c_87 j_87 => ?_) ?_
      rotate_left 2
      · refine r_iconst (pc := 94) (v := 2) C dX2_product_94 (by decide) ?_
        exact j_87
      · refine r_iconst (pc := 90) (v := 0) C dX2_product_90 (by decide) ?_
        refine r_goto (pc := 91) (tgt := 95) C dX2_product_91 (by decide) ?_
        exact j_87
      exact j_78
    · refine r_iconst (pc := 81) (v := 1) C dX2_product_81 (by decide) ?_
      refine r_goto (pc := 82) (tgt := 95) C dX2_product_82 (by decide) ?_
      exact j_78
    refine r_callV (pc := 95) (nA := 1) C (c_X2_goesWell G (d - 1) (p := prT fi ar (nI pn) (nI qn)) hI ?_) (ha := (mput_at hI (j := 0) (by decide))) (hc := rfl) (h1 := q1576) (h2 := q1578) (h3 := qs25) (h4 := q61) (h5 := q1579)  (hd := dX2_product_95) (kk := kP ?_) (kx := kN)
    · have f6 : ((6 : Int32) ≤ nI (fi 27)) ↔ 6 ≤ fi 27 := nI_leI (a := 6) (by decide) (by omega); rw [e1]; unfold prC; by_cases g1 : fi 27 < 6 <;> by_cases g2 : iN ar pn * iN ar qn ≤ 4 <;> by_cases g3 : aN ar pn * aN ar qn ≤ 4 <;> simp [f6, Le4 _ hm16, Le4 _ ha16, g1, g2, g3, Nat.not_lt.mpr, Nat.not_le.mpr, Nat.not_lt.mp, Nat.not_le.mp] <;> (try rfl) <;> omega
    refine r_ifne (pc := 98) (tgt := 103) C dX2_product_98 (by decide) (fun c_98 => ?_) (fun c_98 => ?_)
    · have e0 := gw_t c_98 hT
      have h27 : fi 27 < 6 := by
        have e2 := e0
        rw [e1] at e2
        unfold prC at e2
        by_cases g1 : fi 27 < 6
        · exact g1
        · simp [g1] at e2
      refine r_aload_0 (pc := 103) C dX2_product_103 ?_
      refine r_mg28 (pc := 104) C hI dX2_product_104 ?_
      refine r_iload_1 (pc := 107) C dX2_product_107 ?_
      refine r_mniald (pc := 108) C hI (by decide) (by decide) rfl (by simp only [mlen]; omega) (by decide) dX2_product_108 ?_
      refine r_aload_0 (pc := 109) C dX2_product_109 ?_
      refine r_mg28 (pc := 110) C hI dX2_product_110 ?_
      refine r_iload_2 (pc := 113) C dX2_product_113 ?_
      refine r_mniald (pc := 114) C hI (by decide) (by decide) rfl (by simp only [mlen]; omega) (by decide) dX2_product_114 ?_
      refine r_imul (pc := 115) C dX2_product_115 ?_
      rw [pe1, qe1, pk_mul]
      refine r_istore_5 (pc := 116) C dX2_product_116 ?_
      refine r_aload_0 (pc := 118) C dX2_product_118 ?_
      refine r_mg29 (pc := 119) C hI dX2_product_119 ?_
      refine r_iload_1 (pc := 122) C dX2_product_122 ?_
      refine r_mniald (pc := 123) C hI (by decide) (by decide) rfl (by simp only [mlen]; omega) (by decide) dX2_product_123 ?_
      refine r_aload_0 (pc := 124) C dX2_product_124 ?_
      refine r_mg29 (pc := 125) C hI dX2_product_125 ?_
      refine r_iload_2 (pc := 128) C dX2_product_128 ?_
      refine r_mniald (pc := 129) C hI (by decide) (by decide) rfl (by simp only [mlen]; omega) (by decide) dX2_product_129 ?_
      refine r_imul (pc := 130) C dX2_product_130 ?_
      rw [pe2, qe2, pk_mul]
      refine r_istore_6 (pc := 131) C dX2_product_131 ?_
      refine r_iconst (pc := 133) (v := 0) C dX2_product_133 (by decide) ?_
      refine r_istore_7 (pc := 134) C dX2_product_134 ?_
      refine r_iconst (pc := 136) (v := 0) C dX2_product_136 (by decide) ?_
      refine r_istore_8 (pc := 137) C dX2_product_137 ?_
      exact L _ 0 (Nat.zero_add _) e0 h27 _ _ _ _
    · refine r_iconst (pc := 101) (v := 0) C dX2_product_101 (by decide) ?_
      refine r_iret (pc := 102) C dX2_product_102 ?_
      have e0 := gw_f c_98
      rw [if_neg e0, if_neg e0, if_neg e0]
      exact ⟨rfl, rfl⟩
end M6
