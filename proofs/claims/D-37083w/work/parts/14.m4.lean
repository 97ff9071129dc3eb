/-! 14: ReversalCourtModel: the court's calls -/
set_option maxRecDepth 100000
section M4
variable {w : WD} {am fi : Nat → Nat} {ar : Nat → Nat → Int32} {h0 : AH}
theorem l_sum_s {f : Nat → Int32} {k : Nat} : l_sum f (k + 1) = l_sum f k + f k := rfl
theorem c_X2_thrown (G : Good w) (d : Nat) (hI : MI am) : Con w yX2_thrown (ws_ yX2_thrown cX2_thrown 1 (some .int)) d 0 0 [.ref (am 0)] (mput w am fi ar h0) (Pi (nI (fi 0)) (mput w am fi ar h0)) noX := by
  refine Con.of G [some (.ref (am 0))] (body := fun g C => ?_)
  refine r_aload_0 (pc := 0) C dX2_thrown_0 ?_
  refine r_mg0 (pc := 1) C hI dX2_thrown_1 ?_
  refine r_iret (pc := 4) C dX2_thrown_4 ?_
  exact ⟨rfl, rfl⟩
theorem c_X2_blank (G : Good w) (d : Nat) (hI : MI am) : Con w yX2_blank (ws_ yX2_blank cX2_blank 2 (some .int)) d 0 0 [.ref (am 0)] (mput w am fi ar h0) (Pi (nI (fi 1)) (mput w am (fset (fset fi 0 0) 1 0) ar h0)) noX := by
  refine Con.of G [some (.ref (am 0)), none] (body := fun g C => ?_)
  refine r_aload_0 (pc := 0) C dX2_blank_0 ?_
  refine r_iconst (pc := 1) (v := 0) C dX2_blank_1 (by decide) ?_
  refine r_mp0 (pc := 2) (v := _) C hI rfl dX2_blank_2 ?_
  refine r_aload_0 (pc := 5) C dX2_blank_5 ?_
  refine r_mg1 (pc := 6) C hI dX2_blank_6 ?_
  refine r_istore_1 (pc := 9) C dX2_blank_9 ?_
  refine r_aload_0 (pc := 10) C dX2_blank_10 ?_
  refine r_iconst (pc := 11) (v := 0) C dX2_blank_11 (by decide) ?_
  refine r_mp1 (pc := 12) (v := _) C hI rfl dX2_blank_12 ?_
  refine r_iload_1 (pc := 15) C dX2_blank_15 ?_
  refine r_iret (pc := 16) C dX2_blank_16 ?_
  exact ⟨rfl, rfl⟩
theorem c_X2_known (G : Good w) (d : Nat) (hd : 4 ≤ d) {a b : Int32} (hI : MI am) (M : MOK fi ar) : Con w yX2_known (ws_ yX2_known cX2_known 4 (some .int)) d 0 0 [.ref (am 0), .int a, .int b] (mput w am fi ar h0) (Pi (knV fi ar a b) (mput w am (fset fi 0 (knT fi a b)) ar h0)) noX := by
  refine Con.of G [some (.ref (am 0)), some (.int a), some (.int b), none] (body := fun g C => ?_)
  refine r_aload_0 (pc := 0) C dX2_known_0 ?_
  refine r_iload_1 (pc := 1) C dX2_known_1 ?_
  refine r_callV (pc := 2) (nA := 1) C (c_X2_isPrinciple G (d - 1) (by omega) hI) (ha := (mput_at hI (j := 0) (by decide))) (hc := rfl) (h1 := q1673) (h2 := q1675) (h3 := qs39) (h4 := q61) (h5 := q1676)  (hd := dX2_known_2) (kk := kP ?_) (kx := kN)
  refine r_ifeqM (pc := 5) (tgt := 20) C 21 ?_ ?_ dX2_known_5 (by decide) (fun c_5 j_5 => ?_) (fun c_5 j_5 => ?_) ?_
  rotate_left 2
  · refine r_iconst (pc := 20) (v := 0) C dX2_known_20 (by decide) ?_
    exact j_5
  · refine r_aload_0 (pc := 8) C dX2_known_8 ?_
    refine r_iload_2 (pc := 9) C dX2_known_9 ?_
    refine r_callV (pc := 10) (nA := 1) C (c_X2_isPrinciple G (d - 1) (by omega) hI) (ha := (mput_at hI (j := 0) (by decide))) (hc := rfl) (h1 := q1673) (h2 := q1675) (h3 := qs39) (h4 := q61) (h5 := q1676)  (hd := dX2_known_10) (kk := kP ?_) (kx := kN)
    refine r_ifeqM (pc := 13) (tgt := 20) C 21 ?_ ?_ dX2_known_13 (by decide) (fun c_13 j_13 => ?_) (fun c_13 j_13 => ?_) ?_
    rotate_left 2
    · refine r_iconst (pc := 20) (v := 0) C dX2_known_20 (by decide) ?_
      exact j_13
    · refine r_iconst (pc := 16) (v := 1) C dX2_known_16 (by decide) ?_
      refine r_goto (pc := 17) (tgt := 21) C dX2_known_17 (by decide) ?_
      exact j_13
    exact j_5
  refine r_istore_3 (pc := 21) C dX2_known_21 ?_
  refine r_aload_0 (pc := 22) C dX2_known_22 ?_
  refine r_iload_3 (pc := 23) C dX2_known_23 ?_
  refine r_ifneM (pc := 24) (tgt := 31) C 41 ?_ ?_ dX2_known_24 (by decide) (fun c_24 j_24 => ?_) (fun c_24 j_24 => ?_) ?_
  rotate_left 2
  · refine r_iload_1 (pc := 31) C dX2_known_31 ?_
    refine r_iload_2 (pc := 32) C dX2_known_32 ?_
    refine r_iceqM (pc := 33) (tgt := 40) C 41 ?_ ?_ dX2_known_33 (by decide) (fun c_33 j_33 => ?_) (fun c_33 j_33 => ?_) ?_
    rotate_left 2
    · refine r_iconst (pc := 40) (v := 2) C dX2_known_40 (by decide) ?_
      exact j_33
    · refine r_iconst (pc := 36) (v := 0) C dX2_known_36 (by decide) ?_
      refine r_goto (pc := 37) (tgt := 41) C dX2_known_37 (by decide) ?_
      exact j_33
    exact j_24
  · refine r_iconst (pc := 27) (v := 1) C dX2_known_27 (by decide) ?_
    refine r_goto (pc := 28) (tgt := 41) C dX2_known_28 (by decide) ?_
    exact j_24
  refine r_callV (pc := 41) (nA := 1) C (c_X2_goesWell G (d - 1) (p := knT fi a b) hI ?_) (ha := (mput_at hI (j := 0) (by decide))) (hc := rfl) (h1 := q1576) (h2 := q1578) (h3 := qs25) (h4 := q61) (h5 := q1579)  (hd := dX2_known_41) (kk := kP ?_) (kx := kN)
  · unfold knT; cases isPrB fi a <;> cases isPrB fi b <;> by_cases h : a = b <;> simp [h, bI] <;> rfl
  refine r_ifeqM (pc := 44) (tgt := 56) C 57 ?_ ?_ dX2_known_44 (by decide) (fun c_44 j_44 => ?_) (fun c_44 j_44 => ?_) ?_
  rotate_left 2
  · refine r_iconst (pc := 56) (v := 0) C dX2_known_56 (by decide) ?_
    exact j_44
  · refine r_aload_0 (pc := 47) C dX2_known_47 ?_
    refine r_iload_1 (pc := 48) C dX2_known_48 ?_
    refine r_iload_2 (pc := 49) C dX2_known_49 ?_
    refine r_callV (pc := 50) (nA := 2) C (c_X2_knownOf G (d - 1) (by omega) hI (MOK_0 M)) (ha := (mput_at hI (j := 0) (by decide))) (hc := rfl) (h1 := q1712) (h2 := q1714) (h3 := qs44) (h4 := q61) (h5 := q1715)  (hd := dX2_known_50) (kk := kP ?_) (kx := kN)
    refine r_goto (pc := 53) (tgt := 57) C dX2_known_53 (by decide) ?_
    exact j_44
  refine r_iret (pc := 57) C dX2_known_57 ?_
  refine ⟨?_, rfl⟩
  rw [knF_0]
  unfold knV
  by_cases h : knT fi a b = 0
  · rw [if_pos h, h]; rfl
  · have h2 : knT fi a b < 2 ^ 31 := by unfold knT; split <;> (try split) <;> decide
    rw [if_neg h, if_pos]
    rw [bI_0, decide_eq_false_iff_not]
    exact fun e => h ((nI_eq h2 (by decide)).mp e)
theorem c_X2_open (G : Good w) (d : Nat) (hd : 4 ≤ d) (hI : MI am) (M : MOK fi ar) : Con w yX2_open (ws_ yX2_open cX2_open 4 (some .int)) d 0 0 [.ref (am 0)] (mput w am fi ar h0) (Pi (opF fi ar) (mput w am (fset fi 0 0) ar h0)) noX := by
  refine Con.of G [some (.ref (am 0)), none, none, none] (body := fun g C => ?_)
  have hp : fi 18 ≤ 10 := M.2.1
  have Lin : ∀ m k i : Nat, k + m = fi 18 → i < fi 18 → (∀ z, wp w g (mQ w g 0 0 (Pi (opF fi ar) (mput w am (fset fi 0 0) ar h0)) noX) 55 [some (.ref (am 0)), some (.int (l_sum (fun a => l_sum (opP fi ar a) (fi 18)) i + l_sum (opP fi ar i) (fi 18))), some (.int (nI i)), z] [] (mput w am (fset fi 0 0) ar h0) 0 0) → wp w g (mQ w g 0 0 (Pi (opF fi ar) (mput w am (fset fi 0 0) ar h0)) noX) 19 [some (.ref (am 0)), some (.int (l_sum (fun a => l_sum (opP fi ar a) (fi 18)) i + l_sum (opP fi ar i) k)), some (.int (nI i)), some (.int (nI k))] [] (mput w am (fset fi 0 0) ar h0) 0 0 := by
    intro m
    induction m with
    | zero =>
      intro k i hk hi kk
      have hk : k = fi 18 := by omega
      subst hk
      refine r_iload_3 (pc := 19) C dX2_open_19 ?_
      refine r_aload_0 (pc := 20) C dX2_open_20 ?_
      refine r_mg18 (pc := 21) C hI dX2_open_21 ?_
      refine r_icge (pc := 24) (tgt := 55) C dX2_open_24 (by decide) (fun c_24 => ?_) (fun c_24 => ?_)
      · exact kk _
      · exact absurd (nI_le (Nat.le_refl _) (show fi 18 < 2 ^ 31 by omega)) c_24 --halt
    | succ m ih =>
      intro k i hk hi kk
      refine r_iload_3 (pc := 19) C dX2_open_19 ?_
      refine r_aload_0 (pc := 20) C dX2_open_20 ?_
      refine r_mg18 (pc := 21) C hI dX2_open_21 ?_
      refine r_icge (pc := 24) (tgt := 55) C dX2_open_24 (by decide) (fun c_24 => ?_) (fun c_24 => ?_)
      · exact absurd c_24 (nI_ge (show k < fi 18 by omega) (show fi 18 < 2 ^ 31 by omega)) --halt
      · refine r_iload_1 (pc := 27) C dX2_open_27 ?_
        refine r_iload_2 (pc := 28) C dX2_open_28 ?_
        refine r_iload_3 (pc := 29) C dX2_open_29 ?_
        refine r_iceqM (pc := 30) (tgt := 46) C 47 ?_ ?_ dX2_open_30 (by decide) (fun c_30 j_30 => ?_) (fun c_30 j_30 => ?_) ?_
        rotate_left 2
        · refine r_iconst (pc := 46) (v := 0) C dX2_open_46 (by decide) ?_
          exact j_30
        · refine r_aload_0 (pc := 33) C dX2_open_33 ?_
          refine r_iload_2 (pc := 34) C dX2_open_34 ?_
          refine r_iload_3 (pc := 35) C dX2_open_35 ?_
          refine r_callV (pc := 36) (nA := 2) C (c_X2_knownOf G (d - 1) (by omega) hI (MOK_0 M)) (ha := (mput_at hI (j := 0) (by decide))) (hc := rfl) (h1 := q1712) (h2 := q1714) (h3 := qs44) (h4 := q61) (h5 := q1715)  (hd := dX2_open_36) (kk := kP ?_) (kx := kN)
          refine r_ifneM (pc := 39) (tgt := 46) C 47 ?_ ?_ dX2_open_39 (by decide) (fun c_39 j_39 => ?_) (fun c_39 j_39 => ?_) ?_
          rotate_left 2
          · refine r_iconst (pc := 46) (v := 0) C dX2_open_46 (by decide) ?_
            exact j_39
          · refine r_iconst (pc := 42) (v := 1) C dX2_open_42 (by decide) ?_
            refine r_goto (pc := 43) (tgt := 47) C dX2_open_43 (by decide) ?_
            exact j_39
          exact j_30
        have e := ih (k + 1) i (by omega) hi kk
        refine r_iadd (pc := 47) C dX2_open_47 ?_
        refine r_istore_1 (pc := 48) C dX2_open_48 ?_
        refine r_iinc_3 (pc := 49) C dX2_open_49 (nI_1 k) ?_
        refine r_goto (pc := 52) (tgt := 19) C dX2_open_52 (by decide) ?_
        have e2 : l_sum (fun a => l_sum (opP fi ar a) (fi 18)) i + l_sum (opP fi ar i) (k + 1) = l_sum (fun a => l_sum (opP fi ar a) (fi 18)) i + l_sum (opP fi ar i) k + (if nI i = nI k then 0 else if knF (fset fi 0 0) ar (nI i) (nI k) = 0 then 1 else 0) := by
          rw [l_sum_s, ← Int32.add_assoc, knF_0]
          rfl
        rw [e2] at e
        exact e
  have Lout : ∀ m i : Nat, i + m = fi 18 → ∀ z, wp w g (mQ w g 0 0 (Pi (opF fi ar) (mput w am (fset fi 0 0) ar h0)) noX) 9 [some (.ref (am 0)), some (.int (l_sum (fun a => l_sum (opP fi ar a) (fi 18)) i)), some (.int (nI i)), z] [] (mput w am (fset fi 0 0) ar h0) 0 0 := by
    intro m
    induction m with
    | zero =>
      intro i hi z
      have hi : i = fi 18 := by omega
      subst hi
      refine r_iload_2 (pc := 9) C dX2_open_9 ?_
      refine r_aload_0 (pc := 10) C dX2_open_10 ?_
      refine r_mg18 (pc := 11) C hI dX2_open_11 ?_
      refine r_icge (pc := 14) (tgt := 61) C dX2_open_14 (by decide) (fun c_14 => ?_) (fun c_14 => ?_)
      · refine r_iload_1 (pc := 61) C dX2_open_61 ?_
        refine r_iret (pc := 62) C dX2_open_62 ?_
        exact ⟨rfl, rfl⟩
      · exact absurd (nI_le (Nat.le_refl _) (show fi 18 < 2 ^ 31 by omega)) c_14 --halt
    | succ m ih =>
      intro i hi z
      refine r_iload_2 (pc := 9) C dX2_open_9 ?_
      refine r_aload_0 (pc := 10) C dX2_open_10 ?_
      refine r_mg18 (pc := 11) C hI dX2_open_11 ?_
      refine r_icge (pc := 14) (tgt := 61) C dX2_open_14 (by decide) (fun c_14 => ?_) (fun c_14 => ?_)
      · exact absurd c_14 (nI_ge (show i < fi 18 by omega) (show fi 18 < 2 ^ 31 by omega)) --halt
      · refine r_iconst (pc := 17) (v := 0) C dX2_open_17 (by decide) ?_
        refine r_istore_3 (pc := 18) C dX2_open_18 ?_
        have e := Lin (fi 18) 0 i (by omega) (by omega) ?_
        · rw [show l_sum (opP fi ar i) 0 = 0 from rfl, Int32.add_zero] at e
          exact e
        intro z
        refine r_iinc_2 (pc := 55) C dX2_open_55 (nI_1 i) ?_
        refine r_goto (pc := 58) (tgt := 9) C dX2_open_58 (by decide) ?_
        exact ih (i + 1) (by omega) z
  refine r_aload_0 (pc := 0) C dX2_open_0 ?_
  refine r_iconst (pc := 1) (v := 0) C dX2_open_1 (by decide) ?_
  refine r_mp0 (pc := 2) (v := _) C hI rfl dX2_open_2 ?_
  refine r_iconst (pc := 5) (v := 0) C dX2_open_5 (by decide) ?_
  refine r_istore_1 (pc := 6) C dX2_open_6 ?_
  refine r_iconst (pc := 7) (v := 0) C dX2_open_7 (by decide) ?_
  refine r_istore_2 (pc := 8) C dX2_open_8 ?_
  exact Lout (fi 18) 0 (by omega) _
theorem c_X2_leastOf (G : Good w) (d : Nat) (hd : 3 ≤ d) {goal pool : Int32} (hI : MI am) (M : MOK fi ar) : Con w yX2_leastOf (ws_ yX2_leastOf cX2_leastOf 7 (some .int)) d 0 0 [.ref (am 0), .int goal, .int pool] (mput w am fi ar h0) (Pi (if lsT fi goal pool = 0 then lsN fi ar goal pool (pool.toNatClampNeg + 1) else 0) (mput w am (fset fi 0 (lsT fi goal pool)) ar h0)) noX := by
  refine Con.of G [some (.ref (am 0)), some (.int goal), some (.int pool), none, none, none, none] (body := fun g C => ?_)
  have L : ∀ m k P : Nat, k + m = P + 1 → P < 1024 → pool = nI P → lsT fi goal pool = 0 → ∀ u z, wp w g (mQ w g 0 0 (Pi (if lsT fi goal pool = 0 then lsN fi ar goal pool (pool.toNatClampNeg + 1) else 0) (mput w am (fset fi 0 (lsT fi goal pool)) ar h0)) noX) 42 [some (.ref (am 0)), some (.int goal), some (.int pool), u, some (.int (lsN (fset fi 0 (lsT fi goal pool)) ar goal pool k)), some (.int (nI k)), z] [] (mput w am (fset fi 0 (lsT fi goal pool)) ar h0) 0 0 := by
    intro m
    induction m with
    | zero =>
      intro k P hk hP ep e0 u z
      have hk : k = P + 1 := by omega
      subst hk
      subst ep
      refine r_iload_5 (pc := 42) C dX2_leastOf_42 ?_
      refine r_iload_2 (pc := 44) C dX2_leastOf_44 ?_
      refine r_icgt (pc := 45) (tgt := 117) C dX2_leastOf_45 (by decide) (fun c_45 => ?_) (fun c_45 => ?_)
      · refine r_iload_4 (pc := 117) C dX2_leastOf_117 ?_
        refine r_iret (pc := 119) C dX2_leastOf_119 ?_
        refine ⟨?_, rfl⟩
        rw [if_pos e0, nI_clamp (by omega), lsN_0]
      · exact absurd (nI_lt (Nat.lt_succ_self P) (by omega)) c_45 --halt
    | succ m ih =>
      intro k P hk hP ep e0 u z
      subst ep
      refine r_iload_5 (pc := 42) C dX2_leastOf_42 ?_
      refine r_iload_2 (pc := 44) C dX2_leastOf_44 ?_
      refine r_icgt (pc := 45) (tgt := 117) C dX2_leastOf_45 (by decide) (fun c_45 => ?_) (fun c_45 => ?_)
      · exact absurd c_45 (nI_nlt (show k ≤ P by omega) (by omega)) --halt
      · refine r_iload_5 (pc := 48) C dX2_leastOf_48 ?_
        refine r_iload_2 (pc := 50) C dX2_leastOf_50 ?_
        refine r_iconst (pc := 51) (v := -1) C dX2_leastOf_51 (by decide) ?_
        refine r_ixor (pc := 52) C dX2_leastOf_52 ?_
        refine r_iand (pc := 53) C dX2_leastOf_53 ?_
        refine r_ifneM (pc := 54) (tgt := 80) C 81 ?_ ?_ dX2_leastOf_54 (by decide) (fun c_54 j_54 => ?_) (fun c_54 j_54 => ?_) ?_
        rotate_left 2
        · refine r_iconst (pc := 80) (v := 0) C dX2_leastOf_80 (by decide) ?_
          exact j_54
        · refine r_iload_4 (pc := 57) C dX2_leastOf_57 ?_
          refine r_iconst (pc := 59) (v := -1) C dX2_leastOf_59 (by decide) ?_
          refine r_iceqM (pc := 60) (tgt := 76) C 81 ?_ ?_ dX2_leastOf_60 (by decide) (fun c_60 j_60 => ?_) (fun c_60 j_60 => ?_) ?_
          rotate_left 2
          · refine r_iconst (pc := 76) (v := 1) C dX2_leastOf_76 (by decide) ?_
            refine r_goto (pc := 77) (tgt := 81) C dX2_leastOf_77 (by decide) ?_
            exact j_60
          · refine r_iload_5 (pc := 63) C dX2_leastOf_63 ?_
            refine r_callS (pc := 65) (nA := 1) C (c_X2_bits G (d - 1)) (h1 := q1728) (h2 := q1729) (h3 := q61) (h4 := q1730)  (hd := dX2_leastOf_65) (kk := kP ?_) (kx := kN)
            refine r_iload_4 (pc := 68) C dX2_leastOf_68 ?_
            refine r_callS (pc := 70) (nA := 1) C (c_X2_bits G (d - 1)) (h1 := q1728) (h2 := q1729) (h3 := q61) (h4 := q1730)  (hd := dX2_leastOf_70) (kk := kP ?_) (kx := kN)
            refine r_icgeM (pc := 73) (tgt := 80) C 81 ?_ ?_ dX2_leastOf_73 (by decide) (fun c_73 j_73 => ?_) (fun c_73 j_73 => ?_) ?_
            rotate_left 2
            · refine r_iconst (pc := 80) (v := 0) C dX2_leastOf_80 (by decide) ?_
              exact j_73
            · refine r_iconst (pc := 76) (v := 1) C dX2_leastOf_76 (by decide) ?_
              refine r_goto (pc := 77) (tgt := 81) C dX2_leastOf_77 (by decide) ?_
              exact j_73
            exact j_60
          exact j_54
        refine r_istore_6 (pc := 81) C dX2_leastOf_81 ?_
        refine r_iload_6 (pc := 83) C dX2_leastOf_83 ?_
        refine r_ifeqM (pc := 85) (tgt := 107) C 109 ?_ ?_ dX2_leastOf_85 (by decide) (fun c_85 j_85 => ?_) (fun c_85 j_85 => ?_) ?_
        rotate_left 2
        · refine r_iload_4 (pc := 107) C dX2_leastOf_107 ?_
          exact j_85
        · refine r_aload_0 (pc := 88) C dX2_leastOf_88 ?_
          refine r_iload_5 (pc := 89) C dX2_leastOf_89 ?_
          refine r_callV (pc := 91) (nA := 1) C (c_X2_closed G (d - 1) (by omega) hI (MOK_0 M)) (ha := (mput_at hI (j := 0) (by decide))) (hc := rfl) (h1 := q1692) (h2 := q1694) (h3 := qs41) (h4 := q61) (h5 := q1695)  (hd := dX2_leastOf_91) (kk := kP ?_) (kx := kN)
          refine r_iload_1 (pc := 94) C dX2_leastOf_94 ?_
          refine r_ishr (pc := 95) C dX2_leastOf_95 ?_
          refine r_iconst (pc := 96) (v := 1) C dX2_leastOf_96 (by decide) ?_
          refine r_iand (pc := 97) C dX2_leastOf_97 ?_
          refine r_iconst (pc := 98) (v := 1) C dX2_leastOf_98 (by decide) ?_
          refine r_icneM (pc := 99) (tgt := 107) C 109 ?_ ?_ dX2_leastOf_99 (by decide) (fun c_99 j_99 => ?_) (fun c_99 j_99 => ?_) ?_
          rotate_left 2
          · refine r_iload_4 (pc := 107) C dX2_leastOf_107 ?_
            exact j_99
          · refine r_iload_5 (pc := 102) C dX2_leastOf_102 ?_
            refine r_goto (pc := 104) (tgt := 109) C dX2_leastOf_104 (by decide) ?_
            exact j_99
          exact j_85
        have e := ih (k + 1) P (by omega) hP rfl e0
        refine r_istore_4 (pc := 109) C dX2_leastOf_109 ?_
        refine r_iinc_5 (pc := 111) C dX2_leastOf_111 (nI_1 k) ?_
        refine r_goto (pc := 114) (tgt := 42) C dX2_leastOf_114 (by decide) ?_
        exact e _ _
  refine r_aload_0 (pc := 0) C dX2_leastOf_0 ?_
  refine r_iload_1 (pc := 1) C dX2_leastOf_1 ?_
  refine r_callV (pc := 2) (nA := 1) C (c_X2_isPrinciple G (d - 1) (by omega) hI) (ha := (mput_at hI (j := 0) (by decide))) (hc := rfl) (h1 := q1673) (h2 := q1675) (h3 := qs39) (h4 := q61) (h5 := q1676)  (hd := dX2_leastOf_2) (kk := kP ?_) (kx := kN)
  refine r_istore_3 (pc := 5) C dX2_leastOf_5 ?_
  refine r_aload_0 (pc := 6) C dX2_leastOf_6 ?_
  refine r_iload_3 (pc := 7) C dX2_leastOf_7 ?_
  refine r_ifneM (pc := 8) (tgt := 15) C 28 ?_ ?_ dX2_leastOf_8 (by decide) (fun c_8 j_8 => ?_) (fun c_8 j_8 => ?_) ?_
  rotate_left 2
  · refine r_aload_0 (pc := 15) C dX2_leastOf_15 ?_
    refine r_iload_2 (pc := 16) C dX2_leastOf_16 ?_
    refine r_callV (pc := 17) (nA := 1) C (c_X2_isSet G (d - 1) (by omega) hI) (ha := (mput_at hI (j := 0) (by decide))) (hc := rfl) (h1 := q1677) (h2 := q1679) (h3 := qs40) (h4 := q61) (h5 := q1680)  (hd := dX2_leastOf_17) (kk := kP ?_) (kx := kN)
    refine r_ifeqM (pc := 20) (tgt := 27) C 28 ?_ ?_ dX2_leastOf_20 (by decide) (fun c_20 j_20 => ?_) (fun c_20 j_20 => ?_) ?_
    rotate_left 2
    · refine r_iconst (pc := 27) (v := 2) C dX2_leastOf_27 (by decide) ?_
      exact j_20
    · refine r_iconst (pc := 23) (v := 0) C dX2_leastOf_23 (by decide) ?_
      refine r_goto (pc := 24) (tgt := 28) C dX2_leastOf_24 (by decide) ?_
      exact j_20
    exact j_8
  · refine r_iconst (pc := 11) (v := 1) C dX2_leastOf_11 (by decide) ?_
    refine r_goto (pc := 12) (tgt := 28) C dX2_leastOf_12 (by decide) ?_
    exact j_8
  refine r_callV (pc := 28) (nA := 1) C (c_X2_goesWell G (d - 1) (p := lsT fi goal pool) hI ?_) (ha := (mput_at hI (j := 0) (by decide))) (hc := rfl) (h1 := q1576) (h2 := q1578) (h3 := qs25) (h4 := q61) (h5 := q1579)  (hd := dX2_leastOf_28) (kk := kP ?_) (kx := kN)
  · unfold lsT; cases isPrB fi goal <;> cases isStB fi pool <;> rfl
  refine r_ifne (pc := 31) (tgt := 36) C dX2_leastOf_31 (by decide) (fun c_31 => ?_) (fun c_31 => ?_)
  · refine r_iconst (pc := 36) (v := -1) C dX2_leastOf_36 (by decide) ?_
    refine r_istore_4 (pc := 37) C dX2_leastOf_37 ?_
    refine r_iconst (pc := 39) (v := 0) C dX2_leastOf_39 (by decide) ?_
    refine r_istore_5 (pc := 40) C dX2_leastOf_40 ?_
    have e0 : lsT fi goal pool = 0 := by
      have h2 : lsT fi goal pool < 2 ^ 31 := by unfold lsT; split <;> (try split) <;> decide
      have h3 := bI_ne.mp c_31
      exact (nI_eq h2 (by decide)).mp (of_decide_eq_true h3)
    have e1 : isStB fi pool = true := by
      have e0 := e0
      unfold lsT at e0
      cases h1 : isPrB fi goal <;> cases h2 : isStB fi pool <;> simp [h1, h2] at e0 ⊢
    obtain ⟨P, -, hP, ep⟩ := isStB_nI M.2.1 e1
    exact L (P + 1) 0 P (by omega) hP ep e0 _ _
  · refine r_iconst (pc := 34) (v := 0) C dX2_leastOf_34 (by decide) ?_
    refine r_iret (pc := 35) C dX2_leastOf_35 ?_
    have e0 := gw_f c_31
    exact ⟨by rw [if_neg e0], rfl⟩
theorem c_X2_least (G : Good w) (d : Nat) (hd : 4 ≤ d) {goal pool : Int32} (hI : MI am) (M : MOK fi ar) : Con w yX2_least (ws_ yX2_least cX2_least 3 (some .int)) d 0 0 [.ref (am 0), .int goal, .int pool] (mput w am fi ar h0) (Pi (if lsT fi goal pool = 0 then lsN fi ar goal pool (pool.toNatClampNeg + 1) else 0) (mput w am (fset fi 0 (lsT fi goal pool)) ar h0)) noX := by
  refine Con.of G [some (.ref (am 0)), some (.int goal), some (.int pool)] (body := fun g C => ?_)
  refine r_aload_0 (pc := 0) C dX2_least_0 ?_
  refine r_iload_1 (pc := 1) C dX2_least_1 ?_
  refine r_iload_2 (pc := 2) C dX2_least_2 ?_
  refine r_callV (pc := 3) (nA := 2) C (c_X2_leastOf G (d - 1) (by omega) hI M) (ha := (mput_at hI (j := 0) (by decide))) (hc := rfl) (h1 := q1724) (h2 := q1726) (h3 := qs45) (h4 := q61) (h5 := q1727)  (hd := dX2_least_3) (kk := kP ?_) (kx := kN)
  refine r_iret (pc := 6) C dX2_least_6 ?_
  exact ⟨rfl, rfl⟩
theorem c_X2_leastAnew (G : Good w) (d : Nat) (hd : 4 ≤ d) {goal pool : Int32} (hI : MI am) (M : MOK fi ar) : Con w yX2_leastAnew (ws_ yX2_leastAnew cX2_leastAnew 3 (some .int)) d 0 0 [.ref (am 0), .int goal, .int pool] (mput w am fi ar h0) (Pi (if lsT fi goal pool = 0 then lsN fi ar goal pool (pool.toNatClampNeg + 1) else 0) (mput w am (fset fi 0 (lsT fi goal pool)) ar h0)) noX := by
  refine Con.of G [some (.ref (am 0)), some (.int goal), some (.int pool)] (body := fun g C => ?_)
  refine r_aload_0 (pc := 0) C dX2_leastAnew_0 ?_
  refine r_iload_1 (pc := 1) C dX2_leastAnew_1 ?_
  refine r_iload_2 (pc := 2) C dX2_leastAnew_2 ?_
  refine r_callV (pc := 3) (nA := 2) C (c_X2_leastOf G (d - 1) (by omega) hI M) (ha := (mput_at hI (j := 0) (by decide))) (hc := rfl) (h1 := q1724) (h2 := q1726) (h3 := qs45) (h4 := q61) (h5 := q1727)  (hd := dX2_leastAnew_3) (kk := kP ?_) (kx := kN)
  refine r_iret (pc := 6) C dX2_leastAnew_6 ?_
  exact ⟨rfl, rfl⟩
theorem c_X2_rule (G : Good w) (d : Nat) (hd : 3 ≤ d) {s q : Int32} (hI : MI am) (M : MOK fi ar) : Con w yX2_rule (ws_ yX2_rule cX2_rule 7 (some .int)) d 0 0 [.ref (am 0), .int s, .int q] (mput w am fi ar h0) (Pi (if ruT fi ar s q = 0 then nI (fi 21) else 0) (mput w am (if ruT fi ar s q = 0 then fset (fset fi 0 (ruT fi ar s q)) 21 (fi 21 + 1) else fset fi 0 (ruT fi ar s q)) (if ruT fi ar s q = 0 then ruA fi ar s q else ar) h0)) noX := by
  refine Con.of G [some (.ref (am 0)), some (.int s), some (.int q), none, none, none, none] (body := fun g C => ?_)
  obtain ⟨-, hp, hr, hm, -⟩ := M
  have hT : ruT fi ar s q < 2 ^ 31 := by unfold ruT; split <;> (try split) <;> (try split) <;> decide
  -- behind the loop
  have E : ∀ (k : Nat) (z : Option Value), (ruOk fi s q = true → k = fi 24) → wp w g (mQ w g 0 0 (Pi (if ruT fi ar s q = 0 then nI (fi 21) else 0) (mput w am (if ruT fi ar s q = 0 then fset (fset fi 0 (ruT fi ar s q)) 21 (fi 21 + 1) else fset fi 0 (ruT fi ar s q)) (if ruT fi ar s q = 0 then ruA fi ar s q else ar) h0)) noX) 99 [some (.ref (am 0)), some (.int s), some (.int q), some (.int (bI (isPrB fi q))), some (.int (bI (ruOk fi s q))), some (.int (bI (ruC fi ar s q k))), z] [] (mput w am fi ar h0) 0 0 := by
    intro k z hk
    refine r_aload_0 (pc := 99) C dX2_rule_99 ?_
    refine r_iload_3 (pc := 100) C dX2_rule_100 ?_
    refine r_ifneM (pc := 101) (tgt := 108) C 127 ?_ ?_ dX2_rule_101 (by decide) (fun c_101 j_101 => ?_) (fun c_101 j_101 => ?_) ?_
    rotate_left 2
    · refine r_iload_4 (pc := 108) C dX2_rule_108 ?_
      refine r_ifneM (pc := 110) (tgt := 117) C 127 ?_ ?_ dX2_rule_110 (by decide) (fun c_110 j_110 => ?_) (fun c_110 j_110 => ?_) ?_
      rotate_left 2
      · refine r_iload_5 (pc := 117) C dX2_rule_117 ?_
        refine r_ifeqM (pc := 119) (tgt := 126) C 127 ?_ ?_ dX2_rule_119 (by decide) (fun c_119 j_119 => ?_) (fun c_119 j_119 => ?_) ?_
        rotate_left 2
        · refine r_iconst (pc := 126) (v := 3) C dX2_rule_126 (by decide) ?_
          exact j_119
        · refine r_iconst (pc := 122) (v := 0) C dX2_rule_122 (by decide) ?_
          refine r_goto (pc := 123) (tgt := 127) C dX2_rule_123 (by decide) ?_
          exact j_119
        exact j_110
      · refine r_iconst (pc := 113) (v := 2) C dX2_rule_113 (by decide) ?_
        refine r_goto (pc := 114) (tgt := 127) C dX2_rule_114 (by decide) ?_
        exact j_110
      exact j_101
    · refine r_iconst (pc := 104) (v := 1) C dX2_rule_104 (by decide) ?_
      refine r_goto (pc := 105) (tgt := 127) C dX2_rule_105 (by decide) ?_
      exact j_101
    refine r_callV (pc := 127) (nA := 1) C (c_X2_goesWell G (d - 1) (p := ruT fi ar s q) hI ?_) (ha := (mput_at hI (j := 0) (by decide))) (hc := rfl) (h1 := q1576) (h2 := q1578) (h3 := qs25) (h4 := q61) (h5 := q1579)  (hd := dX2_rule_127) (kk := kP ?_) (kx := kN)
    · unfold ruT; cases e1 : isPrB fi q <;> cases e2 : ruOk fi s q <;> (try rw [hk e2]) <;> cases e3 : ruC fi ar s q (fi 24) <;> simp [e1, e2, e3, bI] <;> rfl
    refine r_ifne (pc := 130) (tgt := 135) C dX2_rule_130 (by decide) (fun c_130 => ?_) (fun c_130 => ?_)
    · have e0 := gw_t c_130 hT
      have e1 : ruC fi ar s q (fi 24) = true := by
        have e0 := e0
        unfold ruT at e0
        cases h1 : isPrB fi q <;> cases h2 : ruOk fi s q <;> cases h3 : ruC fi ar s q (fi 24) <;> simp [h1, h2, h3] at e0 ⊢
      have h21 : fi 21 < 30 := by
        unfold ruC at e1
        rw [Bool.and_eq_true, decide_eq_true_eq] at e1
        exact e1.1
      rw [if_pos e0, if_pos e0, if_pos e0]
      refine r_aload_0 (pc := 135) C dX2_rule_135 ?_
      refine r_mg22 (pc := 136) C hI dX2_rule_136 ?_
      refine r_aload_0 (pc := 139) C dX2_rule_139 ?_
      refine r_mg21 (pc := 140) C hI dX2_rule_140 ?_
      refine r_iload_1 (pc := 143) C dX2_rule_143 ?_
      refine r_miast (pc := 144) C hI (by decide) (by decide) (vp_in_nI (show fi 21 < 30 from h21) (by decide)) dX2_rule_144 ?_
      rw [nI_clamp (show fset fi 0 (ruT fi ar s q) 21 < 2 ^ 31 by show fi 21 < _; omega)]
      refine r_aload_0 (pc := 145) C dX2_rule_145 ?_
      refine r_mg23 (pc := 146) C hI dX2_rule_146 ?_
      refine r_aload_0 (pc := 149) C dX2_rule_149 ?_
      refine r_mg21 (pc := 150) C hI dX2_rule_150 ?_
      refine r_iload_2 (pc := 153) C dX2_rule_153 ?_
      refine r_miast (pc := 154) C hI (by decide) (by decide) (vp_in_nI (show fi 21 < 30 from h21) (by decide)) dX2_rule_154 ?_
      rw [nI_clamp (show fset fi 0 (ruT fi ar s q) 21 < 2 ^ 31 by show fi 21 < _; omega)]
      refine r_aload_0 (pc := 155) C dX2_rule_155 ?_
      refine r_dup (pc := 156) C dX2_rule_156 rfl ?_
      refine r_mg21 (pc := 157) C hI dX2_rule_157 ?_
      refine r_iconst (pc := 160) (v := 1) C dX2_rule_160 (by decide) ?_
      refine r_iadd (pc := 161) C dX2_rule_161 ?_
      refine r_mp21 (pc := 162) (v := _) C hI (nI_1 _) dX2_rule_162 ?_
      refine r_aload_0 (pc := 165) C dX2_rule_165 ?_
      refine r_mg21 (pc := 166) C hI dX2_rule_166 ?_
      refine r_iconst (pc := 169) (v := 1) C dX2_rule_169 (by decide) ?_
      refine r_isub (pc := 170) C dX2_rule_170 ?_
      refine r_iret (pc := 171) C dX2_rule_171 ?_
      exact ⟨congrArg some (congrArg Value.int (nI_pred _)), rfl⟩
    · refine r_iconst (pc := 133) (v := 0) C dX2_rule_133 (by decide) ?_
      refine r_iret (pc := 134) C dX2_rule_134 ?_
      have e0 := gw_f c_130
      rw [if_neg e0, if_neg e0, if_neg e0]
      exact ⟨rfl, rfl⟩
  have L : ∀ m k : Nat, k + m = fi 24 → wp w g (mQ w g 0 0 (Pi (if ruT fi ar s q = 0 then nI (fi 21) else 0) (mput w am (if ruT fi ar s q = 0 then fset (fset fi 0 (ruT fi ar s q)) 21 (fi 21 + 1) else fset fi 0 (ruT fi ar s q)) (if ruT fi ar s q = 0 then ruA fi ar s q else ar) h0)) noX) 52 [some (.ref (am 0)), some (.int s), some (.int q), some (.int (bI (isPrB fi q))), some (.int (bI (ruOk fi s q))), some (.int (bI (ruC fi ar s q k))), some (.int (nI k))] [] (mput w am fi ar h0) 0 0 := by
    intro m
    induction m with
    | zero =>
      intro k hk
      have hk : k = fi 24 := by omega
      subst hk
      refine r_iload_6 (pc := 52) C dX2_rule_52 ?_
      refine r_aload_0 (pc := 54) C dX2_rule_54 ?_
      refine r_mg24 (pc := 55) C hI dX2_rule_55 ?_
      refine r_icge (pc := 58) (tgt := 99) C dX2_rule_58 (by decide) (fun c_58 => ?_) (fun c_58 => ?_)
      · exact E _ _ (fun _ => rfl)
      · exact absurd (nI_le (Nat.le_refl _) (by omega)) c_58 --halt
    | succ m ih =>
      intro k hk
      have hi : vp_in (nI k) 10 := vp_in_nI (by omega) (by decide)
      refine r_iload_6 (pc := 52) C dX2_rule_52 ?_
      refine r_aload_0 (pc := 54) C dX2_rule_54 ?_
      refine r_mg24 (pc := 55) C hI dX2_rule_55 ?_
      refine r_icge (pc := 58) (tgt := 99) C dX2_rule_58 (by decide) (fun c_58 => ?_) (fun c_58 => ?_)
      · exact absurd c_58 (nI_ge (by omega) (by omega)) --halt
      · refine r_iload_4 (pc := 61) C dX2_rule_61 ?_
        refine r_ifeq (pc := 63) (tgt := 99) C dX2_rule_63 (by decide) (fun c_63 => ?_) (fun c_63 => ?_)
        · exact E _ _ (fun h => by rw [h] at c_63; exact absurd c_63 (by decide))
        · refine r_iload_5 (pc := 66) C dX2_rule_66 ?_
          refine r_ifeqM (pc := 68) (tgt := 90) C 91 ?_ ?_ dX2_rule_68 (by decide) (fun c_68 j_68 => ?_) (fun c_68 j_68 => ?_) ?_
          rotate_left 2
          · refine r_iconst (pc := 90) (v := 0) C dX2_rule_90 (by decide) ?_
            exact j_68
          · refine r_aload_0 (pc := 71) C dX2_rule_71 ?_
            refine r_mg25 (pc := 72) C hI dX2_rule_72 ?_
            refine r_iload_6 (pc := 75) C dX2_rule_75 ?_
            refine r_miald (pc := 77) C hI (by decide) (by decide) (by assumption) dX2_rule_77 ?_
            refine r_iload_1 (pc := 78) C dX2_rule_78 ?_
            refine r_iload_2 (pc := 79) C dX2_rule_79 ?_
            refine r_callS (pc := 80) (nA := 3) C (c_X2_breaks G (d - 1)) (h1 := q1681) (h2 := q1682) (h3 := q61) (h4 := q1683)  (hd := dX2_rule_80) (kk := kP ?_) (kx := kN)
            refine r_ifneM (pc := 83) (tgt := 90) C 91 ?_ ?_ dX2_rule_83 (by decide) (fun c_83 j_83 => ?_) (fun c_83 j_83 => ?_) ?_
            rotate_left 2
            · refine r_iconst (pc := 90) (v := 0) C dX2_rule_90 (by decide) ?_
              exact j_83
            · refine r_iconst (pc := 86) (v := 1) C dX2_rule_86 (by decide) ?_
              refine r_goto (pc := 87) (tgt := 91) C dX2_rule_87 (by decide) ?_
              exact j_83
            exact j_68
          have e := ih (k + 1) (by omega)
          rw [nI_clamp (show k < 2 ^ 31 by omega)]
          refine r_istore_5 (pc := 91) C dX2_rule_91 ?_
          refine r_iinc_6 (pc := 93) C dX2_rule_93 (nI_1 k) ?_
          refine r_goto (pc := 96) (tgt := 52) C dX2_rule_96 (by decide) ?_
          have e2 : bI (ruC fi ar s q (k + 1)) = (if bI (ruC fi ar s q k) = 0 then 0 else if bI (adB (ar 18 k) s q) = 0 then 1 else 0) := by
            unfold ruC
            rw [anyN_s]
            have e3 : ruP ar s q k = adB (ar 18 k) s q := rfl
            rw [e3]
            cases decide (fi 21 < 30) <;> cases anyN (ruP ar s q) k <;> cases adB (ar 18 k) s q <;> rfl
          rw [e2] at e
          exact e
  refine r_aload_0 (pc := 0) C dX2_rule_0 ?_
  refine r_iload_2 (pc := 1) C dX2_rule_1 ?_
  refine r_callV (pc := 2) (nA := 1) C (c_X2_isPrinciple G (d - 1) (by omega) hI) (ha := (mput_at hI (j := 0) (by decide))) (hc := rfl) (h1 := q1673) (h2 := q1675) (h3 := qs39) (h4 := q61) (h5 := q1676)  (hd := dX2_rule_2) (kk := kP ?_) (kx := kN)
  refine r_istore_3 (pc := 5) C dX2_rule_5 ?_
  refine r_iload_3 (pc := 6) C dX2_rule_6 ?_
  refine r_ifeqM (pc := 7) (tgt := 30) C 31 ?_ ?_ dX2_rule_7 (by decide) (fun c_7 j_7 => ?_) (fun c_7 j_7 => ?_) ?_
  rotate_left 2
  · refine r_iconst (pc := 30) (v := 0) C dX2_rule_30 (by decide) ?_
    exact j_7
  · refine r_aload_0 (pc := 10) C dX2_rule_10 ?_
    refine r_iload_1 (pc := 11) C dX2_rule_11 ?_
    refine r_callV (pc := 12) (nA := 1) C (c_X2_isSet G (d - 1) (by omega) hI) (ha := (mput_at hI (j := 0) (by decide))) (hc := rfl) (h1 := q1677) (h2 := q1679) (h3 := qs40) (h4 := q61) (h5 := q1680)  (hd := dX2_rule_12) (kk := kP ?_) (kx := kN)
    refine r_ifeqM (pc := 15) (tgt := 30) C 31 ?_ ?_ dX2_rule_15 (by decide) (fun c_15 j_15 => ?_) (fun c_15 j_15 => ?_) ?_
    rotate_left 2
    · refine r_iconst (pc := 30) (v := 0) C dX2_rule_30 (by decide) ?_
      exact j_15
    · refine r_iload_1 (pc := 18) C dX2_rule_18 ?_
      refine r_iload_2 (pc := 19) C dX2_rule_19 ?_
      refine r_ishr (pc := 20) C dX2_rule_20 ?_
      refine r_iconst (pc := 21) (v := 1) C dX2_rule_21 (by decide) ?_
      refine r_iand (pc := 22) C dX2_rule_22 ?_
      refine r_ifneM (pc := 23) (tgt := 30) C 31 ?_ ?_ dX2_rule_23 (by decide) (fun c_23 j_23 => ?_) (fun c_23 j_23 => ?_) ?_
      rotate_left 2
      · refine r_iconst (pc := 30) (v := 0) C dX2_rule_30 (by decide) ?_
        exact j_23
      · refine r_iconst (pc := 26) (v := 1) C dX2_rule_26 (by decide) ?_
        refine r_goto (pc := 27) (tgt := 31) C dX2_rule_27 (by decide) ?_
        exact j_23
      exact j_15
    exact j_7
  refine r_istore_4 (pc := 31) C dX2_rule_31 ?_
  refine r_aload_0 (pc := 33) C dX2_rule_33 ?_
  refine r_mg21 (pc := 34) C hI dX2_rule_34 ?_
  refine r_bipush (pc := 37) (v := 30) C dX2_rule_37 (by decide) ?_
  refine r_icgeM (pc := 39) (tgt := 46) C 47 ?_ ?_ dX2_rule_39 (by decide) (fun c_39 j_39 => ?_) (fun c_39 j_39 => ?_) ?_
  rotate_left 2
  · refine r_iconst (pc := 46) (v := 0) C dX2_rule_46 (by decide) ?_
    exact j_39
  · refine r_iconst (pc := 42) (v := 1) C dX2_rule_42 (by decide) ?_
    refine r_goto (pc := 43) (tgt := 47) C dX2_rule_43 (by decide) ?_
    exact j_39
  refine r_istore_5 (pc := 47) C dX2_rule_47 ?_
  refine r_iconst (pc := 49) (v := 0) C dX2_rule_49 (by decide) ?_
  refine r_istore_6 (pc := 50) C dX2_rule_50 ?_
  have e := L (fi 24) 0 (by omega)
  have e1 : bI (ruOk fi s q) = (if bI (isPrB fi q) = 0 then 0 else if bI (isStB fi s) = 0 then 0 else if (s >>> (q &&& 31)) &&& 1 = 0 then 1 else 0) := by
    unfold ruOk bitAt
    cases isPrB fi q <;> cases isStB fi s <;> by_cases h : (s >>> (q &&& 31)) &&& 1 = 0 <;> simp [h, bI]
  have e2 : bI (ruC fi ar s q 0) = (if 30 ≤ nI (fi 21) then 0 else 1) := by
    rw [le30 (by omega)]
    unfold ruC anyN
    simp
  rw [e1, e2] at e
  exact e
theorem c_X2_model (G : Good w) (d : Nat) (hd : 3 ≤ d) {s : Int32} (hI : MI am) (M : MOK fi ar) : Con w yX2_model (ws_ yX2_model cX2_model 5 (some .int)) d 0 0 [.ref (am 0), .int s] (mput w am fi ar h0) (Pi (if moT fi ar s = 0 then nI (fi 24) else 0) (mput w am (if moT fi ar s = 0 then fset (fset fi 0 (moT fi ar s)) 24 (fi 24 + 1) else fset fi 0 (moT fi ar s)) (if moT fi ar s = 0 then moA fi ar s else ar) h0)) noX := by
  refine Con.of G [some (.ref (am 0)), some (.int s), none, none, none] (body := fun g C => ?_)
  obtain ⟨-, hp, hr, hm, -⟩ := M
  have hT : moT fi ar s < 2 ^ 31 := by unfold moT; split <;> (try split) <;> decide
  have E : ∀ (k : Nat) (z : Option Value), (isStB fi s = true → k = fi 21) → wp w g (mQ w g 0 0 (Pi (if moT fi ar s = 0 then nI (fi 24) else 0) (mput w am (if moT fi ar s = 0 then fset (fset fi 0 (moT fi ar s)) 24 (fi 24 + 1) else fset fi 0 (moT fi ar s)) (if moT fi ar s = 0 then moA fi ar s else ar) h0)) noX) 74 [some (.ref (am 0)), some (.int s), some (.int (bI (isStB fi s))), some (.int (bI (moC fi ar s k))), z] [] (mput w am fi ar h0) 0 0 := by
    intro k z hk
    refine r_aload_0 (pc := 74) C dX2_model_74 ?_
    refine r_iload_2 (pc := 75) C dX2_model_75 ?_
    refine r_ifneM (pc := 76) (tgt := 83) C 92 ?_ ?_ dX2_model_76 (by decide) (fun c_76 j_76 => ?_) (fun c_76 j_76 => ?_) ?_
    rotate_left 2
    · refine r_iload_3 (pc := 83) C dX2_model_83 ?_
      refine r_ifeqM (pc := 84) (tgt := 91) C 92 ?_ ?_ dX2_model_84 (by decide) (fun c_84 j_84 => ?_) (fun c_84 j_84 => ?_) ?_
      rotate_left 2
      · refine r_iconst (pc := 91) (v := 2) C dX2_model_91 (by decide) ?_
        exact j_84
      · refine r_iconst (pc := 87) (v := 0) C dX2_model_87 (by decide) ?_
        refine r_goto (pc := 88) (tgt := 92) C dX2_model_88 (by decide) ?_
        exact j_84
      exact j_76
    · refine r_iconst (pc := 79) (v := 1) C dX2_model_79 (by decide) ?_
      refine r_goto (pc := 80) (tgt := 92) C dX2_model_80 (by decide) ?_
      exact j_76
    refine r_callV (pc := 92) (nA := 1) C (c_X2_goesWell G (d - 1) (p := moT fi ar s) hI ?_) (ha := (mput_at hI (j := 0) (by decide))) (hc := rfl) (h1 := q1576) (h2 := q1578) (h3 := qs25) (h4 := q61) (h5 := q1579)  (hd := dX2_model_92) (kk := kP ?_) (kx := kN)
    · unfold moT; cases e2 : isStB fi s <;> (try rw [hk e2]) <;> cases e3 : moC fi ar s (fi 21) <;> simp [e2, e3, bI] <;> rfl
    refine r_ifne (pc := 95) (tgt := 100) C dX2_model_95 (by decide) (fun c_95 => ?_) (fun c_95 => ?_)
    · have e0 := gw_t c_95 hT
      have e1 : moC fi ar s (fi 21) = true := by
        have e0 := e0
        unfold moT at e0
        cases h2 : isStB fi s <;> cases h3 : moC fi ar s (fi 21) <;> simp [h2, h3] at e0 ⊢
      have h24 : fi 24 < 10 := by
        unfold moC at e1
        rw [Bool.and_eq_true, decide_eq_true_eq] at e1
        exact e1.1
      rw [if_pos e0, if_pos e0, if_pos e0]
      refine r_aload_0 (pc := 100) C dX2_model_100 ?_
      refine r_mg25 (pc := 101) C hI dX2_model_101 ?_
      refine r_aload_0 (pc := 104) C dX2_model_104 ?_
      refine r_mg24 (pc := 105) C hI dX2_model_105 ?_
      refine r_iload_1 (pc := 108) C dX2_model_108 ?_
      refine r_miast (pc := 109) C hI (by decide) (by decide) (vp_in_nI (show fi 24 < 10 from h24) (by decide)) dX2_model_109 ?_
      rw [nI_clamp (show fset fi 0 (moT fi ar s) 24 < 2 ^ 31 by show fi 24 < _; omega)]
      refine r_aload_0 (pc := 110) C dX2_model_110 ?_
      refine r_dup (pc := 111) C dX2_model_111 rfl ?_
      refine r_mg24 (pc := 112) C hI dX2_model_112 ?_
      refine r_iconst (pc := 115) (v := 1) C dX2_model_115 (by decide) ?_
      refine r_iadd (pc := 116) C dX2_model_116 ?_
      refine r_mp24 (pc := 117) (v := _) C hI (nI_1 _) dX2_model_117 ?_
      refine r_aload_0 (pc := 120) C dX2_model_120 ?_
      refine r_mg24 (pc := 121) C hI dX2_model_121 ?_
      refine r_iconst (pc := 124) (v := 1) C dX2_model_124 (by decide) ?_
      refine r_isub (pc := 125) C dX2_model_125 ?_
      refine r_iret (pc := 126) C dX2_model_126 ?_
      exact ⟨congrArg some (congrArg Value.int (nI_pred _)), rfl⟩
    · refine r_iconst (pc := 98) (v := 0) C dX2_model_98 (by decide) ?_
      refine r_iret (pc := 99) C dX2_model_99 ?_
      have e0 := gw_f c_95
      rw [if_neg e0, if_neg e0, if_neg e0]
      exact ⟨rfl, rfl⟩
  have L : ∀ m k : Nat, k + m = fi 21 → wp w g (mQ w g 0 0 (Pi (if moT fi ar s = 0 then nI (fi 24) else 0) (mput w am (if moT fi ar s = 0 then fset (fset fi 0 (moT fi ar s)) 24 (fi 24 + 1) else fset fi 0 (moT fi ar s)) (if moT fi ar s = 0 then moA fi ar s else ar) h0)) noX) 24 [some (.ref (am 0)), some (.int s), some (.int (bI (isStB fi s))), some (.int (bI (moC fi ar s k))), some (.int (nI k))] [] (mput w am fi ar h0) 0 0 := by
    intro m
    induction m with
    | zero =>
      intro k hk
      have hk : k = fi 21 := by omega
      subst hk
      refine r_iload_4 (pc := 24) C dX2_model_24 ?_
      refine r_aload_0 (pc := 26) C dX2_model_26 ?_
      refine r_mg21 (pc := 27) C hI dX2_model_27 ?_
      refine r_icge (pc := 30) (tgt := 74) C dX2_model_30 (by decide) (fun c_30 => ?_) (fun c_30 => ?_)
      · exact E _ _ (fun _ => rfl)
      · exact absurd (nI_le (Nat.le_refl _) (by omega)) c_30 --halt
    | succ m ih =>
      intro k hk
      have hi : vp_in (nI k) 30 := vp_in_nI (by omega) (by decide)
      refine r_iload_4 (pc := 24) C dX2_model_24 ?_
      refine r_aload_0 (pc := 26) C dX2_model_26 ?_
      refine r_mg21 (pc := 27) C hI dX2_model_27 ?_
      refine r_icge (pc := 30) (tgt := 74) C dX2_model_30 (by decide) (fun c_30 => ?_) (fun c_30 => ?_)
      · exact absurd c_30 (nI_ge (by omega) (by omega)) --halt
      · refine r_iload_2 (pc := 33) C dX2_model_33 ?_
        refine r_ifeq (pc := 34) (tgt := 74) C dX2_model_34 (by decide) (fun c_34 => ?_) (fun c_34 => ?_)
        · exact E _ _ (fun h => by rw [h] at c_34; exact absurd c_34 (by decide))
        · refine r_iload_3 (pc := 37) C dX2_model_37 ?_
          refine r_ifeqM (pc := 38) (tgt := 66) C 67 ?_ ?_ dX2_model_38 (by decide) (fun c_38 j_38 => ?_) (fun c_38 j_38 => ?_) ?_
          rotate_left 2
          · refine r_iconst (pc := 66) (v := 0) C dX2_model_66 (by decide) ?_
            exact j_38
          · refine r_iload_1 (pc := 41) C dX2_model_41 ?_
            refine r_aload_0 (pc := 42) C dX2_model_42 ?_
            refine r_mg22 (pc := 43) C hI dX2_model_43 ?_
            refine r_iload_4 (pc := 46) C dX2_model_46 ?_
            refine r_miald (pc := 48) C hI (by decide) (by decide) (by assumption) dX2_model_48 ?_
            refine r_aload_0 (pc := 49) C dX2_model_49 ?_
            refine r_mg23 (pc := 50) C hI dX2_model_50 ?_
            refine r_iload_4 (pc := 53) C dX2_model_53 ?_
            refine r_miald (pc := 55) C hI (by decide) (by decide) (by assumption) dX2_model_55 ?_
            refine r_callS (pc := 56) (nA := 3) C (c_X2_breaks G (d - 1)) (h1 := q1681) (h2 := q1682) (h3 := q61) (h4 := q1683)  (hd := dX2_model_56) (kk := kP ?_) (kx := kN)
            refine r_ifneM (pc := 59) (tgt := 66) C 67 ?_ ?_ dX2_model_59 (by decide) (fun c_59 j_59 => ?_) (fun c_59 j_59 => ?_) ?_
            rotate_left 2
            · refine r_iconst (pc := 66) (v := 0) C dX2_model_66 (by decide) ?_
              exact j_59
            · refine r_iconst (pc := 62) (v := 1) C dX2_model_62 (by decide) ?_
              refine r_goto (pc := 63) (tgt := 67) C dX2_model_63 (by decide) ?_
              exact j_59
            exact j_38
          have e := ih (k + 1) (by omega)
          rw [nI_clamp (show k < 2 ^ 31 by omega)]
          refine r_istore_3 (pc := 67) C dX2_model_67 ?_
          refine r_iinc_4 (pc := 68) C dX2_model_68 (nI_1 k) ?_
          refine r_goto (pc := 71) (tgt := 24) C dX2_model_71 (by decide) ?_
          have e2 : bI (moC fi ar s (k + 1)) = (if bI (moC fi ar s k) = 0 then 0 else if bI (adB s (ar 16 k) (ar 17 k)) = 0 then 1 else 0) := by
            unfold moC
            rw [anyN_s]
            have e3 : rlP ar s k = adB s (ar 16 k) (ar 17 k) := rfl
            rw [e3]
            cases decide (fi 24 < 10) <;> cases anyN (rlP ar s) k <;> cases adB s (ar 16 k) (ar 17 k) <;> rfl
          rw [e2] at e
          exact e
  refine r_aload_0 (pc := 0) C dX2_model_0 ?_
  refine r_iload_1 (pc := 1) C dX2_model_1 ?_
  refine r_callV (pc := 2) (nA := 1) C (c_X2_isSet G (d - 1) (by omega) hI) (ha := (mput_at hI (j := 0) (by decide))) (hc := rfl) (h1 := q1677) (h2 := q1679) (h3 := qs40) (h4 := q61) (h5 := q1680)  (hd := dX2_model_2) (kk := kP ?_) (kx := kN)
  refine r_istore_2 (pc := 5) C dX2_model_5 ?_
  refine r_aload_0 (pc := 6) C dX2_model_6 ?_
  refine r_mg24 (pc := 7) C hI dX2_model_7 ?_
  refine r_bipush (pc := 10) (v := 10) C dX2_model_10 (by decide) ?_
  refine r_icgeM (pc := 12) (tgt := 19) C 20 ?_ ?_ dX2_model_12 (by decide) (fun c_12 j_12 => ?_) (fun c_12 j_12 => ?_) ?_
  rotate_left 2
  · refine r_iconst (pc := 19) (v := 0) C dX2_model_19 (by decide) ?_
    exact j_12
  · refine r_iconst (pc := 15) (v := 1) C dX2_model_15 (by decide) ?_
    refine r_goto (pc := 16) (tgt := 20) C dX2_model_16 (by decide) ?_
    exact j_12
  refine r_istore_3 (pc := 20) C dX2_model_20 ?_
  refine r_iconst (pc := 21) (v := 0) C dX2_model_21 (by decide) ?_
  refine r_istore_4 (pc := 22) C dX2_model_22 ?_
  have e := L (fi 21) 0 (by omega)
  have e2 : bI (moC fi ar s 0) = (if 10 ≤ nI (fi 24) then 0 else 1) := by
    rw [le10 (by omega)]
    unfold moC anyN
    simp
  rw [e2] at e
  exact e
theorem c_X2_ofPrinciple (G : Good w) (d : Nat) (hd : 3 ≤ d) {p t : Int32} (hI : MI am) (M : MOK fi ar) : Con w yX2_ofPrinciple (ws_ yX2_ofPrinciple cX2_ofPrinciple 7 (some .int)) d 0 0 [.ref (am 0), .int p, .int t] (mput w am fi ar h0) (Pi (opV fi ar p t) (mput w am (fset fi 0 (opT fi p t)) ar h0)) noX := by
  refine Con.of G [some (.ref (am 0)), some (.int p), some (.int t), none, none, none, none] (body := fun g C => ?_)
  obtain ⟨-, hp, hr, hm, -⟩ := M
  have hT : opT fi p t < 2 ^ 31 := by unfold opT; split <;> (try split) <;> decide
  have L2 : ∀ m k : Nat, k + m = fi 24 → opT fi p t = 0 → ∀ u, wp w g (mQ w g 0 0 (Pi (opV fi ar p t) (mput w am (fset fi 0 (opT fi p t)) ar h0)) noX) 85 [some (.ref (am 0)), some (.int p), some (.int t), u, some (.int (cnF fi ar p)), some (.int (l_sum (fun m => bitAt (ar 18 m) p) k)), some (.int (nI k))] [] (mput w am (fset fi 0 (opT fi p t)) ar h0) 0 0 := by
    intro m
    induction m with
    | zero =>
      intro k hk e0 u
      have hk : k = fi 24 := by omega
      subst hk
      have e1 : isPrB fi p = true := by
        have e0 := e0
        unfold opT at e0
        cases h2 : isPrB fi p <;> simp [h2] at e0 ⊢
      obtain ⟨j, hj, ep⟩ := isPrB_nI hp e1
      have hi : vp_in p 10 := by rw [ep]; exact vp_in_nI (by omega) (by decide)
      refine r_iload_6 (pc := 85) C dX2_ofPrinciple_85 ?_
      refine r_aload_0 (pc := 87) C dX2_ofPrinciple_87 ?_
      refine r_mg24 (pc := 88) C hI dX2_ofPrinciple_88 ?_
      refine r_icge (pc := 91) (tgt := 116) C dX2_ofPrinciple_91 (by decide) (fun c_91 => ?_) (fun c_91 => ?_)
      · refine r_iload_2 (pc := 116) C dX2_ofPrinciple_116 ?_
        refine r_ifneM (pc := 117) (tgt := 129) C 155 ?_ ?_ dX2_ofPrinciple_117 (by decide) (fun c_117 j_117 => ?_) (fun c_117 j_117 => ?_) ?_
        rotate_left 2
        · refine r_iload_2 (pc := 129) C dX2_ofPrinciple_129 ?_
          refine r_iconst (pc := 130) (v := 1) C dX2_ofPrinciple_130 (by decide) ?_
          refine r_icneM (pc := 131) (tgt := 143) C 155 ?_ ?_ dX2_ofPrinciple_131 (by decide) (fun c_131 j_131 => ?_) (fun c_131 j_131 => ?_) ?_
          rotate_left 2
          · refine r_iload_2 (pc := 143) C dX2_ofPrinciple_143 ?_
            refine r_iconst (pc := 144) (v := 2) C dX2_ofPrinciple_144 (by decide) ?_
            refine r_icneM (pc := 145) (tgt := 153) C 155 ?_ ?_ dX2_ofPrinciple_145 (by decide) (fun c_145 j_145 => ?_) (fun c_145 j_145 => ?_) ?_
            rotate_left 2
            · refine r_iload_5 (pc := 153) C dX2_ofPrinciple_153 ?_
              exact j_145
            · refine r_iload_4 (pc := 148) C dX2_ofPrinciple_148 ?_
              refine r_goto (pc := 150) (tgt := 155) C dX2_ofPrinciple_150 (by decide) ?_
              exact j_145
            exact j_131
          · refine r_aload_0 (pc := 134) C dX2_ofPrinciple_134 ?_
            refine r_mg20 (pc := 135) C hI dX2_ofPrinciple_135 ?_
            refine r_iload_1 (pc := 138) C dX2_ofPrinciple_138 ?_
            refine r_miald (pc := 139) C hI (by decide) (by decide) (by assumption) dX2_ofPrinciple_139 ?_
            refine r_goto (pc := 140) (tgt := 155) C dX2_ofPrinciple_140 (by decide) ?_
            exact j_131
          exact j_117
        · refine r_aload_0 (pc := 120) C dX2_ofPrinciple_120 ?_
          refine r_mg19 (pc := 121) C hI dX2_ofPrinciple_121 ?_
          refine r_iload_1 (pc := 124) C dX2_ofPrinciple_124 ?_
          refine r_miald (pc := 125) C hI (by decide) (by decide) (by assumption) dX2_ofPrinciple_125 ?_
          refine r_goto (pc := 126) (tgt := 155) C dX2_ofPrinciple_126 (by decide) ?_
          exact j_117
        refine r_iret (pc := 155) C dX2_ofPrinciple_155 ?_
        refine ⟨?_, rfl⟩
        unfold opV
        rw [if_pos e0]
        rfl
      · exact absurd (nI_le (Nat.le_refl _) (show fi 24 < 2 ^ 31 by omega)) c_91 --halt
    | succ m ih =>
      intro k hk e0 u
      have hi : vp_in (nI k) 10 := vp_in_nI (by omega) (by decide)
      refine r_iload_6 (pc := 85) C dX2_ofPrinciple_85 ?_
      refine r_aload_0 (pc := 87) C dX2_ofPrinciple_87 ?_
      refine r_mg24 (pc := 88) C hI dX2_ofPrinciple_88 ?_
      refine r_icge (pc := 91) (tgt := 116) C dX2_ofPrinciple_91 (by decide) (fun c_91 => ?_) (fun c_91 => ?_)
      · exact absurd c_91 (nI_ge (show k < fi 24 by omega) (show fi 24 < 2 ^ 31 by omega)) --halt
      · refine r_iload_5 (pc := 94) C dX2_ofPrinciple_94 ?_
        refine r_aload_0 (pc := 96) C dX2_ofPrinciple_96 ?_
        refine r_mg25 (pc := 97) C hI dX2_ofPrinciple_97 ?_
        refine r_iload_6 (pc := 100) C dX2_ofPrinciple_100 ?_
        refine r_miald (pc := 102) C hI (by decide) (by decide) (by assumption) dX2_ofPrinciple_102 ?_
        rw [nI_clamp (show k < 2 ^ 31 by omega)]
        refine r_iload_1 (pc := 103) C dX2_ofPrinciple_103 ?_
        refine r_ishr (pc := 104) C dX2_ofPrinciple_104 ?_
        refine r_iconst (pc := 105) (v := 1) C dX2_ofPrinciple_105 (by decide) ?_
        refine r_iand (pc := 106) C dX2_ofPrinciple_106 ?_
        refine r_iadd (pc := 107) C dX2_ofPrinciple_107 ?_
        refine r_istore_5 (pc := 108) C dX2_ofPrinciple_108 ?_
        refine r_iinc_6 (pc := 110) C dX2_ofPrinciple_110 (nI_1 k) ?_
        refine r_goto (pc := 113) (tgt := 85) C dX2_ofPrinciple_113 (by decide) ?_
        exact ih (k + 1) (by omega) e0 u
  have L1 : ∀ m k : Nat, k + m = fi 21 → opT fi p t = 0 → ∀ u z, wp w g (mQ w g 0 0 (Pi (opV fi ar p t) (mput w am (fset fi 0 (opT fi p t)) ar h0)) noX) 43 [some (.ref (am 0)), some (.int p), some (.int t), u, some (.int (l_sum (fun r => if ar 17 r = p then 1 else 0) k)), some (.int (nI k)), z] [] (mput w am (fset fi 0 (opT fi p t)) ar h0) 0 0 := by
    intro m
    induction m with
    | zero =>
      intro k hk e0 u z
      have hk : k = fi 21 := by omega
      subst hk
      refine r_iload_5 (pc := 43) C dX2_ofPrinciple_43 ?_
      refine r_aload_0 (pc := 45) C dX2_ofPrinciple_45 ?_
      refine r_mg21 (pc := 46) C hI dX2_ofPrinciple_46 ?_
      refine r_icge (pc := 49) (tgt := 79) C dX2_ofPrinciple_49 (by decide) (fun c_49 => ?_) (fun c_49 => ?_)
      · refine r_iconst (pc := 79) (v := 0) C dX2_ofPrinciple_79 (by decide) ?_
        refine r_istore_5 (pc := 80) C dX2_ofPrinciple_80 ?_
        refine r_iconst (pc := 82) (v := 0) C dX2_ofPrinciple_82 (by decide) ?_
        refine r_istore_6 (pc := 83) C dX2_ofPrinciple_83 ?_
        exact L2 (fi 24) 0 (by omega) e0 u
      · exact absurd (nI_le (Nat.le_refl _) (show fi 21 < 2 ^ 31 by omega)) c_49 --halt
    | succ m ih =>
      intro k hk e0 u z
      have hi : vp_in (nI k) 30 := vp_in_nI (by omega) (by decide)
      refine r_iload_5 (pc := 43) C dX2_ofPrinciple_43 ?_
      refine r_aload_0 (pc := 45) C dX2_ofPrinciple_45 ?_
      refine r_mg21 (pc := 46) C hI dX2_ofPrinciple_46 ?_
      refine r_icge (pc := 49) (tgt := 79) C dX2_ofPrinciple_49 (by decide) (fun c_49 => ?_) (fun c_49 => ?_)
      · exact absurd c_49 (nI_ge (show k < fi 21 by omega) (show fi 21 < 2 ^ 31 by omega)) --halt
      · refine r_iload_4 (pc := 52) C dX2_ofPrinciple_52 ?_
        refine r_aload_0 (pc := 54) C dX2_ofPrinciple_54 ?_
        refine r_mg23 (pc := 55) C hI dX2_ofPrinciple_55 ?_
        refine r_iload_5 (pc := 58) C dX2_ofPrinciple_58 ?_
        refine r_miald (pc := 60) C hI (by decide) (by decide) (by assumption) dX2_ofPrinciple_60 ?_
        rw [nI_clamp (show k < 2 ^ 31 by omega)]
        refine r_iload_1 (pc := 61) C dX2_ofPrinciple_61 ?_
        refine r_icneM (pc := 62) (tgt := 69) C 70 ?_ ?_ dX2_ofPrinciple_62 (by decide) (fun c_62 j_62 => ?_) (fun c_62 j_62 => ?_) ?_
        rotate_left 2
        · refine r_iconst (pc := 69) (v := 0) C dX2_ofPrinciple_69 (by decide) ?_
          exact j_62
        · refine r_iconst (pc := 65) (v := 1) C dX2_ofPrinciple_65 (by decide) ?_
          refine r_goto (pc := 66) (tgt := 70) C dX2_ofPrinciple_66 (by decide) ?_
          exact j_62
        refine r_iadd (pc := 70) C dX2_ofPrinciple_70 ?_
        refine r_istore_4 (pc := 71) C dX2_ofPrinciple_71 ?_
        refine r_iinc_5 (pc := 73) C dX2_ofPrinciple_73 (nI_1 k) ?_
        refine r_goto (pc := 76) (tgt := 43) C dX2_ofPrinciple_76 (by decide) ?_
        exact ih (k + 1) (by omega) e0 u z
  refine r_aload_0 (pc := 0) C dX2_ofPrinciple_0 ?_
  refine r_iload_1 (pc := 1) C dX2_ofPrinciple_1 ?_
  refine r_callV (pc := 2) (nA := 1) C (c_X2_isPrinciple G (d - 1) (by omega) hI) (ha := (mput_at hI (j := 0) (by decide))) (hc := rfl) (h1 := q1673) (h2 := q1675) (h3 := qs39) (h4 := q61) (h5 := q1676)  (hd := dX2_ofPrinciple_2) (kk := kP ?_) (kx := kN)
  refine r_istore_3 (pc := 5) C dX2_ofPrinciple_5 ?_
  refine r_aload_0 (pc := 6) C dX2_ofPrinciple_6 ?_
  refine r_iload_3 (pc := 7) C dX2_ofPrinciple_7 ?_
  refine r_ifneM (pc := 8) (tgt := 15) C 29 ?_ ?_ dX2_ofPrinciple_8 (by decide) (fun c_8 j_8 => ?_) (fun c_8 j_8 => ?_) ?_
  rotate_left 2
  · refine r_iload_2 (pc := 15) C dX2_ofPrinciple_15 ?_
    refine r_iconst (pc := 16) (v := 0) C dX2_ofPrinciple_16 (by decide) ?_
    refine r_iconst (pc := 17) (v := 3) C dX2_ofPrinciple_17 (by decide) ?_
    refine r_callS (pc := 18) (nA := 3) C (c_X2_in G (d - 1)) (h1 := q1570) (h2 := q1571) (h3 := q61) (h4 := q1572)  (hd := dX2_ofPrinciple_18) (kk := kP ?_) (kx := kN)
    refine r_ifeqM (pc := 21) (tgt := 28) C 29 ?_ ?_ dX2_ofPrinciple_21 (by decide) (fun c_21 j_21 => ?_) (fun c_21 j_21 => ?_) ?_
    rotate_left 2
    · refine r_iconst (pc := 28) (v := 2) C dX2_ofPrinciple_28 (by decide) ?_
      exact j_21
    · refine r_iconst (pc := 24) (v := 0) C dX2_ofPrinciple_24 (by decide) ?_
      refine r_goto (pc := 25) (tgt := 29) C dX2_ofPrinciple_25 (by decide) ?_
      exact j_21
    exact j_8
  · refine r_iconst (pc := 11) (v := 1) C dX2_ofPrinciple_11 (by decide) ?_
    refine r_goto (pc := 12) (tgt := 29) C dX2_ofPrinciple_12 (by decide) ?_
    exact j_8
  refine r_callV (pc := 29) (nA := 1) C (c_X2_goesWell G (d - 1) (p := opT fi p t) hI ?_) (ha := (mput_at hI (j := 0) (by decide))) (hc := rfl) (h1 := q1576) (h2 := q1578) (h3 := qs25) (h4 := q61) (h5 := q1579)  (hd := dX2_ofPrinciple_29) (kk := kP ?_) (kx := kN)
  · unfold opT; cases isPrB fi p <;> cases inB t 0 3 <;> rfl
  refine r_ifne (pc := 32) (tgt := 37) C dX2_ofPrinciple_32 (by decide) (fun c_32 => ?_) (fun c_32 => ?_)
  · refine r_iconst (pc := 37) (v := 0) C dX2_ofPrinciple_37 (by decide) ?_
    refine r_istore_4 (pc := 38) C dX2_ofPrinciple_38 ?_
    refine r_iconst (pc := 40) (v := 0) C dX2_ofPrinciple_40 (by decide) ?_
    refine r_istore_5 (pc := 41) C dX2_ofPrinciple_41 ?_
    exact L1 (fi 21) 0 (by omega) (gw_t c_32 hT) _ _
  · refine r_iconst (pc := 35) (v := 0) C dX2_ofPrinciple_35 (by decide) ?_
    refine r_iret (pc := 36) C dX2_ofPrinciple_36 ?_
    have e0 := gw_f c_32
    refine ⟨?_, rfl⟩
    unfold opV
    rw [if_neg e0]
end M4
