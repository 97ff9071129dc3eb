/-! 15: ReversalCourtModel: problems -/
set_option maxRecDepth 100000
section M5
variable {w : WD} {am fi : Nat → Nat} {ar : Nat → Nat → Int32} {h0 : AH}
theorem c_X2_areAnswers (G : Good w) (d : Nat) (hd : 1 ≤ d) {s : Int32} {M A : Nat} {h : AH} (hM : M ≤ 4) (hA : A ≤ 4) : Con w yX2_areAnswers (ws_ yX2_areAnswers cX2_areAnswers 8 (some .boolean)) d 0 0 [.int s, .int (nI M), .int (nI A)] h (Pi (bI (pbA s M A)) h) noX := by
  refine Con.of G [some (.int s), some (.int (nI M)), some (.int (nI A)), none, none, none, none, none] (body := fun g C => ?_)
  have Lin : ∀ m k i : Nat, k + m = A → i < M → (∀ u, wp w g (mQ w g 0 0 (Pi (bI (pbA s M A)) h) noX) 69 [some (.int s), some (.int (nI M)), some (.int (nI A)), some (.int (rsN s A (i + 1))), some (.int (bI (allN (pbH s A) i))), some (.int (nI i)), some (.int (bI (pbH s A i))), u] [] h 0 0) → wp w g (mQ w g 0 0 (Pi (bI (pbA s M A)) h) noX) 20 [some (.int s), some (.int (nI M)), some (.int (nI A)), some (.int (rsI (rsN s A i) i k)), some (.int (bI (allN (pbH s A) i))), some (.int (nI i)), some (.int (bI (anyN (fun a => solB s (nI i) (nI a)) k))), some (.int (nI k))] [] h 0 0 := by
    intro m
    induction m with
    | zero =>
      intro k i hk hi kk
      have hk : k = A := by omega
      subst hk
      refine r_iload_7 (pc := 20) C dX2_areAnswers_20 ?_
      refine r_iload_2 (pc := 22) C dX2_areAnswers_22 ?_
      refine r_icge (pc := 23) (tgt := 69) C dX2_areAnswers_23 (by decide) (fun c_23 => ?_) (fun c_23 => ?_)
      · exact kk _
      · exact absurd (nI_le (Nat.le_refl _) (by omega)) c_23 --halt
    | succ m ih =>
      intro k i hk hi kk
      refine r_iload_7 (pc := 20) C dX2_areAnswers_20 ?_
      refine r_iload_2 (pc := 22) C dX2_areAnswers_22 ?_
      refine r_icge (pc := 23) (tgt := 69) C dX2_areAnswers_23 (by decide) (fun c_23 => ?_) (fun c_23 => ?_)
      · exact absurd c_23 (nI_ge (by omega) (by omega)) --halt
      · refine r_iload_6 (pc := 26) C dX2_areAnswers_26 ?_
        refine r_ifneM (pc := 28) (tgt := 42) C 47 ?_ ?_ dX2_areAnswers_28 (by decide) (fun c_28 j_28 => ?_) (fun c_28 j_28 => ?_) ?_
        rotate_left 2
        · refine r_iconst (pc := 42) (v := 1) C dX2_areAnswers_42 (by decide) ?_
          refine r_goto (pc := 43) (tgt := 47) C dX2_areAnswers_43 (by decide) ?_
          exact j_28
        · refine r_iload_0 (pc := 31) C dX2_areAnswers_31 ?_
          refine r_iload_5 (pc := 32) C dX2_areAnswers_32 ?_
          refine r_iload_7 (pc := 34) C dX2_areAnswers_34 ?_
          refine r_callS (pc := 36) (nA := 3) C (c_X2_isSolved G (d - 1)) (h1 := q1746) (h2 := q1747) (h3 := q61) (h4 := q1748)  (hd := dX2_areAnswers_36) (kk := kP ?_) (kx := kN)
          refine r_ifeqM (pc := 39) (tgt := 46) C 47 ?_ ?_ dX2_areAnswers_39 (by decide) (fun c_39 j_39 => ?_) (fun c_39 j_39 => ?_) ?_
          rotate_left 2
          · refine r_iconst (pc := 46) (v := 0) C dX2_areAnswers_46 (by decide) ?_
            exact j_39
          · refine r_iconst (pc := 42) (v := 1) C dX2_areAnswers_42 (by decide) ?_
            refine r_goto (pc := 43) (tgt := 47) C dX2_areAnswers_43 (by decide) ?_
            exact j_39
          exact j_28
        have e := ih (k + 1) i (by omega) hi kk
        refine r_istore_6 (pc := 47) C dX2_areAnswers_47 ?_
        refine r_iload_3 (pc := 49) C dX2_areAnswers_49 ?_
        refine r_iconst (pc := 50) (v := 1) C dX2_areAnswers_50 (by decide) ?_
        refine r_iconst (pc := 51) (v := 4) C dX2_areAnswers_51 (by decide) ?_
        refine r_iload_5 (pc := 52) C dX2_areAnswers_52 ?_
        refine r_imul (pc := 54) C dX2_areAnswers_54 ?_
        refine r_iload_7 (pc := 55) C dX2_areAnswers_55 ?_
        refine r_iadd (pc := 57) C dX2_areAnswers_57 ?_
        refine r_ishl (pc := 58) C dX2_areAnswers_58 ?_
        refine r_iconst (pc := 59) (v := -1) C dX2_areAnswers_59 (by decide) ?_
        refine r_ixor (pc := 60) C dX2_areAnswers_60 ?_
        refine r_iand (pc := 61) C dX2_areAnswers_61 ?_
        refine r_istore_3 (pc := 62) C dX2_areAnswers_62 ?_
        refine r_iinc_7 (pc := 63) C dX2_areAnswers_63 (nI_1 k) ?_
        refine r_goto (pc := 66) (tgt := 20) C dX2_areAnswers_66 (by decide) ?_
        have e2 : bI (anyN (fun a => solB s (nI i) (nI a)) (k + 1)) = (if bI (anyN (fun a => solB s (nI i) (nI a)) k) = 0 then (if bI (solB s (nI i) (nI k)) = 0 then 0 else 1) else 1) := by
          rw [anyN_s]
          cases anyN (fun a => solB s (nI i) (nI a)) k <;> cases solB s (nI i) (nI k) <;> rfl
        rw [e2] at e
        exact e
  have L : ∀ m i : Nat, i + m = M → ∀ u v, wp w g (mQ w g 0 0 (Pi (bI (pbA s M A)) h) noX) 8 [some (.int s), some (.int (nI M)), some (.int (nI A)), some (.int (rsN s A i)), some (.int (bI (allN (pbH s A) i))), some (.int (nI i)), u, v] [] h 0 0 := by
    intro m
    induction m with
    | zero =>
      intro i hi u v
      have hi : i = M := by omega
      subst hi
      refine r_iload_5 (pc := 8) C dX2_areAnswers_8 ?_
      refine r_iload_1 (pc := 10) C dX2_areAnswers_10 ?_
      refine r_icge (pc := 11) (tgt := 92) C dX2_areAnswers_11 (by decide) (fun c_11 => ?_) (fun c_11 => ?_)
      · refine r_iload_4 (pc := 92) C dX2_areAnswers_92 ?_
        refine r_ifeqM (pc := 94) (tgt := 105) C 106 ?_ ?_ dX2_areAnswers_94 (by decide) (fun c_94 j_94 => ?_) (fun c_94 j_94 => ?_) ?_
        rotate_left 2
        · refine r_iconst (pc := 105) (v := 0) C dX2_areAnswers_105 (by decide) ?_
          exact j_94
        · refine r_iload_3 (pc := 97) C dX2_areAnswers_97 ?_
          refine r_ifneM (pc := 98) (tgt := 105) C 106 ?_ ?_ dX2_areAnswers_98 (by decide) (fun c_98 j_98 => ?_) (fun c_98 j_98 => ?_) ?_
          rotate_left 2
          · refine r_iconst (pc := 105) (v := 0) C dX2_areAnswers_105 (by decide) ?_
            exact j_98
          · refine r_iconst (pc := 101) (v := 1) C dX2_areAnswers_101 (by decide) ?_
            refine r_goto (pc := 102) (tgt := 106) C dX2_areAnswers_102 (by decide) ?_
            exact j_98
          exact j_94
        refine r_zret (pc := 106) C dX2_areAnswers_106 (by (repeat' split) <;> rfl) ?_
        refine ⟨?_, rfl⟩
        unfold pbA
        by_cases e : rsN s A i = 0 <;> cases allN (pbH s A) i <;> simp [e, bI]
      · exact absurd (nI_le (Nat.le_refl _) (by omega)) c_11 --halt
    | succ m ih =>
      intro i hi u v
      refine r_iload_5 (pc := 8) C dX2_areAnswers_8 ?_
      refine r_iload_1 (pc := 10) C dX2_areAnswers_10 ?_
      refine r_icge (pc := 11) (tgt := 92) C dX2_areAnswers_11 (by decide) (fun c_11 => ?_) (fun c_11 => ?_)
      · exact absurd c_11 (nI_ge (by omega) (by omega)) --halt
      · refine r_iconst (pc := 14) (v := 0) C dX2_areAnswers_14 (by decide) ?_
        refine r_istore_6 (pc := 15) C dX2_areAnswers_15 ?_
        refine r_iconst (pc := 17) (v := 0) C dX2_areAnswers_17 (by decide) ?_
        refine r_istore_7 (pc := 18) C dX2_areAnswers_18 ?_
        refine Lin A 0 i (by omega) (by omega) ?_
        intro u
        have e := ih (i + 1) (by omega)
        have e2 : bI (allN (pbH s A) (i + 1)) = (if bI (allN (pbH s A) i) = 0 then 0 else if bI (pbH s A i) = 0 then 0 else 1) := by
          rw [allN_s]
          cases allN (pbH s A) i <;> cases pbH s A i <;> rfl
        rw [e2] at e
        refine r_iload_4 (pc := 69) C dX2_areAnswers_69 ?_
        refine r_ifeqM (pc := 71) (tgt := 83) C 84 ?_ ?_ dX2_areAnswers_71 (by decide) (fun c_71 j_71 => ?_) (fun c_71 j_71 => ?_) ?_
        rotate_left 2
        · refine r_iconst (pc := 83) (v := 0) C dX2_areAnswers_83 (by decide) ?_
          exact j_71
        · refine r_iload_6 (pc := 74) C dX2_areAnswers_74 ?_
          refine r_ifeqM (pc := 76) (tgt := 83) C 84 ?_ ?_ dX2_areAnswers_76 (by decide) (fun c_76 j_76 => ?_) (fun c_76 j_76 => ?_) ?_
          rotate_left 2
          · refine r_iconst (pc := 83) (v := 0) C dX2_areAnswers_83 (by decide) ?_
            exact j_76
          · refine r_iconst (pc := 79) (v := 1) C dX2_areAnswers_79 (by decide) ?_
            refine r_goto (pc := 80) (tgt := 84) C dX2_areAnswers_80 (by decide) ?_
            exact j_76
          exact j_71
        refine r_istore_4 (pc := 84) C dX2_areAnswers_84 ?_
        refine r_iinc_5 (pc := 86) C dX2_areAnswers_86 (nI_1 i) ?_
        refine r_goto (pc := 89) (tgt := 8) C dX2_areAnswers_89 (by decide) ?_
        exact e _ _
  refine r_iload_0 (pc := 0) C dX2_areAnswers_0 ?_
  refine r_istore_3 (pc := 1) C dX2_areAnswers_1 ?_
  refine r_iconst (pc := 2) (v := 1) C dX2_areAnswers_2 (by decide) ?_
  refine r_istore_4 (pc := 3) C dX2_areAnswers_3 ?_
  refine r_iconst (pc := 5) (v := 0) C dX2_areAnswers_5 (by decide) ?_
  refine r_istore_5 (pc := 6) C dX2_areAnswers_6 ?_
  exact L M 0 (by omega) _ _
theorem c_X2_addProblem (G : Good w) (d : Nat) {a b c : Int32} (hI : MI am) (hp : fi 27 < 6) : Con w yX2_addProblem (ws_ yX2_addProblem cX2_addProblem 4 (some .int)) d 0 0 [.ref (am 0), .int a, .int b, .int c] (mput w am fi ar h0) (Pi (nI (fi 27)) (mput w am (fset fi 27 (fi 27 + 1)) (pbAr fi ar a b c) h0)) noX := by
  refine Con.of G [some (.ref (am 0)), some (.int a), some (.int b), some (.int c)] (body := fun g C => ?_)
  refine r_aload_0 (pc := 0) C dX2_addProblem_0 ?_
  refine r_mg28 (pc := 1) C hI dX2_addProblem_1 ?_
  refine r_aload_0 (pc := 4) C dX2_addProblem_4 ?_
  refine r_mg27 (pc := 5) C hI dX2_addProblem_5 ?_
  refine r_iload_1 (pc := 8) C dX2_addProblem_8 ?_
  refine r_mniast (pc := 9) C hI (by decide) (by decide) rfl (by simp only [mlen]; omega) (by decide) dX2_addProblem_9 ?_
  refine r_aload_0 (pc := 10) C dX2_addProblem_10 ?_
  refine r_mg29 (pc := 11) C hI dX2_addProblem_11 ?_
  refine r_aload_0 (pc := 14) C dX2_addProblem_14 ?_
  refine r_mg27 (pc := 15) C hI dX2_addProblem_15 ?_
  refine r_iload_2 (pc := 18) C dX2_addProblem_18 ?_
  refine r_mniast (pc := 19) C hI (by decide) (by decide) rfl (by simp only [mlen]; omega) (by decide) dX2_addProblem_19 ?_
  refine r_aload_0 (pc := 20) C dX2_addProblem_20 ?_
  refine r_mg30 (pc := 21) C hI dX2_addProblem_21 ?_
  refine r_aload_0 (pc := 24) C dX2_addProblem_24 ?_
  refine r_mg27 (pc := 25) C hI dX2_addProblem_25 ?_
  refine r_iload_3 (pc := 28) C dX2_addProblem_28 ?_
  refine r_mniast (pc := 29) C hI (by decide) (by decide) rfl (by simp only [mlen]; omega) (by decide) dX2_addProblem_29 ?_
  refine r_aload_0 (pc := 30) C dX2_addProblem_30 ?_
  refine r_dup (pc := 31) C dX2_addProblem_31 rfl ?_
  refine r_mg27 (pc := 32) C hI dX2_addProblem_32 ?_
  refine r_iconst (pc := 35) (v := 1) C dX2_addProblem_35 (by decide) ?_
  refine r_iadd (pc := 36) C dX2_addProblem_36 ?_
  refine r_mp27 (pc := 37) (v := _) C hI (nI_1 _) dX2_addProblem_37 ?_
  refine r_aload_0 (pc := 40) C dX2_addProblem_40 ?_
  refine r_mg27 (pc := 41) C hI dX2_addProblem_41 ?_
  refine r_iconst (pc := 44) (v := 1) C dX2_addProblem_44 (by decide) ?_
  refine r_isub (pc := 45) C dX2_addProblem_45 ?_
  refine r_iret (pc := 46) C dX2_addProblem_46 ?_
  exact ⟨congrArg some (congrArg Value.int (nI_pred _)), rfl⟩
theorem c_X2_served (G : Good w) (d : Nat) (hd : 1 ≤ d) {p q : Nat} {code ins : Int32} (hI : MI am) (M : MOK fi ar) (hp : p < fi 27) (hq : q < fi 27) : Con w yX2_served (ws_ yX2_served cX2_served 9 (some .int)) d 0 0 [.ref (am 0), .int (nI p), .int (nI q), .int code, .int ins] (mput w am fi ar h0) (Pi (o2i (srF ar p q ins (givF ar p code))) (mput w am fi ar h0)) noX := by
  refine Con.of G [some (.ref (am 0)), some (.int (nI p)), some (.int (nI q)), some (.int code), some (.int ins), none, none, none, none] (body := fun g C => ?_)
  have h6 : fi 27 ≤ 6 := M.2.2.2.2.1
  obtain ⟨p1, p2, p3, p4, pe1, pe2⟩ := MOK_p M hp
  obtain ⟨q1', q2', q3', q4', qe1, qe2⟩ := MOK_p M hq
  have hne : ¬ ar 21 p = 0 := by rw [pe2]; exact nI_ne0 (by omega) (by omega)
  have Lin : ∀ m a j : Nat, a + m = aN ar q → ∀ f : Int32, wp w g (mQ w g 0 0 (Pi (o2i (srF ar p q ins (givF ar p code))) (mput w am fi ar h0)) noX) 95 [some (.ref (am 0)), some (.int (nI p)), some (.int (nI q)), some (.int code), some (.int ins), some (.int f), some (.int (nI j)), some (.int (bI (dsF ar p q ins (nI j) (givF ar p code)))), some (.int (nI (aN ar q)))] [] (mput w am fi ar h0) 0 0 → wp w g (mQ w g 0 0 (Pi (o2i (srF ar p q ins (givF ar p code))) (mput w am fi ar h0)) noX) 24 [some (.ref (am 0)), some (.int (nI p)), some (.int (nI q)), some (.int code), some (.int ins), some (.int f), some (.int (nI j)), some (.int (bI (allN (dsP ar p q ins (nI j) (givF ar p code)) a))), some (.int (nI a))] [] (mput w am fi ar h0) 0 0 := by
    intro m
    induction m with
    | zero =>
      intro a j ha f kk
      have ha : a = aN ar q := by omega
      subst ha
      refine r_iload_8 (pc := 24) C dX2_served_24 ?_
      refine r_aload_0 (pc := 26) C dX2_served_26 ?_
      refine r_mg29 (pc := 27) C hI dX2_served_27 ?_
      refine r_iload_2 (pc := 30) C dX2_served_30 ?_
      refine r_mniald (pc := 31) C hI (by decide) (by decide) rfl (by simp only [mlen]; omega) (by decide) dX2_served_31 ?_
      rw [qe2]
      refine r_icge (pc := 32) (tgt := 95) C dX2_served_32 (by decide) (fun c_32 => ?_) (fun c_32 => ?_)
      · exact kk
      · exact absurd (nI_le (Nat.le_refl _) (by omega)) c_32 --halt
    | succ m ih =>
      intro a j ha f kk
      refine r_iload_8 (pc := 24) C dX2_served_24 ?_
      refine r_aload_0 (pc := 26) C dX2_served_26 ?_
      refine r_mg29 (pc := 27) C hI dX2_served_27 ?_
      refine r_iload_2 (pc := 30) C dX2_served_30 ?_
      refine r_mniald (pc := 31) C hI (by decide) (by decide) rfl (by simp only [mlen]; omega) (by decide) dX2_served_31 ?_
      rw [qe2]
      refine r_icge (pc := 32) (tgt := 95) C dX2_served_32 (by decide) (fun c_32 => ?_) (fun c_32 => ?_)
      · exact absurd c_32 (nI_ge (by omega) (by omega)) --halt
      · refine r_iload_7 (pc := 35) C dX2_served_35 ?_
        refine r_ifeqM (pc := 37) (tgt := 86) C 87 ?_ ?_ dX2_served_37 (by decide) (fun c_37 j_37 => ?_) (fun c_37 j_37 => ?_) ?_
        rotate_left 2
        · refine r_iconst (pc := 86) (v := 0) C dX2_served_86 (by decide) ?_
          exact j_37
        · refine r_aload_0 (pc := 40) C dX2_served_40 ?_
          refine r_mg30 (pc := 41) C hI dX2_served_41 ?_
          refine r_iload_2 (pc := 44) C dX2_served_44 ?_
          refine r_mniald (pc := 45) C hI (by decide) (by decide) rfl (by simp only [mlen]; omega) (by decide) dX2_served_45 ?_
          refine r_iload_6 (pc := 46) C dX2_served_46 ?_
          refine r_iload_8 (pc := 48) C dX2_served_48 ?_
          refine r_callS (pc := 50) (nA := 3) C (c_X2_isSolved G (d - 1)) (h1 := q1746) (h2 := q1747) (h3 := q61) (h4 := q1748)  (hd := dX2_served_50) (kk := kP ?_) (kx := kN)
          refine r_ifeqM (pc := 53) (tgt := 82) C 87 ?_ ?_ dX2_served_53 (by decide) (fun c_53 j_53 => ?_) (fun c_53 j_53 => ?_) ?_
          rotate_left 2
          · refine r_iconst (pc := 82) (v := 1) C dX2_served_82 (by decide) ?_
            refine r_goto (pc := 83) (tgt := 87) C dX2_served_83 (by decide) ?_
            exact j_53
          · refine r_aload_0 (pc := 56) C dX2_served_56 ?_
            refine r_mg30 (pc := 57) C hI dX2_served_57 ?_
            refine r_iload_1 (pc := 60) C dX2_served_60 ?_
            refine r_mniald (pc := 61) C hI (by decide) (by decide) rfl (by simp only [mlen]; omega) (by decide) dX2_served_61 ?_
            refine r_iload_4 (pc := 62) C dX2_served_62 ?_
            refine r_iload_3 (pc := 64) C dX2_served_64 ?_
            refine r_aload_0 (pc := 65) C dX2_served_65 ?_
            refine r_mg29 (pc := 66) C hI dX2_served_66 ?_
            refine r_iload_1 (pc := 69) C dX2_served_69 ?_
            refine r_mniald (pc := 70) C hI (by decide) (by decide) rfl (by simp only [mlen]; omega) (by decide) dX2_served_70 ?_
            refine r_iload_8 (pc := 71) C dX2_served_71 ?_
            refine r_callS (pc := 73) (nA := 3) C (c_X2_given G (d - 1) hne (show a < 2 ^ 31 by omega)) (h1 := q1773) (h2 := q1774) (h3 := q61) (h4 := q1775)  (hd := dX2_served_73) (kk := kP ?_) (kx := kN)
            refine r_callS (pc := 76) (nA := 3) C (c_X2_isSolved G (d - 1)) (h1 := q1746) (h2 := q1747) (h3 := q61) (h4 := q1748)  (hd := dX2_served_76) (kk := kP ?_) (kx := kN)
            refine r_ifeqM (pc := 79) (tgt := 86) C 87 ?_ ?_ dX2_served_79 (by decide) (fun c_79 j_79 => ?_) (fun c_79 j_79 => ?_) ?_
            rotate_left 2
            · refine r_iconst (pc := 86) (v := 0) C dX2_served_86 (by decide) ?_
              exact j_79
            · refine r_iconst (pc := 82) (v := 1) C dX2_served_82 (by decide) ?_
              refine r_goto (pc := 83) (tgt := 87) C dX2_served_83 (by decide) ?_
              exact j_79
            exact j_53
          exact j_37
        have e := ih (a + 1) j (by omega) f kk
        refine r_istore_7 (pc := 87) C dX2_served_87 ?_
        refine r_iinc_8 (pc := 89) C dX2_served_89 (nI_1 a) ?_
        refine r_goto (pc := 92) (tgt := 24) C dX2_served_92 (by decide) ?_
        have e2 : bI (allN (dsP ar p q ins (nI j) (givF ar p code)) (a + 1)) = (if bI (allN (dsP ar p q ins (nI j) (givF ar p code)) a) = 0 then 0 else if bI (solB (ar 22 q) (nI j) (nI a)) = 0 then 1 else if bI (solB (ar 22 p) ins (remF (divN code (ar 21 p) a) (ar 21 p))) = 0 then 0 else 1) := by
          rw [allN_s]
          have e3 : dsP ar p q ins (nI j) (givF ar p code) a = (!solB (ar 22 q) (nI j) (nI a) || solB (ar 22 p) ins (remF (divN code (ar 21 p) a) (ar 21 p))) := rfl
          rw [e3]
          cases allN (dsP ar p q ins (nI j) (givF ar p code)) a <;> cases solB (ar 22 q) (nI j) (nI a) <;> cases solB (ar 22 p) ins (remF (divN code (ar 21 p) a) (ar 21 p)) <;> rfl
        rw [e2] at e
        exact e
  have L : ∀ k m : Nat, k + m = iN ar q → ∀ u v, wp w g (mQ w g 0 0 (Pi (o2i (srF ar p q ins (givF ar p code))) (mput w am fi ar h0)) noX) 13 [some (.ref (am 0)), some (.int (nI p)), some (.int (nI q)), some (.int code), some (.int ins), some (.int (o2i (lowF (fun j => dsF ar p q ins (nI j) (givF ar p code)) m k))), some (.int (nI k - 1)), u, v] [] (mput w am fi ar h0) 0 0 := by
    intro k
    induction k with
    | zero =>
      intro m hm u v
      have hm : m = iN ar q := by omega
      subst hm
      refine r_iload_6 (pc := 13) C dX2_served_13 ?_
      refine r_iflt (pc := 15) (tgt := 115) C dX2_served_15 (by decide) (fun c_15 => ?_) (fun c_15 => ?_)
      · refine r_iload_5 (pc := 115) C dX2_served_115 ?_
        refine r_iret (pc := 117) C dX2_served_117 ?_
        exact ⟨rfl, rfl⟩
      · exact absurd (by decide) c_15 --halt
    | succ k ih =>
      intro m hm u v
      rw [nI_pred]
      refine r_iload_6 (pc := 13) C dX2_served_13 ?_
      refine r_iflt (pc := 15) (tgt := 115) C dX2_served_15 (by decide) (fun c_15 => ?_) (fun c_15 => ?_)
      · exact absurd c_15 (nI_pos (by omega)) --halt
      · refine r_iconst (pc := 18) (v := 1) C dX2_served_18 (by decide) ?_
        refine r_istore_7 (pc := 19) C dX2_served_19 ?_
        refine r_iconst (pc := 21) (v := 0) C dX2_served_21 (by decide) ?_
        refine r_istore_8 (pc := 22) C dX2_served_22 ?_
        refine Lin (aN ar q) 0 k (by omega) _ ?_
        have e := ih (m + 1) (by omega)
        have e2 : o2i (lowF (fun j => dsF ar p q ins (nI j) (givF ar p code)) (m + 1) k) = (if bI (dsF ar p q ins (nI k) (givF ar p code)) = 0 then o2i (lowF (fun j => dsF ar p q ins (nI j) (givF ar p code)) m (k + 1)) else nI k) := by
          show o2i (if dsF ar p q ins (nI k) (givF ar p code) then some k else lowF (fun j => dsF ar p q ins (nI j) (givF ar p code)) m (k + 1)) = _
          cases dsF ar p q ins (nI k) (givF ar p code) <;> rfl
        rw [e2] at e
        refine r_iload_7 (pc := 95) C dX2_served_95 ?_
        refine r_ifeqM (pc := 97) (tgt := 105) C 107 ?_ ?_ dX2_served_97 (by decide) (fun c_97 j_97 => ?_) (fun c_97 j_97 => ?_) ?_
        rotate_left 2
        · refine r_iload_5 (pc := 105) C dX2_served_105 ?_
          exact j_97
        · refine r_iload_6 (pc := 100) C dX2_served_100 ?_
          refine r_goto (pc := 102) (tgt := 107) C dX2_served_102 (by decide) ?_
          exact j_97
        refine r_istore_5 (pc := 107) C dX2_served_107 ?_
        refine r_iinc_6 (pc := 109) C dX2_served_109 (add_m1 _) ?_
        refine r_goto (pc := 112) (tgt := 13) C dX2_served_112 (by decide) ?_
        exact e _ _
  refine r_iconst (pc := 0) (v := -1) C dX2_served_0 (by decide) ?_
  refine r_istore_5 (pc := 1) C dX2_served_1 ?_
  refine r_aload_0 (pc := 3) C dX2_served_3 ?_
  refine r_mg28 (pc := 4) C hI dX2_served_4 ?_
  refine r_iload_2 (pc := 7) C dX2_served_7 ?_
  refine r_mniald (pc := 8) C hI (by decide) (by decide) rfl (by simp only [mlen]; omega) (by decide) dX2_served_8 ?_
  rw [qe1]
  refine r_iconst (pc := 9) (v := 1) C dX2_served_9 (by decide) ?_
  refine r_isub (pc := 10) C dX2_served_10 ?_
  refine r_istore_6 (pc := 11) C dX2_served_11 ?_
  exact L (iN ar q) 0 (by omega) _ _
theorem c_X2_codeOf (G : Good w) (d : Nat) (hd : 2 ≤ d) {p q : Nat} (hI : MI am) (M : MOK fi ar) (hp : p < fi 27) (hq : q < fi 27) : Con w yX2_codeOf (ws_ yX2_codeOf cX2_codeOf 7 (some .int)) d 0 0 [.ref (am 0), .int (nI p), .int (nI q)] (mput w am fi ar h0) (Pi (o2i (cdF ar p q)) (mput w am fi ar h0)) noX := by
  refine Con.of G [some (.ref (am 0)), some (.int (nI p)), some (.int (nI q)), none, none, none, none] (body := fun g C => ?_)
  have h6 : fi 27 ≤ 6 := M.2.2.2.2.1
  obtain ⟨p1, p2, p3, p4, pe1, pe2⟩ := MOK_p M hp
  obtain ⟨q1', q2', q3', q4', qe1, qe2⟩ := MOK_p M hq
  have h256 := pow_256 p4 q4'
  have Lin : ∀ m i c : Nat, i + m = iN ar p → c < aN ar p ^ aN ar q → wp w g (mQ w g 0 0 (Pi (o2i (cdF ar p q)) (mput w am fi ar h0)) noX) 89 [some (.ref (am 0)), some (.int (nI p)), some (.int (nI q)), some (.int (nI (aN ar p ^ aN ar q))), some (.int (nI c)), some (.int (bI (allN (cdP ar p q c) (iN ar p)))), some (.int (nI (iN ar p)))] [] (mput w am fi ar h0) 0 0 → wp w g (mQ w g 0 0 (Pi (o2i (cdF ar p q)) (mput w am fi ar h0)) noX) 46 [some (.ref (am 0)), some (.int (nI p)), some (.int (nI q)), some (.int (nI (aN ar p ^ aN ar q))), some (.int (nI c)), some (.int (bI (allN (cdP ar p q c) i))), some (.int (nI i))] [] (mput w am fi ar h0) 0 0 := by
    intro m
    induction m with
    | zero =>
      intro i c hi hc kk
      have hi : i = iN ar p := by omega
      subst hi
      refine r_iload_6 (pc := 46) C dX2_codeOf_46 ?_
      refine r_aload_0 (pc := 48) C dX2_codeOf_48 ?_
      refine r_mg28 (pc := 49) C hI dX2_codeOf_49 ?_
      refine r_iload_1 (pc := 52) C dX2_codeOf_52 ?_
      refine r_mniald (pc := 53) C hI (by decide) (by decide) rfl (by simp only [mlen]; omega) (by decide) dX2_codeOf_53 ?_
      rw [pe1]
      refine r_icge (pc := 54) (tgt := 89) C dX2_codeOf_54 (by decide) (fun c_54 => ?_) (fun c_54 => ?_)
      · exact kk
      · exact absurd (nI_le (Nat.le_refl _) (by omega)) c_54 --halt
    | succ m ih =>
      intro i c hi hc kk
      refine r_iload_6 (pc := 46) C dX2_codeOf_46 ?_
      refine r_aload_0 (pc := 48) C dX2_codeOf_48 ?_
      refine r_mg28 (pc := 49) C hI dX2_codeOf_49 ?_
      refine r_iload_1 (pc := 52) C dX2_codeOf_52 ?_
      refine r_mniald (pc := 53) C hI (by decide) (by decide) rfl (by simp only [mlen]; omega) (by decide) dX2_codeOf_53 ?_
      rw [pe1]
      refine r_icge (pc := 54) (tgt := 89) C dX2_codeOf_54 (by decide) (fun c_54 => ?_) (fun c_54 => ?_)
      · exact absurd c_54 (nI_ge (by omega) (by omega)) --halt
      · refine r_iload_5 (pc := 57) C dX2_codeOf_57 ?_
        refine r_ifeqM (pc := 59) (tgt := 80) C 81 ?_ ?_ dX2_codeOf_59 (by decide) (fun c_59 j_59 => ?_) (fun c_59 j_59 => ?_) ?_
        rotate_left 2
        · refine r_iconst (pc := 80) (v := 0) C dX2_codeOf_80 (by decide) ?_
          exact j_59
        · refine r_aload_0 (pc := 62) C dX2_codeOf_62 ?_
          refine r_iload_1 (pc := 63) C dX2_codeOf_63 ?_
          refine r_iload_2 (pc := 64) C dX2_codeOf_64 ?_
          refine r_iload_4 (pc := 65) C dX2_codeOf_65 ?_
          refine r_iload_6 (pc := 67) C dX2_codeOf_67 ?_
          refine r_callV (pc := 69) (nA := 4) C (c_X2_served G (d - 1) (by omega) hI M hp hq) (ha := (mput_at hI (j := 0) (by decide))) (hc := rfl) (h1 := q1769) (h2 := q1771) (h3 := qs49) (h4 := q61) (h5 := q1772)  (hd := dX2_codeOf_69) (kk := kP ?_) (kx := kN)
          refine r_iconst (pc := 72) (v := -1) C dX2_codeOf_72 (by decide) ?_
          refine r_iceqM (pc := 73) (tgt := 80) C 81 ?_ ?_ dX2_codeOf_73 (by decide) (fun c_73 j_73 => ?_) (fun c_73 j_73 => ?_) ?_
          rotate_left 2
          · refine r_iconst (pc := 80) (v := 0) C dX2_codeOf_80 (by decide) ?_
            exact j_73
          · refine r_iconst (pc := 76) (v := 1) C dX2_codeOf_76 (by decide) ?_
            refine r_goto (pc := 77) (tgt := 81) C dX2_codeOf_77 (by decide) ?_
            exact j_73
          exact j_59
        have e := ih (i + 1) c (by omega) hc kk
        refine r_istore_5 (pc := 81) C dX2_codeOf_81 ?_
        refine r_iinc_6 (pc := 83) C dX2_codeOf_83 (nI_1 i) ?_
        refine r_goto (pc := 86) (tgt := 46) C dX2_codeOf_86 (by decide) ?_
        have e2 : bI (allN (cdP ar p q c) (i + 1)) = (if bI (allN (cdP ar p q c) i) = 0 then 0 else if o2i (srF ar p q (nI i) (givF ar p (nI c))) = -1 then 0 else 1) := by
          rw [allN_s]
          have e3 : cdP ar p q c i = (srF ar p q (nI i) (givF ar p (nI c))).isSome := rfl
          rw [e3]
          cases allN (cdP ar p q c) i <;> cases e4 : srF ar p q (nI i) (givF ar p (nI c)) with
          | none => rfl
          | some r =>
            have := srF_lt e4
            rw [if_neg (o2i_some (k := r) (by omega))]
            rfl
        rw [e2] at e
        exact e
  have L : ∀ m c : Nat, c + m = aN ar p ^ aN ar q → lowF (fun c => allN (cdP ar p q c) (iN ar p)) m c = cdF ar p q → ∀ u v, wp w g (mQ w g 0 0 (Pi (o2i (cdF ar p q)) (mput w am fi ar h0)) noX) 34 [some (.ref (am 0)), some (.int (nI p)), some (.int (nI q)), some (.int (nI (aN ar p ^ aN ar q))), some (.int (nI c)), u, v] [] (mput w am fi ar h0) 0 0 := by
    intro m
    induction m with
    | zero =>
      intro c hc e u v
      have hc : c = aN ar p ^ aN ar q := by omega
      subst hc
      refine r_iload_4 (pc := 34) C dX2_codeOf_34 ?_
      refine r_iload_3 (pc := 36) C dX2_codeOf_36 ?_
      refine r_icge (pc := 37) (tgt := 103) C dX2_codeOf_37 (by decide) (fun c_37 => ?_) (fun c_37 => ?_)
      · refine r_iconst (pc := 103) (v := -1) C dX2_codeOf_103 (by decide) ?_
        refine r_iret (pc := 104) C dX2_codeOf_104 ?_
        exact ⟨by rw [← e]; rfl, rfl⟩
      · exact absurd (nI_le (Nat.le_refl _) (by omega)) c_37 --halt
    | succ m ih =>
      intro c hc e u v
      refine r_iload_4 (pc := 34) C dX2_codeOf_34 ?_
      refine r_iload_3 (pc := 36) C dX2_codeOf_36 ?_
      refine r_icge (pc := 37) (tgt := 103) C dX2_codeOf_37 (by decide) (fun c_37 => ?_) (fun c_37 => ?_)
      · exact absurd c_37 (nI_ge (by omega) (by omega)) --halt
      · refine r_iconst (pc := 40) (v := 1) C dX2_codeOf_40 (by decide) ?_
        refine r_istore_5 (pc := 41) C dX2_codeOf_41 ?_
        refine r_iconst (pc := 43) (v := 0) C dX2_codeOf_43 (by decide) ?_
        refine r_istore_6 (pc := 44) C dX2_codeOf_44 ?_
        refine Lin (iN ar p) 0 c (by omega) (by omega) ?_
        have e1 : lowF (fun c => allN (cdP ar p q c) (iN ar p)) (m + 1) c = if allN (cdP ar p q c) (iN ar p) = true then some c else lowF (fun c => allN (cdP ar p q c) (iN ar p)) m (c + 1) := rfl
        rw [e1] at e
        refine r_iload_5 (pc := 89) C dX2_codeOf_89 ?_
        refine r_ifeq (pc := 91) (tgt := 97) C dX2_codeOf_91 (by decide) (fun c_91 => ?_) (fun c_91 => ?_)
        · refine r_iinc_4 (pc := 97) C dX2_codeOf_97 (nI_1 c) ?_
          refine r_goto (pc := 100) (tgt := 34) C dX2_codeOf_100 (by decide) ?_
          rw [if_neg (by rw [bI_0.mp c_91]; decide)] at e
          exact ih (c + 1) (by omega) e _ _
        · refine r_iload_4 (pc := 94) C dX2_codeOf_94 ?_
          refine r_iret (pc := 96) C dX2_codeOf_96 ?_
          rw [if_pos (bI_ne.mp c_91)] at e
          exact ⟨by rw [← e]; rfl, rfl⟩
  have L1 : ∀ m k : Nat, k + m = aN ar q → ∀ u v, wp w g (mQ w g 0 0 (Pi (o2i (cdF ar p q)) (mput w am fi ar h0)) noX) 5 [some (.ref (am 0)), some (.int (nI p)), some (.int (nI q)), some (.int (nI (aN ar p ^ k))), some (.int (nI k)), u, v] [] (mput w am fi ar h0) 0 0 := by
    intro m
    induction m with
    | zero =>
      intro k hk u v
      have hk : k = aN ar q := by omega
      subst hk
      refine r_iload_4 (pc := 5) C dX2_codeOf_5 ?_
      refine r_aload_0 (pc := 7) C dX2_codeOf_7 ?_
      refine r_mg29 (pc := 8) C hI dX2_codeOf_8 ?_
      refine r_iload_2 (pc := 11) C dX2_codeOf_11 ?_
      refine r_mniald (pc := 12) C hI (by decide) (by decide) rfl (by simp only [mlen]; omega) (by decide) dX2_codeOf_12 ?_
      rw [qe2]
      refine r_icge (pc := 13) (tgt := 31) C dX2_codeOf_13 (by decide) (fun c_13 => ?_) (fun c_13 => ?_)
      · refine r_iconst (pc := 31) (v := 0) C dX2_codeOf_31 (by decide) ?_
        refine r_istore_4 (pc := 32) C dX2_codeOf_32 ?_
        exact L _ 0 (by omega) rfl _ _
      · exact absurd (nI_le (Nat.le_refl _) (by omega)) c_13 --halt
    | succ m ih =>
      intro k hk u v
      refine r_iload_4 (pc := 5) C dX2_codeOf_5 ?_
      refine r_aload_0 (pc := 7) C dX2_codeOf_7 ?_
      refine r_mg29 (pc := 8) C hI dX2_codeOf_8 ?_
      refine r_iload_2 (pc := 11) C dX2_codeOf_11 ?_
      refine r_mniald (pc := 12) C hI (by decide) (by decide) rfl (by simp only [mlen]; omega) (by decide) dX2_codeOf_12 ?_
      rw [qe2]
      refine r_icge (pc := 13) (tgt := 31) C dX2_codeOf_13 (by decide) (fun c_13 => ?_) (fun c_13 => ?_)
      · exact absurd c_13 (nI_ge (by omega) (by omega)) --halt
      · refine r_iload_3 (pc := 16) C dX2_codeOf_16 ?_
        refine r_aload_0 (pc := 17) C dX2_codeOf_17 ?_
        refine r_mg29 (pc := 18) C hI dX2_codeOf_18 ?_
        refine r_iload_1 (pc := 21) C dX2_codeOf_21 ?_
        refine r_mniald (pc := 22) C hI (by decide) (by decide) rfl (by simp only [mlen]; omega) (by decide) dX2_codeOf_22 ?_
        rw [pe2]
        refine r_imul (pc := 23) C dX2_codeOf_23 ?_
        rw [pk_mul, ← Nat.pow_succ]
        refine r_istore_3 (pc := 24) C dX2_codeOf_24 ?_
        refine r_iinc_4 (pc := 25) C dX2_codeOf_25 (nI_1 k) ?_
        refine r_goto (pc := 28) (tgt := 5) C dX2_codeOf_28 (by decide) ?_
        exact ih (k + 1) (by omega) u v
  refine r_iconst (pc := 0) (v := 1) C dX2_codeOf_0 (by decide) ?_
  refine r_istore_3 (pc := 1) C dX2_codeOf_1 ?_
  refine r_iconst (pc := 2) (v := 0) C dX2_codeOf_2 (by decide) ?_
  refine r_istore_4 (pc := 3) C dX2_codeOf_3 ?_
  exact L1 (aN ar q) 0 (by omega) _ _
theorem c_X2_reduces (G : Good w) (d : Nat) (hd : 3 ≤ d) {p q : Int32} (hI : MI am) (M : MOK fi ar) : Con w yX2_reduces (ws_ yX2_reduces cX2_reduces 3 (some .int)) d 0 0 [.ref (am 0), .int p, .int q] (mput w am fi ar h0) (Pi (reV fi ar p q) (mput w am (fset fi 0 (reT fi p q)) ar h0)) noX := by
  refine Con.of G [some (.ref (am 0)), some (.int p), some (.int q)] (body := fun g C => ?_)
  have hT : reT fi p q < 2 ^ 31 := by unfold reT; split <;> decide
  refine r_aload_0 (pc := 0) C dX2_reduces_0 ?_
  refine r_aload_0 (pc := 1) C dX2_reduces_1 ?_
  refine r_iload_1 (pc := 2) C dX2_reduces_2 ?_
  refine r_callV (pc := 3) (nA := 1) C (c_X2_isProblem G (d - 1) (by omega) hI) (ha := (mput_at hI (j := 0) (by decide))) (hc := rfl) (h1 := q1757) (h2 := q1759) (h3 := qs47) (h4 := q61) (h5 := q1760)  (hd := dX2_reduces_3) (kk := kP ?_) (kx := kN)
  refine r_ifeqM (pc := 6) (tgt := 21) C 22 ?_ ?_ dX2_reduces_6 (by decide) (fun c_6 j_6 => ?_) (fun c_6 j_6 => ?_) ?_
  rotate_left 2
  · refine r_iconst (pc := 21) (v := 1) C dX2_reduces_21 (by decide) ?_
    exact j_6
  · refine r_aload_0 (pc := 9) C dX2_reduces_9 ?_
    refine r_iload_2 (pc := 10) C dX2_reduces_10 ?_
    refine r_callV (pc := 11) (nA := 1) C (c_X2_isProblem G (d - 1) (by omega) hI) (ha := (mput_at hI (j := 0) (by decide))) (hc := rfl) (h1 := q1757) (h2 := q1759) (h3 := qs47) (h4 := q61) (h5 := q1760)  (hd := dX2_reduces_11) (kk := kP ?_) (kx := kN)
    refine r_ifeqM (pc := 14) (tgt := 21) C 22 ?_ ?_ dX2_reduces_14 (by decide) (fun c_14 j_14 => ?_) (fun c_14 j_14 => ?_) ?_
    rotate_left 2
    · refine r_iconst (pc := 21) (v := 1) C dX2_reduces_21 (by decide) ?_
      exact j_14
    · refine r_iconst (pc := 17) (v := 0) C dX2_reduces_17 (by decide) ?_
      refine r_goto (pc := 18) (tgt := 22) C dX2_reduces_18 (by decide) ?_
      exact j_14
    exact j_6
  refine r_callV (pc := 22) (nA := 1) C (c_X2_goesWell G (d - 1) (p := reT fi p q) hI ?_) (ha := (mput_at hI (j := 0) (by decide))) (hc := rfl) (h1 := q1576) (h2 := q1578) (h3 := qs25) (h4 := q61) (h5 := q1579)  (hd := dX2_reduces_22) (kk := kP ?_) (kx := kN)
  · unfold reT; cases isPbB fi p <;> cases isPbB fi q <;> rfl
  refine r_ifeq (pc := 25) (tgt := 37) C dX2_reduces_25 (by decide) (fun c_25 => ?_) (fun c_25 => ?_)
  · refine r_iconst (pc := 37) (v := 0) C dX2_reduces_37 (by decide) ?_
    refine r_iret (pc := 38) C dX2_reduces_38 ?_
    refine ⟨?_, rfl⟩
    first
    | (have e0 := gw_f c_25; unfold reV; rw [if_neg e0])
    | (unfold reV; rw [if_pos e0, nI_clamp (by omega), nI_clamp (by omega)])
  · have e0 := gw_t c_25 hT
    have e1 : isPbB fi p = true ∧ isPbB fi q = true := by
      have e0 := e0
      unfold reT at e0
      cases h2 : isPbB fi p <;> cases h3 : isPbB fi q <;> simp [h2, h3] at e0 ⊢
    have h6 : fi 27 ≤ 6 := M.2.2.2.2.1
    obtain ⟨pn, hpn, rfl⟩ := isPbB_nI h6 e1.1
    obtain ⟨qn, hqn, rfl⟩ := isPbB_nI h6 e1.2
    refine r_aload_0 (pc := 28) C dX2_reduces_28 ?_
    refine r_iload_1 (pc := 29) C dX2_reduces_29 ?_
    refine r_iload_2 (pc := 30) C dX2_reduces_30 ?_
    refine r_callV (pc := 31) (nA := 2) C (c_X2_codeOf G (d - 1) (by omega) hI (MOK_0 M) hpn hqn) (ha := (mput_at hI (j := 0) (by decide))) (hc := rfl) (h1 := q1765) (h2 := q1767) (h3 := qs48) (h4 := q61) (h5 := q1768)  (hd := dX2_reduces_31) (kk := kP ?_) (kx := kN)
    refine r_goto (pc := 34) (tgt := 38) C dX2_reduces_34 (by decide) ?_
    refine r_iret (pc := 38) C dX2_reduces_38 ?_
    refine ⟨?_, rfl⟩
    first
    | (have e0 := gw_f c_25; unfold reV; rw [if_neg e0])
    | (unfold reV; rw [if_pos e0, nI_clamp (by omega), nI_clamp (by omega)])
theorem c_X2_reducesAnew (G : Good w) (d : Nat) (hd : 3 ≤ d) {p q : Int32} (hI : MI am) (M : MOK fi ar) : Con w yX2_reducesAnew (ws_ yX2_reducesAnew cX2_reducesAnew 3 (some .int)) d 0 0 [.ref (am 0), .int p, .int q] (mput w am fi ar h0) (Pi (reV fi ar p q) (mput w am (fset fi 0 (reT fi p q)) ar h0)) noX := by
  refine Con.of G [some (.ref (am 0)), some (.int p), some (.int q)] (body := fun g C => ?_)
  have hT : reT fi p q < 2 ^ 31 := by unfold reT; split <;> decide
  refine r_aload_0 (pc := 0) C dX2_reducesAnew_0 ?_
  refine r_aload_0 (pc := 1) C dX2_reducesAnew_1 ?_
  refine r_iload_1 (pc := 2) C dX2_reducesAnew_2 ?_
  refine r_callV (pc := 3) (nA := 1) C (c_X2_isProblem G (d - 1) (by omega) hI) (ha := (mput_at hI (j := 0) (by decide))) (hc := rfl) (h1 := q1757) (h2 := q1759) (h3 := qs47) (h4 := q61) (h5 := q1760)  (hd := dX2_reducesAnew_3) (kk := kP ?_) (kx := kN)
  refine r_ifeqM (pc := 6) (tgt := 21) C 22 ?_ ?_ dX2_reducesAnew_6 (by decide) (fun c_6 j_6 => ?_) (fun c_6 j_6 => ?_) ?_
  rotate_left 2
  · refine r_iconst (pc := 21) (v := 1) C dX2_reducesAnew_21 (by decide) ?_
    exact j_6
  · refine r_aload_0 (pc := 9) C dX2_reducesAnew_9 ?_
    refine r_iload_2 (pc := 10) C dX2_reducesAnew_10 ?_
    refine r_callV (pc := 11) (nA := 1) C (c_X2_isProblem G (d - 1) (by omega) hI) (ha := (mput_at hI (j := 0) (by decide))) (hc := rfl) (h1 := q1757) (h2 := q1759) (h3 := qs47) (h4 := q61) (h5 := q1760)  (hd := dX2_reducesAnew_11) (kk := kP ?_) (kx := kN)
    refine r_ifeqM (pc := 14) (tgt := 21) C 22 ?_ ?_ dX2_reducesAnew_14 (by decide) (fun c_14 j_14 => ?_) (fun c_14 j_14 => ?_) ?_
    rotate_left 2
    · refine r_iconst (pc := 21) (v := 1) C dX2_reducesAnew_21 (by decide) ?_
      exact j_14
    · refine r_iconst (pc := 17) (v := 0) C dX2_reducesAnew_17 (by decide) ?_
      refine r_goto (pc := 18) (tgt := 22) C dX2_reducesAnew_18 (by decide) ?_
      exact j_14
    exact j_6
  refine r_callV (pc := 22) (nA := 1) C (c_X2_goesWell G (d - 1) (p := reT fi p q) hI ?_) (ha := (mput_at hI (j := 0) (by decide))) (hc := rfl) (h1 := q1576) (h2 := q1578) (h3 := qs25) (h4 := q61) (h5 := q1579)  (hd := dX2_reducesAnew_22) (kk := kP ?_) (kx := kN)
  · unfold reT; cases isPbB fi p <;> cases isPbB fi q <;> rfl
  refine r_ifeq (pc := 25) (tgt := 37) C dX2_reducesAnew_25 (by decide) (fun c_25 => ?_) (fun c_25 => ?_)
  · refine r_iconst (pc := 37) (v := 0) C dX2_reducesAnew_37 (by decide) ?_
    refine r_iret (pc := 38) C dX2_reducesAnew_38 ?_
    refine ⟨?_, rfl⟩
    first
    | (have e0 := gw_f c_25; unfold reV; rw [if_neg e0])
    | (unfold reV; rw [if_pos e0, nI_clamp (by omega), nI_clamp (by omega)])
  · have e0 := gw_t c_25 hT
    have e1 : isPbB fi p = true ∧ isPbB fi q = true := by
      have e0 := e0
      unfold reT at e0
      cases h2 : isPbB fi p <;> cases h3 : isPbB fi q <;> simp [h2, h3] at e0 ⊢
    have h6 : fi 27 ≤ 6 := M.2.2.2.2.1
    obtain ⟨pn, hpn, rfl⟩ := isPbB_nI h6 e1.1
    obtain ⟨qn, hqn, rfl⟩ := isPbB_nI h6 e1.2
    refine r_aload_0 (pc := 28) C dX2_reducesAnew_28 ?_
    refine r_iload_1 (pc := 29) C dX2_reducesAnew_29 ?_
    refine r_iload_2 (pc := 30) C dX2_reducesAnew_30 ?_
    refine r_callV (pc := 31) (nA := 2) C (c_X2_codeOf G (d - 1) (by omega) hI (MOK_0 M) hpn hqn) (ha := (mput_at hI (j := 0) (by decide))) (hc := rfl) (h1 := q1765) (h2 := q1767) (h3 := qs48) (h4 := q61) (h5 := q1768)  (hd := dX2_reducesAnew_31) (kk := kP ?_) (kx := kN)
    refine r_goto (pc := 34) (tgt := 38) C dX2_reducesAnew_34 (by decide) ?_
    refine r_iret (pc := 38) C dX2_reducesAnew_38 ?_
    refine ⟨?_, rfl⟩
    first
    | (have e0 := gw_f c_25; unfold reV; rw [if_neg e0])
    | (unfold reV; rw [if_pos e0, nI_clamp (by omega), nI_clamp (by omega)])
theorem c_X2_ofProblem (G : Good w) (d : Nat) (hd : 3 ≤ d) {p t : Int32} (hI : MI am) (M : MOK fi ar) : Con w yX2_ofProblem (ws_ yX2_ofProblem cX2_ofProblem 4 (some .int)) d 0 0 [.ref (am 0), .int p, .int t] (mput w am fi ar h0) (Pi (obV fi ar p t) (mput w am (fset fi 0 (obT fi p t)) ar h0)) noX := by
  refine Con.of G [some (.ref (am 0)), some (.int p), some (.int t), none] (body := fun g C => ?_)
  have hT : obT fi p t < 2 ^ 31 := by unfold obT; split <;> (try split) <;> decide
  refine r_aload_0 (pc := 0) C dX2_ofProblem_0 ?_
  refine r_iload_1 (pc := 1) C dX2_ofProblem_1 ?_
  refine r_callV (pc := 2) (nA := 1) C (c_X2_isProblem G (d - 1) (by omega) hI) (ha := (mput_at hI (j := 0) (by decide))) (hc := rfl) (h1 := q1757) (h2 := q1759) (h3 := qs47) (h4 := q61) (h5 := q1760)  (hd := dX2_ofProblem_2) (kk := kP ?_) (kx := kN)
  refine r_istore_3 (pc := 5) C dX2_ofProblem_5 ?_
  refine r_aload_0 (pc := 6) C dX2_ofProblem_6 ?_
  refine r_iload_3 (pc := 7) C dX2_ofProblem_7 ?_
  refine r_ifneM (pc := 8) (tgt := 15) C 29 ?_ ?_ dX2_ofProblem_8 (by decide) (fun c_8 j_8 => ?_) (fun c_8 j_8 => ?_) ?_
  rotate_left 2
  · refine r_iload_2 (pc := 15) C dX2_ofProblem_15 ?_
    refine r_iconst (pc := 16) (v := 0) C dX2_ofProblem_16 (by decide) ?_
    refine r_iconst (pc := 17) (v := 2) C dX2_ofProblem_17 (by decide) ?_
    refine r_callS (pc := 18) (nA := 3) C (c_X2_in G (d - 1)) (h1 := q1570) (h2 := q1571) (h3 := q61) (h4 := q1572)  (hd := dX2_ofProblem_18) (kk := kP ?_) (kx := kN)
    refine r_ifeqM (pc := 21) (tgt := 28) C 29 ?_ ?_ dX2_ofProblem_21 (by decide) (fun c_21 j_21 => ?_) (fun c_21 j_21 => ?_) ?_
    rotate_left 2
    · refine r_iconst (pc := 28) (v := 2) C dX2_ofProblem_28 (by decide) ?_
      exact j_21
    · refine r_iconst (pc := 24) (v := 0) C dX2_ofProblem_24 (by decide) ?_
      refine r_goto (pc := 25) (tgt := 29) C dX2_ofProblem_25 (by decide) ?_
      exact j_21
    exact j_8
  · refine r_iconst (pc := 11) (v := 1) C dX2_ofProblem_11 (by decide) ?_
    refine r_goto (pc := 12) (tgt := 29) C dX2_ofProblem_12 (by decide) ?_
    exact j_8
  refine r_callV (pc := 29) (nA := 1) C (c_X2_goesWell G (d - 1) (p := obT fi p t) hI ?_) (ha := (mput_at hI (j := 0) (by decide))) (hc := rfl) (h1 := q1576) (h2 := q1578) (h3 := qs25) (h4 := q61) (h5 := q1579)  (hd := dX2_ofProblem_29) (kk := kP ?_) (kx := kN)
  · unfold obT; cases isPbB fi p <;> cases inB t 0 2 <;> rfl
  refine r_ifne (pc := 32) (tgt := 37) C dX2_ofProblem_32 (by decide) (fun c_32 => ?_) (fun c_32 => ?_)
  · have e0 := gw_t c_32 hT
    have e1 : isPbB fi p = true := by
      have e0 := e0
      unfold obT at e0
      cases h2 : isPbB fi p <;> simp [h2] at e0 ⊢
    have h6 : fi 27 ≤ 6 := M.2.2.2.2.1
    obtain ⟨pn, hpn, rfl⟩ := isPbB_nI h6 e1
    refine r_iload_2 (pc := 37) C dX2_ofProblem_37 ?_
    refine r_ifneM (pc := 38) (tgt := 50) C 70 ?_ ?_ dX2_ofProblem_38 (by decide) (fun c_38 j_38 => ?_) (fun c_38 j_38 => ?_) ?_
    rotate_left 2
    · refine r_iload_2 (pc := 50) C dX2_ofProblem_50 ?_
      refine r_iconst (pc := 51) (v := 1) C dX2_ofProblem_51 (by decide) ?_
      refine r_icneM (pc := 52) (tgt := 64) C 70 ?_ ?_ dX2_ofProblem_52 (by decide) (fun c_52 j_52 => ?_) (fun c_52 j_52 => ?_) ?_
      rotate_left 2
      · refine r_aload_0 (pc := 64) C dX2_ofProblem_64 ?_
        refine r_mg30 (pc := 65) C hI dX2_ofProblem_65 ?_
        refine r_iload_1 (pc := 68) C dX2_ofProblem_68 ?_
        refine r_mniald (pc := 69) C hI (by decide) (by decide) rfl (by simp only [mlen]; omega) (by decide) dX2_ofProblem_69 ?_
        exact j_52
      · refine r_aload_0 (pc := 55) C dX2_ofProblem_55 ?_
        refine r_mg29 (pc := 56) C hI dX2_ofProblem_56 ?_
        refine r_iload_1 (pc := 59) C dX2_ofProblem_59 ?_
        refine r_mniald (pc := 60) C hI (by decide) (by decide) rfl (by simp only [mlen]; omega) (by decide) dX2_ofProblem_60 ?_
        refine r_goto (pc := 61) (tgt := 70) C dX2_ofProblem_61 (by decide) ?_
        exact j_52
      exact j_38
    · refine r_aload_0 (pc := 41) C dX2_ofProblem_41 ?_
      refine r_mg28 (pc := 42) C hI dX2_ofProblem_42 ?_
      refine r_iload_1 (pc := 45) C dX2_ofProblem_45 ?_
      refine r_mniald (pc := 46) C hI (by decide) (by decide) rfl (by simp only [mlen]; omega) (by decide) dX2_ofProblem_46 ?_
      refine r_goto (pc := 47) (tgt := 70) C dX2_ofProblem_47 (by decide) ?_
      exact j_38
    refine r_iret (pc := 70) C dX2_ofProblem_70 ?_
    refine ⟨?_, rfl⟩
    unfold obV
    rw [if_pos e0, nI_clamp (by omega)]
  · refine r_iconst (pc := 35) (v := 0) C dX2_ofProblem_35 (by decide) ?_
    refine r_iret (pc := 36) C dX2_ofProblem_36 ?_
    have e0 := gw_f c_32
    exact ⟨by unfold obV; rw [if_neg e0], rfl⟩
theorem c_X2_problem (G : Good w) (d : Nat) (hd : 3 ≤ d) {a b c : Int32} (hI : MI am) (M : MOK fi ar) : Con w yX2_problem (ws_ yX2_problem cX2_problem 5 (some .int)) d 0 0 [.ref (am 0), .int a, .int b, .int c] (mput w am fi ar h0) (Pi (if pbT fi a b c = 0 then nI (fi 27) else 0) (mput w am (if pbT fi a b c = 0 then fset (fset fi 0 (pbT fi a b c)) 27 (fi 27 + 1) else fset fi 0 (pbT fi a b c)) (if pbT fi a b c = 0 then pbAr fi ar a b c else ar) h0)) noX := by
  refine Con.of G [some (.ref (am 0)), some (.int a), some (.int b), some (.int c), none] (body := fun g C => ?_)
  have hT : pbT fi a b c < 2 ^ 31 := by unfold pbT; split <;> (try split) <;> decide
  have h6 : fi 27 ≤ 6 := M.2.2.2.2.1
  have K : wp w g (mQ w g 0 0 (Pi (if pbT fi a b c = 0 then nI (fi 27) else 0) (mput w am (if pbT fi a b c = 0 then fset (fset fi 0 (pbT fi a b c)) 27 (fi 27 + 1) else fset fi 0 (pbT fi a b c)) (if pbT fi a b c = 0 then pbAr fi ar a b c else ar) h0)) noX) 32 [some (.ref (am 0)), some (.int a), some (.int b), some (.int c), none] [.int (bI (pbB a b c))] (mput w am fi ar h0) 0 0 := by
    refine r_istore_4 (pc := 32) C dX2_problem_32 ?_
    refine r_aload_0 (pc := 34) C dX2_problem_34 ?_
    refine r_iload_4 (pc := 35) C dX2_problem_35 ?_
    refine r_ifneM (pc := 37) (tgt := 44) C 58 ?_ ?_ dX2_problem_37 (by decide) (fun c_37 j_37 => ?_) (fun c_37 j_37 => ?_) ?_
    rotate_left 2
    · refine r_aload_0 (pc := 44) C dX2_problem_44 ?_
      refine r_mg27 (pc := 45) C hI dX2_problem_45 ?_
      refine r_bipush (pc := 48) (v := 6) C dX2_problem_48 (by decide) ?_
      refine r_icneM (pc := 50) (tgt := 57) C 58 ?_ ?_ dX2_problem_50 (by decide) (fun c_50 j_50 => ?_) (fun c_50 j_50 => ?_) ?_
      rotate_left 2
      · refine r_iconst (pc := 57) (v := 0) C dX2_problem_57 (by decide) ?_
        exact j_50
      · refine r_iconst (pc := 53) (v := 2) C dX2_problem_53 (by decide) ?_
        refine r_goto (pc := 54) (tgt := 58) C dX2_problem_54 (by decide) ?_
        exact j_50
      exact j_37
    · refine r_iconst (pc := 40) (v := 1) C dX2_problem_40 (by decide) ?_
      refine r_goto (pc := 41) (tgt := 58) C dX2_problem_41 (by decide) ?_
      exact j_37
    refine r_callV (pc := 58) (nA := 1) C (c_X2_goesWell G (d - 1) (p := pbT fi a b c) hI ?_) (ha := (mput_at hI (j := 0) (by decide))) (hc := rfl) (h1 := q1576) (h2 := q1578) (h3 := qs25) (h4 := q61) (h5 := q1579)  (hd := dX2_problem_58) (kk := kP ?_) (kx := kN)
    · have e6 : (nI (fi 27) = 6) ↔ fi 27 = 6 := nI_eq (b := 6) (by omega) (by decide); unfold pbT; cases pbB a b c <;> by_cases e : fi 27 = 6 <;> simp [e, e6, bI] <;> rfl
    refine r_ifeq (pc := 61) (tgt := 74) C dX2_problem_61 (by decide) (fun c_61 => ?_) (fun c_61 => ?_)
    · refine r_iconst (pc := 74) (v := 0) C dX2_problem_74 (by decide) ?_
      refine r_iret (pc := 75) C dX2_problem_75 ?_
      first
      | (have e0 := gw_f c_61; rw [if_neg e0, if_neg e0, if_neg e0]; exact ⟨rfl, rfl⟩)
      | (rw [if_pos e0, if_pos e0, if_pos e0]; exact ⟨rfl, rfl⟩)
    · have e0 := gw_t c_61 hT
      have h27 : fi 27 < 6 := by
        have e0 := e0
        unfold pbT at e0
        cases h2 : pbB a b c <;> by_cases e : fi 27 = 6 <;> simp [h2, e] at e0
        omega
      refine r_aload_0 (pc := 64) C dX2_problem_64 ?_
      refine r_iload_1 (pc := 65) C dX2_problem_65 ?_
      refine r_iload_2 (pc := 66) C dX2_problem_66 ?_
      refine r_iload_3 (pc := 67) C dX2_problem_67 ?_
      refine r_callV (pc := 68) (nA := 3) C (c_X2_addProblem G (d - 1) hI h27) (ha := (mput_at hI (j := 0) (by decide))) (hc := rfl) (h1 := q1749) (h2 := q1751) (h3 := qs46) (h4 := q61) (h5 := q1752)  (hd := dX2_problem_68) (kk := kP ?_) (kx := kN)
      refine r_goto (pc := 71) (tgt := 75) C dX2_problem_71 (by decide) ?_
      refine r_iret (pc := 75) C dX2_problem_75 ?_
      first
      | (have e0 := gw_f c_61; rw [if_neg e0, if_neg e0, if_neg e0]; exact ⟨rfl, rfl⟩)
      | (rw [if_pos e0, if_pos e0, if_pos e0]; exact ⟨rfl, rfl⟩)
  have K2 : ∀ x : Int32, x = bI (pbB a b c) → wp w g (mQ w g 0 0 (Pi (if pbT fi a b c = 0 then nI (fi 27) else 0) (mput w am (if pbT fi a b c = 0 then fset (fset fi 0 (pbT fi a b c)) 27 (fi 27 + 1) else fset fi 0 (pbT fi a b c)) (if pbT fi a b c = 0 then pbAr fi ar a b c else ar) h0)) noX) 32 [some (.ref (am 0)), some (.int a), some (.int b), some (.int c), none] [.int x] (mput w am fi ar h0) 0 0 := by
    rintro _ rfl
    exact K
  refine r_iload_1 (pc := 0) C dX2_problem_0 ?_
  refine r_iconst (pc := 1) (v := 1) C dX2_problem_1 (by decide) ?_
  refine r_iconst (pc := 2) (v := 4) C dX2_problem_2 (by decide) ?_
  refine r_callS (pc := 3) (nA := 3) C (c_X2_in G (d - 1)) (h1 := q1570) (h2 := q1571) (h3 := q61) (h4 := q1572)  (hd := dX2_problem_3) (kk := kP ?_) (kx := kN)
  refine r_ifeq (pc := 6) (tgt := 31) C dX2_problem_6 (by decide) (fun c_6 => ?_) (fun c_6 => ?_)
  · refine r_iconst (pc := 31) (v := 0) C dX2_problem_31 (by decide) ?_
    refine K2 _ ?_
    unfold pbB
    first
    |   rw [bI_0.mp c_6]; rfl
    |   rw [bI_0.mp c_15]; simp [bI]
    |   rw [nI_clamp (by omega), nI_clamp (by omega), bI_0.mp c_24]; simp [bI]
    |   rw [nI_clamp (by omega), nI_clamp (by omega), bI_ne.mp c_24, bI_ne.mp c_6, bI_ne.mp c_15]; rfl
  · refine r_iload_2 (pc := 9) C dX2_problem_9 ?_
    refine r_iconst (pc := 10) (v := 1) C dX2_problem_10 (by decide) ?_
    refine r_iconst (pc := 11) (v := 4) C dX2_problem_11 (by decide) ?_
    refine r_callS (pc := 12) (nA := 3) C (c_X2_in G (d - 1)) (h1 := q1570) (h2 := q1571) (h3 := q61) (h4 := q1572)  (hd := dX2_problem_12) (kk := kP ?_) (kx := kN)
    refine r_ifeq (pc := 15) (tgt := 31) C dX2_problem_15 (by decide) (fun c_15 => ?_) (fun c_15 => ?_)
    · refine r_iconst (pc := 31) (v := 0) C dX2_problem_31 (by decide) ?_
      refine K2 _ ?_
      unfold pbB
      first
      |   rw [bI_0.mp c_6]; rfl
      |   rw [bI_0.mp c_15]; simp [bI]
      |   rw [nI_clamp (by omega), nI_clamp (by omega), bI_0.mp c_24]; simp [bI]
      |   rw [nI_clamp (by omega), nI_clamp (by omega), bI_ne.mp c_24, bI_ne.mp c_6, bI_ne.mp c_15]; rfl
    · obtain ⟨Mn, hM1, hM4, eM⟩ := inB14 (bI_ne.mp c_6)
      obtain ⟨An, hA1, hA4, eA⟩ := inB14 (bI_ne.mp c_15)
      subst eM
      subst eA
      refine r_iload_3 (pc := 18) C dX2_problem_18 ?_
      refine r_iload_1 (pc := 19) C dX2_problem_19 ?_
      refine r_iload_2 (pc := 20) C dX2_problem_20 ?_
      refine r_callS (pc := 21) (nA := 3) C (c_X2_areAnswers G (d - 1) (by omega) hM4 hA4) (h1 := q1743) (h2 := q1744) (h3 := q61) (h4 := q1745)  (hd := dX2_problem_21) (kk := kP ?_) (kx := kN)
      refine r_ifeq (pc := 24) (tgt := 31) C dX2_problem_24 (by decide) (fun c_24 => ?_) (fun c_24 => ?_)
      · refine r_iconst (pc := 31) (v := 0) C dX2_problem_31 (by decide) ?_
        refine K2 _ ?_
        unfold pbB
        first
        |   rw [bI_0.mp c_6]; rfl
        |   rw [bI_0.mp c_15]; simp [bI]
        |   rw [nI_clamp (by omega), nI_clamp (by omega), bI_0.mp c_24]; simp [bI]
        |   rw [nI_clamp (by omega), nI_clamp (by omega), bI_ne.mp c_24, bI_ne.mp c_6, bI_ne.mp c_15]; rfl
      · refine r_iconst (pc := 27) (v := 1) C dX2_problem_27 (by decide) ?_
        refine r_goto (pc := 28) (tgt := 32) C dX2_problem_28 (by decide) ?_
        refine K2 _ ?_
        unfold pbB
        first
        |   rw [bI_0.mp c_6]; rfl
        |   rw [bI_0.mp c_15]; simp [bI]
        |   rw [nI_clamp (by omega), nI_clamp (by omega), bI_0.mp c_24]; simp [bI]
        |   rw [nI_clamp (by omega), nI_clamp (by omega), bI_ne.mp c_24, bI_ne.mp c_6, bI_ne.mp c_15]; rfl
end M5
