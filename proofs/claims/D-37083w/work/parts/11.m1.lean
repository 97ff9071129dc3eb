/-! 11: ReversalCourtModel: the page's small methods -/
set_option maxRecDepth 100000
section M1
variable {w : WD}
theorem c_X2_in (G : Good w) (d : Nat) {a b c : Int32} {h : AH} : Con w yX2_in (ws_ yX2_in cX2_in 3 (some .boolean)) d 0 0 [.int a, .int b, .int c] h (Pi (bI (inB a b c)) h) noX := by
  refine Con.of G [some (.int a), some (.int b), some (.int c)] (body := fun g C => ?_)
  refine r_iload_0 (pc := 0) C dX2_in_0 ?_
  refine r_iload_1 (pc := 1) C dX2_in_1 ?_
  refine r_icltM (pc := 2) (tgt := 14) C 15 ?_ ?_ dX2_in_2 (by decide) (fun c_2 j_2 => ?_) (fun c_2 j_2 => ?_) ?_
  rotate_left 2
  · refine r_iconst (pc := 14) (v := 0) C dX2_in_14 (by decide) ?_
    exact j_2
  · refine r_iload_0 (pc := 5) C dX2_in_5 ?_
    refine r_iload_2 (pc := 6) C dX2_in_6 ?_
    refine r_icgtM (pc := 7) (tgt := 14) C 15 ?_ ?_ dX2_in_7 (by decide) (fun c_7 j_7 => ?_) (fun c_7 j_7 => ?_) ?_
    rotate_left 2
    · refine r_iconst (pc := 14) (v := 0) C dX2_in_14 (by decide) ?_
      exact j_7
    · refine r_iconst (pc := 10) (v := 1) C dX2_in_10 (by decide) ?_
      refine r_goto (pc := 11) (tgt := 15) C dX2_in_11 (by decide) ?_
      exact j_7
    exact j_2
  refine r_zret (pc := 15) C dX2_in_15 (by (repeat' split) <;> rfl) ?_
  exact ⟨by simp only [inB, bI, ← Int32.not_lt]; by_cases h1 : a < b <;> by_cases h2 : c < a <;> simp [h1, h2], rfl⟩
theorem c_X2_variableOf (G : Good w) (d : Nat) (hd : 1 ≤ d) {c : Int32} {h : AH} : Con w yX2_variableOf (ws_ yX2_variableOf cX2_variableOf 1 (some .int)) d 0 0 [.int c] h (Pi (varOf c) h) noX := by
  refine Con.of G [some (.int c)] (body := fun g C => ?_)
  refine r_iload_0 (pc := 0) C dX2_variableOf_0 ?_
  refine r_bipush (pc := 1) (v := 120) C dX2_variableOf_1 (by decide) ?_
  refine r_bipush (pc := 3) (v := 122) C dX2_variableOf_3 (by decide) ?_
  refine r_callS (pc := 5) (nA := 3) C (c_X2_in G (d - 1)) (h1 := q1570) (h2 := q1571) (h3 := q61) (h4 := q1572)  (hd := dX2_variableOf_5) (kk := kP ?_) (kx := kN)
  refine r_ifeqM (pc := 8) (tgt := 18) C 19 ?_ ?_ dX2_variableOf_8 (by decide) (fun c_8 j_8 => ?_) (fun c_8 j_8 => ?_) ?_
  rotate_left 2
  · refine r_iconst (pc := 18) (v := -1) C dX2_variableOf_18 (by decide) ?_
    exact j_8
  · refine r_iload_0 (pc := 11) C dX2_variableOf_11 ?_
    refine r_bipush (pc := 12) (v := 120) C dX2_variableOf_12 (by decide) ?_
    refine r_isub (pc := 14) C dX2_variableOf_14 ?_
    refine r_goto (pc := 15) (tgt := 19) C dX2_variableOf_15 (by decide) ?_
    exact j_8
  refine r_iret (pc := 19) C dX2_variableOf_19 ?_
  exact ⟨by cases e : inB c 120 122 <;> simp [varOf, bI_0, e], rfl⟩
theorem c_X2_goesWell (G : Good w) (d : Nat) {x : Int32} {p : Nat} {am fi : Nat → Nat} {ar : Nat → Nat → Int32} {h0 : AH} (hI : MI am) (hx : x = nI p) : Con w yX2_goesWell (ws_ yX2_goesWell cX2_goesWell 2 (some .boolean)) d 0 0 [.ref (am 0), .int x] (mput w am fi ar h0) (Pi (bI (decide (nI p = 0))) (mput w am (fset fi 0 p) ar h0)) noX := by
  subst hx
  refine Con.of G [some (.ref (am 0)), some (.int (nI p))] (body := fun g C => ?_)
  refine r_aload_0 (pc := 0) C dX2_goesWell_0 ?_
  refine r_iload_1 (pc := 1) C dX2_goesWell_1 ?_
  refine r_mp0 (pc := 2) (v := _) C hI rfl dX2_goesWell_2 ?_
  refine r_iload_1 (pc := 5) C dX2_goesWell_5 ?_
  refine r_ifneM (pc := 6) (tgt := 13) C 14 ?_ ?_ dX2_goesWell_6 (by decide) (fun c_6 j_6 => ?_) (fun c_6 j_6 => ?_) ?_
  rotate_left 2
  · refine r_iconst (pc := 13) (v := 0) C dX2_goesWell_13 (by decide) ?_
    exact j_6
  · refine r_iconst (pc := 9) (v := 1) C dX2_goesWell_9 (by decide) ?_
    refine r_goto (pc := 10) (tgt := 14) C dX2_goesWell_10 (by decide) ?_
    exact j_6
  refine r_zret (pc := 14) C dX2_goesWell_14 (by rw [bI_dec]; exact nar_bI _) ?_
  exact ⟨by rw [bI_dec], rfl⟩
end M1
