/-! 12: ReversalCourtModel: small numbers, sets, rules -/
set_option maxRecDepth 100000
section M2
variable {w : WD}
theorem c_X2_lesser (G : Good w) (d : Nat) {a b : Int32} {h : AH} : Con w yX2_lesser (ws_ yX2_lesser cX2_lesser 3 (some .int)) d 0 0 [.int a, .int b] h (Pi (lesserF a b) h) noX := by
  refine Con.of G [some (.int a), some (.int b), none] (body := fun g C => ?_)
  refine r_iload_0 (pc := 0) C dX2_lesser_0 ?_
  refine r_iconst (pc := 1) (v := 1) C dX2_lesser_1 (by decide) ?_
  refine r_icgeM (pc := 2) (tgt := 9) C 10 ?_ ?_ dX2_lesser_2 (by decide) (fun c_2 j_2 => ?_) (fun c_2 j_2 => ?_) ?_
  rotate_left 2
  · refine r_iload_0 (pc := 9) C dX2_lesser_9 ?_
    exact j_2
  · refine r_iconst (pc := 5) (v := 1) C dX2_lesser_5 (by decide) ?_
    refine r_goto (pc := 6) (tgt := 10) C dX2_lesser_6 (by decide) ?_
    exact j_2
  refine r_istore_2 (pc := 10) C dX2_lesser_10 ?_
  refine r_iload_2 (pc := 11) C dX2_lesser_11 ?_
  refine r_iload_1 (pc := 12) C dX2_lesser_12 ?_
  refine r_iconst (pc := 13) (v := 1) C dX2_lesser_13 (by decide) ?_
  refine r_iadd (pc := 14) C dX2_lesser_14 ?_
  refine r_icgeM (pc := 15) (tgt := 22) C 25 ?_ ?_ dX2_lesser_15 (by decide) (fun c_15 j_15 => ?_) (fun c_15 j_15 => ?_) ?_
  rotate_left 2
  · refine r_iload_1 (pc := 22) C dX2_lesser_22 ?_
    refine r_iconst (pc := 23) (v := 1) C dX2_lesser_23 (by decide) ?_
    refine r_iadd (pc := 24) C dX2_lesser_24 ?_
    exact j_15
  · refine r_iload_2 (pc := 18) C dX2_lesser_18 ?_
    refine r_goto (pc := 19) (tgt := 25) C dX2_lesser_19 (by decide) ?_
    exact j_15
  refine r_iret (pc := 25) C dX2_lesser_25 ?_
  exact ⟨rfl, rfl⟩
theorem c_X2_power (G : Good w) (d : Nat) {a : Int32} {h : AH} : Con w yX2_power (ws_ yX2_power cX2_power 1 (some .int)) d 0 0 [.int a] h (Pi (powerF a) h) noX := by
  refine Con.of G [some (.int a)] (body := fun g C => ?_)
  refine r_iload_0 (pc := 0) C dX2_power_0 ?_
  refine r_ifneM (pc := 1) (tgt := 8) C 19 ?_ ?_ dX2_power_1 (by decide) (fun c_1 j_1 => ?_) (fun c_1 j_1 => ?_) ?_
  rotate_left 2
  · refine r_iload_0 (pc := 8) C dX2_power_8 ?_
    refine r_iconst (pc := 9) (v := 1) C dX2_power_9 (by decide) ?_
    refine r_icneM (pc := 10) (tgt := 17) C 19 ?_ ?_ dX2_power_10 (by decide) (fun c_10 j_10 => ?_) (fun c_10 j_10 => ?_) ?_
    rotate_left 2
    · refine r_bipush (pc := 17) (v := 25) C dX2_power_17 (by decide) ?_
      exact j_10
    · refine r_iconst (pc := 13) (v := 5) C dX2_power_13 (by decide) ?_
      refine r_goto (pc := 14) (tgt := 19) C dX2_power_14 (by decide) ?_
      exact j_10
    exact j_1
  · refine r_iconst (pc := 4) (v := 1) C dX2_power_4 (by decide) ?_
    refine r_goto (pc := 5) (tgt := 19) C dX2_power_5 (by decide) ?_
    exact j_1
  refine r_iret (pc := 19) C dX2_power_19 ?_
  exact ⟨rfl, rfl⟩
theorem c_X2_numberAt (G : Good w) (d : Nat) (hd : 1 ≤ d) {a b : Int32} {h : AH} : Con w yX2_numberAt (ws_ yX2_numberAt cX2_numberAt 2 (some .int)) d 0 0 [.int a, .int b] h (Pi (numAt a b) h) noX := by
  refine Con.of G [some (.int a), some (.int b)] (body := fun g C => ?_)
  refine r_iload_0 (pc := 0) C dX2_numberAt_0 ?_
  refine r_iload_1 (pc := 1) C dX2_numberAt_1 ?_
  refine r_callS (pc := 2) (nA := 1) C (c_X2_power G (d - 1)) (h1 := q1654) (h2 := q1655) (h3 := q61) (h4 := q1656)  (hd := dX2_numberAt_2) (kk := kP ?_) (kx := kN)
  refine r_idiv (pc := 5) C dX2_numberAt_5 (powerF_ne _) ?_
  refine r_iconst (pc := 6) (v := 5) C dX2_numberAt_6 (by decide) ?_
  refine r_irem (pc := 7) C dX2_numberAt_7 (by decide) ?_
  refine r_iret (pc := 8) C dX2_numberAt_8 ?_
  exact ⟨rfl, rfl⟩
theorem c_X2_breaks (G : Good w) (d : Nat) {a b c : Int32} {h : AH} : Con w yX2_breaks (ws_ yX2_breaks cX2_breaks 3 (some .boolean)) d 0 0 [.int a, .int b, .int c] h (Pi (bI (adB a b c)) h) noX := by
  refine Con.of G [some (.int a), some (.int b), some (.int c)] (body := fun g C => ?_)
  refine r_iload_1 (pc := 0) C dX2_breaks_0 ?_
  refine r_iload_0 (pc := 1) C dX2_breaks_1 ?_
  refine r_iconst (pc := 2) (v := -1) C dX2_breaks_2 (by decide) ?_
  refine r_ixor (pc := 3) C dX2_breaks_3 ?_
  refine r_iand (pc := 4) C dX2_breaks_4 ?_
  refine r_ifneM (pc := 5) (tgt := 20) C 21 ?_ ?_ dX2_breaks_5 (by decide) (fun c_5 j_5 => ?_) (fun c_5 j_5 => ?_) ?_
  rotate_left 2
  · refine r_iconst (pc := 20) (v := 0) C dX2_breaks_20 (by decide) ?_
    exact j_5
  · refine r_iload_0 (pc := 8) C dX2_breaks_8 ?_
    refine r_iload_2 (pc := 9) C dX2_breaks_9 ?_
    refine r_ishr (pc := 10) C dX2_breaks_10 ?_
    refine r_iconst (pc := 11) (v := 1) C dX2_breaks_11 (by decide) ?_
    refine r_iand (pc := 12) C dX2_breaks_12 ?_
    refine r_ifneM (pc := 13) (tgt := 20) C 21 ?_ ?_ dX2_breaks_13 (by decide) (fun c_13 j_13 => ?_) (fun c_13 j_13 => ?_) ?_
    rotate_left 2
    · refine r_iconst (pc := 20) (v := 0) C dX2_breaks_20 (by decide) ?_
      exact j_13
    · refine r_iconst (pc := 16) (v := 1) C dX2_breaks_16 (by decide) ?_
      refine r_goto (pc := 17) (tgt := 21) C dX2_breaks_17 (by decide) ?_
      exact j_13
    exact j_5
  refine r_zret (pc := 21) C dX2_breaks_21 (by (repeat' split) <;> rfl) ?_
  exact ⟨by unfold adB; by_cases h1 : b &&& (a ^^^ (-1)) = 0 <;> by_cases h2 : (a >>> (c &&& 31)) &&& 1 = 0 <;> simp [h1, h2, bI], rfl⟩
theorem c_X2_isSolved (G : Good w) (d : Nat) {a b c : Int32} {h : AH} : Con w yX2_isSolved (ws_ yX2_isSolved cX2_isSolved 3 (some .boolean)) d 0 0 [.int a, .int b, .int c] h (Pi (bI (solB a b c)) h) noX := by
  refine Con.of G [some (.int a), some (.int b), some (.int c)] (body := fun g C => ?_)
  refine r_iload_0 (pc := 0) C dX2_isSolved_0 ?_
  refine r_iconst (pc := 1) (v := 4) C dX2_isSolved_1 (by decide) ?_
  refine r_iload_1 (pc := 2) C dX2_isSolved_2 ?_
  refine r_imul (pc := 3) C dX2_isSolved_3 ?_
  refine r_iload_2 (pc := 4) C dX2_isSolved_4 ?_
  refine r_iadd (pc := 5) C dX2_isSolved_5 ?_
  refine r_ishr (pc := 6) C dX2_isSolved_6 ?_
  refine r_iconst (pc := 7) (v := 1) C dX2_isSolved_7 (by decide) ?_
  refine r_iand (pc := 8) C dX2_isSolved_8 ?_
  refine r_iconst (pc := 9) (v := 1) C dX2_isSolved_9 (by decide) ?_
  refine r_icneM (pc := 10) (tgt := 17) C 18 ?_ ?_ dX2_isSolved_10 (by decide) (fun c_10 j_10 => ?_) (fun c_10 j_10 => ?_) ?_
  rotate_left 2
  · refine r_iconst (pc := 17) (v := 0) C dX2_isSolved_17 (by decide) ?_
    exact j_10
  · refine r_iconst (pc := 13) (v := 1) C dX2_isSolved_13 (by decide) ?_
    refine r_goto (pc := 14) (tgt := 18) C dX2_isSolved_14 (by decide) ?_
    exact j_10
  refine r_zret (pc := 18) C dX2_isSolved_18 (by (repeat' split) <;> rfl) ?_
  exact ⟨by rw [bI_dec]; rfl, rfl⟩
theorem c_X2_bits (G : Good w) (d : Nat) {s : Int32} {h : AH} : Con w yX2_bits (ws_ yX2_bits cX2_bits 3 (some .int)) d 0 0 [.int s] h (Pi (bitsF s) h) noX := by
  refine Con.of G [some (.int s), none, none] (body := fun g C => ?_)
  have L : ∀ m k : Nat, k + m = 10 → wp w g (mQ w g 0 0 (Pi (bitsF s) h) noX) 4 [some (.int s), some (.int (l_sum (fun k => bitAt s (nI k)) k)), some (.int (nI k))] [] h 0 0 := by
    intro m
    induction m with
    | zero =>
      intro k hk
      have hk : k = 10 := by omega
      subst hk
      refine r_iload_2 (pc := 4) C dX2_bits_4 ?_
      refine r_bipush (pc := 5) (v := 10) C dX2_bits_5 (by decide) ?_
      refine r_icge (pc := 7) (tgt := 24) C dX2_bits_7 (by decide) (fun c_7 => ?_) (fun c_7 => ?_)
      · refine r_iload_1 (pc := 24) C dX2_bits_24 ?_
        refine r_iret (pc := 25) C dX2_bits_25 ?_
        exact ⟨rfl, rfl⟩
      · exact absurd (by decide) c_7 --halt
    | succ m ih =>
      intro k hk
      refine r_iload_2 (pc := 4) C dX2_bits_4 ?_
      refine r_bipush (pc := 5) (v := 10) C dX2_bits_5 (by decide) ?_
      refine r_icge (pc := 7) (tgt := 24) C dX2_bits_7 (by decide) (fun c_7 => ?_) (fun c_7 => ?_)
      · exact absurd c_7 (nI_ge (a := k) (b := 10) (by omega) (by decide)) --halt
      · refine r_iload_1 (pc := 10) C dX2_bits_10 ?_
        refine r_iload_0 (pc := 11) C dX2_bits_11 ?_
        refine r_iload_2 (pc := 12) C dX2_bits_12 ?_
        refine r_ishr (pc := 13) C dX2_bits_13 ?_
        refine r_iconst (pc := 14) (v := 1) C dX2_bits_14 (by decide) ?_
        refine r_iand (pc := 15) C dX2_bits_15 ?_
        refine r_iadd (pc := 16) C dX2_bits_16 ?_
        refine r_istore_1 (pc := 17) C dX2_bits_17 ?_
        refine r_iinc_2 (pc := 18) C dX2_bits_18 (nI_1 k) ?_
        refine r_goto (pc := 21) (tgt := 4) C dX2_bits_21 (by decide) ?_
        exact ih (k + 1) (by omega)
  refine r_iconst (pc := 0) (v := 0) C dX2_bits_0 (by decide) ?_
  refine r_istore_1 (pc := 1) C dX2_bits_1 ?_
  refine r_iconst (pc := 2) (v := 0) C dX2_bits_2 (by decide) ?_
  refine r_istore_2 (pc := 3) C dX2_bits_3 ?_
  exact L 10 0 rfl
theorem c_X2_given (G : Good w) (d : Nat) {c o : Int32} {n : Nat} {h : AH} (ho : ¬ o = 0) (hn : n < 2 ^ 31) : Con w yX2_given (ws_ yX2_given cX2_given 5 (some .int)) d 0 0 [.int c, .int o, .int (nI n)] h (Pi (remF (divN c o n) o) h) noX := by
  refine Con.of G [some (.int c), some (.int o), some (.int (nI n)), none, none] (body := fun g C => ?_)
  have L : ∀ m k : Nat, k + m = n → wp w g (mQ w g 0 0 (Pi (remF (divN c o n) o) h) noX) 5 [some (.int c), some (.int o), some (.int (nI n)), some (.int (divN c o k)), some (.int (nI k))] [] h 0 0 := by
    intro m
    induction m with
    | zero =>
      intro k hk
      have hk : k = n := by omega
      subst hk
      refine r_iload_4 (pc := 5) C dX2_given_5 ?_
      refine r_iload_2 (pc := 7) C dX2_given_7 ?_
      refine r_icge (pc := 8) (tgt := 21) C dX2_given_8 (by decide) (fun c_8 => ?_) (fun c_8 => ?_)
      · refine r_iload_3 (pc := 21) C dX2_given_21 ?_
        refine r_iload_1 (pc := 22) C dX2_given_22 ?_
        refine r_irem (pc := 23) C dX2_given_23 (by assumption) ?_
        refine r_iret (pc := 24) C dX2_given_24 ?_
        exact ⟨rfl, rfl⟩
      · exact absurd (nI_le (Nat.le_refl _) hn) c_8 --halt
    | succ m ih =>
      intro k hk
      refine r_iload_4 (pc := 5) C dX2_given_5 ?_
      refine r_iload_2 (pc := 7) C dX2_given_7 ?_
      refine r_icge (pc := 8) (tgt := 21) C dX2_given_8 (by decide) (fun c_8 => ?_) (fun c_8 => ?_)
      · exact absurd c_8 (nI_ge (by omega) hn) --halt
      · refine r_iload_3 (pc := 11) C dX2_given_11 ?_
        refine r_iload_1 (pc := 12) C dX2_given_12 ?_
        refine r_idiv (pc := 13) C dX2_given_13 (by assumption) ?_
        refine r_istore_3 (pc := 14) C dX2_given_14 ?_
        refine r_iinc_4 (pc := 15) C dX2_given_15 (nI_1 k) ?_
        refine r_goto (pc := 18) (tgt := 5) C dX2_given_18 (by decide) ?_
        exact ih (k + 1) (by omega)
  refine r_iload_0 (pc := 0) C dX2_given_0 ?_
  refine r_istore_3 (pc := 1) C dX2_given_1 ?_
  refine r_iconst (pc := 2) (v := 0) C dX2_given_2 (by decide) ?_
  refine r_istore_4 (pc := 3) C dX2_given_3 ?_
  exact L n 0 (by omega)
variable {am fi : Nat → Nat} {ar : Nat → Nat → Int32} {h0 : AH}
theorem c_X2_isPrinciple (G : Good w) (d : Nat) (hd : 1 ≤ d) {a : Int32} (hI : MI am) : Con w yX2_isPrinciple (ws_ yX2_isPrinciple cX2_isPrinciple 2 (some .boolean)) d 0 0 [.ref (am 0), .int a] (mput w am fi ar h0) (Pi (bI (isPrB fi a)) (mput w am fi ar h0)) noX := by
  refine Con.of G [some (.ref (am 0)), some (.int a)] (body := fun g C => ?_)
  refine r_iload_1 (pc := 0) C dX2_isPrinciple_0 ?_
  refine r_iconst (pc := 1) (v := 0) C dX2_isPrinciple_1 (by decide) ?_
  refine r_aload_0 (pc := 2) C dX2_isPrinciple_2 ?_
  refine r_mg18 (pc := 3) C hI dX2_isPrinciple_3 ?_
  refine r_iconst (pc := 6) (v := 1) C dX2_isPrinciple_6 (by decide) ?_
  refine r_isub (pc := 7) C dX2_isPrinciple_7 ?_
  refine r_callS (pc := 8) (nA := 3) C (c_X2_in G (d - 1)) (h1 := q1570) (h2 := q1571) (h3 := q61) (h4 := q1572)  (hd := dX2_isPrinciple_8) (kk := kP ?_) (kx := kN)
  refine r_zret (pc := 11) C dX2_isPrinciple_11 (nar_bI _) ?_
  exact ⟨rfl, rfl⟩
theorem c_X2_isProblem (G : Good w) (d : Nat) (hd : 1 ≤ d) {a : Int32} (hI : MI am) : Con w yX2_isProblem (ws_ yX2_isProblem cX2_isProblem 2 (some .boolean)) d 0 0 [.ref (am 0), .int a] (mput w am fi ar h0) (Pi (bI (isPbB fi a)) (mput w am fi ar h0)) noX := by
  refine Con.of G [some (.ref (am 0)), some (.int a)] (body := fun g C => ?_)
  refine r_iload_1 (pc := 0) C dX2_isProblem_0 ?_
  refine r_iconst (pc := 1) (v := 0) C dX2_isProblem_1 (by decide) ?_
  refine r_aload_0 (pc := 2) C dX2_isProblem_2 ?_
  refine r_mg27 (pc := 3) C hI dX2_isProblem_3 ?_
  refine r_iconst (pc := 6) (v := 1) C dX2_isProblem_6 (by decide) ?_
  refine r_isub (pc := 7) C dX2_isProblem_7 ?_
  refine r_callS (pc := 8) (nA := 3) C (c_X2_in G (d - 1)) (h1 := q1570) (h2 := q1571) (h3 := q61) (h4 := q1572)  (hd := dX2_isProblem_8) (kk := kP ?_) (kx := kN)
  refine r_zret (pc := 11) C dX2_isProblem_11 (nar_bI _) ?_
  exact ⟨rfl, rfl⟩
theorem c_X2_isSet (G : Good w) (d : Nat) (hd : 1 ≤ d) {a : Int32} (hI : MI am) : Con w yX2_isSet (ws_ yX2_isSet cX2_isSet 2 (some .boolean)) d 0 0 [.ref (am 0), .int a] (mput w am fi ar h0) (Pi (bI (isStB fi a)) (mput w am fi ar h0)) noX := by
  refine Con.of G [some (.ref (am 0)), some (.int a)] (body := fun g C => ?_)
  refine r_iload_1 (pc := 0) C dX2_isSet_0 ?_
  refine r_iconst (pc := 1) (v := 0) C dX2_isSet_1 (by decide) ?_
  refine r_iconst (pc := 2) (v := 1) C dX2_isSet_2 (by decide) ?_
  refine r_aload_0 (pc := 3) C dX2_isSet_3 ?_
  refine r_mg18 (pc := 4) C hI dX2_isSet_4 ?_
  refine r_ishl (pc := 7) C dX2_isSet_7 ?_
  refine r_iconst (pc := 8) (v := 1) C dX2_isSet_8 (by decide) ?_
  refine r_isub (pc := 9) C dX2_isSet_9 ?_
  refine r_callS (pc := 10) (nA := 3) C (c_X2_in G (d - 1)) (h1 := q1570) (h2 := q1571) (h3 := q61) (h4 := q1572)  (hd := dX2_isSet_10) (kk := kP ?_) (kx := kN)
  refine r_zret (pc := 13) C dX2_isSet_13 (nar_bI _) ?_
  exact ⟨rfl, rfl⟩
theorem c_X2_nextRule (G : Good w) (d : Nat) (hd : 1 ≤ d) {s : Int32} (hI : MI am) (hn : fi 21 ≤ 30) : Con w yX2_nextRule (ws_ yX2_nextRule cX2_nextRule 4 (some .int)) d 0 0 [.ref (am 0), .int s] (mput w am fi ar h0) (Pi (o2i (nextR fi ar s)) (mput w am fi ar h0)) noX := by
  refine Con.of G [some (.ref (am 0)), some (.int s), none, none] (body := fun g C => ?_)
  have L : ∀ k m : Nat, k + m = fi 21 → wp w g (mQ w g 0 0 (Pi (o2i (nextR fi ar s)) (mput w am fi ar h0)) noX) 9 [some (.ref (am 0)), some (.int s), some (.int (o2i (lowF (rlP ar s) m k))), some (.int (nI k - 1))] [] (mput w am fi ar h0) 0 0 := by
    intro k
    induction k with
    | zero =>
      intro m hm
      have hm : m = fi 21 := by omega
      subst hm
      refine r_iload_3 (pc := 9) C dX2_nextRule_9 ?_
      refine r_iflt (pc := 10) (tgt := 44) C dX2_nextRule_10 (by decide) (fun c_10 => ?_) (fun c_10 => ?_)
      · refine r_iload_2 (pc := 44) C dX2_nextRule_44 ?_
        refine r_iret (pc := 45) C dX2_nextRule_45 ?_
        exact ⟨rfl, rfl⟩
      · exact absurd (by decide) c_10 --halt
    | succ k ih =>
      intro m hm
      rw [nI_pred]
      have hi : vp_in (nI k) 30 := vp_in_nI (by omega) (by decide)
      refine r_iload_3 (pc := 9) C dX2_nextRule_9 ?_
      refine r_iflt (pc := 10) (tgt := 44) C dX2_nextRule_10 (by decide) (fun c_10 => ?_) (fun c_10 => ?_)
      · exact absurd c_10 (nI_pos (by omega)) --halt
      · refine r_iload_1 (pc := 13) C dX2_nextRule_13 ?_
        refine r_aload_0 (pc := 14) C dX2_nextRule_14 ?_
        refine r_mg22 (pc := 15) C hI dX2_nextRule_15 ?_
        refine r_iload_3 (pc := 18) C dX2_nextRule_18 ?_
        refine r_miald (pc := 19) C hI (by decide) (by decide) (by assumption) dX2_nextRule_19 ?_
        refine r_aload_0 (pc := 20) C dX2_nextRule_20 ?_
        refine r_mg23 (pc := 21) C hI dX2_nextRule_21 ?_
        refine r_iload_3 (pc := 24) C dX2_nextRule_24 ?_
        refine r_miald (pc := 25) C hI (by decide) (by decide) (by assumption) dX2_nextRule_25 ?_
        refine r_callS (pc := 26) (nA := 3) C (c_X2_breaks G (d - 1)) (h1 := q1681) (h2 := q1682) (h3 := q61) (h4 := q1683)  (hd := dX2_nextRule_26) (kk := kP ?_) (kx := kN)
        refine r_ifeqM (pc := 29) (tgt := 36) C 37 ?_ ?_ dX2_nextRule_29 (by decide) (fun c_29 j_29 => ?_) (fun c_29 j_29 => ?_) ?_
        rotate_left 2
        · refine r_iload_2 (pc := 36) C dX2_nextRule_36 ?_
          exact j_29
        · refine r_iload_3 (pc := 32) C dX2_nextRule_32 ?_
          refine r_goto (pc := 33) (tgt := 37) C dX2_nextRule_33 (by decide) ?_
          exact j_29
        have e := ih (m + 1) (by omega)
        rw [nI_clamp (show k < 2 ^ 31 by omega)]
        refine r_istore_2 (pc := 37) C dX2_nextRule_37 ?_
        refine r_iinc_3 (pc := 38) C dX2_nextRule_38 (add_m1 _) ?_
        refine r_goto (pc := 41) (tgt := 9) C dX2_nextRule_41 (by decide) ?_
        have e2 : o2i (lowF (rlP ar s) (m + 1) k) = (if bI (adB s (ar 16 k) (ar 17 k)) = 0 then o2i (lowF (rlP ar s) m (k + 1)) else nI k) := by
          show o2i (if rlP ar s k then some k else lowF (rlP ar s) m (k + 1)) = _
          unfold rlP
          cases adB s (ar 16 k) (ar 17 k) <;> rfl
        rw [e2] at e
        exact e
  refine r_iconst (pc := 0) (v := -1) C dX2_nextRule_0 (by decide) ?_
  refine r_istore_2 (pc := 1) C dX2_nextRule_1 ?_
  refine r_aload_0 (pc := 2) C dX2_nextRule_2 ?_
  refine r_mg21 (pc := 3) C hI dX2_nextRule_3 ?_
  refine r_iconst (pc := 6) (v := 1) C dX2_nextRule_6 (by decide) ?_
  refine r_isub (pc := 7) C dX2_nextRule_7 ?_
  refine r_istore_3 (pc := 8) C dX2_nextRule_8 ?_
  exact L (fi 21) 0 rfl
end M2
