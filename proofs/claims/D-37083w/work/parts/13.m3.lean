/-! 13: ReversalCourtModel: closing, proving, knowing -/
set_option maxRecDepth 100000
section M3
variable {w : WD} {am fi : Nat → Nat} {ar : Nat → Nat → Int32} {h0 : AH}
theorem c_X2_closed (G : Good w) (d : Nat) (hd : 2 ≤ d) {s : Int32} (hI : MI am) (M : MOK fi ar) : Con w yX2_closed (ws_ yX2_closed cX2_closed 4 (some .int)) d 0 0 [.ref (am 0), .int s] (mput w am fi ar h0) (Pi (cloF fi ar s) (mput w am fi ar h0)) noX := by
  refine Con.of G [some (.ref (am 0)), some (.int s), none, none] (body := fun g C => ?_)
  have hn : fi 21 ≤ 30 := M.2.2.1
  have L : ∀ (m : Nat) (u : Int32), muS u ≤ m → cloN fi ar m u = cloF fi ar s → wp w g (mQ w g 0 0 (Pi (cloF fi ar s) (mput w am fi ar h0)) noX) 8 [some (.ref (am 0)), some (.int s), some (.int u), some (.int (o2i (nextR fi ar u)))] [] (mput w am fi ar h0) 0 0 := by
    intro m
    induction m with
    | zero =>
      intro u hu e
      rw [cloN_0 M (by omega)]
      refine r_iload_3 (pc := 8) C dX2_closed_8 ?_
      refine r_iconst (pc := 9) (v := -1) C dX2_closed_9 (by decide) ?_
      refine r_iceq (pc := 10) (tgt := 33) C dX2_closed_10 (by decide) (fun c_10 => ?_) (fun c_10 => ?_)
      · refine r_iload_2 (pc := 33) C dX2_closed_33 ?_
        refine r_iret (pc := 34) C dX2_closed_34 ?_
        exact ⟨by rw [← e]; rfl, rfl⟩
      · exact absurd rfl c_10 --halt
    | succ m ih =>
      intro u hu e
      unfold cloN at e
      cases en : nextR fi ar u with
      | none =>
        rw [en] at e
        refine r_iload_3 (pc := 8) C dX2_closed_8 ?_
        refine r_iconst (pc := 9) (v := -1) C dX2_closed_9 (by decide) ?_
        refine r_iceq (pc := 10) (tgt := 33) C dX2_closed_10 (by decide) (fun c_10 => ?_) (fun c_10 => ?_)
        · refine r_iload_2 (pc := 33) C dX2_closed_33 ?_
          refine r_iret (pc := 34) C dX2_closed_34 ?_
          exact ⟨by rw [← e], rfl⟩
        · exact absurd rfl c_10 --halt
      | some r =>
        rw [en] at e
        obtain ⟨k1, k2, k3⟩ := nextR_ok M en
        have hi : vp_in (nI r) 30 := vp_in_nI k2 (by decide)
        show wp w g (mQ w g 0 0 (Pi (cloF fi ar s) (mput w am fi ar h0)) noX) 8 [some (.ref (am 0)), some (.int s), some (.int u), some (.int (nI r))] [] (mput w am fi ar h0) 0 0
        refine r_iload_3 (pc := 8) C dX2_closed_8 ?_
        refine r_iconst (pc := 9) (v := -1) C dX2_closed_9 (by decide) ?_
        refine r_iceq (pc := 10) (tgt := 33) C dX2_closed_10 (by decide) (fun c_10 => ?_) (fun c_10 => ?_)
        · exact absurd c_10 (o2i_some (by omega)) --halt
        · refine r_iload_2 (pc := 13) C dX2_closed_13 ?_
          refine r_iconst (pc := 14) (v := 1) C dX2_closed_14 (by decide) ?_
          refine r_aload_0 (pc := 15) C dX2_closed_15 ?_
          refine r_mg23 (pc := 16) C hI dX2_closed_16 ?_
          refine r_iload_3 (pc := 19) C dX2_closed_19 ?_
          refine r_miald (pc := 20) C hI (by decide) (by decide) (by assumption) dX2_closed_20 ?_
          refine r_ishl (pc := 21) C dX2_closed_21 ?_
          rw [show (nI r).toNatClampNeg = r from nI_clamp (by omega)]
          refine r_ior (pc := 22) C dX2_closed_22 ?_
          refine r_istore_2 (pc := 23) C dX2_closed_23 ?_
          refine r_aload_0 (pc := 24) C dX2_closed_24 ?_
          refine r_iload_2 (pc := 25) C dX2_closed_25 ?_
          refine r_callV (pc := 26) (nA := 1) C (c_X2_nextRule G (d - 1) (by omega) hI hn) (ha := (mput_at hI (j := 0) (by decide))) (hc := rfl) (h1 := q1696) (h2 := q1698) (h3 := qs42) (h4 := q61) (h5 := q1699)  (hd := dX2_closed_26) (kk := kP ?_) (kx := kN)
          refine r_istore_3 (pc := 29) C dX2_closed_29 ?_
          refine r_goto (pc := 30) (tgt := 8) C dX2_closed_30 (by decide) ?_
          exact ih _ (by show muS (stepS ar u r) ≤ m; omega) e
  refine r_iload_1 (pc := 0) C dX2_closed_0 ?_
  refine r_istore_2 (pc := 1) C dX2_closed_1 ?_
  refine r_aload_0 (pc := 2) C dX2_closed_2 ?_
  refine r_iload_2 (pc := 3) C dX2_closed_3 ?_
  refine r_callV (pc := 4) (nA := 1) C (c_X2_nextRule G (d - 1) (by omega) hI hn) (ha := (mput_at hI (j := 0) (by decide))) (hc := rfl) (h1 := q1696) (h2 := q1698) (h3 := qs42) (h4 := q61) (h5 := q1699)  (hd := dX2_closed_4) (kk := kP ?_) (kx := kN)
  refine r_istore_3 (pc := 7) C dX2_closed_7 ?_
  exact L 10 s (muS_le s) rfl
def pvF (fi : Nat → Nat) (ar : Nat → Nat → Int32) (s : Int32) : Int32 := if isStB fi s = true then cloF fi ar s else 0
def pvT (fi : Nat → Nat) (s : Int32) : Nat := if isStB fi s = true then 0 else 1
theorem c_X2_proves (G : Good w) (d : Nat) (hd : 3 ≤ d) {s : Int32} (hI : MI am) (M : MOK fi ar) : Con w yX2_proves (ws_ yX2_proves cX2_proves 2 (some .int)) d 0 0 [.ref (am 0), .int s] (mput w am fi ar h0) (Pi (pvF fi ar s) (mput w am (fset fi 0 (pvT fi s)) ar h0)) noX := by
  refine Con.of G [some (.ref (am 0)), some (.int s)] (body := fun g C => ?_)
  refine r_aload_0 (pc := 0) C dX2_proves_0 ?_
  refine r_aload_0 (pc := 1) C dX2_proves_1 ?_
  refine r_iload_1 (pc := 2) C dX2_proves_2 ?_
  refine r_callV (pc := 3) (nA := 1) C (c_X2_isSet G (d - 1) (by omega) hI) (ha := (mput_at hI (j := 0) (by decide))) (hc := rfl) (h1 := q1677) (h2 := q1679) (h3 := qs40) (h4 := q61) (h5 := q1680)  (hd := dX2_proves_3) (kk := kP ?_) (kx := kN)
  refine r_ifeqM (pc := 6) (tgt := 13) C 14 ?_ ?_ dX2_proves_6 (by decide) (fun c_6 j_6 => ?_) (fun c_6 j_6 => ?_) ?_
  rotate_left 2
  · refine r_iconst (pc := 13) (v := 1) C dX2_proves_13 (by decide) ?_
    exact j_6
  · refine r_iconst (pc := 9) (v := 0) C dX2_proves_9 (by decide) ?_
    refine r_goto (pc := 10) (tgt := 14) C dX2_proves_10 (by decide) ?_
    exact j_6
  refine r_callV (pc := 14) (nA := 1) C (c_X2_goesWell G (d - 1) (p := pvT fi s) hI ?_) (ha := (mput_at hI (j := 0) (by decide))) (hc := rfl) (h1 := q1576) (h2 := q1578) (h3 := qs25) (h4 := q61) (h5 := q1579)  (hd := dX2_proves_14) (kk := kP ?_) (kx := kN)
  · unfold pvT; cases isStB fi s <;> rfl
  refine r_ifeqM (pc := 17) (tgt := 28) C 29 ?_ ?_ dX2_proves_17 (by decide) (fun c_17 j_17 => ?_) (fun c_17 j_17 => ?_) ?_
  rotate_left 2
  · refine r_iconst (pc := 28) (v := 0) C dX2_proves_28 (by decide) ?_
    exact j_17
  · refine r_aload_0 (pc := 20) C dX2_proves_20 ?_
    refine r_iload_1 (pc := 21) C dX2_proves_21 ?_
    refine r_callV (pc := 22) (nA := 1) C (c_X2_closed G (d - 1) (by omega) hI (MOK_0 M)) (ha := (mput_at hI (j := 0) (by decide))) (hc := rfl) (h1 := q1692) (h2 := q1694) (h3 := qs41) (h4 := q61) (h5 := q1695)  (hd := dX2_proves_22) (kk := kP ?_) (kx := kN)
    refine r_goto (pc := 25) (tgt := 29) C dX2_proves_25 (by decide) ?_
    exact j_17
  refine r_iret (pc := 29) C dX2_proves_29 ?_
  refine ⟨?_, rfl⟩
  rw [cloF_0]
  unfold pvF pvT
  cases isStB fi s <;> rfl
theorem c_X2_knownOf (G : Good w) (d : Nat) (hd : 3 ≤ d) {a b : Int32} (hI : MI am) (M : MOK fi ar) : Con w yX2_knownOf (ws_ yX2_knownOf cX2_knownOf 5 (some .int)) d 0 0 [.ref (am 0), .int a, .int b] (mput w am fi ar h0) (Pi (knF fi ar a b) (mput w am fi ar h0)) noX := by
  refine Con.of G [some (.ref (am 0)), some (.int a), some (.int b), none, none] (body := fun g C => ?_)
  have hm : fi 24 ≤ 10 := M.2.2.2.1
  have L : ∀ m k : Nat, k + m = fi 24 → ¬ bitAt (cloF fi ar (1 <<< (a &&& 31))) b = 1 → wp w g (mQ w g 0 0 (Pi (knF fi ar a b) (mput w am fi ar h0)) noX) 22 [some (.ref (am 0)), some (.int a), some (.int b), some (.int (bI (anyN (mdP ar a b) k))), some (.int (nI k))] [] (mput w am fi ar h0) 0 0 := by
    intro m
    induction m with
    | zero =>
      intro k hk hb
      have hk : k = fi 24 := by omega
      subst hk
      refine r_iload_4 (pc := 22) C dX2_knownOf_22 ?_
      refine r_aload_0 (pc := 24) C dX2_knownOf_24 ?_
      refine r_mg24 (pc := 25) C hI dX2_knownOf_25 ?_
      refine r_icge (pc := 28) (tgt := 76) C dX2_knownOf_28 (by decide) (fun c_28 => ?_) (fun c_28 => ?_)
      · refine r_iload_3 (pc := 76) C dX2_knownOf_76 ?_
        refine r_ifeqM (pc := 77) (tgt := 84) C 85 ?_ ?_ dX2_knownOf_77 (by decide) (fun c_77 j_77 => ?_) (fun c_77 j_77 => ?_) ?_
        rotate_left 2
        · refine r_iconst (pc := 84) (v := 0) C dX2_knownOf_84 (by decide) ?_
          exact j_77
        · refine r_iconst (pc := 80) (v := -1) C dX2_knownOf_80 (by decide) ?_
          refine r_goto (pc := 81) (tgt := 85) C dX2_knownOf_81 (by decide) ?_
          exact j_77
        refine r_iret (pc := 85) C dX2_knownOf_85 ?_
        refine ⟨?_, rfl⟩
        unfold knF
        rw [if_neg hb]
        cases anyN (mdP ar a b) (fi 24) <;> rfl
      · exact absurd (nI_le (Nat.le_refl _) (by omega)) c_28 --halt
    | succ m ih =>
      intro k hk hb
      have hi : vp_in (nI k) 10 := vp_in_nI (by omega) (by decide)
      refine r_iload_4 (pc := 22) C dX2_knownOf_22 ?_
      refine r_aload_0 (pc := 24) C dX2_knownOf_24 ?_
      refine r_mg24 (pc := 25) C hI dX2_knownOf_25 ?_
      refine r_icge (pc := 28) (tgt := 76) C dX2_knownOf_28 (by decide) (fun c_28 => ?_) (fun c_28 => ?_)
      · exact absurd c_28 (nI_ge (by omega) (by omega)) --halt
      · refine r_iload_3 (pc := 31) C dX2_knownOf_31 ?_
        refine r_ifneM (pc := 32) (tgt := 64) C 69 ?_ ?_ dX2_knownOf_32 (by decide) (fun c_32 j_32 => ?_) (fun c_32 j_32 => ?_) ?_
        rotate_left 2
        · refine r_iconst (pc := 64) (v := 1) C dX2_knownOf_64 (by decide) ?_
          refine r_goto (pc := 65) (tgt := 69) C dX2_knownOf_65 (by decide) ?_
          exact j_32
        · refine r_aload_0 (pc := 35) C dX2_knownOf_35 ?_
          refine r_mg25 (pc := 36) C hI dX2_knownOf_36 ?_
          refine r_iload_4 (pc := 39) C dX2_knownOf_39 ?_
          refine r_miald (pc := 41) C hI (by decide) (by decide) (by assumption) dX2_knownOf_41 ?_
          refine r_iload_1 (pc := 42) C dX2_knownOf_42 ?_
          refine r_ishr (pc := 43) C dX2_knownOf_43 ?_
          refine r_iconst (pc := 44) (v := 1) C dX2_knownOf_44 (by decide) ?_
          refine r_iand (pc := 45) C dX2_knownOf_45 ?_
          refine r_iconst (pc := 46) (v := 1) C dX2_knownOf_46 (by decide) ?_
          refine r_icneM (pc := 47) (tgt := 68) C 69 ?_ ?_ dX2_knownOf_47 (by decide) (fun c_47 j_47 => ?_) (fun c_47 j_47 => ?_) ?_
          rotate_left 2
          · refine r_iconst (pc := 68) (v := 0) C dX2_knownOf_68 (by decide) ?_
            exact j_47
          · refine r_aload_0 (pc := 50) C dX2_knownOf_50 ?_
            refine r_mg25 (pc := 51) C hI dX2_knownOf_51 ?_
            refine r_iload_4 (pc := 54) C dX2_knownOf_54 ?_
            refine r_miald (pc := 56) C hI (by decide) (by decide) (by assumption) dX2_knownOf_56 ?_
            refine r_iload_2 (pc := 57) C dX2_knownOf_57 ?_
            refine r_ishr (pc := 58) C dX2_knownOf_58 ?_
            refine r_iconst (pc := 59) (v := 1) C dX2_knownOf_59 (by decide) ?_
            refine r_iand (pc := 60) C dX2_knownOf_60 ?_
            refine r_ifneM (pc := 61) (tgt := 68) C 69 ?_ ?_ dX2_knownOf_61 (by decide) (fun c_61 j_61 => ?_) (fun c_61 j_61 => ?_) ?_
            rotate_left 2
            · refine r_iconst (pc := 68) (v := 0) C dX2_knownOf_68 (by decide) ?_
              exact j_61
            · refine r_iconst (pc := 64) (v := 1) C dX2_knownOf_64 (by decide) ?_
              refine r_goto (pc := 65) (tgt := 69) C dX2_knownOf_65 (by decide) ?_
              exact j_61
            exact j_47
          exact j_32
        have e := ih (k + 1) (by omega) hb
        rw [nI_clamp (show k < 2 ^ 31 by omega)]
        refine r_istore_3 (pc := 69) C dX2_knownOf_69 ?_
        refine r_iinc_4 (pc := 70) C dX2_knownOf_70 (nI_1 k) ?_
        refine r_goto (pc := 73) (tgt := 22) C dX2_knownOf_73 (by decide) ?_
        have e2 : bI (anyN (mdP ar a b) (k + 1)) = (if bI (anyN (mdP ar a b) k) = 0 then (if (ar 18 k >>> (a &&& 31)) &&& 1 = 1 then (if (ar 18 k >>> (b &&& 31)) &&& 1 = 0 then 1 else 0) else 0) else 1) := by
          rw [anyN_s]
          have e3 : mdP ar a b k = (decide ((ar 18 k >>> (a &&& 31)) &&& 1 = 1) && decide ((ar 18 k >>> (b &&& 31)) &&& 1 = 0)) := rfl
          rw [e3]
          cases anyN (mdP ar a b) k <;> by_cases h1 : (ar 18 k >>> (a &&& 31)) &&& 1 = 1 <;> by_cases h2 : (ar 18 k >>> (b &&& 31)) &&& 1 = 0 <;> simp [h1, h2, bI]
        rw [e2] at e
        exact e
  refine r_aload_0 (pc := 0) C dX2_knownOf_0 ?_
  refine r_iconst (pc := 1) (v := 1) C dX2_knownOf_1 (by decide) ?_
  refine r_iload_1 (pc := 2) C dX2_knownOf_2 ?_
  refine r_ishl (pc := 3) C dX2_knownOf_3 ?_
  refine r_callV (pc := 4) (nA := 1) C (c_X2_closed G (d - 1) (by omega) hI M) (ha := (mput_at hI (j := 0) (by decide))) (hc := rfl) (h1 := q1692) (h2 := q1694) (h3 := qs41) (h4 := q61) (h5 := q1695)  (hd := dX2_knownOf_4) (kk := kP ?_) (kx := kN)
  refine r_iload_2 (pc := 7) C dX2_knownOf_7 ?_
  refine r_ishr (pc := 8) C dX2_knownOf_8 ?_
  refine r_iconst (pc := 9) (v := 1) C dX2_knownOf_9 (by decide) ?_
  refine r_iand (pc := 10) C dX2_knownOf_10 ?_
  refine r_iconst (pc := 11) (v := 1) C dX2_knownOf_11 (by decide) ?_
  refine r_icne (pc := 12) (tgt := 17) C dX2_knownOf_12 (by decide) (fun c_12 => ?_) (fun c_12 => ?_)
  · refine r_iconst (pc := 17) (v := 0) C dX2_knownOf_17 (by decide) ?_
    refine r_istore_3 (pc := 18) C dX2_knownOf_18 ?_
    refine r_iconst (pc := 19) (v := 0) C dX2_knownOf_19 (by decide) ?_
    refine r_istore_4 (pc := 20) C dX2_knownOf_20 ?_
    exact L (fi 24) 0 (by omega) c_12
  · refine r_iconst (pc := 15) (v := 1) C dX2_knownOf_15 (by decide) ?_
    refine r_iret (pc := 16) C dX2_knownOf_16 ?_
    refine ⟨?_, rfl⟩
    have c_12 : bitAt (cloF fi ar (1 <<< (a &&& 31))) b = 1 := c_12
    unfold knF
    rw [if_pos c_12]
end M3
