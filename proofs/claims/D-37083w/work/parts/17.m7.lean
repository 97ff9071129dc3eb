/-! 17: ReversalCourtModel: games -/
set_option maxRecDepth 100000
section M7
variable {w : WD} {am fi : Nat → Nat} {ar : Nat → Nat → Int32} {h0 : AH}
theorem c_X2_isHad (G : Good w) (d : Nat) {s : Int32} {R : Nat} (hR1 : 1 ≤ R) (hR4 : R ≤ 4) (hI : MI am) : Con w yX2_isHad (ws_ yX2_isHad cX2_isHad 5 (some .boolean)) d 0 0 [.ref (am 0), .int (nI R), .int s] (mput w am fi ar h0) (Qi (fun r h' => r = bI (gv s R 0 0) ∧ ∃ f, h' = mput w am fi (aset ar 23 f) h0)) noX := by
  refine Con.of G [some (.ref (am 0)), some (.int (nI R)), some (.int s), none, none] (body := fun g C => ?_)
  have h16 : 2 ^ R ≤ 2 ^ 4 := Nat.pow_le_pow_right (by decide) hR4
  have Lin : ∀ m n k : Nat, n + m = 2 ^ k → k < R → ∀ f : Nat → Int32, (∀ j, j < n → f j = bI (gv s (R - k) k j)) → (∀ j, n ≤ j → j < 2 ^ (k + 1) → f j = bI (gv s (R - (k + 1)) (k + 1) j)) → (∀ f : Nat → Int32, (∀ j, j < 2 ^ k → f j = bI (gv s (R - k) k j)) → ∀ z, wp w g (mQ w g 0 0 (Qi (fun r h' => r = bI (gv s R 0 0) ∧ ∃ f, h' = mput w am fi (aset ar 23 f) h0)) noX) 138 [some (.ref (am 0)), some (.int (nI R)), some (.int s), some (.int (nI k)), z] [] (mput w am fi (aset ar 23 f) h0) 0 0) → wp w g (mQ w g 0 0 (Qi (fun r h' => r = bI (gv s R 0 0) ∧ ∃ f, h' = mput w am fi (aset ar 23 f) h0)) noX) 46 [some (.ref (am 0)), some (.int (nI R)), some (.int s), some (.int (nI k)), some (.int (nI n))] [] (mput w am fi (aset ar 23 f) h0) 0 0 := by
    intro m
    induction m with
    | zero =>
      intro n k hn hk f f1 f2 kk
      have hn : n = 2 ^ k := by omega
      have h8 : 2 ^ k ≤ 2 ^ 3 := Nat.pow_le_pow_right (by decide) (by omega)
      refine r_iload_4 (pc := 46) C dX2_isHad_46 ?_
      refine r_iconst (pc := 48) (v := 1) C dX2_isHad_48 (by decide) ?_
      refine r_iload_3 (pc := 49) C dX2_isHad_49 ?_
      refine r_ishl (pc := 50) C dX2_isHad_50 ?_
      rw [two_pow k (by omega)]
      refine r_icge (pc := 51) (tgt := 138) C dX2_isHad_51 (by decide) (fun c_51 => ?_) (fun c_51 => ?_)
      · exact kk f (fun j hj => f1 j (by omega)) _
      · exact absurd (nI_le (by omega) (by omega)) c_51 --halt
    | succ m ih =>
      intro n k hn hk f f1 f2 kk
      have h8 : 2 ^ k ≤ 2 ^ 3 := Nat.pow_le_pow_right (by decide) (by omega)
      have h9 : 2 ^ (k + 1) = 2 * 2 ^ k := by rw [Nat.pow_succ]; omega
      have e1 := f2 (2 * n) (by omega) (by omega)
      have e2 := f2 (2 * n + 1) (by omega) (by omega)
      have ek : gv s (R - k) k n = if k % 2 = 0 then gv s (R - (k + 1)) (k + 1) (2 * n) || gv s (R - (k + 1)) (k + 1) (2 * n + 1) else gv s (R - (k + 1)) (k + 1) (2 * n) && gv s (R - (k + 1)) (k + 1) (2 * n + 1) := by
        rw [show R - k = (R - (k + 1)) + 1 by omega]
        rfl
      refine r_iload_4 (pc := 46) C dX2_isHad_46 ?_
      refine r_iconst (pc := 48) (v := 1) C dX2_isHad_48 (by decide) ?_
      refine r_iload_3 (pc := 49) C dX2_isHad_49 ?_
      refine r_ishl (pc := 50) C dX2_isHad_50 ?_
      rw [two_pow k (by omega)]
      refine r_icge (pc := 51) (tgt := 138) C dX2_isHad_51 (by decide) (fun c_51 => ?_) (fun c_51 => ?_)
      · exact absurd c_51 (nI_ge (by omega) (by omega)) --halt
      · refine r_aload_0 (pc := 54) C dX2_isHad_54 ?_
        refine r_mg31 (pc := 55) C hI dX2_isHad_55 ?_
        refine r_iload_4 (pc := 58) C dX2_isHad_58 ?_
        refine r_iload_3 (pc := 60) C dX2_isHad_60 ?_
        refine r_iconst (pc := 61) (v := 2) C dX2_isHad_61 (by decide) ?_
        refine r_irem (pc := 62) C dX2_isHad_62 (by decide) ?_
        rw [show nI k - nI k / 2 * 2 = nI (k % 2) from pk_rem (a := k) (d := 2) (by omega) (by decide) (by decide)]
        refine r_ifneM (pc := 63) (tgt := 100) C 131 ?_ ?_ dX2_isHad_63 (by decide) (fun c_63 j_63 => ?_) (fun c_63 j_63 => ?_) ?_
        rotate_left 2
        · refine r_aload_0 (pc := 100) C dX2_isHad_100 ?_
          refine r_mg31 (pc := 101) C hI dX2_isHad_101 ?_
          refine r_iconst (pc := 104) (v := 2) C dX2_isHad_104 (by decide) ?_
          refine r_iload_4 (pc := 105) C dX2_isHad_105 ?_
          refine r_imul (pc := 107) C dX2_isHad_107 ?_
          rw [show (2 : Int32) * nI n = nI (2 * n) from pk_mul 2 n]
          refine r_mnzald (pc := 108) C hI (by decide) (by decide) rfl (by simp only [mlen]; omega) (by decide) dX2_isHad_108 ?_
          refine r_ifeqM (pc := 109) (tgt := 130) C 131 ?_ ?_ dX2_isHad_109 (by decide) (fun c_109 j_109 => ?_) (fun c_109 j_109 => ?_) ?_
          rotate_left 2
          · refine r_iconst (pc := 130) (v := 0) C dX2_isHad_130 (by decide) ?_
            exact j_109
          · refine r_aload_0 (pc := 112) C dX2_isHad_112 ?_
            refine r_mg31 (pc := 113) C hI dX2_isHad_113 ?_
            refine r_iconst (pc := 116) (v := 2) C dX2_isHad_116 (by decide) ?_
            refine r_iload_4 (pc := 117) C dX2_isHad_117 ?_
            refine r_imul (pc := 119) C dX2_isHad_119 ?_
            refine r_iconst (pc := 120) (v := 1) C dX2_isHad_120 (by decide) ?_
            refine r_iadd (pc := 121) C dX2_isHad_121 ?_
            rw [show (2 : Int32) * nI n = nI (2 * n) from pk_mul 2 n, nI_1]
            refine r_mnzald (pc := 122) C hI (by decide) (by decide) rfl (by simp only [mlen]; omega) (by decide) dX2_isHad_122 ?_
            refine r_ifeqM (pc := 123) (tgt := 130) C 131 ?_ ?_ dX2_isHad_123 (by decide) (fun c_123 j_123 => ?_) (fun c_123 j_123 => ?_) ?_
            rotate_left 2
            · refine r_iconst (pc := 130) (v := 0) C dX2_isHad_130 (by decide) ?_
              exact j_123
            · refine r_iconst (pc := 126) (v := 1) C dX2_isHad_126 (by decide) ?_
              refine r_goto (pc := 127) (tgt := 131) C dX2_isHad_127 (by decide) ?_
              exact j_123
            exact j_109
          exact j_63
        · refine r_aload_0 (pc := 66) C dX2_isHad_66 ?_
          refine r_mg31 (pc := 67) C hI dX2_isHad_67 ?_
          refine r_iconst (pc := 70) (v := 2) C dX2_isHad_70 (by decide) ?_
          refine r_iload_4 (pc := 71) C dX2_isHad_71 ?_
          refine r_imul (pc := 73) C dX2_isHad_73 ?_
          rw [show (2 : Int32) * nI n = nI (2 * n) from pk_mul 2 n]
          refine r_mnzald (pc := 74) C hI (by decide) (by decide) rfl (by simp only [mlen]; omega) (by decide) dX2_isHad_74 ?_
          refine r_ifneM (pc := 75) (tgt := 92) C 131 ?_ ?_ dX2_isHad_75 (by decide) (fun c_75 j_75 => ?_) (fun c_75 j_75 => ?_) ?_
          rotate_left 2
          · refine r_iconst (pc := 92) (v := 1) C dX2_isHad_92 (by decide) ?_
            refine r_goto (pc := 93) (tgt := 131) C dX2_isHad_93 (by decide) ?_
            exact j_75
          · refine r_aload_0 (pc := 78) C dX2_isHad_78 ?_
            refine r_mg31 (pc := 79) C hI dX2_isHad_79 ?_
            refine r_iconst (pc := 82) (v := 2) C dX2_isHad_82 (by decide) ?_
            refine r_iload_4 (pc := 83) C dX2_isHad_83 ?_
            refine r_imul (pc := 85) C dX2_isHad_85 ?_
            refine r_iconst (pc := 86) (v := 1) C dX2_isHad_86 (by decide) ?_
            refine r_iadd (pc := 87) C dX2_isHad_87 ?_
            rw [show (2 : Int32) * nI n = nI (2 * n) from pk_mul 2 n, nI_1]
            refine r_mnzald (pc := 88) C hI (by decide) (by decide) rfl (by simp only [mlen]; omega) (by decide) dX2_isHad_88 ?_
            refine r_ifeqM (pc := 89) (tgt := 96) C 131 ?_ ?_ dX2_isHad_89 (by decide) (fun c_89 j_89 => ?_) (fun c_89 j_89 => ?_) ?_
            rotate_left 2
            · refine r_iconst (pc := 96) (v := 0) C dX2_isHad_96 (by decide) ?_
              refine r_goto (pc := 97) (tgt := 131) C dX2_isHad_97 (by decide) ?_
              exact j_89
            · refine r_iconst (pc := 92) (v := 1) C dX2_isHad_92 (by decide) ?_
              refine r_goto (pc := 93) (tgt := 131) C dX2_isHad_93 (by decide) ?_
              exact j_89
            exact j_75
          exact j_63
        refine r_mnzast (pc := 131) C hI (by decide) (by decide) rfl (by simp only [mlen]; omega) (by decide) dX2_isHad_131 ?_
        rw [aset_up]
        refine r_iinc_4 (pc := 132) C dX2_isHad_132 (nI_1 n) ?_
        refine r_goto (pc := 135) (tgt := 46) C dX2_isHad_135 (by decide) ?_
        refine ih (n + 1) k (by omega) hk _ (fun j hj => ?_) (fun j hj1 hj2 => ?_) kk
        · by_cases hjn : j = n
          · subst hjn
            rw [pk_us, ek]
            have k2 : (nI (k % 2) = 0) ↔ k % 2 = 0 := nI_eq (b := 0) (by omega) (by decide)
            simp only [k2, show ∀ i, aset ar 23 f 23 i = f i from fun _ => rfl, e1, e2]
            by_cases h2 : k % 2 = 0 <;> cases gv s (R - (k + 1)) (k + 1) (2 * j) <;> cases gv s (R - (k + 1)) (k + 1) (2 * j + 1) <;> simp [h2, bI] <;> rfl
          · rw [pk_un hjn]
            exact f1 j (by omega)
        · rw [pk_un (by omega)]
          exact f2 j (by omega) hj2
  have L2 : ∀ k : Nat, k ≤ R → ∀ f : Nat → Int32, (∀ j, j < 2 ^ k → f j = bI (gv s (R - k) k j)) → ∀ z, wp w g (mQ w g 0 0 (Qi (fun r h' => r = bI (gv s R 0 0) ∧ ∃ f, h' = mput w am fi (aset ar 23 f) h0)) noX) 39 [some (.ref (am 0)), some (.int (nI R)), some (.int s), some (.int (nI k - 1)), z] [] (mput w am fi (aset ar 23 f) h0) 0 0 := by
    intro k
    induction k with
    | zero =>
      intro hk f f1 z
      have e := f1 0 (by decide)
      refine r_iload_3 (pc := 39) C dX2_isHad_39 ?_
      refine r_iflt (pc := 40) (tgt := 144) C dX2_isHad_40 (by decide) (fun c_40 => ?_) (fun c_40 => ?_)
      · refine r_aload_0 (pc := 144) C dX2_isHad_144 ?_
        refine r_mg31 (pc := 145) C hI dX2_isHad_145 ?_
        refine r_iconst (pc := 148) (v := 0) C dX2_isHad_148 (by decide) ?_
        refine r_mzald (pc := 149) C hI (by decide) (by decide) (vp_in_nI (n := 0) (N := 16) (by decide) (by decide)) dX2_isHad_149 ?_
        refine r_zret (pc := 150) C dX2_isHad_150 (by rw [sb_cl0, show aset ar 23 f 23 0 = f 0 from rfl, e]; exact nar_bI _) ?_
        exact ⟨_, rfl, by rw [sb_cl0, show aset ar 23 f 23 0 = f 0 from rfl, e]; rfl, f, rfl⟩
      · exact absurd (by decide) c_40 --halt
    | succ k ih =>
      intro hk f f1 z
      rw [nI_pred]
      refine r_iload_3 (pc := 39) C dX2_isHad_39 ?_
      refine r_iflt (pc := 40) (tgt := 144) C dX2_isHad_40 (by decide) (fun c_40 => ?_) (fun c_40 => ?_)
      · exact absurd c_40 (nI_pos (by omega)) --halt
      · refine r_iconst (pc := 43) (v := 0) C dX2_isHad_43 (by decide) ?_
        refine r_istore_4 (pc := 44) C dX2_isHad_44 ?_
        refine Lin (2 ^ k) 0 k (by omega) (by omega) f (fun j hj => absurd hj (by omega)) (fun j _ hj => f1 j hj) ?_
        intro f' f1' z
        refine r_iinc_3 (pc := 138) C dX2_isHad_138 (add_m1 _) ?_
        refine r_goto (pc := 141) (tgt := 39) C dX2_isHad_141 (by decide) ?_
        exact ih (by omega) f' f1' z
  have L1 : ∀ m n : Nat, n + m = 2 ^ R → ∀ f : Nat → Int32, (∀ j, j < n → f j = bI (gv s 0 R j)) → ∀ z, wp w g (mQ w g 0 0 (Qi (fun r h' => r = bI (gv s R 0 0) ∧ ∃ f, h' = mput w am fi (aset ar 23 f) h0)) noX) 2 [some (.ref (am 0)), some (.int (nI R)), some (.int s), some (.int (nI n)), z] [] (mput w am fi (aset ar 23 f) h0) 0 0 := by
    intro m
    induction m with
    | zero =>
      intro n hn f f1 z
      refine r_iload_3 (pc := 2) C dX2_isHad_2 ?_
      refine r_iconst (pc := 3) (v := 1) C dX2_isHad_3 (by decide) ?_
      refine r_iload_1 (pc := 4) C dX2_isHad_4 ?_
      refine r_ishl (pc := 5) C dX2_isHad_5 ?_
      rw [two_pow R (by omega)]
      refine r_icge (pc := 6) (tgt := 35) C dX2_isHad_6 (by decide) (fun c_6 => ?_) (fun c_6 => ?_)
      · refine r_iload_1 (pc := 35) C dX2_isHad_35 ?_
        refine r_iconst (pc := 36) (v := 1) C dX2_isHad_36 (by decide) ?_
        refine r_isub (pc := 37) C dX2_isHad_37 ?_
        refine r_istore_3 (pc := 38) C dX2_isHad_38 ?_
        refine L2 R (Nat.le_refl _) f (fun j hj => ?_) _
        rw [Nat.sub_self]
        exact f1 j (by omega)
      · exact absurd (nI_le (by omega) (by omega)) c_6 --halt
    | succ m ih =>
      intro n hn f f1 z
      refine r_iload_3 (pc := 2) C dX2_isHad_2 ?_
      refine r_iconst (pc := 3) (v := 1) C dX2_isHad_3 (by decide) ?_
      refine r_iload_1 (pc := 4) C dX2_isHad_4 ?_
      refine r_ishl (pc := 5) C dX2_isHad_5 ?_
      rw [two_pow R (by omega)]
      refine r_icge (pc := 6) (tgt := 35) C dX2_isHad_6 (by decide) (fun c_6 => ?_) (fun c_6 => ?_)
      · exact absurd c_6 (nI_ge (by omega) (by omega)) --halt
      · refine r_aload_0 (pc := 9) C dX2_isHad_9 ?_
        refine r_mg31 (pc := 10) C hI dX2_isHad_10 ?_
        refine r_iload_3 (pc := 13) C dX2_isHad_13 ?_
        refine r_iload_2 (pc := 14) C dX2_isHad_14 ?_
        refine r_iload_3 (pc := 15) C dX2_isHad_15 ?_
        refine r_ishr (pc := 16) C dX2_isHad_16 ?_
        refine r_iconst (pc := 17) (v := 1) C dX2_isHad_17 (by decide) ?_
        refine r_iand (pc := 18) C dX2_isHad_18 ?_
        refine r_iconst (pc := 19) (v := 1) C dX2_isHad_19 (by decide) ?_
        refine r_icneM (pc := 20) (tgt := 27) C 28 ?_ ?_ dX2_isHad_20 (by decide) (fun c_20 j_20 => ?_) (fun c_20 j_20 => ?_) ?_
        rotate_left 2
        · refine r_iconst (pc := 27) (v := 0) C dX2_isHad_27 (by decide) ?_
          exact j_20
        · refine r_iconst (pc := 23) (v := 1) C dX2_isHad_23 (by decide) ?_
          refine r_goto (pc := 24) (tgt := 28) C dX2_isHad_24 (by decide) ?_
          exact j_20
        refine r_mnzast (pc := 28) C hI (by decide) (by decide) rfl (by simp only [mlen]; omega) (by decide) dX2_isHad_28 ?_
        rw [aset_up]
        refine r_iinc_3 (pc := 29) C dX2_isHad_29 (nI_1 n) ?_
        refine r_goto (pc := 32) (tgt := 2) C dX2_isHad_32 (by decide) ?_
        refine ih (n + 1) (by omega) _ (fun j hj => ?_) _
        by_cases hjn : j = n
        · subst hjn
          rw [pk_us, bI_dec, vpn_bI]
          rfl
        · rw [pk_un hjn]
          exact f1 j (by omega)
  refine r_iconst (pc := 0) (v := 0) C dX2_isHad_0 (by decide) ?_
  refine r_istore_3 (pc := 1) C dX2_isHad_1 ?_
  have e := L1 (2 ^ R) 0 (by omega) (ar 23) (fun j hj => absurd hj (by omega)) none
  rw [aset_self] at e
  exact e
theorem c_X2_ask (G : Good w) (d : Nat) (hd : 1 ≤ d) {a s : Int32} (hI : MI am) : Con w yX2_ask (ws_ yX2_ask cX2_ask 4 (some .boolean)) d 0 0 [.ref (am 0), .int a, .int s] (mput w am fi ar h0) (Qi (fun r h' => r = bI (gaV a s) ∧ ∃ f, h' = mput w am (fset fi 0 (gaT a s)) (aset ar 23 f) h0)) noX := by
  refine Con.of G [some (.ref (am 0)), some (.int a), some (.int s), none] (body := fun g C => ?_)
  have hT : gaT a s < 2 ^ 31 := by unfold gaT; split <;> decide
  refine r_iload_1 (pc := 0) C dX2_ask_0 ?_
  refine r_iconst (pc := 1) (v := 1) C dX2_ask_1 (by decide) ?_
  refine r_iconst (pc := 2) (v := 4) C dX2_ask_2 (by decide) ?_
  refine r_callS (pc := 3) (nA := 3) C (c_X2_in G (d - 1)) (h1 := q1570) (h2 := q1571) (h3 := q61) (h4 := q1572)  (hd := dX2_ask_3) (kk := kP ?_) (kx := kN)
  refine r_ifeqM (pc := 6) (tgt := 28) C 29 ?_ ?_ dX2_ask_6 (by decide) (fun c_6 j_6 => ?_) (fun c_6 j_6 => ?_) ?_
  rotate_left 2
  · refine r_iconst (pc := 28) (v := 0) C dX2_ask_28 (by decide) ?_
    exact j_6
  · refine r_iload_2 (pc := 9) C dX2_ask_9 ?_
    refine r_iconst (pc := 10) (v := 0) C dX2_ask_10 (by decide) ?_
    refine r_iconst (pc := 11) (v := 1) C dX2_ask_11 (by decide) ?_
    refine r_iconst (pc := 12) (v := 1) C dX2_ask_12 (by decide) ?_
    refine r_iload_1 (pc := 13) C dX2_ask_13 ?_
    refine r_ishl (pc := 14) C dX2_ask_14 ?_
    refine r_ishl (pc := 15) C dX2_ask_15 ?_
    refine r_iconst (pc := 16) (v := 1) C dX2_ask_16 (by decide) ?_
    refine r_isub (pc := 17) C dX2_ask_17 ?_
    refine r_callS (pc := 18) (nA := 3) C (c_X2_in G (d - 1)) (h1 := q1570) (h2 := q1571) (h3 := q61) (h4 := q1572)  (hd := dX2_ask_18) (kk := kP ?_) (kx := kN)
    refine r_ifeqM (pc := 21) (tgt := 28) C 29 ?_ ?_ dX2_ask_21 (by decide) (fun c_21 j_21 => ?_) (fun c_21 j_21 => ?_) ?_
    rotate_left 2
    · refine r_iconst (pc := 28) (v := 0) C dX2_ask_28 (by decide) ?_
      exact j_21
    · refine r_iconst (pc := 24) (v := 1) C dX2_ask_24 (by decide) ?_
      refine r_goto (pc := 25) (tgt := 29) C dX2_ask_25 (by decide) ?_
      exact j_21
    exact j_6
  refine r_istore_3 (pc := 29) C dX2_ask_29 ?_
  refine r_aload_0 (pc := 30) C dX2_ask_30 ?_
  refine r_iload_3 (pc := 31) C dX2_ask_31 ?_
  refine r_ifeqM (pc := 32) (tgt := 39) C 40 ?_ ?_ dX2_ask_32 (by decide) (fun c_32 j_32 => ?_) (fun c_32 j_32 => ?_) ?_
  rotate_left 2
  · refine r_iconst (pc := 39) (v := 1) C dX2_ask_39 (by decide) ?_
    exact j_32
  · refine r_iconst (pc := 35) (v := 0) C dX2_ask_35 (by decide) ?_
    refine r_goto (pc := 36) (tgt := 40) C dX2_ask_36 (by decide) ?_
    exact j_32
  refine r_callV (pc := 40) (nA := 1) C (c_X2_goesWell G (d - 1) (p := gaT a s) hI ?_) (ha := (mput_at hI (j := 0) (by decide))) (hc := rfl) (h1 := q1576) (h2 := q1578) (h3 := qs25) (h4 := q61) (h5 := q1579)  (hd := dX2_ask_40) (kk := kP ?_) (kx := kN)
  · unfold gaT gaB; cases inB a 1 4 <;> cases inB s 0 (((1 : Int32) <<< (((1 : Int32) <<< (a &&& 31)) &&& 31)) - 1) <;> rfl
  refine r_ifeq (pc := 43) (tgt := 59) C dX2_ask_43 (by decide) (fun c_43 => ?_) (fun c_43 => ?_)
  · refine r_iconst (pc := 59) (v := 0) C dX2_ask_59 (by decide) ?_
    refine r_zret (pc := 60) C dX2_ask_60 (by (repeat' split) <;> rfl) ?_
    first
    |   (refine ⟨_, rfl, ?_, f, rfl⟩; unfold gaV; rw [e1, nI_clamp (by omega)]; first | (rw [bI_0.mp c_52]; rfl) | (rw [bI_ne.mp c_52]; rfl))
    |   (have e0 := gw_f c_43; have e1 : gaB a s = false := (by unfold gaT at e0; cases h2 : gaB a s <;> simp [h2] at e0 ⊢); refine ⟨_, rfl, ?_, ar 23, by rw [aset_self]⟩; unfold gaV; rw [e1]; rfl)
  · have e0 := gw_t c_43 hT
    have e1 : gaB a s = true := by
      have e0 := e0
      unfold gaT at e0
      cases h2 : gaB a s <;> simp [h2] at e0 ⊢
    have e2 : inB a 1 4 = true := by
      have e1 := e1
      unfold gaB at e1
      rw [Bool.and_eq_true] at e1
      exact e1.1
    obtain ⟨R, hR1, hR4, rfl⟩ := inB14 e2
    refine r_aload_0 (pc := 46) C dX2_ask_46 ?_
    refine r_iload_1 (pc := 47) C dX2_ask_47 ?_
    refine r_iload_2 (pc := 48) C dX2_ask_48 ?_
    refine r_callV (pc := 49) (nA := 2) C (c_X2_isHad G (d - 1) hR1 hR4 hI) (ha := (mput_at hI (j := 0) (by decide))) (hc := rfl) (h1 := q1796) (h2 := q1798) (h3 := qs51) (h4 := q61) (h5 := q1799)  (hd := dX2_ask_49) (kk := kI fun r h1 hr => ?_) (kx := kN)
    obtain ⟨rfl, f, rfl⟩ := hr
    refine r_ifeq (pc := 52) (tgt := 59) C dX2_ask_52 (by decide) (fun c_52 => ?_) (fun c_52 => ?_)
    · refine r_iconst (pc := 59) (v := 0) C dX2_ask_59 (by decide) ?_
      refine r_zret (pc := 60) C dX2_ask_60 (by (repeat' split) <;> rfl) ?_
      first
      |   (refine ⟨_, rfl, ?_, f, rfl⟩; unfold gaV; rw [e1, nI_clamp (by omega)]; first | (rw [bI_0.mp c_52]; rfl) | (rw [bI_ne.mp c_52]; rfl))
      |   (have e0 := gw_f c_43; have e1 : gaB a s = false := (by unfold gaT at e0; cases h2 : gaB a s <;> simp [h2] at e0 ⊢); refine ⟨_, rfl, ?_, ar 23, by rw [aset_self]⟩; unfold gaV; rw [e1]; rfl)
    · refine r_iconst (pc := 55) (v := 1) C dX2_ask_55 (by decide) ?_
      refine r_goto (pc := 56) (tgt := 60) C dX2_ask_56 (by decide) ?_
      refine r_zret (pc := 60) C dX2_ask_60 (by (repeat' split) <;> rfl) ?_
      first
      |   (refine ⟨_, rfl, ?_, f, rfl⟩; unfold gaV; rw [e1, nI_clamp (by omega)]; first | (rw [bI_0.mp c_52]; rfl) | (rw [bI_ne.mp c_52]; rfl))
      |   (have e0 := gw_f c_43; have e1 : gaB a s = false := (by unfold gaT at e0; cases h2 : gaB a s <;> simp [h2] at e0 ⊢); refine ⟨_, rfl, ?_, ar 23, by rw [aset_self]⟩; unfold gaV; rw [e1]; rfl)
theorem c_X2_has (G : Good w) (d : Nat) (hd : 2 ≤ d) {a s : Int32} (hI : MI am) : Con w yX2_has (ws_ yX2_has cX2_has 3 (some .boolean)) d 0 0 [.ref (am 0), .int a, .int s] (mput w am fi ar h0) (Qi (fun r h' => r = bI (gaV a s) ∧ ∃ f, h' = mput w am (fset fi 0 (gaT a s)) (aset ar 23 f) h0)) noX := by
  refine Con.of G [some (.ref (am 0)), some (.int a), some (.int s)] (body := fun g C => ?_)
  refine r_aload_0 (pc := 0) C dX2_has_0 ?_
  refine r_iload_1 (pc := 1) C dX2_has_1 ?_
  refine r_iload_2 (pc := 2) C dX2_has_2 ?_
  refine r_callV (pc := 3) (nA := 2) C (c_X2_ask G (d - 1) (by omega) hI) (ha := (mput_at hI (j := 0) (by decide))) (hc := rfl) (h1 := q1792) (h2 := q1794) (h3 := qs50) (h4 := q61) (h5 := q1795)  (hd := dX2_has_3) (kk := kI fun r h1 hr => ?_) (kx := kN)
  obtain ⟨rfl, hr⟩ := hr
  refine r_zret (pc := 6) C dX2_has_6 (nar_bI _) ?_
  exact ⟨_, rfl, rfl, hr⟩
theorem c_X2_hasAnew (G : Good w) (d : Nat) (hd : 2 ≤ d) {a s : Int32} (hI : MI am) : Con w yX2_hasAnew (ws_ yX2_hasAnew cX2_hasAnew 3 (some .boolean)) d 0 0 [.ref (am 0), .int a, .int s] (mput w am fi ar h0) (Qi (fun r h' => r = bI (gaV a s) ∧ ∃ f, h' = mput w am (fset fi 0 (gaT a s)) (aset ar 23 f) h0)) noX := by
  refine Con.of G [some (.ref (am 0)), some (.int a), some (.int s)] (body := fun g C => ?_)
  refine r_aload_0 (pc := 0) C dX2_hasAnew_0 ?_
  refine r_iload_1 (pc := 1) C dX2_hasAnew_1 ?_
  refine r_iload_2 (pc := 2) C dX2_hasAnew_2 ?_
  refine r_callV (pc := 3) (nA := 2) C (c_X2_ask G (d - 1) (by omega) hI) (ha := (mput_at hI (j := 0) (by decide))) (hc := rfl) (h1 := q1792) (h2 := q1794) (h3 := qs50) (h4 := q61) (h5 := q1795)  (hd := dX2_hasAnew_3) (kk := kI fun r h1 hr => ?_) (kx := kN)
  obtain ⟨rfl, hr⟩ := hr
  refine r_zret (pc := 6) C dX2_hasAnew_6 (nar_bI _) ?_
  exact ⟨_, rfl, rfl, hr⟩
end M7
