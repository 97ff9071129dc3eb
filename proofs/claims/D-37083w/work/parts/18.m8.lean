/-! 18: ReversalCourtModel: proofs -/
set_option maxRecDepth 100000
section M8
variable {w : WD} {am fi : Nat → Nat} {ar : Nat → Nat → Int32} {h0 : AH}
theorem nextR_19 {f : Nat → Int32} (s : Int32) : nextR fi (aset ar 19 f) s = nextR fi ar s := rfl
theorem c_X2_prove (G : Good w) (d : Nat) (hd : 2 ≤ d) {s q : Int32} (hI : MI am) (M : MOK fi ar) (hc : ¬ bitAt (cloF fi ar s) q = 0) : Con w yX2_prove (ws_ yX2_prove cX2_prove 8 (some .int)) d 0 0 [.ref (am 0), .int s, .int q] (mput w am fi ar h0) (Qi (fun r h' => ∃ f, r = nI (kpF ar q (stF fi ar s q)).length ∧ h' = mput w am fi (aset ar 19 f) h0 ∧ HasI f ((kpF ar q (stF fi ar s q)).map nI))) noX := by
  refine Con.of G [some (.ref (am 0)), some (.int s), some (.int q), none, none, none, none, none] (body := fun g C => ?_)
  have hn : fi 21 ≤ 30 := M.2.2.1
  obtain ⟨t1, t2⟩ : (∀ r ∈ stF fi ar s q, r < fi 21) ∧ (stF fi ar s q).length ≤ 10 := stp_ok M
  have tk : ∀ k r, (stF fi ar s q)[k]? = some r → r < 30 := fun k r h => by have := t1 r (List.mem_of_getElem? h); omega
  have hml : (mkF ar q (stF fi ar s q)).length = (stF fi ar s q).length := mkF_len _
  -- third loop
  have L3 : ∀ m k : Nat, k + m = (stF fi ar s q).length → ∀ f : Nat → Int32, HasI f (((mkF ar q (stF fi ar s q)).take k).filter (fun x => decide (¬ x = -1))) → (∀ j x, k ≤ j → (mkF ar q (stF fi ar s q))[j]? = some x → f j = x) → ∀ t z, wp w g (mQ w g 0 0 (Qi (fun r h' => ∃ f, r = nI (kpF ar q (stF fi ar s q)).length ∧ h' = mput w am fi (aset ar 19 f) h0 ∧ HasI f ((kpF ar q (stF fi ar s q)).map nI))) noX) 153 [some (.ref (am 0)), some (.int s), some (.int q), t, some (.int (nI (stF fi ar s q).length)), z, some (.int (nI (((mkF ar q (stF fi ar s q)).take k).filter (fun x => decide (¬ x = -1))).length)), some (.int (nI k))] [] (mput w am fi (aset ar 19 f) h0) 0 0 := by
    intro m
    induction m with
    | zero =>
      intro k hk f f1 f2 t z
      have hk : k = (stF fi ar s q).length := by omega
      refine r_iload_7 (pc := 153) C dX2_prove_153 ?_
      refine r_iload_4 (pc := 155) C dX2_prove_155 ?_
      refine r_icge (pc := 157) (tgt := 194) C dX2_prove_157 (by decide) (fun c_157 => ?_) (fun c_157 => ?_)
      · refine r_iload_6 (pc := 194) C dX2_prove_194 ?_
        refine r_iret (pc := 196) C dX2_prove_196 ?_
        rw [List.take_of_length_le (by omega), mkF_kp (fun r hr => by have := t1 r hr; omega)] at f1 ⊢
        exact ⟨_, rfl, f, by rw [List.length_map], rfl, f1⟩
      · exact absurd (nI_le (by omega) (by omega)) c_157 --halt
    | succ m ih =>
      intro k hk f f1 f2 t z
      obtain ⟨x, hx⟩ : ∃ x, (mkF ar q (stF fi ar s q))[k]? = some x := ⟨_, List.getElem?_eq_getElem (by omega)⟩
      have fk := f2 k x (Nat.le_refl _) hx
      have hle : (((mkF ar q (stF fi ar s q)).take k).filter (fun x => decide (¬ x = -1))).length ≤ k := Nat.le_trans (List.length_filter_le _ _) (by rw [List.length_take]; omega)
      refine r_iload_7 (pc := 153) C dX2_prove_153 ?_
      refine r_iload_4 (pc := 155) C dX2_prove_155 ?_
      refine r_icge (pc := 157) (tgt := 194) C dX2_prove_157 (by decide) (fun c_157 => ?_) (fun c_157 => ?_)
      · exact absurd c_157 (nI_ge (by omega) (by omega)) --halt
      · refine r_aload_0 (pc := 160) C dX2_prove_160 ?_
        refine r_mg26 (pc := 161) C hI dX2_prove_161 ?_
        refine r_iload_7 (pc := 164) C dX2_prove_164 ?_
        refine r_mniald (pc := 166) C hI (by decide) (by decide) rfl (by simp only [mlen]; omega) (by decide) dX2_prove_166 ?_
        rw [show aset ar 19 f 19 k = x from fk]
        refine r_iconst (pc := 167) (v := -1) C dX2_prove_167 (by decide) ?_
        refine r_iceq (pc := 168) (tgt := 188) C dX2_prove_168 (by decide) (fun c_168 => ?_) (fun c_168 => ?_)
        · refine r_iinc_7 (pc := 188) C dX2_prove_188 (nI_1 _) ?_
          refine r_goto (pc := 191) (tgt := 153) C dX2_prove_191 (by decide) ?_
          have et := take_s hx
          first
          |   (have e3 : ((mkF ar q (stF fi ar s q)).take (k + 1)).filter (fun x => decide (¬ x = -1)) = ((mkF ar q (stF fi ar s q)).take k).filter (fun x => decide (¬ x = -1)) := by rw [et, List.filter_append, List.filter_cons, if_neg (by simp [c_168])]; simp
               have e := ih (k + 1) (by omega) f (by rw [e3]; exact f1) (fun j y hj hy => f2 j y (by omega) hy) t z
               rw [e3] at e
               exact e)
          |   (have e3 : ((mkF ar q (stF fi ar s q)).take (k + 1)).filter (fun x => decide (¬ x = -1)) = ((mkF ar q (stF fi ar s q)).take k).filter (fun x => decide (¬ x = -1)) ++ [x] := by rw [et, List.filter_append, List.filter_cons, if_pos (by simp [c_168])]; rfl
               have e := ih (k + 1) (by omega) (upd f (((mkF ar q (stF fi ar s q)).take k).filter (fun x => decide (¬ x = -1))).length x) (by rw [e3]; exact HasI.upd (fun j y hj hy => f1 j y (by rw [List.getElem?_append] at hy; split at hy; exact hy; rw [List.getElem?_eq_none (by show 1 ≤ _; omega)] at hy; cases hy)) (fun y hy => by rw [List.getElem?_append_right (Nat.le_refl _), Nat.sub_self] at hy; exact Option.some.inj hy)) (fun j y hj hy => by rw [pk_un (by omega)]; exact f2 j y (by omega) hy) t z
               rw [e3, List.length_append] at e
               exact e)
        · refine r_aload_0 (pc := 171) C dX2_prove_171 ?_
          refine r_mg26 (pc := 172) C hI dX2_prove_172 ?_
          refine r_iload_6 (pc := 175) C dX2_prove_175 ?_
          refine r_aload_0 (pc := 177) C dX2_prove_177 ?_
          refine r_mg26 (pc := 178) C hI dX2_prove_178 ?_
          refine r_iload_7 (pc := 181) C dX2_prove_181 ?_
          refine r_mniald (pc := 183) C hI (by decide) (by decide) rfl (by simp only [mlen]; omega) (by decide) dX2_prove_183 ?_
          rw [show aset ar 19 f 19 k = x from fk]
          refine r_mniast (pc := 184) C hI (by decide) (by decide) rfl (by simp only [mlen]; omega) (by decide) dX2_prove_184 ?_
          rw [aset_up]
          refine r_iinc_6 (pc := 185) C dX2_prove_185 (nI_1 _) ?_
          refine r_iinc_7 (pc := 188) C dX2_prove_188 (nI_1 _) ?_
          refine r_goto (pc := 191) (tgt := 153) C dX2_prove_191 (by decide) ?_
          have et := take_s hx
          first
          |   (have e3 : ((mkF ar q (stF fi ar s q)).take (k + 1)).filter (fun x => decide (¬ x = -1)) = ((mkF ar q (stF fi ar s q)).take k).filter (fun x => decide (¬ x = -1)) := by rw [et, List.filter_append, List.filter_cons, if_neg (by simp [c_168])]; simp
               have e := ih (k + 1) (by omega) f (by rw [e3]; exact f1) (fun j y hj hy => f2 j y (by omega) hy) t z
               rw [e3] at e
               exact e)
          |   (have e3 : ((mkF ar q (stF fi ar s q)).take (k + 1)).filter (fun x => decide (¬ x = -1)) = ((mkF ar q (stF fi ar s q)).take k).filter (fun x => decide (¬ x = -1)) ++ [x] := by rw [et, List.filter_append, List.filter_cons, if_pos (by simp [c_168])]; rfl
               have e := ih (k + 1) (by omega) (upd f (((mkF ar q (stF fi ar s q)).take k).filter (fun x => decide (¬ x = -1))).length x) (by rw [e3]; exact HasI.upd (fun j y hj hy => f1 j y (by rw [List.getElem?_append] at hy; split at hy; exact hy; rw [List.getElem?_eq_none (by show 1 ≤ _; omega)] at hy; cases hy)) (fun y hy => by rw [List.getElem?_append_right (Nat.le_refl _), Nat.sub_self] at hy; exact Option.some.inj hy)) (fun j y hj hy => by rw [pk_un (by omega)]; exact f2 j y (by omega) hy) t z
               rw [e3, List.length_append] at e
               exact e)
  -- second loop
  have L2 : ∀ k : Nat, k ≤ (stF fi ar s q).length → ∀ f : Nat → Int32, HasI f (((stF fi ar s q).take k).map nI ++ mkF ar q ((stF fi ar s q).drop k)) → ∀ t z, wp w g (mQ w g 0 0 (Qi (fun r h' => ∃ f, r = nI (kpF ar q (stF fi ar s q)).length ∧ h' = mput w am fi (aset ar 19 f) h0 ∧ HasI f ((kpF ar q (stF fi ar s q)).map nI))) noX) 59 [some (.ref (am 0)), some (.int s), some (.int q), t, some (.int (nI (stF fi ar s q).length)), some (.int (ndF ar q ((stF fi ar s q).drop k))), some (.int (nI k - 1)), z] [] (mput w am fi (aset ar 19 f) h0) 0 0 := by
    intro k
    induction k with
    | zero =>
      intro hk f f1 t z
      refine r_iload_6 (pc := 59) C dX2_prove_59 ?_
      refine r_iflt (pc := 61) (tgt := 147) C dX2_prove_61 (by decide) (fun c_61 => ?_) (fun c_61 => ?_)
      · refine r_iconst (pc := 147) (v := 0) C dX2_prove_147 (by decide) ?_
        refine r_istore_6 (pc := 148) C dX2_prove_148 ?_
        refine r_iconst (pc := 150) (v := 0) C dX2_prove_150 (by decide) ?_
        refine r_istore_7 (pc := 151) C dX2_prove_151 ?_
        exact L3 _ 0 (Nat.zero_add _) f (fun j x hj => by simp at hj) (fun j x _ hj => f1 j x hj) _ _
      · exact absurd (by decide) c_61 --halt
    | succ k ih =>
      intro hk f f1 t z
      obtain ⟨r, hr⟩ : ∃ r, (stF fi ar s q)[k]? = some r := ⟨_, List.getElem?_eq_getElem (by omega)⟩
      have hr30 := tk k r hr
      have hlen : (((stF fi ar s q).take (k + 1)).map nI).length = k + 1 := by rw [List.length_map, List.length_take]; omega
      have hlen2 : (((stF fi ar s q).take k).map nI).length = k := by rw [List.length_map, List.length_take]; omega
      have fk : f k = nI r := f1 k (nI r) (by rw [List.getElem?_append_left (by omega), List.getElem?_map, List.getElem?_take_of_lt (by omega), hr]; rfl)
      rw [nI_pred]
      refine r_iload_6 (pc := 59) C dX2_prove_59 ?_
      refine r_iflt (pc := 61) (tgt := 147) C dX2_prove_61 (by decide) (fun c_61 => ?_) (fun c_61 => ?_)
      · exact absurd c_61 (nI_pos (by omega)) --halt
      · refine r_iload_5 (pc := 64) C dX2_prove_64 ?_
        refine r_aload_0 (pc := 66) C dX2_prove_66 ?_
        refine r_mg23 (pc := 67) C hI dX2_prove_67 ?_
        refine r_aload_0 (pc := 70) C dX2_prove_70 ?_
        refine r_mg26 (pc := 71) C hI dX2_prove_71 ?_
        refine r_iload_6 (pc := 74) C dX2_prove_74 ?_
        refine r_mniald (pc := 76) C hI (by decide) (by decide) rfl (by simp only [mlen]; omega) (by decide) dX2_prove_76 ?_
        rw [show aset ar 19 f 19 k = nI r from fk]
        refine r_mniald (pc := 77) C hI (by decide) (by decide) rfl (by simp only [mlen]; omega) (by decide) dX2_prove_77 ?_
        refine r_ishr (pc := 78) C dX2_prove_78 ?_
        refine r_iconst (pc := 79) (v := 1) C dX2_prove_79 (by decide) ?_
        refine r_iand (pc := 80) C dX2_prove_80 ?_
        refine r_iconst (pc := 81) (v := 1) C dX2_prove_81 (by decide) ?_
        refine r_icneM (pc := 82) (tgt := 89) C 90 ?_ ?_ dX2_prove_82 (by decide) (fun c_82 j_82 => ?_) (fun c_82 j_82 => ?_) ?_
        rotate_left 2
        · refine r_iconst (pc := 89) (v := 0) C dX2_prove_89 (by decide) ?_
          exact j_82
        · refine r_iconst (pc := 85) (v := 1) C dX2_prove_85 (by decide) ?_
          refine r_goto (pc := 86) (tgt := 90) C dX2_prove_86 (by decide) ?_
          exact j_82
        refine r_istore_7 (pc := 90) C dX2_prove_90 ?_
        refine r_iload_5 (pc := 92) C dX2_prove_92 ?_
        refine r_iload_7 (pc := 94) C dX2_prove_94 ?_
        refine r_ifeqM (pc := 96) (tgt := 114) C 115 ?_ ?_ dX2_prove_96 (by decide) (fun c_96 j_96 => ?_) (fun c_96 j_96 => ?_) ?_
        rotate_left 2
        · refine r_iconst (pc := 114) (v := 0) C dX2_prove_114 (by decide) ?_
          exact j_96
        · refine r_aload_0 (pc := 99) C dX2_prove_99 ?_
          refine r_mg22 (pc := 100) C hI dX2_prove_100 ?_
          refine r_aload_0 (pc := 103) C dX2_prove_103 ?_
          refine r_mg26 (pc := 104) C hI dX2_prove_104 ?_
          refine r_iload_6 (pc := 107) C dX2_prove_107 ?_
          refine r_mniald (pc := 109) C hI (by decide) (by decide) rfl (by simp only [mlen]; omega) (by decide) dX2_prove_109 ?_
          rw [show aset ar 19 f 19 k = nI r from fk]
          refine r_mniald (pc := 110) C hI (by decide) (by decide) rfl (by simp only [mlen]; omega) (by decide) dX2_prove_110 ?_
          refine r_goto (pc := 111) (tgt := 115) C dX2_prove_111 (by decide) ?_
          exact j_96
        refine r_ior (pc := 115) C dX2_prove_115 ?_
        refine r_istore_5 (pc := 116) C dX2_prove_116 ?_
        refine r_aload_0 (pc := 118) C dX2_prove_118 ?_
        refine r_mg26 (pc := 119) C hI dX2_prove_119 ?_
        refine r_iload_6 (pc := 122) C dX2_prove_122 ?_
        refine r_iload_7 (pc := 124) C dX2_prove_124 ?_
        refine r_ifeqM (pc := 126) (tgt := 139) C 140 ?_ ?_ dX2_prove_126 (by decide) (fun c_126 j_126 => ?_) (fun c_126 j_126 => ?_) ?_
        rotate_left 2
        · refine r_iconst (pc := 139) (v := -1) C dX2_prove_139 (by decide) ?_
          exact j_126
        · refine r_aload_0 (pc := 129) C dX2_prove_129 ?_
          refine r_mg26 (pc := 130) C hI dX2_prove_130 ?_
          refine r_iload_6 (pc := 133) C dX2_prove_133 ?_
          refine r_mniald (pc := 135) C hI (by decide) (by decide) rfl (by simp only [mlen]; omega) (by decide) dX2_prove_135 ?_
          rw [show aset ar 19 f 19 k = nI r from fk]
          refine r_goto (pc := 136) (tgt := 140) C dX2_prove_136 (by decide) ?_
          exact j_126
        refine r_mniast (pc := 140) C hI (by decide) (by decide) rfl (by simp only [mlen]; omega) (by decide) dX2_prove_140 ?_
        rw [aset_up]
        refine r_iinc_6 (pc := 141) C dX2_prove_141 (add_m1 _) ?_
        refine r_goto (pc := 144) (tgt := 59) C dX2_prove_144 (by decide) ?_
        have e := ih (by omega) (upd f k (if bitAt (ndF ar q ((stF fi ar s q).drop (k + 1))) (ar 17 r) = 1 then nI r else -1)) ?_
        · rw [drop_s hr] at e
          have ew : (if (if ((ndF ar q ((stF fi ar s q).drop (k + 1))) >>> (aset ar 19 f 17 r &&& 31)) &&& 1 = 1 then (1 : Int32) else 0) = 0 then (-1 : Int32) else nI r) = (if bitAt (ndF ar q ((stF fi ar s q).drop (k + 1))) (ar 17 r) = 1 then nI r else -1) := by
            by_cases hb : bitAt (ndF ar q ((stF fi ar s q).drop (k + 1))) (ar 17 r) = 1
            · have hb2 : ((ndF ar q ((stF fi ar s q).drop (k + 1))) >>> (aset ar 19 f 17 r &&& 31)) &&& 1 = 1 := hb
              rw [if_pos hb, if_pos hb2, if_neg (by decide)]
            · have hb2 : ¬ ((ndF ar q ((stF fi ar s q).drop (k + 1))) >>> (aset ar 19 f 17 r &&& 31)) &&& 1 = 1 := hb
              rw [if_neg hb, if_neg hb2, if_pos rfl]
          have en : ndF ar q (r :: (stF fi ar s q).drop (k + 1)) = ndF ar q ((stF fi ar s q).drop (k + 1)) ||| (if (if ((ndF ar q ((stF fi ar s q).drop (k + 1))) >>> (aset ar 19 f 17 r &&& 31)) &&& 1 = 1 then (1 : Int32) else 0) = 0 then 0 else aset ar 19 f 16 r) := by
            by_cases hb : bitAt (ndF ar q ((stF fi ar s q).drop (k + 1))) (ar 17 r) = 1
            · have hb2 : ((ndF ar q ((stF fi ar s q).drop (k + 1))) >>> (aset ar 19 f 17 r &&& 31)) &&& 1 = 1 := hb
              show _ ||| (if _ then _ else _) = _
              rw [if_pos hb, if_pos hb2, if_neg (by decide)]
              rfl
            · have hb2 : ¬ ((ndF ar q ((stF fi ar s q).drop (k + 1))) >>> (aset ar 19 f 17 r &&& 31)) &&& 1 = 1 := hb
              show _ ||| (if _ then _ else _) = _
              rw [if_neg hb, if_neg hb2, if_pos rfl]
          rw [en] at e
          rw [ew]
          exact e _ _
        refine HasI.upd (fun j y hj hy => ?_) (fun y hy => ?_)
        · by_cases hjk : j < k
          · refine f1 j y ?_
            rw [List.getElem?_append_left (by omega)] at hy ⊢
            rw [List.getElem?_map, List.getElem?_take_of_lt (by omega)] at hy ⊢
            exact hy
          · refine f1 j y ?_
            rw [List.getElem?_append_right (by omega), hlen2, drop_s hr, show j - k = (j - (k + 1)) + 1 by omega] at hy
            rw [List.getElem?_append_right (by omega), hlen]
            exact hy
        · rw [List.getElem?_append_right (by omega), hlen2, drop_s hr, Nat.sub_self] at hy
          exact Option.some.inj hy
  -- first loop
  have L1 : ∀ (m : Nat) (u : Int32) (D : List Nat) (f : Nat → Int32), muS u ≤ m → D.length + m ≤ 10 → ¬ bitAt (cloN fi ar m u) q = 0 → D ++ stp fi ar q m u = stF fi ar s q → HasI f (D.map nI) → ∀ z1 z2 z3, wp w g (mQ w g 0 0 (Qi (fun r h' => ∃ f, r = nI (kpF ar q (stF fi ar s q)).length ∧ h' = mput w am fi (aset ar 19 f) h0 ∧ HasI f ((kpF ar q (stF fi ar s q)).map nI))) noX) 5 [some (.ref (am 0)), some (.int s), some (.int q), some (.int u), some (.int (nI D.length)), z1, z2, z3] [] (mput w am fi (aset ar 19 f) h0) 0 0 := by
    intro m
    induction m with
    | zero =>
      intro u D f hu hD hcl hT hf z1 z2 z3
      have e0 : ¬ bitAt u q = 0 := hcl
      have e1 : D = stF fi ar s q := by rw [← hT]; simp [stp]
      refine r_iload_3 (pc := 5) C dX2_prove_5 ?_
      refine r_iload_2 (pc := 6) C dX2_prove_6 ?_
      refine r_ishr (pc := 7) C dX2_prove_7 ?_
      refine r_iconst (pc := 8) (v := 1) C dX2_prove_8 (by decide) ?_
      refine r_iand (pc := 9) C dX2_prove_9 ?_
      refine r_ifne (pc := 10) (tgt := 48) C dX2_prove_10 (by decide) (fun c_10 => ?_) (fun c_10 => ?_)
      · refine r_iconst (pc := 48) (v := 1) C dX2_prove_48 (by decide) ?_
        refine r_iload_2 (pc := 49) C dX2_prove_49 ?_
        refine r_ishl (pc := 50) C dX2_prove_50 ?_
        refine r_istore_5 (pc := 51) C dX2_prove_51 ?_
        rw [e1] at hf ⊢
        refine r_iload_4 (pc := 53) C dX2_prove_53 ?_
        refine r_iconst (pc := 55) (v := 1) C dX2_prove_55 (by decide) ?_
        refine r_isub (pc := 56) C dX2_prove_56 ?_
        refine r_istore_6 (pc := 57) C dX2_prove_57 ?_
        have e := L2 _ (Nat.le_refl _) f ?_
        · rw [List.drop_length] at e
          exact e _ _
        rw [List.drop_length, List.take_length]
        simpa [mkF] using hf
      · exact absurd c_10 e0 --halt
    | succ m ih =>
      intro u D f hu hD hcl hT hf z1 z2 z3
      by_cases e0 : bitAt u q = 0
      · have e0' : (u >>> (q &&& 31)) &&& 1 = 0 := e0
        unfold cloN at hcl
        cases en : nextR fi ar u with
        | none =>
          rw [en] at hcl
          exact absurd e0 hcl
        | some r =>
          rw [en] at hcl
          obtain ⟨k1, k2, k3⟩ := nextR_ok M en
          refine r_iload_3 (pc := 5) C dX2_prove_5 ?_
          refine r_iload_2 (pc := 6) C dX2_prove_6 ?_
          refine r_ishr (pc := 7) C dX2_prove_7 ?_
          refine r_iconst (pc := 8) (v := 1) C dX2_prove_8 (by decide) ?_
          refine r_iand (pc := 9) C dX2_prove_9 ?_
          refine r_ifne (pc := 10) (tgt := 48) C dX2_prove_10 (by decide) (fun c_10 => ?_) (fun c_10 => ?_)
          · exact absurd e0' c_10 --halt
          · refine r_aload_0 (pc := 13) C dX2_prove_13 ?_
            refine r_mg26 (pc := 14) C hI dX2_prove_14 ?_
            refine r_iload_4 (pc := 17) C dX2_prove_17 ?_
            refine r_aload_0 (pc := 19) C dX2_prove_19 ?_
            refine r_iload_3 (pc := 20) C dX2_prove_20 ?_
            refine r_callV (pc := 21) (nA := 1) C (c_X2_nextRule G (d - 1) (by omega) hI hn) (ha := (mput_at hI (j := 0) (by decide))) (hc := rfl) (h1 := q1696) (h2 := q1698) (h3 := qs42) (h4 := q61) (h5 := q1699)  (hd := dX2_prove_21) (kk := kP ?_) (kx := kN)
            rw [nextR_19, en]
            refine r_mniast (pc := 24) C hI (by decide) (by decide) rfl (by simp only [mlen]; omega) (by decide) dX2_prove_24 ?_
            rw [aset_up]
            refine r_iload_3 (pc := 25) C dX2_prove_25 ?_
            refine r_iconst (pc := 26) (v := 1) C dX2_prove_26 (by decide) ?_
            refine r_aload_0 (pc := 27) C dX2_prove_27 ?_
            refine r_mg23 (pc := 28) C hI dX2_prove_28 ?_
            refine r_aload_0 (pc := 31) C dX2_prove_31 ?_
            refine r_mg26 (pc := 32) C hI dX2_prove_32 ?_
            refine r_iload_4 (pc := 35) C dX2_prove_35 ?_
            refine r_mniald (pc := 37) C hI (by decide) (by decide) rfl (by simp only [mlen]; omega) (by decide) dX2_prove_37 ?_
            rw [show aset ar 19 (upd f D.length (o2i (some r))) 19 D.length = nI r from pk_us]
            refine r_mniald (pc := 38) C hI (by decide) (by decide) rfl (by simp only [mlen]; omega) (by decide) dX2_prove_38 ?_
            refine r_ishl (pc := 39) C dX2_prove_39 ?_
            refine r_ior (pc := 40) C dX2_prove_40 ?_
            refine r_istore_3 (pc := 41) C dX2_prove_41 ?_
            refine r_iinc_4 (pc := 42) C dX2_prove_42 (nI_1 _) ?_
            refine r_goto (pc := 45) (tgt := 5) C dX2_prove_45 (by decide) ?_
            have e := ih (stepS ar u r) (D ++ [r]) (upd f D.length (nI r)) (by omega) (by rw [List.length_append]; show D.length + 1 + m ≤ 10; omega) hcl ?_ ?_
            · rw [List.length_append] at e
              exact e _ _ _
            · rw [← hT, List.append_assoc]
              show D ++ (r :: stp fi ar q m (stepS ar u r)) = _
              congr 1
              show _ = if bitAt u q = 0 then _ else _
              rw [if_pos e0, en]
            · rw [List.map_append]
              refine HasI.upd (fun j y hj hy => hf j y ?_) (fun y hy => ?_)
              · rw [List.getElem?_append] at hy
                split at hy
                · exact hy
                · next hlt =>
                  rw [List.length_map] at hlt
                  rw [List.getElem?_eq_none (by simp; omega)] at hy
                  cases hy
              · rw [List.getElem?_append_right (by rw [List.length_map]; exact Nat.le_refl _), List.length_map, Nat.sub_self] at hy
                exact Option.some.inj hy
      · have e0' : ¬ (u >>> (q &&& 31)) &&& 1 = 0 := e0
        have e1 : D = stF fi ar s q := by rw [← hT]; simp [stp, e0]
        refine r_iload_3 (pc := 5) C dX2_prove_5 ?_
        refine r_iload_2 (pc := 6) C dX2_prove_6 ?_
        refine r_ishr (pc := 7) C dX2_prove_7 ?_
        refine r_iconst (pc := 8) (v := 1) C dX2_prove_8 (by decide) ?_
        refine r_iand (pc := 9) C dX2_prove_9 ?_
        refine r_ifne (pc := 10) (tgt := 48) C dX2_prove_10 (by decide) (fun c_10 => ?_) (fun c_10 => ?_)
        · refine r_iconst (pc := 48) (v := 1) C dX2_prove_48 (by decide) ?_
          refine r_iload_2 (pc := 49) C dX2_prove_49 ?_
          refine r_ishl (pc := 50) C dX2_prove_50 ?_
          refine r_istore_5 (pc := 51) C dX2_prove_51 ?_
          rw [e1] at hf ⊢
          refine r_iload_4 (pc := 53) C dX2_prove_53 ?_
          refine r_iconst (pc := 55) (v := 1) C dX2_prove_55 (by decide) ?_
          refine r_isub (pc := 56) C dX2_prove_56 ?_
          refine r_istore_6 (pc := 57) C dX2_prove_57 ?_
          have e := L2 _ (Nat.le_refl _) f ?_
          · rw [List.drop_length] at e
            exact e _ _
          rw [List.drop_length, List.take_length]
          simpa [mkF] using hf
        · exact absurd c_10 e0' --halt
  refine r_iload_1 (pc := 0) C dX2_prove_0 ?_
  refine r_istore_3 (pc := 1) C dX2_prove_1 ?_
  refine r_iconst (pc := 2) (v := 0) C dX2_prove_2 (by decide) ?_
  refine r_istore_4 (pc := 3) C dX2_prove_3 ?_
  have e := L1 10 s [] (ar 19) (muS_le s) (by decide) hc rfl (fun j x hj => by simp at hj) none none none
  rw [aset_self] at e
  exact e
theorem c_X2_proof (G : Good w) (d : Nat) (hd : 3 ≤ d) {s q i : Int32} (hI : MI am) (M : MOK fi ar) : Con w yX2_proof (ws_ yX2_proof cX2_proof 6 (some .int)) d 0 0 [.ref (am 0), .int s, .int q, .int i] (mput w am fi ar h0) (Qi (fun r h' => r = pfV fi ar s q i ∧ ∃ f, h' = mput w am (fset fi 0 (pfT fi s q i)) (aset ar 19 f) h0)) noX := by
  refine Con.of G [some (.ref (am 0)), some (.int s), some (.int q), some (.int i), none, none] (body := fun g C => ?_)
  have hT : pfT fi s q i < 2 ^ 31 := by unfold pfT; split <;> (try split) <;> decide
  refine r_aload_0 (pc := 0) C dX2_proof_0 ?_
  refine r_iload_2 (pc := 1) C dX2_proof_1 ?_
  refine r_callV (pc := 2) (nA := 1) C (c_X2_isPrinciple G (d - 1) (by omega) hI) (ha := (mput_at hI (j := 0) (by decide))) (hc := rfl) (h1 := q1673) (h2 := q1675) (h3 := qs39) (h4 := q61) (h5 := q1676)  (hd := dX2_proof_2) (kk := kP ?_) (kx := kN)
  refine r_ifeqM (pc := 5) (tgt := 16) C 17 ?_ ?_ dX2_proof_5 (by decide) (fun c_5 j_5 => ?_) (fun c_5 j_5 => ?_) ?_
  rotate_left 2
  · refine r_iconst (pc := 16) (v := 0) C dX2_proof_16 (by decide) ?_
    exact j_5
  · refine r_iload_3 (pc := 8) C dX2_proof_8 ?_
    refine r_ifltM (pc := 9) (tgt := 16) C 17 ?_ ?_ dX2_proof_9 (by decide) (fun c_9 j_9 => ?_) (fun c_9 j_9 => ?_) ?_
    rotate_left 2
    · refine r_iconst (pc := 16) (v := 0) C dX2_proof_16 (by decide) ?_
      exact j_9
    · refine r_iconst (pc := 12) (v := 1) C dX2_proof_12 (by decide) ?_
      refine r_goto (pc := 13) (tgt := 17) C dX2_proof_13 (by decide) ?_
      exact j_9
    exact j_5
  refine r_istore_4 (pc := 17) C dX2_proof_17 ?_
  refine r_aload_0 (pc := 19) C dX2_proof_19 ?_
  refine r_iload_4 (pc := 20) C dX2_proof_20 ?_
  refine r_ifneM (pc := 22) (tgt := 29) C 42 ?_ ?_ dX2_proof_22 (by decide) (fun c_22 j_22 => ?_) (fun c_22 j_22 => ?_) ?_
  rotate_left 2
  · refine r_aload_0 (pc := 29) C dX2_proof_29 ?_
    refine r_iload_1 (pc := 30) C dX2_proof_30 ?_
    refine r_callV (pc := 31) (nA := 1) C (c_X2_isSet G (d - 1) (by omega) hI) (ha := (mput_at hI (j := 0) (by decide))) (hc := rfl) (h1 := q1677) (h2 := q1679) (h3 := qs40) (h4 := q61) (h5 := q1680)  (hd := dX2_proof_31) (kk := kP ?_) (kx := kN)
    refine r_ifeqM (pc := 34) (tgt := 41) C 42 ?_ ?_ dX2_proof_34 (by decide) (fun c_34 j_34 => ?_) (fun c_34 j_34 => ?_) ?_
    rotate_left 2
    · refine r_iconst (pc := 41) (v := 2) C dX2_proof_41 (by decide) ?_
      exact j_34
    · refine r_iconst (pc := 37) (v := 0) C dX2_proof_37 (by decide) ?_
      refine r_goto (pc := 38) (tgt := 42) C dX2_proof_38 (by decide) ?_
      exact j_34
    exact j_22
  · refine r_iconst (pc := 25) (v := 1) C dX2_proof_25 (by decide) ?_
    refine r_goto (pc := 26) (tgt := 42) C dX2_proof_26 (by decide) ?_
    exact j_22
  refine r_callV (pc := 42) (nA := 1) C (c_X2_goesWell G (d - 1) (p := pfT fi s q i) hI ?_) (ha := (mput_at hI (j := 0) (by decide))) (hc := rfl) (h1 := q1576) (h2 := q1578) (h3 := qs25) (h4 := q61) (h5 := q1579)  (hd := dX2_proof_42) (kk := kP ?_) (kx := kN)
  · unfold pfT; cases isPrB fi q <;> cases isStB fi s <;> by_cases h : i < 0 <;> simp [h, bI] <;> rfl
  refine r_ifne (pc := 45) (tgt := 50) C dX2_proof_45 (by decide) (fun c_45 => ?_) (fun c_45 => ?_)
  · refine r_aload_0 (pc := 50) C dX2_proof_50 ?_
    refine r_iload_1 (pc := 51) C dX2_proof_51 ?_
    refine r_callV (pc := 52) (nA := 1) C (c_X2_closed G (d - 1) (by omega) hI (MOK_0 M)) (ha := (mput_at hI (j := 0) (by decide))) (hc := rfl) (h1 := q1692) (h2 := q1694) (h3 := qs41) (h4 := q61) (h5 := q1695)  (hd := dX2_proof_52) (kk := kP ?_) (kx := kN)
    refine r_iload_2 (pc := 55) C dX2_proof_55 ?_
    refine r_ishr (pc := 56) C dX2_proof_56 ?_
    refine r_iconst (pc := 57) (v := 1) C dX2_proof_57 (by decide) ?_
    refine r_iand (pc := 58) C dX2_proof_58 ?_
    refine r_ifne (pc := 59) (tgt := 64) C dX2_proof_59 (by decide) (fun c_59 => ?_) (fun c_59 => ?_)
    · have e0 := gw_t c_45 hT
      have n_59 : ¬ bitAt (cloF fi ar s) q = 0 := fun e => c_59 (by show bitAt (cloF (fset fi 0 (pfT fi s q i)) ar s) q = 0; rw [cloF_0]; exact e)
      have hi0 : ¬ i < 0 := by
        have e0 := e0
        unfold pfT at e0
        intro hlt
        cases h2 : isPrB fi q <;> simp [h2, hlt] at e0
      refine r_aload_0 (pc := 64) C dX2_proof_64 ?_
      refine r_iload_1 (pc := 65) C dX2_proof_65 ?_
      refine r_iload_2 (pc := 66) C dX2_proof_66 ?_
      refine r_callV (pc := 67) (nA := 2) C (c_X2_prove G (d - 1) (by omega) hI (MOK_0 M) (by rw [cloF_0]; exact n_59)) (ha := (mput_at hI (j := 0) (by decide))) (hc := rfl) (h1 := q1704) (h2 := q1706) (h3 := qs43) (h4 := q61) (h5 := q1707)  (hd := dX2_proof_67) (kk := kI fun r h1 hr => ?_) (kx := kN)
      obtain ⟨f, rfl, rfl, hf⟩ := hr
      rw [show stF (fset fi 0 (pfT fi s q i)) ar s q = stF fi ar s q from stF_0] at hf ⊢
      obtain ⟨k, hk, rfl⟩ := nI_of hi0
      have hl10 : (kpF ar q (stF fi ar s q)).length ≤ 10 := Nat.le_trans (kpF_len _) (stp_ok M).2
      refine r_istore_5 (pc := 70) C dX2_proof_70 ?_
      refine r_iload_3 (pc := 72) C dX2_proof_72 ?_
      refine r_iload_5 (pc := 73) C dX2_proof_73 ?_
      refine r_icge (pc := 75) (tgt := 87) C dX2_proof_75 (by decide) (fun c_75 => ?_) (fun c_75 => ?_)
      · refine r_iconst (pc := 87) (v := -1) C dX2_proof_87 (by decide) ?_
        refine r_iret (pc := 88) C dX2_proof_88 ?_
        refine ⟨_, rfl, ?_, f, rfl⟩
        unfold pfV
        rw [if_pos e0, if_neg n_59, nI_clamp hk]
        rw [nI_leI (by omega) hk] at c_75
        first
        |   (rw [List.getElem?_eq_none (by omega)]; rfl)
        |   (obtain ⟨r, hr⟩ : ∃ r, (kpF ar q (stF fi ar s q))[k]? = some r := ⟨_, List.getElem?_eq_getElem (by omega)⟩; rw [hr]; exact hf k (nI r) (by rw [List.getElem?_map, hr]; rfl))
      · refine r_aload_0 (pc := 78) C dX2_proof_78 ?_
        refine r_mg26 (pc := 79) C hI dX2_proof_79 ?_
        refine r_iload_3 (pc := 82) C dX2_proof_82 ?_
        refine r_miald (pc := 83) C hI (by decide) (by decide) (vp_in_nI (n := k) (N := 30) (by have := c_75; rw [nI_leI (by omega) hk] at this; omega) (by decide)) dX2_proof_83 ?_
        refine r_goto (pc := 84) (tgt := 88) C dX2_proof_84 (by decide) ?_
        refine r_iret (pc := 88) C dX2_proof_88 ?_
        refine ⟨_, rfl, ?_, f, rfl⟩
        unfold pfV
        rw [if_pos e0, if_neg n_59, nI_clamp hk]
        rw [nI_leI (by omega) hk] at c_75
        first
        |   (rw [List.getElem?_eq_none (by omega)]; rfl)
        |   (obtain ⟨r, hr⟩ : ∃ r, (kpF ar q (stF fi ar s q))[k]? = some r := ⟨_, List.getElem?_eq_getElem (by omega)⟩; rw [hr]; exact hf k (nI r) (by rw [List.getElem?_map, hr]; rfl))
    · refine r_iconst (pc := 62) (v := -1) C dX2_proof_62 (by decide) ?_
      refine r_iret (pc := 63) C dX2_proof_63 ?_
      have e0 := gw_t c_45 hT
      have c_59 : bitAt (cloF fi ar s) q = 0 := by rw [← cloF_0 (p := pfT fi s q i)]; exact c_59
      exact ⟨_, rfl, by unfold pfV; rw [if_pos e0, if_pos c_59], ar 19, by rw [aset_self]⟩
  · refine r_iconst (pc := 48) (v := 0) C dX2_proof_48 (by decide) ?_
    refine r_iret (pc := 49) C dX2_proof_49 ?_
    have e0 := gw_f c_45
    exact ⟨_, rfl, by unfold pfV; rw [if_neg e0], ar 19, by rw [aset_self]⟩
end M8
