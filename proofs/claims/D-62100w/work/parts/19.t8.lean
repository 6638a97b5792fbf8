theorem noP_ok {p : Nat} (hp : p < 4) : s_Mod_noProcessor (nI p) = nI 0 := by
  have : p = 0 ∨ p = 1 ∨ p = 2 ∨ p = 3 := by omega
  rcases this with rfl | rfl | rfl | rfl <;> decide
set_option maxHeartbeats 1000000 in
theorem c_Mod_step_bad (X : gCx) (l : Launch) (h nx : Nat) (N : tS) (p : Int32) (hb : s_Mod_noProcessor p ≠ 0) : gMi X l (HoldT X h nx) M_Mod_step 4 0 0 [.ref h, .int p] N (-1) N := by
  refine gM_intro (by decide) (Nat.le_of_ble_eq_true rfl) (fun K hK => ?_)
  show K 0 [(0, .ref h), (1, .int p)] [] N 0 0
  refine r_iload_n hK d_Mod_step_0 rfl 1 rfl ?_
  refine r_callSi (As := [.int p]) (st := []) hK (c_Mod_noProcessor X l h nx N p) d_Mod_step_1 ml_Mod_102 cs_Mod_noProcessor rfl (by decide) (Nat.le_of_ble_eq_true rfl) ?_ rfl
  refine r_if_eq (tgt := 9) hK d_Mod_step_4 (by decide) (fun z => False.elim (hb z)) (fun c4 => ?_)
  refine r_iconst (v := -1) hK d_Mod_step_7 (by decide) ?_
  refine r_iret hK d_Mod_step_8 rfl (rfl) ?_
  exact ⟨rfl, rfl⟩
set_option maxHeartbeats 1000000 in
theorem c_Mod_step_mail (X : gCx) (l : Launch) (h nx : Nat) (N : tS) (N1 : tS) (hN1 : N1 = tset N 34 0 (N 34 0 + nI 1)) (p b dd fs mn ow : Nat) (hp : p < 4) (ha : ¬ N1 27 p = 0) (hby : N1 28 p = nI b) (hb : b < 8) (hdd : N1 1 b = nI dd) (h80 : 10 * b + dd < 80) (hfs : N1 3 (10 * b + dd) = nI fs) (hmn : N1 4 (10 * b + dd) = nI mn) (hr : fs + mn ≤ 16) (how : N1 13 b = nI (ow + 1)) : gMi X l (HoldT X h nx) M_Mod_step 4 0 0 [.ref h, .int (nI p)] N (nI 1) (tset (s_forget (tset N1 27 p (nI 0)) (16 * p + fs) mn) 13 b (nI ow)) := by
  refine gM_intro (by decide) (Nat.le_of_ble_eq_true rfl) (fun K hK => ?_)
  show K 0 [(0, .ref h), (1, .int (nI p))] [] N 0 0
  refine r_iload_n hK d_Mod_step_0 rfl 1 rfl ?_
  refine r_callSi (As := [.int (nI p)]) (st := []) hK (c_Mod_noProcessor X l h nx N (nI p)) d_Mod_step_1 ml_Mod_102 cs_Mod_noProcessor rfl (by decide) (Nat.le_of_ble_eq_true rfl) ?_ rfl
  refine r_tp (b := nI 0) (noP_ok hp) ?_
  refine r_nif_eq (a := 0) (tgt := 9) hK d_Mod_step_4 (by decide) (by decide) (fun z => ?_) (fun z => absurd z (by decide))
  refine r_aload_n hK d_Mod_step_9 rfl 0 rfl ?_
  refine r_dup hK d_Mod_step_10 rfl ?_
  refine w_made hK d_Mod_step_11 rfl (v := N 34 0) (rfl) ?_
  refine r_iconst (v := nI 1) hK d_Mod_step_14 (by decide) ?_
  refine r_iadd hK d_Mod_step_15 ?_
  refine w_put_made hK d_Mod_step_16 rfl ?_
  refine r_st hN1.symm ?_
  refine r_aload_n hK d_Mod_step_19 rfl 0 rfl ?_
  refine w_asked hK d_Mod_step_20 rfl ?_
  refine r_iload_n hK d_Mod_step_23 rfl 1 rfl ?_
  refine w_zald (n := 27) (L := 4) hK d_Mod_step_24 (by decide) rfl rfl p rfl (by omega) (v := N1 27 p) (rfl) ?_
  refine r_if_eq (tgt := 60) hK d_Mod_step_25 (by decide) (fun z => False.elim (ha z)) (fun c25 => ?_)
  refine r_aload_n hK d_Mod_step_28 rfl 0 rfl ?_
  refine w_askedBy hK d_Mod_step_29 rfl ?_
  refine r_iload_n hK d_Mod_step_32 rfl 1 rfl ?_
  refine w_iald (n := 28) (L := 4) hK d_Mod_step_33 (by decide) rfl rfl p rfl (by omega) (v := nI b) (hby) ?_
  refine r_istore_n (lv' := [(2, .int (nI b)), (0, .ref h), (1, .int (nI p))]) hK d_Mod_step_34 rfl (by decide) rfl ?_
  refine r_aload_n hK d_Mod_step_35 rfl 1 rfl ?_
  refine w_asked hK d_Mod_step_36 rfl ?_
  refine r_iload_n hK d_Mod_step_39 rfl 2 rfl ?_
  refine r_iconst (v := nI 0) hK d_Mod_step_40 (by decide) ?_
  refine w_zast (n := 27) (L := 4) hK (rfl) d_Mod_step_41 (by decide) rfl rfl p rfl (by omega) ?_
  refine r_aload_n hK d_Mod_step_42 rfl 1 rfl ?_
  refine r_iload_n hK d_Mod_step_43 rfl 2 rfl ?_
  refine r_iload_n hK d_Mod_step_44 rfl 0 rfl ?_
  refine r_callVv (As := [.int (nI p), .int (nI b)]) (b := h) (st := []) hK (c_Mod_forget X l h nx (tset N1 27 p (nI 0)) p b dd fs mn hp hb (by simp [tset, hdd]) h80 (by simp [tset, hfs]) (by simp [tset, hmn]) hr) d_Mod_step_45 ml_Mod_139 cv_Mod_forget rfl (by decide) w_recv (Nat.le_of_ble_eq_true rfl) ?_ rfl
  refine r_aload_n hK d_Mod_step_48 rfl 1 rfl ?_
  refine w_owed hK d_Mod_step_49 rfl ?_
  refine r_iload_n hK d_Mod_step_52 rfl 0 rfl ?_
  refine r_dup2 hK d_Mod_step_53 rfl rfl ?_
  refine w_iald (n := 13) (L := 8) hK d_Mod_step_54 (by decide) rfl rfl b rfl (by omega) (v := nI (ow + 1)) (by rw [s_forget_nk _ _ (by decide), tset_nk _ _ (by decide)]; exact how) ?_
  refine r_iconst (v := nI 1) hK d_Mod_step_55 (by decide) ?_
  refine r_isub hK d_Mod_step_56 ?_
  refine r_tp (b := nI ow) (nI_pred ow) ?_
  refine w_iast (n := 13) (L := 8) hK d_Mod_step_57 (by decide) rfl rfl b rfl (by omega) ?_
  refine r_iconst (v := nI 1) hK d_Mod_step_58 (by decide) ?_
  refine r_iret hK d_Mod_step_59 rfl (rfl) ?_
  exact ⟨rfl, rfl⟩
set_option maxHeartbeats 1000000 in
theorem c_Mod_step_act (X : gCx) (l : Launch) (h nx : Nat) (N : tS) (N1 : tS) (hN1 : N1 = tset N 34 0 (N 34 0 + nI 1)) (p t ph dd cn kd fs mn pr ow hc kp tk sv nx0 fr f n : Nat) (w2 : Int32) (hp : p < 4) (ht : t < 8) (hph : N1 10 t = nI ph) (hph2 : 4 ≤ ph ∧ ph < 16) (hdd : N1 1 t = nI dd) (hcn : N1 0 t = nI cn) (hcn2 : cn ≤ 10) (hdc : dd < cn) (hkd : N1 2 (10 * t + dd) = nI kd) (hkd2 : kd < 6) (hfs : N1 3 (10 * t + dd) = nI fs) (hmn : N1 4 (10 * t + dd) = nI mn) (hr : fs + mn ≤ 16) (hfs2 : fs < 16) (hpr : N1 12 t = nI pr) (how : N1 13 t = nI ow) (hhc : N1 14 t = nI hc) (hkp : N1 17 t = nI kp) (htk : N1 11 t = nI tk) (hsv : N1 33 0 = nI sv) (hnx : N1 32 0 = nI nx0) (hbd : tk < 2 ^ 30 ∧ sv < 2 ^ 30 ∧ nx0 < 2 ^ 30 ∧ hc < 2 ^ 30 ∧ ow < 2 ^ 30 ∧ kp < 2 ^ 30 ∧ pr < 2 ^ 30) (hfr : ¬ N1 22 (16 * p + fs) = 0 → N1 23 (16 * p + fs) = nI fr ∧ fr < 10) (hwb : narrow .boolean (.int (N1 19 fs)) = .int (N1 19 fs)) (h10 : ph = 10 → pr < mn ∧ mn ≤ 4 ∧ kp < 4 ∧ (kd = 2 → s_frame N1 (nI p) ≠ 0)) (h11 : ph = 11 → pr < 4) (h13 : ph = 13 → N1 16 (4 * t + pr) = nI f ∧ f < 10 ∧ pr < 4 ∧ kp ≤ 4) (hn : N1 30 0 = nI n) (hn8 : n ≤ 8) (hw2 : dd + 1 < cn → N1 2 (10 * t + (dd + 1)) = w2) (ha : N1 27 p = 0) (hcu : s_cur N1 (nI p) n = t + 1) : gMi X l (HoldT X h nx) M_Mod_step 4 0 0 [.ref h, .int (nI p)] N ((s_Mod_act N1 p t ph dd cn kd fs mn pr ow hc kp tk sv nx0 fr f n w2).1) ((s_Mod_act N1 p t ph dd cn kd fs mn pr ow hc kp tk sv nx0 fr f n w2).2) := by
  refine gM_intro (by decide) (Nat.le_of_ble_eq_true rfl) (fun K hK => ?_)
  show K 0 [(0, .ref h), (1, .int (nI p))] [] N 0 0
  refine r_iload_n hK d_Mod_step_0 rfl 1 rfl ?_
  refine r_callSi (As := [.int (nI p)]) (st := []) hK (c_Mod_noProcessor X l h nx N (nI p)) d_Mod_step_1 ml_Mod_102 cs_Mod_noProcessor rfl (by decide) (Nat.le_of_ble_eq_true rfl) ?_ rfl
  refine r_tp (b := nI 0) (noP_ok hp) ?_
  refine r_nif_eq (a := 0) (tgt := 9) hK d_Mod_step_4 (by decide) (by decide) (fun z => ?_) (fun z => absurd z (by decide))
  refine r_aload_n hK d_Mod_step_9 rfl 0 rfl ?_
  refine r_dup hK d_Mod_step_10 rfl ?_
  refine w_made hK d_Mod_step_11 rfl (v := N 34 0) (rfl) ?_
  refine r_iconst (v := nI 1) hK d_Mod_step_14 (by decide) ?_
  refine r_iadd hK d_Mod_step_15 ?_
  refine w_put_made hK d_Mod_step_16 rfl ?_
  refine r_st hN1.symm ?_
  refine r_aload_n hK d_Mod_step_19 rfl 0 rfl ?_
  refine w_asked hK d_Mod_step_20 rfl ?_
  refine r_iload_n hK d_Mod_step_23 rfl 1 rfl ?_
  refine w_zald (n := 27) (L := 4) hK d_Mod_step_24 (by decide) rfl rfl p rfl (by omega) (v := N1 27 p) (rfl) ?_
  refine r_if_eq (tgt := 60) hK d_Mod_step_25 (by decide) (fun c25 => ?_) (fun z => False.elim (z ha))
  refine r_aload_n hK d_Mod_step_60 rfl 0 rfl ?_
  refine r_iload_n hK d_Mod_step_61 rfl 1 rfl ?_
  refine r_callVi (As := [.int (nI p)]) (b := h) (st := []) hK (c_Mod_currentOf X l h nx N1 (nI p) n (by simp [tset, hn]) hn8) d_Mod_step_62 ml_Mod_143 cv_Mod_currentOf rfl (by decide) w_recv (Nat.le_of_ble_eq_true rfl) ?_ rfl
  refine r_tp (b := nI t) (by rw [hcu]; rfl) ?_
  refine r_istore_n (lv' := [(2, .int (nI t)), (0, .ref h), (1, .int (nI p))]) hK d_Mod_step_65 rfl (by decide) rfl ?_
  refine r_iload_n hK d_Mod_step_66 rfl 0 rfl ?_
  refine r_nif_lt (a := t) (tgt := 77) hK d_Mod_step_67 (by decide) (by omega) ?_
  refine r_aload_n hK d_Mod_step_70 rfl 1 rfl ?_
  refine r_iload_n hK d_Mod_step_71 rfl 2 rfl ?_
  refine r_iload_n hK d_Mod_step_72 rfl 0 rfl ?_
  refine r_callVi (As := [.int (nI p), .int (nI t)]) (b := h) (st := []) hK (c_Mod_act X l h nx N1 p t ph dd cn kd fs mn pr ow hc kp tk sv nx0 fr f n w2 hp ht hph hph2 hdd hcn hcn2 hdc hkd hkd2 hfs hmn hr hfs2 hpr how hhc hkp htk hsv hnx hbd hfr hwb h10 h11 h13 hn hn8 hw2) d_Mod_step_73 ml_Mod_146 cv_Mod_act rfl (by decide) w_recv (Nat.le_of_ble_eq_true rfl) ?_ rfl
  refine r_iret hK d_Mod_step_76 rfl (rfl) ?_
  exact ⟨rfl, rfl⟩
def s_idle (N1 : tS) (p n : Nat) : Int32 × tS :=
  if s_at N1 (nI p) (nI 0) n n = 0 then (if 2 ≤ s_len N1 (nI (s_long N1 n 4)) n then (nI 3, tset (tset N1 8 (s_at N1 (nI (s_long N1 n 4)) (nI (s_len N1 (nI (s_long N1 n 4)) n - 1)) n n - 1) (nI 2)) 7 (s_at N1 (nI (s_long N1 n 4)) (nI (s_len N1 (nI (s_long N1 n 4)) n - 1)) n n - 1) (nI p))
    else (nI 0, N1))
  else (nI 2, tset (tset N1 8 (s_at N1 (nI p) (nI 0) n n - 1) (nI 2)) 7 (s_at N1 (nI p) (nI 0) n n - 1) (nI p))
set_option maxHeartbeats 1000000 in
theorem c_Mod_step_idle (X : gCx) (l : Launch) (h nx : Nat) (N : tS) (N1 : tS) (hN1 : N1 = tset N 34 0 (N 34 0 + nI 1)) (p n : Nat) (hp : p < 4) (hn : N1 30 0 = nI n) (hn8 : n ≤ 8) (ha : N1 27 p = 0) (hcu : s_cur N1 (nI p) n = 0) (hst : 2 ≤ s_len N1 (nI (s_long N1 n 4)) n → s_at N1 (nI (s_long N1 n 4)) (nI (s_len N1 (nI (s_long N1 n 4)) n - 1)) n n ≠ 0) : gMi X l (HoldT X h nx) M_Mod_step 4 0 0 [.ref h, .int (nI p)] N ((s_idle N1 p n).1) ((s_idle N1 p n).2) := by
  refine gM_intro (by decide) (Nat.le_of_ble_eq_true rfl) (fun K hK => ?_)
  show K 0 [(0, .ref h), (1, .int (nI p))] [] N 0 0
  refine r_iload_n hK d_Mod_step_0 rfl 1 rfl ?_
  refine r_callSi (As := [.int (nI p)]) (st := []) hK (c_Mod_noProcessor X l h nx N (nI p)) d_Mod_step_1 ml_Mod_102 cs_Mod_noProcessor rfl (by decide) (Nat.le_of_ble_eq_true rfl) ?_ rfl
  refine r_tp (b := nI 0) (noP_ok hp) ?_
  refine r_nif_eq (a := 0) (tgt := 9) hK d_Mod_step_4 (by decide) (by decide) (fun z => ?_) (fun z => absurd z (by decide))
  refine r_aload_n hK d_Mod_step_9 rfl 0 rfl ?_
  refine r_dup hK d_Mod_step_10 rfl ?_
  refine w_made hK d_Mod_step_11 rfl (v := N 34 0) (rfl) ?_
  refine r_iconst (v := nI 1) hK d_Mod_step_14 (by decide) ?_
  refine r_iadd hK d_Mod_step_15 ?_
  refine w_put_made hK d_Mod_step_16 rfl ?_
  refine r_st hN1.symm ?_
  refine r_aload_n hK d_Mod_step_19 rfl 0 rfl ?_
  refine w_asked hK d_Mod_step_20 rfl ?_
  refine r_iload_n hK d_Mod_step_23 rfl 1 rfl ?_
  refine w_zald (n := 27) (L := 4) hK d_Mod_step_24 (by decide) rfl rfl p rfl (by omega) (v := N1 27 p) (rfl) ?_
  refine r_if_eq (tgt := 60) hK d_Mod_step_25 (by decide) (fun c25 => ?_) (fun z => False.elim (z ha))
  refine r_aload_n hK d_Mod_step_60 rfl 0 rfl ?_
  refine r_iload_n hK d_Mod_step_61 rfl 1 rfl ?_
  refine r_callVi (As := [.int (nI p)]) (b := h) (st := []) hK (c_Mod_currentOf X l h nx N1 (nI p) n (by simp [tset, hn]) hn8) d_Mod_step_62 ml_Mod_143 cv_Mod_currentOf rfl (by decide) w_recv (Nat.le_of_ble_eq_true rfl) ?_ rfl
  refine r_tp (b := -1) (by rw [hcu]; rfl) ?_
  refine r_istore_n (lv' := [(2, .int (-1)), (0, .ref h), (1, .int (nI p))]) hK d_Mod_step_65 rfl (by decide) rfl ?_
  refine r_iload_n hK d_Mod_step_66 rfl 0 rfl ?_
  refine r_if_lt (tgt := 77) hK d_Mod_step_67 (by decide) (fun c67 => ?_) (fun z => False.elim (z (by decide)))
  refine r_aload_n hK d_Mod_step_77 rfl 1 rfl ?_
  refine r_iload_n hK d_Mod_step_78 rfl 2 rfl ?_
  refine r_iconst (v := nI 0) hK d_Mod_step_79 (by decide) ?_
  refine r_callVi (As := [.int (nI p), .int (nI 0)]) (b := h) (st := []) hK (c_Mod_at X l h nx N1 (nI p) (nI 0) n (by simp [tset, hn]) hn8) d_Mod_step_80 ml_Mod_149 cv_Mod_at rfl (by decide) w_recv (Nat.le_of_ble_eq_true rfl) ?_ rfl
  refine r_istore_n (lv' := [(3, .int (dI (s_at N1 (nI p) (nI 0) n n))), (2, .int (-1)), (0, .ref h), (1, .int (nI p))]) hK d_Mod_step_83 rfl (by decide) rfl ?_
  refine r_iload_n hK d_Mod_step_84 rfl 0 rfl ?_
  have b1 := s_at_le N1 (nI p) (nI 0) n n
  refine r_dif_lt (c := s_at N1 (nI p) (nI 0) n n) (tgt := 96) hK d_Mod_step_85 (by decide) (by omega) (fun c85 => ?_) (fun c85 => ?_)
  · refine r_aload_n hK d_Mod_step_96 rfl 2 rfl ?_
    refine r_callVi (As := []) (b := h) (st := []) hK (c_Mod_longest X l h nx N1 n (by simp [tset, hn]) hn8) d_Mod_step_97 ml_Mod_155 cv_Mod_longest rfl (by decide) w_recv (Nat.le_of_ble_eq_true rfl) ?_ rfl
    refine r_istore (lv' := [(4, .int (nI (s_long N1 n 4))), (3, .int (dI (s_at N1 (nI p) (nI 0) n n))), (2, .int (-1)), (0, .ref h), (1, .int (nI p))]) hK d_Mod_step_100 (by decide) rfl ?_
    refine r_aload_n hK d_Mod_step_102 rfl 3 rfl ?_
    refine r_iload hK d_Mod_step_103 0 rfl ?_
    refine r_callVi (As := [.int (nI (s_long N1 n 4))]) (b := h) (st := []) hK (c_Mod_lengthOf X l h nx N1 (nI (s_long N1 n 4)) n (by simp [tset, hn]) hn8) d_Mod_step_105 ml_Mod_132 cv_Mod_lengthOf rfl (by decide) w_recv (Nat.le_of_ble_eq_true rfl) ?_ rfl
    refine r_istore (lv' := [(5, .int (nI (s_len N1 (nI (s_long N1 n 4)) n))), (4, .int (nI (s_long N1 n 4))), (3, .int (dI (s_at N1 (nI p) (nI 0) n n))), (2, .int (-1)), (0, .ref h), (1, .int (nI p))]) hK d_Mod_step_108 (by decide) rfl ?_
    refine r_iload hK d_Mod_step_110 0 rfl ?_
    have b2 := s_len_le N1 (nI (s_long N1 n 4)) n
    have b3 := s_long_lt N1 n 4
    refine r_iconst (v := nI 2) hK d_Mod_step_112 (by decide) ?_
    refine r_ncmp_ge (a := s_len N1 (nI (s_long N1 n 4)) n) (b := 2) (tgt := 118) hK d_Mod_step_113 (by decide) (by omega) (by omega) (fun c113 => ?_) (fun c113 => ?_)
    · refine r_aload_n hK d_Mod_step_118 rfl 4 rfl ?_
      refine r_iload hK d_Mod_step_119 1 rfl ?_
      refine r_iload hK d_Mod_step_121 0 rfl ?_
      refine r_iconst (v := nI 1) hK d_Mod_step_123 (by decide) ?_
      refine r_isub hK d_Mod_step_124 ?_
      refine r_tp (b := nI (s_len N1 (nI (s_long N1 n 4)) n - 1)) (pk_sub (by omega)) ?_
      refine r_callVi (As := [.int (nI (s_long N1 n 4)), .int (nI (s_len N1 (nI (s_long N1 n 4)) n - 1))]) (b := h) (st := []) hK (c_Mod_at X l h nx N1 (nI (s_long N1 n 4)) (nI (s_len N1 (nI (s_long N1 n 4)) n - 1)) n (by simp [tset, hn]) hn8) d_Mod_step_125 ml_Mod_149 cv_Mod_at rfl (by decide) w_recv (Nat.le_of_ble_eq_true rfl) ?_ rfl
      have b4 := s_at_le N1 (nI (s_long N1 n 4)) (nI (s_len N1 (nI (s_long N1 n 4)) n - 1)) n n
      have c0 := hst c113
      refine r_tp (b := nI (s_at N1 (nI (s_long N1 n 4)) (nI (s_len N1 (nI (s_long N1 n 4)) n - 1)) n n - 1)) (dI_ne c0) ?_
      refine r_istore (lv' := [(6, .int (nI (s_at N1 (nI (s_long N1 n 4)) (nI (s_len N1 (nI (s_long N1 n 4)) n - 1)) n n - 1))), (5, .int (nI (s_len N1 (nI (s_long N1 n 4)) n))), (4, .int (nI (s_long N1 n 4))), (3, .int (dI (s_at N1 (nI p) (nI 0) n n))), (2, .int (-1)), (0, .ref h), (1, .int (nI p))]) hK d_Mod_step_128 (by decide) rfl ?_
      refine r_aload_n hK d_Mod_step_130 rfl 5 rfl ?_
      refine r_iload_n hK d_Mod_step_131 rfl 6 rfl ?_
      refine r_iload hK d_Mod_step_132 0 rfl ?_
      refine r_callVv (As := [.int (nI p), .int (nI (s_at N1 (nI (s_long N1 n 4)) (nI (s_len N1 (nI (s_long N1 n 4)) n - 1)) n n - 1))]) (b := h) (st := []) hK (c_Mod_run1 X l h nx N1 p (s_at N1 (nI (s_long N1 n 4)) (nI (s_len N1 (nI (s_long N1 n 4)) n - 1)) n n - 1) (by omega)) d_Mod_step_134 ml_Mod_152 cv_Mod_run1 rfl (by decide) w_recv (Nat.le_of_ble_eq_true rfl) ?_ rfl
      refine r_iconst (v := nI 3) hK d_Mod_step_137 (by decide) ?_
      refine r_iret hK d_Mod_step_138 rfl (rfl) ?_
      have hs : s_idle N1 p n = (nI 3, tset (tset N1 8 (s_at N1 (nI (s_long N1 n 4)) (nI (s_len N1 (nI (s_long N1 n 4)) n - 1)) n n - 1) (nI 2)) 7 (s_at N1 (nI (s_long N1 n 4)) (nI (s_len N1 (nI (s_long N1 n 4)) n - 1)) n n - 1) (nI p)) := by unfold s_idle; rw [if_pos c85, if_pos c113]
      exact ⟨by rw [hs], by rw [hs]⟩
    · refine r_iconst (v := nI 0) hK d_Mod_step_116 (by decide) ?_
      refine r_iret hK d_Mod_step_117 rfl (rfl) ?_
      have hs : s_idle N1 p n = (nI 0, N1) := by unfold s_idle; rw [if_pos c85, if_neg (Nat.not_le.mpr c113)]
      exact ⟨by rw [hs], by rw [hs]⟩
  · refine r_aload_n hK d_Mod_step_88 rfl 2 rfl ?_
    refine r_iload_n hK d_Mod_step_89 rfl 3 rfl ?_
    refine r_iload_n hK d_Mod_step_90 rfl 0 rfl ?_
    refine r_tp (b := nI (s_at N1 (nI p) (nI 0) n n - 1)) (dI_ne c85) ?_
    refine r_callVv (As := [.int (nI p), .int (nI (s_at N1 (nI p) (nI 0) n n - 1))]) (b := h) (st := []) hK (c_Mod_run1 X l h nx N1 p (s_at N1 (nI p) (nI 0) n n - 1) (by omega)) d_Mod_step_91 ml_Mod_152 cv_Mod_run1 rfl (by decide) w_recv (Nat.le_of_ble_eq_true rfl) ?_ rfl
    refine r_iconst (v := nI 2) hK d_Mod_step_94 (by decide) ?_
    refine r_iret hK d_Mod_step_95 rfl (rfl) ?_
    have hs : s_idle N1 p n = (nI 2, tset (tset N1 8 (s_at N1 (nI p) (nI 0) n n - 1) (nI 2)) 7 (s_at N1 (nI p) (nI 0) n n - 1) (nI p)) := by unfold s_idle; rw [if_neg c85]
    exact ⟨by rw [hs], by rw [hs]⟩
