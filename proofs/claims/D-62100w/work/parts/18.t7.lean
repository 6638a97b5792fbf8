/-- a thread behind a finished order: where it goes -/
def s_fin (Y : tS) (p t ph dd cn fs n : Nat) (w2 : Int32) : tS :=
  if ph = 15 then (if cn ≤ dd + 1 then (if ph = 15 then tset (tset (tset (tset (tset Y 1 t (nI (dd + 1))) 7 t (nI fs)) 8 t (nI 0)) 31 0 ((Y 31 0) + nI 1)) 9 t ((Y 31 0) + nI 1)
      else tset (tset (tset (tset (tset Y 1 t (nI (dd + 1))) 7 t (nI fs)) 8 t (nI 0)) 31 0 ((Y 31 0) + nI 1)) 9 t ((Y 31 0) + nI 1))
    else if ph = 15 then tset (tset (tset (tset (tset (tset (tset (tset (tset (tset (tset Y 1 t (nI (dd + 1))) 7 t (nI fs)) 8 t (nI 1)) 31 0 ((Y 31 0) + nI 1)) 9 t ((Y 31 0) + nI 1)) 10 t ((s_ph w2))) 12 t (nI 0)) 13 t (nI 0)) 14 t (nI 0)) 17 t (nI 0)) 15 t (nI 0)
      else if s_len (tset Y 1 t (nI (dd + 1))) (nI p) n = 0 then tset (tset (tset (tset (tset (tset (tset Y 1 t (nI (dd + 1))) 10 t ((s_ph w2))) 12 t (nI 0)) 13 t (nI 0)) 14 t (nI 0)) 17 t (nI 0)) 15 t (nI 0)
        else tset (tset (tset (tset (tset (tset (tset (tset (tset (tset (tset Y 1 t (nI (dd + 1))) 7 t (nI fs)) 8 t (nI 1)) 31 0 ((Y 31 0) + nI 1)) 9 t ((Y 31 0) + nI 1)) 10 t ((s_ph w2))) 12 t (nI 0)) 13 t (nI 0)) 14 t (nI 0)) 17 t (nI 0)) 15 t (nI 0))
  else if cn ≤ dd + 1 then (if ph = 15 then tset (tset (tset (tset (tset Y 1 t (nI (dd + 1))) 7 t (nI p)) 8 t (nI 0)) 31 0 ((Y 31 0) + nI 1)) 9 t ((Y 31 0) + nI 1)
      else tset (tset (tset (tset (tset Y 1 t (nI (dd + 1))) 7 t (nI p)) 8 t (nI 0)) 31 0 ((Y 31 0) + nI 1)) 9 t ((Y 31 0) + nI 1))
    else if ph = 15 then tset (tset (tset (tset (tset (tset (tset (tset (tset (tset (tset Y 1 t (nI (dd + 1))) 7 t (nI p)) 8 t (nI 1)) 31 0 ((Y 31 0) + nI 1)) 9 t ((Y 31 0) + nI 1)) 10 t ((s_ph w2))) 12 t (nI 0)) 13 t (nI 0)) 14 t (nI 0)) 17 t (nI 0)) 15 t (nI 0)
      else if s_len (tset Y 1 t (nI (dd + 1))) (nI p) n = 0 then tset (tset (tset (tset (tset (tset (tset Y 1 t (nI (dd + 1))) 10 t ((s_ph w2))) 12 t (nI 0)) 13 t (nI 0)) 14 t (nI 0)) 17 t (nI 0)) 15 t (nI 0)
        else tset (tset (tset (tset (tset (tset (tset (tset (tset (tset (tset Y 1 t (nI (dd + 1))) 7 t (nI p)) 8 t (nI 1)) 31 0 ((Y 31 0) + nI 1)) 9 t ((Y 31 0) + nI 1)) 10 t ((s_ph w2))) 12 t (nI 0)) 13 t (nI 0)) 14 t (nI 0)) 17 t (nI 0)) 15 t (nI 0)
set_option maxHeartbeats 1000000 in
theorem fin_act {X : gCx} {l : Launch} {h nx : Nat} {Po : Option Value → tS → Prop} {K : Nat → List (Nat × Value) → List Value → tS → Nat → Nat → Prop} (hK : Good X l (HoldT X h nx) M_Mod_act 3 Po K) (Y : tS) (p t ph dd cn fs n : Nat) (w2 ev : Int32) (hp : p < 4) (ht : t < 8) (hph2 : ph < 16) (hdd : Y 1 t = nI dd) (hcn : Y 0 t = nI cn) (hcn2 : cn ≤ 10) (hdc : dd < cn) (hfs : Y 3 (10 * t + dd) = nI fs) (hn : Y 30 0 = nI n) (hn8 : n ≤ 8) (hw2 : dd + 1 < cn → Y 2 (10 * t + (dd + 1)) = w2) (hPo : Po (some (.int (nI (ph + 16)))) (s_fin Y p t ph dd cn fs n w2)) : K 71 [(0, .ref h), (1, .int (nI p)), (2, .int (nI t)), (3, .int (nI ph)), (4, .int (nI (10 * t + dd))), (5, .int ev)] [] Y 0 0 := by
  refine r_iload_n hK d_Mod_act_71 rfl 3 rfl ?_
  refine r_bipush (v := nI 15) hK d_Mod_act_72 (by decide) ?_
  refine r_ncmp_ne (a := ph) (b := 15) (tgt := 87) hK d_Mod_act_74 (by decide) (by omega) (by omega) (fun c74 => ?_) (fun c74 => ?_)
  · refine r_iload_n hK d_Mod_act_87 rfl 1 rfl ?_
    refine r_istore (lv' := [(6, .int (nI p)), (0, .ref h), (1, .int (nI p)), (2, .int (nI t)), (3, .int (nI ph)), (4, .int (nI (10 * t + dd))), (5, .int ev)]) hK d_Mod_act_88 (by decide) rfl ?_
    refine r_aload_n hK d_Mod_act_90 rfl 1 rfl ?_
    refine w_done hK d_Mod_act_91 rfl ?_
    refine r_iload_n hK d_Mod_act_94 rfl 3 rfl ?_
    refine r_dup2 hK d_Mod_act_95 rfl rfl ?_
    refine w_iald (n := 1) (L := 8) hK d_Mod_act_96 (by decide) rfl rfl t rfl (by omega) (v := nI dd) (hdd) ?_
    refine r_iconst (v := nI 1) hK d_Mod_act_97 (by decide) ?_
    refine r_iadd hK d_Mod_act_98 ?_
    refine r_tp (b := nI (dd + 1)) (nI_add _ _) ?_
    refine w_iast (n := 1) (L := 8) hK d_Mod_act_99 (by decide) rfl rfl t rfl (by omega) ?_
    refine r_aload_n hK d_Mod_act_100 rfl 1 rfl ?_
    refine w_done hK d_Mod_act_101 rfl ?_
    refine r_iload_n hK d_Mod_act_104 rfl 3 rfl ?_
    refine w_iald (n := 1) (L := 8) hK d_Mod_act_105 (by decide) rfl rfl t rfl (by omega) (v := nI (dd + 1)) (by simp [tset]) ?_
    refine r_aload_n hK d_Mod_act_106 rfl 1 rfl ?_
    refine w_count hK d_Mod_act_107 rfl ?_
    refine r_iload_n hK d_Mod_act_110 rfl 3 rfl ?_
    refine w_iald (n := 0) (L := 8) hK d_Mod_act_111 (by decide) rfl rfl t rfl (by omega) (v := nI cn) (by simp [tset, hcn]) ?_
    refine r_ncmp_ge (a := dd + 1) (b := cn) (tgt := 119) hK d_Mod_act_112 (by decide) (by omega) (by omega) (fun c112 => ?_) (fun c112 => ?_)
    · refine r_iconst (v := nI 0) hK d_Mod_act_119 (by decide) ?_
      refine r_istore (lv' := [(7, .int (nI 0)), (6, .int (nI p)), (0, .ref h), (1, .int (nI p)), (2, .int (nI t)), (3, .int (nI ph)), (4, .int (nI (10 * t + dd))), (5, .int ev)]) hK d_Mod_act_120 (by decide) rfl ?_
      refine r_iload_n hK d_Mod_act_122 rfl 5 rfl ?_
      refine r_bipush (v := nI 15) hK d_Mod_act_123 (by decide) ?_
      refine r_ncmp_eq (a := ph) (b := 15) (tgt := 141) hK d_Mod_act_125 (by decide) (by omega) (by omega) (fun c125 => ?_) (fun c125 => ?_)
      · refine r_iconst (v := nI 1) hK d_Mod_act_141 (by decide) ?_
        refine r_goto (tgt := 146) hK d_Mod_act_142 (by decide) ?_
        refine r_istore (lv' := [(8, .int (nI 1)), (7, .int (nI 0)), (6, .int (nI p)), (0, .ref h), (1, .int (nI p)), (2, .int (nI t)), (3, .int (nI ph)), (4, .int (nI (10 * t + dd))), (5, .int ev)]) hK d_Mod_act_146 (by decide) rfl ?_
        refine r_iload hK d_Mod_act_148 0 rfl ?_
        refine r_nif_eq (a := 1) (tgt := 187) hK d_Mod_act_150 (by decide) (by decide) (fun z => absurd z (by decide)) (fun z => ?_)
        refine r_aload_n hK d_Mod_act_153 rfl 3 rfl ?_
        refine w_where hK d_Mod_act_154 rfl ?_
        refine r_iload_n hK d_Mod_act_157 rfl 5 rfl ?_
        refine r_iload hK d_Mod_act_158 2 rfl ?_
        refine w_iast (n := 7) (L := 8) hK d_Mod_act_160 (by decide) rfl rfl t rfl (by omega) ?_
        refine r_aload_n hK d_Mod_act_161 rfl 3 rfl ?_
        refine w_how hK d_Mod_act_162 rfl ?_
        refine r_iload_n hK d_Mod_act_165 rfl 5 rfl ?_
        refine r_iload hK d_Mod_act_166 1 rfl ?_
        refine r_nif_eq (a := 0) (tgt := 175) hK d_Mod_act_168 (by decide) (by decide) (fun z => ?_) (fun z => absurd z (by decide))
        refine r_iconst (v := nI 0) hK d_Mod_act_175 (by decide) ?_
        refine w_iast (n := 8) (L := 8) hK d_Mod_act_176 (by decide) rfl rfl t rfl (by omega) ?_
        refine r_aload_n hK d_Mod_act_177 rfl 3 rfl ?_
        refine w_since hK d_Mod_act_178 rfl ?_
        refine r_iload_n hK d_Mod_act_181 rfl 5 rfl ?_
        refine r_aload_n hK d_Mod_act_182 rfl 3 rfl ?_
        refine r_callVi (As := []) (b := h) (st := [.int (nI t), .ref (h + 1 + 9)]) hK (c_Mod_tick X l h nx (tset (tset (tset Y 1 t (nI (dd + 1))) 7 t (nI p)) 8 t (nI 0)) (Y 31 0) (by simp [tset])) d_Mod_act_183 ml_Mod_109 cv_Mod_tick rfl (by decide) w_recv (Nat.le_of_ble_eq_true rfl) ?_ rfl
        refine w_iast (n := 9) (L := 8) hK d_Mod_act_186 (by decide) rfl rfl t rfl (by omega) ?_
        refine r_iload hK d_Mod_act_187 1 rfl ?_
        refine r_nif_eq (a := 0) (tgt := 197) hK d_Mod_act_189 (by decide) (by decide) (fun z => ?_) (fun z => absurd z (by decide))
        refine r_iload_n hK d_Mod_act_197 rfl 6 rfl ?_
        refine r_bipush (v := nI 16) hK d_Mod_act_198 (by decide) ?_
        refine r_iadd hK d_Mod_act_200 ?_
        refine r_tp (b := nI (ph + 16)) (nI_add _ _) ?_
        refine r_iret hK d_Mod_act_201 rfl (rfl) ?_
        have hs : s_fin Y p t ph dd cn fs n w2 = tset (tset (tset (tset (tset Y 1 t (nI (dd + 1))) 7 t (nI p)) 8 t (nI 0)) 31 0 ((Y 31 0) + nI 1)) 9 t ((Y 31 0) + nI 1) := by unfold s_fin; rw [if_neg c74, if_pos c112, if_pos c125]
        rw [← hs]
        exact hPo
      · refine r_iload hK d_Mod_act_128 0 rfl ?_
        refine r_nif_eq (a := 0) (tgt := 141) hK d_Mod_act_130 (by decide) (by decide) (fun z => ?_) (fun z => absurd z (by decide))
        refine r_iconst (v := nI 1) hK d_Mod_act_141 (by decide) ?_
        refine r_goto (tgt := 146) hK d_Mod_act_142 (by decide) ?_
        refine r_istore (lv' := [(8, .int (nI 1)), (7, .int (nI 0)), (6, .int (nI p)), (0, .ref h), (1, .int (nI p)), (2, .int (nI t)), (3, .int (nI ph)), (4, .int (nI (10 * t + dd))), (5, .int ev)]) hK d_Mod_act_146 (by decide) rfl ?_
        refine r_iload hK d_Mod_act_148 0 rfl ?_
        refine r_nif_eq (a := 1) (tgt := 187) hK d_Mod_act_150 (by decide) (by decide) (fun z => absurd z (by decide)) (fun z => ?_)
        refine r_aload_n hK d_Mod_act_153 rfl 3 rfl ?_
        refine w_where hK d_Mod_act_154 rfl ?_
        refine r_iload_n hK d_Mod_act_157 rfl 5 rfl ?_
        refine r_iload hK d_Mod_act_158 2 rfl ?_
        refine w_iast (n := 7) (L := 8) hK d_Mod_act_160 (by decide) rfl rfl t rfl (by omega) ?_
        refine r_aload_n hK d_Mod_act_161 rfl 3 rfl ?_
        refine w_how hK d_Mod_act_162 rfl ?_
        refine r_iload_n hK d_Mod_act_165 rfl 5 rfl ?_
        refine r_iload hK d_Mod_act_166 1 rfl ?_
        refine r_nif_eq (a := 0) (tgt := 175) hK d_Mod_act_168 (by decide) (by decide) (fun z => ?_) (fun z => absurd z (by decide))
        refine r_iconst (v := nI 0) hK d_Mod_act_175 (by decide) ?_
        refine w_iast (n := 8) (L := 8) hK d_Mod_act_176 (by decide) rfl rfl t rfl (by omega) ?_
        refine r_aload_n hK d_Mod_act_177 rfl 3 rfl ?_
        refine w_since hK d_Mod_act_178 rfl ?_
        refine r_iload_n hK d_Mod_act_181 rfl 5 rfl ?_
        refine r_aload_n hK d_Mod_act_182 rfl 3 rfl ?_
        refine r_callVi (As := []) (b := h) (st := [.int (nI t), .ref (h + 1 + 9)]) hK (c_Mod_tick X l h nx (tset (tset (tset Y 1 t (nI (dd + 1))) 7 t (nI p)) 8 t (nI 0)) (Y 31 0) (by simp [tset])) d_Mod_act_183 ml_Mod_109 cv_Mod_tick rfl (by decide) w_recv (Nat.le_of_ble_eq_true rfl) ?_ rfl
        refine w_iast (n := 9) (L := 8) hK d_Mod_act_186 (by decide) rfl rfl t rfl (by omega) ?_
        refine r_iload hK d_Mod_act_187 1 rfl ?_
        refine r_nif_eq (a := 0) (tgt := 197) hK d_Mod_act_189 (by decide) (by decide) (fun z => ?_) (fun z => absurd z (by decide))
        refine r_iload_n hK d_Mod_act_197 rfl 6 rfl ?_
        refine r_bipush (v := nI 16) hK d_Mod_act_198 (by decide) ?_
        refine r_iadd hK d_Mod_act_200 ?_
        refine r_tp (b := nI (ph + 16)) (nI_add _ _) ?_
        refine r_iret hK d_Mod_act_201 rfl (rfl) ?_
        have hs : s_fin Y p t ph dd cn fs n w2 = tset (tset (tset (tset (tset Y 1 t (nI (dd + 1))) 7 t (nI p)) 8 t (nI 0)) 31 0 ((Y 31 0) + nI 1)) 9 t ((Y 31 0) + nI 1) := by unfold s_fin; rw [if_neg c74, if_pos c112, if_neg c125]
        rw [← hs]
        exact hPo
    · refine r_iconst (v := nI 1) hK d_Mod_act_115 (by decide) ?_
      refine r_goto (tgt := 120) hK d_Mod_act_116 (by decide) ?_
      refine r_istore (lv' := [(7, .int (nI 1)), (6, .int (nI p)), (0, .ref h), (1, .int (nI p)), (2, .int (nI t)), (3, .int (nI ph)), (4, .int (nI (10 * t + dd))), (5, .int ev)]) hK d_Mod_act_120 (by decide) rfl ?_
      refine r_iload_n hK d_Mod_act_122 rfl 5 rfl ?_
      refine r_bipush (v := nI 15) hK d_Mod_act_123 (by decide) ?_
      refine r_ncmp_eq (a := ph) (b := 15) (tgt := 141) hK d_Mod_act_125 (by decide) (by omega) (by omega) (fun c125 => ?_) (fun c125 => ?_)
      · refine r_iconst (v := nI 1) hK d_Mod_act_141 (by decide) ?_
        refine r_goto (tgt := 146) hK d_Mod_act_142 (by decide) ?_
        refine r_istore (lv' := [(8, .int (nI 1)), (7, .int (nI 1)), (6, .int (nI p)), (0, .ref h), (1, .int (nI p)), (2, .int (nI t)), (3, .int (nI ph)), (4, .int (nI (10 * t + dd))), (5, .int ev)]) hK d_Mod_act_146 (by decide) rfl ?_
        refine r_iload hK d_Mod_act_148 0 rfl ?_
        refine r_nif_eq (a := 1) (tgt := 187) hK d_Mod_act_150 (by decide) (by decide) (fun z => absurd z (by decide)) (fun z => ?_)
        refine r_aload_n hK d_Mod_act_153 rfl 3 rfl ?_
        refine w_where hK d_Mod_act_154 rfl ?_
        refine r_iload_n hK d_Mod_act_157 rfl 5 rfl ?_
        refine r_iload hK d_Mod_act_158 2 rfl ?_
        refine w_iast (n := 7) (L := 8) hK d_Mod_act_160 (by decide) rfl rfl t rfl (by omega) ?_
        refine r_aload_n hK d_Mod_act_161 rfl 3 rfl ?_
        refine w_how hK d_Mod_act_162 rfl ?_
        refine r_iload_n hK d_Mod_act_165 rfl 5 rfl ?_
        refine r_iload hK d_Mod_act_166 1 rfl ?_
        refine r_nif_eq (a := 1) (tgt := 175) hK d_Mod_act_168 (by decide) (by decide) (fun z => absurd z (by decide)) (fun z => ?_)
        refine r_iconst (v := nI 1) hK d_Mod_act_171 (by decide) ?_
        refine r_goto (tgt := 176) hK d_Mod_act_172 (by decide) ?_
        refine w_iast (n := 8) (L := 8) hK d_Mod_act_176 (by decide) rfl rfl t rfl (by omega) ?_
        refine r_aload_n hK d_Mod_act_177 rfl 3 rfl ?_
        refine w_since hK d_Mod_act_178 rfl ?_
        refine r_iload_n hK d_Mod_act_181 rfl 5 rfl ?_
        refine r_aload_n hK d_Mod_act_182 rfl 3 rfl ?_
        refine r_callVi (As := []) (b := h) (st := [.int (nI t), .ref (h + 1 + 9)]) hK (c_Mod_tick X l h nx (tset (tset (tset Y 1 t (nI (dd + 1))) 7 t (nI p)) 8 t (nI 1)) (Y 31 0) (by simp [tset])) d_Mod_act_183 ml_Mod_109 cv_Mod_tick rfl (by decide) w_recv (Nat.le_of_ble_eq_true rfl) ?_ rfl
        refine w_iast (n := 9) (L := 8) hK d_Mod_act_186 (by decide) rfl rfl t rfl (by omega) ?_
        refine r_iload hK d_Mod_act_187 1 rfl ?_
        refine r_nif_eq (a := 1) (tgt := 197) hK d_Mod_act_189 (by decide) (by decide) (fun z => absurd z (by decide)) (fun z => ?_)
        refine r_aload_n hK d_Mod_act_192 rfl 3 rfl ?_
        refine r_iload_n hK d_Mod_act_193 rfl 5 rfl ?_
        refine r_callVv (As := [.int (nI t)]) (b := h) (st := []) hK (c_Mod_begin X l h nx (tset (tset (tset (tset (tset Y 1 t (nI (dd + 1))) 7 t (nI p)) 8 t (nI 1)) 31 0 ((Y 31 0) + nI 1)) 9 t ((Y 31 0) + nI 1)) t (dd + 1) w2 (by omega) (by simp [tset]) (by omega) (by simp [tset, hw2 (by omega)])) d_Mod_act_194 ml_Mod_113 cv_Mod_begin rfl (by decide) w_recv (Nat.le_of_ble_eq_true rfl) ?_ rfl
        refine r_iload_n hK d_Mod_act_197 rfl 6 rfl ?_
        refine r_bipush (v := nI 16) hK d_Mod_act_198 (by decide) ?_
        refine r_iadd hK d_Mod_act_200 ?_
        refine r_tp (b := nI (ph + 16)) (nI_add _ _) ?_
        refine r_iret hK d_Mod_act_201 rfl (rfl) ?_
        have hs : s_fin Y p t ph dd cn fs n w2 = tset (tset (tset (tset (tset (tset (tset (tset (tset (tset (tset Y 1 t (nI (dd + 1))) 7 t (nI p)) 8 t (nI 1)) 31 0 ((Y 31 0) + nI 1)) 9 t ((Y 31 0) + nI 1)) 10 t ((s_ph w2))) 12 t (nI 0)) 13 t (nI 0)) 14 t (nI 0)) 17 t (nI 0)) 15 t (nI 0) := by unfold s_fin; rw [if_neg c74, if_neg (Nat.not_le.mpr c112), if_pos c125]
        rw [← hs]
        exact hPo
      · refine r_iload hK d_Mod_act_128 0 rfl ?_
        refine r_nif_eq (a := 1) (tgt := 141) hK d_Mod_act_130 (by decide) (by decide) (fun z => absurd z (by decide)) (fun z => ?_)
        refine r_aload_n hK d_Mod_act_133 rfl 2 rfl ?_
        refine r_iload_n hK d_Mod_act_134 rfl 3 rfl ?_
        refine r_callVi (As := [.int (nI p)]) (b := h) (st := []) hK (c_Mod_lengthOf X l h nx (tset Y 1 t (nI (dd + 1))) (nI p) n (by simp [tset, hn]) hn8) d_Mod_act_135 ml_Mod_132 cv_Mod_lengthOf rfl (by decide) w_recv (Nat.le_of_ble_eq_true rfl) ?_ rfl
        have b1 := s_len_le (tset Y 1 t (nI (dd + 1))) (nI p) n
        refine r_nif_le (a := s_len (tset Y 1 t (nI (dd + 1))) (nI p) n) (tgt := 145) hK d_Mod_act_138 (by decide) (by omega) (fun c138 => ?_) (fun c138 => ?_)
        · refine r_iconst (v := nI 0) hK d_Mod_act_145 (by decide) ?_
          refine r_istore (lv' := [(8, .int (nI 0)), (7, .int (nI 1)), (6, .int (nI p)), (0, .ref h), (1, .int (nI p)), (2, .int (nI t)), (3, .int (nI ph)), (4, .int (nI (10 * t + dd))), (5, .int ev)]) hK d_Mod_act_146 (by decide) rfl ?_
          refine r_iload hK d_Mod_act_148 0 rfl ?_
          refine r_nif_eq (a := 0) (tgt := 187) hK d_Mod_act_150 (by decide) (by decide) (fun z => ?_) (fun z => absurd z (by decide))
          refine r_iload hK d_Mod_act_187 1 rfl ?_
          refine r_nif_eq (a := 1) (tgt := 197) hK d_Mod_act_189 (by decide) (by decide) (fun z => absurd z (by decide)) (fun z => ?_)
          refine r_aload_n hK d_Mod_act_192 rfl 3 rfl ?_
          refine r_iload_n hK d_Mod_act_193 rfl 5 rfl ?_
          refine r_callVv (As := [.int (nI t)]) (b := h) (st := []) hK (c_Mod_begin X l h nx (tset Y 1 t (nI (dd + 1))) t (dd + 1) w2 (by omega) (by simp [tset]) (by omega) (by simp [tset, hw2 (by omega)])) d_Mod_act_194 ml_Mod_113 cv_Mod_begin rfl (by decide) w_recv (Nat.le_of_ble_eq_true rfl) ?_ rfl
          refine r_iload_n hK d_Mod_act_197 rfl 6 rfl ?_
          refine r_bipush (v := nI 16) hK d_Mod_act_198 (by decide) ?_
          refine r_iadd hK d_Mod_act_200 ?_
          refine r_tp (b := nI (ph + 16)) (nI_add _ _) ?_
          refine r_iret hK d_Mod_act_201 rfl (rfl) ?_
          have hs : s_fin Y p t ph dd cn fs n w2 = tset (tset (tset (tset (tset (tset (tset Y 1 t (nI (dd + 1))) 10 t ((s_ph w2))) 12 t (nI 0)) 13 t (nI 0)) 14 t (nI 0)) 17 t (nI 0)) 15 t (nI 0) := by unfold s_fin; rw [if_neg c74, if_neg (Nat.not_le.mpr c112), if_neg c125, if_pos c138]
          rw [← hs]
          exact hPo
        · refine r_iconst (v := nI 1) hK d_Mod_act_141 (by decide) ?_
          refine r_goto (tgt := 146) hK d_Mod_act_142 (by decide) ?_
          refine r_istore (lv' := [(8, .int (nI 1)), (7, .int (nI 1)), (6, .int (nI p)), (0, .ref h), (1, .int (nI p)), (2, .int (nI t)), (3, .int (nI ph)), (4, .int (nI (10 * t + dd))), (5, .int ev)]) hK d_Mod_act_146 (by decide) rfl ?_
          refine r_iload hK d_Mod_act_148 0 rfl ?_
          refine r_nif_eq (a := 1) (tgt := 187) hK d_Mod_act_150 (by decide) (by decide) (fun z => absurd z (by decide)) (fun z => ?_)
          refine r_aload_n hK d_Mod_act_153 rfl 3 rfl ?_
          refine w_where hK d_Mod_act_154 rfl ?_
          refine r_iload_n hK d_Mod_act_157 rfl 5 rfl ?_
          refine r_iload hK d_Mod_act_158 2 rfl ?_
          refine w_iast (n := 7) (L := 8) hK d_Mod_act_160 (by decide) rfl rfl t rfl (by omega) ?_
          refine r_aload_n hK d_Mod_act_161 rfl 3 rfl ?_
          refine w_how hK d_Mod_act_162 rfl ?_
          refine r_iload_n hK d_Mod_act_165 rfl 5 rfl ?_
          refine r_iload hK d_Mod_act_166 1 rfl ?_
          refine r_nif_eq (a := 1) (tgt := 175) hK d_Mod_act_168 (by decide) (by decide) (fun z => absurd z (by decide)) (fun z => ?_)
          refine r_iconst (v := nI 1) hK d_Mod_act_171 (by decide) ?_
          refine r_goto (tgt := 176) hK d_Mod_act_172 (by decide) ?_
          refine w_iast (n := 8) (L := 8) hK d_Mod_act_176 (by decide) rfl rfl t rfl (by omega) ?_
          refine r_aload_n hK d_Mod_act_177 rfl 3 rfl ?_
          refine w_since hK d_Mod_act_178 rfl ?_
          refine r_iload_n hK d_Mod_act_181 rfl 5 rfl ?_
          refine r_aload_n hK d_Mod_act_182 rfl 3 rfl ?_
          refine r_callVi (As := []) (b := h) (st := [.int (nI t), .ref (h + 1 + 9)]) hK (c_Mod_tick X l h nx (tset (tset (tset Y 1 t (nI (dd + 1))) 7 t (nI p)) 8 t (nI 1)) (Y 31 0) (by simp [tset])) d_Mod_act_183 ml_Mod_109 cv_Mod_tick rfl (by decide) w_recv (Nat.le_of_ble_eq_true rfl) ?_ rfl
          refine w_iast (n := 9) (L := 8) hK d_Mod_act_186 (by decide) rfl rfl t rfl (by omega) ?_
          refine r_iload hK d_Mod_act_187 1 rfl ?_
          refine r_nif_eq (a := 1) (tgt := 197) hK d_Mod_act_189 (by decide) (by decide) (fun z => absurd z (by decide)) (fun z => ?_)
          refine r_aload_n hK d_Mod_act_192 rfl 3 rfl ?_
          refine r_iload_n hK d_Mod_act_193 rfl 5 rfl ?_
          refine r_callVv (As := [.int (nI t)]) (b := h) (st := []) hK (c_Mod_begin X l h nx (tset (tset (tset (tset (tset Y 1 t (nI (dd + 1))) 7 t (nI p)) 8 t (nI 1)) 31 0 ((Y 31 0) + nI 1)) 9 t ((Y 31 0) + nI 1)) t (dd + 1) w2 (by omega) (by simp [tset]) (by omega) (by simp [tset, hw2 (by omega)])) d_Mod_act_194 ml_Mod_113 cv_Mod_begin rfl (by decide) w_recv (Nat.le_of_ble_eq_true rfl) ?_ rfl
          refine r_iload_n hK d_Mod_act_197 rfl 6 rfl ?_
          refine r_bipush (v := nI 16) hK d_Mod_act_198 (by decide) ?_
          refine r_iadd hK d_Mod_act_200 ?_
          refine r_tp (b := nI (ph + 16)) (nI_add _ _) ?_
          refine r_iret hK d_Mod_act_201 rfl (rfl) ?_
          have hs : s_fin Y p t ph dd cn fs n w2 = tset (tset (tset (tset (tset (tset (tset (tset (tset (tset (tset Y 1 t (nI (dd + 1))) 7 t (nI p)) 8 t (nI 1)) 31 0 ((Y 31 0) + nI 1)) 9 t ((Y 31 0) + nI 1)) 10 t ((s_ph w2))) 12 t (nI 0)) 13 t (nI 0)) 14 t (nI 0)) 17 t (nI 0)) 15 t (nI 0) := by unfold s_fin; rw [if_neg c74, if_neg (Nat.not_le.mpr c112), if_neg c125, if_neg ((Nat.ne_of_gt c138))]
          rw [← hs]
          exact hPo
  · refine r_aload_n hK d_Mod_act_77 rfl 0 rfl ?_
    refine w_first hK d_Mod_act_78 rfl ?_
    refine r_iload hK d_Mod_act_81 4 rfl ?_
    refine w_iald (n := 3) (L := 80) hK d_Mod_act_83 (by decide) rfl rfl (10 * t + dd) rfl (by omega) (v := nI fs) (hfs) ?_
    refine r_goto (tgt := 88) hK d_Mod_act_84 (by decide) ?_
    refine r_istore (lv' := [(6, .int (nI fs)), (0, .ref h), (1, .int (nI p)), (2, .int (nI t)), (3, .int (nI ph)), (4, .int (nI (10 * t + dd))), (5, .int ev)]) hK d_Mod_act_88 (by decide) rfl ?_
    refine r_aload_n hK d_Mod_act_90 rfl 1 rfl ?_
    refine w_done hK d_Mod_act_91 rfl ?_
    refine r_iload_n hK d_Mod_act_94 rfl 3 rfl ?_
    refine r_dup2 hK d_Mod_act_95 rfl rfl ?_
    refine w_iald (n := 1) (L := 8) hK d_Mod_act_96 (by decide) rfl rfl t rfl (by omega) (v := nI dd) (hdd) ?_
    refine r_iconst (v := nI 1) hK d_Mod_act_97 (by decide) ?_
    refine r_iadd hK d_Mod_act_98 ?_
    refine r_tp (b := nI (dd + 1)) (nI_add _ _) ?_
    refine w_iast (n := 1) (L := 8) hK d_Mod_act_99 (by decide) rfl rfl t rfl (by omega) ?_
    refine r_aload_n hK d_Mod_act_100 rfl 1 rfl ?_
    refine w_done hK d_Mod_act_101 rfl ?_
    refine r_iload_n hK d_Mod_act_104 rfl 3 rfl ?_
    refine w_iald (n := 1) (L := 8) hK d_Mod_act_105 (by decide) rfl rfl t rfl (by omega) (v := nI (dd + 1)) (by simp [tset]) ?_
    refine r_aload_n hK d_Mod_act_106 rfl 1 rfl ?_
    refine w_count hK d_Mod_act_107 rfl ?_
    refine r_iload_n hK d_Mod_act_110 rfl 3 rfl ?_
    refine w_iald (n := 0) (L := 8) hK d_Mod_act_111 (by decide) rfl rfl t rfl (by omega) (v := nI cn) (by simp [tset, hcn]) ?_
    refine r_ncmp_ge (a := dd + 1) (b := cn) (tgt := 119) hK d_Mod_act_112 (by decide) (by omega) (by omega) (fun c112 => ?_) (fun c112 => ?_)
    · refine r_iconst (v := nI 0) hK d_Mod_act_119 (by decide) ?_
      refine r_istore (lv' := [(7, .int (nI 0)), (6, .int (nI fs)), (0, .ref h), (1, .int (nI p)), (2, .int (nI t)), (3, .int (nI ph)), (4, .int (nI (10 * t + dd))), (5, .int ev)]) hK d_Mod_act_120 (by decide) rfl ?_
      refine r_iload_n hK d_Mod_act_122 rfl 5 rfl ?_
      refine r_bipush (v := nI 15) hK d_Mod_act_123 (by decide) ?_
      refine r_ncmp_eq (a := ph) (b := 15) (tgt := 141) hK d_Mod_act_125 (by decide) (by omega) (by omega) (fun c125 => ?_) (fun c125 => ?_)
      · refine r_iconst (v := nI 1) hK d_Mod_act_141 (by decide) ?_
        refine r_goto (tgt := 146) hK d_Mod_act_142 (by decide) ?_
        refine r_istore (lv' := [(8, .int (nI 1)), (7, .int (nI 0)), (6, .int (nI fs)), (0, .ref h), (1, .int (nI p)), (2, .int (nI t)), (3, .int (nI ph)), (4, .int (nI (10 * t + dd))), (5, .int ev)]) hK d_Mod_act_146 (by decide) rfl ?_
        refine r_iload hK d_Mod_act_148 0 rfl ?_
        refine r_nif_eq (a := 1) (tgt := 187) hK d_Mod_act_150 (by decide) (by decide) (fun z => absurd z (by decide)) (fun z => ?_)
        refine r_aload_n hK d_Mod_act_153 rfl 3 rfl ?_
        refine w_where hK d_Mod_act_154 rfl ?_
        refine r_iload_n hK d_Mod_act_157 rfl 5 rfl ?_
        refine r_iload hK d_Mod_act_158 2 rfl ?_
        refine w_iast (n := 7) (L := 8) hK d_Mod_act_160 (by decide) rfl rfl t rfl (by omega) ?_
        refine r_aload_n hK d_Mod_act_161 rfl 3 rfl ?_
        refine w_how hK d_Mod_act_162 rfl ?_
        refine r_iload_n hK d_Mod_act_165 rfl 5 rfl ?_
        refine r_iload hK d_Mod_act_166 1 rfl ?_
        refine r_nif_eq (a := 0) (tgt := 175) hK d_Mod_act_168 (by decide) (by decide) (fun z => ?_) (fun z => absurd z (by decide))
        refine r_iconst (v := nI 0) hK d_Mod_act_175 (by decide) ?_
        refine w_iast (n := 8) (L := 8) hK d_Mod_act_176 (by decide) rfl rfl t rfl (by omega) ?_
        refine r_aload_n hK d_Mod_act_177 rfl 3 rfl ?_
        refine w_since hK d_Mod_act_178 rfl ?_
        refine r_iload_n hK d_Mod_act_181 rfl 5 rfl ?_
        refine r_aload_n hK d_Mod_act_182 rfl 3 rfl ?_
        refine r_callVi (As := []) (b := h) (st := [.int (nI t), .ref (h + 1 + 9)]) hK (c_Mod_tick X l h nx (tset (tset (tset Y 1 t (nI (dd + 1))) 7 t (nI fs)) 8 t (nI 0)) (Y 31 0) (by simp [tset])) d_Mod_act_183 ml_Mod_109 cv_Mod_tick rfl (by decide) w_recv (Nat.le_of_ble_eq_true rfl) ?_ rfl
        refine w_iast (n := 9) (L := 8) hK d_Mod_act_186 (by decide) rfl rfl t rfl (by omega) ?_
        refine r_iload hK d_Mod_act_187 1 rfl ?_
        refine r_nif_eq (a := 0) (tgt := 197) hK d_Mod_act_189 (by decide) (by decide) (fun z => ?_) (fun z => absurd z (by decide))
        refine r_iload_n hK d_Mod_act_197 rfl 6 rfl ?_
        refine r_bipush (v := nI 16) hK d_Mod_act_198 (by decide) ?_
        refine r_iadd hK d_Mod_act_200 ?_
        refine r_tp (b := nI (ph + 16)) (nI_add _ _) ?_
        refine r_iret hK d_Mod_act_201 rfl (rfl) ?_
        have hs : s_fin Y p t ph dd cn fs n w2 = tset (tset (tset (tset (tset Y 1 t (nI (dd + 1))) 7 t (nI fs)) 8 t (nI 0)) 31 0 ((Y 31 0) + nI 1)) 9 t ((Y 31 0) + nI 1) := by unfold s_fin; rw [if_pos c74, if_pos c112, if_pos c125]
        rw [← hs]
        exact hPo
      · refine r_iload hK d_Mod_act_128 0 rfl ?_
        refine r_nif_eq (a := 0) (tgt := 141) hK d_Mod_act_130 (by decide) (by decide) (fun z => ?_) (fun z => absurd z (by decide))
        refine r_iconst (v := nI 1) hK d_Mod_act_141 (by decide) ?_
        refine r_goto (tgt := 146) hK d_Mod_act_142 (by decide) ?_
        refine r_istore (lv' := [(8, .int (nI 1)), (7, .int (nI 0)), (6, .int (nI fs)), (0, .ref h), (1, .int (nI p)), (2, .int (nI t)), (3, .int (nI ph)), (4, .int (nI (10 * t + dd))), (5, .int ev)]) hK d_Mod_act_146 (by decide) rfl ?_
        refine r_iload hK d_Mod_act_148 0 rfl ?_
        refine r_nif_eq (a := 1) (tgt := 187) hK d_Mod_act_150 (by decide) (by decide) (fun z => absurd z (by decide)) (fun z => ?_)
        refine r_aload_n hK d_Mod_act_153 rfl 3 rfl ?_
        refine w_where hK d_Mod_act_154 rfl ?_
        refine r_iload_n hK d_Mod_act_157 rfl 5 rfl ?_
        refine r_iload hK d_Mod_act_158 2 rfl ?_
        refine w_iast (n := 7) (L := 8) hK d_Mod_act_160 (by decide) rfl rfl t rfl (by omega) ?_
        refine r_aload_n hK d_Mod_act_161 rfl 3 rfl ?_
        refine w_how hK d_Mod_act_162 rfl ?_
        refine r_iload_n hK d_Mod_act_165 rfl 5 rfl ?_
        refine r_iload hK d_Mod_act_166 1 rfl ?_
        refine r_nif_eq (a := 0) (tgt := 175) hK d_Mod_act_168 (by decide) (by decide) (fun z => ?_) (fun z => absurd z (by decide))
        refine r_iconst (v := nI 0) hK d_Mod_act_175 (by decide) ?_
        refine w_iast (n := 8) (L := 8) hK d_Mod_act_176 (by decide) rfl rfl t rfl (by omega) ?_
        refine r_aload_n hK d_Mod_act_177 rfl 3 rfl ?_
        refine w_since hK d_Mod_act_178 rfl ?_
        refine r_iload_n hK d_Mod_act_181 rfl 5 rfl ?_
        refine r_aload_n hK d_Mod_act_182 rfl 3 rfl ?_
        refine r_callVi (As := []) (b := h) (st := [.int (nI t), .ref (h + 1 + 9)]) hK (c_Mod_tick X l h nx (tset (tset (tset Y 1 t (nI (dd + 1))) 7 t (nI fs)) 8 t (nI 0)) (Y 31 0) (by simp [tset])) d_Mod_act_183 ml_Mod_109 cv_Mod_tick rfl (by decide) w_recv (Nat.le_of_ble_eq_true rfl) ?_ rfl
        refine w_iast (n := 9) (L := 8) hK d_Mod_act_186 (by decide) rfl rfl t rfl (by omega) ?_
        refine r_iload hK d_Mod_act_187 1 rfl ?_
        refine r_nif_eq (a := 0) (tgt := 197) hK d_Mod_act_189 (by decide) (by decide) (fun z => ?_) (fun z => absurd z (by decide))
        refine r_iload_n hK d_Mod_act_197 rfl 6 rfl ?_
        refine r_bipush (v := nI 16) hK d_Mod_act_198 (by decide) ?_
        refine r_iadd hK d_Mod_act_200 ?_
        refine r_tp (b := nI (ph + 16)) (nI_add _ _) ?_
        refine r_iret hK d_Mod_act_201 rfl (rfl) ?_
        have hs : s_fin Y p t ph dd cn fs n w2 = tset (tset (tset (tset (tset Y 1 t (nI (dd + 1))) 7 t (nI fs)) 8 t (nI 0)) 31 0 ((Y 31 0) + nI 1)) 9 t ((Y 31 0) + nI 1) := by unfold s_fin; rw [if_pos c74, if_pos c112, if_neg c125]
        rw [← hs]
        exact hPo
    · refine r_iconst (v := nI 1) hK d_Mod_act_115 (by decide) ?_
      refine r_goto (tgt := 120) hK d_Mod_act_116 (by decide) ?_
      refine r_istore (lv' := [(7, .int (nI 1)), (6, .int (nI fs)), (0, .ref h), (1, .int (nI p)), (2, .int (nI t)), (3, .int (nI ph)), (4, .int (nI (10 * t + dd))), (5, .int ev)]) hK d_Mod_act_120 (by decide) rfl ?_
      refine r_iload_n hK d_Mod_act_122 rfl 5 rfl ?_
      refine r_bipush (v := nI 15) hK d_Mod_act_123 (by decide) ?_
      refine r_ncmp_eq (a := ph) (b := 15) (tgt := 141) hK d_Mod_act_125 (by decide) (by omega) (by omega) (fun c125 => ?_) (fun c125 => ?_)
      · refine r_iconst (v := nI 1) hK d_Mod_act_141 (by decide) ?_
        refine r_goto (tgt := 146) hK d_Mod_act_142 (by decide) ?_
        refine r_istore (lv' := [(8, .int (nI 1)), (7, .int (nI 1)), (6, .int (nI fs)), (0, .ref h), (1, .int (nI p)), (2, .int (nI t)), (3, .int (nI ph)), (4, .int (nI (10 * t + dd))), (5, .int ev)]) hK d_Mod_act_146 (by decide) rfl ?_
        refine r_iload hK d_Mod_act_148 0 rfl ?_
        refine r_nif_eq (a := 1) (tgt := 187) hK d_Mod_act_150 (by decide) (by decide) (fun z => absurd z (by decide)) (fun z => ?_)
        refine r_aload_n hK d_Mod_act_153 rfl 3 rfl ?_
        refine w_where hK d_Mod_act_154 rfl ?_
        refine r_iload_n hK d_Mod_act_157 rfl 5 rfl ?_
        refine r_iload hK d_Mod_act_158 2 rfl ?_
        refine w_iast (n := 7) (L := 8) hK d_Mod_act_160 (by decide) rfl rfl t rfl (by omega) ?_
        refine r_aload_n hK d_Mod_act_161 rfl 3 rfl ?_
        refine w_how hK d_Mod_act_162 rfl ?_
        refine r_iload_n hK d_Mod_act_165 rfl 5 rfl ?_
        refine r_iload hK d_Mod_act_166 1 rfl ?_
        refine r_nif_eq (a := 1) (tgt := 175) hK d_Mod_act_168 (by decide) (by decide) (fun z => absurd z (by decide)) (fun z => ?_)
        refine r_iconst (v := nI 1) hK d_Mod_act_171 (by decide) ?_
        refine r_goto (tgt := 176) hK d_Mod_act_172 (by decide) ?_
        refine w_iast (n := 8) (L := 8) hK d_Mod_act_176 (by decide) rfl rfl t rfl (by omega) ?_
        refine r_aload_n hK d_Mod_act_177 rfl 3 rfl ?_
        refine w_since hK d_Mod_act_178 rfl ?_
        refine r_iload_n hK d_Mod_act_181 rfl 5 rfl ?_
        refine r_aload_n hK d_Mod_act_182 rfl 3 rfl ?_
        refine r_callVi (As := []) (b := h) (st := [.int (nI t), .ref (h + 1 + 9)]) hK (c_Mod_tick X l h nx (tset (tset (tset Y 1 t (nI (dd + 1))) 7 t (nI fs)) 8 t (nI 1)) (Y 31 0) (by simp [tset])) d_Mod_act_183 ml_Mod_109 cv_Mod_tick rfl (by decide) w_recv (Nat.le_of_ble_eq_true rfl) ?_ rfl
        refine w_iast (n := 9) (L := 8) hK d_Mod_act_186 (by decide) rfl rfl t rfl (by omega) ?_
        refine r_iload hK d_Mod_act_187 1 rfl ?_
        refine r_nif_eq (a := 1) (tgt := 197) hK d_Mod_act_189 (by decide) (by decide) (fun z => absurd z (by decide)) (fun z => ?_)
        refine r_aload_n hK d_Mod_act_192 rfl 3 rfl ?_
        refine r_iload_n hK d_Mod_act_193 rfl 5 rfl ?_
        refine r_callVv (As := [.int (nI t)]) (b := h) (st := []) hK (c_Mod_begin X l h nx (tset (tset (tset (tset (tset Y 1 t (nI (dd + 1))) 7 t (nI fs)) 8 t (nI 1)) 31 0 ((Y 31 0) + nI 1)) 9 t ((Y 31 0) + nI 1)) t (dd + 1) w2 (by omega) (by simp [tset]) (by omega) (by simp [tset, hw2 (by omega)])) d_Mod_act_194 ml_Mod_113 cv_Mod_begin rfl (by decide) w_recv (Nat.le_of_ble_eq_true rfl) ?_ rfl
        refine r_iload_n hK d_Mod_act_197 rfl 6 rfl ?_
        refine r_bipush (v := nI 16) hK d_Mod_act_198 (by decide) ?_
        refine r_iadd hK d_Mod_act_200 ?_
        refine r_tp (b := nI (ph + 16)) (nI_add _ _) ?_
        refine r_iret hK d_Mod_act_201 rfl (rfl) ?_
        have hs : s_fin Y p t ph dd cn fs n w2 = tset (tset (tset (tset (tset (tset (tset (tset (tset (tset (tset Y 1 t (nI (dd + 1))) 7 t (nI fs)) 8 t (nI 1)) 31 0 ((Y 31 0) + nI 1)) 9 t ((Y 31 0) + nI 1)) 10 t ((s_ph w2))) 12 t (nI 0)) 13 t (nI 0)) 14 t (nI 0)) 17 t (nI 0)) 15 t (nI 0) := by unfold s_fin; rw [if_pos c74, if_neg (Nat.not_le.mpr c112), if_pos c125]
        rw [← hs]
        exact hPo
      · refine r_iload hK d_Mod_act_128 0 rfl ?_
        refine r_nif_eq (a := 1) (tgt := 141) hK d_Mod_act_130 (by decide) (by decide) (fun z => absurd z (by decide)) (fun z => ?_)
        refine r_aload_n hK d_Mod_act_133 rfl 2 rfl ?_
        refine r_iload_n hK d_Mod_act_134 rfl 3 rfl ?_
        refine r_callVi (As := [.int (nI p)]) (b := h) (st := []) hK (c_Mod_lengthOf X l h nx (tset Y 1 t (nI (dd + 1))) (nI p) n (by simp [tset, hn]) hn8) d_Mod_act_135 ml_Mod_132 cv_Mod_lengthOf rfl (by decide) w_recv (Nat.le_of_ble_eq_true rfl) ?_ rfl
        have b1 := s_len_le (tset Y 1 t (nI (dd + 1))) (nI p) n
        refine r_nif_le (a := s_len (tset Y 1 t (nI (dd + 1))) (nI p) n) (tgt := 145) hK d_Mod_act_138 (by decide) (by omega) (fun c138 => ?_) (fun c138 => ?_)
        · refine r_iconst (v := nI 0) hK d_Mod_act_145 (by decide) ?_
          refine r_istore (lv' := [(8, .int (nI 0)), (7, .int (nI 1)), (6, .int (nI fs)), (0, .ref h), (1, .int (nI p)), (2, .int (nI t)), (3, .int (nI ph)), (4, .int (nI (10 * t + dd))), (5, .int ev)]) hK d_Mod_act_146 (by decide) rfl ?_
          refine r_iload hK d_Mod_act_148 0 rfl ?_
          refine r_nif_eq (a := 0) (tgt := 187) hK d_Mod_act_150 (by decide) (by decide) (fun z => ?_) (fun z => absurd z (by decide))
          refine r_iload hK d_Mod_act_187 1 rfl ?_
          refine r_nif_eq (a := 1) (tgt := 197) hK d_Mod_act_189 (by decide) (by decide) (fun z => absurd z (by decide)) (fun z => ?_)
          refine r_aload_n hK d_Mod_act_192 rfl 3 rfl ?_
          refine r_iload_n hK d_Mod_act_193 rfl 5 rfl ?_
          refine r_callVv (As := [.int (nI t)]) (b := h) (st := []) hK (c_Mod_begin X l h nx (tset Y 1 t (nI (dd + 1))) t (dd + 1) w2 (by omega) (by simp [tset]) (by omega) (by simp [tset, hw2 (by omega)])) d_Mod_act_194 ml_Mod_113 cv_Mod_begin rfl (by decide) w_recv (Nat.le_of_ble_eq_true rfl) ?_ rfl
          refine r_iload_n hK d_Mod_act_197 rfl 6 rfl ?_
          refine r_bipush (v := nI 16) hK d_Mod_act_198 (by decide) ?_
          refine r_iadd hK d_Mod_act_200 ?_
          refine r_tp (b := nI (ph + 16)) (nI_add _ _) ?_
          refine r_iret hK d_Mod_act_201 rfl (rfl) ?_
          have hs : s_fin Y p t ph dd cn fs n w2 = tset (tset (tset (tset (tset (tset (tset Y 1 t (nI (dd + 1))) 10 t ((s_ph w2))) 12 t (nI 0)) 13 t (nI 0)) 14 t (nI 0)) 17 t (nI 0)) 15 t (nI 0) := by unfold s_fin; rw [if_pos c74, if_neg (Nat.not_le.mpr c112), if_neg c125, if_pos c138]
          rw [← hs]
          exact hPo
        · refine r_iconst (v := nI 1) hK d_Mod_act_141 (by decide) ?_
          refine r_goto (tgt := 146) hK d_Mod_act_142 (by decide) ?_
          refine r_istore (lv' := [(8, .int (nI 1)), (7, .int (nI 1)), (6, .int (nI fs)), (0, .ref h), (1, .int (nI p)), (2, .int (nI t)), (3, .int (nI ph)), (4, .int (nI (10 * t + dd))), (5, .int ev)]) hK d_Mod_act_146 (by decide) rfl ?_
          refine r_iload hK d_Mod_act_148 0 rfl ?_
          refine r_nif_eq (a := 1) (tgt := 187) hK d_Mod_act_150 (by decide) (by decide) (fun z => absurd z (by decide)) (fun z => ?_)
          refine r_aload_n hK d_Mod_act_153 rfl 3 rfl ?_
          refine w_where hK d_Mod_act_154 rfl ?_
          refine r_iload_n hK d_Mod_act_157 rfl 5 rfl ?_
          refine r_iload hK d_Mod_act_158 2 rfl ?_
          refine w_iast (n := 7) (L := 8) hK d_Mod_act_160 (by decide) rfl rfl t rfl (by omega) ?_
          refine r_aload_n hK d_Mod_act_161 rfl 3 rfl ?_
          refine w_how hK d_Mod_act_162 rfl ?_
          refine r_iload_n hK d_Mod_act_165 rfl 5 rfl ?_
          refine r_iload hK d_Mod_act_166 1 rfl ?_
          refine r_nif_eq (a := 1) (tgt := 175) hK d_Mod_act_168 (by decide) (by decide) (fun z => absurd z (by decide)) (fun z => ?_)
          refine r_iconst (v := nI 1) hK d_Mod_act_171 (by decide) ?_
          refine r_goto (tgt := 176) hK d_Mod_act_172 (by decide) ?_
          refine w_iast (n := 8) (L := 8) hK d_Mod_act_176 (by decide) rfl rfl t rfl (by omega) ?_
          refine r_aload_n hK d_Mod_act_177 rfl 3 rfl ?_
          refine w_since hK d_Mod_act_178 rfl ?_
          refine r_iload_n hK d_Mod_act_181 rfl 5 rfl ?_
          refine r_aload_n hK d_Mod_act_182 rfl 3 rfl ?_
          refine r_callVi (As := []) (b := h) (st := [.int (nI t), .ref (h + 1 + 9)]) hK (c_Mod_tick X l h nx (tset (tset (tset Y 1 t (nI (dd + 1))) 7 t (nI fs)) 8 t (nI 1)) (Y 31 0) (by simp [tset])) d_Mod_act_183 ml_Mod_109 cv_Mod_tick rfl (by decide) w_recv (Nat.le_of_ble_eq_true rfl) ?_ rfl
          refine w_iast (n := 9) (L := 8) hK d_Mod_act_186 (by decide) rfl rfl t rfl (by omega) ?_
          refine r_iload hK d_Mod_act_187 1 rfl ?_
          refine r_nif_eq (a := 1) (tgt := 197) hK d_Mod_act_189 (by decide) (by decide) (fun z => absurd z (by decide)) (fun z => ?_)
          refine r_aload_n hK d_Mod_act_192 rfl 3 rfl ?_
          refine r_iload_n hK d_Mod_act_193 rfl 5 rfl ?_
          refine r_callVv (As := [.int (nI t)]) (b := h) (st := []) hK (c_Mod_begin X l h nx (tset (tset (tset (tset (tset Y 1 t (nI (dd + 1))) 7 t (nI fs)) 8 t (nI 1)) 31 0 ((Y 31 0) + nI 1)) 9 t ((Y 31 0) + nI 1)) t (dd + 1) w2 (by omega) (by simp [tset]) (by omega) (by simp [tset, hw2 (by omega)])) d_Mod_act_194 ml_Mod_113 cv_Mod_begin rfl (by decide) w_recv (Nat.le_of_ble_eq_true rfl) ?_ rfl
          refine r_iload_n hK d_Mod_act_197 rfl 6 rfl ?_
          refine r_bipush (v := nI 16) hK d_Mod_act_198 (by decide) ?_
          refine r_iadd hK d_Mod_act_200 ?_
          refine r_tp (b := nI (ph + 16)) (nI_add _ _) ?_
          refine r_iret hK d_Mod_act_201 rfl (rfl) ?_
          have hs : s_fin Y p t ph dd cn fs n w2 = tset (tset (tset (tset (tset (tset (tset (tset (tset (tset (tset Y 1 t (nI (dd + 1))) 7 t (nI fs)) 8 t (nI 1)) 31 0 ((Y 31 0) + nI 1)) 9 t ((Y 31 0) + nI 1)) 10 t ((s_ph w2))) 12 t (nI 0)) 13 t (nI 0)) 14 t (nI 0)) 17 t (nI 0)) 15 t (nI 0) := by unfold s_fin; rw [if_pos c74, if_neg (Nat.not_le.mpr c112), if_neg c125, if_neg ((Nat.ne_of_gt c138))]
          rw [← hs]
          exact hPo
/-- one phase of an order: 1 when it is finished by it -/
def s_one (N : tS) (p t ph dd cn kd fs mn pr ow hc kp tk sv nx0 fr f n : Nat) (w2 : Int32) : Int32 × tS :=
  if 6 < ph then (if 10 < ph then s_Mod_shoot N p t (10 * t + dd) ph kd fs mn pr ow kp f hc sv else (nI 0, s_Mod_change N p t (10 * t + dd) ph kd fs mn pr hc kp tk sv nx0)) else s_Mod_access N p t (10 * t + dd) fs kd ph fr
def s_Mod_act (N : tS) (p t ph dd cn kd fs mn pr ow hc kp tk sv nx0 fr f n : Nat) (w2 : Int32) : Int32 × tS :=
  if (s_one N p t ph dd cn kd fs mn pr ow hc kp tk sv nx0 fr f n w2).1 = 0 then (nI ph, (s_one N p t ph dd cn kd fs mn pr ow hc kp tk sv nx0 fr f n w2).2) else (nI (ph + 16), s_fin (s_one N p t ph dd cn kd fs mn pr ow hc kp tk sv nx0 fr f n w2).2 p t ph dd cn fs n w2)
theorem s_know_nk (N : tS) (p pg : Nat) (c : Int32) {a j : Nat} (h : a ≠ 22 ∧ a ≠ 23 ∧ a ≠ 24 ∧ a ≠ 31) : s_know N p pg c a j = N a j := by
  obtain ⟨h1, h2, h3, h4⟩ := h
  unfold s_know
  split
  all_goals simp [tset, h1, h2, h3, h4]
theorem s_access_nk (N : tS) (p t k pg kd ph fr : Nat) {a j : Nat} (h : a ≠ 22 ∧ a ≠ 23 ∧ a ≠ 24 ∧ a ≠ 31 ∧ a ≠ 10 ∧ a ≠ 6 ∧ a ≠ 21) : (s_Mod_access N p t k pg kd ph fr).2 a j = N a j := by
  obtain ⟨h1, h2, h3, h4, h5, h6, h7⟩ := h
  unfold s_Mod_access
  repeat' split
  all_goals simp [tset, h1, h2, h3, h4, h5, h6, h7, s_know_nk]
theorem s_change_nk (N : tS) (p t k ph kd fs mn pr hc kp tk sv nx0 : Nat) {a j : Nat} (h : a ≠ 16 ∧ a ≠ 17 ∧ a ≠ 18 ∧ a ≠ 19 ∧ a ≠ 20 ∧ a ≠ 21 ∧ a ≠ 25) (h' : a ≠ 10 ∧ a ≠ 11 ∧ a ≠ 12 ∧ a ≠ 14 ∧ a ≠ 15 ∧ a ≠ 32) : s_Mod_change N p t k ph kd fs mn pr hc kp tk sv nx0 a j = N a j := by
  obtain ⟨h1, h2, h3, h4, h5, h6⟩ := h'
  unfold s_Mod_change
  repeat' split
  all_goals simp [tset, h1, h2, h3, h4, h5, h6, s_changed_nk _ _ _ _ _ _ _ h]
theorem s_shoot_nk (N : tS) (p t k ph kd fs mn pr ow kp f hc sv : Nat) {a j : Nat} (h : a ≠ 22 ∧ a ≠ 12 ∧ a ≠ 10 ∧ a ≠ 27 ∧ a ≠ 28 ∧ a ≠ 13 ∧ a ≠ 25 ∧ a ≠ 26 ∧ a ≠ 31 ∧ a ≠ 33 ∧ a ≠ 6) : (s_Mod_shoot N p t k ph kd fs mn pr ow kp f hc sv).2 a j = N a j := by
  obtain ⟨h1, h2, h3, h4, h5, h6, h7, h8, h9, h10, h11⟩ := h
  unfold s_Mod_shoot
  repeat' split
  all_goals simp [tset, h1, h2, h3, h4, h5, h6, h7, h8, h9, h10, h11, s_forget_nk _ _ h1]
set_option maxHeartbeats 1000000 in
theorem c_Mod_act (X : gCx) (l : Launch) (h nx : Nat) (N : tS) (p t ph dd cn kd fs mn pr ow hc kp tk sv nx0 fr f n : Nat) (w2 : Int32) (hp : p < 4) (ht : t < 8) (hph : N 10 t = nI ph) (hph2 : 4 ≤ ph ∧ ph < 16) (hdd : N 1 t = nI dd) (hcn : N 0 t = nI cn) (hcn2 : cn ≤ 10) (hdc : dd < cn) (hkd : N 2 (10 * t + dd) = nI kd) (hkd2 : kd < 6) (hfs : N 3 (10 * t + dd) = nI fs) (hmn : N 4 (10 * t + dd) = nI mn) (hr : fs + mn ≤ 16) (hfs2 : fs < 16) (hpr : N 12 t = nI pr) (how : N 13 t = nI ow) (hhc : N 14 t = nI hc) (hkp : N 17 t = nI kp) (htk : N 11 t = nI tk) (hsv : N 33 0 = nI sv) (hnx : N 32 0 = nI nx0) (hbd : tk < 2 ^ 30 ∧ sv < 2 ^ 30 ∧ nx0 < 2 ^ 30 ∧ hc < 2 ^ 30 ∧ ow < 2 ^ 30 ∧ kp < 2 ^ 30 ∧ pr < 2 ^ 30) (hfr : ¬ N 22 (16 * p + fs) = 0 → N 23 (16 * p + fs) = nI fr ∧ fr < 10) (hwb : narrow .boolean (.int (N 19 fs)) = .int (N 19 fs)) (h10 : ph = 10 → pr < mn ∧ mn ≤ 4 ∧ kp < 4 ∧ (kd = 2 → s_frame N (nI p) ≠ 0)) (h11 : ph = 11 → pr < 4) (h13 : ph = 13 → N 16 (4 * t + pr) = nI f ∧ f < 10 ∧ pr < 4 ∧ kp ≤ 4) (hn : N 30 0 = nI n) (hn8 : n ≤ 8) (hw2 : dd + 1 < cn → N 2 (10 * t + (dd + 1)) = w2) : gMi X l (HoldT X h nx) M_Mod_act 3 0 0 [.ref h, .int (nI p), .int (nI t)] N (s_Mod_act N p t ph dd cn kd fs mn pr ow hc kp tk sv nx0 fr f n w2).1 (s_Mod_act N p t ph dd cn kd fs mn pr ow hc kp tk sv nx0 fr f n w2).2 := by
  refine gM_intro (by decide) (Nat.le_of_ble_eq_true rfl) (fun K hK => ?_)
  show K 0 [(0, .ref h), (1, .int (nI p)), (2, .int (nI t))] [] N 0 0
  refine r_aload_n hK d_Mod_act_0 rfl 0 rfl ?_
  refine w_phase hK d_Mod_act_1 rfl ?_
  refine r_iload_n hK d_Mod_act_4 rfl 2 rfl ?_
  refine w_iald (n := 10) (L := 8) hK d_Mod_act_5 (by decide) rfl rfl t rfl (by omega) (v := nI ph) (hph) ?_
  refine r_istore_n (lv' := [(3, .int (nI ph)), (0, .ref h), (1, .int (nI p)), (2, .int (nI t))]) hK d_Mod_act_6 rfl (by decide) rfl ?_
  refine r_bipush (v := nI 10) hK d_Mod_act_7 (by decide) ?_
  refine r_iload_n hK d_Mod_act_9 rfl 3 rfl ?_
  refine r_imul hK d_Mod_act_10 ?_
  refine r_tp (b := nI (10 * t)) (pk_mul _ _) ?_
  refine r_aload_n hK d_Mod_act_11 rfl 1 rfl ?_
  refine w_done hK d_Mod_act_12 rfl ?_
  refine r_iload_n hK d_Mod_act_15 rfl 3 rfl ?_
  refine w_iald (n := 1) (L := 8) hK d_Mod_act_16 (by decide) rfl rfl t rfl (by omega) (v := nI dd) (hdd) ?_
  refine r_iadd hK d_Mod_act_17 ?_
  refine r_tp (b := nI (10 * t + dd)) (nI_add _ _) ?_
  refine r_istore (lv' := [(4, .int (nI (10 * t + dd))), (3, .int (nI ph)), (0, .ref h), (1, .int (nI p)), (2, .int (nI t))]) hK d_Mod_act_18 (by decide) rfl ?_
  refine r_iload_n hK d_Mod_act_20 rfl 1 rfl ?_
  refine r_bipush (v := nI 6) hK d_Mod_act_21 (by decide) ?_
  refine r_ncmp_gt (a := ph) (b := 6) (tgt := 37) hK d_Mod_act_23 (by decide) (by omega) (by omega) (fun c23 => ?_) (fun c23 => ?_)
  · refine r_iload_n hK d_Mod_act_37 rfl 1 rfl ?_
    refine r_bipush (v := nI 10) hK d_Mod_act_38 (by decide) ?_
    refine r_ncmp_gt (a := ph) (b := 10) (tgt := 54) hK d_Mod_act_40 (by decide) (by omega) (by omega) (fun c40 => ?_) (fun c40 => ?_)
    · refine r_aload_n hK d_Mod_act_54 rfl 2 rfl ?_
      refine r_iload_n hK d_Mod_act_55 rfl 3 rfl ?_
      refine r_iload_n hK d_Mod_act_56 rfl 4 rfl ?_
      refine r_iload hK d_Mod_act_57 0 rfl ?_
      refine r_callVi (As := [.int (nI p), .int (nI t), .int (nI (10 * t + dd))]) (b := h) (st := []) hK (c_Mod_shoot X l h nx N p t (10 * t + dd) dd ph kd fs mn pr ow kp f hc sv hp ht (by omega) rfl hdd hph (by omega) hkd hkd2 hfs hmn hr hpr how hhc hkp hsv (by omega) h11 h13) d_Mod_act_59 ml_Mod_168 cv_Mod_shoot rfl (by decide) w_recv (Nat.le_of_ble_eq_true rfl) ?_ rfl
      refine r_istore (lv' := [(5, .int ((s_Mod_shoot N p t (10 * t + dd) ph kd fs mn pr ow kp f hc sv).1)), (4, .int (nI (10 * t + dd))), (3, .int (nI ph)), (0, .ref h), (1, .int (nI p)), (2, .int (nI t))]) hK d_Mod_act_62 (by decide) rfl ?_
      refine r_iload hK d_Mod_act_64 0 rfl ?_
      refine r_if_ne (tgt := 71) hK d_Mod_act_66 (by decide) (fun c66 => ?_) (fun c66 => ?_)
      · have ho : s_one N p t ph dd cn kd fs mn pr ow hc kp tk sv nx0 fr f n w2 = s_Mod_shoot N p t (10 * t + dd) ph kd fs mn pr ow kp f hc sv := by unfold s_one; rw [if_pos c23, if_pos c40]
        have hs : s_Mod_act N p t ph dd cn kd fs mn pr ow hc kp tk sv nx0 fr f n w2 = (nI (ph + 16), s_fin (s_Mod_shoot N p t (10 * t + dd) ph kd fs mn pr ow kp f hc sv).2 p t ph dd cn fs n w2) := by unfold s_Mod_act; rw [ho, if_neg c66]
        refine r_loc hK (lv' := [(0, .ref h), (1, .int (nI p)), (2, .int (nI t)), (3, .int (nI ph)), (4, .int (nI (10 * t + dd))), (5, .int ((s_Mod_shoot N p t (10 * t + dd) ph kd fs mn pr ow kp f hc sv).1))]) [3, 4, 5, 2, 1, 0] rfl ?_
        exact fin_act hK (s_Mod_shoot N p t (10 * t + dd) ph kd fs mn pr ow kp f hc sv).2 p t ph dd cn fs n w2 _ hp ht (by omega) (by rw [s_shoot_nk _ _ _ _ _ _ _ _ _ _ _ _ _ _ (by decide)]; exact hdd) (by rw [s_shoot_nk _ _ _ _ _ _ _ _ _ _ _ _ _ _ (by decide)]; exact hcn) hcn2 hdc (by rw [s_shoot_nk _ _ _ _ _ _ _ _ _ _ _ _ _ _ (by decide)]; exact hfs) (by rw [s_shoot_nk _ _ _ _ _ _ _ _ _ _ _ _ _ _ (by decide)]; exact hn) hn8 (fun z => by rw [s_shoot_nk _ _ _ _ _ _ _ _ _ _ _ _ _ _ (by decide)]; exact hw2 z) ⟨by rw [hs], by rw [hs]⟩
      · refine r_iload_n hK d_Mod_act_69 rfl 2 rfl ?_
        refine r_iret hK d_Mod_act_70 rfl (rfl) ?_
        have ho : s_one N p t ph dd cn kd fs mn pr ow hc kp tk sv nx0 fr f n w2 = s_Mod_shoot N p t (10 * t + dd) ph kd fs mn pr ow kp f hc sv := by unfold s_one; rw [if_pos c23, if_pos c40]
        have hs : s_Mod_act N p t ph dd cn kd fs mn pr ow hc kp tk sv nx0 fr f n w2 = (nI ph, (s_Mod_shoot N p t (10 * t + dd) ph kd fs mn pr ow kp f hc sv).2) := by unfold s_Mod_act; rw [ho, if_pos c66]
        exact ⟨by rw [hs], by rw [hs]⟩
    · refine r_aload_n hK d_Mod_act_43 rfl 2 rfl ?_
      refine r_iload_n hK d_Mod_act_44 rfl 3 rfl ?_
      refine r_iload_n hK d_Mod_act_45 rfl 4 rfl ?_
      refine r_iload hK d_Mod_act_46 0 rfl ?_
      refine r_callVi (As := [.int (nI p), .int (nI t), .int (nI (10 * t + dd))]) (b := h) (st := []) hK (c_Mod_change X l h nx N p t (10 * t + dd) ph kd fs mn pr hc kp tk sv nx0 hp ht (by omega) hph (by omega) hkd hkd2 hfs hmn hr hpr hhc hkp htk hsv hnx (by omega) h10) d_Mod_act_48 ml_Mod_165 cv_Mod_change rfl (by decide) w_recv (Nat.le_of_ble_eq_true rfl) ?_ rfl
      refine r_goto (tgt := 62) hK d_Mod_act_51 (by decide) ?_
      refine r_istore (lv' := [(5, .int (nI 0)), (4, .int (nI (10 * t + dd))), (3, .int (nI ph)), (0, .ref h), (1, .int (nI p)), (2, .int (nI t))]) hK d_Mod_act_62 (by decide) rfl ?_
      refine r_iload hK d_Mod_act_64 0 rfl ?_
      refine r_nif_ne (a := 0) (tgt := 71) hK d_Mod_act_66 (by decide) (by decide) (fun z => absurd z (by decide)) (fun z => ?_)
      refine r_iload_n hK d_Mod_act_69 rfl 2 rfl ?_
      refine r_iret hK d_Mod_act_70 rfl (rfl) ?_
      have ho : s_one N p t ph dd cn kd fs mn pr ow hc kp tk sv nx0 fr f n w2 = (nI 0, s_Mod_change N p t (10 * t + dd) ph kd fs mn pr hc kp tk sv nx0) := by unfold s_one; rw [if_pos c23, if_neg (Nat.not_lt.mpr c40)]
      have hs : s_Mod_act N p t ph dd cn kd fs mn pr ow hc kp tk sv nx0 fr f n w2 = (nI ph, s_Mod_change N p t (10 * t + dd) ph kd fs mn pr hc kp tk sv nx0) := by unfold s_Mod_act; rw [ho]; rfl
      exact ⟨by rw [hs], by rw [hs]⟩
  · refine r_aload_n hK d_Mod_act_26 rfl 2 rfl ?_
    refine r_iload_n hK d_Mod_act_27 rfl 3 rfl ?_
    refine r_iload_n hK d_Mod_act_28 rfl 4 rfl ?_
    refine r_iload hK d_Mod_act_29 0 rfl ?_
    refine r_callVi (As := [.int (nI p), .int (nI t), .int (nI (10 * t + dd))]) (b := h) (st := []) hK (c_Mod_access X l h nx N p t (10 * t + dd) fs kd ph fr hp ht (by omega) hfs hfs2 hkd hkd2 hph (by omega) hfr hwb) d_Mod_act_31 ml_Mod_161 cv_Mod_access rfl (by decide) w_recv (Nat.le_of_ble_eq_true rfl) ?_ rfl
    refine r_goto (tgt := 62) hK d_Mod_act_34 (by decide) ?_
    refine r_istore (lv' := [(5, .int ((s_Mod_access N p t (10 * t + dd) fs kd ph fr).1)), (4, .int (nI (10 * t + dd))), (3, .int (nI ph)), (0, .ref h), (1, .int (nI p)), (2, .int (nI t))]) hK d_Mod_act_62 (by decide) rfl ?_
    refine r_iload hK d_Mod_act_64 0 rfl ?_
    refine r_if_ne (tgt := 71) hK d_Mod_act_66 (by decide) (fun c66 => ?_) (fun c66 => ?_)
    · have ho : s_one N p t ph dd cn kd fs mn pr ow hc kp tk sv nx0 fr f n w2 = s_Mod_access N p t (10 * t + dd) fs kd ph fr := by unfold s_one; rw [if_neg (Nat.not_lt.mpr c23)]
      have hs : s_Mod_act N p t ph dd cn kd fs mn pr ow hc kp tk sv nx0 fr f n w2 = (nI (ph + 16), s_fin (s_Mod_access N p t (10 * t + dd) fs kd ph fr).2 p t ph dd cn fs n w2) := by unfold s_Mod_act; rw [ho, if_neg c66]
      refine r_loc hK (lv' := [(0, .ref h), (1, .int (nI p)), (2, .int (nI t)), (3, .int (nI ph)), (4, .int (nI (10 * t + dd))), (5, .int ((s_Mod_access N p t (10 * t + dd) fs kd ph fr).1))]) [3, 4, 5, 2, 1, 0] rfl ?_
      exact fin_act hK (s_Mod_access N p t (10 * t + dd) fs kd ph fr).2 p t ph dd cn fs n w2 _ hp ht (by omega) (by rw [s_access_nk _ _ _ _ _ _ _ _ (by decide)]; exact hdd) (by rw [s_access_nk _ _ _ _ _ _ _ _ (by decide)]; exact hcn) hcn2 hdc (by rw [s_access_nk _ _ _ _ _ _ _ _ (by decide)]; exact hfs) (by rw [s_access_nk _ _ _ _ _ _ _ _ (by decide)]; exact hn) hn8 (fun z => by rw [s_access_nk _ _ _ _ _ _ _ _ (by decide)]; exact hw2 z) ⟨by rw [hs], by rw [hs]⟩
    · refine r_iload_n hK d_Mod_act_69 rfl 2 rfl ?_
      refine r_iret hK d_Mod_act_70 rfl (rfl) ?_
      have ho : s_one N p t ph dd cn kd fs mn pr ow hc kp tk sv nx0 fr f n w2 = s_Mod_access N p t (10 * t + dd) fs kd ph fr := by unfold s_one; rw [if_neg (Nat.not_lt.mpr c23)]
      have hs : s_Mod_act N p t ph dd cn kd fs mn pr ow hc kp tk sv nx0 fr f n w2 = (nI ph, (s_Mod_access N p t (10 * t + dd) fs kd ph fr).2) := by unfold s_Mod_act; rw [ho, if_pos c66]
      exact ⟨by rw [hs], by rw [hs]⟩
